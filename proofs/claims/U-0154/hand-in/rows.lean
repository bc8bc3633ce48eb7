section
/-! rows pasted of kit/rows (PURE-ROWS, BITS) -/
theorem pk_us {f : Nat → Int32} {k : Nat} {x : Int32} : upd f k x k = x := if_pos rfl
theorem pk_un {f : Nat → Int32} {k j : Nat} {x : Int32} (h : j ≠ k) : upd f k x j = f j := if_neg h
theorem pk_uLs {f : Nat → Int64} {k : Nat} {x : Int64} : vp_updL f k x k = x := if_pos rfl
theorem pk_uLn {f : Nat → Int64} {k j : Nat} {x : Int64} (h : j ≠ k) : vp_updL f k x j = f j := if_neg h
theorem pk_sub {a b : Nat} (h : b ≤ a) : nI a - nI b = nI (a - b) := by
  obtain ⟨c, rfl⟩ : ∃ c, a = c + b := ⟨a - b, by omega⟩
  rw [← nI_add, Int32.add_sub_cancel, Nat.add_sub_cancel]
theorem pk_m1 (n : Nat) : nI (n + 1) + (-1) = nI n := by
  rw [← nI_1, Int32.add_assoc, show (1 : Int32) + (-1) = 0 from rfl, Int32.add_zero]
theorem pk_mul (a b : Nat) : nI a * nI b = nI (a * b) := (Int32.ofNat_mul a b).symm
theorem pk_div {a d : Nat} (ha : a < 2 ^ 31) (h0 : 0 < d) (hd : d < 2 ^ 31) : nI a / nI d = nI (a / d) := by
  apply Int32.toInt_inj.mp
  rw [lg_idiv_nonneg (by rw [nI_toInt ha]; omega) (by rw [nI_toInt hd]; omega), nI_toInt ha, nI_toInt hd, nI_toInt (Nat.lt_of_le_of_lt (Nat.div_le_self a d) ha)]
  first | rfl | exact (Int.natCast_ediv _ _).symm
theorem pk_rem {a d : Nat} (ha : a < 2 ^ 31) (h0 : 0 < d) (hd : d < 2 ^ 31) : nI a - nI a / nI d * nI d = nI (a % d) := by
  rw [pk_div ha h0 hd, pk_mul, pk_sub (Nat.div_mul_le_self a d)]
  exact congrArg nI (by have := Nat.div_add_mod' a d; omega)
theorem pk_sub_toInt {a b : Nat} (ha : a < 2 ^ 30) (hb : b < 2 ^ 30) : (nI a - nI b).toInt = (a : Int) - b := by
  rw [Int32.toInt_sub, nI_toInt (by omega), nI_toInt (by omega)]
  exact Int.bmod_eq_of_le (by omega) (by omega)
theorem pk_sneg {a b : Nat} (hb : b < 2 ^ 30) (h : a < b) : nI a - nI b < 0 := by
  rw [Int32.lt_iff_toInt_lt, pk_sub_toInt (by omega) hb, show (0 : Int32).toInt = 0 from by decide]
  omega
theorem pk_ix (x : Int32) {n : Nat} (hn : n < 2 ^ 31) : x < 0 ∨ nI n ≤ x ∨ ∃ j : Nat, j < n ∧ x = nI j := by
  by_cases h : x < 0
  · exact Or.inl h
  · obtain ⟨j, hj, rfl⟩ := nI_of h
    by_cases h2 : j < n
    · exact Or.inr (Or.inr ⟨j, h2, rfl⟩)
    · exact Or.inr (Or.inl (nI_le (by omega) hj))
theorem pk_le {x y : Int32} {A B : Prop} (a b : Nat) (f : a ≤ b → A) (g : b < a → B) (hx : x = nI a := by rfl) (hy : y = nI b := by rfl) (ha : a < 2 ^ 31 := by omega) (hb : b < 2 ^ 31 := by omega) : (x ≤ y → A) ∧ (¬ x ≤ y → B) := by
  subst hx hy
  rw [nI_leI ha hb]
  exact ⟨f, fun z => g (by omega)⟩
theorem pk_lt {x y : Int32} {A B : Prop} (a b : Nat) (f : a < b → A) (g : b ≤ a → B) (hx : x = nI a := by rfl) (hy : y = nI b := by rfl) (ha : a < 2 ^ 31 := by omega) (hb : b < 2 ^ 31 := by omega) : (x < y → A) ∧ (¬ x < y → B) := by
  subst hx hy
  rw [nI_ltI ha hb]
  exact ⟨f, fun z => g (by omega)⟩
theorem pk_eq {x y : Int32} {A B : Prop} (a b : Nat) (f : a = b → A) (g : a ≠ b → B) (hx : x = nI a := by rfl) (hy : y = nI b := by rfl) (ha : a < 2 ^ 31 := by omega) (hb : b < 2 ^ 31 := by omega) : (x = y → A) ∧ (¬ x = y → B) := by
  subst hx hy
  rw [nI_eq ha hb]
  exact ⟨f, g⟩
theorem pk_in {x : Int32} (n N : Nat) (h : n < N) (hx : x = nI n := by rfl) (hN : N < 2 ^ 31 := by omega) : vp_in x N := by
  subst hx
  exact vp_in_nI h hN
theorem pk_cl {x : Int32} (n : Nat) (hx : x = nI n := by rfl) (h : n < 2 ^ 31 := by omega) : x.toNatClampNeg = n := by
  subst hx
  exact nI_clamp h
theorem pk_tn {n : Nat} (h : n < 2 ^ 32) : (nI n).toBitVec.toNat = n := Nat.mod_eq_of_lt h
theorem pk_and (x : Int32) {m : Int32} (k : Nat) (hm : m.toBitVec.toNat = 2 ^ k - 1) : x &&& m = nI (x.toBitVec.toNat % 2 ^ k) := by
  apply Int32.toBitVec_inj.mp
  apply BitVec.eq_of_toNat_eq
  rw [Int32.toBitVec_and, BitVec.toNat_and, hm, Nat.and_two_pow_sub_one_eq_mod]
  show _ = (BitVec.ofNat 32 _).toNat
  rw [BitVec.toNat_ofNat]
  exact (Nat.mod_eq_of_lt (Nat.lt_of_le_of_lt (Nat.mod_le _ _) x.toBitVec.isLt)).symm
theorem pk_andN {n : Nat} (h : n < 2 ^ 32) {m : Int32} (k : Nat) (hm : m.toBitVec.toNat = 2 ^ k - 1) : nI n &&& m = nI (n % 2 ^ k) := by
  rw [pk_and _ k hm, pk_tn h]
theorem pk_andE (x : Int32) {m : Int32} (k : Nat) (hm : m.toBitVec.toNat = 2 ^ k - 1) : ∃ j : Nat, j < 2 ^ k ∧ x &&& m = nI j := ⟨_, Nat.mod_lt _ (Nat.two_pow_pos k), pk_and x k hm⟩
theorem pk_andIn (x : Int32) {m : Int32} (k : Nat) (hm : m.toBitVec.toNat = 2 ^ k - 1) (hk : k ≤ 30) : vp_in (x &&& m) (2 ^ k) := by
  obtain ⟨j, hj, e⟩ := pk_andE x k hm
  rw [e]
  exact vp_in_nI hj (Nat.lt_of_le_of_lt (Nat.pow_le_pow_right (by decide) hk) (by decide))
theorem pk_shl (a s : Int32) (k : Nat) (hs : (s.toBitVec.smod 32).toNat = k) : (a <<< s).toBitVec.toNat = a.toBitVec.toNat * 2 ^ k % 2 ^ 32 := by
  show (a.toBitVec <<< (s.toBitVec.smod 32).toNat).toNat = _
  rw [hs, BitVec.toNat_shiftLeft, Nat.shiftLeft_eq]
theorem pk_shlN {n : Nat} (s : Int32) (k : Nat) (hs : (s.toBitVec.smod 32).toNat = k) (h : n * 2 ^ k < 2 ^ 32) : nI n <<< s = nI (n * 2 ^ k) := by
  apply Int32.toBitVec_inj.mp
  apply BitVec.eq_of_toNat_eq
  have hn : n < 2 ^ 32 := Nat.lt_of_le_of_lt (Nat.le_mul_of_pos_right n (Nat.two_pow_pos k)) h
  rw [pk_shl _ _ k hs, pk_tn hn, pk_tn h, Nat.mod_eq_of_lt h]
theorem pk_shr (a s : Int32) (k : Nat) (hs : (s.toBitVec.smod 32).toNat = k) : (a >>> s).toInt = a.toInt >>> k := by
  show (a.toBitVec.sshiftRight (s.toBitVec.smod 32).toNat).toInt = _
  rw [hs, BitVec.toInt_sshiftRight]
  rfl
theorem pk_shrN {n : Nat} (h : n < 2 ^ 31) (s : Int32) (k : Nat) (hs : (s.toBitVec.smod 32).toNat = k) : nI n >>> s = nI (n / 2 ^ k) := by
  apply Int32.toInt_inj.mp
  have h2 : n / 2 ^ k ≤ n := Nat.div_le_self _ _
  rw [pk_shr _ _ k hs, nI_toInt h, nI_toInt (by omega), Int.shiftRight_eq_div_pow]
  rfl
theorem pk_ushr (x s : Int32) (k : Nat) (hs : ((s.toUInt32 &&& Int32.toUInt32 31).toBitVec % 32).toNat = k) : (x.toUInt32 >>> (s.toUInt32 &&& Int32.toUInt32 31)).toInt32.toBitVec.toNat = x.toBitVec.toNat / 2 ^ k := by
  have e : (x.toUInt32 >>> (s.toUInt32 &&& Int32.toUInt32 31)).toInt32.toBitVec = x.toBitVec >>> k := by
    rw [← hs]
    exact UInt32.toBitVec_shiftRight _ _
  rw [e, BitVec.toNat_ushiftRight, Nat.shiftRight_eq_div_pow]
theorem pk_ushrN {n : Nat} (hn : n < 2 ^ 32) (s : Int32) (k : Nat) (hs : ((s.toUInt32 &&& Int32.toUInt32 31).toBitVec % 32).toNat = k) : ((nI n).toUInt32 >>> (s.toUInt32 &&& Int32.toUInt32 31)).toInt32 = nI (n / 2 ^ k) := by
  apply Int32.toBitVec_inj.mp
  apply BitVec.eq_of_toNat_eq
  rw [pk_ushr _ s k hs, pk_tn hn, pk_tn (Nat.lt_of_le_of_lt (Nat.div_le_self _ _) hn)]
theorem pk_lT {n : Nat} (h : n < 2 ^ 63) : (lN n).toInt = (n : Int) := lg_ofNat_toInt h
theorem pk_lLT {a b : Nat} (ha : a < 2 ^ 63) (hb : b < 2 ^ 63) : lN a < lN b ↔ a < b := by
  rw [Int64.lt_iff_toInt_lt, pk_lT ha, pk_lT hb]; omega
theorem pk_lLE {a b : Nat} (ha : a < 2 ^ 63) (hb : b < 2 ^ 63) : lN a ≤ lN b ↔ a ≤ b := by
  rw [Int64.le_iff_toInt_le, pk_lT ha, pk_lT hb]; omega
theorem pk_lEQ {a b : Nat} (ha : a < 2 ^ 63) (hb : b < 2 ^ 63) : lN a = lN b ↔ a = b := by
  rw [← Int64.toInt_inj, pk_lT ha, pk_lT hb]; omega
theorem pk_lOf {x : Int64} (h : ¬ x < 0) : ∃ k : Nat, k < 2 ^ 63 ∧ x = lN k := by
  rw [Int64.lt_iff_toInt_lt] at h
  have h0 : (0 : Int64).toInt = 0 := by decide
  have hx := Int64.toInt_lt x
  refine ⟨x.toInt.toNat, by omega, Int64.toInt_inj.mp ?_⟩
  rw [pk_lT (by omega)]
  omega
theorem pk_lDiv {a b : Nat} (ha : a < 2 ^ 63) (h0 : 0 < b) (hb : b < 2 ^ 63) : lN a / lN b = lN (a / b) := by
  apply Int64.toInt_inj.mp
  rw [lg_ldiv_nonneg (by rw [pk_lT ha]; omega) (by rw [pk_lT hb]; omega), pk_lT ha, pk_lT hb, pk_lT (Nat.lt_of_le_of_lt (Nat.div_le_self a b) ha)]
  rfl
theorem pk_lRem {a b : Nat} (ha : a < 2 ^ 63) (h0 : 0 < b) (hb : b < 2 ^ 63) : lN a - lN a / lN b * lN b = lN (a % b) := by
  rw [pk_lDiv ha h0 hb, lN_mul, lN_sub (Nat.div_mul_le_self a b)]
  exact congrArg lN (by have := Nat.div_add_mod' a b; omega)
theorem wb_tb (n : Nat) : (lN n).toBitVec = BitVec.ofNat 64 n := rfl
theorem wb_inj {a b : Int64} (h : a.toBitVec = b.toBitVec) : a = b := Int64.toBitVec_inj.mp h
theorem wb_tn {n : Nat} (h : n < 2 ^ 64) : (lN n).toBitVec.toNat = n := by rw [wb_tb, BitVec.toNat_ofNat, Nat.mod_eq_of_lt h]
theorem wb_of (x : Int64) : ∃ n, n < 2 ^ 64 ∧ x = lN n := ⟨x.toBitVec.toNat, x.toBitVec.isLt, wb_inj (by rw [wb_tb]; simp)⟩
theorem wb_of32 (x : Int32) : ∃ n, n < 2 ^ 32 ∧ x = nI n := ⟨x.toBitVec.toNat, x.toBitVec.isLt, Int32.toBitVec_inj.mp (by show _ = BitVec.ofNat 32 _; simp)⟩
theorem wb_c : ∀ k, k < 64 → ((nI k).toInt64 &&& 63) = lN k := by decide +kernel
theorem wb_cu : ∀ k, k < 64 → ((nI k).toInt64.toUInt64 &&& Int64.toUInt64 63) = UInt64.ofNat k := by decide +kernel
theorem wb_sm : ∀ k, k < 64 → (BitVec.ofNat 64 k).smod 64 = BitVec.ofNat 64 k := by decide +kernel
theorem wb_pw {a b : Nat} (h : a ≤ b) : 2 ^ b = 2 ^ a * 2 ^ (b - a) := by rw [← Nat.pow_add]; congr 1; omega
theorem wb_lt2 {a b : Nat} (h : a < b) : 2 ^ a < 2 ^ b := Nat.pow_lt_pow_right (by decide) h
theorem wb_mod (n : Nat) : lN n = lN (n % 2 ^ 64) := wb_inj (by rw [wb_tb, wb_tb]; apply BitVec.eq_of_toNat_eq; rw [BitVec.toNat_ofNat, BitVec.toNat_ofNat, Nat.mod_mod])
theorem wb_shl (n : Nat) {k : Nat} (hk : k < 64) : lN n <<< ((nI k).toInt64 &&& 63) = lN (n * 2 ^ k) := by
  rw [wb_c k hk]
  apply wb_inj
  rw [Int64.toBitVec_shiftLeft, wb_tb, wb_tb, wb_tb, wb_sm k hk]
  apply BitVec.eq_of_toNat_eq
  rw [BitVec.shiftLeft_eq', BitVec.toNat_shiftLeft, BitVec.toNat_ofNat, BitVec.toNat_ofNat, BitVec.toNat_ofNat, Nat.mod_eq_of_lt (show k < 2 ^ 64 by omega), Nat.shiftLeft_eq, Nat.mul_mod, Nat.mod_mod, ← Nat.mul_mod]
theorem wb_and {a b : Nat} (ha : a < 2 ^ 64) (hb : b < 2 ^ 64) : lN a &&& lN b = lN (a &&& b) := by
  apply wb_inj
  rw [Int64.toBitVec_and, wb_tb, wb_tb, wb_tb]
  apply BitVec.eq_of_toNat_eq
  rw [BitVec.toNat_and, BitVec.toNat_ofNat, BitVec.toNat_ofNat, BitVec.toNat_ofNat, Nat.mod_eq_of_lt ha, Nat.mod_eq_of_lt hb, Nat.mod_eq_of_lt (Nat.and_lt_two_pow _ hb)]
theorem wb_or {a b : Nat} (ha : a < 2 ^ 64) (hb : b < 2 ^ 64) : lN a ||| lN b = lN (a ||| b) := by
  apply wb_inj
  rw [Int64.toBitVec_or, wb_tb, wb_tb, wb_tb]
  apply BitVec.eq_of_toNat_eq
  rw [BitVec.toNat_or, BitVec.toNat_ofNat, BitVec.toNat_ofNat, BitVec.toNat_ofNat, Nat.mod_eq_of_lt ha, Nat.mod_eq_of_lt hb, Nat.mod_eq_of_lt (Nat.or_lt_two_pow ha hb)]
theorem wb_mask {n k : Nat} (hn : n < 2 ^ 64) (hk : k < 64) : lN n &&& lN (2 ^ k - 1) = lN (n % 2 ^ k) := by
  rw [wb_and hn (by have := wb_lt2 hk; omega), Nat.and_two_pow_sub_one_eq_mod]
theorem wb_a1 {n : Nat} (hn : n < 2 ^ 64) : lN n &&& 1 = lN (n % 2) := wb_mask (k := 1) hn (by decide)
theorem pf_lI {a : Nat} (h : a < 2 ^ 63) : (lN a).toInt = (a : Int) := lg_ofNat_toInt h
theorem pf_shr {a d : Nat} {D : Int64} (hD : (D.toBitVec.smod 64).toNat = d) (h : a < 2 ^ 62) : lN a >>> D = lN (a / 2 ^ d) := by
  have hd : a / 2 ^ d ≤ a := Nat.div_le_self _ _
  apply Int64.toInt_inj.mp
  have e : (lN a >>> D).toInt = (lN a).toInt >>> d := by
    rw [← hD]
    exact BitVec.toInt_sshiftRight ..
  rw [e, Int.shiftRight_eq_div_pow, pf_lI (by omega), pf_lI (by omega)]
  rfl
end
section
/-! numbers of this claim -/
theorem cb_lle {x y : Int64} {A B : Prop} (a b : Nat) (f : a ≤ b → A) (g : b < a → B) (hx : x = lN a := by rfl) (hy : y = lN b := by rfl) (ha : a < 2 ^ 63 := by omega) (hb : b < 2 ^ 63 := by omega) : (x ≤ y → A) ∧ (¬ x ≤ y → B) := by
  rw [hx, hy, pk_lLE ha hb]; exact ⟨f, fun h => g (by omega)⟩
theorem cb_llt {x y : Int64} {A B : Prop} (a b : Nat) (f : a < b → A) (g : b ≤ a → B) (hx : x = lN a := by rfl) (hy : y = lN b := by rfl) (ha : a < 2 ^ 63 := by omega) (hb : b < 2 ^ 63 := by omega) : (x < y → A) ∧ (¬ x < y → B) := by
  rw [hx, hy, pk_lLT ha hb]; exact ⟨f, fun h => g (by omega)⟩
theorem cb_leq {x y : Int64} {A B : Prop} (a b : Nat) (f : a = b → A) (g : a ≠ b → B) (hx : x = lN a := by rfl) (hy : y = lN b := by rfl) (ha : a < 2 ^ 63 := by omega) (hb : b < 2 ^ 63 := by omega) : (x = y → A) ∧ (¬ x = y → B) := by
  rw [hx, hy, pk_lEQ ha hb]; exact ⟨f, g⟩
/-- the code of a left, a need: 0 for -1, k + 1 for k -/
def cb_L (k : Nat) : Int64 := lN k - 1
theorem cb_L0 : cb_L 0 = -1 := by decide
theorem cb_Ls (k : Nat) : cb_L (k + 1) = lN k := by
  show lN (k + 1) - lN 1 = lN k
  rw [lN_sub (by omega)]; rfl
theorem cb_Lp {k : Nat} (h : 0 < k) : cb_L k = lN (k - 1) := by
  obtain ⟨j, rfl⟩ : ∃ j, k = j + 1 := ⟨k - 1, by omega⟩
  exact cb_Ls j
theorem cb_m1l : (-1 : Int64).toInt = -1 := by decide
theorem cb_m1i : (-1 : Int32).toInt = -1 := by decide
theorem cb_L_le0 {k : Nat} (h : k < 2 ^ 63) : cb_L k ≤ 0 ↔ k ≤ 1 := by
  cases k with
  | zero => rw [cb_L0]; exact ⟨fun _ => by omega, fun _ => by decide⟩
  | succ k => rw [cb_Ls]; show lN k ≤ lN 0 ↔ _; rw [pk_lLE (by omega) (by omega)]; omega
theorem cb_L_lt0 {k : Nat} (h : k < 2 ^ 63) : cb_L k < 0 ↔ k = 0 := by
  cases k with
  | zero => rw [cb_L0]; exact ⟨fun _ => by omega, fun _ => by decide⟩
  | succ k => rw [cb_Ls]; show lN k < lN 0 ↔ _; rw [pk_lLT (by omega) (by omega)]; omega
theorem cb_L_eq {k : Nat} {j : Nat} (h : k < 2 ^ 63) (hj : j < 2 ^ 63) : cb_L k = lN j ↔ k = j + 1 := by
  cases k with
  | zero => rw [cb_L0]; refine ⟨fun e => ?_, fun e => by omega⟩
            have := congrArg Int64.toInt e; rw [pk_lT hj, cb_m1l] at this; omega
  | succ k => rw [cb_Ls, pk_lEQ (by omega) hj]; omega
theorem cb_L_m1 {k : Nat} (h : k < 2 ^ 63) : cb_L k = -1 ↔ k = 0 := by
  cases k with
  | zero => rw [cb_L0]; exact ⟨fun _ => rfl, fun _ => rfl⟩
  | succ k => rw [cb_Ls]; refine ⟨fun e => ?_, fun e => by omega⟩
              have := congrArg Int64.toInt e; rw [pk_lT (by omega), cb_m1l] at this; omega
theorem cb_L_dec {k : Nat} (h : 0 < k) : cb_L k - 1 = cb_L (k - 1) := by
  rw [cb_Lp h]; rfl
/-- the code of a parent: 0 for -1 -/
def cb_I (k : Nat) : Int32 := nI k - 1
theorem cb_I0 : cb_I 0 = -1 := by decide
theorem cb_Is (k : Nat) : cb_I (k + 1) = nI k := nI_pred k
theorem cb_Ip {k : Nat} (h : 0 < k) : cb_I k = nI (k - 1) := by
  obtain ⟨j, rfl⟩ : ∃ j, k = j + 1 := ⟨k - 1, by omega⟩
  exact cb_Is j
theorem cb_I_lt0 {k : Nat} (h : k < 2 ^ 31) : cb_I k < 0 ↔ k = 0 := by
  cases k with
  | zero => rw [cb_I0]; exact ⟨fun _ => by omega, fun _ => by decide⟩
  | succ k => rw [cb_Is]; exact ⟨fun e => absurd e (nI_pos (by omega)), fun e => by omega⟩
theorem cb_I_0le {k : Nat} (h : k < 2 ^ 31) : 0 ≤ cb_I k ↔ 0 < k := by
  cases k with
  | zero => rw [cb_I0]; exact ⟨fun e => absurd e (by decide), fun _ => by omega⟩
  | succ k => rw [cb_Is]; exact ⟨fun _ => by omega, fun _ => nI_pos' (by omega)⟩
theorem cb_I_eq {k j : Nat} (h : k < 2 ^ 31) (hj : j < 2 ^ 31) : cb_I k = nI j ↔ k = j + 1 := by
  cases k with
  | zero => rw [cb_I0]; refine ⟨fun e => ?_, fun e => by omega⟩
            have := congrArg Int32.toInt e; rw [nI_toInt hj, cb_m1i] at this; omega
  | succ k => rw [cb_Is, nI_eq (by omega) hj]; omega
theorem cb_I_lt {k j : Nat} (h : k < 2 ^ 31) (hj : j < 2 ^ 31) : cb_I k < nI j ↔ k < j + 1 := by
  cases k with
  | zero => rw [cb_I0]; refine ⟨fun e => by omega, fun e => ?_⟩
            rw [Int32.lt_iff_toInt_lt, nI_toInt hj, cb_m1i]; omega
  | succ k => rw [cb_Is, nI_ltI (by omega) hj]; omega
theorem cb_nim {k : Nat} (h : k < 2 ^ 31) (c : Int32) (hc : c.toInt < 0 := by decide) : ¬ nI k = c := by
  intro e; have := congrArg Int32.toInt e; rw [nI_toInt h] at this; omega
theorem cb_neg0 {c : Int32} (hc : c.toInt < 0 := by decide) : c < 0 := by
  rw [Int32.lt_iff_toInt_lt]; exact hc
theorem cb_nle0 {c : Int32} (hc : c.toInt < 0 := by decide) : ¬ (0 : Int32) ≤ c := by
  rw [Int32.le_iff_toInt_le]; show ¬ (0 : Int) ≤ c.toInt; omega
theorem cb_subne {a b : Nat} (ha : a < 2 ^ 30) (hb : b < 2 ^ 30) : nI a - nI b = 0 ↔ a = b := by
  constructor
  · intro e; have := congrArg Int32.toInt e; rw [pk_sub_toInt ha hb] at this
    have h0 : (0 : Int32).toInt = 0 := by decide
    omega
  · intro e; rw [e, pk_sub (Nat.le_refl _), Nat.sub_self]; rfl
theorem cb_sublt {a b : Nat} (ha : a < 2 ^ 30) (hb : b < 2 ^ 30) : nI a - nI b < 0 ↔ a < b := by
  rw [Int32.lt_iff_toInt_lt, pk_sub_toInt ha hb]
  have h0 : (0 : Int32).toInt = 0 := by decide
  omega
theorem cb_lI {n : Nat} (h : n < 2 ^ 31) : (nI n).toInt64 = lN n := nI_l h

/-! an array holds a list -/
def cb_At (a : Nat → Int32) : Nat → List Nat → Prop
  | _, [] => True
  | p, x :: l => a p = nI x ∧ cb_At a (p + 1) l
theorem cb_At_app {a : Nat → Int32} : ∀ {l m : List Nat} {p : Nat}, cb_At a p (l ++ m) ↔ cb_At a p l ∧ cb_At a (p + l.length) m := by
  intro l
  induction l with
  | nil => intro m p; simp [cb_At]
  | cons x l ih =>
    intro m p
    simp only [List.cons_append, cb_At, ih, List.length_cons]
    rw [show p + 1 + l.length = p + (l.length + 1) by omega, and_assoc]
theorem cb_At_get {a : Nat → Int32} : ∀ {l : List Nat} {p : Nat}, cb_At a p l → ∀ t, t < l.length → a (p + t) = nI (l.getD t 0) := by
  intro l
  induction l with
  | nil => intro p _ t h; simp at h
  | cons x l ih =>
    intro p h t ht
    cases t with
    | zero => exact h.1
    | succ t =>
      have := ih h.2 t (by simpa using ht)
      rw [show p + (t + 1) = p + 1 + t by omega, this]
      simp
theorem cb_At_of {a : Nat → Int32} : ∀ {l : List Nat} {p : Nat}, (∀ t, t < l.length → a (p + t) = nI (l.getD t 0)) → cb_At a p l := by
  intro l
  induction l with
  | nil => intro p _; trivial
  | cons x l ih =>
    intro p h
    refine ⟨by simpa using h 0 (by simp), ih fun t ht => ?_⟩
    have := h (t + 1) (by simpa using ht)
    rw [show p + 1 + t = p + (t + 1) by omega, this]
    simp
theorem cb_At_cg {a b : Nat → Int32} {l : List Nat} {p : Nat} (h : cb_At a p l) (e : ∀ i, p ≤ i → i < p + l.length → b i = a i) : cb_At b p l :=
  cb_At_of fun t ht => by rw [e _ (by omega) (by omega), cb_At_get h t ht]
theorem cb_At_sh {a b : Nat → Int32} {l : List Nat} {p q : Nat} (h : cb_At a p l) (e : ∀ t, t < l.length → b (q + t) = a (p + t)) : cb_At b q l :=
  cb_At_of fun t ht => by rw [e t ht, cb_At_get h t ht]
theorem cb_At_snoc {a : Nat → Int32} {l : List Nat} {p x : Nat} (h : cb_At a p l) : cb_At (upd a (p + l.length) (nI x)) p (l ++ [x]) := by
  rw [cb_At_app]
  exact ⟨cb_At_cg h fun i _ h2 => pk_un (by omega), pk_us, trivial⟩
theorem cb_At_upd {a : Nat → Int32} {l : List Nat} {p k : Nat} {x : Int32} (h : cb_At a p l) (hk : k < p ∨ p + l.length ≤ k) : cb_At (upd a k x) p l :=
  cb_At_cg h fun i h1 h2 => pk_un (by omega)
theorem cb_drop_getD {o : List Nat} {p t : Nat} : (o.drop p).getD t 0 = o.getD (p + t) 0 := by
  simp [List.getD_eq_getElem?_getD]
theorem cb_len_drop {o a b : List Nat} {p : Nat} (h : o.drop p = a ++ b) : o.length - p = a.length + b.length := by
  have := congrArg List.length h; simpa using this
theorem cb_drop_add {o a b : List Nat} {p : Nat} (h : o.drop p = a ++ b) : o.drop (p + a.length) = b := by
  rw [← List.drop_drop, h, List.drop_left]
theorem cb_At_drop {a : Nat → Int32} {o l r : List Nat} {p q : Nat} (h : cb_At a q o) (e : o.drop p = l ++ r) : cb_At a (q + p) l := by
  refine cb_At_of fun t ht => ?_
  have hl := cb_len_drop e
  have h1 := cb_At_get h (p + t) (by omega)
  rw [show q + p + t = q + (p + t) by omega, h1, ← cb_drop_getD, e]
  simp [List.getD_eq_getElem?_getD, List.getElem?_append_left ht]
end
section
/-! heads -/
def cb_ext (n : Nat) : Nat := if n < 24 then 0 else if n < 256 then 1 else if n < 65536 then 2 else 4
def cb_inf (n : Nat) : Nat := if n < 24 then n else if n < 256 then 24 else if n < 65536 then 25 else 26
def cb_bs (n : Nat) : Nat → List Nat
  | 0 => []
  | w + 1 => n / 256 ^ w % 256 :: cb_bs n w
def cb_hd (m n : Nat) : List Nat := (32 * m + cb_inf n) :: cb_bs n (cb_ext n)
theorem cb_bs_len (n : Nat) : ∀ w, (cb_bs n w).length = w := by
  intro w
  induction w with
  | zero => rfl
  | succ w ih => simp [cb_bs, ih]
theorem cb_hd_len (m n : Nat) : (cb_hd m n).length = 1 + cb_ext n := by
  simp [cb_hd, cb_bs_len]; omega
theorem cb_ext_le (n : Nat) : cb_ext n ≤ 4 := by
  unfold cb_ext; split; omega; split; omega; split <;> omega
theorem cb_ext1 {n : Nat} (h : n < 256) : cb_ext n ≤ 1 := by
  unfold cb_ext; rw [if_pos h]; split <;> omega
theorem cb_bs_lt (n : Nat) : ∀ w, ∀ b ∈ cb_bs n w, b < 256 := by
  intro w
  induction w with
  | zero => simp [cb_bs]
  | succ w ih =>
    intro b hb
    simp only [cb_bs, List.mem_cons] at hb
    rcases hb with rfl | hb
    · omega
    · exact ih b hb
theorem cb_inf_lt (n : Nat) : cb_inf n < 27 := by
  unfold cb_inf; split; omega; split; omega; split <;> omega
theorem cb_hd_lt {m n : Nat} (hm : m < 8) : ∀ b ∈ cb_hd m n, b < 256 := by
  intro b hb
  simp only [cb_hd, List.mem_cons] at hb
  have := cb_inf_lt n
  rcases hb with rfl | hb
  · omega
  · exact cb_bs_lt _ _ b hb
def cb_sz (f : Nat) : Nat := if f = 24 then 1 else if f = 25 then 2 else if f = 26 then 4 else 0
def cb_acc (o : List Nat) (p : Nat) : Nat → Nat
  | 0 => 0
  | w + 1 => cb_acc o p w * 256 + o.getD (p + w) 0
def cb_arg (o : List Nat) (p : Nat) : Nat := if cb_sz (o.getD p 0 % 32) = 0 then o.getD p 0 % 32 else cb_acc o (p + 1) (cb_sz (o.getD p 0 % 32))
theorem cb_sz_le (f : Nat) : cb_sz f ≤ 4 := by
  unfold cb_sz; split; omega; split; omega; split <;> omega
theorem cb_sz_inf (n : Nat) : cb_sz (cb_inf n) = cb_ext n := by
  unfold cb_inf cb_ext cb_sz
  split
  · rw [if_neg (by omega), if_neg (by omega), if_neg (by omega)]
  · split
    · rfl
    · split <;> rfl
theorem cb_acc_lt {o : List Nat} (h : ∀ b ∈ o, b < 256) (p : Nat) : ∀ w, cb_acc o p w < 256 ^ w := by
  intro w
  induction w with
  | zero => simp [cb_acc]
  | succ w ih =>
    have hb : o.getD (p + w) 0 < 256 := by
      rw [List.getD_eq_getElem?_getD]
      by_cases hp : p + w < o.length
      · rw [List.getElem?_eq_getElem hp]; exact h _ (List.getElem_mem hp)
      · rw [List.getElem?_eq_none (by omega)]; simp
    rw [cb_acc, Nat.pow_succ]; omega
theorem cb_getD_lt {o : List Nat} (h : ∀ b ∈ o, b < 256) (p : Nat) : o.getD p 0 < 256 := by
  rw [List.getD_eq_getElem?_getD]
  by_cases hp : p < o.length
  · rw [List.getElem?_eq_getElem hp]; exact h _ (List.getElem_mem hp)
  · rw [List.getElem?_eq_none (by omega)]; simp
theorem cb_arg_lt {o : List Nat} (h : ∀ b ∈ o, b < 256) (p : Nat) : cb_arg o p < 2 ^ 32 := by
  unfold cb_arg
  split
  · omega
  · have h1 := cb_acc_lt h (p + 1) (cb_sz (o.getD p 0 % 32))
    have h2 : 256 ^ cb_sz (o.getD p 0 % 32) ≤ 256 ^ 4 := Nat.pow_le_pow_right (by omega) (cb_sz_le _)
    omega
theorem cb_hd_rd {o r : List Nat} {p m n : Nat} (h : o.drop p = cb_hd m n ++ r) (hn : n < 2 ^ 32) :
    o.getD p 0 = 32 * m + cb_inf n ∧ o.getD p 0 / 32 = m ∧ o.getD p 0 % 32 = cb_inf n ∧ cb_arg o p = n := by
  have hi := cb_inf_lt n
  have g : ∀ t, o.getD (p + t) 0 = (cb_hd m n ++ r).getD t 0 := fun t => by rw [← cb_drop_getD, h]
  have e0 : o.getD p 0 = 32 * m + cb_inf n := by have := g 0; simpa [cb_hd] using this
  have e2 : o.getD p 0 % 32 = cb_inf n := by rw [e0]; omega
  refine ⟨e0, by rw [e0]; omega, e2, ?_⟩
  unfold cb_arg
  rw [e2, cb_sz_inf]
  have k1 := g 1
  have k2 := g 2
  have k3 := g 3
  have k4 := g 4
  unfold cb_hd at k1 k2 k3 k4
  unfold cb_ext at k1 k2 k3 k4 ⊢
  unfold cb_inf
  by_cases h1 : n < 24
  · simp only [if_pos h1, if_true]
  · by_cases h2 : n < 256
    · simp only [if_neg h1, if_pos h2] at k1 ⊢
      simp [cb_bs] at k1
      simp [cb_acc, k1]
      omega
    · by_cases h3 : n < 65536
      · simp only [if_neg h1, if_neg h2, if_pos h3] at k1 k2 ⊢
        simp [cb_bs] at k1 k2
        simp [cb_acc, k1, k2, Nat.add_assoc]
        omega
      · simp only [if_neg h1, if_neg h2, if_neg h3] at k1 k2 k3 k4 ⊢
        simp [cb_bs] at k1 k2 k3 k4
        simp [cb_acc, k1, k2, k3, k4, Nat.add_assoc]
        omega

/-! stepping over an item by a count of pending items -/
def cb_aq (o : List Nat) (p : Nat) : Nat := if o.getD p 0 / 32 = 4 then cb_arg o p else if o.getD p 0 / 32 = 5 then 2 * cb_arg o p else if o.getD p 0 / 32 = 6 then 1 else 0
def cb_dp (o : List Nat) (p : Nat) : Nat := 1 + cb_sz (o.getD p 0 % 32) + (if o.getD p 0 / 32 = 2 then cb_arg o p else 0)
def cb_Rn (o : List Nat) : Nat → Nat → Nat → Nat → Nat → Prop
  | 0, q, p, q', p' => q = q' ∧ p = p'
  | k + 1, q, p, q', p' => 0 < q ∧ p < o.length ∧ cb_Rn o k (q - 1 + cb_aq o p) (p + cb_dp o p) q' p'
theorem cb_Rn_tr {o : List Nat} : ∀ {k k' q p q1 p1 q2 p2 : Nat}, cb_Rn o k q p q1 p1 → cb_Rn o k' q1 p1 q2 p2 → cb_Rn o (k + k') q p q2 p2 := by
  intro k
  induction k with
  | zero => intro k' q p q1 p1 q2 p2 h h'; obtain ⟨rfl, rfl⟩ := h; rw [Nat.zero_add]; exact h'
  | succ k ih =>
    intro k' q p q1 p1 q2 p2 h h'
    rw [show k + 1 + k' = (k + k') + 1 by omega]
    exact ⟨h.1, h.2.1, ih h.2.2 h'⟩
theorem cb_Rn_dt {o : List Nat} : ∀ {k k' q p p1 p2 : Nat}, cb_Rn o k q p 0 p1 → cb_Rn o k' q p 0 p2 → p1 = p2 := by
  intro k
  induction k with
  | zero =>
    intro k' q p p1 p2 h h'
    obtain ⟨rfl, rfl⟩ := h
    cases k' with
    | zero => exact h'.2
    | succ k' => exact absurd h'.1 (by omega)
  | succ k ih =>
    intro k' q p p1 p2 h h'
    cases k' with
    | zero => obtain ⟨rfl, rfl⟩ := h'; exact absurd h.1 (by omega)
    | succ k' => exact ih h.2.2 h'.2.2
def cb_SK (e : List Nat) : Prop := ∀ (o : List Nat) (p q : Nat) (r : List Nat), o.drop p = e ++ r → ∃ k, k ≤ e.length ∧ cb_Rn o k (q + 1) p q (p + e.length)
theorem cb_SK_ne {e : List Nat} (h : cb_SK e) : 0 < e.length := by
  obtain ⟨k, hk, hr⟩ := h e 0 0 [] (by simp)
  cases k with
  | zero => exact absurd hr.1 (by omega)
  | succ k => omega
theorem cb_SK_pf {a b r : List Nat} (ha : cb_SK a) (hb : cb_SK b) (h : b = a ++ r) : r = [] := by
  obtain ⟨k, _, hr⟩ := ha b 0 0 r (by simpa using h)
  obtain ⟨k', _, hr'⟩ := hb b 0 0 [] (by simp)
  have := cb_Rn_dt hr hr'
  rw [h] at this
  simp at this
  exact this
theorem cb_SK_ls {l : List (List Nat)} (h : ∀ e ∈ l, cb_SK e) : ∀ (o : List Nat) (p q : Nat) (r : List Nat), o.drop p = l.flatten ++ r → ∃ k, k ≤ l.flatten.length ∧ cb_Rn o k (q + l.length) p q (p + l.flatten.length) := by
  induction l with
  | nil => intro o p q r _; exact ⟨0, by simp, by simp [cb_Rn]⟩
  | cons e l ih =>
    intro o p q r ho
    rw [List.flatten_cons, List.append_assoc] at ho
    obtain ⟨k1, hk1, h1⟩ := h e (by simp) o p (q + l.length) _ ho
    obtain ⟨k2, hk2, h2⟩ := ih (fun e' he' => h e' (by simp [he'])) o (p + e.length) q r (cb_drop_add ho)
    refine ⟨k1 + k2, by simp only [List.flatten_cons, List.length_append]; omega, ?_⟩
    have := cb_Rn_tr h1 h2
    simp only [List.flatten_cons, List.length_append, List.length_cons]
    rw [show q + (l.length + 1) = q + l.length + 1 by omega, ← Nat.add_assoc p]
    exact this
theorem cb_SK_nd {m n : Nat} {l : List (List Nat)} (hn : n < 2 ^ 32) (hm : m < 8) (h2 : m ≠ 2) (h : ∀ e ∈ l, cb_SK e)
    (hl : l.length = if m = 4 then n else if m = 5 then 2 * n else if m = 6 then 1 else 0) : cb_SK (cb_hd m n ++ l.flatten) := by
  intro o p q r ho
  rw [List.append_assoc] at ho
  obtain ⟨e0, e1, e2, e3⟩ := cb_hd_rd ho hn
  obtain ⟨k, hk, hr⟩ := cb_SK_ls h o (p + (cb_hd m n).length) q r (cb_drop_add ho)
  have hlen := cb_len_drop ho
  have h1 := cb_hd_len m n
  refine ⟨k + 1, by rw [List.length_append]; omega, by omega, by omega, ?_⟩
  have ea : cb_aq o p = l.length := by
    unfold cb_aq; rw [e1, e3, hl]
  have ed : cb_dp o p = (cb_hd m n).length := by
    unfold cb_dp; rw [e1, e2, if_neg h2, cb_sz_inf, h1]; omega
  rw [ea, ed, show q + 1 - 1 + l.length = q + l.length by omega, List.length_append, ← Nat.add_assoc p]
  exact hr
theorem cb_SK_by {n : Nat} {b : List Nat} (hn : n < 2 ^ 32) (hb : b.length = n) : cb_SK (cb_hd 2 n ++ b) := by
  intro o p q r ho
  rw [List.append_assoc] at ho
  obtain ⟨e0, e1, e2, e3⟩ := cb_hd_rd ho hn
  have hlen := cb_len_drop ho
  have h1 := cb_hd_len 2 n
  refine ⟨1, by simp; omega, by omega, by omega, ?_⟩
  have ea : cb_aq o p = 0 := by
    unfold cb_aq; rw [e1]; simp
  have ed : cb_dp o p = (cb_hd 2 n ++ b).length := by
    unfold cb_dp; rw [e1, e2, e3, if_pos rfl, cb_sz_inf, List.length_append, h1, hb]
  rw [ea, ed]
  exact ⟨by omega, rfl⟩
end
section
/-! the order of keys, sorted pairs -/
def cb_lt : List Nat → List Nat → Bool
  | a :: as, b :: bs => if a < b then true else if b < a then false else cb_lt as bs
  | _, _ => false
theorem cb_lt_c {a b : Nat} {as bs : List Nat} : cb_lt (a :: as) (b :: bs) = if a < b then true else if b < a then false else cb_lt as bs := rfl
theorem cb_lt_ir : ∀ a : List Nat, cb_lt a a = false := by
  intro a
  induction a with
  | nil => rfl
  | cons x a ih => rw [cb_lt_c, if_neg (by omega), if_neg (by omega), ih]
theorem cb_lt_tr : ∀ {a b c : List Nat}, cb_lt a b = true → cb_lt b c = true → cb_lt a c = true := by
  intro a
  induction a with
  | nil => intro b c h; simp [cb_lt] at h
  | cons x a ih =>
    intro b c h1 h2
    cases b with
    | nil => simp [cb_lt] at h1
    | cons y b =>
      cases c with
      | nil => simp [cb_lt] at h2
      | cons z c =>
        rw [cb_lt_c] at h1 h2 ⊢
        by_cases e1 : x < y
        · by_cases e2 : y < z
          · rw [if_pos (by omega)]
          · rw [if_neg e2] at h2
            by_cases e3 : z < y
            · rw [if_pos e3] at h2; cases h2
            · rw [if_pos (by omega)]
        · rw [if_neg e1] at h1
          by_cases e3 : y < x
          · rw [if_pos e3] at h1; cases h1
          · rw [if_neg e3] at h1
            by_cases e2 : y < z
            · rw [if_pos (by omega)]
            · rw [if_neg e2] at h2
              by_cases e4 : z < y
              · rw [if_pos e4] at h2; cases h2
              · rw [if_neg e4] at h2
                rw [if_neg (by omega), if_neg (by omega)]
                exact ih h1 h2
theorem cb_lt_as {a b : List Nat} (h : cb_lt a b = true) : cb_lt b a = false := by
  cases e : cb_lt b a with
  | false => rfl
  | true => have := cb_lt_tr h e; rw [cb_lt_ir] at this; cases this
theorem cb_lt_to : ∀ {a b : List Nat}, (∀ r, b = a ++ r → r = []) → (∀ r, a = b ++ r → r = []) → a ≠ b → cb_lt a b = true ∨ cb_lt b a = true := by
  intro a
  induction a with
  | nil => intro b h1 _ h3; exact absurd (h1 b rfl).symm h3
  | cons x a ih =>
    intro b h1 h2 h3
    cases b with
    | nil => exact absurd (h2 (x :: a) rfl) h3
    | cons y b =>
      rw [cb_lt_c, cb_lt_c]
      by_cases e1 : x < y
      · exact Or.inl (if_pos e1)
      · by_cases e2 : y < x
        · exact Or.inr (if_pos e2)
        · have e : x = y := by omega
          subst e
          rw [if_neg (by omega), if_neg (by omega), if_neg (by omega), if_neg (by omega)]
          exact ih (fun r hr => h1 r (by rw [hr]; rfl)) (fun r hr => h2 r (by rw [hr]; rfl)) (fun h => h3 (by rw [h]))
theorem cb_SK_to {a b : List Nat} (ha : cb_SK a) (hb : cb_SK b) (h : a ≠ b) : cb_lt a b = true ∨ cb_lt b a = true :=
  cb_lt_to (fun _ hr => cb_SK_pf ha hb hr) (fun _ hr => cb_SK_pf hb ha hr) h
abbrev cb_Pr : Type := List Nat × List Nat
def cb_mp : List (List Nat) → List cb_Pr
  | a :: b :: r => (a, b) :: cb_mp r
  | _ => []
def cb_ins (p : cb_Pr) : List cb_Pr → List cb_Pr
  | [] => [p]
  | q :: l => if cb_lt q.1 p.1 = true then q :: cb_ins p l else p :: q :: l
def cb_srt (l : List cb_Pr) : List cb_Pr := l.foldl (fun acc p => cb_ins p acc) []
def cb_fl : List cb_Pr → List Nat
  | [] => []
  | q :: l => q.1 ++ (q.2 ++ cb_fl l)
theorem cb_fl_app : ∀ {l m : List cb_Pr}, cb_fl (l ++ m) = cb_fl l ++ cb_fl m := by
  intro l
  induction l with
  | nil => intro m; rfl
  | cons q l ih => intro m; simp [cb_fl, ih]
theorem cb_ins_pm (p : cb_Pr) : ∀ l, (cb_ins p l).Perm (p :: l) := by
  intro l
  induction l with
  | nil => exact List.Perm.refl _
  | cons q l ih =>
    unfold cb_ins
    split
    · exact (List.Perm.cons q ih).trans (List.Perm.swap p q l)
    · exact List.Perm.refl _
theorem cb_srt_sn (l : List cb_Pr) (p : cb_Pr) : cb_srt (l ++ [p]) = cb_ins p (cb_srt l) := by
  simp [cb_srt, List.foldl_append]
theorem cb_fo_pm : ∀ (l acc : List cb_Pr), (l.foldl (fun acc p => cb_ins p acc) acc).Perm (acc ++ l) := by
  intro l
  induction l with
  | nil => intro acc; simp
  | cons p l ih =>
    intro acc
    rw [List.foldl_cons]
    exact (ih _).trans (((cb_ins_pm p acc).append_right l).trans List.perm_middle.symm)
theorem cb_srt_pm (l : List cb_Pr) : (cb_srt l).Perm l := by
  have := cb_fo_pm l []; rw [List.nil_append] at this; exact this
def cb_ps (p : cb_Pr) : Nat := p.1.length + p.2.length
theorem cb_fl_len : ∀ l : List cb_Pr, (cb_fl l).length = (l.map cb_ps).sum := by
  intro l
  induction l with
  | nil => rfl
  | cons q l ih => simp [cb_fl, ih, cb_ps]; omega
theorem cb_srt_len (l : List cb_Pr) : (cb_fl (cb_srt l)).length = (cb_fl l).length := by
  rw [cb_fl_len, cb_fl_len, ((cb_srt_pm l).map cb_ps).sum_nat]
def cb_ss (l : List cb_Pr) : Prop := l.Pairwise (fun p q => cb_lt p.1 q.1 = true)
def cb_tt (l : List cb_Pr) : Prop := l.Pairwise (fun p q => cb_lt p.1 q.1 = true ∨ cb_lt q.1 p.1 = true)
theorem cb_ins_ss {p : cb_Pr} : ∀ {l : List cb_Pr}, cb_ss l → (∀ q ∈ l, cb_lt q.1 p.1 = true ∨ cb_lt p.1 q.1 = true) → cb_ss (cb_ins p l) := by
  intro l
  induction l with
  | nil => intro _ _; exact List.pairwise_singleton _ _
  | cons q l ih =>
    intro h ht
    have hc := List.pairwise_cons.mp h
    unfold cb_ins
    split
    · rename_i hq
      refine List.pairwise_cons.mpr ⟨fun x hx => ?_, ih hc.2 (fun x hx => ht x (by simp [hx]))⟩
      rcases List.mem_cons.mp ((cb_ins_pm p l).mem_iff.mp hx) with rfl | hx
      · exact hq
      · exact hc.1 x hx
    · rename_i hq
      have hpq : cb_lt p.1 q.1 = true := by
        rcases ht q (by simp) with e | e
        · exact absurd e hq
        · exact e
      refine List.pairwise_cons.mpr ⟨fun x hx => ?_, h⟩
      rcases List.mem_cons.mp hx with rfl | hx
      · exact hpq
      · exact cb_lt_tr hpq (hc.1 x hx)
theorem cb_fo_ss : ∀ (l acc : List cb_Pr), cb_ss acc → cb_tt (acc ++ l) → cb_ss (l.foldl (fun acc p => cb_ins p acc) acc) := by
  intro l
  induction l with
  | nil => intro acc h _; exact h
  | cons p l ih =>
    intro acc h ht
    rw [List.foldl_cons]
    have hp : cb_tt ((p :: acc) ++ l) := ((List.perm_middle (l₁ := acc) (l₂ := l) (a := p)).pairwise_iff (fun h => h.symm)).mp ht
    refine ih _ (cb_ins_ss h fun q hq => ?_) ((((cb_ins_pm p acc).append_right l).pairwise_iff (fun h => h.symm)).mpr hp)
    have := (List.pairwise_append.mp ht).2.2 q hq p (by simp)
    exact this
theorem cb_srt_ss {l : List cb_Pr} (h : cb_tt l) : cb_ss (cb_srt l) := cb_fo_ss l [] List.Pairwise.nil (by simpa using h)
/-- the bytes of the pairs with a smaller key -/
def cb_of (l : List cb_Pr) (k : List Nat) : Nat := (l.map (fun q => if cb_lt q.1 k = true then cb_ps q else 0)).sum
theorem cb_of_z {k : List Nat} : ∀ {l : List cb_Pr}, (∀ q ∈ l, cb_lt q.1 k = false) → cb_of l k = 0 := by
  intro l
  induction l with
  | nil => intro _; rfl
  | cons q l ih =>
    intro h
    have h1 := h q (by simp)
    have h2 := ih fun x hx => h x (by simp [hx])
    unfold cb_of at h2 ⊢
    simp [h1]
    simpa using h2
theorem cb_of_a {k : List Nat} : ∀ {l : List cb_Pr}, (∀ q ∈ l, cb_lt q.1 k = true) → cb_of l k = (cb_fl l).length := by
  intro l
  induction l with
  | nil => intro _; rfl
  | cons q l ih =>
    intro h
    have h1 := h q (by simp)
    have h2 := ih fun x hx => h x (by simp [hx])
    unfold cb_of at h2 ⊢
    rw [List.map_cons, List.sum_cons, h2, if_pos h1]
    simp [cb_fl, cb_ps]; omega
theorem cb_of_sp {L S1 S2 : List cb_Pr} {p : cb_Pr} (hs : cb_ss (S1 ++ p :: S2)) (hp : (S1 ++ p :: S2).Perm L) : cb_of L p.1 = (cb_fl S1).length := by
  have e : cb_of L p.1 = cb_of (S1 ++ p :: S2) p.1 := (hp.map _).sum_nat.symm
  have ha := List.pairwise_append.mp hs
  have hc := List.pairwise_cons.mp ha.2.1
  rw [e]
  unfold cb_of
  rw [List.map_append, List.sum_append, List.map_cons, List.sum_cons]
  have e1 := cb_of_a (k := p.1) (l := S1) fun q hq => ha.2.2 q hq p (by simp)
  have e2 := cb_of_z (k := p.1) (l := S2) fun q hq => cb_lt_as (hc.1 q hq)
  unfold cb_of at e1 e2
  rw [e1, e2, if_neg (by rw [cb_lt_ir]; simp), Nat.add_zero]
theorem cb_mp_e : ∀ (ks : List (List Nat)) (a b : List Nat), ks.length % 2 = 0 → cb_mp (ks ++ [a, b]) = cb_mp ks ++ [(a, b)]
  | [], _, _, _ => rfl
  | [_], _, _, h => by simp at h
  | x :: y :: r, a, b, h => by
    have := cb_mp_e r a b (by simp at h; omega)
    simp [cb_mp] at this ⊢
    exact this
theorem cb_mp_o : ∀ (ks : List (List Nat)) (a : List Nat), ks.length % 2 = 0 → cb_mp (ks ++ [a]) = cb_mp ks
  | [], _, _ => rfl
  | [_], _, h => by simp at h
  | x :: y :: r, a, h => by
    have := cb_mp_o r a (by simp at h; omega)
    simp [cb_mp, this]
def cb_tl (ks : List (List Nat)) : List Nat := if ks.length % 2 = 1 then ks.getLastD [] else []
theorem cb_od (ks : List (List Nat)) (h : ks.length % 2 = 1) : ∃ ks0 k, ks = ks0 ++ [k] ∧ ks0.length % 2 = 0 := by
  have hne : ks ≠ [] := by intro e; rw [e] at h; simp at h
  refine ⟨ks.dropLast, ks.getLast hne, (List.dropLast_concat_getLast hne).symm, ?_⟩
  rw [List.length_dropLast]; omega
theorem cb_getl (ks : List (List Nat)) (k : List Nat) : (ks ++ [k]).getLastD [] = k := by simp
theorem cb_tl_e {ks : List (List Nat)} (h : ks.length % 2 = 0) : cb_tl ks = [] := by unfold cb_tl; rw [if_neg (by omega)]
theorem cb_tl_o {ks : List (List Nat)} {k : List Nat} (h : ks.length % 2 = 0) : cb_tl (ks ++ [k]) = k := by
  unfold cb_tl; rw [if_pos (by simp; omega), cb_getl]
theorem cb_fl_mp : ∀ ks : List (List Nat), (cb_fl (cb_mp ks)).length + (cb_tl ks).length = ks.flatten.length
  | [] => rfl
  | [a] => by simp [cb_mp, cb_fl, cb_tl]
  | a :: b :: r => by
    have := cb_fl_mp r
    have e : cb_tl (a :: b :: r) = cb_tl r := by
      unfold cb_tl
      by_cases h : r.length % 2 = 1
      · rw [if_pos (by simp; omega), if_pos h]
        cases r with
        | nil => simp at h
        | cons c r => simp [List.getLastD]
      · rw [if_neg (by simp; omega), if_neg h]
    rw [e]
    simp [cb_mp, cb_fl]
    simp at this
    omega
theorem cb_mp_mem : ∀ (ks : List (List Nat)) (p : cb_Pr), p ∈ cb_mp ks → p.1 ∈ ks ∧ p.2 ∈ ks
  | [], _, h => by simp [cb_mp] at h
  | [_], _, h => by simp [cb_mp] at h
  | a :: b :: r, p, h => by
    simp only [cb_mp, List.mem_cons] at h
    rcases h with rfl | h
    · simp
    · have := cb_mp_mem r p h
      exact ⟨by simp [this.1], by simp [this.2]⟩
theorem cb_mp_len : ∀ ks : List (List Nat), (cb_mp ks).length = ks.length / 2
  | [] => rfl
  | [_] => by simp [cb_mp]
  | a :: b :: r => by simp [cb_mp, cb_mp_len r]; omega

/-! a node's encoding; frames -/
def cb_bd (m : Nat) (ks : List (List Nat)) : List Nat := if m = 5 then cb_fl (cb_srt (cb_mp ks)) ++ cb_tl ks else ks.flatten
def cb_nh (m num k : Nat) : List Nat := if m = 8 then [num] else cb_hd m (if m = 2 ∨ m = 4 then k else if m = 5 then k / 2 else num)
def cb_nE (m num : Nat) (ks : List (List Nat)) : List Nat := cb_nh m num ks.length ++ cb_bd m ks
theorem cb_bd_len (m : Nat) (ks : List (List Nat)) : (cb_bd m ks).length = ks.flatten.length := by
  unfold cb_bd
  split
  · rw [List.length_append, cb_srt_len, cb_fl_mp]
  · rfl
theorem cb_bd_ne {m : Nat} (h : m ≠ 5) (ks : List (List Nat)) : cb_bd m ks = ks.flatten := if_neg h
theorem cb_bd5_o {ks : List (List Nat)} (e : List Nat) (h : ks.length % 2 = 0) : cb_bd 5 (ks ++ [e]) = cb_bd 5 ks ++ e := by
  unfold cb_bd
  rw [if_pos rfl, if_pos rfl, cb_mp_o ks e h, cb_tl_o h, cb_tl_e h, List.append_nil]
theorem cb_bd5_e {ks : List (List Nat)} (k e : List Nat) (h : ks.length % 2 = 0) : cb_bd 5 (ks ++ [k] ++ [e]) = cb_fl (cb_ins (k, e) (cb_srt (cb_mp ks))) := by
  unfold cb_bd
  rw [if_pos rfl, List.append_assoc]
  show cb_fl (cb_srt (cb_mp (ks ++ [k, e]))) ++ _ = _
  rw [cb_mp_e ks k e h, cb_srt_sn, cb_tl_e (by simp; omega), List.append_nil]
/-- m, number, left + 1 (0: closed by a sign), the encodings of the complete children -/
abbrev cb_Fr : Type := Nat × Nat × Nat × List (List Nat)
def cb_ct (f : cb_Fr) : List Nat := (if f.1 = 6 then cb_hd 6 f.2.1 else []) ++ cb_bd f.1 f.2.2.2
def cb_oo : List cb_Fr → List Nat
  | [] => []
  | f :: c => cb_oo c ++ cb_ct f
def cb_dn (m : Nat) (ks : List (List Nat)) : Bool := decide (m = 5 ∧ ks.length % 2 = 1 ∧ ks.getLastD [] ∈ (cb_mp ks).map (·.1))
abbrev cb_S3 : Type := List cb_Fr × List (List Nat) × Bool
def cb_cm : List cb_Fr → Bool → List Nat → cb_S3
  | [], d, e => ([], [e], d)
  | (m, num, lf, ks) :: c, d, e => if lf = 2 then cb_cm c (d || cb_dn m ks) (cb_nE m num (ks ++ [e])) else ((m, num, lf - 1, ks ++ [e]) :: c, [], d || cb_dn m ks)
theorem cb_cm_c {m num lf : Nat} {ks : List (List Nat)} {c : List cb_Fr} {d : Bool} {e : List Nat} : cb_cm ((m, num, lf, ks) :: c) d e = if lf = 2 then cb_cm c (d || cb_dn m ks) (cb_nE m num (ks ++ [e])) else ((m, num, lf - 1, ks ++ [e]) :: c, [], d || cb_dn m ks) := rfl
end
section
/-! one step of the scan, pure -/
abbrev cb_St : Type := cb_S3 × Nat × Option (List Nat)
abbrev cb_Fa : Type := Int32 × Nat
def cb_bad (b : Nat) : Bool := decide (b / 32 = 3 ∨ (27 ≤ b % 32 ∧ b % 32 ≤ 30) ∨ (b % 32 = 31 ∧ b / 32 ≠ 4 ∧ b / 32 ≠ 5) ∨ (b / 32 = 7 ∧ 24 ≤ b % 32))
def cb_lf (m f v : Nat) : Nat := if f = 31 then 0 else if m = 5 then 2 * v + 1 else if m = 4 then v + 1 else if m = 6 then 2 else 1
def cb_tk (c : List cb_Fr) (d : Bool) (m f v : Nat) (bs : List Nat) : cb_S3 :=
  if m = 2 then cb_cm c d (cb_hd 2 v ++ bs) else if cb_lf m f v = 1 then cb_cm c d (cb_nE m v []) else ((m, v, cb_lf m f v, []) :: c, [], d)
def cb_bk : List cb_Fr → Bool → Nat → Sum cb_Fa cb_St
  | [], _, p => .inl (-6, p)
  | (m, num, lf, ks) :: c, d, p => if lf ≠ 0 ∨ (m = 5 ∧ ks.length % 2 = 1) then .inl (-6, p) else .inr (cb_cm c d (cb_nE m num ks), p + 1, none)
theorem cb_bk_c {m num lf p : Nat} {ks : List (List Nat)} {c : List cb_Fr} {d : Bool} : cb_bk ((m, num, lf, ks) :: c) d p = if lf ≠ 0 ∨ (m = 5 ∧ ks.length % 2 = 1) then .inl (-6, p) else .inr (cb_cm c d (cb_nE m num ks), p + 1, none) := rfl
theorem cb_i3 {α β γ δ : Type} {a a' : α} {b b' : β} {c c' : γ} (h : (Sum.inr (a, b, c) : Sum δ (α × β × γ)) = .inr (a', b', c')) : a = a' ∧ b = b' ∧ c = c' := by
  have h := Prod.mk.inj (Sum.inr.inj h)
  exact ⟨h.1, Prod.mk.inj h.2⟩
def cb_wn (w : Option (List Nat)) (f : Nat) (x : List Nat) : Option (List Nat) := if f = 31 then none else w.map (fun y => y ++ x)
def cb_yb (inp : List Nat) (p m v : Nat) : List Nat := if m = 2 then (inp.drop p).take v else []
def cb_st (inp : List Nat) (lim : Nat) (c : List cb_Fr) (d : Bool) (p : Nat) (w : Option (List Nat)) : Sum cb_Fa cb_St :=
  if inp.length ≤ p then .inl (-5, inp.length)
  else if inp.getD p 0 = 255 then cb_bk c d p
  else if cb_bad (inp.getD p 0) = true then .inl (-6, p)
  else if lim ≤ c.length then .inl (-7, p)
  else if inp.length < p + 1 + cb_sz (inp.getD p 0 % 32) then .inl (-5, inp.length)
  else if inp.getD p 0 / 32 = 2 ∧ inp.length - (p + 1 + cb_sz (inp.getD p 0 % 32)) < cb_arg inp p then .inl (-5, inp.length)
  else .inr (cb_tk c d (inp.getD p 0 / 32) (inp.getD p 0 % 32) (cb_arg inp p) (cb_yb inp (p + 1 + cb_sz (inp.getD p 0 % 32)) (inp.getD p 0 / 32) (cb_arg inp p)),
    p + 1 + cb_sz (inp.getD p 0 % 32) + (if inp.getD p 0 / 32 = 2 then cb_arg inp p else 0),
    cb_wn w (inp.getD p 0 % 32) (cb_hd (inp.getD p 0 / 32) (cb_arg inp p) ++ cb_yb inp (p + 1 + cb_sz (inp.getD p 0 % 32)) (inp.getD p 0 / 32) (cb_arg inp p)))
def cb_rn (inp : List Nat) (lim : Nat) : Nat → cb_St → Sum cb_Fa (List Nat × Bool × Option (List Nat))
  | 0, _ => .inl (-5, 0)
  | _ + 1, ((_, e :: _, d), p, w) => if p < inp.length then .inl (-8, p) else .inr (e, d, w)
  | k + 1, ((c, [], d), p, w) => match cb_st inp lim c d p w with
    | .inl x => .inl x
    | .inr s => cb_rn inp lim k s
def cb_it (inp : List Nat) (lim : Nat) : Nat → cb_St → Option cb_St
  | 0, s => some s
  | _ + 1, ((_, _ :: _, _), _, _) => none
  | k + 1, ((c, [], d), p, w) => match cb_st inp lim c d p w with
    | .inl _ => none
    | .inr s => cb_it inp lim k s
theorem cb_it_s {inp : List Nat} {lim k p : Nat} {c : List cb_Fr} {d : Bool} {w : Option (List Nat)} {s : cb_St} (h : cb_st inp lim c d p w = .inr s) : cb_it inp lim (k + 1) ((c, [], d), p, w) = cb_it inp lim k s := by
  simp only [cb_it, h]
theorem cb_it_tr {inp : List Nat} {lim : Nat} : ∀ {k k' : Nat} {s s1 s2 : cb_St}, cb_it inp lim k s = some s1 → cb_it inp lim k' s1 = some s2 → cb_it inp lim (k + k') s = some s2 := by
  intro k
  induction k with
  | zero => intro k' s s1 s2 h h'; simp only [cb_it, Option.some.injEq] at h; subst h; rw [Nat.zero_add]; exact h'
  | succ k ih =>
    intro k' s s1 s2 h h'
    obtain ⟨⟨c, ro, d⟩, p, w⟩ := s
    cases ro with
    | cons e ro => simp [cb_it] at h
    | nil =>
      rw [show k + 1 + k' = (k + k') + 1 by omega]
      cases hs : cb_st inp lim c d p w with
      | inl x => simp [cb_it, hs] at h
      | inr s' => rw [cb_it_s hs] at h ⊢; exact ih h h'
theorem cb_it_rn {inp : List Nat} {lim : Nat} : ∀ {k k' : Nat} {s s1 : cb_St}, cb_it inp lim k s = some s1 → cb_rn inp lim (k + k') s = cb_rn inp lim k' s1 := by
  intro k
  induction k with
  | zero => intro k' s s1 h; simp only [cb_it, Option.some.injEq] at h; subst h; rw [Nat.zero_add]
  | succ k ih =>
    intro k' s s1 h
    obtain ⟨⟨c, ro, d⟩, p, w⟩ := s
    cases ro with
    | cons e ro => simp [cb_it] at h
    | nil =>
      rw [show k + 1 + k' = (k + k') + 1 by omega]
      cases hs : cb_st inp lim c d p w with
      | inl x => simp [cb_it, hs] at h
      | inr s' => rw [cb_it_s hs] at h; simp only [cb_rn, hs]; exact ih h
theorem cb_st_hd {inp r : List Nat} {lim p m n : Nat} {c : List cb_Fr} {d : Bool} {w : Option (List Nat)} (h : inp.drop p = cb_hd m n ++ r) (hn : n < 2 ^ 32) (hm : m < 8) (h3 : m ≠ 3) (h7 : m = 7 → n < 24) (hc : c.length < lim) (h2 : m = 2 → n ≤ r.length) :
    cb_st inp lim c d p w = .inr (cb_tk c d m (cb_inf n) n (cb_yb inp (p + (cb_hd m n).length) m n), p + (cb_hd m n).length + (if m = 2 then n else 0), cb_wn w (cb_inf n) (cb_hd m n ++ cb_yb inp (p + (cb_hd m n).length) m n)) := by
  obtain ⟨e0, e1, e2, e3⟩ := cb_hd_rd h hn
  have hl := cb_len_drop h
  have hh := cb_hd_len m n
  have hi := cb_inf_lt n
  have hz := cb_sz_inf n
  have i7 : m = 7 → cb_inf n < 24 := fun e => by have := h7 e; unfold cb_inf; rw [if_pos this]; exact this
  unfold cb_st
  rw [if_neg (by omega), if_neg (by omega), e1, e2, e3, hz]
  have hb : ¬ cb_bad (inp.getD p 0) = true := by
    unfold cb_bad; rw [decide_eq_true_iff, e1, e2]; omega
  rw [if_neg hb, if_neg (by omega), if_neg (by omega)]
  have h2' : ¬ (m = 2 ∧ inp.length - (p + 1 + cb_ext n) < n) := by
    rintro ⟨a, b⟩; have := h2 a; omega
  rw [if_neg h2', show p + 1 + cb_ext n = p + (cb_hd m n).length by omega]
/-- the scan steps over e with d levels to spare -/
def cb_GD (d : Nat) (e : List Nat) : Prop := ∀ (inp : List Nat) (lim : Nat) (c : List cb_Fr) (dd : Bool) (p : Nat) (w r : List Nat), inp.drop p = e ++ r → c.length + d ≤ lim →
  ∃ (e2 : List Nat) (dd' : Bool) (k : Nat), k ≤ e.length ∧ cb_it inp lim k ((c, [], dd), p, some w) = some (cb_cm c dd' e2, p + e.length, some (w ++ e))
theorem cb_GD_mo {d d' : Nat} {e : List Nat} (h : cb_GD d e) (hd : d ≤ d') : cb_GD d' e := fun inp lim c dd p w r ho hc => h inp lim c dd p w r ho (by omega)
theorem cb_GD_ls {d m num : Nat} : ∀ {L : List (List Nat)}, L ≠ [] → (∀ e ∈ L, cb_GD d e) → ∀ (inp : List Nat) (lim : Nat) (c : List cb_Fr) (ks : List (List Nat)) (dd : Bool) (p : Nat) (w r : List Nat), inp.drop p = L.flatten ++ r → c.length + 1 + d ≤ lim →
    ∃ (e2 : List Nat) (dd' : Bool) (k : Nat), k ≤ L.flatten.length ∧ cb_it inp lim k (((m, num, L.length + 1, ks) :: c, [], dd), p, some w) = some (cb_cm c dd' e2, p + L.flatten.length, some (w ++ L.flatten)) := by
  intro L
  induction L with
  | nil => intro h; exact absurd rfl h
  | cons x L ih =>
    intro _ hg inp lim c ks dd p w r ho hc
    rw [List.flatten_cons, List.append_assoc] at ho
    obtain ⟨e2, dd', k, hk, hi⟩ := hg x (by simp) inp lim ((m, num, (x :: L).length + 1, ks) :: c) dd p w _ ho (by simp; omega)
    cases L with
    | nil =>
      refine ⟨cb_nE m num (ks ++ [e2]), dd' || cb_dn m ks, k, by simpa using hk, ?_⟩
      rw [hi]
      simp [cb_cm_c]
    | cons y L =>
      rw [cb_cm_c, if_neg (by simp)] at hi
      obtain ⟨e3, dd3, k3, hk3, hi3⟩ := ih (by simp) (fun e he => hg e (by simp at he ⊢; right; exact he)) inp lim c (ks ++ [e2]) (dd' || cb_dn m ks) (p + x.length) (w ++ x) r (cb_drop_add ho) hc
      refine ⟨e3, dd3, k + k3, by simp at hk3 ⊢; omega, ?_⟩
      have := cb_it_tr hi hi3
      rw [this, show (x :: y :: L).flatten = x ++ (y :: L).flatten from rfl, List.length_append, ← Nat.add_assoc p, List.append_assoc]
theorem cb_GD_nd {d m n : Nat} {L : List (List Nat)} (hn : n < 2 ^ 32) (hm : m < 8) (h2 : m ≠ 2) (h3 : m ≠ 3) (h7 : m = 7 → n < 24) (h : ∀ e ∈ L, cb_GD d e)
    (hl : L.length = if m = 4 then n else if m = 5 then 2 * n else if m = 6 then 1 else 0) : cb_GD (d + 1) (cb_hd m n ++ L.flatten) := by
  intro inp lim c dd p w r ho hc
  rw [List.append_assoc] at ho
  have hs := cb_st_hd (w := some w) (d := dd) (c := c) (lim := lim) ho hn hm h3 h7 (by omega) (fun e => absurd e h2)
  have hi := cb_inf_lt n
  have ey : cb_yb inp (p + (cb_hd m n).length) m n = [] := if_neg h2
  have elf : cb_lf m (cb_inf n) n = L.length + 1 := by
    unfold cb_lf; rw [if_neg (by omega), hl]
    by_cases h4 : m = 4
    · subst h4; simp
    · by_cases h5 : m = 5
      · subst h5; simp
      · by_cases h6 : m = 6
        · subst h6; simp
        · simp [h4, h5, h6]
  have ew : cb_wn (some w) (cb_inf n) (cb_hd m n ++ []) = some (w ++ cb_hd m n) := by
    unfold cb_wn; rw [if_neg (by omega)]; simp
  rw [ey, if_neg h2, Nat.add_zero, ew] at hs
  unfold cb_tk at hs
  rw [if_neg h2, elf] at hs
  cases L with
  | nil =>
    rw [if_pos (by simp)] at hs
    refine ⟨cb_nE m n [], dd, 1, by simp [cb_hd], ?_⟩
    rw [cb_it_s hs]
    simp [cb_it]
  | cons x L =>
    rw [if_neg (by simp)] at hs
    obtain ⟨e2, dd', k, hk, hi⟩ := cb_GD_ls (m := m) (num := n) (L := x :: L) (by simp) h inp lim c [] dd (p + (cb_hd m n).length) (w ++ cb_hd m n) r (cb_drop_add ho) (by omega)
    have h1 := cb_hd_len m n
    refine ⟨e2, dd', k + 1, by rw [List.length_append]; omega, ?_⟩
    rw [cb_it_s hs, hi, List.length_append, ← Nat.add_assoc p, List.append_assoc]
theorem cb_GD_by {n : Nat} {b : List Nat} (hn : n < 2 ^ 32) (hb : b.length = n) : cb_GD 1 (cb_hd 2 n ++ b) := by
  intro inp lim c dd p w r ho hc
  rw [List.append_assoc] at ho
  have hs := cb_st_hd (w := some w) (d := dd) (c := c) (lim := lim) ho hn (by omega) (by omega) (by omega) (by omega) (fun _ => by simp; omega)
  have hi := cb_inf_lt n
  have hd := cb_drop_add ho
  have ey : cb_yb inp (p + (cb_hd 2 n).length) 2 n = b := by
    unfold cb_yb; rw [if_pos rfl, hd, ← hb, List.take_left]
  have ew : cb_wn (some w) (cb_inf n) (cb_hd 2 n ++ b) = some (w ++ (cb_hd 2 n ++ b)) := by
    unfold cb_wn; rw [if_neg (by omega)]; simp
  rw [ey, if_pos rfl, ew] at hs
  unfold cb_tk at hs
  rw [if_pos rfl] at hs
  refine ⟨cb_hd 2 n ++ b, dd, 1, by simp [cb_hd], ?_⟩
  rw [cb_it_s hs, List.length_append, hb, ← Nat.add_assoc p]
  rfl
end
section
/-! items, frames: the invariant of the pure states -/
def cb_IT (d : Nat) (e : List Nat) : Prop := cb_SK e ∧ cb_GD d e ∧ ∀ b ∈ e, b < 256
theorem cb_IT_mo {d d' : Nat} {e : List Nat} (h : cb_IT d e) (hd : d ≤ d') : cb_IT d' e := ⟨h.1, cb_GD_mo h.2.1 hd, h.2.2⟩
theorem cb_nE_lf {m v : Nat} (h : m = 0 ∨ m = 1 ∨ m = 7 ∨ m = 6 ∨ ((m = 4 ∨ m = 5) ∧ v = 0)) : cb_nE m v [] = cb_hd m v := by
  rcases h with rfl | rfl | rfl | rfl | ⟨rfl | rfl, rfl⟩ <;> simp [cb_nE, cb_nh, cb_bd, cb_mp, cb_srt, cb_fl, cb_tl]
theorem cb_IT_lf {m v : Nat} (hv : v < 2 ^ 32) (h : m = 0 ∨ m = 1 ∨ (m = 7 ∧ v < 24) ∨ ((m = 4 ∨ m = 5) ∧ v = 0)) : cb_IT 1 (cb_nE m v []) := by
  have e : cb_nE m v [] = cb_hd m v ++ ([] : List (List Nat)).flatten := by
    rw [cb_nE_lf (by omega)]; simp
  have hl : ([] : List (List Nat)).length = if m = 4 then v else if m = 5 then 2 * v else if m = 6 then 1 else 0 := by
    rcases h with rfl | rfl | ⟨rfl, _⟩ | ⟨rfl | rfl, rfl⟩ <;> rfl
  rw [e]
  refine ⟨cb_SK_nd hv (by omega) (by omega) (by simp) hl, cb_GD_nd (d := 0) hv (by omega) (by omega) (by omega) (by omega) (by simp) hl, ?_⟩
  intro b hb
  simp at hb
  exact cb_hd_lt (by omega) b hb
theorem cb_IT_by {n : Nat} {b : List Nat} (hn : n < 2 ^ 32) (hb : b.length = n) (h : ∀ x ∈ b, x < 256) : cb_IT 1 (cb_hd 2 n ++ b) := by
  refine ⟨cb_SK_by hn hb, cb_GD_by hn hb, ?_⟩
  intro x hx
  rcases List.mem_append.mp hx with hx | hx
  · exact cb_hd_lt (by omega) x hx
  · exact h x hx
def cb_un : List cb_Pr → List (List Nat)
  | [] => []
  | q :: l => q.1 :: q.2 :: cb_un l
theorem cb_un_fl : ∀ l, (cb_un l).flatten = cb_fl l := by
  intro l
  induction l with
  | nil => rfl
  | cons q l ih => simp [cb_un, cb_fl, ih]
theorem cb_un_len : ∀ l, (cb_un l).length = 2 * l.length := by
  intro l
  induction l with
  | nil => rfl
  | cons q l ih => simp [cb_un, ih]; omega
theorem cb_un_mem : ∀ (l : List cb_Pr) (e : List Nat), e ∈ cb_un l → ∃ q ∈ l, e = q.1 ∨ e = q.2 := by
  intro l
  induction l with
  | nil => intro e h; simp [cb_un] at h
  | cons q l ih =>
    intro e h
    simp only [cb_un, List.mem_cons] at h
    rcases h with h | h | h
    · exact ⟨q, by simp, Or.inl h⟩
    · exact ⟨q, by simp, Or.inr h⟩
    · obtain ⟨q', hq, hh⟩ := ih e h; exact ⟨q', by simp [hq], hh⟩
theorem cb_IT_ls {d m n : Nat} {L : List (List Nat)} (hn : n < 2 ^ 32) (hm : m = 4 ∨ m = 5 ∨ m = 6) (h : ∀ e ∈ L, cb_IT d e)
    (hl : L.length = if m = 4 then n else if m = 5 then 2 * n else if m = 6 then 1 else 0) : cb_IT (d + 1) (cb_hd m n ++ L.flatten) := by
  refine ⟨cb_SK_nd hn (by omega) (by omega) (fun e he => (h e he).1) hl, cb_GD_nd hn (by omega) (by omega) (by omega) (by omega) (fun e he => (h e he).2.1) hl, ?_⟩
  intro b hb
  rcases List.mem_append.mp hb with hb | hb
  · exact cb_hd_lt (by omega) b hb
  · obtain ⟨k, hk, hbk⟩ := List.mem_flatten.mp hb
    exact (h k hk).2.2 b hbk
theorem cb_IT_nd {d m num : Nat} {ks : List (List Nat)} (hm : m = 4 ∨ (m = 5 ∧ ks.length % 2 = 0) ∨ (m = 6 ∧ ks.length = 1 ∧ num < 2 ^ 32)) (hk : ks.length < 2 ^ 31) (h : ∀ k ∈ ks, cb_IT d k) : cb_IT (d + 1) (cb_nE m num ks) := by
  rcases hm with rfl | ⟨rfl, h2⟩ | ⟨rfl, h1, hn⟩
  · have e : cb_nE 4 num ks = cb_hd 4 ks.length ++ ks.flatten := by simp [cb_nE, cb_nh, cb_bd]
    rw [e]; exact cb_IT_ls (by omega) (by omega) h (by simp)
  · have e : cb_nE 5 num ks = cb_hd 5 (ks.length / 2) ++ (cb_un (cb_srt (cb_mp ks))).flatten := by
      rw [cb_un_fl]; simp [cb_nE, cb_nh, cb_bd, cb_tl_e h2]
    rw [e]
    refine cb_IT_ls (by omega) (by omega) (fun e' he' => ?_) ?_
    · obtain ⟨q, hq, hh⟩ := cb_un_mem _ _ he'
      have hm := cb_mp_mem ks q ((cb_srt_pm _).mem_iff.mp hq)
      rcases hh with rfl | rfl
      · exact h _ hm.1
      · exact h _ hm.2
    · rw [cb_un_len, (cb_srt_pm _).length_eq, cb_mp_len]; simp
  · have e : cb_nE 6 num ks = cb_hd 6 num ++ ks.flatten := by simp [cb_nE, cb_nh, cb_bd]
    rw [e]; exact cb_IT_ls hn (by omega) h (by simp [h1])
theorem cb_kn : ∀ {ks : List (List Nat)}, (∀ k ∈ ks, 0 < k.length) → ks.length ≤ ks.flatten.length := by
  intro ks
  induction ks with
  | nil => intro _; simp
  | cons k ks ih =>
    intro h
    have h1 := h k (by simp)
    have h2 := ih fun x hx => h x (by simp [hx])
    rw [List.flatten_cons, List.length_append, List.length_cons]; omega
def cb_FI (lim : Nat) : Bool → List cb_Fr → Prop
  | _, [] => True
  | x, (m, num, lf, ks) :: c => (m = 4 ∨ m = 5 ∨ m = 6) ∧ lf ≠ 1 ∧ lf < 2 ^ 34 ∧ num < 2 ^ 32 ∧ (m = 6 → (lf = 0 ∨ lf = 2) ∧ (x = true → ks.length = 1 ∧ lf = 0) ∧ (x = false → ks = [])) ∧ (m = 5 → lf ≠ 0 → (ks.length + lf) % 2 = 1) ∧ c.length < lim ∧ (∀ k ∈ ks, cb_IT (lim - (c.length + 1)) k) ∧ cb_FI lim false c
theorem cb_FI_len {lim : Nat} {x : Bool} {c : List cb_Fr} (h : cb_FI lim x c) : c.length ≤ lim := by
  cases c with
  | nil => simp
  | cons f c => obtain ⟨m, num, lf, ks⟩ := f; have := h.2.2.2.2.2.2.1; simp; omega
def cb_rs (f : cb_Fr) : Nat := if f.1 = 6 then 0 else if f.2.2.1 = 0 then 1 else 1 + cb_ext (if f.1 = 5 then (f.2.2.2.length + f.2.2.1 - 1) / 2 else f.2.2.2.length + f.2.2.1 - 1)
def cb_rsm : List cb_Fr → Nat
  | [] => 0
  | f :: c => cb_rsm c + cb_rs f
def cb_PI (lim : Nat) (x : Bool) (s : cb_S3) (p : Nat) : Prop := cb_FI lim x s.1 ∧ (s.2.1 = [] ∨ ∃ e, s.2.1 = [e] ∧ s.1 = [] ∧ cb_IT lim e) ∧ s.2.1.flatten.length + (cb_oo s.1).length + cb_rsm s.1 ≤ p
theorem cb_ct_len (f : cb_Fr) : (cb_ct f).length = (if f.1 = 6 then 1 + cb_ext f.2.1 else 0) + f.2.2.2.flatten.length := by
  unfold cb_ct
  rw [List.length_append, cb_bd_len]
  split
  · rw [cb_hd_len]
  · rfl
theorem cb_nE_len {m num : Nat} (ks : List (List Nat)) (hm : m ≠ 8) : (cb_nE m num ks).length = 1 + cb_ext (if m = 2 ∨ m = 4 then ks.length else if m = 5 then ks.length / 2 else num) + ks.flatten.length := by
  unfold cb_nE cb_nh
  rw [List.length_append, cb_bd_len, if_neg hm, cb_hd_len]
theorem cb_fls (ks : List (List Nat)) (e : List Nat) : (ks ++ [e]).flatten.length = ks.flatten.length + e.length := by simp
theorem cb_cm_PI {lim : Nat} : ∀ {c : List cb_Fr} {d : Bool} {e : List Nat} {p : Nat}, cb_FI lim false c → cb_IT (lim - c.length) e → (cb_oo c).length + e.length + cb_rsm c ≤ p → p < 2 ^ 31 → cb_PI lim true (cb_cm c d e) p := by
  intro c
  induction c with
  | nil =>
    intro d e p _ hi hs hp
    refine ⟨trivial, Or.inr ⟨e, rfl, rfl, by simpa using hi⟩, ?_⟩
    simp [cb_cm, cb_oo, cb_rsm] at hs ⊢
    omega
  | cons f c ih =>
    intro d e p hf hi hs hp
    obtain ⟨m, num, lf, ks⟩ := f
    obtain ⟨hm, hl1, hl2, hnu, h6, h5, hcl, hks, hfc⟩ := hf
    have hks' : ∀ k ∈ ks ++ [e], cb_IT (lim - (c.length + 1)) k := by
      intro k hk
      rcases List.mem_append.mp hk with hk | hk
      · exact hks k hk
      · rw [List.mem_singleton.mp hk]; simpa using hi
    have hct := cb_ct_len (m, num, lf, ks)
    have hfl := cb_fls ks e
    have hkn := cb_kn fun k hk => cb_SK_ne (hks' k hk).1
    simp only [cb_oo, cb_rsm, List.length_append] at hs
    dsimp only at hct
    rw [cb_cm_c]
    by_cases h2 : lf = 2
    · subst h2
      rw [if_pos rfl]
      have hb : ks.flatten.length + e.length ≤ p := by omega
      have hit : cb_IT (lim - c.length) (cb_nE m num (ks ++ [e])) := by
        rw [show lim - c.length = lim - (c.length + 1) + 1 by omega]
        refine cb_IT_nd ?_ (by omega) hks'
        rcases hm with rfl | rfl | rfl
        · exact Or.inl rfl
        · refine Or.inr (Or.inl ⟨rfl, ?_⟩); have := h5 rfl (by omega); simp; omega
        · refine Or.inr (Or.inr ⟨rfl, ?_, hnu⟩); rw [(h6 rfl).2.2 rfl]; rfl
      refine ih hfc hit ?_ hp
      rw [cb_nE_len _ (by omega), hfl]
      unfold cb_rs at hs
      dsimp only at hs
      rcases hm with rfl | rfl | rfl
      · simp at hs hct ⊢; omega
      · simp at hs hct ⊢; omega
      · simp at hs hct ⊢; omega
    · rw [if_neg h2]
      refine ⟨⟨hm, by omega, by omega, hnu, fun h => ?_, fun h hl => ?_, hcl, hks', hfc⟩, Or.inl rfl, ?_⟩
      · obtain ⟨h6a, _, h6c⟩ := h6 h
        refine ⟨by omega, fun _ => ⟨by rw [h6c rfl]; rfl, by omega⟩, fun h => by cases h⟩
      · have := h5 h (by omega); simp; omega
      · have hct' := cb_ct_len (m, num, lf - 1, ks ++ [e])
        dsimp only at hct'
        simp only [cb_oo, cb_rsm, List.length_append, List.flatten_nil, List.length_nil]
        have er : cb_rs (m, num, lf - 1, ks ++ [e]) = cb_rs (m, num, lf, ks) := by
          unfold cb_rs
          dsimp only
          by_cases h0 : lf = 0
          · subst h0; rfl
          · have : ¬ lf - 1 = 0 := by omega
            rw [if_neg h0, if_neg this, List.length_append, List.length_singleton, show ks.length + 1 + (lf - 1) - 1 = ks.length + lf - 1 by omega]
        rw [er]
        omega
/-- in a scan a tag is closed by its item -/
def cb_TG (c : List cb_Fr) : Prop := ∀ f ∈ c, f.1 = 6 → f.2.2.1 = 2
theorem cb_cm_TG : ∀ {c : List cb_Fr} {d : Bool} {e : List Nat}, cb_TG c → cb_TG (cb_cm c d e).1 ∧ ∀ f c', (cb_cm c d e).1 = f :: c' → f.1 ≠ 6 := by
  intro c
  induction c with
  | nil => intro d e _; exact ⟨fun f hf => by simp [cb_cm] at hf, fun f c' h => by simp [cb_cm] at h⟩
  | cons f c ih =>
    intro d e h
    obtain ⟨m, num, lf, ks⟩ := f
    rw [cb_cm_c]
    by_cases h2 : lf = 2
    · rw [if_pos h2]; exact ih fun f hf => h f (by simp [hf])
    · rw [if_neg h2]
      have h6 : m ≠ 6 := fun e => h2 (h (m, num, lf, ks) (by simp) e)
      refine ⟨fun f hf h6' => ?_, fun f c' he => ?_⟩
      · rcases List.mem_cons.mp hf with rfl | hf
        · exact absurd h6' h6
        · exact h f (by simp [hf]) h6'
      · have := (List.cons.inj he).1; rw [← this]; exact h6
theorem cb_FI_tf {lim : Nat} {c : List cb_Fr} (h : cb_FI lim true c) (h6 : ∀ f c', c = f :: c' → f.1 ≠ 6) : cb_FI lim false c := by
  cases c with
  | nil => trivial
  | cons f c =>
    obtain ⟨m, num, lf, ks⟩ := f
    have := h6 _ _ rfl
    exact ⟨h.1, h.2.1, h.2.2.1, h.2.2.2.1, fun e => absurd e this, h.2.2.2.2.2⟩
theorem cb_cm_PI' {lim : Nat} {c : List cb_Fr} {d : Bool} {e : List Nat} {p : Nat} (hf : cb_FI lim false c) (ht : cb_TG c) (hi : cb_IT (lim - c.length) e) (hs : (cb_oo c).length + e.length + cb_rsm c ≤ p) (hp : p < 2 ^ 31) : cb_PI lim false (cb_cm c d e) p ∧ cb_TG (cb_cm c d e).1 := by
  have h1 := cb_cm_PI (d := d) hf hi hs hp
  have h2 := cb_cm_TG (d := d) (e := e) ht
  exact ⟨⟨cb_FI_tf h1.1 h2.2, h1.2⟩, h2.1⟩
theorem cb_ext_sz {o : List Nat} (h : ∀ b ∈ o, b < 256) {p : Nat} (hf : o.getD p 0 % 32 < 27) : cb_ext (cb_arg o p) ≤ cb_sz (o.getD p 0 % 32) := by
  have ha := cb_acc_lt h (p + 1) (cb_sz (o.getD p 0 % 32))
  unfold cb_arg
  revert ha
  generalize o.getD p 0 % 32 = f at hf
  intro ha
  by_cases h0 : cb_sz f = 0
  · rw [if_pos h0]
    unfold cb_sz at h0
    unfold cb_ext
    rw [if_pos]; · omega
    split at h0; · omega
    split at h0; · omega
    split at h0 <;> omega
  · rw [if_neg h0]
    generalize cb_acc o (p + 1) (cb_sz f) = a at ha
    unfold cb_sz at ha ⊢
    unfold cb_ext
    by_cases h1 : f = 24
    · simp only [if_pos h1] at ha ⊢
      repeat' split
      all_goals omega
    · by_cases h2 : f = 25
      · simp only [if_neg h1, if_pos h2] at ha ⊢
        repeat' split
        all_goals omega
      · by_cases h3 : f = 26
        · simp only [if_neg h1, if_neg h2, if_pos h3]
          repeat' split
          all_goals omega
        · unfold cb_sz at h0
          simp [h1, h2, h3] at h0
theorem cb_st_PI {inp : List Nat} {lim p p' : Nat} {c : List cb_Fr} {d : Bool} {w w' : Option (List Nat)} {s : cb_S3} (hb : ∀ b ∈ inp, b < 256) (hn : inp.length < 2 ^ 8)
    (h : cb_st inp lim c d p w = .inr (s, p', w')) (hf : cb_FI lim false c) (ht : cb_TG c) (hs : (cb_oo c).length + cb_rsm c ≤ p) :
    cb_PI lim false s p' ∧ cb_TG s.1 ∧ p < p' ∧ p' ≤ inp.length := by
  unfold cb_st at h
  by_cases h1 : inp.length ≤ p
  · rw [if_pos h1] at h; cases h
  rw [if_neg h1] at h
  by_cases h2 : inp.getD p 0 = 255
  · rw [if_pos h2] at h
    cases c with
    | nil => simp [cb_bk] at h
    | cons f c =>
      obtain ⟨m, num, lf, ks⟩ := f
      rw [cb_bk_c] at h
      by_cases h3 : lf ≠ 0 ∨ (m = 5 ∧ ks.length % 2 = 1)
      · rw [if_pos h3] at h; cases h
      rw [if_neg h3] at h
      obtain ⟨rfl, rfl, rfl⟩ := cb_i3 h
      obtain ⟨hm, hl1, hl2, hnu, h6, h5, hcl, hks, hfc⟩ := hf
      have hct := cb_ct_len (m, num, lf, ks)
      have hkn := cb_kn fun k hk => cb_SK_ne (hks k hk).1
      have hm6 : m ≠ 6 := fun e => by have := ht (m, num, lf, ks) (by simp) e; dsimp only at this; omega
      simp only [cb_oo, cb_rsm, List.length_append] at hs
      dsimp only at hct
      have h0 : lf = 0 := by omega
      have hit : cb_IT (lim - c.length) (cb_nE m num ks) := by
        rw [show lim - c.length = lim - (c.length + 1) + 1 by omega]
        refine cb_IT_nd ?_ (by omega) hks
        rcases hm with rfl | rfl | rfl
        · exact Or.inl rfl
        · exact Or.inr (Or.inl ⟨rfl, by omega⟩)
        · exact absurd rfl hm6
      have hr := cb_cm_PI' (d := d) (p := p + 1) hfc (fun f hf => ht f (by simp [hf])) hit ?_ (by omega)
      · exact ⟨hr.1, hr.2, by omega, by omega⟩
      · rw [cb_nE_len _ (by omega)]
        unfold cb_rs at hs
        dsimp only at hs
        rw [if_neg hm6, if_pos h0] at hs
        rw [if_neg hm6] at hct
        have : cb_ext (if m = 2 ∨ m = 4 then ks.length else if m = 5 then ks.length / 2 else num) ≤ 1 := by
          refine cb_ext1 ?_
          rcases hm with rfl | rfl | rfl
          · simp; omega
          · simp; omega
          · exact absurd rfl hm6
        omega
  rw [if_neg h2] at h
  by_cases h3 : cb_bad (inp.getD p 0) = true
  · rw [if_pos h3] at h; cases h
  rw [if_neg h3] at h
  by_cases h4 : lim ≤ c.length
  · rw [if_pos h4] at h; cases h
  rw [if_neg h4] at h
  have hbl := cb_getD_lt hb p
  have hal := cb_arg_lt hb p
  have hex := cb_ext_sz hb (p := p)
  unfold cb_bad at h3
  rw [decide_eq_true_iff] at h3
  by_cases h5 : inp.length < p + 1 + cb_sz (inp.getD p 0 % 32)
  · rw [if_pos h5] at h; cases h
  rw [if_neg h5] at h
  by_cases h6 : inp.getD p 0 / 32 = 2 ∧ inp.length - (p + 1 + cb_sz (inp.getD p 0 % 32)) < cb_arg inp p
  · rw [if_pos h6] at h; cases h
  rw [if_neg h6] at h
  obtain ⟨h7, h8, h9⟩ := cb_i3 h
  clear h h9
  have hz : inp.getD p 0 % 32 = 31 → cb_sz (inp.getD p 0 % 32) = 0 := fun e => by rw [e]; rfl
  have hz31 : cb_arg inp p = inp.getD p 0 % 32 ∨ cb_sz (inp.getD p 0 % 32) ≠ 0 := by
    unfold cb_arg; by_cases q : cb_sz (inp.getD p 0 % 32) = 0
    · rw [if_pos q]; exact Or.inl rfl
    · exact Or.inr q
  have hs7 : inp.getD p 0 % 32 < 24 → cb_sz (inp.getD p 0 % 32) = 0 := fun e => by
    unfold cb_sz; rw [if_neg (by omega), if_neg (by omega), if_neg (by omega)]
  generalize hby : cb_yb inp (p + 1 + cb_sz (inp.getD p 0 % 32)) (inp.getD p 0 / 32) (cb_arg inp p) = bs at h7
  have hbs : inp.getD p 0 / 32 = 2 → bs.length = cb_arg inp p ∧ ∀ x ∈ bs, x < 256 := by
    intro e
    rw [← hby]
    unfold cb_yb
    rw [if_pos e]
    refine ⟨?_, fun x hx => hb x (List.mem_of_mem_drop (List.mem_of_mem_take hx))⟩
    rw [List.length_take, List.length_drop]; omega
  clear hby hb
  generalize inp.getD p 0 = b at *
  generalize cb_arg inp p = v at *
  unfold cb_tk at h7
  subst h7
  subst h8
  by_cases m2 : b / 32 = 2
  · rw [if_pos m2, if_pos m2]
    have hx := hex (by omega)
    have hr := cb_cm_PI' (d := d) (p := p + 1 + cb_sz (b % 32) + v) hf ht (cb_IT_mo (cb_IT_by hal (hbs m2).1 (hbs m2).2) (by omega)) ?_ (by omega)
    · exact ⟨hr.1, hr.2, by omega, by omega⟩
    · rw [List.length_append, cb_hd_len, (hbs m2).1]; omega
  · rw [if_neg m2, if_neg m2, Nat.add_zero]
    by_cases hl : cb_lf (b / 32) (b % 32) v = 1
    · rw [if_pos hl]
      have hm' : b / 32 = 0 ∨ b / 32 = 1 ∨ (b / 32 = 7 ∧ v < 24) ∨ ((b / 32 = 4 ∨ b / 32 = 5) ∧ v = 0) := by
        unfold cb_lf at hl
        by_cases g1 : b % 32 = 31
        · rw [if_pos g1] at hl; omega
        rw [if_neg g1] at hl
        by_cases g5 : b / 32 = 5
        · rw [if_pos g5] at hl; omega
        rw [if_neg g5] at hl
        by_cases g4 : b / 32 = 4
        · rw [if_pos g4] at hl; omega
        rw [if_neg g4] at hl
        by_cases g6 : b / 32 = 6
        · rw [if_pos g6] at hl; omega
        have : b / 32 < 8 := by omega
        have h7 : b / 32 = 7 → v < 24 := fun e => by
          have := hs7 (by omega); omega
        omega
      have h31 : b % 32 < 27 := by
        by_cases g1 : b % 32 = 31
        · unfold cb_lf at hl; rw [if_pos g1] at hl; omega
        · omega
      have hx := hex h31
      have hr := cb_cm_PI' (d := d) (p := p + 1 + cb_sz (b % 32)) hf ht (cb_IT_mo (cb_IT_lf hal hm') (by omega)) ?_ (by omega)
      · exact ⟨hr.1, hr.2, by omega, by omega⟩
      · rw [cb_nE_lf (by omega), cb_hd_len]; omega
    · rw [if_neg hl]
      have hm' : b / 32 = 4 ∨ b / 32 = 5 ∨ b / 32 = 6 := by
        unfold cb_lf at hl
        by_cases g1 : b % 32 = 31
        · omega
        rw [if_neg g1] at hl
        by_cases g5 : b / 32 = 5
        · omega
        rw [if_neg g5] at hl
        by_cases g4 : b / 32 = 4
        · omega
        rw [if_neg g4] at hl
        by_cases g6 : b / 32 = 6
        · omega
        rw [if_neg g6] at hl; omega
      have hlf : cb_lf (b / 32) (b % 32) v = if b % 32 = 31 then 0 else if b / 32 = 5 then 2 * v + 1 else if b / 32 = 4 then v + 1 else 2 := by
        unfold cb_lf
        rcases hm' with g | g | g <;> simp [g]
      have h631 : b / 32 = 6 → b % 32 < 27 := fun e => by omega
      refine ⟨⟨⟨hm', hl, ?_, hal, fun e => ⟨?_, (fun h => by cases h), fun _ => rfl⟩, fun e h0 => ?_, by omega, by simp, hf⟩, Or.inl rfl, ?_⟩, ?_, by omega, by omega⟩
      · rw [hlf]; split; omega; split; omega; split <;> omega
      · have := h631 e; rw [hlf, if_neg (by omega), if_neg (by omega), if_neg (by omega)]; omega
      · rw [hlf] at h0 ⊢
        by_cases g1 : b % 32 = 31
        · rw [if_pos g1] at h0; omega
        · rw [if_neg g1, if_pos e]; simp
      · have hct := cb_ct_len (b / 32, v, cb_lf (b / 32) (b % 32) v, [])
        dsimp only at hct
        simp only [List.flatten_nil, List.length_nil, cb_oo, cb_rsm, List.length_append, hct]
        unfold cb_rs
        dsimp only
        rw [hlf]
        by_cases g6 : b / 32 = 6
        · have hx := hex (h631 g6); rw [if_pos g6, if_pos g6]; omega
        · rw [if_neg g6, if_neg g6]
          by_cases g1 : b % 32 = 31
          · simp [g1]; omega
          · have hx := hex (by omega)
            rw [if_neg g1]
            by_cases g5 : b / 32 = 5
            · simp only [if_pos g5, List.length_nil]
              rw [if_neg (by omega), show (0 + (2 * v + 1) - 1) / 2 = v by omega]; omega
            · have g4 : b / 32 = 4 := by omega
              simp only [if_neg g5, if_pos g4, List.length_nil]
              rw [if_neg (by omega), show 0 + (v + 1) - 1 = v by omega]; omega
      · intro f hf' e6
        rcases List.mem_cons.mp hf' with rfl | hf'
        · dsimp only at e6 ⊢
          have := h631 e6
          rw [hlf, if_neg (by omega), if_neg (by omega), if_neg (by omega)]
        · exact ht f hf' e6
end
section
/-! X: sizes, arguments, the end of an item, comparisons -/
theorem cb_At0 {a : Nat → Int32} {l : List Nat} (h : cb_At a 0 l) {t : Nat} (ht : t < l.length) : a t = nI (l.getD t 0) := by
  have := cb_At_get h t ht; rwa [Nat.zero_add] at this
theorem cb_s5 : (((5 : Int32) &&& 31).toBitVec.smod 32).toNat = 5 := by decide
theorem cb_s4 : (((4 : Int32) &&& 31).toBitVec.smod 32).toNat = 4 := by decide
theorem cb_m31 : (31 : Int32).toBitVec.toNat = 2 ^ 5 - 1 := by decide
theorem cb_m15 : (15 : Int32).toBitVec.toNat = 2 ^ 4 - 1 := by decide
theorem cb_m255 : (255 : Int32).toBitVec.toNat = 2 ^ 8 - 1 := by decide
theorem cb_m1 : (1 : Int32).toBitVec.toNat = 2 ^ 1 - 1 := by decide
theorem cb_maj {b : Nat} (h : b < 256) : nI b >>> ((5 : Int32) &&& 31) = nI (b / 32) := pk_shrN (by omega) _ 5 cb_s5
theorem cb_info {b : Nat} (h : b < 256) : nI b &&& 31 = nI (b % 32) := pk_andN (by omega) 5 cb_m31
theorem cb_and1 {b : Nat} (h : b < 2 ^ 31) : nI b &&& 1 = nI (b % 2) := pk_andN (by omega) 1 cb_m1
section cx1
variable {xM xL xS xI xT xO xP xp xF xR xD xd : Int32} {uI uT uC uL uO uS uK uA uP uM : Nat → Int32} {uF : Nat → Int64}
theorem cx_asz {post : Int32 → Prop} {f : Nat} (hf : f < 2 ^ 31) (h : post (nI (cb_sz f))) : wpX_argumentSize post (xM, xL, xS, xI, xT, xO, xP, xp, xF, xR, xD, xd, uI, uT, uC, uL, uO, uS, uK, uA, uP, uM, uF) (nI f) := by
  unfold cb_sz at h
  refine pk_eq f 24 (fun e => ?_) (fun e => pk_eq f 25 (fun e2 => ?_) (fun e2 => pk_eq f 26 (fun e3 => ?_) (fun e3 => ?_)))
  · rw [if_pos e] at h; exact h
  · rw [if_neg e, if_pos e2] at h; exact h
  · rw [if_neg e, if_neg e2, if_pos e3] at h; exact h
  · rw [if_neg e, if_neg e2, if_neg e3] at h; exact h
theorem cx_ao_lp {post : Int64 → Prop} {o : List Nat} {p s : Nat} (hO : cb_At uO 0 o) (hl : o.length ≤ 160) (hb : ∀ b ∈ o, b < 256) (hp : p + s < o.length) (h : post (lN (cb_acc o (p + 1) s))) :
    ∀ d i n, i + d = s → d < n → wX_argumentAt__out_28 post (nI p) (nI s) xM xL xS xI xT xO xP xp xF xR xD xd uI uT uC uL uO uS uK uA uP uM uF n (lN (cb_acc o (p + 1) i)) (nI (i + 1)) := by
  intro d
  induction d with
  | zero =>
    intro i n hi hn
    obtain ⟨n, rfl⟩ : ∃ k, n = k + 1 := ⟨n - 1, by omega⟩
    have e : i = s := by omega
    subst e
    exact br_t (nI_lt (by omega) (by omega)) h
  | succ d ih =>
    intro i n hi hn
    obtain ⟨n, rfl⟩ : ∃ k, n = k + 1 := ⟨n - 1, by omega⟩
    refine br_f (nI_nlt (by omega) (by omega)) ?_
    rw [nI_add]
    refine br_f (nI_ge (b := 160) (by omega) (by omega)) ⟨vp_in_nI (by omega) (by omega), ?_⟩
    rw [nI_clamp (by omega), cb_At0 hO (by omega)]
    have hb2 := cb_getD_lt hb (p + (i + 1))
    refine nm_r (e' := lN (cb_acc o (p + 1) (i + 1))) ?_ (nm_r (nI_1 _) (ih (i + 1) n (by omega) (by omega)))
    rw [cb_lI (by omega)]
    show lN _ * lN 256 + _ = _
    rw [lN_mul, lN_add, cb_acc, show p + 1 + i = p + (i + 1) by omega]
theorem cx_ao {post : Int64 → Prop} {o : List Nat} {p : Nat} (hO : cb_At uO 0 o) (hl : o.length ≤ 160) (hb : ∀ b ∈ o, b < 256) (hp : p + cb_sz (o.getD p 0 % 32) < o.length) (h : post (lN (cb_arg o p))) :
    wpX_argumentAt__out post (xM, xL, xS, xI, xT, xO, xP, xp, xF, xR, xD, xd, uI, uT, uC, uL, uO, uS, uK, uA, uP, uM, uF) (nI p) := by
  refine ⟨vp_in_nI (by omega) (by omega), ?_⟩
  have hb2 := cb_getD_lt hb p
  rw [nI_clamp (by omega), cb_At0 hO (by omega), cb_info hb2]
  refine nm_e (cx_asz (by omega) ?_)
  have hz := cb_sz_le (o.getD p 0 % 32)
  unfold cb_arg at h
  refine pk_eq (cb_sz (o.getD p 0 % 32)) 0 (fun e => ?_) (fun e => ?_)
  · rw [if_pos e] at h; rw [cb_lI (by omega)]; exact h
  · rw [if_neg e] at h
    exact ⟨_, cx_ao_lp hO hl hb hp h (cb_sz (o.getD p 0 % 32)) 0 _ (by omega) (Nat.lt_succ_self _)⟩
theorem cx_ai_lp {post : Int64 → Prop} {o : List Nat} {p s : Nat} (hO : cb_At uI 0 o) (hl : o.length ≤ 32) (hb : ∀ b ∈ o, b < 256) (hp : p + s < o.length) (h : post (lN (cb_acc o (p + 1) s))) :
    ∀ d i n, i + d = s → d < n → wX_argumentAt__input_28 post (nI p) (nI s) xM xL xS xI xT xO xP xp xF xR xD xd uI uT uC uL uO uS uK uA uP uM uF n (lN (cb_acc o (p + 1) i)) (nI (i + 1)) := by
  intro d
  induction d with
  | zero =>
    intro i n hi hn
    obtain ⟨n, rfl⟩ : ∃ k, n = k + 1 := ⟨n - 1, by omega⟩
    have e : i = s := by omega
    subst e
    exact br_t (nI_lt (by omega) (by omega)) h
  | succ d ih =>
    intro i n hi hn
    obtain ⟨n, rfl⟩ : ∃ k, n = k + 1 := ⟨n - 1, by omega⟩
    refine br_f (nI_nlt (by omega) (by omega)) ?_
    rw [nI_add]
    refine br_f (nI_ge (b := 32) (by omega) (by omega)) ⟨vp_in_nI (by omega) (by omega), ?_⟩
    rw [nI_clamp (by omega), cb_At0 hO (by omega)]
    have hb2 := cb_getD_lt hb (p + (i + 1))
    refine nm_r (e' := lN (cb_acc o (p + 1) (i + 1))) ?_ (nm_r (nI_1 _) (ih (i + 1) n (by omega) (by omega)))
    rw [cb_lI (by omega)]
    show lN _ * lN 256 + _ = _
    rw [lN_mul, lN_add, cb_acc, show p + 1 + i = p + (i + 1) by omega]
theorem cx_ai {post : Int64 → Prop} {o : List Nat} {p : Nat} (hO : cb_At uI 0 o) (hl : o.length ≤ 32) (hb : ∀ b ∈ o, b < 256) (hp : p + cb_sz (o.getD p 0 % 32) < o.length) (h : post (lN (cb_arg o p))) :
    wpX_argumentAt__input post (xM, xL, xS, xI, xT, xO, xP, xp, xF, xR, xD, xd, uI, uT, uC, uL, uO, uS, uK, uA, uP, uM, uF) (nI p) := by
  refine ⟨vp_in_nI (by omega) (by omega), ?_⟩
  have hb2 := cb_getD_lt hb p
  rw [nI_clamp (by omega), cb_At0 hO (by omega), cb_info hb2]
  refine nm_e (cx_asz (by omega) ?_)
  have hz := cb_sz_le (o.getD p 0 % 32)
  unfold cb_arg at h
  refine pk_eq (cb_sz (o.getD p 0 % 32)) 0 (fun e => ?_) (fun e => ?_)
  · rw [if_pos e] at h; rw [cb_lI (by omega)]; exact h
  · rw [if_neg e] at h
    exact ⟨_, cx_ai_lp hO hl hb hp h (cb_sz (o.getD p 0 % 32)) 0 _ (by omega) (Nat.lt_succ_self _)⟩
end cx1
theorem cb_Rn_le {o : List Nat} : ∀ {k q p q' p' : Nat}, cb_Rn o k q p q' p' → p ≤ p' := by
  intro k
  induction k with
  | zero => intro q p q' p' h; exact Nat.le_of_eq h.2
  | succ k ih => intro q p q' p' h; have := ih h.2.2; omega
theorem cb_Rn_q {o : List Nat} : ∀ {k q p p' : Nat}, cb_Rn o k q p 0 p' → q ≤ k := by
  intro k
  induction k with
  | zero => intro q p p' h; exact Nat.le_of_eq h.1
  | succ k ih => intro q p p' h; have := ih h.2.2; omega
section cx2
variable {xM xL xS xI xT xO xP xp xF xR xD xd : Int32} {uI uT uC uL uO uS uK uA uP uM : Nat → Int32} {uF : Nat → Int64}
theorem cx_ie_lp {post : Int32 → Prop} {o : List Nat} {p' : Nat} (hO : cb_At uO 0 o) (hxO : xO = nI o.length) (hl : o.length ≤ 160) (hb : ∀ b ∈ o, b < 256) (hp' : p' ≤ o.length) (h : post (nI p')) :
    ∀ k q p t n, cb_Rn o k q p 0 p' → k + t ≤ 160 → k < n → wX_itemEnd_7 post xM xL xS xI xT xO xP xp xF xR xD xd uI uT uC uL uO uS uK uA uP uM uF n (nI p) (lN q) (nI t) := by
  intro k
  induction k with
  | zero =>
    intro q p t n hr ht hn
    obtain ⟨rfl, rfl⟩ := hr
    obtain ⟨n, rfl⟩ : ∃ k, n = k + 1 := ⟨n - 1, by omega⟩
    exact br_c (fun _ => h) (fun _ => br_t (by decide) h)
  | succ k ih =>
    intro q p t n hr ht hn
    obtain ⟨n, rfl⟩ : ∃ k, n = k + 1 := ⟨n - 1, by omega⟩
    have hq := cb_Rn_q hr
    obtain ⟨hq0, hpo, hr⟩ := hr
    have hq2 := cb_Rn_q hr
    have hle := cb_Rn_le hr
    have hb2 := cb_getD_lt hb p
    have hz := cb_sz_le (o.getD p 0 % 32)
    unfold cb_dp at hle
    refine br_f (nI_ge (b := 160) (by omega) (by omega)) (br_f ?_ (br_f ?_ ⟨vp_in_nI (by omega) (by omega), ?_⟩))
    · show ¬ lN q ≤ lN 0; rw [pk_lLE (by omega) (by omega)]; omega
    · rw [hxO]; exact nI_ge (by omega) (by omega)
    rw [nI_clamp (by omega), cb_At0 hO hpo, cb_maj hb2, cb_info hb2]
    refine nm_e ⟨vp_in_nI (by omega) (by omega), cx_asz (by omega) (cx_ao hO hl hb (by omega) ?_)⟩
    refine nm_r (e' := nI (p + (1 + cb_sz (o.getD p 0 % 32)))) (by rw [show (1 : Int32) = nI 1 from rfl, nI_add, nI_add]) ?_
    refine nm_r (e' := lN (q - 1)) (by show lN q - lN 1 = _; rw [lN_sub (by omega)]) ?_
    have key := fun j => ih _ _ (t + 1) n hr (by omega) (by omega)
    unfold cb_aq cb_dp at hr
    generalize hm : o.getD p 0 / 32 = m at hr hle
    have hm8 : m < 8 := by omega
    have fin : ∀ (P : Nat) (Q : Nat), P = p + (1 + cb_sz (o.getD p 0 % 32) + if m = 2 then cb_arg o p else 0) → Q = q - 1 + (if m = 4 then cb_arg o p else if m = 5 then 2 * cb_arg o p else if m = 6 then 1 else 0) → wX_itemEnd_7 post xM xL xS xI xT xO xP xp xF xR xD xd uI uT uC uL uO uS uK uA uP uM uF n (nI P) (lN Q) (nI (t + 1)) := by
      intro P Q hP hQ; subst hP; subst hQ; exact ih _ _ (t + 1) n hr (by omega) (by omega)
    refine pk_eq m 2 (fun e => ?_) (fun e => ?_)
    · subst e
      refine nm_r (e' := nI (p + (1 + cb_sz (o.getD p 0 % 32)) + cb_arg o p)) (by rw [lN_i, nI_add]) ?_
      refine br_f (by decide) (br_f (by decide) (br_f (by decide) (nm_r (nI_1 _) (fin _ _ (by simp; omega) (by simp)))))
    · refine pk_eq m 4 (fun e4 => ?_) (fun e4 => ?_)
      · subst e4
        refine nm_r (lN_add _ _) (br_f (by decide) (br_f (by decide) (nm_r (nI_1 _) (fin _ _ (by simp) (by simp)))))
      · refine pk_eq m 5 (fun e5 => ?_) (fun e5 => ?_)
        · subst e5
          refine nm_r (e' := lN (q - 1 + 2 * cb_arg o p)) (by show _ + lN 2 * lN _ = _; rw [lN_mul, lN_add]) (br_f (by decide) (nm_r (nI_1 _) (fin _ _ (by simp) (by simp))))
        · refine pk_eq m 6 (fun e6 => ?_) (fun e6 => ?_)
          · subst e6
            exact nm_r (lN_1 _) (nm_r (nI_1 _) (fin _ _ (by simp) (by simp)))
          · exact nm_r (nI_1 _) (fin _ _ (by simp [e]) (by simp [e4, e5, e6]))
theorem cx_ie {post : Int32 → Prop} {o e r : List Nat} {p : Nat} (hO : cb_At uO 0 o) (hxO : xO = nI o.length) (hl : o.length ≤ 128) (hb : ∀ b ∈ o, b < 256) (he : cb_SK e) (hd : o.drop p = e ++ r) (h : post (nI (p + e.length))) :
    wpX_itemEnd post (xM, xL, xS, xI, xT, xO, xP, xp, xF, xR, xD, xd, uI, uT, uC, uL, uO, uS, uK, uA, uP, uM, uF) (nI p) := by
  obtain ⟨k, hk, hr⟩ := he o p 0 r hd
  have := cb_len_drop hd
  have hne := cb_SK_ne he
  exact ⟨_, cx_ie_lp hO hxO (by omega) hb (by omega) h k 1 p 0 (k + 1) hr (by omega) (by omega)⟩
end cx2
/-! the first difference -/
def cb_cmp : List Nat → List Nat → Int32
  | a :: as, b :: bs => if a = b then cb_cmp as bs else nI a - nI b
  | _, _ => 0
theorem cb_cmp_c {a b : Nat} {as bs : List Nat} : cb_cmp (a :: as) (b :: bs) = if a = b then cb_cmp as bs else nI a - nI b := rfl
theorem cb_cmp_lt : ∀ {a b u v : List Nat}, (∀ x ∈ a, x < 256) → (∀ x ∈ b, x < 256) → cb_lt a b = true → cb_cmp (a ++ u) (b ++ v) < 0 ∧ cb_cmp (a ++ u) (b ++ v) ≠ 0 := by
  intro a
  induction a with
  | nil => intro b u v _ _ h; simp [cb_lt] at h
  | cons x a ih =>
    intro b u v ha hb h
    cases b with
    | nil => simp [cb_lt] at h
    | cons y b =>
      have hx := ha x (by simp)
      have hy := hb y (by simp)
      rw [List.cons_append, List.cons_append, cb_cmp_c]
      rw [cb_lt_c] at h
      by_cases e : x = y
      · rw [if_neg (by omega), if_neg (by omega)] at h
        rw [if_pos e]
        exact ih (fun z hz => ha z (by simp [hz])) (fun z hz => hb z (by simp [hz])) h
      · rw [if_neg e]
        by_cases e1 : x < y
        · exact ⟨(cb_sublt (by omega) (by omega)).mpr e1, fun h => e ((cb_subne (by omega) (by omega)).mp h)⟩
        · rw [if_neg e1, if_pos (by omega)] at h; cases h
theorem cb_cmp_gt : ∀ {a b u v : List Nat}, (∀ x ∈ a, x < 256) → (∀ x ∈ b, x < 256) → cb_lt b a = true → ¬ cb_cmp (a ++ u) (b ++ v) < 0 ∧ cb_cmp (a ++ u) (b ++ v) ≠ 0 := by
  intro a
  induction a with
  | nil => intro b u v _ _ h; cases b <;> simp [cb_lt] at h
  | cons x a ih =>
    intro b u v ha hb h
    cases b with
    | nil => simp [cb_lt] at h
    | cons y b =>
      have hx := ha x (by simp)
      have hy := hb y (by simp)
      rw [List.cons_append, List.cons_append, cb_cmp_c]
      rw [cb_lt_c] at h
      by_cases e : x = y
      · rw [if_neg (by omega), if_neg (by omega)] at h
        rw [if_pos e]
        exact ih (fun z hz => ha z (by simp [hz])) (fun z hz => hb z (by simp [hz])) h
      · rw [if_neg e]
        by_cases e1 : y < x
        · exact ⟨fun h => by have := (cb_sublt (by omega) (by omega)).mp h; omega, fun h => e ((cb_subne (by omega) (by omega)).mp h)⟩
        · rw [if_neg e1, if_pos (by omega)] at h; cases h
theorem cb_cmp_eq : ∀ {a v : List Nat}, cb_cmp a (a ++ v) = 0 ∧ cb_cmp (a ++ v) a = 0 := by
  intro a
  induction a with
  | nil => intro v; cases v <;> exact ⟨rfl, rfl⟩
  | cons x a ih => intro v; rw [List.cons_append, cb_cmp_c, cb_cmp_c, if_pos rfl, if_pos rfl]; exact ih
theorem cb_hd0 {o xs : List Nat} {p x : Nat} (h : o.drop p = x :: xs) : o.getD p 0 = x ∧ p < o.length ∧ o.drop (p + 1) = xs := by
  have h1 := cb_drop_getD (o := o) (p := p) (t := 0)
  have h2 := congrArg List.length h
  refine ⟨?_, ?_, ?_⟩
  · rw [h] at h1; simpa using h1.symm
  · simp at h2; omega
  · rw [← List.drop_drop, h]; rfl
section cx3
variable {xM xL xS xI xT xO xP xp xF xR xD xd : Int32} {uI uT uC uL uO uS uK uA uP uM : Nat → Int32} {uF : Nat → Int64}
theorem cx_ck_lp {post : Int32 → Prop} {o ka r : List Nat} {a b : Nat} (hO : cb_At uO 0 o) (hxO : xO = nI o.length) (hl : o.length ≤ 128) (hb : ∀ b ∈ o, b < 256) (hda : o.drop a = ka ++ r) (ha : a + ka.length ≤ o.length) (hb1 : b ≤ o.length) :
    ∀ (xs ys : List Nat) (i n : Nat), ka.drop i = xs → o.drop (b + i) = ys → i ≤ ka.length → xs.length < n → post (cb_cmp xs ys) →
      wX_compareKeys_9 post (nI a) (nI b) (nI (a + ka.length)) xM xL xS xI xT xO xP xp xF xR xD xd uI uT uC uL uO uS uK uA uP uM uF n (nI i) := by
  intro xs
  induction xs with
  | nil =>
    intro ys i n hx hy hi hn h
    obtain ⟨n, rfl⟩ : ∃ k, n = k + 1 := ⟨n - 1, by omega⟩
    have hi2 : ka.length ≤ i := by have := congrArg List.length hx; simp at this; omega
    refine br_t ?_ (by simpa [cb_cmp] using h)
    rw [nI_add]
    exact nI_le (by omega) (by omega)
  | cons x xs ih =>
    intro ys i n hx hy hi hn h
    obtain ⟨n, rfl⟩ : ∃ k, n = k + 1 := ⟨n - 1, by omega⟩
    obtain ⟨_, hi2, hx2⟩ := cb_hd0 hx
    have hoa : o.drop (a + i) = x :: (xs ++ r) := by
      rw [← List.drop_drop, hda, List.drop_append_of_le_length hi, hx]; rfl
    obtain ⟨ea, _, _⟩ := cb_hd0 hoa
    have hxb := cb_getD_lt hb (a + i)
    rw [ea] at hxb
    rw [List.length_cons] at hn
    refine br_f ?_ ?_
    · rw [nI_add]; exact nI_ge (by omega) (by omega)
    · cases ys with
      | nil =>
        have : o.length ≤ b + i := by have := congrArg List.length hy; simp at this; omega
        refine br_t ?_ h
        rw [nI_add, hxO]; exact nI_le (by omega) (by omega)
      | cons y ys =>
        obtain ⟨eb, hb2, hy2⟩ := cb_hd0 hy
        have hyb := cb_getD_lt hb (b + i)
        rw [eb] at hyb
        rw [nI_add, nI_add]
        refine br_f (by rw [hxO]; exact nI_ge (by omega) (by omega)) ⟨vp_in_nI (by omega) (by omega), vp_in_nI (by omega) (by omega), ?_⟩
        rw [nI_clamp (by omega), nI_clamp (by omega), cb_At0 hO (by omega), cb_At0 hO (by omega), ea, eb]
        rw [cb_cmp_c] at h
        refine nm_e (br_c (fun e => ?_) (fun e => ?_))
        · rw [if_pos ((cb_subne (by omega) (by omega)).mp e)] at h
          exact nm_r (nI_1 _) (ih ys (i + 1) n hx2 (by rw [← Nat.add_assoc]; exact hy2) (by omega) (by omega) h)
        · rw [if_neg (fun e2 => e ((cb_subne (by omega) (by omega)).mpr e2))] at h
          exact h
theorem cx_ck {post : Int32 → Prop} {o ka kb v r : List Nat} {a b : Nat} (hO : cb_At uO 0 o) (hxO : xO = nI o.length) (hl : o.length ≤ 128) (hb : ∀ b ∈ o, b < 256) (hka : cb_SK ka) (hda : o.drop a = ka ++ r) (hdb : o.drop b = kb ++ v) (hb1 : b ≤ o.length) (h : post (cb_cmp ka (kb ++ v))) :
    wpX_compareKeys post (xM, xL, xS, xI, xT, xO, xP, xp, xF, xR, xD, xd, uI, uT, uC, uL, uO, uS, uK, uA, uP, uM, uF) (nI a) (nI b) := by
  refine cx_ie hO hxO hl hb hka hda ?_
  have hne := cb_SK_ne hka
  have := cb_len_drop hda
  exact ⟨_, cx_ck_lp hO hxO hl hb hda (by omega) hb1 ka (kb ++ v) 0 (ka.length + 1) rfl hdb (by omega) (by omega) h⟩
end cx3
end
section
/-! X: moving cells of out -/
section cx4
variable {xM xL xS xI xT xO xP xp xF xR xD xd : Int32} {uI uT uC uL uO uS uK uA uP uM : Nat → Int32} {uF : Nat → Int64}
theorem cx_mb10 {post : SX → Prop} {at0 fr w : Nat} (hw : fr + w ≤ 128) (K : ∀ uS' : Nat → Int32, (∀ t, t < w → uS' t = uO (fr + t)) → ∃ n43 : Nat, wX_moveBlock_43 post (nI at0) (nI w) xM xL xS xI xT xO xP xp xF xR xD xd n43 (nI fr - 1) uI uT uC uL uO uS' uK uA uP uM uF) :
    ∀ d i n (uS' : Nat → Int32), i + d = w → d < n → (∀ t, t < i → uS' t = uO (fr + t)) → wX_moveBlock_10 post (nI at0) (nI fr) (nI w) xM xL xS xI xT xO xP xp xF xR xD xd n (nI i) uI uT uC uL uO uS' uK uA uP uM uF := by
  intro d
  induction d with
  | zero =>
    intro i n uS' hi hn hS
    obtain ⟨n, rfl⟩ : ∃ k, n = k + 1 := ⟨n - 1, by omega⟩
    exact br_t (nI_le (by omega) (by omega)) (nm_e (K uS' (fun t ht => hS t (by omega))))
  | succ d ih =>
    intro i n uS' hi hn hS
    obtain ⟨n, rfl⟩ : ∃ k, n = k + 1 := ⟨n - 1, by omega⟩
    refine br_f (nI_ge (by omega) (by omega)) ?_
    rw [nI_add]
    refine ⟨vp_in_nI (by omega) (by omega), vp_in_nI (by omega) (by omega), nm_e (nm_r (nI_1 _) ?_)⟩
    rw [nI_clamp (by omega), nI_clamp (by omega)]
    refine ih (i + 1) n _ (by omega) (by omega) fun t ht => ?_
    by_cases e : t = i
    · rw [e, pk_us]
    · rw [pk_un e, hS t (by omega)]
theorem cx_mb43 {post : SX → Prop} {at0 fr w : Nat} {uB : Nat → Int32} (hw : fr + w ≤ 128) (K : ∀ uO' : Nat → Int32, (∀ t, t < at0 → uO' t = uB t) → (∀ t, at0 ≤ t → t < fr → uO' (t + w) = uB t) → ∃ n74 : Nat, wX_moveBlock_74 post (nI at0) (nI w) xM xL xS xI xT xO xP xp xF xR xD xd n74 0 uI uT uC uL uO' uS uK uA uP uM uF) :
    ∀ d k n (uO' : Nat → Int32), k = at0 + d → k ≤ fr → d < n → (∀ t, t < k → uO' t = uB t) → (∀ t, k ≤ t → t < fr → uO' (t + w) = uB t) → wX_moveBlock_43 post (nI at0) (nI w) xM xL xS xI xT xO xP xp xF xR xD xd n (cb_I k) uI uT uC uL uO' uS uK uA uP uM uF := by
  intro d
  induction d with
  | zero =>
    intro k n uO' hk hf hn h1 h2
    obtain ⟨n, rfl⟩ : ∃ k, n = k + 1 := ⟨n - 1, by omega⟩
    have e : k = at0 := by omega
    subst e
    exact br_t ((cb_I_lt (by omega) (by omega)).mpr (by omega)) (K uO' h1 h2)
  | succ d ih =>
    intro k n uO' hk hf hn h1 h2
    obtain ⟨n, rfl⟩ : ∃ k, n = k + 1 := ⟨n - 1, by omega⟩
    obtain ⟨j, rfl⟩ : ∃ j, k = j + 1 := ⟨k - 1, by omega⟩
    refine br_f (fun h => by have := (cb_I_lt (by omega) (by omega)).mp h; omega) ?_
    rw [cb_Is, nI_add]
    refine ⟨vp_in_nI (by omega) (by omega), vp_in_nI (by omega) (by omega), nm_e (nm_r (e' := cb_I j) (by show nI j + (-1) = nI j - 1; rw [Int32.sub_eq_add_neg]) ?_)⟩
    rw [nI_clamp (by omega), nI_clamp (by omega)]
    refine ih j n _ (by omega) (by omega) (by omega) (fun t ht => ?_) (fun t ht1 ht2 => ?_)
    · rw [pk_un (by omega), h1 t (by omega)]
    · by_cases e : t = j
      · rw [e, pk_us, h1 j (by omega)]
      · rw [pk_un (by omega), h2 t (by omega) ht2]
theorem cx_mb74 {post : SX → Prop} {at0 w : Nat} {uB : Nat → Int32} (hw : at0 + w ≤ 128) (K : ∀ uO' : Nat → Int32, (∀ t, t < at0 ∨ at0 + w ≤ t → uO' t = uB t) → (∀ t, t < w → uO' (at0 + t) = uS t) → post (xM, xL, xS, xI, xT, xO, xP, xp, xF, xR, xD, xd, uI, uT, uC, uL, uO', uS, uK, uA, uP, uM, uF)) :
    ∀ d i n (uO' : Nat → Int32), i + d = w → d < n → (∀ t, t < at0 ∨ at0 + w ≤ t → uO' t = uB t) → (∀ t, t < i → uO' (at0 + t) = uS t) → wX_moveBlock_74 post (nI at0) (nI w) xM xL xS xI xT xO xP xp xF xR xD xd n (nI i) uI uT uC uL uO' uS uK uA uP uM uF := by
  intro d
  induction d with
  | zero =>
    intro i n uO' hi hn h1 h2
    obtain ⟨n, rfl⟩ : ∃ k, n = k + 1 := ⟨n - 1, by omega⟩
    exact br_t (nI_le (by omega) (by omega)) (K uO' h1 (fun t ht => h2 t (by omega)))
  | succ d ih =>
    intro i n uO' hi hn h1 h2
    obtain ⟨n, rfl⟩ : ∃ k, n = k + 1 := ⟨n - 1, by omega⟩
    refine br_f (nI_ge (by omega) (by omega)) ?_
    rw [nI_add]
    refine ⟨vp_in_nI (by omega) (by omega), vp_in_nI (by omega) (by omega), nm_e (nm_r (nI_1 _) ?_)⟩
    rw [nI_clamp (by omega), nI_clamp (by omega)]
    refine ih (i + 1) n _ (by omega) (by omega) (fun t ht => ?_) (fun t ht => ?_)
    · rw [pk_un (by omega), h1 t ht]
    · by_cases e : t = i
      · rw [e, pk_us]
      · rw [pk_un (by omega), h2 t (by omega)]
theorem cx_mb {post : SX → Prop} {o1 o2 o3 : List Nat} (hO : cb_At uO 0 (o1 ++ (o2 ++ o3))) (hxO : xO = nI (o1.length + (o2.length + o3.length))) (hl : o1.length + (o2.length + o3.length) ≤ 128)
    (K : ∀ uO' uS' : Nat → Int32, cb_At uO' 0 (o1 ++ (o3 ++ o2)) → post (xM, xL, xS, xI, xT, xO, xP, xp, xF, xR, xD, xd, uI, uT, uC, uL, uO', uS', uK, uA, uP, uM, uF)) : wpX_moveBlock post (xM, xL, xS, xI, xT, xO, xP, xp, xF, xR, xD, xd, uI, uT, uC, uL, uO, uS, uK, uA, uP, uM, uF) (nI o1.length) (nI (o1.length + o2.length)) := by
  refine nm_r (e' := nI o3.length) (by rw [hxO, pk_sub (by omega)]; exact congrArg nI (by omega)) ?_
  obtain ⟨hA, hB⟩ := cb_At_app.mp hO
  obtain ⟨hB, hC⟩ := cb_At_app.mp hB
  rw [Nat.zero_add] at hB hC
  refine ⟨_, cx_mb10 (by omega) (fun uS1 hS1 => ?_) o3.length 0 (o3.length + 1) uS (by omega) (by omega) (fun t ht => by omega)⟩
  refine ⟨_, cx_mb43 (uB := uO) (uS := uS1) (fr := o1.length + o2.length) (by omega) (fun uO1 h1 h2 => ?_) o2.length (o1.length + o2.length) (o2.length + 1) uO rfl (by omega) (by omega) (fun t ht => rfl) (fun t ht1 ht2 => by omega)⟩
  refine ⟨_, cx_mb74 (uB := uO1) (uS := uS1) (w := o3.length) (by omega) (fun uO2 h3 h4 => K uO2 uS1 ?_) o3.length 0 (o3.length + 1) uO1 (by omega) (by omega) (fun t ht => rfl) (fun t ht => by omega)⟩
  refine cb_At_app.mpr ⟨?_, cb_At_app.mpr ⟨?_, ?_⟩⟩
  · refine cb_At_cg hA fun i _ hi => ?_
    rw [h3 i (by omega), h1 i (by omega)]
  · rw [Nat.zero_add]
    refine cb_At_sh hC fun t ht => ?_
    rw [h4 t ht, hS1 t ht]
  · rw [Nat.zero_add]
    refine cb_At_sh hB fun t ht => ?_
    rw [h3 _ (by omega), show o1.length + o3.length + t = (o1.length + t) + o3.length by omega, h2 _ (by omega) (by omega)]
/-! X: a head -/
theorem cx_ph150 {post : SX → Prop} {at0 n e w : Nat} {uB : Nat → Int32} (hn : n < 2 ^ 32) (he : e ≤ 4) (hw : at0 + 1 + e ≤ 160) (K : ∀ uO' : Nat → Int32, (∀ t, t < at0 + 1 ∨ at0 + 1 + e ≤ t → uO' t = uB t) → cb_At uO' (at0 + 1) (cb_bs n e) → post (xM, xL, xS, xI, xT, xO + nI w, xP, xp, xF, xR, xD, xd, uI, uT, uC, uL, uO', uS, uK, uA, uP, uM, uF)) :
    ∀ d i f (uO' : Nat → Int32), i + d = e → d < f → (∀ t, t < at0 + 1 ∨ at0 + 1 + i ≤ t → uO' t = uB t) → (∀ t, t < i → uO' (at0 + 1 + t) = nI (n / 256 ^ (e - 1 - t) % 256)) → wX_putHead_150 post (nI at0) (lN n) (nI e) (nI w) xM xL xS xI xT xO xP xp xF xR xD xd f (nI (i + 1)) uI uT uC uL uO' uS uK uA uP uM uF := by
  intro d
  induction d with
  | zero =>
    intro i f uO' hi hf h1 h2
    obtain ⟨f, rfl⟩ : ∃ k, f = k + 1 := ⟨f - 1, by omega⟩
    have e1 : i = e := by omega
    subst e1
    refine br_t (nI_lt (by omega) (by omega)) (nm_e (K uO' h1 ?_))
    refine cb_At_of fun t ht => ?_
    rw [cb_bs_len] at ht
    rw [h2 t ht]
    congr 1
    have : ∀ (w t : Nat), t < w → (cb_bs n w).getD t 0 = n / 256 ^ (w - 1 - t) % 256 := by
      intro w
      induction w with
      | zero => intro t ht; omega
      | succ w ih =>
        intro t ht
        cases t with
        | zero => simp [cb_bs]
        | succ t =>
          have := ih t (by omega)
          simp only [cb_bs, List.getD_cons_succ]
          rw [this, show w + 1 - 1 - (t + 1) = w - 1 - t by omega]
    exact (this i t ht).symm
  | succ d ih =>
    intro i f uO' hi hf h1 h2
    obtain ⟨f, rfl⟩ : ∃ k, f = k + 1 := ⟨f - 1, by omega⟩
    refine br_f (nI_nlt (by omega) (by omega)) ?_
    rw [nI_add]
    refine ⟨vp_in_nI (by omega) (by omega), nm_e (nm_r (nI_1 _) ?_)⟩
    rw [nI_clamp (by omega)]
    have hv : ((lN n >>> ((8 * (nI e - nI (i + 1))).toInt64 &&& 63)) &&& 255).toInt32 = nI (n / 256 ^ (e - 1 - i) % 256) := by
      rw [pk_sub (by omega), show (8 : Int32) = nI 8 from rfl, pk_mul, wb_c _ (by omega), pf_shr (d := 8 * (e - (i + 1))) ?_ (by omega)]
      · have hle : n / 2 ^ (8 * (e - (i + 1))) ≤ n := Nat.div_le_self _ _
        rw [show (255 : Int64) = lN (2 ^ 8 - 1) from rfl, wb_mask (by omega) (by omega), lN_i, Nat.pow_mul, show e - (i + 1) = e - 1 - i by omega]
      · rw [wb_tb, wb_sm _ (by omega), BitVec.toNat_ofNat]; omega
    rw [hv]
    refine ih (i + 1) f _ (by omega) (by omega) (fun t ht => ?_) (fun t ht => ?_)
    · rw [pk_un (by omega), h1 t (by omega)]
    · by_cases e1 : t = i
      · rw [e1, show at0 + 1 + i = at0 + (i + 1) by omega, pk_us]
      · rw [pk_un (by omega), h2 t (by omega)]
theorem cx_ph105 {post : SX → Prop} {at0 L m n e f0 w : Nat} {uB : Nat → Int32} (hw : L + w ≤ 160) (hw0 : 0 < w) (K : ∀ uO' : Nat → Int32, (∀ t, t < at0 → uO' t = uB t) → (∀ t, at0 ≤ t → t < L → uO' (t + w) = uB t) → ∃ n150 : Nat, wX_putHead_150 post (nI at0) (lN n) (nI e) (nI w) xM xL xS xI xT xO xP xp xF xR xD xd n150 1 uI uT uC uL (upd uO' at0 (nI (32 * m + f0))) uS uK uA uP uM uF) :
    ∀ d k f (uO' : Nat → Int32), k = at0 + d → k ≤ L → d < f → (∀ t, t < k → uO' t = uB t) → (∀ t, k ≤ t → t < L → uO' (t + w) = uB t) → wX_putHead_105 post (nI at0) (nI m) (lN n) (nI e) (nI f0) (nI w) xM xL xS xI xT xO xP xp xF xR xD xd f (cb_I k) uI uT uC uL uO' uS uK uA uP uM uF := by
  intro d
  induction d with
  | zero =>
    intro k n uO' hk hf hn h1 h2
    obtain ⟨n, rfl⟩ : ∃ k, n = k + 1 := ⟨n - 1, by omega⟩
    have e : k = at0 := by omega
    subst e
    refine br_t ((cb_I_lt (by omega) (by omega)).mpr (by omega)) ⟨vp_in_nI (by omega) (by omega), nm_e ?_⟩
    rw [nI_clamp (by omega), show (32 : Int32) = nI 32 from rfl, pk_mul, nI_add]
    exact K uO' h1 h2
  | succ d ih =>
    intro k n uO' hk hf hn h1 h2
    obtain ⟨n, rfl⟩ : ∃ k, n = k + 1 := ⟨n - 1, by omega⟩
    obtain ⟨j, rfl⟩ : ∃ j, k = j + 1 := ⟨k - 1, by omega⟩
    refine br_f (fun h => by have := (cb_I_lt (by omega) (by omega)).mp h; omega) ?_
    rw [cb_Is, nI_add]
    refine ⟨vp_in_nI (by omega) (by omega), vp_in_nI (by omega) (by omega), nm_e (nm_r (e' := cb_I j) (by show nI j + (-1) = nI j - 1; rw [Int32.sub_eq_add_neg]) ?_)⟩
    rw [nI_clamp (by omega), nI_clamp (by omega)]
    refine ih j n _ (by omega) (by omega) (by omega) (fun t ht => ?_) (fun t ht1 ht2 => ?_)
    · rw [pk_un (by omega), h1 t (by omega)]
    · by_cases e : t = j
      · rw [e, pk_us, h1 j (by omega)]
      · rw [pk_un (by omega), h2 t (by omega) ht2]
theorem cx_ph73 {post : SX → Prop} {o1 o2 : List Nat} {m n e f0 : Nat} (hO : cb_At uO 0 (o1 ++ o2)) (hxO : xO = nI (o1.length + o2.length)) (hn : n < 2 ^ 32) (he : e ≤ 4) (hl : o1.length + o2.length + (1 + e) ≤ 160)
    (K : ∀ uO' : Nat → Int32, cb_At uO' 0 (o1 ++ (((32 * m + f0) :: cb_bs n e) ++ o2)) → post (xM, xL, xS, xI, xT, nI (o1.length + (1 + e) + o2.length), xP, xp, xF, xR, xD, xd, uI, uT, uC, uL, uO', uS, uK, uA, uP, uM, uF)) : wX_putHead_73 post (nI o1.length) (nI m) (lN n) (nI e) (nI f0) xM xL xS xI xT xO xP xp xF xR xD xd uI uT uC uL uO uS uK uA uP uM uF := by
  refine nm_r (e' := nI (1 + e)) (nI_add 1 e) ?_
  rw [hxO, nI_add]
  refine br_t (nI_le (b := 160) (by omega) (by omega)) (nm_e ?_)
  obtain ⟨hA, hB⟩ := cb_At_app.mp hO
  rw [Nat.zero_add] at hB
  refine ⟨_, cx_ph105 (uB := uO) (L := o1.length + o2.length) (by omega) (by omega) (fun uO1 h1 h2 => ?_) o2.length (o1.length + o2.length) (o2.length + 1) uO rfl (by omega) (by omega) (fun t ht => rfl) (fun t ht1 ht2 => by omega)⟩
  refine ⟨_, cx_ph150 (uB := upd uO1 o1.length (nI (32 * m + f0))) hn he (by omega) (fun uO2 h3 h4 => ?_) e 0 (e + 1) _ (by omega) (by omega) (fun t ht => rfl) (fun t ht => by omega)⟩
  rw [nI_add, show o1.length + o2.length + (1 + e) = o1.length + (1 + e) + o2.length by omega]
  refine K uO2 ?_
  refine cb_At_app.mpr ⟨?_, cb_At_app.mpr ⟨?_, ?_⟩⟩
  · refine cb_At_cg hA fun i _ hi => ?_
    rw [h3 i (by omega), pk_un (by omega), h1 i (by omega)]
  · rw [Nat.zero_add]
    exact ⟨by rw [h3 _ (by omega), pk_us], h4⟩
  · rw [Nat.zero_add, List.length_cons, cb_bs_len]
    refine cb_At_sh hB fun t ht => ?_
    rw [h3 _ (by omega), pk_un (by omega), show o1.length + (e + 1) + t = o1.length + t + (1 + e) by omega, h2 _ (by omega) (by omega)]
theorem cx_ph {post : SX → Prop} {o1 o2 : List Nat} {m n : Nat} (hO : cb_At uO 0 (o1 ++ o2)) (hxO : xO = nI (o1.length + o2.length)) (hn : n < 2 ^ 32) (hl : o1.length + (cb_hd m n).length + o2.length ≤ 160)
    (K : ∀ uO' : Nat → Int32, cb_At uO' 0 (o1 ++ (cb_hd m n ++ o2)) → post (xM, xL, xS, xI, xT, nI (o1.length + (cb_hd m n).length + o2.length), xP, xp, xF, xR, xD, xd, uI, uT, uC, uL, uO', uS, uK, uA, uP, uM, uF)) : wpX_putHead post (xM, xL, xS, xI, xT, xO, xP, xp, xF, xR, xD, xd, uI, uT, uC, uL, uO, uS, uK, uA, uP, uM, uF) (nI o1.length) (nI m) (lN n) := by
  rw [cb_hd_len] at hl K
  unfold cb_hd cb_inf at K
  unfold cb_ext at K hl
  refine cb_llt 23 n (fun h => cb_llt 255 n (fun h2 => cb_llt 65535 n (fun h3 => ?_) (fun h3 => ?_)) (fun h2 => ?_)) (fun h => ?_)
  · simp only [if_neg (show ¬ n < 24 by omega), if_neg (show ¬ n < 256 by omega), if_neg (show ¬ n < 65536 by omega)] at K hl
    exact br_f (by decide) (br_f (by decide) (br_f (by decide) (cx_ph73 (e := 4) (f0 := 26) hO hxO hn (by omega) (by omega) K)))
  · simp only [if_neg (show ¬ n < 24 by omega), if_neg (show ¬ n < 256 by omega), if_pos (show n < 65536 by omega)] at K hl
    exact br_f (by decide) (br_f (by decide) (br_t (by decide) (cx_ph73 (e := 2) (f0 := 25) hO hxO hn (by omega) (by omega) K)))
  · simp only [if_neg (show ¬ n < 24 by omega), if_pos (show n < 256 by omega)] at K hl
    exact br_f (by decide) (br_t (by decide) (cx_ph73 (e := 1) (f0 := 24) hO hxO hn (by omega) (by omega) K))
  · simp only [if_pos (show n < 24 by omega)] at K hl
    refine br_t (by decide) ?_
    rw [lN_i]
    exact cx_ph73 (e := 0) (f0 := n) hO hxO hn (by omega) (by omega) K
end cx4
end
section
/-! X: a pair to its place -/
def cb_ws (l : List cb_Pr) : Prop := l.Pairwise (fun p q => cb_lt q.1 p.1 = false)
theorem cb_ins_ws {p : cb_Pr} (hp : cb_SK p.1) : ∀ {l : List cb_Pr}, cb_ws l → (∀ q ∈ l, cb_SK q.1) → cb_ws (cb_ins p l) := by
  intro l
  induction l with
  | nil => intro _ _; exact List.pairwise_singleton _ _
  | cons q l ih =>
    intro h hs
    have hc := List.pairwise_cons.mp h
    unfold cb_ins
    split
    · rename_i hq
      refine List.pairwise_cons.mpr ⟨fun x hx => ?_, ih hc.2 (fun x hx => hs x (by simp [hx]))⟩
      rcases List.mem_cons.mp ((cb_ins_pm p l).mem_iff.mp hx) with rfl | hx
      · exact cb_lt_as hq
      · exact hc.1 x hx
    · rename_i hq
      refine List.pairwise_cons.mpr ⟨fun x hx => ?_, h⟩
      rcases List.mem_cons.mp hx with rfl | hx
      · simpa using hq
      · cases e : cb_lt x.1 p.1 with
        | false => rfl
        | true =>
          have h1 := hc.1 x hx
          by_cases e2 : p.1 = q.1
          · rw [e2, h1] at e; cases e
          · rcases cb_SK_to hp (hs q (by simp)) e2 with e3 | e3
            · rw [cb_lt_tr e e3] at h1; cases h1
            · exact absurd e3 hq
theorem cb_fo_ws : ∀ (l acc : List cb_Pr), cb_ws acc → (∀ q ∈ acc ++ l, cb_SK q.1) → cb_ws (l.foldl (fun acc p => cb_ins p acc) acc) := by
  intro l
  induction l with
  | nil => intro acc h _; exact h
  | cons p l ih =>
    intro acc h hs
    rw [List.foldl_cons]
    refine ih _ (cb_ins_ws (hs p (by simp)) h fun q hq => hs q (by simp [hq])) fun q hq => ?_
    rcases List.mem_append.mp hq with hq | hq
    · rcases List.mem_cons.mp ((cb_ins_pm p acc).mem_iff.mp hq) with rfl | hq
      · exact hs _ (by simp)
      · exact hs q (by simp [hq])
    · exact hs q (by simp [hq])
theorem cb_srt_ws {l : List cb_Pr} (h : ∀ q ∈ l, cb_SK q.1) : cb_ws (cb_srt l) := cb_fo_ws l [] List.Pairwise.nil (by simpa using h)
def cb_du (k : List Nat) : List cb_Pr → Bool
  | [] => false
  | q :: l => if cb_lt q.1 k = true then cb_du k l else decide (q.1 = k)
theorem cb_du_m {k : List Nat} (hk : cb_SK k) : ∀ {l : List cb_Pr}, cb_ws l → (∀ q ∈ l, cb_SK q.1) → cb_du k l = decide (k ∈ l.map (·.1)) := by
  intro l
  induction l with
  | nil => intro _ _; rfl
  | cons q l ih =>
    intro h hs
    have hc := List.pairwise_cons.mp h
    unfold cb_du
    split
    · rename_i hq
      rw [ih hc.2 (fun x hx => hs x (by simp [hx]))]
      have hne : k ≠ q.1 := by intro e; rw [e, cb_lt_ir] at hq; cases hq
      simp [hne]
    · rename_i hq
      by_cases e : q.1 = k
      · simp [e]
      · rw [decide_eq_false e]
        symm
        rw [decide_eq_false_iff_not]
        intro hm
        rw [List.map_cons, List.mem_cons] at hm
        rcases hm with hm | hm
        · exact e hm.symm
        · obtain ⟨x, hx, hxk⟩ := List.mem_map.mp hm
          have h1 := hc.1 x hx
          rw [hxk] at h1
          rcases cb_SK_to hk (hs q (by simp)) (fun e2 => e e2.symm) with e3 | e3
          · rw [e3] at h1; cases h1
          · exact hq e3
theorem cb_fl_ne {l : List cb_Pr} (h : ∀ q ∈ l, cb_SK q.1) : l.length ≤ (cb_fl l).length := by
  induction l with
  | nil => simp
  | cons q l ih =>
    have h1 := cb_SK_ne (h q (by simp))
    have h2 := ih fun x hx => h x (by simp [hx])
    simp [cb_fl]; omega
section cx5
variable {xM xL xS xI xT xO xP xp xF xR xD xd : Int32} {uI uT uC uL uO uS uK uA uP uM : Nat → Int32} {uF : Nat → Int64}
theorem cx_pp89 {post : SX → Prop} {o1 o2 o3 : List Nat} {j : Nat} (hj : j < 8) (hO : cb_At uO 0 (o1 ++ (o2 ++ o3))) (hxO : xO = nI (o1.length + (o2.length + o3.length))) (hl : o1.length + (o2.length + o3.length) ≤ 128)
    (K : ∀ uO' uS' : Nat → Int32, cb_At uO' 0 (o1 ++ (o3 ++ o2)) → post (xM, xL, xS, xI, xT, xO, xP, xp, xF, xR, xD, xd, uI, uT, uC, uL, uO', uS', uK, uA, upd uP j xO, uM, uF)) : wX_placePair_89 post (nI j) (nI (o1.length + o2.length)) (nI o1.length) 1 xM xL xS xI xT xO xP xp xF xR xD xd uI uT uC uL uO uS uK uA uP uM uF := by
  refine br_f (by decide) (cx_mb hO hxO hl fun uO' uS' h => ⟨vp_in_nI hj (by omega), nm_e ?_⟩)
  rw [nI_clamp (by omega)]
  exact K uO' uS' h
theorem cx_pp20 {post : SX → Prop} {o1 k v : List Nat} {j : Nat} {S : List cb_Pr} (hj : j < 8) (hO : cb_At uO 0 (o1 ++ (cb_fl S ++ (k ++ v)))) (hxO : xO = nI (o1.length + ((cb_fl S).length + (k ++ v).length))) (hl : o1.length + ((cb_fl S).length + (k ++ v).length) ≤ 128)
    (hb : ∀ b ∈ o1 ++ (cb_fl S ++ (k ++ v)), b < 256) (hk : cb_SK k) (hS : ∀ q ∈ S, cb_SK q.1 ∧ cb_SK q.2)
    (K : ∀ uO' uS' : Nat → Int32, cb_At uO' 0 (o1 ++ cb_fl (cb_ins (k, v) S)) → post (xM, xL, xS, xI, xT, xO, xP, xp, xF, xR, if cb_du k S = true then 1 else xD, xd, uI, uT, uC, uL, uO', uS', uK, uA, upd uP j xO, uM, uF)) :
    ∀ (S2 S1 : List cb_Pr) (t n : Nat), S = S1 ++ S2 → (∀ q ∈ S1, cb_lt q.1 k = true) → t + S2.length ≤ 128 → S2.length + 2 ≤ n →
      wX_placePair_20 post (nI j) (nI (o1.length + (cb_fl S).length)) xM xL xS xI xT xO xP xp xF xR xd uI uT uC uL uO uS uK uA uP uM uF n (nI (o1.length + (cb_fl S1).length)) 0 (nI t) xD := by
  intro S2
  have insS : ∀ S1 S2 : List cb_Pr, (∀ q ∈ S1, cb_lt q.1 k = true) → cb_ins (k, v) (S1 ++ S2) = S1 ++ cb_ins (k, v) S2 := by
    intro S1 S2 h
    induction S1 with
    | nil => rfl
    | cons q S1 ih =>
      rw [List.cons_append, cb_ins, if_pos (h q (by simp)), ih fun x hx => h x (by simp [hx])]; rfl
  have duS : ∀ S1 S2 : List cb_Pr, (∀ q ∈ S1, cb_lt q.1 k = true) → cb_du k (S1 ++ S2) = cb_du k S2 := by
    intro S1 S2 h
    induction S1 with
    | nil => rfl
    | cons q S1 ih =>
      rw [List.cons_append, cb_du, if_pos (h q (by simp)), ih fun x hx => h x (by simp [hx])]
  induction S2 with
  | nil =>
    intro S1 t n hS1 hlt ht hn
    obtain ⟨n, rfl⟩ : ∃ k, n = k + 1 := ⟨n - 1, by omega⟩
    rw [List.append_nil] at hS1
    subst hS1
    have e1 := insS S [] hlt
    have e2 := duS S [] hlt
    rw [List.append_nil] at e1 e2
    have fin : wX_placePair_89 post (nI j) (nI (o1.length + (cb_fl S).length)) (nI (o1.length + (cb_fl S).length)) 0 xM xL xS xI xT xO xP xp xF xR xD xd uI uT uC uL uO uS uK uA uP uM uF := by
      refine br_t rfl ⟨vp_in_nI hj (by omega), nm_e ?_⟩
      rw [nI_clamp (by omega)]
      have := K uO uS (by rw [e1, cb_fl_app]; simpa [cb_ins, cb_fl] using hO)
      rw [e2] at this
      simpa [cb_du] using this
    exact br_c (fun _ => fin) (fun _ => br_t (nI_le (by omega) (by omega)) fin)
  | cons q S2 ih =>
    intro S1 t n hS1 hlt ht hn
    obtain ⟨n, rfl⟩ : ∃ k, n = k + 1 := ⟨n - 1, by omega⟩
    have hq := hS q (by rw [hS1]; simp)
    have hqn := cb_SK_ne hq.1
    have e1 := insS S1 (q :: S2) hlt
    have e2 := duS S1 (q :: S2) hlt
    rw [← hS1] at e1 e2
    have efl : cb_fl S = cb_fl S1 ++ (q.1 ++ (q.2 ++ cb_fl S2)) := by rw [hS1, cb_fl_app]; rfl
    have elen : (cb_fl S).length = (cb_fl S1).length + (q.1.length + (q.2.length + (cb_fl S2).length)) := by rw [efl]; simp
    have hoL : (o1 ++ (cb_fl S ++ (k ++ v))).length = o1.length + ((cb_fl S).length + (k ++ v).length) := by simp
    have hdq : (o1 ++ (cb_fl S ++ (k ++ v))).drop (o1.length + (cb_fl S1).length) = q.1 ++ (q.2 ++ (cb_fl S2 ++ (k ++ v))) := by
      rw [← List.drop_drop, List.drop_left, efl, List.append_assoc, List.drop_left]; simp
    have hdf : (o1 ++ (cb_fl S ++ (k ++ v))).drop (o1.length + (cb_fl S).length) = k ++ v := by
      rw [← List.drop_drop, List.drop_left, List.drop_left]
    rw [List.length_cons] at ht hn
    refine br_f (nI_ge (b := 160) (by omega) (by omega)) (br_f (nI_ge (by omega) (by omega)) (br_t rfl ?_))
    refine cx_ck hO (by rw [hoL]; exact hxO) (by rw [hoL]; exact hl) hb hq.1 hdq hdf (by rw [hoL]; omega) ?_
    have hbq : ∀ x ∈ q.1, x < 256 := fun x hx => hb x (by rw [efl]; simp [hx])
    have hbk : ∀ x ∈ k, x < 256 := fun x hx => hb x (by simp [hx])
    obtain ⟨n, rfl⟩ : ∃ k, n = k + 1 := ⟨n - 1, by omega⟩
    by_cases e : q.1 = k
    · have hc : cb_cmp q.1 (k ++ v) = 0 := by rw [e]; exact cb_cmp_eq.1
      have hnl : ¬ cb_lt q.1 k = true := by rw [e, cb_lt_ir]; simp
      rw [hc]
      refine br_t rfl (br_f (by decide) (nm_e ?_))
      have fin : wX_placePair_89 post (nI j) (nI (o1.length + (cb_fl S).length)) (nI (o1.length + (cb_fl S1).length)) 1 xM xL xS xI xT xO xP xp xF xR 1 xd uI uT uC uL uO uS uK uA uP uM uF := by
        have hO' : cb_At uO 0 ((o1 ++ cb_fl S1) ++ ((q.1 ++ (q.2 ++ cb_fl S2)) ++ (k ++ v))) := by rw [efl] at hO; simpa using hO
        have hfr : o1.length + (cb_fl S).length = (o1 ++ cb_fl S1).length + (q.1 ++ (q.2 ++ cb_fl S2)).length := by rw [elen]; simp; omega
        have hat : o1.length + (cb_fl S1).length = (o1 ++ cb_fl S1).length := by simp
        rw [hfr, hat]
        refine cx_pp89 (post := post) (o1 := o1 ++ cb_fl S1) (o2 := q.1 ++ (q.2 ++ cb_fl S2)) (o3 := k ++ v) (xD := 1) hj hO' (by rw [hxO, elen]; refine congrArg nI ?_; simp; omega) (by simp at hl elen ⊢; omega) (fun uO' uS' hO2 => ?_)
        · have := K uO' uS' (by rw [e1, cb_fl_app, cb_ins, if_neg hnl]; simpa [cb_fl] using hO2)
          rw [e2, cb_du, if_neg hnl, decide_eq_true e, if_pos rfl] at this
          exact this
      exact br_c (fun _ => fin) (fun _ => br_c (fun _ => fin) (fun _ => br_f (by decide) fin))
    · rcases cb_SK_to hq.1 hk e with h1 | h1
      · obtain ⟨c1, c2⟩ := cb_cmp_lt (u := []) (v := v) hbq hbk h1
        rw [List.append_nil] at c1 c2
        refine br_f c2 (br_t c1 ?_)
        refine cx_ie hO (by rw [hoL]; exact hxO) (by rw [hoL]; exact hl) hb hq.1 hdq ?_
        refine cx_ie hO (by rw [hoL]; exact hxO) (by rw [hoL]; exact hl) hb hq.2 (cb_drop_add hdq) ?_
        refine nm_r (nI_1 _) ?_
        have := ih (S1 ++ [q]) (t + 1) (n + 1) (by rw [hS1]; simp) (fun x hx => by
          rcases List.mem_append.mp hx with hx | hx
          · exact hlt x hx
          · rw [List.mem_singleton.mp hx]; exact h1) (by omega) (by omega)
        rw [show o1.length + (cb_fl (S1 ++ [q])).length = o1.length + (cb_fl S1).length + q.1.length + q.2.length by rw [cb_fl_app]; simp [cb_fl]; omega] at this
        exact this
      · obtain ⟨c1, c2⟩ := cb_cmp_gt (u := []) (v := v) hbq hbk h1
        rw [List.append_nil] at c1 c2
        have hnl : ¬ cb_lt q.1 k = true := by rw [cb_lt_as h1]; simp
        refine br_f c2 (br_f c1 (nm_e ?_))
        have fin : wX_placePair_89 post (nI j) (nI (o1.length + (cb_fl S).length)) (nI (o1.length + (cb_fl S1).length)) 1 xM xL xS xI xT xO xP xp xF xR xD xd uI uT uC uL uO uS uK uA uP uM uF := by
          have hO' : cb_At uO 0 ((o1 ++ cb_fl S1) ++ ((q.1 ++ (q.2 ++ cb_fl S2)) ++ (k ++ v))) := by rw [efl] at hO; simpa using hO
          have hfr : o1.length + (cb_fl S).length = (o1 ++ cb_fl S1).length + (q.1 ++ (q.2 ++ cb_fl S2)).length := by rw [elen]; simp; omega
          have hat : o1.length + (cb_fl S1).length = (o1 ++ cb_fl S1).length := by simp
          rw [hfr, hat]
          refine cx_pp89 (post := post) (o1 := o1 ++ cb_fl S1) (o2 := q.1 ++ (q.2 ++ cb_fl S2)) (o3 := k ++ v) hj hO' (by rw [hxO, elen]; refine congrArg nI ?_; simp; omega) (by simp at hl elen ⊢; omega) (fun uO' uS' hO2 => ?_)
          · have := K uO' uS' (by rw [e1, cb_fl_app, cb_ins, if_neg hnl]; simpa [cb_fl] using hO2)
            rw [e2, cb_du, if_neg hnl, decide_eq_false e, if_neg (by decide)] at this
            exact this
        exact br_c (fun _ => fin) (fun _ => br_c (fun _ => fin) (fun _ => br_f (by decide) fin))
theorem cx_pp {post : SX → Prop} {o1 k v : List Nat} {j : Nat} {S : List cb_Pr} (hj : j < 8) (hA : uA j = nI o1.length) (hP : uP j = nI (o1.length + (cb_fl S).length)) (hO : cb_At uO 0 (o1 ++ (cb_fl S ++ (k ++ v)))) (hxO : xO = nI (o1.length + ((cb_fl S).length + (k ++ v).length))) (hl : o1.length + ((cb_fl S).length + (k ++ v).length) ≤ 128)
    (hb : ∀ b ∈ o1 ++ (cb_fl S ++ (k ++ v)), b < 256) (hk : cb_SK k) (hS : ∀ q ∈ S, cb_SK q.1 ∧ cb_SK q.2)
    (K : ∀ uO' uS' : Nat → Int32, cb_At uO' 0 (o1 ++ cb_fl (cb_ins (k, v) S)) → post (xM, xL, xS, xI, xT, xO, xP, xp, xF, xR, if cb_du k S = true then 1 else xD, xd, uI, uT, uC, uL, uO', uS', uK, uA, upd uP j xO, uM, uF)) : wpX_placePair post (xM, xL, xS, xI, xT, xO, xP, xp, xF, xR, xD, xd, uI, uT, uC, uL, uO, uS, uK, uA, uP, uM, uF) (nI j) := by
  refine ⟨vp_in_nI hj (by omega), ?_⟩
  rw [nI_clamp (by omega), hA, hP]
  refine nm_e ⟨vp_in_nI hj (by omega), nm_e ?_⟩
  have hfl := cb_fl_ne fun q hq => (hS q hq).1
  have := cx_pp20 (uS := uS) hj hO hxO hl hb hk hS K S [] 0 (S.length + 2) rfl (by simp) (by omega) (by omega)
  exact ⟨_, this⟩
end cx5
end
section
/-! X: the open frames, an item is complete -/
def cb_b (d : Bool) : Int32 := if d = true then 1 else 0
def cx_FX (uK uA uP uM : Nat → Int32) (uF : Nat → Int64) : List cb_Fr → Prop
  | [] => True
  | (m, _, lf, ks) :: c => uK c.length = nI m ∧ uM c.length = nI ks.length ∧ uF c.length = cb_L lf ∧ (m ≠ 6 → uA c.length = nI (cb_oo c).length) ∧
      (m = 5 → uP c.length = nI ((cb_oo c).length + (cb_fl (cb_srt (cb_mp ks))).length)) ∧ cx_FX uK uA uP uM uF c
theorem cx_FX_cg {uK uA uP uM uK' uA' uP' uM' : Nat → Int32} {uF uF' : Nat → Int64} : ∀ {c : List cb_Fr}, cx_FX uK uA uP uM uF c → (∀ j, j < c.length → uK' j = uK j ∧ uA' j = uA j ∧ uP' j = uP j ∧ uM' j = uM j ∧ uF' j = uF j) → cx_FX uK' uA' uP' uM' uF' c := by
  intro c
  induction c with
  | nil => intro _ _; trivial
  | cons f c ih =>
    intro h e
    obtain ⟨m, num, lf, ks⟩ := f
    obtain ⟨h1, h2, h3, h4, h5, h6⟩ := h
    obtain ⟨e1, e2, e3, e4, e5⟩ := e c.length (by simp)
    exact ⟨e1.trans h1, e4.trans h2, e5.trans h3, fun h => e2.trans (h4 h), fun h => e3.trans (h5 h), ih h6 fun j hj => e j (by simp; omega)⟩
theorem cb_ct5 {num lf : Nat} {ks : List (List Nat)} : cb_ct (5, num, lf, ks) = cb_bd 5 ks := by simp [cb_ct]
theorem cb_ct_sn {m num lf lf' : Nat} {ks : List (List Nat)} {e : List Nat} (h : m = 5 → ks.length % 2 = 0) : cb_ct (m, num, lf', ks ++ [e]) = cb_ct (m, num, lf, ks) ++ e := by
  by_cases h5 : m = 5
  · subst h5; rw [cb_ct5, cb_ct5, cb_bd5_o e (h rfl)]
  · unfold cb_ct; dsimp only; rw [cb_bd_ne h5, cb_bd_ne h5]; simp
section cx6
variable {xM xL xS xI xT xO xP xp xF xR xD xd : Int32} {uI uT uC uL uO uS uK uA uP uM : Nat → Int32} {uF : Nat → Int64}
theorem cx_vd {post : Int32 → Prop} {j m k : Nat} (hj : j < 8) (hK : uK j = nI m) (hM : uM j = nI k) (hm : m < 2 ^ 31) (hk : k < 2 ^ 31) (h : post (if m = 5 ∧ k % 2 = 1 then 1 else 0)) : wpX_valueDue post (xM, xL, xS, xI, xT, xO, xP, xp, xF, xR, xD, xd, uI, uT, uC, uL, uO, uS, uK, uA, uP, uM, uF) (nI j) := by
  refine ⟨vp_in_nI hj (by omega), ?_⟩
  rw [nI_clamp (by omega), hK, hM, cb_and1 hk]
  refine pk_eq m 5 (fun e => ⟨vp_in_nI hj (by omega), pk_eq (k % 2) 1 (fun e2 => ?_) (fun e2 => ?_)⟩) (fun e => ?_)
  · rw [if_pos ⟨e, e2⟩] at h; exact h
  · rw [if_neg (fun x => e2 x.2)] at h; exact h
  · rw [if_neg (fun x => e x.1)] at h; exact h
theorem cx_ci {post : SX → Prop} {m num lf lim : Nat} {ks : List (List Nat)} {c : List cb_Fr} {d : Bool} {e : List Nat} (hF : cx_FX uK uA uP uM uF ((m, num, lf, ks) :: c)) (hI : cb_FI lim false ((m, num, lf, ks) :: c)) (he : cb_SK e) (hb : ∀ b ∈ cb_oo ((m, num, lf, ks) :: c) ++ e, b < 256)
    (hc : c.length < 8) (hO : cb_At uO 0 (cb_oo ((m, num, lf, ks) :: c) ++ e)) (hxO : xO = nI (cb_oo ((m, num, lf, ks) :: c) ++ e).length) (hl : (cb_oo ((m, num, lf, ks) :: c) ++ e).length ≤ 128) (hD : xD = cb_b d)
    (K : ∀ (uO' uS' uP' uM' : Nat → Int32) (uF' : Nat → Int64) (xD' : Int32), cb_At uO' 0 (cb_oo ((m, num, lf - 1, ks ++ [e]) :: c)) → cx_FX uK uA uP' uM' uF' ((m, num, lf - 1, ks ++ [e]) :: c) → xD' = cb_b (d || cb_dn m ks) →
      post (xM, xL, xS, xI, xT, xO, xP, xp, xF, xR, xD', xd, uI, uT, uC, uL, uO', uS', uK, uA, uP', uM', uF')) : wpX_countItem post (xM, xL, xS, xI, xT, xO, xP, xp, xF, xR, xD, xd, uI, uT, uC, uL, uO, uS, uK, uA, uP, uM, uF) (nI c.length) := by
  obtain ⟨f1, f2, f3, f4, f5, f6⟩ := hF
  obtain ⟨hm, hl1, hl2, hnu, h6, h5, hcl, hks, hfc⟩ := hI
  have hkn := cb_kn fun k hk => cb_SK_ne (hks k hk).1
  have hfl : ks.flatten.length ≤ 128 := by
    have := cb_ct_len (m, num, lf, ks); dsimp only at this; simp only [cb_oo, List.length_append] at hl; omega
  have hin := vp_in_nI hc (by omega)
  -- the second half
  have half : ∀ (uM' : Nat → Int32) (uF' : Nat → Int64), uM' = upd uM c.length (nI (ks.length + 1)) → (∀ j, j < c.length → uF' j = uF j) → uF' c.length = cb_L (lf - 1) → wX_countItem_31 post (nI c.length) xM xL xS xI xT xO xP xp xF xR xD xd uI uT uC uL uO uS uK uA uP uM' uF' := by
    intro uM' uF' hM1 hF1 hF2
    have hM2 : uM' c.length = nI (ks.length + 1) := by rw [hM1, pk_us]
    have hM3 : ∀ j, j < c.length → uM' j = uM j := fun j hj => by rw [hM1, pk_un (by omega)]
    refine ⟨hin, ?_⟩
    rw [nI_clamp (by omega), f1]
    refine pk_eq m 5 (fun e5 => ?_) (fun e5 => ?_)
    · subst e5
      refine cx_vd (m := 5) (k := ks.length + 1) hc f1 hM2 (by omega) (by omega) ?_
      by_cases ho : ks.length % 2 = 1
      · rw [if_neg (by omega)]
        refine br_t rfl ?_
        obtain ⟨ks0, k, rfl, hk0⟩ := cb_od ks ho
        have hoo : cb_oo ((5, num, lf, ks0 ++ [k]) :: c) ++ e = cb_oo c ++ (cb_fl (cb_srt (cb_mp ks0)) ++ (k ++ e)) := by
          simp only [cb_oo]; rw [cb_ct5, cb_bd5_o k hk0]; unfold cb_bd; rw [if_pos rfl, cb_tl_e hk0]; simp
        have hP := f5 rfl
        rw [cb_mp_o ks0 k hk0] at hP
        have hSm : ∀ q ∈ cb_srt (cb_mp ks0), cb_SK q.1 ∧ cb_SK q.2 := fun q hq => by
          have := cb_mp_mem ks0 q ((cb_srt_pm _).mem_iff.mp hq)
          exact ⟨(hks _ (by simp [this.1])).1, (hks _ (by simp [this.2])).1⟩
        have hkS : cb_SK k := (hks k (by simp)).1
        have hxl : (cb_oo ((5, num, lf, ks0 ++ [k]) :: c) ++ e).length = (cb_oo c).length + ((cb_fl (cb_srt (cb_mp ks0))).length + (k ++ e).length) := by rw [hoo]; simp
        refine cx_pp (o1 := cb_oo c) (S := cb_srt (cb_mp ks0)) (k := k) (v := e) hc (f4 (by omega)) hP (by rw [← hoo]; exact hO) (by rw [hxO, hxl]) (by rw [← hxl]; exact hl) (by rw [← hoo]; exact hb) hkS hSm ?_
        intro uO' uS' hO'
        have eb : cb_bd 5 (ks0 ++ [k] ++ [e]) = cb_fl (cb_ins (k, e) (cb_srt (cb_mp ks0))) := cb_bd5_e k e hk0
        have esr : cb_srt (cb_mp (ks0 ++ [k] ++ [e])) = cb_ins (k, e) (cb_srt (cb_mp ks0)) := by
          rw [List.append_assoc]; show cb_srt (cb_mp (ks0 ++ [k, e])) = _; rw [cb_mp_e ks0 k e hk0, cb_srt_sn]
        refine K uO' uS' _ uM' uF' _ (by simp only [cb_oo]; rw [cb_ct5, eb]; exact hO') ⟨f1, by rw [hM2]; simp, hF2, f4, fun _ => ?_, cx_FX_cg f6 fun j hj => ⟨rfl, rfl, pk_un (by omega), hM3 j hj, hF1 j hj⟩⟩ ?_
        · rw [pk_us, hxO, hxl, esr, cb_fl_len (cb_ins _ _), ((cb_ins_pm (k, e) (cb_srt (cb_mp ks0))).map cb_ps).sum_nat, cb_fl_len]
          refine congrArg nI ?_
          rw [List.map_cons, List.sum_cons]; simp [cb_ps]; omega
        · have hdn : cb_dn 5 (ks0 ++ [k]) = cb_du k (cb_srt (cb_mp ks0)) := by
            rw [cb_du_m hkS (cb_srt_ws fun q hq => (hks _ (by simp [(cb_mp_mem ks0 q hq).1])).1) (fun q hq => (hSm q hq).1)]
            unfold cb_dn
            rw [cb_getl, cb_mp_o ks0 k hk0]
            have hmm : k ∈ (cb_srt (cb_mp ks0)).map (·.1) ↔ k ∈ (cb_mp ks0).map (·.1) := ((cb_srt_pm (cb_mp ks0)).map _).mem_iff
            by_cases g : k ∈ (cb_mp ks0).map (·.1)
            · rw [decide_eq_true ⟨rfl, ho, g⟩, decide_eq_true (hmm.mpr g)]
            · rw [decide_eq_false (fun x => g x.2.2), decide_eq_false (fun x => g (hmm.mp x))]
          rw [hdn, hD]
          cases cb_du k (cb_srt (cb_mp ks0)) <;> cases d <;> rfl
      · rw [if_pos (by omega)]
        refine br_f (by decide) ?_
        have hmp := cb_mp_o ks e (by omega)
        refine K uO uS uP uM' uF' xD ?_ ⟨f1, by rw [hM2]; simp, hF2, f4, fun _ => by rw [hmp]; exact f5 rfl, cx_FX_cg f6 fun j hj => ⟨rfl, rfl, rfl, hM3 j hj, hF1 j hj⟩⟩ ?_
        · simp only [cb_oo]; rw [cb_ct_sn (lf := lf) (fun _ => by omega)]
          simpa [cb_oo] using hO
        · have : cb_dn 5 ks = false := decide_eq_false (fun x => ho x.2.1)
          rw [this, Bool.or_false]; exact hD
    · refine K uO uS uP uM' uF' xD ?_ ⟨f1, by rw [hM2]; simp, hF2, f4, fun h => absurd h e5, cx_FX_cg f6 fun j hj => ⟨rfl, rfl, rfl, hM3 j hj, hF1 j hj⟩⟩ ?_
      · simp only [cb_oo]; rw [cb_ct_sn (lf := lf) (fun h => absurd h e5)]
        simpa [cb_oo] using hO
      · have : cb_dn m ks = false := decide_eq_false (fun x => e5 x.1)
        rw [this, Bool.or_false]; exact hD
  refine ⟨hin, hin, ?_⟩
  rw [nI_clamp (by omega), f2, nI_1, f3]
  refine nm_e ⟨hin, br_c (fun h => ?_) (fun h => ⟨hin, hin, ?_⟩)⟩
  · rw [cb_L_le0 (by omega)] at h
    exact half _ uF rfl (fun _ _ => rfl) (by rw [f3, show lf - 1 = lf by omega])
  · rw [cb_L_le0 (by omega)] at h
    rw [cb_L_dec (by omega)]
    exact nm_e (half _ _ rfl (fun j hj => pk_uLn (by omega)) pk_uLs)
theorem cx_ct {post : SX → Prop} {m num lf : Nat} {ks : List (List Nat)} {c : List cb_Fr} (hF : cx_FX uK uA uP uM uF ((m, num, lf, ks) :: c)) (hm : m = 4 ∨ m = 5 ∨ m = 6) (hk : ks.length ≤ 128) (hc : c.length < 8) (hP : xP = nI (c.length + 1))
    (hO : cb_At uO 0 (cb_oo ((m, num, lf, ks) :: c))) (hxO : xO = nI (cb_oo ((m, num, lf, ks) :: c)).length) (hl : (cb_oo ((m, num, lf, ks) :: c)).length ≤ 128)
    (K : ∀ uO' : Nat → Int32, cb_At uO' 0 (cb_oo c ++ cb_nE m num ks) → post (xM, xL, xS, xI, xT, nI (cb_oo c ++ cb_nE m num ks).length, nI c.length, xp, xF, xR, xD, xd, uI, uT, uC, uL, uO', uS, uK, uA, uP, uM, uF)) : wpX_closeTop post (xM, xL, xS, xI, xT, xO, xP, xp, xF, xR, xD, xd, uI, uT, uC, uL, uO, uS, uK, uA, uP, uM, uF) := by
  obtain ⟨f1, f2, f3, f4, f5, f6⟩ := hF
  have hin := vp_in_nI hc (by omega)
  rw [hP]
  refine br_f (nI_ne0 (by omega) (by omega)) (nm_r (nI_pred _) ⟨hin, ?_⟩)
  rw [nI_clamp (by omega), f1]
  have hx4 := cb_ext1 (n := ks.length) (by omega)
  have hx5 := cb_ext1 (n := ks.length / 2) (by omega)
  simp only [cb_oo] at hO hxO hl
  rw [List.length_append] at hxO hl
  rcases hm with rfl | rfl | rfl
  · refine br_t rfl ⟨hin, hin, ?_⟩
    have ect : cb_ct (4, num, lf, ks) = ks.flatten := by simp [cb_ct, cb_bd]
    have enE : cb_nE 4 num ks = cb_hd 4 ks.length ++ ks.flatten := by simp [cb_nE, cb_nh, cb_bd]
    rw [ect] at hO hxO hl
    rw [f4 (by omega), f2, cb_lI (by omega)]
    refine cx_ph (m := 4) hO hxO (by omega) (by rw [cb_hd_len]; omega) fun uO' hO' => ⟨hin, ?_⟩
    rw [nI_clamp (by omega), f1]
    refine br_f (by decide) ?_
    have := K uO' (by rw [enE]; exact hO')
    rw [enE, List.length_append, List.length_append, ← Nat.add_assoc] at this
    exact this
  · refine br_f (by decide) ⟨hin, ?_⟩
    have ect : cb_ct (5, num, lf, ks) = cb_bd 5 ks := by simp [cb_ct]
    have enE : cb_nE 5 num ks = cb_hd 5 (ks.length / 2) ++ cb_bd 5 ks := by simp [cb_nE, cb_nh]
    rw [ect] at hO hxO hl
    rw [nI_clamp (by omega), f1]
    refine br_t rfl ⟨hin, hin, by decide, ?_⟩
    rw [f4 (by omega), f2, show (2 : Int32) = nI 2 from rfl, pk_div (by omega) (by omega) (by omega), cb_lI (by omega)]
    refine cx_ph (m := 5) hO hxO (by omega) (by rw [cb_hd_len]; omega) fun uO' hO' => ?_
    have := K uO' (by rw [enE]; exact hO')
    rw [enE, List.length_append, List.length_append, ← Nat.add_assoc] at this
    exact this
  · refine br_f (by decide) ⟨hin, ?_⟩
    rw [nI_clamp (by omega), f1]
    refine br_f (by decide) ?_
    have ect : cb_ct (6, num, lf, ks) = cb_nE 6 num ks := by simp [cb_ct, cb_nE, cb_nh, cb_bd]
    rw [ect] at hO hxO hl
    have := K uO hO
    rw [List.length_append, ← hxO] at this
    exact this
end cx6
/-- the builder's fields after an item was given to the stack -/
def cx_BX (s : cb_S3) (xO xP xR xD : Int32) (uO uK uA uP uM : Nat → Int32) (uF : Nat → Int64) : Prop :=
  xO = nI (s.2.1.flatten ++ cb_oo s.1).length ∧ cb_At uO 0 (s.2.1.flatten ++ cb_oo s.1) ∧ xP = nI s.1.length ∧ xD = cb_b s.2.2 ∧ xR = (if s.2.1 = [] then 0 else 1) ∧ cx_FX uK uA uP uM uF s.1
section cx7
variable {xM xL xS xI xT xp xF xd : Int32} {uI uT uC uL uK uA : Nat → Int32}
theorem cx_cm_lp {post : SX → Prop} {lim : Nat} {s : cb_S3}
    (K : ∀ (xO xP xR xD : Int32) (uO uS uP uM : Nat → Int32) (uF : Nat → Int64), cx_BX s xO xP xR xD uO uK uA uP uM uF → post (xM, xL, xS, xI, xT, xO, xP, xp, xF, xR, xD, xd, uI, uT, uC, uL, uO, uS, uK, uA, uP, uM, uF)) :
    ∀ (c : List cb_Fr) (d : Bool) (e : List Nat) (k n : Nat) (xO xP xD : Int32) (uO uS uP uM : Nat → Int32) (uF : Nat → Int64), cb_cm c d e = s → cb_FI lim false c → cb_IT (lim - c.length) e → (∀ b ∈ cb_oo c, b < 256) → (cb_oo c).length + e.length + cb_rsm c ≤ 128 → k + c.length ≤ 8 → c.length + 2 ≤ n →
      cb_At uO 0 (cb_oo c ++ e) → xO = nI (cb_oo c ++ e).length → xP = nI c.length → xD = cb_b d → cx_FX uK uA uP uM uF c → wX_completeItem_4 post n 1 (nI k) xM xL xS xI xT xO xP xp xF 0 xD xd uI uT uC uL uO uS uK uA uP uM uF := by
  intro c
  induction c with
  | nil =>
    intro d e k n xO xP xD uO uS uP uM uF hs hI he hb hsz hk hn hO hxO hP hD hF
    obtain ⟨n, rfl⟩ : ∃ k, n = k + 1 := ⟨n - 1, by omega⟩
    rw [List.length_nil] at hP hk hn
    refine br_f (nI_nlt (a := 8) (by omega) (by omega)) (br_f (by decide) (br_t hP (nm_r (nI_1 _) ?_)))
    obtain ⟨n, rfl⟩ : ∃ k, n = k + 1 := ⟨n - 1, by omega⟩
    have fin := K xO xP 1 xD uO uS uP uM uF (by subst hs; exact ⟨by simpa [cb_cm, cb_oo] using hxO, by simpa [cb_cm, cb_oo] using hO, hP, hD, rfl, trivial⟩)
    exact br_c (fun _ => fin) (fun _ => br_t rfl fin)
  | cons f c ih =>
    intro d e k n xO xP xD uO uS uP uM uF hs hI he hb hsz hk hn hO hxO hP hD hF
    obtain ⟨m, num, lf, ks⟩ := f
    obtain ⟨n, rfl⟩ : ∃ k, n = k + 1 := ⟨n - 1, by omega⟩
    rw [List.length_cons] at hP hk hn
    have hsz' := hsz
    simp only [cb_rsm] at hsz'
    have hlen : (cb_oo ((m, num, lf, ks) :: c) ++ e).length ≤ 128 := by rw [List.length_append]; omega
    have hbe : ∀ b ∈ cb_oo ((m, num, lf, ks) :: c) ++ e, b < 256 := fun b hb' => by
      rcases List.mem_append.mp hb' with h | h
      · exact hb b h
      · exact he.2.2 b h
    refine br_f (nI_nlt (a := 8) (by omega) (by omega)) (br_f (by decide) (br_f (by rw [hP]; exact nI_ne0 (by omega) (by omega)) ?_))
    rw [hP, nI_pred]
    refine cx_ci hF hI he.1 hbe (by omega) hO hxO hlen hD ?_
    intro uO1 uS1 uP1 uM1 uF1 xD1 hO1 hF1 hD1
    dsimp only
    rw [nI_pred]
    refine ⟨vp_in_nI (by omega) (by omega), ?_⟩
    rw [nI_clamp (by omega), hF1.2.2.1]
    obtain ⟨hm, hl1, hl2, hnu, h6, h5, hcl, hks, hfc⟩ := hI
    have eqL : (cb_oo ((m, num, lf - 1, ks ++ [e]) :: c)).length = (cb_oo ((m, num, lf, ks) :: c) ++ e).length := by
      simp only [cb_oo, List.length_append, cb_ct_len]; simp; omega
    have hkn := cb_kn fun k hk => cb_SK_ne (hks k hk).1
    have hfl : ks.flatten.length + e.length ≤ 128 := by
      have := cb_ct_len (m, num, lf, ks); dsimp only at this; simp only [cb_oo, List.length_append] at hlen; omega
    have hen := cb_SK_ne he.1
    rw [cb_cm_c] at hs
    refine br_c (fun h => ?_) (fun h => ?_)
    · have h2 : lf = 2 := by have := (cb_L_eq (j := 0) (by omega) (by omega)).mp h; omega
      rw [if_pos h2] at hs
      refine cx_ct (m := m) (num := num) (lf := lf - 1) (ks := ks ++ [e]) (c := c) hF1 hm (by simp; omega) (by omega) rfl hO1 (by rw [hxO, eqL]) (by rw [eqL]; exact hlen) ?_
      intro uO2 hO2
      refine nm_r (nI_1 _) ?_
      have hpi := cb_cm_PI (lim := lim) (c := (m, num, lf, ks) :: c) (d := d) (e := e) (p := 128) ⟨hm, hl1, hl2, hnu, h6, h5, hcl, hks, hfc⟩ he hsz (by omega)
      subst h2
      have hks' : ∀ k ∈ ks ++ [e], cb_IT (lim - (c.length + 1)) k := by
        intro k hk
        rcases List.mem_append.mp hk with hk | hk
        · exact hks k hk
        · rw [List.mem_singleton.mp hk]; simpa using he
      have hit : cb_IT (lim - c.length) (cb_nE m num (ks ++ [e])) := by
        rw [show lim - c.length = lim - (c.length + 1) + 1 by omega]
        refine cb_IT_nd ?_ (by simp; omega) hks'
        rcases hm with rfl | rfl | rfl
        · exact Or.inl rfl
        · refine Or.inr (Or.inl ⟨rfl, ?_⟩); have := h5 rfl (by omega); simp; omega
        · refine Or.inr (Or.inr ⟨rfl, ?_, hnu⟩); rw [(h6 rfl).2.2 rfl]; rfl
      refine ih (d || cb_dn m ks) _ (k + 1) n _ _ _ uO2 uS1 uP1 uM1 uF1 hs hfc hit (fun b hb' => hb b (by simp [cb_oo, hb'])) ?_ (by omega) (by omega) hO2 rfl rfl hD1 hF1.2.2.2.2.2
      have hct := cb_ct_len (m, num, 2, ks)
      have hfls := cb_fls ks e
      rw [cb_nE_len _ (by omega), hfls]
      simp only [cb_oo, List.length_append] at hsz'
      unfold cb_rs at hsz'
      dsimp only at hct hsz'
      rcases hm with rfl | rfl | rfl
      · simp at hsz' hct ⊢; omega
      · simp at hsz' hct ⊢; omega
      · simp at hsz' hct ⊢; omega
    · have h2 : lf ≠ 2 := fun e2 => h ((cb_L_eq (j := 0) (by omega) (by omega)).mpr (by omega))
      rw [if_neg h2] at hs
      refine nm_r (nI_1 _) ?_
      have fin := K xO (nI (c.length + 1)) 0 xD1 uO1 uS1 uP1 uM1 uF1 (by
        subst hs
        exact ⟨by rw [hxO, ← eqL]; rfl, hO1, by simp, hD1, rfl, hF1⟩)
      obtain ⟨n, rfl⟩ : ∃ k, n = k + 1 := ⟨n - 1, by omega⟩
      exact br_c (fun _ => fin) (fun _ => br_t rfl fin)
theorem cx_cm {post : SX → Prop} {lim : Nat} {c : List cb_Fr} {d : Bool} {e : List Nat} {xO xP xD : Int32} {uO uS uP uM : Nat → Int32} {uF : Nat → Int64} (hI : cb_FI lim false c) (h8 : lim ≤ 8) (he : cb_IT (lim - c.length) e) (hb : ∀ b ∈ cb_oo c, b < 256) (hsz : (cb_oo c).length + e.length + cb_rsm c ≤ 128)
    (hO : cb_At uO 0 (cb_oo c ++ e)) (hxO : xO = nI (cb_oo c ++ e).length) (hP : xP = nI c.length) (hD : xD = cb_b d) (hF : cx_FX uK uA uP uM uF c)
    (K : ∀ (xO xP xR xD : Int32) (uO uS uP uM : Nat → Int32) (uF : Nat → Int64), cx_BX (cb_cm c d e) xO xP xR xD uO uK uA uP uM uF → post (xM, xL, xS, xI, xT, xO, xP, xp, xF, xR, xD, xd, uI, uT, uC, uL, uO, uS, uK, uA, uP, uM, uF)) : wpX_completeItem post (xM, xL, xS, xI, xT, xO, xP, xp, xF, 0, xD, xd, uI, uT, uC, uL, uO, uS, uK, uA, uP, uM, uF) := by
  have := cb_FI_len hI
  exact ⟨_, cx_cm_lp (lim := lim) (s := cb_cm c d e) K c d e 0 (c.length + 2) xO xP xD uO uS uP uM uF rfl hI he hb hsz (by omega) (by omega) hO hxO hP hD hF⟩
end cx7
end
section
/-! X: the scan -/
theorem cb_bd_by {m : Nat} {ks : List (List Nat)} (h : ∀ k ∈ ks, ∀ b ∈ k, b < 256) : ∀ b ∈ cb_bd m ks, b < 256 := by
  intro b hb
  unfold cb_bd at hb
  have hfl : ∀ l : List cb_Pr, (∀ q ∈ l, (∀ b ∈ q.1, b < 256) ∧ ∀ b ∈ q.2, b < 256) → ∀ b ∈ cb_fl l, b < 256 := by
    intro l
    induction l with
    | nil => intro _ b hb; simp [cb_fl] at hb
    | cons q l ih =>
      intro hq b hb
      simp only [cb_fl, List.mem_append] at hb
      rcases hb with hb | hb | hb
      · exact (hq q (by simp)).1 b hb
      · exact (hq q (by simp)).2 b hb
      · exact ih (fun x hx => hq x (by simp [hx])) b hb
  split at hb
  · rcases List.mem_append.mp hb with hb | hb
    · refine hfl _ (fun q hq => ?_) b hb
      have := cb_mp_mem ks q ((cb_srt_pm _).mem_iff.mp hq)
      exact ⟨h _ this.1, h _ this.2⟩
    · unfold cb_tl at hb
      split at hb
      · rename_i ho
        obtain ⟨ks0, k, rfl, _⟩ := cb_od ks ho
        rw [cb_getl] at hb
        exact h k (by simp) b hb
      · simp at hb
  · obtain ⟨k, hk, hbk⟩ := List.mem_flatten.mp hb
    exact h k hk b hbk
theorem cb_FI_by {lim : Nat} : ∀ {c : List cb_Fr} {x : Bool}, cb_FI lim x c → ∀ b ∈ cb_oo c, b < 256 := by
  intro c
  induction c with
  | nil => intro x _ b hb; simp [cb_oo] at hb
  | cons f c ih =>
    intro x h b hb
    obtain ⟨m, num, lf, ks⟩ := f
    obtain ⟨hm, hl1, hl2, hnu, h6, h5, hcl, hks, hfc⟩ := h
    simp only [cb_oo, cb_ct, List.mem_append] at hb
    rcases hb with hb | hb | hb
    · exact ih hfc b hb
    · split at hb
      · exact cb_hd_lt (by omega) b hb
      · simp at hb
    · exact cb_bd_by (fun k hk => (hks k hk).2.2) b hb
section cx8
variable {xM xL xS xI xT xO xP xp xF xR xD xd : Int32} {uI uT uC uL uO uS uK uA uP uM : Nat → Int32} {uF : Nat → Int64}
theorem cx_of {post : SX → Prop} {m j : Nat} {due : Int64} (hj : j < 8) (hP : xP = nI j) (K : post (xM, xL, xS, xI, xT, xO, nI (j + 1), xp, xF, xR, xD, xd, uI, uT, uC, uL, uO, uS, upd uK j (nI m), upd uA j xO, upd uP j xO, upd uM j 0, vp_updL uF j due)) : wpX_openFrame post (xM, xL, xS, xI, xT, xO, xP, xp, xF, xR, xD, xd, uI, uT, uC, uL, uO, uS, uK, uA, uP, uM, uF) (nI m) due := by
  have hin := vp_in_nI hj (by omega)
  rw [hP]
  refine br_t (nI_lt (b := 8) hj (by omega)) ⟨hin, nm_e ⟨hin, nm_e ⟨hin, nm_e ⟨hin, nm_e ⟨hin, nm_e (nm_r (nI_1 _) ?_)⟩⟩⟩⟩⟩
  rw [nI_clamp (by omega)]
  exact K
theorem cx_FX_of {m num lf : Nat} {c : List cb_Fr} (hF : cx_FX uK uA uP uM uF c) (h6 : m ≠ 6 → xO = nI (cb_oo c).length) : cx_FX (upd uK c.length (nI m)) (upd uA c.length xO) (upd uP c.length xO) (upd uM c.length 0) (vp_updL uF c.length (cb_L lf)) ((m, num, lf, []) :: c) := by
  refine ⟨pk_us, pk_us, pk_uLs, fun h => by rw [pk_us, h6 h], fun h => by rw [pk_us, h6 (by omega)]; rfl, cx_FX_cg hF fun j hj => ⟨pk_un (by omega), pk_un (by omega), pk_un (by omega), pk_un (by omega), pk_uLn (by omega)⟩⟩
theorem cx_pb {post : SX → Prop} {o : List Nat} {b : Nat} (hO : cb_At uO 0 o) (hxO : xO = nI o.length) (hl : o.length < 160) (K : ∀ uO', cb_At uO' 0 (o ++ [b]) → post (xM, xL, xS, xI, xT, nI (o ++ [b]).length, xP, xp, xF, xR, xD, xd, uI, uT, uC, uL, uO', uS, uK, uA, uP, uM, uF)) : wpX_putByte post (xM, xL, xS, xI, xT, xO, xP, xp, xF, xR, xD, xd, uI, uT, uC, uL, uO, uS, uK, uA, uP, uM, uF) (nI b) := by
  rw [hxO]
  refine br_f (nI_ge (b := 160) hl (by omega)) ⟨vp_in_nI hl (by omega), nm_e (nm_r (nI_1 _) ?_)⟩
  rw [nI_clamp (by omega)]
  have := K (upd uO o.length (nI b)) (by have := cb_At_snoc (x := b) hO; rwa [Nat.zero_add] at this)
  rw [List.length_append] at this
  exact this
end cx8
section cx9
variable {xM xL xS xI xT xP xp xF xR xD xd : Int32} {uI uT uC uL uS uK uA uP uM : Nat → Int32} {uF : Nat → Int64}
theorem cx_tb_lp {post : SX → Prop} {inp o : List Nat} {p v : Nat} (hI : cb_At uI 0 inp) (hxI : xI = nI inp.length) (hp : xp = nI p) (hn : inp.length ≤ 32) (hv : p + v ≤ inp.length) (hl : o.length + v ≤ 128)
    (K : ∀ uO', cb_At uO' 0 (o ++ (inp.drop p).take v) → post (xM, xL, xS, xI, xT, nI (o ++ (inp.drop p).take v).length, xP, nI (p + v), xF, xR, xD, xd, uI, uT, uC, uL, uO', uS, uK, uA, uP, uM, uF)) :
    ∀ k i n (xO : Int32) (uO : Nat → Int32), i + k = v → k < n → cb_At uO 0 (o ++ (inp.drop p).take i) → xO = nI (o ++ (inp.drop p).take i).length → wX_takeBytes_2 post (nI v) n (nI i) xM xL xS xI xT xO xP xp xF xR xD xd uI uT uC uL uO uS uK uA uP uM uF := by
  intro k
  induction k with
  | zero =>
    intro i n xO uO hi hk hO hxO
    obtain ⟨n, rfl⟩ : ∃ k, n = k + 1 := ⟨n - 1, by omega⟩
    have e : i = v := by omega
    subst e
    refine br_t (nI_le (by omega) (by omega)) (nm_r (e' := nI (p + i)) (by rw [hp, nI_add]) ?_)
    rw [hxO]
    exact K uO hO
  | succ k ih =>
    intro i n xO uO hi hk hO hxO
    obtain ⟨n, rfl⟩ : ∃ k, n = k + 1 := ⟨n - 1, by omega⟩
    refine br_f (nI_ge (by omega) (by omega)) ?_
    rw [hp, nI_add, hxI]
    refine br_f (nI_ge (by omega) (by omega)) ⟨vp_in_nI (by omega) (by omega), ?_⟩
    rw [nI_clamp (by omega), cb_At0 hI (by omega)]
    have hlen : (o ++ (inp.drop p).take i).length = o.length + i := by simp; omega
    refine cx_pb hO hxO (by omega) fun uO' hO' => nm_r (nI_1 _) ?_
    have et : (inp.drop p).take (i + 1) = (inp.drop p).take i ++ [inp.getD (p + i) 0] := by
      rw [List.take_add_one, ← cb_drop_getD, List.getD_eq_getElem?_getD]
      have : i < (inp.drop p).length := by simp; omega
      rw [List.getElem?_eq_getElem this]; rfl
    rw [← hxI, ← hp]
    refine ih (i + 1) n _ uO' (by omega) (by omega) ?_ ?_
    · rw [et, ← List.append_assoc]; exact hO'
    · rw [et, ← List.append_assoc]
theorem cx_tk {post : SX → Prop} {lim : Nat} {c : List cb_Fr} {d : Bool} {m f v p : Nat} {inp : List Nat} {xO : Int32} {uO : Nat → Int32} (hI : cb_At uI 0 inp) (hxI : xI = nI inp.length) (hbI : ∀ b ∈ inp, b < 256) (hn : inp.length ≤ 32)
    (h8 : lim ≤ 8) (hf : cb_FI lim false c) (hc : c.length < lim) (hm : m = 0 ∨ m = 1 ∨ m = 2 ∨ (m = 7 ∧ v < 24) ∨ m = 4 ∨ m = 5 ∨ m = 6) (h31 : f = 31 → m = 4 ∨ m = 5) (hv : v < 2 ^ 32) (hf32 : f < 32) (hp : xp = nI p) (hpv : m = 2 → p + v ≤ inp.length)
    (hsz : (cb_oo c).length + cb_rsm c + 1 + (if f = 31 then 0 else cb_ext v) + (if m = 2 then v else 0) ≤ 128) (hB : cx_BX (c, [], d) xO xP xR xD uO uK uA uP uM uF)
    (K : ∀ (xO xP xR xD : Int32) (uO uS uK uA uP uM : Nat → Int32) (uF : Nat → Int64), cx_BX (cb_tk c d m f v (cb_yb inp p m v)) xO xP xR xD uO uK uA uP uM uF → post (xM, xL, xS, xI, xT, xO, xP, nI (p + (if m = 2 then v else 0)), xF, xR, xD, xd, uI, uT, uC, uL, uO, uS, uK, uA, uP, uM, uF)) : wpX_takeItem post (xM, xL, xS, xI, xT, xO, xP, xp, xF, xR, xD, xd, uI, uT, uC, uL, uO, uS, uK, uA, uP, uM, uF) (nI m) (nI f) (lN v) := by
  obtain ⟨hxO, hO, hP, hD, hR, hF⟩ := hB
  rw [if_pos rfl] at hR
  dsimp only at hxO hO hP hD hF
  rw [List.flatten_nil, List.nil_append] at hxO hO
  have hby := cb_FI_by hf
  subst hR
  -- arrays and maps
  have frame : ∀ lf, cb_lf m f v = lf → (m = 4 ∨ m = 5) → wX_takeItem_36 post (nI m) (cb_L lf) xM xL xS xI xT xO xP xp xF 0 xD xd uI uT uC uL uO uS uK uA uP uM uF := by
    intro lf hlf hm45
    have hm2 : m ≠ 2 := by omega
    have hlfb : lf < 2 ^ 34 := by
      rw [← hlf]; unfold cb_lf; split; omega; split; omega; split; omega; split <;> omega
    have etk : cb_tk c d m f v (cb_yb inp p m v) = if lf = 1 then cb_cm c d (cb_nE m v []) else ((m, v, lf, []) :: c, [], d) := by
      unfold cb_tk; rw [if_neg hm2, hlf]
    rw [if_neg hm2, Nat.add_zero, etk, ← hp] at K
    refine cx_of (j := c.length) (by omega) hP ?_
    have hF' := cx_FX_of (xO := xO) (m := m) (num := v) (lf := lf) hF (fun _ => hxO)
    have hoo : cb_oo ((m, v, lf, []) :: c) = cb_oo c := by
      rcases hm45 with rfl | rfl <;> simp [cb_oo, cb_ct, cb_bd, cb_mp, cb_srt, cb_fl, cb_tl]
    refine br_c (fun h => ?_) (fun h => ?_)
    · have h1 : lf = 1 := by have := (cb_L_eq (j := 0) (by omega) (by omega)).mp h; omega
      rw [if_pos h1] at K
      have hv0 : v = 0 := by
        rw [← hlf] at h1; unfold cb_lf at h1
        by_cases g : f = 31
        · rw [if_pos g] at h1; omega
        · rw [if_neg g] at h1
          rcases hm45 with rfl | rfl
          · simp at h1; omega
          · simp at h1; omega
      refine cx_ct (m := m) (num := v) (lf := lf) (ks := []) (c := c) hF' (by omega) (by simp) (by omega) rfl (by rw [hoo]; exact hO) (by rw [hoo]; exact hxO) (by rw [hoo]; omega) ?_
      intro uO' hO'
      have hnl : (cb_nE m v []).length = 1 := by rw [cb_nE_lf (by omega), cb_hd_len, hv0]; rfl
      refine cx_cm (lim := lim) (c := c) (d := d) (e := cb_nE m v []) hf h8 (cb_IT_mo (cb_IT_lf hv (by omega)) (by omega)) hby (by rw [hnl]; omega) hO' rfl rfl hD hF'.2.2.2.2.2 ?_
      intro xO xP xR xD uO uS uP uM uF hB
      exact K xO xP xR xD uO uS _ _ uP uM uF hB
    · have h1 : lf ≠ 1 := fun e => h ((cb_L_eq (j := 0) (by omega) (by omega)).mpr (by omega))
      rw [if_neg h1] at K
      refine K _ _ _ _ _ _ _ _ _ _ _ ⟨?_, ?_, ?_, hD, rfl, hF'⟩
      · rw [List.flatten_nil, List.nil_append, hoo]; exact hxO
      · rw [List.flatten_nil, List.nil_append, hoo]; exact hO
      · simp
  have take10 : (m = 4 ∨ m = 5) → wX_takeItem_10 post (nI m) (nI f) (lN v) xM xL xS xI xT xO xP xp xF 0 xD xd uI uT uC uL uO uS uK uA uP uM uF := by
    intro hm45
    refine pk_eq f 31 (fun e => ?_) (fun e => ?_)
    · have := frame 0 (by unfold cb_lf; rw [if_pos e]) hm45
      rw [cb_L0] at this; exact this
    · refine pk_eq m 5 (fun e5 => ?_) (fun e5 => ?_)
      · have := frame (2 * v + 1) (by unfold cb_lf; rw [if_neg e, if_pos e5]) hm45
        rw [cb_Ls] at this
        rw [show (2 : Int64) = lN 2 from rfl, lN_mul]; exact this
      · have := frame (v + 1) (by unfold cb_lf; rw [if_neg e, if_neg e5, if_pos (by omega)]) hm45
        rw [cb_Ls] at this; exact this
  refine pk_eq m 4 (fun e => take10 (by omega)) (fun e4 => pk_eq m 5 (fun e => take10 (by omega)) (fun e5 => ?_))
  have hf31 : f ≠ 31 := fun e => by have := h31 e; omega
  rw [if_neg hf31] at hsz
  have hh := cb_hd_len m v
  have hph := cx_ph (post := fun u => match u with | (xM, xL, xS, xI, xT, xO, xP, xp, xF, xR, xD, xd, uI, uT, uC, uL, uO, uS, uK, uA, uP, uM, uF) => (((nI m = 6 → (wpX_openFrame (fun u => match u with | (xM, xL, xS, xI, xT, xO, xP, xp, xF, xR, xD, xd, uI, uT, uC, uL, uO, uS, uK, uA, uP, uM, uF) => (post (xM, xL, xS, xI, xT, xO, xP, xp, xF, xR, xD, xd, uI, uT, uC, uL, uO, uS, uK, uA, uP, uM, uF))) (xM, xL, xS, xI, xT, xO, xP, xp, xF, xR, xD, xd, uI, uT, uC, uL, uO, uS, uK, uA, uP, uM, uF) 6 1)) ∧ (¬ nI m = 6 → (((nI m = 2 → (wpX_takeBytes (fun u => match u with | (xM, xL, xS, xI, xT, xO, xP, xp, xF, xR, xD, xd, uI, uT, uC, uL, uO, uS, uK, uA, uP, uM, uF) => (wX_takeItem_95 post xM xL xS xI xT xO xP xp xF xR xD xd uI uT uC uL uO uS uK uA uP uM uF)) (xM, xL, xS, xI, xT, xO, xP, xp, xF, xR, xD, xd, uI, uT, uC, uL, uO, uS, uK, uA, uP, uM, uF) (lN v).toInt32)) ∧ (¬ nI m = 2 → (wX_takeItem_95 post xM xL xS xI xT xO xP xp xF xR xD xd uI uT uC uL uO uS uK uA uP uM uF)))))))) (xR := 0) (xM := xM) (xL := xL) (xS := xS) (xI := xI) (xT := xT) (xP := xP) (xp := xp) (xF := xF) (xD := xD) (xd := xd) (uI := uI) (uT := uT) (uC := uC) (uL := uL) (uS := uS) (uK := uK) (uA := uA) (uP := uP) (uM := uM) (uF := uF) (o1 := cb_oo c) (o2 := []) (m := m) (n := v) (by rw [List.append_nil]; exact hO) (by simpa using hxO) hv (by simp; omega) (fun uO1 hO1 => ?_)
  · rw [← hxO] at hph; exact hph
  · rw [List.append_nil] at hO1
    have ex : nI ((cb_oo c).length + (cb_hd m v).length + ([] : List Nat).length) = nI (cb_oo c ++ cb_hd m v).length := by simp
    rw [ex]
    refine pk_eq m 6 (fun e6 => ?_) (fun e6 => ?_)
    · subst e6
      refine cx_of (m := 6) (j := c.length) (by omega) hP ?_
      have etk : cb_tk c d 6 f v (cb_yb inp p 6 v) = ((6, v, 2, []) :: c, [], d) := by
        unfold cb_tk cb_lf; simp [hf31]
      rw [etk, if_neg (by omega), Nat.add_zero, ← hp] at K
      have hoo : cb_oo ((6, v, 2, []) :: c) = cb_oo c ++ cb_hd 6 v := by simp [cb_oo, cb_ct, cb_bd]
      refine K _ _ _ _ _ _ _ _ _ _ _ ⟨?_, ?_, ?_, hD, rfl, cx_FX_of (m := 6) (num := v) (lf := 2) hF (fun h => absurd rfl h)⟩
      · rw [List.flatten_nil, List.nil_append, hoo]
      · rw [List.flatten_nil, List.nil_append, hoo]; exact hO1
      · simp
    · refine pk_eq m 2 (fun e2 => ?_) (fun e2 => ?_)
      · subst e2
        have etk : cb_tk c d 2 f v (cb_yb inp p 2 v) = cb_cm c d (cb_hd 2 v ++ (inp.drop p).take v) := by
          unfold cb_tk cb_yb; simp
        rw [if_pos rfl] at hsz
        rw [etk, if_pos rfl] at K
        have hpv' := hpv rfl
        have hbl : ((inp.drop p).take v).length = v := by simp; omega
        rw [lN_i]
        refine ⟨_, cx_tb_lp (inp := inp) (o := cb_oo c ++ cb_hd 2 v) (p := p) (v := v) hI hxI hp hn hpv' (by simp; omega) (fun uO2 hO2 => ?_) v 0 (v + 1) (nI (cb_oo c ++ cb_hd 2 v).length) uO1 (by omega) (by omega) (by simpa using hO1) (by simp)⟩
        refine cx_cm (lim := lim) (c := c) (d := d) (e := cb_hd 2 v ++ (inp.drop p).take v) hf h8 (cb_IT_mo (cb_IT_by hv hbl (fun x hx => hbI x (List.mem_of_mem_drop (List.mem_of_mem_take hx)))) (by omega)) hby (by rw [List.length_append, hbl]; omega) (by rw [← List.append_assoc]; exact hO2) (by rw [← List.append_assoc]) hP hD hF ?_
        intro xO xP xR xD uO uS uP uM uF hB
        exact K xO xP xR xD uO uS _ _ uP uM uF hB
      · have etk : cb_tk c d m f v (cb_yb inp p m v) = cb_cm c d (cb_hd m v) := by
          unfold cb_tk cb_lf; rw [if_neg e2, if_neg hf31, if_neg e5, if_neg e4, if_neg e6, if_pos rfl, cb_nE_lf (by omega)]
        rw [etk, if_neg e2, Nat.add_zero, ← hp] at K
        have hit := cb_IT_lf (m := m) hv (by omega)
        rw [cb_nE_lf (by omega)] at hit
        refine cx_cm (lim := lim) (c := c) (d := d) (e := cb_hd m v) hf h8 (cb_IT_mo hit (by omega)) hby (by omega) hO1 rfl hP hD hF ?_
        intro xO xP xR xD uO uS uP uM uF hB
        exact K xO xP xR xD uO uS _ _ uP uM uF hB
end cx9
end
section
/-! X: scan item by item -/
theorem cb_st_r {inp : List Nat} {lim p f : Nat} {c : List cb_Fr} {d : Bool} {w : Option (List Nat)} {r : Int32} (h : cb_st inp lim c d p w = .inl (r, f)) : (r = -5 ∨ r = -6 ∨ r = -7) := by
  unfold cb_st at h
  split at h
  · cases h; simp
  · split at h
    · cases c with
      | nil => cases h; simp
      | cons g c =>
        obtain ⟨m, num, lf, ks⟩ := g
        rw [cb_bk_c] at h
        split at h
        · cases h; simp
        · cases h
    · split at h
      · cases h; simp
      · split at h
        · cases h; simp
        · split at h
          · cases h; simp
          · split at h
            · cases h; simp
            · cases h
section cxa
variable {xM xL xS xI xT xO xP xp xF xR xD xd : Int32} {uI uT uC uL uO uS uK uA uP uM : Nat → Int32} {uF : Nat → Int64}
theorem cx_bf {post : Int32 → Prop} {b : Nat} (hb : b < 256) (h : post (if cb_bad b = true then 1 else 0)) : wpX_badFirstByte post (xM, xL, xS, xI, xT, xO, xP, xp, xF, xR, xD, xd, uI, uT, uC, uL, uO, uS, uK, uA, uP, uM, uF) (nI (b / 32)) (nI (b % 32)) := by
  unfold cb_bad at h
  simp only [decide_eq_true_iff] at h
  have hm : b / 32 < 2 ^ 31 := by omega
  generalize b / 32 = m at *
  have hf : b % 32 < 32 := by omega
  generalize b % 32 = f at *
  have h37 : ¬ (m = 3) → ¬ (27 ≤ f ∧ f ≤ 30) → ¬ (f = 31 ∧ m ≠ 4 ∧ m ≠ 5) → wX_badFirstByte_37 post (nI m) (nI f) xM xL xS xI xT xO xP xp xF xR xD xd uI uT uC uL uO uS uK uA uP uM uF := by
    intro g1 g2 g3
    refine pk_eq m 7 (fun e => pk_lt f 24 (fun e2 => ?_) (fun e2 => ?_)) (fun e => ?_)
    · rw [if_neg (by omega)] at h; exact h
    · rw [if_pos (by omega)] at h; exact h
    · rw [if_neg (by omega)] at h; exact h
  have h19 : ¬ (m = 3) → ¬ (27 ≤ f ∧ f ≤ 30) → wX_badFirstByte_19 post (nI m) (nI f) xM xL xS xI xT xO xP xp xF xR xD xd uI uT uC uL uO uS uK uA uP uM uF := by
    intro g1 g2
    refine pk_eq f 31 (fun e => pk_eq m 4 (fun e2 => h37 g1 g2 (by omega)) (fun e2 => pk_eq m 5 (fun e3 => h37 g1 g2 (by omega)) (fun e3 => ?_))) (fun e => h37 g1 g2 (by omega))
    rw [if_pos (by omega)] at h; exact h
  refine pk_eq m 3 (fun e => ?_) (fun e => pk_lt f 27 (fun e2 => h19 e (by omega)) (fun e2 => pk_lt 30 f (fun e3 => h19 e (by omega)) (fun e3 => ?_)))
  · rw [if_pos (by omega)] at h; exact h
  · rw [if_pos (by omega)] at h; exact h
end cxa
section cxb
variable {xM xL xS xI xT xO xP xp xF xR xD xd : Int32} {uI uT uC uL uO uS uK uA uP uM : Nat → Int32} {uF : Nat → Int64}
theorem cx_sb {post : Int32 → SX → Prop} {lim : Nat} {c : List cb_Fr} {d : Bool} {p : Nat} (h8 : lim ≤ 8) (hf : cb_FI lim false c) (ht : cb_TG c) (hp : xp = nI p) (hp1 : p < 128) (hsz : (cb_oo c).length + cb_rsm c ≤ p) (hB : cx_BX (c, [], d) xO xP xR xD uO uK uA uP uM uF)
    (K1 : ∀ r f, cb_bk c d p = .inl (r, f) → post r (xM, xL, xS, xI, xT, xO, xP, xp, nI f, xR, xD, xd, uI, uT, uC, uL, uO, uS, uK, uA, uP, uM, uF))
    (K2 : ∀ s p' w', cb_bk c d p = .inr (s, p', w') → ∀ (xO xP xR xD : Int32) (uO uS uK uA uP uM : Nat → Int32) (uF : Nat → Int64), cx_BX s xO xP xR xD uO uK uA uP uM uF → post 0 (xM, xL, xS, xI, xT, xO, xP, nI p', xF, xR, xD, xd, uI, uT, uC, uL, uO, uS, uK, uA, uP, uM, uF)) : wpX_scanBreak post (xM, xL, xS, xI, xT, xO, xP, xp, xF, xR, xD, xd, uI, uT, uC, uL, uO, uS, uK, uA, uP, uM, uF) := by
  obtain ⟨hxO, hO, hP, hD, hR, hF⟩ := hB
  rw [if_pos rfl] at hR
  dsimp only at hxO hO hP hD hF
  rw [List.flatten_nil, List.nil_append] at hxO hO
  have hby := cb_FI_by hf
  subst hR
  cases c with
  | nil =>
    refine br_t hP ?_
    have := K1 (-6) p rfl
    rw [← hp] at this
    exact this
  | cons f c =>
    obtain ⟨m, num, lf, ks⟩ := f
    rw [List.length_cons] at hP
    have hlen := cb_FI_len hf
    rw [List.length_cons] at hlen
    have hf0 := hf
    obtain ⟨hm, hl1, hl2, hnu, h6, h5, hcl, hks, hfc⟩ := hf
    have hkn := cb_kn fun k hk => cb_SK_ne (hks k hk).1
    have hct := cb_ct_len (m, num, lf, ks)
    dsimp only at hct
    have hsz' := hsz
    simp only [cb_oo, cb_rsm, List.length_append] at hsz'
    rw [hP]
    refine br_f (nI_ne0 (by omega) (by omega)) ?_
    rw [nI_pred]
    refine ⟨vp_in_nI (by omega) (by omega), ?_⟩
    rw [nI_clamp (by omega), hF.2.2.1]
    refine br_c (fun h => ?_) (fun h => ?_)
    · have h0 : lf = 0 := (cb_L_lt0 (by omega)).mp h
      refine cx_vd (m := m) (k := ks.length) (by omega) hF.1 hF.2.1 (by omega) (by omega) ?_
      by_cases ho : m = 5 ∧ ks.length % 2 = 1
      · rw [if_pos ho]
        refine br_f (by decide) ?_
        have := K1 (-6) p (by rw [cb_bk_c, if_pos (Or.inr ho)])
        rw [← hp, hP] at this
        exact this
      · rw [if_neg ho]
        refine br_t rfl (nm_r (e' := nI (p + 1)) (by rw [hp, nI_1]) ?_)
        refine cx_ct (m := m) (num := num) (lf := lf) (ks := ks) (c := c) hF hm (by omega) (by omega) rfl hO hxO (by omega) ?_
        intro uO' hO'
        have hm6 : m ≠ 6 := fun e => by have := ht (m, num, lf, ks) (by simp) e; dsimp only at this; omega
        have hit : cb_IT (lim - c.length) (cb_nE m num ks) := by
          rw [show lim - c.length = lim - (c.length + 1) + 1 by omega]
          refine cb_IT_nd ?_ (by omega) hks
          rcases hm with rfl | rfl | rfl
          · exact Or.inl rfl
          · exact Or.inr (Or.inl ⟨rfl, by omega⟩)
          · exact absurd rfl hm6
        refine cx_cm (lim := lim) (c := c) (d := d) (e := cb_nE m num ks) hfc h8 hit (fun b hb => hby b (by simp [cb_oo, hb])) ?_ hO' rfl rfl hD hF.2.2.2.2.2 ?_
        · rw [cb_nE_len _ (by omega)]
          unfold cb_rs at hsz'
          dsimp only at hsz'
          rw [if_neg hm6, if_pos h0] at hsz'
          rw [if_neg hm6] at hct
          have : cb_ext (if m = 2 ∨ m = 4 then ks.length else if m = 5 then ks.length / 2 else num) ≤ 1 := by
            refine cb_ext1 ?_
            rcases hm with rfl | rfl | rfl
            · simp; omega
            · simp; omega
            · exact absurd rfl hm6
          omega
        · intro xO xP xR xD uO uS uP uM uF hB
          exact K2 _ _ _ (by rw [cb_bk_c, if_neg (by omega)]) xO xP xR xD uO uS uK uA uP uM uF hB
    · have h0 : lf ≠ 0 := fun e => h ((cb_L_lt0 (by omega)).mpr e)
      have := K1 (-6) p (by rw [cb_bk_c, if_pos (Or.inl h0)])
      rw [← hp, hP] at this
      exact this
theorem cx_si {post : Int32 → SX → Prop} {lim : Nat} {c : List cb_Fr} {d : Bool} {p : Nat} {w : Option (List Nat)} {inp : List Nat} (hI : cb_At uI 0 inp) (hxI : xI = nI inp.length) (hbI : ∀ b ∈ inp, b < 256) (hn : inp.length ≤ 32) (hL : xL = nI lim)
    (h8 : lim ≤ 8) (hf : cb_FI lim false c) (ht : cb_TG c) (hp : xp = nI p) (hpn : p ≤ inp.length) (hsz : (cb_oo c).length + cb_rsm c ≤ p) (hB : cx_BX (c, [], d) xO xP xR xD uO uK uA uP uM uF)
    (K1 : ∀ r f, cb_st inp lim c d p w = .inl (r, f) → post r (xM, xL, xS, xI, xT, xO, xP, xp, nI f, xR, xD, xd, uI, uT, uC, uL, uO, uS, uK, uA, uP, uM, uF))
    (K2 : ∀ s p' w', cb_st inp lim c d p w = .inr (s, p', w') → ∀ (xO xP xR xD : Int32) (uO uS uK uA uP uM : Nat → Int32) (uF : Nat → Int64), cx_BX s xO xP xR xD uO uK uA uP uM uF → post 0 (xM, xL, xS, xI, xT, xO, xP, nI p', xF, xR, xD, xd, uI, uT, uC, uL, uO, uS, uK, uA, uP, uM, uF)) : wpX_scanItem post (xM, xL, xS, xI, xT, xO, xP, xp, xF, xR, xD, xd, uI, uT, uC, uL, uO, uS, uK, uA, uP, uM, uF) := by
  unfold cb_st at K1 K2
  by_cases h1 : inp.length ≤ p
  · rw [if_pos h1] at K1
    refine br_f (by rw [hp, hxI]; exact nI_nlt (by omega) (by omega)) ?_
    have := K1 _ _ rfl
    rw [← hxI] at this
    exact this
  rw [if_neg h1] at K1 K2
  have hb := cb_getD_lt hbI p
  have hal := cb_arg_lt hbI p
  have hz := cb_sz_le (inp.getD p 0 % 32)
  have hex := cb_ext_sz hbI (p := p)
  refine br_t (by rw [hp, hxI]; exact nI_lt (by omega) (by omega)) ⟨by rw [hp]; exact vp_in_nI (by omega) (by omega), ?_⟩
  rw [show uI xp.toNatClampNeg = nI (inp.getD p 0) by rw [hp, nI_clamp (by omega), cb_At0 hI (by omega)]]
  refine nm_e (pk_eq (inp.getD p 0) 255 (fun e => ?_) (fun e => ?_))
  · rw [if_pos e] at K1 K2
    exact cx_sb h8 hf ht hp (by omega) hsz hB K1 K2
  rw [if_neg e] at K1 K2
  refine nm_r (cb_maj hb) (nm_r (cb_info hb) (cx_bf hb ?_))
  by_cases h3 : cb_bad (inp.getD p 0) = true
  · rw [if_pos h3] at K1
    rw [if_pos h3]
    refine br_f (by decide) ?_
    have := K1 _ _ rfl
    rw [← hp] at this
    exact this
  rw [if_neg h3] at K1 K2
  rw [if_neg h3]
  refine br_t rfl ?_
  have hP : xP = nI c.length := hB.2.2.1
  have hlen := cb_FI_len hf
  by_cases h4 : lim ≤ c.length
  · rw [if_pos h4] at K1
    refine br_f (by rw [hP, hL]; exact nI_nlt (by omega) (by omega)) ?_
    have := K1 _ _ rfl
    rw [← hp] at this
    exact this
  rw [if_neg h4] at K1 K2
  refine br_t (by rw [hP, hL]; exact nI_lt (by omega) (by omega)) (cx_asz (by omega) (nm_r (e' := nI (p + 1 + cb_sz (inp.getD p 0 % 32))) (by rw [hp, nI_1, nI_add]) ?_))
  by_cases h5 : inp.length < p + 1 + cb_sz (inp.getD p 0 % 32)
  · rw [if_pos h5] at K1
    refine br_f (by rw [hxI]; exact nI_ge (by omega) (by omega)) ?_
    have := K1 _ _ rfl
    rw [← hxI] at this
    exact this
  rw [if_neg h5] at K1 K2
  refine br_t (by rw [hxI]; exact nI_le (by omega) (by omega)) ?_
  have hai := cx_ai (post := fun r_59 => (((nI (inp.getD p 0 / 32) = 2 → (((r_59 ≤ ((xI - nI (p + 1 + cb_sz (inp.getD p 0 % 32))).toInt64) → (wX_scanItem_177 post (nI (inp.getD p 0 / 32)) (nI (inp.getD p 0 % 32)) (nI (p + 1 + cb_sz (inp.getD p 0 % 32))) r_59 xM xL xS xI xT xO xP xp xF xR xD xd uI uT uC uL uO uS uK uA uP uM uF)) ∧ (¬ r_59 ≤ ((xI - nI (p + 1 + cb_sz (inp.getD p 0 % 32))).toInt64) → (wpX_failAt (fun r_109 u => match u with | (xM, xL, xS, xI, xT, xO, xP, xp, xF, xR, xD, xd, uI, uT, uC, uL, uO, uS, uK, uA, uP, uM, uF) => (post r_109 (xM, xL, xS, xI, xT, xO, xP, xp, xF, xR, xD, xd, uI, uT, uC, uL, uO, uS, uK, uA, uP, uM, uF))) (xM, xL, xS, xI, xT, xO, xP, xp, xF, xR, xD, xd, uI, uT, uC, uL, uO, uS, uK, uA, uP, uM, uF) (-5) xI))))) ∧ (¬ nI (inp.getD p 0 / 32) = 2 → (wX_scanItem_177 post (nI (inp.getD p 0 / 32)) (nI (inp.getD p 0 % 32)) (nI (p + 1 + cb_sz (inp.getD p 0 % 32))) r_59 xM xL xS xI xT xO xP xp xF xR xD xd uI uT uC uL uO uS uK uA uP uM uF)))))
    (xM := xM) (xL := xL) (xS := xS) (xI := xI) (xT := xT) (xO := xO) (xP := xP) (xp := xp) (xF := xF) (xR := xR) (xD := xD) (xd := xd) (uI := uI) (uT := uT) (uC := uC) (uL := uL) (uO := uO) (uS := uS) (uK := uK) (uA := uA) (uP := uP) (uM := uM) (uF := uF) (o := inp) (p := p) hI hn hbI (by omega) ?_
  · rw [← hp] at hai; exact hai
  · have hbad := h3
    unfold cb_bad at hbad
    rw [decide_eq_true_iff] at hbad
    have hs7 : inp.getD p 0 % 32 < 24 → cb_arg inp p = inp.getD p 0 % 32 := fun e => by
      unfold cb_arg cb_sz; rw [if_neg (show ¬ inp.getD p 0 % 32 = 24 by omega), if_neg (show ¬ inp.getD p 0 % 32 = 25 by omega), if_neg (show ¬ inp.getD p 0 % 32 = 26 by omega), if_pos rfl]
    have go : ¬ (inp.getD p 0 / 32 = 2 ∧ inp.length - (p + 1 + cb_sz (inp.getD p 0 % 32)) < cb_arg inp p) → wX_scanItem_177 post (nI (inp.getD p 0 / 32)) (nI (inp.getD p 0 % 32)) (nI (p + 1 + cb_sz (inp.getD p 0 % 32))) (lN (cb_arg inp p)) xM xL xS xI xT xO xP xp xF xR xD xd uI uT uC uL uO uS uK uA uP uM uF := by
      intro h6
      rw [if_neg h6] at K2
      have hm : inp.getD p 0 / 32 = 0 ∨ inp.getD p 0 / 32 = 1 ∨ inp.getD p 0 / 32 = 2 ∨ (inp.getD p 0 / 32 = 7 ∧ cb_arg inp p < 24) ∨ inp.getD p 0 / 32 = 4 ∨ inp.getD p 0 / 32 = 5 ∨ inp.getD p 0 / 32 = 6 := by
        by_cases e7 : inp.getD p 0 / 32 = 7
        · have := hs7 (by omega); omega
        · omega
      refine cx_tk (lim := lim) (c := c) (d := d) (m := inp.getD p 0 / 32) (f := inp.getD p 0 % 32) (v := cb_arg inp p) (p := p + 1 + cb_sz (inp.getD p 0 % 32)) (inp := inp) hI hxI hbI hn h8 hf (by omega) hm (by omega) hal (by omega) rfl (by omega) ?_ hB ?_
      · by_cases g : inp.getD p 0 % 32 = 31
        · rw [if_pos g]
          by_cases g2 : inp.getD p 0 / 32 = 2
          · omega
          · rw [if_neg g2]; omega
        · have := hex (by omega)
          rw [if_neg g]
          by_cases g2 : inp.getD p 0 / 32 = 2
          · rw [if_pos g2]; omega
          · rw [if_neg g2]; omega
      · intro xO xP xR xD uO uS uK uA uP uM uF hB
        exact K2 _ _ _ rfl xO xP xR xD uO uS uK uA uP uM uF hB
    refine pk_eq (inp.getD p 0 / 32) 2 (fun e2 => ?_) (fun e2 => go (by omega))
    rw [hxI, pk_sub (by omega), cb_lI (by omega), ← hxI]
    refine cb_lle (cb_arg inp p) (inp.length - (p + 1 + cb_sz (inp.getD p 0 % 32))) (fun h6 => go (by omega)) (fun h6 => ?_)
    rw [if_pos ⟨e2, h6⟩] at K1
    have := K1 _ _ rfl
    rw [← hxI] at this
    exact this
end cxb
section cxc
variable {xM xL xS xI xT xF xd : Int32} {uI uT uC uL : Nat → Int32}
theorem cx_sc_lp {post : Int32 → SX → Prop} {lim : Nat} {inp : List Nat} {R : Sum cb_Fa (List Nat × Bool × Option (List Nat))} (hI : cb_At uI 0 inp) (hxI : xI = nI inp.length) (hbI : ∀ b ∈ inp, b < 256) (hn : inp.length ≤ 32) (hL : xL = nI lim) (h8 : lim ≤ 8)
    (K1 : ∀ r f, R = .inl (r, f) → ∀ (xO xP xp xR xD : Int32) (uO uS uK uA uP uM : Nat → Int32) (uF : Nat → Int64), r ≠ 0 → post r (xM, xL, xS, xI, xT, xO, xP, xp, nI f, xR, xD, xd, uI, uT, uC, uL, uO, uS, uK, uA, uP, uM, uF))
    (K2 : ∀ e d w, R = .inr (e, d, w) → ∀ (xO xP xp xR xD : Int32) (uO uS uK uA uP uM : Nat → Int32) (uF : Nat → Int64), cb_At uO 0 e → xO = nI e.length → cb_IT lim e → e.length ≤ inp.length → post (if d = true then -9 else 0) (xM, xL, xS, xI, xT, xO, xP, xp, xF, xR, xD, xd, uI, uT, uC, uL, uO, uS, uK, uA, uP, uM, uF)) :
    ∀ (k : Nat) (s : cb_S3) (p : Nat) (w : Option (List Nat)) (t n : Nat) (xO xP xp xR xD : Int32) (uO uS uK uA uP uM : Nat → Int32) (uF : Nat → Int64), cb_rn inp lim k (s, p, w) = R → inp.length + 2 ≤ p + k → k < n → t ≤ p → p ≤ inp.length → cb_PI lim false s p → cb_TG s.1 → xp = nI p → cx_BX s xO xP xR xD uO uK uA uP uM uF →
      wX_scan_6 post n (nI t) xM xL xS xI xT xO xP xp xF xR xD xd uI uT uC uL uO uS uK uA uP uM uF := by
  intro k
  induction k with
  | zero => intro s p w t n xO xP xp xR xD uO uS uK uA uP uM uF _ h; omega
  | succ k ih =>
    intro s p w t n xO xP xp xR xD uO uS uK uA uP uM uF hR hk hkn htp hpn hPI hTG hp hB
    obtain ⟨n, rfl⟩ : ∃ k, n = k + 1 := ⟨n - 1, by omega⟩
    obtain ⟨c, ro, d⟩ := s
    refine br_f (by rw [hxI]; exact nI_nlt (by omega) (by omega)) ?_
    cases ro with
    | nil =>
      have hR0 : xR = 0 := hB.2.2.2.2.1
      refine br_t hR0 ?_
      have hsz := hPI.2.2
      dsimp only at hsz
      refine cx_si (lim := lim) (c := c) (d := d) (p := p) (w := w) (inp := inp) hI hxI hbI hn hL h8 hPI.1 hTG hp hpn (by simpa using hsz) hB ?_ ?_
      · intro r f hst
        have hr : r ≠ 0 := by rcases cb_st_r hst with rfl | rfl | rfl <;> decide
        refine br_f hr (K1 r f ?_ _ _ _ _ _ _ _ _ _ _ _ _ hr)
        rw [← hR]; simp only [cb_rn, hst]
      · intro s p' w' hst xO xP xR xD uO uS uK uA uP uM uF hB'
        have hpi := cb_st_PI hbI (by omega) hst hPI.1 hTG (by simpa using hsz)
        refine br_t rfl (nm_r (nI_1 _) ?_)
        refine ih s p' w' (t + 1) n _ _ _ _ _ _ _ _ _ _ _ _ ?_ (by omega) (by omega) (by omega) hpi.2.2.2 hpi.1 hpi.2.1 rfl hB'
        rw [← hR]; simp only [cb_rn, hst]
    | cons e ro =>
      rcases hPI.2.1 with h | ⟨e', h, hc, hit⟩
      · cases h
      obtain ⟨rfl, rfl⟩ : e = e' ∧ ro = [] := by simpa using h
      dsimp only at hc
      subst hc
      obtain ⟨hxO, hO, hP, hD, hR0, hF⟩ := hB
      rw [if_neg (by simp)] at hR0
      dsimp only at hxO hO hD
      refine br_f (by rw [hR0]; decide) ?_
      have hlen := hPI.2.2
      simp [cb_oo, cb_rsm] at hlen
      simp only [cb_rn] at hR
      refine br_c (fun h => ?_) (fun h => ?_)
      · have h' : inp.length ≤ p := by rw [hp, hxI, nI_leI (by omega) (by omega)] at h; exact h
        rw [if_neg (by omega)] at hR
        have fin := K2 e d w hR.symm xO xP xp xR xD uO uS uK uA uP uM uF (by simpa [cb_oo] using hO) (by simpa [cb_oo] using hxO) hit (by omega)
        cases d with
        | false => exact br_t hD fin
        | true => exact br_f (by rw [hD]; decide) fin
      · have h' : p < inp.length := by rw [hp, hxI, nI_leI (by omega) (by omega)] at h; omega
        rw [if_pos h'] at hR
        have fin := K1 _ _ hR.symm xO xP xp xR xD uO uS uK uA uP uM uF (by decide)
        rw [← hp] at fin
        exact fin
end cxc
section cxd
variable {xM xL xS xI xT xO xP xp xF xR xD xd : Int32} {uI uT uC uL uO uS uK uA uP uM : Nat → Int32} {uF : Nat → Int64}
theorem cx_sc {post : Int32 → SX → Prop} {lim : Nat} {inp : List Nat} {R : Sum cb_Fa (List Nat × Bool × Option (List Nat))} (hI : cb_At uI 0 inp) (hxI : xI = nI inp.length) (hbI : ∀ b ∈ inp, b < 256) (hn : inp.length ≤ 32) (hL : xL = nI lim) (h8 : lim ≤ 8)
    (hR : cb_rn inp lim (inp.length + 2) (([], [], false), 0, some []) = R)
    (K1 : ∀ r f, R = .inl (r, f) → ∀ (xO xP xp xR xD : Int32) (uO uS uK uA uP uM : Nat → Int32) (uF : Nat → Int64), r ≠ 0 → post r (xM, xL, xS, xI, xT, xO, xP, xp, nI f, xR, xD, 1, uI, uT, uC, uL, uO, uS, uK, uA, uP, uM, uF))
    (K2 : ∀ e d w, R = .inr (e, d, w) → ∀ (xO xP xp xR xD : Int32) (uO uS uK uA uP uM : Nat → Int32) (uF : Nat → Int64), cb_At uO 0 e → xO = nI e.length → cb_IT lim e → e.length ≤ inp.length → post (if d = true then -9 else 0) (xM, xL, xS, xI, xT, xO, xP, xp, (-1), xR, xD, 1, uI, uT, uC, uL, uO, uS, uK, uA, uP, uM, uF)) : wpX_scan post (xM, xL, xS, xI, xT, xO, xP, xp, xF, xR, xD, xd, uI, uT, uC, uL, uO, uS, uK, uA, uP, uM, uF) := by
  refine ⟨_, cx_sc_lp (lim := lim) (inp := inp) (R := R) hI hxI hbI hn hL h8 K1 K2 (inp.length + 2) ([], [], false) 0 (some []) 0 (inp.length + 3) _ _ _ _ _ _ _ _ _ _ _ _ hR (by omega) (by omega) (by omega) (by omega) ⟨trivial, Or.inl rfl, by simp [cb_oo, cb_rsm]⟩ (fun f hf => by simp at hf) rfl ⟨rfl, trivial, rfl, rfl, rfl, trivial⟩⟩
end cxd
end
section
/-! the text, pure -/
def cb_dg (c : Nat) : Bool := decide (48 ≤ c ∧ c ≤ 57)
def cb_hx (c : Nat) : Nat := if 48 ≤ c ∧ c ≤ 57 then c - 48 else if 97 ≤ c ∧ c ≤ 102 then c - 87 else 16
def cb_ds (txt : List Nat) (p : Nat) : List Nat := (txt.drop p).takeWhile cb_dg
def cb_vl (ds : List Nat) : Nat := ds.foldl (fun v c => v * 10 + (c - 48)) 0
def cb_hr : List Nat → Option (List Nat)
  | [] => none
  | [a] => if a = 39 then some [] else none
  | a :: b :: r => if a = 39 then some [] else if cb_hx a < 16 ∧ cb_hx b < 16 then (cb_hr r).map (fun l => (16 * cb_hx a + cb_hx b) :: l) else none
def cb_cl (m : Nat) : Nat := if m = 4 then 93 else if m = 5 then 125 else 41
abbrev cb_T4 : Type := cb_S3 × Bool × Nat
def cb_b0 (txt : List Nat) (c : List cb_Fr) (d : Bool) (q : Nat) (ds : List Nat) : Sum Int32 cb_T4 :=
  if 10 < ds.length ∨ 4294967295 < cb_vl ds then .inl (-10)
  else if txt.getD q 0 = 40 then .inr (((6, cb_vl ds, 0, []) :: c, [], d), true, q + 1)
  else .inr (cb_cm c d (cb_hd 0 (cb_vl ds)), false, q)
def cb_b1 (c : List cb_Fr) (d : Bool) (q : Nat) (ds : List Nat) : Sum Int32 cb_T4 :=
  if ds.length = 0 ∨ 10 < ds.length ∨ cb_vl ds = 0 ∨ 4294967296 < cb_vl ds then .inl (-10) else .inr (cb_cm c d (cb_hd 1 (cb_vl ds - 1)), false, q)
def cb_b7 (c : List cb_Fr) (d : Bool) (q : Nat) (ds : List Nat) : Sum Int32 cb_T4 :=
  if ds.length = 0 ∨ 10 < ds.length ∨ 23 < cb_vl ds then .inl (-10) else .inr (cb_cm c d (cb_hd 7 (cb_vl ds)), false, q)
def cb_b2 (c : List cb_Fr) (d : Bool) (p : Nat) : Option (List Nat) → Sum Int32 cb_T4
  | none => .inl (-10)
  | some bs => .inr (cb_cm c d (cb_hd 2 bs.length ++ bs), false, p + 2 * bs.length + 1)
def cb_b4 (txt : List Nat) (c : List cb_Fr) (d : Bool) (p m : Nat) : Sum Int32 cb_T4 :=
  if txt.getD p 0 = cb_cl m then .inr (cb_cm c d (cb_nE m 0 []), false, p + 1) else .inr (((m, 0, 0, []) :: c, [], d), true, p)
def cb_bt (txt : List Nat) (lim : Nat) (c : List cb_Fr) (d : Bool) (p : Nat) : Sum Int32 cb_T4 :=
  if cb_dg (txt.getD p 0) = false ∧ ¬ (txt.getD p 0 = 45 ∨ txt.getD p 0 = 115 ∨ txt.getD p 0 = 104 ∨ txt.getD p 0 = 91 ∨ txt.getD p 0 = 123) then .inl (-10)
  else if lim ≤ c.length then .inl (-7)
  else if cb_dg (txt.getD p 0) = true then cb_b0 txt c d (p + (cb_ds txt p).length) (cb_ds txt p)
  else if txt.getD p 0 = 45 then cb_b1 c d (p + 1 + (cb_ds txt (p + 1)).length) (cb_ds txt (p + 1))
  else if txt.getD p 0 = 115 then cb_b7 c d (p + 1 + (cb_ds txt (p + 1)).length) (cb_ds txt (p + 1))
  else if txt.getD p 0 = 104 then (if txt.getD (p + 1) 0 = 39 then cb_b2 c d (p + 2) (cb_hr (txt.drop (p + 2))) else .inl (-10))
  else cb_b4 txt c d (p + 1) (if txt.getD p 0 = 91 then 4 else 5)
def cb_sp (m k : Nat) : Nat := if m = 5 ∧ k % 2 = 1 then 58 else 44
def cb_af (txt : List Nat) : List cb_Fr → Bool → Nat → Sum Int32 cb_T4
  | [], _, _ => .inl (-10)
  | (m, num, lf, ks) :: c, d, p =>
    if txt.getD p 0 = cb_cl m ∧ ¬ (m = 5 ∧ ks.length % 2 = 1) then .inr (cb_cm c d (cb_nE m num ks), false, p + 1)
    else if m ≠ 6 ∧ txt.getD p 0 = cb_sp m ks.length then .inr (((m, num, lf, ks) :: c, [], d), true, p + 1)
    else .inl (-10)
theorem cb_af_c {txt : List Nat} {m num lf p : Nat} {ks : List (List Nat)} {c : List cb_Fr} {d : Bool} : cb_af txt ((m, num, lf, ks) :: c) d p = if txt.getD p 0 = cb_cl m ∧ ¬ (m = 5 ∧ ks.length % 2 = 1) then .inr (cb_cm c d (cb_nE m num ks), false, p + 1) else if m ≠ 6 ∧ txt.getD p 0 = cb_sp m ks.length then .inr (((m, num, lf, ks) :: c, [], d), true, p + 1) else .inl (-10) := rfl
def cb_ts (txt : List Nat) (lim : Nat) (c : List cb_Fr) (d due : Bool) (p : Nat) : Sum Int32 cb_T4 := if due = true then cb_bt txt lim c d p else cb_af txt c d p
def cb_rt (txt : List Nat) (lim : Nat) : Nat → cb_T4 → Sum Int32 (List Nat × Bool)
  | 0, _ => .inl (-10)
  | _ + 1, ((_, e :: _, d), _, p) => if p < txt.length then .inl (-10) else .inr (e, d)
  | k + 1, ((c, [], d), due, p) => match cb_ts txt lim c d due p with
    | .inl x => .inl x
    | .inr s => cb_rt txt lim k s
theorem cb_vl_sn (ds : List Nat) (c : Nat) : cb_vl (ds ++ [c]) = cb_vl ds * 10 + (c - 48) := by simp [cb_vl, List.foldl_append]
theorem cb_vl_fo : ∀ (ds : List Nat) (v : Nat), (∀ c ∈ ds, cb_dg c = true) → ds.foldl (fun v c => v * 10 + (c - 48)) v < (v + 1) * 10 ^ ds.length := by
  intro ds
  induction ds with
  | nil => intro v _; simp
  | cons c ds ih =>
    intro v h
    have h1 := h c (by simp)
    unfold cb_dg at h1
    rw [decide_eq_true_iff] at h1
    have h2 := ih (v * 10 + (c - 48)) fun x hx => h x (by simp [hx])
    rw [List.foldl_cons, List.length_cons, Nat.pow_succ]
    have h3 : (v * 10 + (c - 48) + 1) * 10 ^ ds.length ≤ ((v + 1) * 10) * 10 ^ ds.length := Nat.mul_le_mul_right _ (by omega)
    have h4 : ((v + 1) * 10) * 10 ^ ds.length = (v + 1) * (10 ^ ds.length * 10) := by rw [Nat.mul_assoc, Nat.mul_comm 10]
    omega
theorem cb_vl_lt {ds : List Nat} (h : ∀ c ∈ ds, cb_dg c = true) : cb_vl ds < 10 ^ ds.length := by
  have := cb_vl_fo ds 0 h; simpa [cb_vl] using this
theorem cb_ds_dg (txt : List Nat) (p : Nat) : ∀ c ∈ cb_ds txt p, cb_dg c = true := by
  intro c hc
  unfold cb_ds at hc
  generalize txt.drop p = l at hc
  induction l with
  | nil => simp at hc
  | cons x l ih =>
    rw [List.takeWhile_cons] at hc
    cases e : cb_dg x with
    | false => rw [e] at hc; simp at hc
    | true =>
      rw [e, if_pos rfl] at hc
      rcases List.mem_cons.mp hc with rfl | hc
      · exact e
      · exact ih hc
theorem cb_ds_len (txt : List Nat) (p : Nat) : (cb_ds txt p).length ≤ txt.length - p := by
  unfold cb_ds
  have := (List.takeWhile_sublist (l := txt.drop p) cb_dg).length_le
  simpa using this
theorem cb_dg_len {ds : List Nat} (h : ∀ c ∈ ds, cb_dg c = true) (h0 : 0 < ds.length) : 1 + cb_ext (cb_vl ds) ≤ ds.length := by
  have h1 := cb_vl_lt h
  unfold cb_ext
  split
  · omega
  · rename_i g
    have h2 : 2 ≤ ds.length := by
      by_cases e : ds.length = 1
      · rw [e] at h1; omega
      · omega
    split
    · omega
    · rename_i g2
      have h3 : 3 ≤ ds.length := by
        by_cases e : ds.length = 2
        · rw [e] at h1; omega
        · omega
      split
      · omega
      · rename_i g3
        have h4 : 5 ≤ ds.length := by
          by_cases e : ds.length = 3
          · rw [e] at h1; omega
          · by_cases e : ds.length = 4
            · rw [e] at h1; omega
            · omega
        omega
theorem cb_ext_mo {a b : Nat} (h : a ≤ b) : cb_ext a ≤ cb_ext b := by
  unfold cb_ext; split
  · split; omega; split; omega; split <;> omega
  · rw [if_neg (show ¬ b < 24 by omega)]
    split
    · split; omega; split <;> omega
    · rw [if_neg (show ¬ b < 256 by omega)]
      split
      · split <;> omega
      · rw [if_neg (show ¬ b < 65536 by omega)]; omega
theorem cb_hr_len : ∀ (l bs : List Nat), cb_hr l = some bs → 2 * bs.length + 1 ≤ l.length ∧ ∀ b ∈ bs, b < 256
  | [], _, h => by simp [cb_hr] at h
  | [a], bs, h => by
    unfold cb_hr at h
    split at h
    · cases h; simp
    · cases h
  | a :: b :: r, bs, h => by
    unfold cb_hr at h
    split at h
    · cases h; simp
    · split at h
      · rename_i hx
        cases hr : cb_hr r with
        | none => rw [hr] at h; cases h
        | some l =>
          rw [hr] at h
          have := cb_hr_len r l hr
          cases h
          refine ⟨by simp; omega, fun x hxm => ?_⟩
          rcases List.mem_cons.mp hxm with rfl | hxm
          · omega
          · exact this.2 x hxm
      · cases h
theorem cb_getD_ne {txt : List Nat} {p : Nat} (h : txt.getD p 0 ≠ 0) : p < txt.length := by
  by_cases e : p < txt.length
  · exact e
  · exact absurd (by rw [List.getD_eq_getElem?_getD, List.getElem?_eq_none (by omega)]; rfl) h
/-- the invariant between two steps of the reading -/
def cb_PT (lim : Nat) (s : cb_S3) (due : Bool) (p : Nat) : Prop := cb_PI lim (!due) s p ∧ (∀ f ∈ s.1, f.2.2.1 = 0) ∧ (due = true → s.2.1 = [])
theorem cb_cm_l0 : ∀ {c : List cb_Fr} {d : Bool} {e : List Nat}, (∀ f ∈ c, f.2.2.1 = 0) → ∀ f ∈ (cb_cm c d e).1, f.2.2.1 = 0 := by
  intro c d e h
  cases c with
  | nil => intro f hf; simp [cb_cm] at hf
  | cons g c =>
    obtain ⟨m, num, lf, ks⟩ := g
    have h0 : lf = 0 := h (m, num, lf, ks) (by simp)
    intro f hf
    rw [cb_cm_c, if_neg (by omega)] at hf
    rcases List.mem_cons.mp hf with rfl | hf
    · dsimp only; omega
    · exact h f (by simp [hf])
theorem cb_cm_PT {lim : Nat} {c : List cb_Fr} {d : Bool} {e : List Nat} {p : Nat} (hf : cb_FI lim false c) (h0 : ∀ f ∈ c, f.2.2.1 = 0) (hi : cb_IT (lim - c.length) e) (hs : (cb_oo c).length + e.length + cb_rsm c ≤ p) (hp : p < 2 ^ 31) : cb_PT lim (cb_cm c d e) false p :=
  ⟨cb_cm_PI hf hi hs hp, cb_cm_l0 h0, fun h => by cases h⟩
theorem cb_bt_PT {txt : List Nat} {lim p p' : Nat} {c : List cb_Fr} {d due : Bool} {s : cb_S3} (hn : txt.length ≤ 128)
    (h : cb_bt txt lim c d p = .inr (s, due, p')) (hf : cb_FI lim false c) (h0 : ∀ f ∈ c, f.2.2.1 = 0) (hs : (cb_oo c).length + cb_rsm c ≤ p) (hpn : p ≤ txt.length) : cb_PT lim s due p' ∧ p < p' ∧ p' ≤ txt.length := by
  unfold cb_bt at h
  split at h
  · cases h
  rename_i g1
  split at h
  · cases h
  rename_i g2
  have hit1 : ∀ e, cb_IT 1 e → cb_IT (lim - c.length) e := fun e he => cb_IT_mo he (by omega)
  have hp1 : p < txt.length := by
    refine cb_getD_ne fun e => g1 ?_
    rw [e]; exact ⟨rfl, by omega⟩
  by_cases gd : cb_dg (txt.getD p 0) = true
  · rw [if_pos gd] at h
    unfold cb_b0 at h
    have hl := cb_ds_len txt p
    have hds := cb_ds_dg txt p
    have hl0 : 0 < (cb_ds txt p).length := by
      unfold cb_ds
      cases e : txt.drop p with
      | nil => have := congrArg List.length e; simp at this; omega
      | cons x xs =>
        have := (cb_drop_getD (o := txt) (p := p) (t := 0))
        rw [e] at this
        simp at this
        rw [List.takeWhile_cons, this]
        simp at gd
        simp [gd]
    generalize cb_ds txt p = ds at *
    have hx := cb_dg_len hds hl0
    split at h
    · cases h
    rename_i g3
    have hv : cb_vl ds < 2 ^ 32 := by omega
    split at h
    · rename_i g4
      obtain ⟨rfl, rfl, rfl⟩ := cb_i3 h
      have hq : p + ds.length < txt.length := cb_getD_ne (by rw [g4]; omega)
      refine ⟨⟨⟨⟨Or.inr (Or.inr rfl), by omega, by omega, hv, fun _ => ⟨Or.inl rfl, (fun h => by cases h), fun _ => rfl⟩, fun e => by omega, by omega, by simp, hf⟩, Or.inl rfl, ?_⟩, ?_, fun _ => rfl⟩, by omega, by omega⟩
      · have hct := cb_ct_len (6, cb_vl ds, 0, [])
        simp [cb_oo, cb_rsm, cb_rs] at hct ⊢; omega
      · intro f hf'
        rcases List.mem_cons.mp hf' with rfl | hf'
        · rfl
        · exact h0 f hf'
    · obtain ⟨rfl, rfl, rfl⟩ := cb_i3 h
      have hit := cb_IT_lf (m := 0) hv (Or.inl rfl)
      rw [cb_nE_lf (Or.inl rfl)] at hit
      exact ⟨cb_cm_PT hf h0 (hit1 _ hit) (by rw [cb_hd_len]; omega) (by omega), by omega, by omega⟩
  rw [if_neg gd] at h
  have hds := cb_ds_dg txt (p + 1)
  have hl := cb_ds_len txt (p + 1)
  by_cases g45 : txt.getD p 0 = 45
  · rw [if_pos g45] at h
    unfold cb_b1 at h
    split at h
    · cases h
    rename_i g3
    generalize cb_ds txt (p + 1) = ds at *
    obtain ⟨rfl, rfl, rfl⟩ := cb_i3 h
    have hx := cb_dg_len hds (by omega)
    have hx2 := cb_ext_mo (show cb_vl ds - 1 ≤ cb_vl ds by omega)
    have hit := cb_IT_lf (m := 1) (v := cb_vl ds - 1) (by omega) (by omega)
    rw [cb_nE_lf (by omega)] at hit
    exact ⟨cb_cm_PT hf h0 (hit1 _ hit) (by rw [cb_hd_len]; omega) (by omega), by omega, by omega⟩
  rw [if_neg g45] at h
  by_cases g115 : txt.getD p 0 = 115
  · rw [if_pos g115] at h
    unfold cb_b7 at h
    split at h
    · cases h
    rename_i g3
    generalize cb_ds txt (p + 1) = ds at *
    obtain ⟨rfl, rfl, rfl⟩ := cb_i3 h
    have hx := cb_dg_len hds (by omega)
    have hit := cb_IT_lf (m := 7) (v := cb_vl ds) (by omega) (by omega)
    rw [cb_nE_lf (by omega)] at hit
    exact ⟨cb_cm_PT hf h0 (hit1 _ hit) (by rw [cb_hd_len]; omega) (by omega), by omega, by omega⟩
  rw [if_neg g115] at h
  by_cases g104 : txt.getD p 0 = 104
  · rw [if_pos g104] at h
    split at h
    · rename_i g39
      cases hr : cb_hr (txt.drop (p + 2)) with
      | none => rw [hr] at h; cases h
      | some bs =>
        rw [hr] at h
        obtain ⟨rfl, rfl, rfl⟩ := cb_i3 h
        obtain ⟨h1, h2⟩ := cb_hr_len _ _ hr
        rw [List.length_drop] at h1
        have hx := cb_ext1 (n := bs.length) (by omega)
        exact ⟨cb_cm_PT hf h0 (hit1 _ (cb_IT_by (by omega) rfl h2)) (by rw [List.length_append, cb_hd_len]; omega) (by omega), by omega, by omega⟩
    · cases h
  rw [if_neg g104] at h
  have hm : (if txt.getD p 0 = 91 then 4 else 5) = 4 ∨ (if txt.getD p 0 = 91 then 4 else 5) = 5 := by split <;> omega
  generalize (if txt.getD p 0 = 91 then 4 else 5) = m at *
  unfold cb_b4 at h
  split at h
  · rename_i gc
    obtain ⟨rfl, rfl, rfl⟩ := cb_i3 h
    have hq : p + 1 < txt.length := cb_getD_ne (by rw [gc]; unfold cb_cl; split; omega; split <;> omega)
    have hit := cb_IT_lf (m := m) (v := 0) (by omega) (by omega)
    exact ⟨cb_cm_PT hf h0 (hit1 _ hit) (by rw [cb_nE_lf (by omega), cb_hd_len]; have : cb_ext 0 = 0 := rfl; omega) (by omega), by omega, by omega⟩
  · obtain ⟨rfl, rfl, rfl⟩ := cb_i3 h
    refine ⟨⟨⟨⟨by omega, by omega, by omega, by omega, fun _ => by omega, fun _ h => by omega, by omega, by simp, hf⟩, Or.inl rfl, ?_⟩, ?_, fun _ => rfl⟩, by omega, by omega⟩
    · have hct := cb_ct_len (m, 0, 0, [])
      have hm6 : m ≠ 6 := by omega
      dsimp only at hct
      rw [if_neg hm6] at hct
      simp [cb_oo, cb_rsm, cb_rs, hm6]; simp at hct; rw [hct]; simp; omega
    · intro f hf'
      rcases List.mem_cons.mp hf' with rfl | hf'
      · rfl
      · exact h0 f hf'
theorem cb_nd_sz {lim m num p : Nat} {ks : List (List Nat)} {c : List cb_Fr} (hf : cb_FI lim true ((m, num, 0, ks) :: c)) (hs : (cb_oo ((m, num, 0, ks) :: c)).length + cb_rsm ((m, num, 0, ks) :: c) ≤ p) (hp : p ≤ 128) (ho : ¬ (m = 5 ∧ ks.length % 2 = 1)) :
    cb_IT (lim - c.length) (cb_nE m num ks) ∧ (cb_oo c).length + (cb_nE m num ks).length + cb_rsm c ≤ p + 1 ∧ ks.length ≤ 128 := by
  obtain ⟨hm, hl1, hl2, hnu, h6, h5, hcl, hks, hfc⟩ := hf
  have hkn := cb_kn fun k hk => cb_SK_ne (hks k hk).1
  have hct := cb_ct_len (m, num, 0, ks)
  dsimp only at hct
  simp only [cb_oo, cb_rsm, List.length_append] at hs
  unfold cb_rs at hs
  dsimp only at hs
  have hit : cb_IT (lim - c.length) (cb_nE m num ks) := by
    rw [show lim - c.length = lim - (c.length + 1) + 1 by omega]
    refine cb_IT_nd ?_ (by omega) hks
    rcases hm with rfl | rfl | rfl
    · exact Or.inl rfl
    · exact Or.inr (Or.inl ⟨rfl, by omega⟩)
    · exact Or.inr (Or.inr ⟨rfl, ((h6 rfl).2.1 rfl).1, hnu⟩)
  refine ⟨hit, ?_, by omega⟩
  rw [cb_nE_len _ (by omega)]
  rcases hm with rfl | rfl | rfl
  · have := cb_ext1 (n := ks.length) (by omega)
    simp at hs hct ⊢; omega
  · have := cb_ext1 (n := ks.length / 2) (by omega)
    simp at hs hct ⊢; omega
  · simp at hs hct ⊢; omega
theorem cb_af_PT {txt : List Nat} {lim p p' : Nat} {c : List cb_Fr} {d due : Bool} {s : cb_S3} (hn : txt.length ≤ 128)
    (h : cb_af txt c d p = .inr (s, due, p')) (hf : cb_FI lim true c) (h0 : ∀ f ∈ c, f.2.2.1 = 0) (hs : (cb_oo c).length + cb_rsm c ≤ p) (hpn : p ≤ txt.length) : cb_PT lim s due p' ∧ p < p' ∧ p' ≤ txt.length := by
  cases c with
  | nil => cases h
  | cons f c =>
    obtain ⟨m, num, lf, ks⟩ := f
    have hl : lf = 0 := h0 (m, num, lf, ks) (by simp)
    subst hl
    rw [cb_af_c] at h
    split at h
    · rename_i g
      obtain ⟨rfl, rfl, rfl⟩ := cb_i3 h
      have hq : p < txt.length := cb_getD_ne (by rw [g.1]; unfold cb_cl; split; omega; split <;> omega)
      obtain ⟨h1, h2, _⟩ := cb_nd_sz hf hs (by omega) g.2
      exact ⟨cb_cm_PT hf.2.2.2.2.2.2.2.2 (fun f hf => h0 f (by simp [hf])) h1 h2 (by omega), by omega, by omega⟩
    · split at h
      · rename_i g
        obtain ⟨rfl, rfl, rfl⟩ := cb_i3 h
        have hq : p < txt.length := cb_getD_ne (by rw [g.2]; unfold cb_sp; split <;> omega)
        refine ⟨⟨⟨cb_FI_tf hf (fun f c' e => by have := (List.cons.inj e).1; rw [← this]; exact g.1), Or.inl rfl, ?_⟩, h0, fun _ => rfl⟩, by omega, by omega⟩
        simp; omega
      · cases h
theorem cb_ts_PT {txt : List Nat} {lim p p' : Nat} {c : List cb_Fr} {d due due' : Bool} {s : cb_S3} (hn : txt.length ≤ 128)
    (h : cb_ts txt lim c d due p = .inr (s, due', p')) (hP : cb_PT lim (c, [], d) due p) (hpn : p ≤ txt.length) : cb_PT lim s due' p' ∧ p < p' ∧ p' ≤ txt.length := by
  obtain ⟨⟨h1, h2, h3⟩, h4, h5⟩ := hP
  unfold cb_ts at h
  cases due with
  | true => exact cb_bt_PT hn h h1 h4 (by simpa using h3) hpn
  | false => exact cb_af_PT hn h h1 h4 (by simpa using h3) hpn
end
section
/-! X: the text -/
def cb_TX (txt : List Nat) : Prop := ∀ c ∈ txt, 33 ≤ c ∧ c ≤ 126
def cb_pk (txt : List Nat) (p : Nat) : Int32 := if p < txt.length then nI (txt.getD p 0) else -1
theorem cb_TX_g {txt : List Nat} (h : cb_TX txt) {p : Nat} (hp : p < txt.length) : 33 ≤ txt.getD p 0 ∧ txt.getD p 0 ≤ 126 := by
  rw [List.getD_eq_getElem?_getD, List.getElem?_eq_getElem hp]; exact h _ (List.getElem_mem hp)
theorem cb_getD_z {txt : List Nat} {p : Nat} (hp : ¬ p < txt.length) : txt.getD p 0 = 0 := by
  rw [List.getD_eq_getElem?_getD, List.getElem?_eq_none (by omega)]; rfl
theorem cb_pk_eq {txt : List Nat} (h : cb_TX txt) {p k : Nat} (hk : 0 < k) (hk2 : k < 2 ^ 31) : cb_pk txt p = nI k ↔ txt.getD p 0 = k := by
  unfold cb_pk
  by_cases hp : p < txt.length
  · have := cb_TX_g h hp
    rw [if_pos hp, nI_eq (by omega) hk2]
  · rw [if_neg hp, cb_getD_z hp]
    refine ⟨fun e => absurd e.symm (cb_nim hk2 _), fun e => by omega⟩
theorem cb_pke {A B : Prop} {txt : List Nat} (h : cb_TX txt) {p : Nat} {x : Int32} (k : Nat) (f : txt.getD p 0 = k → A) (g : txt.getD p 0 ≠ k → B) (hk : 0 < k := by decide) (hk2 : k < 2 ^ 31 := by decide) (hx : x = nI k := by rfl) : (cb_pk txt p = x → A) ∧ (¬ cb_pk txt p = x → B) := by
  rw [hx, cb_pk_eq h hk hk2]; exact ⟨f, g⟩
section cxe
variable {xM xL xS xI xT xO xP xp xF xR xD xd : Int32} {uI uT uC uL uO uS uK uA uP uM : Nat → Int32} {uF : Nat → Int64}
theorem cx_peek {post : Int32 → Prop} {txt : List Nat} {p : Nat} (hT : cb_At uT 0 txt) (hxT : xT = nI txt.length) (hn : txt.length ≤ 128) (hp : xp = nI p) (hpn : p < 2 ^ 31) (h : post (cb_pk txt p)) : wpX_peek post (xM, xL, xS, xI, xT, xO, xP, xp, xF, xR, xD, xd, uI, uT, uC, uL, uO, uS, uK, uA, uP, uM, uF) := by
  unfold cb_pk at h
  refine pk_le txt.length p (fun e => ?_) (fun e => ⟨by rw [hp]; exact vp_in_nI (by omega) (by omega), ?_⟩) hxT hp
  · rw [if_neg (by omega)] at h; exact h
  · rw [if_pos e] at h; rw [hp, nI_clamp (by omega), cb_At0 hT e]; exact h
theorem cx_isd {post : Int32 → Prop} {c : Nat} (hc : c < 2 ^ 31) (h : post (if cb_dg c = true then 1 else 0)) : wpX_isDigit post (xM, xL, xS, xI, xT, xO, xP, xp, xF, xR, xD, xd, uI, uT, uC, uL, uO, uS, uK, uA, uP, uM, uF) (nI c) := by
  unfold cb_dg at h
  simp only [decide_eq_true_iff] at h
  refine pk_lt c 48 (fun e => ?_) (fun e => pk_lt 57 c (fun e2 => ?_) (fun e2 => ?_))
  · rw [if_neg (by omega)] at h; exact h
  · rw [if_neg (by omega)] at h; exact h
  · rw [if_pos (by omega)] at h; exact h
theorem cx_isp {post : Int32 → Prop} {txt : List Nat} {p : Nat} (ht : cb_TX txt) (h : post (if cb_dg (txt.getD p 0) = true then 1 else 0)) : wpX_isDigit post (xM, xL, xS, xI, xT, xO, xP, xp, xF, xR, xD, xd, uI, uT, uC, uL, uO, uS, uK, uA, uP, uM, uF) (cb_pk txt p) := by
  unfold cb_pk
  by_cases hp : p < txt.length
  · have := cb_TX_g ht hp
    rw [if_pos hp]; exact cx_isd (by omega) h
  · rw [cb_getD_z hp] at h
    rw [if_neg hp]
    exact br_t (by decide) h
theorem cx_hxv {post : Int32 → Prop} {c : Nat} (hc : c < 2 ^ 31) (h : post (if cb_hx c < 16 then nI (cb_hx c) else -1)) : wpX_hexValue post (xM, xL, xS, xI, xT, xO, xP, xp, xF, xR, xD, xd, uI, uT, uC, uL, uO, uS, uK, uA, uP, uM, uF) (nI c) := by
  unfold wpX_hexValue
  dsimp only
  refine cx_isd hc ?_
  unfold cb_dg
  unfold cb_hx at h
  by_cases e : 48 ≤ c ∧ c ≤ 57
  · rw [if_pos e, if_pos (by omega)] at h
    rw [decide_eq_true e, if_pos rfl]
    refine br_f (by decide) ?_
    rw [show (48 : Int32) = nI 48 from rfl, pk_sub e.1]; exact h
  · rw [if_neg e] at h
    rw [decide_eq_false e, if_neg (by decide)]
    refine br_t rfl (pk_lt c 97 (fun e1 => ?_) (fun e1 => pk_lt 102 c (fun e2 => ?_) (fun e2 => ?_)))
    · rw [if_neg (show ¬ (97 ≤ c ∧ c ≤ 102) by omega), if_neg (by omega)] at h; exact h
    · rw [if_neg (show ¬ (97 ≤ c ∧ c ≤ 102) by omega), if_neg (by omega)] at h; exact h
    · rw [if_pos (show 97 ≤ c ∧ c ≤ 102 by omega), if_pos (by omega)] at h
      rw [show (97 : Int32) = nI 97 from rfl, pk_sub e1, show (10 : Int32) = nI 10 from rfl, nI_add, show c - 97 + 10 = c - 87 by omega]; exact h
theorem cx_rn_lp {post : Int64 → SX → Prop} {txt : List Nat} {p : Nat} (hT : cb_At uT 0 txt) (hxT : xT = nI txt.length) (hn : txt.length ≤ 128) (ht : cb_TX txt) (hp : p ≤ txt.length)
    (K : post (if 1 ≤ (cb_ds txt p).length ∧ (cb_ds txt p).length ≤ 10 then lN (cb_vl (cb_ds txt p)) else -1) (xM, xL, xS, xI, xT, xO, xP, nI (p + (cb_ds txt p).length), xF, xR, xD, xd, uI, uT, uC, uL, uO, uS, uK, uA, uP, uM, uF)) :
    ∀ (xs ds0 : List Nat) (n : Nat), txt.drop (p + ds0.length) = xs → cb_ds txt p = ds0 ++ xs.takeWhile cb_dg → p + ds0.length ≤ txt.length → xs.length < n →
      wX_readNumber_7 post (nI p) xM xL xS xI xT xO xP xF xR xD xd uI uT uC uL uO uS uK uA uP uM uF n (lN (cb_vl (ds0.take 10))) (nI (p + ds0.length)) := by
  have fin : ∀ ds0 : List Nat, cb_ds txt p = ds0 → p + ds0.length ≤ txt.length → wX_readNumber_78 post (nI p) (lN (cb_vl (ds0.take 10))) xM xL xS xI xT xO xP (nI (p + ds0.length)) xF xR xD xd uI uT uC uL uO uS uK uA uP uM uF := by
    intro ds0 h hl
    rw [h] at K
    refine nm_r (e' := nI ds0.length) (by rw [pk_sub (by omega)]; exact congrArg nI (by omega)) (pk_lt ds0.length 1 (fun e => ?_) (fun e => pk_le ds0.length 10 (fun e2 => ?_) (fun e2 => ?_)))
    · rw [if_neg (by omega)] at K; exact K
    · rw [if_pos (by omega)] at K; rw [List.take_of_length_le e2]; exact K
    · rw [if_neg (by omega)] at K; exact K
  intro xs
  induction xs with
  | nil =>
    intro ds0 n hx hd hl hf
    obtain ⟨n, rfl⟩ : ∃ k, n = k + 1 := ⟨n - 1, by omega⟩
    have : txt.length ≤ p + ds0.length := by have := congrArg List.length hx; simp at this; omega
    refine br_t (by rw [hxT]; exact nI_le this (by omega)) (fin ds0 (by simpa using hd) hl)
  | cons ch xs ih =>
    intro ds0 n hx hd hl hf
    obtain ⟨n, rfl⟩ : ∃ k, n = k + 1 := ⟨n - 1, by omega⟩
    obtain ⟨e0, hlt, hx2⟩ := cb_hd0 hx
    have hch := cb_TX_g ht hlt
    rw [e0] at hch
    rw [List.length_cons] at hf
    refine br_f (by rw [hxT]; exact nI_ge hlt (by omega)) ⟨vp_in_nI (by omega) (by omega), ?_⟩
    rw [nI_clamp (by omega), cb_At0 hT hlt, e0]
    refine cx_isd (by omega) ?_
    cases hdg : cb_dg ch with
    | false =>
      rw [if_neg (by decide)]
      refine br_t rfl (fin ds0 ?_ hl)
      rw [hd, List.takeWhile_cons, hdg]; simp
    | true =>
      rw [if_pos rfl]
      refine br_f (by decide) ?_
      have hd' : cb_ds txt p = (ds0 ++ [ch]) ++ xs.takeWhile cb_dg := by rw [hd, List.takeWhile_cons, hdg]; simp
      have hlen : (ds0 ++ [ch]).length = ds0.length + 1 := by simp
      have := ih (ds0 ++ [ch]) n (by rw [hlen, ← Nat.add_assoc]; exact hx2) hd' (by omega) (by omega)
      rw [hlen, ← Nat.add_assoc] at this
      rw [pk_sub (by omega), show p + ds0.length - p = ds0.length by omega]
      refine pk_le 10 ds0.length (fun e => nm_r (nI_1 _) ?_) (fun e => ⟨vp_in_nI (by omega) (by omega), ?_⟩)
      · rw [List.take_append_of_le_length e] at this; exact this
      · rw [List.take_of_length_le (by omega), cb_vl_sn] at this
        rw [List.take_of_length_le (by omega), show (48 : Int32) = nI 48 from rfl]
        unfold cb_dg at hdg
        rw [decide_eq_true_iff] at hdg
        rw [pk_sub hdg.1, cb_lI (by omega), show (10 : Int64) = lN 10 from rfl, lN_mul, lN_add]
        exact nm_e (nm_r (nI_1 _) this)
theorem cx_rn {post : Int64 → SX → Prop} {txt : List Nat} {p : Nat} (hT : cb_At uT 0 txt) (hxT : xT = nI txt.length) (hn : txt.length ≤ 128) (ht : cb_TX txt) (hp : p ≤ txt.length) (hxp : xp = nI p)
    (K : post (if 1 ≤ (cb_ds txt p).length ∧ (cb_ds txt p).length ≤ 10 then lN (cb_vl (cb_ds txt p)) else -1) (xM, xL, xS, xI, xT, xO, xP, nI (p + (cb_ds txt p).length), xF, xR, xD, xd, uI, uT, uC, uL, uO, uS, uK, uA, uP, uM, uF)) : wpX_readNumber post (xM, xL, xS, xI, xT, xO, xP, xp, xF, xR, xD, xd, uI, uT, uC, uL, uO, uS, uK, uA, uP, uM, uF) := by
  subst hxp
  exact ⟨_, cx_rn_lp hT hxT hn ht hp K (txt.drop p) [] (txt.length + 1) (by simp) (by simp [cb_ds]) (by simpa using hp) (by simp; omega)⟩
theorem cx_clo {post : Int32 → Prop} {m : Nat} (hm : m < 2 ^ 31) (h : post (nI (cb_cl m))) : wpX_closerOf post (xM, xL, xS, xI, xT, xO, xP, xp, xF, xR, xD, xd, uI, uT, uC, uL, uO, uS, uK, uA, uP, uM, uF) (nI m) := by
  unfold cb_cl at h
  refine pk_eq m 4 (fun e => ?_) (fun e => pk_eq m 5 (fun e2 => ?_) (fun e2 => ?_))
  · rw [if_pos e] at h; exact h
  · rw [if_neg e, if_pos e2] at h; exact h
  · rw [if_neg e, if_neg e2] at h; exact h
end cxe
section cxf
variable {xM xL xS xI xT xO xP xp xF xD xd : Int32} {uI uT uC uL uO uS uK uA uP uM : Nat → Int32} {uF : Nat → Int64}
theorem cx_fi {post : Int32 → SX → Prop} {lim : Nat} {c : List cb_Fr} {d : Bool} {e : List Nat} (hI : cb_FI lim false c) (h8 : lim ≤ 8) (he : cb_IT (lim - c.length) e) (hsz : (cb_oo c).length + e.length + cb_rsm c ≤ 128)
    (hO : cb_At uO 0 (cb_oo c ++ e)) (hxO : xO = nI (cb_oo c ++ e).length) (hP : xP = nI c.length) (hD : xD = cb_b d) (hF : cx_FX uK uA uP uM uF c)
    (K : ∀ (xO xP xR xD : Int32) (uO uS uP uM : Nat → Int32) (uF : Nat → Int64), cx_BX (cb_cm c d e) xO xP xR xD uO uK uA uP uM uF → post 0 (xM, xL, xS, xI, xT, xO, xP, xp, xF, xR, xD, 0, uI, uT, uC, uL, uO, uS, uK, uA, uP, uM, uF)) : wpX_finishItem post (xM, xL, xS, xI, xT, xO, xP, xp, xF, 0, xD, xd, uI, uT, uC, uL, uO, uS, uK, uA, uP, uM, uF) := by
  refine cx_cm hI h8 he (cb_FI_by hI) hsz hO hxO hP hD hF ?_
  intro xO xP xR xD uO uS uP uM uF hB
  exact K xO xP xR xD uO uS uP uM uF hB
/-- a head at the end of out, then the item is complete -/
theorem cx_phf {post : Int32 → SX → Prop} {lim : Nat} {c : List cb_Fr} {d : Bool} {m v : Nat} (hI : cb_FI lim false c) (h8 : lim ≤ 8) (hv : v < 2 ^ 32) (he : cb_IT (lim - c.length) (cb_hd m v)) (hsz : (cb_oo c).length + (cb_hd m v).length + cb_rsm c ≤ 128)
    (hO : cb_At uO 0 (cb_oo c)) (hxO : xO = nI (cb_oo c).length) (hP : xP = nI c.length) (hD : xD = cb_b d) (hF : cx_FX uK uA uP uM uF c)
    (K : ∀ (xO xP xR xD : Int32) (uO uS uP uM : Nat → Int32) (uF : Nat → Int64), cx_BX (cb_cm c d (cb_hd m v)) xO xP xR xD uO uK uA uP uM uF → post 0 (xM, xL, xS, xI, xT, xO, xP, xp, xF, xR, xD, 0, uI, uT, uC, uL, uO, uS, uK, uA, uP, uM, uF)) :
    wpX_putHead (fun u => match u with | (xM, xL, xS, xI, xT, xO, xP, xp, xF, xR, xD, xd, uI, uT, uC, uL, uO, uS, uK, uA, uP, uM, uF) => (wpX_finishItem (fun r_51 u => match u with | (xM, xL, xS, xI, xT, xO, xP, xp, xF, xR, xD, xd, uI, uT, uC, uL, uO, uS, uK, uA, uP, uM, uF) => (post r_51 (xM, xL, xS, xI, xT, xO, xP, xp, xF, xR, xD, xd, uI, uT, uC, uL, uO, uS, uK, uA, uP, uM, uF))) (xM, xL, xS, xI, xT, xO, xP, xp, xF, xR, xD, xd, uI, uT, uC, uL, uO, uS, uK, uA, uP, uM, uF))) (xM, xL, xS, xI, xT, xO, xP, xp, xF, 0, xD, xd, uI, uT, uC, uL, uO, uS, uK, uA, uP, uM, uF) xO (nI m) (lN v) := by
  rw [hxO]
  refine cx_ph (o1 := cb_oo c) (o2 := []) (m := m) (n := v) (by rw [List.append_nil]; exact hO) (by simp) hv (by simp; omega) (fun uO1 hO1 => ?_)
  rw [List.append_nil] at hO1
  refine cx_fi hI h8 he hsz hO1 (by simp) hP hD hF ?_
  intro xO xP xR xD uO uS uP uM uF hB
  exact K xO xP xR xD uO uS uP uM uF hB
end cxf
section cxg
variable {xM xL xS xI xT xO xP xp xF xR xD xd : Int32} {uI uT uC uL uO uS uK uA uP uM : Nat → Int32} {uF : Nat → Int64}
theorem cx_b0 {post : Int32 → SX → Prop} {lim : Nat} {c : List cb_Fr} {d : Bool} {p : Nat} {txt : List Nat} (hT : cb_At uT 0 txt) (hxT : xT = nI txt.length) (ht : cb_TX txt) (hn : txt.length ≤ 128) (h8 : lim ≤ 8) (hf : cb_FI lim false c) (hc : c.length < lim) (hp : xp = nI p) (hpn : p ≤ txt.length) (hsz : (cb_oo c).length + cb_rsm c ≤ p) (hB : cx_BX (c, [], d) xO xP xR xD uO uK uA uP uM uF) (hd0 : 0 < (cb_ds txt p).length) (hxd : xd = 1)
    (K1 : ∀ r, cb_b0 txt c d (p + (cb_ds txt p).length) (cb_ds txt p) = .inl r → ∀ (xO xP xp xR xD xd : Int32) (uO uS uK uA uP uM : Nat → Int32) (uF : Nat → Int64), post r (xM, xL, xS, xI, xT, xO, xP, xp, xF, xR, xD, xd, uI, uT, uC, uL, uO, uS, uK, uA, uP, uM, uF))
    (K2 : ∀ s due p', cb_b0 txt c d (p + (cb_ds txt p).length) (cb_ds txt p) = .inr (s, due, p') → ∀ (xO xP xR xD : Int32) (uO uS uK uA uP uM : Nat → Int32) (uF : Nat → Int64), cx_BX s xO xP xR xD uO uK uA uP uM uF → post 0 (xM, xL, xS, xI, xT, xO, xP, nI p', xF, xR, xD, cb_b due, uI, uT, uC, uL, uO, uS, uK, uA, uP, uM, uF)) : wpX_readNumberOrTag post (xM, xL, xS, xI, xT, xO, xP, xp, xF, xR, xD, xd, uI, uT, uC, uL, uO, uS, uK, uA, uP, uM, uF) := by
  obtain ⟨hxO, hO, hP, hD, hR, hF⟩ := hB
  rw [if_pos rfl] at hR
  dsimp only at hxO hO hP hD hF
  rw [List.flatten_nil, List.nil_append] at hxO hO
  subst hR
  have hdl := cb_ds_len txt p
  have hdg := cb_ds_dg txt p
  refine cx_rn hT hxT hn ht hpn hp ?_
  generalize cb_ds txt p = ds at *
  have hx := cb_dg_len hdg hd0
  unfold cb_b0 at K1 K2
  by_cases e : ds.length ≤ 10
  · rw [if_pos (by omega)]
    have hvl := cb_vl_lt hdg
    have h10 : (10 : Nat) ^ ds.length ≤ 10 ^ 10 := Nat.pow_le_pow_right (by omega) e
    refine br_f (by show ¬ lN _ < lN 0; rw [pk_lLT (by omega) (by omega)]; omega) (cb_lle (cb_vl ds) 4294967295 (fun e2 => ?_) (fun e2 => ?_))
    · rw [if_neg (by omega)] at K1 K2
      refine cx_peek hT hxT hn rfl (by omega) (cb_pke ht 40 (fun e3 => ?_) (fun e3 => ?_))
      · rw [if_pos e3] at K2
        refine nm_r (nI_1 _) ?_
        rw [hxO]
        have hq : p + ds.length < txt.length := cb_getD_ne (by rw [e3]; omega)
        have hh := cb_hd_len 6 (cb_vl ds)
        refine cx_ph (o1 := cb_oo c) (o2 := []) (m := 6) (n := cb_vl ds) (by rw [List.append_nil]; exact hO) (by simp) (by omega) (by simp; omega) (fun uO1 hO1 => ?_)
        rw [List.append_nil] at hO1
        refine cx_of (m := 6) (j := c.length) (by omega) hP ?_
        have hoo : cb_oo ((6, cb_vl ds, 0, []) :: c) = cb_oo c ++ cb_hd 6 (cb_vl ds) := by simp [cb_oo, cb_ct, cb_bd]
        have hFX := cx_FX_of (xO := nI (cb_oo c ++ cb_hd 6 (cb_vl ds)).length) (m := 6) (num := cb_vl ds) (lf := 0) hF (fun h => absurd rfl h)
        have := K2 _ _ _ rfl (nI (cb_oo c ++ cb_hd 6 (cb_vl ds)).length) (nI (c.length + 1)) 0 xD uO1 uS _ _ _ _ _ ⟨by rw [List.flatten_nil, List.nil_append, hoo], by rw [List.flatten_nil, List.nil_append, hoo]; exact hO1, by simp, hD, rfl, hFX⟩
        rw [cb_L0, List.length_append] at this
        rw [hxd]
        exact this
      · rw [if_neg e3] at K2
        have hit := cb_IT_lf (m := 0) (v := cb_vl ds) (by omega) (Or.inl rfl)
        rw [cb_nE_lf (Or.inl rfl)] at hit
        refine cx_phf hf h8 (by omega) (cb_IT_mo hit (by omega)) (by rw [cb_hd_len]; omega) hO hxO hP hD hF ?_
        intro xO xP xR xD uO uS uP uM uF hB
        exact K2 _ _ _ rfl xO xP xR xD uO uS uK uA uP uM uF hB
    · rw [if_pos (by omega)] at K1
      exact K1 _ rfl _ _ _ _ _ _ _ _ _ _ _ _ _
  · rw [if_neg (by omega)]
    rw [if_pos (by omega)] at K1
    exact br_t (by decide) (K1 _ rfl _ _ _ _ _ _ _ _ _ _ _ _ _)
theorem cx_b1 {post : Int32 → SX → Prop} {lim : Nat} {c : List cb_Fr} {d : Bool} {p : Nat} {txt : List Nat} (hT : cb_At uT 0 txt) (hxT : xT = nI txt.length) (ht : cb_TX txt) (hn : txt.length ≤ 128) (h8 : lim ≤ 8) (hf : cb_FI lim false c) (hc : c.length < lim) (hp : xp = nI p) (hpn : p ≤ txt.length) (hsz : (cb_oo c).length + cb_rsm c ≤ p) (hB : cx_BX (c, [], d) xO xP xR xD uO uK uA uP uM uF)
    (K1 : ∀ r, cb_b1 c d (p + (cb_ds txt p).length) (cb_ds txt p) = .inl r → ∀ (xO xP xp xR xD xd : Int32) (uO uS uK uA uP uM : Nat → Int32) (uF : Nat → Int64), post r (xM, xL, xS, xI, xT, xO, xP, xp, xF, xR, xD, xd, uI, uT, uC, uL, uO, uS, uK, uA, uP, uM, uF))
    (K2 : ∀ s due p', cb_b1 c d (p + (cb_ds txt p).length) (cb_ds txt p) = .inr (s, due, p') → ∀ (xO xP xR xD : Int32) (uO uS uK uA uP uM : Nat → Int32) (uF : Nat → Int64), cx_BX s xO xP xR xD uO uK uA uP uM uF → post 0 (xM, xL, xS, xI, xT, xO, xP, nI p', xF, xR, xD, cb_b due, uI, uT, uC, uL, uO, uS, uK, uA, uP, uM, uF)) : wpX_readNegative post (xM, xL, xS, xI, xT, xO, xP, xp, xF, xR, xD, xd, uI, uT, uC, uL, uO, uS, uK, uA, uP, uM, uF) := by
  obtain ⟨hxO, hO, hP, hD, hR, hF⟩ := hB
  rw [if_pos rfl] at hR
  dsimp only at hxO hO hP hD hF
  rw [List.flatten_nil, List.nil_append] at hxO hO
  subst hR
  have hdl := cb_ds_len txt p
  have hdg := cb_ds_dg txt p
  refine cx_rn hT hxT hn ht hpn hp ?_
  generalize cb_ds txt p = ds at *
  unfold cb_b1 at K1 K2
  by_cases e : 1 ≤ ds.length ∧ ds.length ≤ 10
  · rw [if_pos e]
    have hx := cb_dg_len hdg (by omega)
    have hvl := cb_vl_lt hdg
    have h10 : (10 : Nat) ^ ds.length ≤ 10 ^ 10 := Nat.pow_le_pow_right (by omega) e.2
    refine cb_llt (cb_vl ds) 1 (fun e1 => ?_) (fun e1 => cb_lle (cb_vl ds) 4294967296 (fun e2 => ?_) (fun e2 => ?_))
    · rw [if_pos (by omega)] at K1
      exact K1 _ rfl _ _ _ _ _ _ _ _ _ _ _ _ _
    · rw [if_neg (by omega)] at K2
      have hit := cb_IT_lf (m := 1) (v := cb_vl ds - 1) (by omega) (by omega)
      rw [cb_nE_lf (by omega)] at hit
      have hx2 := cb_ext_mo (show cb_vl ds - 1 ≤ cb_vl ds by omega)
      rw [show lN (cb_vl ds) - 1 = lN (cb_vl ds - 1) from lN_sub (b := 1) e1]
      refine cx_phf hf h8 (by omega) (cb_IT_mo hit (by omega)) (by rw [cb_hd_len]; omega) hO hxO hP hD hF ?_
      intro xO xP xR xD uO uS uP uM uF hB
      exact K2 _ _ _ rfl xO xP xR xD uO uS uK uA uP uM uF hB
    · rw [if_pos (by omega)] at K1
      exact K1 _ rfl _ _ _ _ _ _ _ _ _ _ _ _ _
  · rw [if_neg e]
    rw [if_pos (by omega)] at K1
    exact br_t (by decide) (K1 _ rfl _ _ _ _ _ _ _ _ _ _ _ _ _)
theorem cx_b7 {post : Int32 → SX → Prop} {lim : Nat} {c : List cb_Fr} {d : Bool} {p : Nat} {txt : List Nat} (hT : cb_At uT 0 txt) (hxT : xT = nI txt.length) (ht : cb_TX txt) (hn : txt.length ≤ 128) (h8 : lim ≤ 8) (hf : cb_FI lim false c) (hc : c.length < lim) (hp : xp = nI p) (hpn : p ≤ txt.length) (hsz : (cb_oo c).length + cb_rsm c ≤ p) (hB : cx_BX (c, [], d) xO xP xR xD uO uK uA uP uM uF)
    (K1 : ∀ r, cb_b7 c d (p + (cb_ds txt p).length) (cb_ds txt p) = .inl r → ∀ (xO xP xp xR xD xd : Int32) (uO uS uK uA uP uM : Nat → Int32) (uF : Nat → Int64), post r (xM, xL, xS, xI, xT, xO, xP, xp, xF, xR, xD, xd, uI, uT, uC, uL, uO, uS, uK, uA, uP, uM, uF))
    (K2 : ∀ s due p', cb_b7 c d (p + (cb_ds txt p).length) (cb_ds txt p) = .inr (s, due, p') → ∀ (xO xP xR xD : Int32) (uO uS uK uA uP uM : Nat → Int32) (uF : Nat → Int64), cx_BX s xO xP xR xD uO uK uA uP uM uF → post 0 (xM, xL, xS, xI, xT, xO, xP, nI p', xF, xR, xD, cb_b due, uI, uT, uC, uL, uO, uS, uK, uA, uP, uM, uF)) : wpX_readSimple post (xM, xL, xS, xI, xT, xO, xP, xp, xF, xR, xD, xd, uI, uT, uC, uL, uO, uS, uK, uA, uP, uM, uF) := by
  obtain ⟨hxO, hO, hP, hD, hR, hF⟩ := hB
  rw [if_pos rfl] at hR
  dsimp only at hxO hO hP hD hF
  rw [List.flatten_nil, List.nil_append] at hxO hO
  subst hR
  have hdl := cb_ds_len txt p
  have hdg := cb_ds_dg txt p
  refine cx_rn hT hxT hn ht hpn hp ?_
  generalize cb_ds txt p = ds at *
  unfold cb_b7 at K1 K2
  by_cases e : 1 ≤ ds.length ∧ ds.length ≤ 10
  · rw [if_pos e]
    have hx := cb_dg_len hdg (by omega)
    have hvl := cb_vl_lt hdg
    have h10 : (10 : Nat) ^ ds.length ≤ 10 ^ 10 := Nat.pow_le_pow_right (by omega) e.2
    refine br_f (by show ¬ lN _ < lN 0; rw [pk_lLT (by omega) (by omega)]; omega) (cb_lle (cb_vl ds) 23 (fun e2 => ?_) (fun e2 => ?_))
    · rw [if_neg (by omega)] at K2
      have hit := cb_IT_lf (m := 7) (v := cb_vl ds) (by omega) (by omega)
      rw [cb_nE_lf (by omega)] at hit
      refine cx_phf hf h8 (by omega) (cb_IT_mo hit (by omega)) (by rw [cb_hd_len]; omega) hO hxO hP hD hF ?_
      intro xO xP xR xD uO uS uP uM uF hB
      exact K2 _ _ _ rfl xO xP xR xD uO uS uK uA uP uM uF hB
    · rw [if_pos (by omega)] at K1
      exact K1 _ rfl _ _ _ _ _ _ _ _ _ _ _ _ _
  · rw [if_neg e]
    rw [if_pos (by omega)] at K1
    exact br_t (by decide) (K1 _ rfl _ _ _ _ _ _ _ _ _ _ _ _ _)
end cxg
end
section
/-! X: the text, item by item -/
theorem cb_hr_2 {a b : Nat} {r : List Nat} : cb_hr (a :: b :: r) = if a = 39 then some [] else if cb_hx a < 16 ∧ cb_hx b < 16 then (cb_hr r).map (fun l => (16 * cb_hx a + cb_hx b) :: l) else none := by rw [cb_hr]
section cxh
variable {xM xL xS xI xT xP xF xD xd : Int32} {uI uT uC uL uS uK uA uP uM : Nat → Int32} {uF : Nat → Int64}
theorem cx_b2_lp {post : Int32 → SX → Prop} {lim : Nat} {c : List cb_Fr} {d : Bool} {q0 : Nat} {txt : List Nat} (hT : cb_At uT 0 txt) (hxT : xT = nI txt.length) (ht : cb_TX txt) (hn : txt.length ≤ 128) (h8 : lim ≤ 8) (hf : cb_FI lim false c) (hc : c.length < lim) (hsz : (cb_oo c).length + cb_rsm c + 2 ≤ q0) (hP : xP = nI c.length) (hD : xD = cb_b d) (hF : cx_FX uK uA uP uM uF c)
    (K1 : cb_hr (txt.drop q0) = none → ∀ (xO xP xp xR xD xd : Int32) (uO uS uK uA uP uM : Nat → Int32) (uF : Nat → Int64), post (-10) (xM, xL, xS, xI, xT, xO, xP, xp, xF, xR, xD, xd, uI, uT, uC, uL, uO, uS, uK, uA, uP, uM, uF))
    (K2 : ∀ bs, cb_hr (txt.drop q0) = some bs → ∀ (xO xP xR xD : Int32) (uO uS uP uM : Nat → Int32) (uF : Nat → Int64), cx_BX (cb_cm c d (cb_hd 2 bs.length ++ bs)) xO xP xR xD uO uK uA uP uM uF → post 0 (xM, xL, xS, xI, xT, xO, xP, nI (q0 + 2 * bs.length + 1), xF, xR, xD, 0, uI, uT, uC, uL, uO, uS, uK, uA, uP, uM, uF)) :
    ∀ (n : Nat) (l ba : List Nat) (q : Nat) (xO : Int32) (uO : Nat → Int32), txt.drop q = l → q = q0 + 2 * ba.length → q ≤ txt.length → cb_hr (txt.drop q0) = (cb_hr l).map (fun x => ba ++ x) → (∀ b ∈ ba, b < 256) → l.length < n →
      cb_At uO 0 (cb_oo c ++ ba) → xO = nI (cb_oo c ++ ba).length → wX_readBytes_27 post (nI (cb_oo c).length) n xM xL xS xI xT xO xP (nI q) xF 0 xD xd uI uT uC uL uO uS uK uA uP uM uF := by
  intro n
  induction n with
  | zero => intro l ba q xO uO _ _ _ _ _ h; omega
  | succ n ih =>
    intro l ba q xO uO hl hq hqn hh hba hn' hO hxO
    have hlen : l.length = txt.length - q := by rw [← hl]; simp
    -- the end of the byte string
    have fin : (l = [] ∨ (∃ a, l = [a]) ∨ ∃ a r, l = a :: r ∧ a = 39) → wX_readBytes_118 post (nI (cb_oo c).length) xM xL xS xI xT xO xP (nI q) xF 0 xD xd uI uT uC uL uO uS uK uA uP uM uF := by
      intro hcase
      refine cx_peek hT hxT hn rfl (by omega) (cb_pke ht 39 (fun e => ?_) (fun e => ?_))
      · have hqt : q < txt.length := cb_getD_ne (by rw [e]; omega)
        have hs : cb_hr (txt.drop q0) = some ba := by
          rw [hh]
          rcases hcase with rfl | ⟨a, rfl⟩ | ⟨a, r, rfl, ha⟩
          · simp at hlen; omega
          · have := (cb_hd0 hl).1; rw [e] at this; subst this; simp [cb_hr]
          · subst ha
            cases r with
            | nil => simp [cb_hr]
            | cons b r => rw [cb_hr_2]; simp
        have hx := cb_ext1 (n := ba.length) (by omega)
        have hh2 := cb_hd_len 2 ba.length
        refine nm_r (nI_1 _) ?_
        rw [hxO, pk_sub (by rw [List.length_append]; omega), show (cb_oo c ++ ba).length - (cb_oo c).length = ba.length by rw [List.length_append]; omega, cb_lI (by omega)]
        refine cx_ph (o1 := cb_oo c) (o2 := ba) (m := 2) (n := ba.length) hO (by rw [List.length_append]) (by omega) (by omega) (fun uO1 hO1 => ?_)
        refine cx_fi (lim := lim) (c := c) (d := d) (e := cb_hd 2 ba.length ++ ba) hf h8 (cb_IT_mo (cb_IT_by (by omega) rfl hba) (by omega)) (by rw [List.length_append]; omega) hO1 (by refine congrArg nI ?_; simp; omega) hP hD hF ?_
        intro xO xP xR xD uO uS uP uM uF hB
        have := K2 ba hs xO xP xR xD uO uS uP uM uF hB
        rw [← hq] at this
        exact this
      · refine K1 ?_ _ _ _ _ _ _ _ _ _ _ _ _ _
        rw [hh]
        rcases hcase with rfl | ⟨a, rfl⟩ | ⟨a, r, rfl, ha⟩
        · simp [cb_hr]
        · have := (cb_hd0 hl).1; rw [this] at e; simp [cb_hr, e]
        · have := (cb_hd0 hl).1; rw [this] at e; exact absurd ha e
    rcases l with _ | ⟨a, _ | ⟨b, r⟩⟩
    · simp at hlen
      refine br_t ?_ (fin (Or.inl rfl))
      rw [nI_1, hxT]; exact nI_le (by omega) (by omega)
    · simp at hlen
      refine br_t ?_ (fin (Or.inr (Or.inl ⟨a, rfl⟩)))
      rw [nI_1, hxT]; exact nI_le (by omega) (by omega)
    · simp only [List.length_cons] at hlen hn'
      obtain ⟨e0, hlt, hl2⟩ := cb_hd0 hl
      obtain ⟨e1, hlt2, hl3⟩ := cb_hd0 hl2
      have ha := cb_TX_g ht hlt
      have hb := cb_TX_g ht hlt2
      rw [e0] at ha
      rw [e1] at hb
      refine br_f (by rw [nI_1, hxT]; exact nI_ge (by omega) (by omega)) ⟨vp_in_nI (by omega) (by omega), ?_⟩
      rw [nI_1, nI_clamp (by omega), nI_clamp (by omega), cb_At0 hT hlt, cb_At0 hT hlt2, e0, e1]
      refine pk_eq a 39 (fun e => fin (Or.inr (Or.inr ⟨a, b :: r, rfl, e⟩))) (fun e => ⟨vp_in_nI (by omega) (by omega), cx_hxv (by omega) ⟨vp_in_nI (by omega) (by omega), cx_hxv (by omega) ?_⟩⟩)
      rw [cb_hr_2, if_neg e] at hh
      by_cases ga : cb_hx a < 16
      · rw [if_pos ga]
        refine br_f (nI_pos (by omega)) ?_
        by_cases gb : cb_hx b < 16
        · rw [if_pos gb]
          rw [if_pos ⟨ga, gb⟩] at hh
          refine br_t (nI_pos' (by omega)) ?_
          rw [show (16 : Int32) = nI 16 from rfl, pk_mul, nI_add]
          refine cx_pb hO hxO (by rw [List.length_append]; omega) (fun uO1 hO1 => ?_)
          refine nm_r (e' := nI (q + 2)) (nI_add q 2) ?_
          rw [List.append_assoc] at hO1
          refine ih r (ba ++ [16 * cb_hx a + cb_hx b]) (q + 2) _ uO1 hl3 (by simp; omega) (by omega) ?_ ?_ (by omega) hO1 (by rw [List.append_assoc])
          · rw [hh, Option.map_map]
            congr 1
            funext x
            simp
          · intro x hx
            rcases List.mem_append.mp hx with hx | hx
            · exact hba x hx
            · rw [List.mem_singleton.mp hx]; omega
        · rw [if_neg gb]
          rw [if_neg (fun h => gb h.2)] at hh
          exact br_f (by decide) (K1 hh _ _ _ _ _ _ _ _ _ _ _ _ _)
      · rw [if_neg ga]
        rw [if_neg (fun h => ga h.1)] at hh
        exact br_t (by decide) (K1 hh _ _ _ _ _ _ _ _ _ _ _ _ _)
end cxh
section cxi
variable {xM xL xS xI xT xO xP xp xF xR xD xd : Int32} {uI uT uC uL uO uS uK uA uP uM : Nat → Int32} {uF : Nat → Int64}
theorem cx_b2 {post : Int32 → SX → Prop} {lim : Nat} {c : List cb_Fr} {d : Bool} {p : Nat} {txt : List Nat} (hT : cb_At uT 0 txt) (hxT : xT = nI txt.length) (ht : cb_TX txt) (hn : txt.length ≤ 128) (h8 : lim ≤ 8) (hf : cb_FI lim false c) (hc : c.length < lim) (hp : xp = nI p) (hpn : p ≤ txt.length) (hsz : (cb_oo c).length + cb_rsm c + 1 ≤ p) (hB : cx_BX (c, [], d) xO xP xR xD uO uK uA uP uM uF)
    (K1 : ∀ r, (if txt.getD p 0 = 39 then cb_b2 c d (p + 1) (cb_hr (txt.drop (p + 1))) else .inl (-10)) = .inl r → ∀ (xO xP xp xR xD xd : Int32) (uO uS uK uA uP uM : Nat → Int32) (uF : Nat → Int64), post r (xM, xL, xS, xI, xT, xO, xP, xp, xF, xR, xD, xd, uI, uT, uC, uL, uO, uS, uK, uA, uP, uM, uF))
    (K2 : ∀ s due p', (if txt.getD p 0 = 39 then cb_b2 c d (p + 1) (cb_hr (txt.drop (p + 1))) else .inl (-10)) = .inr (s, due, p') → ∀ (xO xP xR xD : Int32) (uO uS uK uA uP uM : Nat → Int32) (uF : Nat → Int64), cx_BX s xO xP xR xD uO uK uA uP uM uF → post 0 (xM, xL, xS, xI, xT, xO, xP, nI p', xF, xR, xD, cb_b due, uI, uT, uC, uL, uO, uS, uK, uA, uP, uM, uF)) : wpX_readBytes post (xM, xL, xS, xI, xT, xO, xP, xp, xF, xR, xD, xd, uI, uT, uC, uL, uO, uS, uK, uA, uP, uM, uF) := by
  obtain ⟨hxO, hO, hP, hD, hR, hF⟩ := hB
  rw [if_pos rfl] at hR
  dsimp only at hxO hO hP hD hF
  rw [List.flatten_nil, List.nil_append] at hxO hO
  subst hR
  unfold wpX_readBytes
  dsimp only
  refine cx_peek hT hxT hn hp (by omega) (cb_pke ht 39 (fun e => ?_) (fun e => ?_))
  · rw [if_pos e] at K1 K2
    have hq : p < txt.length := cb_getD_ne (by rw [e]; omega)
    refine nm_r (e' := nI (p + 1)) (by rw [hp, nI_1]) ?_
    have lp := fun k1 k2 => cx_b2_lp (uS := uS) (post := post) (xM := xM) (xL := xL) (xS := xS) (xI := xI) (xF := xF) (xd := xd) (uI := uI) (uC := uC) (uL := uL) (c := c) (d := d) (q0 := p + 1) hT hxT ht hn h8 hf hc (by omega) hP hD hF k1 k2 (txt.length + 1) (txt.drop (p + 1)) [] (p + 1) xO uO rfl (by simp) (by omega) (by cases cb_hr (txt.drop (p + 1)) <;> simp) (by simp) (by simp; omega) (by simpa using hO) (by simpa using hxO)
    have := lp (fun h => by rw [h] at K1; exact K1 (-10) rfl) (fun bs h => by rw [h] at K2; exact fun xO xP xR xD uO uS uP uM uF hB => K2 _ _ _ rfl xO xP xR xD uO uS uK uA uP uM uF hB)
    rw [← hxO] at this
    exact ⟨_, this⟩
  · rw [if_neg e] at K1
    exact K1 _ rfl _ _ _ _ _ _ _ _ _ _ _ _ _
theorem cx_b4 {post : Int32 → SX → Prop} {lim : Nat} {c : List cb_Fr} {d : Bool} {p m : Nat} {txt : List Nat} (hT : cb_At uT 0 txt) (hxT : xT = nI txt.length) (ht : cb_TX txt) (hn : txt.length ≤ 128) (h8 : lim ≤ 8) (hf : cb_FI lim false c) (hc : c.length < lim) (hm : m = 4 ∨ m = 5) (hp : xp = nI p) (hpn : p ≤ txt.length) (hsz : (cb_oo c).length + cb_rsm c + 1 ≤ p) (hxd : xd = 1) (hB : cx_BX (c, [], d) xO xP xR xD uO uK uA uP uM uF)
    (K2 : ∀ s due p', cb_b4 txt c d p m = .inr (s, due, p') → ∀ (xO xP xR xD : Int32) (uO uS uK uA uP uM : Nat → Int32) (uF : Nat → Int64), cx_BX s xO xP xR xD uO uK uA uP uM uF → post 0 (xM, xL, xS, xI, xT, xO, xP, nI p', xF, xR, xD, cb_b due, uI, uT, uC, uL, uO, uS, uK, uA, uP, uM, uF)) : wpX_readOpening post (xM, xL, xS, xI, xT, xO, xP, xp, xF, xR, xD, xd, uI, uT, uC, uL, uO, uS, uK, uA, uP, uM, uF) (nI m) := by
  obtain ⟨hxO, hO, hP, hD, hR, hF⟩ := hB
  rw [if_pos rfl] at hR
  dsimp only at hxO hO hP hD hF
  rw [List.flatten_nil, List.nil_append] at hxO hO
  subst hR
  unfold cb_b4 at K2
  unfold wpX_readOpening
  dsimp only
  refine cx_of (j := c.length) (by omega) hP (cx_clo (by omega) (cx_peek hT hxT hn hp (by omega) ?_))
  have hF' := cx_FX_of (xO := xO) (m := m) (num := 0) (lf := 0) hF (fun _ => hxO)
  rw [cb_L0] at hF'
  have hoo : cb_oo ((m, 0, 0, []) :: c) = cb_oo c := by
    rcases hm with rfl | rfl <;> simp [cb_oo, cb_ct, cb_bd, cb_mp, cb_srt, cb_fl, cb_tl]
  refine cb_pke ht (cb_cl m) (fun e => ?_) (fun e => ?_) (by unfold cb_cl; split; omega; split <;> omega) (by unfold cb_cl; split; omega; split <;> omega)
  · rw [if_pos e] at K2
    have hq : p < txt.length := cb_getD_ne (by rw [e]; unfold cb_cl; split; omega; split <;> omega)
    refine nm_r (e' := nI (p + 1)) (by rw [hp, nI_1]) ?_
    refine cx_ct (m := m) (num := 0) (lf := 0) (ks := []) (c := c) hF' (by omega) (by simp) (by omega) rfl (by rw [hoo]; exact hO) (by rw [hoo]; exact hxO) (by rw [hoo]; omega) ?_
    intro uO' hO'
    have hnl : (cb_nE m 0 []).length = 1 := by rw [cb_nE_lf (by omega), cb_hd_len]; rfl
    refine cx_fi (lim := lim) (c := c) (d := d) (e := cb_nE m 0 []) hf h8 (cb_IT_mo (cb_IT_lf (by omega) (by omega)) (by omega)) (by rw [hnl]; omega) hO' rfl rfl hD hF'.2.2.2.2.2 ?_
    intro xO xP xR xD uO uS uP uM uF hB
    exact K2 _ _ _ rfl xO xP xR xD uO uS _ _ uP uM uF hB
  · rw [if_neg e] at K2
    have := K2 _ _ _ rfl xO (nI (c.length + 1)) 0 xD uO uS _ _ _ _ _ ⟨by rw [List.flatten_nil, List.nil_append, hoo]; exact hxO, by rw [List.flatten_nil, List.nil_append, hoo]; exact hO, by simp, hD, rfl, hF'⟩
    rw [← hp] at this
    rw [hxd]
    exact this
theorem cx_bt {post : Int32 → SX → Prop} {lim : Nat} {c : List cb_Fr} {d : Bool} {p : Nat} {txt : List Nat} (hT : cb_At uT 0 txt) (hxT : xT = nI txt.length) (ht : cb_TX txt) (hn : txt.length ≤ 128) (hL : xL = nI lim) (h8 : lim ≤ 8) (hf : cb_FI lim false c) (hp : xp = nI p) (hpn : p ≤ txt.length) (hsz : (cb_oo c).length + cb_rsm c ≤ p) (hxd : xd = 1) (hB : cx_BX (c, [], d) xO xP xR xD uO uK uA uP uM uF)
    (K1 : ∀ r, cb_bt txt lim c d p = .inl r → ∀ (xO xP xp xR xD xd : Int32) (uO uS uK uA uP uM : Nat → Int32) (uF : Nat → Int64), post r (xM, xL, xS, xI, xT, xO, xP, xp, xF, xR, xD, xd, uI, uT, uC, uL, uO, uS, uK, uA, uP, uM, uF))
    (K2 : ∀ s due p', cb_bt txt lim c d p = .inr (s, due, p') → ∀ (xO xP xR xD : Int32) (uO uS uK uA uP uM : Nat → Int32) (uF : Nat → Int64), cx_BX s xO xP xR xD uO uK uA uP uM uF → post 0 (xM, xL, xS, xI, xT, xO, xP, nI p', xF, xR, xD, cb_b due, uI, uT, uC, uL, uO, uS, uK, uA, uP, uM, uF)) : wpX_beginItem post (xM, xL, xS, xI, xT, xO, xP, xp, xF, xR, xD, xd, uI, uT, uC, uL, uO, uS, uK, uA, uP, uM, uF) := by
  have hP : xP = nI c.length := hB.2.2.1
  have hlen := cb_FI_len hf
  unfold cb_bt at K1 K2
  unfold wpX_beginItem
  dsimp only
  refine cx_peek hT hxT hn hp (by omega) (cx_isp ht ?_)
  -- an item begins
  have go58 : ¬ (cb_dg (txt.getD p 0) = false ∧ ¬ (txt.getD p 0 = 45 ∨ txt.getD p 0 = 115 ∨ txt.getD p 0 = 104 ∨ txt.getD p 0 = 91 ∨ txt.getD p 0 = 123)) → wX_beginItem_58 post (cb_pk txt p) (if cb_dg (txt.getD p 0) = true then 1 else 0) xM xL xS xI xT xO xP xp xF xR xD xd uI uT uC uL uO uS uK uA uP uM uF := by
    intro hg
    rw [if_neg hg] at K1 K2
    have hp1 : p < txt.length := by
      refine cb_getD_ne fun e => hg ?_
      rw [e]; exact ⟨rfl, by omega⟩
    by_cases h4 : lim ≤ c.length
    · rw [if_pos h4] at K1
      exact br_f (by rw [hP, hL]; exact nI_nlt (by omega) (by omega)) (K1 _ rfl _ _ _ _ _ _ _ _ _ _ _ _ _)
    rw [if_neg h4] at K1 K2
    refine br_t (by rw [hP, hL]; exact nI_lt (by omega) (by omega)) ?_
    by_cases gd : cb_dg (txt.getD p 0) = true
    · rw [if_pos gd] at K1 K2
      rw [if_pos gd]
      refine br_f (by decide) ?_
      have hl0 : 0 < (cb_ds txt p).length := by
        unfold cb_ds
        cases e : txt.drop p with
        | nil => have := congrArg List.length e; simp at this; omega
        | cons x xs =>
          have := (cb_hd0 e).1
          rw [this] at gd
          rw [List.takeWhile_cons, gd]; simp
      exact cx_b0 hT hxT ht hn h8 hf (by omega) hp hpn hsz hB hl0 hxd K1 K2
    rw [if_neg gd] at K1 K2
    rw [if_neg gd]
    refine br_t rfl (nm_r (e' := nI (p + 1)) (by rw [hp, nI_1]) (cb_pke ht 45 (fun e => ?_) (fun e45 => cb_pke ht 115 (fun e => ?_) (fun e115 => cb_pke ht 104 (fun e => ?_) (fun e104 => cb_pke ht 91 (fun e => ?_) (fun e91 => ?_))))))
    · rw [if_pos e] at K1 K2
      exact cx_b1 hT hxT ht hn h8 hf (by omega) rfl (by omega) (by omega) hB K1 K2
    · rw [if_neg e45, if_pos e] at K1 K2
      exact cx_b7 hT hxT ht hn h8 hf (by omega) rfl (by omega) (by omega) hB K1 K2
    · rw [if_neg e45, if_neg e115, if_pos e] at K1 K2
      exact cx_b2 hT hxT ht hn h8 hf (by omega) rfl (by omega) (by omega) hB K1 K2
    · rw [if_neg e45, if_neg e115, if_neg e104, if_pos e] at K2
      exact cx_b4 (m := 4) hT hxT ht hn h8 hf (by omega) (by omega) rfl (by omega) (by omega) hxd hB K2
    · rw [if_neg e45, if_neg e115, if_neg e104, if_neg e91] at K2
      exact cx_b4 (m := 5) hT hxT ht hn h8 hf (by omega) (by omega) rfl (by omega) (by omega) hxd hB K2
  have go46 : (txt.getD p 0 = 45 ∨ txt.getD p 0 = 115 ∨ txt.getD p 0 = 104 ∨ txt.getD p 0 = 91 ∨ txt.getD p 0 = 123) → wX_beginItem_41 post (cb_pk txt p) (if cb_dg (txt.getD p 0) = true then 1 else 0) xM xL xS xI xT xO xP xp xF xR xD xd uI uT uC uL uO uS uK uA uP uM uF := by
    intro h
    exact br_c (fun _ => br_f (by decide) (go58 (fun h' => h'.2 h))) (fun _ => go58 (fun h' => h'.2 h))
  refine cb_pke ht 45 (fun e => go46 (by omega)) (fun e45 => cb_pke ht 115 (fun e => go46 (by omega)) (fun e115 => cb_pke ht 104 (fun e => go46 (by omega)) (fun e104 => cb_pke ht 91 (fun e => go46 (by omega)) (fun e91 => cb_pke ht 123 (fun e => go46 (by omega)) (fun e123 => ?_)))))
  by_cases gd : cb_dg (txt.getD p 0) = true
  · have := go58 (fun h => by rw [gd] at h; cases h.1)
    refine br_f ?_ this
    rw [if_pos gd]; decide
  · have hg : cb_dg (txt.getD p 0) = false ∧ ¬ (txt.getD p 0 = 45 ∨ txt.getD p 0 = 115 ∨ txt.getD p 0 = 104 ∨ txt.getD p 0 = 91 ∨ txt.getD p 0 = 123) := ⟨by simpa using gd, by omega⟩
    rw [if_pos hg] at K1
    refine br_t ?_ (br_t rfl (K1 _ rfl _ _ _ _ _ _ _ _ _ _ _ _ _))
    rw [if_neg gd]
theorem cx_sep {post : Int32 → Prop} {j m k : Nat} (hj : j < 8) (hK : uK j = nI m) (hM : uM j = nI k) (hm : m < 2 ^ 31) (hk : k < 2 ^ 31) (h : post (if m = 6 then 0 else nI (cb_sp m k))) : wpX_separatorOf post (xM, xL, xS, xI, xT, xO, xP, xp, xF, xR, xD, xd, uI, uT, uC, uL, uO, uS, uK, uA, uP, uM, uF) (nI j) := by
  refine ⟨vp_in_nI hj (by omega), ?_⟩
  rw [nI_clamp (by omega), hK]
  refine pk_eq m 6 (fun e => ?_) (fun e => ?_)
  · rw [if_pos e] at h; exact h
  · rw [if_neg e] at h
    refine cx_vd hj hK hM hm hk ?_
    unfold cb_sp at h
    by_cases e5 : m = 5 ∧ k % 2 = 1
    · rw [if_pos e5] at h ⊢; exact br_f (by decide) h
    · rw [if_neg e5] at h ⊢; exact br_t rfl h
theorem cx_af {post : Int32 → SX → Prop} {lim : Nat} {c : List cb_Fr} {d : Bool} {p : Nat} {txt : List Nat} (hT : cb_At uT 0 txt) (hxT : xT = nI txt.length) (ht : cb_TX txt) (hn : txt.length ≤ 128) (h8 : lim ≤ 8) (hf : cb_FI lim true c) (h0 : ∀ f ∈ c, f.2.2.1 = 0) (hp : xp = nI p) (hpn : p ≤ txt.length) (hsz : (cb_oo c).length + cb_rsm c ≤ p) (hB : cx_BX (c, [], d) xO xP xR xD uO uK uA uP uM uF)
    (K1 : ∀ r, cb_af txt c d p = .inl r → ∀ (xO xP xp xR xD xd : Int32) (uO uS uK uA uP uM : Nat → Int32) (uF : Nat → Int64), post r (xM, xL, xS, xI, xT, xO, xP, xp, xF, xR, xD, xd, uI, uT, uC, uL, uO, uS, uK, uA, uP, uM, uF))
    (K2 : ∀ s due p', cb_af txt c d p = .inr (s, due, p') → ∀ (xO xP xR xD : Int32) (uO uS uK uA uP uM : Nat → Int32) (uF : Nat → Int64), cx_BX s xO xP xR xD uO uK uA uP uM uF → post 0 (xM, xL, xS, xI, xT, xO, xP, nI p', xF, xR, xD, cb_b due, uI, uT, uC, uL, uO, uS, uK, uA, uP, uM, uF)) : wpX_afterItem post (xM, xL, xS, xI, xT, xO, xP, xp, xF, xR, xD, xd, uI, uT, uC, uL, uO, uS, uK, uA, uP, uM, uF) := by
  have hB0 := hB
  obtain ⟨hxO, hO, hP, hD, hR, hF⟩ := hB
  rw [if_pos rfl] at hR
  dsimp only at hxO hO hP hD hF
  rw [List.flatten_nil, List.nil_append] at hxO hO
  subst hR
  cases c with
  | nil => exact br_t hP (K1 _ rfl _ _ _ _ _ _ _ _ _ _ _ _ _)
  | cons f c =>
    obtain ⟨m, num, lf, ks⟩ := f
    have hl : lf = 0 := h0 (m, num, lf, ks) (by simp)
    subst hl
    rw [List.length_cons] at hP
    have hlen := cb_FI_len hf
    rw [List.length_cons] at hlen
    have hks := hf.2.2.2.2.2.2.2.1
    have hkn := cb_kn fun k hk => cb_SK_ne (hks k hk).1
    have hct := cb_ct_len (m, num, 0, ks)
    dsimp only at hct
    have hsz' := hsz
    simp only [cb_oo, cb_rsm, List.length_append] at hsz'
    have hm : m = 4 ∨ m = 5 ∨ m = 6 := hf.1
    rw [cb_af_c] at K1 K2
    refine br_f (by rw [hP]; exact nI_ne0 (by omega) (by omega)) (nm_r (e' := nI c.length) (by rw [hP]; exact nI_pred _) ?_)
    refine cx_peek hT hxT hn hp (by omega) ⟨vp_in_nI (by omega) (by omega), ?_⟩
    rw [nI_clamp (by omega), hF.1]
    refine cx_clo (by omega) (cx_sep (m := m) (k := ks.length) (by omega) hF.1 hF.2.1 (by omega) (by omega) (cx_vd (m := m) (k := ks.length) (by omega) hF.1 hF.2.1 (by omega) (by omega) ?_))
    have h84 : ¬ (txt.getD p 0 = cb_cl m ∧ ¬ (m = 5 ∧ ks.length % 2 = 1)) → wX_afterItem_84 post (cb_pk txt p) (if m = 6 then 0 else nI (cb_sp m ks.length)) xM xL xS xI xT xO xP xp xF 0 xD xd uI uT uC uL uO uS uK uA uP uM uF := by
      intro hg
      rw [if_neg hg] at K1 K2
      by_cases e6 : m = 6
      · rw [if_pos e6]
        rw [if_neg (fun h => h.1 e6)] at K1
        refine br_f ?_ (K1 _ rfl _ _ _ _ _ _ _ _ _ _ _ _ _)
        unfold cb_pk
        by_cases hp1 : p < txt.length
        · have := cb_TX_g ht hp1
          rw [if_pos hp1]; exact nI_ne0 (by omega) (by omega)
        · rw [if_neg hp1]; decide
      · rw [if_neg e6]
        refine cb_pke ht (cb_sp m ks.length) (fun e => ?_) (fun e => ?_) (by unfold cb_sp; split <;> omega) (by unfold cb_sp; split <;> omega)
        · rw [if_pos ⟨e6, e⟩] at K2
          refine nm_r (e' := nI (p + 1)) (by rw [hp, nI_1]) ?_
          exact K2 _ _ _ rfl xO xP 0 xD uO uS uK uA uP uM uF hB0
        · rw [if_neg (fun h => e h.2)] at K1
          exact K1 _ rfl _ _ _ _ _ _ _ _ _ _ _ _ _
    have h53 : wX_afterItem_53 post (cb_pk txt p) (nI (cb_cl m)) (if m = 6 then 0 else nI (cb_sp m ks.length)) (if m = 5 ∧ ks.length % 2 = 1 then 0 else 1) xM xL xS xI xT xO xP xp xF 0 xD xd uI uT uC uL uO uS uK uA uP uM uF := by
      refine cb_pke ht (cb_cl m) (fun e => ?_) (fun e => h84 (fun h => e h.1)) (by unfold cb_cl; split; omega; split <;> omega) (by unfold cb_cl; split; omega; split <;> omega)
      by_cases e5 : m = 5 ∧ ks.length % 2 = 1
      · rw [if_pos e5]; exact br_t rfl (h84 (fun h => h.2 e5))
      · rw [if_neg e5]
        rw [if_pos ⟨e, e5⟩] at K2
        refine br_f (by decide) (nm_r (e' := nI (p + 1)) (by rw [hp, nI_1]) ?_)
        have hq : p < txt.length := cb_getD_ne (by rw [e]; unfold cb_cl; split; omega; split <;> omega)
        obtain ⟨h1, h2, _⟩ := cb_nd_sz hf hsz (by omega) e5
        refine cx_ct (m := m) (num := num) (lf := 0) (ks := ks) (c := c) hF hm (by omega) (by omega) hP hO hxO (by omega) ?_
        intro uO' hO'
        refine cx_fi (lim := lim) (c := c) (d := d) (e := cb_nE m num ks) hf.2.2.2.2.2.2.2.2 h8 h1 (by omega) hO' rfl rfl hD hF.2.2.2.2.2 ?_
        intro xO xP xR xD uO uS uP uM uF hB
        exact K2 _ _ _ rfl xO xP xR xD uO uS uK uA uP uM uF hB
    by_cases e5 : m = 5 ∧ ks.length % 2 = 1
    · rw [if_pos e5] at h53 ⊢; exact br_f (by decide) h53
    · rw [if_neg e5] at h53 ⊢; exact br_t rfl h53
end cxi
section cxj
variable {xM xL xS xI xT xF : Int32} {uI uT uC uL : Nat → Int32}
theorem cb_ts_r {txt : List Nat} {lim p : Nat} {c : List cb_Fr} {d due : Bool} {r : Int32} (h : cb_ts txt lim c d due p = .inl r) : r = -10 ∨ r = -7 := by
  unfold cb_ts at h
  split at h
  · unfold cb_bt at h
    split at h
    · cases h; simp
    split at h
    · cases h; simp
    split at h
    · unfold cb_b0 at h
      split at h
      · cases h; simp
      · split at h <;> cases h
    split at h
    · unfold cb_b1 at h
      split at h
      · cases h; simp
      · cases h
    split at h
    · unfold cb_b7 at h
      split at h
      · cases h; simp
      · cases h
    split at h
    · split at h
      · cases e : cb_hr (txt.drop (p + 2)) with
        | none => rw [e] at h; cases h; simp
        | some bs => rw [e] at h; cases h
      · cases h; simp
    · unfold cb_b4 at h
      generalize (if txt.getD p 0 = 91 then 4 else 5) = m at h
      split at h <;> cases h
  · cases c with
    | nil => cases h; simp
    | cons f c =>
      obtain ⟨m, num, lf, ks⟩ := f
      rw [cb_af_c] at h
      split at h
      · cases h
      · split at h
        · cases h
        · cases h; simp
theorem cx_rt_lp {post : Int32 → SX → Prop} {lim : Nat} {txt : List Nat} {R : Sum Int32 (List Nat × Bool)} (hT : cb_At uT 0 txt) (hxT : xT = nI txt.length) (ht : cb_TX txt) (hn : txt.length ≤ 128) (hL : xL = nI lim) (h8 : lim ≤ 8)
    (K1 : ∀ r, R = .inl r → ∀ (xO xP xp xR xD xd : Int32) (uO uS uK uA uP uM : Nat → Int32) (uF : Nat → Int64), r ≠ 0 → post r (xM, xL, xS, xI, xT, xO, xP, xp, xF, xR, xD, xd, uI, uT, uC, uL, uO, uS, uK, uA, uP, uM, uF))
    (K2 : ∀ e d, R = .inr (e, d) → ∀ (xO xP xp xR xD xd : Int32) (uO uS uK uA uP uM : Nat → Int32) (uF : Nat → Int64), cb_At uO 0 e → xO = nI e.length → cb_IT lim e → e.length ≤ 128 → post (if d = true then -9 else 0) (xM, xL, xS, xI, xT, xO, xP, xp, xF, xR, xD, xd, uI, uT, uC, uL, uO, uS, uK, uA, uP, uM, uF)) :
    ∀ (k : Nat) (s : cb_S3) (due : Bool) (p t n : Nat) (xO xP xp xR xD xd : Int32) (uO uS uK uA uP uM : Nat → Int32) (uF : Nat → Int64), cb_rt txt lim k (s, due, p) = R → txt.length + 2 ≤ p + k → k + 1 < n → t ≤ p → p ≤ txt.length → cb_PT lim s due p → xp = nI p → xd = cb_b due → cx_BX s xO xP xR xD uO uK uA uP uM uF →
      wX_readText_8 post n 0 (nI t) xM xL xS xI xT xO xP xp xF xR xD xd uI uT uC uL uO uS uK uA uP uM uF := by
  intro k
  induction k with
  | zero => intro s due p t n xO xP xp xR xD xd uO uS uK uA uP uM uF _ h; omega
  | succ k ih =>
    intro s due p t n xO xP xp xR xD xd uO uS uK uA uP uM uF hR hk hkn htp hpn hPT hp hxd hB
    obtain ⟨n, rfl⟩ : ∃ k, n = k + 1 := ⟨n - 1, by omega⟩
    obtain ⟨c, ro, d⟩ := s
    refine br_f (by rw [hxT]; exact nI_nlt (by omega) (by omega)) (br_t rfl ?_)
    cases ro with
    | nil =>
      have hR0 : xR = 0 := hB.2.2.2.2.1
      refine br_t hR0 ?_
      have hsz : (cb_oo c).length + cb_rsm c ≤ p := by have := hPT.1.2.2; simpa using this
      have k1 : ∀ r, cb_ts txt lim c d due p = .inl r → ∀ (xO xP xp xR xD xd : Int32) (uO uS uK uA uP uM : Nat → Int32) (uF : Nat → Int64), wX_readText_8 post n r (nI (t + 1)) xM xL xS xI xT xO xP xp xF xR xD xd uI uT uC uL uO uS uK uA uP uM uF := by
        intro r hst xO xP xp xR xD xd uO uS uK uA uP uM uF
        have hr : r ≠ 0 := by rcases cb_ts_r hst with rfl | rfl <;> decide
        have fin : wX_readText_52 post r xM xL xS xI xT xO xP xp xF xR xD xd uI uT uC uL uO uS uK uA uP uM uF := br_f hr (K1 r (by rw [← hR]; simp only [cb_rt, hst]) _ _ _ _ _ _ _ _ _ _ _ _ _ hr)
        obtain ⟨n, rfl⟩ : ∃ k, n = k + 1 := ⟨n - 1, by omega⟩
        exact br_c (fun _ => fin) (fun _ => br_f hr fin)
      have k2 : ∀ s due' p', cb_ts txt lim c d due p = .inr (s, due', p') → ∀ (xO xP xR xD : Int32) (uO uS uK uA uP uM : Nat → Int32) (uF : Nat → Int64), cx_BX s xO xP xR xD uO uK uA uP uM uF → wX_readText_8 post n 0 (nI (t + 1)) xM xL xS xI xT xO xP (nI p') xF xR xD (cb_b due') uI uT uC uL uO uS uK uA uP uM uF := by
        intro s due' p' hst xO xP xR xD uO uS uK uA uP uM uF hB'
        have hpt := cb_ts_PT hn hst hPT hpn
        refine ih s due' p' (t + 1) n _ _ _ _ _ _ _ _ _ _ _ _ _ ?_ (by omega) (by omega) (by omega) hpt.2.2 hpt.1 rfl rfl hB'
        rw [← hR]; simp only [cb_rt, hst]
      unfold cb_ts at k1 k2
      cases due with
      | false =>
        refine br_t hxd ?_
        refine cx_af (lim := lim) (c := c) (d := d) (p := p) (txt := txt) hT hxT ht hn h8 hPT.1.1 hPT.2.1 hp hpn hsz hB ?_ ?_
        · intro r h xO xP xp xR xD xd uO uS uK uA uP uM uF
          exact nm_r (nI_1 _) (k1 r h xO xP xp xR xD xd uO uS uK uA uP uM uF)
        · intro s due' p' h xO xP xR xD uO uS uK uA uP uM uF hB'
          exact nm_r (nI_1 _) (k2 s due' p' h xO xP xR xD uO uS uK uA uP uM uF hB')
      | true =>
        refine br_f (by rw [hxd]; decide) ?_
        refine cx_bt (lim := lim) (c := c) (d := d) (p := p) (txt := txt) hT hxT ht hn hL h8 hPT.1.1 hp hpn hsz hxd hB ?_ ?_
        · intro r h xO xP xp xR xD xd uO uS uK uA uP uM uF
          exact nm_r (nI_1 _) (k1 r h xO xP xp xR xD xd uO uS uK uA uP uM uF)
        · intro s due' p' h xO xP xR xD uO uS uK uA uP uM uF hB'
          exact nm_r (nI_1 _) (k2 s due' p' h xO xP xR xD uO uS uK uA uP uM uF hB')
    | cons e ro =>
      rcases hPT.1.2.1 with h | ⟨e', h, hc, hit⟩
      · cases h
      obtain ⟨rfl, rfl⟩ : e = e' ∧ ro = [] := by simpa using h
      dsimp only at hc
      subst hc
      obtain ⟨hxO, hO, hP, hD, hR0, hF⟩ := hB
      rw [if_neg (by simp)] at hR0
      dsimp only at hxO hO hD
      refine br_f (by rw [hR0]; decide) (br_t rfl (br_f (by rw [hR0]; decide) ?_))
      have hlen := hPT.1.2.2
      simp [cb_oo, cb_rsm] at hlen
      simp only [cb_rt] at hR
      refine br_c (fun h => ?_) (fun h => ?_)
      · have h' : txt.length ≤ p := by rw [hp, hxT, nI_leI (by omega) (by omega)] at h; exact h
        rw [if_neg (by omega)] at hR
        have fin := K2 e d hR.symm xO xP xp xR xD xd uO uS uK uA uP uM uF (by simpa [cb_oo] using hO) (by simpa [cb_oo] using hxO) hit (by omega)
        cases d with
        | false => exact br_t hD fin
        | true => exact br_f (by rw [hD]; decide) fin
      · have h' : p < txt.length := by rw [hp, hxT, nI_leI (by omega) (by omega)] at h; omega
        rw [if_pos h'] at hR
        exact K1 _ hR.symm xO xP xp xR xD xd uO uS uK uA uP uM uF (by decide)
end cxj
section cxk
variable {xM xL xS xI xT xO xP xp xF xR xD xd : Int32} {uI uT uC uL uO uS uK uA uP uM : Nat → Int32} {uF : Nat → Int64}
theorem cx_rt {post : Int32 → SX → Prop} {lim : Nat} {txt : List Nat} {R : Sum Int32 (List Nat × Bool)} (hT : cb_At uT 0 txt) (hxT : xT = nI txt.length) (ht : cb_TX txt) (hn : txt.length ≤ 128) (hL : xL = nI lim) (h8 : lim ≤ 8)
    (hR : cb_rt txt lim (txt.length + 2) (([], [], false), true, 0) = R)
    (K1 : ∀ r, R = .inl r → ∀ (xO xP xp xR xD xd : Int32) (uO uS uK uA uP uM : Nat → Int32) (uF : Nat → Int64), r ≠ 0 → post r (xM, xL, xS, xI, xT, xO, xP, xp, (-1), xR, xD, xd, uI, uT, uC, uL, uO, uS, uK, uA, uP, uM, uF))
    (K2 : ∀ e d, R = .inr (e, d) → ∀ (xO xP xp xR xD xd : Int32) (uO uS uK uA uP uM : Nat → Int32) (uF : Nat → Int64), cb_At uO 0 e → xO = nI e.length → cb_IT lim e → e.length ≤ 128 → post (if d = true then -9 else 0) (xM, xL, xS, xI, xT, xO, xP, xp, (-1), xR, xD, xd, uI, uT, uC, uL, uO, uS, uK, uA, uP, uM, uF)) : wpX_readText post (xM, xL, xS, xI, xT, xO, xP, xp, xF, xR, xD, xd, uI, uT, uC, uL, uO, uS, uK, uA, uP, uM, uF) := by
  refine ⟨_, cx_rt_lp (lim := lim) (txt := txt) (R := R) hT hxT ht hn hL h8 K1 K2 (txt.length + 2) ([], [], false) true 0 0 (txt.length + 4) _ _ _ _ _ _ _ _ _ _ _ _ _ hR (by omega) (by omega) (by omega) (by omega) ⟨⟨trivial, Or.inl rfl, by simp [cb_oo, cb_rsm]⟩, (fun f hf => by simp at hf), fun _ => rfl⟩ rfl rfl ⟨rfl, trivial, rfl, rfl, rfl, trivial⟩⟩
end cxk
end
section
/-! the facts of the reference: tables with ghost functions A (first fact behind) and E (encoding) -/
/-- sort, number, parent + 1, level, kids, rank, need + 1 -/
abbrev cb_Rc : Type := Nat × Nat × Nat × Nat × Nat × Nat × Nat
abbrev cb_Tb : Type := Nat → cb_Rc
def cb_so (T : cb_Tb) (i : Nat) : Nat := (T i).1
def cb_nu (T : cb_Tb) (i : Nat) : Nat := (T i).2.1
def cb_pa (T : cb_Tb) (i : Nat) : Nat := (T i).2.2.1
def cb_le (T : cb_Tb) (i : Nat) : Nat := (T i).2.2.2.1
def cb_ki (T : cb_Tb) (i : Nat) : Nat := (T i).2.2.2.2.1
def cb_ra (T : cb_Tb) (i : Nat) : Nat := (T i).2.2.2.2.2.1
def cb_nd (T : cb_Tb) (i : Nat) : Nat := (T i).2.2.2.2.2.2
def cb_CH (T : cb_Tb) (A : Nat → Nat) (E : Nat → List Nat) (q : Nat) : Nat → Nat → Nat → List (List Nat) → Prop
  | _, s, e, [] => s = e
  | r, s, e, k :: ks => cb_pa T s = q + 1 ∧ cb_ra T s = r ∧ E s = k ∧ s < A s ∧ cb_CH T A E q (r + 1) (A s) e ks
def cb_kb (k : List Nat) : Prop := cb_SK k ∧ ∀ b ∈ k, b < 256
def cb_LC (T : cb_Tb) (A : Nat → Nat) (E : Nat → List Nat) (N i : Nat) : Prop :=
  ∃ ks, cb_CH T A E i 0 (i + 1) (A i) ks ∧ cb_ki T i = ks.length ∧ cb_nd T i = ks.length + 1 ∧ E i = cb_nE (cb_so T i) (cb_nu T i) ks ∧ A i ≤ N ∧ (cb_so T i = 5 → ks.length % 2 = 0 ∧ ∀ k ∈ ks, cb_kb k)
theorem cb_CH_le {T : cb_Tb} {A : Nat → Nat} {E : Nat → List Nat} {q : Nat} : ∀ {ks : List (List Nat)} {r s e : Nat}, cb_CH T A E q r s e ks → s ≤ e := by
  intro ks
  induction ks with
  | nil => intro r s e h; exact Nat.le_of_eq h
  | cons k ks ih => intro r s e h; have := ih h.2.2.2.2; have := h.2.2.2.1; omega
theorem cb_CH_cg {T T' : cb_Tb} {A A' : Nat → Nat} {E E' : Nat → List Nat} {q : Nat} : ∀ {ks : List (List Nat)} {r s e : Nat}, cb_CH T A E q r s e ks → (∀ j, s ≤ j → j < e → cb_pa T j = q + 1 → cb_pa T' j = cb_pa T j ∧ cb_ra T' j = cb_ra T j ∧ A' j = A j ∧ E' j = E j) → cb_CH T' A' E' q r s e ks := by
  intro ks
  induction ks with
  | nil => intro r s e h _; exact h
  | cons k ks ih =>
    intro r s e h hc
    obtain ⟨h1, h2, h3, h4, h5⟩ := h
    have hle := cb_CH_le h5
    obtain ⟨c1, c2, c3, c4⟩ := hc s (Nat.le_refl _) (by omega) h1
    refine ⟨c1.trans h1, c2.trans h2, c4.trans h3, by rw [c3]; exact h4, ?_⟩
    rw [c3]
    exact ih h5 fun j hj1 hj2 hj3 => hc j (by omega) hj2 hj3
theorem cb_CH_sn {T : cb_Tb} {A : Nat → Nat} {E : Nat → List Nat} {q : Nat} {e : List Nat} {N : Nat} : ∀ {ks : List (List Nat)} {r s t : Nat}, cb_CH T A E q r s t ks → cb_pa T t = q + 1 → cb_ra T t = r + ks.length → E t = e → A t = N → t < N → cb_CH T A E q r s N (ks ++ [e]) := by
  intro ks
  induction ks with
  | nil => intro r s t h h1 h2 h3 h4 h5; subst h; exact ⟨h1, by simpa using h2, h3, by omega, h4⟩
  | cons k ks ih =>
    intro r s t h h1 h2 h3 h4 h5
    obtain ⟨g1, g2, g3, g4, g5⟩ := h
    exact ⟨g1, g2, g3, g4, ih g5 h1 (by simp at h2; omega) h3 h4 h5⟩
def cb_rk : List cb_Fr → Nat
  | [] => 0
  | (_, _, _, ks) :: _ => ks.length
def cb_pf : List Nat → Nat
  | [] => 0
  | q :: _ => q + 1
def cb_FR (T : cb_Tb) (A : Nat → Nat) (E : Nat → List Nat) : Nat → Nat → List cb_Fr → List Nat → Prop
  | _, e, [], [] => e = 0
  | x, e, (m, num, lf, ks) :: c, q :: fp => q < e ∧ lf ≠ 1 ∧ cb_so T q = m ∧ cb_nu T q = num ∧ cb_ki T q = ks.length + x ∧ cb_nd T q = (if lf = 0 then 0 else ks.length + lf) ∧ cb_le T q = c.length + 1 ∧ cb_ra T q = cb_rk c ∧ cb_pa T q = cb_pf fp ∧ cb_CH T A E q 0 (q + 1) e ks ∧ cb_FR T A E 1 q c fp
  | _, _, _, _ => False
theorem cb_FR_lt {T : cb_Tb} {A : Nat → Nat} {E : Nat → List Nat} : ∀ {c : List cb_Fr} {fp : List Nat} {x e : Nat}, cb_FR T A E x e c fp → ∀ q ∈ fp, q < e := by
  intro c
  induction c with
  | nil => intro fp x e h q hq; cases fp with
    | nil => simp at hq
    | cons a fp => exact absurd h (by simp [cb_FR])
  | cons f c ih =>
    intro fp x e h q hq
    obtain ⟨m, num, lf, ks⟩ := f
    cases fp with
    | nil => exact absurd h (by simp [cb_FR])
    | cons a fp =>
      obtain ⟨h1, _, _, _, _, _, _, _, _, _, h9⟩ := h
      rcases List.mem_cons.mp hq with rfl | hq
      · exact h1
      · have := ih h9 q hq; omega
theorem cb_FR_cg {T T' : cb_Tb} {A A' : Nat → Nat} {E E' : Nat → List Nat} : ∀ {c : List cb_Fr} {fp : List Nat} {x e : Nat}, cb_FR T A E x e c fp → (∀ j, j < e → T' j = T j ∧ A' j = A j ∧ E' j = E j) → cb_FR T' A' E' x e c fp := by
  intro c
  induction c with
  | nil => intro fp x e h _; cases fp with
    | nil => exact h
    | cons a fp => exact absurd h (by simp [cb_FR])
  | cons f c ih =>
    intro fp x e h hc
    obtain ⟨m, num, lf, ks⟩ := f
    cases fp with
    | nil => exact absurd h (by simp [cb_FR])
    | cons q fp =>
      obtain ⟨h1, h0, h2, h3, h4, h5, h6, h7, h8, h9, h10⟩ := h
      have hq := (hc q h1).1
      refine ⟨h1, h0, ?_, ?_, ?_, ?_, ?_, ?_, ?_, cb_CH_cg h9 fun j _ hj _ => ?_, ih h10 fun j hj => hc j (by omega)⟩
      · unfold cb_so; rw [hq]; exact h2
      · unfold cb_nu; rw [hq]; exact h3
      · unfold cb_ki; rw [hq]; exact h4
      · unfold cb_nd; rw [hq]; exact h5
      · unfold cb_le; rw [hq]; exact h6
      · unfold cb_ra; rw [hq]; exact h7
      · unfold cb_pa; rw [hq]; exact h8
      · obtain ⟨a, b, c⟩ := hc j hj; unfold cb_pa cb_ra; rw [a]; exact ⟨rfl, rfl, b, c⟩
/-- equal keys among the complete pairs -/
def cb_dk (ks : List (List Nat)) : Prop := ¬ ((cb_mp ks).map (·.1)).Nodup
theorem cb_dk_sn {ks : List (List Nat)} {e : List Nat} : cb_dk (ks ++ [e]) ↔ cb_dk ks ∨ cb_dn 5 ks = true := by
  unfold cb_dk cb_dn
  rw [decide_eq_true_iff]
  by_cases ho : ks.length % 2 = 1
  · obtain ⟨ks0, k, rfl, hk0⟩ := cb_od ks ho
    rw [List.append_assoc]
    show ¬ ((cb_mp (ks0 ++ [k, e])).map (·.1)).Nodup ↔ _
    rw [cb_mp_e ks0 k e hk0, cb_mp_o ks0 k hk0, cb_getl, List.map_append, List.nodup_append]
    constructor
    · intro h
      by_cases h1 : ((cb_mp ks0).map (·.1)).Nodup
      · right
        refine ⟨rfl, ho, Classical.byContradiction fun h2 => h ⟨h1, by simp, ?_⟩⟩
        intro a ha b hb
        simp at hb
        intro e
        subst e
        subst hb
        exact h2 ha
      · exact Or.inl h1
    · rintro (h | ⟨_, _, h⟩) ⟨h1, _, h3⟩
      · exact h h1
      · exact h3 k h k (by simp) rfl
  · rw [cb_mp_o ks e (by omega)]
    exact ⟨Or.inl, fun h => h.elim id fun h => absurd h.2.1 ho⟩
/-- somewhere there are equal keys -/
def cb_DU (T : cb_Tb) (A : Nat → Nat) (E : Nat → List Nat) (N : Nat) (c : List cb_Fr) (fp : List Nat) : Prop :=
  (∃ i, i < N ∧ i ∉ fp ∧ cb_so T i = 5 ∧ ∃ ks, cb_CH T A E i 0 (i + 1) (A i) ks ∧ cb_ki T i = ks.length ∧ cb_dk ks) ∨ ∃ f ∈ c, f.1 = 5 ∧ cb_dk f.2.2.2
/-- the facts stand for the stack -/
def cb_RY (T : cb_Tb) (N : Nat) (s : cb_S3) (fp : List Nat) : Prop := ∃ (A : Nat → Nat) (E : Nat → List Nat),
  (∀ i, i < N → i ∈ fp ∨ cb_LC T A E N i) ∧ ((s.2.1 = [] ∧ cb_FR T A E 0 N s.1 fp) ∨ ∃ e, s.2.1 = [e] ∧ s.1 = [] ∧ fp = [] ∧ E 0 = e ∧ A 0 = N ∧ 0 < N ∧ cb_pa T 0 = 0 ∧ cb_ra T 0 = 0) ∧ (s.2.2 = true ↔ cb_DU T A E N s.1 fp)
def cb_OK : List cb_Fr → List Nat → Prop
  | [], _ => True
  | (m, num, lf, ks) :: c, e => (m = 5 → (∀ k ∈ ks ++ [e], cb_kb k) ∧ (lf = 2 → (ks.length + 1) % 2 = 0)) ∧ (lf = 2 → cb_OK c (cb_nE m num (ks ++ [e])))
/-- a complete item waits at fact s to be given to the stack -/
def cb_RC (T : cb_Tb) (N : Nat) (c : List cb_Fr) (d : Bool) (e : List Nat) (s : Nat) (fp : List Nat) : Prop := ∃ (A : Nat → Nat) (E : Nat → List Nat),
  (∀ i, i < N → i ∈ fp ∨ cb_LC T A E N i) ∧ cb_FR T A E 1 s c fp ∧ s < N ∧ E s = e ∧ A s = N ∧ cb_pa T s = cb_pf fp ∧ cb_ra T s = cb_rk c ∧ (d = true ↔ cb_DU T A E N c fp)
theorem cb_pf_ne {fp : List Nat} {i : Nat} (h : i ∉ fp) : cb_pf fp ≠ i + 1 := by
  cases fp with
  | nil => simp [cb_pf]
  | cons q fp => intro e; simp [cb_pf] at e; exact h (by simp [e])
theorem cb_RC_cm {T : cb_Tb} {N : Nat} : ∀ {c : List cb_Fr} {d : Bool} {e : List Nat} {s : Nat} {fp : List Nat}, cb_OK c e → cb_RC T N c d e s fp → ∃ fp', cb_RY T N (cb_cm c d e) fp' ∧ ((∃ f c', c = f :: c' ∧ f.2.2.1 ≠ 2) → fp' = fp) := by
  intro c
  induction c with
  | nil =>
    intro d e s fp _ h
    obtain ⟨A, E, h1, h2, h3, h4, h5, h6, h7, h8⟩ := h
    cases fp with
    | cons a fp => exact absurd h2 (by simp [cb_FR])
    | nil =>
      have hs : s = 0 := h2
      subst hs
      exact ⟨[], ⟨A, E, h1, Or.inr ⟨e, rfl, rfl, rfl, h4, h5, h3, h6, h7⟩, h8⟩, fun _ => rfl⟩
  | cons f c ih =>
    intro d e s fp hok h
    obtain ⟨m, num, lf, ks⟩ := f
    obtain ⟨A, E, h1, h2, h3, h4, h5, h6, h7, h8⟩ := h
    cases fp with
    | nil => exact absurd h2 (by simp [cb_FR])
    | cons q fp =>
      obtain ⟨f1, f0, f2, f3, f4, f5, f6, f7, f8, f9, f10⟩ := h2
      have hch : cb_CH T A E q 0 (q + 1) N (ks ++ [e]) := cb_CH_sn f9 h6 (by rw [h7]; simp [cb_rk]) h4 h5 h3
      -- equal keys, with the new child
      have hDU : (d || cb_dn m ks) = true ↔ cb_DU T A E N ((m, num, lf - 1, ks ++ [e]) :: c) (q :: fp) := by
        have e1 : cb_DU T A E N ((m, num, lf - 1, ks ++ [e]) :: c) (q :: fp) ↔ (cb_DU T A E N ((m, num, lf, ks) :: c) (q :: fp) ∨ cb_dn m ks = true) := by
          unfold cb_DU
          constructor
          · rintro (hh | ⟨f, hf, hf5, hfd⟩)
            · exact Or.inl (Or.inl hh)
            · rcases List.mem_cons.mp hf with rfl | hf
              · dsimp only at hf5 hfd
                subst hf5
                rcases cb_dk_sn.mp hfd with hh | hh
                · exact Or.inl (Or.inr ⟨_, List.mem_cons_self, rfl, hh⟩)
                · exact Or.inr hh
              · exact Or.inl (Or.inr ⟨f, by simp [hf], hf5, hfd⟩)
          · rintro ((hh | ⟨f, hf, hf5, hfd⟩) | hh)
            · exact Or.inl hh
            · rcases List.mem_cons.mp hf with rfl | hf
              · dsimp only at hf5 hfd
                subst hf5
                exact Or.inr ⟨_, List.mem_cons_self, rfl, cb_dk_sn.mpr (Or.inl hfd)⟩
              · exact Or.inr ⟨f, by simp [hf], hf5, hfd⟩
            · have hm5 : m = 5 := by unfold cb_dn at hh; rw [decide_eq_true_iff] at hh; exact hh.1
              subst hm5
              exact Or.inr ⟨_, List.mem_cons_self, rfl, cb_dk_sn.mpr (Or.inr hh)⟩
        rw [e1, ← h8, Bool.or_eq_true]
      rw [cb_cm_c]
      by_cases hl : lf = 2
      · subst hl
        rw [if_pos rfl]
        rw [if_neg (by omega)] at f5
        suffices hrc : cb_RC T N c (d || cb_dn m ks) (cb_nE m num (ks ++ [e])) q fp by
          obtain ⟨fp', hfp, _⟩ := ih (hok.2 rfl) hrc
          exact ⟨fp', hfp, fun ⟨f, c', hc, hn⟩ => absurd (by rw [← (List.cons.inj hc).1]) hn⟩
        let A' : Nat → Nat := fun j => if j = q then N else A j
        let E' : Nat → List Nat := fun j => if j = q then cb_nE m num (ks ++ [e]) else E j
        have hA'q : A' q = N := if_pos rfl
        have hE'q : E' q = cb_nE m num (ks ++ [e]) := if_pos rfl
        have hA'n : ∀ j, j ≠ q → A' j = A j := fun j hj => if_neg hj
        have hE'n : ∀ j, j ≠ q → E' j = E j := fun j hj => if_neg hj
        have hchq : cb_CH T A' E' q 0 (q + 1) N (ks ++ [e]) := cb_CH_cg hch fun j hj1 _ _ => ⟨rfl, rfl, hA'n j (by omega), hE'n j (by omega)⟩
        have hcg : ∀ i ks' r s' e', i ∉ fp → (cb_CH T A E i r s' e' ks' ↔ cb_CH T A' E' i r s' e' ks') := by
          intro i ks' r s' e' hi
          have hne : ∀ j, cb_pa T j = i + 1 → j ≠ q := fun j hj e => by rw [e, f8] at hj; exact cb_pf_ne hi hj
          exact ⟨fun h => cb_CH_cg h fun j _ _ hj => ⟨rfl, rfl, hA'n j (hne j hj), hE'n j (hne j hj)⟩, fun h => cb_CH_cg h fun j _ _ hj => ⟨rfl, rfl, (hA'n j (hne j hj)).symm, (hE'n j (hne j hj)).symm⟩⟩
        have hqf : q ∉ fp := fun hq => by have := cb_FR_lt f10 q hq; omega
        refine ⟨A', E', fun i hi => ?_, cb_FR_cg f10 fun j hj => ⟨rfl, hA'n j (by omega), hE'n j (by omega)⟩, by omega, hE'q, hA'q, f8, f7, ?_⟩
        · by_cases hif : i ∈ fp
          · exact Or.inl hif
          · right
            by_cases hiq : i = q
            · subst hiq
              refine ⟨ks ++ [e], by rw [hA'q]; exact hchq, by rw [f4]; simp, by rw [f5]; simp, by rw [hE'q, f2, f3], by rw [hA'q]; exact Nat.le_refl _, fun h5' => ?_⟩
              have := hok.1 (f2 ▸ h5')
              exact ⟨by have := this.2 rfl; simpa using this, this.1⟩
            · rcases h1 i hi with hm | hm
              · rcases List.mem_cons.mp hm with hm | hm
                · exact absurd hm hiq
                · exact absurd hm hif
              · obtain ⟨ks', g1, g2, g3, g4, g5, g6⟩ := hm
                exact ⟨ks', by rw [hA'n i hiq]; exact (hcg i ks' _ _ _ hif).mp g1, g2, g3, by rw [hE'n i hiq]; exact g4, by rw [hA'n i hiq]; exact g5, g6⟩
        · rw [hDU]
          unfold cb_DU
          constructor
          · rintro (⟨i, hi, hif, hi5, ks', g1, g2, g3⟩ | ⟨f, hf, hf5, hfd⟩)
            · have hiq : i ≠ q := fun e => hif (by simp [e])
              have hif' : i ∉ fp := fun e => hif (by simp [e])
              exact Or.inl ⟨i, hi, hif', hi5, ks', by rw [hA'n i hiq]; exact (hcg i ks' _ _ _ hif').mp g1, g2, g3⟩
            · rcases List.mem_cons.mp hf with rfl | hf
              · dsimp only at hf5 hfd
                exact Or.inl ⟨q, by omega, hqf, by rw [f2]; exact hf5, ks ++ [e], by rw [hA'q]; exact hchq, by rw [f4]; simp, hfd⟩
              · exact Or.inr ⟨f, hf, hf5, hfd⟩
          · rintro (⟨i, hi, hif, hi5, ks', g1, g2, g3⟩ | ⟨f, hf, hf5, hfd⟩)
            · by_cases hiq : i = q
              · subst hiq
                right
                refine ⟨_, List.mem_cons_self, by rw [← f2]; exact hi5, ?_⟩
                -- the chain is unique
                have huni : ∀ (k1 k2 : List (List Nat)) (r s' e' : Nat), cb_CH T A' E' i r s' e' k1 → cb_CH T A' E' i r s' e' k2 → k1.length = k2.length → k1 = k2 := by
                  intro k1
                  induction k1 with
                  | nil => intro k2 r s' e' _ _ hl; cases k2 with
                    | nil => rfl
                    | cons a k2 => simp at hl
                  | cons a k1 ih1 => intro k2 r s' e' c1 c2 hl; cases k2 with
                    | nil => simp at hl
                    | cons b k2 =>
                      rw [ih1 k2 _ _ _ c1.2.2.2.2 c2.2.2.2.2 (by simpa using hl), ← c1.2.2.1, ← c2.2.2.1]
                rw [hA'q] at g1
                rw [← huni ks' (ks ++ [e]) _ _ _ g1 hchq (by rw [← g2, f4]; simp)]
                exact g3
              · refine Or.inl ⟨i, hi, fun h => ?_, hi5, ks', ?_, g2, g3⟩
                · rcases List.mem_cons.mp h with h | h
                  · exact hiq h
                  · exact hif h
                · rw [hA'n i hiq] at g1; exact (hcg i ks' _ _ _ hif).mpr g1
            · exact Or.inr ⟨f, by simp [hf], hf5, hfd⟩
      · rw [if_neg hl]
        refine ⟨q :: fp, ⟨A, E, h1, Or.inl ⟨rfl, ⟨by omega, by omega, f2, f3, by rw [f4]; simp, ?_, f6, f7, f8, hch, f10⟩⟩, hDU⟩, fun _ => rfl⟩
        rw [f5]
        by_cases h0 : lf = 0
        · subst h0; rfl
        · rw [if_neg h0]
          rw [if_neg (show ¬ lf - 1 = 0 by omega), List.length_append, List.length_singleton]; omega
end
section
/-! a new fact; a fact is closed -/
def cb_add (T : cb_Tb) (N m n u d0 : Nat) : cb_Tb := fun j =>
  if j = N then (m, n, u, (if u = 0 then 1 else cb_le T (u - 1) + 1), 0, (if u = 0 then 0 else cb_ki T (u - 1)), d0)
  else if j + 1 = u then ((T j).1, (T j).2.1, (T j).2.2.1, (T j).2.2.2.1, (T j).2.2.2.2.1 + 1, (T j).2.2.2.2.2.1, (T j).2.2.2.2.2.2) else T j
def cb_sd (T : cb_Tb) (q x : Nat) : cb_Tb := fun j =>
  if j = q then ((T j).1, (T j).2.1, (T j).2.2.1, (T j).2.2.2.1, (T j).2.2.2.2.1, (T j).2.2.2.2.2.1, x) else T j
section cb1
variable {T : cb_Tb} {N m n u d0 : Nat}
theorem cb_add_N : cb_add T N m n u d0 N = (m, n, u, (if u = 0 then 1 else cb_le T (u - 1) + 1), 0, (if u = 0 then 0 else cb_ki T (u - 1)), d0) := if_pos rfl
theorem cb_add_o {j : Nat} (h : j ≠ N) (h2 : j + 1 ≠ u) : cb_add T N m n u d0 j = T j := by unfold cb_add; rw [if_neg h, if_neg h2]
theorem cb_add_u {j : Nat} (h : j ≠ N) (h2 : j + 1 = u) : cb_add T N m n u d0 j = ((T j).1, (T j).2.1, (T j).2.2.1, (T j).2.2.2.1, (T j).2.2.2.2.1 + 1, (T j).2.2.2.2.2.1, (T j).2.2.2.2.2.2) := by unfold cb_add; rw [if_neg h, if_pos h2]
theorem cb_add_f {j : Nat} (h : j ≠ N) : cb_so (cb_add T N m n u d0) j = cb_so T j ∧ cb_nu (cb_add T N m n u d0) j = cb_nu T j ∧ cb_pa (cb_add T N m n u d0) j = cb_pa T j ∧ cb_le (cb_add T N m n u d0) j = cb_le T j ∧
    cb_ki (cb_add T N m n u d0) j = cb_ki T j + (if j + 1 = u then 1 else 0) ∧ cb_ra (cb_add T N m n u d0) j = cb_ra T j ∧ cb_nd (cb_add T N m n u d0) j = cb_nd T j := by
  unfold cb_so cb_nu cb_pa cb_le cb_ki cb_ra cb_nd
  by_cases h2 : j + 1 = u
  · rw [cb_add_u h h2, if_pos h2]; exact ⟨rfl, rfl, rfl, rfl, rfl, rfl, rfl⟩
  · rw [cb_add_o h h2, if_neg h2]; exact ⟨rfl, rfl, rfl, rfl, rfl, rfl, rfl⟩
theorem cb_add_n : cb_so (cb_add T N m n u d0) N = m ∧ cb_nu (cb_add T N m n u d0) N = n ∧ cb_pa (cb_add T N m n u d0) N = u ∧ cb_le (cb_add T N m n u d0) N = (if u = 0 then 1 else cb_le T (u - 1) + 1) ∧
    cb_ki (cb_add T N m n u d0) N = 0 ∧ cb_ra (cb_add T N m n u d0) N = (if u = 0 then 0 else cb_ki T (u - 1)) ∧ cb_nd (cb_add T N m n u d0) N = d0 := by
  unfold cb_so cb_nu cb_pa cb_le cb_ki cb_ra cb_nd
  rw [cb_add_N]; exact ⟨rfl, rfl, rfl, rfl, rfl, rfl, rfl⟩
theorem cb_sd_f {q x j : Nat} : cb_so (cb_sd T q x) j = cb_so T j ∧ cb_nu (cb_sd T q x) j = cb_nu T j ∧ cb_pa (cb_sd T q x) j = cb_pa T j ∧ cb_le (cb_sd T q x) j = cb_le T j ∧
    cb_ki (cb_sd T q x) j = cb_ki T j ∧ cb_ra (cb_sd T q x) j = cb_ra T j ∧ cb_nd (cb_sd T q x) j = (if j = q then x else cb_nd T j) := by
  unfold cb_so cb_nu cb_pa cb_le cb_ki cb_ra cb_nd cb_sd
  by_cases h : j = q
  · simp only [if_pos h]; exact ⟨trivial, trivial, trivial, trivial, trivial, trivial, trivial⟩
  · simp only [if_neg h]; exact ⟨trivial, trivial, trivial, trivial, trivial, trivial, trivial⟩
end cb1
theorem cb_DU_new {T T' : cb_Tb} {A A' : Nat → Nat} {E E' : Nat → List Nat} {N : Nat} {c c' : List cb_Fr} {fp fp' : List Nat}
    (h1 : ∀ i, i < N → i ∉ fp → i ∉ fp' ∧ cb_so T' i = cb_so T i ∧ cb_ki T' i = cb_ki T i ∧ ∀ ks, (cb_CH T A E i 0 (i + 1) (A i) ks ↔ cb_CH T' A' E' i 0 (i + 1) (A' i) ks)) (h2 : ∀ i, i < N → i ∈ fp → i ∈ fp')
    (h3 : N ∉ fp' → cb_so T' N = 5 → cb_ki T' N = 0) (h4 : (∃ f ∈ c', f.1 = 5 ∧ cb_dk f.2.2.2) ↔ ∃ f ∈ c, f.1 = 5 ∧ cb_dk f.2.2.2) : cb_DU T A E N c fp ↔ cb_DU T' A' E' (N + 1) c' fp' := by
  unfold cb_DU
  rw [h4]
  refine or_congr ⟨?_, ?_⟩ Iff.rfl
  · rintro ⟨i, hi, hif, hi5, ks, g1, g2, g3⟩
    obtain ⟨a1, a2, a3, a4⟩ := h1 i hi hif
    exact ⟨i, by omega, a1, a2.trans hi5, ks, (a4 ks).mp g1, a3.trans g2, g3⟩
  · rintro ⟨i, hi, hif, hi5, ks, g1, g2, g3⟩
    by_cases hiN : i = N
    · subst hiN
      have := h3 hif hi5
      rw [g2] at this
      have hks : ks = [] := List.length_eq_zero_iff.mp this
      subst hks
      exact absurd (by simp [cb_mp]) g3
    · have hiN' : i < N := by omega
      have hif' : i ∉ fp := fun h => hif (h2 i hiN' h)
      obtain ⟨a1, a2, a3, a4⟩ := h1 i hiN' hif'
      exact ⟨i, hiN', hif', a2.symm.trans hi5, ks, (a4 ks).mpr g1, a3.symm.trans g2, g3⟩
/-- what a new fact leaves as it was -/
theorem cb_add_L {T : cb_Tb} {A : Nat → Nat} {E : Nat → List Nat} {N m n d0 : Nat} {c : List cb_Fr} {fp : List Nat} (h1 : ∀ i, i < N → i ∈ fp ∨ cb_LC T A E N i) (h2 : cb_FR T A E 0 N c fp) :
    (∀ i, i < N → i ∈ fp ∨ cb_LC (cb_add T N m n (cb_pf fp) d0) A E (N + 1) i) ∧ cb_FR (cb_add T N m n (cb_pf fp) d0) A E 1 N c fp ∧
    (∀ i ks r s e, e ≤ N → (cb_CH T A E i r s e ks ↔ cb_CH (cb_add T N m n (cb_pf fp) d0) A E i r s e ks)) ∧ (∀ i, i < N → i ∉ fp → cb_ki (cb_add T N m n (cb_pf fp) d0) i = cb_ki T i) ∧
    cb_ra (cb_add T N m n (cb_pf fp) d0) N = cb_rk c ∧ cb_le (cb_add T N m n (cb_pf fp) d0) N = c.length + 1 ∧ (∀ q ∈ fp, q < N) := by
  have hfl := cb_FR_lt h2
  have hch : ∀ i ks r s e, e ≤ N → (cb_CH T A E i r s e ks ↔ cb_CH (cb_add T N m n (cb_pf fp) d0) A E i r s e ks) := by
    intro i ks r s e he
    exact ⟨fun h => cb_CH_cg h fun j _ hj _ => ⟨(cb_add_f (by omega)).2.2.1, (cb_add_f (by omega)).2.2.2.2.2.1, rfl, rfl⟩, fun h => cb_CH_cg h fun j _ hj _ => ⟨(cb_add_f (by omega)).2.2.1.symm, (cb_add_f (by omega)).2.2.2.2.2.1.symm, rfl, rfl⟩⟩
  have hki : ∀ i, i < N → i ∉ fp → cb_ki (cb_add T N m n (cb_pf fp) d0) i = cb_ki T i := fun i hi hif => by
    rw [(cb_add_f (by omega)).2.2.2.2.1, if_neg (fun e => cb_pf_ne hif e.symm)]; rfl
  refine ⟨fun i hi => ?_, ?_, hch, hki, ?_, ?_, hfl⟩
  · by_cases hif : i ∈ fp
    · exact Or.inl hif
    · rcases h1 i hi with h | h
      · exact Or.inl h
      · obtain ⟨ks, g1, g2, g3, g4, g5, g6⟩ := h
        have hf := cb_add_f (T := T) (N := N) (m := m) (n := n) (u := cb_pf fp) (d0 := d0) (j := i) (by omega)
        exact Or.inr ⟨ks, (hch _ _ _ _ _ g5).mp g1, by rw [hki i hi hif]; exact g2, by rw [hf.2.2.2.2.2.2]; exact g3, by rw [hf.1, hf.2.1]; exact g4, by omega, by rw [hf.1]; exact g6⟩
  · cases c with
    | nil => cases fp with
      | nil => exact h2
      | cons a fp => exact absurd h2 (by simp [cb_FR])
    | cons f c =>
      obtain ⟨m', num, lf, ks⟩ := f
      cases fp with
      | nil => exact absurd h2 (by simp [cb_FR])
      | cons q fp =>
        obtain ⟨f1, f0, f2, f3, f4, f5, f6, f7, f8, f9, f10⟩ := h2
        have hf := cb_add_f (T := T) (N := N) (m := m) (n := n) (u := cb_pf (q :: fp)) (d0 := d0) (j := q) (by omega)
        refine ⟨f1, f0, hf.1.trans f2, hf.2.1.trans f3, ?_, hf.2.2.2.2.2.2.trans f5, hf.2.2.2.1.trans f6, hf.2.2.2.2.2.1.trans f7, hf.2.2.1.trans f8, (hch _ _ _ _ _ (Nat.le_refl _)).mp f9, ?_⟩
        · rw [hf.2.2.2.2.1, f4, if_pos (by simp [cb_pf])]
        · refine cb_FR_cg f10 fun j hj => ⟨cb_add_o (by omega) (by simp [cb_pf]; omega), rfl, rfl⟩
  · rw [cb_add_n.2.2.2.2.2.1]
    cases c with
    | nil => cases fp with
      | nil => rfl
      | cons a fp => exact absurd h2 (by simp [cb_FR])
    | cons f c =>
      obtain ⟨m', num, lf, ks⟩ := f
      cases fp with
      | nil => exact absurd h2 (by simp [cb_FR])
      | cons q fp =>
        obtain ⟨f1, f0, f2, f3, f4, f5, f6, f7, f8, f9, f10⟩ := h2
        rw [if_neg (show cb_pf (q :: fp) ≠ 0 by simp [cb_pf])]
        show cb_ki T q = ks.length
        rw [f4]; rfl
  · rw [cb_add_n.2.2.2.1]
    cases c with
    | nil => cases fp with
      | nil => rfl
      | cons a fp => exact absurd h2 (by simp [cb_FR])
    | cons f c =>
      obtain ⟨m', num, lf, ks⟩ := f
      cases fp with
      | nil => exact absurd h2 (by simp [cb_FR])
      | cons q fp =>
        obtain ⟨f1, f0, f2, f3, f4, f5, f6, f7, f8, f9, f10⟩ := h2
        rw [if_neg (show cb_pf (q :: fp) ≠ 0 by simp [cb_pf])]
        show cb_le T q + 1 = c.length + 1 + 1
        rw [f6]
theorem cb_RY_push {T : cb_Tb} {N m n lf : Nat} {c : List cb_Fr} {d : Bool} {fp : List Nat} (h : cb_RY T N (c, [], d) fp) (hl : lf ≠ 1) : cb_RY (cb_add T N m n (cb_pf fp) lf) (N + 1) ((m, n, lf, []) :: c, [], d) (N :: fp) := by
  obtain ⟨A, E, h1, h2, h3⟩ := h
  rcases h2 with ⟨_, h2⟩ | ⟨e, h2, _⟩
  · obtain ⟨g1, g2, g3, g4, g5, g6, g7⟩ := cb_add_L (m := m) (n := n) (d0 := lf) h1 h2
    refine ⟨A, E, fun i hi => ?_, Or.inl ⟨rfl, ⟨by omega, hl, cb_add_n.1, cb_add_n.2.1, cb_add_n.2.2.2.2.1, ?_, g6, g5, cb_add_n.2.2.1, rfl, g2⟩⟩, ?_⟩
    · by_cases hiN : i = N
      · exact Or.inl (by simp [hiN])
      · rcases g1 i (by omega) with h | h
        · exact Or.inl (by simp [h])
        · exact Or.inr h
    · rw [cb_add_n.2.2.2.2.2.2]
      by_cases h0 : lf = 0
      · rw [if_pos h0, h0]
      · rw [if_neg h0, List.length_nil, Nat.zero_add]
    · rw [h3]
      refine cb_DU_new (fun i hi hif => ⟨?_, (cb_add_f (by omega)).1, g4 i hi hif, fun ks => ?_⟩) (fun i _ hif => by simp [hif]) (fun h => absurd (by simp) h) ?_
      · intro hm
        rcases List.mem_cons.mp hm with hm | hm
        · omega
        · exact hif hm
      · have hA : A i ≤ N := by
          rcases h1 i hi with h | ⟨ks', _, _, _, _, h, _⟩
          · exact absurd h hif
          · exact h
        exact g3 _ _ _ _ _ hA
      · constructor
        · rintro ⟨f, hf, hf5, hfd⟩
          rcases List.mem_cons.mp hf with rfl | hf
          · exact absurd (by simp [cb_mp]) hfd
          · exact ⟨f, hf, hf5, hfd⟩
        · rintro ⟨f, hf, hf5, hfd⟩
          exact ⟨f, by simp [hf], hf5, hfd⟩
  · cases h2
theorem cb_RY_leaf {T : cb_Tb} {N m n : Nat} {c : List cb_Fr} {d : Bool} {fp : List Nat} (h : cb_RY T N (c, [], d) fp) : cb_RC (cb_add T N m n (cb_pf fp) 1) (N + 1) c d (cb_nE m n []) N fp := by
  obtain ⟨A, E, h1, h2, h3⟩ := h
  rcases h2 with ⟨_, h2⟩ | ⟨e, h2, _⟩
  · obtain ⟨g1, g2, g3, g4, g5, g6, g7⟩ := cb_add_L (m := m) (n := n) (d0 := 1) h1 h2
    let A' : Nat → Nat := fun j => if j = N then N + 1 else A j
    let E' : Nat → List Nat := fun j => if j = N then cb_nE m n [] else E j
    have hA'N : A' N = N + 1 := if_pos rfl
    have hE'N : E' N = cb_nE m n [] := if_pos rfl
    have hA'n : ∀ j, j ≠ N → A' j = A j := fun j hj => if_neg hj
    have hE'n : ∀ j, j ≠ N → E' j = E j := fun j hj => if_neg hj
    have hcg : ∀ i ks r s e, e ≤ N → (cb_CH (cb_add T N m n (cb_pf fp) 1) A E i r s e ks ↔ cb_CH (cb_add T N m n (cb_pf fp) 1) A' E' i r s e ks) := by
      intro i ks r s e he
      exact ⟨fun h => cb_CH_cg h fun j _ hj _ => ⟨rfl, rfl, hA'n j (by omega), hE'n j (by omega)⟩, fun h => cb_CH_cg h fun j _ hj _ => ⟨rfl, rfl, (hA'n j (by omega)).symm, (hE'n j (by omega)).symm⟩⟩
    have hAle : ∀ i, i < N → i ∉ fp → A i ≤ N := fun i hi hif => by
      rcases h1 i hi with h | ⟨ks', _, _, _, _, h, _⟩
      · exact absurd h hif
      · exact h
    have hNf : N ∉ fp := fun h => by have := g7 N h; omega
    refine ⟨A', E', fun i hi => ?_, cb_FR_cg g2 fun j hj => ⟨rfl, hA'n j (by omega), hE'n j (by omega)⟩, by omega, hE'N, hA'N, cb_add_n.2.2.1, g5, ?_⟩
    · by_cases hiN : i = N
      · subst hiN
        refine Or.inr ⟨[], hA'N.symm, cb_add_n.2.2.2.2.1, cb_add_n.2.2.2.2.2.2, by rw [hE'N, cb_add_n.1, cb_add_n.2.1], by rw [hA'N]; exact Nat.le_refl _, fun _ => ⟨rfl, by simp⟩⟩
      · by_cases hif : i ∈ fp
        · exact Or.inl hif
        · rcases g1 i (by omega) with h | h
          · exact Or.inl h
          · obtain ⟨ks, k1, k2, k3, k4, k5, k6⟩ := h
            exact Or.inr ⟨ks, by rw [hA'n i hiN]; exact (hcg _ _ _ _ _ (hAle i (by omega) hif)).mp k1, k2, k3, by rw [hE'n i hiN]; exact k4, by rw [hA'n i hiN]; exact k5, k6⟩
    · rw [h3]
      refine cb_DU_new (fun i hi hif => ⟨hif, (cb_add_f (by omega)).1, g4 i hi hif, fun ks => ?_⟩) (fun i _ hif => hif) (fun _ _ => cb_add_n.2.2.2.2.1) Iff.rfl
      rw [hA'n i (by omega), g3 _ _ _ _ _ (hAle i hi hif)]
      exact hcg _ _ _ _ _ (hAle i hi hif)
  · cases h2
theorem cb_CH_un {T : cb_Tb} {A : Nat → Nat} {E : Nat → List Nat} {i : Nat} : ∀ (k1 k2 : List (List Nat)) (r s e : Nat), cb_CH T A E i r s e k1 → cb_CH T A E i r s e k2 → k1.length = k2.length → k1 = k2 := by
  intro k1
  induction k1 with
  | nil => intro k2 r s' e' _ _ hl; cases k2 with
    | nil => rfl
    | cons a k2 => simp at hl
  | cons a k1 ih1 => intro k2 r s' e' c1 c2 hl; cases k2 with
    | nil => simp at hl
    | cons b k2 =>
      rw [ih1 k2 _ _ _ c1.2.2.2.2 c2.2.2.2.2 (by simpa using hl), ← c1.2.2.1, ← c2.2.2.1]
theorem cb_RY_close {T : cb_Tb} {N m num q : Nat} {ks : List (List Nat)} {c : List cb_Fr} {d : Bool} {fp : List Nat} (h : cb_RY T N ((m, num, 0, ks) :: c, [], d) (q :: fp)) (h5 : m = 5 → ks.length % 2 = 0 ∧ ∀ k ∈ ks, cb_kb k) : cb_RC (cb_sd T q (ks.length + 1)) N c d (cb_nE m num ks) q fp := by
  obtain ⟨A, E, h1, h2, h3⟩ := h
  rcases h2 with ⟨_, h2⟩ | ⟨e, h2, _⟩
  · obtain ⟨f1, f0, f2, f3, f4, f5, f6, f7, f8, f9, f10⟩ := h2
    let A' : Nat → Nat := fun j => if j = q then N else A j
    let E' : Nat → List Nat := fun j => if j = q then cb_nE m num ks else E j
    have hA'q : A' q = N := if_pos rfl
    have hE'q : E' q = cb_nE m num ks := if_pos rfl
    have hA'n : ∀ j, j ≠ q → A' j = A j := fun j hj => if_neg hj
    have hE'n : ∀ j, j ≠ q → E' j = E j := fun j hj => if_neg hj
    have hsd : ∀ j, cb_pa (cb_sd T q (ks.length + 1)) j = cb_pa T j := fun j => cb_sd_f.2.2.1
    have hsr : ∀ j, cb_ra (cb_sd T q (ks.length + 1)) j = cb_ra T j := fun j => cb_sd_f.2.2.2.2.2.1
    have hchq : cb_CH (cb_sd T q (ks.length + 1)) A' E' q 0 (q + 1) N ks := cb_CH_cg f9 fun j hj1 _ _ => ⟨hsd j, hsr j, hA'n j (by omega), hE'n j (by omega)⟩
    have hcg : ∀ i ks' r s' e', i ∉ fp → (cb_CH T A E i r s' e' ks' ↔ cb_CH (cb_sd T q (ks.length + 1)) A' E' i r s' e' ks') := by
      intro i ks' r s' e' hi
      have hne : ∀ j, cb_pa T j = i + 1 → j ≠ q := fun j hj e => by rw [e, f8] at hj; exact cb_pf_ne hi hj
      exact ⟨fun h => cb_CH_cg h fun j _ _ hj => ⟨hsd j, hsr j, hA'n j (hne j hj), hE'n j (hne j hj)⟩, fun h => cb_CH_cg h fun j _ _ hj => ⟨(hsd j).symm, (hsr j).symm, (hA'n j (hne j ((hsd j).symm.trans hj))).symm, (hE'n j (hne j ((hsd j).symm.trans hj))).symm⟩⟩
    have hqf : q ∉ fp := fun hq => by have := cb_FR_lt f10 q hq; omega
    have hso := fun j => cb_sd_f (T := T) (q := q) (x := ks.length + 1) (j := j)
    refine ⟨A', E', fun i hi => ?_, cb_FR_cg f10 fun j hj => ⟨?_, hA'n j (by omega), hE'n j (by omega)⟩, by omega, hE'q, hA'q, (hsd q).trans f8, (hsr q).trans f7, ?_⟩
    · by_cases hif : i ∈ fp
      · exact Or.inl hif
      · right
        by_cases hiq : i = q
        · subst hiq
          refine ⟨ks, by rw [hA'q]; exact hchq, by rw [(hso _).2.2.2.2.1, f4]; rfl, by rw [(hso _).2.2.2.2.2.2, if_pos rfl], by rw [hE'q, (hso _).1, (hso _).2.1, f2, f3], by rw [hA'q]; exact Nat.le_refl _, fun h5' => h5 (by rw [← f2, ← h5', (hso _).1])⟩
        · rcases h1 i hi with hm | hm
          · rcases List.mem_cons.mp hm with hm | hm
            · exact absurd hm hiq
            · exact absurd hm hif
          · obtain ⟨ks', g1, g2, g3, g4, g5, g6⟩ := hm
            exact ⟨ks', by rw [hA'n i hiq]; exact (hcg i ks' _ _ _ hif).mp g1, by rw [(hso _).2.2.2.2.1]; exact g2, by rw [(hso _).2.2.2.2.2.2, if_neg hiq]; exact g3, by rw [hE'n i hiq, (hso _).1, (hso _).2.1]; exact g4, by rw [hA'n i hiq]; exact g5, by rw [(hso _).1]; exact g6⟩
    · unfold cb_sd; rw [if_neg (by omega)]
    · rw [h3]
      unfold cb_DU
      constructor
      · rintro (⟨i, hi, hif, hi5, ks', g1, g2, g3⟩ | ⟨f, hf, hf5, hfd⟩)
        · have hiq : i ≠ q := fun e => hif (by simp [e])
          have hif' : i ∉ fp := fun e => hif (by simp [e])
          exact Or.inl ⟨i, hi, hif', by rw [(hso _).1]; exact hi5, ks', by rw [hA'n i hiq]; exact (hcg i ks' _ _ _ hif').mp g1, by rw [(hso _).2.2.2.2.1]; exact g2, g3⟩
        · rcases List.mem_cons.mp hf with rfl | hf
          · dsimp only at hf5 hfd
            exact Or.inl ⟨q, by omega, hqf, by rw [(hso _).1, f2]; exact hf5, ks, by rw [hA'q]; exact hchq, by rw [(hso _).2.2.2.2.1, f4]; rfl, hfd⟩
          · exact Or.inr ⟨f, hf, hf5, hfd⟩
      · rintro (⟨i, hi, hif, hi5, ks', g1, g2, g3⟩ | ⟨f, hf, hf5, hfd⟩)
        · by_cases hiq : i = q
          · subst hiq
            right
            refine ⟨_, List.mem_cons_self, by dsimp only; rw [← f2, ← hi5, (hso _).1], ?_⟩
            rw [hA'q] at g1
            rw [(hso _).2.2.2.2.1, f4] at g2
            rw [← cb_CH_un ks' ks _ _ _ g1 hchq g2.symm]
            exact g3
          · refine Or.inl ⟨i, hi, fun h => ?_, by rw [← hi5, (hso _).1], ks', ?_, by rw [← g2, (hso _).2.2.2.2.1], g3⟩
            · rcases List.mem_cons.mp h with h | h
              · exact hiq h
              · exact hif h
            · rw [hA'n i hiq] at g1; exact (hcg i ks' _ _ _ hif).mpr g1
        · exact Or.inr ⟨f, by simp [hf], hf5, hfd⟩
  · cases h2
end
section
/-! Y: cells, facts -/
def cb_gt (l : List Nat) (i : Nat) : Int32 := if i < l.length then nI (l.getD i 0) else -12
def cy_TA (T : cb_Tb) (N : Nat) (vS vP vV vK vR : Nat → Int32) (vN vE : Nat → Int64) : Prop := ∀ i, i < N → vS i = nI (cb_so T i) ∧ vP i = cb_I (cb_pa T i) ∧ vV i = nI (cb_le T i) ∧ vK i = nI (cb_ki T i) ∧ vR i = nI (cb_ra T i) ∧ vN i = lN (cb_nu T i) ∧ vE i = cb_L (cb_nd T i)
def cb_TB (T : cb_Tb) (N : Nat) : Prop := ∀ i, i < N → (cb_so T i ≤ 8 ∧ cb_so T i ≠ 3) ∧ cb_nu T i < 2 ^ 32 ∧ cb_pa T i ≤ N ∧ cb_le T i ≤ N ∧ cb_ki T i ≤ N ∧ cb_ra T i ≤ N ∧ cb_nd T i < 2 ^ 34
theorem cb_TB_add {T : cb_Tb} {N m n u d0 : Nat} (h : cb_TB T N) (hm : m ≤ 8 ∧ m ≠ 3) (hn : n < 2 ^ 32) (hu : u ≤ N) (hd : d0 < 2 ^ 34) : cb_TB (cb_add T N m n u d0) (N + 1) := by
  intro i hi
  by_cases e : i = N
  · subst e
    obtain ⟨a1, a2, a3, a4, a5, a6, a7⟩ := cb_add_n (T := T) (N := i) (m := m) (n := n) (u := u) (d0 := d0)
    rw [a1, a2, a3, a4, a5, a6, a7]
    refine ⟨hm, hn, by omega, ?_, by omega, ?_, hd⟩
    · split
      · omega
      · have := (h (u - 1) (by omega)).2.2.2.1; omega
    · split
      · omega
      · have := (h (u - 1) (by omega)).2.2.2.2.1; omega
  · obtain ⟨a1, a2, a3, a4, a5, a6, a7⟩ := cb_add_f (T := T) (N := N) (m := m) (n := n) (u := u) (d0 := d0) (j := i) e
    rw [a1, a2, a3, a4, a5, a6, a7]
    obtain ⟨b1, b2, b3, b4, b5, b6, b7⟩ := h i (by omega)
    refine ⟨b1, b2, by omega, by omega, ?_, by omega, b7⟩
    split <;> omega
theorem cb_TB_sd {T : cb_Tb} {N q x : Nat} (h : cb_TB T N) (hx : x < 2 ^ 34) : cb_TB (cb_sd T q x) N := by
  intro i hi
  obtain ⟨a1, a2, a3, a4, a5, a6, a7⟩ := cb_sd_f (T := T) (q := q) (x := x) (j := i)
  rw [a1, a2, a3, a4, a5, a6, a7]
  obtain ⟨b1, b2, b3, b4, b5, b6, b7⟩ := h i hi
  refine ⟨b1, b2, b3, b4, b5, b6, ?_⟩
  split <;> omega
theorem cb_RY_in {T : cb_Tb} {N : Nat} {s : cb_S3} {fp : List Nat} (h : cb_RY T N s fp) : cb_pf fp ≤ N ∧ (∀ j, cb_pf fp ≤ j → j < N → cb_nd T j = cb_ki T j + 1) ∧ (cb_pf fp = 0 ∨ cb_nd T (cb_pf fp - 1) ≠ cb_ki T (cb_pf fp - 1) + 1) := by
  obtain ⟨A, E, h1, h2, h3⟩ := h
  have hlc : ∀ j, j < N → j ∉ fp → cb_nd T j = cb_ki T j + 1 := fun j hj hjf => by
    rcases h1 j hj with h | ⟨ks, _, g2, g3, _⟩
    · exact absurd h hjf
    · rw [g2, g3]
  rcases h2 with ⟨_, h2⟩ | ⟨e, _, _, h2, _⟩
  · have hfl := cb_FR_lt h2
    generalize s.1 = c at h2
    cases c with
    | nil => cases fp with
      | nil => exact ⟨by simp [cb_pf], fun j _ hj => hlc j hj (by simp), Or.inl rfl⟩
      | cons a fp => exact absurd h2 (by simp [cb_FR])
    | cons f c =>
      obtain ⟨m, num, lf, ks⟩ := f
      cases fp with
      | nil => exact absurd h2 (by simp [cb_FR])
      | cons q fp =>
        obtain ⟨f1, f0, f2, f3, f4, f5, f6, f7, f8, f9, f10⟩ := h2
        have hfl2 := cb_FR_lt f10
        refine ⟨by simp [cb_pf]; omega, fun j hj1 hj => hlc j hj fun hm => ?_, Or.inr ?_⟩
        · simp [cb_pf] at hj1
          rcases List.mem_cons.mp hm with hm | hm
          · omega
          · have := hfl2 j hm; omega
        · show cb_nd T q ≠ cb_ki T q + 1
          rw [f4, f5]
          split <;> omega
  · subst h2
    exact ⟨by simp [cb_pf], fun j _ hj => hlc j hj (by simp), Or.inl rfl⟩
section cy1
variable {yM yD yS yN yF : Int32} {vC vL vS vP vV vK vR vA vB : Nat → Int32} {vN vE : Nat → Int64}
theorem cy_get {post : Int32 → Prop} {pl i : Nat} {p0 : Int32} {l : List Nat} (hpl : p0 + 2 = nI pl) (hp8 : pl < 8) (hL : vL pl = nI l.length) (hl : l.length ≤ 128) (hC : cb_At vC (pl * 128) l) (hi : i < 2 ^ 31) (h : post (cb_gt l i)) : wpY_get post (yM, yD, yS, yN, yF, vC, vL, vS, vP, vV, vK, vR, vA, vB, vN, vE) p0 (nI i) := by
  unfold cb_gt at h
  refine br_f (nI_pos hi) ⟨by rw [hpl]; exact vp_in_nI hp8 (by omega), ?_⟩
  rw [hpl, nI_clamp (by omega), hL]
  refine pk_lt i l.length (fun e => ?_) (fun e => ?_)
  · rw [if_pos e] at h
    rw [show (128 : Int32) = nI 128 from rfl, pk_mul, nI_add]
    refine ⟨vp_in_nI (by omega) (by omega), ?_⟩
    rw [nI_clamp (by omega), cb_At_get hC i e]
    exact h
  · rw [if_neg (by omega)] at h; exact h
theorem cy_in {post : Int32 → Prop} {T : cb_Tb} {N u : Nat} (hN : yN = nI N) (hN1 : N ≤ 128) (hTA : cy_TA T N vS vP vV vK vR vN vE) (hTB : cb_TB T N) (hu : u ≤ N) (h1 : ∀ j, u ≤ j → j < N → cb_nd T j = cb_ki T j + 1) (h2 : u = 0 ∨ cb_nd T (u - 1) ≠ cb_ki T (u - 1) + 1) (h : post (cb_I u)) : wpY_innermost post (yM, yD, yS, yN, yF, vC, vL, vS, vP, vV, vK, vR, vA, vB, vN, vE) := by
  have lp : ∀ d k n, k = u + d → k ≤ N → d < n → wY_innermost_7 post yM yD yS yN yF vC vL vS vP vV vK vR vA vB vN vE n (cb_I k) := by
    intro d
    induction d with
    | zero =>
      intro k n hk hkN hn
      obtain ⟨n, rfl⟩ : ∃ k, n = k + 1 := ⟨n - 1, by omega⟩
      have e : k = u := by omega
      subst e
      rcases h2 with h0 | h2
      · subst h0; exact br_t (by decide) h
      · cases k with
        | zero => exact br_t (by decide) h
        | succ j =>
          obtain ⟨t1, t2, t3, t4, t5, t6, t7⟩ := hTA j (by omega)
          obtain ⟨b1, b2, b3, b4, b5, b6, b7⟩ := hTB j (by omega)
          rw [cb_Is] at h ⊢
          refine br_f (nI_pos (by omega)) ⟨vp_in_nI (by omega) (by omega), vp_in_nI (by omega) (by omega), br_f ?_ h⟩
          rw [nI_clamp (by omega), t4, t7, cb_lI (by omega)]
          intro e
          rw [Nat.add_sub_cancel] at h2
          exact h2 ((cb_L_eq (by omega) (by omega)).mp e.symm)
    | succ d ih =>
      intro k n hk hkN hn
      obtain ⟨n, rfl⟩ : ∃ k, n = k + 1 := ⟨n - 1, by omega⟩
      obtain ⟨j, rfl⟩ : ∃ j, k = j + 1 := ⟨k - 1, by omega⟩
      obtain ⟨t1, t2, t3, t4, t5, t6, t7⟩ := hTA j (by omega)
      obtain ⟨b1, b2, b3, b4, b5, b6, b7⟩ := hTB j (by omega)
      rw [cb_Is]
      refine br_f (nI_pos (by omega)) ⟨vp_in_nI (by omega) (by omega), vp_in_nI (by omega) (by omega), br_t ?_ (nm_r (e' := cb_I j) (by show nI j + (-1) = nI j - 1; rw [Int32.sub_eq_add_neg]) (ih j n (by omega) (by omega) (by omega)))⟩
      rw [nI_clamp (by omega), t4, t7, cb_lI (by omega)]
      exact ((cb_L_eq (by omega) (by omega)).mpr (h1 j (by omega) (by omega))).symm
  refine nm_r (e' := cb_I N) (by rw [hN]; rfl) ⟨N - u + 1, lp (N - u) N _ (by omega) (Nat.le_refl _) (by omega)⟩
theorem cy_add {post : Int32 → SY → Prop} {T : cb_Tb} {N m n u d0 : Nat} (hN : yN = nI N) (hN1 : N < 128) (hTA : cy_TA T N vS vP vV vK vR vN vE) (hu : u ≤ N)
    (K : ∀ (vS vP vV vK vR : Nat → Int32) (vN vE : Nat → Int64), cy_TA (cb_add T N m n u d0) (N + 1) vS vP vV vK vR vN vE → post (nI N) (yM, yD, yS, nI (N + 1), yF, vC, vL, vS, vP, vV, vK, vR, vA, vB, vN, vE)) : wpY_add post (yM, yD, yS, yN, yF, vC, vL, vS, vP, vV, vK, vR, vA, vB, vN, vE) (nI m) (lN n) (cb_I u) (cb_L d0) := by
  have hin : vp_in (nI N) 128 := vp_in_nI hN1 (by omega)
  rw [hN]
  refine br_t (nI_lt (b := 128) hN1 (by omega)) ⟨hin, nm_e ⟨hin, nm_e ⟨hin, nm_e ⟨hin, nm_e ⟨hin, nm_e ?_⟩⟩⟩⟩⟩
  rw [nI_clamp (by omega)]
  have hold : ∀ i, i < N → i ≠ N := fun i hi => by omega
  refine br_c (fun h => ?_) (fun h => ?_)
  · have hu0 : 0 < u := (cb_I_0le (by omega)).mp h
    obtain ⟨j, rfl⟩ : ∃ j, u = j + 1 := ⟨u - 1, by omega⟩
    obtain ⟨t1, t2, t3, t4, t5, t6, t7⟩ := hTA j (by omega)
    rw [cb_Is] at h ⊢
    have hinj : vp_in (nI j) 128 := vp_in_nI (by omega) (by omega)
    refine ⟨hinj, hin, nm_e (br_t h ⟨hinj, hinj, nm_e ⟨hin, nm_e (nm_r (nI_1 _) ?_)⟩⟩)⟩
    rw [nI_clamp (by omega), nI_clamp (by omega), pk_un (show j ≠ N by omega), t3, t4, nI_1, nI_1]
    refine K _ _ _ _ _ _ _ fun i hi => ?_
    by_cases e : i = N
    · subst e
      obtain ⟨a1, a2, a3, a4, a5, a6, a7⟩ := cb_add_n (T := T) (N := i) (m := m) (n := n) (u := j + 1) (d0 := d0)
      rw [a1, a2, a3, a4, a5, a6, a7, if_neg (by omega), if_neg (by omega), Nat.add_sub_cancel, cb_Is]
      exact ⟨pk_us, pk_us, pk_us, by rw [pk_un (by omega), pk_us]; rfl, pk_us, pk_uLs, pk_uLs⟩
    · obtain ⟨a1, a2, a3, a4, a5, a6, a7⟩ := cb_add_f (T := T) (N := N) (m := m) (n := n) (u := j + 1) (d0 := d0) (j := i) e
      obtain ⟨s1, s2, s3, s4, s5, s6, s7⟩ := hTA i (by omega)
      rw [a1, a2, a3, a4, a5, a6, a7]
      refine ⟨by rw [pk_un e]; exact s1, by rw [pk_un e]; exact s2, by rw [pk_un e]; exact s3, ?_, by rw [pk_un e]; exact s5, by rw [pk_uLn e]; exact s6, by rw [pk_uLn e]; exact s7⟩
      by_cases e2 : i = j
      · subst e2; rw [pk_us, if_pos rfl]
      · rw [pk_un e2, pk_un e, if_neg (by omega)]; exact s4
  · have hu0 : u = 0 := by
      by_cases e : u = 0
      · exact e
      · exact absurd ((cb_I_0le (by omega)).mpr (by omega)) h
    subst hu0
    refine ⟨hin, nm_e (br_f h ⟨hin, nm_e (nm_r (nI_1 _) ?_)⟩)⟩
    rw [nI_clamp (by omega)]
    refine K _ _ _ _ _ _ _ fun i hi => ?_
    by_cases e : i = N
    · subst e
      obtain ⟨a1, a2, a3, a4, a5, a6, a7⟩ := cb_add_n (T := T) (N := i) (m := m) (n := n) (u := 0) (d0 := d0)
      rw [a1, a2, a3, a4, a5, a6, a7, if_pos rfl, if_pos rfl]
      exact ⟨pk_us, pk_us, pk_us, pk_us, pk_us, pk_uLs, pk_uLs⟩
    · obtain ⟨a1, a2, a3, a4, a5, a6, a7⟩ := cb_add_f (T := T) (N := N) (m := m) (n := n) (u := 0) (d0 := d0) (j := i) e
      obtain ⟨s1, s2, s3, s4, s5, s6, s7⟩ := hTA i (by omega)
      rw [a1, a2, a3, a4, a5, a6, a7, if_neg (by omega)]
      exact ⟨by rw [pk_un e]; exact s1, by rw [pk_un e]; exact s2, by rw [pk_un e]; exact s3, by rw [pk_un e]; exact s4, by rw [pk_un e]; exact s5, by rw [pk_uLn e]; exact s6, by rw [pk_uLn e]; exact s7⟩
theorem cy_add' {post : Int32 → SY → Prop} {T : cb_Tb} {N : Nat} {a0 a2 : Int32} {a1 a3 : Int64} (m n u d0 : Nat) (e0 : a0 = nI m) (e1 : a1 = lN n) (e2 : a2 = cb_I u) (e3 : a3 = cb_L d0) (hN : yN = nI N) (hN1 : N < 128) (hTA : cy_TA T N vS vP vV vK vR vN vE) (hu : u ≤ N)
    (K : ∀ (vS vP vV vK vR : Nat → Int32) (vN vE : Nat → Int64), cy_TA (cb_add T N m n u d0) (N + 1) vS vP vV vK vR vN vE → post (nI N) (yM, yD, yS, nI (N + 1), yF, vC, vL, vS, vP, vV, vK, vR, vA, vB, vN, vE)) : wpY_add post (yM, yD, yS, yN, yF, vC, vL, vS, vP, vV, vK, vR, vA, vB, vN, vE) a0 a1 a2 a3 := by
  rw [e0, e1, e2, e3]
  exact cy_add hN hN1 hTA hu K
theorem cy_TA_sd {T : cb_Tb} {N q k : Nat} (hTA : cy_TA T N vS vP vV vK vR vN vE) : cy_TA (cb_sd T q (k + 1)) N vS vP vV vK vR vN (vp_updL vE q (lN k)) := by
  intro i hi
  obtain ⟨a1, a2, a3, a4, a5, a6, a7⟩ := cb_sd_f (T := T) (q := q) (x := k + 1) (j := i)
  obtain ⟨s1, s2, s3, s4, s5, s6, s7⟩ := hTA i hi
  rw [a1, a2, a3, a4, a5, a6, a7]
  refine ⟨s1, s2, s3, s4, s5, s6, ?_⟩
  by_cases e : i = q
  · subst e; rw [pk_uLs, if_pos rfl, cb_Ls]
  · rw [pk_uLn e, if_neg e]; exact s7
end cy1
/-! the raw bytes of the facts -/
def cb_n1 (m v : Nat) : List Nat := if m = 8 then [v] else cb_hd m v
def cb_c1 (m v : Nat) : Nat := if m = 2 ∨ m = 4 then v else if m = 5 then 2 * v else if m = 6 then 1 else 0
def cb_rw (T : cb_Tb) : Nat → List Nat
  | 0 => []
  | N + 1 => cb_rw T N ++ cb_n1 (cb_so T N) (cb_nu T N)
theorem cb_rw_cg {T T' : cb_Tb} : ∀ {N : Nat}, (∀ i, i < N → cb_so T' i = cb_so T i ∧ cb_nu T' i = cb_nu T i) → cb_rw T' N = cb_rw T N := by
  intro N
  induction N with
  | zero => intro _; rfl
  | succ N ih => intro h; simp only [cb_rw]; rw [ih fun i hi => h i (by omega), (h N (by omega)).1, (h N (by omega)).2]
def cb_FW (lim : Nat) (T : cb_Tb) (N : Nat) (w : Option (List Nat)) : Prop := ∀ raw, w = some raw → raw = cb_rw T N ∧ ∀ i, i < N → cb_nd T i = cb_c1 (cb_so T i) (cb_nu T i) + 1 ∧ cb_le T i = (if cb_pa T i = 0 then 1 else cb_le T (cb_pa T i - 1) + 1) ∧ (cb_so T i ≠ 8 → cb_le T i ≤ lim) ∧ (cb_so T i = 8 ↔ (cb_pa T i ≠ 0 ∧ cb_so T (cb_pa T i - 1) = 2))
theorem cb_FW_add {T : cb_Tb} {lim N m n u : Nat} {w : Option (List Nat)} (h : cb_FW lim T N w) (hTB : cb_TB T N) (hu : u ≤ N) (hle : m ≠ 8 → (if u = 0 then 1 else cb_le T (u - 1) + 1) ≤ lim) (hb : m = 8 ↔ (u ≠ 0 ∧ cb_so T (u - 1) = 2)) : cb_FW lim (cb_add T N m n u (cb_c1 m n + 1)) (N + 1) (w.map (fun y => y ++ cb_n1 m n)) := by
  intro raw hr
  cases w with
  | none => cases hr
  | some r0 =>
    obtain ⟨h1, h2⟩ := h r0 rfl
    have hr' : raw = r0 ++ cb_n1 m n := by simpa using hr.symm
    have hn := cb_add_n (T := T) (N := N) (m := m) (n := n) (u := u) (d0 := cb_c1 m n + 1)
    have hso : ∀ j, j ≠ N → cb_so (cb_add T N m n u (cb_c1 m n + 1)) j = cb_so T j := fun j hj => (cb_add_f hj).1
    have hlo : ∀ j, j ≠ N → cb_le (cb_add T N m n u (cb_c1 m n + 1)) j = cb_le T j := fun j hj => (cb_add_f hj).2.2.2.1
    refine ⟨?_, fun i hi => ?_⟩
    · rw [hr', h1]
      simp only [cb_rw]
      rw [hn.1, hn.2.1, cb_rw_cg fun i hi => ⟨(cb_add_f (by omega)).1, (cb_add_f (by omega)).2.1⟩]
    · by_cases e : i = N
      · subst e
        rw [hn.1, hn.2.1, hn.2.2.2.2.2.2, hn.2.2.2.1, hn.2.2.1]
        refine ⟨rfl, ?_, hle, ?_⟩
        · by_cases e0 : u = 0
          · rw [if_pos e0, if_pos e0]
          · rw [if_neg e0, if_neg e0, hlo (u - 1) (by omega)]
        · by_cases e0 : u = 0
          · rw [hb]; exact ⟨fun h => absurd e0 h.1, fun h => absurd e0 h.1⟩
          · rw [hso (u - 1) (by omega)]; exact hb
      · have hf := cb_add_f (T := T) (N := N) (m := m) (n := n) (u := u) (d0 := cb_c1 m n + 1) (j := i) e
        rw [hf.1, hf.2.1, hf.2.2.2.2.2.2, hf.2.2.2.1, hf.2.2.1]
        obtain ⟨g1, g2, g3, g4⟩ := h2 i (by omega)
        have hpa := (hTB i (by omega)).2.2.1
        refine ⟨g1, ?_, g3, ?_⟩
        · by_cases e0 : cb_pa T i = 0
          · rw [if_pos e0] at g2 ⊢; exact g2
          · rw [if_neg e0] at g2 ⊢; rw [hlo _ (by omega)]; exact g2
        · by_cases e0 : cb_pa T i = 0
          · rw [g4]; exact ⟨fun h => absurd e0 h.1, fun h => absurd e0 h.1⟩
          · rw [hso _ (by omega)]; exact g4
theorem cb_FW_no {lim : Nat} {T : cb_Tb} {N : Nat} : cb_FW lim T N none := fun raw h => by cases h
end
section
/-! Y: the scan -/
theorem cb_OK_IT {lim : Nat} : ∀ {c : List cb_Fr} {e : List Nat}, cb_FI lim false c → cb_IT (lim - c.length) e → (∀ f ∈ c, f.2.2.2.length < 2 ^ 30) → cb_OK c e := by
  intro c
  induction c with
  | nil => intro e _ _ _; trivial
  | cons f c ih =>
    intro e hf he hk
    obtain ⟨m, num, lf, ks⟩ := f
    obtain ⟨hm, hl1, hl2, hnu, h6, h5, hcl, hks, hfc⟩ := hf
    have hk1 := hk (m, num, lf, ks) (by simp)
    dsimp only at hk1
    have hks' : ∀ k ∈ ks ++ [e], cb_IT (lim - (c.length + 1)) k := by
      intro k hk
      rcases List.mem_append.mp hk with hk | hk
      · exact hks k hk
      · rw [List.mem_singleton.mp hk]; simpa using he
    refine ⟨fun e5 => ⟨fun k hk => ⟨(hks' k hk).1, (hks' k hk).2.2⟩, fun e2 => ?_⟩, fun e2 => ih hfc ?_ (fun f hf => hk f (by simp [hf]))⟩
    · have := h5 e5 (by omega); omega
    · rw [show lim - c.length = lim - (c.length + 1) + 1 by omega]
      refine cb_IT_nd ?_ (by simp; omega) hks'
      rcases hm with rfl | rfl | rfl
      · exact Or.inl rfl
      · refine Or.inr (Or.inl ⟨rfl, ?_⟩); have := h5 rfl (by omega); simp; omega
      · refine Or.inr (Or.inr ⟨rfl, ?_, hnu⟩); rw [(h6 rfl).2.2 rfl]; rfl
theorem cb_FI_k {lim : Nat} : ∀ {c : List cb_Fr} {x : Bool} {p : Nat}, cb_FI lim x c → (cb_oo c).length ≤ p → ∀ f ∈ c, f.2.2.2.length ≤ p := by
  intro c
  induction c with
  | nil => intro x p _ _ f hf; simp at hf
  | cons g c ih =>
    intro x p hf hp f hfm
    obtain ⟨m, num, lf, ks⟩ := g
    obtain ⟨hm, hl1, hl2, hnu, h6, h5, hcl, hks, hfc⟩ := hf
    have hkn := cb_kn fun k hk => cb_SK_ne (hks k hk).1
    have hct := cb_ct_len (m, num, lf, ks)
    simp only [cb_oo, List.length_append] at hp
    dsimp only at hct
    rcases List.mem_cons.mp hfm with rfl | hfm
    · dsimp only; omega
    · exact ih hfc (by omega) f hfm
theorem cb_nE8 (b : Nat) : cb_nE 8 b [] = [b] := by simp [cb_nE, cb_nh, cb_bd]
theorem cb_fl1 (bs : List Nat) : (bs.map (fun b => [b])).flatten = bs := by
  induction bs with
  | nil => rfl
  | cons b bs ih => simp [ih]
theorem cb_nE2 (v : Nat) (bs : List Nat) : cb_nE 2 v (bs.map (fun b => [b])) = cb_hd 2 bs.length ++ bs := by
  unfold cb_nE cb_nh cb_bd
  rw [if_neg (by omega), if_pos (by omega), if_neg (by omega), cb_fl1, List.length_map]
theorem cb_c1_lf {m f v : Nat} (h2 : m ≠ 2) (hf : f ≠ 31) : cb_lf m f v = cb_c1 m v + 1 := by
  unfold cb_lf cb_c1
  rw [if_neg hf]
  by_cases h5 : m = 5
  · subst h5; simp
  · by_cases h4 : m = 4
    · subst h4; simp
    · by_cases h6 : m = 6
      · subst h6; simp
      · simp [h2, h5, h4, h6]
section cy2
variable {yM yD yS : Int32} {vC vL vA vB : Nat → Int32}
/-- the bytes of a byte string -/
theorem cy_478 {post : Int32 → SY → Prop} {J : Int32 → Int32 → Int32 → Int32 → Int32 → Int32 → Int32 → (Nat → Int32) → (Nat → Int32) → (Nat → Int32) → (Nat → Int32) → (Nat → Int32) → (Nat → Int32) → (Nat → Int32) → (Nat → Int32) → (Nat → Int32) → (Nat → Int64) → (Nat → Int64) → Prop}
    {x1 x2 : Int32} {lim pl p v q t : Nat} {inp : List Nat} {c : List cb_Fr} {d : Bool} {fp : List Nat} {w : Option (List Nat)} {yF : Int32} (hpl : x1 + 2 = nI pl) (hp8 : pl < 8) (hC : cb_At vC (pl * 128) inp) (hn : inp.length ≤ 128) (hb : ∀ b ∈ inp, b < 256) (hv : p + v ≤ inp.length) (hok : cb_OK c (cb_hd 2 v ++ (inp.drop p).take v))
    (K : ∀ (T : cb_Tb) (N : Nat) (fp : List Nat) (vS vP vV vK vR : Nat → Int32) (vN vE : Nat → Int64), N ≤ p + v → cy_TA T N vS vP vV vK vR vN vE → cb_TB T N → cb_RY T N (cb_cm c d (cb_hd 2 v ++ (inp.drop p).take v)) fp → cb_FW lim T N (w.map (fun y => y ++ (inp.drop p).take v)) → J (nI (p + v)) (nI (t + 1)) yM yD yS (nI N) yF vC vL vS vP vV vK vR vA vB vN vE) :
    ∀ (k i n : Nat) (T : cb_Tb) (N : Nat) (vS vP vV vK vR : Nat → Int32) (vN vE : Nat → Int64), i + k = v → 0 < k → k < n → N ≤ p + i → cy_TA T N vS vP vV vK vR vN vE → cb_TB T N → cb_RY T N ((2, v, v + 1 - i, ((inp.drop p).take i).map (fun b => [b])) :: c, [], d) (q :: fp) → cb_FW lim T N (w.map (fun y => y ++ (inp.drop p).take i)) →
      wY_scan_478 post J x1 x2 (nI t) (nI 2) (lN v) (nI q) n (nI (p + i)) (nI i) yM yD yS (nI N) yF vC vL vS vP vV vK vR vA vB vN vE := by
  intro k
  induction k with
  | zero => intro i n T N vS vP vV vK vR vN vE _ h; omega
  | succ k ih =>
    intro i n T N vS vP vV vK vR vN vE hi _ hkn hNp hTA hTB hRY hFW
    obtain ⟨n, rfl⟩ : ∃ k, n = k + 1 := ⟨n - 1, by omega⟩
    refine br_t rfl (br_f ?_ ?_)
    · rw [cb_lI (by omega), pk_lLE (by omega) (by omega)]; omega
    rw [hpl, show (128 : Int32) = nI 128 from rfl, pk_mul, nI_add]
    refine ⟨vp_in_nI (by omega) (by omega), ?_⟩
    rw [nI_clamp (by omega), cb_At_get hC (p + i) (by omega)]
    have hbb := cb_getD_lt hb (p + i)
    rw [cb_lI (by omega)]
    have et : (inp.drop p).take (i + 1) = (inp.drop p).take i ++ [inp.getD (p + i) 0] := by
      rw [List.take_add_one, ← cb_drop_getD, List.getD_eq_getElem?_getD]
      have : i < (inp.drop p).length := by simp; omega
      rw [List.getElem?_eq_getElem this]; rfl
    have hlen : ((inp.drop p).take i).length = i := by simp; omega
    generalize hbe : inp.getD (p + i) 0 = b at *
    have hq : q < N ∧ cb_so T q = 2 := by
      obtain ⟨A, E, _, h2, _⟩ := hRY
      rcases h2 with ⟨_, h2⟩ | ⟨e, h2, _⟩
      · exact ⟨h2.1, h2.2.2.1⟩
      · cases h2
    obtain ⟨hq, hso2⟩ := hq
    have hleaf := cb_RY_leaf (m := 8) (n := b) hRY
    rw [cb_nE8] at hleaf
    have hFW' := cb_FW_add (m := 8) (n := b) (u := q + 1) hFW hTB (by omega) (fun h => absurd rfl h) ⟨fun _ => ⟨by omega, hso2⟩, fun _ => rfl⟩
    rw [show cb_c1 8 b + 1 = 1 from rfl, Option.map_map] at hFW'
    have efw : ((fun y => y ++ cb_n1 8 b) ∘ fun y => y ++ (inp.drop p).take i) = fun y => y ++ (inp.drop p).take (i + 1) := by
      funext y; simp [et, cb_n1]
    rw [efw] at hFW'
    have ecm : cb_cm ((2, v, v + 1 - i, ((inp.drop p).take i).map (fun b => [b])) :: c) d [b] = if v + 1 - i = 2 then cb_cm c d (cb_nE 2 v (((inp.drop p).take (i + 1)).map (fun b => [b]))) else ((2, v, v + 1 - (i + 1), ((inp.drop p).take (i + 1)).map (fun b => [b])) :: c, [], d) := by
      have hdn : cb_dn 2 (((inp.drop p).take i).map (fun b => [b])) = false := decide_eq_false (fun h => by omega)
      rw [cb_cm_c, hdn, Bool.or_false, et, List.map_append]
      rfl
    have hok2 : cb_OK ((2, v, v + 1 - i, ((inp.drop p).take i).map (fun b => [b])) :: c) [b] := by
      refine ⟨fun h => by omega, fun h => ?_⟩
      have hiv : i + 1 = v := by omega
      have : cb_nE 2 v (((inp.drop p).take i).map (fun b => [b]) ++ [[b]]) = cb_hd 2 v ++ (inp.drop p).take v := by
        have e2 := cb_nE2 v ((inp.drop p).take (i + 1))
        rw [et, List.map_append] at e2
        refine e2.trans ?_
        rw [← et, hiv]
        have : ((inp.drop p).take v).length = v := by simp; omega
        rw [this]
      rw [this]; exact hok
    obtain ⟨fp', hRY', hfp'⟩ := cb_RC_cm hok2 hleaf
    rw [ecm] at hRY'
    refine cy_add' 8 b (q + 1) 1 rfl rfl (cb_Is q).symm (cb_Ls 0).symm rfl (by omega) hTA (by omega) ?_
    intro vS vP vV vK vR vN vE hTA'
    refine nm_r (nI_1 _) (nm_r (e' := nI (p + (i + 1))) (by rw [nI_1]; rfl) ?_)
    have hTB' := cb_TB_add (m := 8) (n := b) (u := q + 1) (d0 := 1) hTB (by omega) (by omega) (by omega) (by omega)
    by_cases hl : v + 1 - i = 2
    · rw [if_pos hl, show i + 1 = v by omega] at hRY'
      have hiv : i + 1 = v := by omega
      have hvl : ((inp.drop p).take v).length = v := by simp; omega
      rw [cb_nE2, hvl] at hRY'
      rw [hiv] at hFW' ⊢
      obtain ⟨n, rfl⟩ : ∃ k, n = k + 1 := ⟨n - 1, by omega⟩
      refine br_t rfl (br_t ?_ (nm_r (nI_1 _) (K _ _ fp' _ _ _ _ _ _ _ (by omega) hTA' hTB' hRY' hFW')))
      rw [cb_lI (by omega), pk_lLE (by omega) (by omega)]; exact Nat.le_refl _
    · rw [if_neg hl] at hRY'
      have := hfp' ⟨_, _, rfl, hl⟩
      subst this
      exact ih (i + 1) n _ (N + 1) _ _ _ _ _ _ _ (by omega) (by omega) (by omega) (by omega) hTA' hTB' hRY' hFW'
end cy2
end
section
/-! Y: a step of the scan -/
theorem cb_RY_le {T : cb_Tb} {N : Nat} {c : List cb_Fr} {d : Bool} {fp : List Nat} (h : cb_RY T N (c, [], d) fp) : (if cb_pf fp = 0 then 1 else cb_le T (cb_pf fp - 1) + 1) = c.length + 1 := by
  obtain ⟨A, E, _, h2, _⟩ := h
  rcases h2 with ⟨_, h2⟩ | ⟨_, h2, _⟩
  · cases c with
    | nil => cases fp with
      | nil => rfl
      | cons a fp => exact absurd h2 (by simp [cb_FR])
    | cons f c =>
      obtain ⟨m, num, lf, ks⟩ := f
      cases fp with
      | nil => exact absurd h2 (by simp [cb_FR])
      | cons q fp =>
        obtain ⟨f1, f0, f2, f3, f4, f5, f6, f7⟩ := h2
        rw [if_neg (show cb_pf (q :: fp) ≠ 0 by simp [cb_pf])]
        show cb_le T q + 1 = c.length + 1 + 1
        rw [f6]
  · cases h2
theorem cb_RY_so {T : cb_Tb} {lim N : Nat} {x : Bool} {c : List cb_Fr} {d : Bool} {fp : List Nat} (hf : cb_FI lim x c) (h : cb_RY T N (c, [], d) fp) (hp : cb_pf fp ≠ 0) : cb_so T (cb_pf fp - 1) ≠ 2 := by
  obtain ⟨A, E, _, h2, _⟩ := h
  rcases h2 with ⟨_, h2⟩ | ⟨_, h2, _⟩
  · cases c with
    | nil => cases fp with
      | nil => exact absurd rfl hp
      | cons a fp => exact absurd h2 (by simp [cb_FR])
    | cons f c =>
      obtain ⟨m, num, lf, ks⟩ := f
      cases fp with
      | nil => exact absurd h2 (by simp [cb_FR])
      | cons q fp =>
        obtain ⟨f1, f0, f2, f3⟩ := h2
        show cb_so T q ≠ 2
        have := hf.1
        omega
  · cases h2
section cy3
variable {yM yD yS yF : Int32} {vC vL vA vB : Nat → Int32}
theorem cy_470 {post : Int32 → SY → Prop} {J : Int32 → Int32 → Int32 → Int32 → Int32 → Int32 → Int32 → (Nat → Int32) → (Nat → Int32) → (Nat → Int32) → (Nat → Int32) → (Nat → Int32) → (Nat → Int32) → (Nat → Int32) → (Nat → Int32) → (Nat → Int32) → (Nat → Int64) → (Nat → Int64) → Prop}
    {x1 x2 : Int32} {z0 : Int64} {lim pl p v t m f N : Nat} {inp : List Nat} {c : List cb_Fr} {d : Bool} {fp : List Nat} {w : Option (List Nat)} {T : cb_Tb} {vS vP vV vK vR : Nat → Int32} {vN vE : Nat → Int64} (hpl : x1 + 2 = nI pl) (hp8 : pl < 8) (hC : cb_At vC (pl * 128) inp) (hn : inp.length ≤ 128) (hb : ∀ b ∈ inp, b < 256)
    (hf : cb_FI lim false c) (hc : c.length < lim) (hm : m = 0 ∨ m = 1 ∨ m = 2 ∨ (m = 7 ∧ v < 24) ∨ m = 4 ∨ m = 5 ∨ m = 6) (h31 : f = 31 → m = 4 ∨ m = 5) (hv : v < 2 ^ 32) (hpv : m = 2 → p + v ≤ inp.length) (hpn : p ≤ inp.length) (hoo : (cb_oo c).length ≤ 128) (hN : N < p)
    (hz0 : z0 = cb_L (if m = 2 then v + 1 else cb_lf m f v)) (hTA : cy_TA T N vS vP vV vK vR vN vE) (hTB : cb_TB T N) (hRY : cb_RY T N (c, [], d) fp) (hFW : cb_FW lim T N w)
    (K : ∀ (T : cb_Tb) (N : Nat) (fp : List Nat) (vS vP vV vK vR : Nat → Int32) (vN vE : Nat → Int64), N ≤ p + (if m = 2 then v else 0) → cy_TA T N vS vP vV vK vR vN vE → cb_TB T N → cb_RY T N (cb_tk c d m f v (cb_yb inp p m v)) fp → cb_FW lim T N (cb_wn w f (cb_hd m v ++ cb_yb inp p m v)) → J (nI (p + (if m = 2 then v else 0))) (nI (t + 1)) yM yD yS (nI N) yF vC vL vS vP vV vK vR vA vB vN vE) :
    wY_scan_470 post J x1 x2 (nI p) (nI t) (nI m) (lN v) z0 (cb_I (cb_pf fp)) (lN v) (nI m) yM yD yS (nI N) yF vC vL vS vP vV vK vR vA vB vN vE := by
  have hin := cb_RY_in hRY
  have hkk := cb_FI_k hf hoo
  have hlev : (if cb_pf fp = 0 then 1 else cb_le T (cb_pf fp - 1) + 1) ≤ lim := by rw [cb_RY_le hRY]; omega
  have hkk' : ∀ f ∈ c, f.2.2.2.length < 2 ^ 30 := fun f hf => by have := hkk f hf; omega
  have hlf34 : cb_lf m f v < 2 ^ 34 := by unfold cb_lf; split; omega; split; omega; split; omega; split <;> omega
  by_cases m2 : m = 2
  · subst m2
    have hf31 : f ≠ 31 := fun e => by have := h31 e; omega
    rw [if_pos rfl] at hz0
    have hpv' := hpv rfl
    have eyb : cb_yb inp p 2 v = (inp.drop p).take v := if_pos rfl
    have hbl : ((inp.drop p).take v).length = v := by simp; omega
    have etk : cb_tk c d 2 f v (cb_yb inp p 2 v) = cb_cm c d (cb_hd 2 v ++ (inp.drop p).take v) := by rw [eyb]; unfold cb_tk; rw [if_pos rfl]
    have ewn : cb_wn w f (cb_hd 2 v ++ cb_yb inp p 2 v) = (w.map (fun y => y ++ cb_hd 2 v)).map (fun y => y ++ (inp.drop p).take v) := by
      unfold cb_wn; rw [if_neg hf31, eyb, Option.map_map]; congr 1; funext y; simp
    rw [etk, if_pos rfl, ewn] at K
    have hok : cb_OK c (cb_hd 2 v ++ (inp.drop p).take v) := cb_OK_IT hf (cb_IT_mo (cb_IT_by hv hbl (fun x hx => hb x (List.mem_of_mem_drop (List.mem_of_mem_take hx)))) (by omega)) hkk'
    have hFW' : cb_FW lim (cb_add T N 2 v (cb_pf fp) (v + 1)) (N + 1) (w.map (fun y => y ++ cb_hd 2 v)) := by
      have := cb_FW_add (m := 2) (n := v) (u := cb_pf fp) hFW hTB hin.1 (fun _ => hlev) ⟨fun h => by omega, fun h => absurd h.2 (cb_RY_so hf hRY h.1)⟩
      exact this
    refine cy_add' 2 v (cb_pf fp) (v + 1) rfl rfl rfl hz0 rfl (by omega) hTA hin.1 ?_
    intro vS vP vV vK vR vN vE hTA'
    have hTB' := cb_TB_add (m := 2) (n := v) (u := cb_pf fp) (d0 := v + 1) hTB (by omega) hv hin.1 (by omega)
    by_cases hv0 : v = 0
    · subst hv0
      have hleaf := cb_RY_leaf (m := 2) (n := 0) hRY
      rw [show cb_nE 2 0 [] = cb_hd 2 0 ++ (inp.drop p).take 0 by simp [cb_nE, cb_nh, cb_bd]] at hleaf
      obtain ⟨fp', hRY', _⟩ := cb_RC_cm hok hleaf
      refine ⟨1, br_t rfl (br_t (by decide) (nm_r (nI_1 _) (K _ (N + 1) fp' _ _ _ _ _ _ _ (by omega) hTA' hTB' hRY' ?_)))⟩
      have : (fun y : List Nat => y ++ (inp.drop p).take 0) = id := by funext y; simp
      rw [this, Option.map_id]; exact hFW'
    · have hpush := cb_RY_push (m := 2) (n := v) (lf := v + 1) hRY (by omega)
      refine ⟨v + 1, cy_478 (q := N) (p := p) (v := v) (t := t) (inp := inp) (c := c) (d := d) (fp := fp) (w := w.map (fun y => y ++ cb_hd 2 v)) hpl hp8 hC hn hb hpv' hok K v 0 (v + 1) _ (N + 1) _ _ _ _ _ _ _ (by omega) (by omega) (by omega) (by omega) hTA' hTB' (by simpa using hpush) ?_⟩
      have : (fun y : List Nat => y ++ (inp.drop p).take 0) = id := by funext y; simp
      rw [this, Option.map_id]; exact hFW'
  · rw [if_neg m2] at hz0 K
    have eyb : cb_yb inp p m v = [] := if_neg m2
    rw [eyb, List.append_nil, Nat.add_zero] at K
    have etk : cb_tk c d m f v [] = if cb_lf m f v = 1 then cb_cm c d (cb_nE m v []) else ((m, v, cb_lf m f v, []) :: c, [], d) := by
      unfold cb_tk; rw [if_neg m2]
    rw [etk] at K
    have hFW' : cb_FW lim (cb_add T N m v (cb_pf fp) (cb_lf m f v)) (N + 1) (cb_wn w f (cb_hd m v)) := by
      unfold cb_wn
      by_cases hf31 : f = 31
      · rw [if_pos hf31]; exact cb_FW_no
      · rw [if_neg hf31, cb_c1_lf m2 hf31]
        have := cb_FW_add (m := m) (n := v) (u := cb_pf fp) hFW hTB hin.1 (fun _ => hlev) ⟨fun h => by omega, fun h => absurd h.2 (cb_RY_so hf hRY h.1)⟩
        rw [show cb_n1 m v = cb_hd m v from if_neg (by omega)] at this
        exact this
    refine cy_add' m v (cb_pf fp) (cb_lf m f v) rfl rfl rfl hz0 rfl (by omega) hTA hin.1 ?_
    intro vS vP vV vK vR vN vE hTA'
    have hTB' := cb_TB_add (m := m) (n := v) (u := cb_pf fp) (d0 := cb_lf m f v) hTB (by omega) hv hin.1 hlf34
    have m2' : ¬ nI m = 2 := by show ¬ nI m = nI 2; rw [nI_eq (by omega) (by omega)]; exact m2
    refine ⟨1, br_f m2' (nm_r (nI_1 _) ?_)⟩
    by_cases hl : cb_lf m f v = 1
    · rw [if_pos hl] at K
      have hm' : m = 0 ∨ m = 1 ∨ (m = 7 ∧ v < 24) ∨ ((m = 4 ∨ m = 5) ∧ v = 0) := by
        unfold cb_lf at hl
        by_cases g1 : f = 31
        · rw [if_pos g1] at hl; omega
        rw [if_neg g1] at hl
        by_cases g5 : m = 5
        · rw [if_pos g5] at hl; omega
        rw [if_neg g5] at hl
        by_cases g4 : m = 4
        · rw [if_pos g4] at hl; omega
        rw [if_neg g4] at hl
        by_cases g6 : m = 6
        · rw [if_pos g6] at hl; omega
        omega
      have hleaf := cb_RY_leaf (m := m) (n := v) hRY
      rw [hl] at hTA' hTB' hFW'
      obtain ⟨fp', hRY', _⟩ := cb_RC_cm (cb_OK_IT hf (cb_IT_mo (cb_IT_lf hv hm') (by omega)) hkk') hleaf
      exact K _ (N + 1) fp' _ _ _ _ _ _ _ (by omega) hTA' hTB' hRY' hFW'
    · rw [if_neg hl] at K
      exact K _ (N + 1) _ _ _ _ _ _ _ _ (by omega) hTA' hTB' (cb_RY_push hRY hl) hFW'
theorem cy_406 {post : Int32 → SY → Prop} {J : Int32 → Int32 → Int32 → Int32 → Int32 → Int32 → Int32 → (Nat → Int32) → (Nat → Int32) → (Nat → Int32) → (Nat → Int32) → (Nat → Int32) → (Nat → Int32) → (Nat → Int32) → (Nat → Int32) → (Nat → Int32) → (Nat → Int64) → (Nat → Int64) → Prop}
    {x1 x2 x5 yN : Int32} {p v t m f : Nat} {vS vP vV vK vR : Nat → Int32} {vN vE : Nat → Int64} (hm : m < 8) (hf : f < 32) (h31 : f = 31 → m = 4 ∨ m = 5) (hv : v < 2 ^ 32)
    (K : wY_scan_470 post J x1 x2 (nI p) (nI t) (nI m) (lN v) (cb_L (if m = 2 then v + 1 else cb_lf m f v)) x5 (lN v) (nI m) yM yD yS yN yF vC vL vS vP vV vK vR vA vB vN vE) : wY_scan_406 post J x1 x2 (nI p) (nI t) x5 (nI m) (nI f) (lN v) yM yD yS yN yF vC vL vS vP vV vK vR vA vB vN vE := by
  unfold cb_lf at K
  refine pk_eq f 31 (fun e => ?_) (fun e => pk_eq m 5 (fun e5 => ?_) (fun e5 => pk_eq m 6 (fun e6 => ?_) (fun e6 => pk_eq m 2 (fun e2 => ?_) (fun e2 => pk_eq m 4 (fun e4 => ?_) (fun e4 => ?_)))))
  · rw [if_neg (by omega), if_pos e, cb_L0] at K; exact K
  · rw [if_neg (by omega), if_neg e, if_pos e5, cb_Ls] at K
    rw [show (2 : Int64) = lN 2 from rfl, lN_mul]; exact K
  · rw [if_neg (by omega), if_neg e, if_neg e5, if_neg (by omega), if_pos e6] at K
    exact K
  · rw [if_pos e2, cb_Ls] at K; exact K
  · rw [if_neg e2, if_neg e, if_neg e5, if_pos e4, cb_Ls] at K; exact K
  · rw [if_neg e2, if_neg e, if_neg e5, if_neg e4, if_neg e6] at K; exact K
theorem cy_355 {post : Int32 → SY → Prop} {J : Int32 → Int32 → Int32 → Int32 → Int32 → Int32 → Int32 → (Nat → Int32) → (Nat → Int32) → (Nat → Int32) → (Nat → Int32) → (Nat → Int32) → (Nat → Int32) → (Nat → Int32) → (Nat → Int32) → (Nat → Int32) → (Nat → Int64) → (Nat → Int64) → Prop}
    {x1 x4 x5 x7 x8 yN : Int32} {pl p s : Nat} {inp : List Nat} {vS vP vV vK vR : Nat → Int32} {vN vE : Nat → Int64} {F : Nat → Nat} (hpl : x1 + 2 = nI pl) (hp8 : pl < 8) (hC : cb_At vC (pl * 128) inp) (hL : vL pl = nI inp.length) (hn : inp.length ≤ 128) (hb : ∀ b ∈ inp, b < 256) (hps : p + 1 + s ≤ inp.length)
    (hF : ∀ i, i < s → F (i + 1) = F i * 256 + inp.getD (p + 1 + i) 0)
    (K : (((x7 = 2 → (((lN (F s) ≤ ((nI inp.length - nI (p + 1 + s)).toInt64) → (wY_scan_406 post J x1 (nI inp.length) (nI (p + 1 + s)) x4 x5 x7 x8 (lN (F s)) yM yD yS yN yF vC vL vS vP vV vK vR vA vB vN vE)) ∧ (¬ lN (F s) ≤ ((nI inp.length - nI (p + 1 + s)).toInt64) → (post (-5) (yM, yD, yS, yN, yF, vC, vL, vS, vP, vV, vK, vR, vA, vB, vN, vE)))))) ∧ (¬ x7 = 2 → (wY_scan_406 post J x1 (nI inp.length) (nI (p + 1 + s)) x4 x5 x7 x8 (lN (F s)) yM yD yS yN yF vC vL vS vP vV vK vR vA vB vN vE))))) :
    ∀ k i n, i + k = s → k < n → wY_scan_355 post J x1 (nI inp.length) x4 x5 x7 x8 (nI s) yM yD yS yN yF vC vL vS vP vV vK vR vA vB vN vE n (nI (p + 1 + i)) (lN (F i)) (nI i) := by
  intro k
  induction k with
  | zero =>
    intro i n hi hn'
    obtain ⟨n, rfl⟩ : ∃ k, n = k + 1 := ⟨n - 1, by omega⟩
    have e : i = s := by omega
    subst e
    exact br_t (nI_le (Nat.le_refl _) (by omega)) K
  | succ k ih =>
    intro i n hi hn'
    obtain ⟨n, rfl⟩ : ∃ k, n = k + 1 := ⟨n - 1, by omega⟩
    refine br_f (nI_ge (by omega) (by omega)) (cy_get hpl hp8 hL hn hC (by omega) ?_)
    have hbb := cb_getD_lt hb (p + 1 + i)
    unfold cb_gt
    rw [if_pos (by omega), cb_lI (by omega)]
    refine nm_r (e' := lN (F (i + 1))) (by rw [show (256 : Int64) = lN 256 from rfl, lN_mul, lN_add, hF i (by omega)]) (nm_r (nI_1 _) (nm_r (e' := nI (p + 1 + (i + 1))) (by rw [nI_1]; rfl) (ih (i + 1) n (by omega) (by omega))))
end cy3
end
section
/-! Y: the whole scan -/
section cy4
variable {yM yD yS : Int32} {vC vL vA vB : Nat → Int32}
theorem cy_90 {post : Int32 → SY → Prop} {J : Int32 → Int32 → Int32 → Int32 → Int32 → Int32 → Int32 → (Nat → Int32) → (Nat → Int32) → (Nat → Int32) → (Nat → Int32) → (Nat → Int32) → (Nat → Int32) → (Nat → Int32) → (Nat → Int32) → (Nat → Int32) → (Nat → Int64) → (Nat → Int64) → Prop}
    {x1 x6 x7 x8 yF : Int32} {lim pl p t N : Nat} {inp : List Nat} {c : List cb_Fr} {d : Bool} {fp : List Nat} {w : Option (List Nat)} {T : cb_Tb} {vS vP vV vK vR : Nat → Int32} {vN vE : Nat → Int64} (hpl : x1 + 2 = nI pl) (hp8 : pl < 8) (hC : cb_At vC (pl * 128) inp) (hL : vL pl = nI inp.length) (hn : inp.length ≤ 128) (hb : ∀ b ∈ inp, b < 256)
    (hD : yD = nI lim) (h8 : lim ≤ 8) (h2 : 2 ≤ lim) (hf : cb_FI lim false c) (hTG : cb_TG c) (hsz : (cb_oo c).length + cb_rsm c ≤ p) (hpn : p ≤ inp.length) (hN : N ≤ p) (hTA : cy_TA T N vS vP vV vK vR vN vE) (hTB : cb_TB T N) (hRY : cb_RY T N (c, [], d) fp) (hFW : cb_FW lim T N w)
    (hx6 : p < inp.length → x6 = nI (inp.getD p 0)) (hx7 : p < inp.length → x7 = nI (inp.getD p 0 / 32)) (hx8 : p < inp.length → x8 = nI (inp.getD p 0 % 32))
    (K1 : ∀ r f, cb_st inp lim c d p w = .inl (r, f) → ∀ (yN : Int32) (vS vP vV vK vR : Nat → Int32) (vN vE : Nat → Int64), post r (yM, yD, yS, yN, nI f, vC, vL, vS, vP, vV, vK, vR, vA, vB, vN, vE))
    (K2 : ∀ s p' w', cb_st inp lim c d p w = .inr (s, p', w') → ∀ (yF : Int32) (T : cb_Tb) (N : Nat) (fp : List Nat) (vS vP vV vK vR : Nat → Int32) (vN vE : Nat → Int64), N ≤ p' → cy_TA T N vS vP vV vK vR vN vE → cb_TB T N → cb_RY T N s fp → cb_FW lim T N w' → J (nI p') (nI (t + 1)) yM yD yS (nI N) yF vC vL vS vP vV vK vR vA vB vN vE) :
    wY_scan_90 post J x1 (nI inp.length) (nI p) (nI t) (cb_I (cb_pf fp)) x6 x7 x8 0 (nI p) yM yD yS (nI N) yF vC vL vS vP vV vK vR vA vB vN vE := by
  unfold cb_st at K1 K2
  have hin := cb_RY_in hRY
  refine br_t rfl (pk_lt p inp.length (fun hp => ?_) (fun hp => ?_))
  case refine_2 =>
    rw [if_pos hp] at K1
    have := K1 _ _ rfl (nI N) vS vP vV vK vR vN vE
    rw [show inp.length = p by omega] at this
    exact br_t rfl this
  rw [if_neg (by omega)] at K1 K2
  rw [hx6 hp, hx7 hp, hx8 hp]
  have hbl := cb_getD_lt hb p
  have hal := cb_arg_lt hb p
  refine nm_r (nI_1 _) (pk_eq (inp.getD p 0) 255 (fun e => ?_) (fun e => ?_))
  · -- a break
    rw [if_pos e] at K1 K2
    cases c with
    | nil =>
      have hfp : fp = [] := by
        obtain ⟨A, E, _, h2, _⟩ := hRY
        rcases h2 with ⟨_, h2⟩ | ⟨_, _, _, h2, _⟩
        · cases fp with
          | nil => rfl
          | cons a fp => exact absurd h2 (by simp [cb_FR])
        · exact h2
      subst hfp
      exact br_t (by decide) (K1 _ _ rfl _ _ _ _ _ _ _ _)
    | cons f c =>
      obtain ⟨m, num, lf, ks⟩ := f
      obtain ⟨q, fp0, rfl, hFR⟩ : ∃ q fp0, fp = q :: fp0 ∧ q < N ∧ cb_so T q = m ∧ cb_ki T q = ks.length ∧ cb_nd T q = (if lf = 0 then 0 else ks.length + lf) := by
        obtain ⟨A, E, _, h2, _⟩ := hRY
        rcases h2 with ⟨_, h2⟩ | ⟨_, _, h2, _⟩
        · cases fp with
          | nil => exact absurd h2 (by simp [cb_FR])
          | cons q fp0 =>
            obtain ⟨f1, f0, f2, f3, f4, f5, f6⟩ := h2
            exact ⟨q, fp0, rfl, f1, f2, f4, f5⟩
        · cases h2
      obtain ⟨hqN, hso, hki, hnd⟩ := hFR
      obtain ⟨t1, t2, t3, t4, t5, t6, t7⟩ := hTA q hqN
      have hf0 := hf
      obtain ⟨hm, hl1, hl2, hnu, h6, h5, hcl, hks, hfc⟩ := hf
      have hkk := cb_FI_k hf0 (p := 128) (by omega) (m, num, lf, ks) (by simp)
      dsimp only at hkk
      have hinq : vp_in (nI q) 128 := vp_in_nI (by omega) (by omega)
      rw [cb_bk_c] at K1 K2
      have epf : cb_I (cb_pf (q :: fp0)) = nI q := cb_Is q
      rw [epf]
      refine br_f (nI_pos (by omega)) ⟨hinq, ?_⟩
      rw [nI_clamp (by omega), t1, t4, t7, hso, hki, hnd]
      refine br_c (fun h => ⟨hinq, ?_⟩) (fun h => ?_)
      · have h0 : lf = 0 := by
          by_cases g : lf = 0
          · exact g
          · rw [if_neg g, cb_L_m1 (by omega)] at h; omega
        have go : ¬ (m = 5 ∧ ks.length % 2 = 1) → wY_scan_182 post J x1 (nI inp.length) (nI (p + 1)) (nI t) (nI q) (nI (inp.getD p 0)) (nI (inp.getD p 0 / 32)) (nI (inp.getD p 0 % 32)) yM yD yS (nI N) (nI p) vC vL vS vP vV vK vR vA vB vN vE := by
          intro ho
          rw [if_neg (by omega)] at K2
          refine pk_eq (inp.getD p 0) 255 (fun _ => ⟨hinq, hinq, ?_⟩) (fun e' => absurd e e')
          rw [nI_clamp (by omega), t4, hki, cb_lI (by omega)]
          refine nm_e (nm_r (nI_1 _) ?_)
          subst h0
          have hit : m = 5 → ks.length % 2 = 0 ∧ ∀ k ∈ ks, cb_kb k := fun h5' => ⟨by omega, fun k hk => ⟨(hks k hk).1, (hks k hk).2.2⟩⟩
          have hcl' := cb_RY_close hRY hit
          have hm6 : m ≠ 6 := fun e => by have := hTG (m, num, 0, ks) (by simp) e; dsimp only at this; omega
          have hIT : cb_IT (lim - c.length) (cb_nE m num ks) := by
            rw [show lim - c.length = lim - (c.length + 1) + 1 by omega]
            refine cb_IT_nd ?_ (by omega) hks
            rcases hm with rfl | rfl | rfl
            · exact Or.inl rfl
            · exact Or.inr (Or.inl ⟨rfl, by omega⟩)
            · exact absurd rfl hm6
          have hkkc := cb_FI_k hfc (p := 128) (by simp only [cb_oo, List.length_append] at hsz; omega)
          obtain ⟨fp', hRY', _⟩ := cb_RC_cm (cb_OK_IT hfc hIT (fun f hf => by have := hkkc f hf; omega)) hcl'
          exact K2 _ _ _ rfl _ _ N fp' _ _ _ _ _ _ _ (by omega) (cy_TA_sd hTA) (cb_TB_sd hTB (by omega)) hRY' cb_FW_no
        refine pk_eq m 5 (fun e5 => ⟨hinq, by decide, ?_⟩) (fun e5 => go (by omega))
        rw [show (2 : Int32) = nI 2 from rfl, pk_rem (by omega) (by omega) (by omega)]
        refine pk_eq (ks.length % 2) 1 (fun e1 => ?_) (fun e1 => go (by omega))
        rw [if_pos (Or.inr ⟨e5, e1⟩)] at K1
        exact K1 _ _ rfl _ _ _ _ _ _ _ _
      · have h0 : lf ≠ 0 := fun g => h (by rw [if_pos g, cb_L0])
        rw [if_pos (Or.inl h0)] at K1
        exact K1 _ _ rfl _ _ _ _ _ _ _ _
  rw [if_neg e] at K1 K2
  refine pk_eq (inp.getD p 0) 255 (fun e' => absurd e' e) (fun _ => ?_)
  -- the checks of the first byte
  have hbad : cb_bad (inp.getD p 0) = true → post (-6) (yM, yD, yS, nI N, nI p, vC, vL, vS, vP, vV, vK, vR, vA, vB, vN, vE) := fun h => by
    rw [if_pos h] at K1; exact K1 _ _ rfl _ _ _ _ _ _ _ _
  unfold cb_bad at hbad
  rw [decide_eq_true_iff] at hbad
  have hz := cb_sz_le (inp.getD p 0 % 32)
  have h264 : ¬ (inp.getD p 0 / 32 = 3 ∨ (27 ≤ inp.getD p 0 % 32 ∧ inp.getD p 0 % 32 ≤ 30) ∨ (inp.getD p 0 % 32 = 31 ∧ inp.getD p 0 / 32 ≠ 4 ∧ inp.getD p 0 / 32 ≠ 5) ∨ (inp.getD p 0 / 32 = 7 ∧ 24 ≤ inp.getD p 0 % 32)) → wY_scan_264 post J x1 (nI inp.length) (nI (p + 1)) (nI t) (cb_I (cb_pf fp)) (nI (inp.getD p 0 / 32)) (nI (inp.getD p 0 % 32)) yM yD yS (nI N) (nI p) vC vL vS vP vV vK vR vA vB vN vE := by
    intro hnb
    have hnb' : ¬ cb_bad (inp.getD p 0) = true := by unfold cb_bad; rw [decide_eq_true_iff]; exact hnb
    rw [if_neg hnb'] at K1 K2
    have h286 : c.length < lim → wY_scan_286 post J x1 (nI inp.length) (nI (p + 1)) (nI t) (cb_I (cb_pf fp)) (nI (inp.getD p 0 / 32)) (nI (inp.getD p 0 % 32)) yM yD yS (nI N) (nI p) vC vL vS vP vV vK vR vA vB vN vE := by
      intro hcl
      rw [if_neg (by omega)] at K1 K2
      have h334 : ∀ v0, v0 = lN (if cb_sz (inp.getD p 0 % 32) = 0 then inp.getD p 0 % 32 else 0) → wY_scan_334 post J x1 (nI inp.length) (nI (p + 1)) (nI t) (cb_I (cb_pf fp)) (nI (inp.getD p 0 / 32)) (nI (inp.getD p 0 % 32)) (nI (cb_sz (inp.getD p 0 % 32))) v0 yM yD yS (nI N) (nI p) vC vL vS vP vV vK vR vA vB vN vE := by
        intro v0 hv0
        unfold wY_scan_334
        rw [nI_add]
        refine pk_le (p + 1 + cb_sz (inp.getD p 0 % 32)) inp.length (fun h5 => ?_) (fun h5 => ?_)
        · rw [if_neg (by omega)] at K1 K2
          have go : ¬ (inp.getD p 0 / 32 = 2 ∧ inp.length - (p + 1 + cb_sz (inp.getD p 0 % 32)) < cb_arg inp p) → wY_scan_406 post J x1 (nI inp.length) (nI (p + 1 + cb_sz (inp.getD p 0 % 32))) (nI t) (cb_I (cb_pf fp)) (nI (inp.getD p 0 / 32)) (nI (inp.getD p 0 % 32)) (lN (cb_arg inp p)) yM yD yS (nI N) (nI inp.length) vC vL vS vP vV vK vR vA vB vN vE := by
            intro h6
            rw [if_neg h6] at K2
            have hs7 : inp.getD p 0 % 32 < 24 → cb_arg inp p = inp.getD p 0 % 32 := fun e => by
              unfold cb_arg cb_sz; rw [if_neg (show ¬ inp.getD p 0 % 32 = 24 by omega), if_neg (show ¬ inp.getD p 0 % 32 = 25 by omega), if_neg (show ¬ inp.getD p 0 % 32 = 26 by omega), if_pos rfl]
            have hm : inp.getD p 0 / 32 = 0 ∨ inp.getD p 0 / 32 = 1 ∨ inp.getD p 0 / 32 = 2 ∨ (inp.getD p 0 / 32 = 7 ∧ cb_arg inp p < 24) ∨ inp.getD p 0 / 32 = 4 ∨ inp.getD p 0 / 32 = 5 ∨ inp.getD p 0 / 32 = 6 := by
              by_cases e7 : inp.getD p 0 / 32 = 7
              · have := hs7 (by omega); omega
              · omega
            refine cy_406 (by omega) (by omega) (by omega) hal ?_
            refine cy_470 (lim := lim) (inp := inp) (c := c) (d := d) (fp := fp) (w := w) (T := T) (N := N) (m := inp.getD p 0 / 32) (f := inp.getD p 0 % 32) (v := cb_arg inp p) (p := p + 1 + cb_sz (inp.getD p 0 % 32)) hpl hp8 hC hn hb hf hcl hm (by omega) hal (by omega) (by omega) (by omega) (by omega) rfl hTA hTB hRY hFW ?_
            intro T N fp vS vP vV vK vR vN vE hN' hTA' hTB' hRY' hFW'
            exact K2 _ _ _ rfl _ T N fp _ _ _ _ _ _ _ hN' hTA' hTB' hRY' hFW'
          have hFarg : (if cb_sz (inp.getD p 0 % 32) = 0 then inp.getD p 0 % 32 else cb_acc inp (p + 1) (cb_sz (inp.getD p 0 % 32))) = cb_arg inp p := rfl
          have hlp := cy_355 (post := post) (J := J) (yM := yM) (yD := yD) (yS := yS) (yN := nI N) (yF := nI inp.length) (vA := vA) (vB := vB) (vS := vS) (vP := vP) (vV := vV) (vK := vK) (vR := vR) (vN := vN) (vE := vE) (x4 := nI t) (x5 := cb_I (cb_pf fp)) (x7 := nI (inp.getD p 0 / 32)) (x8 := nI (inp.getD p 0 % 32)) (p := p) (s := cb_sz (inp.getD p 0 % 32)) (F := fun i => if cb_sz (inp.getD p 0 % 32) = 0 then inp.getD p 0 % 32 else cb_acc inp (p + 1) i) hpl hp8 hC hL hn hb h5 (fun i hi => by
            rw [if_neg (by omega), if_neg (by omega)]; rfl) ?_ (cb_sz (inp.getD p 0 % 32)) 0 (cb_sz (inp.getD p 0 % 32) + 1) (by omega) (by omega)
          · rw [hv0]
            exact ⟨_, hlp⟩
          · rw [hFarg]
            refine pk_eq (inp.getD p 0 / 32) 2 (fun e2 => ?_) (fun e2 => go (by omega))
            rw [pk_sub (by omega), cb_lI (by omega)]
            refine cb_lle (cb_arg inp p) (inp.length - (p + 1 + cb_sz (inp.getD p 0 % 32))) (fun h6 => go (by omega)) (fun h6 => ?_)
            rw [if_pos ⟨e2, h6⟩] at K1
            exact K1 _ _ rfl _ _ _ _ _ _ _ _
        · rw [if_pos h5] at K1
          exact K1 _ _ rfl _ _ _ _ _ _ _ _
      have h320 : wY_scan_320 post J x1 (nI inp.length) (nI (p + 1)) (nI t) (cb_I (cb_pf fp)) (nI (inp.getD p 0 / 32)) (nI (inp.getD p 0 % 32)) (nI (cb_sz (inp.getD p 0 % 32))) yM yD yS (nI N) (nI p) vC vL vS vP vV vK vR vA vB vN vE := by
        refine pk_eq (cb_sz (inp.getD p 0 % 32)) 0 (fun e0 => h334 _ ?_) (fun e0 => h334 _ ?_)
        · rw [if_pos e0, cb_lI (by omega)]
        · rw [if_neg e0]; rfl
      unfold cb_sz at h320
      refine pk_eq (inp.getD p 0 % 32) 24 (fun e => ?_) (fun e => pk_eq (inp.getD p 0 % 32) 25 (fun e2 => ?_) (fun e2 => pk_eq (inp.getD p 0 % 32) 26 (fun e3 => ?_) (fun e3 => ?_)))
      · rw [if_pos e] at h320; exact h320
      · rw [if_neg e, if_pos e2] at h320; exact h320
      · rw [if_neg e, if_neg e2, if_pos e3] at h320; exact h320
      · rw [if_neg e, if_neg e2, if_neg e3] at h320; exact h320
    cases c with
    | nil =>
      have hfp : fp = [] := by
        obtain ⟨A, E, _, h2, _⟩ := hRY
        rcases h2 with ⟨_, h2⟩ | ⟨_, _, _, h2, _⟩
        · cases fp with
          | nil => rfl
          | cons a fp => exact absurd h2 (by simp [cb_FR])
        · exact h2
      subst hfp
      exact br_t (by decide) (h286 (by simp; omega))
    | cons f c =>
      obtain ⟨m, num, lf, ks⟩ := f
      obtain ⟨q, fp0, rfl, hqN, hle⟩ : ∃ q fp0, fp = q :: fp0 ∧ q < N ∧ cb_le T q = c.length + 1 := by
        obtain ⟨A, E, _, h2, _⟩ := hRY
        rcases h2 with ⟨_, h2⟩ | ⟨_, _, h2, _⟩
        · cases fp with
          | nil => exact absurd h2 (by simp [cb_FR])
          | cons q fp0 =>
            obtain ⟨f1, f0, f2, f3, f4, f5, f6, f7⟩ := h2
            exact ⟨q, fp0, rfl, f1, f6⟩
        · cases h2
      obtain ⟨t1, t2, t3, t4, t5, t6, t7⟩ := hTA q hqN
      have hlen := cb_FI_len hf
      rw [List.length_cons] at hlen
      have epf : cb_I (cb_pf (q :: fp0)) = nI q := cb_Is q
      refine br_f (by rw [epf]; exact nI_pos (by omega)) ⟨by rw [epf]; exact vp_in_nI (by omega) (by omega), ?_⟩
      have elv : vV (cb_I (cb_pf (q :: fp0))).toNatClampNeg = nI (c.length + 1) := by
        rw [epf, nI_clamp (by omega), t3, hle]
      refine pk_lt (c.length + 1) lim (fun hcl => h286 (by simpa using hcl)) (fun hcl => ?_) elv hD
      rw [if_pos (by simpa using hcl)] at K1
      exact K1 _ _ rfl _ _ _ _ _ _ _ _
  have h247 : ¬ (inp.getD p 0 / 32 = 3 ∨ (27 ≤ inp.getD p 0 % 32 ∧ inp.getD p 0 % 32 ≤ 30) ∨ (inp.getD p 0 % 32 = 31 ∧ inp.getD p 0 / 32 ≠ 4 ∧ inp.getD p 0 / 32 ≠ 5)) → wY_scan_247 post J x1 (nI inp.length) (nI (p + 1)) (nI t) (cb_I (cb_pf fp)) (nI (inp.getD p 0 / 32)) (nI (inp.getD p 0 % 32)) yM yD yS (nI N) (nI p) vC vL vS vP vV vK vR vA vB vN vE := by
    intro hnb
    refine pk_eq (inp.getD p 0 / 32) 7 (fun e7 => pk_le (inp.getD p 0 % 32) 23 (fun e8 => h264 (by omega)) (fun e8 => hbad (by omega))) (fun e7 => h264 (by omega))
  have h228 : ¬ (inp.getD p 0 / 32 = 3 ∨ (27 ≤ inp.getD p 0 % 32 ∧ inp.getD p 0 % 32 ≤ 30)) → wY_scan_228 post J x1 (nI inp.length) (nI (p + 1)) (nI t) (cb_I (cb_pf fp)) (nI (inp.getD p 0 / 32)) (nI (inp.getD p 0 % 32)) yM yD yS (nI N) (nI p) vC vL vS vP vV vK vR vA vB vN vE := by
    intro hnb
    refine pk_eq (inp.getD p 0 % 32) 31 (fun e1 => pk_eq (inp.getD p 0 / 32) 4 (fun e2 => h247 (by omega)) (fun e2 => pk_eq (inp.getD p 0 / 32) 5 (fun e3 => h247 (by omega)) (fun e3 => hbad (by omega)))) (fun e1 => h247 (by omega))
  exact pk_eq (inp.getD p 0 / 32) 3 (fun e1 => hbad (by omega)) (fun e1 => pk_le (inp.getD p 0 % 32) 26 (fun e2 => h228 (by omega)) (fun e2 => pk_lt (inp.getD p 0 % 32) 31 (fun e3 => hbad (by omega)) (fun e3 => h228 (by omega))))
theorem cy_sc_lp {post : Int32 → SY → Prop} {x1 : Int32} {lim pl : Nat} {inp : List Nat} {R : Sum cb_Fa (List Nat × Bool × Option (List Nat))} (hpl : x1 + 2 = nI pl) (hp8 : pl < 8) (hC : cb_At vC (pl * 128) inp) (hL : vL pl = nI inp.length) (hn : inp.length ≤ 128) (hb : ∀ b ∈ inp, b < 256) (hD : yD = nI lim) (h8 : lim ≤ 8) (h2 : 2 ≤ lim)
    (K1 : ∀ r f, R = .inl (r, f) → ∀ (yN : Int32) (vS vP vV vK vR : Nat → Int32) (vN vE : Nat → Int64), r ≠ 0 → post r (yM, yD, yS, yN, nI f, vC, vL, vS, vP, vV, vK, vR, vA, vB, vN, vE))
    (K2 : ∀ e d w, R = .inr (e, d, w) → ∀ (T : cb_Tb) (N : Nat) (vS vP vV vK vR : Nat → Int32) (vN vE : Nat → Int64), N ≤ inp.length → cy_TA T N vS vP vV vK vR vN vE → cb_TB T N → cb_RY T N ([], [e], d) [] → cb_FW lim T N w → cb_IT lim e → e.length ≤ inp.length → post 0 (yM, yD, yS, nI N, (-1), vC, vL, vS, vP, vV, vK, vR, vA, vB, vN, vE)) :
    ∀ (k : Nat) (s : cb_S3) (p : Nat) (w : Option (List Nat)) (t n : Nat) (yF : Int32) (T : cb_Tb) (N : Nat) (fp : List Nat) (vS vP vV vK vR : Nat → Int32) (vN vE : Nat → Int64), cb_rn inp lim k (s, p, w) = R → inp.length + 2 ≤ p + k → k < n → t ≤ p → p ≤ inp.length → cb_PI lim false s p → cb_TG s.1 →
      N ≤ p → cy_TA T N vS vP vV vK vR vN vE → cb_TB T N → cb_RY T N s fp → cb_FW lim T N w → wY_scan_19 post x1 (nI inp.length) n (nI p) (nI t) yM yD yS (nI N) yF vC vL vS vP vV vK vR vA vB vN vE := by
  intro k
  induction k with
  | zero => intro s p w t n yF T N fp vS vP vV vK vR vN vE _ h; omega
  | succ k ih =>
    intro s p w t n yF T N fp vS vP vV vK vR vN vE hR hk hkn htp hpn hPI hTG hN hTA hTB hRY hFW
    obtain ⟨n, rfl⟩ : ∃ k, n = k + 1 := ⟨n - 1, by omega⟩
    obtain ⟨c, ro, d⟩ := s
    have hin := cb_RY_in hRY
    refine br_f (nI_nlt (a := 128) (by omega) (by omega)) (cy_in rfl (by omega) hTA hTB hin.1 hin.2.1 hin.2.2 (cy_get hpl hp8 hL hn hC (by omega) ⟨by decide, ?_⟩))
    have hbl := cb_getD_lt hb p
    have hx6 : p < inp.length → cb_gt inp p = nI (inp.getD p 0) := fun h => by unfold cb_gt; rw [if_pos h]
    have hx7 : p < inp.length → cb_gt inp p / 32 = nI (inp.getD p 0 / 32) := fun h => by rw [hx6 h, show (32 : Int32) = nI 32 from rfl, pk_div (by omega) (by omega) (by omega)]
    have hx8 : p < inp.length → cb_gt inp p - cb_gt inp p / 32 * 32 = nI (inp.getD p 0 % 32) := fun h => by rw [hx6 h, show (32 : Int32) = nI 32 from rfl, pk_rem (by omega) (by omega) (by omega)]
    refine nm_e ⟨by decide, nm_e ?_⟩
    cases ro with
    | nil =>
      have hsz := hPI.2.2
      dsimp only at hsz
      have h90 : wY_scan_90 post (wY_scan_19 post x1 (nI inp.length) n) x1 (nI inp.length) (nI p) (nI t) (cb_I (cb_pf fp)) (cb_gt inp p) (cb_gt inp p / 32) (cb_gt inp p - cb_gt inp p / 32 * 32) 0 (nI p) yM yD yS (nI N) yF vC vL vS vP vV vK vR vA vB vN vE := by
        refine cy_90 (lim := lim) (c := c) (d := d) (fp := fp) (w := w) (T := T) (N := N) hpl hp8 hC hL hn hb hD h8 h2 hPI.1 hTG (by simpa using hsz) hpn hN hTA hTB hRY hFW hx6 hx7 hx8 ?_ ?_
        · intro r f hst yN vS vP vV vK vR vN vE
          have hr : r ≠ 0 := by rcases cb_st_r hst with rfl | rfl | rfl <;> decide
          exact K1 r f (by rw [← hR]; simp only [cb_rn, hst]) _ _ _ _ _ _ _ _ hr
        · intro s p' w' hst yF T N fp vS vP vV vK vR vN vE hN' hTA' hTB' hRY' hFW'
          have hpi := cb_st_PI hb (by omega) hst hPI.1 hTG (by simpa using hsz)
          refine ih s p' w' (t + 1) n yF T N fp _ _ _ _ _ _ _ ?_ (by omega) (by omega) (by omega) hpi.2.2.2 hpi.1 hpi.2.1 hN' hTA' hTB' hRY' hFW'
          rw [← hR]; simp only [cb_rn, hst]
      have h71 : wY_scan_71 post (wY_scan_19 post x1 (nI inp.length) n) x1 (nI inp.length) (nI p) (nI t) (cb_I (cb_pf fp)) (cb_gt inp p) (cb_gt inp p / 32) (cb_gt inp p - cb_gt inp p / 32 * 32) yM yD yS (nI N) yF vC vL vS vP vV vK vR vA vB vN vE := br_t rfl h90
      refine br_c (fun _ => h71) (fun hNp => br_c (fun _ => h71) (fun hneg => ?_))
      -- no open fact though there are facts: not with an unfinished root
      exfalso
      have hN0 : 0 < N := by
        by_cases e : N = 0
        · subst e; exact absurd (by decide) hNp
        · omega
      obtain ⟨A, E, _, h2', _⟩ := hRY
      rcases h2' with ⟨_, h2'⟩ | ⟨_, h2', _⟩
      · cases c with
        | nil => cases fp with
          | nil => have : N = 0 := h2'; omega
          | cons a fp => exact absurd h2' (by simp [cb_FR])
        | cons f c => cases fp with
          | nil => obtain ⟨m, num, lf, ks⟩ := f; exact absurd h2' (by simp [cb_FR])
          | cons a fp => exact hneg (by show 0 ≤ cb_I (a + 1); rw [cb_Is]; exact nI_pos' (by have := hin.1; simp [cb_pf] at this; omega))
      · cases h2'
    | cons e ro =>
      rcases hPI.2.1 with h | ⟨e', h, hc, hit⟩
      · cases h
      obtain ⟨rfl, rfl⟩ : e = e' ∧ ro = [] := by simpa using h
      dsimp only at hc
      subst hc
      have hfp : fp = [] ∧ 0 < N := by
        obtain ⟨A, E, _, h2', _⟩ := hRY
        rcases h2' with ⟨h2', _⟩ | ⟨_, _, _, h3, _, _, h4, _⟩
        · cases h2'
        · exact ⟨h3, h4⟩
      obtain ⟨rfl, hN0⟩ := hfp
      have hlen := hPI.2.2
      simp [cb_oo, cb_rsm] at hlen
      simp only [cb_rn] at hR
      refine br_f (nI_nle hN0 (by omega)) (br_f (by decide) (br_f (by decide) (pk_eq p inp.length (fun h => ?_) (fun h => ?_))))
      · rw [if_neg (by omega)] at hR
        refine br_f (by decide) (br_f (by decide) (br_t (nI_le (by omega) (by omega)) ?_))
        exact K2 e d w hR.symm T N vS vP vV vK vR vN vE (by omega) hTA hTB hRY hFW hit (by omega)
      · rw [if_pos (by omega)] at hR
        refine br_f (by decide) (br_f (by decide) (br_f (nI_ge (by omega) (by omega)) ?_))
        exact K1 _ _ hR.symm (nI N) vS vP vV vK vR vN vE (by decide)
end cy4
theorem cb_RY_0 {T : cb_Tb} : cb_RY T 0 ([], [], false) [] := by
  refine ⟨fun _ => 0, fun _ => [], fun i hi => by omega, Or.inl ⟨rfl, rfl⟩, ⟨(fun h => by cases h), fun h => ?_⟩⟩
  rcases h with ⟨i, hi, _⟩ | ⟨f, hf, _⟩
  · omega
  · simp at hf
section cy5
variable {yM yD yS yN yF : Int32} {vC vL vS vP vV vK vR vA vB : Nat → Int32} {vN vE : Nat → Int64}
theorem cy_sc {post : Int32 → SY → Prop} {x1 : Int32} {lim pl : Nat} {inp : List Nat} {R : Sum cb_Fa (List Nat × Bool × Option (List Nat))} (hpl : x1 + 2 = nI pl) (hp8 : pl < 8) (hC : cb_At vC (pl * 128) inp) (hL : vL pl = nI inp.length) (hn : inp.length ≤ 128) (hb : ∀ b ∈ inp, b < 256) (hD : yD = nI lim) (h8 : lim ≤ 8) (h2 : 2 ≤ lim)
    (hR : cb_rn inp lim (inp.length + 2) (([], [], false), 0, some []) = R)
    (K1 : ∀ r f, R = .inl (r, f) → ∀ (yN : Int32) (vS vP vV vK vR : Nat → Int32) (vN vE : Nat → Int64), r ≠ 0 → post r (yM, yD, yS, yN, nI f, vC, vL, vS, vP, vV, vK, vR, vA, vB, vN, vE))
    (K2 : ∀ e d w, R = .inr (e, d, w) → ∀ (T : cb_Tb) (N : Nat) (vS vP vV vK vR : Nat → Int32) (vN vE : Nat → Int64), N ≤ inp.length → cy_TA T N vS vP vV vK vR vN vE → cb_TB T N → cb_RY T N ([], [e], d) [] → cb_FW lim T N w → cb_IT lim e → e.length ≤ inp.length → post 0 (yM, yD, yS, nI N, (-1), vC, vL, vS, vP, vV, vK, vR, vA, vB, vN, vE)) : wpY_scan post (yM, yD, yS, yN, yF, vC, vL, vS, vP, vV, vK, vR, vA, vB, vN, vE) x1 := by
  refine ⟨by rw [hpl]; exact vp_in_nI hp8 (by omega), ?_⟩
  rw [hpl, nI_clamp (by omega), hL]
  refine nm_e ⟨_, cy_sc_lp (lim := lim) (inp := inp) (R := R) hpl hp8 hC hL hn hb hD h8 h2 K1 K2 (inp.length + 2) ([], [], false) 0 (some []) 0 (inp.length + 3) _ (fun _ => (0, 0, 0, 0, 0, 0, 0)) 0 [] _ _ _ _ _ _ _ hR (by omega) (by omega) (by omega) (by omega) ⟨trivial, Or.inl rfl, by simp [cb_oo, cb_rsm]⟩ (fun f hf => by simp at hf) (Nat.le_refl _) (fun i hi => by omega) (fun i hi => by omega) cb_RY_0 (fun raw h => ?_)⟩
  have : raw = [] := by simpa using h.symm
  exact ⟨this, fun i hi => by omega⟩
end cy5
end
section
/-! Y: the text -/
def cb_NC (txt : List Nat) (c : List cb_Fr) (due : Bool) (p : Nat) : Prop := ∀ m num lf ks c', c = (m, num, lf, ks) :: c' → (due = false → ks ≠ []) ∧ (due = true → m ≠ 6 → ks = [] → txt.getD p 0 ≠ cb_cl m)
theorem cb_cm_NC {txt : List Nat} {d : Bool} {p : Nat} : ∀ {c : List cb_Fr} {d : Bool} {e : List Nat}, cb_NC txt (cb_cm c d e).1 false p := by
  intro c
  induction c with
  | nil => intro d e m num lf ks c' h; simp [cb_cm] at h
  | cons f c ih =>
    intro d e
    obtain ⟨m, num, lf, ks⟩ := f
    rw [cb_cm_c]
    split
    · exact ih
    · intro m' num' lf' ks' c' h
      have h1 := (List.cons.inj h).1
      refine ⟨fun _ hk => ?_, fun h => by cases h⟩
      have : ks ++ [e] = ks' := by have := congrArg (fun x : cb_Fr => x.2.2.2) h1; exact this
      rw [hk] at this
      simp at this
theorem cb_ts_NC {txt : List Nat} {lim p p' : Nat} {c : List cb_Fr} {d due due' : Bool} {s : cb_S3} (h : cb_ts txt lim c d due p = .inr (s, due', p')) (hN : cb_NC txt c due p) : cb_NC txt s.1 due' p' := by
  have cmN : ∀ {c : List cb_Fr} {d : Bool} {e : List Nat} {p : Nat}, cb_NC txt (cb_cm c d e).1 false p := fun {c d e p} => cb_cm_NC (d := d)
  unfold cb_ts at h
  split at h
  · unfold cb_bt at h
    split at h
    · cases h
    split at h
    · cases h
    split at h
    · unfold cb_b0 at h
      split at h
      · cases h
      · split at h
        · obtain ⟨rfl, rfl, rfl⟩ := cb_i3 h
          intro m num lf ks c' e
          have e1 := (List.cons.inj e).1
          refine ⟨(fun h => by cases h), fun _ h6 => absurd ?_ h6⟩
          exact (congrArg (fun x : cb_Fr => x.1) e1).symm
        · obtain ⟨rfl, rfl, rfl⟩ := cb_i3 h; exact cmN
    split at h
    · unfold cb_b1 at h
      split at h
      · cases h
      · obtain ⟨rfl, rfl, rfl⟩ := cb_i3 h; exact cmN
    split at h
    · unfold cb_b7 at h
      split at h
      · cases h
      · obtain ⟨rfl, rfl, rfl⟩ := cb_i3 h; exact cmN
    split at h
    · split at h
      · cases e : cb_hr (txt.drop (p + 2)) with
        | none => rw [e] at h; cases h
        | some bs => rw [e] at h; obtain ⟨rfl, rfl, rfl⟩ := cb_i3 h; exact cmN
      · cases h
    · unfold cb_b4 at h
      generalize (if txt.getD p 0 = 91 then 4 else 5) = m at h
      split at h
      · obtain ⟨rfl, rfl, rfl⟩ := cb_i3 h; exact cmN
      · rename_i hcl
        obtain ⟨rfl, rfl, rfl⟩ := cb_i3 h
        intro m' num lf ks c' e
        have e1 := (List.cons.inj e).1
        have em : m = m' := congrArg (fun x : cb_Fr => x.1) e1
        refine ⟨(fun h => by cases h), fun _ _ _ => ?_⟩
        rw [← em]; exact hcl
  · rename_i hdue
    have hdue' : due = false := by simpa using hdue
    cases c with
    | nil => cases h
    | cons f c =>
      obtain ⟨m, num, lf, ks⟩ := f
      rw [cb_af_c] at h
      split at h
      · obtain ⟨rfl, rfl, rfl⟩ := cb_i3 h; exact cmN
      · split at h
        · obtain ⟨rfl, rfl, rfl⟩ := cb_i3 h
          intro m' num' lf' ks' c' e
          have e1 := (List.cons.inj e).1
          have ek : ks = ks' := congrArg (fun x : cb_Fr => x.2.2.2) e1
          refine ⟨(fun h => by cases h), fun _ _ hk => ?_⟩
          exact absurd (ek.trans hk) ((hN m num lf ks c rfl).1 hdue')
        · cases h
theorem cb_gt_eq {txt : List Nat} (h : cb_TX txt) {p k : Nat} (hk : 0 < k) (hk2 : k < 2 ^ 31) : cb_gt txt p = nI k ↔ txt.getD p 0 = k := by
  unfold cb_gt
  by_cases hp : p < txt.length
  · have := cb_TX_g h hp
    rw [if_pos hp, nI_eq (by omega) hk2]
  · rw [if_neg hp, cb_getD_z hp]
    refine ⟨fun e => absurd e.symm (cb_nim hk2 _), fun e => by omega⟩
theorem cb_gte {A B : Prop} {txt : List Nat} (h : cb_TX txt) {p : Nat} {x : Int32} (k : Nat) (f : txt.getD p 0 = k → A) (g : txt.getD p 0 ≠ k → B) (hk : 0 < k := by decide) (hk2 : k < 2 ^ 31 := by decide) (hx : x = nI k := by rfl) : (cb_gt txt p = x → A) ∧ (¬ cb_gt txt p = x → B) := by
  rw [hx, cb_gt_eq h hk hk2]; exact ⟨f, g⟩
def cb_dx (txt : List Nat) (p : Nat) : Int32 := if cb_hx (txt.getD p 0) < 16 then nI (cb_hx (txt.getD p 0)) else -1
theorem cb_hx_le (c : Nat) : cb_hx c ≤ 16 := by unfold cb_hx; split; omega; split <;> omega
theorem cb_hx_dg (c : Nat) : cb_hx c < 10 ↔ cb_dg c = true := by
  unfold cb_hx cb_dg; rw [decide_eq_true_iff]; split
  · omega
  · split <;> omega
theorem cb_hx_v {c : Nat} (h : cb_dg c = true) : cb_hx c = c - 48 := by
  unfold cb_dg at h; rw [decide_eq_true_iff] at h; unfold cb_hx; rw [if_pos h]
section cy6
variable {yM yD yS yN yF : Int32} {vC vL vS vP vV vK vR vA vB : Nat → Int32} {vN vE : Nat → Int64}
theorem cy_dig {post : Int32 → Prop} {txt : List Nat} {p : Nat} (hL : vL 0 = nI txt.length) (hl : txt.length ≤ 128) (hC : cb_At vC 0 txt) (ht : cb_TX txt) (hi : p < 2 ^ 31) (h : post (cb_dx txt p)) : wpY_digit post (yM, yD, yS, yN, yF, vC, vL, vS, vP, vV, vK, vR, vA, vB, vN, vE) (nI p) := by
  unfold wpY_digit
  dsimp only
  refine cy_get (pl := 0) (l := txt) (by decide) (by omega) hL hl hC hi ?_
  unfold cb_gt
  unfold cb_dx cb_hx at h
  by_cases hp : p < txt.length
  · have hc := cb_TX_g ht hp
    rw [if_pos hp]
    generalize txt.getD p 0 = c at *
    have h27 : ¬ (48 ≤ c ∧ c ≤ 57) → wY_digit_27 post (nI c) yM yD yS yN yF vC vL vS vP vV vK vR vA vB vN vE := by
      intro e
      rw [if_neg e] at h
      refine pk_lt c 97 (fun e1 => ?_) (fun e1 => pk_lt 102 c (fun e2 => ?_) (fun e2 => ?_))
      · rw [if_neg (show ¬ (97 ≤ c ∧ c ≤ 102) by omega), if_neg (by omega)] at h; exact h
      · rw [if_neg (show ¬ (97 ≤ c ∧ c ≤ 102) by omega), if_neg (by omega)] at h; exact h
      · rw [if_pos (show 97 ≤ c ∧ c ≤ 102 by omega), if_pos (by omega)] at h
        rw [show (97 : Int32) = nI 97 from rfl, pk_sub e1, show (10 : Int32) = nI 10 from rfl, nI_add, show c - 97 + 10 = c - 87 by omega]; exact h
    refine pk_lt c 48 (fun e => h27 (by omega)) (fun e => pk_lt 57 c (fun e2 => h27 (by omega)) (fun e2 => ?_))
    rw [if_pos (show 48 ≤ c ∧ c ≤ 57 by omega), if_pos (by omega)] at h
    rw [show (48 : Int32) = nI 48 from rfl, pk_sub e]; exact h
  · rw [if_neg hp]
    rw [cb_getD_z hp] at h
    exact br_t (by decide) (br_t (by decide) h)
theorem cy_clo {post : Int32 → Prop} {m : Nat} (hm : m = 2 ∨ m = 4 ∨ m = 5 ∨ m = 6) (h : post (nI (if m = 2 then 39 else cb_cl m))) : wpY_closer post (yM, yD, yS, yN, yF, vC, vL, vS, vP, vV, vK, vR, vA, vB, vN, vE) (nI m) := by
  unfold cb_cl at h
  rcases hm with rfl | rfl | rfl | rfl
  · exact br_t rfl h
  · exact br_f (by decide) (br_t rfl h)
  · exact br_f (by decide) (br_f (by decide) (br_t rfl h))
  · exact br_f (by decide) (br_f (by decide) (br_f (by decide) (br_t rfl h)))
theorem cy_500 {post : Int32 → SY → Prop} {J : Int32 → Int32 → Int32 → Int32 → Int32 → Int32 → Int32 → Int32 → (Nat → Int32) → (Nat → Int32) → (Nat → Int32) → (Nat → Int32) → (Nat → Int32) → (Nat → Int32) → (Nat → Int32) → (Nat → Int32) → (Nat → Int32) → (Nat → Int64) → (Nat → Int64) → Prop}
    {x2 x4 x7 x10 : Int32} {x14 : Int64} {txt : List Nat} {p : Nat} (hL : vL 0 = nI txt.length) (hn : txt.length ≤ 128) (hC : cb_At vC 0 txt) (ht : cb_TX txt) (hp : p ≤ txt.length)
    (K : wY_read_549 post J x2 (nI (p + (cb_ds txt p).length)) x4 x7 x10 (nI p) (lN (cb_vl (cb_ds txt p))) x14 yM yD yS yN yF vC vL vS vP vV vK vR vA vB vN vE) :
    ∀ (xs ds0 : List Nat) (n : Nat), txt.drop (p + ds0.length) = xs → cb_ds txt p = ds0 ++ xs.takeWhile cb_dg → p + ds0.length ≤ txt.length → xs.length < n →
      wY_read_500 post J x2 x4 x7 x10 (nI p) x14 yM yD yS yN yF vC vL vS vP vV vK vR vA vB vN vE n (nI (p + ds0.length)) (lN (cb_vl ds0)) := by
  intro xs
  induction xs with
  | nil =>
    intro ds0 n hx hd hl hf
    obtain ⟨n, rfl⟩ : ∃ k, n = k + 1 := ⟨n - 1, by omega⟩
    have h1 : txt.length ≤ p + ds0.length := by have := congrArg List.length hx; simp at this; omega
    have h2 : cb_ds txt p = ds0 := by simpa using hd
    rw [h2] at K
    exact br_t (by rw [hL]; exact nI_le h1 (by omega)) K
  | cons ch xs ih =>
    intro ds0 n hx hd hl hf
    obtain ⟨n, rfl⟩ : ∃ k, n = k + 1 := ⟨n - 1, by omega⟩
    obtain ⟨e0, hlt, hx2⟩ := cb_hd0 hx
    rw [List.length_cons] at hf
    refine br_f (by rw [hL]; exact nI_ge hlt (by omega)) (cy_dig hL hn hC ht (by omega) ?_)
    have edx : cb_dx txt (p + ds0.length) = if cb_hx ch < 16 then nI (cb_hx ch) else -1 := by unfold cb_dx; rw [e0]
    cases hdg : cb_dg ch with
    | false =>
      have h2 : cb_ds txt p = ds0 := by rw [hd, List.takeWhile_cons, hdg]; simp
      rw [h2] at K
      have h10 : ¬ cb_hx ch < 10 := fun h => by rw [(cb_hx_dg ch).mp h] at hdg; cases hdg
      rw [edx]
      by_cases h16 : cb_hx ch < 16
      · rw [if_pos h16]
        refine br_f (nI_pos (by omega)) (cy_dig hL hn hC ht (by omega) ?_)
        rw [edx, if_pos h16]
        exact br_t (nI_le (a := 10) (by omega) (by omega)) K
      · rw [if_neg h16]
        exact br_t (by decide) K
    | true =>
      have h10 := (cb_hx_dg ch).mpr hdg
      have hv := cb_hx_v hdg
      rw [edx, if_pos (by omega)]
      refine br_f (nI_pos (by omega)) (cy_dig hL hn hC ht (by omega) ?_)
      rw [edx, if_pos (by omega)]
      refine br_f (nI_ge (b := 10) h10 (by omega)) (cy_dig hL hn hC ht (by omega) ?_)
      rw [edx, if_pos (by omega), cb_lI (by omega), hv]
      have hd' : cb_ds txt p = (ds0 ++ [ch]) ++ xs.takeWhile cb_dg := by rw [hd, List.takeWhile_cons, hdg]; simp
      have hlen : (ds0 ++ [ch]).length = ds0.length + 1 := by simp
      have := ih (ds0 ++ [ch]) n (by rw [hlen, ← Nat.add_assoc]; exact hx2) hd' (by omega) (by omega)
      rw [hlen, ← Nat.add_assoc, cb_vl_sn] at this
      refine nm_r (e' := lN (cb_vl ds0 * 10 + (ch - 48))) (by rw [show (10 : Int64) = lN 10 from rfl, lN_mul, lN_add]) (nm_r (nI_1 _) this)
end cy6
end
section
/-! Y: the text, item by item -/
theorem cb_RY_hd {T : cb_Tb} {N : Nat} {m num lf : Nat} {ks : List (List Nat)} {c : List cb_Fr} {d : Bool} {fp : List Nat} (h : cb_RY T N ((m, num, lf, ks) :: c, [], d) fp) : ∃ q fp0, fp = q :: fp0 ∧ q < N ∧ cb_so T q = m ∧ cb_ki T q = ks.length ∧ cb_le T q = c.length + 1 := by
  obtain ⟨A, E, _, h2, _⟩ := h
  rcases h2 with ⟨_, h2⟩ | ⟨_, _, h2, _⟩
  · cases fp with
    | nil => exact absurd h2 (by simp [cb_FR])
    | cons q fp0 =>
      obtain ⟨f1, f0, f2, f3, f4, f5, f6, f7⟩ := h2
      exact ⟨q, fp0, rfl, f1, f2, f4, f6⟩
  · cases h2
theorem cb_RY_nil {T : cb_Tb} {N : Nat} {ro : List (List Nat)} {d : Bool} {fp : List Nat} (h : cb_RY T N ([], ro, d) fp) : fp = [] := by
  obtain ⟨A, E, _, h2, _⟩ := h
  rcases h2 with ⟨_, h2⟩ | ⟨_, _, _, h2, _⟩
  · cases fp with
    | nil => rfl
    | cons a fp => exact absurd h2 (by simp [cb_FR])
  · exact h2
section cy7
variable {yM yD yS yF : Int32} {vC vL vA vB : Nat → Int32}
theorem cy_102 {post : Int32 → SY → Prop} {x1 : Int32} {txt : List Nat} {p t n N u : Nat} {T : cb_Tb} {vS vP vV vK vR : Nat → Int32} {vN vE : Nat → Int64} (hL : vL 0 = nI txt.length) (hn : txt.length ≤ 128) (hC : cb_At vC 0 txt) (ht : cb_TX txt) (htp : t ≤ p) (hp : p ≤ txt.length) (hN : N ≤ 128) (hTA : cy_TA T N vS vP vV vK vR vN vE) (hTB : cb_TB T N)
    (hu : u ≤ N) (h1 : ∀ j, u ≤ j → j < N → cb_nd T j = cb_ki T j + 1) (h2 : u = 0 ∨ cb_nd T (u - 1) ≠ cb_ki T (u - 1) + 1)
    (K : wY_read_102 post (wY_read_11 post n) x1 (nI t) (nI p) (cb_I u) (if u = 0 then -1 else nI (cb_so T (u - 1))) (if u = 0 then 0 else nI (cb_ki T (u - 1))) (cb_gt txt p) (cb_dx txt p) (cb_dx txt (p + 1)) (if cb_dg (txt.getD p 0) = true then 1 else 0) yM yD yS (nI N) yF vC vL vS vP vV vK vR vA vB vN vE) :
    wY_read_11 post (n + 1) x1 (nI t) (nI p) yM yD yS (nI N) yF vC vL vS vP vV vK vR vA vB vN vE := by
  refine br_f (nI_nlt (a := 128) (by omega) (by omega)) (cy_in rfl hN hTA hTB hu h1 h2 ?_)
  have h58 : wY_read_58 post (wY_read_11 post n) x1 (nI t) (nI p) (cb_I u) (if u = 0 then -1 else nI (cb_so T (u - 1))) (if u = 0 then 0 else nI (cb_ki T (u - 1))) yM yD yS (nI N) yF vC vL vS vP vV vK vR vA vB vN vE := by
    unfold wY_read_58
    refine cy_get (pl := 0) (l := txt) (by decide) (by omega) hL hn hC (by omega) (cy_dig hL hn hC ht (by omega) ?_)
    rw [nI_1]
    refine cy_dig hL hn hC ht (by omega) ?_
    have hle := cb_hx_le (txt.getD p 0)
    have hxd := cb_hx_dg (txt.getD p 0)
    have edx : cb_dx txt p = if cb_hx (txt.getD p 0) < 16 then nI (cb_hx (txt.getD p 0)) else -1 := rfl
    by_cases h16 : cb_hx (txt.getD p 0) < 16
    · rw [if_pos h16] at edx
      refine br_f (by rw [edx]; exact nI_pos (by omega)) ?_
      refine pk_le 10 (cb_hx (txt.getD p 0)) (fun e => ?_) (fun e => ?_) rfl edx
      · rw [if_neg (show ¬ cb_dg (txt.getD p 0) = true from fun h => by have := hxd.mpr h; omega)] at K; exact K
      · rw [if_pos (show cb_dg (txt.getD p 0) = true from hxd.mp e)] at K; exact K
    · rw [if_neg h16] at edx
      refine br_t (by rw [edx]; decide) ?_
      rw [if_neg (show ¬ cb_dg (txt.getD p 0) = true from fun h => by have := hxd.mpr h; omega)] at K; exact K
  cases u with
  | zero => exact br_f (by decide) (br_f (by decide) h58)
  | succ q =>
    obtain ⟨t1, t2, t3, t4, t5, t6, t7⟩ := hTA q (by omega)
    rw [if_neg (by omega), if_neg (by omega), Nat.add_sub_cancel] at h58
    rw [cb_Is] at h58 ⊢
    have hinq : vp_in (nI q) 128 := vp_in_nI (by omega) (by omega)
    refine br_t (nI_pos' (by omega)) ⟨hinq, ?_⟩
    rw [nI_clamp (by omega), t1]
    refine br_t (nI_pos' (by omega)) ⟨hinq, ?_⟩
    rw [nI_clamp (by omega), t4]
    exact h58
/-- the end of an array, a map, a tag, a byte string: its fact is closed -/
theorem cy_181 {post : Int32 → SY → Prop} {txt : List Nat} {lim p t n N q m num : Nat} {ks : List (List Nat)} {c : List cb_Fr} {d : Bool} {T : cb_Tb} {fp : List Nat} {vS vP vV vK vR : Nat → Int32} {vN vE : Nat → Int64} (hN : N ≤ p) (hp : p < 128) (hTA : cy_TA T N vS vP vV vK vR vN vE) (hTB : cb_TB T N) (hRY : cb_RY T N ((m, num, 0, ks) :: c, [], d) (q :: fp)) (h5 : m = 5 → ks.length % 2 = 0 ∧ ∀ k ∈ ks, cb_kb k) (hok : cb_OK c (cb_nE m num ks)) (hkl : ks.length ≤ 128)
    (K : ∀ (T : cb_Tb) (N : Nat) (fp : List Nat) (vS vP vV vK vR : Nat → Int32) (vN vE : Nat → Int64), N ≤ p + 1 → cy_TA T N vS vP vV vK vR vN vE → cb_TB T N → cb_RY T N (cb_cm c d (cb_nE m num ks)) fp → wY_read_11 post n 0 (nI (t + 1)) (nI (p + 1)) yM yD yS (nI N) yF vC vL vS vP vV vK vR vA vB vN vE) :
    wY_read_181 post (wY_read_11 post n) (nI t) (nI (p + 1)) (nI q) (nI ks.length) yM yD yS (nI N) yF vC vL vS vP vV vK vR vA vB vN vE := by
  have hq : q < N := by
    obtain ⟨A, E, _, h2, _⟩ := hRY
    rcases h2 with ⟨_, h2⟩ | ⟨e, h2, _⟩
    · exact h2.1
    · cases h2
  obtain ⟨fp', hRY', _⟩ := cb_RC_cm hok (cb_RY_close hRY h5)
  refine ⟨vp_in_nI (by omega) (by omega), ?_⟩
  rw [nI_clamp (by omega), cb_lI (by omega)]
  exact nm_e (nm_r (nI_1 _) (K _ N fp' _ _ _ _ _ _ _ (by omega) (cy_TA_sd hTA) (cb_TB_sd hTB (by omega)) hRY'))
theorem cy_af {post : Int32 → SY → Prop} {txt : List Nat} {lim p t n N : Nat} {c : List cb_Fr} {d : Bool} {T : cb_Tb} {fp : List Nat} {vS vP vV vK vR : Nat → Int32} {vN vE : Nat → Int64} (hL : vL 0 = nI txt.length) (hn : txt.length ≤ 128) (hC : cb_At vC 0 txt) (ht : cb_TX txt) (htp : t ≤ p) (hp : p ≤ txt.length) (hf : cb_FI lim true c) (h0 : ∀ f ∈ c, f.2.2.1 = 0) (hsz : (cb_oo c).length + cb_rsm c ≤ p) (hne : c ≠ []) (hN : N ≤ p) (hTA : cy_TA T N vS vP vV vK vR vN vE) (hTB : cb_TB T N) (hRY : cb_RY T N (c, [], d) fp) (hfu : txt.length < p + n)
    (K1 : ∀ r, cb_af txt c d p = .inl r → ∀ (yN : Int32) (vS vP vV vK vR : Nat → Int32) (vN vE : Nat → Int64), post r (yM, yD, yS, yN, yF, vC, vL, vS, vP, vV, vK, vR, vA, vB, vN, vE))
    (K2 : ∀ s due p', cb_af txt c d p = .inr (s, due, p') → ∀ (t n : Nat) (T : cb_Tb) (N : Nat) (fp : List Nat) (vS vP vV vK vR : Nat → Int32) (vN vE : Nat → Int64), t ≤ p' → txt.length < p' + n → N ≤ p' → cy_TA T N vS vP vV vK vR vN vE → cb_TB T N → cb_RY T N s fp → wY_read_11 post n (cb_b due) (nI t) (nI p') yM yD yS (nI N) yF vC vL vS vP vV vK vR vA vB vN vE) :
    wY_read_11 post n 0 (nI t) (nI p) yM yD yS (nI N) yF vC vL vS vP vV vK vR vA vB vN vE := by
  cases c with
  | nil => exact absurd rfl hne
  | cons f c =>
    obtain ⟨m, num, lf, ks⟩ := f
    have hl : lf = 0 := h0 (m, num, lf, ks) (by simp)
    subst hl
    obtain ⟨q, fp0, rfl, hqN, hso, hki, hle⟩ := cb_RY_hd hRY
    have hin := cb_RY_in hRY
    have hm : m = 4 ∨ m = 5 ∨ m = 6 := hf.1
    have hks := hf.2.2.2.2.2.2.2.1
    have hkk := cb_FI_k hf (p := 128) (by omega) (m, num, 0, ks) (by simp)
    dsimp only at hkk
    obtain ⟨n, rfl⟩ : ∃ k, n = k + 1 := ⟨n - 1, by omega⟩
    refine cy_102 hL hn hC ht htp hp (by omega) hTA hTB hin.1 hin.2.1 hin.2.2 ?_
    show wY_read_102 post (wY_read_11 post n) 0 (nI t) (nI p) (cb_I (q + 1)) (if q + 1 = 0 then -1 else nI (cb_so T (q + 1 - 1))) (if q + 1 = 0 then 0 else nI (cb_ki T (q + 1 - 1))) _ _ _ _ yM yD yS (nI N) yF vC vL vS vP vV vK vR vA vB vN vE
    rw [if_neg (by omega), if_neg (by omega), Nat.add_sub_cancel, hso, hki, cb_Is]
    rw [cb_af_c] at K1 K2
    refine br_t rfl (br_t (nI_pos' (by omega)) (nm_r (nI_1 _) (br_f (nI_pos (by omega)) (cy_clo (by omega) ?_))))
    rw [if_neg (by omega)]
    have hx6 : nI ks.length - nI ks.length / 2 * 2 = nI (ks.length % 2) := by rw [show (2 : Int32) = nI 2 from rfl, pk_rem (by omega) (by omega) (by omega)]
    -- not closed here
    have h196 : ¬ (txt.getD p 0 = cb_cl m ∧ ¬ (m = 5 ∧ ks.length % 2 = 1)) → wY_read_196 post (wY_read_11 post n) 0 (nI t) (nI (p + 1)) (nI q) (nI m) (nI ks.length) (cb_gt txt p) (cb_dx txt p) (cb_dx txt (p + 1)) (if cb_dg (txt.getD p 0) = true then 1 else 0) yM yD yS (nI N) yF vC vL vS vP vV vK vR vA vB vN vE := by
      intro hg
      rw [if_neg hg] at K1 K2
      have m2 : ¬ nI m = 2 := by show ¬ nI m = nI 2; rw [nI_eq (by omega) (by omega)]; omega
      refine br_t rfl (br_f m2 (br_t rfl (br_f m2 (br_t rfl (pk_eq m 6 (fun e6 => ?_) (fun e6 => ?_))))))
      · rw [if_neg (fun h => h.1 e6)] at K1
        exact K1 _ rfl _ _ _ _ _ _ _ _
      · have h288 : ∀ z, z = nI (cb_sp m ks.length) → wY_read_288 post (wY_read_11 post n) 0 (nI t) (nI (p + 1)) (nI q) (cb_gt txt p) (if cb_dg (txt.getD p 0) = true then 1 else 0) z (cb_gt txt p) yM yD yS (nI N) yF vC vL vS vP vV vK vR vA vB vN vE := by
          intro z hz
          refine cb_gte ht (cb_sp m ks.length) (fun e => ?_) (fun e => ?_) (by unfold cb_sp; split <;> omega) (by unfold cb_sp; split <;> omega) hz
          · rw [if_pos ⟨e6, e⟩] at K2
            refine br_t rfl (nm_r (nI_1 _) ?_)
            have hq : p < txt.length := cb_getD_ne (by rw [e]; unfold cb_sp; split <;> omega)
            exact K2 _ _ _ rfl (t + 1) n T N (q :: fp0) _ _ _ _ _ _ _ (by omega) (by omega) (by omega) hTA hTB hRY
          · rw [if_neg (fun h => e h.2)] at K1
            exact K1 _ rfl _ _ _ _ _ _ _ _
        unfold cb_sp at h288
        refine pk_eq m 5 (fun e5 => ⟨by decide, ?_⟩) (fun e5 => ?_)
        · rw [hx6]
          refine pk_eq (ks.length % 2) 1 (fun e1 => ?_) (fun e1 => ?_)
          · rw [if_pos ⟨e5, e1⟩] at h288; exact h288 _ rfl
          · rw [if_neg (fun h => e1 h.2)] at h288; exact h288 _ rfl
        · rw [if_neg (fun h => e5 h.1)] at h288; exact h288 _ rfl
    have h181 : (txt.getD p 0 = cb_cl m ∧ ¬ (m = 5 ∧ ks.length % 2 = 1)) → wY_read_181 post (wY_read_11 post n) (nI t) (nI (p + 1)) (nI q) (nI ks.length) yM yD yS (nI N) yF vC vL vS vP vV vK vR vA vB vN vE := by
      intro hg
      rw [if_pos hg] at K2
      have hq : p < txt.length := cb_getD_ne (by rw [hg.1]; unfold cb_cl; split; omega; split <;> omega)
      obtain ⟨h1, h2, _⟩ := cb_nd_sz hf hsz (by omega) hg.2
      have hkkc := cb_FI_k hf.2.2.2.2.2.2.2.2 (p := 128) (by simp only [cb_oo, List.length_append] at hsz; omega)
      refine cy_181 (txt := txt) (lim := lim) (m := m) (num := num) (c := c) (d := d) hN (by omega) hTA hTB hRY (fun h5 => ⟨by omega, fun k hk => ⟨(hks k hk).1, (hks k hk).2.2⟩⟩) (cb_OK_IT hf.2.2.2.2.2.2.2.2 h1 (fun f hf => by have := hkkc f hf; omega)) hkk ?_
      intro T N fp vS vP vV vK vR vN vE hN' hTA' hTB' hRY'
      exact K2 _ _ _ rfl (t + 1) n T N fp _ _ _ _ _ _ _ (by omega) (by omega) (by omega) hTA' hTB' hRY'
    refine cb_gte ht (cb_cl m) (fun e => br_t rfl (pk_eq m 5 (fun e5 => ⟨by decide, ?_⟩) (fun e5 => h181 ⟨e, by omega⟩))) (fun e => h196 (fun h => e h.1)) (by unfold cb_cl; split; omega; split <;> omega) (by unfold cb_cl; split; omega; split <;> omega)
    rw [hx6]
    exact pk_eq (ks.length % 2) 0 (fun e0 => h181 ⟨e, by omega⟩) (fun e0 => h196 (by omega))
/-- the bytes of a byte string, two digits each -/
theorem cy_hex {post : Int32 → SY → Prop} {txt : List Nat} {q0 q : Nat} {c : List cb_Fr} {d : Bool} {fp : List Nat} (hL : vL 0 = nI txt.length) (hn : txt.length ≤ 128) (hC : cb_At vC 0 txt) (ht : cb_TX txt)
    (hok : ∀ bs, cb_hr (txt.drop q0) = some bs → cb_OK c (cb_hd 2 bs.length ++ bs))
    (K1 : cb_hr (txt.drop q0) = none → ∀ (yN : Int32) (vS vP vV vK vR : Nat → Int32) (vN vE : Nat → Int64), post (-10) (yM, yD, yS, yN, yF, vC, vL, vS, vP, vV, vK, vR, vA, vB, vN, vE))
    (K2 : ∀ bs, cb_hr (txt.drop q0) = some bs → ∀ (t n : Nat) (T : cb_Tb) (N : Nat) (fp : List Nat) (vS vP vV vK vR : Nat → Int32) (vN vE : Nat → Int64), t ≤ q0 + 2 * bs.length + 1 → txt.length < q0 + 2 * bs.length + 1 + n → N ≤ q0 + 2 * bs.length + 1 → cy_TA T N vS vP vV vK vR vN vE → cb_TB T N → cb_RY T N (cb_cm c d (cb_hd 2 bs.length ++ bs)) fp → wY_read_11 post n 0 (nI t) (nI (q0 + 2 * bs.length + 1)) yM yD yS (nI N) yF vC vL vS vP vV vK vR vA vB vN vE) :
    ∀ (n : Nat) (l ba : List Nat) (p t : Nat) (T : cb_Tb) (N : Nat) (vS vP vV vK vR : Nat → Int32) (vN vE : Nat → Int64), txt.drop p = l → p = q0 + 2 * ba.length → p ≤ txt.length → cb_hr (txt.drop q0) = (cb_hr l).map (fun x => ba ++ x) → txt.length < p + n → t ≤ p → N ≤ p → cy_TA T N vS vP vV vK vR vN vE → cb_TB T N → cb_RY T N ((2, 0, 0, ba.map (fun b => [b])) :: c, [], d) (q :: fp) →
      wY_read_11 post n 0 (nI t) (nI p) yM yD yS (nI N) yF vC vL vS vP vV vK vR vA vB vN vE := by
  intro n
  induction n with
  | zero => intro l ba p t T N vS vP vV vK vR vN vE _ _ h1 _ h2; omega
  | succ n ih =>
    intro l ba p t T N vS vP vV vK vR vN vE hl hq hpn hh hfu htp hN hTA hTB hRY
    have hlen : l.length = txt.length - p := by rw [← hl]; simp
    obtain ⟨q', fp0, hfp, hqN, hso, hki, hle⟩ := cb_RY_hd hRY
    obtain ⟨rfl, rfl⟩ := List.cons.inj hfp
    rw [List.length_map] at hki
    have hin := cb_RY_in hRY
    refine cy_102 hL hn hC ht htp hpn (by omega) hTA hTB hin.1 hin.2.1 hin.2.2 ?_
    show wY_read_102 post (wY_read_11 post n) 0 (nI t) (nI p) (cb_I (q + 1)) (if q + 1 = 0 then -1 else nI (cb_so T (q + 1 - 1))) (if q + 1 = 0 then 0 else nI (cb_ki T (q + 1 - 1))) _ _ _ _ yM yD yS (nI N) yF vC vL vS vP vV vK vR vA vB vN vE
    rw [if_neg (by omega), if_neg (by omega), Nat.add_sub_cancel, hso, hki, cb_Is]
    refine br_t rfl (br_t (nI_pos' (by omega)) (nm_r (nI_1 _) (br_f (nI_pos (by omega)) (cy_clo (by omega) ?_))))
    rw [if_pos rfl]
    refine cb_gte ht 39 (fun e => br_t rfl (br_f (by decide) ?_)) (fun e => ?_)
    · -- the closing apostrophe
      have hqt : p < txt.length := cb_getD_ne (by rw [e]; omega)
      have hs : cb_hr (txt.drop q0) = some ba := by
        rw [hh]
        cases l with
        | nil => simp at hlen; omega
        | cons a r =>
          have := (cb_hd0 hl).1; rw [e] at this; subst this
          cases r with
          | nil => simp [cb_hr]
          | cons b r => rw [cb_hr_2]; simp
      have hE : cb_nE 2 0 (ba.map (fun b => [b])) = cb_hd 2 ba.length ++ ba := cb_nE2 0 ba
      have := cy_181 (post := post) (yM := yM) (yD := yD) (yS := yS) (yF := yF) (vC := vC) (vL := vL) (vA := vA) (vB := vB) (txt := txt) (lim := 0) (p := p) (t := t) (n := n) (m := 2) (num := 0) (ks := ba.map (fun b => [b])) (c := c) (d := d) hN (by omega) hTA hTB hRY (fun h => by omega) (by rw [hE]; exact hok ba hs) (by rw [List.length_map]; omega) (by
        intro T N fp vS vP vV vK vR vN vE hN' hTA' hTB' hRY'
        rw [hE] at hRY'
        have := K2 ba hs (t + 1) n T N fp vS vP vV vK vR vN vE (by omega) (by omega) (by omega) hTA' hTB' hRY'
        rw [← hq] at this
        exact this)
      rw [List.length_map] at this
      exact this
    · -- two digits
      have hnone : ∀ a r, l = a :: r → a ≠ 39 := fun a r h => by rw [h] at hl; have := (cb_hd0 hl).1; rw [this] at e; exact e
      have edx : cb_dx txt p = if cb_hx (txt.getD p 0) < 16 then nI (cb_hx (txt.getD p 0)) else -1 := rfl
      have edy : cb_dx txt (p + 1) = if cb_hx (txt.getD (p + 1) 0) < 16 then nI (cb_hx (txt.getD (p + 1) 0)) else -1 := rfl
      have hx0 : cb_hx 0 = 16 := rfl
      refine br_t rfl (br_t rfl ?_)
      by_cases ga : cb_hx (txt.getD p 0) < 16
      · rw [edx, if_pos ga]
        refine br_f (nI_pos (by omega)) ?_
        by_cases gb : cb_hx (txt.getD (p + 1) 0) < 16
        · rw [edy, if_pos gb]
          refine br_t (nI_pos' (by omega)) (br_t rfl (br_t rfl ?_))
          have hp1 : p + 1 < txt.length := by
            by_cases g : p + 1 < txt.length
            · exact g
            · rw [cb_getD_z g] at gb; omega
          rcases l with _ | ⟨a, _ | ⟨b, r⟩⟩
          · simp at hlen; omega
          · simp at hlen; omega
          · obtain ⟨e0, hlt, hl2⟩ := cb_hd0 hl
            obtain ⟨e1, hlt2, hl3⟩ := cb_hd0 hl2
            rw [cb_hr_2, if_neg (hnone a _ rfl)] at hh
            rw [e0] at ga ⊢
            rw [e1] at gb ⊢
            rw [if_pos ⟨ga, gb⟩] at hh
            have hleaf := cb_RY_leaf (m := 8) (n := 16 * cb_hx a + cb_hx b) hRY
            rw [cb_nE8] at hleaf
            obtain ⟨fp', hRY', hfp'⟩ := cb_RC_cm (c := (2, 0, 0, ba.map (fun b => [b])) :: c) (e := [16 * cb_hx a + cb_hx b]) ⟨fun h => by omega, fun h => by omega⟩ hleaf
            have := hfp' ⟨_, _, rfl, by simp⟩
            subst this
            have ecm : cb_cm ((2, 0, 0, ba.map (fun b => [b])) :: c) d [16 * cb_hx a + cb_hx b] = ((2, 0, 0, (ba ++ [16 * cb_hx a + cb_hx b]).map (fun b => [b])) :: c, [], d) := by
              have hdn : cb_dn 2 (ba.map (fun b => [b])) = false := decide_eq_false (fun h => by omega)
              rw [cb_cm_c, hdn, Bool.or_false, List.map_append, if_neg (by omega)]; rfl
            rw [ecm] at hRY'
            refine cy_add' 8 (16 * cb_hx a + cb_hx b) (q + 1) 1 rfl ?_ (cb_Is q).symm (cb_Ls 0).symm rfl (by omega) hTA (by omega) ?_
            · rw [show (16 : Int32) = nI 16 from rfl, pk_mul, nI_add, cb_lI (by omega)]
            · intro vS vP vV vK vR vN vE hTA'
              refine nm_r (e' := nI (p + 2)) (by rw [nI_1]) (nm_r (nI_1 _) ?_)
              refine ih r (ba ++ [16 * cb_hx a + cb_hx b]) (p + 2) (t + 1) _ (N + 1) _ _ _ _ _ _ _ hl3 (by simp; omega) (by omega) ?_ (by omega) (by omega) (by omega) hTA' (cb_TB_add hTB (by omega) (by omega) (by omega) (by omega)) hRY'
              rw [hh, Option.map_map]
              congr 1
              funext x
              simp
        · rw [edy, if_neg gb]
          refine br_f (by decide) (K1 ?_ _ _ _ _ _ _ _ _)
          rw [hh]
          rcases l with _ | ⟨a, _ | ⟨b, r⟩⟩
          · simp [cb_hr]
          · simp [cb_hr, hnone a [] rfl]
          · obtain ⟨e0, hlt, hl2⟩ := cb_hd0 hl
            obtain ⟨e1, hlt2, hl3⟩ := cb_hd0 hl2
            rw [e1] at gb
            rw [cb_hr_2, if_neg (hnone a _ rfl), if_neg (fun h => gb h.2)]; rfl
      · rw [edx, if_neg ga]
        refine br_t (by decide) (K1 ?_ _ _ _ _ _ _ _ _)
        rw [hh]
        rcases l with _ | ⟨a, _ | ⟨b, r⟩⟩
        · simp [cb_hr]
        · simp [cb_hr, hnone a [] rfl]
        · obtain ⟨e0, hlt, hl2⟩ := cb_hd0 hl
          rw [e0] at ga
          rw [cb_hr_2, if_neg (hnone a _ rfl), if_neg (fun h => ga h.1)]; rfl
end cy7
end
section
/-! Y: an item begins; the whole reading -/
section cy8
variable {yM yD yS yF : Int32} {vC vL vA vB : Nat → Int32}
theorem cy_673 {post : Int32 → SY → Prop} {p t n N m v : Nat} {c : List cb_Fr} {d : Bool} {T : cb_Tb} {fp : List Nat} {vS vP vV vK vR : Nat → Int32} {vN vE : Nat → Int64} (hp : p ≤ 128) (hm : m ≤ 8 ∧ m ≠ 3) (hv : v < 2 ^ 32) (hN : N < p) (hTA : cy_TA T N vS vP vV vK vR vN vE) (hTB : cb_TB T N) (hRY : cb_RY T N (c, [], d) fp) (hok : cb_OK c (cb_nE m v []))
    (K : ∀ (T : cb_Tb) (fp : List Nat) (vS vP vV vK vR : Nat → Int32) (vN vE : Nat → Int64), cy_TA T (N + 1) vS vP vV vK vR vN vE → cb_TB T (N + 1) → cb_RY T (N + 1) (cb_cm c d (cb_nE m v [])) fp → wY_read_11 post n 0 (nI (t + 1)) (nI p) yM yD yS (nI (N + 1)) yF vC vL vS vP vV vK vR vA vB vN vE) :
    wY_read_673 post (wY_read_11 post n) 0 (nI t) (nI p) 0 (cb_I (cb_pf fp)) (lN v) (nI m) yM yD yS (nI N) yF vC vL vS vP vV vK vR vA vB vN vE := by
  have hin := cb_RY_in hRY
  refine cy_add' m v (cb_pf fp) 1 rfl rfl rfl (cb_Ls 0).symm rfl (by omega) hTA hin.1 ?_
  intro vS vP vV vK vR vN vE hTA'
  obtain ⟨fp', hRY', _⟩ := cb_RC_cm hok (cb_RY_leaf (m := m) (n := v) hRY)
  exact br_t rfl (nm_r (nI_1 _) (K _ fp' _ _ _ _ _ _ _ hTA' (cb_TB_add hTB hm hv hin.1 (by omega)) hRY'))
theorem cy_bt {post : Int32 → SY → Prop} {txt : List Nat} {lim p t n N : Nat} {c : List cb_Fr} {d : Bool} {T : cb_Tb} {fp : List Nat} {vS vP vV vK vR : Nat → Int32} {vN vE : Nat → Int64} (hL : vL 0 = nI txt.length) (hn : txt.length ≤ 128) (hC : cb_At vC 0 txt) (ht : cb_TX txt) (htp : t ≤ p) (hp : p ≤ txt.length) (hD : yD = nI lim) (h8 : lim ≤ 8) (hl2 : 2 ≤ lim) (hf : cb_FI lim false c) (hsz : (cb_oo c).length + cb_rsm c ≤ p) (hNC : cb_NC txt c true p) (hN : N ≤ p) (hTA : cy_TA T N vS vP vV vK vR vN vE) (hTB : cb_TB T N) (hRY : cb_RY T N (c, [], d) fp) (hfu : txt.length < p + n)
    (K1 : ∀ r, cb_bt txt lim c d p = .inl r → ∀ (yN : Int32) (vS vP vV vK vR : Nat → Int32) (vN vE : Nat → Int64), post r (yM, yD, yS, yN, yF, vC, vL, vS, vP, vV, vK, vR, vA, vB, vN, vE))
    (K2 : ∀ s due p', cb_bt txt lim c d p = .inr (s, due, p') → ∀ (t n : Nat) (T : cb_Tb) (N : Nat) (fp : List Nat) (vS vP vV vK vR : Nat → Int32) (vN vE : Nat → Int64), t ≤ p' → txt.length < p' + n → N ≤ p' → cy_TA T N vS vP vV vK vR vN vE → cb_TB T N → cb_RY T N s fp → wY_read_11 post n (cb_b due) (nI t) (nI p') yM yD yS (nI N) yF vC vL vS vP vV vK vR vA vB vN vE) :
    wY_read_11 post n 1 (nI t) (nI p) yM yD yS (nI N) yF vC vL vS vP vV vK vR vA vB vN vE := by
  obtain ⟨n, rfl⟩ : ∃ k, n = k + 1 := ⟨n - 1, by omega⟩
  have hin := cb_RY_in hRY
  have hkk := cb_FI_k hf (p := 128) (by omega)
  have hkk' : ∀ f ∈ c, f.2.2.2.length < 2 ^ 30 := fun f hf => by have := hkk f hf; omega
  have hlenc := cb_FI_len hf
  unfold cb_bt at K1 K2
  refine cy_102 hL hn hC ht htp hp (by omega) hTA hTB hin.1 hin.2.1 hin.2.2 ?_
  -- from 346 on: an item begins with a good character
  have h346 : ¬ (cb_dg (txt.getD p 0) = false ∧ ¬ (txt.getD p 0 = 45 ∨ txt.getD p 0 = 115 ∨ txt.getD p 0 = 104 ∨ txt.getD p 0 = 91 ∨ txt.getD p 0 = 123)) → wY_read_346 post (wY_read_11 post n) 1 (nI t) (nI (p + 1)) (cb_I (cb_pf fp)) (cb_gt txt p) (if cb_dg (txt.getD p 0) = true then 1 else 0) yM yD yS (nI N) yF vC vL vS vP vV vK vR vA vB vN vE := by
    intro hg
    rw [if_neg hg] at K1 K2
    have hp1 : p < txt.length := by
      refine cb_getD_ne fun e => hg ?_
      rw [e]; exact ⟨rfl, by omega⟩
    have h368 : c.length < lim → wY_read_368 post (wY_read_11 post n) 1 (nI t) (nI (p + 1)) (cb_I (cb_pf fp)) (cb_gt txt p) (if cb_dg (txt.getD p 0) = true then 1 else 0) yM yD yS (nI N) yF vC vL vS vP vV vK vR vA vB vN vE := by
      intro hcl
      rw [if_neg (by omega)] at K1 K2
      have hok1 : ∀ e, cb_IT 1 e → cb_OK c e := fun e he => cb_OK_IT hf (cb_IT_mo he (by omega)) hkk'
      by_cases gd : cb_dg (txt.getD p 0) = true
      · -- a digit
        rw [if_pos gd] at K1 K2
        rw [if_pos gd]
        have gd' := gd
        unfold cb_dg at gd'
        rw [decide_eq_true_iff] at gd'
        refine cb_gte ht 91 (fun e => by omega) (fun _ => cb_gte ht 123 (fun e => by omega) (fun _ => cb_gte ht 104 (fun e => by omega) (fun _ => cb_gte ht 104 (fun e => by omega) (fun _ => br_f (by decide) (nm_r (pk_m1 p) (br_f (by decide) ?_))))))
        have hdl := cb_ds_len txt p
        have hdg := cb_ds_dg txt p
        have hl0 : 0 < (cb_ds txt p).length := by
          unfold cb_ds
          cases e : txt.drop p with
          | nil => have := congrArg List.length e; simp at this; omega
          | cons x xs =>
            have := (cb_hd0 e).1
            rw [this] at gd
            rw [List.takeWhile_cons, gd]; simp
        refine ⟨_, cy_500 hL hn hC ht hp ?_ (txt.drop p) [] (txt.length + 1) (by simp) (by simp [cb_ds]) (by simpa using hp) (by simp; omega)⟩
        generalize cb_ds txt p = ds at *
        unfold cb_b0 at K1 K2
        refine br_f (by rw [nI_eq (by omega) (by omega)]; omega) ?_
        rw [show (10 : Int32) = nI 10 from rfl, nI_add]
        refine pk_lt (p + 10) (p + ds.length) (fun e => ?_) (fun e => ?_)
        · rw [if_pos (by omega)] at K1; exact K1 _ rfl _ _ _ _ _ _ _ _
        · have hvl := cb_vl_lt hdg
          have h10 : (10 : Nat) ^ ds.length ≤ 10 ^ 10 := Nat.pow_le_pow_right (by omega) (by omega)
          refine cb_llt 4294967295 (cb_vl ds) (fun e2 => ?_) (fun e2 => cb_gte ht 45 (fun e => by omega) (fun e45 => br_f (by decide) (cy_get (pl := 0) (l := txt) (by decide) (by omega) hL hn hC (by omega) ?_)))
          · rw [if_pos (by omega)] at K1; exact K1 _ rfl _ _ _ _ _ _ _ _
          · rw [if_neg (by omega)] at K1 K2
            refine cb_gte ht 40 (fun e40 => ?_) (fun e40 => ?_)
            · rw [if_pos e40] at K2
              have hq : p + ds.length < txt.length := cb_getD_ne (by rw [e40]; omega)
              refine br_f (by decide) (cb_gte ht 45 (fun e => by omega) (fun _ => br_f (by decide) ?_))
              refine cy_add' 6 (cb_vl ds) (cb_pf fp) 0 rfl rfl rfl cb_L0.symm rfl (by omega) hTA hin.1 ?_
              intro vS vP vV vK vR vN vE hTA'
              refine br_f (by decide) (nm_r (nI_1 _) (nm_r (nI_1 _) ?_))
              exact K2 _ _ _ rfl (t + 1) n _ (N + 1) _ _ _ _ _ _ _ _ (by omega) (by omega) (by omega) hTA' (cb_TB_add hTB (by omega) (by omega) hin.1 (by omega)) (cb_RY_push hRY (by omega))
            · rw [if_neg e40] at K2
              refine br_t rfl (br_f (by decide) (cb_gte ht 45 (fun e => by omega) (fun _ => br_t rfl ?_)))
              have hit := cb_IT_lf (m := 0) (v := cb_vl ds) (by omega) (Or.inl rfl)
              refine cy_673 (m := 0) (v := cb_vl ds) (by omega) (by omega) (by omega) (by omega) hTA hTB hRY (hok1 _ hit) ?_
              rw [cb_nE_lf (Or.inl rfl)]
              intro T fp vS vP vV vK vR vN vE hTA' hTB' hRY'
              exact K2 _ _ _ rfl (t + 1) n T (N + 1) fp _ _ _ _ _ _ _ (by omega) (by omega) (by omega) hTA' hTB' hRY'
      rw [if_neg gd] at K1 K2
      rw [if_neg gd]
      have hdl := cb_ds_len txt (p + 1)
      have hdg := cb_ds_dg txt (p + 1)
      have h45 : txt.getD p 0 = 45 → wY_read_432 post (wY_read_11 post n) 0 (nI t) (nI (p + 1)) (cb_I (cb_pf fp)) (cb_gt txt p) 0 yM yD yS (nI N) yF vC vL vS vP vV vK vR vA vB vN vE := by
        intro e45
        rw [if_pos e45] at K1 K2
        refine cb_gte ht 104 (fun e => by omega) (fun _ => br_t rfl (br_t rfl (cb_gte ht 45 (fun _ => ?_) (fun e => by omega))))
        refine ⟨_, cy_500 hL hn hC ht (by omega) ?_ (txt.drop (p + 1)) [] (txt.length + 1) (by simp) (by simp [cb_ds]) (by simp; omega) (by simp; omega)⟩
        generalize cb_ds txt (p + 1) = ds at *
        unfold cb_b1 at K1 K2
        refine pk_eq (p + 1 + ds.length) (p + 1) (fun e => ?_) (fun e => ?_)
        · rw [if_pos (by omega)] at K1; exact K1 _ rfl _ _ _ _ _ _ _ _
        · rw [show (10 : Int32) = nI 10 from rfl, nI_add]
          refine pk_lt (p + 1 + 10) (p + 1 + ds.length) (fun e => ?_) (fun e => ?_)
          · rw [if_pos (by omega)] at K1; exact K1 _ rfl _ _ _ _ _ _ _ _
          · have hvl := cb_vl_lt hdg
            have h10 : (10 : Nat) ^ ds.length ≤ 10 ^ 10 := Nat.pow_le_pow_right (by omega) (by omega)
            refine cb_llt 4294967296 (cb_vl ds) (fun e2 => ?_) (fun e2 => cb_gte ht 45 (fun _ => cb_leq (cb_vl ds) 0 (fun e3 => ?_) (fun e3 => ?_)) (fun e => by omega))
            · rw [if_pos (by omega)] at K1; exact K1 _ rfl _ _ _ _ _ _ _ _
            · rw [if_pos (by omega)] at K1; exact K1 _ rfl _ _ _ _ _ _ _ _
            · rw [if_neg (by omega)] at K2
              refine br_t rfl (br_t rfl (br_t rfl (cb_gte ht 45 (fun _ => cb_gte ht 45 (fun _ => br_t rfl ?_) (fun e => by omega)) (fun e => by omega))))
              rw [show lN (cb_vl ds) - 1 = lN (cb_vl ds - 1) from lN_sub (b := 1) (by omega)]
              have hit := cb_IT_lf (m := 1) (v := cb_vl ds - 1) (by omega) (by omega)
              refine cy_673 (m := 1) (v := cb_vl ds - 1) (by omega) (by omega) (by omega) (by omega) hTA hTB hRY (hok1 _ hit) ?_
              rw [cb_nE_lf (by omega)]
              intro T fp vS vP vV vK vR vN vE hTA' hTB' hRY'
              exact K2 _ _ _ rfl (t + 1) n T (N + 1) fp _ _ _ _ _ _ _ (by omega) (by omega) (by omega) hTA' hTB' hRY'
      have h115 : txt.getD p 0 = 115 → wY_read_432 post (wY_read_11 post n) 0 (nI t) (nI (p + 1)) (cb_I (cb_pf fp)) (cb_gt txt p) 0 yM yD yS (nI N) yF vC vL vS vP vV vK vR vA vB vN vE := by
        intro e115
        rw [if_neg (by omega), if_pos e115] at K1 K2
        refine cb_gte ht 104 (fun e => by omega) (fun _ => br_t rfl (br_t rfl (cb_gte ht 45 (fun e => by omega) (fun _ => ?_))))
        refine ⟨_, cy_500 hL hn hC ht (by omega) ?_ (txt.drop (p + 1)) [] (txt.length + 1) (by simp) (by simp [cb_ds]) (by simp; omega) (by simp; omega)⟩
        generalize cb_ds txt (p + 1) = ds at *
        unfold cb_b7 at K1 K2
        refine pk_eq (p + 1 + ds.length) (p + 1) (fun e => ?_) (fun e => ?_)
        · rw [if_pos (by omega)] at K1; exact K1 _ rfl _ _ _ _ _ _ _ _
        · rw [show (10 : Int32) = nI 10 from rfl, nI_add]
          refine pk_lt (p + 1 + 10) (p + 1 + ds.length) (fun e => ?_) (fun e => ?_)
          · rw [if_pos (by omega)] at K1; exact K1 _ rfl _ _ _ _ _ _ _ _
          · have hvl := cb_vl_lt hdg
            have h10 : (10 : Nat) ^ ds.length ≤ 10 ^ 10 := Nat.pow_le_pow_right (by omega) (by omega)
            refine cb_llt 23 (cb_vl ds) (fun e2 => ?_) (fun e2 => cb_gte ht 45 (fun e => by omega) (fun _ => ?_))
            · rw [if_pos (by omega)] at K1; exact K1 _ rfl _ _ _ _ _ _ _ _
            · rw [if_neg (by omega)] at K2
              refine br_t rfl (br_t rfl (br_t rfl (cb_gte ht 45 (fun e => by omega) (fun _ => cb_gte ht 45 (fun e => by omega) (fun _ => br_t rfl ?_)))))
              have hit := cb_IT_lf (m := 7) (v := cb_vl ds) (by omega) (by omega)
              refine cy_673 (m := 7) (v := cb_vl ds) (by omega) (by omega) (by omega) (by omega) hTA hTB hRY (hok1 _ hit) ?_
              rw [cb_nE_lf (by omega)]
              intro T fp vS vP vV vK vR vN vE hTA' hTB' hRY'
              exact K2 _ _ _ rfl (t + 1) n T (N + 1) fp _ _ _ _ _ _ _ (by omega) (by omega) (by omega) hTA' hTB' hRY'
      have hopen : ∀ m, (m = 4 ∨ m = 5) → (∀ s due p', cb_b4 txt c d (p + 1) m = .inr (s, due, p') → ∀ (t n : Nat) (T : cb_Tb) (N : Nat) (fp : List Nat) (vS vP vV vK vR : Nat → Int32) (vN vE : Nat → Int64), t ≤ p' → txt.length < p' + n → N ≤ p' → cy_TA T N vS vP vV vK vR vN vE → cb_TB T N → cb_RY T N s fp → wY_read_11 post n (cb_b due) (nI t) (nI p') yM yD yS (nI N) yF vC vL vS vP vV vK vR vA vB vN vE) →
          wY_read_395 post (wY_read_11 post n) 1 (nI t) (nI (p + 1)) (cb_I (cb_pf fp)) (nI m) yM yD yS (nI N) yF vC vL vS vP vV vK vR vA vB vN vE := by
        intro m hm K2
        unfold cb_b4 at K2
        refine cy_add' m 0 (cb_pf fp) 0 rfl rfl rfl cb_L0.symm rfl (by omega) hTA hin.1 ?_
        intro vS vP vV vK vR vN vE hTA'
        have hTB' := cb_TB_add (m := m) (n := 0) (u := cb_pf fp) (d0 := 0) hTB (by omega) (by omega) hin.1 (by omega)
        have hpush := cb_RY_push (m := m) (n := 0) (lf := 0) hRY (by omega)
        refine nm_r (nI_1 _) ?_
        by_cases ecl : txt.getD (p + 1) 0 = cb_cl m
        · -- closed at once
          rw [if_pos ecl] at K2
          have hclb : cb_cl m ≠ 0 := by unfold cb_cl; split; omega; split <;> omega
          have hq : p + 1 < txt.length := cb_getD_ne (by rw [ecl]; exact hclb)
          obtain ⟨n, rfl⟩ : ∃ k, n = k + 1 := ⟨n - 1, by omega⟩
          have hin2 := cb_RY_in hpush
          refine cy_102 hL hn hC ht (by omega) (by omega) (by omega) hTA' hTB' hin2.1 hin2.2.1 hin2.2.2 ?_
          show wY_read_102 post (wY_read_11 post n) 1 (nI (t + 1)) (nI (p + 1)) (cb_I (N + 1)) (if N + 1 = 0 then -1 else nI (cb_so _ (N + 1 - 1))) (if N + 1 = 0 then 0 else nI (cb_ki _ (N + 1 - 1))) _ _ _ _ yM yD yS (nI (N + 1)) yF vC vL vS vP vV vK vR vA vB vN vE
          rw [if_neg (by omega), if_neg (by omega), Nat.add_sub_cancel, cb_add_n.1, cb_add_n.2.2.2.2.1, cb_Is]
          refine br_f (by decide) (nm_r (nI_1 _) (br_f (nI_pos (by omega)) (cy_clo (by omega) ?_)))
          rw [if_neg (by omega)]
          refine cb_gte ht (cb_cl m) (fun _ => br_f (by decide) (br_t rfl (pk_eq m 6 (fun e => by omega) (fun _ => ?_)))) (fun e => absurd ecl e) (by omega) (by unfold cb_cl; split; omega; split <;> omega)
          have hit := cb_IT_lf (m := m) (v := 0) (by omega) (by omega)
          refine cy_181 (txt := txt) (lim := lim) (m := m) (num := 0) (ks := []) (c := c) (d := d) (by omega) (by omega) hTA' hTB' hpush (fun _ => ⟨rfl, by simp⟩) (hok1 _ hit) (by simp) ?_
          intro T N fp vS vP vV vK vR vN vE hN' hTA'' hTB'' hRY''
          exact K2 _ _ _ rfl (t + 1 + 1) n T N fp _ _ _ _ _ _ _ (by omega) (by omega) (by omega) hTA'' hTB'' hRY''
        · rw [if_neg ecl] at K2
          exact K2 _ _ _ rfl (t + 1) n _ (N + 1) _ _ _ _ _ _ _ _ (by omega) (by omega) (by omega) hTA' hTB' hpush
      have h104 : txt.getD p 0 = 104 → txt.getD (p + 1) 0 = 39 → wY_read_432 post (wY_read_11 post n) 0 (nI t) (nI (p + 1)) (cb_I (cb_pf fp)) (cb_gt txt p) 0 yM yD yS (nI N) yF vC vL vS vP vV vK vR vA vB vN vE := by
        intro e104 e39
        rw [if_neg (by omega), if_neg (by omega), if_pos e104, if_pos e39] at K1 K2
        have hq : p + 1 < txt.length := cb_getD_ne (by rw [e39]; omega)
        refine cb_gte ht 104 (fun _ => ?_) (fun e => absurd e104 e)
        refine cy_add' 2 0 (cb_pf fp) 0 rfl rfl rfl cb_L0.symm rfl (by omega) hTA hin.1 ?_
        intro vS vP vV vK vR vN vE hTA'
        refine nm_r (nI_1 _) (nm_r (nI_1 _) ?_)
        refine cy_hex (q0 := p + 2) (q := N) (c := c) (d := d) (fp := fp) hL hn hC ht ?_ ?_ ?_ n (txt.drop (p + 2)) [] (p + 2) (t + 1) _ (N + 1) _ _ _ _ _ _ _ rfl (by simp) (by omega) (by cases cb_hr (txt.drop (p + 2)) <;> simp) (by omega) (by omega) (by omega) hTA' (cb_TB_add hTB (by omega) (by omega) hin.1 (by omega)) (cb_RY_push hRY (by omega))
        · intro bs hbs
          obtain ⟨g1, g2⟩ := cb_hr_len _ _ hbs
          rw [List.length_drop] at g1
          exact hok1 _ (cb_IT_by (by omega) rfl g2)
        · intro hbs; rw [hbs] at K1; exact K1 (-10) rfl
        · intro bs hbs; rw [hbs] at K2
          intro t n T N fp vS vP vV vK vR vN vE a1 a2 a3 a4 a5 a6
          exact K2 _ _ _ rfl t n T N fp _ _ _ _ _ _ _ a1 a2 a3 a4 a5 a6
      refine cb_gte ht 91 (fun e => ?_) (fun e91 => cb_gte ht 123 (fun e => ?_) (fun e123 => cb_gte ht 104 (fun e104 => ?_) (fun e104 => ?_)))
      · rw [if_neg (by omega), if_neg (by omega), if_neg (by omega), if_pos e] at K2
        exact cb_gte ht 91 (fun _ => hopen 4 (by omega) K2) (fun e' => absurd e e')
      · rw [if_neg (by omega), if_neg (by omega), if_neg (by omega), if_neg e91] at K2
        exact cb_gte ht 91 (fun e' => absurd e' e91) (fun _ => hopen 5 (by omega) K2)
      · refine cy_get (pl := 0) (l := txt) (by decide) (by omega) hL hn hC (by omega) (cb_gte ht 39 (fun e39 => h104 e104 e39) (fun e39 => ?_))
        rw [if_neg (by omega), if_neg (by omega), if_pos e104, if_neg e39] at K1
        exact K1 _ rfl _ _ _ _ _ _ _ _
      · by_cases e45 : txt.getD p 0 = 45
        · exact h45 e45
        · have gd2 : cb_dg (txt.getD p 0) = false := by simpa using gd
          have e115 : txt.getD p 0 = 115 := Classical.byContradiction fun h => hg ⟨gd2, by omega⟩
          exact h115 e115
    cases c with
    | nil =>
      have := cb_RY_nil hRY
      subst this
      exact br_t (by decide) (h368 (by simp; omega))
    | cons f c =>
      obtain ⟨m, num, lf, ks⟩ := f
      obtain ⟨q, fp0, rfl, hqN, hso, hki, hle⟩ := cb_RY_hd hRY
      obtain ⟨t1, t2, t3, t4, t5, t6, t7⟩ := hTA q hqN
      have epf : cb_I (cb_pf (q :: fp0)) = nI q := cb_Is q
      refine br_f (by rw [epf]; exact nI_pos (by omega)) ⟨by rw [epf]; exact vp_in_nI (by omega) (by omega), ?_⟩
      have elv : vV (cb_I (cb_pf (q :: fp0))).toNatClampNeg = nI (c.length + 1) := by
        rw [epf, nI_clamp (by omega), t3, hle]
      rw [List.length_cons] at hlenc
      refine pk_lt (c.length + 1) lim (fun hcl => h368 (by simpa using hcl)) (fun hcl => ?_) elv hD
      rw [if_pos (by simpa using hcl)] at K1
      exact K1 _ rfl _ _ _ _ _ _ _ _
  have h196 : ∀ xm xk : Int32, wY_read_196 post (wY_read_11 post n) 1 (nI t) (nI (p + 1)) (cb_I (cb_pf fp)) xm xk (cb_gt txt p) (cb_dx txt p) (cb_dx txt (p + 1)) (if cb_dg (txt.getD p 0) = true then 1 else 0) yM yD yS (nI N) yF vC vL vS vP vV vK vR vA vB vN vE := by
    intro xm xk
    refine br_f (by decide) (br_f (by decide) (br_f (by decide) (br_f (by decide) ?_)))
    by_cases gd : cb_dg (txt.getD p 0) = true
    · have := h346 (fun h => by rw [gd] at h; cases h.1)
      refine br_f ?_ this
      rw [if_pos gd]; decide
    · have gd2 : cb_dg (txt.getD p 0) = false := by simpa using gd
      refine br_t (by rw [if_neg gd]) ?_
      have ok : (txt.getD p 0 = 45 ∨ txt.getD p 0 = 115 ∨ txt.getD p 0 = 104 ∨ txt.getD p 0 = 91 ∨ txt.getD p 0 = 123) → _ := fun h => h346 (fun h' => h'.2 h)
      refine cb_gte ht 45 (fun e => ok (by omega)) (fun e1 => cb_gte ht 115 (fun e => ok (by omega)) (fun e2 => cb_gte ht 104 (fun e => ok (by omega)) (fun e3 => cb_gte ht 91 (fun e => ok (by omega)) (fun e4 => cb_gte ht 123 (fun e => ok (by omega)) (fun e5 => ?_)))))
      rw [if_pos ⟨gd2, by omega⟩] at K1
      exact K1 _ rfl _ _ _ _ _ _ _ _
  refine br_f (by decide) (nm_r (nI_1 _) ?_)
  cases c with
  | nil =>
    have := cb_RY_nil hRY
    subst this
    exact br_t (by decide) (h196 _ _)
  | cons f c =>
    obtain ⟨m, num, lf, ks⟩ := f
    obtain ⟨q, fp0, rfl, hqN, hso, hki, hle⟩ := cb_RY_hd hRY
    have epf : cb_I (cb_pf (q :: fp0)) = nI q := cb_Is q
    have hm : m = 4 ∨ m = 5 ∨ m = 6 := hf.1
    have hk1 := hkk (m, num, lf, ks) (by simp)
    dsimp only at hk1
    refine br_f (by rw [epf]; exact nI_pos (by omega)) ?_
    have h196' := h196
    have em : (if cb_pf (q :: fp0) = 0 then (-1 : Int32) else nI (cb_so T (cb_pf (q :: fp0) - 1))) = nI m := by
      rw [if_neg (by simp [cb_pf])]; show nI (cb_so T q) = _; rw [hso]
    have ek : (if cb_pf (q :: fp0) = 0 then (0 : Int32) else nI (cb_ki T (cb_pf (q :: fp0) - 1))) = nI ks.length := by
      rw [if_neg (by simp [cb_pf])]; show nI (cb_ki T q) = _; rw [hki]
    rw [em, ek]
    refine cy_clo (by omega) ?_
    rw [if_neg (by omega)]
    refine cb_gte ht (cb_cl m) (fun e => br_f (by decide) (pk_eq ks.length 0 (fun e0 => pk_eq m 6 (fun e6 => h196 _ _) (fun e6 => ?_)) (fun e0 => h196 _ _))) (fun e => h196 _ _) (by unfold cb_cl; split; omega; split <;> omega) (by unfold cb_cl; split; omega; split <;> omega)
    exact absurd e ((hNC m num lf ks c rfl).2 rfl e6 (List.length_eq_zero_iff.mp e0))
end cy8
theorem cb_cm_ne : ∀ {c : List cb_Fr} {d : Bool} {e : List Nat}, (cb_cm c d e).2.1 = [] → (cb_cm c d e).1 ≠ [] := by
  intro c
  induction c with
  | nil => intro d e h; simp [cb_cm] at h
  | cons f c ih =>
    intro d e h
    obtain ⟨m, num, lf, ks⟩ := f
    rw [cb_cm_c] at h ⊢
    by_cases h2 : lf = 2
    · rw [if_pos h2] at h ⊢; exact ih h
    · rw [if_neg h2]; simp
theorem cb_ts_ne {txt : List Nat} {lim p p' : Nat} {c : List cb_Fr} {d due : Bool} {s : cb_S3} (h : cb_ts txt lim c d due p = .inr (s, false, p')) : s.2.1 = [] → s.1 ≠ [] := by
  unfold cb_ts at h
  split at h
  · unfold cb_bt at h
    split at h
    · cases h
    split at h
    · cases h
    split at h
    · unfold cb_b0 at h
      split at h
      · cases h
      · split at h
        · have := (cb_i3 h).2.1; cases this
        · obtain ⟨rfl, _, rfl⟩ := cb_i3 h; exact cb_cm_ne
    split at h
    · unfold cb_b1 at h
      split at h
      · cases h
      · obtain ⟨rfl, _, rfl⟩ := cb_i3 h; exact cb_cm_ne
    split at h
    · unfold cb_b7 at h
      split at h
      · cases h
      · obtain ⟨rfl, _, rfl⟩ := cb_i3 h; exact cb_cm_ne
    split at h
    · split at h
      · cases e : cb_hr (txt.drop (p + 2)) with
        | none => rw [e] at h; cases h
        | some bs => rw [e] at h; obtain ⟨rfl, _, rfl⟩ := cb_i3 h; exact cb_cm_ne
      · cases h
    · unfold cb_b4 at h
      generalize (if txt.getD p 0 = 91 then 4 else 5) = m at h
      split at h
      · obtain ⟨rfl, _, rfl⟩ := cb_i3 h; exact cb_cm_ne
      · have := (cb_i3 h).2.1; cases this
  · cases c with
    | nil => cases h
    | cons f c =>
      obtain ⟨m, num, lf, ks⟩ := f
      rw [cb_af_c] at h
      split at h
      · obtain ⟨rfl, _, rfl⟩ := cb_i3 h; exact cb_cm_ne
      · split at h
        · have := (cb_i3 h).2.1; cases this
        · cases h
section cy9
variable {yM yD yS yF : Int32} {vC vL vA vB : Nat → Int32}
theorem cy_rt_lp {post : Int32 → SY → Prop} {lim : Nat} {txt : List Nat} {R : Sum Int32 (List Nat × Bool)} (hL : vL 0 = nI txt.length) (hn : txt.length ≤ 128) (hC : cb_At vC 0 txt) (ht : cb_TX txt) (hD : yD = nI lim) (h8 : lim ≤ 8) (hl2 : 2 ≤ lim)
    (K1 : ∀ r, R = .inl r → ∀ (yN : Int32) (vS vP vV vK vR : Nat → Int32) (vN vE : Nat → Int64), r ≠ 0 → post r (yM, yD, yS, yN, yF, vC, vL, vS, vP, vV, vK, vR, vA, vB, vN, vE))
    (K2 : ∀ e d, R = .inr (e, d) → ∀ (T : cb_Tb) (N : Nat) (vS vP vV vK vR : Nat → Int32) (vN vE : Nat → Int64), N ≤ txt.length → cy_TA T N vS vP vV vK vR vN vE → cb_TB T N → cb_RY T N ([], [e], d) [] → cb_IT lim e → e.length ≤ 128 → post 0 (yM, yD, yS, nI N, yF, vC, vL, vS, vP, vV, vK, vR, vA, vB, vN, vE)) :
    ∀ (k : Nat) (s : cb_S3) (due : Bool) (p t n : Nat) (T : cb_Tb) (N : Nat) (fp : List Nat) (vS vP vV vK vR : Nat → Int32) (vN vE : Nat → Int64), cb_rt txt lim k (s, due, p) = R → txt.length + 2 ≤ p + k → txt.length < p + n → t ≤ p → p ≤ txt.length → cb_PT lim s due p → cb_NC txt s.1 due p → (due = false → s.2.1 = [] → s.1 ≠ []) → N ≤ p → cy_TA T N vS vP vV vK vR vN vE → cb_TB T N → cb_RY T N s fp →
      wY_read_11 post n (cb_b due) (nI t) (nI p) yM yD yS (nI N) yF vC vL vS vP vV vK vR vA vB vN vE := by
  intro k
  induction k with
  | zero => intro s due p t n T N fp vS vP vV vK vR vN vE _ h; omega
  | succ k ih =>
    intro s due p t n T N fp vS vP vV vK vR vN vE hR hk hfu htp hpn hPT hNC hNE hN hTA hTB hRY
    obtain ⟨c, ro, d⟩ := s
    cases ro with
    | nil =>
      have hsz : (cb_oo c).length + cb_rsm c ≤ p := by have := hPT.1.2.2; simpa using this
      have k1 : ∀ r, cb_ts txt lim c d due p = .inl r → ∀ (yN : Int32) (vS vP vV vK vR : Nat → Int32) (vN vE : Nat → Int64), post r (yM, yD, yS, yN, yF, vC, vL, vS, vP, vV, vK, vR, vA, vB, vN, vE) := by
        intro r hst yN vS vP vV vK vR vN vE
        have hr : r ≠ 0 := by rcases cb_ts_r hst with rfl | rfl <;> decide
        exact K1 r (by rw [← hR]; simp only [cb_rt, hst]) _ _ _ _ _ _ _ _ hr
      have k2 : ∀ s due' p', cb_ts txt lim c d due p = .inr (s, due', p') → ∀ (t n : Nat) (T : cb_Tb) (N : Nat) (fp : List Nat) (vS vP vV vK vR : Nat → Int32) (vN vE : Nat → Int64), t ≤ p' → txt.length < p' + n → N ≤ p' → cy_TA T N vS vP vV vK vR vN vE → cb_TB T N → cb_RY T N s fp → wY_read_11 post n (cb_b due') (nI t) (nI p') yM yD yS (nI N) yF vC vL vS vP vV vK vR vA vB vN vE := by
        intro s due' p' hst t n T N fp vS vP vV vK vR vN vE a1 a2 a3 a4 a5 a6
        have hpt := cb_ts_PT hn hst hPT hpn
        refine ih s due' p' t n T N fp _ _ _ _ _ _ _ ?_ (by omega) a2 a1 hpt.2.2 hpt.1 (cb_ts_NC hst hNC) (fun e => by subst e; exact cb_ts_ne hst) a3 a4 a5 a6
        rw [← hR]; simp only [cb_rt, hst]
      unfold cb_ts at k1 k2
      cases due with
      | false =>
        have hne : c ≠ [] := hNE rfl rfl
        exact cy_af (lim := lim) (c := c) (d := d) hL hn hC ht htp hpn hPT.1.1 hPT.2.1 hsz hne hN hTA hTB hRY hfu k1 k2
      | true => exact cy_bt (lim := lim) (c := c) (d := d) hL hn hC ht htp hpn hD h8 hl2 hPT.1.1 hsz hNC hN hTA hTB hRY hfu k1 k2
    | cons e ro =>
      rcases hPT.1.2.1 with h | ⟨e', h, hc, hit⟩
      · cases h
      obtain ⟨rfl, rfl⟩ : e = e' ∧ ro = [] := by simpa using h
      dsimp only at hc
      subst hc
      have hdue : due = false := by
        cases due with
        | false => rfl
        | true => have := hPT.2.2 rfl; cases this
      subst hdue
      have := cb_RY_nil hRY
      subst this
      have hin := cb_RY_in hRY
      have hlen := hPT.1.2.2
      simp [cb_oo, cb_rsm] at hlen
      simp only [cb_rt] at hR
      obtain ⟨n, rfl⟩ : ∃ k, n = k + 1 := ⟨n - 1, by omega⟩
      refine cy_102 hL hn hC ht htp hpn (by omega) hTA hTB hin.1 hin.2.1 hin.2.2 (br_t rfl (br_f (by decide) ?_))
      rw [hL]
      refine pk_le txt.length p (fun h => ?_) (fun h => ?_)
      · rw [if_neg (by omega)] at hR
        exact K2 e d hR.symm T N _ _ _ _ _ _ _ (by omega) hTA hTB hRY hit (by omega)
      · rw [if_pos h] at hR
        exact K1 _ hR.symm _ _ _ _ _ _ _ _ (by decide)
end cy9
section cya
variable {yM yD yS yN yF : Int32} {vC vL vS vP vV vK vR vA vB : Nat → Int32} {vN vE : Nat → Int64}
theorem cy_rt {post : Int32 → SY → Prop} {lim : Nat} {txt : List Nat} {R : Sum Int32 (List Nat × Bool)} (hL : vL 0 = nI txt.length) (hn : txt.length ≤ 128) (hC : cb_At vC 0 txt) (ht : cb_TX txt) (hD : yD = nI lim) (h8 : lim ≤ 8) (hl2 : 2 ≤ lim)
    (hR : cb_rt txt lim (txt.length + 2) (([], [], false), true, 0) = R)
    (K1 : ∀ r, R = .inl r → ∀ (yN : Int32) (vS vP vV vK vR : Nat → Int32) (vN vE : Nat → Int64), r ≠ 0 → post r (yM, yD, yS, yN, yF, vC, vL, vS, vP, vV, vK, vR, vA, vB, vN, vE))
    (K2 : ∀ e d, R = .inr (e, d) → ∀ (T : cb_Tb) (N : Nat) (vS vP vV vK vR : Nat → Int32) (vN vE : Nat → Int64), N ≤ txt.length → cy_TA T N vS vP vV vK vR vN vE → cb_TB T N → cb_RY T N ([], [e], d) [] → cb_IT lim e → e.length ≤ 128 → post 0 (yM, yD, yS, nI N, yF, vC, vL, vS, vP, vV, vK, vR, vA, vB, vN, vE)) : wpY_read post (yM, yD, yS, yN, yF, vC, vL, vS, vP, vV, vK, vR, vA, vB, vN, vE) :=
  ⟨_, cy_rt_lp (lim := lim) (txt := txt) (R := R) hL hn hC ht hD h8 hl2 K1 K2 (txt.length + 2) ([], [], false) true 0 0 (txt.length + 1) (fun _ => (0, 0, 0, 0, 0, 0, 0)) 0 [] _ _ _ _ _ _ _ hR (by omega) (by omega) (by omega) (by omega) ⟨⟨trivial, Or.inl rfl, by simp [cb_oo, cb_rsm]⟩, (fun f hf => by simp at hf), fun _ => rfl⟩ (fun m num lf ks c' h => by simp at h) (fun h => by cases h) (Nat.le_refl _) (fun i hi => by omega) (fun i hi => by omega) cb_RY_0⟩
end cya
end
section
/-! the shape of complete facts -/
theorem cb_CH_at {T : cb_Tb} {A : Nat → Nat} {E : Nat → List Nat} {q : Nat} : ∀ {ks : List (List Nat)} {r s e i : Nat}, cb_CH T A E q r s e ks → s ≤ i → i < e →
    ∃ t, s ≤ t ∧ t ≤ i ∧ i < A t ∧ A t ≤ e ∧ cb_pa T t = q + 1 ∧ r ≤ cb_ra T t ∧ cb_ra T t < r + ks.length ∧ (cb_ra T t + 1 = r + ks.length → A t = e) ∧ (cb_ra T t + 1 < r + ks.length → A t < e ∧ cb_pa T (A t) = q + 1 ∧ cb_ra T (A t) = cb_ra T t + 1) := by
  intro ks
  induction ks with
  | nil => intro r s e i h h1 h2; have : s = e := h; omega
  | cons k ks ih =>
    intro r s e i h h1 h2
    obtain ⟨g1, g2, g3, g4, g5⟩ := h
    have hle := cb_CH_le g5
    by_cases hi : i < A s
    · refine ⟨s, Nat.le_refl _, h1, hi, hle, g1, by omega, by rw [g2, List.length_cons]; omega, fun hr => ?_, fun hr => ?_⟩
      · cases ks with
        | nil => exact g5
        | cons k2 ks => rw [g2] at hr; simp at hr
      · cases ks with
        | nil => rw [g2] at hr; simp at hr
        | cons k2 ks => exact ⟨by have := g5.2.2.2.1; have := cb_CH_le g5.2.2.2.2; omega, g5.1, by rw [g5.2.1, g2]⟩
    · obtain ⟨t, a1, a2, a3, a4, a5, a6, a7, a8, a9⟩ := ih g5 (by omega) h2
      refine ⟨t, by omega, a2, a3, a4, a5, by omega, by rw [List.length_cons]; omega, fun hr => a8 (by rw [List.length_cons] at hr; omega), fun hr => a9 (by rw [List.length_cons] at hr; omega)⟩
section cb2
variable {T : cb_Tb} {A : Nat → Nat} {E : Nat → List Nat} {N : Nat}
theorem cb_LC_gt {i : Nat} (h : cb_LC T A E N i) : i < A i ∧ A i ≤ N := by
  obtain ⟨ks, g1, _, _, _, g5, _⟩ := h
  have := cb_CH_le g1
  omega
theorem cb_up (h : ∀ i, i < N → cb_LC T A E N i) : ∀ (n q i : Nat), A q - q ≤ n → q < N → q < i → i < A q →
    ∃ q', q ≤ q' ∧ q' < i ∧ i < A q' ∧ A q' ≤ A q ∧ cb_pa T i = q' + 1 ∧ cb_ra T i < cb_ki T q' ∧ A i ≤ A q' ∧ (cb_ra T i + 1 = cb_ki T q' → A i = A q') ∧ (cb_ra T i + 1 < cb_ki T q' → A i < A q' ∧ cb_pa T (A i) = q' + 1 ∧ cb_ra T (A i) = cb_ra T i + 1) := by
  intro n
  induction n with
  | zero => intro q i h1 h2 h3 h4; omega
  | succ n ih =>
    intro q i h1 h2 h3 h4
    obtain ⟨ks, g1, g2, g3, g4, g5, g6⟩ := h q h2
    obtain ⟨t, a1, a2, a3, a4, a5, a6, a7, a8, a9⟩ := cb_CH_at g1 (by omega) h4
    rw [Nat.zero_add, ← g2] at a7 a8 a9
    by_cases e : t = i
    · subst e
      exact ⟨q, Nat.le_refl _, h3, h4, Nat.le_refl _, a5, a7, a4, a8, a9⟩
    · obtain ⟨q', b1, b2, b3, b4, b5⟩ := ih t i (by omega) (by omega) (by omega) a3
      exact ⟨q', by omega, b2, b3, by omega, b5⟩
theorem cb_in (h : ∀ i, i < N → cb_LC T A E N i) {q i : Nat} (hq : q < N) (h1 : q < i) (h2 : i < A q) : q + 1 ≤ cb_pa T i ∧ A i ≤ A q := by
  obtain ⟨q', a1, a2, a3, a4, a5, a6, a7, a8, a9⟩ := cb_up h (A q - q) q i (Nat.le_refl _) hq h1 h2
  omega
theorem cb_out (h : ∀ i, i < N → cb_LC T A E N i) (h0 : A 0 = N) : ∀ (n i : Nat), i ≤ n → i < N → A i < N → cb_pa T (A i) ≤ i := by
  intro n
  induction n with
  | zero => intro i h1 h2 h3; have : i = 0 := by omega
            subst this; omega
  | succ n ih =>
    intro i h1 h2 h3
    by_cases hi : i = 0
    · subst hi; omega
    obtain ⟨q', a1, a2, a3, a4, a5, a6, a7, a8, a9⟩ := cb_up h (A 0 - 0) 0 i (Nat.le_refl _) (by omega) (by omega) (by omega)
    by_cases e : cb_ra T i + 1 = cb_ki T q'
    · have := ih q' (by omega) (by omega) (by rw [← a8 e]; exact h3)
      rw [a8 e]; omega
    · have := (a9 (by omega)).2.1; omega
def cb_nl (T : cb_Tb) (i : Nat) : List Nat := cb_nh (cb_so T i) (cb_nu T i) (cb_ki T i)
def cb_sl (T : cb_Tb) : Nat → Nat
  | 0 => 0
  | i + 1 => cb_sl T i + (cb_nl T i).length
def cb_r2 (T : cb_Tb) : Nat → List Nat
  | 0 => []
  | i + 1 => cb_r2 T i ++ cb_nl T i
theorem cb_r2_len : ∀ i, (cb_r2 T i).length = cb_sl T i := by
  intro i
  induction i with
  | zero => rfl
  | succ i ih => simp [cb_r2, cb_sl, ih]
theorem cb_sl_mo : ∀ {i j : Nat}, i ≤ j → cb_sl T i ≤ cb_sl T j := by
  intro i j h
  induction j with
  | zero => have : i = 0 := by omega
            subst this; exact Nat.le_refl _
  | succ j ih =>
    by_cases e : i = j + 1
    · subst e; exact Nat.le_refl _
    · have := ih (by omega); simp only [cb_sl]; omega
theorem cb_nh_pos (m num k : Nat) : 0 < (cb_nh m num k).length := by
  unfold cb_nh; split
  · simp
  · simp [cb_hd]
theorem cb_sl_st {i j : Nat} (h : i < j) : cb_sl T i < cb_sl T j := by
  have h1 : cb_sl T (i + 1) ≤ cb_sl T j := cb_sl_mo h
  have h2 := cb_nh_pos (cb_so T i) (cb_nu T i) (cb_ki T i)
  simp only [cb_sl, cb_nl] at h1
  omega
theorem cb_CH_sl {q : Nat} : ∀ {ks : List (List Nat)} {r s e : Nat}, cb_CH T A E q r s e ks → (∀ c, s ≤ c → c < e → cb_sl T (A c) = cb_sl T c + (E c).length) → cb_sl T e = cb_sl T s + ks.flatten.length := by
  intro ks
  induction ks with
  | nil => intro r s e h _; have : s = e := h; subst this; rfl
  | cons k ks ih =>
    intro r s e h hc
    obtain ⟨g1, g2, g3, g4, g5⟩ := h
    have hle := cb_CH_le g5
    rw [ih g5 (fun c h1 h2 => hc c (by omega) h2), hc s (Nat.le_refl _) (by omega), g3, List.flatten_cons, List.length_append]
    omega
theorem cb_sl_A (h : ∀ i, i < N → cb_LC T A E N i) : ∀ (n i : Nat), A i - i ≤ n → i < N → cb_sl T (A i) = cb_sl T i + (E i).length := by
  intro n
  induction n with
  | zero => intro i h1 h2; have := cb_LC_gt (h i h2); omega
  | succ n ih =>
    intro i h1 h2
    have h3 := cb_LC_gt (h i h2)
    obtain ⟨ks, g1, g2, g3, g4, g5, g6⟩ := h i h2
    have := cb_CH_sl g1 fun c hc1 hc2 => ih c (by have := (cb_in h h2 (show i < c by omega) hc2).2; omega) (by omega)
    rw [this, g4]
    unfold cb_nE
    rw [List.length_append, cb_bd_len]
    simp only [cb_sl, cb_nl]
    rw [g2]; omega
/-! the children in pairs -/
theorem cb_CH_pr {q : Nat} : ∀ (ks : List (List Nat)) (r s e : Nat), cb_CH T A E q r s e ks → r % 2 = 0 → ks.length % 2 = 0 → ∀ p ∈ cb_mp ks, ∃ c, s ≤ c ∧ A (A c) ≤ e ∧ c < A c ∧ A c < A (A c) ∧ cb_pa T c = q + 1 ∧ cb_ra T c % 2 = 0 ∧ p = (E c, E (A c))
  | [], _, _, _, _, _, _, p, hp => by simp [cb_mp] at hp
  | [_], _, _, _, _, _, hl, _, _ => by simp at hl
  | a :: b :: ks, r, s, e, h, hr, hl, p, hp => by
    obtain ⟨g1, g2, g3, g4, g5, g6, g7, g8, g9⟩ := h
    have hle := cb_CH_le g9
    simp only [cb_mp, List.mem_cons] at hp
    rcases hp with rfl | hp
    · exact ⟨s, Nat.le_refl _, hle, g4, g8, g1, by omega, by rw [g3, g7]⟩
    · obtain ⟨c, b1, b2⟩ := cb_CH_pr ks (r + 1 + 1) (A (A s)) e g9 (by omega) (by simp at hl; omega) p hp
      exact ⟨c, by omega, b2⟩
/-- a key is a child of even rank -/
theorem cb_CH_ky {q : Nat} {M : Nat} (hin : ∀ c t, c < M → cb_pa T c = q + 1 → c < t → t < A c → cb_pa T t ≠ q + 1) : ∀ (ks : List (List Nat)) (r s e : Nat), cb_CH T A E q r s e ks → e ≤ M → r % 2 = 0 → ks.length % 2 = 0 → ∀ c, s ≤ c → c < e → cb_pa T c = q + 1 → cb_ra T c % 2 = 0 → (E c, E (A c)) ∈ cb_mp ks ∧ c < A c ∧ A c < A (A c) ∧ A (A c) ≤ e
  | [], _, s, e, h, _, _, _, c, h1, h2, _, _ => by have : s = e := h; omega
  | [_], _, _, _, _, _, _, hl, _, _, _, _, _ => by simp at hl
  | a :: b :: ks, r, s, e, h, heM, hr, hl, c, h1, h2, h3, h4 => by
    obtain ⟨g1, g2, g3, g4, g5, g6, g7, g8, g9⟩ := h
    have hle := cb_CH_le g9
    by_cases e1 : c = s
    · subst e1
      exact ⟨by simp [cb_mp, g3, g7], g4, g8, hle⟩
    · by_cases e2 : c < A s
      · exact absurd h3 (hin s c (by omega) g1 (by omega) e2)
      · by_cases e3 : c = A s
        · subst e3; omega
        · by_cases e4 : c < A (A s)
          · exact absurd h3 (hin (A s) c (by omega) g5 (by omega) e4)
          · have := cb_CH_ky hin ks (r + 1 + 1) (A (A s)) e g9 heM (by omega) (by simp at hl; omega) c (by omega) h2 h3 h4
            exact ⟨by simp [cb_mp, this.1], this.2⟩
def cb_sm (f : Nat → Nat) (a : Nat) : Nat → Nat
  | 0 => 0
  | n + 1 => cb_sm f a n + f (a + n)
theorem cb_sm_ap (f : Nat → Nat) (a n : Nat) : ∀ m, cb_sm f a (n + m) = cb_sm f a n + cb_sm f (a + n) m := by
  intro m
  induction m with
  | zero => rfl
  | succ m ih => rw [← Nat.add_assoc]; simp only [cb_sm]; rw [ih, Nat.add_assoc a]; omega
theorem cb_sm_z {f : Nat → Nat} {a : Nat} : ∀ {n : Nat}, (∀ i, a ≤ i → i < a + n → f i = 0) → cb_sm f a n = 0 := by
  intro n
  induction n with
  | zero => intro _; rfl
  | succ n ih => intro h; simp only [cb_sm]; rw [ih (fun i h1 h2 => h i h1 (by omega)), h (a + n) (by omega) (by omega)]
theorem cb_sm_1 {f : Nat → Nat} {a : Nat} {n : Nat} (hn : 0 < n) (h : ∀ i, a < i → i < a + n → f i = 0) : cb_sm f a n = f a := by
  obtain ⟨m, rfl⟩ : ∃ m, n = 1 + m := ⟨n - 1, by omega⟩
  have z : cb_sm f (a + 1) m = 0 := cb_sm_z (fun i h1 h2 => h i (by omega) (by omega))
  rw [cb_sm_ap, z]
  simp [cb_sm]
/-- what key d adds to the place of key k -/
def cb_fk (T : cb_Tb) (A : Nat → Nat) (E : Nat → List Nat) (q : Nat) (k : List Nat) (d : Nat) : Nat := if cb_pa T d = q + 1 ∧ cb_ra T d % 2 = 0 ∧ cb_lt (E d) k = true then (E d).length + (E (A d)).length else 0
theorem cb_CH_sm {q : Nat} {k : List Nat} {M : Nat} (hin : ∀ c t, c < M → cb_pa T c = q + 1 → c < t → t < A c → cb_pa T t ≠ q + 1) : ∀ (ks : List (List Nat)) (r s e : Nat), cb_CH T A E q r s e ks → e ≤ M → r % 2 = 0 → ks.length % 2 = 0 → cb_sm (cb_fk T A E q k) s (e - s) = cb_of (cb_mp ks) k
  | [], _, s, e, h, _, _, _ => by have : s = e := h; subst this; rw [Nat.sub_self]; rfl
  | [_], _, _, _, _, _, _, hl => by simp at hl
  | a :: b :: ks, r, s, e, h, heM, hr, hl => by
    obtain ⟨g1, g2, g3, g4, g5, g6, g7, g8, g9⟩ := h
    have hle := cb_CH_le g9
    have ih := cb_CH_sm (k := k) hin ks (r + 1 + 1) (A (A s)) e g9 heM (by omega) (by simp at hl; omega)
    rw [show e - s = (A s - s) + ((A (A s) - A s) + (e - A (A s))) by omega, cb_sm_ap, cb_sm_ap, show s + (A s - s) = A s by omega, show A s + (A (A s) - A s) = A (A s) by omega, ih]
    have z : ∀ c d, c < M → cb_pa T c = q + 1 → c < d → d < A c → cb_fk T A E q k d = 0 := fun c d h0 h1 h2 h3 => if_neg (fun h => hin c d h0 h1 h2 h3 h.1)
    rw [cb_sm_1 (by omega) (fun i h1 h2 => z s i (by omega) g1 h1 (by omega)), cb_sm_1 (by omega) (fun i h1 h2 => z (A s) i (by omega) g5 h1 (by omega))]
    have e2 : cb_fk T A E q k (A s) = 0 := if_neg (fun h => by have := h.2.1; omega)
    rw [e2, Nat.zero_add]
    unfold cb_of
    simp only [cb_mp, List.map_cons, List.sum_cons]
    congr 1
    unfold cb_fk cb_ps
    rw [g3, g7]
    by_cases hlt : cb_lt a k = true
    · rw [if_pos ⟨g1, by omega, hlt⟩, if_pos hlt]
    · rw [if_neg (fun h => hlt h.2.2), if_neg hlt]
/-- no two keys are equal -/
theorem cb_CH_nd {q : Nat} {M : Nat} (hin : ∀ c t, c < M → cb_pa T c = q + 1 → c < t → t < A c → cb_pa T t ≠ q + 1) : ∀ (ks : List (List Nat)) (r s e : Nat), cb_CH T A E q r s e ks → e ≤ M → r % 2 = 0 → ks.length % 2 = 0 →
    (((cb_mp ks).map (·.1)).Nodup ↔ ∀ c d, s ≤ c → c < e → s ≤ d → d < e → cb_pa T c = q + 1 → cb_ra T c % 2 = 0 → cb_pa T d = q + 1 → cb_ra T d % 2 = 0 → E c = E d → c = d)
  | [], _, s, e, h, _, _, _ => by have : s = e := h; subst this; simp [cb_mp]; omega
  | [_], _, _, _, _, _, _, hl => by simp at hl
  | a :: b :: ks, r, s, e, h, heM, hr, hl => by
    have h0 := h
    obtain ⟨g1, g2, g3, g4, g5, g6, g7, g8, g9⟩ := h
    have hle := cb_CH_le g9
    have hl' : ks.length % 2 = 0 := by simp at hl; omega
    have ih := cb_CH_nd hin ks (r + 1 + 1) (A (A s)) e g9 heM (by omega) hl'
    simp only [cb_mp, List.map_cons, List.nodup_cons]
    rw [ih]
    have loc : ∀ c, s ≤ c → c < e → cb_pa T c = q + 1 → cb_ra T c % 2 = 0 → c = s ∨ A (A s) ≤ c := by
      intro c h1 h2 h3 h4
      by_cases e1 : c = s
      · exact Or.inl e1
      · by_cases e2 : c < A s
        · exact absurd h3 (hin s c (by omega) g1 (by omega) e2)
        · by_cases e3 : c = A s
          · subst e3; omega
          · by_cases e4 : c < A (A s)
            · exact absurd h3 (hin (A s) c (by omega) g5 (by omega) e4)
            · exact Or.inr (by omega)
    constructor
    · rintro ⟨hn, hr'⟩ c d hc1 hc2 hd1 hd2 c3 c4 d3 d4 he
      have nm : ∀ x, A (A s) ≤ x → x < e → cb_pa T x = q + 1 → cb_ra T x % 2 = 0 → E x ≠ a := fun x x1 x2 x3 x4 ha => by
        have := (cb_CH_ky hin ks (r + 1 + 1) (A (A s)) e g9 heM (by omega) hl' x x1 x2 x3 x4).1
        exact hn (List.mem_map.mpr ⟨_, this, ha⟩)
      rcases loc c hc1 hc2 c3 c4 with rfl | hc
      · rcases loc d hd1 hd2 d3 d4 with rfl | hd
        · rfl
        · exact absurd (he.symm.trans g3) (nm d hd hd2 d3 d4)
      · rcases loc d hd1 hd2 d3 d4 with rfl | hd
        · exact absurd (he.trans g3) (nm c hc hc2 c3 c4)
        · exact hr' c d hc hc2 hd hd2 c3 c4 d3 d4 he
    · intro hall
      refine ⟨fun hm => ?_, fun c d hc1 hc2 hd1 hd2 c3 c4 d3 d4 he => hall c d (by omega) hc2 (by omega) hd2 c3 c4 d3 d4 he⟩
      obtain ⟨p, hp, hpa⟩ := List.mem_map.mp hm
      obtain ⟨c, b1, b2, b3, b4, b5, b6, b7⟩ := cb_CH_pr ks (r + 1 + 1) (A (A s)) e g9 (by omega) hl' p hp
      have hEc : E c = a := by rw [b7] at hpa; exact hpa
      have := hall s c (Nat.le_refl _) (by omega) (by omega) (by omega) g1 (by omega) b5 b6 (by rw [g3, hEc])
      omega
end cb2
end
section
/-! Y: canonical, the heads as read -/
def cy_WK (vC0 vL0 vC vL : Nat → Int32) (W : List Nat) : Prop := cb_At vC 768 W ∧ vL 6 = nI W.length ∧ (∀ j, j < 768 → vC j = vC0 j) ∧ (∀ j, j ≠ 6 → vL j = vL0 j)
section cyb
variable {yM yD yS yN yF : Int32} {vC vL vS vP vV vK vR vA vB : Nat → Int32} {vN vE : Nat → Int64}
theorem cy_put {post : Int32 → SY → Prop} {pl n : Nat} {p0 x : Int32} (hpl : p0 + 2 = nI pl) (hp8 : pl < 8) (hL : vL pl = nI n) (hn : n < 128) (K : post 0 (yM, yD, yS, yN, yF, upd vC (pl * 128 + n) x, upd vL pl (nI (n + 1)), vS, vP, vV, vK, vR, vA, vB, vN, vE)) : wpY_put post (yM, yD, yS, yN, yF, vC, vL, vS, vP, vV, vK, vR, vA, vB, vN, vE) p0 x := by
  have hin : vp_in (p0 + 2) 8 := by rw [hpl]; exact vp_in_nI hp8 (by omega)
  refine ⟨hin, ?_⟩
  rw [hpl, nI_clamp (by omega), hL]
  rw [hpl] at hin
  refine br_f (nI_ge (b := 128) hn (by omega)) ⟨hin, hin, nm_e ?_⟩
  rw [show (128 : Int32) = nI 128 from rfl, pk_mul, nI_add, nI_1]
  refine ⟨vp_in_nI (by omega) (by omega), nm_e ?_⟩
  rw [nI_clamp (by omega)]
  exact K
theorem cy_pw {post : Int32 → SY → Prop} {vC0 vL0 : Nat → Int32} {W : List Nat} {x : Nat} (h : cy_WK vC0 vL0 vC vL W) (hn : W.length < 128) (K : ∀ vC vL : Nat → Int32, cy_WK vC0 vL0 vC vL (W ++ [x]) → post 0 (yM, yD, yS, yN, yF, vC, vL, vS, vP, vV, vK, vR, vA, vB, vN, vE)) : wpY_put post (yM, yD, yS, yN, yF, vC, vL, vS, vP, vV, vK, vR, vA, vB, vN, vE) 4 (nI x) := by
  obtain ⟨h1, h2, h3, h4⟩ := h
  refine cy_put (pl := 6) (by decide) (by omega) h2 hn (K _ _ ⟨cb_At_snoc h1, by rw [pk_us]; simp, fun j hj => by rw [pk_un (by omega)]; exact h3 j hj, fun j hj => by rw [pk_un hj]; exact h4 j hj⟩)
end cyb
section cyc
variable {yM yD yS yF : Int32} {vS vP vV vK vR vB : Nat → Int32} {vN vE : Nat → Int64}
theorem cy_224 {post : Int32 → SY → Prop} {J : Int32 → Int32 → Int32 → Int32 → Int32 → Int32 → (Nat → Int32) → (Nat → Int32) → (Nat → Int32) → (Nat → Int32) → (Nat → Int32) → (Nat → Int32) → (Nat → Int32) → (Nat → Int32) → (Nat → Int32) → (Nat → Int64) → (Nat → Int64) → Prop}
    {T : cb_Tb} {N i a : Nat} {vC vL vA0 : Nat → Int32} (hN : N ≤ 128) (hi : i < N) (hTA : cy_TA T N vS vP vV vK vR vN vE) (hTB : cb_TB T N) (ha : i < a) (haN : a ≤ N) (h1 : ∀ j, i < j → j < a → i + 1 ≤ cb_pa T j) (h2 : a < N → cb_pa T a ≤ i)
    (K : ∀ vA : Nat → Int32, vA i = nI a → (∀ j, j ≠ i → vA j = vA0 j) → J (nI (i + 1)) yM yD yS (nI N) yF vC vL vS vP vV vK vR vA vB vN vE) :
    ∀ d j n (vA : Nat → Int32), j + d = a → i < j → d < n → vA i = nI j → (∀ j, j ≠ i → vA j = vA0 j) → wY_canonical_224 post J (nI i) yM yD yS (nI N) yF n (nI j) vC vL vS vP vV vK vR vA vB vN vE := by
  intro d
  induction d with
  | zero =>
    intro j n vA hj hij hn hA hAo
    obtain ⟨n, rfl⟩ : ∃ k, n = k + 1 := ⟨n - 1, by omega⟩
    have e : j = a := by omega
    subst e
    have fin := K vA hA hAo
    refine pk_le N j (fun e => nm_r (nI_1 _) fin) (fun e => ⟨vp_in_nI (by omega) (by omega), br_t ?_ (nm_r (nI_1 _) fin)⟩)
    obtain ⟨b1, b2, b3, b4, b5, b6, b7⟩ := hTB j e
    rw [nI_clamp (by omega), (hTA j e).2.1, cb_I_lt (by omega) (by omega)]
    have := h2 e; omega
  | succ d ih =>
    intro j n vA hj hij hn hA hAo
    obtain ⟨n, rfl⟩ : ∃ k, n = k + 1 := ⟨n - 1, by omega⟩
    refine br_f (nI_ge (by omega) (by omega)) ⟨vp_in_nI (by omega) (by omega), br_f ?_ ⟨vp_in_nI (by omega) (by omega), nm_e (nm_r (nI_1 _) ?_)⟩⟩
    · obtain ⟨b1, b2, b3, b4, b5, b6, b7⟩ := hTB j (by omega)
      rw [nI_clamp (by omega), (hTA j (by omega)).2.1, cb_I_lt (by omega) (by omega)]
      have := h1 j hij (by omega); omega
    · rw [nI_clamp (by omega), nI_1]
      exact ih (j + 1) n _ (by omega) (by omega) (by omega) pk_us (fun j' hj' => by rw [pk_un hj']; exact hAo j' hj')
theorem cy_190 {post : Int32 → SY → Prop} {J : Int32 → Int32 → Int32 → Int32 → Int32 → Int32 → (Nat → Int32) → (Nat → Int32) → (Nat → Int32) → (Nat → Int32) → (Nat → Int32) → (Nat → Int32) → (Nat → Int32) → (Nat → Int32) → (Nat → Int32) → (Nat → Int64) → (Nat → Int64) → Prop}
    {v i : Nat} {yN : Int32} {vC0 vL0 vA : Nat → Int32} (hv : v < 2 ^ 32) (hi : i < 128) {W' : List Nat} (hW' : W'.length ≤ 128)
    (K : ∀ vC vL : Nat → Int32, cy_WK vC0 vL0 vC vL W' → ∃ n224 : Nat, wY_canonical_224 post J (nI i) yM yD yS yN yF n224 (nI (i + 1)) vC vL vS vP vV vK vR vA vB vN vE) :
    ∀ (k : Nat) (W : List Nat) (n : Nat) (vC vL : Nat → Int32), W ++ cb_bs v k = W' → k ≤ 4 → k < n → cy_WK vC0 vL0 vC vL W → wY_canonical_190 post J (nI i) (lN v) n (cb_I k) yM yD yS yN yF vC vL vS vP vV vK vR vA vB vN vE := by
  intro k
  induction k with
  | zero =>
    intro W n vC vL hW hk hn hK
    obtain ⟨n, rfl⟩ : ∃ k, n = k + 1 := ⟨n - 1, by omega⟩
    have : W = W' := by simpa [cb_bs] using hW
    subst this
    exact br_t (by decide) (nm_r (nI_1 _) (K vC vL hK))
  | succ k ih =>
    intro W n vC vL hW hk hn hK
    obtain ⟨n, rfl⟩ : ∃ k, n = k + 1 := ⟨n - 1, by omega⟩
    rw [cb_Is]
    refine br_f (nI_pos (by omega)) ?_
    have hval : ((lN v >>> ((8 * nI k).toInt64 &&& 63)).toInt32) &&& 255 = nI (v / 256 ^ k % 256) := by
      rw [show (8 : Int32) = nI 8 from rfl, pk_mul, wb_c _ (by omega), pf_shr (d := 8 * k) ?_ (by omega), lN_i]
      · have hle : v / 2 ^ (8 * k) ≤ v := Nat.div_le_self _ _
        rw [pk_andN (by omega) 8 cb_m255, Nat.pow_mul]
      · rw [wb_tb, wb_sm _ (by omega), BitVec.toNat_ofNat]; omega
    rw [hval]
    have hlen : W.length < 128 := by have := congrArg List.length hW; simp [cb_bs] at this; omega
    refine cy_pw hK hlen fun vC vL hK' => nm_r (e' := cb_I k) (by show nI k + (-1) = nI k - 1; rw [Int32.sub_eq_add_neg]) ?_
    exact ih (W ++ [v / 256 ^ k % 256]) n vC vL (by rw [← hW]; simp [cb_bs]) (by omega) (by omega) hK'
theorem cy_112 {post : Int32 → SY → Prop} {J : Int32 → Int32 → Int32 → Int32 → Int32 → Int32 → (Nat → Int32) → (Nat → Int32) → (Nat → Int32) → (Nat → Int32) → (Nat → Int32) → (Nat → Int32) → (Nat → Int32) → (Nat → Int32) → (Nat → Int32) → (Nat → Int64) → (Nat → Int64) → Prop}
    {T : cb_Tb} {N i a m v : Nat} {W hl : List Nat} {vC vL vC0 vL0 vA0 vB0 : Nat → Int32} (hN : N ≤ 128) (hi : i < N) (hTA : cy_TA T N vS vP vV vK vR vN vE) (hTB : cb_TB T N) (ha : i < a) (haN : a ≤ N) (h1 : ∀ j, i < j → j < a → i + 1 ≤ cb_pa T j) (h2 : a < N → cb_pa T a ≤ i) (hv : v < 2 ^ 32)
    (hm : m ≤ 8) (hhl : hl = if m = 8 then [v] else cb_hd m v) (hW : (W ++ hl).length ≤ 128) (hK : cy_WK vC0 vL0 vC vL W)
    (K : ∀ vC vL vA vB : Nat → Int32, cy_WK vC0 vL0 vC vL (W ++ hl) → vA i = nI a → (∀ j, j ≠ i → vA j = vA0 j) → vB i = nI W.length → (∀ j, j ≠ i → vB j = vB0 j) → J (nI (i + 1)) yM yD yS (nI N) yF vC vL vS vP vV vK vR vA vB vN vE) :
    wY_canonical_68 post J (nI i) (nI m) (lN v) yM yD yS (nI N) yF vC vL vS vP vV vK vR vA0 vB0 vN vE := by
  have hlen : W.length < 128 := by
    have : 0 < hl.length := by rw [hhl]; split <;> simp [cb_hd]
    rw [List.length_append] at hW; omega
  -- the rest behind the first byte of the head
  have rest : ∀ (x w : Nat), hl = x :: cb_bs v w → w ≤ 4 → ∀ vA vB : Nat → Int32, vA i = nI (i + 1) → (∀ j, j ≠ i → vA j = vA0 j) → vB i = nI W.length → (∀ j, j ≠ i → vB j = vB0 j) →
      wY_canonical_180 post J (nI i) (lN v) (nI w) (nI x) 4 yM yD yS (nI N) yF vC vL vS vP vV vK vR vA vB vN vE := by
    intro x w hx hw vA vB hA hAo hB hBo
    refine cy_pw hK hlen fun vC vL hK' => nm_r (e' := cb_I w) rfl ?_
    refine ⟨w + 1, cy_190 (vC0 := vC0) (vL0 := vL0) hv (by omega) hW (fun vC vL hK'' => ?_) w (W ++ [x]) (w + 1) vC vL (by rw [hx]; simp) hw (by omega) hK'⟩
    exact ⟨a - (i + 1) + 1, cy_224 (vA0 := vA0) hN hi hTA hTB ha haN h1 h2 (fun vA' hA' hAo' => K vC vL vA' vB hK'' hA' hAo' hB hBo) (a - (i + 1)) (i + 1) (a - (i + 1) + 1) vA (by omega) (by omega) (by omega) hA hAo⟩
  have h112 : ∀ w, w ≤ 4 → (m = 8 → hl = v :: cb_bs v w) → (m ≠ 8 → hl = (32 * m + (if w = 0 then v else if w = 4 then 26 else 23 + w)) :: cb_bs v w) → wY_canonical_112 post J (nI i) (nI m) (lN v) (nI w) yM yD yS (nI N) yF vC vL vS vP vV vK vR vA0 vB0 vN vE := by
    intro w hw e8 en8
    refine ⟨vp_in_nI (by omega) (by omega), nm_e ⟨vp_in_nI (by omega) (by omega), nm_e ?_⟩⟩
    rw [nI_clamp (by omega), hK.2.1, nI_1]
    have q1 : upd vA0 i (nI (i + 1)) i = nI (i + 1) := pk_us
    have q2 : ∀ j, j ≠ i → upd vA0 i (nI (i + 1)) j = vA0 j := fun j hj => pk_un hj
    have q3 : upd vB0 i (nI W.length) i = nI W.length := pk_us
    have q4 : ∀ j, j ≠ i → upd vB0 i (nI W.length) j = vB0 j := fun j hj => pk_un hj
    refine pk_eq m 8 (fun e => ?_) (fun e => ?_)
    · rw [lN_i]; exact rest v w (e8 e) hw _ _ q1 q2 q3 q4
    · have en := en8 e
      refine pk_eq w 0 (fun e0 => ?_) (fun e0 => pk_eq w 4 (fun e4 => ?_) (fun e4 => ?_))
      · rw [if_pos e0] at en
        unfold wY_canonical_179
        rw [lN_i, show (32 : Int32) = nI 32 from rfl, pk_mul, nI_add]
        exact rest _ w en hw _ _ q1 q2 q3 q4
      · rw [if_neg e0, if_pos e4] at en
        unfold wY_canonical_179
        rw [show (32 : Int32) = nI 32 from rfl, pk_mul, show (26 : Int32) = nI 26 from rfl, nI_add]
        exact rest _ w en hw _ _ q1 q2 q3 q4
      · rw [if_neg e0, if_neg e4] at en
        unfold wY_canonical_179
        rw [show (32 : Int32) = nI 32 from rfl, pk_mul, show (23 : Int32) = nI 23 from rfl, nI_add, nI_add]
        exact rest _ w en hw _ _ q1 q2 q3 q4
  have eh : m ≠ 8 → hl = (32 * m + cb_inf v) :: cb_bs v (cb_ext v) := fun h => by rw [hhl, if_neg h]; rfl
  refine pk_eq m 8 (fun e => ?_) (fun e => ?_)
  · exact h112 0 (by omega) (fun _ => by rw [hhl, if_pos e]; rfl) (fun h => absurd e h)
  · have e' := eh e
    unfold cb_inf cb_ext at e'
    refine cb_lle 24 v (fun g1 => cb_lle 256 v (fun g2 => cb_lle 65536 v (fun g3 => ?_) (fun g3 => ?_)) (fun g2 => ?_)) (fun g1 => ?_)
    · simp only [if_neg (show ¬ v < 24 by omega), if_neg (show ¬ v < 256 by omega), if_neg (show ¬ v < 65536 by omega)] at e'
      exact h112 4 (by omega) (fun h => absurd h e) (fun _ => e')
    · simp only [if_neg (show ¬ v < 24 by omega), if_neg (show ¬ v < 256 by omega), if_pos g3] at e'
      exact h112 2 (by omega) (fun h => absurd h e) (fun _ => e')
    · simp only [if_neg (show ¬ v < 24 by omega), if_pos g2] at e'
      exact h112 1 (by omega) (fun h => absurd h e) (fun _ => e')
    · simp only [if_pos g1] at e'
      exact h112 0 (by omega) (fun h => absurd h e) (fun _ => e')
theorem cy_10 {post : Int32 → SY → Prop} {T : cb_Tb} {A : Nat → Nat} {E : Nat → List Nat} {N : Nat} {vC0 vL0 : Nat → Int32} (hN : N ≤ 128) (hTA : cy_TA T N vS vP vV vK vR vN vE) (hTB : cb_TB T N) (hLC : ∀ i, i < N → cb_LC T A E N i) (hA0 : A 0 = N) (hL : cb_sl T N ≤ 128)
    (K : ∀ vC vL vA vB : Nat → Int32, cy_WK vC0 vL0 vC vL (cb_r2 T N) → (∀ j, j < N → vA j = nI (A j)) → (∀ j, j ≤ N → vB j = nI (cb_sl T j)) → ∃ n289 : Nat, wY_canonical_289 post yM yD yS (nI N) yF n289 (cb_I N) vC vL vS vP vV vK vR vA vB vN vE) :
    ∀ d i n (vC vL vA vB : Nat → Int32), i + d = N → d < n → cy_WK vC0 vL0 vC vL (cb_r2 T i) → (∀ j, j < i → vA j = nI (A j)) → (∀ j, j < i → vB j = nI (cb_sl T j)) → wY_canonical_10 post n (nI i) yM yD yS (nI N) yF vC vL vS vP vV vK vR vA vB vN vE := by
  intro d
  induction d with
  | zero =>
    intro i n vC vL vA vB hi hn hK hA hB
    obtain ⟨n, rfl⟩ : ∃ k, n = k + 1 := ⟨n - 1, by omega⟩
    have e : i = N := by omega
    subst e
    refine br_t (nI_le (Nat.le_refl _) (by omega)) ⟨vp_in_nI (by omega) (by omega), nm_e (nm_r (e' := cb_I i) rfl ?_)⟩
    rw [nI_clamp (by omega), hK.2.1, cb_r2_len]
    refine K vC vL vA _ hK hA fun j hj => ?_
    by_cases e : j = i
    · subst e; rw [pk_us]
    · rw [pk_un e]; exact hB j (by omega)
  | succ d ih =>
    intro i n vC vL vA vB hi hn hK hA hB
    obtain ⟨n, rfl⟩ : ∃ k, n = k + 1 := ⟨n - 1, by omega⟩
    have hiN : i < N := by omega
    obtain ⟨t1, t2, t3, t4, t5, t6, t7⟩ := hTA i hiN
    obtain ⟨b1, b2, b3, b4, b5, b6, b7⟩ := hTB i hiN
    have hgt := cb_LC_gt (hLC i hiN)
    have hsl : cb_sl T (i + 1) ≤ cb_sl T N := cb_sl_mo (by omega)
    have go : ∀ v, v < 2 ^ 32 → cb_nl T i = (if cb_so T i = 8 then [v] else cb_hd (cb_so T i) v) → wY_canonical_68 post (wY_canonical_10 post n) (nI i) (nI (cb_so T i)) (lN v) yM yD yS (nI N) yF vC vL vS vP vV vK vR vA vB vN vE := by
      intro v hv hhl
      refine cy_112 (a := A i) (hl := cb_nl T i) (vC0 := vC0) (vL0 := vL0) hN hiN hTA hTB hgt.1 hgt.2 (fun j h1 h2 => (cb_in hLC hiN h1 h2).1) (fun h => cb_out hLC hA0 i i (Nat.le_refl _) hiN h) hv b1.1 hhl ?_ hK ?_
      · rw [List.length_append, cb_r2_len]; simp only [cb_sl] at hsl; omega
      · intro vC vL vA' vB' hK' hA' hAo hB' hBo
        refine ih (i + 1) n vC vL vA' vB' (by omega) (by omega) hK' (fun j hj => ?_) (fun j hj => ?_)
        · by_cases e : j = i
          · subst e; exact hA'
          · rw [hAo j e]; exact hA j (by omega)
        · by_cases e : j = i
          · subst e; rw [hB', cb_r2_len]
          · rw [hBo j e]; exact hB j (by omega)
    refine br_f (nI_ge (by omega) (by omega)) ⟨vp_in_nI (by omega) (by omega), ?_⟩
    rw [nI_clamp (by omega), t1]
    have enl : cb_nl T i = if cb_so T i = 8 then [cb_nu T i] else cb_hd (cb_so T i) (if cb_so T i = 2 ∨ cb_so T i = 4 then cb_ki T i else if cb_so T i = 5 then cb_ki T i / 2 else cb_nu T i) := rfl
    have h35 : (cb_so T i = 2 ∨ cb_so T i = 4) → wY_canonical_35 post (wY_canonical_10 post n) (nI i) (nI (cb_so T i)) yM yD yS (nI N) yF vC vL vS vP vV vK vR vA vB vN vE := by
      intro h
      refine ⟨vp_in_nI (by omega) (by omega), ?_⟩
      rw [nI_clamp (by omega), t4, cb_lI (by omega)]
      refine go _ (by omega) ?_
      have h8 : ¬ cb_so T i = 8 := by omega
      rw [enl, if_neg h8, if_neg h8, if_pos h]
    refine nm_e (pk_eq (cb_so T i) 2 (fun e => h35 (by omega)) (fun e2 => pk_eq (cb_so T i) 4 (fun e => h35 (by omega)) (fun e4 => pk_eq (cb_so T i) 5 (fun e5 => ⟨vp_in_nI (by omega) (by omega), by decide, ?_⟩) (fun e5 => ⟨vp_in_nI (by omega) (by omega), ?_⟩))))
    · rw [t4, show (2 : Int32) = nI 2 from rfl, pk_div (by omega) (by omega) (by omega), cb_lI (by omega)]
      refine go _ (by omega) ?_
      have h8 : ¬ cb_so T i = 8 := by omega
      rw [enl, if_neg h8, if_neg h8, if_neg (show ¬ (cb_so T i = 2 ∨ cb_so T i = 4) by omega), if_pos e5]
    · rw [t6]
      refine go _ b2 ?_
      rw [enl, if_neg (show ¬ (cb_so T i = 2 ∨ cb_so T i = 4) by omega), if_neg e5]
end cyc
end
section
/-! Y: canonical, the maps in order -/
theorem cb_cmp_ne {a b : List Nat} (ha : cb_kb a) (hb : cb_kb b) (h : a ≠ b) : cb_cmp a b ≠ 0 ∧ (cb_cmp a b < 0 ↔ cb_lt a b = true) := by
  rcases cb_SK_to ha.1 hb.1 h with h1 | h1
  · have := cb_cmp_lt (u := []) (v := []) ha.2 hb.2 h1
    rw [List.append_nil, List.append_nil] at this
    exact ⟨this.2, fun _ => h1, fun _ => this.1⟩
  · have := cb_cmp_gt (u := []) (v := []) ha.2 hb.2 h1
    rw [List.append_nil, List.append_nil] at this
    exact ⟨this.2, fun h => absurd h this.1, fun h => by rw [cb_lt_as h1] at h; cases h⟩
theorem cb_of_le {k : List Nat} : ∀ (l : List cb_Pr), cb_of l k ≤ (cb_fl l).length := by
  intro l
  induction l with
  | nil => exact Nat.le_refl _
  | cons q l ih =>
    unfold cb_of at ih ⊢
    rw [List.map_cons, List.sum_cons]
    have : (if cb_lt q.1 k = true then cb_ps q else 0) ≤ cb_ps q := by split <;> omega
    simp only [cb_fl, List.length_append]
    unfold cb_ps at this
    unfold cb_ps at ih ⊢
    omega
theorem cb_of_lt {q : cb_Pr} : ∀ (l : List cb_Pr), q ∈ l → cb_of l q.1 + cb_ps q ≤ (cb_fl l).length := by
  intro l
  induction l with
  | nil => intro h; simp at h
  | cons p l ih =>
    intro h
    rcases List.mem_cons.mp h with rfl | h
    · have := cb_of_le (k := q.1) l
      unfold cb_of at this ⊢
      rw [List.map_cons, List.sum_cons, if_neg (by rw [cb_lt_ir]; simp)]
      simp only [cb_fl, List.length_append]
      unfold cb_ps at this ⊢
      omega
    · have := ih h
      unfold cb_of at this ⊢
      rw [List.map_cons, List.sum_cons]
      have h2 : (if cb_lt p.1 q.1 = true then cb_ps p else 0) ≤ cb_ps p := by split <;> omega
      simp only [cb_fl, List.length_append]
      unfold cb_ps at this h2 ⊢
      omega
section cyd
variable {yM yD yS yN yF : Int32} {vC vL vS vP vV vK vR vA vB : Nat → Int32} {vN vE : Nat → Int64}
theorem cy_gw {post : Int32 → Prop} {t L : Nat} {x : Int32} (hL : vL 6 = nI L) (hL1 : L ≤ 128) (ht : t < L) (hx : vC (768 + t) = x) (h : post x) : wpY_get post (yM, yD, yS, yN, yF, vC, vL, vS, vP, vV, vK, vR, vA, vB, vN, vE) 4 (nI t) := by
  refine br_f (nI_pos (by omega)) ⟨vp_in_nI (n := 6) (by omega) (by omega), ?_⟩
  rw [show (4 : Int32) + 2 = nI 6 from rfl, nI_clamp (by omega), hL]
  refine br_t (nI_lt ht (by omega)) ?_
  rw [show (128 : Int32) = nI 128 from rfl, pk_mul, nI_add]
  refine ⟨vp_in_nI (by omega) (by omega), ?_⟩
  rw [nI_clamp (by omega), show 6 * 128 + t = 768 + t by omega, hx]
  exact h
theorem cy_cmp {post : Int32 → Prop} {ka kc : List Nat} {a b L : Nat} (hL : vL 6 = nI L) (hL1 : L ≤ 128) (ha : cb_At vC (768 + a) ka) (hb : cb_At vC (768 + b) kc) (hal : a + ka.length ≤ L) (hbl : b + kc.length ≤ L) (ka2 : ∀ x ∈ ka, x < 256) (kc2 : ∀ x ∈ kc, x < 256) (hpf : ∀ r, kc = ka ++ r → r = []) (h : post (cb_cmp ka kc)) : wpY_compare post (yM, yD, yS, yN, yF, vC, vL, vS, vP, vV, vK, vR, vA, vB, vN, vE) 4 (nI a) 4 (nI b) (nI kc.length) := by
  have lp : ∀ (ys xs : List Nat) (i n : Nat), ka.drop i = xs → kc.drop i = ys → kc.take i = ka.take i → i ≤ kc.length → ys.length + 1 < n → post (cb_cmp xs ys) → wY_compare_6 post 4 (nI a) 4 (nI b) (nI kc.length) yM yD yS yN yF vC vL vS vP vV vK vR vA vB vN vE n 0 (nI i) := by
    intro ys
    induction ys with
    | nil =>
      intro xs i n hx hy ht hi hn h
      obtain ⟨n, rfl⟩ : ∃ k, n = k + 1 := ⟨n - 1, by omega⟩
      have hi2 : kc.length ≤ i := by have := congrArg List.length hy; simp at this; omega
      refine br_t (nI_le hi2 (by omega)) ?_
      cases xs <;> exact h
    | cons y ys ih =>
      intro xs i n hx hy ht hi hn h
      obtain ⟨n, rfl⟩ : ∃ k, n = k + 1 := ⟨n - 1, by omega⟩
      obtain ⟨ey, hyl, hy2⟩ := cb_hd0 hy
      rw [List.length_cons] at hn
      cases xs with
      | nil =>
        have hi2 : ka.length ≤ i := by have := congrArg List.length hx; simp at this; omega
        rw [List.take_of_length_le hi2] at ht
        have := hpf (kc.drop i) (by rw [← ht]; exact (List.take_append_drop i kc).symm)
        rw [hy] at this; cases this
      | cons x xs =>
        obtain ⟨ex, hxl, hx2⟩ := cb_hd0 hx
        refine br_f (nI_ge hyl (by omega)) (br_t rfl ?_)
        rw [nI_add, nI_add]
        have h1 : vC (768 + (a + i)) = nI x := by have := cb_At_get ha i hxl; rw [ex] at this; rw [← Nat.add_assoc]; exact this
        have h2 : vC (768 + (b + i)) = nI y := by have := cb_At_get hb i hyl; rw [ey] at this; rw [← Nat.add_assoc]; exact this
        refine cy_gw hL hL1 (by omega) h1 (cy_gw hL hL1 (by omega) h2 (nm_e (nm_r (nI_1 _) ?_)))
        have hxm : x < 256 := ka2 x (by rw [← ex, List.getD_eq_getElem?_getD, List.getElem?_eq_getElem hxl]; exact List.getElem_mem hxl)
        have hym : y < 256 := kc2 y (by rw [← ey, List.getD_eq_getElem?_getD, List.getElem?_eq_getElem hyl]; exact List.getElem_mem hyl)
        rw [cb_cmp_c] at h
        by_cases e : x = y
        · rw [if_pos e] at h
          rw [(cb_subne (by omega) (by omega)).mpr e]
          refine ih xs (i + 1) n hx2 hy2 ?_ (by omega) (by omega) h
          rw [List.take_add_one, List.take_add_one, ht, List.getElem?_eq_getElem hyl, List.getElem?_eq_getElem hxl]
          have e1 : kc[i] = y := by rw [← ey, List.getD_eq_getElem?_getD, List.getElem?_eq_getElem hyl]; rfl
          have e2 : ka[i] = x := by rw [← ex, List.getD_eq_getElem?_getD, List.getElem?_eq_getElem hxl]; rfl
          rw [e1, e2, e]
        · rw [if_neg e] at h
          obtain ⟨n, rfl⟩ : ∃ k, n = k + 1 := ⟨n - 1, by omega⟩
          exact br_c (fun _ => h) (fun _ => br_f (fun h' => e ((cb_subne (by omega) (by omega)).mp h')) h)
  exact ⟨_, lp kc ka 0 (kc.length + 2) rfl rfl (by simp) (by omega) (by omega) h⟩
end cyd
section cye
variable {yM yD yS yF : Int32} {vL vS vP vV vK vR vA vB : Nat → Int32} {vN vE : Nat → Int64}
theorem cy_493 {post : Int32 → SY → Prop} {J289 J310 : Int32 → (Nat → Int32) → (Nat → Int32) → (Nat → Int32) → (Nat → Int32) → (Nat → Int32) → (Nat → Int32) → (Nat → Int32) → (Nat → Int32) → (Nat → Int32) → (Nat → Int64) → (Nat → Int64) → Prop}
    {x1 yN : Int32} {c a1 a2 f sz to : Nat} {vC1 : Nat → Int32} (hc : c < 128) (ha1 : a1 < 128) (ha2 : a2 ≤ 128) (hA1 : vA c = nI a1) (hA2 : vA a1 = nI a2) (hB2 : vB a2 = nI (f + sz)) (hf : f + sz ≤ 128) (ht : to + sz ≤ 128)
    (K : ∀ vC : Nat → Int32, (∀ p, p < 896 + to ∨ 896 + to + sz ≤ p → vC p = vC1 p) → (∀ t, t < sz → vC (896 + to + t) = vC1 (768 + f + t)) → J310 (nI (c + 1)) vC vL vS vP vV vK vR vA vB vN vE) :
    ∀ k t n (vC : Nat → Int32), t + k = sz → k < n → (∀ p, p < 896 + to ∨ 896 + to + t ≤ p → vC p = vC1 p) → (∀ t', t' < t → vC (896 + to + t') = vC1 (768 + f + t')) → wY_canonical_493 post J289 J310 x1 (nI c) yM yD yS yN yF n (nI (to + t)) (nI (f + t)) vC vL vS vP vV vK vR vA vB vN vE := by
  intro k
  induction k with
  | zero =>
    intro t n vC htk hn h1 h2
    obtain ⟨n, rfl⟩ : ∃ k, n = k + 1 := ⟨n - 1, by omega⟩
    have e : t = sz := by omega
    subst e
    refine ⟨vp_in_nI hc (by omega), ?_⟩
    rw [nI_clamp (by omega), hA1]
    refine ⟨vp_in_nI ha1 (by omega), ?_⟩
    rw [nI_clamp (by omega), hA2]
    refine ⟨vp_in_nI (by omega) (by omega), ?_⟩
    rw [nI_clamp (by omega), hB2]
    exact br_t (nI_le (Nat.le_refl _) (by omega)) (nm_r (nI_1 _) (K vC h1 h2))
  | succ k ih =>
    intro t n vC htk hn h1 h2
    obtain ⟨n, rfl⟩ : ∃ k, n = k + 1 := ⟨n - 1, by omega⟩
    refine ⟨vp_in_nI hc (by omega), ?_⟩
    rw [nI_clamp (by omega), hA1]
    refine ⟨vp_in_nI ha1 (by omega), ?_⟩
    rw [nI_clamp (by omega), hA2]
    refine ⟨vp_in_nI (by omega) (by omega), ?_⟩
    rw [nI_clamp (by omega), hB2]
    refine br_f (nI_ge (by omega) (by omega)) ?_
    rw [show (768 : Int32) = nI 768 from rfl, show (896 : Int32) = nI 896 from rfl, nI_add, nI_add]
    refine ⟨vp_in_nI (by omega) (by omega), vp_in_nI (by omega) (by omega), nm_e (nm_r (nI_1 _) (nm_r (nI_1 _) ?_))⟩
    rw [nI_clamp (by omega), nI_clamp (by omega)]
    refine ih (t + 1) n _ (by omega) (by omega) (fun p hp => ?_) (fun t' ht' => ?_)
    · rw [pk_un (by omega), h1 p (by omega)]
    · by_cases e : t' = t
      · subst e
        rw [show 896 + to + t' = 896 + (to + t') by omega, pk_us, h1 _ (by omega), Nat.add_assoc]
      · rw [pk_un (by omega), h2 t' (by omega)]
theorem cy_559 {post : Int32 → SY → Prop} {J289 : Int32 → (Nat → Int32) → (Nat → Int32) → (Nat → Int32) → (Nat → Int32) → (Nat → Int32) → (Nat → Int32) → (Nat → Int32) → (Nat → Int32) → (Nat → Int32) → (Nat → Int64) → (Nat → Int64) → Prop}
    {yN : Int32} {i a b sz : Nat} {vC1 : Nat → Int32} (hi : i < 128) (ha : a ≤ 128) (hA : vA i = nI a) (hB : vB a = nI (b + sz)) (hb : b + sz ≤ 128)
    (K : ∀ vC : Nat → Int32, (∀ p, p < 768 + b ∨ 768 + b + sz ≤ p → vC p = vC1 p) → (∀ t, t < sz → vC (768 + b + t) = vC1 (896 + b + t)) → J289 (cb_I i) vC vL vS vP vV vK vR vA vB vN vE) :
    ∀ k t n (vC : Nat → Int32), t + k = sz → k < n → (∀ p, p < 768 + b ∨ 768 + b + t ≤ p → vC p = vC1 p) → (∀ t', t' < t → vC (768 + b + t') = vC1 (896 + b + t')) → wY_canonical_559 post J289 (nI i) yM yD yS yN yF n (nI (b + t)) vC vL vS vP vV vK vR vA vB vN vE := by
  intro k
  induction k with
  | zero =>
    intro t n vC htk hn h1 h2
    obtain ⟨n, rfl⟩ : ∃ k, n = k + 1 := ⟨n - 1, by omega⟩
    have e : t = sz := by omega
    subst e
    refine ⟨vp_in_nI hi (by omega), ?_⟩
    rw [nI_clamp (by omega), hA]
    refine ⟨vp_in_nI (by omega) (by omega), ?_⟩
    rw [nI_clamp (by omega), hB]
    exact br_t (nI_le (Nat.le_refl _) (by omega)) (nm_r (e' := cb_I i) (by show nI i + (-1) = nI i - 1; rw [Int32.sub_eq_add_neg]) (K vC h1 h2))
  | succ k ih =>
    intro t n vC htk hn h1 h2
    obtain ⟨n, rfl⟩ : ∃ k, n = k + 1 := ⟨n - 1, by omega⟩
    refine ⟨vp_in_nI hi (by omega), ?_⟩
    rw [nI_clamp (by omega), hA]
    refine ⟨vp_in_nI (by omega) (by omega), ?_⟩
    rw [nI_clamp (by omega), hB]
    refine br_f (nI_ge (by omega) (by omega)) ?_
    rw [show (768 : Int32) = nI 768 from rfl, show (896 : Int32) = nI 896 from rfl, nI_add, nI_add]
    refine ⟨vp_in_nI (by omega) (by omega), vp_in_nI (by omega) (by omega), nm_e (nm_r (nI_1 _) ?_)⟩
    rw [nI_clamp (by omega), nI_clamp (by omega)]
    refine ih (t + 1) n _ (by omega) (by omega) (fun p hp => ?_) (fun t' ht' => ?_)
    · rw [pk_un (by omega), h1 p (by omega)]
    · by_cases e : t' = t
      · subst e
        rw [show 768 + b + t' = 768 + (b + t') by omega, pk_us, h1 _ (by omega), Nat.add_assoc]
      · rw [pk_un (by omega), h2 t' (by omega)]
end cye
section cyf
variable {yM yD yS yF : Int32} {vL vS vP vV vK vR vA vB : Nat → Int32} {vN vE : Nat → Int64} {T : cb_Tb} {A : Nat → Nat} {E : Nat → List Nat} {N : Nat}
/-- the place of key c: the inner loop over the other keys -/
theorem cy_357 {post : Int32 → SY → Prop} {J289 J310 : Int32 → (Nat → Int32) → (Nat → Int32) → (Nat → Int32) → (Nat → Int32) → (Nat → Int32) → (Nat → Int32) → (Nat → Int32) → (Nat → Int32) → (Nat → Int32) → (Nat → Int64) → (Nat → Int64) → Prop}
    {i c B0 : Nat} {vC : Nat → Int32} (hN : N ≤ 128) (hTA : cy_TA T N vS vP vV vK vR vN vE) (hTB : cb_TB T N) (hLC : ∀ i, i < N → cb_LC T A E N i) (hvA : ∀ j, j < N → vA j = nI (A j)) (hvB : ∀ j, j ≤ N → vB j = nI (cb_sl T j)) (hvL : vL 6 = nI (cb_sl T N)) (hsl : cb_sl T N ≤ 128)
    (hiN : i < N) (hcN : c < N) (hkey : ∀ d, d < N → cb_pa T d = i + 1 → cb_ra T d % 2 = 0 → d < A d ∧ A d < A (A d) ∧ A (A d) ≤ A i ∧ cb_kb (E d)) (hAt : ∀ d, d < N → cb_pa T d = i + 1 → cb_At vC (768 + cb_sl T d) (E d)) (hcp : cb_pa T c = i + 1) (hcr : cb_ra T c % 2 = 0)
    (H9 : (∃ d, i < d ∧ d < N ∧ cb_pa T d = i + 1 ∧ cb_ra T d % 2 = 0 ∧ d ≠ c ∧ E d = E c) → post (-9) (yM, yD, yS, nI N, yF, vC, vL, vS, vP, vV, vK, vR, vA, vB, vN, vE))
    (HK : (∀ d, i < d → d < N → cb_pa T d = i + 1 → cb_ra T d % 2 = 0 → d ≠ c → E d ≠ E c) → ∃ n493 : Nat, wY_canonical_493 post J289 J310 (nI i) (nI c) yM yD yS (nI N) yF n493 (nI (B0 + cb_sm (cb_fk T A E i (E c)) (i + 1) (N - (i + 1)))) (nI (cb_sl T c)) vC vL vS vP vV vK vR vA vB vN vE) :
    ∀ k d n, d + k = N → i < d → k < n → (∀ d', i < d' → d' < d → cb_pa T d' = i + 1 → cb_ra T d' % 2 = 0 → d' ≠ c → E d' ≠ E c) → wY_canonical_357 post J289 J310 (nI i) (nI c) yM yD yS (nI N) yF vC vL vS vP vV vK vR vA vB vN vE n (nI (B0 + cb_sm (cb_fk T A E i (E c)) (i + 1) (d - (i + 1)))) (nI d) := by
  have hAN : ∀ d, d < N → A d ≤ N := fun d hd => (cb_LC_gt (hLC d hd)).2
  have hslA : ∀ d, d < N → cb_sl T (A d) = cb_sl T d + (E d).length := fun d hd => cb_sl_A hLC _ d (Nat.le_refl _) hd
  intro k
  induction k with
  | zero =>
    intro d n hd hid hn hno
    obtain ⟨n, rfl⟩ : ∃ k, n = k + 1 := ⟨n - 1, by omega⟩
    have e : d = N := by omega
    subst e
    refine br_t (nI_le (Nat.le_refl _) (by omega)) ⟨vp_in_nI (by omega) (by omega), ?_⟩
    rw [nI_clamp (by omega), hvB c (by omega)]
    exact nm_e (HK hno)
  | succ k ih =>
    intro d n hd hid hn hno
    obtain ⟨n, rfl⟩ : ∃ k, n = k + 1 := ⟨n - 1, by omega⟩
    have hdN : d < N := by omega
    obtain ⟨t1, t2, t3, t4, t5, t6, t7⟩ := hTA d hdN
    obtain ⟨b1, b2, b3, b4, b5, b6, b7⟩ := hTB d hdN
    have hin : vp_in (nI d) 128 := vp_in_nI (by omega) (by omega)
    have hsm : cb_sm (cb_fk T A E i (E c)) (i + 1) (d + 1 - (i + 1)) = cb_sm (cb_fk T A E i (E c)) (i + 1) (d - (i + 1)) + cb_fk T A E i (E c) d := by
      rw [show d + 1 - (i + 1) = (d - (i + 1)) + 1 by omega]
      simp only [cb_sm]
      rw [show i + 1 + (d - (i + 1)) = d by omega]
    have skip : cb_fk T A E i (E c) d = 0 → (cb_pa T d = i + 1 → cb_ra T d % 2 = 0 → d ≠ c → E d ≠ E c) → wY_canonical_357 post J289 J310 (nI i) (nI c) yM yD yS (nI N) yF vC vL vS vP vV vK vR vA vB vN vE n (nI (B0 + cb_sm (cb_fk T A E i (E c)) (i + 1) (d - (i + 1)))) (nI (d + 1)) := by
      intro hz hne
      have := ih (d + 1) n (by omega) (by omega) (by omega) (fun d' h1 h2 h3 h4 h5 => by
        by_cases e : d' = d
        · subst e; exact hne h3 h4 h5
        · exact hno d' h1 (by omega) h3 h4 h5)
      rw [hsm, hz, Nat.add_zero] at this
      exact this
    refine br_f (nI_ge hdN (by omega)) (pk_eq d c (fun e => nm_r (nI_1 _) (skip ?_ (fun _ _ h => absurd e h))) (fun edc => ⟨hin, ?_⟩))
    · subst e; exact if_neg (fun h => by rw [cb_lt_ir] at h; cases h.2.2)
    rw [nI_clamp (by omega), t2]
    refine br_c (fun hp => ⟨hin, by decide, ?_⟩) (fun hp => ?_)
    · have hp' : cb_pa T d = i + 1 := (cb_I_eq (by omega) (by omega)).mp hp
      rw [t5, show (2 : Int32) = nI 2 from rfl, pk_rem (by omega) (by omega) (by omega)]
      refine pk_eq (cb_ra T d % 2) 1 (fun e1 => nm_r (nI_1 _) (skip (if_neg (fun h => by omega)) (fun _ h => by omega))) (fun e1 => ?_)
      have hr' : cb_ra T d % 2 = 0 := by omega
      obtain ⟨k1, k2, k3, k4⟩ := hkey d hdN hp' hr'
      obtain ⟨c1, c2, c3, c4⟩ := hkey c hcN hcp hcr
      have hAi := hAN i hiN
      have hin9 : vp_in (nI d) 129 := vp_in_nI (by omega) (by omega)
      have hinc : vp_in (nI c) 128 := vp_in_nI (by omega) (by omega)
      have hinc9 : vp_in (nI c) 129 := vp_in_nI (by omega) (by omega)
      have sd := hslA d hdN
      have sd2 := hslA (A d) (by omega)
      have sc := hslA c hcN
      have m1 : cb_sl T (A d) ≤ cb_sl T N := cb_sl_mo (by omega)
      have m2 : cb_sl T (A c) ≤ cb_sl T N := cb_sl_mo (by omega)
      have m3 : cb_sl T (A (A d)) ≤ cb_sl T N := cb_sl_mo (by omega)
      refine ⟨hin9, hinc9, hinc, ?_⟩
      rw [nI_clamp (by omega), hvA c hcN]
      refine ⟨vp_in_nI (by omega) (by omega), hinc9, ?_⟩
      rw [nI_clamp (by omega), hvB d (by omega), hvB c (by omega), hvB (A c) (by omega), pk_sub (by omega), show cb_sl T (A c) - cb_sl T c = (E c).length by omega]
      refine cy_cmp hvL hsl (hAt d hdN hp') (hAt c hcN hcp) (by omega) (by omega) k4.2 c4.2 (fun r hr => cb_SK_pf k4.1 c4.1 hr) ?_
      by_cases he : E d = E c
      · have hz : cb_cmp (E d) (E c) = 0 := by
          rw [he]; have := (cb_cmp_eq (a := E c) (v := [])).1; rwa [List.append_nil] at this
        rw [hz]
        exact br_t rfl (H9 ⟨d, hid, hdN, hp', hr', edc, he⟩)
      · obtain ⟨q1, q2⟩ := cb_cmp_ne k4 c4 he
        refine br_f q1 (br_c (fun h => ?_) (fun h => ?_))
        · have hnl : ¬ cb_lt (E d) (E c) = true := fun hl => by
            have := q2.mpr hl; rw [Int32.lt_iff_toInt_lt] at this; rw [Int32.le_iff_toInt_le] at h; omega
          exact nm_r (nI_1 _) (skip (if_neg (fun h => hnl h.2.2)) (fun _ _ _ => he))
        · have hlt : cb_lt (E d) (E c) = true := q2.mp (by rw [Int32.lt_iff_toInt_lt]; rw [Int32.le_iff_toInt_le] at h; omega)
          refine ⟨hin, ?_⟩
          rw [hvA d hdN]
          refine ⟨vp_in_nI (by omega) (by omega), ?_⟩
          rw [nI_clamp (by omega), hvA (A d) (by omega)]
          refine ⟨vp_in_nI (by omega) (by omega), hin9, ?_⟩
          rw [nI_clamp (by omega), hvB (A (A d)) (by omega), pk_sub (by omega), nI_add]
          have hfk : cb_fk T A E i (E c) d = (E d).length + (E (A d)).length := if_pos ⟨hp', hr', hlt⟩
          refine nm_e (nm_r (nI_1 _) ?_)
          have := ih (d + 1) n (by omega) (by omega) (by omega) (fun d' h1 h2 h3 h4 h5 => by
            by_cases e : d' = d
            · subst e; exact he
            · exact hno d' h1 (by omega) h3 h4 h5)
          rw [hsm, hfk] at this
          rw [show B0 + cb_sm (cb_fk T A E i (E c)) (i + 1) (d - (i + 1)) + (cb_sl T (A (A d)) - cb_sl T d) = B0 + (cb_sm (cb_fk T A E i (E c)) (i + 1) (d - (i + 1)) + ((E d).length + (E (A d)).length)) by omega]
          exact this
    · have hp' : cb_pa T d ≠ i + 1 := fun h => hp ((cb_I_eq (by omega) (by omega)).mpr h)
      exact nm_r (nI_1 _) (skip (if_neg (fun h => hp' h.1)) (fun h => absurd h hp'))
end cyf
end
section
/-! Y: canonical as a whole -/
theorem cb_tt_nd {l : List cb_Pr} (h : (l.map (·.1)).Nodup) (hk : ∀ q ∈ l, cb_SK q.1) : cb_tt l := by
  have h1 : l.Pairwise (fun p q => p.1 ≠ q.1) := List.pairwise_map.mp h
  exact List.Pairwise.imp_of_mem (fun ha hb hne => cb_SK_to (hk _ ha) (hk _ hb) hne) h1
theorem cb_GG {L : List cb_Pr} (h : (L.map (·.1)).Nodup) (hk : ∀ q ∈ L, cb_SK q.1) {q : cb_Pr} (hq : q ∈ L) {t : Nat} (ht : t < cb_ps q) : (cb_fl (cb_srt L)).getD (cb_of L q.1 + t) 0 = (q.1 ++ q.2).getD t 0 := by
  have hs := cb_srt_ss (cb_tt_nd h hk)
  obtain ⟨S1, S2, hS⟩ := List.append_of_mem ((cb_srt_pm L).mem_iff.mpr hq)
  have hof := cb_of_sp (L := L) (by rw [← hS]; exact hs) (by rw [← hS]; exact cb_srt_pm L)
  have hdrop : (cb_fl (cb_srt L)).drop (cb_of L q.1) = (q.1 ++ q.2) ++ cb_fl S2 := by
    rw [hS, cb_fl_app, hof, List.drop_left]; simp [cb_fl]
  rw [← cb_drop_getD, hdrop, List.getD_eq_getElem?_getD, List.getD_eq_getElem?_getD, List.getElem?_append_left (by rw [List.length_append]; exact ht)]
theorem cb_GC {L : List cb_Pr} (h : (L.map (·.1)).Nodup) (hk : ∀ q ∈ L, cb_SK q.1) {p : Nat} (hp : p < (cb_fl (cb_srt L)).length) : ∃ q ∈ L, cb_of L q.1 ≤ p ∧ p < cb_of L q.1 + cb_ps q := by
  have hs := cb_srt_ss (cb_tt_nd h hk)
  have lp : ∀ S2 S1 : List cb_Pr, cb_srt L = S1 ++ S2 → (cb_fl S1).length ≤ p → ∃ q ∈ L, cb_of L q.1 ≤ p ∧ p < cb_of L q.1 + cb_ps q := by
    intro S2
    induction S2 with
    | nil => intro S1 hS h1; rw [List.append_nil] at hS; rw [hS] at hp; omega
    | cons q S2 ih =>
      intro S1 hS h1
      have hof := cb_of_sp (L := L) (by rw [← hS]; exact hs) (by rw [← hS]; exact cb_srt_pm L)
      by_cases e : p < (cb_fl S1).length + cb_ps q
      · exact ⟨q, (cb_srt_pm L).mem_iff.mp (by rw [hS]; simp), by omega, by omega⟩
      · refine ih (S1 ++ [q]) (by rw [hS]; simp) ?_
        rw [cb_fl_app, List.length_append]
        unfold cb_ps at e
        simp [cb_fl]; omega
  exact lp _ [] rfl (by simp [cb_fl])
theorem cb_At_r2 {T : cb_Tb} {a : Nat → Int32} {b : Nat} : ∀ {N : Nat}, cb_At a b (cb_r2 T N) → ∀ j, j < N → cb_At a (b + cb_sl T j) (cb_nl T j) := by
  intro N
  induction N with
  | zero => intro _ j hj; omega
  | succ N ih =>
    intro h j hj
    simp only [cb_r2] at h
    rw [cb_At_app, cb_r2_len] at h
    by_cases e : j = N
    · subst e; exact h.2
    · exact ih h.1 j (by omega)
section cyg
variable {yM yD yS yF : Int32} {vL vS vP vV vK vR vA vB : Nat → Int32} {vN vE : Nat → Int64} {T : cb_Tb} {A : Nat → Nat} {E : Nat → List Nat} {N : Nat}
theorem cb_par (hLC : ∀ i, i < N → cb_LC T A E N i) (hA0 : A 0 = N) (hp0 : cb_pa T 0 = 0) {i d : Nat} (hd : d < N) (hp : cb_pa T d = i + 1) : i < d ∧ d < A i ∧ A i ≤ N ∧ cb_ra T d < cb_ki T i ∧ A d ≤ A i ∧ (cb_ra T d + 1 = cb_ki T i → A d = A i) ∧ (cb_ra T d + 1 < cb_ki T i → A d < A i ∧ cb_pa T (A d) = i + 1 ∧ cb_ra T (A d) = cb_ra T d + 1) := by
  have h0 : 0 < d := by
    by_cases e : d = 0
    · subst e; omega
    · omega
  obtain ⟨q', a1, a2, a3, a4, a5, a6, a7, a8, a9⟩ := cb_up hLC (A 0 - 0) 0 d (Nat.le_refl _) (by omega) h0 (by omega)
  have : q' = i := by omega
  subst this
  exact ⟨a2, a3, by omega, a6, a7, a8, a9⟩
theorem cy_310 {post : Int32 → SY → Prop} {J289 : Int32 → (Nat → Int32) → (Nat → Int32) → (Nat → Int32) → (Nat → Int32) → (Nat → Int32) → (Nat → Int32) → (Nat → Int32) → (Nat → Int32) → (Nat → Int32) → (Nat → Int64) → (Nat → Int64) → Prop}
    {i : Nat} {ks : List (List Nat)} {vC1 : Nat → Int32} (hN : N ≤ 128) (hTA : cy_TA T N vS vP vV vK vR vN vE) (hTB : cb_TB T N) (hLC : ∀ i, i < N → cb_LC T A E N i) (hA0 : A 0 = N) (hp0 : cb_pa T 0 = 0) (hvA : ∀ j, j < N → vA j = nI (A j)) (hvB : ∀ j, j ≤ N → vB j = nI (cb_sl T j)) (hvL : vL 6 = nI (cb_sl T N)) (hsl : cb_sl T N ≤ 128)
    (hiN : i < N) (hCH : cb_CH T A E i 0 (i + 1) (A i) ks) (hki : cb_ki T i = ks.length) (hev : ks.length % 2 = 0) (hkb : ∀ k ∈ ks, cb_kb k) (hAt1 : ∀ d, d < N → cb_pa T d = i + 1 → cb_At vC1 (768 + cb_sl T d) (E d))
    (H9 : cb_dk ks → ∀ vC : Nat → Int32, (∀ p, p < 768 → vC p = vC1 p) → post (-9) (yM, yD, yS, nI N, yF, vC, vL, vS, vP, vV, vK, vR, vA, vB, vN, vE))
    (HK : ¬ cb_dk ks → ∀ vC : Nat → Int32, (∀ p, p < 896 → vC p = vC1 p) → cb_At vC (896 + cb_sl T (i + 1)) (cb_fl (cb_srt (cb_mp ks))) → ∃ n559 : Nat, wY_canonical_559 post J289 (nI i) yM yD yS (nI N) yF n559 (nI (cb_sl T (i + 1))) vC vL vS vP vV vK vR vA vB vN vE) :
    ∀ k c n (vC : Nat → Int32), c + k = N → i < c → k < n → (∀ p, p < 896 → vC p = vC1 p) → (∀ c', i < c' → c' < c → cb_pa T c' = i + 1 → cb_ra T c' % 2 = 0 → ∀ d, i < d → d < N → cb_pa T d = i + 1 → cb_ra T d % 2 = 0 → d ≠ c' → E d ≠ E c') →
      (¬ cb_dk ks → ∀ c', i < c' → c' < c → cb_pa T c' = i + 1 → cb_ra T c' % 2 = 0 → ∀ t, t < (E c').length + (E (A c')).length → vC (896 + cb_sl T (i + 1) + cb_of (cb_mp ks) (E c') + t) = nI ((cb_fl (cb_srt (cb_mp ks))).getD (cb_of (cb_mp ks) (E c') + t) 0)) →
      wY_canonical_310 post J289 (nI i) yM yD yS (nI N) yF n (nI c) vC vL vS vP vV vK vR vA vB vN vE := by
  have hAi := (cb_LC_gt (hLC i hiN))
  have hslA : ∀ d, d < N → cb_sl T (A d) = cb_sl T d + (E d).length := fun d hd => cb_sl_A hLC _ d (Nat.le_refl _) hd
  have hpar := fun d (hd : d < N) (hp : cb_pa T d = i + 1) => cb_par hLC hA0 hp0 hd hp
  have hin : ∀ c t, c < A i → cb_pa T c = i + 1 → c < t → t < A c → cb_pa T t ≠ i + 1 := fun c t h0 h1 h2 h3 h4 => by
    have := (cb_in hLC (show c < N by omega) h2 h3).1
    have := (hpar c (by omega) h1).1
    omega
  have hmem : ∀ c, c < N → cb_pa T c = i + 1 → cb_ra T c % 2 = 0 → (E c, E (A c)) ∈ cb_mp ks ∧ c < A c ∧ A c < A (A c) ∧ A (A c) ≤ A i := fun c h1 h2 h3 => cb_CH_ky hin ks 0 (i + 1) (A i) hCH (Nat.le_refl _) rfl hev c (hpar c h1 h2).1 (hpar c h1 h2).2.1 h2 h3
  have hkey : ∀ d, d < N → cb_pa T d = i + 1 → cb_ra T d % 2 = 0 → d < A d ∧ A d < A (A d) ∧ A (A d) ≤ A i ∧ cb_kb (E d) := fun d h1 h2 h3 => by
    obtain ⟨m1, m2, m3, m4⟩ := hmem d h1 h2 h3
    exact ⟨m2, m3, m4, hkb _ (cb_mp_mem ks _ m1).1⟩
  have hSK : ∀ q ∈ cb_mp ks, cb_SK q.1 := fun q hq => (hkb _ (cb_mp_mem ks q hq).1).1
  have hlenG : (cb_fl (cb_mp ks)).length = ks.flatten.length := by
    have := cb_fl_mp ks; rw [cb_tl_e hev] at this; simpa using this
  have hslAi : cb_sl T (A i) = cb_sl T (i + 1) + ks.flatten.length := cb_CH_sl hCH fun c h1 h2 => hslA c (by omega)
  have hslN : cb_sl T (A i) ≤ cb_sl T N := cb_sl_mo hAi.2
  have hnd : cb_dk ks ↔ ∃ c d, i < c ∧ c < N ∧ i < d ∧ d < N ∧ cb_pa T c = i + 1 ∧ cb_ra T c % 2 = 0 ∧ cb_pa T d = i + 1 ∧ cb_ra T d % 2 = 0 ∧ E d = E c ∧ d ≠ c := by
    unfold cb_dk
    rw [cb_CH_nd hin ks 0 (i + 1) (A i) hCH (Nat.le_refl _) rfl hev]
    constructor
    · intro h
      refine Classical.byContradiction fun h2 => h fun c d c1 c2 d1 d2 c3 c4 d3 d4 he => Classical.byContradiction fun hne => h2 ⟨c, d, by omega, by omega, by omega, by omega, c3, c4, d3, d4, he.symm, fun e => hne e.symm⟩
    · rintro ⟨c, d, c1, c2, d1, d2, c3, c4, d3, d4, he, hne⟩ h
      exact hne (h d c (by omega) (hpar d d2 d3).2.1 (by omega) (hpar c c2 c3).2.1 d3 d4 c3 c4 he)
  intro k
  induction k with
  | zero =>
    intro c n vC hc hic hn hW hno hS
    obtain ⟨n, rfl⟩ : ∃ k, n = k + 1 := ⟨n - 1, by omega⟩
    have e : c = N := by omega
    subst e
    refine br_t (nI_le (Nat.le_refl _) (by omega)) ?_
    rw [nI_1]
    refine ⟨vp_in_nI (by omega) (by omega), ?_⟩
    rw [nI_clamp (by omega), hvB (i + 1) (by omega)]
    have hndk : ¬ cb_dk ks := fun h => by
      obtain ⟨c', d', c1, c2, d1, d2, c3, c4, d3, d4, he, hne⟩ := hnd.mp h
      exact hno c' c1 c2 c3 c4 d' d1 d2 d3 d4 hne he
    refine nm_e (HK hndk vC hW (cb_At_of fun p hp => ?_))
    have hN' : ((cb_mp ks).map (·.1)).Nodup := Classical.byContradiction hndk
    obtain ⟨q, hq, hq1, hq2⟩ := cb_GC hN' hSK hp
    obtain ⟨c', b1, b2, b3, b4, b5, b6, b7⟩ := cb_CH_pr ks 0 (i + 1) (A i) hCH rfl hev q hq
    rw [b7] at hq1 hq2
    have := hS hndk c' (by omega) (by omega) b5 b6 (p - cb_of (cb_mp ks) (E c')) (by unfold cb_ps at hq2; dsimp only at hq1 hq2; omega)
    dsimp only at hq1
    rw [show 896 + cb_sl T (i + 1) + cb_of (cb_mp ks) (E c') + (p - cb_of (cb_mp ks) (E c')) = 896 + cb_sl T (i + 1) + p by omega, show cb_of (cb_mp ks) (E c') + (p - cb_of (cb_mp ks) (E c')) = p by omega] at this
    exact this
  | succ k ih =>
    intro c n vC hc hic hn hW hno hS
    obtain ⟨n, rfl⟩ : ∃ k, n = k + 1 := ⟨n - 1, by omega⟩
    have hcN : c < N := by omega
    obtain ⟨t1, t2, t3, t4, t5, t6, t7⟩ := hTA c hcN
    obtain ⟨b1, b2, b3, b4, b5, b6, b7⟩ := hTB c hcN
    have hinc : vp_in (nI c) 128 := vp_in_nI (by omega) (by omega)
    have skip : ¬ (cb_pa T c = i + 1 ∧ cb_ra T c % 2 = 0) → wY_canonical_310 post J289 (nI i) yM yD yS (nI N) yF n (nI (c + 1)) vC vL vS vP vV vK vR vA vB vN vE := by
      intro hnk
      refine ih (c + 1) n vC (by omega) (by omega) (by omega) hW (fun c' h1 h2 h3 h4 => ?_) (fun hd c' h1 h2 h3 h4 => ?_)
      · by_cases e : c' = c
        · subst e; exact absurd ⟨h3, h4⟩ hnk
        · exact hno c' h1 (by omega) h3 h4
      · by_cases e : c' = c
        · subst e; exact absurd ⟨h3, h4⟩ hnk
        · exact hS hd c' h1 (by omega) h3 h4
    refine br_f (nI_ge hcN (by omega)) ⟨hinc, ?_⟩
    rw [nI_clamp (by omega), t2]
    refine br_c (fun hp => ⟨hinc, by decide, ?_⟩) (fun hp => nm_r (nI_1 _) (skip fun h => hp ((cb_I_eq (by omega) (by omega)).mpr h.1)))
    have hp' : cb_pa T c = i + 1 := (cb_I_eq (by omega) (by omega)).mp hp
    rw [t5, show (2 : Int32) = nI 2 from rfl, pk_rem (by omega) (by omega) (by omega)]
    refine pk_eq (cb_ra T c % 2) 1 (fun e1 => nm_r (nI_1 _) (skip fun h => by omega)) (fun e1 => ?_)
    have hr' : cb_ra T c % 2 = 0 := by omega
    rw [nI_1]
    refine ⟨vp_in_nI (by omega) (by omega), ?_⟩
    rw [nI_clamp (by omega), hvB (i + 1) (by omega)]
    refine nm_e (nm_e ?_)
    obtain ⟨m1, m2, m3, m4⟩ := hmem c hcN hp' hr'
    obtain ⟨q1, q2, q3, q4, q5, q6, q7⟩ := hpar c hcN hp'
    have hpAc : cb_pa T (A c) = i + 1 := (q7 (by rw [hki] at q4 ⊢; omega)).2.1
    have sc := hslA c hcN
    have sc2 := hslA (A c) (by omega)
    have hAtv : ∀ d, d < N → cb_pa T d = i + 1 → cb_At vC (768 + cb_sl T d) (E d) := fun d hd hpd => by
      have hl : cb_sl T (A d) ≤ cb_sl T N := cb_sl_mo (cb_LC_gt (hLC d hd)).2
      have := hslA d hd
      exact cb_At_cg (hAt1 d hd hpd) fun p h1 h2 => hW p (by omega)
    have hsum : cb_sm (cb_fk T A E i (E c)) (i + 1) (N - (i + 1)) = cb_of (cb_mp ks) (E c) := by
      rw [show N - (i + 1) = (A i - (i + 1)) + (N - A i) by omega, cb_sm_ap, cb_CH_sm (k := E c) hin ks 0 (i + 1) (A i) hCH (Nat.le_refl _) rfl hev, cb_sm_z, Nat.add_zero]
      intro d hd1 hd2
      refine if_neg fun h => ?_
      have := (hpar d (by omega) h.1).2.1
      omega
    have hofl := cb_of_lt (q := (E c, E (A c))) (cb_mp ks) m1
    unfold cb_ps at hofl
    dsimp only at hofl
    have lp := cy_357 (post := post) (yM := yM) (yD := yD) (yS := yS) (yF := yF) (J289 := J289) (J310 := wY_canonical_310 post J289 (nI i) yM yD yS (nI N) yF n) (i := i) (c := c) (B0 := cb_sl T (i + 1)) (vC := vC) hN hTA hTB hLC hvA hvB hvL hsl hiN hcN hkey hAtv hp' hr' ?_ ?_ (N - (i + 1)) (i + 1) (N - (i + 1) + 1) (by omega) (by omega) (by omega) (fun d' h1 h2 => by omega)
    · rw [Nat.sub_self] at lp
      exact ⟨_, lp⟩
    · rintro ⟨d, d1, d2, d3, d4, d5, d6⟩
      exact H9 (hnd.mpr ⟨c, d, hic, hcN, d1, d2, hp', hr', d3, d4, d6, d5⟩) vC (fun p hp => hW p (by omega))
    · intro hno2
      rw [hsum]
      refine ⟨_, cy_493 (vC1 := vC) (c := c) (a1 := A c) (a2 := A (A c)) (f := cb_sl T c) (sz := (E c).length + (E (A c)).length) (to := cb_sl T (i + 1) + cb_of (cb_mp ks) (E c)) (by omega) (by omega) (by omega) (hvA c hcN) (hvA (A c) (by omega)) (by rw [hvB (A (A c)) (by omega)]; exact congrArg nI (by omega)) ?_ (by omega) (fun vC' w1 w2 => ?_) ((E c).length + (E (A c)).length) 0 ((E c).length + (E (A c)).length + 1) vC (by omega) (by omega) (fun p hp => rfl) (fun t ht => by omega)⟩
      · have : cb_sl T (A (A c)) ≤ cb_sl T N := cb_sl_mo (by omega)
        omega
      · refine ih (c + 1) n vC' (by omega) (by omega) (by omega) (fun p hp => ?_) (fun c' h1 h2 h3 h4 => ?_) (fun hd c' h1 h2 h3 h4 t ht => ?_)
        · rw [w1 p (by omega)]; exact hW p hp
        · by_cases e : c' = c
          · subst e; exact hno2
          · exact hno c' h1 (by omega) h3 h4
        · have hN' : ((cb_mp ks).map (·.1)).Nodup := Classical.byContradiction hd
          -- the writes of key c hold the values of the sorted pairs
          have wr : ∀ t, t < (E c).length + (E (A c)).length → vC' (896 + (cb_sl T (i + 1) + cb_of (cb_mp ks) (E c)) + t) = nI ((cb_fl (cb_srt (cb_mp ks))).getD (cb_of (cb_mp ks) (E c) + t) 0) := by
            intro t ht
            have g := cb_GG hN' hSK m1 (t := t) (by unfold cb_ps; exact ht)
            dsimp only at g
            rw [g, w2 t ht]
            have hcat : cb_At vC (768 + cb_sl T c) (E c ++ E (A c)) := by
              rw [cb_At_app]
              refine ⟨hAtv c hcN hp', ?_⟩
              have := hAtv (A c) (by omega) hpAc
              rw [sc] at this
              rw [Nat.add_assoc]; exact this
            exact cb_At_get hcat t (by rw [List.length_append]; exact ht)
          by_cases e : c' = c
          · subst e
            have := wr t ht
            rw [show 896 + (cb_sl T (i + 1) + cb_of (cb_mp ks) (E c')) + t = 896 + cb_sl T (i + 1) + cb_of (cb_mp ks) (E c') + t by omega] at this
            exact this
          · have hold := hS hd c' h1 (by omega) h3 h4 t ht
            by_cases hov : 896 + cb_sl T (i + 1) + cb_of (cb_mp ks) (E c') + t < 896 + (cb_sl T (i + 1) + cb_of (cb_mp ks) (E c)) ∨ 896 + (cb_sl T (i + 1) + cb_of (cb_mp ks) (E c)) + ((E c).length + (E (A c)).length) ≤ 896 + cb_sl T (i + 1) + cb_of (cb_mp ks) (E c') + t
            · rw [w1 _ hov]; exact hold
            · have := wr (cb_of (cb_mp ks) (E c') + t - cb_of (cb_mp ks) (E c)) (by omega)
              rw [show 896 + (cb_sl T (i + 1) + cb_of (cb_mp ks) (E c)) + (cb_of (cb_mp ks) (E c') + t - cb_of (cb_mp ks) (E c)) = 896 + cb_sl T (i + 1) + cb_of (cb_mp ks) (E c') + t by omega, show cb_of (cb_mp ks) (E c) + (cb_of (cb_mp ks) (E c') + t - cb_of (cb_mp ks) (E c)) = cb_of (cb_mp ks) (E c') + t by omega] at this
              exact this
end cyg
end
section
/-! Y: canonical as a whole, from the last map to the first -/
def cy_IV (T : cb_Tb) (E : Nat → List Nat) (N k : Nat) (vC : Nat → Int32) : Prop := (∀ j, j < k → cb_At vC (768 + cb_sl T j) (cb_nl T j)) ∧ ∀ j, k ≤ j → j < N → cb_pa T j ≤ k → cb_At vC (768 + cb_sl T j) (E j)
theorem cb_CH_fl {T : cb_Tb} {A : Nat → Nat} {E : Nat → List Nat} {vC : Nat → Int32} {q : Nat} : ∀ {ks : List (List Nat)} {r s e : Nat}, cb_CH T A E q r s e ks → (∀ c, s ≤ c → c < e → cb_sl T (A c) = cb_sl T c + (E c).length) → (∀ c, s ≤ c → c < e → cb_pa T c = q + 1 → cb_At vC (768 + cb_sl T c) (E c)) → cb_At vC (768 + cb_sl T s) ks.flatten := by
  intro ks
  induction ks with
  | nil => intro r s e _ _ _; trivial
  | cons k ks ih =>
    intro r s e h hc hA
    obtain ⟨g1, g2, g3, g4, g5⟩ := h
    have hle := cb_CH_le g5
    rw [List.flatten_cons, cb_At_app]
    have h1 := hA s (Nat.le_refl _) (by omega) g1
    have h2 := hc s (Nat.le_refl _) (by omega)
    rw [g3] at h1 h2
    refine ⟨h1, ?_⟩
    have := ih g5 (fun c h1 h2 => hc c (by omega) h2) (fun c h1 h2 h3 => hA c (by omega) h2 h3)
    rw [h2] at this
    rw [Nat.add_assoc]; exact this
section cyh
variable {yM yD yS yF : Int32} {vL vS vP vV vK vR vA vB : Nat → Int32} {vN vE : Nat → Int64} {T : cb_Tb} {A : Nat → Nat} {E : Nat → List Nat} {N : Nat}
theorem cy_289 {post : Int32 → SY → Prop} {vC1 : Nat → Int32} (hN : N ≤ 128) (hTA : cy_TA T N vS vP vV vK vR vN vE) (hTB : cb_TB T N) (hLC : ∀ i, i < N → cb_LC T A E N i) (hA0 : A 0 = N) (hp0 : cb_pa T 0 = 0) (hN0 : 0 < N) (hvA : ∀ j, j < N → vA j = nI (A j)) (hvB : ∀ j, j ≤ N → vB j = nI (cb_sl T j)) (hvL : vL 6 = nI (cb_sl T N)) (hsl : cb_sl T N ≤ 128)
    (H9 : (∃ i, i < N ∧ cb_so T i = 5 ∧ ∃ ks, cb_CH T A E i 0 (i + 1) (A i) ks ∧ cb_ki T i = ks.length ∧ cb_dk ks) → ∀ vC : Nat → Int32, (∀ p, p < 768 → vC p = vC1 p) → post (-9) (yM, yD, yS, nI N, yF, vC, vL, vS, vP, vV, vK, vR, vA, vB, vN, vE))
    (HK : ¬ (∃ i, i < N ∧ cb_so T i = 5 ∧ ∃ ks, cb_CH T A E i 0 (i + 1) (A i) ks ∧ cb_ki T i = ks.length ∧ cb_dk ks) → ∀ vC : Nat → Int32, (∀ p, p < 768 → vC p = vC1 p) → cb_At vC 768 (E 0) → post 0 (yM, yD, yS, nI N, yF, vC, vL, vS, vP, vV, vK, vR, vA, vB, vN, vE)) :
    ∀ k n (vC : Nat → Int32), k ≤ N → k < n → cy_IV T E N k vC → (∀ p, p < 768 → vC p = vC1 p) → (∀ i, k ≤ i → i < N → cb_so T i = 5 → ∀ ks, cb_CH T A E i 0 (i + 1) (A i) ks → cb_ki T i = ks.length → ¬ cb_dk ks) → wY_canonical_289 post yM yD yS (nI N) yF n (cb_I k) vC vL vS vP vV vK vR vA vB vN vE := by
  have hslA : ∀ d, d < N → cb_sl T (A d) = cb_sl T d + (E d).length := fun d hd => cb_sl_A hLC _ d (Nat.le_refl _) hd
  intro k
  induction k with
  | zero =>
    intro n vC hk hn hIV hlow hno
    obtain ⟨n, rfl⟩ : ∃ k, n = k + 1 := ⟨n - 1, by omega⟩
    refine br_t (by decide) (HK ?_ vC hlow (by simpa [cb_sl] using hIV.2 0 (Nat.le_refl _) hN0 (by omega)))
    rintro ⟨i, h1, h2, ks, h3, h4, h5⟩
    exact hno i (by omega) h1 h2 ks h3 h4 h5
  | succ i ih =>
    intro n vC hk hn hIV hlow hno
    obtain ⟨n, rfl⟩ : ∃ k, n = k + 1 := ⟨n - 1, by omega⟩
    have hiN : i < N := by omega
    obtain ⟨t1, t2, t3, t4, t5, t6, t7⟩ := hTA i hiN
    obtain ⟨b1, b2, b3, b4, b5, b6, b7⟩ := hTB i hiN
    have hgt := cb_LC_gt (hLC i hiN)
    obtain ⟨ks, g1, g2, g3, g4, g5, g6⟩ := hLC i hiN
    have hch : ∀ c, i + 1 ≤ c → c < A i → cb_pa T c = i + 1 → cb_At vC (768 + cb_sl T c) (E c) := fun c h1 h2 h3 => hIV.2 c h1 (by omega) (by omega)
    have enl : cb_nl T i = cb_nh (cb_so T i) (cb_nu T i) ks.length := by unfold cb_nl; rw [g2]
    have elen : cb_sl T (i + 1) = cb_sl T i + (cb_nl T i).length := rfl
    rw [cb_Is]
    refine br_f (nI_pos (by omega)) ⟨vp_in_nI (by omega) (by omega), ?_⟩
    rw [nI_clamp (by omega), t1]
    -- all that begins behind the fact
    have hrest : ∀ j, i + 1 ≤ j → j < N → cb_pa T j ≤ i → A i ≤ j := fun j h1 h2 h3 => by
      by_cases e : j < A i
      · have := (cb_in hLC hiN (show i < j by omega) e).1; omega
      · omega
    refine pk_eq (cb_so T i) 5 (fun e5 => nm_r (nI_1 _) ?_) (fun e5 => nm_r (e' := cb_I i) (by show nI i + (-1) = nI i - 1; rw [Int32.sub_eq_add_neg]) ?_)
    · obtain ⟨hev, hkb⟩ := g6 e5
      have hsx : cb_sl T (A i) = cb_sl T (i + 1) + ks.flatten.length := cb_CH_sl g1 fun c h1 h2 => hslA c (by omega)
      have hflen : (cb_fl (cb_srt (cb_mp ks))).length = ks.flatten.length := by
        have := cb_fl_mp ks; rw [cb_tl_e hev] at this; rw [cb_srt_len]; simpa using this
      have hslm : cb_sl T (A i) ≤ cb_sl T N := cb_sl_mo hgt.2
      refine ⟨_, cy_310 (ks := ks) (vC1 := vC) (i := i) hN hTA hTB hLC hA0 hp0 hvA hvB hvL hsl hiN g1 g2 hev hkb (fun d hd hp => hch d (cb_par hLC hA0 hp0 hd hp).1 (cb_par hLC hA0 hp0 hd hp).2.1 hp) ?_ ?_ (N - (i + 1)) (i + 1) (N - (i + 1) + 1) vC (by omega) (by omega) (by omega) (fun p hp => rfl) (fun c' h1 h2 => by omega) (fun _ c' h1 h2 => by omega)⟩
      · intro hdk vC' hv
        exact H9 ⟨i, hiN, e5, ks, g1, g2, hdk⟩ vC' (fun p hp => by rw [hv p hp]; exact hlow p hp)
      · intro hndk vC' hv hAt
        refine ⟨_, cy_559 (vC1 := vC') (i := i) (a := A i) (b := cb_sl T (i + 1)) (sz := ks.flatten.length) (by omega) (by omega) (hvA i hiN) (by rw [hvB (A i) hgt.2, hsx]) (by omega) (fun vC'' w1 w2 => ?_) ks.flatten.length 0 (ks.flatten.length + 1) vC' (by omega) (by omega) (fun p hp => rfl) (fun t ht => by omega)⟩
        refine ih n vC'' (by omega) (by omega) ⟨fun j hj => ?_, fun j hj1 hj2 hj3 => ?_⟩ (fun p hp => ?_) (fun j h1 h2 h3 ks' h4 h5 => ?_)
        · have hm : cb_sl T (j + 1) ≤ cb_sl T (i + 1) := cb_sl_mo (by omega)
          have hjl : cb_sl T (j + 1) = cb_sl T j + (cb_nl T j).length := rfl
          refine cb_At_cg (hIV.1 j (by omega)) fun p h1 h2 => ?_
          rw [w1 p (by omega), hv p (by omega)]
        · by_cases e : j = i
          · subst e
            rw [g4]
            unfold cb_nE
            rw [← enl, cb_At_app]
            refine ⟨cb_At_cg (hIV.1 j (by omega)) fun p h1 h2 => by rw [w1 p (by omega), hv p (by omega)], ?_⟩
            rw [Nat.add_assoc, ← elen, e5]
            have ebd : cb_bd 5 ks = cb_fl (cb_srt (cb_mp ks)) := by unfold cb_bd; rw [if_pos rfl, cb_tl_e hev, List.append_nil]
            rw [ebd]
            exact cb_At_sh hAt fun t ht => w2 t (by omega)
          · have hAj := hrest j (by omega) hj2 hj3
            have hm : cb_sl T (A i) ≤ cb_sl T j := cb_sl_mo hAj
            have hm2 : cb_sl T (A j) ≤ cb_sl T N := cb_sl_mo (cb_LC_gt (hLC j hj2)).2
            have := hslA j hj2
            refine cb_At_cg (hIV.2 j (by omega) hj2 (by omega)) fun p h1 h2 => ?_
            rw [w1 p (by omega), hv p (by omega)]
        · rw [w1 p (by omega), hv p (by omega)]; exact hlow p hp
        · by_cases e : j = i
          · subst e
            rw [cb_CH_un ks' ks _ _ _ h4 g1 (by rw [← h5, g2])]
            exact hndk
          · exact hno j (by omega) h2 h3 ks' h4 h5
    · refine ih n vC (by omega) (by omega) ⟨fun j hj => hIV.1 j (by omega), fun j hj1 hj2 hj3 => ?_⟩ hlow (fun j h1 h2 h3 => ?_)
      · by_cases e : j = i
        · subst e
          rw [g4]
          unfold cb_nE
          rw [← enl, cb_At_app]
          refine ⟨hIV.1 j (by omega), ?_⟩
          rw [Nat.add_assoc, ← elen, cb_bd_ne e5]
          exact cb_CH_fl g1 (fun c h1 h2 => hslA c (by omega)) hch
        · exact hIV.2 j (by omega) hj2 (by omega)
      · by_cases e : j = i
        · subst e; exact absurd h3 e5
        · exact hno j (by omega) h2 h3
end cyh
section cyi
variable {yM yD yS yN yF : Int32} {vC vL vS vP vV vK vR vA vB : Nat → Int32} {vN vE : Nat → Int64}
theorem cy_can {post : Int32 → SY → Prop} {T : cb_Tb} {N : Nat} {e : List Nat} {d : Bool} (hyN : yN = nI N) (hN : N ≤ 128) (hTA : cy_TA T N vS vP vV vK vR vN vE) (hTB : cb_TB T N) (hRY : cb_RY T N ([], [e], d) []) (hel : e.length ≤ 128)
    (K : ∀ (A : Nat → Nat) (E : Nat → List Nat) (vC' vL' vA vB : Nat → Int32), (∀ i, i < N → cb_LC T A E N i) → A 0 = N → E 0 = e → cb_pa T 0 = 0 → cb_ra T 0 = 0 → 0 < N → (∀ j, j < N → vA j = nI (A j)) → (∀ j, j < 768 → vC' j = vC j) → (∀ j, j ≠ 6 → vL' j = vL j) → (d = false → cb_At vC' 768 e ∧ vL' 6 = nI e.length) → post (if d = true then -9 else 0) (yM, yD, yS, yN, yF, vC', vL', vS, vP, vV, vK, vR, vA, vB, vN, vE)) : wpY_canonical post (yM, yD, yS, yN, yF, vC, vL, vS, vP, vV, vK, vR, vA, vB, vN, vE) := by
  obtain ⟨A, E, h1, h2, h3⟩ := hRY
  rcases h2 with ⟨h2, _⟩ | ⟨e', h2, _, _, hE0, hA0, hN0, hp0, hr0⟩
  · cases h2
  obtain rfl : e = e' := by simpa using h2
  dsimp only at h3
  have hLC : ∀ i, i < N → cb_LC T A E N i := fun i hi => (h1 i hi).resolve_left (by simp)
  have hslN : cb_sl T N = e.length := by
    have := cb_sl_A hLC _ 0 (Nat.le_refl _) hN0
    rw [hA0, hE0] at this
    simpa [cb_sl] using this
  have hDU : d = true ↔ ∃ i, i < N ∧ cb_so T i = 5 ∧ ∃ ks, cb_CH T A E i 0 (i + 1) (A i) ks ∧ cb_ki T i = ks.length ∧ cb_dk ks := by
    rw [h3]
    unfold cb_DU
    constructor
    · rintro (⟨i, a1, a2, a3, a4⟩ | ⟨f, hf, _⟩)
      · exact ⟨i, a1, a3, a4⟩
      · simp at hf
    · rintro ⟨i, a1, a3, a4⟩
      exact Or.inl ⟨i, a1, by simp, a3, a4⟩
  rw [hyN]
  have K' : ∀ vC' vL' vA vB : Nat → Int32, (∀ j, j < N → vA j = nI (A j)) → (∀ j, j < 768 → vC' j = vC j) → (∀ j, j ≠ 6 → vL' j = vL j) → (d = false → cb_At vC' 768 e ∧ vL' 6 = nI e.length) → post (if d = true then -9 else 0) (yM, yD, yS, nI N, yF, vC', vL', vS, vP, vV, vK, vR, vA, vB, vN, vE) := fun vC' vL' vA vB a1 a2 a3 a4 => by
    have := K A E vC' vL' vA vB hLC hA0 hE0 hp0 hr0 hN0 a1 a2 a3 a4
    rw [hyN] at this
    exact this
  refine nm_e ⟨_, cy_10 (vC0 := vC) (vL0 := vL) hN hTA hTB hLC hA0 (by omega) (fun vC' vL' vA vB hWK hvA hvB => ?_) N 0 (N + 1) vC (upd vL 6 0) vA vB (by omega) (by omega) ⟨trivial, pk_us, fun j _ => rfl, fun j hj => pk_un hj⟩ (fun j hj => by omega) (fun j hj => by omega)⟩
  obtain ⟨w1, w2, w3, w4⟩ := hWK
  rw [cb_r2_len] at w2
  refine ⟨N + 1, cy_289 (vC1 := vC) hN hTA hTB hLC hA0 hp0 hN0 hvA hvB w2 (by omega) ?_ ?_ N (N + 1) vC' (Nat.le_refl _) (by omega) ⟨cb_At_r2 w1, fun j hj1 hj2 => by omega⟩ w3 (fun i hi1 hi2 => by omega)⟩
  · intro hd vC'' hv
    have hd' := hDU.mpr hd
    have := K' vC'' vL' vA vB hvA hv w4 (fun h => by rw [hd'] at h; cases h)
    rw [if_pos hd'] at this
    exact this
  · intro hd vC'' hv hAt
    have hd' : ¬ d = true := fun h => hd (hDU.mp h)
    have := K' vC'' vL' vA vB hvA hv w4 (fun _ => ⟨by rw [← hE0]; exact hAt, by rw [w2, hslN]⟩)
    rw [if_neg hd'] at this
    exact this
end cyi
end
section
/-! the printed text, pure -/
def cb_clo (m : Nat) : Nat := if m = 2 then 39 else if m = 4 then 93 else if m = 5 then 125 else if m = 6 then 41 else 0
def cb_fd (v : Nat) : Nat → List Nat
  | 0 => []
  | k + 1 => (48 + v / 10 ^ k % 10) :: cb_fd v k
def cb_dd (v : Nat) : Nat → List Nat
  | 0 => []
  | k + 1 => (if 10 ^ k ≤ v ∨ k = 0 then [48 + v / 10 ^ k % 10] else []) ++ cb_dd v k
def cb_nc (w : Nat) : Nat := if w < 10 then 1 else if w < 100 then 2 else if w < 1000 then 3 else if w < 10000 then 4 else if w < 100000 then 5 else if w < 1000000 then 6 else if w < 10000000 then 7 else if w < 100000000 then 8 else if w < 1000000000 then 9 else 10
theorem cb_nc_le (v : Nat) : 1 ≤ cb_nc v ∧ cb_nc v ≤ 10 := by
  unfold cb_nc
  repeat' split
  all_goals omega
theorem cb_nc_lt {v c : Nat} (h1 : 1 ≤ c) (h2 : c ≤ 9) : c < cb_nc v ↔ 10 ^ c ≤ v := by
  have hc : c = 1 ∨ c = 2 ∨ c = 3 ∨ c = 4 ∨ c = 5 ∨ c = 6 ∨ c = 7 ∨ c = 8 ∨ c = 9 := by omega
  unfold cb_nc
  rcases hc with rfl | rfl | rfl | rfl | rfl | rfl | rfl | rfl | rfl
  all_goals
    repeat' split
    all_goals omega
theorem cb_dd_fd {v : Nat} : ∀ {k : Nat}, (∀ j, j < k → 10 ^ j ≤ v ∨ j = 0) → cb_dd v k = cb_fd v k := by
  intro k
  induction k with
  | zero => intro _; rfl
  | succ k ih => intro h; simp only [cb_dd, cb_fd]; rw [if_pos (h k (by omega)), ih fun j hj => h j (by omega)]; rfl
theorem cb_dd_dn {v : Nat} {c : Nat} : ∀ {d : Nat}, (∀ j, c ≤ j → j < c + d → ¬ (10 ^ j ≤ v ∨ j = 0)) → cb_dd v (c + d) = cb_dd v c := by
  intro d
  induction d with
  | zero => intro _; rfl
  | succ d ih =>
    intro h
    rw [← Nat.add_assoc]
    simp only [cb_dd]
    rw [if_neg (h (c + d) (by omega) (by omega)), ih fun j h1 h2 => h j h1 (by omega)]; rfl
theorem cb_dd10 (v : Nat) : cb_dd v 10 = cb_fd v (cb_nc v) := by
  have hn := cb_nc_le v
  have h1 : cb_dd v 10 = cb_dd v (cb_nc v) := by
    have := cb_dd_dn (v := v) (c := cb_nc v) (d := 10 - cb_nc v) (fun j hj1 hj2 h => by
      have hlt := (cb_nc_lt (v := v) (c := j) (by omega) (by omega)).mpr (by omega)
      omega)
    rwa [show cb_nc v + (10 - cb_nc v) = 10 by omega] at this
  rw [h1]
  refine cb_dd_fd fun j hj => ?_
  by_cases e : j = 0
  · exact Or.inr e
  · exact Or.inl ((cb_nc_lt (by omega) (by omega)).mp hj)
theorem cb_fd_len (v : Nat) : ∀ k, (cb_fd v k).length = k := by
  intro k
  induction k with
  | zero => rfl
  | succ k ih => simp [cb_fd, ih]
def cb_hc (d : Nat) : Nat := if d < 10 then 48 + d else 87 + d
def cb_hs (m v : Nat) : List Nat := if m = 1 then 45 :: cb_fd (v + 1) (cb_nc (v + 1)) else if m = 7 then 115 :: cb_fd v (cb_nc v) else if m = 0 then cb_fd v (cb_nc v) else if m = 6 then cb_fd v (cb_nc v) ++ [40] else if m = 4 then [91] else if m = 5 then [123] else if m = 2 then [104, 39] else [cb_hc (v / 16), cb_hc (v % 16)]
def cb_se (T : cb_Tb) (i : Nat) : List Nat := if cb_so T i ≠ 8 ∧ 0 < cb_ra T i then [cb_sp (cb_so T (cb_pa T i - 1)) (cb_ra T i)] else []
def cb_cs (T : cb_Tb) (A : Nat → Nat) (z : Nat) : Nat → List Nat
  | 0 => []
  | n + 1 => (if A n = z ∧ cb_clo (cb_so T n) ≠ 0 then [cb_clo (cb_so T n)] else []) ++ cb_cs T A z n
def cb_yt (T : cb_Tb) (A : Nat → Nat) : Nat → List Nat
  | 0 => []
  | i + 1 => cb_yt T A i ++ (cb_se T i ++ (cb_hs (cb_so T i) (cb_nu T i) ++ cb_cs T A (i + 1) (i + 1)))
def cb_pe (T : cb_Tb) (A : Nat → Nat) (i : Nat) : Nat → Nat
  | 0 => 0
  | j + 1 => cb_pe T A i j + (if i < A j ∧ cb_clo (cb_so T j) ≠ 0 then 1 else 0)
theorem cb_cs_pe (T : cb_Tb) (A : Nat → Nat) (i : Nat) : ∀ n, (cb_cs T A (i + 1) n).length + cb_pe T A (i + 1) n = cb_pe T A i n := by
  intro n
  induction n with
  | zero => rfl
  | succ n ih =>
    simp only [cb_cs, cb_pe, List.length_append]
    by_cases h : cb_clo (cb_so T n) ≠ 0
    · by_cases h1 : A n = i + 1
      · rw [if_pos ⟨h1, h⟩, if_neg (by omega), if_pos ⟨by omega, h⟩]; simp; omega
      · rw [if_neg (fun x => h1 x.1)]
        by_cases h2 : i < A n
        · rw [if_pos ⟨by omega, h⟩, if_pos ⟨h2, h⟩]; simp; omega
        · rw [if_neg (by omega), if_neg (by omega)]; simp; omega
    · rw [if_neg (fun x => h x.2), if_neg (fun x => h x.2), if_neg (fun x => h x.2)]; simp; omega
theorem cb_nc_b {v : Nat} : (v ≤ 24 → cb_nc v ≤ 2) ∧ (v ≤ 256 → cb_nc v ≤ 3) ∧ (v ≤ 65536 → cb_nc v ≤ 5) := by
  unfold cb_nc
  refine ⟨fun h => ?_, fun h => ?_, fun h => ?_⟩
  all_goals
    repeat' split
    all_goals omega
theorem cb_n1_len (m v : Nat) : (cb_n1 m v).length = if m = 8 then 1 else 1 + cb_ext v := by
  unfold cb_n1; split
  · rfl
  · rw [cb_hd_len]
/-- four characters a byte -/
theorem cb_cost (m v : Nat) : (cb_hs m v).length + (if cb_clo m ≠ 0 then 1 else 0) + (if m = 6 then 0 else 1) ≤ 4 * (cb_n1 m v).length := by
  have hn := cb_nc_le v
  have hn1 := cb_nc_le (v + 1)
  have hb := cb_nc_b (v := v)
  have hb1 := cb_nc_b (v := v + 1)
  have key : ∀ c, (c = cb_nc v ∨ c = cb_nc (v + 1)) → c + 2 ≤ 4 * (1 + cb_ext v) := by
    intro c hc
    unfold cb_ext
    repeat' split
    all_goals omega
  have k1 := key _ (Or.inl rfl)
  have k2 := key _ (Or.inr rfl)
  rw [cb_n1_len]
  unfold cb_hs cb_clo
  by_cases h1 : m = 1
  · subst h1; simp [cb_fd_len]; omega
  by_cases h7 : m = 7
  · subst h7; simp [cb_fd_len]; omega
  by_cases h0 : m = 0
  · subst h0; simp [cb_fd_len]; omega
  by_cases h6 : m = 6
  · subst h6; simp [cb_fd_len]; omega
  by_cases h4 : m = 4
  · subst h4; simp; omega
  by_cases h5 : m = 5
  · subst h5; simp; omega
  by_cases h2 : m = 2
  · subst h2; simp; omega
  simp [h1, h7, h0, h6, h4, h5, h2]
  split <;> omega
section cb3
variable {T : cb_Tb} {A : Nat → Nat} {E : Nat → List Nat} {N : Nat}
/-- a fact with children is followed by its first child -/
theorem cb_first (hLC : ∀ i, i < N → cb_LC T A E N i) {i : Nat} (hi : i < N) : (A i = i + 1 ∧ cb_ki T i = 0) ∨ (i + 1 < A i ∧ 0 < cb_ki T i ∧ cb_pa T (i + 1) = i + 1 ∧ cb_ra T (i + 1) = 0) := by
  obtain ⟨ks, g1, g2, _⟩ := hLC i hi
  cases ks with
  | nil => exact Or.inl ⟨Eq.symm g1, g2⟩
  | cons k ks =>
    obtain ⟨c1, c2, c3, c4, c5⟩ := g1
    have := cb_CH_le c5
    exact Or.inr ⟨by omega, by rw [g2]; simp, c1, c2⟩
theorem cb_yt_len (hLC : ∀ i, i < N → cb_LC T A E N i) (hr0 : cb_ra T 0 = 0) (hc1 : ∀ i, i < N → cb_ki T i = cb_c1 (cb_so T i) (cb_nu T i)) : ∀ i, i ≤ N → (cb_yt T A i).length + (if i < N then (cb_se T i).length else 0) + cb_pe T A i i ≤ 4 * (cb_rw T i).length := by
  have hse : ∀ i, (cb_se T i).length ≤ 1 := fun i => by unfold cb_se; split <;> simp
  intro i
  induction i with
  | zero =>
    intro _
    have : cb_se T 0 = [] := if_neg (fun h => by omega)
    rw [this]
    simp [cb_yt, cb_pe, cb_rw]
  | succ i ih =>
    intro hi
    have h := ih (by omega)
    rw [if_pos (by omega)] at h
    have hcost := cb_cost (cb_so T i) (cb_nu T i)
    have hcp := cb_cs_pe T A i (i + 1)
    have hgt := (cb_LC_gt (hLC i (by omega))).1
    have hpe : cb_pe T A i (i + 1) = cb_pe T A i i + (if i < A i ∧ cb_clo (cb_so T i) ≠ 0 then 1 else 0) := rfl
    have hsep : (if i + 1 < N then (cb_se T (i + 1)).length else 0) ≤ (if cb_so T i = 6 then 0 else 1) := by
      by_cases h6 : cb_so T i = 6
      · rw [if_pos h6]
        rcases cb_first hLC (show i < N by omega) with ⟨_, hk⟩ | ⟨_, _, _, hra⟩
        · rw [hc1 i (by omega), h6] at hk; simp [cb_c1] at hk
        · have : cb_se T (i + 1) = [] := if_neg (fun h => by omega)
          rw [this]; simp
      · rw [if_neg h6]
        split
        · exact hse _
        · omega
    have hcl : (if i < A i ∧ cb_clo (cb_so T i) ≠ 0 then 1 else 0) = (if cb_clo (cb_so T i) ≠ 0 then 1 else 0) := by
      by_cases hz : cb_clo (cb_so T i) ≠ 0
      · rw [if_pos ⟨hgt, hz⟩, if_pos hz]
      · rw [if_neg (fun x => hz x.2), if_neg hz]
    rw [hcl] at hpe
    simp only [cb_yt, cb_rw, List.length_append]
    omega
theorem cb_yt_mo (i : Nat) : ∀ {j : Nat}, i ≤ j → (cb_yt T A i).length ≤ (cb_yt T A j).length := by
  intro j hj
  induction j with
  | zero => have : i = 0 := by omega
            subst this; exact Nat.le_refl _
  | succ j ih =>
    by_cases e : i = j + 1
    · subst e; exact Nat.le_refl _
    · have := ih (by omega); simp only [cb_yt, List.length_append]; omega
/-! the closing signs -/
theorem cb_cs_nil {z : Nat} : ∀ {n : Nat}, (∀ j, j < n → A j ≠ z) → cb_cs T A z n = [] := by
  intro n
  induction n with
  | zero => intro _; rfl
  | succ n ih => intro h; simp only [cb_cs]; rw [if_neg (fun x => h n (by omega) x.1), ih fun j hj => h j (by omega)]; rfl
theorem cb_cs_skip {z a : Nat} : ∀ {d : Nat}, (∀ j, a ≤ j → j < a + d → A j ≠ z) → cb_cs T A z (a + d) = cb_cs T A z a := by
  intro d
  induction d with
  | zero => intro _; rfl
  | succ d ih => intro h; rw [← Nat.add_assoc]; simp only [cb_cs]; rw [if_neg (fun x => h (a + d) (by omega) (by omega) x.1), ih fun j h1 h2 => h j h1 (by omega)]; rfl
/-- from an item to its parent -/
theorem cb_cs_up (hLC : ∀ i, i < N → cb_LC T A E N i) (hA0 : A 0 = N) (hp0 : cb_pa T 0 = 0) {q cur : Nat} (hc : cur < N) (hp : cb_pa T cur = q + 1) : cb_cs T A (A cur) cur = cb_cs T A (A cur) (q + 1) := by
  obtain ⟨q1, q2, q3, q4, q5, q6, q7⟩ := cb_par hLC hA0 hp0 hc hp
  have hgt := cb_LC_gt (hLC cur hc)
  have := cb_cs_skip (T := T) (A := A) (z := A cur) (a := q + 1) (d := cur - (q + 1)) (fun j h1 h2 e => by
    have hj : j < cur := by omega
    have := (cb_in hLC (show j < N by omega) hj (by omega)).1
    omega)
  rwa [show q + 1 + (cur - (q + 1)) = cur by omega] at this
theorem cb_cs_stop (hLC : ∀ i, i < N → cb_LC T A E N i) (hA0 : A 0 = N) (hp0 : cb_pa T 0 = 0) {q cur : Nat} (hc : cur < N) (hp : cb_pa T cur = q + 1) (hm : cb_ra T cur + 1 < cb_ki T q) : cb_cs T A (A cur) (q + 1) = [] := by
  obtain ⟨q1, q2, q3, q4, q5, q6, q7⟩ := cb_par hLC hA0 hp0 hc hp
  have hgt := cb_LC_gt (hLC cur hc)
  have h7 := (q7 hm).1
  refine cb_cs_nil fun j hj e => ?_
  by_cases ej : j = q
  · subst ej; omega
  · have := (cb_in hLC (show j < N by omega) (show j < q by omega) (by omega)).2
    omega
theorem cb_cs_open (hLC : ∀ i, i < N → cb_LC T A E N i) {i : Nat} (hi : i < N) (h : i + 1 < A i) : cb_cs T A (i + 1) (i + 1) = [] := by
  refine cb_cs_nil fun j hj e => ?_
  by_cases ej : j = i
  · subst ej; omega
  · have := (cb_in hLC (show j < N by omega) (show j < i by omega) (by omega)).2
    omega
end cb3
end
section
/-! X: printing -/
theorem cb_fd_get (v : Nat) : ∀ (c t : Nat), t < c → (cb_fd v c).getD t 0 = 48 + v / 10 ^ (c - 1 - t) % 10 := by
  intro c
  induction c with
  | zero => intro t ht; omega
  | succ c ih =>
    intro t ht
    cases t with
    | zero => simp [cb_fd]
    | succ t =>
      simp only [cb_fd, List.getD_cons_succ]
      rw [ih t (by omega), show c + 1 - 1 - (t + 1) = c - 1 - t by omega]
section cxl
variable {xM xL xS xI xT xO xP xp xF xR xD xd : Int32} {uI uT uC uL uO uS uK uA uP uM : Nat → Int32} {uF : Nat → Int64}
theorem cx_pc {post : SX → Prop} {TX : List Nat} {c : Nat} (hT : cb_At uT 0 TX) (hxT : xT = nI TX.length) (hl : TX.length < 128) (K : ∀ uT', cb_At uT' 0 (TX ++ [c]) → post (xM, xL, xS, xI, nI (TX ++ [c]).length, xO, xP, xp, xF, xR, xD, xd, uI, uT', uC, uL, uO, uS, uK, uA, uP, uM, uF)) : wpX_putChar post (xM, xL, xS, xI, xT, xO, xP, xp, xF, xR, xD, xd, uI, uT, uC, uL, uO, uS, uK, uA, uP, uM, uF) (nI c) := by
  rw [hxT]
  refine br_f (nI_ge (b := 128) hl (by omega)) ⟨vp_in_nI hl (by omega), nm_e (nm_r (nI_1 _) ?_)⟩
  rw [nI_clamp (by omega)]
  have := K (upd uT TX.length (nI c)) (by have := cb_At_snoc (x := c) hT; rwa [Nat.zero_add] at this)
  rw [List.length_append] at this
  exact this
end cxl
section cxm
variable {xM xL xS xI xO xP xp xF xR xD xd : Int32} {uI uC uL uO uS uK uA uP uM : Nat → Int32} {uF : Nat → Int64}
theorem cx_59 {post : SX → Prop} {TX : List Nat} {v c : Nat} {xT : Int32} {uT0 : Nat → Int32} (hT : cb_At uT0 0 TX) (hxT : xT = nI TX.length) (hl : TX.length + c ≤ 128) (hv : v < 2 ^ 62)
    (K : ∀ uT, cb_At uT 0 (TX ++ cb_fd v c) → post (xM, xL, xS, xI, nI (TX ++ cb_fd v c).length, xO, xP, xp, xF, xR, xD, xd, uI, uT, uC, uL, uO, uS, uK, uA, uP, uM, uF)) :
    ∀ k n (uT : Nat → Int32), k ≤ c → k < n → (∀ p, p < TX.length → uT p = uT0 p) → (∀ t, k ≤ t → t < c → uT (TX.length + t) = nI (48 + v / 10 ^ (c - 1 - t) % 10)) → wX_printNumber_59 post (nI c) xM xL xS xI xT xO xP xp xF xR xD xd n (lN (v / 10 ^ (c - k))) (cb_I k) uI uT uC uL uO uS uK uA uP uM uF := by
  intro k
  induction k with
  | zero =>
    intro n uT hk hn h1 h2
    obtain ⟨n, rfl⟩ : ∃ k, n = k + 1 := ⟨n - 1, by omega⟩
    refine br_t (by decide) (nm_r (e' := nI (TX ++ cb_fd v c).length) (by rw [hxT, nI_add]; simp [cb_fd_len]) (K uT ?_))
    rw [cb_At_app]
    refine ⟨cb_At_cg hT fun i _ hi => h1 i (by omega), ?_⟩
    rw [Nat.zero_add]
    refine cb_At_of fun t ht => ?_
    rw [cb_fd_len] at ht
    rw [h2 t (by omega) ht, cb_fd_get v c t ht]
  | succ k ih =>
    intro n uT hk hn h1 h2
    obtain ⟨n, rfl⟩ : ∃ k, n = k + 1 := ⟨n - 1, by omega⟩
    have hle : v / 10 ^ (c - (k + 1)) ≤ v := Nat.div_le_self _ _
    rw [cb_Is]
    refine br_f (nI_pos (by omega)) ⟨by decide, ?_⟩
    rw [hxT, nI_add]
    refine ⟨vp_in_nI (by omega) (by omega), nm_e ⟨by decide, ?_⟩⟩
    have e1 : lN (v / 10 ^ (c - (k + 1))) / 10 = lN (v / 10 ^ (c - k)) := by
      rw [show (10 : Int64) = lN 10 from rfl, pk_lDiv (by omega) (by omega) (by omega), Nat.div_div_eq_div_mul, ← Nat.pow_succ, show (c - (k + 1)).succ = c - k by omega]
    have e2 : (48 + (lN (v / 10 ^ (c - (k + 1))) - lN (v / 10 ^ (c - (k + 1))) / 10 * 10)).toInt32 = nI (48 + v / 10 ^ (c - (k + 1)) % 10) := by
      rw [show (10 : Int64) = lN 10 from rfl, pk_lRem (by omega) (by omega) (by omega), show (48 : Int64) = lN 48 from rfl, lN_add, lN_i]
    rw [nI_clamp (by omega), e2, e1]
    refine nm_e (nm_r (e' := cb_I k) (by show nI k + (-1) = nI k - 1; rw [Int32.sub_eq_add_neg]) ?_)
    have := ih n (upd uT (TX.length + k) (nI (48 + v / 10 ^ (c - (k + 1)) % 10))) (by omega) (by omega) (fun p hp => by rw [pk_un (by omega)]; exact h1 p hp) (fun t ht1 ht2 => by
      by_cases e : t = k
      · subst e; rw [pk_us, show c - 1 - t = c - (t + 1) by omega]
      · rw [pk_un (by omega)]; exact h2 t (by omega) ht2)
    rw [← hxT]
    exact this
theorem cx_pn {post : SX → Prop} {TX : List Nat} {v : Nat} {xT : Int32} {uT : Nat → Int32} (hT : cb_At uT 0 TX) (hxT : xT = nI TX.length) (hl : TX.length + cb_nc v ≤ 128) (hv : v < 10 ^ 10)
    (K : ∀ uT, cb_At uT 0 (TX ++ cb_fd v (cb_nc v)) → post (xM, xL, xS, xI, nI (TX ++ cb_fd v (cb_nc v)).length, xO, xP, xp, xF, xR, xD, xd, uI, uT, uC, uL, uO, uS, uK, uA, uP, uM, uF)) : wpX_printNumber post (xM, xL, xS, xI, xT, xO, xP, xp, xF, xR, xD, xd, uI, uT, uC, uL, uO, uS, uK, uA, uP, uM, uF) (lN v) := by
  have hnc := cb_nc_le v
  have fin : wX_printNumber_36 post (lN v) (nI (cb_nc v)) xM xL xS xI xT xO xP xp xF xR xD xd uI uT uC uL uO uS uK uA uP uM uF := by
    have hl' : xT + nI (cb_nc v) ≤ Int32.ofNat 128 := by rw [hxT, nI_add]; exact nI_le (b := 128) hl (by omega)
    refine br_t hl' (nm_r (e' := cb_I (cb_nc v)) rfl ?_)
    have := cx_59 (uT0 := uT) (v := v) (c := cb_nc v) hT hxT hl (by omega) K (cb_nc v) (cb_nc v + 1) uT (Nat.le_refl _) (by omega) (fun _ _ => rfl) (fun t h1 h2 => by omega)
    rw [Nat.sub_self, Nat.pow_zero, Nat.div_one] at this
    exact ⟨_, this⟩
  have lp : ∀ d c n, c + d = cb_nc v → 1 ≤ c → d < n → wX_printNumber_9 post (lN v) xM xL xS xI xT xO xP xp xF xR xD xd uI uT uC uL uO uS uK uA uP uM uF n (nI c) (lN (v / 10 ^ c)) := by
    intro d
    induction d with
    | zero =>
      intro c n hc h1 hn
      obtain ⟨n, rfl⟩ : ∃ k, n = k + 1 := ⟨n - 1, by omega⟩
      have e : c = cb_nc v := by omega
      have hz : v / 10 ^ c = 0 := by
        refine Nat.div_eq_of_lt ?_
        by_cases h9 : c ≤ 9
        · have := cb_nc_lt (v := v) h1 h9
          omega
        · have : c = 10 := by omega
          rw [this]; exact hv
      rw [hz, e]
      exact br_t (by decide) fin
    | succ d ih =>
      intro c n hc h1 hn
      obtain ⟨n, rfl⟩ : ∃ k, n = k + 1 := ⟨n - 1, by omega⟩
      have hp := (cb_nc_lt (v := v) h1 (by omega)).mp (by omega)
      have hpos : 0 < v / 10 ^ c := Nat.div_pos hp (Nat.pow_pos (by omega))
      have hle : v / 10 ^ c ≤ v := Nat.div_le_self _ _
      refine br_f (by show ¬ lN _ ≤ lN 0; rw [pk_lLE (by omega) (by omega)]; omega) (br_f (nI_ge (b := 10) (by omega) (by omega)) (nm_r (nI_1 _) ⟨by decide, nm_r (e' := lN (v / 10 ^ (c + 1))) ?_ (ih (c + 1) n (by omega) (by omega) (by omega))⟩))
      rw [show (10 : Int64) = lN 10 from rfl, pk_lDiv (by omega) (by omega) (by omega), Nat.div_div_eq_div_mul, ← Nat.pow_succ]
  refine ⟨by decide, nm_r (e' := lN (v / 10 ^ 1)) ?_ ⟨_, lp (cb_nc v - 1) 1 (cb_nc v) (by omega) (by omega) (by omega)⟩⟩
  rw [show (10 : Int64) = lN 10 from rfl, pk_lDiv (by omega) (by omega) (by omega), Nat.pow_one]
end cxm
/-- the open frames of the printer are the parents of fact i -/
def cx_FP (T : cb_Tb) (uK uM : Nat → Int32) (uF : Nat → Int64) : Nat → Nat → Prop
  | 0, i => cb_pa T i = 0
  | j + 1, i => ∃ q, cb_pa T i = q + 1 ∧ uK j = nI (cb_so T q) ∧ uM j = nI (cb_ra T i) ∧ uF j = lN (cb_ki T q - cb_ra T i) ∧ cx_FP T uK uM uF j q
theorem cx_FP_cg {T : cb_Tb} {uK uM uK' uM' : Nat → Int32} {uF uF' : Nat → Int64} : ∀ {op i : Nat}, cx_FP T uK uM uF op i → (∀ j, j < op → uK' j = uK j ∧ uM' j = uM j ∧ uF' j = uF j) → cx_FP T uK' uM' uF' op i := by
  intro op
  induction op with
  | zero => intro i h _; exact h
  | succ j ih =>
    intro i h hc
    obtain ⟨q, h1, h2, h3, h4, h5⟩ := h
    obtain ⟨c1, c2, c3⟩ := hc j (by omega)
    exact ⟨q, h1, c1.trans h2, c2.trans h3, c3.trans h4, ih h5 fun j' hj' => hc j' (by omega)⟩
/-- what is known of the facts when they are printed -/
def cb_PF (lim : Nat) (T : cb_Tb) (A : Nat → Nat) (E : Nat → List Nat) (N : Nat) : Prop := (∀ i, i < N → cb_LC T A E N i) ∧ A 0 = N ∧ cb_pa T 0 = 0 ∧ cb_ra T 0 = 0 ∧ 0 < N ∧ cb_TB T N ∧ N ≤ 32 ∧ lim ≤ 8 ∧
  (∀ i, i < N → cb_ki T i = cb_c1 (cb_so T i) (cb_nu T i) ∧ cb_le T i = (if cb_pa T i = 0 then 1 else cb_le T (cb_pa T i - 1) + 1) ∧ (cb_so T i ≠ 8 → cb_le T i ≤ lim) ∧ (cb_so T i = 8 ↔ (cb_pa T i ≠ 0 ∧ cb_so T (cb_pa T i - 1) = 2)))
theorem cx_FP_le {T : cb_Tb} {A : Nat → Nat} {E : Nat → List Nat} {lim N : Nat} {uK uM : Nat → Int32} {uF : Nat → Int64} (hP : cb_PF lim T A E N) : ∀ {op i : Nat}, cx_FP T uK uM uF op i → i < N → cb_le T i = op + 1 := by
  obtain ⟨hLC, hA0, hp0, hr0, hN0, hTB, hN, h8, hF⟩ := hP
  intro op
  induction op with
  | zero => intro i h hi; have h : cb_pa T i = 0 := h; rw [(hF i hi).2.1, if_pos h]
  | succ j ih =>
    intro i h hi
    obtain ⟨q, h1, h2, h3, h4, h5⟩ := h
    have hq := (cb_par hLC hA0 hp0 hi h1).1
    rw [(hF i hi).2.1, if_neg (by omega), h1, Nat.add_sub_cancel, ih h5 (by omega)]
/-- the parent of an item is an array, a map or a tag -/
theorem cb_PF_so {T : cb_Tb} {A : Nat → Nat} {E : Nat → List Nat} {lim N i q : Nat} (hP : cb_PF lim T A E N) (hi : i < N) (h8 : cb_so T i ≠ 8) (hp : cb_pa T i = q + 1) : cb_so T q = 4 ∨ cb_so T q = 5 ∨ cb_so T q = 6 := by
  obtain ⟨hLC, hA0, hp0, hr0, hN0, hTB, hN, hl8, hF⟩ := hP
  obtain ⟨q1, q2, q3, q4, q5⟩ := cb_par hLC hA0 hp0 hi hp
  have hqN : q < N := by omega
  have hk := (hF q hqN).1
  have hb := (hTB q hqN).1
  have h2 : cb_so T q ≠ 2 := fun h => h8 ((hF i hi).2.2.2.mpr ⟨by omega, by rw [hp, Nat.add_sub_cancel]; exact h⟩)
  unfold cb_c1 at hk
  by_cases h4 : cb_so T q = 4
  · exact Or.inl h4
  · by_cases h5 : cb_so T q = 5
    · exact Or.inr (Or.inl h5)
    · by_cases h6 : cb_so T q = 6
      · exact Or.inr (Or.inr h6)
      · rw [if_neg (by omega), if_neg h5, if_neg h6] at hk; omega
/-- and nothing else comes behind it in its parent -/
theorem cb_PF_nx {T : cb_Tb} {A : Nat → Nat} {E : Nat → List Nat} {lim N i q : Nat} (hP : cb_PF lim T A E N) (hi : i < N) (h8 : cb_so T i ≠ 8) (hp : cb_pa T i = q + 1) (hz : A i < N) (hpz : cb_pa T (A i) = q + 1) : cb_so T (A i) ≠ 8 := by
  have hso := cb_PF_so hP hi h8 hp
  obtain ⟨hLC, hA0, hp0, hr0, hN0, hTB, hN, hl8, hF⟩ := hP
  intro h
  have := ((hF (A i) hz).2.2.2.mp h).2
  rw [hpz, Nat.add_sub_cancel] at this
  omega
section cxn
variable {xM xL xS xI xO xp xF xR xD xd : Int32} {uI uC uL uO uS uK uA uP : Nat → Int32} {T : cb_Tb} {A : Nat → Nat} {E : Nat → List Nat} {lim N : Nat}
theorem cx_ip {post : SX → Prop} {z : Nat} {TF : List Nat} (hP : cb_PF lim T A E N) (hTF : TF.length ≤ 128)
    (K : ∀ (xT xP : Int32) (uT uM : Nat → Int32) (uF : Nat → Int64), cb_At uT 0 TF → xT = nI TF.length → (z < N → ∃ op, xP = nI op ∧ cx_FP T uK uM uF op z ∧ cb_so T z ≠ 8) → post (xM, xL, xS, xI, xT, xO, xP, xp, xF, xR, xD, xd, uI, uT, uC, uL, uO, uS, uK, uA, uP, uM, uF)) :
    ∀ (op cur k n : Nat) (TX : List Nat) (xT xP : Int32) (uT uM : Nat → Int32) (uF : Nat → Int64), cur < N → cb_so T cur ≠ 8 → A cur = z → cx_FP T uK uM uF op cur → TF = TX ++ (cb_cs T A z cur ++ (if z < N then cb_se T z else [])) → cb_At uT 0 TX → xT = nI TX.length → xP = nI op → op + k ≤ 8 → op < n → wX_itemPrinted_2 post n (nI k) xM xL xS xI xT xO xP xp xF xR xD xd uI uT uC uL uO uS uK uA uP uM uF := by
  obtain ⟨hLC, hA0, hp0, hr0, hN0, hTB, hN, h8, hF⟩ := id hP
  intro op
  induction op with
  | zero =>
    intro cur k n TX xT xP uT uM uF hc hs8 hz hFP hTFe hT hxT hxP hk hn
    obtain ⟨n, rfl⟩ : ∃ k, n = k + 1 := ⟨n - 1, by omega⟩
    have hp : cb_pa T cur = 0 := hFP
    have hc0 : cur = 0 := by
      by_cases e : cur = 0
      · exact e
      · obtain ⟨q', a1, a2, a3, a4, a5, _⟩ := cb_up hLC (A 0 - 0) 0 cur (Nat.le_refl _) hN0 (by omega) (by omega)
        omega
    subst hc0
    rw [hA0] at hz
    subst hz
    have : TF = TX := by rw [hTFe, if_neg (by omega)]; simp [cb_cs]
    subst this
    have fin := K xT xP uT uM uF hT hxT (fun h => by omega)
    exact br_c (fun _ => fin) (fun _ => br_t (by rw [hxP]; decide) fin)
  | succ j ih =>
    intro cur k n TX xT xP uT uM uF hc hs8 hz hFP hTFe hT hxT hxP hk hn
    obtain ⟨n, rfl⟩ : ∃ k, n = k + 1 := ⟨n - 1, by omega⟩
    obtain ⟨q, f1, f2, f3, f4, f5⟩ := hFP
    obtain ⟨q1, q2, q3, q4, q5, q6, q7⟩ := cb_par hLC hA0 hp0 hc f1
    have hso := cb_PF_so hP hc hs8 f1
    have hqN : q < N := by omega
    obtain ⟨b1, b2, b3, b4, b5, b6, b7⟩ := hTB q hqN
    have hin : vp_in (nI j) 8 := vp_in_nI (by omega) (by omega)
    have hup := cb_cs_up hLC hA0 hp0 hc f1
    rw [hz] at hup q6 q7
    refine br_f (nI_nlt (a := 8) (by omega) (by omega)) (br_f (by rw [hxP]; exact nI_nle (by omega) (by omega)) (nm_r (e' := nI j) (by rw [hxP]; exact nI_pred j) ⟨hin, hin, ?_⟩))
    rw [nI_clamp (by omega), f3, nI_1]
    refine nm_e ⟨hin, hin, ?_⟩
    rw [f4, show lN (cb_ki T q - cb_ra T cur) - 1 = lN (cb_ki T q - (cb_ra T cur + 1)) from by
      rw [show (1 : Int64) = lN 1 from rfl, lN_sub (by omega), Nat.sub_sub]]
    refine nm_e ⟨hin, ?_⟩
    rw [pk_uLs]
    refine cb_lle (cb_ki T q - (cb_ra T cur + 1)) 0 (fun hle => ?_) (fun hgt => ?_)
    · -- closed
      have hAq := q6 (by omega)
      have hcs : cb_cs T A z (q + 1) = cb_clo (cb_so T q) :: cb_cs T A z q := by
        simp only [cb_cs]
        rw [if_pos ⟨by omega, by unfold cb_clo; rcases hso with h | h | h <;> simp [h]⟩]; rfl
      have hcl : cb_cl (cb_so T q) = cb_clo (cb_so T q) := by unfold cb_cl cb_clo; rcases hso with h | h | h <;> simp [h]
      rw [hup, hcs] at hTFe
      have hTFe' : TF = (TX ++ [cb_clo (cb_so T q)]) ++ (cb_cs T A z q ++ (if z < N then cb_se T z else [])) := by rw [hTFe]; simp
      have hlen : TX.length < 128 := by have := congrArg List.length hTFe'; simp at this; omega
      refine br_f (by rw [hxP]; exact nI_ne0 (by omega) (by omega)) (nm_r (e' := nI j) (by rw [hxP]; exact nI_pred j) ⟨hin, ?_⟩)
      rw [nI_clamp (by omega), f2]
      refine cx_clo (by omega) ?_
      rw [hcl]
      refine cx_pc hT hxT hlen fun uT' hT' => nm_r (nI_1 _) ?_
      have hq8 : cb_so T q ≠ 8 := by omega
      exact ih q (k + 1) n _ _ _ uT' _ _ hqN hq8 hAq.symm (cx_FP_cg f5 fun j' hj' => ⟨rfl, pk_un (by omega), pk_uLn (by omega)⟩) hTFe' hT' rfl rfl (by omega) (by omega)
    · -- more items
      obtain ⟨z1, z2, z3⟩ := q7 (by omega)
      have hzN : z < N := by omega
      have hstop := cb_cs_stop hLC hA0 hp0 hc f1 (by omega)
      rw [hz] at hstop
      have hz8 : cb_so T z ≠ 8 := by have := cb_PF_nx hP hc hs8 f1 (by rw [hz]; exact hzN) (by rw [hz]; exact z2); rwa [hz] at this
      have hse : cb_se T z = [cb_sp (cb_so T q) (cb_ra T cur + 1)] := by
        unfold cb_se; rw [if_pos ⟨hz8, by omega⟩, z2, Nat.add_sub_cancel, z3]
      rw [hup, hstop, if_pos hzN, hse] at hTFe
      have hTFe' : TF = TX ++ [cb_sp (cb_so T q) (cb_ra T cur + 1)] := by rw [hTFe]; simp
      have hlen : TX.length < 128 := by have := congrArg List.length hTFe'; simp at this; omega
      have h6 : cb_so T q ≠ 6 := fun h => by
        have := (hF q hqN).1; rw [h] at this; simp [cb_c1] at this; omega
      refine cx_sep (m := cb_so T q) (k := cb_ra T cur + 1) (by omega) f2 pk_us (by omega) (by omega) ?_
      rw [if_neg h6]
      refine cx_pc hT hxT hlen fun uT' hT' => ?_
      rw [← hTFe'] at hT' ⊢
      refine K _ _ uT' _ _ hT' rfl (fun _ => ⟨j + 1, hxP, ⟨q, z2, f2, by rw [pk_us, z3], by rw [pk_uLs, z3], cx_FP_cg f5 fun j' hj' => ⟨rfl, pk_un (by omega), pk_uLn (by omega)⟩⟩, hz8⟩)
end cxn
end
section
/-! X: printing, item by item -/
theorem cb_rw_pre (T : cb_Tb) (i : Nat) : ∀ N, i ≤ N → ∃ r, cb_rw T N = cb_rw T i ++ r := by
  intro N
  induction N with
  | zero => intro h; have : i = 0 := by omega
            subst this; exact ⟨[], by simp⟩
  | succ N ih =>
    intro h
    by_cases e : i = N + 1
    · subst e; exact ⟨[], by simp⟩
    · obtain ⟨r, hr⟩ := ih (by omega)
      exact ⟨r ++ cb_n1 (cb_so T N) (cb_nu T N), by simp only [cb_rw]; rw [hr]; simp⟩
theorem cb_rw_drop {T : cb_Tb} {i N : Nat} (h : i < N) : ∃ r, (cb_rw T N).drop (cb_rw T i).length = cb_n1 (cb_so T i) (cb_nu T i) ++ r := by
  obtain ⟨r, hr⟩ := cb_rw_pre T (i + 1) N (by omega)
  refine ⟨r, ?_⟩
  rw [hr]; simp only [cb_rw]; rw [List.append_assoc, List.drop_left]
theorem cb_rw_le {T : cb_Tb} {i N : Nat} (h : i ≤ N) : (cb_rw T i).length ≤ (cb_rw T N).length := by
  obtain ⟨r, hr⟩ := cb_rw_pre T i N h
  rw [hr, List.length_append]; omega
def cb_hxl (T : cb_Tb) (i : Nat) : Nat → List Nat
  | 0 => []
  | t + 1 => cb_hxl T i t ++ [cb_hc (cb_nu T (i + 1 + t) / 16), cb_hc (cb_nu T (i + 1 + t) % 16)]
section cb4
variable {T : cb_Tb} {A : Nat → Nat} {E : Nat → List Nat} {lim N : Nat}
theorem cb_yt_se {z : Nat} (h : z ≤ N) : (cb_yt T A z ++ (if z < N then cb_se T z else [])).length ≤ (cb_yt T A N).length := by
  by_cases hz : z < N
  · rw [if_pos hz]
    have := cb_yt_mo (T := T) (A := A) (z + 1) (show z + 1 ≤ N by omega)
    simp only [cb_yt, List.length_append] at this ⊢
    omega
  · rw [if_neg hz]
    have : z = N := by omega
    subst this; simp
theorem cb_str (hP : cb_PF lim T A E N) {i : Nat} (hi : i < N) (h2 : cb_so T i = 2) : A i = i + 1 + cb_nu T i ∧ ∀ t, t < cb_nu T i → i + 1 + t < N ∧ cb_so T (i + 1 + t) = 8 ∧ A (i + 1 + t) = i + 1 + t + 1 := by
  obtain ⟨hLC, hA0, hp0, hr0, hN0, hTB, hN, h8, hF⟩ := hP
  have hk : cb_ki T i = cb_nu T i := by rw [(hF i hi).1, h2]; rfl
  have hgt := cb_LC_gt (hLC i hi)
  have by8 : ∀ c, c < N → cb_pa T c = i + 1 → cb_so T c = 8 ∧ A c = c + 1 := fun c hc hp => by
    have h : cb_so T c = 8 := (hF c hc).2.2.2.mpr ⟨by omega, by rw [hp, Nat.add_sub_cancel]; exact h2⟩
    refine ⟨h, ?_⟩
    rcases cb_first hLC hc with ⟨a, _⟩ | ⟨_, a, _⟩
    · exact a
    · rw [(hF c hc).1, h] at a; simp [cb_c1] at a
  have lp : ∀ t, t < cb_nu T i → i + 1 + t < A i ∧ cb_pa T (i + 1 + t) = i + 1 ∧ cb_ra T (i + 1 + t) = t := by
    intro t
    induction t with
    | zero =>
      intro ht
      rcases cb_first hLC hi with ⟨_, a⟩ | ⟨a1, a2, a3, a4⟩
      · omega
      · exact ⟨a1, a3, a4⟩
    | succ t ih =>
      intro ht
      obtain ⟨a1, a2, a3⟩ := ih (by omega)
      obtain ⟨_, hA⟩ := by8 (i + 1 + t) (by omega) a2
      obtain ⟨q1, q2, q3, q4, q5, q6, q7⟩ := cb_par hLC hA0 hp0 (show i + 1 + t < N by omega) a2
      have := q7 (by omega)
      rw [hA] at this
      rw [show i + 1 + (t + 1) = i + 1 + t + 1 by omega]
      exact ⟨this.1, this.2.1, by omega⟩
  refine ⟨?_, fun t ht => ?_⟩
  · by_cases h0 : cb_nu T i = 0
    · rcases cb_first hLC hi with ⟨a, _⟩ | ⟨_, a, _⟩
      · omega
      · omega
    · obtain ⟨a1, a2, a3⟩ := lp (cb_nu T i - 1) (by omega)
      obtain ⟨_, hA⟩ := by8 _ (by omega) a2
      obtain ⟨q1, q2, q3, q4, q5, q6, q7⟩ := cb_par hLC hA0 hp0 (show i + 1 + (cb_nu T i - 1) < N by omega) a2
      have := q6 (by omega)
      omega
  · obtain ⟨a1, a2, a3⟩ := lp t ht
    obtain ⟨b1, b2⟩ := by8 _ (show i + 1 + t < N by omega) a2
    exact ⟨by omega, b1, b2⟩
theorem cb_hs2 (v : Nat) : cb_hs 2 v = [104, 39] := by simp [cb_hs]
theorem cb_hs8 (v : Nat) : cb_hs 8 v = [cb_hc (v / 16), cb_hc (v % 16)] := by simp [cb_hs]
theorem cb_yt_s1 (hP : cb_PF lim T A E N) {i : Nat} (hi : i < N) (h2 : cb_so T i = 2) : ∀ t, t < cb_nu T i → cb_yt T A (i + 1 + t) = cb_yt T A i ++ (cb_se T i ++ ([104, 39] ++ cb_hxl T i t)) := by
  obtain ⟨hA, hB⟩ := cb_str hP hi h2
  obtain ⟨hLC, hA0, hp0, hr0, hN0, hTB, hN, h8, hF⟩ := hP
  intro t
  induction t with
  | zero =>
    intro ht
    simp only [cb_yt, Nat.add_zero, cb_hxl]
    rw [cb_cs_open hLC hi (by omega), h2, cb_hs2]
  | succ t ih =>
    intro ht
    obtain ⟨b1, b2, b3⟩ := hB t (by omega)
    have hse : cb_se T (i + 1 + t) = [] := if_neg (fun h => h.1 b2)
    have hcs : cb_cs T A (i + 1 + t + 1) (i + 1 + t + 1) = [] := by
      simp only [cb_cs]
      rw [if_neg (fun h => h.2 (by rw [b2]; rfl)), cb_cs_nil]
      · rfl
      · intro j hj e
        by_cases ej : i < j
        · obtain ⟨t', rfl⟩ : ∃ t', j = i + 1 + t' := ⟨j - (i + 1), by omega⟩
          have := (hB t' (by omega)).2.2
          omega
        · by_cases ej2 : j = i
          · subst ej2; omega
          · have := (cb_in hLC (show j < N by omega) (show j < i by omega) (by omega)).2
            omega
    rw [show i + 1 + (t + 1) = i + 1 + t + 1 by omega]
    simp only [cb_yt] at ih ⊢
    rw [hcs, hse, ih (by omega), b2, cb_hs8]
    simp [cb_hxl]
theorem cb_yt_s2 (hP : cb_PF lim T A E N) {i : Nat} (hi : i < N) (h2 : cb_so T i = 2) : cb_yt T A (A i) = cb_yt T A i ++ (cb_se T i ++ ([104, 39] ++ (cb_hxl T i (cb_nu T i) ++ (39 :: cb_cs T A (A i) i)))) := by
  have hs1 := cb_yt_s1 hP hi h2
  obtain ⟨hA, hB⟩ := cb_str hP hi h2
  obtain ⟨hLC, hA0, hp0, hr0, hN0, hTB, hN, h8, hF⟩ := hP
  have top : cb_cs T A (A i) (i + 1) = 39 :: cb_cs T A (A i) i := by
    simp only [cb_cs]
    rw [if_pos ⟨trivial, by rw [h2]; decide⟩, h2]; rfl
  by_cases h0 : cb_nu T i = 0
  · rw [h0, Nat.add_zero] at hA
    rw [h0, ← top, hA]
    simp only [cb_yt, cb_hxl]
    rw [h2, cb_hs2]; simp
  · obtain ⟨n, hn⟩ : ∃ n, cb_nu T i = n + 1 := ⟨cb_nu T i - 1, by omega⟩
    obtain ⟨b1, b2, b3⟩ := hB n (by omega)
    have hse : cb_se T (i + 1 + n) = [] := if_neg (fun h => h.1 b2)
    have eA : A i = i + 1 + n + 1 := by omega
    have hcs : cb_cs T A (A i) (i + 1 + n + 1) = cb_cs T A (A i) (i + 1) := by
      have e1 : cb_cs T A (A i) (i + 1 + n + 1) = cb_cs T A (A i) (i + 1 + n) := by
        simp only [cb_cs]; rw [if_neg (fun h => h.2 (by rw [b2]; rfl))]; rfl
      rw [e1]
      refine cb_cs_skip fun j h1 h2' e => ?_
      obtain ⟨t', rfl⟩ : ∃ t', j = i + 1 + t' := ⟨j - (i + 1), by omega⟩
      have := (hB t' (by omega)).2.2
      omega
    rw [← top, ← hcs]
    rw [eA] at *
    simp only [cb_yt]
    rw [hs1 n (by omega), hse, b2, cb_hs8, hn]
    simp [cb_hxl]
end cb4

section cxo
variable {xM xL xS xI xO xP xp xF xR xD xd : Int32} {uI uC uL uO uS uK uA uP uM : Nat → Int32} {uF : Nat → Int64} {T : cb_Tb} {A : Nat → Nat} {E : Nat → List Nat} {lim N : Nat}
theorem cx_hx {post : SX → Prop} {TX : List Nat} {v : Nat} {xT : Int32} {uT : Nat → Int32} (hv : v < 16) (hT : cb_At uT 0 TX) (hxT : xT = nI TX.length) (hl : TX.length < 128) (K : ∀ uT, cb_At uT 0 (TX ++ [cb_hc v]) → post (xM, xL, xS, xI, nI (TX ++ [cb_hc v]).length, xO, xP, xp, xF, xR, xD, xd, uI, uT, uC, uL, uO, uS, uK, uA, uP, uM, uF)) : wpX_printHexDigit post (xM, xL, xS, xI, xT, xO, xP, xp, xF, xR, xD, xd, uI, uT, uC, uL, uO, uS, uK, uA, uP, uM, uF) (nI v) := by
  unfold cb_hc at K
  refine pk_le 10 v (fun e => ?_) (fun e => ?_)
  · rw [if_neg (by omega)] at K
    unfold wX_printHexDigit_21
    rw [show (97 : Int32) = nI 97 from rfl, nI_add, show (10 : Int32) = nI 10 from rfl, pk_sub (by omega), show 97 + v - 10 = 87 + v by omega]
    exact cx_pc hT hxT hl K
  · rw [if_pos e] at K
    unfold wX_printHexDigit_21
    rw [show (48 : Int32) = nI 48 from rfl, nI_add]
    exact cx_pc hT hxT hl K
theorem cx_pby {post : SX → Prop} {e TX : List Nat} {i p n : Nat} {xT : Int32} {uT : Nat → Int32} (hO : cb_At uO 0 e) (hxO : xO = nI e.length) (hel : e.length ≤ 32) (hb : ∀ b ∈ e, b < 256) (hp : xp = nI p) (hpn : p + n ≤ e.length) (hbe : ∀ t, t < n → e.getD (p + t) 0 = cb_nu T (i + 1 + t)) (hl : TX.length + 3 + 2 * n ≤ 128) (hT : cb_At uT 0 TX) (hxT : xT = nI TX.length)
    (K : ∀ uT, cb_At uT 0 (TX ++ ([104, 39] ++ (cb_hxl T i n ++ [39]))) → post (xM, xL, xS, xI, nI (TX ++ ([104, 39] ++ (cb_hxl T i n ++ [39]))).length, xO, xP, nI (p + n), xF, xR, xD, xd, uI, uT, uC, uL, uO, uS, uK, uA, uP, uM, uF)) : wpX_printBytes post (xM, xL, xS, xI, xT, xO, xP, xp, xF, xR, xD, xd, uI, uT, uC, uL, uO, uS, uK, uA, uP, uM, uF) (nI n) := by
  have hlen : ∀ t, (cb_hxl T i t).length = 2 * t := by
    intro t
    induction t with
    | zero => rfl
    | succ t ih => simp [cb_hxl, ih]; omega
  have fin : ∀ (xT : Int32) (uT : Nat → Int32), cb_At uT 0 (TX ++ ([104, 39] ++ cb_hxl T i n)) → xT = nI (TX ++ ([104, 39] ++ cb_hxl T i n)).length → wX_printBytes_73 post (nI n) xM xL xS xI xT xO xP xp xF xR xD xd uI uT uC uL uO uS uK uA uP uM uF := by
    intro xT uT hT hxT
    refine cx_pc hT hxT (by simp [hlen]; omega) fun uT' hT' => nm_r (e' := nI (p + n)) (by rw [hp, nI_add]) ?_
    have e1 : (TX ++ ([104, 39] ++ cb_hxl T i n)) ++ [39] = TX ++ ([104, 39] ++ (cb_hxl T i n ++ [39])) := by simp
    rw [e1] at hT' ⊢
    exact K uT' hT'
  have lp : ∀ k t f (xT : Int32) (uT : Nat → Int32), t + k = n → k < f → cb_At uT 0 (TX ++ ([104, 39] ++ cb_hxl T i t)) → xT = nI (TX ++ ([104, 39] ++ cb_hxl T i t)).length → wX_printBytes_14 post (nI n) f (nI t) xM xL xS xI xT xO xP xp xF xR xD xd uI uT uC uL uO uS uK uA uP uM uF := by
    intro k
    induction k with
    | zero =>
      intro t f xT uT ht hf hT hxT
      obtain ⟨f, rfl⟩ : ∃ k, f = k + 1 := ⟨f - 1, by omega⟩
      have : t = n := by omega
      subst this
      exact br_t (nI_le (Nat.le_refl _) (by omega)) (fin xT uT hT hxT)
    | succ k ih =>
      intro t f xT uT ht hf hT hxT
      obtain ⟨f, rfl⟩ : ∃ k, f = k + 1 := ⟨f - 1, by omega⟩
      have hbb := cb_getD_lt hb (p + t)
      refine br_f (nI_ge (by omega) (by omega)) (br_f (by rw [hp, nI_add, hxO]; exact nI_ge (by omega) (by omega)) ⟨by rw [hp, nI_add]; exact vp_in_nI (by omega) (by omega), ?_⟩)
      have ev : uO (xp + nI t).toNatClampNeg = nI (cb_nu T (i + 1 + t)) := by
        rw [hp, nI_add, nI_clamp (by omega), cb_At0 hO (by omega), hbe t (by omega)]
      rw [hbe t (by omega)] at hbb
      rw [ev, show nI (cb_nu T (i + 1 + t)) >>> ((4 : Int32) &&& 31) = nI (cb_nu T (i + 1 + t) / 16) from pk_shrN (by omega) _ 4 cb_s4]
      refine cx_hx (by omega) hT hxT (by simp [hlen]; omega) fun uT1 hT1 => ⟨by rw [hp, nI_add]; exact vp_in_nI (by omega) (by omega), ?_⟩
      rw [ev, show nI (cb_nu T (i + 1 + t)) &&& 15 = nI (cb_nu T (i + 1 + t) % 16) from pk_andN (by omega) 4 cb_m15]
      refine cx_hx (by omega) hT1 rfl (by simp [hlen]; omega) fun uT2 hT2 => nm_r (nI_1 _) ?_
      have e1 : TX ++ ([104, 39] ++ cb_hxl T i t) ++ [cb_hc (cb_nu T (i + 1 + t) / 16)] ++ [cb_hc (cb_nu T (i + 1 + t) % 16)] = TX ++ ([104, 39] ++ cb_hxl T i (t + 1)) := by simp [cb_hxl]
      rw [e1] at hT2 ⊢
      exact ih (t + 1) f _ uT2 (by omega) (by omega) hT2 rfl
  unfold wpX_printBytes
  dsimp only
  refine cx_pc (c := 104) hT hxT (by omega) fun uT1 hT1 => ?_
  refine cx_pc (c := 39) hT1 rfl (by simp; omega) fun uT2 hT2 => ?_
  have e1 : TX ++ [104] ++ [39] = TX ++ ([104, 39] ++ cb_hxl T i 0) := by simp [cb_hxl]
  rw [e1] at hT2 ⊢
  exact ⟨_, lp n 0 (n + 1) _ uT2 (by omega) (by omega) hT2 rfl⟩
theorem cx_pi {post : SX → Prop} {e : List Nat} {i op : Nat} {xT : Int32} {uT : Nat → Int32} (hP : cb_PF lim T A E N) (he : e = cb_rw T N) (hel : e.length ≤ 32) (hb : ∀ b ∈ e, b < 256) (hO : cb_At uO 0 e) (hxO : xO = nI e.length) (hi : i < N) (hs8 : cb_so T i ≠ 8) (hFP : cx_FP T uK uM uF op i) (hxP : xP = nI op) (hxp : xp = nI (cb_rw T i).length) (hT : cb_At uT 0 (cb_yt T A i ++ cb_se T i)) (hxT : xT = nI (cb_yt T A i ++ cb_se T i).length) (hy : (cb_yt T A N).length ≤ 128)
    (K : ∀ z, i < z → z ≤ N → ∀ (xT xP : Int32) (uT uK uA uP uM : Nat → Int32) (uF : Nat → Int64), cb_At uT 0 (cb_yt T A z ++ (if z < N then cb_se T z else [])) → xT = nI (cb_yt T A z ++ (if z < N then cb_se T z else [])).length → (z < N → ∃ op, xP = nI op ∧ cx_FP T uK uM uF op z ∧ cb_so T z ≠ 8) → post (xM, xL, xS, xI, xT, xO, xP, nI (cb_rw T z).length, xF, xR, xD, xd, uI, uT, uC, uL, uO, uS, uK, uA, uP, uM, uF)) : wpX_printItem post (xM, xL, xS, xI, xT, xO, xP, xp, xF, xR, xD, xd, uI, uT, uC, uL, uO, uS, uK, uA, uP, uM, uF) := by
  obtain ⟨hLC, hA0, hp0, hr0, hN0, hTB, hN, h8, hF⟩ := id hP
  obtain ⟨r, hr⟩ := cb_rw_drop (T := T) hi
  obtain ⟨⟨b1, b13⟩, b2, b3, b4, b5, b6, b7⟩ := hTB i hi
  obtain ⟨hk, hle, hlim, _⟩ := hF i hi
  have hlev := cx_FP_le hP hFP hi
  have hop : op < 8 := by have := hlim hs8; omega
  have hgt := cb_LC_gt (hLC i hi)
  rw [← he] at hr
  have en1 : cb_n1 (cb_so T i) (cb_nu T i) = cb_hd (cb_so T i) (cb_nu T i) := if_neg hs8
  rw [en1] at hr
  obtain ⟨r0, r1, r2, r3⟩ := cb_hd_rd hr b2
  have hlen := cb_len_drop hr
  have hhl := cb_hd_len (cb_so T i) (cb_nu T i)
  have hbl := cb_getD_lt hb (cb_rw T i).length
  have erw : (cb_rw T (i + 1)).length = (cb_rw T i).length + (1 + cb_ext (cb_nu T i)) := by simp only [cb_rw]; rw [en1, List.length_append, hhl]
  have hsz : cb_sz (e.getD (cb_rw T i).length 0 % 32) = cb_ext (cb_nu T i) := by rw [r2, cb_sz_inf]
  generalize hpos : (cb_rw T i).length = pos at *
  have ev : uO xp.toNatClampNeg = nI (e.getD pos 0) := by rw [hxp, nI_clamp (by omega), cb_At0 hO (by omega)]
  refine ⟨by rw [hxp]; exact vp_in_nI (by omega) (by omega), ?_⟩
  rw [ev, cb_maj hbl, cb_info hbl, r1]
  refine nm_e ⟨by rw [hxp]; exact vp_in_nI (by omega) (by omega), cx_asz (by omega) ?_⟩
  rw [hsz]
  -- the item's own part of the text
  have hytz : ∀ z, z ≤ N → (cb_yt T A z ++ (if z < N then cb_se T z else [])).length ≤ 128 := fun z hz => by have := cb_yt_se (T := T) (A := A) hz; omega
  have hyt1 := hytz (i + 1) (by omega)
  have eyt : cb_yt T A (i + 1) = (cb_yt T A i ++ cb_se T i) ++ (cb_hs (cb_so T i) (cb_nu T i) ++ cb_cs T A (i + 1) (i + 1)) := by simp only [cb_yt]; simp
  have ho1 : ((cb_yt T A i ++ cb_se T i) ++ cb_hs (cb_so T i) (cb_nu T i)).length ≤ 128 := by
    rw [eyt] at hyt1; simp only [List.length_append] at hyt1 ⊢; omega
  generalize hTX : cb_yt T A i ++ cb_se T i = TX at *
  have hnc := cb_nc_le (cb_nu T i)
  have main : ∀ post' : Int64 → Prop, post' (lN (cb_nu T i)) → wpX_argumentAt__out post' (xM, xL, xS, xI, xT, xO, xP, xp, xF, xR, xD, xd, uI, uT, uC, uL, uO, uS, uK, uA, uP, uM, uF) xp := fun post' hpo => by
    have := cx_ao (post := post') (xM := xM) (xL := xL) (xS := xS) (xI := xI) (xT := xT) (xO := xO) (xP := xP) (xp := xp) (xF := xF) (xR := xR) (xD := xD) (xd := xd) (uI := uI) (uT := uT) (uC := uC) (uL := uL) (uO := uO) (uS := uS) (uK := uK) (uA := uA) (uP := uP) (uM := uM) (uF := uF) (o := e) (p := pos) hO (by omega) hb (by rw [hsz]; omega) (by rw [r3]; exact hpo)
    rw [← hxp] at this; exact this
  refine main _ (nm_r (e' := nI (pos + (1 + cb_ext (cb_nu T i)))) (by rw [hxp, show (1 : Int32) = nI 1 from rfl, nI_add, nI_add]) ?_)
  -- a leaf: printed, then what follows it
  have leaf : A i = i + 1 → cb_clo (cb_so T i) = 0 → ∀ (xT : Int32) (uT : Nat → Int32), cb_At uT 0 (TX ++ cb_hs (cb_so T i) (cb_nu T i)) → xT = nI (TX ++ cb_hs (cb_so T i) (cb_nu T i)).length → wX_printItem_125 post xM xL xS xI xT xO xP (nI (pos + (1 + cb_ext (cb_nu T i)))) xF xR xD xd uI uT uC uL uO uS uK uA uP uM uF := by
    intro hA hcl xT uT hT hxT
    have ecs : cb_cs T A (i + 1) (i + 1) = cb_cs T A (i + 1) i := by simp only [cb_cs]; rw [if_neg (fun h => h.2 hcl)]; rfl
    refine ⟨op + 1, cx_ip (z := i + 1) (TF := cb_yt T A (i + 1) ++ (if i + 1 < N then cb_se T (i + 1) else [])) hP hyt1 ?_ op i 0 (op + 1) (TX ++ cb_hs (cb_so T i) (cb_nu T i)) xT xP uT uM uF hi hs8 hA hFP ?_ hT hxT hxP (by omega) (by omega)⟩
    · intro xT xP uT uM uF h1 h2 h3
      rw [← erw]
      exact K (i + 1) (by omega) (by omega) xT xP uT uK uA uP uM uF h1 h2 h3
    · rw [eyt, ecs]; simp
  have opened : cb_so T i ≠ 2 → i + 1 < A i → ∀ (xT : Int32) (uT : Nat → Int32) (uA' uP' : Nat → Int32), cb_At uT 0 (TX ++ cb_hs (cb_so T i) (cb_nu T i)) → xT = nI (TX ++ cb_hs (cb_so T i) (cb_nu T i)).length →
      post (xM, xL, xS, xI, xT, xO, nI (op + 1), nI (pos + (1 + cb_ext (cb_nu T i))), xF, xR, xD, xd, uI, uT, uC, uL, uO, uS, upd uK op (nI (cb_so T i)), uA', uP', upd uM op 0, vp_updL uF op (lN (cb_ki T i))) := by
    intro hn2 hA xT uT uA' uP' hT hxT
    have hcs := cb_cs_open hLC hi hA
    rcases cb_first hLC hi with ⟨a1, _⟩ | ⟨_, _, a3, a4⟩
    · omega
    have hi1 : i + 1 < N := by omega
    have hse : cb_se T (i + 1) = [] := if_neg (fun h => by omega)
    have hz8 : cb_so T (i + 1) ≠ 8 := fun h => by
      have := ((hF (i + 1) hi1).2.2.2.mp h).2
      rw [a3, Nat.add_sub_cancel] at this
      exact hn2 this
    rw [← erw]
    refine K (i + 1) (by omega) (by omega) _ _ uT _ _ _ _ _ ?_ ?_ (fun _ => ⟨op + 1, rfl, ⟨i, a3, pk_us, by rw [pk_us, a4]; rfl, by rw [pk_uLs, a4]; rfl, cx_FP_cg hFP fun j hj => ⟨pk_un (by omega), pk_un (by omega), pk_uLn (by omega)⟩⟩, hz8⟩)
    · rw [if_pos hi1, hse, eyt, hcs]; simpa using hT
    · rw [if_pos hi1, hse, eyt, hcs]; simpa using hxT
  have hk0 : cb_ki T i = 0 → A i = i + 1 := fun h => by
    rcases cb_first hLC hi with ⟨a1, _⟩ | ⟨_, a2, _⟩
    · exact a1
    · omega
  have hk1 : 0 < cb_ki T i → i + 1 < A i := fun h => by
    rcases cb_first hLC hi with ⟨_, a1⟩ | ⟨a2, _⟩
    · omega
    · exact a2
  have hlt : ∀ m, cb_so T i = m → (cb_hs m (cb_nu T i)).length + TX.length ≤ 128 := fun m hm => by rw [← hm]; simp only [List.length_append] at ho1; omega
  -- arrays, maps: opened, and closed at once if empty
  have open45 : ∀ (c : Nat) (due : Int64), (cb_so T i = 4 ∨ cb_so T i = 5) → cb_hs (cb_so T i) (cb_nu T i) = [c] → due = lN (cb_ki T i) → (cb_nu T i = 0 ↔ cb_ki T i = 0) → ∀ (xT : Int32) (uT : Nat → Int32), cb_At uT 0 (TX ++ [c]) → xT = nI (TX ++ [c]).length → wX_printOpening_57 post (lN (cb_nu T i)) due (nI (cb_so T i)) xM xL xS xI xT xO xP (nI (pos + (1 + cb_ext (cb_nu T i)))) xF xR xD xd uI uT uC uL uO uS uK uA uP uM uF := by
    intro c due hso hhs hdue hz xT uT hT hxT
    rw [← hhs] at hT hxT
    refine cx_of (j := op) hop hxP ?_
    rw [hdue]
    refine cb_leq (cb_nu T i) 0 (fun e0 => ?_) (fun e0 => opened (by omega) (hk1 (by omega)) xT uT _ _ hT hxT)
    have hA := hk0 (hz.mp e0)
    have hcl : cb_cl (cb_so T i) = cb_clo (cb_so T i) := by unfold cb_cl cb_clo; rcases hso with h | h <;> simp [h]
    have hclo : cb_clo (cb_so T i) ≠ 0 := by unfold cb_clo; rcases hso with h | h <;> simp [h]
    have ecs : cb_cs T A (i + 1) (i + 1) = cb_clo (cb_so T i) :: cb_cs T A (i + 1) i := by simp only [cb_cs]; rw [if_pos ⟨hA, hclo⟩]; rfl
    have eyt2 : cb_yt T A (i + 1) = ((TX ++ cb_hs (cb_so T i) (cb_nu T i)) ++ [cb_clo (cb_so T i)]) ++ cb_cs T A (i + 1) i := by rw [eyt, ecs]; simp
    have hlen2 : (TX ++ cb_hs (cb_so T i) (cb_nu T i)).length < 128 := by
      rw [eyt2] at hyt1; simp only [List.length_append, List.length_cons, List.length_nil] at hyt1 ⊢; omega
    refine br_f (nI_ne0 (by omega) (by omega)) (nm_r (nI_pred op) ⟨vp_in_nI hop (by omega), ?_⟩)
    rw [nI_clamp (by omega), pk_us]
    refine cx_clo (by omega) ?_
    rw [hcl]
    refine cx_pc hT hxT hlen2 fun uT1 hT1 => ?_
    refine ⟨op + 1, cx_ip (z := i + 1) (TF := cb_yt T A (i + 1) ++ (if i + 1 < N then cb_se T (i + 1) else [])) hP hyt1 ?_ op i 0 (op + 1) _ _ _ uT1 _ _ hi hs8 hA (cx_FP_cg hFP fun j hj => ⟨pk_un (by omega), pk_un (by omega), pk_uLn (by omega)⟩) ?_ hT1 rfl rfl (by omega) (by omega)⟩
    · intro xT xP uT uM uF h1 h2 h3
      rw [← erw]
      exact K (i + 1) (by omega) (by omega) xT xP uT _ _ _ uM uF h1 h2 h3
    · rw [eyt2]; simp
  -- numbers
  have num : (cb_so T i = 0 ∨ cb_so T i = 1 ∨ cb_so T i = 7) → wX_printItem_72 post (nI (cb_so T i)) (lN (cb_nu T i)) xM xL xS xI xT xO xP (nI (pos + (1 + cb_ext (cb_nu T i)))) xF xR xD xd uI uT uC uL uO uS uK uA uP uM uF := by
    intro hso
    have hA : A i = i + 1 := hk0 (by rw [hk]; unfold cb_c1; rcases hso with h | h | h <;> simp [h])
    have hcl : cb_clo (cb_so T i) = 0 := by unfold cb_clo; rcases hso with h | h | h <;> simp [h]
    have hl := hlt _ rfl
    refine pk_eq (cb_so T i) 2 (fun h => by omega) (fun _ => pk_eq (cb_so T i) 1 (fun e1 => ?_) (fun e1 => pk_eq (cb_so T i) 7 (fun e7 => ?_) (fun e7 => pk_eq (cb_so T i) 1 (fun h => absurd h e1) (fun _ => ?_))))
    · have ehs : cb_hs (cb_so T i) (cb_nu T i) = [45] ++ cb_fd (cb_nu T i + 1) (cb_nc (cb_nu T i + 1)) := by rw [e1]; rfl
      rw [ehs] at hl leaf
      rw [List.length_append, cb_fd_len, List.length_singleton] at hl
      refine cx_pc (c := 45) hT hxT (by omega) fun uT1 hT1 => ?_
      refine pk_eq (cb_so T i) 7 (fun h => by omega) (fun _ => pk_eq (cb_so T i) 1 (fun _ => ?_) (fun h => absurd e1 h))
      rw [lN_1]
      refine cx_pn hT1 rfl (by simp; omega) (by omega) fun uT2 hT2 => ?_
      rw [List.append_assoc] at hT2 ⊢
      exact leaf hA hcl _ uT2 hT2 rfl
    · have ehs : cb_hs (cb_so T i) (cb_nu T i) = [115] ++ cb_fd (cb_nu T i) (cb_nc (cb_nu T i)) := by rw [e7]; rfl
      rw [ehs] at hl leaf
      rw [List.length_append, cb_fd_len, List.length_singleton] at hl
      refine cx_pc (c := 115) hT hxT (by omega) fun uT1 hT1 => pk_eq (cb_so T i) 1 (fun h => absurd h e1) (fun _ => ?_)
      refine cx_pn hT1 rfl (by simp; omega) (by omega) fun uT2 hT2 => ?_
      rw [List.append_assoc] at hT2 ⊢
      exact leaf hA hcl _ uT2 hT2 rfl
    · have e0 : cb_so T i = 0 := by omega
      have ehs : cb_hs (cb_so T i) (cb_nu T i) = cb_fd (cb_nu T i) (cb_nc (cb_nu T i)) := by rw [e0]; rfl
      rw [ehs] at hl leaf
      rw [cb_fd_len] at hl
      refine cx_pn hT hxT (by omega) (by omega) fun uT2 hT2 => ?_
      exact leaf hA hcl _ uT2 hT2 rfl
  -- byte strings
  have str : cb_so T i = 2 → wX_printItem_72 post (nI (cb_so T i)) (lN (cb_nu T i)) xM xL xS xI xT xO xP (nI (pos + (1 + cb_ext (cb_nu T i)))) xF xR xD xd uI uT uC uL uO uS uK uA uP uM uF := by
    intro h2
    obtain ⟨hA2, hB2⟩ := cb_str hP hi h2
    have hys := cb_yt_s2 hP hi h2
    have hrw : ∀ t, t ≤ cb_nu T i → (cb_rw T (i + 1 + t)).length = (cb_rw T (i + 1)).length + t := by
      intro t
      induction t with
      | zero => intro _; rfl
      | succ t ih =>
        intro ht
        have h8' := (hB2 t (by omega)).2.1
        rw [← Nat.add_assoc]
        simp only [cb_rw] at ih ⊢
        rw [List.length_append, ih (by omega), cb_n1_len, if_pos h8']; omega
    have hn32 : cb_nu T i < 2 ^ 31 := by omega
    have hrn := hrw (cb_nu T i) (Nat.le_refl _)
    have hrl : (cb_rw T (i + 1 + cb_nu T i)).length ≤ e.length := by rw [he]; exact cb_rw_le (by omega)
    have hyz := hytz (A i) hgt.2
    have eys : cb_yt T A (A i) = (TX ++ ([104, 39] ++ (cb_hxl T i (cb_nu T i) ++ [39]))) ++ cb_cs T A (A i) i := by rw [hys, ← hTX]; simp
    have hxlen : ∀ t, (cb_hxl T i t).length = 2 * t := by
      intro t
      induction t with
      | zero => rfl
      | succ t ih => simp [cb_hxl, ih]; omega
    have hroom : TX.length + 3 + 2 * cb_nu T i ≤ 128 := by
      rw [eys] at hyz; simp [hxlen] at hyz; omega
    refine pk_eq (cb_so T i) 2 (fun _ => ?_) (fun h => absurd h2 h)
    rw [lN_i, ← erw]
    refine cx_pby (T := T) (i := i) (p := (cb_rw T (i + 1)).length) (n := cb_nu T i) hO hxO hel hb rfl (by omega) ?_ hroom hT hxT fun uT1 hT1 => ?_
    · intro t ht
      obtain ⟨c1, c2, c3⟩ := hB2 t ht
      obtain ⟨r', hr'⟩ := cb_rw_drop (T := T) c1
      rw [← he, hrw t (by omega)] at hr'
      have := (cb_hd0 (xs := r') (x := cb_nu T (i + 1 + t)) (by rw [hr']; unfold cb_n1; rw [if_pos c2]; rfl)).1
      exact this
    · refine ⟨op + 1, cx_ip (z := A i) (TF := cb_yt T A (A i) ++ (if A i < N then cb_se T (A i) else [])) hP hyz ?_ op i 0 (op + 1) _ _ _ uT1 _ _ hi hs8 rfl hFP ?_ hT1 rfl hxP (by omega) (by omega)⟩
      · intro xT xP uT uM uF h1 h2 h3
        rw [← hrn, ← hA2]
        exact K (A i) hgt.1 hgt.2 xT xP uT _ _ _ uM uF h1 h2 h3
      · rw [eys]; simp
  refine pk_lt (cb_so T i) 4 (fun h4 => ?_) (fun h4 => pk_lt 6 (cb_so T i) (fun h6 => num (by omega)) (fun h6 => ?_))
  · by_cases h2 : cb_so T i = 2
    · exact str h2
    · exact num (by omega)
  · refine pk_eq (cb_so T i) 6 (fun e6 => ?_) (fun e6 => pk_eq (cb_so T i) 4 (fun e4 => ?_) (fun e4 => ?_))
    · have ehs : cb_hs (cb_so T i) (cb_nu T i) = cb_fd (cb_nu T i) (cb_nc (cb_nu T i)) ++ [40] := by rw [e6]; rfl
      have hl := hlt _ rfl
      have hki : cb_ki T i = 1 := by rw [hk, e6]; rfl
      rw [ehs] at hl opened
      rw [List.length_append, cb_fd_len, List.length_singleton] at hl
      refine cx_pn hT hxT (by omega) (by omega) fun uT1 hT1 => ?_
      refine cx_pc (c := 40) hT1 rfl (by simp [cb_fd_len]; omega) fun uT2 hT2 => ?_
      rw [List.append_assoc] at hT2 ⊢
      refine cx_of (m := 6) (j := op) hop hxP ?_
      have := opened (by omega) (hk1 (by omega)) _ uT2 (upd uA op xO) (upd uP op xO) hT2 rfl
      rw [e6, hki] at this
      exact this
    · have ehs : cb_hs (cb_so T i) (cb_nu T i) = [91] := by rw [e4]; rfl
      have hki : cb_ki T i = cb_nu T i := by rw [hk, e4]; rfl
      have hl := hlt _ rfl
      rw [ehs] at hl
      refine cx_pc (c := 91) hT hxT (by simp at hl; omega) fun uT1 hT1 => pk_eq (cb_so T i) 4 (fun _ => ?_) (fun h => absurd e4 h)
      exact open45 91 _ (by omega) ehs (by rw [hki]) (by rw [hki]) _ uT1 hT1 rfl
    · have e5 : cb_so T i = 5 := by omega
      have ehs : cb_hs (cb_so T i) (cb_nu T i) = [123] := by rw [e5]; rfl
      have hki : cb_ki T i = 2 * cb_nu T i := by rw [hk, e5]; rfl
      have hl := hlt _ rfl
      rw [ehs] at hl
      refine cx_pc (c := 123) hT hxT (by simp at hl; omega) fun uT1 hT1 => pk_eq (cb_so T i) 4 (fun h => absurd h e4) (fun _ => ?_)
      exact open45 123 _ (by omega) ehs (by rw [hki, show (2 : Int64) = lN 2 from rfl, lN_mul]) (by rw [hki]; omega) _ uT1 hT1 rfl
end cxo
end
section
/-! X: the whole text; Y: printing -/
section cxp
variable {xM xL xS xI xO xF xR xD xd : Int32} {uI uC uL uO uS : Nat → Int32} {T : cb_Tb} {A : Nat → Nat} {E : Nat → List Nat} {lim N : Nat}
theorem cb_rw_ge (T : cb_Tb) : ∀ i, i ≤ (cb_rw T i).length := by
  intro i
  induction i with
  | zero => simp
  | succ i ih =>
    simp only [cb_rw, List.length_append]
    have : 0 < (cb_n1 (cb_so T i) (cb_nu T i)).length := by rw [cb_n1_len]; split <;> omega
    omega
theorem cb_rw_st {T : cb_Tb} {i N : Nat} (h : i < N) : (cb_rw T i).length < (cb_rw T N).length := by
  obtain ⟨r, hr⟩ := cb_rw_pre T (i + 1) N (by omega)
  rw [hr, List.length_append]
  simp only [cb_rw, List.length_append]
  have : 0 < (cb_n1 (cb_so T i) (cb_nu T i)).length := by rw [cb_n1_len]; split <;> omega
  omega
theorem cx_pl {post : Int32 → SX → Prop} {e : List Nat} (hP : cb_PF lim T A E N) (he : e = cb_rw T N) (hel : e.length ≤ 32) (hb : ∀ b ∈ e, b < 256) (hO : cb_At uO 0 e) (hxO : xO = nI e.length) (hy : (cb_yt T A N).length ≤ 128)
    (K : ∀ (xT xP xp : Int32) (uT uK uA uP uM : Nat → Int32) (uF : Nat → Int64), cb_At uT 0 (cb_yt T A N) → xT = nI (cb_yt T A N).length → post 0 (xM, xL, xS, xI, xT, xO, xP, xp, xF, xR, xD, xd, uI, uT, uC, uL, uO, uS, uK, uA, uP, uM, uF)) :
    ∀ (d i t n : Nat) (xT xP : Int32) (uT uK uA uP uM : Nat → Int32) (uF : Nat → Int64), N ≤ i + d → i ≤ N → t ≤ i → d < n → cb_At uT 0 (cb_yt T A i ++ (if i < N then cb_se T i else [])) → xT = nI (cb_yt T A i ++ (if i < N then cb_se T i else [])).length → (i < N → ∃ op, xP = nI op ∧ cx_FP T uK uM uF op i ∧ cb_so T i ≠ 8) →
      wX_print_38 post n (nI t) xM xL xS xI xT xO xP (nI (cb_rw T i).length) xF xR xD xd uI uT uC uL uO uS uK uA uP uM uF := by
  have hN : N ≤ 32 := hP.2.2.2.2.2.2.1
  intro d
  induction d with
  | zero =>
    intro i t n xT xP uT uK uA uP uM uF hd hi ht hn hT hxT hop
    obtain ⟨n, rfl⟩ : ∃ k, n = k + 1 := ⟨n - 1, by omega⟩
    have : i = N := by omega
    subst this
    rw [if_neg (by omega), List.append_nil] at hT hxT
    have fin := K xT xP (nI (cb_rw T i).length) uT uK uA uP uM uF hT hxT
    exact br_c (fun _ => fin) (fun _ => br_t (by rw [hxO, he]; exact nI_le (Nat.le_refl _) (by rw [← he]; omega)) fin)
  | succ d ih =>
    intro i t n xT xP uT uK uA uP uM uF hd hi ht hn hT hxT hop
    by_cases hiN : i < N
    · obtain ⟨n, rfl⟩ : ∃ k, n = k + 1 := ⟨n - 1, by omega⟩
      obtain ⟨op, hxP, hFP, hs8⟩ := hop hiN
      have hst := cb_rw_st (T := T) hiN
      rw [← he] at hst
      rw [if_pos hiN] at hT hxT
      refine br_f (nI_ge (b := 32) (by omega) (by omega)) (br_f (by rw [hxO]; exact nI_ge hst (by omega)) ?_)
      refine cx_pi hP he hel hb hO hxO hiN hs8 hFP hxP rfl hT hxT hy ?_
      intro z hz1 hz2 xT xP uT uK uA uP uM uF h1 h2 h3
      exact nm_r (nI_1 _) (ih z (t + 1) n xT xP uT uK uA uP uM uF (by omega) hz2 (by omega) (by omega) h1 h2 h3)
    · exact (by
        obtain ⟨n, rfl⟩ : ∃ k, n = k + 1 := ⟨n - 1, by omega⟩
        have : i = N := by omega
        subst this
        rw [if_neg (by omega), List.append_nil] at hT hxT
        have fin := K xT xP (nI (cb_rw T i).length) uT uK uA uP uM uF hT hxT
        exact br_c (fun _ => fin) (fun _ => br_t (by rw [hxO, he]; exact nI_le (Nat.le_refl _) (by rw [← he]; omega)) fin))
end cxp
def cy_T2 (vC0 vL0 vC vL : Nat → Int32) (W : List Nat) : Prop := cb_At vC 0 W ∧ vL 0 = nI W.length ∧ (∀ j, 128 ≤ j → vC j = vC0 j) ∧ (∀ j, j ≠ 0 → vL j = vL0 j)
section cyj
variable {yM yD yS yN yF : Int32} {vC vL vS vP vV vK vR vA vB : Nat → Int32} {vN vE : Nat → Int64}
theorem cy_px {post : Int32 → SY → Prop} {vC0 vL0 : Nat → Int32} {W : List Nat} {x : Nat} {c : Int32} (hc : c = nI x) (h : cy_T2 vC0 vL0 vC vL W) (hn : W.length < 128) (K : ∀ vC vL : Nat → Int32, cy_T2 vC0 vL0 vC vL (W ++ [x]) → post 0 (yM, yD, yS, yN, yF, vC, vL, vS, vP, vV, vK, vR, vA, vB, vN, vE)) : wpY_put post (yM, yD, yS, yN, yF, vC, vL, vS, vP, vV, vK, vR, vA, vB, vN, vE) (-2) c := by
  obtain ⟨h1, h2, h3, h4⟩ := h
  rw [hc]
  refine cy_put (pl := 0) (by decide) (by omega) h2 hn (K _ _ ⟨?_, by rw [pk_us]; simp, fun j hj => by rw [pk_un (by omega)]; exact h3 j hj, fun j hj => by rw [pk_un hj]; exact h4 j hj⟩)
  have := cb_At_snoc (x := x) h1
  exact this
theorem cy_cl2 {post : Int32 → Prop} {m : Nat} (hm : m ≤ 8) (h : post (nI (cb_clo m))) : wpY_closer post (yM, yD, yS, yN, yF, vC, vL, vS, vP, vV, vK, vR, vA, vB, vN, vE) (nI m) := by
  unfold cb_clo at h
  refine pk_eq m 2 (fun e => ?_) (fun e => pk_eq m 4 (fun e2 => ?_) (fun e2 => pk_eq m 5 (fun e3 => ?_) (fun e3 => pk_eq m 6 (fun e4 => ?_) (fun e4 => ?_))))
  · rw [if_pos e] at h; exact h
  · rw [if_neg e, if_pos e2] at h; exact h
  · rw [if_neg e, if_neg e2, if_pos e3] at h; exact h
  · rw [if_neg e, if_neg e2, if_neg e3, if_pos e4] at h; exact h
  · rw [if_neg e, if_neg e2, if_neg e3, if_neg e4] at h; exact h
end cyj
section cyk
variable {yM yD yS yF : Int32} {vS vP vV vK vR vA vB : Nat → Int32} {vN vE : Nat → Int64} {T : cb_Tb} {A : Nat → Nat} {N : Nat}
theorem cy_393 {post : Int32 → SY → Prop} {J : Int32 → Int32 → Int32 → Int32 → Int32 → Int32 → (Nat → Int32) → (Nat → Int32) → (Nat → Int32) → (Nat → Int32) → (Nat → Int32) → (Nat → Int32) → (Nat → Int32) → (Nat → Int32) → (Nat → Int32) → (Nat → Int64) → (Nat → Int64) → Prop}
    {i : Nat} {W' : List Nat} {vC0 vL0 : Nat → Int32} (hN : N ≤ 128) (hi : i < N) (hTA : cy_TA T N vS vP vV vK vR vN vE) (hTB : cb_TB T N) (hvA : ∀ j, j < N → vA j = nI (A j)) (hAN : ∀ j, j < N → A j ≤ N) (hW : W'.length ≤ 128)
    (K : ∀ vC vL : Nat → Int32, cy_T2 vC0 vL0 vC vL W' → J (nI (i + 1)) yM yD yS (nI N) yF vC vL vS vP vV vK vR vA vB vN vE) :
    ∀ k W n (vC vL : Nat → Int32), k ≤ i + 1 → k < n → W' = W ++ cb_cs T A (i + 1) k → cy_T2 vC0 vL0 vC vL W → wY_print_393 post J (nI i) n (cb_I k) yM yD yS (nI N) yF vC vL vS vP vV vK vR vA vB vN vE := by
  intro k
  induction k with
  | zero =>
    intro W n vC vL hk hn hWe h2
    obtain ⟨n, rfl⟩ : ∃ k, n = k + 1 := ⟨n - 1, by omega⟩
    have : W' = W := by rw [hWe]; simp [cb_cs]
    subst this
    exact br_t (by decide) (nm_r (nI_1 _) (K vC vL h2))
  | succ j ih =>
    intro W n vC vL hk hn hWe h2
    obtain ⟨n, rfl⟩ : ∃ k, n = k + 1 := ⟨n - 1, by omega⟩
    have hjN : j < N := by omega
    obtain ⟨⟨b1, b13⟩, b2, b3, b4, b5, b6, b7⟩ := hTB j hjN
    have hin : vp_in (nI j) 128 := vp_in_nI (by omega) (by omega)
    have hdec : nI j + (-1) = cb_I j := by show nI j + (-1) = nI j - 1; rw [Int32.sub_eq_add_neg]
    rw [cb_Is]
    refine br_f (nI_pos (by omega)) ⟨hin, ?_⟩
    rw [nI_clamp (by omega), (hTA j hjN).1]
    refine cy_cl2 b1 ⟨hin, ?_⟩
    rw [hvA j hjN, nI_1]
    have hAj := hAN j hjN
    simp only [cb_cs] at hWe
    refine pk_eq (A j) (i + 1) (fun e => ?_) (fun e => ?_)
    · have hcb : cb_clo (cb_so T j) < 2 ^ 31 := by
        unfold cb_clo
        repeat' split
        all_goals omega
      refine pk_le (cb_clo (cb_so T j)) 0 (fun e0 => nm_r hdec ?_) (fun e0 => ?_)
      · rw [if_neg (by omega)] at hWe
        exact ih W n vC vL (by omega) (by omega) (by rw [hWe]; rfl) h2
      · rw [if_pos ⟨e, by omega⟩] at hWe
        have hWe' : W' = (W ++ [cb_clo (cb_so T j)]) ++ cb_cs T A (i + 1) j := by rw [hWe]; simp
        have hlen : W.length < 128 := by have := congrArg List.length hWe'; simp at this; omega
        refine cy_px rfl h2 hlen fun vC vL h2' => nm_r hdec (ih _ n vC vL (by omega) (by omega) hWe' h2')
    · rw [if_neg (fun h => e h.1)] at hWe
      exact nm_r hdec (ih W n vC vL (by omega) (by omega) (by rw [hWe]; rfl) h2)
theorem cy_234 {post : Int32 → SY → Prop} {J : Int32 → Int32 → Int32 → Int32 → Int32 → Int32 → (Nat → Int32) → (Nat → Int32) → (Nat → Int32) → (Nat → Int32) → (Nat → Int32) → (Nat → Int32) → (Nat → Int32) → (Nat → Int32) → (Nat → Int32) → (Nat → Int64) → (Nat → Int64) → Prop}
    {i m v : Nat} {x7 x9 : Int64} {yN : Int32} {W' : List Nat} {vC0 vL0 : Nat → Int32} (hm : m = 0 ∨ m = 1 ∨ m = 6 ∨ m = 7) (hv : v < 2 ^ 62) (hW : W'.length ≤ 128)
    (K : ∀ vC vL : Nat → Int32, cy_T2 vC0 vL0 vC vL W' → wY_print_305 post J (nI i) (nI m) x7 x9 yM yD yS yN yF vC vL vS vP vV vK vR vA vB vN vE) :
    ∀ k W n (vC vL : Nat → Int32), k ≤ 10 → k < n → W' = W ++ cb_dd v k → cy_T2 vC0 vL0 vC vL W → wY_print_234 post J (nI i) (nI m) (lN v) x7 x9 n (lN (10 ^ k / 10)) yM yD yS yN yF vC vL vS vP vV vK vR vA vB vN vE := by
  intro k
  induction k with
  | zero =>
    intro W n vC vL hk hn hWe h2
    obtain ⟨n, rfl⟩ : ∃ k, n = k + 1 := ⟨n - 1, by omega⟩
    have : W' = W := by rw [hWe]; simp [cb_dd]
    subst this
    exact br_t (by decide) (K vC vL h2)
  | succ k ih =>
    intro W n vC vL hk hn hWe h2
    obtain ⟨n, rfl⟩ : ∃ k, n = k + 1 := ⟨n - 1, by omega⟩
    have eu : 10 ^ (k + 1) / 10 = 10 ^ k := by rw [Nat.pow_succ]; exact Nat.mul_div_cancel _ (by omega)
    have hpos : 0 < 10 ^ k := Nat.pow_pos (by omega)
    have hle : 10 ^ k ≤ 10 ^ 9 := Nat.pow_le_pow_right (by omega) (by omega)
    rw [eu]
    have hdiv : lN (10 ^ k) / 10 = lN (10 ^ k / 10) := by rw [show (10 : Int64) = lN 10 from rfl, pk_lDiv (by omega) (by omega) (by omega)]
    simp only [cb_dd] at hWe
    have h273 : (10 ^ k ≤ v ∨ k = 0) → wY_print_273 post J (wY_print_234 post J (nI i) (nI m) (lN v) x7 x9 n) (nI i) (nI m) (lN v) x7 x9 (lN (10 ^ k)) yM yD yS yN yF vC vL vS vP vV vK vR vA vB vN vE := by
      intro hc
      rw [if_pos hc] at hWe
      have hWe' : W' = (W ++ [48 + v / 10 ^ k % 10]) ++ cb_dd v k := by rw [hWe]; simp
      have hlen : W.length < 128 := by have := congrArg List.length hWe'; simp at this; omega
      have hvle : v / 10 ^ k ≤ v := Nat.div_le_self _ _
      refine ⟨?_, by decide, ?_⟩
      · intro h; have := (pk_lEQ (a := 10 ^ k) (b := 0) (by omega) (by omega)).mp h; omega
      · refine cy_px (x := 48 + v / 10 ^ k % 10) ?_ h2 hlen fun vC vL h2' => ⟨by decide, nm_r hdiv (ih _ n vC vL (by omega) (by omega) hWe' h2')⟩
        rw [pk_lDiv (by omega) hpos (by omega), show (10 : Int64) = lN 10 from rfl, pk_lRem (by omega) (by omega) (by omega), show (48 : Int64) = lN 48 from rfl, lN_add, lN_i]
    have h258 : wY_print_258 post J (wY_print_234 post J (nI i) (nI m) (lN v) x7 x9 n) (nI i) (nI m) (lN v) x7 x9 (lN (10 ^ k)) yM yD yS yN yF vC vL vS vP vV vK vR vA vB vN vE := by
      refine cb_lle (10 ^ k) v (fun h => h273 (Or.inl h)) (fun h => cb_leq (10 ^ k) 1 (fun e1 => h273 (Or.inr ?_)) (fun e1 => ⟨by decide, nm_r hdiv ?_⟩))
      · cases k with
        | zero => rfl
        | succ k => rw [Nat.pow_succ] at e1; have := Nat.pow_pos (n := k) (show 0 < 10 by omega); omega
      · have hk0 : k ≠ 0 := fun e => e1 (by rw [e])
        rw [if_neg (by omega)] at hWe
        exact ih W n vC vL (by omega) (by omega) (by rw [hWe]; rfl) h2
    refine br_f (by show ¬ lN _ ≤ lN 0; rw [pk_lLE (by omega) (by omega)]; omega) (pk_lt m 2 (fun _ => h258) (fun g2 => pk_eq m 6 (fun _ => h258) (fun g6 => pk_eq m 7 (fun _ => h258) (fun g7 => by omega))))
theorem cy_pf {post : Int32 → SY → Prop} {J : Int32 → Int32 → Int32 → Int32 → Int32 → Int32 → (Nat → Int32) → (Nat → Int32) → (Nat → Int32) → (Nat → Int32) → (Nat → Int32) → (Nat → Int32) → (Nat → Int32) → (Nat → Int32) → (Nat → Int32) → (Nat → Int64) → (Nat → Int64) → Prop}
    {i : Nat} {W : List Nat} {vC0 vL0 vC vL : Nat → Int32} (hN : N ≤ 128) (hi : i < N) (hTA : cy_TA T N vS vP vV vK vR vN vE) (hTB : cb_TB T N) (hvA : ∀ j, j < N → vA j = nI (A j)) (hAN : ∀ j, j < N → A j ≤ N) (h8b : cb_so T i = 8 → cb_nu T i < 256) (hpar : 0 < cb_ra T i → 0 < cb_pa T i) (hW : (W ++ (cb_se T i ++ (cb_hs (cb_so T i) (cb_nu T i) ++ cb_cs T A (i + 1) (i + 1)))).length ≤ 128) (h2 : cy_T2 vC0 vL0 vC vL W)
    (K : ∀ vC vL : Nat → Int32, cy_T2 vC0 vL0 vC vL (W ++ (cb_se T i ++ (cb_hs (cb_so T i) (cb_nu T i) ++ cb_cs T A (i + 1) (i + 1)))) → J (nI (i + 1)) yM yD yS (nI N) yF vC vL vS vP vV vK vR vA vB vN vE) (sg : Nat) (hsg : sg = if cb_so T i = 1 then 45 else if cb_so T i = 2 then 104 else if cb_so T i = 4 then 91 else if cb_so T i = 5 then 123 else if cb_so T i = 7 then 115 else 0) :
    wY_print_101 post J (nI i) (nI (cb_so T i)) (nI sg) yM yD yS (nI N) yF vC vL vS vP vV vK vR vA vB vN vE := by
  obtain ⟨t1, t2, t3, t4, t5, t6, t7⟩ := hTA i hi
  obtain ⟨⟨b1, b13⟩, b2, b3, b4, b5, b6, b7⟩ := hTB i hi
  have hin : vp_in (nI i) 128 := vp_in_nI (by omega) (by omega)
  have hsgb : sg < 2 ^ 31 := by
    rw [hsg]
    repeat' split
    all_goals omega
  simp only [List.length_append] at hW
  -- the closing signs
  have h393 : ∀ (vC vL : Nat → Int32), cy_T2 vC0 vL0 vC vL (W ++ (cb_se T i ++ cb_hs (cb_so T i) (cb_nu T i))) → ∃ n393 : Nat, wY_print_393 post J (nI i) n393 (nI i) yM yD yS (nI N) yF vC vL vS vP vV vK vR vA vB vN vE := by
    intro vC vL h2
    have := cy_393 (J := J) (post := post) (yM := yM) (yD := yD) (yS := yS) (yF := yF) (vB := vB) (W' := W ++ (cb_se T i ++ (cb_hs (cb_so T i) (cb_nu T i) ++ cb_cs T A (i + 1) (i + 1)))) hN hi hTA hTB hvA hAN (by simp only [List.length_append]; omega) K (i + 1) (W ++ (cb_se T i ++ cb_hs (cb_so T i) (cb_nu T i))) (i + 2) vC vL (Nat.le_refl _) (by omega) (by simp) h2
    rw [cb_Is] at this
    exact ⟨_, this⟩
  -- behind the number
  have h305 : ∀ (x7 x9 : Int64) (vC vL : Nat → Int32), (cb_so T i = 8 → x7 = lN (cb_nu T i / 16) ∧ x9 = lN (cb_nu T i % 16) ∧ cy_T2 vC0 vL0 vC vL (W ++ cb_se T i)) → (cb_so T i = 6 → cy_T2 vC0 vL0 vC vL (W ++ (cb_se T i ++ cb_fd (cb_nu T i) (cb_nc (cb_nu T i))))) → (cb_so T i ≠ 8 → cb_so T i ≠ 6 → cy_T2 vC0 vL0 vC vL (W ++ (cb_se T i ++ cb_hs (cb_so T i) (cb_nu T i)))) → wY_print_305 post J (nI i) (nI (cb_so T i)) x7 x9 yM yD yS (nI N) yF vC vL vS vP vV vK vR vA vB vN vE := by
    intro x7 x9 vC vL g8 g6 g0
    refine pk_eq (cb_so T i) 8 (fun e8 => ?_) (fun e8 => ?_)
    · obtain ⟨e7, e9, h2⟩ := g8 e8
      have hv := h8b e8
      have ehs : cb_hs (cb_so T i) (cb_nu T i) = [cb_hc (cb_nu T i / 16), cb_hc (cb_nu T i % 16)] := by rw [e8]; exact cb_hs8 _
      rw [ehs] at hW h393
      have h375 : ∀ (vC vL : Nat → Int32), cy_T2 vC0 vL0 vC vL (W ++ (cb_se T i ++ [cb_hc (cb_nu T i / 16), cb_hc (cb_nu T i % 16)])) → wY_print_375 post J (nI i) (nI (cb_so T i)) yM yD yS (nI N) yF vC vL vS vP vV vK vR vA vB vN vE := fun vC vL h2 => pk_eq (cb_so T i) 6 (fun h => by omega) (fun _ => h393 vC vL h2)
      have hlow : ∀ (vC vL : Nat → Int32), cy_T2 vC0 vL0 vC vL (W ++ cb_se T i ++ [cb_hc (cb_nu T i / 16)]) → ((10 ≤ x9 → (wY_print_370 post J (nI i) (nI (cb_so T i)) (87 + x9) (-2) yM yD yS (nI N) yF vC vL vS vP vV vK vR vA vB vN vE)) ∧ (¬ 10 ≤ x9 → (wY_print_370 post J (nI i) (nI (cb_so T i)) (48 + x9) (-2) yM yD yS (nI N) yF vC vL vS vP vV vK vR vA vB vN vE))) := by
        intro vC vL h2
        have e3 : W ++ cb_se T i ++ [cb_hc (cb_nu T i / 16)] ++ [cb_hc (cb_nu T i % 16)] = W ++ (cb_se T i ++ [cb_hc (cb_nu T i / 16), cb_hc (cb_nu T i % 16)]) := by simp
        have hl3 : (W ++ cb_se T i ++ [cb_hc (cb_nu T i / 16)]).length < 128 := by simp at hW ⊢; omega
        refine cb_lle 10 (cb_nu T i % 16) (fun g => ?_) (fun g => ?_) rfl e9
        · refine cy_px (x := cb_hc (cb_nu T i % 16)) ?_ h2 hl3 fun vC vL h2' => h375 vC vL (by rw [e3] at h2'; exact h2')
          rw [e9, show (87 : Int64) = lN 87 from rfl, lN_add, lN_i]; unfold cb_hc; rw [if_neg (by omega)]
        · refine cy_px (x := cb_hc (cb_nu T i % 16)) ?_ h2 hl3 fun vC vL h2' => h375 vC vL (by rw [e3] at h2'; exact h2')
          rw [e9, show (48 : Int64) = lN 48 from rfl, lN_add, lN_i]; unfold cb_hc; rw [if_pos (by omega)]
      have hl2 : (W ++ cb_se T i).length < 128 := by simp at hW ⊢; omega
      refine cb_lle 10 (cb_nu T i / 16) (fun g => ?_) (fun g => ?_) rfl e7
      · refine cy_px (x := cb_hc (cb_nu T i / 16)) ?_ h2 hl2 fun vC vL h2' => hlow vC vL h2'
        rw [e7, show (87 : Int64) = lN 87 from rfl, lN_add, lN_i]; unfold cb_hc; rw [if_neg (by omega)]
      · refine cy_px (x := cb_hc (cb_nu T i / 16)) ?_ h2 hl2 fun vC vL h2' => hlow vC vL h2'
        rw [e7, show (48 : Int64) = lN 48 from rfl, lN_add, lN_i]; unfold cb_hc; rw [if_pos (by omega)]
    · refine pk_eq (cb_so T i) 6 (fun e6 => ?_) (fun e6 => h393 vC vL (g0 e8 e6))
      have ehs : cb_hs (cb_so T i) (cb_nu T i) = cb_fd (cb_nu T i) (cb_nc (cb_nu T i)) ++ [40] := by rw [e6]; rfl
      rw [ehs] at hW h393
      refine cy_px (x := 40) rfl (g6 e6) (by simp at hW ⊢; omega) fun vC vL h2' => h393 vC vL ?_
      rw [List.append_assoc, List.append_assoc] at h2'; exact h2'
  have hseb : (cb_se T i).length ≤ 1 := by unfold cb_se; split <;> simp
  -- from the sign on
  have h201 : ∀ (v : Nat) (x7 x9 : Int64) (vC vL : Nat → Int32), v = (if cb_so T i = 1 then cb_nu T i + 1 else cb_nu T i) → (cb_so T i = 8 → x7 = lN (cb_nu T i / 16) ∧ x9 = lN (cb_nu T i % 16)) → cy_T2 vC0 vL0 vC vL (W ++ cb_se T i) → wY_print_201 post J (nI i) (nI (cb_so T i)) (nI sg) (lN v) x7 x9 yM yD yS (nI N) yF vC vL vS vP vV vK vR vA vB vN vE := by
    intro v x7 x9 vC vL hv hx h2
    have hdig : ∀ (P : List Nat) (vC vL : Nat → Int32), (cb_so T i = 0 ∨ cb_so T i = 1 ∨ cb_so T i = 6 ∨ cb_so T i = 7) → cy_T2 vC0 vL0 vC vL (W ++ cb_se T i ++ P) → (cb_so T i ≠ 6 → P ++ cb_fd v (cb_nc v) = cb_hs (cb_so T i) (cb_nu T i)) → (cb_so T i = 6 → P = []) → ∃ n234 : Nat, wY_print_234 post J (nI i) (nI (cb_so T i)) (lN v) x7 x9 n234 1000000000 yM yD yS (nI N) yF vC vL vS vP vV vK vR vA vB vN vE := by
      intro P vC vL hm h2 hP hP6
      refine ⟨11, cy_234 (v := v) (W' := W ++ cb_se T i ++ P ++ cb_dd v 10) (vC0 := vC0) (vL0 := vL0) hm (by rw [hv]; split <;> omega) ?_ (fun vC vL h2 => h305 x7 x9 vC vL (fun h => by omega) (fun h6 => ?_) (fun h8 h6 => ?_)) 10 _ 11 vC vL (by omega) (by omega) rfl h2⟩
      · rw [cb_dd10]
        by_cases h6 : cb_so T i = 6
        · have ehs : cb_hs (cb_so T i) (cb_nu T i) = cb_fd (cb_nu T i) (cb_nc (cb_nu T i)) ++ [40] := by rw [h6]; rfl
          rw [hP6 h6, hv, if_neg (by omega)]
          rw [ehs] at hW
          simp at hW ⊢; omega
        · rw [List.append_assoc, hP h6]; simp at hW ⊢; omega
      · rw [cb_dd10, hP6 h6, hv, if_neg (by omega)] at h2
        simpa using h2
      · rw [cb_dd10, List.append_assoc, hP h6] at h2
        simpa using h2
    have hnod : ∀ (vC vL : Nat → Int32), (cb_so T i = 2 ∨ cb_so T i = 4 ∨ cb_so T i = 5 ∨ cb_so T i = 8) → (cb_so T i = 8 → cy_T2 vC0 vL0 vC vL (W ++ cb_se T i)) → (cb_so T i ≠ 8 → cy_T2 vC0 vL0 vC vL (W ++ (cb_se T i ++ cb_hs (cb_so T i) (cb_nu T i)))) → ∃ n234 : Nat, wY_print_234 post J (nI i) (nI (cb_so T i)) (lN v) x7 x9 n234 1000000000 yM yD yS (nI N) yF vC vL vS vP vV vK vR vA vB vN vE := by
      intro vC vL hm g8 g0
      refine ⟨1, br_f (by decide) (pk_lt (cb_so T i) 2 (fun h => by omega) (fun _ => pk_eq (cb_so T i) 6 (fun h => by omega) (fun _ => pk_eq (cb_so T i) 7 (fun h => by omega) (fun _ => ?_))))⟩
      exact h305 x7 x9 vC vL (fun h => ⟨(hx h).1, (hx h).2, g8 h⟩) (fun h => by omega) (fun h _ => g0 h)
    refine pk_le sg 0 (fun g => ?_) (fun g => ?_)
    · -- no sign
      have hso : cb_so T i = 0 ∨ cb_so T i = 6 ∨ cb_so T i = 8 := by
        rw [hsg] at g
        by_cases h1 : cb_so T i = 1
        · rw [if_pos h1] at g; omega
        rw [if_neg h1] at g
        by_cases h2 : cb_so T i = 2
        · rw [if_pos h2] at g; omega
        rw [if_neg h2] at g
        by_cases h4 : cb_so T i = 4
        · rw [if_pos h4] at g; omega
        rw [if_neg h4] at g
        by_cases h5 : cb_so T i = 5
        · rw [if_pos h5] at g; omega
        rw [if_neg h5] at g
        by_cases h7 : cb_so T i = 7
        · rw [if_pos h7] at g; omega
        omega
      refine pk_eq (cb_so T i) 2 (fun h => by omega) (fun _ => ?_)
      by_cases e8 : cb_so T i = 8
      · exact hnod vC vL (by omega) (fun _ => h2) (fun h => absurd e8 h)
      · refine hdig [] vC vL (by omega) (by simpa using h2) (fun h6 => ?_) (fun _ => rfl)
        have h0 : cb_so T i = 0 := by omega
        rw [hv, if_neg (by omega), h0]; rfl
    · -- a sign
      have hso : cb_so T i = 1 ∨ cb_so T i = 2 ∨ cb_so T i = 4 ∨ cb_so T i = 5 ∨ cb_so T i = 7 := by
        rw [hsg] at g
        by_cases h1 : cb_so T i = 1
        · omega
        rw [if_neg h1] at g
        by_cases h2 : cb_so T i = 2
        · omega
        rw [if_neg h2] at g
        by_cases h4 : cb_so T i = 4
        · omega
        rw [if_neg h4] at g
        by_cases h5 : cb_so T i = 5
        · omega
        rw [if_neg h5] at g
        by_cases h7 : cb_so T i = 7
        · omega
        rw [if_neg h7] at g; omega
      have hhs1 : 1 ≤ (cb_hs (cb_so T i) (cb_nu T i)).length := by
        rcases hso with h | h | h | h | h <;> rw [h] <;> simp [cb_hs]
      refine cy_px (x := sg) rfl h2 (by simp at hW ⊢; omega) fun vC vL h2' => pk_eq (cb_so T i) 2 (fun e2 => ?_) (fun e2 => ?_)
      · have ehs : cb_hs (cb_so T i) (cb_nu T i) = [104, 39] := by rw [e2]; exact cb_hs2 _
        have esg : sg = 104 := by rw [hsg, if_neg (by omega), if_pos e2]
        rw [ehs] at hW
        refine cy_px (x := 39) rfl h2' (by simp at hW ⊢; omega) fun vC vL h2'' => hnod vC vL (by omega) (fun h => by omega) (fun _ => ?_)
        rw [ehs]
        rw [esg] at h2''
        simpa using h2''
      · by_cases e45 : cb_so T i = 4 ∨ cb_so T i = 5
        · have ehs : cb_hs (cb_so T i) (cb_nu T i) = [sg] := by
            rw [hsg]; rcases e45 with h | h <;> rw [h] <;> rfl
          refine hnod vC vL (by omega) (fun h => by omega) (fun _ => ?_)
          rw [ehs]; simpa using h2'
        · refine hdig [sg] vC vL (by omega) h2' (fun _ => ?_) (fun h => by omega)
          rw [hv, hsg]
          rcases hso with h | h | h | h | h
          · rw [h]; rfl
          · omega
          · omega
          · omega
          · rw [h]; rfl
  -- the separator
  have h125 : ∀ v : Nat, v = (if cb_so T i = 1 then cb_nu T i + 1 else cb_nu T i) → wY_print_125 post J (nI i) (nI (cb_so T i)) (nI sg) (lN v) yM yD yS (nI N) yF vC vL vS vP vV vK vR vA vB vN vE := by
    intro v hv
    have hx : cb_so T i = 8 → (lN v >>> ((4 : Int32).toInt64 &&& 63)) &&& 15 = lN (cb_nu T i / 16) ∧ lN v &&& 15 = lN (cb_nu T i % 16) := by
      intro h8
      have hvb := h8b h8
      rw [hv, if_neg (by omega), show (4 : Int32) = nI 4 from rfl, wb_c _ (by omega), pf_shr (d := 4) ?_ (by omega), show (15 : Int64) = lN (2 ^ 4 - 1) from rfl, wb_mask (by omega) (by omega), wb_mask (by omega) (by omega)]
      · exact ⟨congrArg lN (by omega), rfl⟩
      · decide
    refine nm_e (nm_e ?_)
    have nosep : cb_se T i = [] → wY_print_201 post J (nI i) (nI (cb_so T i)) (nI sg) (lN v) ((lN v >>> ((4 : Int32).toInt64 &&& 63)) &&& 15) (lN v &&& 15) yM yD yS (nI N) yF vC vL vS vP vV vK vR vA vB vN vE := fun h => h201 v _ _ vC vL hv hx (by rw [h, List.append_nil]; exact h2)
    refine pk_eq (cb_so T i) 8 (fun e8 => nosep (if_neg (fun h => h.1 e8))) (fun e8 => ⟨hin, ?_⟩)
    rw [nI_clamp (by omega), t5]
    refine pk_le (cb_ra T i) 0 (fun e0 => nosep (if_neg (fun h => by omega))) (fun e0 => ⟨hin, ?_⟩)
    rw [t2]
    have hp := hpar e0
    obtain ⟨q, hq⟩ : ∃ q, cb_pa T i = q + 1 := ⟨cb_pa T i - 1, by omega⟩
    rw [hq, cb_Is]
    refine ⟨vp_in_nI (by omega) (by omega), ?_⟩
    rw [nI_clamp (by omega), (hTA q (by omega)).1]
    have hse : cb_se T i = [cb_sp (cb_so T q) (cb_ra T i)] := by unfold cb_se; rw [if_pos ⟨e8, e0⟩, hq, Nat.add_sub_cancel]
    have put : ∀ c : Int32, c = nI (cb_sp (cb_so T q) (cb_ra T i)) → wY_print_197 post J (nI i) (nI (cb_so T i)) (nI sg) (lN v) ((lN v >>> ((4 : Int32).toInt64 &&& 63)) &&& 15) (lN v &&& 15) c (-2) yM yD yS (nI N) yF vC vL vS vP vV vK vR vA vB vN vE := by
      intro c hc
      refine cy_px (x := cb_sp (cb_so T q) (cb_ra T i)) hc h2 (by rw [hse] at hW; simp at hW; omega) fun vC vL h2' => h201 v _ _ vC vL hv hx (by rw [hse]; exact h2')
    have hb8 : cb_so T q ≤ 8 := ((hTB q (by omega)).1).1
    unfold cb_sp at put
    refine pk_eq (cb_so T q) 5 (fun e5 => ⟨hin, by decide, ?_⟩) (fun e5 => put _ (by rw [if_neg (fun h => e5 h.1)]; rfl))
    rw [show (2 : Int32) = nI 2 from rfl, pk_rem (by omega) (by omega) (by omega)]
    exact pk_eq (cb_ra T i % 2) 1 (fun e1 => put _ (by rw [if_pos ⟨e5, e1⟩]; rfl)) (fun e1 => put _ (by rw [if_neg (fun h => e1 h.2)]; rfl))
  refine pk_eq (cb_so T i) 1 (fun e1 => ⟨hin, ?_⟩) (fun e1 => ⟨hin, ?_⟩)
  · rw [nI_clamp (by omega), t6, lN_1]; exact h125 _ (by rw [if_pos e1])
  · rw [nI_clamp (by omega), t6]; exact h125 _ (by rw [if_neg e1])
theorem cy_34 {post : Int32 → SY → Prop} {vC0 vL0 : Nat → Int32} (hN : N ≤ 128) (hTA : cy_TA T N vS vP vV vK vR vN vE) (hTB : cb_TB T N) (hvA : ∀ j, j < N → vA j = nI (A j)) (hAN : ∀ j, j < N → A j ≤ N) (h8b : ∀ i, i < N → cb_so T i = 8 → cb_nu T i < 256) (hpar : ∀ i, i < N → 0 < cb_ra T i → 0 < cb_pa T i) (hW : (cb_yt T A N).length ≤ 128)
    (K : ∀ vC vL : Nat → Int32, cy_T2 vC0 vL0 vC vL (cb_yt T A N) → post 0 (yM, yD, yS, nI N, yF, vC, vL, vS, vP, vV, vK, vR, vA, vB, vN, vE)) :
    ∀ d i n (vC vL : Nat → Int32), i + d = N → d < n → cy_T2 vC0 vL0 vC vL (cb_yt T A i) → wY_print_34 post n (nI i) yM yD yS (nI N) yF vC vL vS vP vV vK vR vA vB vN vE := by
  intro d
  induction d with
  | zero =>
    intro i n vC vL hd hn h2
    obtain ⟨n, rfl⟩ : ∃ k, n = k + 1 := ⟨n - 1, by omega⟩
    have : i = N := by omega
    subst this
    exact br_t (nI_le (Nat.le_refl _) (by omega)) (K vC vL h2)
  | succ d ih =>
    intro i n vC vL hd hn h2
    obtain ⟨n, rfl⟩ : ∃ k, n = k + 1 := ⟨n - 1, by omega⟩
    have hi : i < N := by omega
    obtain ⟨⟨b1, b13⟩, b2, b3, b4, b5, b6, b7⟩ := hTB i hi
    have hmo : (cb_yt T A (i + 1)).length ≤ (cb_yt T A N).length := cb_yt_mo (i + 1) (by omega)
    have go := fun sg hsg => cy_pf (post := post) (yM := yM) (yD := yD) (yS := yS) (yF := yF) (vB := vB) (J := wY_print_34 post n) (vC0 := vC0) (vL0 := vL0) (i := i) hN hi hTA hTB hvA hAN (h8b i hi) (hpar i hi) (W := cb_yt T A i) (by simp only [cb_yt] at hmo; omega) h2 (fun vC vL h2' => ih (i + 1) n vC vL (by omega) (by omega) h2') sg hsg
    refine br_f (nI_ge hi (by omega)) ⟨vp_in_nI (by omega) (by omega), ?_⟩
    rw [nI_clamp (by omega), (hTA i hi).1]
    refine nm_e (pk_eq (cb_so T i) 1 (fun e => ?_) (fun e1 => pk_eq (cb_so T i) 2 (fun e => ?_) (fun e2 => pk_eq (cb_so T i) 4 (fun e => ?_) (fun e4 => pk_eq (cb_so T i) 5 (fun e => ?_) (fun e5 => pk_eq (cb_so T i) 7 (fun e => ?_) (fun e7 => ?_))))))
    · exact go 45 (by rw [if_pos e])
    · exact go 104 (by rw [if_neg e1, if_pos e])
    · exact go 91 (by rw [if_neg e1, if_neg e2, if_pos e])
    · exact go 123 (by rw [if_neg e1, if_neg e2, if_neg e4, if_pos e])
    · exact go 115 (by rw [if_neg e1, if_neg e2, if_neg e4, if_neg e5, if_pos e])
    · exact go 0 (by rw [if_neg e1, if_neg e2, if_neg e4, if_neg e5, if_neg e7])
end cyk
end
section
/-! slots and copies -/
section cyl
variable {yM yD yS yN yF : Int32} {vS vP vV vK vR vA vB : Nat → Int32} {vN vE : Nat → Int64}
theorem cy_copy {post : Int32 → SY → Prop} {x1 x2 : Int32} {pf pt : Nat} {l m : List Nat} {vC vL : Nat → Int32} (h1 : x1 + 2 = nI pf) (h2 : x2 + 2 = nI pt) (hf : pf < 8) (ht : pt < 8) (hne : pf ≠ pt) (hlf : vL pf = nI l.length) (hlt : vL pt = nI m.length) (hCf : cb_At vC (pf * 128) l) (hCt : cb_At vC (pt * 128) m) (hlen : m.length + l.length ≤ 128)
    (K : ∀ vC' vL' : Nat → Int32, cb_At vC' (pt * 128) (m ++ l) → vL' pt = nI (m ++ l).length → (∀ j, j < pt * 128 ∨ pt * 128 + 128 ≤ j → vC' j = vC j) → (∀ j, j ≠ pt → vL' j = vL j) → post 0 (yM, yD, yS, yN, yF, vC', vL', vS, vP, vV, vK, vR, vA, vB, vN, vE)) : wpY_copy post (yM, yD, yS, yN, yF, vC, vL, vS, vP, vV, vK, vR, vA, vB, vN, vE) x1 x2 := by
  have lp : ∀ k i n (vC' vL' : Nat → Int32), i + k = l.length → k < n → cb_At vC' (pt * 128) (m ++ l.take i) → vL' pt = nI (m ++ l.take i).length → (∀ j, j < pt * 128 ∨ pt * 128 + 128 ≤ j → vC' j = vC j) → (∀ j, j ≠ pt → vL' j = vL j) → wY_copy_2 post x1 x2 n (nI i) yM yD yS yN yF vC' vL' vS vP vV vK vR vA vB vN vE := by
    intro k
    induction k with
    | zero =>
      intro i n vC' vL' hi hn a1 a2 a3 a4
      obtain ⟨n, rfl⟩ : ∃ k, n = k + 1 := ⟨n - 1, by omega⟩
      rw [List.take_of_length_le (by omega)] at a1 a2
      refine ⟨by rw [h1]; exact vp_in_nI hf (by omega), ?_⟩
      rw [h1, nI_clamp (by omega), a4 pf hne, hlf]
      exact br_t (nI_le (by omega) (by omega)) (K vC' vL' a1 a2 a3 a4)
    | succ k ih =>
      intro i n vC' vL' hi hn a1 a2 a3 a4
      obtain ⟨n, rfl⟩ : ∃ k, n = k + 1 := ⟨n - 1, by omega⟩
      refine ⟨by rw [h1]; exact vp_in_nI hf (by omega), ?_⟩
      rw [h1, nI_clamp (by omega), a4 pf hne, hlf]
      refine br_f (nI_ge (by omega) (by omega)) ?_
      rw [show (128 : Int32) = nI 128 from rfl, pk_mul, nI_add]
      refine ⟨vp_in_nI (by omega) (by omega), ?_⟩
      rw [nI_clamp (by omega), a3 _ (by omega), cb_At_get hCf i (by omega)]
      have hl2 : (m ++ l.take i).length = m.length + i := by simp; omega
      have et : l.take (i + 1) = l.take i ++ [l.getD i 0] := by
        rw [List.take_add_one, List.getD_eq_getElem?_getD, List.getElem?_eq_getElem (by omega)]; rfl
      refine cy_put h2 ht a2 (by omega) (nm_r (nI_1 _) (ih (i + 1) n _ _ (by omega) (by omega) ?_ ?_ (fun j hj => ?_) (fun j hj => ?_)))
      · rw [et, ← List.append_assoc]; exact cb_At_snoc a1
      · rw [pk_us, et, ← List.append_assoc]; exact congrArg nI (by rw [List.length_append (as := m ++ l.take i)]; rfl)
      · rw [pk_un (by omega)]; exact a3 j hj
      · rw [pk_un hj]; exact a4 j hj
  exact ⟨_, lp l.length 0 (l.length + 1) vC vL (by omega) (by omega) (by simpa using hCt) (by simpa using hlt) (fun _ _ => rfl) (fun _ _ => rfl)⟩
theorem cy_keep {post : Int32 → SY → Prop} {s : Nat} {e : List Nat} {vC vL : Nat → Int32} (hs : s < 4) (hCe : cb_At vC 768 e) (hLe : vL 6 = nI e.length) (he : e.length ≤ 128)
    (K : ∀ vC' vL' : Nat → Int32, cb_At vC' ((s + 2) * 128) e → vL' (s + 2) = nI e.length → (∀ j, j < (s + 2) * 128 ∨ (s + 2) * 128 + 128 ≤ j → vC' j = vC j) → (∀ j, j ≠ s + 2 → vL' j = vL j) → post 0 (yM, yD, yS, yN, yF, vC', vL', vS, vP, vV, vK, vR, vA, vB, vN, vE)) : wpY_keep post (yM, yD, yS, yN, yF, vC, vL, vS, vP, vV, vK, vR, vA, vB, vN, vE) (nI s) := by
  have e2 : nI s + 2 = nI (s + 2) := nI_add s 2
  refine ⟨by rw [e2]; exact vp_in_nI (by omega) (by omega), ?_⟩
  rw [e2, nI_clamp (by omega)]
  refine nm_e (cy_copy (pf := 6) (pt := s + 2) (l := e) (m := []) (by decide) e2 (by omega) (by omega) (by omega) (by rw [pk_un (by omega)]; exact hLe) (by rw [pk_us]; rfl) hCe trivial (by simpa using he) ?_)
  intro vC' vL' a1 a2 a3 a4
  exact K vC' vL' (by simpa using a1) (by simpa using a2) a3 (fun j hj => by rw [a4 j hj, pk_un hj])
end cyl
section cxq
variable {xM xL xS xI xT xO xP xp xF xR xD xd : Int32} {uI uT uC uL uO uS uK uA uP uM : Nat → Int32} {uF : Nat → Int64}
theorem cx_isl {post : Int32 → Prop} {sc s : Nat} (hS : xS = nI sc) (hsc : sc ≤ 4) (hs : s < sc) (h : post 1) : wpX_isSlot post (xM, xL, xS, xI, xT, xO, xP, xp, xF, xR, xD, xd, uI, uT, uC, uL, uO, uS, uK, uA, uP, uM, uF) (nI s) := by
  exact br_f (nI_pos (by omega)) (br_f (by rw [hS]; exact nI_ge hs (by omega)) h)
theorem cx_nsl {post : Int32 → Prop} {sc : Nat} {v : Int32} (hS : xS = nI sc) (hv : v < 0 ∨ nI sc ≤ v) (h : post 0) : wpX_isSlot post (xM, xL, xS, xI, xT, xO, xP, xp, xF, xR, xD, xd, uI, uT, uC, uL, uO, uS, uK, uA, uP, uM, uF) v := by
  refine br_c (fun _ => h) (fun hn => br_t ?_ h)
  rw [hS]; exact hv.resolve_left hn
theorem cx_ss {post : SX → Prop} {s : Nat} {e : List Nat} (hs : s < 4) (hO : cb_At uO 0 e) (hxO : xO = nI e.length) (he : e.length ≤ 32)
    (K : ∀ uC', cb_At uC' (32 * s) e → (∀ j, j < 32 * s ∨ 32 * s + 32 ≤ j → uC' j = uC j) → post (xM, xL, xS, xI, xT, xO, xP, xp, xF, xR, xD, xd, uI, uT, uC', upd uL s (nI e.length), uO, uS, uK, uA, uP, uM, uF)) : wpX_storeSlot post (xM, xL, xS, xI, xT, xO, xP, xp, xF, xR, xD, xd, uI, uT, uC, uL, uO, uS, uK, uA, uP, uM, uF) (nI s) := by
  have lp : ∀ k i n (uC' : Nat → Int32), i + k = e.length → k < n → cb_At uC' (32 * s) (e.take i) → (∀ j, j < 32 * s ∨ 32 * s + 32 ≤ j → uC' j = uC j) → wX_storeSlot_21 post (nI s) (nI e.length) xM xL xS xI xT xO xP xp xF xR xD xd n (nI i) uI uT uC' uL uO uS uK uA uP uM uF := by
    intro k
    induction k with
    | zero =>
      intro i n uC' hi hn a1 a2
      obtain ⟨n, rfl⟩ : ∃ k, n = k + 1 := ⟨n - 1, by omega⟩
      rw [List.take_of_length_le (by omega)] at a1
      refine br_t (nI_le (by omega) (by omega)) ⟨vp_in_nI hs (by omega), nm_e ?_⟩
      rw [nI_clamp (by omega)]
      exact K uC' a1 a2
    | succ k ih =>
      intro i n uC' hi hn a1 a2
      obtain ⟨n, rfl⟩ : ∃ k, n = k + 1 := ⟨n - 1, by omega⟩
      refine br_f (nI_ge (by omega) (by omega)) ⟨vp_in_nI (by omega) (by omega), ?_⟩
      rw [show (32 : Int32) = nI 32 from rfl, pk_mul, nI_add]
      refine ⟨vp_in_nI (by omega) (by omega), nm_e (nm_r (nI_1 _) ?_)⟩
      rw [nI_clamp (by omega), nI_clamp (by omega), cb_At0 hO (by omega)]
      have et : e.take (i + 1) = e.take i ++ [e.getD i 0] := by
        rw [List.take_add_one, List.getD_eq_getElem?_getD, List.getElem?_eq_getElem (by omega)]; rfl
      have hl2 : (e.take i).length = i := by simp; omega
      refine ih (i + 1) n _ (by omega) (by omega) ?_ (fun j hj => by rw [pk_un (by omega)]; exact a2 j hj)
      have := cb_At_snoc (x := e.getD i 0) a1
      rw [hl2] at this
      rw [et]; exact this
  have fin := lp e.length 0 (e.length + 1) uC (by omega) (by omega) (by simp [cb_At]) (fun _ _ => rfl)
  have hle : xO ≤ 32 := by rw [hxO]; exact nI_le (b := 32) he (by omega)
  rw [← hxO] at fin
  exact br_t hle ⟨_, fin⟩
theorem cx_ls {post : SX → Prop} {s : Nat} {e : List Nat} (hs : s < 4) (hC : cb_At uC (32 * s) e) (hL : uL s = nI e.length) (he : e.length ≤ 32)
    (K : ∀ uO', cb_At uO' 0 e → post (xM, xL, xS, xI, xT, nI e.length, xP, xp, xF, xR, xD, xd, uI, uT, uC, uL, uO', uS, uK, uA, uP, uM, uF)) : wpX_loadSlot post (xM, xL, xS, xI, xT, xO, xP, xp, xF, xR, xD, xd, uI, uT, uC, uL, uO, uS, uK, uA, uP, uM, uF) (nI s) := by
  refine ⟨vp_in_nI hs (by omega), ?_⟩
  rw [nI_clamp (by omega), hL]
  refine nm_e ?_
  have lp : ∀ k i n (uO' : Nat → Int32), i + k = e.length → k < n → cb_At uO' 0 (e.take i) → wX_loadSlot_12 post (nI s) xM xL xS xI xT (nI e.length) xP xp xF xR xD xd n (nI i) uI uT uC uL uO' uS uK uA uP uM uF := by
    intro k
    induction k with
    | zero =>
      intro i n uO' hi hn a1
      obtain ⟨n, rfl⟩ : ∃ k, n = k + 1 := ⟨n - 1, by omega⟩
      rw [List.take_of_length_le (by omega)] at a1
      exact br_t (nI_le (by omega) (by omega)) (K uO' a1)
    | succ k ih =>
      intro i n uO' hi hn a1
      obtain ⟨n, rfl⟩ : ∃ k, n = k + 1 := ⟨n - 1, by omega⟩
      refine br_f (nI_ge (by omega) (by omega)) ?_
      rw [show (32 : Int32) = nI 32 from rfl, pk_mul, nI_add]
      refine ⟨vp_in_nI (by omega) (by omega), vp_in_nI (by omega) (by omega), nm_e (nm_r (nI_1 _) ?_)⟩
      rw [nI_clamp (by omega), nI_clamp (by omega), cb_At_get hC i (by omega)]
      have et : e.take (i + 1) = e.take i ++ [e.getD i 0] := by
        rw [List.take_add_one, List.getD_eq_getElem?_getD, List.getElem?_eq_getElem (by omega)]; rfl
      have hl2 : (e.take i).length = i := by simp; omega
      refine ih (i + 1) n _ (by omega) (by omega) ?_
      have := cb_At_snoc (x := e.getD i 0) a1
      rw [hl2, Nat.zero_add] at this
      rw [et]; exact this
  exact ⟨_, lp e.length 0 (e.length + 1) uO (by omega) (by omega) (by simp [cb_At])⟩
end cxq
/-! the relation -/
def cz_R (mb lim sc : Nat) (inp txt : List Nat) (sl : Nat → List Nat) (xM xL xS xI xT : Int32) (uI uT uC uL : Nat → Int32) (yM yD yS : Int32) (vC vL : Nat → Int32) : Prop :=
  (8 ≤ mb ∧ mb ≤ 32 ∧ 2 ≤ lim ∧ lim ≤ 8 ∧ 2 ≤ sc ∧ sc ≤ 4) ∧ (xM = nI mb ∧ yM = nI mb ∧ xL = nI lim ∧ yD = nI lim ∧ xS = nI sc ∧ yS = nI sc) ∧
  (inp.length ≤ mb ∧ (∀ b ∈ inp, b < 256) ∧ xI = nI inp.length ∧ vL 1 = nI inp.length ∧ cb_At uI 0 inp ∧ cb_At vC 128 inp) ∧
  (txt.length ≤ 128 ∧ cb_TX txt ∧ xT = nI txt.length ∧ vL 0 = nI txt.length ∧ cb_At uT 0 txt ∧ cb_At vC 0 txt) ∧
  ∀ s, s < 4 → (sl s).length ≤ mb ∧ uL s = nI (sl s).length ∧ vL (s + 2) = nI (sl s).length ∧ cb_At uC (32 * s) (sl s) ∧ cb_At vC ((s + 2) * 128) (sl s) ∧ (sl s ≠ [] → cb_IT lim (sl s))
/-- the relation at the head of a turn: the same parameters, input, text and slots; a slot that isn't empty holds one item -/
def i_Rel (k : Nat) (u : SX) (v : SY) : Prop := match u, v with
  | (xM, xL, xS, xI, xT, xO, xP, xp, xF, xR, xD, xd, uI, uT, uC, uL, uO, uS, uK, uA, uP, uM, uF), (yM, yD, yS, yN, yF, vC, vL, vS, vP, vV, vK, vR, vA, vB, vN, vE) => ∃ (mb lim sc : Nat) (inp txt : List Nat) (sl : Nat → List Nat), cz_R mb lim sc inp txt sl xM xL xS xI xT uI uT uC uL yM yD yS vC vL
theorem cz_in {k mb lim sc : Nat} {inp txt : List Nat} {sl : Nat → List Nat} {xM xL xS xI xT xO xP xp xF xR xD xd : Int32} {uI uT uC uL uO uS uK uA uP uM : Nat → Int32} {uF : Nat → Int64} {yM yD yS yN yF : Int32} {vC vL vS vP vV vK vR vA vB : Nat → Int32} {vN vE : Nat → Int64} (h : cz_R mb lim sc inp txt sl xM xL xS xI xT uI uT uC uL yM yD yS vC vL) : i_Rel k (xM, xL, xS, xI, xT, xO, xP, xp, xF, xR, xD, xd, uI, uT, uC, uL, uO, uS, uK, uA, uP, uM, uF) (yM, yD, yS, yN, yF, vC, vL, vS, vP, vV, vK, vR, vA, vB, vN, vE) :=
  ⟨mb, lim, sc, inp, txt, sl, h⟩
theorem cz_el {k : Nat} {P : SX → SY → Prop} (h : ∀ (mb lim sc : Nat) (inp txt : List Nat) (sl : Nat → List Nat) {xM xL xS xI xT xO xP xp xF xR xD xd : Int32} {uI uT uC uL uO uS uK uA uP uM : Nat → Int32} {uF : Nat → Int64} {yM yD yS yN yF : Int32} {vC vL vS vP vV vK vR vA vB : Nat → Int32} {vN vE : Nat → Int64}, cz_R mb lim sc inp txt sl xM xL xS xI xT uI uT uC uL yM yD yS vC vL → P (xM, xL, xS, xI, xT, xO, xP, xp, xF, xR, xD, xd, uI, uT, uC, uL, uO, uS, uK, uA, uP, uM, uF) (yM, yD, yS, yN, yF, vC, vL, vS, vP, vV, vK, vR, vA, vB, vN, vE)) {u : SX} {v : SY} (I : i_Rel k u v) : P u v := by
  obtain ⟨xM, xL, xS, xI, xT, xO, xP, xp, xF, xR, xD, xd, uI, uT, uC, uL, uO, uS, uK, uA, uP, uM, uF⟩ := u
  obtain ⟨yM, yD, yS, yN, yF, vC, vL, vS, vP, vV, vK, vR, vA, vB, vN, vE⟩ := v
  obtain ⟨mb, lim, sc, inp, txt, sl, hR⟩ := I
  exact h mb lim sc inp txt sl hR
theorem i_up {k : Nat} {u : SX} {v : SY} (h : i_Rel k u v) : i_Rel (k + 3) u v := h
end
section
/-! the plain methods -/
theorem cz_clampX {post : Int32 → Prop} {xM xL xS xI xT xO xP xp xF xR xD xd : Int32} {uI uT uC uL uO uS uK uA uP uM : Nat → Int32} {uF : Nat → Int64} (v : Int32) (lo hi : Nat) (h : lo ≤ hi) (hh : hi < 2 ^ 31) (K : ∀ n, lo ≤ n → n ≤ hi → (v < nI lo → n = lo) → (¬ v < nI lo → v ≤ nI hi → nI n = v) → (¬ v < nI lo → ¬ v ≤ nI hi → n = hi) → post (nI n)) : wpX_clamp post (xM, xL, xS, xI, xT, xO, xP, xp, xF, xR, xD, xd, uI, uT, uC, uL, uO, uS, uK, uA, uP, uM, uF) v (nI lo) (nI hi) := by
  refine br_c (fun h1 => ?_) (fun h1 => K lo (Nat.le_refl _) h (fun _ => rfl) (fun g => absurd (Int32.not_lt.mp g) h1) (fun g => absurd (Int32.not_lt.mp g) h1))
  have h1' : ¬ v < nI lo := Int32.not_lt.mpr h1
  refine br_c (fun h2 => ?_) (fun h2 => K hi h (Nat.le_refl _) (fun g => absurd g h1') (fun _ g => absurd g h2) (fun _ _ => rfl))
  have hv : ¬ v < 0 := fun g => by
    rw [Int32.lt_iff_toInt_lt] at g; rw [Int32.le_iff_toInt_le, nI_toInt (by omega)] at h1
    have : (0 : Int32).toInt = 0 := by decide
    omega
  obtain ⟨j, hj, rfl⟩ := nI_of hv
  rw [nI_leI (by omega) hj] at h1
  rw [nI_leI hj hh] at h2
  exact K j h1 h2 (fun g => absurd g h1') (fun _ _ => rfl) (fun _ g => absurd (nI_le h2 hh) g)
theorem cz_R0 (mb lim sc : Nat) (h : 8 ≤ mb ∧ mb ≤ 32 ∧ 2 ≤ lim ∧ lim ≤ 8 ∧ 2 ≤ sc ∧ sc ≤ 4) : cz_R mb lim sc [] [] (fun _ => []) (nI mb) (nI lim) (nI sc) 0 0 (fun _ => 0) (fun _ => 0) (fun _ => 0) (fun _ => 0) (nI mb) (nI lim) (nI sc) (fun _ => 0) (fun _ => 0) :=
  ⟨h, ⟨rfl, rfl, rfl, rfl, rfl, rfl⟩, ⟨by simp, by simp, rfl, rfl, trivial, trivial⟩, ⟨by simp, by intro c hc; simp at hc, rfl, rfl, trivial, trivial⟩, fun s hs => ⟨by simp, rfl, rfl, trivial, trivial, fun h => absurd rfl h⟩⟩
theorem i_vc0 (k0 : Int32) (k1 : Int32) (k2 : Int32) : wpX_init (fun u => wpY_init (fun v => i_Rel 3 u v) k0 k1 k2) k0 k1 k2 := by
  unfold wpX_init
  refine cz_clampX k0 8 32 (by omega) (by omega) fun mb m1 m2 m3 m4 m5 => ?_
  refine cz_clampX k1 2 8 (by omega) (by omega) fun lim l1 l2 l3 l4 l5 => ?_
  refine cz_clampX k2 2 4 (by omega) (by omega) fun sc s1 s2 s3 s4 s5 => ?_
  have fin := cz_in (k := 3) (xO := 0) (xP := 0) (xp := 0) (xF := 0) (xR := 0) (xD := 0) (xd := 0) (uO := fun _ => 0) (uS := fun _ => 0) (uK := fun _ => 0) (uA := fun _ => 0) (uP := fun _ => 0) (uM := fun _ => 0) (uF := fun _ => 0) (yN := 0) (yF := 0) (vS := fun _ => 0) (vP := fun _ => 0) (vV := fun _ => 0) (vK := fun _ => 0) (vR := fun _ => 0) (vA := fun _ => 0) (vB := fun _ => 0) (vN := fun _ => 0) (vE := fun _ => 0) (cz_R0 mb lim sc ⟨m1, m2, l1, l2, s1, s2⟩)
  -- one clamp of the reference
  have cl : ∀ {P : Int32 → Prop} (v : Int32) (lo hi n : Nat), (v < nI lo → n = lo) → (¬ v < nI lo → v ≤ nI hi → nI n = v) → (¬ v < nI lo → ¬ v ≤ nI hi → n = hi) → P (nI n) → ((nI lo ≤ v → ((v ≤ nI hi → P v) ∧ (¬ v ≤ nI hi → P (nI hi)))) ∧ (¬ nI lo ≤ v → P (nI lo))) := by
    intro P v lo hi n a1 a2 a3 h
    refine br_c (fun g1 => br_c (fun g2 => ?_) (fun g2 => ?_)) (fun g1 => ?_)
    · rw [← a2 (Int32.not_lt.mpr g1) g2]; exact h
    · rw [← a3 (Int32.not_lt.mpr g1) g2]; exact h
    · rw [← a1 (Int32.not_le.mp g1)]; exact h
  unfold wpY_init
  refine cl (P := fun z => wY_init_126 _ k1 k2 z 0 0 0 0 0 (fun _ => 0) (fun _ => 0) (fun _ => 0) (fun _ => 0) (fun _ => 0) (fun _ => 0) (fun _ => 0) (fun _ => 0) (fun _ => 0) (fun _ => 0) (fun _ => 0)) k0 8 32 mb m3 m4 m5 ?_
  refine cl (P := fun z => wY_init_151 _ k2 z (nI mb) 0 0 0 0 (fun _ => 0) (fun _ => 0) (fun _ => 0) (fun _ => 0) (fun _ => 0) (fun _ => 0) (fun _ => 0) (fun _ => 0) (fun _ => 0) (fun _ => 0) (fun _ => 0)) k1 2 8 lim l3 l4 l5 ?_
  exact cl (P := fun z => i_Rel 3 (nI mb, nI lim, nI sc, 0, 0, 0, 0, 0, 0, 0, 0, 0, (fun _ => 0), (fun _ => 0), (fun _ => 0), (fun _ => 0), (fun _ => 0), (fun _ => 0), (fun _ => 0), (fun _ => 0), (fun _ => 0), (fun _ => 0), (fun _ => 0)) (nI mb, nI lim, z, 0, 0, (fun _ => 0), (fun _ => 0), (fun _ => 0), (fun _ => 0), (fun _ => 0), (fun _ => 0), (fun _ => 0), (fun _ => 0), (fun _ => 0), (fun _ => 0), (fun _ => 0))) k2 2 4 sc s3 s4 s5 fin
theorem i_vc_feed {k : Nat} {u : SX} {v : SY} (I : i_Rel k u v) (hk : k + 3 ≤ 1539) (v1 : Int32) : wpX_feed (fun r u' => wpY_feed (fun r' v' => r' = r ∧ i_Rel (k + 3) u' v') v v1) u v1 := by
  refine cz_el (P := fun u v => wpX_feed (fun r u' => wpY_feed (fun r' v' => r' = r ∧ i_Rel (k + 3) u' v') v v1) u v1) ?_ I
  intro mb lim sc inp txt sl xM xL xS xI xT xO xP xp xF xR xD xd uI uT uC uL uO uS uK uA uP uM uF yM yD yS yN yF vC vL vS vP vV vK vR vA vB vN vE hR
  have hR0 := hR
  obtain ⟨⟨a1, a2, a3, a4, a5, a6⟩, ⟨b1, b2, b3, b4, b5, b6⟩, ⟨c1, c2, c3, c4, c5, c6⟩, ⟨d1, d2, d3, d4, d5, d6⟩, hs⟩ := hR
  obtain ⟨j, hj, ej⟩ := pk_andE v1 8 cb_m255
  refine pk_lt inp.length mb (fun e => ⟨by rw [c3]; exact vp_in_nI (by omega) (by omega), ?_⟩) (fun e => ?_) c3 b1
  · rw [c3, nI_clamp (by omega), nI_1, ej]
    refine nm_e (nm_e ?_)
    refine br_t (by rw [c4, b2]; exact nI_lt e (by omega)) ?_
    rw [ej]
    refine cy_put (pl := 1) (by decide) (by omega) c4 (by omega) ⟨rfl, cz_in (inp := inp ++ [j]) (txt := txt) (sl := sl) ⟨⟨a1, a2, a3, a4, a5, a6⟩, ⟨b1, b2, b3, b4, b5, b6⟩, ⟨by simp; omega, ?_, by simp, by rw [pk_us]; simp, ?_, cb_At_snoc c6⟩, ⟨d1, d2, d3, by rw [pk_un (by omega)]; exact d4, d5, cb_At_upd d6 (by omega)⟩, fun s hs4 => ?_⟩⟩
    · intro b hb
      rcases List.mem_append.mp hb with hb | hb
      · exact c2 b hb
      · rw [List.mem_singleton.mp hb]; omega
    · have := cb_At_snoc (x := j) c5; rwa [Nat.zero_add] at this
    · obtain ⟨e1, e2, e3, e4, e5, e6⟩ := hs s hs4
      exact ⟨e1, e2, by rw [pk_un (by omega)]; exact e3, e4, cb_At_upd e5 (by omega), e6⟩
  · exact br_f (by rw [c4, b2]; exact nI_nlt e (by omega)) ⟨rfl, cz_in hR0⟩
theorem i_vc_type {k : Nat} {u : SX} {v : SY} (I : i_Rel k u v) (hk : k + 3 ≤ 1539) (v1 : Int32) : wpX_type (fun r u' => wpY_type (fun r' v' => r' = r ∧ i_Rel (k + 3) u' v') v v1) u v1 := by
  refine cz_el (P := fun u v => wpX_type (fun r u' => wpY_type (fun r' v' => r' = r ∧ i_Rel (k + 3) u' v') v v1) u v1) ?_ I
  intro mb lim sc inp txt sl xM xL xS xI xT xO xP xp xF xR xD xd uI uT uC uL uO uS uK uA uP uM uF yM yD yS yN yF vC vL vS vP vV vK vR vA vB vN vE hR
  have hR0 := hR
  obtain ⟨⟨a1, a2, a3, a4, a5, a6⟩, ⟨b1, b2, b3, b4, b5, b6⟩, ⟨c1, c2, c3, c4, c5, c6⟩, ⟨d1, d2, d3, d4, d5, d6⟩, hs⟩ := hR
  refine br_c (fun h33 => br_t h33 ⟨rfl, cz_in hR0⟩) (fun h33 => br_c (fun h126 => ?_) (fun h126 => br_f h33 (br_f h126 ⟨rfl, cz_in hR0⟩)))
  have hv : ¬ v1 < 0 := fun g => h33 (by rw [Int32.lt_iff_toInt_lt] at g ⊢; have : (0 : Int32).toInt = 0 := by decide
                                         have h2 : (33 : Int32).toInt = 33 := by decide
                                         omega)
  obtain ⟨c, hc, rfl⟩ := nI_of hv
  have g1 : 33 ≤ c := by
    have := h33; rw [show (33 : Int32) = nI 33 from rfl, nI_ltI hc (by omega)] at this; omega
  have g2 : c ≤ 126 := by
    have := h126; rw [show (126 : Int32) = nI 126 from rfl, nI_leI hc (by omega)] at this; omega
  have e4 : 4 * xM = nI (4 * mb) := by rw [b1]; exact pk_mul 4 mb
  have e4' : 4 * yM = nI (4 * mb) := by rw [b2]; exact pk_mul 4 mb
  refine pk_lt txt.length (4 * mb) (fun e => ?_) (fun e => ?_) d3 e4
  · refine cx_pc d5 d3 (by omega) fun uT' hT' => ?_
    refine br_f h33 (br_t h126 (br_t (by rw [d4, e4']; exact nI_lt e (by omega)) ?_))
    refine cy_put (pl := 0) (by decide) (by omega) d4 (by omega) ⟨rfl, cz_in (inp := inp) (txt := txt ++ [c]) (sl := sl) ⟨⟨a1, a2, a3, a4, a5, a6⟩, ⟨b1, b2, b3, b4, b5, b6⟩, ⟨c1, c2, c3, by rw [pk_un (by omega)]; exact c4, c5, cb_At_upd c6 (by omega)⟩, ⟨by simp; omega, ?_, rfl, by rw [pk_us]; simp, hT', ?_⟩, fun s hs4 => ?_⟩⟩
    · intro x hx
      rcases List.mem_append.mp hx with hx | hx
      · exact d2 x hx
      · rw [List.mem_singleton.mp hx]; exact ⟨g1, g2⟩
    · have := cb_At_snoc (x := c) d6; exact this
    · obtain ⟨e1, e2, e3, e4, e5, e6⟩ := hs s hs4
      exact ⟨e1, e2, by rw [pk_un (by omega)]; exact e3, e4, cb_At_upd e5 (by omega), e6⟩
  · exact br_f h33 (br_t h126 (br_f (by rw [d4, e4']; exact nI_nlt e (by omega)) ⟨rfl, cz_in hR0⟩))
end
section
/-! the plain methods on places -/
section cym
variable {yM yD yS yN yF : Int32} {vC vL vS vP vV vK vR vA vB : Nat → Int32} {vN vE : Nat → Int64}
theorem cy_held {post : Int32 → Prop} {sc s n : Nat} (hS : yS = nI sc) (hsc : sc ≤ 4) (hs : s < sc) (hL : vL (s + 2) = nI n) (hn : n < 2 ^ 31) (h : post (if n = 0 then -2 else 0)) : wpY_held post (yM, yD, yS, yN, yF, vC, vL, vS, vP, vV, vK, vR, vA, vB, vN, vE) (nI s) := by
  have e2 : nI s + 2 = nI (s + 2) := nI_add s 2
  refine br_f (nI_pos (by omega)) (br_t (by rw [hS]; exact nI_lt hs (by omega)) ⟨by rw [e2]; exact vp_in_nI (by omega) (by omega), ?_⟩)
  rw [e2, nI_clamp (by omega), hL]
  refine pk_eq n 0 (fun e => ?_) (fun e => ?_)
  · rw [if_pos e] at h; exact h
  · rw [if_neg e] at h; exact h
theorem cy_nheld {post : Int32 → Prop} {sc : Nat} {v : Int32} (hS : yS = nI sc) (hv : v < 0 ∨ nI sc ≤ v) (h : post (-1)) : wpY_held post (yM, yD, yS, yN, yF, vC, vL, vS, vP, vV, vK, vR, vA, vB, vN, vE) v := by
  refine br_c (fun _ => h) (fun hn => br_f ?_ h)
  rw [hS]; exact Int32.not_lt.mpr (hv.resolve_left hn)
end cym
theorem cz_ix (v : Int32) {sc : Nat} (h : sc ≤ 4) : (v < 0 ∨ nI sc ≤ v) ∨ ∃ s, s < sc ∧ v = nI s := by
  rcases pk_ix v (n := sc) (by omega) with g | g | g
  · exact Or.inl (Or.inl g)
  · exact Or.inl (Or.inr g)
  · exact Or.inr g
theorem i_vc_append {k : Nat} {u : SX} {v : SY} (I : i_Rel k u v) (hk : k + 3 ≤ 1539) (v1 : Int32) : wpX_append (fun r u' => wpY_append (fun r' v' => r' = r ∧ i_Rel (k + 3) u' v') v v1) u v1 := by
  refine cz_el (P := fun u v => wpX_append (fun r u' => wpY_append (fun r' v' => r' = r ∧ i_Rel (k + 3) u' v') v v1) u v1) ?_ I
  intro mb lim sc inp txt sl xM xL xS xI xT xO xP xp xF xR xD xd uI uT uC uL uO uS uK uA uP uM uF yM yD yS yN yF vC vL vS vP vV vK vR vA vB vN vE hR
  have hR0 := hR
  obtain ⟨⟨a1, a2, a3, a4, a5, a6⟩, ⟨b1, b2, b3, b4, b5, b6⟩, ⟨c1, c2, c3, c4, c5, c6⟩, ⟨d1, d2, d3, d4, d5, d6⟩, hs⟩ := hR
  unfold wpX_append
  dsimp only
  rcases cz_ix v1 a6 with hv | ⟨s, hsc, rfl⟩
  · refine cx_nsl b5 hv (br_t rfl ?_)
    unfold wpY_append
    dsimp only
    exact cy_nheld b6 hv (br_f (by decide) (cy_nheld b6 hv ⟨rfl, cz_in hR0⟩))
  · obtain ⟨e1, e2, e3, e4, e5, e6⟩ := hs s (by omega)
    refine cx_isl b5 a6 hsc (br_f (by decide) ⟨vp_in_nI (by omega) (by omega), ?_⟩)
    rw [nI_clamp (by omega), e2]
    have hs2 : nI s + 2 = nI (s + 2) := nI_add s 2
    refine nm_e (pk_eq (sl s).length 0 (fun e0 => ?_) (fun e0 => ?_))
    · unfold wpY_append
      dsimp only
      refine cy_held b6 a6 hsc e3 (by omega) ?_
      rw [if_pos e0]
      refine br_f (by decide) (cy_held b6 a6 hsc e3 (by omega) ?_)
      rw [if_pos e0]
      exact ⟨rfl, cz_in hR0⟩
    · have eX : xI + nI (sl s).length = nI (inp.length + (sl s).length) := by rw [c3, nI_add]
      have eY : vL 1 + vL (s + 2) = nI (inp.length + (sl s).length) := by rw [c4, e3, nI_add]
      refine pk_le (inp.length + (sl s).length) mb (fun hle => ?_) (fun hle => ?_) eX b1
      · -- copied
        have lp : ∀ q i n (uI' : Nat → Int32), i + q = (sl s).length → q < n → cb_At uI' 0 (inp ++ (sl s).take i) → wX_append_42 (fun r u' => wpY_append (fun r' v' => r' = r ∧ i_Rel (k + 3) u' v') (yM, yD, yS, yN, yF, vC, vL, vS, vP, vV, vK, vR, vA, vB, vN, vE) (nI s)) (nI s) (nI (sl s).length) xM xL xS xI xT xO xP xp xF xR xD xd n (nI i) uI' uT uC uL uO uS uK uA uP uM uF := by
          intro q
          induction q with
          | zero =>
            intro i n uI' hi hn hI
            obtain ⟨n, rfl⟩ : ∃ k, n = k + 1 := ⟨n - 1, by omega⟩
            rw [List.take_of_length_le (by omega)] at hI
            refine br_t (nI_le (by omega) (by omega)) ?_
            rw [eX]
            refine nm_e ?_
            unfold wpY_append
            dsimp only
            refine cy_held b6 a6 hsc e3 (by omega) ?_
            rw [if_neg e0]
            refine br_t rfl ⟨by rw [hs2]; exact vp_in_nI (by omega) (by omega), ?_⟩
            rw [hs2, nI_clamp (by omega), eY]
            refine br_t (by rw [b2]; exact nI_le hle (by omega)) ?_
            refine cy_copy (pf := s + 2) (pt := 1) (l := sl s) (m := inp) hs2 (by decide) (by omega) (by omega) (by omega) e3 c4 e5 c6 (by omega) ?_
            intro vC' vL' w1 w2 w3 w4
            refine ⟨rfl, cz_in (inp := inp ++ sl s) (txt := txt) (sl := sl) ⟨⟨a1, a2, a3, a4, a5, a6⟩, ⟨b1, b2, b3, b4, b5, b6⟩, ⟨by rw [List.length_append]; exact hle, ?_, by rw [List.length_append], w2, hI, w1⟩, ⟨d1, d2, d3, (w4 0 (by omega)).trans d4, d5, cb_At_cg d6 fun p h1 h2 => w3 p (by omega)⟩, fun s' hs' => ?_⟩⟩
            · intro b hb
              rcases List.mem_append.mp hb with hb | hb
              · exact c2 b hb
              · exact (e6 (fun h => e0 (by rw [h]; rfl))).2.2 b hb
            · obtain ⟨g1, g2, g3, g4, g5, g6⟩ := hs s' hs'
              exact ⟨g1, g2, (w4 _ (by omega)).trans g3, g4, cb_At_cg g5 fun p h1 h2 => w3 p (by omega), g6⟩
          | succ q ih =>
            intro i n uI' hi hn hI
            obtain ⟨n, rfl⟩ : ∃ k, n = k + 1 := ⟨n - 1, by omega⟩
            refine br_f (nI_ge (by omega) (by omega)) ?_
            rw [show (32 : Int32) = nI 32 from rfl, pk_mul, nI_add]
            have eI : xI + nI i = nI (inp.length + i) := by rw [c3, nI_add]
            refine ⟨vp_in_nI (by omega) (by omega), by rw [eI]; exact vp_in_nI (by omega) (by omega), ?_⟩
            rw [eI, nI_clamp (by omega), nI_clamp (by omega), cb_At_get e4 i (by omega)]
            refine nm_e (nm_r (nI_1 _) (ih (i + 1) n _ (by omega) (by omega) ?_))
            have et : (sl s).take (i + 1) = (sl s).take i ++ [(sl s).getD i 0] := by
              rw [List.take_add_one, List.getD_eq_getElem?_getD, List.getElem?_eq_getElem (by omega)]; rfl
            have hl2 : (inp ++ (sl s).take i).length = inp.length + i := by simp; omega
            have := cb_At_snoc (x := (sl s).getD i 0) hI
            rw [hl2, Nat.zero_add, List.append_assoc, ← et] at this
            exact this
        exact ⟨_, lp (sl s).length 0 ((sl s).length + 1) uI (by omega) (by omega) (by simpa using c5)⟩
      · unfold wpY_append
        dsimp only
        refine cy_held b6 a6 hsc e3 (by omega) ?_
        rw [if_neg e0]
        refine br_t rfl ⟨by rw [hs2]; exact vp_in_nI (by omega) (by omega), ?_⟩
        rw [hs2, nI_clamp (by omega), eY]
        exact br_f (by rw [b2]; exact nI_ge hle (by omega)) ⟨rfl, cz_in hR0⟩
section cyn
variable {yM yD yS yN yF : Int32} {vC vL vS vP vV vK vR vA vB : Nat → Int32} {vN vE : Nat → Int64}
theorem cy_lenN {post : Int32 → Prop} {sc : Nat} {v : Int32} (hS : yS = nI sc) (h1 : v ≠ -1) (h2 : v ≠ -2) (hv : v < 0 ∨ nI sc ≤ v) (hsc : sc ≤ 4) (h : post (-1)) : wpY_length post (yM, yD, yS, yN, yF, vC, vL, vS, vP, vV, vK, vR, vA, vB, vN, vE) v := by
  refine br_c (fun _ => h) (fun hn => br_f ?_ h)
  rw [hS]
  refine Int32.not_lt.mpr (hv.resolve_left fun g => ?_)
  have e1 : (-1 : Int32).toInt = -1 := by decide
  have e2 : (-2 : Int32).toInt = -2 := by decide
  have e0 : (0 : Int32).toInt = 0 := by decide
  rw [Int32.lt_iff_toInt_lt] at g hn
  have h1' : v.toInt ≠ -1 := fun e => h1 (Int32.toInt_inj.mp (by rw [e, e1]))
  have h2' : v.toInt ≠ -2 := fun e => h2 (Int32.toInt_inj.mp (by rw [e, e2]))
  omega
theorem cy_lenP {post : Int32 → Prop} {sc p : Nat} {v x : Int32} (hS : yS = nI sc) (hsc : 2 ≤ sc) (hsc4 : sc ≤ 4) (hv : v + 2 = nI p) (hp : p < sc + 2) (hvl : v.toInt = (p : Int) - 2) (hL : vL p = x) (h : post x) : wpY_length post (yM, yD, yS, yN, yF, vC, vL, vS, vP, vV, vK, vR, vA, vB, vN, vE) v := by
  have e2 : (-2 : Int32).toInt = -2 := by decide
  refine br_f ?_ (br_t ?_ ⟨by rw [hv]; exact vp_in_nI (by omega) (by omega), ?_⟩)
  · rw [Int32.lt_iff_toInt_lt]; omega
  · rw [hS, Int32.lt_iff_toInt_lt, nI_toInt (by omega)]; omega
  · rw [hv, nI_clamp (by omega), hL]; exact h
end cyn
/-- a place: the input, the text, a slot, or none -/
theorem cz_pl (v : Int32) {sc : Nat} (hsc : sc ≤ 4) : v = -1 ∨ v = -2 ∨ (v ≠ -1 ∧ v ≠ -2 ∧ ((v < 0 ∨ nI sc ≤ v) ∨ ∃ s, s < sc ∧ v = nI s)) := by
  by_cases h1 : v = -1
  · exact Or.inl h1
  · by_cases h2 : v = -2
    · exact Or.inr (Or.inl h2)
    · exact Or.inr (Or.inr ⟨h1, h2, cz_ix v hsc⟩)
theorem i_vc_clear {k : Nat} {u : SX} {v : SY} (I : i_Rel k u v) (hk : k + 3 ≤ 1539) (v1 : Int32) : wpX_clear (fun r u' => wpY_clear (fun r' v' => r' = r ∧ i_Rel (k + 3) u' v') v v1) u v1 := by
  refine cz_el (P := fun u v => wpX_clear (fun r u' => wpY_clear (fun r' v' => r' = r ∧ i_Rel (k + 3) u' v') v v1) u v1) ?_ I
  intro mb lim sc inp txt sl xM xL xS xI xT xO xP xp xF xR xD xd uI uT uC uL uO uS uK uA uP uM uF yM yD yS yN yF vC vL vS vP vV vK vR vA vB vN vE hR
  have hR0 := hR
  obtain ⟨⟨a1, a2, a3, a4, a5, a6⟩, ⟨b1, b2, b3, b4, b5, b6⟩, ⟨c1, c2, c3, c4, c5, c6⟩, ⟨d1, d2, d3, d4, d5, d6⟩, hs⟩ := hR
  rcases cz_pl v1 a6 with rfl | rfl | ⟨n1, n2, hv⟩
  · refine br_t rfl ?_
    unfold wpY_clear
    dsimp only
    refine cy_lenP (p := 1) b6 a5 a6 (by decide) (by omega) (by decide) c4 (br_t (nI_pos' (by omega)) ⟨by rw [show (-1 : Int32) + 2 = nI 1 from by decide]; exact vp_in_nI (by omega) (by omega), nm_e ⟨rfl, cz_in (inp := []) (txt := txt) (sl := sl) ⟨⟨a1, a2, a3, a4, a5, a6⟩, ⟨b1, b2, b3, b4, b5, b6⟩, ⟨by simp, by simp, rfl, by rw [show ((-1 : Int32) + 2).toNatClampNeg = 1 from by decide, pk_us]; rfl, trivial, trivial⟩, ⟨d1, d2, d3, by rw [show ((-1 : Int32) + 2).toNatClampNeg = 1 from by decide, pk_un (by omega)]; exact d4, d5, d6⟩, fun s hs4 => ?_⟩⟩⟩)
    obtain ⟨g1, g2, g3, g4, g5, g6⟩ := hs s hs4
    exact ⟨g1, g2, by rw [show ((-1 : Int32) + 2).toNatClampNeg = 1 from by decide, pk_un (by omega)]; exact g3, g4, g5, g6⟩
  · refine br_f (by decide) (br_t rfl ?_)
    unfold wpY_clear
    dsimp only
    refine cy_lenP (p := 0) b6 a5 a6 (by decide) (by omega) (by decide) d4 (br_t (nI_pos' (by omega)) ⟨by rw [show (-2 : Int32) + 2 = nI 0 from by decide]; exact vp_in_nI (by omega) (by omega), nm_e ⟨rfl, cz_in (inp := inp) (txt := []) (sl := sl) ⟨⟨a1, a2, a3, a4, a5, a6⟩, ⟨b1, b2, b3, b4, b5, b6⟩, ⟨c1, c2, c3, by rw [show ((-2 : Int32) + 2).toNatClampNeg = 0 from by decide, pk_un (by omega)]; exact c4, c5, c6⟩, ⟨by simp, by intro c hc; simp at hc, rfl, by rw [show ((-2 : Int32) + 2).toNatClampNeg = 0 from by decide, pk_us]; rfl, trivial, trivial⟩, fun s hs4 => ?_⟩⟩⟩)
    obtain ⟨g1, g2, g3, g4, g5, g6⟩ := hs s hs4
    exact ⟨g1, g2, by rw [show ((-2 : Int32) + 2).toNatClampNeg = 0 from by decide, pk_un (by omega)]; exact g3, g4, g5, g6⟩
  · refine br_f n1 (br_f n2 ?_)
    rcases hv with hv | ⟨s, hsc, rfl⟩
    · refine cx_nsl b5 hv (br_t rfl ?_)
      unfold wpY_clear
      dsimp only
      exact cy_lenN b6 n1 n2 hv a6 (br_f (by decide) ⟨rfl, cz_in hR0⟩)
    · obtain ⟨e1, e2, e3, e4, e5, e6⟩ := hs s (by omega)
      have hs2 : nI s + 2 = nI (s + 2) := nI_add s 2
      refine cx_isl b5 a6 hsc (br_f (by decide) ⟨vp_in_nI (by omega) (by omega), nm_e ?_⟩)
      rw [nI_clamp (by omega)]
      unfold wpY_clear
      dsimp only
      refine cy_lenP (p := s + 2) b6 a5 a6 hs2 (by omega) (by rw [nI_toInt (by omega)]; omega) e3 (br_t (nI_pos' (by omega)) ⟨by rw [hs2]; exact vp_in_nI (by omega) (by omega), nm_e ?_⟩)
      rw [hs2, nI_clamp (by omega)]
      refine ⟨rfl, cz_in (inp := inp) (txt := txt) (sl := fun j => if j = s then [] else sl j) ⟨⟨a1, a2, a3, a4, a5, a6⟩, ⟨b1, b2, b3, b4, b5, b6⟩, ⟨c1, c2, c3, by rw [pk_un (by omega)]; exact c4, c5, c6⟩, ⟨d1, d2, d3, by rw [pk_un (by omega)]; exact d4, d5, d6⟩, fun s' hs' => ?_⟩⟩
      obtain ⟨g1, g2, g3, g4, g5, g6⟩ := hs s' hs'
      by_cases e : s' = s
      · subst e
        simp only [if_pos]
        exact ⟨by simp, by rw [pk_us]; rfl, by rw [pk_us]; rfl, trivial, trivial, fun h => absurd rfl h⟩
      · simp only [if_neg e]
        exact ⟨g1, by rw [pk_un e]; exact g2, by rw [pk_un (by omega)]; exact g3, g4, g5, g6⟩
theorem i_vc_length {k : Nat} {u : SX} {v : SY} (I : i_Rel k u v) (hk : k + 3 ≤ 1539) (v1 : Int32) : wpX_length (fun r => wpY_length (fun r' => r' = r ∧ i_Rel (k + 3) u v) v v1) u v1 := by
  refine cz_el (P := fun u v => wpX_length (fun r => wpY_length (fun r' => r' = r ∧ i_Rel (k + 3) u v) v v1) u v1) ?_ I
  intro mb lim sc inp txt sl xM xL xS xI xT xO xP xp xF xR xD xd uI uT uC uL uO uS uK uA uP uM uF yM yD yS yN yF vC vL vS vP vV vK vR vA vB vN vE hR
  have hR0 := hR
  obtain ⟨⟨a1, a2, a3, a4, a5, a6⟩, ⟨b1, b2, b3, b4, b5, b6⟩, ⟨c1, c2, c3, c4, c5, c6⟩, ⟨d1, d2, d3, d4, d5, d6⟩, hs⟩ := hR
  rcases cz_pl v1 a6 with rfl | rfl | ⟨n1, n2, hv⟩
  · exact br_t rfl (cy_lenP (p := 1) b6 a5 a6 (by decide) (by omega) (by decide) c4 ⟨c3.symm, cz_in hR0⟩)
  · exact br_f (by decide) (br_t rfl (cy_lenP (p := 0) b6 a5 a6 (by decide) (by omega) (by decide) d4 ⟨d3.symm, cz_in hR0⟩))
  · refine br_f n1 (br_f n2 ?_)
    rcases hv with hv | ⟨s, hsc, rfl⟩
    · exact cx_nsl b5 hv (br_t rfl (cy_lenN b6 n1 n2 hv a6 ⟨rfl, cz_in hR0⟩))
    · obtain ⟨e1, e2, e3, e4, e5, e6⟩ := hs s (by omega)
      refine cx_isl b5 a6 hsc (br_f (by decide) ⟨vp_in_nI (by omega) (by omega), ?_⟩)
      rw [nI_clamp (by omega)]
      exact cy_lenP (p := s + 2) b6 a5 a6 (nI_add s 2) (by omega) (by rw [nI_toInt (by omega)]; omega) e3 ⟨e2.symm, cz_in hR0⟩
section cxr
variable {xM xL xS xI xT xO xP xp xF xR xD xd : Int32} {uI uT uC uL uO uS uK uA uP uM : Nat → Int32} {uF : Nat → Int64}
theorem cx_len {post : Int32 → Prop} {sc : Nat} {v : Int32} {x : Int32} (hS : xS = nI sc) (hsc : sc ≤ 4) (h : (v = -1 ∧ xI = x) ∨ (v = -2 ∧ xT = x) ∨ (v ≠ -1 ∧ v ≠ -2 ∧ (v < 0 ∨ nI sc ≤ v) ∧ x = -1) ∨ (v ≠ -1 ∧ v ≠ -2 ∧ ∃ s, s < sc ∧ v = nI s ∧ uL s = x)) (hp : post x) : wpX_length post (xM, xL, xS, xI, xT, xO, xP, xp, xF, xR, xD, xd, uI, uT, uC, uL, uO, uS, uK, uA, uP, uM, uF) v := by
  rcases h with ⟨rfl, h⟩ | ⟨rfl, h⟩ | ⟨n1, n2, h, rfl⟩ | ⟨n1, n2, s, hs, rfl, h⟩
  · refine br_t rfl ?_; rw [h]; exact hp
  · refine br_f (by decide) (br_t rfl ?_); rw [h]; exact hp
  · exact br_f n1 (br_f n2 (cx_nsl hS h (br_t rfl hp)))
  · refine br_f n1 (br_f n2 (cx_isl hS hsc hs (br_f (by decide) ⟨vp_in_nI (by omega) (by omega), ?_⟩)))
    rw [nI_clamp (by omega), h]; exact hp
end cxr
/-- reading a cell of a list -/
theorem cz_cell {post : Int32 → Prop} {yM yD yS yN yF : Int32} {vC vL vS vP vV vK vR vA vB : Nat → Int32} {vN vE : Nat → Int64} {pl : Nat} {p0 v2 : Int32} {l : List Nat} (hpl : p0 + 2 = nI pl) (hp8 : pl < 8) (hL : vL pl = nI l.length) (hl : l.length ≤ 128) (hC : cb_At vC (pl * 128) l) :
    ((v2 < 0 ∨ ∃ i, l.length ≤ i ∧ i < 2 ^ 31 ∧ v2 = nI i) → post (-12) → wpY_get post (yM, yD, yS, yN, yF, vC, vL, vS, vP, vV, vK, vR, vA, vB, vN, vE) p0 v2) ∧ (∀ i, i < l.length → v2 = nI i → post (nI (l.getD i 0)) → wpY_get post (yM, yD, yS, yN, yF, vC, vL, vS, vP, vV, vK, vR, vA, vB, vN, vE) p0 v2) := by
  refine ⟨fun h hp => ?_, fun i hi hv hp => ?_⟩
  · rcases h with h | ⟨i, h1, h2, rfl⟩
    · exact br_t h hp
    · exact cy_get hpl hp8 hL hl hC h2 (by unfold cb_gt; rw [if_neg (by omega)]; exact hp)
  · subst hv
    exact cy_get hpl hp8 hL hl hC (by omega) (by unfold cb_gt; rw [if_pos hi]; exact hp)
theorem cz_v2 (v2 : Int32) (n : Nat) (hn : n < 2 ^ 31) : (v2 < 0 ∨ ∃ i, n ≤ i ∧ i < 2 ^ 31 ∧ v2 = nI i) ∨ ∃ i, i < n ∧ v2 = nI i := by
  by_cases h : v2 < 0
  · exact Or.inl (Or.inl h)
  · obtain ⟨i, hi, rfl⟩ := nI_of h
    by_cases g : i < n
    · exact Or.inr ⟨i, g, rfl⟩
    · exact Or.inl (Or.inr ⟨i, by omega, hi, rfl⟩)
theorem i_vc_cellAt {k : Nat} {u : SX} {v : SY} (I : i_Rel k u v) (hk : k + 3 ≤ 1539) (v1 : Int32) (v2 : Int32) : wpX_cellAt (fun r => wpY_cellAt (fun r' => r' = r ∧ i_Rel (k + 3) u v) v v1 v2) u v1 v2 := by
  refine cz_el (P := fun u v => wpX_cellAt (fun r => wpY_cellAt (fun r' => r' = r ∧ i_Rel (k + 3) u v) v v1 v2) u v1 v2) ?_ I
  intro mb lim sc inp txt sl xM xL xS xI xT xO xP xp xF xR xD xd uI uT uC uL uO uS uK uA uP uM uF yM yD yS yN yF vC vL vS vP vV vK vR vA vB vN vE hR
  have hR0 := hR
  obtain ⟨⟨a1, a2, a3, a4, a5, a6⟩, ⟨b1, b2, b3, b4, b5, b6⟩, ⟨c1, c2, c3, c4, c5, c6⟩, ⟨d1, d2, d3, d4, d5, d6⟩, hs⟩ := hR
  unfold wpX_cellAt wpY_cellAt
  dsimp only
  rcases cz_pl v1 a6 with rfl | rfl | ⟨n1, n2, hv⟩
  · refine cx_len b5 a6 (Or.inl ⟨rfl, c3⟩) (br_t (nI_pos' (by omega)) ?_)
    rcases cz_v2 v2 inp.length (by omega) with h | ⟨i, hi, rfl⟩
    · have fin : wpY_length (fun r_1 => (((0 ≤ r_1 → (wpY_get (fun r_19 => (r_19 = -12 ∧ i_Rel (k + 3) (xM, xL, xS, xI, xT, xO, xP, xp, xF, xR, xD, xd, uI, uT, uC, uL, uO, uS, uK, uA, uP, uM, uF) (yM, yD, yS, yN, yF, vC, vL, vS, vP, vV, vK, vR, vA, vB, vN, vE))) (yM, yD, yS, yN, yF, vC, vL, vS, vP, vV, vK, vR, vA, vB, vN, vE) (-1) v2)) ∧ (¬ 0 ≤ r_1 → ((-1 : Int32) = -12 ∧ i_Rel (k + 3) (xM, xL, xS, xI, xT, xO, xP, xp, xF, xR, xD, xd, uI, uT, uC, uL, uO, uS, uK, uA, uP, uM, uF) (yM, yD, yS, yN, yF, vC, vL, vS, vP, vV, vK, vR, vA, vB, vN, vE)))))) (yM, yD, yS, yN, yF, vC, vL, vS, vP, vV, vK, vR, vA, vB, vN, vE) (-1) := cy_lenP (p := 1) b6 a5 a6 (by decide) (by omega) (by decide) c4 (br_t (nI_pos' (by omega)) ((cz_cell (pl := 1) (by decide) (by omega) c4 (by omega) c6).1 h ⟨rfl, cz_in hR0⟩))
      refine br_c (fun _ => fin) (fun g0 => br_c (fun g1 => ?_) (fun _ => fin))
      rcases h with h | ⟨i, h1, h2, rfl⟩
      · exact absurd h g0
      · rw [nI_ltI h2 (by omega)] at g1; omega
    · refine br_f (nI_pos (by omega)) (br_t (nI_lt hi (by omega)) (br_t rfl ⟨vp_in_nI (by omega) (by omega), ?_⟩))
      rw [nI_clamp (by omega), cb_At0 c5 hi]
      exact cy_lenP (p := 1) b6 a5 a6 (by decide) (by omega) (by decide) c4 (br_t (nI_pos' (by omega)) ((cz_cell (pl := 1) (by decide) (by omega) c4 (by omega) c6).2 i hi rfl ⟨rfl, cz_in hR0⟩))
  · refine cx_len b5 a6 (Or.inr (Or.inl ⟨rfl, d3⟩)) (br_t (nI_pos' (by omega)) ?_)
    rcases cz_v2 v2 txt.length (by omega) with h | ⟨i, hi, rfl⟩
    · have fin : wpY_length (fun r_1 => (((0 ≤ r_1 → (wpY_get (fun r_19 => (r_19 = -12 ∧ i_Rel (k + 3) (xM, xL, xS, xI, xT, xO, xP, xp, xF, xR, xD, xd, uI, uT, uC, uL, uO, uS, uK, uA, uP, uM, uF) (yM, yD, yS, yN, yF, vC, vL, vS, vP, vV, vK, vR, vA, vB, vN, vE))) (yM, yD, yS, yN, yF, vC, vL, vS, vP, vV, vK, vR, vA, vB, vN, vE) (-2) v2)) ∧ (¬ 0 ≤ r_1 → ((-1 : Int32) = -12 ∧ i_Rel (k + 3) (xM, xL, xS, xI, xT, xO, xP, xp, xF, xR, xD, xd, uI, uT, uC, uL, uO, uS, uK, uA, uP, uM, uF) (yM, yD, yS, yN, yF, vC, vL, vS, vP, vV, vK, vR, vA, vB, vN, vE)))))) (yM, yD, yS, yN, yF, vC, vL, vS, vP, vV, vK, vR, vA, vB, vN, vE) (-2) := cy_lenP (p := 0) b6 a5 a6 (by decide) (by omega) (by decide) d4 (br_t (nI_pos' (by omega)) ((cz_cell (pl := 0) (by decide) (by omega) d4 (by omega) d6).1 h ⟨rfl, cz_in hR0⟩))
      refine br_c (fun _ => fin) (fun g0 => br_c (fun g1 => ?_) (fun _ => fin))
      rcases h with h | ⟨i, h1, h2, rfl⟩
      · exact absurd h g0
      · rw [nI_ltI h2 (by omega)] at g1; omega
    · refine br_f (nI_pos (by omega)) (br_t (nI_lt hi (by omega)) (br_f (by decide) (br_t rfl ⟨vp_in_nI (by omega) (by omega), ?_⟩)))
      rw [nI_clamp (by omega), cb_At0 d5 hi]
      exact cy_lenP (p := 0) b6 a5 a6 (by decide) (by omega) (by decide) d4 (br_t (nI_pos' (by omega)) ((cz_cell (pl := 0) (by decide) (by omega) d4 (by omega) d6).2 i hi rfl ⟨rfl, cz_in hR0⟩))
  · rcases hv with hv | ⟨s, hsc, rfl⟩
    · exact cx_len b5 a6 (Or.inr (Or.inr (Or.inl ⟨n1, n2, hv, rfl⟩))) (br_f (by decide) (cy_lenN b6 n1 n2 hv a6 (br_f (by decide) ⟨rfl, cz_in hR0⟩)))
    · obtain ⟨e1, e2, e3, e4, e5, e6⟩ := hs s (by omega)
      have hs2 : nI s + 2 = nI (s + 2) := nI_add s 2
      refine cx_len b5 a6 (Or.inr (Or.inr (Or.inr ⟨n1, n2, s, hsc, rfl, e2⟩))) (br_t (nI_pos' (by omega)) ?_)
      rcases cz_v2 v2 (sl s).length (by omega) with h | ⟨i, hi, rfl⟩
      · have fin : wpY_length (fun r_1 => (((0 ≤ r_1 → (wpY_get (fun r_19 => (r_19 = -12 ∧ i_Rel (k + 3) (xM, xL, xS, xI, xT, xO, xP, xp, xF, xR, xD, xd, uI, uT, uC, uL, uO, uS, uK, uA, uP, uM, uF) (yM, yD, yS, yN, yF, vC, vL, vS, vP, vV, vK, vR, vA, vB, vN, vE))) (yM, yD, yS, yN, yF, vC, vL, vS, vP, vV, vK, vR, vA, vB, vN, vE) (nI s) v2)) ∧ (¬ 0 ≤ r_1 → ((-1 : Int32) = -12 ∧ i_Rel (k + 3) (xM, xL, xS, xI, xT, xO, xP, xp, xF, xR, xD, xd, uI, uT, uC, uL, uO, uS, uK, uA, uP, uM, uF) (yM, yD, yS, yN, yF, vC, vL, vS, vP, vV, vK, vR, vA, vB, vN, vE)))))) (yM, yD, yS, yN, yF, vC, vL, vS, vP, vV, vK, vR, vA, vB, vN, vE) (nI s) := cy_lenP (p := s + 2) b6 a5 a6 hs2 (by omega) (by rw [nI_toInt (by omega)]; omega) e3 (br_t (nI_pos' (by omega)) ((cz_cell (pl := s + 2) hs2 (by omega) e3 (by omega) e5).1 h ⟨rfl, cz_in hR0⟩))
        refine br_c (fun _ => fin) (fun g0 => br_c (fun g1 => ?_) (fun _ => fin))
        rcases h with h | ⟨i, h1, h2, rfl⟩
        · exact absurd h g0
        · rw [nI_ltI h2 (by omega)] at g1; omega
      · refine br_f (nI_pos (by omega)) (br_t (nI_lt hi (by omega)) (br_f n1 (br_f n2 ?_)))
        rw [show (32 : Int32) = nI 32 from rfl, pk_mul, nI_add]
        refine ⟨vp_in_nI (by omega) (by omega), ?_⟩
        rw [nI_clamp (by omega), cb_At_get e4 i hi]
        exact cy_lenP (p := s + 2) b6 a5 a6 hs2 (by omega) (by rw [nI_toInt (by omega)]; omega) e3 (br_t (nI_pos' (by omega)) ((cz_cell (pl := s + 2) hs2 (by omega) e3 (by omega) e5).2 i hi rfl ⟨rfl, cz_in hR0⟩))
end
section
/-! same; check, faultAt, decode, parse -/
theorem cz_gt_ext {la lb : List Nat} (ha : la.length ≤ 128) (hb : lb.length ≤ 128) (h1 : ∀ b ∈ la, b < 256) (h2 : ∀ b ∈ lb, b < 256) (h : ∀ j, j < 128 → cb_gt la j = cb_gt lb j) : la = lb := by
  have hl : la.length = lb.length := by
    rcases Nat.lt_trichotomy la.length lb.length with g | g | g
    · have := h la.length (by omega)
      unfold cb_gt at this
      rw [if_neg (by omega), if_pos g] at this
      have hb2 := cb_getD_lt h2 la.length
      exact absurd this.symm (cb_nim (by omega) _)
    · exact g
    · have := h lb.length (by omega)
      unfold cb_gt at this
      rw [if_neg (by omega : ¬ lb.length < lb.length), if_pos g] at this
      have hb2 := cb_getD_lt h1 lb.length
      exact absurd this (cb_nim (by omega) _)
  refine List.ext_getElem hl fun j j1 j2 => ?_
  have := h j (by omega)
  unfold cb_gt at this
  have e1 := cb_getD_lt h1 j
  have e2 := cb_getD_lt h2 j
  rw [if_pos j1, if_pos j2, nI_eq (by omega) (by omega)] at this
  rw [List.getD_eq_getElem?_getD, List.getD_eq_getElem?_getD, List.getElem?_eq_getElem j1, List.getElem?_eq_getElem j2] at this
  exact this
section cyo
variable {yM yD yS yN yF : Int32} {vC vL vS vP vV vK vR vA vB : Nat → Int32} {vN vE : Nat → Int64}
theorem cy_cm2 {post : Int32 → Prop} {x1 x3 : Int32} {pa pb : Nat} {la lb : List Nat} (h1 : x1 + 2 = nI pa) (h3 : x3 + 2 = nI pb) (ha8 : pa < 8) (hb8 : pb < 8) (hLa : vL pa = nI la.length) (hLb : vL pb = nI lb.length) (hla : la.length ≤ 128) (hlb : lb.length ≤ 128) (hCa : cb_At vC (pa * 128) la) (hCb : cb_At vC (pb * 128) lb) (ka : ∀ b ∈ la, b < 256) (kb : ∀ b ∈ lb, b < 256)
    (P0 : la = lb → post 0) (P1 : la ≠ lb → ∀ r, r ≠ 0 → post r) : wpY_compare post (yM, yD, yS, yN, yF, vC, vL, vS, vP, vV, vK, vR, vA, vB, vN, vE) x1 0 x3 0 128 := by
  have lp : ∀ k i n, i + k = 128 → k + 1 < n → (∀ j, j < i → cb_gt la j = cb_gt lb j) → wY_compare_6 post x1 0 x3 0 128 yM yD yS yN yF vC vL vS vP vV vK vR vA vB vN vE n 0 (nI i) := by
    intro k
    induction k with
    | zero =>
      intro i n hi hn he
      obtain ⟨n, rfl⟩ : ∃ k, n = k + 1 := ⟨n - 1, by omega⟩
      have : i = 128 := by omega
      subst this
      exact br_t (nI_le (a := 128) (Nat.le_refl _) (by omega)) (P0 (cz_gt_ext hla hlb ka kb he))
    | succ k ih =>
      intro i n hi hn he
      obtain ⟨n, rfl⟩ : ∃ k, n = k + 1 := ⟨n - 1, by omega⟩
      refine br_f (nI_ge (b := 128) (by omega) (by omega)) (br_t rfl ?_)
      rw [show (0 : Int32) + nI i = nI i from by rw [show (0 : Int32) = nI 0 from rfl, nI_add, Nat.zero_add]]
      refine cy_get h1 ha8 hLa hla hCa (by omega) (cy_get h3 hb8 hLb hlb hCb (by omega) (nm_e (nm_r (nI_1 _) ?_)))
      by_cases e : cb_gt la i = cb_gt lb i
      · rw [e, Int32.sub_self]
        exact ih (i + 1) n (by omega) (by omega) (fun j hj => by
          by_cases ej : j = i
          · subst ej; exact e
          · exact he j (by omega))
      · have hne : cb_gt la i - cb_gt lb i ≠ 0 := fun h => e (by have := Int32.sub_add_cancel (cb_gt la i) (cb_gt lb i); rw [h, Int32.zero_add] at this; exact this.symm)
        have fin := P1 (fun h => e (by rw [h])) _ hne
        obtain ⟨n, rfl⟩ : ∃ k, n = k + 1 := ⟨n - 1, by omega⟩
        exact br_c (fun _ => fin) (fun _ => br_f hne fin)
  exact ⟨_, lp 128 0 130 (by omega) (by omega) (fun j hj => by omega)⟩
end cyo
theorem i_vc_same {k : Nat} {u : SX} {v : SY} (I : i_Rel k u v) (hk : k + 3 ≤ 1539) (v1 : Int32) (v2 : Int32) : wpX_same (fun r => wpY_same (fun r' => r' = r ∧ i_Rel (k + 3) u v) v v1 v2) u v1 v2 := by
  refine cz_el (P := fun u v => wpX_same (fun r => wpY_same (fun r' => r' = r ∧ i_Rel (k + 3) u v) v v1 v2) u v1 v2) ?_ I
  intro mb lim sc inp txt sl xM xL xS xI xT xO xP xp xF xR xD xd uI uT uC uL uO uS uK uA uP uM uF yM yD yS yN yF vC vL vS vP vV vK vR vA vB vN vE hR
  have hR0 := hR
  obtain ⟨⟨a1, a2, a3, a4, a5, a6⟩, ⟨b1, b2, b3, b4, b5, b6⟩, ⟨c1, c2, c3, c4, c5, c6⟩, ⟨d1, d2, d3, d4, d5, d6⟩, hs⟩ := hR
  unfold wpX_same wpY_same
  dsimp only
  rcases cz_ix v1 a6 with hv | ⟨a, hsa, rfl⟩
  · refine cx_nsl b5 hv (br_t rfl (cy_nheld b6 hv ?_))
    have fin : ∀ r_18 : Int32, ((((-1 : Int32) = 0 → (((r_18 = 0 → (wpY_compare (fun r_39 => (((r_39 = 0 → ((1 : Int32) = -1 ∧ i_Rel (k + 3) (xM, xL, xS, xI, xT, xO, xP, xp, xF, xR, xD, xd, uI, uT, uC, uL, uO, uS, uK, uA, uP, uM, uF) (yM, yD, yS, yN, yF, vC, vL, vS, vP, vV, vK, vR, vA, vB, vN, vE))) ∧ (¬ r_39 = 0 → ((0 : Int32) = -1 ∧ i_Rel (k + 3) (xM, xL, xS, xI, xT, xO, xP, xp, xF, xR, xD, xd, uI, uT, uC, uL, uO, uS, uK, uA, uP, uM, uF) (yM, yD, yS, yN, yF, vC, vL, vS, vP, vV, vK, vR, vA, vB, vN, vE)))))) (yM, yD, yS, yN, yF, vC, vL, vS, vP, vV, vK, vR, vA, vB, vN, vE) v1 0 v2 0 128)) ∧ (¬ r_18 = 0 → (wY_same_22 (fun r' => r' = -1 ∧ i_Rel (k + 3) (xM, xL, xS, xI, xT, xO, xP, xp, xF, xR, xD, xd, uI, uT, uC, uL, uO, uS, uK, uA, uP, uM, uF) (yM, yD, yS, yN, yF, vC, vL, vS, vP, vV, vK, vR, vA, vB, vN, vE)) (-1) r_18 yM yD yS yN yF vC vL vS vP vV vK vR vA vB vN vE))))) ∧ (¬ (-1 : Int32) = 0 → (wY_same_22 (fun r' => r' = -1 ∧ i_Rel (k + 3) (xM, xL, xS, xI, xT, xO, xP, xp, xF, xR, xD, xd, uI, uT, uC, uL, uO, uS, uK, uA, uP, uM, uF) (yM, yD, yS, yN, yF, vC, vL, vS, vP, vV, vK, vR, vA, vB, vN, vE)) (-1) r_18 yM yD yS yN yF vC vL vS vP vV vK vR vA vB vN vE)))) := fun r_18 => br_f (by decide) (br_t rfl ⟨rfl, cz_in hR0⟩)
    rcases cz_ix v2 a6 with hv2 | ⟨b, hsb, rfl⟩
    · exact cy_nheld b6 hv2 (fin _)
    · exact cy_held b6 a6 hsb (hs b (by omega)).2.2.1 (by have := (hs b (by omega)).1; omega) (fin _)
  · obtain ⟨e1, e2, e3, e4, e5, e6⟩ := hs a (by omega)
    refine cx_isl b5 a6 hsa (br_f (by decide) ?_)
    rcases cz_ix v2 a6 with hv2 | ⟨b, hsb, rfl⟩
    · refine cx_nsl b5 hv2 (br_t rfl (cy_held b6 a6 hsa e3 (by omega) (cy_nheld b6 hv2 ?_)))
      by_cases e0 : (sl a).length = 0
      · rw [if_pos e0]; exact br_f (by decide) (br_f (by decide) (br_t rfl ⟨rfl, cz_in hR0⟩))
      · rw [if_neg e0]; exact br_t rfl (br_f (by decide) (br_f (by decide) (br_t rfl ⟨rfl, cz_in hR0⟩)))
    · obtain ⟨f1, f2, f3, f4, f5, f6⟩ := hs b (by omega)
      have ina : vp_in (nI a) 4 := vp_in_nI (by omega) (by omega)
      have inb : vp_in (nI b) 4 := vp_in_nI (by omega) (by omega)
      refine cx_isl b5 a6 hsb (br_f (by decide) ⟨ina, ?_⟩)
      rw [nI_clamp (by omega), nI_clamp (by omega), e2, f2]
      refine pk_eq (sl a).length 0 (fun e0 => ?_) (fun e0 => ⟨inb, pk_eq (sl b).length 0 (fun f0 => ?_) (fun f0 => ⟨ina, inb, ?_⟩)⟩)
      · refine cy_held b6 a6 hsa e3 (by omega) (cy_held b6 a6 hsb f3 (by omega) ?_)
        rw [if_pos e0]
        by_cases f0 : (sl b).length = 0
        · rw [if_pos f0]; exact br_f (by decide) (br_f (by decide) (br_f (by decide) ⟨rfl, cz_in hR0⟩))
        · rw [if_neg f0]; exact br_f (by decide) (br_f (by decide) (br_f (by decide) ⟨rfl, cz_in hR0⟩))
      · refine cy_held b6 a6 hsa e3 (by omega) (cy_held b6 a6 hsb f3 (by omega) ?_)
        rw [if_neg e0, if_pos f0]
        exact br_t rfl (br_f (by decide) (br_f (by decide) (br_f (by decide) ⟨rfl, cz_in hR0⟩)))
      · have kA := (e6 (fun h => e0 (by rw [h]; rfl))).2.2
        have kB := (f6 (fun h => f0 (by rw [h]; rfl))).2.2
        -- the reference's answer
        have yfin : ∀ r : Int32, r = (if sl a = sl b then 1 else 0) → wpY_held (fun r_1 => (wpY_held (fun r_18 => (((r_1 = 0 → (((r_18 = 0 → (wpY_compare (fun r_39 => (((r_39 = 0 → ((1 : Int32) = r ∧ i_Rel (k + 3) (xM, xL, xS, xI, xT, xO, xP, xp, xF, xR, xD, xd, uI, uT, uC, uL, uO, uS, uK, uA, uP, uM, uF) (yM, yD, yS, yN, yF, vC, vL, vS, vP, vV, vK, vR, vA, vB, vN, vE))) ∧ (¬ r_39 = 0 → ((0 : Int32) = r ∧ i_Rel (k + 3) (xM, xL, xS, xI, xT, xO, xP, xp, xF, xR, xD, xd, uI, uT, uC, uL, uO, uS, uK, uA, uP, uM, uF) (yM, yD, yS, yN, yF, vC, vL, vS, vP, vV, vK, vR, vA, vB, vN, vE)))))) (yM, yD, yS, yN, yF, vC, vL, vS, vP, vV, vK, vR, vA, vB, vN, vE) (nI a) 0 (nI b) 0 128)) ∧ (¬ r_18 = 0 → (wY_same_22 (fun r' => r' = r ∧ i_Rel (k + 3) (xM, xL, xS, xI, xT, xO, xP, xp, xF, xR, xD, xd, uI, uT, uC, uL, uO, uS, uK, uA, uP, uM, uF) (yM, yD, yS, yN, yF, vC, vL, vS, vP, vV, vK, vR, vA, vB, vN, vE)) r_1 r_18 yM yD yS yN yF vC vL vS vP vV vK vR vA vB vN vE))))) ∧ (¬ r_1 = 0 → (wY_same_22 (fun r' => r' = r ∧ i_Rel (k + 3) (xM, xL, xS, xI, xT, xO, xP, xp, xF, xR, xD, xd, uI, uT, uC, uL, uO, uS, uK, uA, uP, uM, uF) (yM, yD, yS, yN, yF, vC, vL, vS, vP, vV, vK, vR, vA, vB, vN, vE)) r_1 r_18 yM yD yS yN yF vC vL vS vP vV vK vR vA vB vN vE))))) (yM, yD, yS, yN, yF, vC, vL, vS, vP, vV, vK, vR, vA, vB, vN, vE) (nI b))) (yM, yD, yS, yN, yF, vC, vL, vS, vP, vV, vK, vR, vA, vB, vN, vE) (nI a) := by
          intro r hr
          refine cy_held b6 a6 hsa e3 (by omega) (cy_held b6 a6 hsb f3 (by omega) ?_)
          rw [if_neg e0, if_neg f0]
          refine br_t rfl (br_t rfl (cy_cm2 (pa := a + 2) (pb := b + 2) (nI_add a 2) (nI_add b 2) (by omega) (by omega) e3 f3 (by omega) (by omega) e5 f5 kA kB (fun h => ?_) (fun h r' hr' => ?_)))
          · rw [if_pos h] at hr; exact br_t rfl ⟨hr.symm, cz_in hR0⟩
          · rw [if_neg h] at hr; exact br_f hr' ⟨hr.symm, cz_in hR0⟩
        refine pk_eq (sl a).length (sl b).length (fun el => ?_) (fun el => yfin 0 (by rw [if_neg (fun h => el (by rw [h]))]))
        have lp : ∀ q i n, i + q = (sl a).length → q < n → (sl a).take i = (sl b).take i → wX_same_58 (fun r => wpY_held (fun r_1 => (wpY_held (fun r_18 => (((r_1 = 0 → (((r_18 = 0 → (wpY_compare (fun r_39 => (((r_39 = 0 → ((1 : Int32) = r ∧ i_Rel (k + 3) (xM, xL, xS, xI, xT, xO, xP, xp, xF, xR, xD, xd, uI, uT, uC, uL, uO, uS, uK, uA, uP, uM, uF) (yM, yD, yS, yN, yF, vC, vL, vS, vP, vV, vK, vR, vA, vB, vN, vE))) ∧ (¬ r_39 = 0 → ((0 : Int32) = r ∧ i_Rel (k + 3) (xM, xL, xS, xI, xT, xO, xP, xp, xF, xR, xD, xd, uI, uT, uC, uL, uO, uS, uK, uA, uP, uM, uF) (yM, yD, yS, yN, yF, vC, vL, vS, vP, vV, vK, vR, vA, vB, vN, vE)))))) (yM, yD, yS, yN, yF, vC, vL, vS, vP, vV, vK, vR, vA, vB, vN, vE) (nI a) 0 (nI b) 0 128)) ∧ (¬ r_18 = 0 → (wY_same_22 (fun r' => r' = r ∧ i_Rel (k + 3) (xM, xL, xS, xI, xT, xO, xP, xp, xF, xR, xD, xd, uI, uT, uC, uL, uO, uS, uK, uA, uP, uM, uF) (yM, yD, yS, yN, yF, vC, vL, vS, vP, vV, vK, vR, vA, vB, vN, vE)) r_1 r_18 yM yD yS yN yF vC vL vS vP vV vK vR vA vB vN vE))))) ∧ (¬ r_1 = 0 → (wY_same_22 (fun r' => r' = r ∧ i_Rel (k + 3) (xM, xL, xS, xI, xT, xO, xP, xp, xF, xR, xD, xd, uI, uT, uC, uL, uO, uS, uK, uA, uP, uM, uF) (yM, yD, yS, yN, yF, vC, vL, vS, vP, vV, vK, vR, vA, vB, vN, vE)) r_1 r_18 yM yD yS yN yF vC vL vS vP vV vK vR vA vB vN vE))))) (yM, yD, yS, yN, yF, vC, vL, vS, vP, vV, vK, vR, vA, vB, vN, vE) (nI b))) (yM, yD, yS, yN, yF, vC, vL, vS, vP, vV, vK, vR, vA, vB, vN, vE) (nI a)) (nI a) (nI b) xM xL xS xI xT xO xP xp xF xR xD xd uI uT uC uL uO uS uK uA uP uM uF n (nI i) := by
          intro q
          induction q with
          | zero =>
            intro i n hi hn ht
            obtain ⟨n, rfl⟩ : ∃ k, n = k + 1 := ⟨n - 1, by omega⟩
            refine ⟨ina, ?_⟩
            rw [nI_clamp (by omega), e2]
            rw [List.take_of_length_le (by omega), List.take_of_length_le (by omega)] at ht
            exact br_t (nI_le (by omega) (by omega)) (yfin 1 (by rw [if_pos ht]))
          | succ q ih =>
            intro i n hi hn ht
            obtain ⟨n, rfl⟩ : ∃ k, n = k + 1 := ⟨n - 1, by omega⟩
            refine ⟨ina, ?_⟩
            rw [nI_clamp (by omega), e2]
            refine br_f (nI_ge (by omega) (by omega)) ?_
            rw [show (32 : Int32) = nI 32 from rfl, pk_mul, pk_mul, nI_add, nI_add]
            refine ⟨vp_in_nI (by omega) (by omega), vp_in_nI (by omega) (by omega), ?_⟩
            rw [nI_clamp (by omega), nI_clamp (by omega), cb_At_get e4 i (by omega), cb_At_get f4 i (by omega)]
            have l1 := cb_getD_lt kA i
            have l2 := cb_getD_lt kB i
            refine pk_eq ((sl a).getD i 0) ((sl b).getD i 0) (fun ee => nm_r (nI_1 _) (ih (i + 1) n (by omega) (by omega) ?_)) (fun ee => yfin 0 ?_)
            · rw [List.getD_eq_getElem?_getD, List.getD_eq_getElem?_getD, List.getElem?_eq_getElem (by omega), List.getElem?_eq_getElem (by omega)] at ee
              rw [List.take_add_one, List.take_add_one, ht, List.getElem?_eq_getElem (by omega), List.getElem?_eq_getElem (by omega)]
              have ee' : (sl a)[i]'(by omega) = (sl b)[i]'(by omega) := ee
              rw [ee']
            · rw [if_neg (fun h => ee (by rw [h]))]
        exact ⟨_, lp (sl a).length 0 ((sl a).length + 1) (by omega) (by omega) (by simp)⟩
/-! scanning -/
theorem cz_Rw {mb lim sc : Nat} {inp txt : List Nat} {sl : Nat → List Nat} {xM xL xS xI xT : Int32} {uI uT uC uL : Nat → Int32} {yM yD yS : Int32} {vC vL vC' vL' : Nat → Int32} (h : cz_R mb lim sc inp txt sl xM xL xS xI xT uI uT uC uL yM yD yS vC vL) (h1 : ∀ j, j < 768 → vC' j = vC j) (h2 : ∀ j, j ≠ 6 → vL' j = vL j) : cz_R mb lim sc inp txt sl xM xL xS xI xT uI uT uC uL yM yD yS vC' vL' := by
  obtain ⟨⟨a1, a2, a3, a4, a5, a6⟩, hb, ⟨c1, c2, c3, c4, c5, c6⟩, ⟨d1, d2, d3, d4, d5, d6⟩, hs⟩ := h
  refine ⟨⟨a1, a2, a3, a4, a5, a6⟩, hb, ⟨c1, c2, c3, by rw [h2 1 (by omega)]; exact c4, c5, cb_At_cg c6 fun p g1 g2 => h1 p (by omega)⟩, ⟨d1, d2, d3, by rw [h2 0 (by omega)]; exact d4, d5, cb_At_cg d6 fun p g1 g2 => h1 p (by omega)⟩, fun s hs4 => ?_⟩
  obtain ⟨e1, e2, e3, e4, e5, e6⟩ := hs s hs4
  exact ⟨e1, e2, by rw [h2 _ (by omega)]; exact e3, e4, cb_At_cg e5 fun p g1 g2 => h1 p (by omega), e6⟩
section cyp
variable {yM yD yS yN yF : Int32} {vC vL vS vP vV vK vR vA vB : Nat → Int32} {vN vE : Nat → Int64}
theorem cy_chk {post : Int32 → SY → Prop} {lim : Nat} {inp : List Nat} {R : Sum cb_Fa (List Nat × Bool × Option (List Nat))} (hC : cb_At vC 128 inp) (hL : vL 1 = nI inp.length) (hn : inp.length ≤ 128) (hb : ∀ b ∈ inp, b < 256) (hD : yD = nI lim) (h8 : lim ≤ 8) (h2 : 2 ≤ lim) (hR : cb_rn inp lim (inp.length + 2) (([], [], false), 0, some []) = R)
    (K1 : ∀ r f, R = .inl (r, f) → r ≠ 0 → ∀ (yN : Int32) (vS vP vV vK vR : Nat → Int32) (vN vE : Nat → Int64), post r (yM, yD, yS, yN, nI f, vC, vL, vS, vP, vV, vK, vR, vA, vB, vN, vE))
    (K2 : ∀ e d w, R = .inr (e, d, w) → ∀ (yN : Int32) (vC' vL' vS vP vV vK vR vA vB : Nat → Int32) (vN vE : Nat → Int64), (∀ j, j < 768 → vC' j = vC j) → (∀ j, j ≠ 6 → vL' j = vL j) → (d = false → cb_At vC' 768 e ∧ vL' 6 = nI e.length) → post (if d = true then -9 else 0) (yM, yD, yS, yN, (-1), vC', vL', vS, vP, vV, vK, vR, vA, vB, vN, vE)) : wpY_check post (yM, yD, yS, yN, yF, vC, vL, vS, vP, vV, vK, vR, vA, vB, vN, vE) := by
  unfold wpY_check
  dsimp only
  refine cy_sc (pl := 1) (lim := lim) (inp := inp) (R := R) (by decide) (by omega) hC hL hn hb hD h8 h2 hR ?_ ?_
  · intro r f hr yN vS vP vV vK vR vN vE hr0
    exact br_f hr0 (K1 r f hr hr0 _ _ _ _ _ _ _ _)
  · intro e d w hr T N vS vP vV vK vR vN vE hN hTA hTB hRY hFW hit hel
    refine br_t rfl (cy_can (T := T) (N := N) (e := e) (d := d) rfl (by omega) hTA hTB hRY (by omega) ?_)
    intro A E vC' vL' vA vB _ _ _ _ _ _ _ g1 g2 g3
    exact K2 e d w hr _ vC' vL' _ _ _ _ _ vA vB _ _ g1 g2 g3
end cyp
theorem i_vc_check {k : Nat} {u : SX} {v : SY} (I : i_Rel k u v) (hk : k + 3 ≤ 1539) : wpX_check (fun r u' => wpY_check (fun r' v' => r' = r ∧ i_Rel (k + 3) u' v') v) u := by
  refine cz_el (P := fun u v => wpX_check (fun r u' => wpY_check (fun r' v' => r' = r ∧ i_Rel (k + 3) u' v') v) u) ?_ I
  intro mb lim sc inp txt sl xM xL xS xI xT xO xP xp xF xR xD xd uI uT uC uL uO uS uK uA uP uM uF yM yD yS yN yF vC vL vS vP vV vK vR vA vB vN vE hR
  have hR0 := hR
  obtain ⟨⟨a1, a2, a3, a4, a5, a6⟩, ⟨b1, b2, b3, b4, b5, b6⟩, ⟨c1, c2, c3, c4, c5, c6⟩, ⟨d1, d2, d3, d4, d5, d6⟩, hs⟩ := hR
  unfold wpX_check
  dsimp only
  refine cx_sc (lim := lim) (inp := inp) c5 c3 c2 (by omega) b3 a4 rfl ?_ ?_
  · intro r f hr xO xP xp xR xD uO uS uK uA uP uM uF hr0
    refine cy_chk c6 c4 (by omega) c2 b4 a4 a3 hr ?_ (fun e d w h => by cases h)
    intro r' f' hr' _ yN vS vP vV vK vR vN vE
    cases hr'
    exact ⟨rfl, cz_in hR0⟩
  · intro e d w hr xO xP xp xR xD uO uS uK uA uP uM uF g1 g2 g3 g4
    refine cy_chk c6 c4 (by omega) c2 b4 a4 a3 hr (fun r f h => by cases h) ?_
    intro e' d' w' hr' yN vC' vL' vS vP vV vK vR vA vB vN vE h1 h2 h3
    cases hr'
    exact ⟨rfl, cz_in (cz_Rw hR0 h1 h2)⟩
theorem i_vc_faultAt {k : Nat} {u : SX} {v : SY} (I : i_Rel k u v) (hk : k + 3 ≤ 1539) : wpX_faultAt (fun r u' => wpY_faultAt (fun r' v' => r' = r ∧ i_Rel (k + 3) u' v') v) u := by
  refine cz_el (P := fun u v => wpX_faultAt (fun r u' => wpY_faultAt (fun r' v' => r' = r ∧ i_Rel (k + 3) u' v') v) u) ?_ I
  intro mb lim sc inp txt sl xM xL xS xI xT xO xP xp xF xR xD xd uI uT uC uL uO uS uK uA uP uM uF yM yD yS yN yF vC vL vS vP vV vK vR vA vB vN vE hR
  have hR0 := hR
  obtain ⟨⟨a1, a2, a3, a4, a5, a6⟩, ⟨b1, b2, b3, b4, b5, b6⟩, ⟨c1, c2, c3, c4, c5, c6⟩, ⟨d1, d2, d3, d4, d5, d6⟩, hs⟩ := hR
  unfold wpX_faultAt wpY_faultAt
  dsimp only
  refine cx_sc (lim := lim) (inp := inp) c5 c3 c2 (by omega) b3 a4 rfl ?_ ?_
  · intro r f hr xO xP xp xR xD uO uS uK uA uP uM uF hr0
    refine cy_chk c6 c4 (by omega) c2 b4 a4 a3 hr ?_ (fun e d w h => by cases h)
    intro r' f' hr' hr0' yN vS vP vV vK vR vN vE
    cases hr'
    exact br_f hr0 ⟨rfl, cz_in hR0⟩
  · intro e d w hr xO xP xp xR xD uO uS uK uA uP uM uF g1 g2 g3 g4
    refine cy_chk c6 c4 (by omega) c2 b4 a4 a3 hr (fun r f h => by cases h) ?_
    intro e' d' w' hr' yN vC' vL' vS vP vV vK vR vA vB vN vE h1 h2 h3
    cases hr'
    exact br_c (fun _ => ⟨rfl, cz_in (cz_Rw hR0 h1 h2)⟩) (fun _ => ⟨rfl, cz_in (cz_Rw hR0 h1 h2)⟩)
/-- a new item in slot s -/
theorem cz_Rs {mb lim sc : Nat} {inp txt e : List Nat} {sl : Nat → List Nat} {xM xL xS xI xT : Int32} {uI uT uC uL uC' : Nat → Int32} {yM yD yS : Int32} {vC vL vC' vL' : Nat → Int32} {s : Nat} (h : cz_R mb lim sc inp txt sl xM xL xS xI xT uI uT uC uL yM yD yS vC vL) (hs : s < 4) (he : e.length ≤ mb) (hit : cb_IT lim e)
    (x1 : cb_At uC' (32 * s) e) (x2 : ∀ j, j < 32 * s ∨ 32 * s + 32 ≤ j → uC' j = uC j) (y1 : cb_At vC' ((s + 2) * 128) e) (y2 : vL' (s + 2) = nI e.length) (y3 : ∀ j, j < (s + 2) * 128 ∨ (s + 2) * 128 + 128 ≤ j → vC' j = vC j) (y4 : ∀ j, j ≠ s + 2 → vL' j = vL j) :
    cz_R mb lim sc inp txt (fun j => if j = s then e else sl j) xM xL xS xI xT uI uT uC' (upd uL s (nI e.length)) yM yD yS vC' vL' := by
  obtain ⟨⟨a1, a2, a3, a4, a5, a6⟩, hb, ⟨c1, c2, c3, c4, c5, c6⟩, ⟨d1, d2, d3, d4, d5, d6⟩, hss⟩ := h
  refine ⟨⟨a1, a2, a3, a4, a5, a6⟩, hb, ⟨c1, c2, c3, by rw [y4 1 (by omega)]; exact c4, c5, cb_At_cg c6 fun p g1 g2 => y3 p (by omega)⟩, ⟨d1, d2, d3, by rw [y4 0 (by omega)]; exact d4, d5, cb_At_cg d6 fun p g1 g2 => y3 p (by omega)⟩, fun s' hs' => ?_⟩
  obtain ⟨e1, e2, e3, e4, e5, e6⟩ := hss s' hs'
  by_cases ee : s' = s
  · subst ee
    simp only [if_pos]
    exact ⟨he, pk_us, y2, x1, y1, fun _ => hit⟩
  · simp only [if_neg ee]
    refine ⟨e1, by rw [pk_un ee]; exact e2, by rw [y4 _ (by omega)]; exact e3, cb_At_cg e4 fun p g1 g2 => x2 p (by omega), cb_At_cg e5 fun p g1 g2 => y3 p ?_, e6⟩
    rcases Nat.lt_trichotomy s' s with g | g | g
    · have : (s' + 2) * 128 + 128 ≤ (s + 2) * 128 := by omega
      omega
    · exact absurd g ee
    · have : (s + 2) * 128 + 128 ≤ (s' + 2) * 128 := by omega
      omega
theorem i_vc_decode {k : Nat} {u : SX} {v : SY} (I : i_Rel k u v) (hk : k + 3 ≤ 1539) (v1 : Int32) : wpX_decode (fun r u' => wpY_decode (fun r' v' => r' = r ∧ i_Rel (k + 3) u' v') v v1) u v1 := by
  refine cz_el (P := fun u v => wpX_decode (fun r u' => wpY_decode (fun r' v' => r' = r ∧ i_Rel (k + 3) u' v') v v1) u v1) ?_ I
  intro mb lim sc inp txt sl xM xL xS xI xT xO xP xp xF xR xD xd uI uT uC uL uO uS uK uA uP uM uF yM yD yS yN yF vC vL vS vP vV vK vR vA vB vN vE hR
  have hR0 := hR
  obtain ⟨⟨a1, a2, a3, a4, a5, a6⟩, ⟨b1, b2, b3, b4, b5, b6⟩, ⟨c1, c2, c3, c4, c5, c6⟩, ⟨d1, d2, d3, d4, d5, d6⟩, hs⟩ := hR
  unfold wpX_decode
  dsimp only
  rcases cz_ix v1 a6 with hv | ⟨s, hsc, rfl⟩
  · refine cx_nsl b5 hv (br_t rfl ?_)
    unfold wpY_decode
    dsimp only
    exact cy_nheld b6 hv (br_t rfl (br_f (by decide) ⟨rfl, cz_in hR0⟩))
  · obtain ⟨e1, e2, e3, e4, e5, e6⟩ := hs s (by omega)
    refine cx_isl b5 a6 hsc (br_f (by decide) ?_)
    have yh : ∀ (post : Int32 → SY → Prop), (wpY_check (fun r_19 u => match u with | (yM, yD, yS, yN, yF, vC, vL, vS, vP, vV, vK, vR, vA, vB, vN, vE) => (wY_decode_17 post (nI s) r_19 yM yD yS yN yF vC vL vS vP vV vK vR vA vB vN vE)) (yM, yD, yS, yN, yF, vC, vL, vS, vP, vV, vK, vR, vA, vB, vN, vE)) → wpY_decode post (yM, yD, yS, yN, yF, vC, vL, vS, vP, vV, vK, vR, vA, vB, vN, vE) (nI s) := by
      intro post h
      unfold wpY_decode
      dsimp only
      refine cy_held b6 a6 hsc e3 (by omega) ?_
      by_cases e0 : (sl s).length = 0
      · rw [if_pos e0]; exact br_f (by decide) h
      · rw [if_neg e0]; exact br_f (by decide) h
    refine cx_sc (lim := lim) (inp := inp) c5 c3 c2 (by omega) b3 a4 rfl ?_ ?_
    · intro r f hr xO xP xp xR xD uO uS uK uA uP uM uF hr0
      refine br_f hr0 (yh _ (cy_chk c6 c4 (by omega) c2 b4 a4 a3 hr ?_ (fun e d w h => by cases h)))
      intro r' f' hr' _ yN vS vP vV vK vR vN vE
      cases hr'
      exact br_f hr0 ⟨rfl, cz_in hR0⟩
    · intro e d w hr xO xP xp xR xD uO uS uK uA uP uM uF g1 g2 g3 g4
      cases d with
      | true =>
        refine br_f (by decide) (yh _ (cy_chk c6 c4 (by omega) c2 b4 a4 a3 hr (fun r f h => by cases h) ?_))
        intro e' d' w' hr' yN vC' vL' vS vP vV vK vR vA vB vN vE h1 h2 h3
        cases hr'
        exact br_f (by decide) ⟨rfl, cz_in (cz_Rw hR0 h1 h2)⟩
      | false =>
        refine br_t rfl (cx_ss (by omega) g1 g2 (by omega) fun uC' x1 x2 => ?_)
        refine yh _ (cy_chk c6 c4 (by omega) c2 b4 a4 a3 hr (fun r f h => by cases h) ?_)
        intro e' d' w' hr' yN vC' vL' vS vP vV vK vR vA vB vN vE h1 h2 h3
        cases hr'
        obtain ⟨q1, q2⟩ := h3 rfl
        refine br_t rfl (cy_keep (by omega) q1 q2 (by omega) fun vC'' vL'' w1 w2 w3 w4 => nm_e ⟨rfl, ?_⟩)
        have hn := cz_Rs (cz_Rw hR0 h1 h2) (show s < 4 by omega) (show e.length ≤ mb by omega) g3 x1 x2 w1 w2 w3 w4
        obtain ⟨m1, m2, ⟨n1, n2, n3, n4, n5, n6⟩, ⟨o1, o2, o3, o4, o5, o6⟩, m5⟩ := hn
        refine cz_in (inp := []) (txt := txt) (sl := fun j => if j = s then e else sl j) ⟨m1, m2, ⟨by simp, by simp, rfl, by rw [pk_us]; rfl, trivial, trivial⟩, ⟨o1, o2, o3, by rw [pk_un (by omega)]; exact o4, o5, o6⟩, fun s' hs' => ?_⟩
        obtain ⟨p1, p2, p3, p4, p5, p6⟩ := m5 s' hs'
        exact ⟨p1, p2, by rw [pk_un (by omega)]; exact p3, p4, p5, p6⟩
theorem i_vc_parse {k : Nat} {u : SX} {v : SY} (I : i_Rel k u v) (hk : k + 3 ≤ 1539) (v1 : Int32) : wpX_parse (fun r u' => wpY_parse (fun r' v' => r' = r ∧ i_Rel (k + 3) u' v') v v1) u v1 := by
  refine cz_el (P := fun u v => wpX_parse (fun r u' => wpY_parse (fun r' v' => r' = r ∧ i_Rel (k + 3) u' v') v v1) u v1) ?_ I
  intro mb lim sc inp txt sl xM xL xS xI xT xO xP xp xF xR xD xd uI uT uC uL uO uS uK uA uP uM uF yM yD yS yN yF vC vL vS vP vV vK vR vA vB vN vE hR
  have hR0 := hR
  obtain ⟨⟨a1, a2, a3, a4, a5, a6⟩, ⟨b1, b2, b3, b4, b5, b6⟩, ⟨c1, c2, c3, c4, c5, c6⟩, ⟨d1, d2, d3, d4, d5, d6⟩, hs⟩ := hR
  unfold wpX_parse
  dsimp only
  rcases cz_ix v1 a6 with hv | ⟨s, hsc, rfl⟩
  · refine cx_nsl b5 hv (br_t rfl ?_)
    unfold wpY_parse
    dsimp only
    exact cy_nheld b6 hv (br_t rfl (br_f (by decide) (br_f (by decide) ⟨rfl, cz_in hR0⟩)))
  · obtain ⟨e1, e2, e3, e4, e5, e6⟩ := hs s (by omega)
    refine cx_isl b5 a6 hsc (br_f (by decide) ?_)
    have yh : ∀ (post : Int32 → SY → Prop), (wpY_read (fun r_19 u => match u with | (yM, yD, yS, yN, yF, vC, vL, vS, vP, vV, vK, vR, vA, vB, vN, vE) => (wY_parse_17 post (nI s) r_19 yM yD yS yN yF vC vL vS vP vV vK vR vA vB vN vE)) (yM, yD, yS, yN, yF, vC, vL, vS, vP, vV, vK, vR, vA, vB, vN, vE)) → wpY_parse post (yM, yD, yS, yN, yF, vC, vL, vS, vP, vV, vK, vR, vA, vB, vN, vE) (nI s) := by
      intro post h
      unfold wpY_parse
      dsimp only
      refine cy_held b6 a6 hsc e3 (by omega) ?_
      by_cases e0 : (sl s).length = 0
      · rw [if_pos e0]; exact br_f (by decide) h
      · rw [if_neg e0]; exact br_f (by decide) h
    refine cx_rt (lim := lim) (txt := txt) d5 d3 d2 d1 b3 a4 rfl ?_ ?_
    · intro r hr xO xP xp xR xD xd uO uS uK uA uP uM uF hr0
      refine br_f hr0 (yh _ (cy_rt (lim := lim) d4 d1 d6 d2 b4 a4 a3 hr ?_ (fun e d h => by cases h)))
      intro r' hr' yN vS vP vV vK vR vN vE _
      cases hr'
      exact br_f hr0 (br_f hr0 ⟨rfl, cz_in hR0⟩)
    · intro e d hr xO xP xp xR xD xd uO uS uK uA uP uM uF g1 g2 g3 g4
      have ycan : ∀ (post : Int32 → SY → Prop), (∀ (yN : Int32) (vC' vL' vS vP vV vK vR vA vB : Nat → Int32) (vN vE : Nat → Int64), (∀ j, j < 768 → vC' j = vC j) → (∀ j, j ≠ 6 → vL' j = vL j) → (d = false → cb_At vC' 768 e ∧ vL' 6 = nI e.length) → wY_parse_27 post (nI s) (if d = true then -9 else 0) yM yD yS yN yF vC' vL' vS vP vV vK vR vA vB vN vE) → wpY_parse post (yM, yD, yS, yN, yF, vC, vL, vS, vP, vV, vK, vR, vA, vB, vN, vE) (nI s) := by
        intro post h
        refine yh _ (cy_rt (lim := lim) d4 d1 d6 d2 b4 a4 a3 hr (fun r h => by cases h) ?_)
        intro e' d' hr' T N vS vP vV vK vR vN vE hN hTA hTB hRY hit hel
        cases hr'
        refine br_t rfl (cy_can (T := T) (N := N) (e := e) (d := d) rfl (by omega) hTA hTB hRY hel ?_)
        intro A E vC' vL' vA vB _ _ _ _ _ _ _ h1 h2 h3
        exact h _ vC' vL' _ _ _ _ _ vA vB _ _ h1 h2 h3
      cases d with
      | true =>
        refine br_f (by decide) (ycan _ ?_)
        intro yN vC' vL' vS vP vV vK vR vA vB vN vE h1 h2 h3
        exact br_f (by decide) ⟨rfl, cz_in (cz_Rw hR0 h1 h2)⟩
      | false =>
        refine br_t rfl (pk_le e.length mb (fun hle => ?_) (fun hle => ?_) g2 b1)
        · refine cx_ss (by omega) g1 g2 (by omega) fun uC' x1 x2 => ycan _ ?_
          intro yN vC' vL' vS vP vV vK vR vA vB vN vE h1 h2 h3
          obtain ⟨q1, q2⟩ := h3 rfl
          refine br_t rfl (br_t (by rw [q2, b2]; exact nI_le hle (by omega)) (cy_keep (by omega) q1 q2 (by omega) fun vC'' vL'' w1 w2 w3 w4 => ⟨rfl, ?_⟩))
          exact cz_in (cz_Rs (cz_Rw hR0 h1 h2) (show s < 4 by omega) hle g3 x1 x2 w1 w2 w3 w4)
        · refine ycan _ ?_
          intro yN vC' vL' vS vP vV vK vR vA vB vN vE h1 h2 h3
          obtain ⟨q1, q2⟩ := h3 rfl
          exact br_t rfl (br_f (by rw [q2, b2]; exact nI_ge hle (by omega)) ⟨rfl, cz_in (cz_Rw hR0 h1 h2)⟩)
end
section
/-! the facts of an item exist: the tables step by step, pure -/
theorem cb_Tby {lim p v q : Nat} {inp : List Nat} {c : List cb_Fr} {d : Bool} {fp : List Nat} {w : Option (List Nat)} (hn : inp.length ≤ 128) (hb : ∀ b ∈ inp, b < 256) (hv : p + v ≤ inp.length) (hok : cb_OK c (cb_hd 2 v ++ (inp.drop p).take v)) :
    ∀ (k i : Nat) (T : cb_Tb) (N : Nat), i + k = v → 0 < k → N ≤ p + i → cb_TB T N → cb_RY T N ((2, v, v + 1 - i, ((inp.drop p).take i).map (fun b => [b])) :: c, [], d) (q :: fp) → cb_FW lim T N (w.map (fun y => y ++ (inp.drop p).take i)) →
      ∃ (T' : cb_Tb) (N' : Nat) (fp' : List Nat), N' ≤ p + v ∧ cb_TB T' N' ∧ cb_RY T' N' (cb_cm c d (cb_hd 2 v ++ (inp.drop p).take v)) fp' ∧ cb_FW lim T' N' (w.map (fun y => y ++ (inp.drop p).take v)) := by
  intro k
  induction k with
  | zero => intro i T N _ h; omega
  | succ k ih =>
    intro i T N hi _ hNp hTB hRY hFW
    have hbb := cb_getD_lt hb (p + i)
    have et : (inp.drop p).take (i + 1) = (inp.drop p).take i ++ [inp.getD (p + i) 0] := by
      rw [List.take_add_one, ← cb_drop_getD, List.getD_eq_getElem?_getD]
      have : i < (inp.drop p).length := by simp; omega
      rw [List.getElem?_eq_getElem this]; rfl
    have hlen : ((inp.drop p).take i).length = i := by simp; omega
    generalize hbe : inp.getD (p + i) 0 = b at *
    have hq : q < N ∧ cb_so T q = 2 := by
      obtain ⟨A, E, _, h2, _⟩ := hRY
      rcases h2 with ⟨_, h2⟩ | ⟨e, h2, _⟩
      · exact ⟨h2.1, h2.2.2.1⟩
      · cases h2
    obtain ⟨hq, hso2⟩ := hq
    have hleaf := cb_RY_leaf (m := 8) (n := b) hRY
    rw [cb_nE8] at hleaf
    have hFW' := cb_FW_add (m := 8) (n := b) (u := q + 1) hFW hTB (by omega) (fun h => absurd rfl h) ⟨fun _ => ⟨by omega, hso2⟩, fun _ => rfl⟩
    rw [show cb_c1 8 b + 1 = 1 from rfl, Option.map_map] at hFW'
    have efw : ((fun y => y ++ cb_n1 8 b) ∘ fun y => y ++ (inp.drop p).take i) = fun y => y ++ (inp.drop p).take (i + 1) := by
      funext y; simp [et, cb_n1]
    rw [efw] at hFW'
    have ecm : cb_cm ((2, v, v + 1 - i, ((inp.drop p).take i).map (fun b => [b])) :: c) d [b] = if v + 1 - i = 2 then cb_cm c d (cb_nE 2 v (((inp.drop p).take (i + 1)).map (fun b => [b]))) else ((2, v, v + 1 - (i + 1), ((inp.drop p).take (i + 1)).map (fun b => [b])) :: c, [], d) := by
      have hdn : cb_dn 2 (((inp.drop p).take i).map (fun b => [b])) = false := decide_eq_false (fun h => by omega)
      rw [cb_cm_c, hdn, Bool.or_false, et, List.map_append]
      rfl
    have hok2 : cb_OK ((2, v, v + 1 - i, ((inp.drop p).take i).map (fun b => [b])) :: c) [b] := by
      refine ⟨fun h => by omega, fun h => ?_⟩
      have hiv : i + 1 = v := by omega
      have : cb_nE 2 v (((inp.drop p).take i).map (fun b => [b]) ++ [[b]]) = cb_hd 2 v ++ (inp.drop p).take v := by
        have e2 := cb_nE2 v ((inp.drop p).take (i + 1))
        rw [et, List.map_append] at e2
        refine e2.trans ?_
        rw [← et, hiv]
        have : ((inp.drop p).take v).length = v := by simp; omega
        rw [this]
      rw [this]; exact hok
    obtain ⟨fp', hRY', hfp'⟩ := cb_RC_cm hok2 hleaf
    rw [ecm] at hRY'
    have hTB' := cb_TB_add (m := 8) (n := b) (u := q + 1) (d0 := 1) hTB (by omega) (by omega) (by omega) (by omega)
    by_cases hl : v + 1 - i = 2
    · rw [if_pos hl, show i + 1 = v by omega] at hRY'
      have hiv : i + 1 = v := by omega
      have hvl : ((inp.drop p).take v).length = v := by simp; omega
      rw [cb_nE2, hvl] at hRY'
      rw [hiv] at hFW'
      exact ⟨_, N + 1, fp', by omega, hTB', hRY', hFW'⟩
    · rw [if_neg hl] at hRY'
      have := hfp' ⟨_, _, rfl, hl⟩
      subst this
      exact ih (i + 1) _ (N + 1) (by omega) (by omega) (by omega) hTB' hRY' hFW'
theorem cb_Ttk {lim p v m f N : Nat} {inp : List Nat} {c : List cb_Fr} {d : Bool} {fp : List Nat} {w : Option (List Nat)} {T : cb_Tb} (hn : inp.length ≤ 128) (hb : ∀ b ∈ inp, b < 256)
    (hf : cb_FI lim false c) (hc : c.length < lim) (hm : m = 0 ∨ m = 1 ∨ m = 2 ∨ (m = 7 ∧ v < 24) ∨ m = 4 ∨ m = 5 ∨ m = 6) (h31 : f = 31 → m = 4 ∨ m = 5) (hv : v < 2 ^ 32) (hpv : m = 2 → p + v ≤ inp.length) (hpn : p ≤ inp.length) (hoo : (cb_oo c).length ≤ 128) (hN : N < p) (hTB : cb_TB T N) (hRY : cb_RY T N (c, [], d) fp) (hFW : cb_FW lim T N w) :
    ∃ (T' : cb_Tb) (N' : Nat) (fp' : List Nat), N' ≤ p + (if m = 2 then v else 0) ∧ cb_TB T' N' ∧ cb_RY T' N' (cb_tk c d m f v (cb_yb inp p m v)) fp' ∧ cb_FW lim T' N' (cb_wn w f (cb_hd m v ++ cb_yb inp p m v)) := by
  have hin := cb_RY_in hRY
  have hkk := cb_FI_k hf hoo
  have hlev : (if cb_pf fp = 0 then 1 else cb_le T (cb_pf fp - 1) + 1) ≤ lim := by rw [cb_RY_le hRY]; omega
  have hkk' : ∀ f ∈ c, f.2.2.2.length < 2 ^ 30 := fun f hf => by have := hkk f hf; omega
  have hlf34 : cb_lf m f v < 2 ^ 34 := by unfold cb_lf; split; omega; split; omega; split; omega; split <;> omega
  by_cases m2 : m = 2
  · subst m2
    have hf31 : f ≠ 31 := fun e => by have := h31 e; omega
    have hpv' := hpv rfl
    have eyb : cb_yb inp p 2 v = (inp.drop p).take v := if_pos rfl
    have hbl : ((inp.drop p).take v).length = v := by simp; omega
    have etk : cb_tk c d 2 f v (cb_yb inp p 2 v) = cb_cm c d (cb_hd 2 v ++ (inp.drop p).take v) := by rw [eyb]; unfold cb_tk; rw [if_pos rfl]
    have ewn : cb_wn w f (cb_hd 2 v ++ cb_yb inp p 2 v) = (w.map (fun y => y ++ cb_hd 2 v)).map (fun y => y ++ (inp.drop p).take v) := by
      unfold cb_wn; rw [if_neg hf31, eyb, Option.map_map]; congr 1; funext y; simp
    rw [etk, if_pos rfl, ewn]
    have hok : cb_OK c (cb_hd 2 v ++ (inp.drop p).take v) := cb_OK_IT hf (cb_IT_mo (cb_IT_by hv hbl (fun x hx => hb x (List.mem_of_mem_drop (List.mem_of_mem_take hx)))) (by omega)) hkk'
    have hFW' : cb_FW lim (cb_add T N 2 v (cb_pf fp) (v + 1)) (N + 1) (w.map (fun y => y ++ cb_hd 2 v)) := cb_FW_add (m := 2) (n := v) (u := cb_pf fp) hFW hTB hin.1 (fun _ => hlev) ⟨fun h => by omega, fun h => absurd h.2 (cb_RY_so hf hRY h.1)⟩
    have hTB' := cb_TB_add (m := 2) (n := v) (u := cb_pf fp) (d0 := v + 1) hTB (by omega) hv hin.1 (by omega)
    have hid : (fun y : List Nat => y ++ (inp.drop p).take 0) = id := by funext y; simp
    by_cases hv0 : v = 0
    · subst hv0
      have hleaf := cb_RY_leaf (m := 2) (n := 0) hRY
      rw [show cb_nE 2 0 [] = cb_hd 2 0 ++ (inp.drop p).take 0 by simp [cb_nE, cb_nh, cb_bd]] at hleaf
      obtain ⟨fp', hRY', _⟩ := cb_RC_cm hok hleaf
      refine ⟨_, N + 1, fp', by omega, hTB', hRY', ?_⟩
      rw [hid, Option.map_id]; exact hFW'
    · have hpush := cb_RY_push (m := 2) (n := v) (lf := v + 1) hRY (by omega)
      refine cb_Tby (q := N) (fp := fp) hn hb hpv' hok v 0 _ (N + 1) (by omega) (by omega) (by omega) hTB' (by simpa using hpush) ?_
      rw [hid, Option.map_id]; exact hFW'
  · rw [if_neg m2]
    have eyb : cb_yb inp p m v = [] := if_neg m2
    rw [eyb, List.append_nil, Nat.add_zero]
    have etk : cb_tk c d m f v [] = if cb_lf m f v = 1 then cb_cm c d (cb_nE m v []) else ((m, v, cb_lf m f v, []) :: c, [], d) := by
      unfold cb_tk; rw [if_neg m2]
    rw [etk]
    have hFW' : cb_FW lim (cb_add T N m v (cb_pf fp) (cb_lf m f v)) (N + 1) (cb_wn w f (cb_hd m v)) := by
      unfold cb_wn
      by_cases hf31 : f = 31
      · rw [if_pos hf31]; exact cb_FW_no
      · rw [if_neg hf31, cb_c1_lf m2 hf31]
        have := cb_FW_add (m := m) (n := v) (u := cb_pf fp) hFW hTB hin.1 (fun _ => hlev) ⟨fun h => by omega, fun h => absurd h.2 (cb_RY_so hf hRY h.1)⟩
        rw [show cb_n1 m v = cb_hd m v from if_neg (by omega)] at this
        exact this
    have hTB' := cb_TB_add (m := m) (n := v) (u := cb_pf fp) (d0 := cb_lf m f v) hTB (by omega) hv hin.1 hlf34
    by_cases hl : cb_lf m f v = 1
    · rw [if_pos hl]
      have hm' : m = 0 ∨ m = 1 ∨ (m = 7 ∧ v < 24) ∨ ((m = 4 ∨ m = 5) ∧ v = 0) := by
        unfold cb_lf at hl
        by_cases g1 : f = 31
        · rw [if_pos g1] at hl; omega
        rw [if_neg g1] at hl
        by_cases g5 : m = 5
        · rw [if_pos g5] at hl; omega
        rw [if_neg g5] at hl
        by_cases g4 : m = 4
        · rw [if_pos g4] at hl; omega
        rw [if_neg g4] at hl
        by_cases g6 : m = 6
        · rw [if_pos g6] at hl; omega
        omega
      have hleaf := cb_RY_leaf (m := m) (n := v) hRY
      rw [hl] at hTB' hFW'
      obtain ⟨fp', hRY', _⟩ := cb_RC_cm (cb_OK_IT hf (cb_IT_mo (cb_IT_lf hv hm') (by omega)) hkk') hleaf
      exact ⟨_, N + 1, fp', by omega, hTB', hRY', hFW'⟩
    · rw [if_neg hl]
      exact ⟨_, N + 1, _, by omega, hTB', cb_RY_push hRY hl, hFW'⟩
theorem cb_Tst {inp : List Nat} {lim p p' N : Nat} {c : List cb_Fr} {d : Bool} {w w' : Option (List Nat)} {s : cb_S3} {T : cb_Tb} {fp : List Nat} (hb : ∀ b ∈ inp, b < 256) (hn : inp.length ≤ 128) (h : cb_st inp lim c d p w = .inr (s, p', w')) (hf : cb_FI lim false c) (ht : cb_TG c) (hs : (cb_oo c).length + cb_rsm c ≤ p) (hN : N ≤ p) (hTB : cb_TB T N) (hRY : cb_RY T N (c, [], d) fp) (hFW : cb_FW lim T N w) :
    ∃ (T' : cb_Tb) (N' : Nat) (fp' : List Nat), N' ≤ p' ∧ cb_TB T' N' ∧ cb_RY T' N' s fp' ∧ cb_FW lim T' N' w' := by
  unfold cb_st at h
  by_cases h1 : inp.length ≤ p
  · rw [if_pos h1] at h; cases h
  rw [if_neg h1] at h
  by_cases h2 : inp.getD p 0 = 255
  · rw [if_pos h2] at h
    cases c with
    | nil => simp [cb_bk] at h
    | cons f c =>
      obtain ⟨m, num, lf, ks⟩ := f
      rw [cb_bk_c] at h
      by_cases h3 : lf ≠ 0 ∨ (m = 5 ∧ ks.length % 2 = 1)
      · rw [if_pos h3] at h; cases h
      rw [if_neg h3] at h
      obtain ⟨rfl, rfl, rfl⟩ := cb_i3 h
      have h0 : lf = 0 := by omega
      subst h0
      obtain ⟨q, fp0, rfl, hqN, hso, hki, hle⟩ := cb_RY_hd hRY
      have hkk := cb_FI_k hf (p := 128) (by omega) (m, num, 0, ks) (by simp)
      dsimp only at hkk
      obtain ⟨hm, hl1, hl2, hnu, h6, h5, hcl, hks, hfc⟩ := hf
      have hit : m = 5 → ks.length % 2 = 0 ∧ ∀ k ∈ ks, cb_kb k := fun h5' => ⟨by omega, fun k hk => ⟨(hks k hk).1, (hks k hk).2.2⟩⟩
      have hcl' := cb_RY_close hRY hit
      have hm6 : m ≠ 6 := fun e => by have := ht (m, num, 0, ks) (by simp) e; dsimp only at this; omega
      have hIT : cb_IT (lim - c.length) (cb_nE m num ks) := by
        rw [show lim - c.length = lim - (c.length + 1) + 1 by omega]
        refine cb_IT_nd ?_ (by omega) hks
        rcases hm with rfl | rfl | rfl
        · exact Or.inl rfl
        · exact Or.inr (Or.inl ⟨rfl, by omega⟩)
        · exact absurd rfl hm6
      have hkkc := cb_FI_k hfc (p := 128) (by simp only [cb_oo, List.length_append] at hs; omega)
      obtain ⟨fp', hRY', _⟩ := cb_RC_cm (cb_OK_IT hfc hIT (fun f hf => by have := hkkc f hf; omega)) hcl'
      exact ⟨_, N, fp', by omega, cb_TB_sd hTB (by omega), hRY', cb_FW_no⟩
  rw [if_neg h2] at h
  by_cases h3 : cb_bad (inp.getD p 0) = true
  · rw [if_pos h3] at h; cases h
  rw [if_neg h3] at h
  by_cases h4 : lim ≤ c.length
  · rw [if_pos h4] at h; cases h
  rw [if_neg h4] at h
  by_cases h5 : inp.length < p + 1 + cb_sz (inp.getD p 0 % 32)
  · rw [if_pos h5] at h; cases h
  rw [if_neg h5] at h
  by_cases h6 : inp.getD p 0 / 32 = 2 ∧ inp.length - (p + 1 + cb_sz (inp.getD p 0 % 32)) < cb_arg inp p
  · rw [if_pos h6] at h; cases h
  rw [if_neg h6] at h
  obtain ⟨rfl, rfl, rfl⟩ := cb_i3 h
  have hbl := cb_getD_lt hb p
  have hal := cb_arg_lt hb p
  unfold cb_bad at h3
  rw [decide_eq_true_iff] at h3
  have hs7 : inp.getD p 0 % 32 < 24 → cb_arg inp p = inp.getD p 0 % 32 := fun e => by
    unfold cb_arg cb_sz; rw [if_neg (show ¬ inp.getD p 0 % 32 = 24 by omega), if_neg (show ¬ inp.getD p 0 % 32 = 25 by omega), if_neg (show ¬ inp.getD p 0 % 32 = 26 by omega), if_pos rfl]
  have hm : inp.getD p 0 / 32 = 0 ∨ inp.getD p 0 / 32 = 1 ∨ inp.getD p 0 / 32 = 2 ∨ (inp.getD p 0 / 32 = 7 ∧ cb_arg inp p < 24) ∨ inp.getD p 0 / 32 = 4 ∨ inp.getD p 0 / 32 = 5 ∨ inp.getD p 0 / 32 = 6 := by
    by_cases e7 : inp.getD p 0 / 32 = 7
    · have := hs7 (by omega); omega
    · omega
  exact cb_Ttk hn hb hf (by omega) hm (by omega) hal (by omega) (by omega) (by omega) (by omega) hTB hRY hFW
theorem cb_Tit {inp : List Nat} {lim : Nat} (hb : ∀ b ∈ inp, b < 256) (hn : inp.length ≤ 128) : ∀ (k : Nat) (s s1 : cb_S3) (p p1 : Nat) (w w1 : Option (List Nat)) (T : cb_Tb) (N : Nat) (fp : List Nat), cb_it inp lim k (s, p, w) = some (s1, p1, w1) → cb_PI lim false s p → cb_TG s.1 → N ≤ p → cb_TB T N → cb_RY T N s fp → cb_FW lim T N w →
    ∃ (T' : cb_Tb) (N' : Nat) (fp' : List Nat), N' ≤ p1 ∧ cb_TB T' N' ∧ cb_RY T' N' s1 fp' ∧ cb_FW lim T' N' w1 := by
  intro k
  induction k with
  | zero =>
    intro s s1 p p1 w w1 T N fp h hPI hTG hN hTB hRY hFW
    simp only [cb_it, Option.some.injEq, Prod.mk.injEq] at h
    obtain ⟨rfl, rfl, rfl⟩ := h
    exact ⟨T, N, fp, hN, hTB, hRY, hFW⟩
  | succ k ih =>
    intro s s1 p p1 w w1 T N fp h hPI hTG hN hTB hRY hFW
    obtain ⟨c, ro, d⟩ := s
    cases ro with
    | cons e ro => simp [cb_it] at h
    | nil =>
      cases hs : cb_st inp lim c d p w with
      | inl x => simp [cb_it, hs] at h
      | inr s' =>
        obtain ⟨s', p', w'⟩ := s'
        rw [cb_it_s hs] at h
        have hsz : (cb_oo c).length + cb_rsm c ≤ p := by have := hPI.2.2; simpa using this
        have hpi := cb_st_PI hb (by omega) hs hPI.1 hTG hsz
        obtain ⟨T', N', fp', h1, h2, h3, h4⟩ := cb_Tst hb hn hs hPI.1 hTG hsz hN hTB hRY hFW
        exact ih s' s1 p' p1 w' w1 T' N' fp' h hpi.1 hpi.2.1 h1 h2 h3 h4
/-- what a finished scan of an item knows -/
theorem cb_mkPF {lim N : Nat} {T : cb_Tb} {e e2 : List Nat} {d : Bool} (h8 : lim ≤ 8) (he : e.length ≤ 32) (hTB : cb_TB T N) (hRY : cb_RY T N ([], [e2], d) []) (hFW : cb_FW lim T N (some e)) : e = cb_rw T N ∧ ∀ (A : Nat → Nat) (E : Nat → List Nat), (∀ i, i < N → cb_LC T A E N i) → A 0 = N → cb_pa T 0 = 0 → cb_ra T 0 = 0 → 0 < N → cb_PF lim T A E N := by
  obtain ⟨h1, h2⟩ := hFW e rfl
  refine ⟨h1, fun A E hLC hA0 hp0 hr0 hN0 => ⟨hLC, hA0, hp0, hr0, hN0, hTB, ?_, h8, fun i hi => ?_⟩⟩
  · have := cb_rw_ge T N; rw [← h1] at this; omega
  · obtain ⟨g1, g2, g3, g4⟩ := h2 i hi
    obtain ⟨ks, _, k2, k3, _⟩ := hLC i hi
    exact ⟨by omega, g2, g3, g4⟩
theorem cb_exPF {lim : Nat} {e : List Nat} (h8 : lim ≤ 8) (he : e.length ≤ 32) (hit : cb_IT lim e) : (∃ (e2 : List Nat) (d : Bool), cb_rn e lim (e.length + 2) (([], [], false), 0, some []) = .inr (e2, d, some e)) ∧ ∃ (T : cb_Tb) (A : Nat → Nat) (E : Nat → List Nat) (N : Nat), cb_PF lim T A E N ∧ e = cb_rw T N := by
  obtain ⟨e2, d, k, hk, hi⟩ := hit.2.1 e lim [] false 0 [] [] (by simp) (by simp)
  rw [List.nil_append, Nat.zero_add] at hi
  refine ⟨⟨e2, d, ?_⟩, ?_⟩
  · have := cb_it_rn (k' := e.length + 2 - k) hi
    rw [show k + (e.length + 2 - k) = e.length + 2 by omega] at this
    rw [this]
    obtain ⟨j, hj⟩ : ∃ j, e.length + 2 - k = j + 1 := ⟨e.length + 1 - k, by omega⟩
    rw [hj]
    simp [cb_cm, cb_rn]
  · obtain ⟨T, N, fp, h1, h2, h3, h4⟩ := cb_Tit hit.2.2 (by omega) k ([], [], false) _ 0 _ (some []) _ (fun _ => (0, 0, 0, 0, 0, 0, 0)) 0 [] hi ⟨trivial, Or.inl rfl, by simp [cb_oo, cb_rsm]⟩ (fun f hf => by simp at hf) (Nat.le_refl _) (fun i hi => by omega) cb_RY_0 (fun raw h => ⟨(Option.some.inj h).symm, fun i hi => by omega⟩)
    have hfp := cb_RY_nil (ro := [e2]) h3
    subst hfp
    have hmk := cb_mkPF h8 he h2 h3 h4
    obtain ⟨A, E, g1, g2, _⟩ := h3
    rcases g2 with ⟨g2, _⟩ | ⟨e', _, _, _, hE0, hA0, hN0, hp0, hr0⟩
    · cases g2
    · exact ⟨T, A, E, N, hmk.2 A E (fun i hi => (g1 i hi).resolve_left (by simp)) hA0 hp0 hr0 hN0, hmk.1⟩
end
section
/-! the facts of an item are unique -/
section cb5
variable {lim : Nat} {T T' : cb_Tb} {A A' : Nat → Nat} {E E' : Nat → List Nat} {N N' : Nat} {e : List Nat}
/-- fact t is the same in both -/
def cb_Eq (T T' : cb_Tb) (A A' : Nat → Nat) (t : Nat) : Prop := cb_so T t = cb_so T' t ∧ cb_nu T t = cb_nu T' t ∧ cb_pa T t = cb_pa T' t ∧ cb_ra T t = cb_ra T' t ∧ A t = A' t
theorem cb_hd_eq {o r r' : List Nat} {p m n m' n' : Nat} (h : o.drop p = cb_hd m n ++ r) (h' : o.drop p = cb_hd m' n' ++ r') (hn : n < 2 ^ 32) (hn' : n' < 2 ^ 32) : m = m' ∧ n = n' := by
  obtain ⟨_, a1, _, a2⟩ := cb_hd_rd h hn
  obtain ⟨_, b1, _, b2⟩ := cb_hd_rd h' hn'
  exact ⟨a1.symm.trans b1, a2.symm.trans b2⟩
theorem cb_uq (hP : cb_PF lim T A E N) (hP' : cb_PF lim T' A' E' N') (he : e = cb_rw T N) (he' : e = cb_rw T' N') : ∀ (n i : Nat), A i - i ≤ n → i < N → i < N' → (cb_rw T i).length = (cb_rw T' i).length → cb_so T i ≠ 8 → cb_so T' i ≠ 8 →
    cb_so T i = cb_so T' i ∧ cb_nu T i = cb_nu T' i ∧ A i = A' i ∧ (cb_rw T (A i)).length = (cb_rw T' (A i)).length ∧ ∀ t, i < t → t < A i → cb_Eq T T' A A' t := by
  obtain ⟨hLC, hA0, hp0, hr0, hN0, hTB, hN, hl8, hF⟩ := id hP
  obtain ⟨hLC', hA0', hp0', hr0', hN0', hTB', hN', hl8', hF'⟩ := id hP'
  intro n
  induction n with
  | zero => intro i h1 h2; have := cb_LC_gt (hLC i h2); omega
  | succ n ih =>
    intro i h1 hi hi' hpos hs8 hs8'
    -- the heads
    obtain ⟨r, hr⟩ := cb_rw_drop (T := T) hi
    obtain ⟨r', hr'⟩ := cb_rw_drop (T := T') hi'
    rw [← he, show cb_n1 (cb_so T i) (cb_nu T i) = cb_hd (cb_so T i) (cb_nu T i) from if_neg hs8] at hr
    rw [← he', ← hpos, show cb_n1 (cb_so T' i) (cb_nu T' i) = cb_hd (cb_so T' i) (cb_nu T' i) from if_neg hs8'] at hr'
    obtain ⟨hso, hnu⟩ := cb_hd_eq hr hr' (hTB i hi).2.1 (hTB' i hi').2.1
    have hki : cb_ki T i = cb_ki T' i := by rw [(hF i hi).1, (hF' i hi').1, hso, hnu]
    have hpos1 : (cb_rw T (i + 1)).length = (cb_rw T' (i + 1)).length := by
      simp only [cb_rw, List.length_append]; rw [hpos, hso, hnu]
    have hgt := cb_LC_gt (hLC i hi)
    have hgt' := cb_LC_gt (hLC' i hi')
    -- the chain of children
    have chain : ∀ (ks ks' : List (List Nat)) (rk s e1 e1' : Nat), cb_CH T A E i rk s e1 ks → cb_CH T' A' E' i rk s e1' ks' → ks.length = ks'.length → i < s → e1 ≤ A i → e1' ≤ A' i → (cb_rw T s).length = (cb_rw T' s).length →
        e1 = e1' ∧ (cb_rw T e1).length = (cb_rw T' e1).length ∧ ∀ t, s ≤ t → t < e1 → cb_Eq T T' A A' t := by
      intro ks
      induction ks with
      | nil =>
        intro ks' rk s e1 e1' c1 c2 hl his h1 h2 hp
        have hk : ks' = [] := List.length_eq_zero_iff.mp (by rw [← hl]; rfl)
        subst hk
        have a1 : s = e1 := c1
        have a2 : s = e1' := c2
        subst a1; subst a2
        exact ⟨rfl, hp, fun t g1 g2 => by omega⟩
      | cons k0 ks ihk =>
        intro ks' rk s e1 e1' c1 c2 hl his h1 h2 hp
        cases ks' with
        | nil => simp at hl
        | cons k0' ks' =>
          obtain ⟨p1, p2, p3, p4, p5⟩ := c1
          obtain ⟨q1, q2, q3, q4, q5⟩ := c2
          have l1 := cb_CH_le p5
          have l2 := cb_CH_le q5
          have hsN : s < N := by omega
          have hsN' : s < N' := by omega
          have iff1 := (hF s hsN).2.2.2
          have iff2 := (hF' s hsN').2.2.2
          rw [p1, Nat.add_sub_cancel] at iff1
          rw [q1, Nat.add_sub_cancel] at iff2
          have core : cb_so T s = cb_so T' s ∧ cb_nu T s = cb_nu T' s ∧ A s = A' s ∧ (cb_rw T (A s)).length = (cb_rw T' (A s)).length ∧ ∀ t, s < t → t < A s → cb_Eq T T' A A' t := by
            by_cases h2' : cb_so T i = 2
            · have s8 : cb_so T s = 8 := iff1.mpr ⟨by omega, h2'⟩
              have s8' : cb_so T' s = 8 := iff2.mpr ⟨by omega, by rw [← hso]; exact h2'⟩
              have hA : A s = s + 1 := by
                rcases cb_first hLC hsN with ⟨a, _⟩ | ⟨_, a, _⟩
                · exact a
                · rw [(hF s hsN).1, s8] at a; simp [cb_c1] at a
              have hA' : A' s = s + 1 := by
                rcases cb_first hLC' hsN' with ⟨a, _⟩ | ⟨_, a, _⟩
                · exact a
                · rw [(hF' s hsN').1, s8'] at a; simp [cb_c1] at a
              obtain ⟨u1, hu1⟩ := cb_rw_drop (T := T) hsN
              obtain ⟨u2, hu2⟩ := cb_rw_drop (T := T') hsN'
              rw [← he, s8] at hu1
              rw [← he', ← hp, s8'] at hu2
              have v1 := (cb_hd0 (x := cb_nu T s) (xs := u1) hu1).1
              have v2 := (cb_hd0 (x := cb_nu T' s) (xs := u2) hu2).1
              refine ⟨by rw [s8, s8'], v1.symm.trans v2, by rw [hA, hA'], ?_, fun t g1 g2 => by omega⟩
              rw [hA]
              simp only [cb_rw, List.length_append]
              rw [hp, s8, s8']; rfl
            · have s8 : cb_so T s ≠ 8 := fun h => h2' (iff1.mp h).2
              have s8' : cb_so T' s ≠ 8 := fun h => h2' (by rw [hso]; exact (iff2.mp h).2)
              exact ih s (by omega) hsN hsN' hp s8 s8'
          obtain ⟨k1, k2, k3, k4, k5⟩ := core
          rw [← k3] at q5
          obtain ⟨m1, m2, m3⟩ := ihk ks' (rk + 1) (A s) e1 e1' p5 q5 (by simpa using hl) (by omega) h1 h2 k4
          refine ⟨m1, m2, fun t g1 g2 => ?_⟩
          by_cases t1 : t = s
          · subst t1; exact ⟨k1, k2, by rw [p1, q1], by rw [p2, q2], k3⟩
          · by_cases t2 : t < A s
            · exact k5 t (by omega) t2
            · exact m3 t (by omega) g2
    obtain ⟨ks, g1, g2, _⟩ := hLC i hi
    obtain ⟨ks', g1', g2', _⟩ := hLC' i hi'
    obtain ⟨r1, r2, r3⟩ := chain ks ks' 0 (i + 1) (A i) (A' i) g1 g1' (by omega) (by omega) (Nat.le_refl _) (Nat.le_refl _) hpos1
    exact ⟨hso, hnu, r1, r2, fun t t1 t2 => r3 t (by omega) t2⟩
theorem cb_cs_cg {z : Nat} : ∀ {n : Nat}, (∀ j, j < n → cb_so T j = cb_so T' j ∧ A j = A' j) → cb_cs T A z n = cb_cs T' A' z n := by
  intro n
  induction n with
  | zero => intro _; rfl
  | succ n ih => intro h; simp only [cb_cs]; rw [(h n (by omega)).1, (h n (by omega)).2, ih fun j hj => h j (by omega)]
theorem cb_yt_uq (hP : cb_PF lim T A E N) (hP' : cb_PF lim T' A' E' N') (he : e = cb_rw T N) (he' : e = cb_rw T' N') : cb_yt T A N = cb_yt T' A' N' := by
  have huq := cb_uq hP hP' he he'
  obtain ⟨hLC, hA0, hp0, hr0, hN0, hTB, hN, hl8, hF⟩ := id hP
  obtain ⟨hLC', hA0', hp0', hr0', hN0', hTB', hN', hl8', hF'⟩ := id hP'
  have s0 : cb_so T 0 ≠ 8 := fun h => ((hF 0 hN0).2.2.2.mp h).1 hp0
  have s0' : cb_so T' 0 ≠ 8 := fun h => ((hF' 0 hN0').2.2.2.mp h).1 hp0'
  obtain ⟨k1, k2, k3, k4, k5⟩ := huq (A 0 - 0) 0 (Nat.le_refl _) hN0 hN0' rfl s0 s0'
  have hNN : N = N' := by rw [← hA0, ← hA0']; exact k3
  subst hNN
  have hall : ∀ t, t < N → cb_Eq T T' A A' t := fun t ht => by
    by_cases h0 : t = 0
    · subst h0; exact ⟨k1, k2, by rw [hp0, hp0'], by rw [hr0, hr0'], k3⟩
    · exact k5 t (by omega) (by omega)
  have lp : ∀ i, i ≤ N → cb_yt T A i = cb_yt T' A' i := by
    intro i
    induction i with
    | zero => intro _; rfl
    | succ i ih =>
      intro hi
      obtain ⟨h1, h2, h3, h4, h5⟩ := hall i (by omega)
      simp only [cb_yt]
      rw [ih (by omega), h1, h2, cb_cs_cg (T' := T') (A' := A') fun j hj => ⟨(hall j (by omega)).1, (hall j (by omega)).2.2.2.2⟩]
      have hse : cb_se T i = cb_se T' i := by
        unfold cb_se
        rw [h1, h3, h4]
        by_cases hc : cb_so T' i ≠ 8 ∧ 0 < cb_ra T' i
        · rw [if_pos hc, if_pos hc]
          have hpa := (hTB' i (by omega)).2.2.1
          have hp1 : 0 < cb_pa T' i := by
            by_cases hz : cb_pa T' i = 0
            · have hi0 : i = 0 := by
                by_cases e0 : i = 0
                · exact e0
                · obtain ⟨q', a1, a2, a3, a4, a5, _⟩ := cb_up hLC' (A' 0 - 0) 0 i (Nat.le_refl _) hN0' (by omega) (by omega)
                  omega
              subst hi0; omega
            · omega
          rw [(hall (cb_pa T' i - 1) (by omega)).1]
        · rw [if_neg hc, if_neg hc]
      rw [hse]
  exact lp N (Nat.le_refl _)
/-- the characters of the printed text -/
theorem cb_yt_TX (hP : cb_PF lim T A E N) (hb : ∀ i, i < N → cb_so T i = 8 → cb_nu T i < 256) : ∀ i, i ≤ N → cb_TX (cb_yt T A i) := by
  have fd : ∀ v k, cb_TX (cb_fd v k) := by
    intro v k
    induction k with
    | zero => intro c hc; simp [cb_fd] at hc
    | succ k ih =>
      intro c hc
      simp only [cb_fd, List.mem_cons] at hc
      rcases hc with rfl | hc
      · omega
      · exact ih c hc
  have ap : ∀ {a b : List Nat}, cb_TX a → cb_TX b → cb_TX (a ++ b) := fun ha hb c hc => by
    rcases List.mem_append.mp hc with h | h
    · exact ha c h
    · exact hb c h
  have si : ∀ {x : Nat}, 33 ≤ x → x ≤ 126 → cb_TX [x] := fun h1 h2 c hc => by rw [List.mem_singleton.mp hc]; exact ⟨h1, h2⟩
  have cs : ∀ z n, cb_TX (cb_cs T A z n) := by
    intro z n
    induction n with
    | zero => intro c hc; simp [cb_cs] at hc
    | succ n ih =>
      simp only [cb_cs]
      refine ap ?_ ih
      split
      · rename_i h
        refine si ?_ ?_
        · have := h.2; unfold cb_clo at this ⊢; repeat' split
          all_goals first | omega | (simp_all)
        · unfold cb_clo; repeat' split
          all_goals omega
      · intro c hc; simp at hc
  intro i
  induction i with
  | zero => intro _ c hc; simp [cb_yt] at hc
  | succ i ih =>
    intro hi
    simp only [cb_yt]
    refine ap (ih (by omega)) (ap ?_ (ap ?_ (cs _ _)))
    · unfold cb_se
      split
      · refine si ?_ ?_ <;> (unfold cb_sp; split <;> omega)
      · intro c hc; simp at hc
    · unfold cb_hs
      split
      · exact ap (a := [45]) (si (by omega) (by omega)) (fd _ _)
      split
      · exact ap (a := [115]) (si (by omega) (by omega)) (fd _ _)
      split
      · exact fd _ _
      split
      · exact ap (fd _ _) (si (by omega) (by omega))
      split
      · exact si (by omega) (by omega)
      split
      · exact si (by omega) (by omega)
      split
      · exact ap (a := [104]) (b := [39]) (si (by omega) (by omega)) (si (by omega) (by omega))
      · rename_i h1 h7 h0 h6 h4 h5 h2
        have hso8 : cb_so T i = 8 := by
          have := (hP.2.2.2.2.2.1 i (by omega)).1
          omega
        have hv := hb i (by omega) hso8
        refine ap (a := [cb_hc (cb_nu T i / 16)]) (b := [cb_hc (cb_nu T i % 16)]) (si ?_ ?_) (si ?_ ?_) <;> (unfold cb_hc; split <;> omega)
end cb5
end
section
/-! print -/
theorem cz_nu {T : cb_Tb} {N : Nat} {e : List Nat} (he : e = cb_rw T N) (hb : ∀ b ∈ e, b < 256) : ∀ i, i < N → cb_so T i = 8 → cb_nu T i < 256 := by
  intro i hi h8
  obtain ⟨r, hr⟩ := cb_rw_drop (T := T) hi
  rw [← he, h8] at hr
  have := (cb_hd0 (x := cb_nu T i) (xs := r) hr).1
  rw [← this]; exact cb_getD_lt hb _
theorem cz_pp {lim N : Nat} {T : cb_Tb} {A : Nat → Nat} {E : Nat → List Nat} (hP : cb_PF lim T A E N) : ∀ i, i < N → 0 < cb_ra T i → 0 < cb_pa T i := by
  obtain ⟨hLC, hA0, hp0, hr0, hN0, hTB, hN, hl8, hF⟩ := hP
  intro i hi hr
  by_cases e0 : i = 0
  · subst e0; omega
  · obtain ⟨q', a1, a2, a3, a4, a5, _⟩ := cb_up hLC (A 0 - 0) 0 i (Nat.le_refl _) hN0 (by omega) (by omega)
    omega
theorem cz_yl {lim N : Nat} {T : cb_Tb} {A : Nat → Nat} {E : Nat → List Nat} {e : List Nat} (hP : cb_PF lim T A E N) (he : e = cb_rw T N) (hel : e.length ≤ 32) : (cb_yt T A N).length ≤ 128 := by
  obtain ⟨hLC, hA0, hp0, hr0, hN0, hTB, hN, hl8, hF⟩ := hP
  have := cb_yt_len hLC hr0 (fun i hi => (hF i hi).1) N (Nat.le_refl _)
  rw [← he] at this
  omega
theorem i_vc_print {k : Nat} {u : SX} {v : SY} (I : i_Rel k u v) (hk : k + 3 ≤ 1539) (v1 : Int32) : wpX_print (fun r u' => wpY_print (fun r' v' => r' = r ∧ i_Rel (k + 3) u' v') v v1) u v1 := by
  refine cz_el (P := fun u v => wpX_print (fun r u' => wpY_print (fun r' v' => r' = r ∧ i_Rel (k + 3) u' v') v v1) u v1) ?_ I
  intro mb lim sc inp txt sl xM xL xS xI xT xO xP xp xF xR xD xd uI uT uC uL uO uS uK uA uP uM uF yM yD yS yN yF vC vL vS vP vV vK vR vA vB vN vE hR
  have hR0 := hR
  obtain ⟨⟨a1, a2, a3, a4, a5, a6⟩, ⟨b1, b2, b3, b4, b5, b6⟩, ⟨c1, c2, c3, c4, c5, c6⟩, ⟨d1, d2, d3, d4, d5, d6⟩, hs⟩ := hR
  unfold wpX_print
  dsimp only
  rcases cz_ix v1 a6 with hv | ⟨s, hsc, rfl⟩
  · refine cx_nsl b5 hv (br_t rfl ?_)
    unfold wpY_print
    dsimp only
    exact cy_nheld b6 hv (br_f (by decide) (cy_nheld b6 hv ⟨rfl, cz_in hR0⟩))
  · obtain ⟨e1, e2, e3, e4, e5, e6⟩ := hs s (by omega)
    refine cx_isl b5 a6 hsc (br_f (by decide) ⟨vp_in_nI (by omega) (by omega), ?_⟩)
    rw [nI_clamp (by omega), e2]
    refine pk_eq (sl s).length 0 (fun e0 => ?_) (fun e0 => ?_)
    · unfold wpY_print
      dsimp only
      refine cy_held b6 a6 hsc e3 (by omega) ?_
      rw [if_pos e0]
      refine br_f (by decide) (cy_held b6 a6 hsc e3 (by omega) ?_)
      rw [if_pos e0]
      exact ⟨rfl, cz_in hR0⟩
    · have hit := e6 (fun h => e0 (by rw [h]; rfl))
      obtain ⟨⟨ex, dx, hrn⟩, T, A, E, N, hPF, hrw⟩ := cb_exPF a4 (by omega) hit
      have hyl := cz_yl hPF hrw (by omega)
      have hTX := cb_yt_TX hPF (cz_nu hrw hit.2.2) N (Nat.le_refl _)
      unfold wpX_reset
      dsimp only
      refine cx_ls (xO := 0) (s := s) (e := sl s) (by omega) e4 e2 (by omega) fun uO' hO' => ?_
      have hse0 : cb_yt T A 0 ++ (if 0 < N then cb_se T 0 else []) = [] := by
        have : cb_se T 0 = [] := if_neg (fun h => by have := hPF.2.2.2.1; omega)
        rw [this]; simp [cb_yt]
      have lp := cx_pl (post := fun r u' => wpY_print (fun r' v' => r' = r ∧ i_Rel (k + 3) u' v') (yM, yD, yS, yN, yF, vC, vL, vS, vP, vV, vK, vR, vA, vB, vN, vE) (nI s)) (xM := xM) (xL := xL) (xS := xS) (xI := xI) (xO := nI (sl s).length) (xF := -1) (xR := 0) (xD := 0) (xd := 1) (uI := uI) (uC := uC) (uL := uL) (uO := uO') (uS := uS) hPF hrw (by omega) hit.2.2 hO' rfl hyl ?_ N 0 0 (N + 1) 0 0 uT uK uA uP uM uF (by omega) (by omega) (by omega) (by omega) (by rw [hse0]; trivial) (by rw [hse0]; rfl) (fun _ => ⟨0, rfl, hPF.2.2.1, fun h => ?_⟩)
      · exact ⟨_, lp⟩
      · intro xT' xP' xp' uT' uK' uA' uP' uM' uF' hT' hxT'
        unfold wpY_print
        dsimp only
        refine cy_held b6 a6 hsc e3 (by omega) ?_
        rw [if_neg e0]
        refine br_t rfl (cy_sc (pl := s + 2) (lim := lim) (inp := sl s) (nI_add s 2) (by omega) e5 e3 (by omega) hit.2.2 b4 a4 a3 hrn (fun r f h => by cases h) ?_)
        intro ex' dx' w' hr' T' N' vS vP vV vK vR vN vE hN' hTA' hTB' hRY' hFW' _ hel'
        cases hr'
        obtain ⟨hrw', hmk⟩ := cb_mkPF a4 (by omega) hTB' hRY' hFW'
        refine cy_can (T := T') (N := N') rfl (by omega) hTA' hTB' hRY' (by omega) ?_
        intro A' E' vC' vL' vA vB hLC' hA0' _ hp0' hr0' hN0' hvA h1 h2 _
        have hPF' := hmk A' E' hLC' hA0' hp0' hr0' hN0'
        have hyt := cb_yt_uq hPF hPF' hrw hrw'
        refine nm_e ⟨N' + 1, cy_34 (T := T') (A := A') (vC0 := vC') (vL0 := upd vL' 0 0) (by omega) hTA' hTB' hvA (fun j hj => (cb_LC_gt (hLC' j hj)).2) (cz_nu hrw' hit.2.2) (cz_pp hPF') (by rw [← hyt]; exact hyl) ?_ N' 0 (N' + 1) vC' (upd vL' 0 0) (by omega) (by omega) ⟨trivial, pk_us, fun _ _ => rfl, fun _ _ => rfl⟩⟩
        intro vC'' vL'' h3
        rw [← hyt] at h3
        obtain ⟨t1, t2, t3, t4⟩ := h3
        refine ⟨rfl, cz_in (inp := inp) (txt := cb_yt T A N) (sl := sl) ⟨⟨a1, a2, a3, a4, a5, a6⟩, ⟨b1, b2, b3, b4, b5, b6⟩, ⟨c1, c2, c3, ?_, c5, ?_⟩, ⟨hyl, hTX, hxT', t2, hT', t1⟩, fun s' hs' => ?_⟩⟩
        · rw [t4 1 (by omega), pk_un (by omega), h2 1 (by omega)]; exact c4
        · exact cb_At_cg c6 fun p g1 g2 => by rw [t3 p (by omega), h1 p (by omega)]
        · obtain ⟨p1, p2, p3, p4, p5, p6⟩ := hs s' hs'
          exact ⟨p1, p2, by rw [t4 _ (by omega), pk_un (by omega), h2 _ (by omega)]; exact p3, p4, cb_At_cg p5 fun p g1 g2 => by rw [t3 p (by omega), h1 p (by omega)], p6⟩
      · exact ((hPF.2.2.2.2.2.2.2.2 0 hPF.2.2.2.2.1).2.2.2.mp h).1 hPF.2.2.1
end
