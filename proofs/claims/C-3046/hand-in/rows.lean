section
/-! pure rows to paste: stores, nI and lN arithmetic, masks, shifts, narrowing, branches by naturals (pk_le, pk_lt, pk_eq), loops (lp1 .. lp16: the measure of the state; rp1 ..: recursion), negatives. Take what you need -/
theorem pk_us {f : Nat → Int32} {k : Nat} {x : Int32} : upd f k x k = x := if_pos rfl
theorem pk_un {f : Nat → Int32} {k j : Nat} {x : Int32} (h : j ≠ k) : upd f k x j = f j := if_neg h
theorem pk_uLs {f : Nat → Int64} {k : Nat} {x : Int64} : vp_updL f k x k = x := if_pos rfl
theorem pk_uLn {f : Nat → Int64} {k j : Nat} {x : Int64} (h : j ≠ k) : vp_updL f k x j = f j := if_neg h
theorem pk_sub {a b : Nat} (h : b ≤ a) : nI a - nI b = nI (a - b) := by
  obtain ⟨c, rfl⟩ : ∃ c, a = c + b := ⟨a - b, by omega⟩
  rw [← nI_add, Int32.add_sub_cancel, Nat.add_sub_cancel]
theorem pk_m1 (n : Nat) : nI (n + 1) + (-1) = nI n := by
  rw [← nI_1, Int32.add_assoc, show (1 : Int32) + (-1) = 0 from rfl, Int32.add_zero]
theorem pk_mul (a b : Nat) : nI a * nI b = nI (a * b) := (Int32.ofNat_mul a b).symm
theorem pk_div {a d : Nat} (ha : a < 2 ^ 31) (h0 : 0 < d) (hd : d < 2 ^ 31) : nI a / nI d = nI (a / d) := by
  apply Int32.toInt_inj.mp
  rw [lg_idiv_nonneg (by rw [nI_toInt ha]; omega) (by rw [nI_toInt hd]; omega), nI_toInt ha, nI_toInt hd, nI_toInt (Nat.lt_of_le_of_lt (Nat.div_le_self a d) ha)]
  first | rfl | exact (Int.natCast_ediv _ _).symm
theorem pk_rem {a d : Nat} (ha : a < 2 ^ 31) (h0 : 0 < d) (hd : d < 2 ^ 31) : nI a - nI a / nI d * nI d = nI (a % d) := by
  rw [pk_div ha h0 hd, pk_mul, pk_sub (Nat.div_mul_le_self a d)]
  exact congrArg nI (by have := Nat.div_add_mod' a d; omega)
theorem pk_sub_toInt {a b : Nat} (ha : a < 2 ^ 30) (hb : b < 2 ^ 30) : (nI a - nI b).toInt = (a : Int) - b := by
  rw [Int32.toInt_sub, nI_toInt (by omega), nI_toInt (by omega)]
  exact Int.bmod_eq_of_le (by omega) (by omega)
theorem pk_sneg {a b : Nat} (hb : b < 2 ^ 30) (h : a < b) : nI a - nI b < 0 := by
  rw [Int32.lt_iff_toInt_lt, pk_sub_toInt (by omega) hb, show (0 : Int32).toInt = 0 from by decide]
  omega
theorem pk_ix (x : Int32) {n : Nat} (hn : n < 2 ^ 31) : x < 0 ∨ nI n ≤ x ∨ ∃ j : Nat, j < n ∧ x = nI j := by
  by_cases h : x < 0
  · exact Or.inl h
  · obtain ⟨j, hj, rfl⟩ := nI_of h
    by_cases h2 : j < n
    · exact Or.inr (Or.inr ⟨j, h2, rfl⟩)
    · exact Or.inr (Or.inl (nI_le (by omega) hj))
theorem pk_le {x y : Int32} {A B : Prop} (a b : Nat) (f : a ≤ b → A) (g : b < a → B) (hx : x = nI a := by rfl) (hy : y = nI b := by rfl) (ha : a < 2 ^ 31 := by omega) (hb : b < 2 ^ 31 := by omega) : (x ≤ y → A) ∧ (¬ x ≤ y → B) := by
  subst hx hy
  rw [nI_leI ha hb]
  exact ⟨f, fun z => g (by omega)⟩
theorem pk_lt {x y : Int32} {A B : Prop} (a b : Nat) (f : a < b → A) (g : b ≤ a → B) (hx : x = nI a := by rfl) (hy : y = nI b := by rfl) (ha : a < 2 ^ 31 := by omega) (hb : b < 2 ^ 31 := by omega) : (x < y → A) ∧ (¬ x < y → B) := by
  subst hx hy
  rw [nI_ltI ha hb]
  exact ⟨f, fun z => g (by omega)⟩
theorem pk_eq {x y : Int32} {A B : Prop} (a b : Nat) (f : a = b → A) (g : a ≠ b → B) (hx : x = nI a := by rfl) (hy : y = nI b := by rfl) (ha : a < 2 ^ 31 := by omega) (hb : b < 2 ^ 31 := by omega) : (x = y → A) ∧ (¬ x = y → B) := by
  subst hx hy
  rw [nI_eq ha hb]
  exact ⟨f, g⟩
theorem pk_in {x : Int32} (n N : Nat) (h : n < N) (hx : x = nI n := by rfl) (hN : N < 2 ^ 31 := by omega) : vp_in x N := by
  subst hx
  exact vp_in_nI h hN
theorem pk_cl {x : Int32} (n : Nat) (hx : x = nI n := by rfl) (h : n < 2 ^ 31 := by omega) : x.toNatClampNeg = n := by
  subst hx
  exact nI_clamp h
theorem pk_tn {n : Nat} (h : n < 2 ^ 32) : (nI n).toBitVec.toNat = n := Nat.mod_eq_of_lt h
theorem pk_and (x : Int32) {m : Int32} (k : Nat) (hm : m.toBitVec.toNat = 2 ^ k - 1) : x &&& m = nI (x.toBitVec.toNat % 2 ^ k) := by
  apply Int32.toBitVec_inj.mp
  apply BitVec.eq_of_toNat_eq
  rw [Int32.toBitVec_and, BitVec.toNat_and, hm, Nat.and_two_pow_sub_one_eq_mod]
  show _ = (BitVec.ofNat 32 _).toNat
  rw [BitVec.toNat_ofNat]
  exact (Nat.mod_eq_of_lt (Nat.lt_of_le_of_lt (Nat.mod_le _ _) x.toBitVec.isLt)).symm
theorem pk_andN {n : Nat} (h : n < 2 ^ 32) {m : Int32} (k : Nat) (hm : m.toBitVec.toNat = 2 ^ k - 1) : nI n &&& m = nI (n % 2 ^ k) := by
  rw [pk_and _ k hm, pk_tn h]
theorem pk_andE (x : Int32) {m : Int32} (k : Nat) (hm : m.toBitVec.toNat = 2 ^ k - 1) : ∃ j : Nat, j < 2 ^ k ∧ x &&& m = nI j := ⟨_, Nat.mod_lt _ (Nat.two_pow_pos k), pk_and x k hm⟩
theorem pk_andIn (x : Int32) {m : Int32} (k : Nat) (hm : m.toBitVec.toNat = 2 ^ k - 1) (hk : k ≤ 30) : vp_in (x &&& m) (2 ^ k) := by
  obtain ⟨j, hj, e⟩ := pk_andE x k hm
  rw [e]
  exact vp_in_nI hj (Nat.lt_of_le_of_lt (Nat.pow_le_pow_right (by decide) hk) (by decide))
theorem pk_shl (a s : Int32) (k : Nat) (hs : (s.toBitVec.smod 32).toNat = k) : (a <<< s).toBitVec.toNat = a.toBitVec.toNat * 2 ^ k % 2 ^ 32 := by
  show (a.toBitVec <<< (s.toBitVec.smod 32).toNat).toNat = _
  rw [hs, BitVec.toNat_shiftLeft, Nat.shiftLeft_eq]
theorem pk_shlN {n : Nat} (s : Int32) (k : Nat) (hs : (s.toBitVec.smod 32).toNat = k) (h : n * 2 ^ k < 2 ^ 32) : nI n <<< s = nI (n * 2 ^ k) := by
  apply Int32.toBitVec_inj.mp
  apply BitVec.eq_of_toNat_eq
  have hn : n < 2 ^ 32 := Nat.lt_of_le_of_lt (Nat.le_mul_of_pos_right n (Nat.two_pow_pos k)) h
  rw [pk_shl _ _ k hs, pk_tn hn, pk_tn h, Nat.mod_eq_of_lt h]
theorem pk_shr (a s : Int32) (k : Nat) (hs : (s.toBitVec.smod 32).toNat = k) : (a >>> s).toInt = a.toInt >>> k := by
  show (a.toBitVec.sshiftRight (s.toBitVec.smod 32).toNat).toInt = _
  rw [hs, BitVec.toInt_sshiftRight]
  rfl
theorem pk_shrN {n : Nat} (h : n < 2 ^ 31) (s : Int32) (k : Nat) (hs : (s.toBitVec.smod 32).toNat = k) : nI n >>> s = nI (n / 2 ^ k) := by
  apply Int32.toInt_inj.mp
  have h2 : n / 2 ^ k ≤ n := Nat.div_le_self _ _
  rw [pk_shr _ _ k hs, nI_toInt h, nI_toInt (by omega), Int.shiftRight_eq_div_pow]
  rfl
theorem pk_ushr (x s : Int32) (k : Nat) (hs : ((s.toUInt32 &&& Int32.toUInt32 31).toBitVec % 32).toNat = k) : (x.toUInt32 >>> (s.toUInt32 &&& Int32.toUInt32 31)).toInt32.toBitVec.toNat = x.toBitVec.toNat / 2 ^ k := by
  have e : (x.toUInt32 >>> (s.toUInt32 &&& Int32.toUInt32 31)).toInt32.toBitVec = x.toBitVec >>> k := by
    rw [← hs]
    exact UInt32.toBitVec_shiftRight _ _
  rw [e, BitVec.toNat_ushiftRight, Nat.shiftRight_eq_div_pow]
theorem pk_ushrN {n : Nat} (hn : n < 2 ^ 32) (s : Int32) (k : Nat) (hs : ((s.toUInt32 &&& Int32.toUInt32 31).toBitVec % 32).toNat = k) : ((nI n).toUInt32 >>> (s.toUInt32 &&& Int32.toUInt32 31)).toInt32 = nI (n / 2 ^ k) := by
  apply Int32.toBitVec_inj.mp
  apply BitVec.eq_of_toNat_eq
  rw [pk_ushr _ s k hs, pk_tn hn, pk_tn (Nat.lt_of_le_of_lt (Nat.div_le_self _ _) hn)]
theorem pk_least (P : Nat → Prop) (h : ∃ k, P k) : ∃ k, P k ∧ ∀ j, j < k → ¬ P j := by
  obtain ⟨k, hk⟩ := h
  induction k using Nat.strongRecOn with
  | ind k ih =>
    by_cases e : ∃ j, j < k ∧ P j
    · obtain ⟨j, hj, pj⟩ := e
      exact ih j hj pj
    · exact ⟨k, hk, fun j hj pj => e ⟨j, hj, pj⟩⟩
theorem s_l : ∀ n, n < 32 → ((nI n &&& 31).toBitVec.smod 32).toNat = n := by decide +kernel
theorem ts_nf {x : Bool} (h : ¬ x = false) : x = true := by cases x <;> first | rfl | exact absurd rfl h
theorem ts_nt {x : Bool} (h : ¬ x = true) : x = false := by cases x <;> first | rfl | exact absurd rfl h
theorem ts_bit {w : Int64} {s : UInt64} {j : Nat} (hj : j < 64) (hs : s.toNat = j) : ((w.toUInt64 >>> s).toInt64 &&& 1) = 0 ↔ w.toBitVec.getLsbD j = false := by
  have e : (w.toUInt64 >>> s).toInt64.toBitVec = w.toBitVec >>> j := by
    apply BitVec.eq_of_toNat_eq
    show (w.toUInt64 >>> s).toNat = _
    rw [UInt64.toNat_shiftRight, hs, Nat.mod_eq_of_lt hj, BitVec.toNat_ushiftRight]
    rfl
  rw [← Int64.toBitVec_inj, Int64.toBitVec_and, e]
  show w.toBitVec >>> j &&& 1#64 = 0#64 ↔ _
  constructor
  · intro h
    have t := congrArg (fun x => x.getLsbD 0) h
    simpa using t
  · intro h
    apply BitVec.eq_of_getLsbD_eq
    intro i hi
    cases i with
    | zero => simp [h]
    | succ i => simp
theorem ts_or {w m : Int64} {j : Nat} (hj : j < 64) (hm : m.toBitVec = BitVec.twoPow 64 j) : (w ||| m) = w ↔ w.toBitVec.getLsbD j = true := by
  rw [← Int64.toBitVec_inj, Int64.toBitVec_or, hm]
  constructor
  · intro h
    have t := congrArg (fun x => x.getLsbD j) h
    simp only [BitVec.getLsbD_or, BitVec.getLsbD_twoPow] at t
    simpa [hj] using t.symm
  · intro h
    apply BitVec.eq_of_getLsbD_eq
    intro i hi
    rw [BitVec.getLsbD_or, BitVec.getLsbD_twoPow]
    by_cases e : j = i
    · subst e; rw [h, Bool.true_or]
    · simp [e]
theorem ts_and {w m : Int64} {j : Nat} (hj : j < 64) (hm : m.toBitVec = BitVec.twoPow 64 j) : (w &&& (m ^^^ (-1))) = w ↔ w.toBitVec.getLsbD j = false := by
  have ha : (-1 : Int64).toBitVec = BitVec.allOnes 64 := by decide
  rw [← Int64.toBitVec_inj, Int64.toBitVec_and, Int64.toBitVec_xor, hm, ha]
  constructor
  · intro h
    have t := congrArg (fun x => x.getLsbD j) h
    simp only [BitVec.getLsbD_and, BitVec.getLsbD_xor, BitVec.getLsbD_twoPow, BitVec.getLsbD_allOnes] at t
    simpa [hj] using t.symm
  · intro h
    apply BitVec.eq_of_getLsbD_eq
    intro i hi
    rw [BitVec.getLsbD_and, BitVec.getLsbD_xor, BitVec.getLsbD_twoPow, BitVec.getLsbD_allOnes]
    by_cases e : j = i
    · subst e; rw [h, Bool.false_and]
    · simp [e, hi]
/-! ===== lN n to 2^64: shifts, and, or, masks, one bit ===== -/
theorem wb_tb (n : Nat) : (lN n).toBitVec = BitVec.ofNat 64 n := rfl
theorem wb_inj {a b : Int64} (h : a.toBitVec = b.toBitVec) : a = b := Int64.toBitVec_inj.mp h
theorem wb_tn {n : Nat} (h : n < 2 ^ 64) : (lN n).toBitVec.toNat = n := by rw [wb_tb, BitVec.toNat_ofNat, Nat.mod_eq_of_lt h]
theorem wb_of (x : Int64) : ∃ n, n < 2 ^ 64 ∧ x = lN n := ⟨x.toBitVec.toNat, x.toBitVec.isLt, wb_inj (by rw [wb_tb]; simp)⟩
theorem wb_of32 (x : Int32) : ∃ n, n < 2 ^ 32 ∧ x = nI n := ⟨x.toBitVec.toNat, x.toBitVec.isLt, Int32.toBitVec_inj.mp (by show _ = BitVec.ofNat 32 _; simp)⟩
theorem wb_c : ∀ k, k < 64 → ((nI k).toInt64 &&& 63) = lN k := by decide +kernel
theorem wb_cu : ∀ k, k < 64 → ((nI k).toInt64.toUInt64 &&& Int64.toUInt64 63) = UInt64.ofNat k := by decide +kernel
theorem wb_sm : ∀ k, k < 64 → (BitVec.ofNat 64 k).smod 64 = BitVec.ofNat 64 k := by decide +kernel
theorem u_tn {n : Nat} (h : n < 2 ^ 64) : (UInt64.ofNat n).toNat = n := Nat.mod_eq_of_lt h
end
section
/-! ===== sets of places as longs ===== -/
def gk_tb (x : Int64) (q : Nat) : Prop := x.toBitVec.getLsbD q = true
theorem gk_or (x y : Int64) (q : Nat) : gk_tb (x ||| y) q ↔ gk_tb x q ∨ gk_tb y q := by
  unfold gk_tb
  rw [Int64.toBitVec_or, BitVec.getLsbD_or, Bool.or_eq_true]
theorem gk_and (x y : Int64) (q : Nat) : gk_tb (x &&& y) q ↔ gk_tb x q ∧ gk_tb y q := by
  unfold gk_tb
  rw [Int64.toBitVec_and, BitVec.getLsbD_and, Bool.and_eq_true]
theorem gk_0 (q : Nat) : ¬ gk_tb 0 q := by
  show ¬ (0#64).getLsbD q = true
  rw [BitVec.getLsbD_zero]
  exact Bool.false_ne_true
theorem gk_ext {x y : Int64} (h : ∀ q, gk_tb x q ↔ gk_tb y q) : x = y :=
  Int64.toBitVec_inj.mp (BitVec.eq_of_getLsbD_eq (fun i _ => Bool.eq_iff_iff.mpr (h i)))
theorem gk_z {x : Int64} : x = 0 ↔ ∀ q, ¬ gk_tb x q :=
  ⟨fun e => e ▸ gk_0, fun h => gk_ext (fun q => ⟨fun z => absurd z (h q), fun z => absurd z (gk_0 q)⟩)⟩
theorem gk_andz {x y : Int64} : (x &&& y) = 0 ↔ ¬ ∃ q, gk_tb x q ∧ gk_tb y q := by
  rw [gk_z]
  exact ⟨fun h ⟨q, z⟩ => h q ((gk_and x y q).mpr z), fun h q z => h ⟨q, (gk_and x y q).mp z⟩⟩
theorem gk_shb : ∀ p, p < 64 → ((1 : Int64) <<< ((nI p).toInt64 &&& 63)).toBitVec = BitVec.twoPow 64 p := by decide +kernel
theorem gk_sh {p : Nat} (hp : p < 64) (q : Nat) : gk_tb ((1 : Int64) <<< ((nI p).toInt64 &&& 63)) q ↔ q = p := by
  unfold gk_tb
  rw [gk_shb p hp, BitVec.getLsbD_twoPow, Bool.and_eq_true, decide_eq_true_eq, decide_eq_true_eq]
  exact ⟨fun h => h.2.symm, fun h => ⟨hp, h.symm⟩⟩
theorem gk_sr {p : Nat} (hp : p < 64) (x : Int64) : ((x.toUInt64 >>> ((nI p).toInt64.toUInt64 &&& Int64.toUInt64 63)).toInt64 &&& 1) = 0 ↔ ¬ gk_tb x p := by
  rw [wb_cu p hp, ts_bit (j := p) hp (u_tn (by omega))]
  unfold gk_tb
  cases x.toBitVec.getLsbD p <;> simp
theorem gk_l1 : ∀ a, a < 4 → ∀ l, l < 4 → ((((1 : Int32) <<< (nI a &&& 31)).toUInt32 >>> ((nI l).toUInt32 &&& Int32.toUInt32 31)).toInt32 &&& 1 = 0 ↔ ¬ l = a) := by decide +kernel
theorem gk_l15 : ∀ l, l < 4 → ¬ (((15 : Int32).toUInt32 >>> ((nI l).toUInt32 &&& Int32.toUInt32 31)).toInt32 &&& 1 = 0) := by decide +kernel
theorem gk_xm (r : Nat) : nI r + (-1) = nI r - 1 := by
  cases r with
  | zero => decide
  | succ r => rw [pk_m1, nI_pred]
theorem gk_neg {r : Nat} (h : r < 2 ^ 31) : ¬ nI r = -1 := fun e => nI_pos h (by rw [e]; decide)
/-! ===== the least number with a property, or -1 ===== -/
def gk_LS (P : Nat → Prop) (n r : Nat) (x : Int32) : Prop :=
  (x = -1 ∧ ∀ s, r ≤ s → s < n → ¬ P s) ∨ (∃ s, r ≤ s ∧ s < n ∧ x = nI s ∧ P s ∧ ∀ t, r ≤ t → t < s → ¬ P t)
theorem gk_LS_e {P : Nat → Prop} {n r : Nat} (h : n ≤ r) : gk_LS P n r (-1) := Or.inl ⟨rfl, fun s h1 h2 => by omega⟩
theorem gk_LS_y {P : Nat → Prop} {n r : Nat} (h : r < n) (p : P r) : gk_LS P n r (nI r) := Or.inr ⟨r, Nat.le_refl r, h, rfl, p, fun t h1 h2 => by omega⟩
theorem gk_LS_n {P : Nat → Prop} {n r : Nat} {x : Int32} (p : ¬ P r) (h : gk_LS P n (r + 1) x) : gk_LS P n r x := by
  rcases h with ⟨e, h⟩ | ⟨s, h1, h2, e, ps, h⟩
  · refine Or.inl ⟨e, fun s a b => ?_⟩
    rcases Nat.eq_or_lt_of_le a with z | z
    · exact z ▸ p
    · exact h s z b
  · refine Or.inr ⟨s, by omega, h2, e, ps, fun t a b => ?_⟩
    rcases Nat.eq_or_lt_of_le a with z | z
    · exact z ▸ p
    · exact h t z b
theorem gk_LS_u {P : Nat → Prop} {n r : Nat} {x y : Int32} (h : gk_LS P n r x) (k : gk_LS P n r y) : y = x := by
  rcases h with ⟨e, h⟩ | ⟨s, h1, h2, e, ps, h⟩
  · rcases k with ⟨f, k⟩ | ⟨t, k1, k2, f, pt, k⟩
    · rw [e, f]
    · exact absurd pt (h t k1 k2)
  · rcases k with ⟨f, k⟩ | ⟨t, k1, k2, f, pt, k⟩
    · exact absurd ps (k s h1 h2)
    · have : s = t := by
        rcases Nat.lt_trichotomy s t with z | z | z
        · exact absurd ps (k s h1 z)
        · exact z
        · exact absurd pt (h t k1 z)
      rw [e, f, this]
theorem gk_LS_c {P Q : Nat → Prop} {n r : Nat} {x : Int32} (c : ∀ s, s < n → (P s ↔ Q s)) (h : gk_LS P n r x) : gk_LS Q n r x := by
  rcases h with ⟨e, h⟩ | ⟨s, h1, h2, e, ps, h⟩
  · exact Or.inl ⟨e, fun s a b q => h s a b ((c s b).mpr q)⟩
  · exact Or.inr ⟨s, h1, h2, e, (c s h2).mp ps, fun t a b q => h t a b ((c t (by omega)).mpr q)⟩
theorem gk_LS_neg {P : Nat → Prop} {n : Nat} {x : Int32} (hn : n < 2 ^ 31) (h : gk_LS P n 0 x) : x < 0 ↔ ¬ ∃ s, s < n ∧ P s := by
  rcases h with ⟨e, h⟩ | ⟨s, h1, h2, e, ps, h⟩
  · subst e
    exact ⟨fun _ ⟨s, a, b⟩ => h s (Nat.zero_le s) a b, fun _ => by decide⟩
  · subst e
    exact ⟨fun z => absurd z (nI_pos (by omega)), fun z => absurd ⟨s, h2, ps⟩ z⟩
/-! ===== a truth value as an int ===== -/
def gk_b2 (P : Prop) (x : Int32) : Prop := (P ∧ x = 1) ∨ (¬ P ∧ x = 0)
theorem gk_b2_c {P Q : Prop} {x : Int32} (h : P ↔ Q) (k : gk_b2 P x) : gk_b2 Q x := by
  rcases k with ⟨p, e⟩ | ⟨p, e⟩
  · exact Or.inl ⟨h.mp p, e⟩
  · exact Or.inr ⟨fun q => p (h.mpr q), e⟩
/-! ===== how many numbers below m have a property ===== -/
def gk_cn (P : Nat → Prop) : Nat → Nat → Prop
  | 0 => fun c => c = 0
  | m + 1 => fun c => ∃ d, gk_cn P m d ∧ ((P m ∧ c = d + 1) ∨ (¬ P m ∧ c = d))
theorem gk_cn_u {P : Nat → Prop} : ∀ m c d, gk_cn P m c → gk_cn P m d → d = c := by
  intro m
  induction m with
  | zero => intro c d h k; exact Eq.trans (b := 0) k (Eq.symm h)
  | succ m ih =>
    intro c d h k
    obtain ⟨c', h1, h2⟩ := h
    obtain ⟨d', k1, k2⟩ := k
    have e := ih c' d' h1 k1
    subst e
    rcases h2 with ⟨p, e⟩ | ⟨p, e⟩ <;> rcases k2 with ⟨q, f⟩ | ⟨q, f⟩
    · rw [e, f]
    · exact absurd p q
    · exact absurd q p
    · rw [e, f]
theorem gk_cn_le {P : Nat → Prop} : ∀ m c, gk_cn P m c → c ≤ m := by
  intro m
  induction m with
  | zero => intro c h; exact Nat.le_of_eq h
  | succ m ih =>
    intro c h
    obtain ⟨c', h1, h2⟩ := h
    have e := ih c' h1
    rcases h2 with ⟨p, e⟩ | ⟨p, e⟩ <;> omega
theorem gk_cn_c {P Q : Nat → Prop} : ∀ m c, (∀ s, s < m → (P s ↔ Q s)) → gk_cn P m c → gk_cn Q m c := by
  intro m
  induction m with
  | zero => intro c _ h; exact h
  | succ m ih =>
    intro c hc h
    obtain ⟨c', h1, h2⟩ := h
    refine ⟨c', ih c' (fun s hs => hc s (by omega)) h1, ?_⟩
    have z := hc m (by omega)
    rcases h2 with ⟨p, e⟩ | ⟨p, e⟩
    · exact Or.inl ⟨z.mp p, e⟩
    · exact Or.inr ⟨fun q => p (z.mpr q), e⟩
end
section
/-! ===== paths through places: after reading w from i to i + n the place q may be the last ===== -/
def gk_rc (fo lt : Nat → Nat → Prop) (w : Nat → Nat) (F : Nat → Prop) (i : Nat) : Nat → Nat → Prop
  | 0 => fun q => F q ∧ lt q (w i)
  | n + 1 => fun q => (∃ p, gk_rc fo lt w F i n p ∧ fo p q) ∧ lt q (w (i + n + 1))
/-- the piece from i to j is a row of the expression -/
def gk_xa (fo lt : Nat → Nat → Prop) (F L : Nat → Prop) (E : Prop) (w : Nat → Nat) (i j : Nat) : Prop :=
  (i = j ∧ E) ∨ ∃ n, j = i + n + 1 ∧ ∃ q, gk_rc fo lt w F i n q ∧ L q
section
variable {fo fo' lt lt' : Nat → Nat → Prop} {w : Nat → Nat} {F F' L : Nat → Prop} {E : Prop}
theorem gk_rc_own {P : Nat → Prop} (hF : ∀ q, F q → P q) (hc : ∀ p q, P p → fo p q → P q) (i : Nat) : ∀ n q, gk_rc fo lt w F i n q → P q := by
  intro n
  induction n with
  | zero => intro q h; exact hF q h.1
  | succ n ih =>
    intro q h
    obtain ⟨⟨p, hp, hpq⟩, _⟩ := h
    exact hc p q (ih p hp) hpq
theorem gk_rc_keep {P : Nat → Prop} (hF : ∀ q, F q → P q) (hc : ∀ p q, P p → fo p q → P q) (hf : ∀ p q, P p → (fo p q ↔ fo' p q)) (hl : ∀ q k, P q → (lt q (w k) ↔ lt' q (w k))) (i : Nat) :
    ∀ n q, gk_rc fo lt w F i n q ↔ gk_rc fo' lt' w F i n q := by
  intro n
  induction n with
  | zero =>
    intro q
    constructor
    · intro h; exact ⟨h.1, (hl q i (hF q h.1)).mp h.2⟩
    · intro h; exact ⟨h.1, (hl q i (hF q h.1)).mpr h.2⟩
  | succ n ih =>
    intro q
    constructor
    · intro h
      obtain ⟨⟨p, hp, hpq⟩, hz⟩ := h
      have pp := gk_rc_own hF hc i n p hp
      exact ⟨⟨p, (ih p).mp hp, (hf p q pp).mp hpq⟩, (hl q _ (hc p q pp hpq)).mp hz⟩
    · intro h
      obtain ⟨⟨p, hp, hpq⟩, hz⟩ := h
      have hp' := (ih p).mpr hp
      have pp := gk_rc_own hF hc i n p hp'
      have hpq' := (hf p q pp).mpr hpq
      exact ⟨⟨p, hp', hpq'⟩, (hl q _ (hc p q pp hpq')).mpr hz⟩
theorem gk_rc_mono (hF : ∀ q, F q → F' q) (hf : ∀ p q, fo p q → fo' p q) (i : Nat) : ∀ n q, gk_rc fo lt w F i n q → gk_rc fo' lt w F' i n q := by
  intro n
  induction n with
  | zero => intro q h; exact ⟨hF q h.1, h.2⟩
  | succ n ih =>
    intro q h
    obtain ⟨⟨p, hp, hpq⟩, hz⟩ := h
    exact ⟨⟨p, ih p hp, hf p q hpq⟩, hz⟩
theorem gk_rc_ex {ι : Type} {G : ι → Nat → Prop} (hF : ∀ q, F q → ∃ r, G r q) (i : Nat) : ∀ n q, gk_rc fo lt w F i n q → ∃ r, gk_rc fo lt w (fun q => F q ∧ G r q) i n q := by
  intro n
  induction n with
  | zero =>
    intro q h
    obtain ⟨r, hr⟩ := hF q h.1
    exact ⟨r, ⟨h.1, hr⟩, h.2⟩
  | succ n ih =>
    intro q h
    obtain ⟨⟨p, hp, hpq⟩, hz⟩ := h
    obtain ⟨r, hr⟩ := ih p hp
    exact ⟨r, ⟨p, hr, hpq⟩, hz⟩
theorem gk_rc_or {F1 F2 : Nat → Prop} (hF : ∀ q, F q ↔ F1 q ∨ F2 q) (i : Nat) : ∀ n q, gk_rc fo lt w F i n q ↔ gk_rc fo lt w F1 i n q ∨ gk_rc fo lt w F2 i n q := by
  intro n
  induction n with
  | zero =>
    intro q
    constructor
    · intro h
      rcases (hF q).mp h.1 with z | z
      · exact Or.inl ⟨z, h.2⟩
      · exact Or.inr ⟨z, h.2⟩
    · intro h
      rcases h with z | z
      · exact ⟨(hF q).mpr (Or.inl z.1), z.2⟩
      · exact ⟨(hF q).mpr (Or.inr z.1), z.2⟩
  | succ n ih =>
    intro q
    constructor
    · intro h
      obtain ⟨⟨p, hp, hpq⟩, hz⟩ := h
      rcases (ih p).mp hp with z | z
      · exact Or.inl ⟨⟨p, z, hpq⟩, hz⟩
      · exact Or.inr ⟨⟨p, z, hpq⟩, hz⟩
    · intro h
      rcases h with z | z
      · obtain ⟨⟨p, hp, hpq⟩, hz⟩ := z
        exact ⟨⟨p, (ih p).mpr (Or.inl hp), hpq⟩, hz⟩
      · obtain ⟨⟨p, hp, hpq⟩, hz⟩ := z
        exact ⟨⟨p, (ih p).mpr (Or.inr hp), hpq⟩, hz⟩
theorem gk_rc_none (hF : ∀ q, ¬ F q) (i n q : Nat) : ¬ gk_rc fo lt w F i n q :=
  gk_rc_own (P := fun _ => False) hF (fun _ _ h _ => h) i n q
/-- new ways from A to B: a path takes the first of them, or none -/
theorem gk_cross {A B : Nat → Prop} (hf : ∀ p q, fo' p q ↔ fo p q ∨ (A p ∧ B q)) (i : Nat) : ∀ n q,
    gk_rc fo' lt w F i n q ↔ gk_rc fo lt w F i n q ∨ ∃ m d, n = m + d + 1 ∧ (∃ p, gk_rc fo lt w F i m p ∧ A p) ∧ gk_rc fo' lt w B (i + m + 1) d q := by
  intro n
  induction n with
  | zero =>
    intro q
    constructor
    · intro h; exact Or.inl h
    · intro h
      rcases h with h | ⟨m, d, e, _⟩
      · exact h
      · omega
  | succ n ih =>
    intro q
    constructor
    · intro h
      obtain ⟨⟨p, hp, hpq⟩, hz⟩ := h
      rcases (ih p).mp hp with h1 | ⟨m, d, e, h1, h2⟩
      · rcases (hf p q).mp hpq with k | ⟨k1, k2⟩
        · exact Or.inl ⟨⟨p, h1, k⟩, hz⟩
        · exact Or.inr ⟨n, 0, rfl, ⟨p, h1, k1⟩, k2, hz⟩
      · subst e
        refine Or.inr ⟨m, d + 1, rfl, h1, ⟨p, h2, hpq⟩, ?_⟩
        have e2 : i + m + 1 + d + 1 = i + (m + d + 1) + 1 := by omega
        rw [e2]
        exact hz
    · intro h
      rcases h with h | ⟨m, d, e, ⟨p, h1, h2⟩, h3⟩
      · exact gk_rc_mono (fun _ z => z) (fun p q z => (hf p q).mpr (Or.inl z)) i (n + 1) q h
      · cases d with
        | zero =>
          have e1 : n = m := by omega
          subst e1
          exact ⟨⟨p, (ih p).mpr (Or.inl h1), (hf p q).mpr (Or.inr ⟨h2, h3.1⟩)⟩, h3.2⟩
        | succ d =>
          obtain ⟨⟨p', hp', hpq'⟩, hz⟩ := h3
          have e1 : n = m + d + 1 := by omega
          subst e1
          refine ⟨⟨p', (ih p').mpr (Or.inr ⟨m, d, rfl, ⟨p, h1, h2⟩, hp'⟩), hpq'⟩, ?_⟩
          have e2 : i + m + 1 + d + 1 = i + (m + d + 1) + 1 := by omega
          rw [e2] at hz
          exact hz
theorem gk_rc_dead {i n : Nat} (h : ∀ q, ¬ gk_rc fo lt w F i n q) : ∀ d q, ¬ gk_rc fo lt w F i (n + d) q := by
  intro d
  induction d with
  | zero => exact h
  | succ d ih =>
    intro q z
    obtain ⟨⟨p, hp, _⟩, _⟩ := z
    exact ih p hp
theorem gk_xa_nil {i : Nat} : gk_xa fo lt F L E w i i ↔ E := by
  constructor
  · intro h
    rcases h with h | ⟨n, e, _⟩
    · exact h.2
    · omega
  · intro h; exact Or.inl ⟨rfl, h⟩
theorem gk_xa_cons {i n : Nat} : gk_xa fo lt F L E w i (i + n + 1) ↔ ∃ q, gk_rc fo lt w F i n q ∧ L q := by
  constructor
  · intro h
    rcases h with h | ⟨m, e, h⟩
    · omega
    · have : m = n := by omega
      subst this
      exact h
  · intro h; exact Or.inr ⟨n, rfl, h⟩
theorem gk_xa_le {i j : Nat} (h : gk_xa fo lt F L E w i j) : i ≤ j := by
  rcases h with h | ⟨m, e, h⟩ <;> omega
end
section
variable {fo fo' lt : Nat → Nat → Prop} {w : Nat → Nat} {F1 L1 F2 L2 F L P1 P2 : Nat → Prop} {E1 E2 E : Prop} {i j : Nat}
theorem gk_op_or (hd : ∀ q, P1 q → P2 q → False) (f1 : ∀ q, F1 q → P1 q) (l1 : ∀ q, L1 q → P1 q) (f2 : ∀ q, F2 q → P2 q) (l2 : ∀ q, L2 q → P2 q)
    (c1 : ∀ p q, P1 p → fo p q → P1 q) (c2 : ∀ p q, P2 p → fo p q → P2 q)
    (hF : ∀ q, F q ↔ F1 q ∨ F2 q) (hL : ∀ q, L q ↔ L1 q ∨ L2 q) (hE : E ↔ E1 ∨ E2) :
    gk_xa fo lt F L E w i j ↔ gk_xa fo lt F1 L1 E1 w i j ∨ gk_xa fo lt F2 L2 E2 w i j := by
  constructor
  · intro h
    rcases h with ⟨e, h⟩ | ⟨n, e, q, h1, h2⟩
    · rcases hE.mp h with z | z
      · exact Or.inl (Or.inl ⟨e, z⟩)
      · exact Or.inr (Or.inl ⟨e, z⟩)
    · rcases (gk_rc_or hF i n q).mp h1 with z | z
      · have o := gk_rc_own f1 c1 i n q z
        rcases (hL q).mp h2 with k | k
        · exact Or.inl (Or.inr ⟨n, e, q, z, k⟩)
        · exact (hd q o (l2 q k)).elim
      · have o := gk_rc_own f2 c2 i n q z
        rcases (hL q).mp h2 with k | k
        · exact (hd q (l1 q k) o).elim
        · exact Or.inr (Or.inr ⟨n, e, q, z, k⟩)
  · intro h
    rcases h with (⟨e, h⟩ | ⟨n, e, q, h1, h2⟩) | (⟨e, h⟩ | ⟨n, e, q, h1, h2⟩)
    · exact Or.inl ⟨e, hE.mpr (Or.inl h)⟩
    · exact Or.inr ⟨n, e, q, (gk_rc_or hF i n q).mpr (Or.inl h1), (hL q).mpr (Or.inl h2)⟩
    · exact Or.inl ⟨e, hE.mpr (Or.inr h)⟩
    · exact Or.inr ⟨n, e, q, (gk_rc_or hF i n q).mpr (Or.inr h1), (hL q).mpr (Or.inr h2)⟩
theorem gk_op_then (hd : ∀ q, P1 q → P2 q → False) (f1 : ∀ q, F1 q → P1 q) (l1 : ∀ q, L1 q → P1 q) (f2 : ∀ q, F2 q → P2 q) (l2 : ∀ q, L2 q → P2 q)
    (c1 : ∀ p q, P1 p → fo p q → P1 q) (c2 : ∀ p q, P2 p → fo p q → P2 q)
    (hf : ∀ p q, fo' p q ↔ fo p q ∨ (L1 p ∧ F2 q))
    (hF : ∀ q, F q ↔ F1 q ∨ (E1 ∧ F2 q)) (hL : ∀ q, L q ↔ L2 q ∨ (E2 ∧ L1 q)) (hE : E ↔ E1 ∧ E2) :
    gk_xa fo' lt F L E w i j ↔ ∃ k, i ≤ k ∧ k ≤ j ∧ gk_xa fo lt F1 L1 E1 w i k ∧ gk_xa fo lt F2 L2 E2 w k j := by
  have r2 : ∀ i n q, gk_rc fo' lt w F2 i n q ↔ gk_rc fo lt w F2 i n q := by
    intro i n q
    constructor
    · intro h
      rcases (gk_cross hf i n q).mp h with z | ⟨m, d, e, ⟨p, z1, z2⟩, _⟩
      · exact z
      · exact (hd p (l1 p z2) (gk_rc_own f2 c2 i m p z1)).elim
    · intro h; exact (gk_cross hf i n q).mpr (Or.inl h)
  have rE : ∀ i n q, gk_rc fo' lt w (fun q => E1 ∧ F2 q) i n q → E1 ∧ gk_rc fo lt w F2 i n q := by
    intro i n q h
    refine ⟨gk_rc_own (P := fun _ => E1) (fun q z => z.1) (fun _ _ z _ => z) i n q h, ?_⟩
    exact (r2 i n q).mp (gk_rc_mono (fun _ z => z.2) (fun _ _ z => z) i n q h)
  constructor
  · intro h
    rcases h with ⟨e, h⟩ | ⟨n, e, q, h1, h2⟩
    · subst e
      exact ⟨i, Nat.le_refl i, Nat.le_refl i, Or.inl ⟨rfl, (hE.mp h).1⟩, Or.inl ⟨rfl, (hE.mp h).2⟩⟩
    · rcases (gk_rc_or hF i n q).mp h1 with z | z
      · rcases (gk_cross hf i n q).mp z with k | ⟨m, d, e2, k1, k2⟩
        · have o := gk_rc_own f1 c1 i n q k
          rcases (hL q).mp h2 with y | y
          · exact (hd q o (l2 q y)).elim
          · exact ⟨j, by omega, Nat.le_refl j, Or.inr ⟨n, e, q, k, y.2⟩, Or.inl ⟨rfl, y.1⟩⟩
        · have k3 := (r2 _ d q).mp k2
          have o := gk_rc_own f2 c2 _ d q k3
          rcases (hL q).mp h2 with y | y
          · exact ⟨i + m + 1, by omega, by omega, Or.inr ⟨m, rfl, k1⟩, Or.inr ⟨d, by omega, q, k3, y⟩⟩
          · exact (hd q (l1 q y.2) o).elim
      · obtain ⟨z1, z2⟩ := rE i n q z
        have o := gk_rc_own f2 c2 i n q z2
        rcases (hL q).mp h2 with y | y
        · exact ⟨i, Nat.le_refl i, by omega, Or.inl ⟨rfl, z1⟩, Or.inr ⟨n, e, q, z2, y⟩⟩
        · exact (hd q (l1 q y.2) o).elim
  · intro h
    obtain ⟨k, hk1, hk2, h1, h2⟩ := h
    rcases h1 with ⟨e, h1⟩ | ⟨n, e, p, h1, h1'⟩
    · subst e
      rcases h2 with ⟨e, h2⟩ | ⟨m, e, q, h2, h2'⟩
      · exact Or.inl ⟨e, hE.mpr ⟨h1, h2⟩⟩
      · refine Or.inr ⟨m, e, q, (gk_rc_or hF i m q).mpr (Or.inr ?_), (hL q).mpr (Or.inl h2')⟩
        exact gk_rc_mono (fun _ z => ⟨h1, z⟩) (fun _ _ z => z) i m q ((r2 i m q).mpr h2)
    · rcases h2 with ⟨e', h2⟩ | ⟨m, e', q, h2, h2'⟩
      · subst e'
        exact Or.inr ⟨n, e, p, (gk_rc_or hF i n p).mpr (Or.inl ((gk_cross hf i n p).mpr (Or.inl h1))), (hL p).mpr (Or.inr ⟨h2, h1'⟩)⟩
      · subst e
        refine Or.inr ⟨n + m + 1, by omega, q, (gk_rc_or hF i _ q).mpr (Or.inl ((gk_cross hf i _ q).mpr (Or.inr ⟨n, m, rfl, ⟨p, h1, h1'⟩, (r2 _ m q).mpr h2⟩))), (hL q).mpr (Or.inl h2')⟩
theorem gk_op_rep (hf : ∀ p q, fo' p q ↔ fo p q ∨ (L p ∧ F q)) (n : Nat) :
    (∃ q, gk_rc fo' lt w F i n q ∧ L q) ↔ (∃ q, gk_rc fo lt w F i n q ∧ L q) ∨ ∃ m d, n = m + d + 1 ∧ (∃ p, gk_rc fo lt w F i m p ∧ L p) ∧ ∃ q, gk_rc fo' lt w F (i + m + 1) d q ∧ L q := by
  constructor
  · intro ⟨q, h1, h2⟩
    rcases (gk_cross hf i n q).mp h1 with z | ⟨m, d, e, z1, z2⟩
    · exact Or.inl ⟨q, z, h2⟩
    · exact Or.inr ⟨m, d, e, z1, q, z2, h2⟩
  · intro h
    rcases h with ⟨q, h1, h2⟩ | ⟨m, d, e, z1, q, z2, h2⟩
    · exact ⟨q, (gk_cross hf i n q).mpr (Or.inl h1), h2⟩
    · exact ⟨q, (gk_cross hf i n q).mpr (Or.inr ⟨m, d, e, z1, z2⟩), h2⟩
theorem gk_op_plus (hf : ∀ p q, fo' p q ↔ fo p q ∨ (L p ∧ F q)) :
    gk_xa fo' lt F L E w i j ↔ gk_xa fo lt F L E w i j ∨ ∃ k, i < k ∧ k ≤ j ∧ gk_xa fo lt F L E w i k ∧ gk_xa fo' lt F L E w k j := by
  constructor
  · intro h
    rcases h with h | ⟨n, e, h⟩
    · exact Or.inl (Or.inl h)
    · rcases (gk_op_rep hf n).mp h with z | ⟨m, d, e2, z1, z2⟩
      · exact Or.inl (Or.inr ⟨n, e, z⟩)
      · exact Or.inr ⟨i + m + 1, by omega, by omega, Or.inr ⟨m, rfl, z1⟩, Or.inr ⟨d, by omega, z2⟩⟩
  · intro h
    rcases h with (h | ⟨n, e, h⟩) | ⟨k, k1, k2, h1, h2⟩
    · exact Or.inl h
    · exact Or.inr ⟨n, e, (gk_op_rep hf n).mpr (Or.inl h)⟩
    · rcases h1 with ⟨e, _⟩ | ⟨m, e, h1⟩
      · omega
      · subst e
        rcases h2 with ⟨e, _⟩ | ⟨d, e, h2⟩
        · exact Or.inr ⟨m, e.symm, (gk_op_rep hf m).mpr (Or.inl h1)⟩
        · exact Or.inr ⟨m + d + 1, by omega, (gk_op_rep hf _).mpr (Or.inr ⟨m, d, rfl, h1, h2⟩)⟩
theorem gk_op_star {E' : Prop} (hf : ∀ p q, fo' p q ↔ fo p q ∨ (L p ∧ F q)) (hE : E') :
    gk_xa fo' lt F L E' w i j ↔ i = j ∨ ∃ k, i < k ∧ k ≤ j ∧ gk_xa fo lt F L E w i k ∧ gk_xa fo' lt F L E' w k j := by
  constructor
  · intro h
    rcases h with h | ⟨n, e, h⟩
    · exact Or.inl h.1
    · rcases (gk_op_rep hf n).mp h with z | ⟨m, d, e2, z1, z2⟩
      · exact Or.inr ⟨j, by omega, Nat.le_refl j, Or.inr ⟨n, e, z⟩, Or.inl ⟨rfl, hE⟩⟩
      · exact Or.inr ⟨i + m + 1, by omega, by omega, Or.inr ⟨m, rfl, z1⟩, Or.inr ⟨d, by omega, z2⟩⟩
  · intro h
    rcases h with h | ⟨k, k1, k2, h1, h2⟩
    · exact Or.inl ⟨h, hE⟩
    · rcases h1 with ⟨e, _⟩ | ⟨m, e, h1⟩
      · omega
      · subst e
        rcases h2 with ⟨e, _⟩ | ⟨d, e, h2⟩
        · exact Or.inr ⟨m, e.symm, (gk_op_rep hf m).mpr (Or.inl h1)⟩
        · exact Or.inr ⟨m + d + 1, by omega, (gk_op_rep hf _).mpr (Or.inr ⟨m, d, rfl, h1, h2⟩)⟩
end
end
section
/-! ===== the relation's parts ===== -/
def gk_fo (fl : Nat → Int64) (p q : Nat) : Prop := gk_tb (fl p) q
def gk_lt (lp : Nat → Int64) (q c : Nat) : Prop := gk_tb (lp c) q
def gk_val (w : Nat → Nat) : Prop := ∀ k, w k < 4
def gk_ax (fl lp : Nat → Int64) (F L : Int64) (E : Int32) (w : Nat → Nat) (i j : Nat) : Prop :=
  gk_xa (gk_fo fl) (gk_lt lp) (gk_tb F) (gk_tb L) (¬ E = 0) w i j
/-- the owner of a place: r for a rule, h + 5 for an expression on the stack -/
def gk_Own (Pl St Ru : Nat) (fl lp fi la rf rl : Nat → Int64) (ow : Nat → Nat) : Prop :=
  (∀ h, h < St → ∀ q, gk_tb (fi h) q → q < Pl ∧ ow q = h + 5) ∧
  (∀ h, h < St → ∀ q, gk_tb (la h) q → q < Pl ∧ ow q = h + 5) ∧
  (∀ r, r < Ru → ∀ q, gk_tb (rf r) q → q < Pl ∧ ow q = r) ∧
  (∀ r, r < Ru → ∀ q, gk_tb (rl r) q → q < Pl ∧ ow q = r) ∧
  (∀ p, p < Pl → ∀ q, gk_tb (fl p) q → q < Pl ∧ ow q = ow p) ∧
  (∀ c, c < 4 → ∀ q, gk_tb (lp c) q → q < Pl)
/-- what a token's rows are, by its code and its parts' rows -/
def gk_eqn (La : Nat → (Nat → Nat) → Nat → Nat → Prop) (Lt : (Nat → Nat) → Nat → Nat → Prop) (t : Nat) (c a l r : Int32) : Prop :=
  (c = 0 ∧ ∃ b, b < 4 ∧ a = nI b ∧ ∀ w, gk_val w → ∀ i j, (Lt w i j ↔ j = i + 1 ∧ w i = b)) ∨
  (c = 1 ∧ ∀ w, gk_val w → ∀ i j, (Lt w i j ↔ j = i + 1)) ∨
  (c = 2 ∧ ∀ w, gk_val w → ∀ i j, (Lt w i j ↔ i = j)) ∨
  (c = 3 ∧ ∃ x y, x < t ∧ y < t ∧ l = nI x ∧ r = nI y ∧ ∀ w, gk_val w → ∀ i j, (Lt w i j ↔ ∃ k, i ≤ k ∧ k ≤ j ∧ La x w i k ∧ La y w k j)) ∨
  (c = 4 ∧ ∃ x y, x < t ∧ y < t ∧ l = nI x ∧ r = nI y ∧ ∀ w, gk_val w → ∀ i j, (Lt w i j ↔ La x w i j ∨ La y w i j)) ∨
  (c = 5 ∧ ∃ y, y < t ∧ r = nI y ∧ ∀ w, gk_val w → ∀ i j, (Lt w i j ↔ i = j ∨ ∃ k, i < k ∧ k ≤ j ∧ La y w i k ∧ Lt w k j)) ∨
  (c = 6 ∧ ∃ y, y < t ∧ r = nI y ∧ ∀ w, gk_val w → ∀ i j, (Lt w i j ↔ La y w i j ∨ ∃ k, i < k ∧ k ≤ j ∧ La y w i k ∧ Lt w k j)) ∨
  (c = 7 ∧ ∀ w, gk_val w → ∀ i j, ¬ Lt w i j)
def gk_Eqs (T : Nat) (cd ar lf rg : Nat → Int32) (La : Nat → (Nat → Nat) → Nat → Nat → Prop) : Prop :=
  ∀ t, t < T → gk_eqn La (La t) t (cd t) (ar t) (lf t) (rg t)
def gk_Sem (T St Ru : Nat) (fl lp fi la : Nat → Int64) (em : Nat → Int32) (rf rl : Nat → Int64) (re sk ro : Nat → Int32) (La : Nat → (Nat → Nat) → Nat → Nat → Prop) : Prop :=
  (∀ h, h < St → (em h = 0 ∨ em h = 1) ∧ ∃ s, s < T ∧ sk h = nI s ∧ ∀ w, gk_val w → ∀ i j, (La s w i j ↔ gk_ax fl lp (fi h) (la h) (em h) w i j)) ∧
  (∀ r, r < Ru → ∃ s, s < T ∧ ro r = nI s ∧ ∀ w, gk_val w → ∀ i j, (La s w i j ↔ gk_ax fl lp (rf r) (rl r) (re r) w i j))
def gk_G (T Pl St Ru : Nat) (fl lp fi la : Nat → Int64) (em : Nat → Int32) (rf rl : Nat → Int64) (re cd ar lf rg sk ro : Nat → Int32) (ow : Nat → Nat) (La : Nat → (Nat → Nat) → Nat → Nat → Prop) : Prop :=
  gk_Own Pl St Ru fl lp fi la rf rl ow ∧ gk_Eqs T cd ar lf rg La ∧ gk_Sem T St Ru fl lp fi la em rf rl re sk ro La
/-- what a step from state k by the letter l gives -/
def gk_nxt (Pl Ru : Nat) (fl lp rf : Nat → Int64) (k : Nat) (S : Int64) (l : Nat) (x : Int64) : Prop :=
  ∀ q, gk_tb x q ↔ ((k = 0 ∧ ∃ r, r < Ru ∧ gk_tb (rf r) q) ∨ (k ≠ 0 ∧ ∃ p, p < Pl ∧ gk_tb S p ∧ gk_tb (fl p) q)) ∧ gk_tb (lp l) q
def gk_TI (Pl Ru Sn : Nat) (fl lp rf rl : Nat → Int64) (re : Nat → Int32) (ss : Nat → Int64) (nx en : Nat → Int32) (ow : Nat → Nat) : Prop :=
  1 ≤ Sn ∧ Sn ≤ 48 ∧ gk_LS (fun r => ¬ re r = 0) Ru 0 (en 0) ∧
  (∀ k, 1 ≤ k → k < Sn → gk_LS (fun r => ∃ q, gk_tb (ss k) q ∧ gk_tb (rl r) q) Ru 0 (en k) ∧ ∀ q, gk_tb (ss k) q → q < Pl ∧ ow q < 5) ∧
  (∀ k, k < Sn → ∀ l, l < 4 → nx (4 * k + l) < 0 ∨ ∃ t, 1 ≤ t ∧ t < Sn ∧ nx (4 * k + l) = nI t ∧ gk_nxt Pl Ru fl lp rf k (ss k) l (ss t))
def gk_R (T Pl St Ru Sn Tl : Nat) (fl lp fi la : Nat → Int64) (em : Nat → Int32) (rf rl : Nat → Int64) (re : Nat → Int32) (ss : Nat → Int64) (nx en tx cd ar lf rg sk ro : Nat → Int32)
    (ow : Nat → Nat) (La : Nat → (Nat → Nat) → Nat → Nat → Prop) (w : Nat → Nat) : Prop :=
  (T ≤ 40 ∧ Pl ≤ T ∧ St ≤ T ∧ Ru ≤ 5 ∧ Tl ≤ 30) ∧ (∀ k, tx k = nI (w k) ∧ w k < 4) ∧
  gk_G T Pl St Ru fl lp fi la em rf rl re cd ar lf rg sk ro ow La ∧ gk_TI Pl Ru Sn fl lp rf rl re ss nx en ow
def i_Rel (_ : Nat) (u : SX) (v : SY) : Prop :=
  ∃ (T Pl St Ru Sn Tl : Nat) (wc : Int32) (sz : Int32) (fl lp fi la : Nat → Int64) (em : Nat → Int32) (rf rl : Nat → Int64) (re : Nat → Int32) (ss : Nat → Int64) (nx en tx ws wl : Nat → Int32)
    (cd ar lf rg sk ro rr ft : Nat → Int32) (ow : Nat → Nat) (La : Nat → (Nat → Nat) → Nat → Nat → Prop) (w : Nat → Nat),
    u = (nI T, nI Pl, nI St, nI Ru, nI Sn, nI Tl, wc, fl, lp, fi, la, em, rf, rl, re, ss, nx, en, tx, ws, wl) ∧ v = (nI T, nI St, nI Ru, nI Tl, sz, cd, ar, lf, rg, sk, ro, tx, rr, ft, 38440) ∧ gk_R T Pl St Ru Sn Tl fl lp fi la em rf rl re ss nx en tx cd ar lf rg sk ro ow La w
theorem i_up {k : Nat} {u : SX} {v : SY} (h : i_Rel k u v) : i_Rel (k + 3) u v := h
theorem gk_in {k : Nat} {T Pl St Ru Sn Tl : Nat} {wc : Int32} {sz : Int32} {fl lp fi la : Nat → Int64} {em : Nat → Int32} {rf rl : Nat → Int64} {re : Nat → Int32} {ss : Nat → Int64} {nx en tx ws wl : Nat → Int32}
    {cd ar lf rg sk ro rr ft : Nat → Int32} {ow : Nat → Nat} {La : Nat → (Nat → Nat) → Nat → Nat → Prop} {w : Nat → Nat}
    (h : gk_R T Pl St Ru Sn Tl fl lp fi la em rf rl re ss nx en tx cd ar lf rg sk ro ow La w) : i_Rel k (nI T, nI Pl, nI St, nI Ru, nI Sn, nI Tl, wc, fl, lp, fi, la, em, rf, rl, re, ss, nx, en, tx, ws, wl) (nI T, nI St, nI Ru, nI Tl, sz, cd, ar, lf, rg, sk, ro, tx, rr, ft, 38440) :=
  ⟨T, Pl, St, Ru, Sn, Tl, wc, sz, fl, lp, fi, la, em, rf, rl, re, ss, nx, en, tx, ws, wl, cd, ar, lf, rg, sk, ro, rr, ft, ow, La, w, rfl, rfl, h⟩
theorem gk_el {k : Nat} {u : SX} {v : SY} {P : SX → SY → Prop}
    (h : ∀ (T Pl St Ru Sn Tl : Nat) (wc : Int32) (sz : Int32) (fl lp fi la : Nat → Int64) (em : Nat → Int32) (rf rl : Nat → Int64) (re : Nat → Int32) (ss : Nat → Int64) (nx en tx ws wl : Nat → Int32)
      (cd ar lf rg sk ro rr ft : Nat → Int32) (ow : Nat → Nat) (La : Nat → (Nat → Nat) → Nat → Nat → Prop) (w : Nat → Nat),
      gk_R T Pl St Ru Sn Tl fl lp fi la em rf rl re ss nx en tx cd ar lf rg sk ro ow La w → P (nI T, nI Pl, nI St, nI Ru, nI Sn, nI Tl, wc, fl, lp, fi, la, em, rf, rl, re, ss, nx, en, tx, ws, wl) (nI T, nI St, nI Ru, nI Tl, sz, cd, ar, lf, rg, sk, ro, tx, rr, ft, 38440))
    (I : i_Rel k u v) : P u v :=
  I.elim fun T I => I.elim fun Pl I => I.elim fun St I => I.elim fun Ru I => I.elim fun Sn I => I.elim fun Tl I => I.elim fun wc I => I.elim fun sz I =>
  I.elim fun fl I => I.elim fun lp I => I.elim fun fi I => I.elim fun la I => I.elim fun em I => I.elim fun rf I => I.elim fun rl I => I.elim fun re I =>
  I.elim fun ss I => I.elim fun nx I => I.elim fun en I => I.elim fun tx I => I.elim fun ws I => I.elim fun wl I => I.elim fun cd I => I.elim fun ar I =>
  I.elim fun lf I => I.elim fun rg I => I.elim fun sk I => I.elim fun ro I => I.elim fun rr I => I.elim fun ft I => I.elim fun ow I => I.elim fun La I => I.elim fun w I =>
  (by rw [I.1, I.2.1]; exact h T Pl St Ru Sn Tl wc sz fl lp fi la em rf rl re ss nx en tx ws wl cd ar lf rg sk ro rr ft ow La w I.2.2)
end
section
/-! ===== what a token does to the relation ===== -/
theorem gk_ax_keep {Pl c : Nat} {ow : Nat → Nat} {fl fl' lp lp' : Nat → Int64} {F L : Int64} {E : Int32} {w : Nat → Nat} {i j : Nat}
    (hF : ∀ q, gk_tb F q → q < Pl ∧ ow q = c) (hc : ∀ p, p < Pl → ∀ q, gk_tb (fl p) q → q < Pl ∧ ow q = ow p)
    (hf : ∀ p, p < Pl → ow p = c → ∀ q, gk_tb (fl' p) q ↔ gk_tb (fl p) q) (hl : ∀ d, d < 4 → ∀ q, q < Pl → (gk_tb (lp' d) q ↔ gk_tb (lp d) q)) (hw : gk_val w) :
    gk_ax fl lp F L E w i j ↔ gk_ax fl' lp' F L E w i j := by
  have k : ∀ n q, gk_rc (gk_fo fl) (gk_lt lp) w (gk_tb F) i n q ↔ gk_rc (gk_fo fl') (gk_lt lp') w (gk_tb F) i n q :=
    gk_rc_keep (P := fun q => q < Pl ∧ ow q = c) hF (fun p q hp h => ⟨(hc p hp.1 q h).1, (hc p hp.1 q h).2.trans hp.2⟩)
      (fun p q hp => (hf p hp.1 hp.2 q).symm) (fun q k hq => (hl (w k) (hw k) q hq.1).symm) i
  constructor
  · intro h
    rcases h with h | ⟨n, e, q, h1, h2⟩
    · exact Or.inl h
    · exact Or.inr ⟨n, e, q, (k n q).mp h1, h2⟩
  · intro h
    rcases h with h | ⟨n, e, q, h1, h2⟩
    · exact Or.inl h
    · exact Or.inr ⟨n, e, q, (k n q).mpr h1, h2⟩
theorem gk_eqn_keep {La La' : Nat → (Nat → Nat) → Nat → Nat → Prop} {Lt : (Nat → Nat) → Nat → Nat → Prop} {t : Nat} {c a l r : Int32} (hL : ∀ s, s < t → La' s = La s) (h : gk_eqn La Lt t c a l r) : gk_eqn La' Lt t c a l r := by
  rcases h with h | h | h | ⟨e, x, y, hx, hy, el, er, h⟩ | ⟨e, x, y, hx, hy, el, er, h⟩ | ⟨e, y, hy, er, h⟩ | ⟨e, y, hy, er, h⟩ | h
  · exact Or.inl h
  · exact Or.inr (Or.inl h)
  · exact Or.inr (Or.inr (Or.inl h))
  · exact Or.inr (Or.inr (Or.inr (Or.inl ⟨e, x, y, hx, hy, el, er, by rw [hL x hx, hL y hy]; exact h⟩)))
  · exact Or.inr (Or.inr (Or.inr (Or.inr (Or.inl ⟨e, x, y, hx, hy, el, er, by rw [hL x hx, hL y hy]; exact h⟩))))
  · exact Or.inr (Or.inr (Or.inr (Or.inr (Or.inr (Or.inl ⟨e, y, hy, er, by rw [hL y hy]; exact h⟩)))))
  · exact Or.inr (Or.inr (Or.inr (Or.inr (Or.inr (Or.inr (Or.inl ⟨e, y, hy, er, by rw [hL y hy]; exact h⟩))))))
  · exact Or.inr (Or.inr (Or.inr (Or.inr (Or.inr (Or.inr (Or.inr h))))))
section
variable {T Pl Pl' St Ru Sn x : Nat} {fl lp fi la fl' lp' fi' la' : Nat → Int64} {em em' : Nat → Int32} {rf rl : Nat → Int64} {re cd ar lf rg sk ro cd' ar' lf' rg' sk' : Nat → Int32}
  {ss : Nat → Int64} {nx en : Nat → Int32} {ow : Nat → Nat} {La : Nat → (Nat → Nat) → Nat → Nat → Prop}
/-- the new expression stands at the height x and owns what the places above owned and the new ones -/
def gk_ow (Pl x : Nat) (ow : Nat → Nat) (q : Nat) : Nat := if q < Pl ∧ ow q < x + 5 then ow q else x + 5
def gk_La (T : Nat) (La : Nat → (Nat → Nat) → Nat → Nat → Prop) (N : (Nat → Nat) → Nat → Nat → Prop) (t : Nat) : (Nat → Nat) → Nat → Nat → Prop := if t = T then N else La t
theorem gk_G_new (G : gk_G T Pl St Ru fl lp fi la em rf rl re cd ar lf rg sk ro ow La) (hx : x ≤ St) (hRu : Ru ≤ 5) (hP : Pl ≤ Pl')
    (hfi : ∀ h, h < x → fi' h = fi h) (hla : ∀ h, h < x → la' h = la h) (hem : ∀ h, h < x → em' h = em h) (hsk : ∀ h, h < x → sk' h = sk h) (hskx : sk' x = nI T)
    (hcd : ∀ t, t < T → cd' t = cd t) (har : ∀ t, t < T → ar' t = ar t) (hlf : ∀ t, t < T → lf' t = lf t) (hrg : ∀ t, t < T → rg' t = rg t)
    (hfl : ∀ p, p < Pl → ow p < x + 5 → ∀ q, gk_tb (fl' p) q ↔ gk_tb (fl p) q)
    (hflc : ∀ p, p < Pl' → ¬ (p < Pl ∧ ow p < x + 5) → ∀ q, gk_tb (fl' p) q → q < Pl' ∧ ¬ (q < Pl ∧ ow q < x + 5))
    (hlp : ∀ c, c < 4 → ∀ q, q < Pl → (gk_tb (lp' c) q ↔ gk_tb (lp c) q)) (hlpP : ∀ c, c < 4 → ∀ q, gk_tb (lp' c) q → q < Pl')
    (hF : ∀ q, gk_tb (fi' x) q → q < Pl' ∧ ¬ (q < Pl ∧ ow q < x + 5)) (hL : ∀ q, gk_tb (la' x) q → q < Pl' ∧ ¬ (q < Pl ∧ ow q < x + 5))
    (hE : em' x = 0 ∨ em' x = 1)
    (heq : gk_eqn La (gk_ax fl' lp' (fi' x) (la' x) (em' x)) T (cd' T) (ar' T) (lf' T) (rg' T)) :
    gk_G (T + 1) Pl' (x + 1) Ru fl' lp' fi' la' em' rf rl re cd' ar' lf' rg' sk' ro (gk_ow Pl x ow) (gk_La T La (gk_ax fl' lp' (fi' x) (la' x) (em' x))) := by
  obtain ⟨⟨o1, o2, o3, o4, o5, o6⟩, ge, s1, s2⟩ := G
  have ew : ∀ q, q < Pl → ow q < x + 5 → gk_ow Pl x ow q = ow q := fun q a b => if_pos ⟨a, b⟩
  have en : ∀ q, ¬ (q < Pl ∧ ow q < x + 5) → gk_ow Pl x ow q = x + 5 := fun q a => if_neg a
  have eL : ∀ t, t < T → gk_La T La (gk_ax fl' lp' (fi' x) (la' x) (em' x)) t = La t := fun t ht => if_neg (by omega)
  have eT : gk_La T La (gk_ax fl' lp' (fi' x) (la' x) (em' x)) T = gk_ax fl' lp' (fi' x) (la' x) (em' x) := if_pos rfl
  refine ⟨⟨?_, ?_, ?_, ?_, ?_, hlpP⟩, ?_, ?_, ?_⟩
  · intro h hh q hq
    rcases Nat.lt_or_ge h x with z | z
    · rw [hfi h z] at hq
      obtain ⟨a, b⟩ := o1 h (by omega) q hq
      exact ⟨by omega, (ew q a (by omega)).trans b⟩
    · have : h = x := by omega
      subst this
      exact ⟨(hF q hq).1, en q (hF q hq).2⟩
  · intro h hh q hq
    rcases Nat.lt_or_ge h x with z | z
    · rw [hla h z] at hq
      obtain ⟨a, b⟩ := o2 h (by omega) q hq
      exact ⟨by omega, (ew q a (by omega)).trans b⟩
    · have : h = x := by omega
      subst this
      exact ⟨(hL q hq).1, en q (hL q hq).2⟩
  · intro r hr q hq
    obtain ⟨a, b⟩ := o3 r hr q hq
    exact ⟨by omega, (ew q a (by omega)).trans b⟩
  · intro r hr q hq
    obtain ⟨a, b⟩ := o4 r hr q hq
    exact ⟨by omega, (ew q a (by omega)).trans b⟩
  · intro p hp q hq
    by_cases z : p < Pl ∧ ow p < x + 5
    · obtain ⟨a, b⟩ := o5 p z.1 q ((hfl p z.1 z.2 q).mp hq)
      exact ⟨by omega, by rw [ew q a (by omega), ew p z.1 z.2, b]⟩
    · obtain ⟨a, b⟩ := hflc p hp z q hq
      exact ⟨a, by rw [en q b, en p z]⟩
  · intro t ht
    rcases Nat.lt_or_ge t T with z | z
    · rw [eL t z, hcd t z, har t z, hlf t z, hrg t z]
      exact gk_eqn_keep (fun s hs => eL s (by omega)) (ge t z)
    · have : t = T := by omega
      subst this
      rw [eT]
      exact gk_eqn_keep (fun s hs => eL s hs) heq
  · intro h hh
    rcases Nat.lt_or_ge h x with z | z
    · obtain ⟨a, s, hs, b, c⟩ := s1 h (by omega)
      rw [hem h z, hsk h z, hfi h z, hla h z]
      refine ⟨a, s, by omega, b, fun w hw i j => ?_⟩
      rw [eL s hs, c w hw i j]
      refine gk_ax_keep (o1 h (by omega)) o5 (fun p hp e q => hfl p hp (by omega) q) hlp hw
    · have : h = x := by omega
      subst this
      exact ⟨hE, T, by omega, hskx, fun w hw i j => by rw [eT]⟩
  · intro r hr
    obtain ⟨s, hs, b, c⟩ := s2 r hr
    refine ⟨s, by omega, b, fun w hw i j => ?_⟩
    rw [eL s hs, c w hw i j]
    exact gk_ax_keep (o3 r hr) o5 (fun p hp e q => hfl p hp (by omega) q) hlp hw
theorem gk_TI_new (H : gk_TI Pl Ru Sn fl lp rf rl re ss nx en ow) (hP : Pl ≤ Pl')
    (ho3 : ∀ r, r < Ru → ∀ q, gk_tb (rf r) q → q < Pl) (ho5 : ∀ p, p < Pl → ∀ q, gk_tb (fl p) q → q < Pl ∧ ow q = ow p)
    (hfl : ∀ p, p < Pl → ow p < x + 5 → ∀ q, gk_tb (fl' p) q ↔ gk_tb (fl p) q)
    (hlp : ∀ c, c < 4 → ∀ q, q < Pl → (gk_tb (lp' c) q ↔ gk_tb (lp c) q)) :
    gk_TI Pl' Ru Sn fl' lp' rf rl re ss nx en (gk_ow Pl x ow) := by
  obtain ⟨h1, h2, h3, h4, h5⟩ := H
  have ew : ∀ q, q < Pl → ow q < x + 5 → gk_ow Pl x ow q = ow q := fun q a b => if_pos ⟨a, b⟩
  refine ⟨h1, h2, h3, ?_, ?_⟩
  · intro k k1 k2
    obtain ⟨a, b⟩ := h4 k k1 k2
    refine ⟨a, fun q hq => ?_⟩
    obtain ⟨c, d⟩ := b q hq
    exact ⟨by omega, by rw [ew q c (by omega)]; exact d⟩
  · intro k hk l hl
    rcases h5 k hk l hl with z | ⟨t, t1, t2, e, z⟩
    · exact Or.inl z
    · refine Or.inr ⟨t, t1, t2, e, fun q => ?_⟩
      rw [z q]
      constructor
      · intro ⟨a, b⟩
        rcases a with ⟨a1, r, hr, a2⟩ | ⟨a1, p, hp, a2, a3⟩
        · exact ⟨Or.inl ⟨a1, r, hr, a2⟩, (hlp l hl q (ho3 r hr q a2)).mpr b⟩
        · have o := (h4 k (by omega) hk).2 p a2
          exact ⟨Or.inr ⟨a1, p, by omega, a2, (hfl p hp (by omega) q).mpr a3⟩, (hlp l hl q (ho5 p hp q a3).1).mpr b⟩
      · intro ⟨a, b⟩
        rcases a with ⟨a1, r, hr, a2⟩ | ⟨a1, p, hp, a2, a3⟩
        · exact ⟨Or.inl ⟨a1, r, hr, a2⟩, (hlp l hl q (ho3 r hr q a2)).mp b⟩
        · have o := (h4 k (by omega) hk).2 p a2
          have a4 := (hfl p o.1 (by omega) q).mp a3
          exact ⟨Or.inr ⟨a1, p, o.1, a2, a4⟩, (hlp l hl q (ho5 p o.1 q a4).1).mp b⟩
end
end
section
section
variable {fo lt : Nat → Nat → Prop} {w : Nat → Nat} {F L : Nat → Prop} {E : Prop} {i j p0 : Nat}
theorem gk_op_place (hF : ∀ q, F q ↔ q = p0) (hL : ∀ q, L q ↔ q = p0) (hE : ¬ E) (hf : ∀ q, ¬ fo p0 q) : gk_xa fo lt F L E w i j ↔ j = i + 1 ∧ lt p0 (w i) := by
  constructor
  · intro h
    rcases h with h | ⟨n, e, q, h1, h2⟩
    · exact absurd h.2 hE
    · cases n with
      | zero =>
        have z := (hF q).mp h1.1
        subst z
        exact ⟨e, h1.2⟩
      | succ n =>
        obtain ⟨⟨p, hp, hpq⟩, _⟩ := h1
        have z : p = p0 := gk_rc_own (P := fun q => q = p0) (fun q z => (hF q).mp z) (fun p q z y => absurd (z ▸ y) (hf q)) i n p hp
        subst z
        exact absurd hpq (hf q)
  · intro ⟨e, h⟩
    exact Or.inr ⟨0, e, p0, ⟨(hF p0).mpr rfl, h⟩, (hL p0).mpr rfl⟩
theorem gk_op_empty (hF : ∀ q, ¬ F q) (hE : E) : gk_xa fo lt F L E w i j ↔ i = j := by
  constructor
  · intro h
    rcases h with h | ⟨n, e, q, h1, h2⟩
    · exact h.1
    · exact absurd h1 (gk_rc_none hF i n q)
  · intro h; exact Or.inl ⟨h, hE⟩
end
section
variable {T Pl St Ru Sn Tl x : Nat} {fl lp fi la fl' lp' : Nat → Int64} {em : Nat → Int32} {rf rl : Nat → Int64} {re : Nat → Int32} {ss : Nat → Int64} {nx en tx cd ar lf rg sk ro : Nat → Int32}
  {ow : Nat → Nat} {La : Nat → (Nat → Nat) → Nat → Nat → Prop} {w : Nat → Nat} {vb vf vl : Int64} {v c a : Int32} {X : Nat → Prop}
theorem gk_R_place (R : gk_R T Pl St Ru Sn Tl fl lp fi la em rf rl re ss nx en tx cd ar lf rg sk ro ow La w) (hT : T < 40) (hv : ∀ q, gk_tb vb q ↔ q = Pl)
    (hlp : ∀ d, d < 4 → ∀ q, gk_tb (lp' d) q ↔ gk_tb (lp d) q ∨ (X d ∧ q = Pl))
    (hc : (c = 0 ∧ ∃ b, b < 4 ∧ a = nI b ∧ ∀ d, d < 4 → (X d ↔ d = b)) ∨ (c = 1 ∧ ∀ d, d < 4 → X d)) :
    ∃ ow' La', gk_R (T + 1) (Pl + 1) (St + 1) Ru Sn Tl (vp_updL fl Pl 0) lp' (vp_updL fi St vb) (vp_updL la St vb) (upd em St 0) rf rl re ss nx en tx (upd cd T c) (upd ar T a) lf rg (upd sk St (nI T)) ro ow' La' w := by
  obtain ⟨⟨b1, b2, b3, b4, b5⟩, ht, G, H⟩ := R
  obtain ⟨o1, o2, o3, o4, o5, o6⟩ := G.1
  have hfl : ∀ p, p < Pl → ow p < St + 5 → ∀ q, gk_tb (vp_updL fl Pl 0 p) q ↔ gk_tb (fl p) q := by
    intro p hp _ q
    rw [pk_uLn (by omega)]
  have hlp2 : ∀ d, d < 4 → ∀ q, q < Pl → (gk_tb (lp' d) q ↔ gk_tb (lp d) q) := by
    intro d hd q hq
    rw [hlp d hd q]
    exact ⟨fun z => z.elim (fun z => z) (fun z => by omega), fun z => Or.inl z⟩
  have hop : ∀ w, gk_val w → ∀ i j, (gk_ax (vp_updL fl Pl 0) lp' (vp_updL fi St vb St) (vp_updL la St vb St) (upd em St 0 St) w i j ↔ j = i + 1 ∧ X (w i)) := by
    intro w hw i j
    rw [pk_uLs, pk_uLs, pk_us]
    refine (gk_op_place (p0 := Pl) hv hv (fun z => z rfl) (fun q z => ?_)).trans ?_
    · have z' : gk_tb (vp_updL fl Pl 0 Pl) q := z
      rw [pk_uLs] at z'
      exact gk_0 q z'
    · have e : gk_lt lp' Pl (w i) ↔ X (w i) := by
        show gk_tb (lp' (w i)) Pl ↔ _
        rw [hlp (w i) (hw i) Pl]
        constructor
        · intro z
          rcases z with z | z
          · have := o6 (w i) (hw i) Pl z
            omega
          · exact z.1
        · intro z; exact Or.inr ⟨z, rfl⟩
      rw [e]
  refine ⟨gk_ow Pl St ow, _, ⟨by omega, by omega, by omega, b4, b5⟩, ht, gk_G_new G (Nat.le_refl St) b4 (Nat.le_succ Pl) ?_ ?_ ?_ ?_ pk_us ?_ ?_ (fun _ _ => rfl) (fun _ _ => rfl) hfl ?_ hlp2 ?_ ?_ ?_ ?_ ?_, gk_TI_new H (Nat.le_succ Pl) (fun r hr q z => (o3 r hr q z).1) o5 hfl hlp2⟩
  · intro h hh; exact pk_uLn (by omega)
  · intro h hh; exact pk_uLn (by omega)
  · intro h hh; exact pk_un (by omega)
  · intro h hh; exact pk_un (by omega)
  · intro t h; exact pk_un (by omega)
  · intro t h; exact pk_un (by omega)
  · intro p hp z q hq
    by_cases e : p = Pl
    · subst e
      rw [pk_uLs] at hq
      exact absurd hq (gk_0 q)
    · rw [pk_uLn e] at hq
      obtain ⟨k1, k2⟩ := o5 p (by omega) q hq
      exact ⟨by omega, by omega⟩
  · intro d hd q hq
    rcases (hlp d hd q).mp hq with z | z
    · have := o6 d hd q z
      omega
    · omega
  · intro q hq
    rw [pk_uLs] at hq
    have := (hv q).mp hq
    exact ⟨by omega, by omega⟩
  · intro q hq
    rw [pk_uLs] at hq
    have := (hv q).mp hq
    exact ⟨by omega, by omega⟩
  · exact Or.inl pk_us
  · rw [pk_us (f := cd), pk_us (f := ar)]
    rcases hc with ⟨e, b, hb, ea, hX⟩ | ⟨e, hX⟩
    · refine Or.inl ⟨e, b, hb, ea, fun w hw i j => ?_⟩
      rw [hop w hw i j, hX (w i) (hw i)]
    · refine Or.inr (Or.inl ⟨e, fun w hw i j => ?_⟩)
      rw [hop w hw i j]
      exact ⟨fun z => z.1, fun z => ⟨z, hX (w i) (hw i)⟩⟩
theorem gk_R_empty (R : gk_R T Pl St Ru Sn Tl fl lp fi la em rf rl re ss nx en tx cd ar lf rg sk ro ow La w) (hT : T < 40) :
    ∃ ow' La', gk_R (T + 1) Pl (St + 1) Ru Sn Tl fl lp (vp_updL fi St 0) (vp_updL la St 0) (upd em St 1) rf rl re ss nx en tx (upd cd T 2) (upd ar T a) lf rg (upd sk St (nI T)) ro ow' La' w := by
  obtain ⟨⟨b1, b2, b3, b4, b5⟩, ht, G, H⟩ := R
  obtain ⟨o1, o2, o3, o4, o5, o6⟩ := G.1
  have hfl : ∀ p, p < Pl → ow p < St + 5 → ∀ q, gk_tb (fl p) q ↔ gk_tb (fl p) q := fun _ _ _ _ => Iff.rfl
  have hlp2 : ∀ d, d < 4 → ∀ q, q < Pl → (gk_tb (lp d) q ↔ gk_tb (lp d) q) := fun _ _ _ _ => Iff.rfl
  refine ⟨gk_ow Pl St ow, _, ⟨by omega, by omega, by omega, b4, b5⟩, ht, gk_G_new G (Nat.le_refl St) b4 (Nat.le_refl Pl) ?_ ?_ ?_ ?_ pk_us ?_ ?_ (fun _ _ => rfl) (fun _ _ => rfl) hfl ?_ hlp2 o6 ?_ ?_ ?_ ?_, gk_TI_new H (Nat.le_refl Pl) (fun r hr q z => (o3 r hr q z).1) o5 hfl hlp2⟩
  · intro h hh; exact pk_uLn (by omega)
  · intro h hh; exact pk_uLn (by omega)
  · intro h hh; exact pk_un (by omega)
  · intro h hh; exact pk_un (by omega)
  · intro t h; exact pk_un (by omega)
  · intro t h; exact pk_un (by omega)
  · intro p hp z q hq
    obtain ⟨k1, k2⟩ := o5 p hp q hq
    exact ⟨by omega, by omega⟩
  · intro q hq
    rw [pk_uLs] at hq
    exact absurd hq (gk_0 q)
  · intro q hq
    rw [pk_uLs] at hq
    exact absurd hq (gk_0 q)
  · exact Or.inr pk_us
  · rw [pk_us (f := cd)]
    refine Or.inr (Or.inr (Or.inl ⟨rfl, fun w hw i j => ?_⟩))
    rw [pk_uLs, pk_uLs, pk_us]
    exact gk_op_empty gk_0 (by decide)
theorem gk_R_two (R : gk_R T Pl (x + 2) Ru Sn Tl fl lp fi la em rf rl re ss nx en tx cd ar lf rg sk ro ow La w) (hT : T < 40) (hv : v = 0 ∨ v = 1)
    (hfl : ∀ p q, gk_tb (fl' p) q ↔ gk_tb (fl p) q ∨ (c = 3 ∧ p < Pl ∧ gk_tb (la x) p ∧ gk_tb (fi (x + 1)) q))
    (hc : (c = 3 ∧ (∀ q, gk_tb vf q ↔ gk_tb (fi x) q ∨ (¬ em x = 0 ∧ gk_tb (fi (x + 1)) q)) ∧ (∀ q, gk_tb vl q ↔ gk_tb (la (x + 1)) q ∨ (¬ em (x + 1) = 0 ∧ gk_tb (la x) q)) ∧ (¬ v = 0 ↔ ¬ em x = 0 ∧ ¬ em (x + 1) = 0)) ∨
      (c = 4 ∧ (∀ q, gk_tb vf q ↔ gk_tb (fi x) q ∨ gk_tb (fi (x + 1)) q) ∧ (∀ q, gk_tb vl q ↔ gk_tb (la x) q ∨ gk_tb (la (x + 1)) q) ∧ (¬ v = 0 ↔ ¬ em x = 0 ∨ ¬ em (x + 1) = 0))) :
    ∃ ow' La', gk_R (T + 1) Pl (x + 1) Ru Sn Tl fl' lp (vp_updL fi x vf) (vp_updL la x vl) (upd em x v) rf rl re ss nx en tx (upd cd T c) (upd ar T a) (upd lf T (sk x)) (upd rg T (sk (x + 1))) (upd sk x (nI T)) ro ow' La' w := by
  obtain ⟨⟨b1, b2, b3, b4, b5⟩, ht, G, H⟩ := R
  obtain ⟨o1, o2, o3, o4, o5, o6⟩ := G.1
  obtain ⟨_, s1, ls, el, h1⟩ := G.2.2.1 x (by omega)
  obtain ⟨_, s2, ls2, er, h2⟩ := G.2.2.1 (x + 1) (by omega)
  have hf : ∀ p, p < Pl → ow p < x + 5 → ∀ q, gk_tb (fl' p) q ↔ gk_tb (fl p) q := by
    intro p hp hq q
    rw [hfl p q]
    constructor
    · intro z
      rcases z with z | ⟨_, _, z, _⟩
      · exact z
      · have := o2 x (by omega) p z
        omega
    · intro z; exact Or.inl z
  have hlp2 : ∀ d, d < 4 → ∀ q, q < Pl → (gk_tb (lp d) q ↔ gk_tb (lp d) q) := fun _ _ _ _ => Iff.rfl
  have hF : ∀ q, gk_tb vf q → gk_tb (fi x) q ∨ gk_tb (fi (x + 1)) q := by
    intro q z
    rcases hc with ⟨_, k, _⟩ | ⟨_, k, _⟩
    · exact ((k q).mp z).elim Or.inl (fun y => Or.inr y.2)
    · exact (k q).mp z
  have hL : ∀ q, gk_tb vl q → gk_tb (la x) q ∨ gk_tb (la (x + 1)) q := by
    intro q z
    rcases hc with ⟨_, _, k, _⟩ | ⟨_, _, k, _⟩
    · exact ((k q).mp z).elim Or.inr (fun y => Or.inl y.2)
    · exact (k q).mp z
  refine ⟨gk_ow Pl x ow, _, ⟨by omega, by omega, by omega, b4, b5⟩, ht, gk_G_new G (by omega) b4 (Nat.le_refl Pl) ?_ ?_ ?_ ?_ pk_us ?_ ?_ ?_ ?_ hf ?_ hlp2 o6 ?_ ?_ ?_ ?_, gk_TI_new H (Nat.le_refl Pl) (fun r hr q z => (o3 r hr q z).1) o5 hf hlp2⟩
  · intro h hh; exact pk_uLn (by omega)
  · intro h hh; exact pk_uLn (by omega)
  · intro h hh; exact pk_un (by omega)
  · intro h hh; exact pk_un (by omega)
  · intro t h; exact pk_un (by omega)
  · intro t h; exact pk_un (by omega)
  · intro t h; exact pk_un (by omega)
  · intro t h; exact pk_un (by omega)
  · intro p hp z q hq
    rcases (hfl p q).mp hq with k | ⟨_, _, k1, k2⟩
    · obtain ⟨k1, k2⟩ := o5 p hp q k
      exact ⟨by omega, by omega⟩
    · have := o1 (x + 1) (by omega) q k2
      exact ⟨by omega, by omega⟩
  · intro q hq
    rw [pk_uLs] at hq
    rcases hF q hq with k | k
    · have := o1 x (by omega) q k
      exact ⟨by omega, by omega⟩
    · have := o1 (x + 1) (by omega) q k
      exact ⟨by omega, by omega⟩
  · intro q hq
    rw [pk_uLs] at hq
    rcases hL q hq with k | k
    · have := o2 x (by omega) q k
      exact ⟨by omega, by omega⟩
    · have := o2 (x + 1) (by omega) q k
      exact ⟨by omega, by omega⟩
  · rw [pk_us]; exact hv
  · rw [pk_us (f := cd), pk_us (f := lf), pk_us (f := rg), pk_uLs, pk_uLs, pk_us (f := em)]
    have hd : ∀ q, (q < Pl ∧ ow q = x + 5) → (q < Pl ∧ ow q = x + 1 + 5) → False := fun q a b => by omega
    have c1 : ∀ p q, (p < Pl ∧ ow p = x + 5) → gk_fo fl p q → (q < Pl ∧ ow q = x + 5) := fun p q a b => ⟨(o5 p a.1 q b).1, (o5 p a.1 q b).2.trans a.2⟩
    have c2 : ∀ p q, (p < Pl ∧ ow p = x + 1 + 5) → gk_fo fl p q → (q < Pl ∧ ow q = x + 1 + 5) := fun p q a b => ⟨(o5 p a.1 q b).1, (o5 p a.1 q b).2.trans a.2⟩
    rcases hc with ⟨e, k1, k2, k3⟩ | ⟨e, k1, k2, k3⟩
    · refine Or.inr (Or.inr (Or.inr (Or.inl ⟨e, s1, s2, ls, ls2, el, er, fun w hw i j => ?_⟩)))
      have hf3 : ∀ p q, gk_fo fl' p q ↔ gk_fo fl p q ∨ (gk_tb (la x) p ∧ gk_tb (fi (x + 1)) q) := by
        intro p q
        refine (hfl p q).trans ?_
        constructor
        · intro z; exact z.elim Or.inl (fun y => Or.inr y.2.2)
        · intro z
          exact z.elim Or.inl (fun y => Or.inr ⟨e, (o2 x (by omega) p y.1).1, y.1, y.2⟩)
      refine (gk_op_then hd (o1 x (by omega)) (o2 x (by omega)) (o1 (x + 1) (by omega)) (o2 (x + 1) (by omega)) c1 c2 hf3 k1 k2 k3).trans ?_
      constructor
      · intro ⟨k, z1, z2, z3, z4⟩; exact ⟨k, z1, z2, (h1 w hw i k).mpr z3, (h2 w hw k j).mpr z4⟩
      · intro ⟨k, z1, z2, z3, z4⟩; exact ⟨k, z1, z2, (h1 w hw i k).mp z3, (h2 w hw k j).mp z4⟩
    · refine Or.inr (Or.inr (Or.inr (Or.inr (Or.inl ⟨e, s1, s2, ls, ls2, el, er, fun w hw i j => ?_⟩))))
      have ef : gk_fo fl' = gk_fo fl := by
        funext p q
        refine propext ((hfl p q).trans ?_)
        constructor
        · intro z; exact z.elim (fun z => z) (fun y => absurd (e.symm.trans y.1) (by decide))
        · intro z; exact Or.inl z
      unfold gk_ax
      rw [ef]
      refine (gk_op_or hd (o1 x (by omega)) (o2 x (by omega)) (o1 (x + 1) (by omega)) (o2 (x + 1) (by omega)) c1 c2 k1 k2 k3).trans ?_
      rw [h1 w hw i j, h2 w hw i j]
      exact Iff.rfl
theorem gk_R_rep (R : gk_R T Pl (x + 1) Ru Sn Tl fl lp fi la em rf rl re ss nx en tx cd ar lf rg sk ro ow La w) (hT : T < 40) (hv : v = 0 ∨ v = 1)
    (hfl : ∀ p q, gk_tb (fl' p) q ↔ gk_tb (fl p) q ∨ (p < Pl ∧ gk_tb (la x) p ∧ gk_tb (fi x) q))
    (hc : (c = 5 ∧ v = 1) ∨ (c = 6 ∧ (¬ v = 0 ↔ ¬ em x = 0))) :
    ∃ ow' La', gk_R (T + 1) Pl (x + 1) Ru Sn Tl fl' lp fi la (upd em x v) rf rl re ss nx en tx (upd cd T c) (upd ar T a) lf (upd rg T (sk x)) (upd sk x (nI T)) ro ow' La' w := by
  obtain ⟨⟨b1, b2, b3, b4, b5⟩, ht, G, H⟩ := R
  obtain ⟨o1, o2, o3, o4, o5, o6⟩ := G.1
  obtain ⟨_, s1, ls, er, h1⟩ := G.2.2.1 x (by omega)
  have hf : ∀ p, p < Pl → ow p < x + 5 → ∀ q, gk_tb (fl' p) q ↔ gk_tb (fl p) q := by
    intro p hp hq q
    rw [hfl p q]
    constructor
    · intro z
      rcases z with z | ⟨_, z, _⟩
      · exact z
      · have := o2 x (by omega) p z
        omega
    · intro z; exact Or.inl z
  have hlp2 : ∀ d, d < 4 → ∀ q, q < Pl → (gk_tb (lp d) q ↔ gk_tb (lp d) q) := fun _ _ _ _ => Iff.rfl
  refine ⟨gk_ow Pl x ow, _, ⟨by omega, by omega, by omega, b4, b5⟩, ht, gk_G_new G (by omega) b4 (Nat.le_refl Pl) (fun _ _ => rfl) (fun _ _ => rfl) ?_ ?_ pk_us ?_ ?_ (fun _ _ => rfl) ?_ hf ?_ hlp2 o6 ?_ ?_ ?_ ?_, gk_TI_new H (Nat.le_refl Pl) (fun r hr q z => (o3 r hr q z).1) o5 hf hlp2⟩
  · intro h hh; exact pk_un (by omega)
  · intro h hh; exact pk_un (by omega)
  · intro t h; exact pk_un (by omega)
  · intro t h; exact pk_un (by omega)
  · intro t h; exact pk_un (by omega)
  · intro p hp z q hq
    rcases (hfl p q).mp hq with k | ⟨_, k1, k2⟩
    · obtain ⟨k1, k2⟩ := o5 p hp q k
      exact ⟨by omega, by omega⟩
    · have := o1 x (by omega) q k2
      exact ⟨by omega, by omega⟩
  · intro q hq
    have := o1 x (by omega) q hq
    exact ⟨by omega, by omega⟩
  · intro q hq
    have := o2 x (by omega) q hq
    exact ⟨by omega, by omega⟩
  · rw [pk_us]; exact hv
  · rw [pk_us (f := cd), pk_us (f := rg), pk_us (f := em)]
    have hf3 : ∀ p q, gk_fo fl' p q ↔ gk_fo fl p q ∨ (gk_tb (la x) p ∧ gk_tb (fi x) q) := by
      intro p q
      refine (hfl p q).trans ?_
      constructor
      · intro z; exact z.elim Or.inl (fun y => Or.inr y.2)
      · intro z
        exact z.elim Or.inl (fun y => Or.inr ⟨(o2 x (by omega) p y.1).1, y.1, y.2⟩)
    rcases hc with ⟨e, ev⟩ | ⟨e, ev⟩
    · refine Or.inr (Or.inr (Or.inr (Or.inr (Or.inr (Or.inl ⟨e, s1, ls, er, fun w hw i j => ?_⟩)))))
      refine (gk_op_star (E := ¬ em x = 0) hf3 (by rw [ev]; decide)).trans ?_
      constructor
      · intro z; exact z.elim Or.inl (fun ⟨k, z1, z2, z3, z4⟩ => Or.inr ⟨k, z1, z2, (h1 w hw i k).mpr z3, z4⟩)
      · intro z; exact z.elim Or.inl (fun ⟨k, z1, z2, z3, z4⟩ => Or.inr ⟨k, z1, z2, (h1 w hw i k).mp z3, z4⟩)
    · refine Or.inr (Or.inr (Or.inr (Or.inr (Or.inr (Or.inr (Or.inl ⟨e, s1, ls, er, fun w hw i j => ?_⟩))))))
      have ee : (¬ v = 0) = (¬ em x = 0) := propext ev
      unfold gk_ax
      rw [ee]
      refine (gk_op_plus hf3).trans ?_
      constructor
      · intro z; exact z.elim (fun z => Or.inl ((h1 w hw i j).mpr z)) (fun ⟨k, z1, z2, z3, z4⟩ => Or.inr ⟨k, z1, z2, (h1 w hw i k).mpr z3, z4⟩)
      · intro z; exact z.elim (fun z => Or.inl ((h1 w hw i j).mp z)) (fun ⟨k, z1, z2, z3, z4⟩ => Or.inr ⟨k, z1, z2, (h1 w hw i k).mp z3, z4⟩)
theorem gk_TI_0 {Pl Ru : Nat} {fl lp rf rl : Nat → Int64} {re : Nat → Int32} {ss : Nat → Int64} {nx en : Nat → Int32} {ow : Nat → Nat} (h : gk_LS (fun r => ¬ re r = 0) Ru 0 (en 0)) (hn : ∀ l, l < 4 → nx l = -1) : gk_TI Pl Ru 1 fl lp rf rl re ss nx en ow := by
  refine ⟨Nat.le_refl 1, by omega, h, fun k a b => by omega, fun k hk l hl => Or.inl ?_⟩
  have e : k = 0 := by omega
  subst e
  rw [show 4 * 0 + l = l by omega, hn l hl]
  decide
theorem gk_R_rule {nx' en' : Nat → Int32} {ss' : Nat → Int64} (R : gk_R T Pl (x + 1) Ru Sn Tl fl lp fi la em rf rl re ss nx en tx cd ar lf rg sk ro ow La w) (hT : T < 40) (hR : Ru < 5)
    (hen : gk_LS (fun r => ¬ upd re Ru (em x) r = 0) (Ru + 1) 0 (en' 0)) (hnx : ∀ l, l < 4 → nx' l = -1) :
    ∃ ow' La', gk_R (T + 1) Pl x (Ru + 1) 1 Tl fl lp fi la em (vp_updL rf Ru (fi x)) (vp_updL rl Ru (la x)) (upd re Ru (em x)) ss' nx' en' tx (upd cd T 7) (upd ar T a) lf (upd rg T (sk x)) sk (upd ro Ru (sk x)) ow' La' w := by
  obtain ⟨⟨b1, b2, b3, b4, b5⟩, ht, ⟨⟨o1, o2, o3, o4, o5, o6⟩, ge, g1, g2⟩, _⟩ := R
  have ey : ∀ q, ow q = x + 5 → (if ow q = x + 5 then Ru else ow q) = Ru := fun q z => if_pos z
  have en : ∀ q, ¬ ow q = x + 5 → (if ow q = x + 5 then Ru else ow q) = ow q := fun q z => if_neg z
  have eL : ∀ t, t < T → gk_La T La (fun _ _ _ => False) t = La t := fun t ht => if_neg (by omega)
  have eT : gk_La T La (fun _ _ _ => False) T = (fun _ _ _ => False) := if_pos rfl
  refine ⟨fun q => if ow q = x + 5 then Ru else ow q, gk_La T La (fun _ _ _ => False), ⟨by omega, by omega, by omega, by omega, b5⟩, ht, ⟨⟨?_, ?_, ?_, ?_, ?_, o6⟩, ?_, ?_, ?_⟩, gk_TI_0 hen hnx⟩
  · intro h hh q hq
    obtain ⟨a, b⟩ := o1 h (by omega) q hq
    exact ⟨a, (en q (by omega)).trans b⟩
  · intro h hh q hq
    obtain ⟨a, b⟩ := o2 h (by omega) q hq
    exact ⟨a, (en q (by omega)).trans b⟩
  · intro r hr q hq
    by_cases z : r = Ru
    · subst z
      rw [pk_uLs] at hq
      obtain ⟨a, b⟩ := o1 x (by omega) q hq
      exact ⟨a, ey q b⟩
    · rw [pk_uLn z] at hq
      obtain ⟨a, b⟩ := o3 r (by omega) q hq
      exact ⟨a, (en q (by omega)).trans b⟩
  · intro r hr q hq
    by_cases z : r = Ru
    · subst z
      rw [pk_uLs] at hq
      obtain ⟨a, b⟩ := o2 x (by omega) q hq
      exact ⟨a, ey q b⟩
    · rw [pk_uLn z] at hq
      obtain ⟨a, b⟩ := o4 r (by omega) q hq
      exact ⟨a, (en q (by omega)).trans b⟩
  · intro p hp q hq
    obtain ⟨a, b⟩ := o5 p hp q hq
    refine ⟨a, ?_⟩
    show (if ow q = x + 5 then Ru else ow q) = (if ow p = x + 5 then Ru else ow p)
    rw [b]
  · intro t ht
    rcases Nat.lt_or_ge t T with z | z
    · rw [eL t z, pk_un (by omega), pk_un (by omega), pk_un (by omega)]
      exact gk_eqn_keep (fun s hs => eL s (by omega)) (ge t z)
    · have : t = T := by omega
      subst this
      rw [eT, pk_us (f := cd)]
      exact Or.inr (Or.inr (Or.inr (Or.inr (Or.inr (Or.inr (Or.inr ⟨rfl, fun _ _ _ _ z => z⟩))))))
  · intro h hh
    obtain ⟨a, s, hs, b, c⟩ := g1 h (by omega)
    exact ⟨a, s, by omega, b, fun w hw i j => by rw [eL s hs]; exact c w hw i j⟩
  · intro r hr
    by_cases z : r = Ru
    · subst z
      rw [pk_us, pk_uLs, pk_uLs, pk_us]
      obtain ⟨a, s, hs, b, c⟩ := g1 x (by omega)
      exact ⟨s, by omega, b, fun w hw i j => by rw [eL s hs]; exact c w hw i j⟩
    · rw [pk_un z, pk_uLn z, pk_uLn z, pk_un z]
      obtain ⟨s, hs, b, c⟩ := g2 r (by omega)
      exact ⟨s, by omega, b, fun w hw i j => by rw [eL s hs]; exact c w hw i j⟩
end
end
section
/-! ===== X: the table ===== -/
theorem xw_ix (k l : Nat) : (4 : Int32) * nI k + nI l = nI (4 * k + l) := by
  rw [show (4 : Int32) = nI 4 from rfl, pk_mul, nI_add]
section
variable {T Pl St Ru Sn Tl : Nat} {wc : Int32} {fl lp fi la : Nat → Int64} {em : Nat → Int32} {rf rl : Nat → Int64} {re : Nat → Int32} {ss : Nat → Int64} {nx en tx ws wl : Nat → Int32}
variable {post : SX → Prop}
theorem xw_et63 (K : ∀ nx' : Nat → Int32, (∀ l, l < 4 → nx' l = -1) → post (nI T, nI Pl, nI St, nI Ru, nI Sn, nI Tl, wc, fl, lp, fi, la, em, rf, rl, re, ss, nx', en, tx, ws, wl)) : ∀ d l, l + d = 4 → ∀ nx : Nat → Int32, (∀ i, i < l → nx i = -1) → wX_emptyTable_63 post (nI T) (nI Pl) (nI St) (nI Ru) (nI Sn) (nI Tl) wc (d + 1) (nI l) fl lp fi la em rf rl re ss nx en tx ws wl := by
  intro d
  induction d with
  | zero => intro l hl nx h; exact pk_le 4 l (fun _ => K nx (fun i hi => h i (by omega))) (fun z => absurd z (by omega))
  | succ d ih =>
    intro l hl nx h
    refine pk_le 4 l (fun z => absurd z (by omega)) (fun _ => And.intro (vp_in_nI (by omega) (by decide)) (nm_r (e' := upd nx l (-1)) (by rw [nI_clamp (by omega)]) (nm_r (nI_1 l) (ih (l + 1) (by omega) _ ?_))))
    intro i hi
    by_cases e : i = l
    · rw [e, pk_us]
    · rw [pk_un e]; exact h i (by omega)
theorem xw_et26 (hRu : Ru ≤ 5) (K : ∀ nx' en' : Nat → Int32, (∀ l, l < 4 → nx' l = -1) → gk_LS (fun r => ¬ re r = 0) Ru 0 (en' 0) → post (nI T, nI Pl, nI St, nI Ru, nI Sn, nI Tl, wc, fl, lp, fi, la, em, rf, rl, re, ss, nx', en', tx, ws, wl)) :
    ∀ r, r ≤ Ru → ∀ en : Nat → Int32, gk_LS (fun r => ¬ re r = 0) Ru r (en 0) → wX_emptyTable_26 post (nI T) (nI Pl) (nI St) (nI Ru) (nI Sn) (nI Tl) wc (r + 1) (nI r - 1) fl lp fi la em rf rl re ss nx en tx ws wl := by
  intro r
  induction r with
  | zero => intro _ en h; exact br_t (by decide) ⟨5, xw_et63 (fun nx' h' => K nx' en h' h) 4 0 rfl nx (fun i hi => absurd hi (Nat.not_lt_zero i))⟩
  | succ r ih =>
    intro hr en h
    rw [nI_pred]
    have hc : (nI r).toNatClampNeg = r := nI_clamp (by omega)
    refine br_f (nI_pos (by omega)) (And.intro (vp_in_nI (by omega) (by decide)) (br_c (fun z => nm_e (nm_r (gk_xm r) (ih (by omega) _ ?_))) (fun z => nm_e (nm_r (gk_xm r) (ih (by omega) _ ?_)))))
    · rw [hc] at z
      rw [pk_us]
      exact gk_LS_n (fun y => y z) h
    · rw [hc] at z
      rw [pk_us]
      exact gk_LS_y (by omega) z
theorem xw_emptyTable (hRu : Ru ≤ 5) (K : ∀ (ss' : Nat → Int64) (nx' en' : Nat → Int32), (∀ l, l < 4 → nx' l = -1) → gk_LS (fun r => ¬ re r = 0) Ru 0 (en' 0) → post (nI T, nI Pl, nI St, nI Ru, nI 1, nI Tl, wc, fl, lp, fi, la, em, rf, rl, re, ss', nx', en', tx, ws, wl)) : wpX_emptyTable post (nI T, nI Pl, nI St, nI Ru, nI Sn, nI Tl, wc, fl, lp, fi, la, em, rf, rl, re, ss, nx, en, tx, ws, wl) := by
  refine nm_e (nm_e (nm_e ⟨Ru + 1, xw_et26 hRu (K _) Ru (Nat.le_refl Ru) _ ?_⟩))
  rw [pk_us]
  exact gk_LS_e (Nat.le_refl Ru)
end
section
variable {T Pl St Ru Sn Tl : Nat} {wc : Int32} {fl lp fi la : Nat → Int64} {em : Nat → Int32} {rf rl : Nat → Int64} {re : Nat → Int32} {ss : Nat → Int64} {nx en tx ws wl : Nat → Int32}
variable {post : Int32 → SX → Prop}
theorem xw_ms82 {m : Nat} (hm : m < 48) (nx0 : Nat → Int32) (K : ∀ nx' : Nat → Int32, (∀ l, l < 4 → nx' (4 * m + l) = -1) → (∀ i, i < 4 * m → nx' i = nx0 i) → post (nI m) (nI T, nI Pl, nI St, nI Ru, nI Sn, nI Tl, wc, fl, lp, fi, la, em, rf, rl, re, ss, nx', en, tx, ws, wl)) :
    ∀ d l, l + d = 4 → ∀ nx : Nat → Int32, (∀ i, i < l → nx (4 * m + i) = -1) → (∀ i, i < 4 * m → nx i = nx0 i) → wX_makeState_82 post (nI m) (nI T) (nI Pl) (nI St) (nI Ru) (nI Sn) (nI Tl) wc (d + 1) (nI l) fl lp fi la em rf rl re ss nx en tx ws wl := by
  intro d
  induction d with
  | zero => intro l hl nx h h'; exact pk_le 4 l (fun _ => K nx (fun i hi => h i (by omega)) h') (fun z => absurd z (by omega))
  | succ d ih =>
    intro l hl nx h h'
    refine pk_le 4 l (fun z => absurd z (by omega)) (fun _ => And.intro (pk_in (4 * m + l) 192 (by omega) (xw_ix m l)) (nm_r (e' := upd nx (4 * m + l) (-1)) (by rw [xw_ix, nI_clamp (by omega)]) (nm_r (nI_1 l) (ih (l + 1) (by omega) _ ?_ ?_))))
    · intro i hi
      by_cases e : i = l
      · rw [e, pk_us]
      · rw [pk_un (by omega)]; exact h i (by omega)
    · intro i hi
      rw [pk_un (by omega)]; exact h' i hi
theorem xw_ms37 {m : Nat} (hm : m < 48) (hRu : Ru ≤ 5) (x : Int64) (en0 : Nat → Int32)
    (K : ∀ nx' en' : Nat → Int32, (∀ l, l < 4 → nx' (4 * m + l) = -1) → (∀ i, i < 4 * m → nx' i = nx i) → gk_LS (fun r => ∃ q, gk_tb x q ∧ gk_tb (rl r) q) Ru 0 (en' m) → (∀ k, k ≠ m → en' k = en0 k) → post (nI m) (nI T, nI Pl, nI St, nI Ru, nI Sn, nI Tl, wc, fl, lp, fi, la, em, rf, rl, re, ss, nx', en', tx, ws, wl)) :
    ∀ r, r ≤ Ru → ∀ en : Nat → Int32, gk_LS (fun r => ∃ q, gk_tb x q ∧ gk_tb (rl r) q) Ru r (en m) → (∀ k, k ≠ m → en k = en0 k) → wX_makeState_37 post x (nI m) (nI T) (nI Pl) (nI St) (nI Ru) (nI Sn) (nI Tl) wc (r + 1) (nI r - 1) fl lp fi la em rf rl re ss nx en tx ws wl := by
  have hd : (nI m).toNatClampNeg = m := nI_clamp (by omega)
  have hv : vp_in (nI m) 48 := vp_in_nI hm (by decide)
  intro r
  induction r with
  | zero =>
    intro _ en h h'
    exact br_t (by decide) ⟨5, xw_ms82 hm nx (fun nx' a b => K nx' en a b h h') 4 0 rfl nx (fun i hi => absurd hi (Nat.not_lt_zero i)) (fun _ _ => rfl)⟩
  | succ r ih =>
    intro hr en h h'
    rw [nI_pred]
    have hc : (nI r).toNatClampNeg = r := nI_clamp (by omega)
    refine br_f (nI_pos (by omega)) (And.intro (vp_in_nI (by omega) (by decide)) (br_c (fun z => And.intro hv (And.intro hv (nm_r (e' := upd en m (en m)) (by rw [hd]) (nm_r (gk_xm r) (ih (by omega) _ ?_ ?_)))))
      (fun z => And.intro hv (nm_r (e' := upd en m (nI r)) (by rw [hd]) (nm_r (gk_xm r) (ih (by omega) _ ?_ ?_))))))
    · rw [hc] at z
      rw [pk_us]
      exact gk_LS_n (gk_andz.mp z) h
    · intro k hk; rw [pk_un hk]; exact h' k hk
    · rw [hc] at z
      rw [pk_us]
      exact gk_LS_y (by omega) (Classical.not_not.mp (fun y => z (gk_andz.mpr y)))
    · intro k hk; rw [pk_un hk]; exact h' k hk
theorem xw_makeState (hSn : Sn < 48) (hRu : Ru ≤ 5) (x : Int64)
    (K : ∀ nx' en' : Nat → Int32, (∀ l, l < 4 → nx' (4 * Sn + l) = -1) → (∀ i, i < 4 * Sn → nx' i = nx i) → gk_LS (fun r => ∃ q, gk_tb x q ∧ gk_tb (rl r) q) Ru 0 (en' Sn) → (∀ k, k ≠ Sn → en' k = en k) → post (nI Sn) (nI T, nI Pl, nI St, nI Ru, nI (Sn+1), nI Tl, wc, fl, lp, fi, la, em, rf, rl, re, vp_updL ss Sn x, nx', en', tx, ws, wl)) :
    wpX_makeState post (nI T, nI Pl, nI St, nI Ru, nI Sn, nI Tl, wc, fl, lp, fi, la, em, rf, rl, re, ss, nx, en, tx, ws, wl) x := by
  have hd : (nI Sn).toNatClampNeg = Sn := nI_clamp (by omega)
  have hv : vp_in (nI Sn) 48 := vp_in_nI hSn (by decide)
  refine nm_r (nI_1 Sn) (And.intro hv (nm_r (e' := vp_updL ss Sn x) (by rw [hd]) (And.intro hv (nm_r (e' := upd en Sn (-1)) (by rw [hd]) (nm_e ⟨Ru + 1, xw_ms37 hSn hRu x en K Ru (Nat.le_refl Ru) _ ?_ ?_⟩)))))
  · rw [pk_us]; exact gk_LS_e (Nat.le_refl Ru)
  · intro k hk; rw [pk_un hk]
end
section
variable {T Pl St Ru Sn Tl : Nat} {wc : Int32} {fl lp fi la : Nat → Int64} {em : Nat → Int32} {rf rl : Nat → Int64} {re : Nat → Int32} {ss : Nat → Int64} {nx en tx ws wl : Nat → Int32}
theorem xw_fs2 {post : Int32 → Prop} (hSn : Sn ≤ 48) (x : Int64) (K0 : (∀ m, 1 ≤ m → m < Sn → ¬ ss m = x) → post (-1)) (K1 : ∀ m, 1 ≤ m → m < Sn → ss m = x → post (nI m)) :
    ∀ d k, k + d = Sn → 1 ≤ k → (∀ m, 1 ≤ m → m < k → ¬ ss m = x) → wX_findState_2 post x (nI T) (nI Pl) (nI St) (nI Ru) (nI Sn) (nI Tl) wc fl lp fi la em rf rl re ss nx en tx ws wl (d + 1) (nI k) := by
  intro d
  induction d with
  | zero => intro k hk h1 h; exact pk_le Sn k (fun _ => K0 (fun m a b => h m a (by omega))) (fun z => absurd z (by omega))
  | succ d ih =>
    intro k hk h1 h
    have hc : (nI k).toNatClampNeg = k := nI_clamp (by omega)
    refine pk_le Sn k (fun z => absurd z (by omega)) (fun _ => And.intro (vp_in_nI (by omega) (by decide)) (br_c (fun z => K1 k h1 (by omega) (by rw [hc] at z; exact z)) (fun z => nm_r (nI_1 k) (ih (k + 1) (by omega) (by omega) ?_))))
    intro m m1 m2
    by_cases e : m = k
    · rw [e]; rw [hc] at z; exact z
    · exact h m m1 (by omega)
theorem xw_findState {post : Int32 → Prop} (hSn : Sn ≤ 48) (h1 : 1 ≤ Sn) (x : Int64) (K0 : (∀ m, 1 ≤ m → m < Sn → ¬ ss m = x) → post (-1)) (K1 : ∀ m, 1 ≤ m → m < Sn → ss m = x → post (nI m)) : wpX_findState post (nI T, nI Pl, nI St, nI Ru, nI Sn, nI Tl, wc, fl, lp, fi, la, em, rf, rl, re, ss, nx, en, tx, ws, wl) x :=
  ⟨Sn - 1 + 1, xw_fs2 hSn x K0 K1 (Sn - 1) 1 (by omega) (Nat.le_refl 1) (fun m a b => absurd b (by omega))⟩
theorem xw_fo5 {post : Int64 → Prop} (hPl : Pl ≤ 40) (x : Int64) (K : ∀ y : Int64, (∀ q, gk_tb y q ↔ ∃ p, p < Pl ∧ gk_tb x p ∧ gk_tb (fl p) q) → post y) :
    ∀ d p, p + d = Pl → ∀ y : Int64, (∀ q, gk_tb y q ↔ ∃ s, s < p ∧ gk_tb x s ∧ gk_tb (fl s) q) → wX_following_5 post x (nI T) (nI Pl) (nI St) (nI Ru) (nI Sn) (nI Tl) wc fl lp fi la em rf rl re ss nx en tx ws wl (d + 1) y (nI p) := by
  intro d
  induction d with
  | zero =>
    intro p hp y h
    have e : p = Pl := by omega
    subst e
    exact pk_le p p (fun _ => K y h) (fun z => absurd z (by omega))
  | succ d ih =>
    intro p hp y h
    have hc : (nI p).toNatClampNeg = p := nI_clamp (by omega)
    refine pk_le Pl p (fun z => absurd z (by omega)) (fun _ => br_c (fun z => nm_e (nm_r (nI_1 p) (ih (p + 1) (by omega) _ ?_))) (fun z => And.intro (vp_in_nI (by omega) (by decide)) (nm_e (nm_r (nI_1 p) (ih (p + 1) (by omega) _ ?_)))))
    · have z' := (gk_sr (by omega) x).mp z
      intro q
      rw [gk_or, h q]
      constructor
      · intro k
        rcases k with ⟨s, k1, k2, k3⟩ | k
        · exact ⟨s, by omega, k2, k3⟩
        · exact absurd k (gk_0 q)
      · intro ⟨s, k1, k2, k3⟩
        refine Or.inl ⟨s, ?_, k2, k3⟩
        have : ¬ s = p := fun e => z' (e ▸ k2)
        omega
    · have z' : gk_tb x p := Classical.not_not.mp (fun y => z ((gk_sr (by omega) x).mpr y))
      rw [hc]
      intro q
      rw [gk_or, h q]
      constructor
      · intro k
        rcases k with ⟨s, k1, k2, k3⟩ | k
        · exact ⟨s, by omega, k2, k3⟩
        · exact ⟨p, by omega, z', k⟩
      · intro ⟨s, k1, k2, k3⟩
        by_cases e : s = p
        · exact Or.inr (e ▸ k3)
        · exact Or.inl ⟨s, by omega, k2, k3⟩
theorem xw_following {post : Int64 → Prop} (hPl : Pl ≤ 40) (x : Int64) (K : ∀ y : Int64, (∀ q, gk_tb y q ↔ ∃ p, p < Pl ∧ gk_tb x p ∧ gk_tb (fl p) q) → post y) : wpX_following post (nI T, nI Pl, nI St, nI Ru, nI Sn, nI Tl, wc, fl, lp, fi, la, em, rf, rl, re, ss, nx, en, tx, ws, wl) x :=
  ⟨Pl + 1, xw_fo5 hPl x K Pl 0 (Nat.zero_add Pl) 0 (fun q => ⟨fun z => absurd z (gk_0 q), fun ⟨s, a, _⟩ => absurd a (Nat.not_lt_zero s)⟩)⟩
theorem xw_af4 {post : Int64 → Prop} (hRu : Ru ≤ 5) (K : ∀ y : Int64, (∀ q, gk_tb y q ↔ ∃ r, r < Ru ∧ gk_tb (rf r) q) → post y) :
    ∀ d r, r + d = Ru → ∀ y : Int64, (∀ q, gk_tb y q ↔ ∃ s, s < r ∧ gk_tb (rf s) q) → wX_allFirst_4 post (nI T) (nI Pl) (nI St) (nI Ru) (nI Sn) (nI Tl) wc fl lp fi la em rf rl re ss nx en tx ws wl (d + 1) y (nI r) := by
  intro d
  induction d with
  | zero =>
    intro p hp y h
    have e : p = Ru := by omega
    subst e
    exact pk_le p p (fun _ => K y h) (fun z => absurd z (by omega))
  | succ d ih =>
    intro p hp y h
    have hc : (nI p).toNatClampNeg = p := nI_clamp (by omega)
    refine pk_le Ru p (fun z => absurd z (by omega)) (fun _ => And.intro (vp_in_nI (by omega) (by decide)) (nm_e (nm_r (nI_1 p) (ih (p + 1) (by omega) _ ?_))))
    rw [hc]
    intro q
    rw [gk_or, h q]
    constructor
    · intro k
      rcases k with ⟨s, k1, k2⟩ | k
      · exact ⟨s, by omega, k2⟩
      · exact ⟨p, by omega, k⟩
    · intro ⟨s, k1, k2⟩
      by_cases e : s = p
      · exact Or.inr (e ▸ k2)
      · exact Or.inl ⟨s, by omega, k2⟩
theorem xw_allFirst {post : Int64 → Prop} (hRu : Ru ≤ 5) (K : ∀ y : Int64, (∀ q, gk_tb y q ↔ ∃ r, r < Ru ∧ gk_tb (rf r) q) → post y) : wpX_allFirst post (nI T, nI Pl, nI St, nI Ru, nI Sn, nI Tl, wc, fl, lp, fi, la, em, rf, rl, re, ss, nx, en, tx, ws, wl) :=
  ⟨Ru + 1, xw_af4 hRu K Ru 0 (Nat.zero_add Ru) 0 (fun q => ⟨fun z => absurd z (gk_0 q), fun ⟨s, a, _⟩ => absurd a (Nat.not_lt_zero s)⟩)⟩
end
section
variable {Pl Ru Sn : Nat} {fl lp rf rl : Nat → Int64} {re : Nat → Int32} {ss : Nat → Int64} {nx en : Nat → Int32} {ow : Nat → Nat}
theorem gk_TI_put {s l t : Nat} (H : gk_TI Pl Ru Sn fl lp rf rl re ss nx en ow) (hl : l < 4) (t1 : 1 ≤ t) (t2 : t < Sn) (h : gk_nxt Pl Ru fl lp rf s (ss s) l (ss t)) : gk_TI Pl Ru Sn fl lp rf rl re ss (upd nx (4 * s + l) (nI t)) en ow := by
  obtain ⟨h1, h2, h3, h4, h5⟩ := H
  refine ⟨h1, h2, h3, h4, fun k hk m hm => ?_⟩
  by_cases e : 4 * k + m = 4 * s + l
  · have e1 : k = s := by omega
    have e2 : m = l := by omega
    subst e1 e2
    rw [pk_us]
    exact Or.inr ⟨t, t1, t2, rfl, h⟩
  · rw [pk_un e]
    exact h5 k hk m hm
theorem gk_TI_add {nx' en' : Nat → Int32} {y : Int64} (H : gk_TI Pl Ru Sn fl lp rf rl re ss nx en ow) (hS : Sn < 48) (hy : ∀ q, gk_tb y q → q < Pl ∧ ow q < 5)
    (a : ∀ l, l < 4 → nx' (4 * Sn + l) = -1) (b : ∀ i, i < 4 * Sn → nx' i = nx i) (c : gk_LS (fun r => ∃ q, gk_tb y q ∧ gk_tb (rl r) q) Ru 0 (en' Sn)) (d : ∀ k, k ≠ Sn → en' k = en k) :
    gk_TI Pl Ru (Sn + 1) fl lp rf rl re (vp_updL ss Sn y) nx' en' ow := by
  obtain ⟨h1, h2, h3, h4, h5⟩ := H
  refine ⟨by omega, by omega, by rw [d 0 (by omega)]; exact h3, ?_, ?_⟩
  · intro k k1 k2
    by_cases e : k = Sn
    · subst e
      rw [pk_uLs]
      exact ⟨c, hy⟩
    · rw [pk_uLn e, d k e]
      exact h4 k k1 (by omega)
  · intro k hk l hl
    by_cases e : k = Sn
    · subst e
      rw [a l hl]
      exact Or.inl (by decide)
    · rw [b (4 * k + l) (by omega), pk_uLn e]
      rcases h5 k (by omega) l hl with z | ⟨t, t1, t2, z1, z2⟩
      · exact Or.inl z
      · exact Or.inr ⟨t, t1, by omega, z1, by rw [pk_uLn (by omega)]; exact z2⟩
end
section
variable {T Pl St Ru Sn Tl : Nat} {wc : Int32} {fl lp fi la : Nat → Int64} {em : Nat → Int32} {rf rl : Nat → Int64} {re : Nat → Int32} {ss : Nat → Int64} {nx en tx ws wl : Nat → Int32}
variable {post : Int32 → SX → Prop} {ow : Nat → Nat}
theorem xw_step45 (hRu : Ru ≤ 5) (H : gk_TI Pl Ru Sn fl lp rf rl re ss nx en ow) {s l : Nat} (hs : s < Sn) (hl : l < 4) (x : Int64)
    (ho : ∀ q, gk_tb x q → q < Pl ∧ ow q < 5) (hx : ∀ q, gk_tb x q ↔ ((s = 0 ∧ ∃ r, r < Ru ∧ gk_tb (rf r) q) ∨ (s ≠ 0 ∧ ∃ p, p < Pl ∧ gk_tb (ss s) p ∧ gk_tb (fl p) q)))
    (K : ∀ (t Sn' : Nat) (ss' : Nat → Int64) (nx' en' : Nat → Int32), gk_TI Pl Ru Sn' fl lp rf rl re ss' nx' en' ow → 1 ≤ t → t < Sn' → gk_nxt Pl Ru fl lp rf s (ss s) l (ss' t) → post (nI t) (nI T, nI Pl, nI St, nI Ru, nI Sn', nI Tl, wc, fl, lp, fi, la, em, rf, rl, re, ss', nx', en', tx, ws, wl)) :
    wX_step_45 post (nI s) (nI l) x (nI T) (nI Pl) (nI St) (nI Ru) (nI Sn) (nI Tl) wc fl lp fi la em rf rl re ss nx en tx ws wl := by
  have h1 := H.1
  have h2 := H.2.1
  refine And.intro (vp_in_nI hl (by decide)) ?_
  show wpX_findState _ (nI T, nI Pl, nI St, nI Ru, nI Sn, nI Tl, wc, fl, lp, fi, la, em, rf, rl, re, ss, nx, en, tx, ws, wl) (x &&& lp (nI l).toNatClampNeg)
  rw [nI_clamp (n := l) (by omega)]
  generalize hy : x &&& lp l = y
  have hb : ∀ q, gk_tb y q ↔ gk_tb x q ∧ gk_tb (lp l) q := fun q => by rw [← hy]; exact gk_and x (lp l) q
  have hn : gk_nxt Pl Ru fl lp rf s (ss s) l y := fun q => by rw [hb q, hx q]
  have hyo : ∀ q, gk_tb y q → q < Pl ∧ ow q < 5 := fun q z => ho q ((hb q).mp z).1
  refine xw_findState h2 h1 y (fun _ => ?_) (fun m m1 m2 em => ?_)
  · refine br_f (by decide) (pk_lt Sn 48 (fun hlt => br_f (by decide) (xw_makeState hlt hRu y (fun nx' en' a b c d => ?_))) (fun _ => xw_emptyTable hRu (fun ss' nx' en' a b => xw_makeState (Sn := 1) (by decide) hRu y (fun nx2 en2 a2 b2 c2 d2 => ?_))))
    · have T1 := gk_TI_add H hlt hyo a b c d
      have hn2 : gk_nxt Pl Ru fl lp rf s (vp_updL ss Sn y s) l (vp_updL ss Sn y Sn) := by
        rw [pk_uLs, pk_uLn (by omega)]
        exact hn
      refine And.intro (pk_in (4 * s + l) 192 (by omega) (xw_ix s l)) (nm_r (e' := upd nx' (4 * s + l) (nI Sn)) (by rw [xw_ix, nI_clamp (by omega)]) (K Sn (Sn + 1) _ _ _ (gk_TI_put T1 hl h1 (by omega) hn2) h1 (by omega) ?_))
      rw [pk_uLs]
      exact hn
    · have T1 : gk_TI Pl Ru 1 fl lp rf rl re ss' nx' en' ow := gk_TI_0 b a
      have T2 := gk_TI_add T1 (by decide) hyo a2 b2 c2 d2
      refine K 1 2 _ _ _ T2 (Nat.le_refl 1) (by omega) ?_
      rw [pk_uLs]
      exact hn
  · exact br_t (nI_pos' (by omega)) (br_t (nI_pos' (by omega)) (And.intro (pk_in (4 * s + l) 192 (by omega) (xw_ix s l)) (nm_r (e' := upd nx (4 * s + l) (nI m)) (by rw [xw_ix, nI_clamp (by omega)]) (K m Sn _ _ _ (gk_TI_put H hl m1 m2 (em ▸ hn)) m1 m2 (em ▸ hn)))))
theorem xw_step (hPl : Pl ≤ 40) (hRu : Ru ≤ 5) (o3 : ∀ r, r < Ru → ∀ q, gk_tb (rf r) q → q < Pl ∧ ow q = r) (o5 : ∀ p, p < Pl → ∀ q, gk_tb (fl p) q → q < Pl ∧ ow q = ow p)
    (H : gk_TI Pl Ru Sn fl lp rf rl re ss nx en ow) {s l : Nat} (hs : s < Sn) (hl : l < 4)
    (K : ∀ (t Sn' : Nat) (ss' : Nat → Int64) (nx' en' : Nat → Int32), gk_TI Pl Ru Sn' fl lp rf rl re ss' nx' en' ow → 1 ≤ t → t < Sn' → gk_nxt Pl Ru fl lp rf s (ss s) l (ss' t) → post (nI t) (nI T, nI Pl, nI St, nI Ru, nI Sn', nI Tl, wc, fl, lp, fi, la, em, rf, rl, re, ss', nx', en', tx, ws, wl)) :
    wpX_step post (nI T, nI Pl, nI St, nI Ru, nI Sn, nI Tl, wc, fl, lp, fi, la, em, rf, rl, re, ss, nx, en, tx, ws, wl) (nI s) (nI l) := by
  have h2 := H.2.1
  have hv : vp_in ((4 : Int32) * nI s + nI l) 192 := pk_in (4 * s + l) 192 (by omega) (xw_ix s l)
  have hc : ((4 : Int32) * nI s + nI l).toNatClampNeg = 4 * s + l := by rw [xw_ix, nI_clamp (by omega)]
  have hd : (nI s).toNatClampNeg = s := nI_clamp (by omega)
  refine And.intro hv (br_c (fun z => pk_eq s 0 (fun e => xw_allFirst hRu (fun y hy => ?_)) (fun e => And.intro (vp_in_nI (by omega) (by decide)) ?_)) (fun z => And.intro hv ?_))
  · refine xw_step45 hRu H hs hl y (fun q k => ?_) (fun q => ?_) K
    · obtain ⟨r, hr, k⟩ := (hy q).mp k
      have := o3 r hr q k
      omega
    · rw [hy q]
      exact ⟨fun k => Or.inl ⟨e, k⟩, fun k => k.elim (fun k => k.2) (fun k => absurd e k.1)⟩
  · rw [hd]
    refine xw_following hPl (ss s) (fun y hy => ?_)
    refine xw_step45 hRu H hs hl y (fun q k => ?_) (fun q => ?_) K
    · obtain ⟨p, hp, k1, k2⟩ := (hy q).mp k
      have := o5 p hp q k2
      have := (H.2.2.2.1 s (by omega) hs).2 p k1
      omega
    · rw [hy q]
      exact ⟨fun k => Or.inr ⟨e, k⟩, fun k => k.elim (fun k => absurd k.1 e) (fun k => k.2)⟩
  · rw [hc] at z
    rw [hc]
    rcases H.2.2.2.2 s hs l hl with y | ⟨t, t1, t2, e, y⟩
    · exact absurd y z
    · rw [e]
      exact K t Sn ss nx en H t1 t2 y
end
end
section
/-! ===== X: tokens ===== -/
section
variable {T Pl St Ru Sn Tl : Nat} {wc : Int32} {fl lp fi la : Nat → Int64} {em : Nat → Int32} {rf rl : Nat → Int64} {re : Nat → Int32} {ss : Nat → Int64} {nx en tx ws wl : Nat → Int32}
variable {post : SX → Prop}
theorem xw_push (hSt : St < 40) {p0 p1 : Int64} {p2 v : Int32} (hv : vp_nar .boolean p2 = v) (K : post (nI T, nI Pl, nI (St+1), nI Ru, nI Sn, nI Tl, wc, fl, lp, vp_updL fi St p0, vp_updL la St p1, upd em St v, rf, rl, re, ss, nx, en, tx, ws, wl)) : wpX_push post (nI T, nI Pl, nI St, nI Ru, nI Sn, nI Tl, wc, fl, lp, fi, la, em, rf, rl, re, ss, nx, en, tx, ws, wl) p0 p1 p2 := by
  have hc : (nI St).toNatClampNeg = St := nI_clamp (by omega)
  have hi : vp_in (nI St) 40 := vp_in_nI hSt (by decide)
  exact And.intro hi (nm_r (e' := vp_updL fi St p0) (by rw [hc]) (And.intro hi (nm_r (e' := vp_updL la St p1) (by rw [hc]) (And.intro hi (nm_r (e' := upd em St v) (by rw [hc, hv]) (nm_r (nI_1 St) K))))))
theorem xw_pp24 {x1 : Int32} {X : Nat → Prop} {p : Nat} (hX : ∀ l, l < 4 → ((x1.toUInt32 >>> ((nI l).toUInt32 &&& Int32.toUInt32 31)).toInt32 &&& 1 = 0 ↔ ¬ X l)) (hp : p < 40) (hSt : St < 40) (lp0 : Nat → Int64)
    (K : ∀ lp' : Nat → Int64, (∀ d, d < 4 → ∀ q, gk_tb (lp' d) q ↔ gk_tb (lp0 d) q ∨ (X d ∧ q = p)) →
      post (nI T, nI Pl, nI (St+1), nI Ru, nI Sn, nI Tl, wc, fl, lp', vp_updL fi St ((1 : Int64) <<< ((nI p).toInt64 &&& 63)), vp_updL la St ((1 : Int64) <<< ((nI p).toInt64 &&& 63)), upd em St 0, rf, rl, re, ss, nx, en, tx, ws, wl)) :
    ∀ d l, l + d = 4 → ∀ lp : Nat → Int64, (∀ d, d < 4 → ∀ q, gk_tb (lp d) q ↔ gk_tb (lp0 d) q ∨ (d < l ∧ X d ∧ q = p)) → wX_pushPlace_24 post x1 (nI p) (nI T) (nI Pl) (nI St) (nI Ru) (nI Sn) (nI Tl) wc (d + 1) (nI l) fl lp fi la em rf rl re ss nx en tx ws wl := by
  intro d
  induction d with
  | zero =>
    intro l hl lp h
    refine pk_le 4 l (fun _ => xw_push hSt rfl (K lp (fun d hd q => ?_))) (fun z => absurd z (by omega))
    rw [h d hd q]
    exact ⟨fun z => z.elim Or.inl (fun z => Or.inr z.2), fun z => z.elim Or.inl (fun z => Or.inr ⟨by omega, z⟩)⟩
  | succ d ih =>
    intro l hl lp h
    have hc : (nI l).toNatClampNeg = l := nI_clamp (by omega)
    have hi : vp_in (nI l) 4 := vp_in_nI (by omega) (by decide)
    refine pk_le 4 l (fun z => absurd z (by omega)) (fun _ => And.intro hi (br_c (fun z => And.intro hi (nm_r (e' := vp_updL lp l (lp l ||| 0)) (by rw [hc]) (nm_r (nI_1 l) (ih (l + 1) (by omega) _ ?_))))
      (fun z => And.intro hi (nm_r (e' := vp_updL lp l (lp l ||| ((1 : Int64) <<< ((nI p).toInt64 &&& 63)))) (by rw [hc]) (nm_r (nI_1 l) (ih (l + 1) (by omega) _ ?_))))))
    · have z' := (hX l (by omega)).mp z
      intro d hd q
      by_cases e : d = l
      · subst e
        rw [pk_uLs, gk_or, h d hd q]
        constructor
        · intro k
          rcases k with (k | k) | k
          · exact Or.inl k
          · omega
          · exact absurd k (gk_0 q)
        · intro k
          rcases k with k | k
          · exact Or.inl (Or.inl k)
          · exact absurd k.2.1 z'
      · rw [pk_uLn e, h d hd q]
        exact ⟨fun k => k.elim Or.inl (fun k => Or.inr ⟨by omega, k.2⟩), fun k => k.elim Or.inl (fun k => Or.inr ⟨by omega, k.2⟩)⟩
    · have z' : X l := Classical.not_not.mp (fun y => z ((hX l (by omega)).mpr y))
      intro d hd q
      by_cases e : d = l
      · subst e
        rw [pk_uLs, gk_or, h d hd q, gk_sh (by omega)]
        constructor
        · intro k
          rcases k with (k | k) | k
          · exact Or.inl k
          · omega
          · exact Or.inr ⟨by omega, z', k⟩
        · intro k
          rcases k with k | k
          · exact Or.inl (Or.inl k)
          · exact Or.inr k.2.2
      · rw [pk_uLn e, h d hd q]
        exact ⟨fun k => k.elim Or.inl (fun k => Or.inr ⟨by omega, k.2⟩), fun k => k.elim Or.inl (fun k => Or.inr ⟨by omega, k.2⟩)⟩
theorem xw_pushPlace {x1 : Int32} {X : Nat → Prop} (hX : ∀ l, l < 4 → ((x1.toUInt32 >>> ((nI l).toUInt32 &&& Int32.toUInt32 31)).toInt32 &&& 1 = 0 ↔ ¬ X l)) (hPl : Pl < 40) (hSt : St < 40)
    (K : ∀ (lp' : Nat → Int64) (vb : Int64), (∀ q, gk_tb vb q ↔ q = Pl) → (∀ d, d < 4 → ∀ q, gk_tb (lp' d) q ↔ gk_tb (lp d) q ∨ (X d ∧ q = Pl)) →
      post (nI T, nI (Pl+1), nI (St+1), nI Ru, nI Sn, nI Tl, wc, vp_updL fl Pl 0, lp', vp_updL fi St vb, vp_updL la St vb, upd em St 0, rf, rl, re, ss, nx, en, tx, ws, wl)) :
    wpX_pushPlace post (nI T, nI Pl, nI St, nI Ru, nI Sn, nI Tl, wc, fl, lp, fi, la, em, rf, rl, re, ss, nx, en, tx, ws, wl) x1 := by
  have hc : (nI Pl).toNatClampNeg = Pl := nI_clamp (by omega)
  refine nm_r (nI_1 Pl) (And.intro (vp_in_nI hPl (by decide)) (nm_r (e' := vp_updL fl Pl 0) (by rw [hc]) ⟨5, xw_pp24 hX hPl hSt lp (fun lp' h => K lp' _ (fun q => gk_sh (by omega) q) h) 4 0 rfl lp (fun d hd q => ?_)⟩))
  exact ⟨fun z => Or.inl z, fun z => z.elim (fun z => z) (fun z => absurd z.1 (Nat.not_lt_zero d))⟩
theorem xw_ld3 {x1 x3 : Int64} (hPl : Pl ≤ 40) (fl0 : Nat → Int64) (K : ∀ fl' : Nat → Int64, (∀ s q, gk_tb (fl' s) q ↔ gk_tb (fl0 s) q ∨ (s < Pl ∧ gk_tb x1 s ∧ gk_tb x3 q)) → post (nI T, nI Pl, nI St, nI Ru, nI Sn, nI Tl, wc, fl', lp, fi, la, em, rf, rl, re, ss, nx, en, tx, ws, wl)) :
    ∀ d p, p + d = Pl → ∀ fl : Nat → Int64, (∀ s q, gk_tb (fl s) q ↔ gk_tb (fl0 s) q ∨ (s < p ∧ gk_tb x1 s ∧ gk_tb x3 q)) → wX_lead_3 post x1 x3 (nI T) (nI Pl) (nI St) (nI Ru) (nI Sn) (nI Tl) wc (d + 1) (nI p) fl lp fi la em rf rl re ss nx en tx ws wl := by
  intro d
  induction d with
  | zero =>
    intro p hp fl h
    have e : p = Pl := by omega
    subst e
    exact pk_le p p (fun _ => K fl h) (fun z => absurd z (by omega))
  | succ d ih =>
    intro p hp fl h
    have hc : (nI p).toNatClampNeg = p := nI_clamp (by omega)
    have hi : vp_in (nI p) 40 := vp_in_nI (by omega) (by decide)
    refine pk_le Pl p (fun z => absurd z (by omega)) (fun _ => br_c (fun z => nm_r (nI_1 p) (ih (p + 1) (by omega) fl ?_)) (fun z => And.intro hi (And.intro hi (nm_r (e' := vp_updL fl p (fl p ||| x3)) (by rw [hc]) (nm_r (nI_1 p) (ih (p + 1) (by omega) _ ?_))))))
    · have z' := (gk_sr (by omega) x1).mp z
      intro s q
      rw [h s q]
      constructor
      · intro k; exact k.elim Or.inl (fun k => Or.inr ⟨by omega, k.2⟩)
      · intro k
        rcases k with k | k
        · exact Or.inl k
        · have : ¬ s = p := fun e => z' (e ▸ k.2.1)
          exact Or.inr ⟨by omega, k.2⟩
    · have z' : gk_tb x1 p := Classical.not_not.mp (fun y => z ((gk_sr (by omega) x1).mpr y))
      intro s q
      by_cases e : s = p
      · subst e
        rw [pk_uLs, gk_or, h s q]
        constructor
        · intro k
          rcases k with (k | k) | k
          · exact Or.inl k
          · omega
          · exact Or.inr ⟨by omega, z', k⟩
        · intro k
          rcases k with k | k
          · exact Or.inl (Or.inl k)
          · exact Or.inr k.2.2
      · rw [pk_uLn e, h s q]
        exact ⟨fun k => k.elim Or.inl (fun k => Or.inr ⟨by omega, k.2⟩), fun k => k.elim Or.inl (fun k => Or.inr ⟨by omega, k.2⟩)⟩
theorem xw_lead {x1 x3 : Int64} (hPl : Pl ≤ 40) (K : ∀ fl' : Nat → Int64, (∀ s q, gk_tb (fl' s) q ↔ gk_tb (fl s) q ∨ (s < Pl ∧ gk_tb x1 s ∧ gk_tb x3 q)) → post (nI T, nI Pl, nI St, nI Ru, nI Sn, nI Tl, wc, fl', lp, fi, la, em, rf, rl, re, ss, nx, en, tx, ws, wl)) : wpX_lead post (nI T, nI Pl, nI St, nI Ru, nI Sn, nI Tl, wc, fl, lp, fi, la, em, rf, rl, re, ss, nx, en, tx, ws, wl) x1 x3 :=
  ⟨Pl + 1, xw_ld3 hPl fl K Pl 0 (Nat.zero_add Pl) fl (fun s q => ⟨fun z => Or.inl z, fun z => z.elim (fun z => z) (fun z => absurd z.1 (Nat.not_lt_zero s))⟩)⟩
theorem xw_j111 {x : Nat} (hx : x + 1 < 40) (z0 : Int64) (K : ∀ v : Int32, (v = 0 ∨ v = 1) → (¬ v = 0 ↔ ¬ em x = 0 ∧ ¬ em (x + 1) = 0) → post (nI T, nI Pl, nI St, nI Ru, nI Sn, nI Tl, wc, fl, lp, fi, vp_updL la x z0, upd em x v, rf, rl, re, ss, nx, en, tx, ws, wl)) :
    wX_joinTwo_111 post (nI x) (nI (x + 1)) z0 (nI x) (nI T) (nI Pl) (nI St) (nI Ru) (nI Sn) (nI Tl) wc fl lp fi la em rf rl re ss nx en tx ws wl := by
  have hc : (nI x).toNatClampNeg = x := nI_clamp (by omega)
  have hc' : (nI (x + 1)).toNatClampNeg = x + 1 := nI_clamp (by omega)
  have hi : vp_in (nI x) 40 := vp_in_nI (by omega) (by decide)
  have hi' : vp_in (nI (x + 1)) 40 := vp_in_nI (by omega) (by decide)
  refine And.intro hi (nm_r (e' := vp_updL la x z0) (by rw [hc]) (And.intro hi (br_c (fun z => And.intro hi (nm_r (e' := upd em x 0) (by rw [hc]; rfl) (K 0 (Or.inl rfl) ?_)))
    (fun z => And.intro hi' (br_c (fun y => And.intro hi (nm_r (e' := upd em x 0) (by rw [hc]; rfl) (K 0 (Or.inl rfl) ?_))) (fun y => And.intro hi (nm_r (e' := upd em x 1) (by rw [hc]; rfl) (K 1 (Or.inr rfl) ?_))))))))
  · rw [hc] at z
    exact ⟨fun k => absurd rfl k, fun k => absurd z k.1⟩
  · rw [hc'] at y
    exact ⟨fun k => absurd rfl k, fun k => absurd y k.2⟩
  · rw [hc] at z
    rw [hc'] at y
    exact ⟨fun _ => ⟨z, y⟩, fun _ => by decide⟩
theorem xw_j74 {x : Nat} (hx : x + 1 < 40) (z0 : Int64)
    (K : ∀ (vl : Int64) (v : Int32), (∀ q, gk_tb vl q ↔ gk_tb (la (x + 1)) q ∨ (¬ em (x + 1) = 0 ∧ gk_tb (la x) q)) → (v = 0 ∨ v = 1) → (¬ v = 0 ↔ ¬ em x = 0 ∧ ¬ em (x + 1) = 0) → post (nI T, nI Pl, nI St, nI Ru, nI Sn, nI Tl, wc, fl, lp, vp_updL fi x z0, vp_updL la x vl, upd em x v, rf, rl, re, ss, nx, en, tx, ws, wl)) :
    wX_joinTwo_74 post (nI x) (nI (x + 1)) z0 (nI x) (nI T) (nI Pl) (nI St) (nI Ru) (nI Sn) (nI Tl) wc fl lp fi la em rf rl re ss nx en tx ws wl := by
  have hc : (nI x).toNatClampNeg = x := nI_clamp (by omega)
  have hc' : (nI (x + 1)).toNatClampNeg = x + 1 := nI_clamp (by omega)
  have hi : vp_in (nI x) 40 := vp_in_nI (by omega) (by decide)
  have hi' : vp_in (nI (x + 1)) 40 := vp_in_nI (by omega) (by decide)
  refine And.intro hi (nm_r (e' := vp_updL fi x z0) (by rw [hc]) (And.intro hi' (br_c (fun z => And.intro hi' (xw_j111 hx _ (fun v h1 h2 => K _ v ?_ h1 h2)))
    (fun z => And.intro hi (And.intro hi' (xw_j111 hx _ (fun v h1 h2 => K _ v ?_ h1 h2)))))))
  · rw [hc'] at z
    intro q
    rw [hc']
    exact ⟨Or.inl, fun k => k.elim (fun k => k) (fun k => absurd z k.1)⟩
  · rw [hc'] at z
    intro q
    rw [hc', hc, gk_or]
    exact ⟨fun k => k.elim (fun k => Or.inr ⟨z, k⟩) Or.inl, fun k => k.elim Or.inr (fun k => Or.inl k.2)⟩
theorem xw_joinTwo {x : Nat} (hx : x + 1 < 40) (hPl : Pl ≤ 40)
    (K : ∀ (fl' : Nat → Int64) (vf vl : Int64) (v : Int32), (∀ s q, gk_tb (fl' s) q ↔ gk_tb (fl s) q ∨ (s < Pl ∧ gk_tb (la x) s ∧ gk_tb (fi (x + 1)) q)) →
      (∀ q, gk_tb vf q ↔ gk_tb (fi x) q ∨ (¬ em x = 0 ∧ gk_tb (fi (x + 1)) q)) → (∀ q, gk_tb vl q ↔ gk_tb (la (x + 1)) q ∨ (¬ em (x + 1) = 0 ∧ gk_tb (la x) q)) → (v = 0 ∨ v = 1) → (¬ v = 0 ↔ ¬ em x = 0 ∧ ¬ em (x + 1) = 0) →
      post (nI T, nI Pl, nI (x+1), nI Ru, nI Sn, nI Tl, wc, fl', lp, vp_updL fi x vf, vp_updL la x vl, upd em x v, rf, rl, re, ss, nx, en, tx, ws, wl)) :
    wpX_joinTwo post (nI T, nI Pl, nI (x+2), nI Ru, nI Sn, nI Tl, wc, fl, lp, fi, la, em, rf, rl, re, ss, nx, en, tx, ws, wl) := by
  have hc : (nI x).toNatClampNeg = x := nI_clamp (by omega)
  have hc' : (nI (x + 1)).toNatClampNeg = x + 1 := nI_clamp (by omega)
  have hi : vp_in (nI x) 40 := vp_in_nI (by omega) (by decide)
  have hi' : vp_in (nI (x + 1)) 40 := vp_in_nI (by omega) (by decide)
  refine nm_r (nI_pred (x + 1)) (nm_r (nI_pred x) (And.intro hi (And.intro hi' ?_)))
  rw [hc, hc']
  refine xw_lead hPl (fun fl' hfl => And.intro hi (br_c (fun z => And.intro hi (xw_j74 hx _ (fun vl v h1 h2 h3 => K fl' _ vl v hfl ?_ h1 h2 h3))) (fun z => And.intro hi (And.intro hi' (xw_j74 hx _ (fun vl v h1 h2 h3 => K fl' _ vl v hfl ?_ h1 h2 h3))))))
  · intro q
    exact ⟨Or.inl, fun k => k.elim (fun k => k) (fun k => absurd z k.1)⟩
  · intro q
    rw [gk_or]
    exact ⟨fun k => k.elim Or.inl (fun k => Or.inr ⟨z, k⟩), fun k => k.elim Or.inl (fun k => Or.inr k.2)⟩
theorem xw_makeRule {x : Nat} (hx : x < 40) (hRu : Ru < 5) (he : em x = 0 ∨ em x = 1)
    (K : ∀ (ss' : Nat → Int64) (nx' en' : Nat → Int32), (∀ l, l < 4 → nx' l = -1) → gk_LS (fun r => ¬ upd re Ru (em x) r = 0) (Ru + 1) 0 (en' 0) →
      post (nI T, nI Pl, nI x, nI (Ru+1), nI 1, nI Tl, wc, fl, lp, fi, la, em, vp_updL rf Ru (fi x), vp_updL rl Ru (la x), upd re Ru (em x), ss', nx', en', tx, ws, wl)) :
    wpX_makeRule post (nI T, nI Pl, nI (x+1), nI Ru, nI Sn, nI Tl, wc, fl, lp, fi, la, em, rf, rl, re, ss, nx, en, tx, ws, wl) := by
  have hc : (nI x).toNatClampNeg = x := nI_clamp (by omega)
  have hr : (nI Ru).toNatClampNeg = Ru := nI_clamp (by omega)
  have hi : vp_in (nI x) 40 := vp_in_nI (by omega) (by decide)
  have hj : vp_in (nI Ru) 5 := vp_in_nI (by omega) (by decide)
  have hn : vp_nar .boolean (em x) = em x := by
    rcases he with e | e <;> rw [e] <;> rfl
  exact nm_r (nI_pred x) (And.intro hi (And.intro hj (nm_r (e' := vp_updL rf Ru (fi x)) (by rw [hc, hr]) (And.intro hi (And.intro hj (nm_r (e' := vp_updL rl Ru (la x)) (by rw [hc, hr])
    (And.intro hi (And.intro hj (nm_r (e' := upd re Ru (em x)) (by rw [hc, hr, hn]) (nm_r (nI_1 Ru) (xw_emptyTable (by omega) K)))))))))))
end
section
variable {T Pl St Ru Sn Tl : Nat} {wc : Int32} {fl lp fi la : Nat → Int64} {em : Nat → Int32} {rf rl : Nat → Int64} {re : Nat → Int32} {ss : Nat → Int64} {nx en tx ws wl : Nat → Int32}
variable {post : Int32 → SX → Prop} {x2 : Int32}
theorem xw_t0 {a : Nat} (ha : a < 4) (ea : x2 &&& 3 = nI a) (hPl : Pl < 40) (hSt : St < 40)
    (K : ∀ (lp' : Nat → Int64) (vb : Int64), (∀ q, gk_tb vb q ↔ q = Pl) → (∀ d, d < 4 → ∀ q, gk_tb (lp' d) q ↔ gk_tb (lp d) q ∨ (d = a ∧ q = Pl)) →
      post (nI (St + 1)) (nI (T+1), nI (Pl+1), nI (St+1), nI Ru, nI Sn, nI Tl, wc, vp_updL fl Pl 0, lp', vp_updL fi St vb, vp_updL la St vb, upd em St 0, rf, rl, re, ss, nx, en, tx, ws, wl)) :
    wX_token_63 post 0 x2 (nI T) (nI Pl) (nI St) (nI Ru) (nI Sn) (nI Tl) wc fl lp fi la em rf rl re ss nx en tx ws wl :=
  nm_r (nI_1 T) (br_t rfl (xw_pushPlace (X := fun d => d = a) (fun l hl => by rw [ea]; exact gk_l1 a ha l hl) hPl hSt K))
theorem xw_t1 (hPl : Pl < 40) (hSt : St < 40)
    (K : ∀ (lp' : Nat → Int64) (vb : Int64), (∀ q, gk_tb vb q ↔ q = Pl) → (∀ d, d < 4 → ∀ q, gk_tb (lp' d) q ↔ gk_tb (lp d) q ∨ (True ∧ q = Pl)) →
      post (nI (St + 1)) (nI (T+1), nI (Pl+1), nI (St+1), nI Ru, nI Sn, nI Tl, wc, vp_updL fl Pl 0, lp', vp_updL fi St vb, vp_updL la St vb, upd em St 0, rf, rl, re, ss, nx, en, tx, ws, wl)) :
    wX_token_63 post 1 x2 (nI T) (nI Pl) (nI St) (nI Ru) (nI Sn) (nI Tl) wc fl lp fi la em rf rl re ss nx en tx ws wl :=
  nm_r (nI_1 T) (br_f (by decide) (br_t rfl (xw_pushPlace (X := fun _ => True) (fun l hl => ⟨fun z => absurd z (gk_l15 l hl), fun z => absurd trivial z⟩) hPl hSt K)))
theorem xw_t2 (hSt : St < 40) (K : post (nI (St + 1)) (nI (T+1), nI Pl, nI (St+1), nI Ru, nI Sn, nI Tl, wc, fl, lp, vp_updL fi St 0, vp_updL la St 0, upd em St 1, rf, rl, re, ss, nx, en, tx, ws, wl)) : wX_token_63 post 2 x2 (nI T) (nI Pl) (nI St) (nI Ru) (nI Sn) (nI Tl) wc fl lp fi la em rf rl re ss nx en tx ws wl :=
  nm_r (nI_1 T) (br_f (by decide) (br_f (by decide) (br_t rfl (xw_push hSt rfl K))))
theorem xw_t3 {x : Nat} (hx : x + 1 < 40) (hPl : Pl ≤ 40)
    (K : ∀ (fl' : Nat → Int64) (vf vl : Int64) (v : Int32), (∀ s q, gk_tb (fl' s) q ↔ gk_tb (fl s) q ∨ (s < Pl ∧ gk_tb (la x) s ∧ gk_tb (fi (x + 1)) q)) →
      (∀ q, gk_tb vf q ↔ gk_tb (fi x) q ∨ (¬ em x = 0 ∧ gk_tb (fi (x + 1)) q)) → (∀ q, gk_tb vl q ↔ gk_tb (la (x + 1)) q ∨ (¬ em (x + 1) = 0 ∧ gk_tb (la x) q)) → (v = 0 ∨ v = 1) → (¬ v = 0 ↔ ¬ em x = 0 ∧ ¬ em (x + 1) = 0) →
      post (nI (x + 1)) (nI (T+1), nI Pl, nI (x+1), nI Ru, nI Sn, nI Tl, wc, fl', lp, vp_updL fi x vf, vp_updL la x vl, upd em x v, rf, rl, re, ss, nx, en, tx, ws, wl)) :
    wX_token_63 post 3 x2 (nI T) (nI Pl) (nI (x+2)) (nI Ru) (nI Sn) (nI Tl) wc fl lp fi la em rf rl re ss nx en tx ws wl :=
  nm_r (nI_1 T) (br_f (by decide) (br_f (by decide) (br_f (by decide) (br_t rfl (xw_joinTwo hx hPl K)))))
theorem xw_t4 {x : Nat} (hx : x + 1 < 40)
    (K : ∀ v : Int32, (v = 0 ∨ v = 1) → (¬ v = 0 ↔ ¬ em x = 0 ∨ ¬ em (x + 1) = 0) → post (nI (x + 1)) (nI (T+1), nI Pl, nI (x+1), nI Ru, nI Sn, nI Tl, wc, fl, lp, vp_updL fi x (fi x ||| fi (x + 1)), vp_updL la x (la x ||| la (x + 1)), upd em x v, rf, rl, re, ss, nx, en, tx, ws, wl)) :
    wX_token_63 post 4 x2 (nI T) (nI Pl) (nI (x+2)) (nI Ru) (nI Sn) (nI Tl) wc fl lp fi la em rf rl re ss nx en tx ws wl := by
  have hc : (nI x).toNatClampNeg = x := nI_clamp (by omega)
  have hc' : (nI x + 1).toNatClampNeg = x + 1 := by rw [nI_1]; exact nI_clamp (by omega)
  have hi : vp_in (nI x) 40 := vp_in_nI (by omega) (by decide)
  have hi' : vp_in (nI x + 1) 40 := by rw [nI_1]; exact vp_in_nI (by omega) (by decide)
  refine nm_r (nI_1 T) (br_f (by decide) (br_f (by decide) (br_f (by decide) (br_f (by decide) (br_t rfl (nm_r (nI_pred (x + 1)) (nm_r (nI_pred x) ?_)))))))
  refine And.intro hi (And.intro hi' (And.intro hi (nm_r (e' := vp_updL fi x (fi x ||| fi (x + 1))) (by rw [hc, hc']) ?_)))
  refine And.intro hi (And.intro hi' (And.intro hi (nm_r (e' := vp_updL la x (la x ||| la (x + 1))) (by rw [hc, hc']) (And.intro hi (br_c (fun z => And.intro hi' (br_c (fun y => And.intro hi ?_) (fun y => And.intro hi ?_))) (fun z => And.intro hi ?_))))))
  · refine nm_r (e' := upd em x 0) (by rw [hc]; rfl) (K 0 (Or.inl rfl) ?_)
    rw [hc] at z
    rw [hc'] at y
    exact ⟨fun k => absurd rfl k, fun k => k.elim (fun k => absurd z k) (fun k => absurd y k)⟩
  · refine nm_r (e' := upd em x 1) (by rw [hc]; rfl) (K 1 (Or.inr rfl) ?_)
    rw [hc'] at y
    exact ⟨fun _ => Or.inr y, fun _ => by decide⟩
  · refine nm_r (e' := upd em x 1) (by rw [hc]; rfl) (K 1 (Or.inr rfl) ?_)
    rw [hc] at z
    exact ⟨fun _ => Or.inl z, fun _ => by decide⟩
theorem xw_t56 {x : Nat} {c : Int32} (hc56 : c = 5 ∨ c = 6) (hx : x < 40) (hPl : Pl ≤ 40)
    (K : ∀ (fl' : Nat → Int64) (v : Int32), (∀ s q, gk_tb (fl' s) q ↔ gk_tb (fl s) q ∨ (s < Pl ∧ gk_tb (la x) s ∧ gk_tb (fi x) q)) → (v = 0 ∨ v = 1) → ((c = 5 ∧ v = 1) ∨ (c = 6 ∧ (¬ v = 0 ↔ ¬ em x = 0))) →
      post (nI (x + 1)) (nI (T+1), nI Pl, nI (x+1), nI Ru, nI Sn, nI Tl, wc, fl', lp, fi, la, upd em x v, rf, rl, re, ss, nx, en, tx, ws, wl)) :
    wX_token_63 post c x2 (nI T) (nI Pl) (nI (x+1)) (nI Ru) (nI Sn) (nI Tl) wc fl lp fi la em rf rl re ss nx en tx ws wl := by
  have hc : (nI x).toNatClampNeg = x := nI_clamp (by omega)
  have hi : vp_in (nI x) 40 := vp_in_nI (by omega) (by decide)
  have n0 : ¬ c = 0 := by rcases hc56 with e | e <;> rw [e] <;> decide
  have n1 : ¬ c = 1 := by rcases hc56 with e | e <;> rw [e] <;> decide
  have n2 : ¬ c = 2 := by rcases hc56 with e | e <;> rw [e] <;> decide
  have n3 : ¬ c = 3 := by rcases hc56 with e | e <;> rw [e] <;> decide
  have n4 : ¬ c = 4 := by rcases hc56 with e | e <;> rw [e] <;> decide
  have n7 : ¬ c = 7 := by rcases hc56 with e | e <;> rw [e] <;> decide
  refine nm_r (nI_1 T) (br_f n0 (br_f n1 (br_f n2 (br_f n3 (br_f n4 (br_f n7 (nm_r (nI_pred x) (And.intro hi (And.intro hi ?_)))))))))
  rw [hc]
  refine xw_lead hPl (fun fl' hfl => And.intro hi (br_c (fun z => br_c (fun y => And.intro hi ?_) (fun y => And.intro hi ?_)) (fun z => And.intro hi ?_)))
  · exact nm_r (e' := upd em x 1) rfl (K fl' 1 hfl (Or.inr rfl) (Or.inl ⟨y, rfl⟩))
  · exact nm_r (e' := upd em x 0) rfl (K fl' 0 hfl (Or.inl rfl) (Or.inr ⟨hc56.elim (fun k => absurd k y) (fun k => k), ⟨fun k => absurd rfl k, fun k => absurd z k⟩⟩))
  · exact nm_r (e' := upd em x 1) rfl (K fl' 1 hfl (Or.inr rfl) (hc56.elim (fun k => Or.inl ⟨k, rfl⟩) (fun k => Or.inr ⟨k, ⟨fun _ => z, fun _ => by decide⟩⟩)))
theorem xw_t7 {x : Nat} (hx : x < 40) (hRu : Ru < 5) (he : em x = 0 ∨ em x = 1)
    (K : ∀ (ss' : Nat → Int64) (nx' en' : Nat → Int32), (∀ l, l < 4 → nx' l = -1) → gk_LS (fun r => ¬ upd re Ru (em x) r = 0) (Ru + 1) 0 (en' 0) →
      post (nI x) (nI (T+1), nI Pl, nI x, nI (Ru+1), nI 1, nI Tl, wc, fl, lp, fi, la, em, vp_updL rf Ru (fi x), vp_updL rl Ru (la x), upd re Ru (em x), ss', nx', en', tx, ws, wl)) :
    wX_token_63 post 7 x2 (nI T) (nI Pl) (nI (x+1)) (nI Ru) (nI Sn) (nI Tl) wc fl lp fi la em rf rl re ss nx en tx ws wl :=
  nm_r (nI_1 T) (br_f (by decide) (br_f (by decide) (br_f (by decide) (br_f (by decide) (br_f (by decide) (br_t rfl (xw_makeRule hx hRu he K)))))))
theorem xw_token {c tk : Nat} (hc : c ≤ 7) (htk : (c < 3 ∧ tk = 0) ∨ (3 ≤ c ∧ c < 5 ∧ tk = 2) ∨ (5 ≤ c ∧ tk = 1)) (hb : T ≤ 40 ∧ St ≤ T ∧ Ru ≤ 5)
    (K0 : (St < tk ∨ 40 ≤ T ∨ (c = 7 ∧ 5 ≤ Ru)) → post (-1) (nI T, nI Pl, nI St, nI Ru, nI Sn, nI Tl, wc, fl, lp, fi, la, em, rf, rl, re, ss, nx, en, tx, ws, wl)) (K1 : tk ≤ St → T < 40 → (c = 7 → Ru < 5) → wX_token_63 post (nI c) x2 (nI T) (nI Pl) (nI St) (nI Ru) (nI Sn) (nI Tl) wc fl lp fi la em rf rl re ss nx en tx ws wl) : wpX_token post (nI T, nI Pl, nI St, nI Ru, nI Sn, nI Tl, wc, fl, lp, fi, la, em, rf, rl, re, ss, nx, en, tx, ws, wl) (nI c) x2 := by
  have k : ∀ z0 : Int32, z0 = nI tk → wX_token_19 post (nI c) x2 z0 (nI T) (nI Pl) (nI St) (nI Ru) (nI Sn) (nI Tl) wc fl lp fi la em rf rl re ss nx en tx ws wl := by
    intro z0 ez
    subst ez
    exact br_f (nI_pos (by omega)) (pk_lt 7 c (fun z => absurd z (by omega)) (fun _ => pk_lt St tk (fun z => K0 (Or.inl z)) (fun h1 => pk_le 40 T (fun z => K0 (Or.inr (Or.inl z))) (fun h2 =>
      pk_eq c 7 (fun e => pk_lt Ru 5 (fun h3 => K1 h1 h2 (fun _ => h3)) (fun h3 => K0 (Or.inr (Or.inr ⟨e, h3⟩)))) (fun e => K1 h1 h2 (fun z => absurd z e))))))
  exact pk_le 3 c (fun h3 => pk_le 5 c (fun h5 => k 1 (by rw [show tk = 1 by omega]; rfl)) (fun h5 => k 2 (by rw [show tk = 2 by omega]; rfl))) (fun h3 => k 0 (by rw [show tk = 0 by omega]; rfl))
end
end
section
/-! ===== Y: tokens ===== -/
theorem yw_takes {post : Int32 → Prop} {c tk : Nat} (hc : c ≤ 7) (htk : (c < 3 ∧ tk = 0) ∨ (3 ≤ c ∧ c < 5 ∧ tk = 2) ∨ (5 ≤ c ∧ tk = 1)) (K : post (nI tk)) : wpY_takes post (nI c) := by
  refine pk_lt 2 c (fun h => pk_lt 4 c (fun h' => ?_) (fun h' => ?_)) (fun h => ?_)
  · have e : tk = 1 := by omega
    subst e
    exact K
  · have e : tk = 2 := by omega
    subst e
    exact K
  · have e : tk = 0 := by omega
    subst e
    exact K
section
variable {T St Ru Tl sz : Nat} {cd ar lf rg sk ro tx rr ft : Nat → Int32}
variable {post : Int32 → SY → Prop} {s0 x2 : Int32} {c tk : Nat}
theorem yw_token (hc : c ≤ 7) (htk : (c < 3 ∧ tk = 0) ∨ (3 ≤ c ∧ c < 5 ∧ tk = 2) ∨ (5 ≤ c ∧ tk = 1)) (hb : T ≤ 40 ∧ St ≤ T ∧ Ru ≤ 5)
    (K0 : (St < tk ∨ 40 ≤ T ∨ (c = 7 ∧ 5 ≤ Ru)) → post (-1) (nI T, nI St, nI Ru, nI Tl, s0, cd, ar, lf, rg, sk, ro, tx, rr, ft, 38440)) (K1 : tk ≤ St → T < 40 → (c = 7 → Ru < 5) → wY_token_46 post (nI c) x2 (nI T) (nI St) (nI Ru) (nI Tl) s0 cd ar lf rg sk ro tx rr ft 38440) : wpY_token post (nI T, nI St, nI Ru, nI Tl, s0, cd, ar, lf, rg, sk, ro, tx, rr, ft, 38440) (nI c) x2 :=
  br_f (nI_pos (by omega)) (pk_lt 7 c (fun z => absurd z (by omega)) (fun _ => yw_takes hc htk (pk_lt St tk (fun z => K0 (Or.inl z)) (fun h1 => pk_eq T 40 (fun z => K0 (Or.inr (Or.inl (by omega)))) (fun h2 =>
    pk_eq c 7 (fun e => pk_eq Ru 5 (fun h3 => K0 (Or.inr (Or.inr ⟨e, by omega⟩))) (fun h3 => K1 h1 (by omega) (fun _ => by omega))) (fun e => K1 h1 (by omega) (fun z => absurd z e)))))))
theorem yw_123 {h : Nat} (hc : c ≤ 7) (htk : (c < 3 ∧ tk = 0) ∨ (3 ≤ c ∧ c < 5 ∧ tk = 2) ∨ (5 ≤ c ∧ tk = 1)) (h7 : c ≠ 7) (hh : h < 40) (K : post (nI (h + 1)) (nI (T+1), nI (h+1), nI Ru, nI Tl, s0, cd, ar, lf, rg, upd sk h (nI T), ro, tx, rr, ft, 38440)) : wY_token_123 post (nI c) (nI T) (nI (h+tk)) (nI Ru) (nI Tl) s0 cd ar lf rg sk ro tx rr ft 38440 := by
  refine yw_takes hc htk (nm_r (e' := nI h) (by rw [pk_sub (by omega), Nat.add_sub_cancel]) (pk_eq c 7 (fun z => absurd z h7) (fun _ => And.intro (vp_in_nI hh (by decide)) (nm_r (e' := upd sk h (nI T)) (by rw [nI_clamp (by omega)]) (nm_r (nI_1 h) (nm_r (nI_1 T) K))))))
theorem yw_tok0 (hc : c < 3) (hT : T < 40) (hSt : St < 40) (K : post (nI (St + 1)) (nI (T+1), nI (St+1), nI Ru, nI Tl, s0, upd cd T (nI c), upd ar T (x2 &&& 3), lf, rg, upd sk St (nI T), ro, tx, rr, ft, 38440)) : wY_token_46 post (nI c) x2 (nI T) (nI St) (nI Ru) (nI Tl) s0 cd ar lf rg sk ro tx rr ft 38440 := by
  have hi : vp_in (nI T) 40 := vp_in_nI hT (by decide)
  have hcl : (nI T).toNatClampNeg = T := nI_clamp (by omega)
  have htk : (c < 3 ∧ 0 = 0) ∨ (3 ≤ c ∧ c < 5 ∧ 0 = 2) ∨ (5 ≤ c ∧ 0 = 1) := Or.inl ⟨hc, rfl⟩
  exact And.intro hi (nm_r (e' := upd cd T (nI c)) (by rw [hcl]) (And.intro hi (nm_r (e' := upd ar T (x2 &&& 3)) (by rw [hcl])
    (yw_takes (tk := 0) (by omega) htk (br_t (by decide) (yw_takes (tk := 0) (by omega) htk (br_f (by decide) (yw_123 (tk := 0) (by omega) htk (by omega) hSt K))))))))
theorem yw_tok2 {x : Nat} (hc : c = 3 ∨ c = 4) (hT : T < 40) (hx : x + 1 < 40) (K : post (nI (x + 1)) (nI (T+1), nI (x+1), nI Ru, nI Tl, s0, upd cd T (nI c), upd ar T (x2 &&& 3), upd lf T (sk x), upd rg T (sk (x + 1)), upd sk x (nI T), ro, tx, rr, ft, 38440)) : wY_token_46 post (nI c) x2 (nI T) (nI (x+2)) (nI Ru) (nI Tl) s0 cd ar lf rg sk ro tx rr ft 38440 := by
  have hi : vp_in (nI T) 40 := vp_in_nI hT (by decide)
  have hcl : (nI T).toNatClampNeg = T := nI_clamp (by omega)
  have e1 : nI (x + 2) - 1 = nI (x + 1) := nI_pred (x + 1)
  have e2 : nI (x + 2) - 2 = nI x := pk_sub (a := x + 2) (b := 2) (by omega)
  have c1 : (nI (x + 2) - 1).toNatClampNeg = x + 1 := by rw [e1, nI_clamp (by omega)]
  have c2 : (nI (x + 2) - 2).toNatClampNeg = x := by rw [e2, nI_clamp (by omega)]
  have i1 : vp_in (nI (x + 2) - 1) 40 := by rw [e1]; exact vp_in_nI hx (by decide)
  have i2 : vp_in (nI (x + 2) - 2) 40 := by rw [e2]; exact vp_in_nI (by omega) (by decide)
  have htk : (c < 3 ∧ 2 = 0) ∨ (3 ≤ c ∧ c < 5 ∧ 2 = 2) ∨ (5 ≤ c ∧ 2 = 1) := Or.inr (Or.inl ⟨by omega, by omega, rfl⟩)
  refine And.intro hi (nm_r (e' := upd cd T (nI c)) (by rw [hcl]) (And.intro hi (nm_r (e' := upd ar T (x2 &&& 3)) (by rw [hcl]) (yw_takes (tk := 2) (by omega) htk (br_f (by decide) (And.intro i1 (And.intro hi (nm_r (e' := upd rg T (sk (x + 1))) (by rw [hcl, c1]) ?_))))))))
  exact yw_takes (tk := 2) (by omega) htk (br_t rfl (And.intro i2 (And.intro hi (nm_r (e' := upd lf T (sk x)) (by rw [hcl, c2]) (yw_123 (tk := 2) (by omega) htk (by omega) (by omega) K)))))
theorem yw_tok1 {x : Nat} (hc : c = 5 ∨ c = 6) (hT : T < 40) (hx : x < 40) (K : post (nI (x + 1)) (nI (T+1), nI (x+1), nI Ru, nI Tl, s0, upd cd T (nI c), upd ar T (x2 &&& 3), lf, upd rg T (sk x), upd sk x (nI T), ro, tx, rr, ft, 38440)) : wY_token_46 post (nI c) x2 (nI T) (nI (x+1)) (nI Ru) (nI Tl) s0 cd ar lf rg sk ro tx rr ft 38440 := by
  have hi : vp_in (nI T) 40 := vp_in_nI hT (by decide)
  have hcl : (nI T).toNatClampNeg = T := nI_clamp (by omega)
  have e1 : nI (x + 1) - 1 = nI x := nI_pred x
  have c1 : (nI (x + 1) - 1).toNatClampNeg = x := by rw [e1, nI_clamp (by omega)]
  have i1 : vp_in (nI (x + 1) - 1) 40 := by rw [e1]; exact vp_in_nI hx (by decide)
  have htk : (c < 3 ∧ 1 = 0) ∨ (3 ≤ c ∧ c < 5 ∧ 1 = 2) ∨ (5 ≤ c ∧ 1 = 1) := Or.inr (Or.inr ⟨by omega, rfl⟩)
  refine And.intro hi (nm_r (e' := upd cd T (nI c)) (by rw [hcl]) (And.intro hi (nm_r (e' := upd ar T (x2 &&& 3)) (by rw [hcl]) (yw_takes (tk := 1) (by omega) htk (br_f (by decide) (And.intro i1 (And.intro hi (nm_r (e' := upd rg T (sk x)) (by rw [hcl, c1]) ?_))))))))
  exact yw_takes (tk := 1) (by omega) htk (br_f (by decide) (yw_123 (tk := 1) (by omega) htk (by omega) hx K))
theorem yw_tok7 {x : Nat} (hT : T < 40) (hx : x < 40) (hRu : Ru < 5) (K : post (nI x) (nI (T+1), nI x, nI (Ru+1), nI Tl, s0, upd cd T 7, upd ar T (x2 &&& 3), lf, upd rg T (sk x), sk, upd ro Ru (sk x), tx, rr, ft, 38440)) : wY_token_46 post 7 x2 (nI T) (nI (x+1)) (nI Ru) (nI Tl) s0 cd ar lf rg sk ro tx rr ft 38440 := by
  have hi : vp_in (nI T) 40 := vp_in_nI hT (by decide)
  have hcl : (nI T).toNatClampNeg = T := nI_clamp (by omega)
  have hr : (nI Ru).toNatClampNeg = Ru := nI_clamp (by omega)
  have e1 : nI (x + 1) - 1 = nI x := nI_pred x
  have c1 : (nI (x + 1) - 1).toNatClampNeg = x := by rw [e1, nI_clamp (by omega)]
  have i1 : vp_in (nI (x + 1) - 1) 40 := by rw [e1]; exact vp_in_nI hx (by decide)
  have htk : (7 < 3 ∧ 1 = 0) ∨ (3 ≤ 7 ∧ 7 < 5 ∧ 1 = 2) ∨ (5 ≤ 7 ∧ 1 = 1) := Or.inr (Or.inr ⟨by omega, rfl⟩)
  refine And.intro hi (nm_r (e' := upd cd T 7) (by rw [hcl]) (And.intro hi (nm_r (e' := upd ar T (x2 &&& 3)) (by rw [hcl]) (yw_takes (c := 7) (tk := 1) (by omega) htk (br_f (by decide) (And.intro i1 (And.intro hi (nm_r (e' := upd rg T (sk x)) (by rw [hcl, c1]) ?_))))))))
  refine yw_takes (c := 7) (tk := 1) (by omega) htk (br_f (by decide) (yw_takes (c := 7) (tk := 1) (by omega) htk (nm_r (e' := nI x) e1 (br_t rfl (And.intro hi (And.intro (vp_in_nI hRu (by decide)) (nm_r (e' := upd ro Ru (sk x)) (by rw [hcl, hr, pk_us]) (nm_r (nI_1 Ru) (nm_r (nI_1 T) K)))))))))
end
end
section
/-! ===== Y: the pieces ===== -/
theorem yw_fx (t i j : Nat) : ((961 : Int32) * nI t + 31 * nI i) + nI j = nI (961 * t + 31 * i + j) := by
  rw [show (961 : Int32) = nI 961 from rfl, show (31 : Int32) = nI 31 from rfl, pk_mul, pk_mul, nI_add, nI_add]
theorem gk_lex {S a b j k : Nat} (h : a < b) (hj : j < S) : a * S + j < b * S + k := by
  have h1 := Nat.mul_le_mul_right S (show a + 1 ≤ b by omega)
  rw [Nat.succ_mul] at h1
  omega
theorem gk_lexu {S a b j k : Nat} (hj : j < S) (hk : k < S) (h : a * S + j = b * S + k) : a = b ∧ j = k := by
  rcases Nat.lt_trichotomy a b with z | z | z
  · have := gk_lex (k := k) z hj
    omega
  · subst z
    exact ⟨rfl, by omega⟩
  · have := gk_lex (k := j) z hk
    omega
section
variable {T St Ru Tl sz : Nat} {cd ar lf rg sk ro tx rr ft : Nat → Int32}
variable {s0 : Int32}
theorem yw_is {post : Int32 → Prop} {P : Prop} {t i j : Nat} (ht : t < 40) (hi : i ≤ 30) (hj : j ≤ 30) (hb : gk_b2 P (ft (961 * t + 31 * i + j))) (K1 : P → post 1) (K0 : ¬ P → post 0) : wpY_is post (nI T, nI St, nI Ru, nI Tl, s0, cd, ar, lf, rg, sk, ro, tx, rr, ft, 38440) (nI t) (nI i) (nI j) := by
  have hc : (((961 : Int32) * nI t + 31 * nI i) + nI j).toNatClampNeg = 961 * t + 31 * i + j := by rw [yw_fx, nI_clamp (by omega)]
  refine And.intro (pk_in (961 * t + 31 * i + j) 38440 (by omega) (yw_fx t i j)) ?_
  rw [hc]
  rcases hb with ⟨p, e⟩ | ⟨p, e⟩
  · rw [e]
    exact ⟨rfl, K1 p⟩
  · rw [e]
    exact ⟨rfl, K0 p⟩
theorem yw_both6 {post : Int32 → Prop} {A B : Nat → Prop} {a b i j lo : Nat} (ha : a < 40) (hb : b < 40) (hij : i ≤ lo) (hj : j ≤ 30)
    (hA : ∀ k, lo ≤ k → k ≤ j → gk_b2 (A k) (ft (961 * a + 31 * i + k))) (hB : ∀ k, lo ≤ k → k ≤ j → gk_b2 (B k) (ft (961 * b + 31 * k + j)))
    (K1 : (∃ k, lo ≤ k ∧ k ≤ j ∧ A k ∧ B k) → post 1) (K0 : (¬ ∃ k, lo ≤ k ∧ k ≤ j ∧ A k ∧ B k) → post 0) :
    ∀ d k, k + d = j + 1 → lo ≤ k → (∀ m, lo ≤ m → m < k → ¬ (A m ∧ B m)) → wY_both_6 post (nI a) (nI b) (nI i) (nI j) (nI T) (nI St) (nI Ru) (nI Tl) s0 cd ar lf rg sk ro tx rr ft 38440 (d + 1) (nI k) := by
  intro d
  induction d with
  | zero =>
    intro k hk h1 h
    exact pk_lt j k (fun _ => K0 (fun ⟨m, m1, m2, m3⟩ => h m m1 (by omega) m3)) (fun z => absurd z (by omega))
  | succ d ih =>
    intro k hk h1 h
    have step : ¬ (A k ∧ B k) → wY_both_6 post (nI a) (nI b) (nI i) (nI j) (nI T) (nI St) (nI Ru) (nI Tl) s0 cd ar lf rg sk ro tx rr ft 38440 (d + 1) (nI (k + 1)) := by
      intro n
      refine ih (k + 1) (by omega) (by omega) (fun m m1 m2 => ?_)
      by_cases e : m = k
      · rw [e]; exact n
      · exact h m m1 (by omega)
    exact pk_lt j k (fun z => absurd z (by omega)) (fun _ => yw_is ha (by omega) (by omega) (hA k h1 (by omega))
      (fun p => br_f (by decide) (yw_is hb (by omega) hj (hB k h1 (by omega)) (fun q => br_f (by decide) (K1 ⟨k, h1, by omega, p, q⟩)) (fun q => br_t rfl (nm_r (nI_1 k) (step (fun z => q z.2))))))
      (fun p => br_t rfl (nm_r (nI_1 k) (step (fun z => p z.1)))))
theorem yw_both {post : Int32 → Prop} {A B : Nat → Prop} {a b i j m : Nat} (ha : a < 40) (hb : b < 40) (hm : i + m ≤ j + 1) (hj : j ≤ 30)
    (hA : ∀ k, i + m ≤ k → k ≤ j → gk_b2 (A k) (ft (961 * a + 31 * i + k))) (hB : ∀ k, i + m ≤ k → k ≤ j → gk_b2 (B k) (ft (961 * b + 31 * k + j)))
    (K1 : (∃ k, i + m ≤ k ∧ k ≤ j ∧ A k ∧ B k) → post 1) (K0 : (¬ ∃ k, i + m ≤ k ∧ k ≤ j ∧ A k ∧ B k) → post 0) :
    wpY_both post (nI T, nI St, nI Ru, nI Tl, s0, cd, ar, lf, rg, sk, ro, tx, rr, ft, 38440) (nI a) (nI b) (nI i) (nI j) (nI m) :=
  nm_r (nI_add i m) ⟨j + 1 - (i + m) + 1, yw_both6 (lo := i + m) ha hb (by omega) hj hA hB K1 K0 (j + 1 - (i + m)) (i + m) (by omega) (Nat.le_refl _) (fun k k1 k2 => absurd k2 (by omega))⟩
theorem yw_matched {post : Int32 → Prop} {La : Nat → (Nat → Nat) → Nat → Nat → Prop} {w : Nat → Nat} {t i j : Nat} (ht : t < 40) (hsz : sz ≤ 30) (hij : i ≤ j) (hj : j ≤ sz) (hw : gk_val w)
    (hr : ∀ k, k < sz → rr k = nI (w k)) (E : gk_eqn La (La t) t (cd t) (ar t) (lf t) (rg t))
    (hl : ∀ s, s < t → ∀ i j, i ≤ j → j ≤ sz → gk_b2 (La s w i j) (ft (961 * s + 31 * i + j)))
    (hs : ∀ k, i < k → k ≤ j → gk_b2 (La t w k j) (ft (961 * t + 31 * k + j)))
    (K1 : La t w i j → post 1) (K0 : ¬ La t w i j → post 0) : wpY_matched post (nI T, nI St, nI Ru, nI Tl, nI sz, cd, ar, lf, rg, sk, ro, tx, rr, ft, 38440) (nI t) (nI i) (nI j) := by
  have hi : vp_in (nI t) 40 := vp_in_nI ht (by decide)
  have hc : (nI t).toNatClampNeg = t := nI_clamp (by omega)
  have hci : (nI i).toNatClampNeg = i := nI_clamp (by omega)
  have ej : nI i + 1 = nI (i + 1) := nI_1 i
  rcases E with ⟨e, b, hb, ea, E⟩ | ⟨e, E⟩ | ⟨e, E⟩ | ⟨e, x, y, hx, hy, el, er, E⟩ | ⟨e, x, y, hx, hy, el, er, E⟩ | ⟨e, y, hy, er, E⟩ | ⟨e, y, hy, er, E⟩ | ⟨e, E⟩
  · have E := E w hw i j
    refine And.intro hi (nm_r (e' := (0 : Int32)) (by rw [hc, e]) (And.intro hi (nm_e (br_t rfl (pk_eq j (i + 1) (fun z => And.intro (vp_in_nI (by omega) (by decide)) (And.intro hi (br_c (fun y => K1 ?_) (fun y => K0 ?_)))) (fun z => K0 (fun k => z (E.mp k).1)) rfl ej)))))
    · rw [hc, hci, hr i (by omega), ea, nI_eq (by have := hw i; omega) (by omega)] at y
      exact E.mpr ⟨z, y⟩
    · rw [hc, hci, hr i (by omega), ea, nI_eq (by have := hw i; omega) (by omega)] at y
      exact fun k => y (E.mp k).2
  · have E := E w hw i j
    exact And.intro hi (nm_r (e' := (1 : Int32)) (by rw [hc, e]) (And.intro hi (nm_e (br_f (by decide) (br_t rfl (pk_eq j (i + 1) (fun z => K1 (E.mpr z)) (fun z => K0 (fun k => z (E.mp k))) rfl ej))))))
  · have E := E w hw i j
    exact And.intro hi (nm_r (e' := (2 : Int32)) (by rw [hc, e]) (And.intro hi (nm_e (br_f (by decide) (br_f (by decide) (br_t rfl (pk_eq i j (fun z => K1 (E.mpr z)) (fun z => K0 (fun k => z (E.mp k))))))))))
  · have E := E w hw i j
    refine And.intro hi (nm_r (e' := (3 : Int32)) (by rw [hc, e]) (And.intro hi (nm_r (e' := nI y) (by rw [hc, er]) (br_f (by decide) (br_f (by decide) (br_f (by decide) (br_t rfl (And.intro hi ?_))))))))
    rw [hc, el]
    refine yw_both (m := 0) (A := fun k => La x w i k) (B := fun k => La y w k j) (by omega) (by omega) (by omega) (by omega) (fun k k1 k2 => hl x hx i k (by omega) (by omega)) (fun k k1 k2 => hl y hy k j (by omega) hj) (fun h => And.intro rfl (K1 ?_)) (fun h => And.intro rfl (K0 ?_))
    · exact E.mpr h
    · exact fun k => h (E.mp k)
  · have E := E w hw i j
    refine And.intro hi (nm_r (e' := (4 : Int32)) (by rw [hc, e]) (And.intro hi (nm_r (e' := nI y) (by rw [hc, er]) (br_f (by decide) (br_f (by decide) (br_f (by decide) (br_f (by decide) (br_t rfl (And.intro hi ?_)))))))))
    rw [hc, el]
    exact yw_is (by omega) (by omega) (by omega) (hl x hx i j hij hj) (fun p => br_f (by decide) (K1 (E.mpr (Or.inl p))))
      (fun p => br_t rfl (yw_is (by omega) (by omega) (by omega) (hl y hy i j hij hj) (fun q => br_f (by decide) (K1 (E.mpr (Or.inr q)))) (fun q => br_t rfl (K0 (fun k => (E.mp k).elim p q)))))
  · have E := E w hw i j
    refine And.intro hi (nm_r (e' := (5 : Int32)) (by rw [hc, e]) (And.intro hi (nm_r (e' := nI y) (by rw [hc, er]) (br_f (by decide) (br_f (by decide) (br_f (by decide) (br_f (by decide) (br_f (by decide) (br_f (by decide) ?_)))))))))
    refine yw_both (m := 1) (A := fun k => La y w i k) (B := fun k => La t w k j) (by omega) (by omega) (by omega) (by omega) (fun k k1 k2 => hl y hy i k (by omega) (by omega)) (fun k k1 k2 => hs k (by omega) k2) (fun h => br_t rfl (pk_eq i j (fun z => K1 (E.mpr (Or.inl z))) (fun z => br_f (by decide) (K1 ?_)))) (fun h => br_t rfl (pk_eq i j (fun z => K1 (E.mpr (Or.inl z))) (fun z => br_t rfl (K0 ?_))))
    · exact E.mpr (Or.inr h)
    · exact fun k => (E.mp k).elim z h
  · have E := E w hw i j
    refine And.intro hi (nm_r (e' := (6 : Int32)) (by rw [hc, e]) (And.intro hi (nm_r (e' := nI y) (by rw [hc, er]) (br_f (by decide) (br_f (by decide) (br_f (by decide) (br_f (by decide) (br_f (by decide) (br_f (by decide) ?_)))))))))
    refine yw_both (m := 1) (A := fun k => La y w i k) (B := fun k => La t w k j) (by omega) (by omega) (by omega) (by omega) (fun k k1 k2 => hl y hy i k (by omega) (by omega)) (fun k k1 k2 => hs k (by omega) k2)
      (fun h => br_f (by decide) (yw_is (by omega) (by omega) (by omega) (hl y hy i j hij hj) (fun p => br_f (by decide) (K1 (E.mpr (Or.inl p)))) (fun p => br_t rfl (br_f (by decide) (K1 ?_)))))
      (fun h => br_f (by decide) (yw_is (by omega) (by omega) (by omega) (hl y hy i j hij hj) (fun p => br_f (by decide) (K1 (E.mpr (Or.inl p)))) (fun p => br_t rfl (br_t rfl (K0 ?_)))))
    · exact E.mpr (Or.inr h)
    · exact fun k => (E.mp k).elim p h
  · have E := E w hw i j
    exact And.intro hi (nm_r (e' := (7 : Int32)) (by rw [hc, e]) (And.intro hi (nm_e (br_f (by decide) (br_f (by decide) (br_f (by decide) (br_f (by decide) (br_f (by decide) (br_t rfl (K0 E))))))))))
theorem yw_w12 {post : SY → Prop} {J2 : Int32 → (Nat → Int32) → (Nat → Int32) → (Nat → Int32) → (Nat → Int32) → (Nat → Int32) → (Nat → Int32) → (Nat → Int32) → (Nat → Int32) → (Nat → Int32) → Prop}
    {La : Nat → (Nat → Nat) → Nat → Nat → Prop} {w : Nat → Nat} {t : Nat} (ht : t < 40) (hsz : sz ≤ 30) (hw : gk_val w)
    (hr : ∀ k, k < sz → rr k = nI (w k)) (E : gk_eqn La (La t) t (cd t) (ar t) (lf t) (rg t))
    (K : ∀ ft' : Nat → Int32, (∀ s, s < t + 1 → ∀ i j, i ≤ j → j ≤ sz → gk_b2 (La s w i j) (ft' (961 * s + 31 * i + j))) → J2 (nI (t + 1)) cd ar lf rg sk ro tx rr ft') :
    ∀ d p, p + d = (sz + 1) * (sz + 1) → ∀ ft : Nat → Int32, (∀ s, s < t → ∀ i j, i ≤ j → j ≤ sz → gk_b2 (La s w i j) (ft (961 * s + 31 * i + j))) →
      (∀ i j, i ≤ j → j ≤ sz → (sz - i) * (sz + 1) + j < p → gk_b2 (La t w i j) (ft (961 * t + 31 * i + j))) → wY_work_12 post J2 (nI t) (nI T) (nI St) (nI Ru) (nI Tl) (nI sz) 38440 (d + 1) (nI p) cd ar lf rg sk ro tx rr ft := by
  have hN : (sz + 1) * (sz + 1) ≤ 31 * 31 := Nat.mul_le_mul (by omega) (by omega)
  have e1 : nI sz + 1 = nI (sz + 1) := nI_1 sz
  have eN : (nI sz + 1) * (nI sz + 1) = nI ((sz + 1) * (sz + 1)) := by rw [e1, pk_mul]
  have n0 : ¬ nI sz + 1 = 0 := by rw [e1]; exact nI_ne0 (by omega) (by omega)
  intro d
  induction d with
  | zero =>
    intro p hp ft h1 h2
    refine pk_le ((sz + 1) * (sz + 1)) p (fun _ => nm_r (nI_1 t) (K ft (fun s hs i j hij hj => ?_))) (fun z => absurd z (by omega)) eN rfl (by omega) (by omega)
    rcases Nat.lt_or_ge s t with z | z
    · exact h1 s z i j hij hj
    · have es : s = t := by omega
      subst es
      refine h2 i j hij hj ?_
      have := gk_lex (S := sz + 1) (a := sz - i) (b := sz + 1) (j := j) (k := 0) (by omega) (by omega)
      omega
  | succ d ih =>
    intro p hp ft h1 h2
    have hq : p / (sz + 1) < sz + 1 := Nat.div_lt_of_lt_mul (by omega)
    have hm : p % (sz + 1) < sz + 1 := Nat.mod_lt _ (by omega)
    have hpq : p / (sz + 1) * (sz + 1) + p % (sz + 1) = p := Nat.div_add_mod' p (sz + 1)
    have eq : nI sz - nI p / (nI sz + 1) = nI (sz - p / (sz + 1)) := by rw [e1, pk_div (by omega) (by omega) (by omega), pk_sub (by omega)]
    have em : nI p - nI p / (nI sz + 1) * (nI sz + 1) = nI (p % (sz + 1)) := by rw [e1, pk_rem (by omega) (by omega) (by omega)]
    generalize p / (sz + 1) = q at hq hpq eq
    generalize p % (sz + 1) = j at hm hpq em
    obtain ⟨i, hi⟩ : ∃ i, i = sz - q := ⟨_, rfl⟩
    rw [← hi] at eq
    have hx : vp_in (((961 : Int32) * nI t + 31 * nI i) + nI j) 38440 := pk_in (961 * t + 31 * i + j) 38440 (by omega) (yw_fx t i j)
    have hc : (((961 : Int32) * nI t + 31 * nI i) + nI j).toNatClampNeg = 961 * t + 31 * i + j := by rw [yw_fx, nI_clamp (by omega)]
    have key : ∀ v : Int32, (i ≤ j → gk_b2 (La t w i j) v) → wY_work_12 post J2 (nI t) (nI T) (nI St) (nI Ru) (nI Tl) (nI sz) 38440 (d + 1) (nI (p + 1)) cd ar lf rg sk ro tx rr (upd ft (961 * t + 31 * i + j) v) := by
      intro v hv
      refine ih (p + 1) (by omega) _ (fun s hs i' j' k1 k2 => ?_) (fun i' j' k1 k2 k3 => ?_)
      · rw [pk_un (by omega)]
        exact h1 s hs i' j' k1 k2
      · by_cases z : (sz - i') * (sz + 1) + j' = p
        · obtain ⟨z1, z2⟩ := gk_lexu (by omega) hm (z.trans hpq.symm)
          have z3 : i' = i := by omega
          subst z3 z2
          rw [pk_us]
          exact hv k1
        · rw [pk_un]
          · exact h2 i' j' k1 k2 (by omega)
          · intro y
            have y1 : i' = i := by omega
            have y2 : j' = j := by omega
            apply z
            rw [y1, y2, hi, show sz - (sz - q) = q by omega]
            exact hpq
    refine pk_le ((sz + 1) * (sz + 1)) p (fun z => absurd z (by omega)) (fun _ => And.intro n0 (nm_r eq (And.intro n0 (nm_r em (pk_lt j i (fun z => And.intro hx (nm_r (e' := upd ft (961 * t + 31 * i + j) 0) (by rw [hc]; rfl) (nm_r (nI_1 p) (key 0 (fun y => absurd y (by omega)))))) (fun z => ?_)))))) eN rfl (by omega) (by omega)
    refine yw_matched (La := La) (w := w) ht hsz z (by omega) hw hr E h1 (fun k k1 k2 => h2 k j k2 (by omega) ?_) (fun h => br_f (by decide) (And.intro hx (nm_r (e' := upd ft (961 * t + 31 * i + j) 1) (by rw [hc]; rfl) (nm_r (nI_1 p) (key 1 (fun _ => Or.inl ⟨h, rfl⟩))))))
      (fun h => br_t rfl (And.intro hx (nm_r (e' := upd ft (961 * t + 31 * i + j) 0) (by rw [hc]; rfl) (nm_r (nI_1 p) (key 0 (fun _ => Or.inr ⟨h, rfl⟩))))))
    have := gk_lex (S := sz + 1) (a := sz - k) (b := q) (j := j) (k := j) (by omega) hm
    omega
theorem yw_w2 {post : SY → Prop} {La : Nat → (Nat → Nat) → Nat → Nat → Prop} {w : Nat → Nat} (hT : T ≤ 40) (hsz : sz ≤ 30) (hw : gk_val w)
    (hr : ∀ k, k < sz → rr k = nI (w k)) (E : gk_Eqs T cd ar lf rg La)
    (K : ∀ ft' : Nat → Int32, (∀ s, s < T → ∀ i j, i ≤ j → j ≤ sz → gk_b2 (La s w i j) (ft' (961 * s + 31 * i + j))) → post (nI T, nI St, nI Ru, nI Tl, nI sz, cd, ar, lf, rg, sk, ro, tx, rr, ft', 38440)) :
    ∀ d t, t + d = T → ∀ ft : Nat → Int32, (∀ s, s < t → ∀ i j, i ≤ j → j ≤ sz → gk_b2 (La s w i j) (ft (961 * s + 31 * i + j))) → wY_work_2 post (nI T) (nI St) (nI Ru) (nI Tl) (nI sz) 38440 (d + 1) (nI t) cd ar lf rg sk ro tx rr ft := by
  intro d
  induction d with
  | zero =>
    intro t ht ft h
    have e : t = T := by omega
    subst e
    exact pk_le t t (fun _ => K ft h) (fun z => absurd z (by omega))
  | succ d ih =>
    intro t ht ft h
    exact pk_le T t (fun z => absurd z (by omega)) (fun _ => ⟨(sz + 1) * (sz + 1) + 1, yw_w12 (La := La) (w := w) (by omega) hsz hw hr (E t (by omega)) (fun ft' h' => ih (t + 1) (by omega) ft' h') ((sz + 1) * (sz + 1)) 0 (by omega) ft h (fun i j _ _ z => absurd z (Nat.not_lt_zero _))⟩)
theorem yw_work {post : SY → Prop} {La : Nat → (Nat → Nat) → Nat → Nat → Prop} {w : Nat → Nat} (hT : T ≤ 40) (hsz : sz ≤ 30) (hw : gk_val w)
    (hr : ∀ k, k < sz → rr k = nI (w k)) (E : gk_Eqs T cd ar lf rg La)
    (K : ∀ ft' : Nat → Int32, (∀ s, s < T → ∀ i j, i ≤ j → j ≤ sz → gk_b2 (La s w i j) (ft' (961 * s + 31 * i + j))) → post (nI T, nI St, nI Ru, nI Tl, nI sz, cd, ar, lf, rg, sk, ro, tx, rr, ft', 38440)) : wpY_work post (nI T, nI St, nI Ru, nI Tl, nI sz, cd, ar, lf, rg, sk, ro, tx, rr, ft, 38440) :=
  ⟨T + 1, yw_w2 hT hsz hw hr E K T 0 (Nat.zero_add T) ft (fun s hs => absurd hs (Nat.not_lt_zero s))⟩
theorem yw_wt10 {post : SY → Prop} {La : Nat → (Nat → Nat) → Nat → Nat → Prop} {w : Nat → Nat} (hT : T ≤ 40) (hTl : Tl ≤ 30) (hw : gk_val w)
    (htx : ∀ k, tx k = nI (w k)) (E : gk_Eqs T cd ar lf rg La)
    (K : ∀ rr' ft' : Nat → Int32, (∀ s, s < T → ∀ i j, i ≤ j → j ≤ Tl → gk_b2 (La s w i j) (ft' (961 * s + 31 * i + j))) → post (nI T, nI St, nI Ru, nI Tl, nI Tl, cd, ar, lf, rg, sk, ro, tx, rr', ft', 38440)) :
    ∀ d k, k + d = Tl → ∀ rr : Nat → Int32, (∀ m, m < k → rr m = nI (w m)) → wY_workText_10 post (nI T) (nI St) (nI Ru) (nI Tl) (nI Tl) 38440 (d + 1) (nI k) cd ar lf rg sk ro tx rr ft := by
  intro d
  induction d with
  | zero =>
    intro k hk rr h
    exact pk_le Tl k (fun _ => yw_work (La := La) (w := w) hT hTl hw (fun m hm => h m (by omega)) E (fun ft' h' => K rr ft' h')) (fun z => absurd z (by omega))
  | succ d ih =>
    intro k hk rr h
    have hi : vp_in (nI k) 30 := vp_in_nI (by omega) (by decide)
    refine pk_le Tl k (fun z => absurd z (by omega)) (fun _ => And.intro hi (And.intro hi (nm_r (e' := upd rr k (tx k)) (by rw [nI_clamp (by omega)]) (nm_r (nI_1 k) (ih (k + 1) (by omega) _ (fun m hm => ?_))))))
    by_cases e : m = k
    · rw [e, pk_us]; exact htx k
    · rw [pk_un e]; exact h m (by omega)
theorem yw_workText {post : SY → Prop} {La : Nat → (Nat → Nat) → Nat → Nat → Prop} {w : Nat → Nat} (hT : T ≤ 40) (hTl : Tl ≤ 30) (hw : gk_val w)
    (htx : ∀ k, tx k = nI (w k)) (E : gk_Eqs T cd ar lf rg La)
    (K : ∀ rr' ft' : Nat → Int32, (∀ s, s < T → ∀ i j, i ≤ j → j ≤ Tl → gk_b2 (La s w i j) (ft' (961 * s + 31 * i + j))) → post (nI T, nI St, nI Ru, nI Tl, nI Tl, cd, ar, lf, rg, sk, ro, tx, rr', ft', 38440)) : wpY_workText post (nI T, nI St, nI Ru, nI Tl, s0, cd, ar, lf, rg, sk, ro, tx, rr, ft, 38440) :=
  ⟨Tl + 1, yw_wt10 hT hTl hw htx E K Tl 0 (Nat.zero_add Tl) rr (fun s hs => absurd hs (Nat.not_lt_zero s))⟩
theorem yw_ls2 {post : Int32 → Prop} {M : Nat → Prop} {i j : Nat} (hRu : Ru ≤ 5) (hi : i ≤ 30) (hj : j ≤ 30) (hf : ∀ r, r < Ru → ∃ s, s < 40 ∧ ro r = nI s ∧ gk_b2 (M r) (ft (961 * s + 31 * i + j))) :
    ∀ d r, r + d = Ru → (∀ x, gk_LS M Ru r x → post x) → wY_least_2 post (nI i) (nI j) (nI T) (nI St) (nI Ru) (nI Tl) s0 cd ar lf rg sk ro tx rr ft 38440 (d + 1) (nI r) := by
  intro d
  induction d with
  | zero => intro r hr K; exact pk_le Ru r (fun _ => K _ (gk_LS_e (by omega))) (fun z => absurd z (by omega))
  | succ d ih =>
    intro r hr K
    obtain ⟨s, hs, e, hb⟩ := hf r (by omega)
    refine pk_le Ru r (fun z => absurd z (by omega)) (fun _ => And.intro (vp_in_nI (by omega) (by decide)) ?_)
    rw [nI_clamp (n := r) (by omega), e]
    exact yw_is hs hi hj hb (fun p => br_f (by decide) (K _ (gk_LS_y (by omega) p))) (fun p => br_t rfl (nm_r (nI_1 r) (ih (r + 1) (by omega) (fun x hx => K x (gk_LS_n p hx)))))
theorem yw_least {post : Int32 → Prop} {M : Nat → Prop} {i j : Nat} (hRu : Ru ≤ 5) (hi : i ≤ 30) (hj : j ≤ 30) (hf : ∀ r, r < Ru → ∃ s, s < 40 ∧ ro r = nI s ∧ gk_b2 (M r) (ft (961 * s + 31 * i + j)))
    (K : ∀ x, gk_LS M Ru 0 x → post x) : wpY_least post (nI T, nI St, nI Ru, nI Tl, s0, cd, ar, lf, rg, sk, ro, tx, rr, ft, 38440) (nI i) (nI j) :=
  ⟨Ru + 1, yw_ls2 hRu hi hj hf Ru 0 (Nat.zero_add Ru) K⟩
end
end
section
/-! ===== words: where one ends, and the row of them ===== -/
def gk_M (fl lp rf rl : Nat → Int64) (re : Nat → Int32) (w : Nat → Nat) (r i j : Nat) : Prop := gk_ax fl lp (rf r) (rl r) (re r) w i j
def gk_EN (M : Nat → Nat → Nat → Prop) (Ru Tl f t : Nat) : Prop :=
  f < t ∧ t ≤ Tl ∧ ((∃ r, r < Ru ∧ M r f t) ∨ t = f + 1) ∧ ∀ u, t < u → u ≤ Tl → ¬ ∃ r, r < Ru ∧ M r f u
def gk_BW (M : Nat → Nat → Nat → Prop) (Ru f k : Nat) (a b : Int32) : Prop :=
  (a = -1 ∧ b = 1 ∧ ∀ u, f < u → u ≤ k → ¬ ∃ r, r < Ru ∧ M r f u) ∨
  (∃ t, f < t ∧ t ≤ k ∧ b = nI (t - f) ∧ gk_LS (fun r => M r f t) Ru 0 a ∧ (∃ r, r < Ru ∧ M r f t) ∧ ∀ u, t < u → u ≤ k → ¬ ∃ r, r < Ru ∧ M r f u)
section
variable {M : Nat → Nat → Nat → Prop} {Ru Tl f : Nat}
theorem gk_EN_u {t s : Nat} (h : gk_EN M Ru Tl f t) (k : gk_EN M Ru Tl f s) : s = t := by
  obtain ⟨h1, h2, h3, h4⟩ := h
  obtain ⟨k1, k2, k3, k4⟩ := k
  rcases Nat.lt_trichotomy s t with z | z | z
  · rcases h3 with y | y
    · exact absurd y (k4 t z h2)
    · omega
  · exact z
  · rcases k3 with y | y
    · exact absurd y (h4 s z k2)
    · omega
theorem gk_EN_ex (hf : f < Tl) : ∃ t, gk_EN M Ru Tl f t := by
  have key : ∀ d, f + 1 + d ≤ Tl → (∀ u, f + 1 + d < u → u ≤ Tl → ¬ ∃ r, r < Ru ∧ M r f u) → ∃ t, gk_EN M Ru Tl f t := by
    intro d
    induction d with
    | zero => intro h k; exact ⟨f + 1, by omega, by omega, Or.inr rfl, k⟩
    | succ d ih =>
      intro h k
      by_cases z : ∃ r, r < Ru ∧ M r f (f + 1 + (d + 1))
      · exact ⟨f + 1 + (d + 1), by omega, by omega, Or.inl z, k⟩
      · refine ih (by omega) (fun u h1 h2 => ?_)
        by_cases e : u = f + 1 + (d + 1)
        · rw [e]; exact z
        · exact k u (by omega) h2
  exact key (Tl - f - 1) (by omega) (fun u h1 h2 => by omega)
theorem gk_BW_0 : gk_BW M Ru f f (-1) 1 := Or.inl ⟨rfl, rfl, fun u h1 h2 => absurd h1 (by omega)⟩
theorem gk_BW_n {k : Nat} {a b : Int32} (h : gk_BW M Ru f k a b) (n : ¬ ∃ r, r < Ru ∧ M r f (k + 1)) : gk_BW M Ru f (k + 1) a b := by
  rcases h with ⟨h1, h2, h3⟩ | ⟨t, h1, h2, h3, h4, h5, h6⟩
  · refine Or.inl ⟨h1, h2, fun u u1 u2 => ?_⟩
    by_cases e : u = k + 1
    · rw [e]; exact n
    · exact h3 u u1 (by omega)
  · refine Or.inr ⟨t, h1, by omega, h3, h4, h5, fun u u1 u2 => ?_⟩
    by_cases e : u = k + 1
    · rw [e]; exact n
    · exact h6 u u1 (by omega)
theorem gk_BW_y {k : Nat} {x : Int32} (hk : f ≤ k) (hx : gk_LS (fun r => M r f (k + 1)) Ru 0 x) (n : ∃ r, r < Ru ∧ M r f (k + 1)) : gk_BW M Ru f (k + 1) x (nI (k + 1 - f)) :=
  Or.inr ⟨k + 1, by omega, Nat.le_refl _, rfl, hx, n, fun u u1 u2 => absurd u1 (by omega)⟩
theorem gk_BW_d {k l : Nat} {a b : Int32} (h : gk_BW M Ru f k a b) (hk : k ≤ l) (n : ∀ u, k < u → ¬ ∃ r, r < Ru ∧ M r f u) : gk_BW M Ru f l a b := by
  rcases h with ⟨h1, h2, h3⟩ | ⟨t, h1, h2, h3, h4, h5, h6⟩
  · refine Or.inl ⟨h1, h2, fun u u1 u2 => ?_⟩
    rcases Nat.lt_or_ge k u with z | z
    · exact n u z
    · exact h3 u u1 z
  · refine Or.inr ⟨t, h1, by omega, h3, h4, h5, fun u u1 u2 => ?_⟩
    rcases Nat.lt_or_ge k u with z | z
    · exact n u z
    · exact h6 u u1 z
theorem gk_BW_f {a b : Int32} (hf : f < Tl) (h : gk_BW M Ru f Tl a b) : ∃ t, gk_EN M Ru Tl f t ∧ b = nI (t - f) ∧ gk_LS (fun r => M r f t) Ru 0 a := by
  rcases h with ⟨h1, h2, h3⟩ | ⟨t, h1, h2, h3, h4, h5, h6⟩
  · refine ⟨f + 1, ⟨by omega, by omega, Or.inr rfl, fun u u1 u2 => h3 u (by omega) u2⟩, ?_, Or.inl ⟨h1, fun s _ hs k => h3 (f + 1) (by omega) (by omega) ⟨s, hs, k⟩⟩⟩
    rw [h2, show f + 1 - f = 1 by omega]
    rfl
  · exact ⟨t, ⟨h1, h2, Or.inl h5, h6⟩, h3, h4⟩
end
noncomputable def gk_po (M : Nat → Nat → Nat → Prop) (Ru Tl : Nat) : Nat → Nat
  | 0 => 0
  | s + 1 => Classical.epsilon (fun t => gk_EN M Ru Tl (gk_po M Ru Tl s) t)
theorem gk_po_s {M : Nat → Nat → Nat → Prop} {Ru Tl s : Nat} (h : gk_po M Ru Tl s < Tl) : gk_EN M Ru Tl (gk_po M Ru Tl s) (gk_po M Ru Tl (s + 1)) :=
  Classical.epsilon_spec (gk_EN_ex h)
theorem gk_words (M : Nat → Nat → Nat → Prop) (Ru Tl : Nat) : ∃ (po : Nat → Nat) (c : Nat), po 0 = 0 ∧ c ≤ Tl ∧ po c = Tl ∧ (∀ s, s < c → po s < Tl ∧ gk_EN M Ru Tl (po s) (po (s + 1))) ∧ ∀ s, s ≤ c → po s ≤ Tl := by
  have grow : ∀ s, (∀ m, m < s → gk_po M Ru Tl m < Tl) → s ≤ gk_po M Ru Tl s := by
    intro s
    induction s with
    | zero => intro _; exact Nat.zero_le _
    | succ s ih =>
      intro h
      have h1 := ih (fun m hm => h m (by omega))
      have h2 := (gk_po_s (h s (by omega))).1
      omega
  have ex : ∃ s, Tl ≤ gk_po M Ru Tl s := by
    by_cases e : ∃ m, m < Tl ∧ Tl ≤ gk_po M Ru Tl m
    · obtain ⟨m, _, hm⟩ := e
      exact ⟨m, hm⟩
    · exact ⟨Tl, grow Tl (fun m hm => Nat.lt_of_not_le (fun z => e ⟨m, hm, z⟩))⟩
  obtain ⟨c, hc, hm⟩ := pk_least _ ex
  have lt : ∀ s, s < c → gk_po M Ru Tl s < Tl := fun s hs => Nat.lt_of_not_le (hm s hs)
  have le : ∀ s, s ≤ c → gk_po M Ru Tl s ≤ Tl := by
    intro s hs
    cases s with
    | zero => exact Nat.zero_le _
    | succ s => exact (gk_po_s (lt s (by omega))).2.1
  refine ⟨gk_po M Ru Tl, c, rfl, ?_, Nat.le_antisymm (le c (Nat.le_refl c)) hc, fun s hs => ⟨lt s hs, gk_po_s (lt s hs)⟩, le⟩
  exact Nat.le_trans (grow c lt) (le c (Nat.le_refl c))
/-! ===== the state of the table that stands for a piece ===== -/
def gk_AF (Ru : Nat) (rf : Nat → Int64) (q : Nat) : Prop := ∃ r, r < Ru ∧ gk_tb (rf r) q
def gk_At (Ru : Nat) (fl lp rf ss : Nat → Int64) (w : Nat → Nat) (f s k : Nat) : Prop :=
  (k = f ∧ s = 0) ∨ ∃ n, k = f + n + 1 ∧ 1 ≤ s ∧ ∀ q, gk_tb (ss s) q ↔ gk_rc (gk_fo fl) (gk_lt lp) w (gk_AF Ru rf) f n q
section
variable {Pl Ru Sn : Nat} {fl lp rf rl : Nat → Int64} {re : Nat → Int32} {ss ss' : Nat → Int64} {nx en : Nat → Int32} {ow w : Nat → Nat} {f s k t : Nat}
theorem gk_At_step (H : gk_TI Pl Ru Sn fl lp rf rl re ss nx en ow) (hs : s < Sn) (h : gk_At Ru fl lp rf ss w f s k) (t1 : 1 ≤ t) (hn : gk_nxt Pl Ru fl lp rf s (ss s) (w k) (ss' t)) : gk_At Ru fl lp rf ss' w f t (k + 1) := by
  rcases h with ⟨e1, e2⟩ | ⟨n, e1, e2, h⟩
  · subst e1 e2
    refine Or.inr ⟨0, rfl, t1, fun q => ?_⟩
    rw [hn q]
    constructor
    · intro ⟨a, b⟩
      rcases a with a | a
      · exact ⟨a.2, b⟩
      · exact absurd rfl a.1
    · intro ⟨a, b⟩; exact ⟨Or.inl ⟨rfl, a⟩, b⟩
  · refine Or.inr ⟨n + 1, by omega, t1, fun q => ?_⟩
    rw [hn q, e1]
    constructor
    · intro ⟨a, b⟩
      rcases a with a | ⟨_, p, _, p2, p3⟩
      · omega
      · exact ⟨⟨p, (h p).mp p2, p3⟩, b⟩
    · intro ⟨⟨p, p1, p2⟩, b⟩
      have p3 := (h p).mpr p1
      exact ⟨Or.inr ⟨by omega, p, ((H.2.2.2.1 s e2 hs).2 p p3).1, p3, p2⟩, b⟩
theorem gk_At_one {n r : Nat} (o3 : ∀ r, r < Ru → ∀ q, gk_tb (rf r) q → q < Pl ∧ ow q = r) (o4 : ∀ r, r < Ru → ∀ q, gk_tb (rl r) q → q < Pl ∧ ow q = r) (o5 : ∀ p, p < Pl → ∀ q, gk_tb (fl p) q → q < Pl ∧ ow q = ow p) (hr : r < Ru) :
    gk_M fl lp rf rl re w r f (f + n + 1) ↔ ∃ q, gk_rc (gk_fo fl) (gk_lt lp) w (gk_AF Ru rf) f n q ∧ gk_tb (rl r) q := by
  refine gk_xa_cons.trans ?_
  constructor
  · intro ⟨q, h1, h2⟩
    exact ⟨q, gk_rc_mono (fun q z => ⟨r, hr, z⟩) (fun _ _ z => z) f n q h1, h2⟩
  · intro ⟨q, h1, h2⟩
    obtain ⟨s, hs⟩ := gk_rc_ex (G := fun r q => r < Ru ∧ gk_tb (rf r) q) (fun q z => z) f n q h1
    have o := gk_rc_own (P := fun q => q < Pl ∧ ow q = s) (fun q z => o3 s z.2.1 q z.2.2) (fun p q z y => ⟨(o5 p z.1 q y).1, (o5 p z.1 q y).2.trans z.2⟩) f n q hs
    have e : s = r := o.2.symm.trans (o4 r hr q h2).2
    subst e
    exact ⟨q, gk_rc_mono (fun q z => z.2.2) (fun _ _ z => z) f n q hs, h2⟩
theorem gk_At_LS (H : gk_TI Pl Ru Sn fl lp rf rl re ss nx en ow) (o3 : ∀ r, r < Ru → ∀ q, gk_tb (rf r) q → q < Pl ∧ ow q = r) (o4 : ∀ r, r < Ru → ∀ q, gk_tb (rl r) q → q < Pl ∧ ow q = r) (o5 : ∀ p, p < Pl → ∀ q, gk_tb (fl p) q → q < Pl ∧ ow q = ow p)
    (hs : s < Sn) (h : gk_At Ru fl lp rf ss w f s k) : gk_LS (fun r => gk_M fl lp rf rl re w r f k) Ru 0 (en s) := by
  rcases h with ⟨e1, e2⟩ | ⟨n, e1, e2, h⟩
  · subst e1 e2
    exact gk_LS_c (fun r _ => gk_xa_nil.symm) H.2.2.1
  · subst e1
    refine gk_LS_c (fun r hr => ?_) (H.2.2.2.1 s e2 hs).1
    rw [gk_At_one o3 o4 o5 hr]
    constructor
    · intro ⟨q, a, b⟩; exact ⟨q, (h q).mp a, b⟩
    · intro ⟨q, a, b⟩; exact ⟨q, (h q).mpr a, b⟩
theorem gk_At_dead (o3 : ∀ r, r < Ru → ∀ q, gk_tb (rf r) q → q < Pl ∧ ow q = r) (o4 : ∀ r, r < Ru → ∀ q, gk_tb (rl r) q → q < Pl ∧ ow q = r) (o5 : ∀ p, p < Pl → ∀ q, gk_tb (fl p) q → q < Pl ∧ ow q = ow p)
    (h0 : s ≠ 0) (hz : ss s = 0) (h : gk_At Ru fl lp rf ss w f s k) : ∀ u, k < u → ¬ ∃ r, r < Ru ∧ gk_M fl lp rf rl re w r f u := by
  intro u hu ⟨r, hr, hm⟩
  rcases h with ⟨e1, e2⟩ | ⟨n, e1, e2, h⟩
  · exact h0 e2
  · obtain ⟨d, hd⟩ : ∃ d, u = f + (n + d) + 1 := ⟨u - (f + n + 1), by omega⟩
    subst hd
    obtain ⟨q, a, b⟩ := (gk_At_one o3 o4 o5 hr).mp hm
    refine gk_rc_dead (n := n) (fun q z => ?_) d q a
    have := (h q).mpr z
    rw [hz] at this
    exact gk_0 q this
end
end
section
/-! ===== X: cutting, asking ===== -/
section
variable {T Pl St Ru Tl : Nat} {wc : Int32} {fl lp fi la : Nat → Int64} {em : Nat → Int32} {rf rl : Nat → Int64} {re tx : Nat → Int32} {ow w : Nat → Nat}
theorem xw_cw24 {post : SX → Prop} {f c : Nat} (hPl : Pl ≤ 40) (hRu : Ru ≤ 5) (hTl : Tl ≤ 30) (hc : c < 30) (o3 : ∀ r, r < Ru → ∀ q, gk_tb (rf r) q → q < Pl ∧ ow q = r) (o4 : ∀ r, r < Ru → ∀ q, gk_tb (rl r) q → q < Pl ∧ ow q = r)
    (o5 : ∀ p, p < Pl → ∀ q, gk_tb (fl p) q → q < Pl ∧ ow q = ow p) (htx : ∀ k, tx k = nI (w k) ∧ w k < 4) (ws0 wl0 : Nat → Int32)
    (K : ∀ (Sn : Nat) (ss : Nat → Int64) (nx en ws wl : Nat → Int32), gk_TI Pl Ru Sn fl lp rf rl re ss nx en ow → gk_BW (gk_M fl lp rf rl re w) Ru f Tl (ws c) (wl c) → (∀ m, m ≠ c → ws m = ws0 m ∧ wl m = wl0 m) → post (nI T, nI Pl, nI St, nI Ru, nI Sn, nI Tl, nI c, fl, lp, fi, la, em, rf, rl, re, ss, nx, en, tx, ws, wl)) :
    ∀ d k, k + d = Tl → f ≤ k → ∀ (s Sn : Nat) (ss : Nat → Int64) (nx en ws wl : Nat → Int32), gk_TI Pl Ru Sn fl lp rf rl re ss nx en ow → s < Sn → gk_At Ru fl lp rf ss w f s k →
      gk_BW (gk_M fl lp rf rl re w) Ru f k (ws c) (wl c) → (∀ m, m ≠ c → ws m = ws0 m ∧ wl m = wl0 m) → wX_cutWord_24 post (nI f) (d + 1) (nI s) (nI k) (nI T) (nI Pl) (nI St) (nI Ru) (nI Sn) (nI Tl) (nI c) fl lp fi la em rf rl re ss nx en tx ws wl := by
  have hv : vp_in (nI c) 30 := vp_in_nI hc (by decide)
  have hcc : (nI c).toNatClampNeg = c := nI_clamp (by omega)
  intro d
  induction d with
  | zero =>
    intro k hk hf s Sn ss nx en ws wl H hs A B fr
    have e : k = Tl := by omega
    subst e
    exact pk_le k k (fun _ => K Sn ss nx en ws wl H B fr) (fun z => absurd z (by omega))
  | succ d ih =>
    intro k hk hf s Sn ss nx en ws wl H hs A B fr
    have hS := H.2.1
    have key : wX_cutWord_47 post (wX_cutWord_24 post (nI f) (d + 1)) (nI f) (nI s) (nI k) (nI T) (nI Pl) (nI St) (nI Ru) (nI Sn) (nI Tl) (nI c) fl lp fi la em rf rl re ss nx en tx ws wl := by
      refine And.intro (vp_in_nI (by omega) (by decide)) ?_
      rw [nI_clamp (n := k) (by omega), (htx k).1]
      refine xw_step hPl hRu o3 o5 H hs (htx k).2 (fun t Sn' ss' nx' en' H' t1 t2 hn => ?_)
      have hS' := H'.2.1
      have A' := gk_At_step H hs A t1 hn
      have L := gk_At_LS H' o3 o4 o5 t2 A'
      have N := gk_LS_neg (by omega) L
      have hct : (nI t).toNatClampNeg = t := nI_clamp (by omega)
      have hvt : vp_in (nI t) 48 := vp_in_nI (by omega) (by decide)
      refine And.intro hvt (br_c (fun z => nm_r (nI_1 k) (ih (k + 1) (by omega) (by omega) t Sn' ss' nx' en' ws wl H' t2 A' ?_ fr)) (fun z => And.intro hvt (And.intro hv (nm_r (e' := upd ws c (en' t)) (by rw [hcc, hct])
        (And.intro hv (nm_r (e' := upd wl c (nI (k + 1 - f))) (by rw [hcc, nI_1, pk_sub (by omega)]) (nm_r (nI_1 k) (ih (k + 1) (by omega) (by omega) t Sn' ss' nx' en' _ _ H' t2 A' ?_ ?_))))))))
      · rw [hct] at z
        exact gk_BW_n B (N.mp z)
      · rw [hct] at z
        rw [pk_us, pk_us]
        exact gk_BW_y hf L (Classical.not_not.mp (fun y => z (N.mpr y)))
      · intro m hm
        rw [pk_un hm, pk_un hm]
        exact fr m hm
    refine pk_le Tl k (fun z => absurd z (by omega)) (fun _ => pk_eq s 0 (fun _ => key) (fun h0 => And.intro (vp_in_nI (by omega) (by decide)) (br_c (fun z => ?_) (fun _ => key))))
    rw [nI_clamp (n := s) (by omega)] at z
    exact K Sn ss nx en ws wl H (gk_BW_d B (by omega) (gk_At_dead o3 o4 o5 h0 z A)) fr
theorem xw_cutWord {post : SX → Prop} {f c Sn : Nat} {ss : Nat → Int64} {nx en ws wl : Nat → Int32} (hPl : Pl ≤ 40) (hRu : Ru ≤ 5) (hTl : Tl ≤ 30) (hf : f < Tl) (hc : c < 30) (o3 : ∀ r, r < Ru → ∀ q, gk_tb (rf r) q → q < Pl ∧ ow q = r) (o4 : ∀ r, r < Ru → ∀ q, gk_tb (rl r) q → q < Pl ∧ ow q = r)
    (o5 : ∀ p, p < Pl → ∀ q, gk_tb (fl p) q → q < Pl ∧ ow q = ow p) (htx : ∀ k, tx k = nI (w k) ∧ w k < 4) (H : gk_TI Pl Ru Sn fl lp rf rl re ss nx en ow)
    (K : ∀ (t Sn : Nat) (ss : Nat → Int64) (nx en ws' wl' : Nat → Int32), gk_TI Pl Ru Sn fl lp rf rl re ss nx en ow → gk_EN (gk_M fl lp rf rl re w) Ru Tl f t → gk_LS (fun r => gk_M fl lp rf rl re w r f t) Ru 0 (ws' c) → wl' c = nI (t - f) →
      (∀ m, m ≠ c → ws' m = ws m ∧ wl' m = wl m) → post (nI T, nI Pl, nI St, nI Ru, nI Sn, nI Tl, nI c, fl, lp, fi, la, em, rf, rl, re, ss, nx, en, tx, ws', wl')) : wpX_cutWord post (nI T, nI Pl, nI St, nI Ru, nI Sn, nI Tl, nI c, fl, lp, fi, la, em, rf, rl, re, ss, nx, en, tx, ws, wl) (nI f) := by
  have hv : vp_in (nI c) 30 := vp_in_nI hc (by decide)
  have hcc : (nI c).toNatClampNeg = c := nI_clamp (by omega)
  refine And.intro hv (nm_r (e' := upd ws c (-1)) (by rw [hcc]) (And.intro hv (nm_r (e' := upd wl c 1) (by rw [hcc]) ⟨Tl - f + 1, xw_cw24 (w := w) hPl hRu hTl hc o3 o4 o5 htx ws wl (fun Sn ss nx en ws' wl' H' B fr => ?_) (Tl - f) f (by omega) (Nat.le_refl f) 0 Sn ss nx en _ _ H H.1 (Or.inl ⟨rfl, rfl⟩) ?_ ?_⟩)))
  · obtain ⟨t, e1, e2, e3⟩ := gk_BW_f hf B
    exact K t Sn ss nx en ws' wl' H' e1 e3 e2 fr
  · rw [pk_us, pk_us]
    exact gk_BW_0
  · intro m hm
    rw [pk_un hm, pk_un hm]
    exact ⟨rfl, rfl⟩
theorem xw_ct9 {post : SX → Prop} {po : Nat → Nat} {c : Nat} (hPl : Pl ≤ 40) (hRu : Ru ≤ 5) (hTl : Tl ≤ 30) (hc : c ≤ Tl) (o3 : ∀ r, r < Ru → ∀ q, gk_tb (rf r) q → q < Pl ∧ ow q = r) (o4 : ∀ r, r < Ru → ∀ q, gk_tb (rl r) q → q < Pl ∧ ow q = r)
    (o5 : ∀ p, p < Pl → ∀ q, gk_tb (fl p) q → q < Pl ∧ ow q = ow p) (htx : ∀ k, tx k = nI (w k) ∧ w k < 4)
    (p1 : po c = Tl) (p2 : ∀ s, s < c → po s < Tl ∧ gk_EN (gk_M fl lp rf rl re w) Ru Tl (po s) (po (s + 1))) (p3 : ∀ s, s ≤ c → po s ≤ Tl)
    (K : ∀ (Sn : Nat) (ss : Nat → Int64) (nx en ws wl : Nat → Int32), gk_TI Pl Ru Sn fl lp rf rl re ss nx en ow →
      (∀ m, m < c → gk_LS (fun r => gk_M fl lp rf rl re w r (po m) (po (m + 1))) Ru 0 (ws m) ∧ wl m = nI (po (m + 1) - po m)) → post (nI T, nI Pl, nI St, nI Ru, nI Sn, nI Tl, nI c, fl, lp, fi, la, em, rf, rl, re, ss, nx, en, tx, ws, wl)) :
    ∀ d s, s + d = c → ∀ (Sn : Nat) (ss : Nat → Int64) (nx en ws wl : Nat → Int32), gk_TI Pl Ru Sn fl lp rf rl re ss nx en ow →
      (∀ m, m < s → gk_LS (fun r => gk_M fl lp rf rl re w r (po m) (po (m + 1))) Ru 0 (ws m) ∧ wl m = nI (po (m + 1) - po m)) → wX_cut_9 post (d + 1) (nI (po s)) (nI s) (nI T) (nI Pl) (nI St) (nI Ru) (nI Sn) (nI Tl) (nI s) fl lp fi la em rf rl re ss nx en tx ws wl := by
  intro d
  induction d with
  | zero =>
    intro s hs Sn ss nx en ws wl H h
    have e : s = c := by omega
    subst e
    exact pk_le 30 s (fun _ => K Sn ss nx en ws wl H h) (fun _ => pk_le Tl (po s) (fun _ => K Sn ss nx en ws wl H h) (fun z => absurd z (by omega)))
  | succ d ih =>
    intro s hs Sn ss nx en ws wl H h
    obtain ⟨q1, q2⟩ := p2 s (by omega)
    have hcs : (nI s).toNatClampNeg = s := nI_clamp (by omega)
    refine pk_le 30 s (fun z => absurd z (by omega)) (fun _ => pk_le Tl (po s) (fun z => absurd z (by omega)) (fun _ => xw_cutWord (w := w) hPl hRu hTl q1 (by omega) o3 o4 o5 htx H
      (fun t Sn' ss' nx' en' ws' wl' H' e1 e2 e3 fr => And.intro (vp_in_nI (by omega) (by decide)) (nm_r (e' := nI (po (s + 1))) ?_ (nm_r (nI_1 s) (nm_r (nI_1 s) (ih (s + 1) (by omega) Sn' ss' nx' en' ws' wl' H' (fun m hm => ?_))))))))
    · have e := gk_EN_u q2 e1
      have q3 := q2.1
      rw [hcs, e3, e, nI_add, show po s + (po (s + 1) - po s) = po (s + 1) by omega]
    · by_cases z : m = s
      · subst z
        have e := gk_EN_u q2 e1
        subst e
        exact ⟨e2, e3⟩
      · rw [(fr m z).1, (fr m z).2]
        exact h m (by omega)
theorem xw_cut {post : SX → Prop} {po : Nat → Nat} {c Sn : Nat} {ss : Nat → Int64} {nx en ws wl : Nat → Int32} (hPl : Pl ≤ 40) (hRu : Ru ≤ 5) (hTl : Tl ≤ 30) (hc : c ≤ Tl) (o3 : ∀ r, r < Ru → ∀ q, gk_tb (rf r) q → q < Pl ∧ ow q = r) (o4 : ∀ r, r < Ru → ∀ q, gk_tb (rl r) q → q < Pl ∧ ow q = r)
    (o5 : ∀ p, p < Pl → ∀ q, gk_tb (fl p) q → q < Pl ∧ ow q = ow p) (htx : ∀ k, tx k = nI (w k) ∧ w k < 4) (H : gk_TI Pl Ru Sn fl lp rf rl re ss nx en ow)
    (p0 : po 0 = 0) (p1 : po c = Tl) (p2 : ∀ s, s < c → po s < Tl ∧ gk_EN (gk_M fl lp rf rl re w) Ru Tl (po s) (po (s + 1))) (p3 : ∀ s, s ≤ c → po s ≤ Tl)
    (K : ∀ (Sn : Nat) (ss : Nat → Int64) (nx en ws wl : Nat → Int32), gk_TI Pl Ru Sn fl lp rf rl re ss nx en ow →
      (∀ m, m < c → gk_LS (fun r => gk_M fl lp rf rl re w r (po m) (po (m + 1))) Ru 0 (ws m) ∧ wl m = nI (po (m + 1) - po m)) → post (nI T, nI Pl, nI St, nI Ru, nI Sn, nI Tl, nI c, fl, lp, fi, la, em, rf, rl, re, ss, nx, en, tx, ws, wl)) : wpX_cut post (nI T, nI Pl, nI St, nI Ru, nI Sn, nI Tl, wc, fl, lp, fi, la, em, rf, rl, re, ss, nx, en, tx, ws, wl) := by
  have k := xw_ct9 (w := w) (ow := ow) hPl hRu hTl hc o3 o4 o5 htx p1 p2 p3 K c 0 (Nat.zero_add c) Sn ss nx en ws wl H (fun m hm => absurd hm (Nat.not_lt_zero m))
  rw [p0] at k
  exact ⟨c + 1, k⟩
theorem xw_so25 {post : Int32 → SX → Prop} {f u : Nat} {ws wl : Nat → Int32} (hPl : Pl ≤ 40) (hRu : Ru ≤ 5) (hu : u ≤ 30) (o3 : ∀ r, r < Ru → ∀ q, gk_tb (rf r) q → q < Pl ∧ ow q = r) (o4 : ∀ r, r < Ru → ∀ q, gk_tb (rl r) q → q < Pl ∧ ow q = r)
    (o5 : ∀ p, p < Pl → ∀ q, gk_tb (fl p) q → q < Pl ∧ ow q = ow p) (htx : ∀ k, tx k = nI (w k) ∧ w k < 4)
    (K : ∀ (x : Int32) (Sn : Nat) (ss : Nat → Int64) (nx en : Nat → Int32), gk_TI Pl Ru Sn fl lp rf rl re ss nx en ow → gk_LS (fun r => gk_M fl lp rf rl re w r f u) Ru 0 x → post x (nI T, nI Pl, nI St, nI Ru, nI Sn, nI Tl, wc, fl, lp, fi, la, em, rf, rl, re, ss, nx, en, tx, ws, wl)) :
    ∀ d k, k + d = u → f ≤ k → ∀ (s Sn : Nat) (ss : Nat → Int64) (nx en : Nat → Int32), gk_TI Pl Ru Sn fl lp rf rl re ss nx en ow → s < Sn → gk_At Ru fl lp rf ss w f s k →
      wX_sortOf_25 post (nI u) (d + 1) (nI s) (nI k) (nI T) (nI Pl) (nI St) (nI Ru) (nI Sn) (nI Tl) wc fl lp fi la em rf rl re ss nx en tx ws wl := by
  intro d
  induction d with
  | zero =>
    intro k hk hf s Sn ss nx en H hs A
    have hS := H.2.1
    have e : k = u := by omega
    subst e
    refine pk_le k k (fun _ => And.intro (vp_in_nI (by omega) (by decide)) ?_) (fun z => absurd z (by omega))
    rw [nI_clamp (n := s) (by omega)]
    exact K _ Sn ss nx en H (gk_At_LS H o3 o4 o5 hs A)
  | succ d ih =>
    intro k hk hf s Sn ss nx en H hs A
    refine pk_le u k (fun z => absurd z (by omega)) (fun _ => And.intro (vp_in_nI (by omega) (by decide)) ?_)
    rw [nI_clamp (n := k) (by omega), (htx k).1]
    exact xw_step hPl hRu o3 o5 H hs (htx k).2 (fun t Sn' ss' nx' en' H' t1 t2 hn => nm_r (nI_1 k) (ih (k + 1) (by omega) (by omega) t Sn' ss' nx' en' H' t2 (gk_At_step H hs A t1 hn)))
end
end
section
/-! ===== a rule against a whole row; counting ===== -/
def gk_cw (m k : Nat) : Nat := m / 2 ^ (2 * k) % 4
theorem gk_cw_v (m : Nat) : gk_val (gk_cw m) := fun _ => Nat.mod_lt _ (by decide)
theorem gk_csh {m k : Nat} (hm : m < 2 ^ 31) (hk : k < 16) : (nI m >>> ((2 * nI k) &&& 31)) &&& 3 = nI (gk_cw m k) := by
  have h2 : m / 2 ^ (2 * k) ≤ m := Nat.div_le_self _ _
  rw [show (2 : Int32) = nI 2 from rfl, pk_mul, pk_shrN hm _ (2 * k) (s_l (2 * k) (by omega)), pk_andN (by omega) 2 (by decide)]
  rfl
theorem gk_sh1 : ∀ n, n < 5 → (1 : Int32) <<< ((2 * nI n) &&& 31) = nI (4 ^ n) := by decide +kernel
theorem gk_p4 : ∀ n, n < 5 → 4 ^ n ≤ 256 := by decide
def gk_Ac (fl lp : Nat → Int64) (F : Int64) (w : Nat → Nat) (k : Nat) (x : Int64) : Prop :=
  ∃ n, k = n + 1 ∧ ∀ q, gk_tb x q ↔ gk_rc (gk_fo fl) (gk_lt lp) w (gk_tb F) 0 n q
section
variable {Pl : Nat} {fl lp : Nat → Int64} {F L x o : Int64} {E : Int32} {w : Nat → Nat} {k c : Nat} {ow : Nat → Nat}
theorem gk_Ac_0 : gk_Ac fl lp F w 1 (F &&& lp (w 0)) := ⟨0, rfl, fun q => gk_and F (lp (w 0)) q⟩
theorem gk_Ac_s (hF : ∀ q, gk_tb F q → q < Pl ∧ ow q = c) (o5 : ∀ p, p < Pl → ∀ q, gk_tb (fl p) q → q < Pl ∧ ow q = ow p) (h : gk_Ac fl lp F w k x) (ho : ∀ q, gk_tb o q ↔ ∃ p, p < Pl ∧ gk_tb x p ∧ gk_tb (fl p) q) :
    gk_Ac fl lp F w (k + 1) (o &&& lp (w k)) := by
  obtain ⟨n, e, h⟩ := h
  subst e
  refine ⟨n + 1, rfl, fun q => ?_⟩
  rw [gk_and, ho q]
  show _ ↔ (∃ p, gk_rc (gk_fo fl) (gk_lt lp) w (gk_tb F) 0 n p ∧ gk_fo fl p q) ∧ gk_lt lp q (w (0 + n + 1))
  rw [show 0 + n + 1 = n + 1 by omega]
  constructor
  · intro ⟨⟨p, p1, p2, p3⟩, z⟩; exact ⟨⟨p, (h p).mp p2, p3⟩, z⟩
  · intro ⟨⟨p, p2, p3⟩, z⟩
    exact ⟨⟨p, (gk_rc_own (P := fun q => q < Pl) (fun q y => (hF q y).1) (fun p q y u => (o5 p y q u).1) 0 n p p2), (h p).mpr p2, p3⟩, z⟩
theorem gk_Ac_e (h : gk_Ac fl lp F w k x) : (x &&& L) = 0 ↔ ¬ gk_ax fl lp F L E w 0 k := by
  obtain ⟨n, e, h⟩ := h
  subst e
  have k2 : gk_ax fl lp F L E w 0 (n + 1) ↔ ∃ q, gk_rc (gk_fo fl) (gk_lt lp) w (gk_tb F) 0 n q ∧ gk_tb L q := by
    have := gk_xa_cons (fo := gk_fo fl) (lt := gk_lt lp) (F := gk_tb F) (L := gk_tb L) (E := ¬ E = 0) (w := w) (i := 0) (n := n)
    rw [show 0 + n + 1 = n + 1 by omega] at this
    exact this
  rw [gk_andz, k2]
  constructor
  · intro z ⟨q, a, b⟩; exact z ⟨q, (h q).mpr a, b⟩
  · intro z ⟨q, a, b⟩; exact z ⟨q, (h q).mp a, b⟩
end
section
variable {T Pl St Ru Sn Tl : Nat} {wc : Int32} {fl lp fi la : Nat → Int64} {em : Nat → Int32} {rf rl : Nat → Int64} {re : Nat → Int32} {ss : Nat → Int64} {nx en tx ws wl : Nat → Int32}
variable {ow w : Nat → Nat}
theorem xw_mt19 {post : Int32 → Prop} {r : Nat} (hPl : Pl ≤ 40) (hRu : Ru ≤ 5) (hTl : Tl ≤ 30) (hr : r < Ru) (o3 : ∀ r, r < Ru → ∀ q, gk_tb (rf r) q → q < Pl ∧ ow q = r)
    (o5 : ∀ p, p < Pl → ∀ q, gk_tb (fl p) q → q < Pl ∧ ow q = ow p) (htx : ∀ k, tx k = nI (w k) ∧ w k < 4)
    (K1 : gk_M fl lp rf rl re w r 0 Tl → post 1) (K0 : ¬ gk_M fl lp rf rl re w r 0 Tl → post 0) :
    ∀ d k, k + d = Tl → ∀ x : Int64, (k = 0 ∨ gk_Ac fl lp (rf r) w k x) → wX_matches_19 post (nI r) (nI T) (nI Pl) (nI St) (nI Ru) (nI Sn) (nI Tl) wc fl lp fi la em rf rl re ss nx en tx ws wl (d + 1) x (nI k) := by
  have hv : vp_in (nI r) 5 := vp_in_nI (by omega) (by decide)
  have hc : (nI r).toNatClampNeg = r := nI_clamp (by omega)
  intro d
  induction d with
  | zero =>
    intro k hk x h
    have e : k = Tl := by omega
    subst e
    refine pk_le k k (fun _ => pk_eq k 0 (fun e => And.intro hv ?_) (fun e => And.intro hv ?_)) (fun z => absurd z (by omega))
    · rw [hc]
      subst e
      exact br_c (fun z => K0 (fun y => (gk_xa_nil.mp y) z)) (fun z => K1 (gk_xa_nil.mpr z))
    · rw [hc]
      have N : (x &&& rl r) = 0 ↔ ¬ gk_M fl lp rf rl re w r 0 k := gk_Ac_e (h.resolve_left e)
      exact br_c (fun z => br_t rfl (K0 (N.mp z))) (fun z => br_f (by decide) (K1 (Classical.not_not.mp (fun y => z (N.mpr y)))))
  | succ d ih =>
    intro k hk x h
    have key : ∀ o : Int64, gk_Ac fl lp (rf r) w (k + 1) (o &&& lp (w k)) → wX_matches_48 post (wX_matches_19 post (nI r) (nI T) (nI Pl) (nI St) (nI Ru) (nI Sn) (nI Tl) wc fl lp fi la em rf rl re ss nx en tx ws wl (d + 1)) (nI r) (nI k) o (nI T) (nI Pl) (nI St) (nI Ru) (nI Sn) (nI Tl) wc fl lp fi la em rf rl re ss nx en tx ws wl := by
      intro o ho
      refine And.intro (vp_in_nI (by omega) (by decide)) ?_
      rw [nI_clamp (n := k) (by omega), (htx k).1]
      refine And.intro (vp_in_nI (htx k).2 (by decide)) ?_
      rw [nI_clamp (n := w k) (by have := (htx k).2; omega)]
      exact nm_r (nI_1 k) (ih (k + 1) (by omega) _ (Or.inr ho))
    refine pk_le Tl k (fun z => absurd z (by omega)) (fun _ => pk_eq k 0 (fun e => And.intro hv ?_) (fun e => ?_))
    · rw [hc]
      exact key (rf r) (by subst e; exact gk_Ac_0)
    · exact xw_following hPl x (fun y hy => key y (gk_Ac_s (o3 r hr) o5 (h.resolve_left e) hy))
theorem xw_ct68 {post : Int32 → Prop} {J47 : Int32 → Int32 → Prop} {r n cnt m : Nat} (hPl : Pl ≤ 40) (hRu : Ru ≤ 5) (hr : r < Ru) (h0 : 0 < n) (hn : n < 5) (hm : m < 2 ^ 31) (o3 : ∀ r, r < Ru → ∀ q, gk_tb (rf r) q → q < Pl ∧ ow q = r)
    (o5 : ∀ p, p < Pl → ∀ q, gk_tb (fl p) q → q < Pl ∧ ow q = ow p)
    (K1 : gk_M fl lp rf rl re (gk_cw m) r 0 n → J47 (nI (cnt + 1)) (nI (m + 1))) (K0 : ¬ gk_M fl lp rf rl re (gk_cw m) r 0 n → J47 (nI cnt) (nI (m + 1))) :
    ∀ d k, k + d = n → ∀ x : Int64, ((k = 0 ∧ x = rf r) ∨ (k ≠ 0 ∧ gk_Ac fl lp (rf r) (gk_cw m) k x)) → wX_count_68 post J47 (nI r) (nI n) (nI cnt) (nI m) (nI T) (nI Pl) (nI St) (nI Ru) (nI Sn) (nI Tl) wc fl lp fi la em rf rl re ss nx en tx ws wl (d + 1) x (nI k) := by
  have hv : vp_in (nI r) 5 := vp_in_nI (by omega) (by decide)
  have hc : (nI r).toNatClampNeg = r := nI_clamp (by omega)
  intro d
  induction d with
  | zero =>
    intro k hk x h
    have e : k = n := by omega
    subst e
    refine pk_le k k (fun _ => And.intro hv ?_) (fun z => absurd z (by omega))
    rw [hc]
    have N : (x &&& rl r) = 0 ↔ ¬ gk_M fl lp rf rl re (gk_cw m) r 0 k := by
      rcases h with h | h
      · omega
      · exact gk_Ac_e h.2
    exact br_c (fun z => nm_r (e' := nI cnt) (Int32.add_zero _) (nm_r (nI_1 m) (K0 (N.mp z)))) (fun z => nm_r (nI_1 cnt) (nm_r (nI_1 m) (K1 (Classical.not_not.mp (fun y => z (N.mpr y))))))
  | succ d ih =>
    intro k hk x h
    have key : ∀ o : Int64, gk_Ac fl lp (rf r) (gk_cw m) (k + 1) (o &&& lp (gk_cw m k)) → wX_count_91 post J47 (wX_count_68 post J47 (nI r) (nI n) (nI cnt) (nI m) (nI T) (nI Pl) (nI St) (nI Ru) (nI Sn) (nI Tl) wc fl lp fi la em rf rl re ss nx en tx ws wl (d + 1)) (nI r) (nI n) (nI cnt) (nI m) (nI k) o (nI T) (nI Pl) (nI St) (nI Ru) (nI Sn) (nI Tl) wc fl lp fi la em rf rl re ss nx en tx ws wl := by
      intro o ho
      have hw := gk_cw_v m k
      unfold wX_count_91
      rw [gk_csh hm (by omega)]
      refine And.intro (vp_in_nI hw (by decide)) ?_
      rw [nI_clamp (n := gk_cw m k) (by omega)]
      exact nm_r (nI_1 k) (ih (k + 1) (by omega) _ (Or.inr ⟨by omega, ho⟩))
    refine pk_le n k (fun z => absurd z (by omega)) (fun _ => pk_eq k 0 (fun e => ?_) (fun e => ?_))
    · rcases h with h | h
      · subst e
        rw [h.2]
        exact key (rf r) gk_Ac_0
      · exact absurd e h.1
    · rcases h with h | h
      · exact absurd h.1 e
      · exact xw_following hPl x (fun y hy => key y (gk_Ac_s (o3 r hr) o5 h.2 hy))
theorem xw_ct47 {post : Int32 → Prop} {r n : Nat} (hPl : Pl ≤ 40) (hRu : Ru ≤ 5) (hr : r < Ru) (h0 : 0 < n) (hn : n < 5) (o3 : ∀ r, r < Ru → ∀ q, gk_tb (rf r) q → q < Pl ∧ ow q = r)
    (o5 : ∀ p, p < Pl → ∀ q, gk_tb (fl p) q → q < Pl ∧ ow q = ow p) (K : ∀ cnt, gk_cn (fun m => gk_M fl lp rf rl re (gk_cw m) r 0 n) (4 ^ n) cnt → post (nI cnt)) :
    ∀ d m, m + d = 4 ^ n → ∀ cnt, gk_cn (fun m => gk_M fl lp rf rl re (gk_cw m) r 0 n) m cnt → wX_count_47 post (nI r) (nI n) (nI T) (nI Pl) (nI St) (nI Ru) (nI Sn) (nI Tl) wc fl lp fi la em rf rl re ss nx en tx ws wl (d + 1) (nI cnt) (nI m) := by
  have hv : vp_in (nI r) 5 := vp_in_nI (by omega) (by decide)
  have hc : (nI r).toNatClampNeg = r := nI_clamp (by omega)
  have hN := gk_p4 n hn
  have eN := gk_sh1 n hn
  generalize 4 ^ n = N at hN eN K
  intro d
  induction d with
  | zero =>
    intro m hm cnt h
    have e : m = N := by omega
    subst e
    exact pk_le m m (fun _ => K cnt h) (fun z => absurd z (by omega)) eN rfl (by omega) (by omega)
  | succ d ih =>
    intro m hm cnt h
    refine pk_le N m (fun z => absurd z (by omega)) (fun _ => And.intro hv (nm_r (e' := rf r) (by rw [hc]) ⟨n + 1, xw_ct68 (ow := ow) hPl hRu hr h0 hn (by omega) o3 o5 (fun z => ih (m + 1) (by omega) (cnt + 1) ⟨cnt, h, Or.inl ⟨z, rfl⟩⟩) (fun z => ih (m + 1) (by omega) cnt ⟨cnt, h, Or.inr ⟨z, rfl⟩⟩) n 0 (Nat.zero_add n) (rf r) (Or.inl ⟨rfl, rfl⟩)⟩)) eN rfl (by omega) (by omega)
end
section
variable {T St Ru Tl sz : Nat} {cd ar lf rg sk ro tx rr ft : Nat → Int32}
theorem yw_c50 {post : Int32 → SY → Prop} {J40 : Int32 → Int32 → Int32 → Int32 → Int32 → Int32 → Int32 → (Nat → Int32) → (Nat → Int32) → (Nat → Int32) → (Nat → Int32) → (Nat → Int32) → (Nat → Int32) → (Nat → Int32) → (Nat → Int32) → (Nat → Int32) → Nat → Prop}
    {La : Nat → (Nat → Nat) → Nat → Nat → Prop} {r n N cnt m s : Nat} (hT : T ≤ 40) (hRu : Ru ≤ 5) (hr : r < Ru) (hn : n < 5) (hm : m < 2 ^ 31) (hs : s < T) (es : ro r = nI s) (E : gk_Eqs T cd ar lf rg La)
    (K1 : ∀ rr ft : Nat → Int32, La s (gk_cw m) 0 n → J40 (nI (cnt + 1)) (nI (m + 1)) (nI T) (nI St) (nI Ru) (nI Tl) (nI n) cd ar lf rg sk ro tx rr ft 38440) (K0 : ∀ rr ft : Nat → Int32, ¬ La s (gk_cw m) 0 n → J40 (nI cnt) (nI (m + 1)) (nI T) (nI St) (nI Ru) (nI Tl) (nI n) cd ar lf rg sk ro tx rr ft 38440) :
    ∀ d k, k + d = n → ∀ rr : Nat → Int32, (∀ i, i < k → rr i = nI (gk_cw m i)) → wY_count_50 post J40 (nI r) (nI n) (nI cnt) (nI N) (nI m) (nI T) (nI St) (nI Ru) (nI Tl) (nI n) 38440 (d + 1) (nI k) cd ar lf rg sk ro tx rr ft := by
  intro d
  induction d with
  | zero =>
    intro k hk rr h
    refine pk_le n k (fun _ => yw_work (sz := n) (La := La) (w := gk_cw m) hT (by omega) (gk_cw_v m) (fun i hi => h i (by omega)) E (fun ft' h' => And.intro (vp_in_nI (by omega) (by decide)) ?_)) (fun z => absurd z (by omega))
    rw [nI_clamp (n := r) (by omega), es]
    exact yw_is (i := 0) (by omega) (by omega) (by omega) (h' s hs 0 n (Nat.zero_le n) (Nat.le_refl n)) (fun z => br_f (by decide) (nm_r (nI_1 cnt) (nm_r (nI_1 m) (K1 rr ft' z)))) (fun z => br_t rfl (nm_r (nI_1 m) (K0 rr ft' z)))
  | succ d ih =>
    intro k hk rr h
    refine pk_le n k (fun z => absurd z (by omega)) (fun _ => And.intro (vp_in_nI (by omega) (by decide)) (nm_r (e' := upd rr k (nI (gk_cw m k))) (by rw [nI_clamp (n := k) (by omega), gk_csh hm (by omega)]) (nm_r (nI_1 k) (ih (k + 1) (by omega) _ (fun i hi => ?_)))))
    by_cases e : i = k
    · rw [e, pk_us]
    · rw [pk_un e]; exact h i (by omega)
theorem yw_c40 {post : Int32 → SY → Prop} {La : Nat → (Nat → Nat) → Nat → Nat → Prop} {r n N s : Nat} (hT : T ≤ 40) (hRu : Ru ≤ 5) (hr : r < Ru) (hn : n < 5) (hN : N ≤ 256) (hs : s < T) (es : ro r = nI s) (E : gk_Eqs T cd ar lf rg La)
    (K : ∀ (cnt : Nat) (rr ft : Nat → Int32), gk_cn (fun m => La s (gk_cw m) 0 n) N cnt → post (nI cnt) (nI T, nI St, nI Ru, nI Tl, nI n, cd, ar, lf, rg, sk, ro, tx, rr, ft, 38440)) :
    ∀ d m, m + d = N → ∀ (cnt : Nat) (rr ft : Nat → Int32), gk_cn (fun m => La s (gk_cw m) 0 n) m cnt → wY_count_40 post (nI r) (nI n) (nI N) (d + 1) (nI cnt) (nI m) (nI T) (nI St) (nI Ru) (nI Tl) (nI n) cd ar lf rg sk ro tx rr ft 38440 := by
  intro d
  induction d with
  | zero =>
    intro m hm cnt rr ft h
    have e : m = N := by omega
    subst e
    exact pk_le m m (fun _ => K cnt rr ft h) (fun z => absurd z (by omega))
  | succ d ih =>
    intro m hm cnt rr ft h
    exact pk_le N m (fun z => absurd z (by omega)) (fun _ => ⟨n + 1, yw_c50 (La := La) hT hRu hr hn (by omega) hs es E (fun rr ft z => ih (m + 1) (by omega) (cnt + 1) rr ft ⟨cnt, h, Or.inl ⟨z, rfl⟩⟩) (fun rr ft z => ih (m + 1) (by omega) cnt rr ft ⟨cnt, h, Or.inr ⟨z, rfl⟩⟩) n 0 (Nat.zero_add n) rr (fun i hi => absurd hi (Nat.not_lt_zero i))⟩)
variable {M : Nat → Nat → Nat → Prop} {s0 : Int32}
theorem yw_end5 {post : Int32 → Prop} {f : Nat} (hRu : Ru ≤ 5) (hTl : Tl ≤ 30) (hf : f < Tl) (hb : ∀ t, f ≤ t → t ≤ Tl → ∀ r, r < Ru → ∃ s, s < 40 ∧ ro r = nI s ∧ gk_b2 (M r f t) (ft (961 * s + 31 * f + t)))
    (K : ∀ t, gk_EN M Ru Tl f t → post (nI t)) : ∀ d, f + d ≤ Tl → (∀ u, f + d < u → u ≤ Tl → ¬ ∃ r, r < Ru ∧ M r f u) → wY_end_5 post (nI f) (nI T) (nI St) (nI Ru) (nI Tl) s0 cd ar lf rg sk ro tx rr ft 38440 (d + 1) (nI (f + d)) := by
  intro d
  induction d with
  | zero =>
    intro hd h
    refine pk_le (f + 0) f (fun _ => ?_) (fun z => absurd z (by omega))
    rw [nI_1]
    exact K (f + 1) ⟨by omega, by omega, Or.inr rfl, fun u u1 u2 => h u (by omega) u2⟩
  | succ d ih =>
    intro hd h
    refine pk_le (f + (d + 1)) f (fun z => absurd z (by omega)) (fun _ => yw_least (M := fun r => M r f (f + (d + 1))) hRu (by omega) (by omega) (fun r hr => hb (f + (d + 1)) (by omega) hd r hr) (fun x hx => br_c (fun z => ?_) (fun z => ?_)))
    · have N := (gk_LS_neg (by omega) hx).mp z
      refine nm_r (e' := nI (f + d)) (pk_m1 (f + d)) (ih (by omega) (fun u u1 u2 => ?_))
      by_cases e : u = f + (d + 1)
      · rw [e]; exact N
      · exact h u (by omega) u2
    · have N := Classical.not_not.mp (fun y => z ((gk_LS_neg (by omega) hx).mpr y))
      exact K (f + (d + 1)) ⟨by omega, hd, Or.inl N, h⟩
theorem yw_end {post : Int32 → Prop} {f : Nat} (hRu : Ru ≤ 5) (hTl : Tl ≤ 30) (hf : f < Tl) (hb : ∀ t, f ≤ t → t ≤ Tl → ∀ r, r < Ru → ∃ s, s < 40 ∧ ro r = nI s ∧ gk_b2 (M r f t) (ft (961 * s + 31 * f + t)))
    (K : ∀ t, gk_EN M Ru Tl f t → post (nI t)) : wpY_end post (nI T, nI St, nI Ru, nI Tl, s0, cd, ar, lf, rg, sk, ro, tx, rr, ft, 38440) (nI f) := by
  have k := yw_end5 (s0 := s0) (T := T) (St := St) (cd := cd) (ar := ar) (lf := lf) (rg := rg) (sk := sk) (tx := tx) (rr := rr) hRu hTl hf hb K (Tl - f) (by omega) (fun u u1 u2 => absurd u1 (by omega))
  rw [show f + (Tl - f) = Tl by omega] at k
  exact ⟨Tl - f + 1, k⟩
variable {po : Nat → Nat} {c : Nat}
theorem yw_wd8 {post : Int32 → SY → Prop} (hRu : Ru ≤ 5) (hTl : Tl ≤ 30) (hc : c ≤ Tl) (p1 : po c = Tl) (p2 : ∀ s, s < c → po s < Tl ∧ gk_EN M Ru Tl (po s) (po (s + 1))) (p3 : ∀ s, s ≤ c → po s ≤ Tl)
    (hb : ∀ f t, f ≤ t → t ≤ Tl → ∀ r, r < Ru → ∃ s, s < 40 ∧ ro r = nI s ∧ gk_b2 (M r f t) (ft (961 * s + 31 * f + t))) (K : post (nI c) (nI T, nI St, nI Ru, nI Tl, s0, cd, ar, lf, rg, sk, ro, tx, rr, ft, 38440)) :
    ∀ d s, s + d = c → wY_words_8 post (nI T) (nI St) (nI Ru) (nI Tl) s0 cd ar lf rg sk ro tx rr ft 38440 (d + 1) (nI s) (nI (po s)) := by
  intro d
  induction d with
  | zero =>
    intro s hs
    have e : s = c := by omega
    subst e
    have := p3 s (Nat.le_refl s)
    exact pk_le Tl (po s) (fun _ => K) (fun z => absurd z (by omega))
  | succ d ih =>
    intro s hs
    obtain ⟨q1, q2⟩ := p2 s (by omega)
    exact pk_le Tl (po s) (fun z => absurd z (by omega)) (fun _ => pk_le 30 s (fun z => absurd z (by omega)) (fun _ => yw_end hRu hTl q1 (hb (po s)) (fun t ht => nm_r (nI_1 s) (by rw [gk_EN_u q2 ht]; exact ih (s + 1) (by omega)))))
theorem yw_bg14 {post : Int32 → SY → Prop} {j : Nat} (hj : j < 2 ^ 31) (hRu : Ru ≤ 5) (hTl : Tl ≤ 30) (hc : c ≤ Tl) (p1 : po c = Tl) (p2 : ∀ s, s < c → po s < Tl ∧ gk_EN M Ru Tl (po s) (po (s + 1))) (p3 : ∀ s, s ≤ c → po s ≤ Tl)
    (hb : ∀ f t, f ≤ t → t ≤ Tl → ∀ r, r < Ru → ∃ s, s < 40 ∧ ro r = nI s ∧ gk_b2 (M r f t) (ft (961 * s + 31 * f + t))) (K0 : c ≤ j → post (-1) (nI T, nI St, nI Ru, nI Tl, s0, cd, ar, lf, rg, sk, ro, tx, rr, ft, 38440)) (K1 : j < c → post (nI (po j)) (nI T, nI St, nI Ru, nI Tl, s0, cd, ar, lf, rg, sk, ro, tx, rr, ft, 38440)) :
    ∀ d s, s + d = c → s ≤ j → wY_begin_14 post (nI j) (nI T) (nI St) (nI Ru) (nI Tl) s0 cd ar lf rg sk ro tx rr ft 38440 (d + 1) (nI (po s)) (nI s) := by
  intro d
  induction d with
  | zero =>
    intro s hs hsj
    have e : s = c := by omega
    subst e
    have := p3 s (Nat.le_refl s)
    have k : wY_begin_39 post (nI (po s)) (nI T) (nI St) (nI Ru) (nI Tl) s0 cd ar lf rg sk ro tx rr ft 38440 := pk_le Tl (po s) (fun _ => K0 (by omega)) (fun z => absurd z (by omega))
    exact pk_le j s (fun _ => k) (fun _ => pk_le Tl (po s) (fun _ => k) (fun z => absurd z (by omega)))
  | succ d ih =>
    intro s hs hsj
    obtain ⟨q1, q2⟩ := p2 s (by omega)
    refine pk_le j s (fun h => ?_) (fun h => pk_le Tl (po s) (fun z => absurd z (by omega)) (fun _ => yw_end hRu hTl q1 (hb (po s)) (fun t ht => nm_r (nI_1 s) (by rw [gk_EN_u q2 ht]; exact ih (s + 1) (by omega) (by omega)))))
    have e : s = j := by omega
    subst e
    exact pk_le Tl (po s) (fun z => absurd z (by omega)) (fun _ => K1 (by omega))
end
end
section
/-! ===== both sides, method by method ===== -/
theorem gk_R_zero {Tl : Nat} {fl lp fi la : Nat → Int64} {em : Nat → Int32} {rf rl : Nat → Int64} {re : Nat → Int32} {ss : Nat → Int64} {nx en tx cd ar lf rg sk ro : Nat → Int32} {w : Nat → Nat} (hTl : Tl ≤ 30) (ht : ∀ k, tx k = nI (w k) ∧ w k < 4)
    (hlp : ∀ c, c < 4 → lp c = 0) (hnx : ∀ l, l < 4 → nx l = -1) (hen : gk_LS (fun r => ¬ re r = 0) 0 0 (en 0)) :
    gk_R 0 0 0 0 1 Tl fl lp fi la em rf rl re ss nx en tx cd ar lf rg sk ro (fun _ => 0) (fun _ _ _ _ => False) w := by
  refine ⟨⟨by omega, Nat.le_refl 0, Nat.le_refl 0, by omega, hTl⟩, ht, ⟨⟨?_, ?_, ?_, ?_, ?_, ?_⟩, ?_, ?_, ?_⟩, gk_TI_0 hen hnx⟩
  · intro h hh; exact absurd hh (Nat.not_lt_zero h)
  · intro h hh; exact absurd hh (Nat.not_lt_zero h)
  · intro h hh; exact absurd hh (Nat.not_lt_zero h)
  · intro h hh; exact absurd hh (Nat.not_lt_zero h)
  · intro h hh; exact absurd hh (Nat.not_lt_zero h)
  · intro c hc q hq
    rw [hlp c hc] at hq
    exact absurd hq (gk_0 q)
  · intro h hh; exact absurd hh (Nat.not_lt_zero h)
  · intro h hh; exact absurd hh (Nat.not_lt_zero h)
  · intro h hh; exact absurd hh (Nat.not_lt_zero h)
theorem i_vc0 : wpX_init (fun u => wpY_init (fun v => i_Rel 0 u v)) := by
  unfold wpX_init
  refine xw_emptyTable (T := 0) (Pl := 0) (St := 0) (Ru := 0) (Sn := 0) (Tl := 0) (by decide) (fun ss' nx' en' a b => And.intro (by decide) (nm_r (e' := 38440) (by decide) (And.intro (Nat.le_refl _) ?_)))
  exact gk_in (k := 0) (T := 0) (Pl := 0) (St := 0) (Ru := 0) (Sn := 1) (Tl := 0) (gk_R_zero (w := fun _ => 0) (by decide) (fun _ => ⟨rfl, by decide⟩) (fun _ _ => rfl) a b)
section
variable {T Pl St Ru Sn Tl : Nat} {wc : Int32} {fl lp fi la : Nat → Int64} {em : Nat → Int32} {rf rl : Nat → Int64} {re : Nat → Int32} {ss : Nat → Int64} {nx en tx ws wl : Nat → Int32}
theorem xw_cl22 {post : SX → Prop} (K : ∀ (lp' ss' : Nat → Int64) (nx' en' : Nat → Int32), (∀ c, c < 4 → lp' c = 0) → (∀ l, l < 4 → nx' l = -1) → gk_LS (fun r => ¬ re r = 0) 0 0 (en' 0) → post (nI 0, nI 0, nI 0, nI 0, nI 1, nI Tl, wc, fl, lp', fi, la, em, rf, rl, re, ss', nx', en', tx, ws, wl)) :
    ∀ d l, l + d = 4 → ∀ lp : Nat → Int64, (∀ i, i < l → lp i = 0) → wX_clear_22 post (nI 0) (nI 0) (nI 0) (nI 0) (nI Sn) (nI Tl) wc (d + 1) (nI l) fl lp fi la em rf rl re ss nx en tx ws wl := by
  intro d
  induction d with
  | zero =>
    intro l hl lp h
    exact pk_le 4 l (fun _ => xw_emptyTable (Ru := 0) (by decide) (fun ss' nx' en' a b => K lp ss' nx' en' (fun c hc => h c (by omega)) a b)) (fun z => absurd z (by omega))
  | succ d ih =>
    intro l hl lp h
    refine pk_le 4 l (fun z => absurd z (by omega)) (fun _ => And.intro (vp_in_nI (by omega) (by decide)) (nm_r (e' := vp_updL lp l 0) (by rw [nI_clamp (by omega)]) (nm_r (nI_1 l) (ih (l + 1) (by omega) _ ?_))))
    intro i hi
    by_cases e : i = l
    · rw [e, pk_uLs]
    · rw [pk_uLn e]; exact h i (by omega)
end
theorem i_vc_clear {k : Nat} {u : SX} {v : SY} (I : i_Rel k u v) (hk : k + 3 ≤ 1536) : wpX_clear (fun u' => wpY_clear (fun v' => i_Rel (k + 3) u' v') v) u := by
  refine gk_el (P := fun u v => wpX_clear (fun u' => wpY_clear (fun v' => i_Rel (k + 3) u' v') v) u) ?_ I
  intro T Pl St Ru Sn Tl wc sz fl lp fi la em rf rl re ss nx en tx ws wl cd ar lf rg sk ro rr ft ow La w R
  refine ⟨5, xw_cl22 (fun lp' ss' nx' en' a b c => ?_) 4 0 rfl lp (fun i hi => absurd hi (Nat.not_lt_zero i))⟩
  exact gk_in (k := k + 3) (T := 0) (Pl := 0) (St := 0) (Ru := 0) (Sn := 1) (gk_R_zero R.1.2.2.2.2 R.2.1 a b c)
theorem i_vc_type {k : Nat} {u : SX} {v : SY} (I : i_Rel k u v) (hk : k + 3 ≤ 1536) (v1 : Int32) : wpX_type (fun r u' => wpY_type (fun r' v' => r' = r ∧ i_Rel (k + 3) u' v') v v1) u v1 := by
  refine gk_el (P := fun u v => wpX_type (fun r u' => wpY_type (fun r' v' => r' = r ∧ i_Rel (k + 3) u' v') v v1) u v1) ?_ I
  intro T Pl St Ru Sn Tl wc sz fl lp fi la em rf rl re ss nx en tx ws wl cd ar lf rg sk ro rr ft ow La w R
  obtain ⟨⟨b1, b2, b3, b4, b5⟩, ht, G, H⟩ := R
  have hc : (nI Tl).toNatClampNeg = Tl := nI_clamp (by omega)
  refine pk_lt Tl 30 (fun h => ?_) (fun h => pk_eq Tl 30 (fun _ => And.intro rfl (gk_in (k := k + 3) ⟨⟨b1, b2, b3, b4, b5⟩, ht, G, H⟩)) (fun z => absurd z (by omega)))
  have hi : vp_in (nI Tl) 30 := vp_in_nI h (by decide)
  obtain ⟨a, ha, ea⟩ := pk_andE v1 (m := 3) 2 (by decide)
  refine And.intro hi (nm_r (e' := upd tx Tl (nI a)) (by rw [hc, ea]) (nm_r (nI_1 Tl) (pk_eq Tl 30 (fun z => absurd z (by omega)) (fun _ => And.intro hi (nm_r (e' := upd tx Tl (nI a)) (by rw [hc, ea]) (nm_r (nI_1 Tl) (And.intro rfl (gk_in (k := k + 3) (w := fun k => if k = Tl then a else w k) ⟨⟨b1, b2, b3, b4, by omega⟩, fun k => ?_, G, H⟩))))))))
  show upd tx Tl (nI a) k = nI (if k = Tl then a else w k) ∧ (if k = Tl then a else w k) < 4
  by_cases e : k = Tl
  · rw [e, pk_us, if_pos rfl]
    exact ⟨rfl, ha⟩
  · rw [pk_un e, if_neg e]
    exact ht k
theorem i_vc_erase {k : Nat} {u : SX} {v : SY} (I : i_Rel k u v) (hk : k + 3 ≤ 1536) : wpX_erase (fun u' => wpY_erase (fun v' => i_Rel (k + 3) u' v') v) u := by
  refine gk_el (P := fun u v => wpX_erase (fun u' => wpY_erase (fun v' => i_Rel (k + 3) u' v') v) u) ?_ I
  intro T Pl St Ru Sn Tl wc sz fl lp fi la em rf rl re ss nx en tx ws wl cd ar lf rg sk ro rr ft ow La w R
  obtain ⟨⟨b1, b2, b3, b4, b5⟩, ht, G, H⟩ := R
  exact gk_in (k := k + 3) (Tl := 0) ⟨⟨b1, b2, b3, b4, by omega⟩, ht, G, H⟩
theorem i_vc_token {k : Nat} {u : SX} {v : SY} (I : i_Rel k u v) (hk : k + 3 ≤ 1536) (v1 : Int32) (v2 : Int32) : wpX_token (fun r u' => wpY_token (fun r' v' => r' = r ∧ i_Rel (k + 3) u' v') v v1 v2) u v1 v2 := by
  refine gk_el (P := fun u v => wpX_token (fun r u' => wpY_token (fun r' v' => r' = r ∧ i_Rel (k + 3) u' v') v v1 v2) u v1 v2) ?_ I
  intro T Pl St Ru Sn Tl wc sz fl lp fi la em rf rl re ss nx en tx ws wl cd ar lf rg sk ro rr ft ow La w R
  by_cases h0 : v1 < 0
  · have h3 : ¬ (3 : Int32) ≤ v1 := by
      rw [Int32.le_iff_toInt_le, show (3 : Int32).toInt = 3 from by decide]
      rw [Int32.lt_iff_toInt_lt, show (0 : Int32).toInt = 0 from by decide] at h0
      omega
    exact br_f h3 (br_t h0 (br_t h0 (And.intro rfl (gk_in (k := k + 3) R))))
  by_cases h7 : 7 < v1
  · have h3 : (3 : Int32) ≤ v1 := by
      rw [Int32.le_iff_toInt_le, show (3 : Int32).toInt = 3 from by decide]
      rw [Int32.lt_iff_toInt_lt, show (7 : Int32).toInt = 7 from by decide] at h7
      omega
    have h5 : (5 : Int32) ≤ v1 := by
      rw [Int32.le_iff_toInt_le, show (5 : Int32).toInt = 5 from by decide]
      rw [Int32.lt_iff_toInt_lt, show (7 : Int32).toInt = 7 from by decide] at h7
      omega
    exact br_t h3 (br_t h5 (br_f h0 (br_t h7 (br_f h0 (br_t h7 (And.intro rfl (gk_in (k := k + 3) R)))))))
  obtain ⟨c, hc, rfl⟩ := nI_of2 (M := 7) (n := 7) (by decide) h0 (Int32.not_lt.mp h7)
  obtain ⟨b1, b2, b3, b4, b5⟩ := R.1
  have hb : T ≤ 40 ∧ St ≤ T ∧ Ru ≤ 5 := ⟨b1, b3, b4⟩
  obtain ⟨tk, htk⟩ : ∃ tk, (c < 3 ∧ tk = 0) ∨ (3 ≤ c ∧ c < 5 ∧ tk = 2) ∨ (5 ≤ c ∧ tk = 1) := by
    rcases Nat.lt_or_ge c 3 with z | z
    · exact ⟨0, Or.inl ⟨z, rfl⟩⟩
    · rcases Nat.lt_or_ge c 5 with y | y
      · exact ⟨2, Or.inr (Or.inl ⟨z, y, rfl⟩)⟩
      · exact ⟨1, Or.inr (Or.inr ⟨y, rfl⟩)⟩
  by_cases hr : St < tk ∨ 40 ≤ T ∨ (c = 7 ∧ 5 ≤ Ru)
  · exact xw_token hc htk hb (fun _ => yw_token hc htk hb (fun _ => And.intro rfl (gk_in (k := k + 3) R)) (fun a b d => absurd hr (by omega))) (fun a b d => absurd hr (by omega))
  refine xw_token hc htk hb (fun h => absurd h hr) (fun g1 g2 g3 => ?_)
  obtain ⟨a, ha, ea⟩ := pk_andE v2 (m := 3) 2 (by decide)
  have hcs : c = 0 ∨ c = 1 ∨ c = 2 ∨ c = 3 ∨ c = 4 ∨ c = 5 ∨ c = 6 ∨ c = 7 := by omega
  rcases hcs with rfl | rfl | rfl | rfl | rfl | rfl | rfl | rfl
  · refine xw_t0 (a := a) ha ea (by omega) (by omega) (fun lp' vb hv hlp => yw_token hc htk hb (fun h => absurd h hr) (fun _ _ _ => yw_tok0 (c := 0) (by decide) g2 (by omega) ?_))
    obtain ⟨ow', La', R'⟩ := gk_R_place (X := fun d => d = a) R g2 hv hlp (Or.inl ⟨rfl, a, ha, ea, fun d _ => Iff.rfl⟩)
    exact And.intro rfl (gk_in (k := k + 3) R')
  · refine xw_t1 (by omega) (by omega) (fun lp' vb hv hlp => yw_token hc htk hb (fun h => absurd h hr) (fun _ _ _ => yw_tok0 (c := 1) (by decide) g2 (by omega) ?_))
    obtain ⟨ow', La', R'⟩ := gk_R_place (a := v2 &&& 3) (X := fun _ => True) R g2 hv hlp (Or.inr ⟨rfl, fun _ _ => trivial⟩)
    exact And.intro rfl (gk_in (k := k + 3) R')
  · refine xw_t2 (by omega) (yw_token hc htk hb (fun h => absurd h hr) (fun _ _ _ => yw_tok0 (c := 2) (by decide) g2 (by omega) ?_))
    obtain ⟨ow', La', R'⟩ := gk_R_empty (a := v2 &&& 3) R g2
    exact And.intro rfl (gk_in (k := k + 3) R')
  · obtain ⟨x, rfl⟩ : ∃ x, St = x + 2 := ⟨St - 2, by omega⟩
    refine xw_t3 (by omega) (by omega) (fun fl' vf vl e h1 h2 h3 h4 h5 => yw_token hc htk hb (fun h => absurd h hr) (fun _ _ _ => yw_tok2 (c := 3) (Or.inl rfl) g2 (by omega) ?_))
    obtain ⟨ow', La', R'⟩ := gk_R_two (a := v2 &&& 3) (c := 3) R g2 h4 (fun p q => (h1 p q).trans ⟨fun z => z.elim Or.inl (fun y => Or.inr ⟨rfl, y⟩), fun z => z.elim Or.inl (fun y => Or.inr y.2)⟩) (Or.inl ⟨rfl, h2, h3, h5⟩)
    exact And.intro rfl (gk_in (k := k + 3) R')
  · obtain ⟨x, rfl⟩ : ∃ x, St = x + 2 := ⟨St - 2, by omega⟩
    refine xw_t4 (by omega) (fun e h4 h5 => yw_token hc htk hb (fun h => absurd h hr) (fun _ _ _ => yw_tok2 (c := 4) (Or.inr rfl) g2 (by omega) ?_))
    obtain ⟨ow', La', R'⟩ := gk_R_two (a := v2 &&& 3) (c := 4) (fl' := fl) R g2 h4 (fun p q => ⟨Or.inl, fun z => z.elim (fun z => z) (fun y => absurd y.1 (by decide))⟩) (Or.inr ⟨rfl, fun q => gk_or _ _ q, fun q => gk_or _ _ q, h5⟩)
    exact And.intro rfl (gk_in (k := k + 3) R')
  · obtain ⟨x, rfl⟩ : ∃ x, St = x + 1 := ⟨St - 1, by omega⟩
    refine xw_t56 (c := 5) (Or.inl rfl) (by omega) (by omega) (fun fl' e h1 h2 h3 => yw_token hc htk hb (fun h => absurd h hr) (fun _ _ _ => yw_tok1 (c := 5) (Or.inl rfl) g2 (by omega) ?_))
    obtain ⟨ow', La', R'⟩ := gk_R_rep (a := v2 &&& 3) (c := 5) R g2 h2 h1 h3
    exact And.intro rfl (gk_in (k := k + 3) R')
  · obtain ⟨x, rfl⟩ : ∃ x, St = x + 1 := ⟨St - 1, by omega⟩
    refine xw_t56 (c := 6) (Or.inr rfl) (by omega) (by omega) (fun fl' e h1 h2 h3 => yw_token hc htk hb (fun h => absurd h hr) (fun _ _ _ => yw_tok1 (c := 6) (Or.inr rfl) g2 (by omega) ?_))
    obtain ⟨ow', La', R'⟩ := gk_R_rep (a := v2 &&& 3) (c := 6) R g2 h2 h1 h3
    exact And.intro rfl (gk_in (k := k + 3) R')
  · obtain ⟨x, rfl⟩ : ∃ x, St = x + 1 := ⟨St - 1, by omega⟩
    refine xw_t7 (by omega) (g3 rfl) (R.2.2.1.2.2.1 x (by omega)).1 (fun ss' nx' en' h1 h2 => yw_token hc htk hb (fun h => absurd h hr) (fun _ _ _ => yw_tok7 g2 (by omega) (g3 rfl) ?_))
    obtain ⟨ow', La', R'⟩ := gk_R_rule (a := v2 &&& 3) (ss' := ss') R g2 (g3 rfl) h2 h1
    exact And.intro rfl (gk_in (k := k + 3) R')
end
section
/-! ===== both sides: the questions ===== -/
theorem gk_hb {T Ru Tl : Nat} {fl lp fi la : Nat → Int64} {em : Nat → Int32} {rf rl : Nat → Int64} {re sk ro ft : Nat → Int32} {St : Nat} {La : Nat → (Nat → Nat) → Nat → Nat → Prop} {w : Nat → Nat} (hT : T ≤ 40) (hw : gk_val w)
    (S : gk_Sem T St Ru fl lp fi la em rf rl re sk ro La) (hf : ∀ s, s < T → ∀ i j, i ≤ j → j ≤ Tl → gk_b2 (La s w i j) (ft (961 * s + 31 * i + j))) :
    ∀ f t, f ≤ t → t ≤ Tl → ∀ r, r < Ru → ∃ s, s < 40 ∧ ro r = nI s ∧ gk_b2 (gk_M fl lp rf rl re w r f t) (ft (961 * s + 31 * f + t)) := by
  intro f t h1 h2 r hr
  obtain ⟨s, hs, e, h⟩ := S.2 r hr
  exact ⟨s, by omega, e, gk_b2_c (h w hw f t) (hf s hs f t h1 h2)⟩
section
variable {T St Ru Tl sz : Nat} {cd ar lf rg sk ro tx rr ft : Nat → Int32}
variable {M : Nat → Nat → Nat → Prop} {s0 : Int32} {po : Nat → Nat} {c : Nat} {La : Nat → (Nat → Nat) → Nat → Nat → Prop} {w : Nat → Nat}
theorem yw_words {post : Int32 → SY → Prop} (hT : T ≤ 40) (hRu : Ru ≤ 5) (hTl : Tl ≤ 30) (hw : gk_val w) (htx : ∀ k, tx k = nI (w k)) (E : gk_Eqs T cd ar lf rg La)
    (hc : c ≤ Tl) (p0 : po 0 = 0) (p1 : po c = Tl) (p2 : ∀ s, s < c → po s < Tl ∧ gk_EN M Ru Tl (po s) (po (s + 1))) (p3 : ∀ s, s ≤ c → po s ≤ Tl)
    (hB : ∀ ft : Nat → Int32, (∀ s, s < T → ∀ i j, i ≤ j → j ≤ Tl → gk_b2 (La s w i j) (ft (961 * s + 31 * i + j))) → ∀ f t, f ≤ t → t ≤ Tl → ∀ r, r < Ru → ∃ s, s < 40 ∧ ro r = nI s ∧ gk_b2 (M r f t) (ft (961 * s + 31 * f + t)))
    (K : ∀ rr ft : Nat → Int32, post (nI c) (nI T, nI St, nI Ru, nI Tl, nI Tl, cd, ar, lf, rg, sk, ro, tx, rr, ft, 38440)) : wpY_words post (nI T, nI St, nI Ru, nI Tl, s0, cd, ar, lf, rg, sk, ro, tx, rr, ft, 38440) := by
  refine yw_workText (s0 := s0) (La := La) (w := w) hT hTl hw htx E (fun rr' ft' hf => ?_)
  refine ⟨c + 1, ?_⟩
  have k : wY_words_8 post (nI T) (nI St) (nI Ru) (nI Tl) (nI Tl) cd ar lf rg sk ro tx rr' ft' 38440 (c + 1) (nI 0) (nI (po 0)) := yw_wd8 hRu hTl hc p1 p2 p3 (hB ft' hf) (K rr' ft') c 0 (Nat.zero_add c)
  rw [p0] at k
  exact k
theorem yw_begin {post : Int32 → SY → Prop} {v1 : Int32} (hT : T ≤ 40) (hRu : Ru ≤ 5) (hTl : Tl ≤ 30) (hw : gk_val w) (htx : ∀ k, tx k = nI (w k)) (E : gk_Eqs T cd ar lf rg La)
    (hc : c ≤ Tl) (p0 : po 0 = 0) (p1 : po c = Tl) (p2 : ∀ s, s < c → po s < Tl ∧ gk_EN M Ru Tl (po s) (po (s + 1))) (p3 : ∀ s, s ≤ c → po s ≤ Tl)
    (hB : ∀ ft : Nat → Int32, (∀ s, s < T → ∀ i j, i ≤ j → j ≤ Tl → gk_b2 (La s w i j) (ft (961 * s + 31 * i + j))) → ∀ f t, f ≤ t → t ≤ Tl → ∀ r, r < Ru → ∃ s, s < 40 ∧ ro r = nI s ∧ gk_b2 (M r f t) (ft (961 * s + 31 * f + t)))
    (K0 : (v1 < 0 ∨ ∃ j, j < 2 ^ 31 ∧ v1 = nI j ∧ c ≤ j) → ∀ rr ft : Nat → Int32, post (-1) (nI T, nI St, nI Ru, nI Tl, nI Tl, cd, ar, lf, rg, sk, ro, tx, rr, ft, 38440))
    (K1 : ∀ j, v1 = nI j → j < c → ∀ rr ft : Nat → Int32, (∀ f t, f ≤ t → t ≤ Tl → ∀ r, r < Ru → ∃ s, s < 40 ∧ ro r = nI s ∧ gk_b2 (M r f t) (ft (961 * s + 31 * f + t))) → post (nI (po j)) (nI T, nI St, nI Ru, nI Tl, nI Tl, cd, ar, lf, rg, sk, ro, tx, rr, ft, 38440)) : wpY_begin post (nI T, nI St, nI Ru, nI Tl, s0, cd, ar, lf, rg, sk, ro, tx, rr, ft, 38440) v1 := by
  refine yw_workText (s0 := s0) (La := La) (w := w) hT hTl hw htx E (fun rr' ft' hf => ?_)
  by_cases h : v1 < 0
  · exact br_f (fun z => absurd h (Int32.not_lt.mpr z)) (K0 (Or.inl h) rr' ft')
  · obtain ⟨j, hj, rfl⟩ := nI_of h
    refine br_t (Int32.not_lt.mp h) ⟨c + 1, ?_⟩
    have k : wY_begin_14 post (nI j) (nI T) (nI St) (nI Ru) (nI Tl) (nI Tl) cd ar lf rg sk ro tx rr' ft' 38440 (c + 1) (nI (po 0)) (nI 0) := yw_bg14 hj hRu hTl hc p1 p2 p3 (hB ft' hf) (fun z => K0 (Or.inr ⟨j, hj, rfl, z⟩) rr' ft') (fun z => K1 j rfl z rr' ft' (hB ft' hf)) c 0 (Nat.zero_add c) (Nat.zero_le j)
    rw [p0] at k
    exact k
end
theorem i_vc_words {k : Nat} {u : SX} {v : SY} (I : i_Rel k u v) (hk : k + 3 ≤ 1536) : wpX_words (fun r u' => wpY_words (fun r' v' => r' = r ∧ i_Rel (k + 3) u' v') v) u := by
  refine gk_el (P := fun u v => wpX_words (fun r u' => wpY_words (fun r' v' => r' = r ∧ i_Rel (k + 3) u' v') v) u) ?_ I
  intro T Pl St Ru Sn Tl wc sz fl lp fi la em rf rl re ss nx en tx ws wl cd ar lf rg sk ro rr ft ow La w R
  obtain ⟨⟨b1, b2, b3, b4, b5⟩, ht, G, H⟩ := R
  obtain ⟨⟨o1, o2, o3, o4, o5, o6⟩, ge, gs⟩ := id G
  have hw : gk_val w := fun k => (ht k).2
  obtain ⟨po, c, p0, hc, p1, p2, p3⟩ := gk_words (gk_M fl lp rf rl re w) Ru Tl
  unfold wpX_words
  refine xw_cut (w := w) (ow := ow) (by omega) b4 b5 hc o3 o4 o5 ht H p0 p1 p2 p3 (fun Sn' ss' nx' en' ws' wl' H' h => ?_)
  exact yw_words (La := La) (w := w) b1 b4 b5 hw (fun k => (ht k).1) ge hc p0 p1 p2 p3 (fun ft hf => gk_hb b1 hw gs hf) (fun rr ft => And.intro rfl (gk_in (k := k + 3) ⟨⟨b1, b2, b3, b4, b5⟩, ht, G, H'⟩))
theorem i_vc_sort {k : Nat} {u : SX} {v : SY} (I : i_Rel k u v) (hk : k + 3 ≤ 1536) (v1 : Int32) : wpX_sort (fun r u' => wpY_sort (fun r' v' => r' = r ∧ i_Rel (k + 3) u' v') v v1) u v1 := by
  refine gk_el (P := fun u v => wpX_sort (fun r u' => wpY_sort (fun r' v' => r' = r ∧ i_Rel (k + 3) u' v') v v1) u v1) ?_ I
  intro T Pl St Ru Sn Tl wc sz fl lp fi la em rf rl re ss nx en tx ws wl cd ar lf rg sk ro rr ft ow La w R
  obtain ⟨⟨b1, b2, b3, b4, b5⟩, ht, G, H⟩ := R
  obtain ⟨⟨o1, o2, o3, o4, o5, o6⟩, ge, gs⟩ := id G
  have hw : gk_val w := fun k => (ht k).2
  obtain ⟨po, c, p0, hc, p1, p2, p3⟩ := gk_words (gk_M fl lp rf rl re w) Ru Tl
  unfold wpX_sort
  refine xw_cut (w := w) (ow := ow) (by omega) b4 b5 hc o3 o4 o5 ht H p0 p1 p2 p3 (fun Sn' ss' nx' en' ws' wl' H' h => ?_)
  by_cases h0 : v1 < 0
  · refine br_t h0 ?_
    unfold wpY_sort
    refine yw_begin (La := La) (w := w) b1 b4 b5 hw (fun k => (ht k).1) ge hc p0 p1 p2 p3 (fun ft hf => gk_hb b1 hw gs hf) (fun _ rr ft => br_f (by decide) (And.intro rfl (gk_in (k := k + 3) ⟨⟨b1, b2, b3, b4, b5⟩, ht, G, H'⟩))) (fun j e _ => absurd h0 ?_)
    rw [e]
    exact nI_pos (by omega)
  · obtain ⟨j, hj, rfl⟩ := nI_of h0
    refine br_f h0 (pk_lt j c (fun hl => And.intro (vp_in_nI (by omega) (by decide)) ?_) (fun hl => ?_))
    · rw [nI_clamp hj]
      unfold wpY_sort
      refine yw_begin (La := La) (w := w) b1 b4 b5 hw (fun k => (ht k).1) ge hc p0 p1 p2 p3 (fun ft hf => gk_hb b1 hw gs hf) (fun z => absurd z (fun z => ?_)) (fun i e hi rr ft hb => ?_)
      · rcases z with z | ⟨i, hi, e, z⟩
        · exact h0 z
        · have := (nI_eq hj hi).mp e
          omega
      · have e' : j = i := (nI_eq hj (by omega)).mp e
        subst e'
        obtain ⟨q1, q2⟩ := p2 j hl
        refine br_t (nI_pos' (by omega)) (yw_end b4 b5 q1 (hb (po j)) (fun t htt => ?_))
        have et := gk_EN_u q2 htt
        subst et
        have := q2.2.1
        exact yw_least (M := fun r => gk_M fl lp rf rl re w r (po j) (po (j + 1))) b4 (by omega) (by omega) (hb (po j) (po (j + 1)) (by have := q2.1; omega) (by omega)) (fun x hx => And.intro (gk_LS_u (h j hl).1 hx) (gk_in (k := k + 3) ⟨⟨b1, b2, b3, b4, b5⟩, ht, G, H'⟩))
    · unfold wpY_sort
      refine yw_begin (La := La) (w := w) b1 b4 b5 hw (fun k => (ht k).1) ge hc p0 p1 p2 p3 (fun ft hf => gk_hb b1 hw gs hf) (fun _ rr ft => br_f (by decide) (And.intro rfl (gk_in (k := k + 3) ⟨⟨b1, b2, b3, b4, b5⟩, ht, G, H'⟩))) (fun i e hi => absurd hi ?_)
      have e' : j = i := (nI_eq hj (by omega)).mp e
      omega
theorem i_vc_length {k : Nat} {u : SX} {v : SY} (I : i_Rel k u v) (hk : k + 3 ≤ 1536) (v1 : Int32) : wpX_length (fun r u' => wpY_length (fun r' v' => r' = r ∧ i_Rel (k + 3) u' v') v v1) u v1 := by
  refine gk_el (P := fun u v => wpX_length (fun r u' => wpY_length (fun r' v' => r' = r ∧ i_Rel (k + 3) u' v') v v1) u v1) ?_ I
  intro T Pl St Ru Sn Tl wc sz fl lp fi la em rf rl re ss nx en tx ws wl cd ar lf rg sk ro rr ft ow La w R
  obtain ⟨⟨b1, b2, b3, b4, b5⟩, ht, G, H⟩ := R
  obtain ⟨⟨o1, o2, o3, o4, o5, o6⟩, ge, gs⟩ := id G
  have hw : gk_val w := fun k => (ht k).2
  obtain ⟨po, c, p0, hc, p1, p2, p3⟩ := gk_words (gk_M fl lp rf rl re w) Ru Tl
  unfold wpX_length
  refine xw_cut (w := w) (ow := ow) (by omega) b4 b5 hc o3 o4 o5 ht H p0 p1 p2 p3 (fun Sn' ss' nx' en' ws' wl' H' h => ?_)
  by_cases h0 : v1 < 0
  · refine br_t h0 ?_
    unfold wpY_length
    refine yw_begin (La := La) (w := w) b1 b4 b5 hw (fun k => (ht k).1) ge hc p0 p1 p2 p3 (fun ft hf => gk_hb b1 hw gs hf) (fun _ rr ft => br_f (by decide) (And.intro rfl (gk_in (k := k + 3) ⟨⟨b1, b2, b3, b4, b5⟩, ht, G, H'⟩))) (fun j e _ => absurd h0 ?_)
    rw [e]
    exact nI_pos (by omega)
  · obtain ⟨j, hj, rfl⟩ := nI_of h0
    refine br_f h0 (pk_lt j c (fun hl => And.intro (vp_in_nI (by omega) (by decide)) ?_) (fun hl => ?_))
    · rw [nI_clamp hj]
      unfold wpY_length
      refine yw_begin (La := La) (w := w) b1 b4 b5 hw (fun k => (ht k).1) ge hc p0 p1 p2 p3 (fun ft hf => gk_hb b1 hw gs hf) (fun z => absurd z (fun z => ?_)) (fun i e hi rr ft hb => ?_)
      · rcases z with z | ⟨i, hi, e, z⟩
        · exact h0 z
        · have := (nI_eq hj hi).mp e
          omega
      · have e' : j = i := (nI_eq hj (by omega)).mp e
        subst e'
        obtain ⟨q1, q2⟩ := p2 j hl
        refine br_t (nI_pos' (by omega)) (yw_end b4 b5 q1 (hb (po j)) (fun t htt => And.intro ?_ (gk_in (k := k + 3) ⟨⟨b1, b2, b3, b4, b5⟩, ht, G, H'⟩)))
        have et := gk_EN_u q2 htt
        subst et
        have := q2.1
        rw [(h j hl).2]
        exact pk_sub (by omega)
    · unfold wpY_length
      refine yw_begin (La := La) (w := w) b1 b4 b5 hw (fun k => (ht k).1) ge hc p0 p1 p2 p3 (fun ft hf => gk_hb b1 hw gs hf) (fun _ rr ft => br_f (by decide) (And.intro rfl (gk_in (k := k + 3) ⟨⟨b1, b2, b3, b4, b5⟩, ht, G, H'⟩))) (fun i e hi => absurd hi ?_)
      have e' : j = i := (nI_eq hj (by omega)).mp e
      omega
theorem i_vc_matches {k : Nat} {u : SX} {v : SY} (I : i_Rel k u v) (hk : k + 3 ≤ 1536) (v1 : Int32) : wpX_matches (fun r => wpY_matches (fun r' v' => r' = r ∧ i_Rel (k + 3) u v') v v1) u v1 := by
  refine gk_el (P := fun u v => wpX_matches (fun r => wpY_matches (fun r' v' => r' = r ∧ i_Rel (k + 3) u v') v v1) u v1) ?_ I
  intro T Pl St Ru Sn Tl wc sz fl lp fi la em rf rl re ss nx en tx ws wl cd ar lf rg sk ro rr ft ow La w R
  obtain ⟨⟨b1, b2, b3, b4, b5⟩, ht, G, H⟩ := id R
  obtain ⟨⟨o1, o2, o3, o4, o5, o6⟩, ge, gs⟩ := id G
  have hw : gk_val w := fun k => (ht k).2
  by_cases h0 : v1 < 0
  · exact br_t h0 (br_t h0 (And.intro rfl (gk_in (k := k + 3) R)))
  · obtain ⟨r, hr, rfl⟩ := nI_of h0
    refine br_f h0 (pk_lt r Ru (fun hl => ?_) (fun hl => br_f h0 (pk_lt r Ru (fun z => absurd z (by omega)) (fun _ => And.intro rfl (gk_in (k := k + 3) R)))))
    refine ⟨Tl + 1, xw_mt19 (ow := ow) (w := w) (by omega) b4 b5 hl o3 o5 ht (fun hm => ?_) (fun hm => ?_) Tl 0 (Nat.zero_add Tl) 0 (Or.inl rfl)⟩
    · refine br_f h0 (pk_lt r Ru (fun _ => ?_) (fun z => absurd z (by omega)))
      refine yw_workText (La := La) (w := w) b1 b5 hw (fun k => (ht k).1) ge (fun rr' ft' hf => And.intro (vp_in_nI (by omega) (by decide)) ?_)
      obtain ⟨s, hs, e, hb⟩ := gk_hb b1 hw gs hf 0 Tl (Nat.zero_le Tl) (Nat.le_refl Tl) r hl
      rw [nI_clamp hr, e]
      exact yw_is (i := 0) hs (by omega) b5 hb (fun _ => br_f (by decide) (And.intro rfl (gk_in (k := k + 3) R))) (fun z => absurd hm z)
    · refine br_f h0 (pk_lt r Ru (fun _ => ?_) (fun z => absurd z (by omega)))
      refine yw_workText (La := La) (w := w) b1 b5 hw (fun k => (ht k).1) ge (fun rr' ft' hf => And.intro (vp_in_nI (by omega) (by decide)) ?_)
      obtain ⟨s, hs, e, hb⟩ := gk_hb b1 hw gs hf 0 Tl (Nat.zero_le Tl) (Nat.le_refl Tl) r hl
      rw [nI_clamp hr, e]
      exact yw_is (i := 0) hs (by omega) b5 hb (fun z => absurd z hm) (fun _ => br_t rfl (And.intro rfl (gk_in (k := k + 3) R)))
theorem i_vc_count {k : Nat} {u : SX} {v : SY} (I : i_Rel k u v) (hk : k + 3 ≤ 1536) (v1 : Int32) (v2 : Int32) : wpX_count (fun r => wpY_count (fun r' v' => r' = r ∧ i_Rel (k + 3) u v') v v1 v2) u v1 v2 := by
  refine gk_el (P := fun u v => wpX_count (fun r => wpY_count (fun r' v' => r' = r ∧ i_Rel (k + 3) u v') v v1 v2) u v1 v2) ?_ I
  intro T Pl St Ru Sn Tl wc sz fl lp fi la em rf rl re ss nx en tx ws wl cd ar lf rg sk ro rr ft ow La w R
  obtain ⟨⟨b1, b2, b3, b4, b5⟩, ht, G, H⟩ := id R
  obtain ⟨⟨o1, o2, o3, o4, o5, o6⟩, ge, gs⟩ := id G
  by_cases h0 : v1 < 0
  · exact br_t h0 (br_t h0 (And.intro rfl (gk_in (k := k + 3) R)))
  obtain ⟨r, hr, rfl⟩ := nI_of h0
  refine br_f h0 (pk_le Ru r (fun hl => br_f h0 (pk_le Ru r (fun _ => And.intro rfl (gk_in (k := k + 3) R)) (fun z => absurd z (by omega)))) (fun hl => ?_))
  by_cases h1 : v2 < 0
  · exact br_t h1 (br_f h0 (pk_le Ru r (fun z => absurd z (by omega)) (fun _ => br_t h1 (And.intro rfl (gk_in (k := k + 3) R)))))
  obtain ⟨n, hn, rfl⟩ := nI_of h1
  refine br_f h1 (pk_le n 4 (fun h4 => ?_) (fun h4 => br_f h0 (pk_le Ru r (fun z => absurd z (by omega)) (fun _ => br_f h1 (pk_le n 4 (fun z => absurd z (by omega)) (fun _ => And.intro rfl (gk_in (k := k + 3) R)))))))
  obtain ⟨s, hs, es, hL⟩ := gs.2 r hl
  have key : ∀ x : Int32, ∀ cnt, x = nI cnt → gk_cn (fun m => gk_M fl lp rf rl re (gk_cw m) r 0 n) (4 ^ n) cnt → wpY_count (fun r' v' => r' = x ∧ i_Rel (k + 3) (nI T, nI Pl, nI St, nI Ru, nI Sn, nI Tl, wc, fl, lp, fi, la, em, rf, rl, re, ss, nx, en, tx, ws, wl) v') (nI T, nI St, nI Ru, nI Tl, sz, cd, ar, lf, rg, sk, ro, tx, rr, ft, 38440) (nI r) (nI n) := by
    intro x cnt ex hx
    refine br_f h0 (pk_le Ru r (fun z => absurd z (by omega)) (fun _ => br_f h1 (pk_le n 4 (fun _ => nm_r (gk_sh1 n (by omega)) ?_) (fun z => absurd z (by omega)))))
    refine ⟨4 ^ n + 1, yw_c40 (La := La) b1 b4 hl (by omega) (gk_p4 n (by omega)) hs es ge (fun c2 rr' ft' h2 => And.intro ?_ (gk_in (k := k + 3) (sz := nI n) R)) (4 ^ n) 0 (Nat.zero_add _) 0 rr ft rfl⟩
    have e := gk_cn_u _ _ _ hx (gk_cn_c _ _ (fun m _ => hL (gk_cw m) (gk_cw_v m) 0 n) h2)
    rw [ex, e]
  refine pk_eq n 0 (fun e => And.intro (vp_in_nI (by omega) (by decide)) ?_) (fun e => ?_)
  · rw [nI_clamp hr]
    subst e
    refine br_c (fun z => key 0 0 rfl ⟨0, rfl, Or.inr ⟨fun y => gk_xa_nil.mp y z, rfl⟩⟩) (fun z => key 1 1 rfl ⟨0, rfl, Or.inl ⟨gk_xa_nil.mpr z, rfl⟩⟩)
  · exact ⟨4 ^ n + 1, xw_ct47 (ow := ow) (by omega) b4 hl (by omega) (by omega) o3 o5 (fun cnt hx => key _ cnt rfl hx) (4 ^ n) 0 (Nat.zero_add _) 0 rfl⟩
theorem i_vc_sortOf {k : Nat} {u : SX} {v : SY} (I : i_Rel k u v) (hk : k + 3 ≤ 1536) (v1 : Int32) (v2 : Int32) : wpX_sortOf (fun r u' => wpY_sortOf (fun r' v' => r' = r ∧ i_Rel (k + 3) u' v') v v1 v2) u v1 v2 := by
  refine gk_el (P := fun u v => wpX_sortOf (fun r u' => wpY_sortOf (fun r' v' => r' = r ∧ i_Rel (k + 3) u' v') v v1 v2) u v1 v2) ?_ I
  intro T Pl St Ru Sn Tl wc sz fl lp fi la em rf rl re ss nx en tx ws wl cd ar lf rg sk ro rr ft ow La w R
  obtain ⟨⟨b1, b2, b3, b4, b5⟩, ht, G, H⟩ := id R
  obtain ⟨⟨o1, o2, o3, o4, o5, o6⟩, ge, gs⟩ := id G
  have hw : gk_val w := fun k => (ht k).2
  by_cases h0 : v1 < 0
  · exact br_t h0 (br_t h0 (And.intro rfl (gk_in (k := k + 3) R)))
  by_cases h1 : v2 < v1
  · exact br_f h0 (br_t h1 (br_f h0 (br_t h1 (And.intro rfl (gk_in (k := k + 3) R)))))
  have h2 : ¬ v2 < 0 := by
    rw [Int32.lt_iff_toInt_lt] at h0 h1 ⊢
    omega
  obtain ⟨f, hf, rfl⟩ := nI_of h0
  obtain ⟨t, htt, rfl⟩ := nI_of h2
  have hft : f ≤ t := by
    rw [nI_ltI htt hf] at h1
    omega
  refine br_f h0 (br_f h1 (pk_le t Tl (fun hl => ?_) (fun hl => br_f h0 (br_f h1 (pk_le t Tl (fun z => absurd z (by omega)) (fun _ => And.intro rfl (gk_in (k := k + 3) R)))))))
  refine ⟨t - f + 1, xw_so25 (w := w) (ow := ow) (by omega) b4 (by omega) o3 o4 o5 ht (fun x Sn' ss' nx' en' H' hx => ?_) (t - f) f (by omega) (Nat.le_refl f) 0 Sn ss nx en H H.1 (Or.inl ⟨rfl, rfl⟩)⟩
  refine br_f h0 (br_f h1 (pk_le t Tl (fun _ => ?_) (fun z => absurd z (by omega))))
  refine yw_workText (La := La) (w := w) b1 b5 hw (fun k => (ht k).1) ge (fun rr' ft' hf' => ?_)
  exact yw_least (M := fun r => gk_M fl lp rf rl re w r f t) b4 (by omega) (by omega) (gk_hb b1 hw gs hf' f t hft hl) (fun y hy => And.intro (gk_LS_u hx hy) (gk_in (k := k + 3) ⟨⟨b1, b2, b3, b4, b5⟩, ht, G, H'⟩))
end
