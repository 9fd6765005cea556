section
/-! pure rows to paste: stores, nI and lN arithmetic, masks, shifts, narrowing, branches by naturals (pk_le, pk_lt, pk_eq), loops (lp1 .. lp16: the measure of the state; rp1 ..: recursion), negatives. Take what you need -/
theorem pk_us {f : Nat → Int32} {k : Nat} {x : Int32} : upd f k x k = x := if_pos rfl
theorem pk_un {f : Nat → Int32} {k j : Nat} {x : Int32} (h : j ≠ k) : upd f k x j = f j := if_neg h
theorem pk_uLs {f : Nat → Int64} {k : Nat} {x : Int64} : vp_updL f k x k = x := if_pos rfl
theorem pk_uLn {f : Nat → Int64} {k j : Nat} {x : Int64} (h : j ≠ k) : vp_updL f k x j = f j := if_neg h
theorem pk_sub {a b : Nat} (h : b ≤ a) : nI a - nI b = nI (a - b) := by
  obtain ⟨c, rfl⟩ : ∃ c, a = c + b := ⟨a - b, by omega⟩
  rw [← nI_add, Int32.add_sub_cancel, Nat.add_sub_cancel]
theorem pk_m1 (n : Nat) : nI (n + 1) + (-1) = nI n := by
  rw [← nI_1, Int32.add_assoc, show (1 : Int32) + (-1) = 0 from rfl, Int32.add_zero]
theorem pk_mul (a b : Nat) : nI a * nI b = nI (a * b) := (Int32.ofNat_mul a b).symm
theorem pk_div {a d : Nat} (ha : a < 2 ^ 31) (h0 : 0 < d) (hd : d < 2 ^ 31) : nI a / nI d = nI (a / d) := by
  apply Int32.toInt_inj.mp
  rw [lg_idiv_nonneg (by rw [nI_toInt ha]; omega) (by rw [nI_toInt hd]; omega), nI_toInt ha, nI_toInt hd, nI_toInt (Nat.lt_of_le_of_lt (Nat.div_le_self a d) ha)]
  first | rfl | exact (Int.natCast_ediv _ _).symm
theorem pk_rem {a d : Nat} (ha : a < 2 ^ 31) (h0 : 0 < d) (hd : d < 2 ^ 31) : nI a - nI a / nI d * nI d = nI (a % d) := by
  rw [pk_div ha h0 hd, pk_mul, pk_sub (Nat.div_mul_le_self a d)]
  exact congrArg nI (by have := Nat.div_add_mod' a d; omega)
theorem pk_sub_toInt {a b : Nat} (ha : a < 2 ^ 30) (hb : b < 2 ^ 30) : (nI a - nI b).toInt = (a : Int) - b := by
  rw [Int32.toInt_sub, nI_toInt (by omega), nI_toInt (by omega)]
  exact Int.bmod_eq_of_le (by omega) (by omega)
theorem pk_sneg {a b : Nat} (hb : b < 2 ^ 30) (h : a < b) : nI a - nI b < 0 := by
  rw [Int32.lt_iff_toInt_lt, pk_sub_toInt (by omega) hb, show (0 : Int32).toInt = 0 from by decide]
  omega
theorem pk_ix (x : Int32) {n : Nat} (hn : n < 2 ^ 31) : x < 0 ∨ nI n ≤ x ∨ ∃ j : Nat, j < n ∧ x = nI j := by
  by_cases h : x < 0
  · exact Or.inl h
  · obtain ⟨j, hj, rfl⟩ := nI_of h
    by_cases h2 : j < n
    · exact Or.inr (Or.inr ⟨j, h2, rfl⟩)
    · exact Or.inr (Or.inl (nI_le (by omega) hj))
theorem pk_le {x y : Int32} {A B : Prop} (a b : Nat) (f : a ≤ b → A) (g : b < a → B) (hx : x = nI a := by rfl) (hy : y = nI b := by rfl) (ha : a < 2 ^ 31 := by omega) (hb : b < 2 ^ 31 := by omega) : (x ≤ y → A) ∧ (¬ x ≤ y → B) := by
  subst hx hy
  rw [nI_leI ha hb]
  exact ⟨f, fun z => g (by omega)⟩
theorem pk_lt {x y : Int32} {A B : Prop} (a b : Nat) (f : a < b → A) (g : b ≤ a → B) (hx : x = nI a := by rfl) (hy : y = nI b := by rfl) (ha : a < 2 ^ 31 := by omega) (hb : b < 2 ^ 31 := by omega) : (x < y → A) ∧ (¬ x < y → B) := by
  subst hx hy
  rw [nI_ltI ha hb]
  exact ⟨f, fun z => g (by omega)⟩
theorem pk_eq {x y : Int32} {A B : Prop} (a b : Nat) (f : a = b → A) (g : a ≠ b → B) (hx : x = nI a := by rfl) (hy : y = nI b := by rfl) (ha : a < 2 ^ 31 := by omega) (hb : b < 2 ^ 31 := by omega) : (x = y → A) ∧ (¬ x = y → B) := by
  subst hx hy
  rw [nI_eq ha hb]
  exact ⟨f, g⟩
theorem pk_in {x : Int32} (n N : Nat) (h : n < N) (hx : x = nI n := by rfl) (hN : N < 2 ^ 31 := by omega) : vp_in x N := by
  subst hx
  exact vp_in_nI h hN
theorem pk_cl {x : Int32} (n : Nat) (hx : x = nI n := by rfl) (h : n < 2 ^ 31 := by omega) : x.toNatClampNeg = n := by
  subst hx
  exact nI_clamp h
theorem pk_tn {n : Nat} (h : n < 2 ^ 32) : (nI n).toBitVec.toNat = n := Nat.mod_eq_of_lt h
theorem pk_and (x : Int32) {m : Int32} (k : Nat) (hm : m.toBitVec.toNat = 2 ^ k - 1) : x &&& m = nI (x.toBitVec.toNat % 2 ^ k) := by
  apply Int32.toBitVec_inj.mp
  apply BitVec.eq_of_toNat_eq
  rw [Int32.toBitVec_and, BitVec.toNat_and, hm, Nat.and_two_pow_sub_one_eq_mod]
  show _ = (BitVec.ofNat 32 _).toNat
  rw [BitVec.toNat_ofNat]
  exact (Nat.mod_eq_of_lt (Nat.lt_of_le_of_lt (Nat.mod_le _ _) x.toBitVec.isLt)).symm
theorem pk_andN {n : Nat} (h : n < 2 ^ 32) {m : Int32} (k : Nat) (hm : m.toBitVec.toNat = 2 ^ k - 1) : nI n &&& m = nI (n % 2 ^ k) := by
  rw [pk_and _ k hm, pk_tn h]
theorem pk_andE (x : Int32) {m : Int32} (k : Nat) (hm : m.toBitVec.toNat = 2 ^ k - 1) : ∃ j : Nat, j < 2 ^ k ∧ x &&& m = nI j := ⟨_, Nat.mod_lt _ (Nat.two_pow_pos k), pk_and x k hm⟩
theorem pk_andIn (x : Int32) {m : Int32} (k : Nat) (hm : m.toBitVec.toNat = 2 ^ k - 1) (hk : k ≤ 30) : vp_in (x &&& m) (2 ^ k) := by
  obtain ⟨j, hj, e⟩ := pk_andE x k hm
  rw [e]
  exact vp_in_nI hj (Nat.lt_of_le_of_lt (Nat.pow_le_pow_right (by decide) hk) (by decide))
theorem pk_shl (a s : Int32) (k : Nat) (hs : (s.toBitVec.smod 32).toNat = k) : (a <<< s).toBitVec.toNat = a.toBitVec.toNat * 2 ^ k % 2 ^ 32 := by
  show (a.toBitVec <<< (s.toBitVec.smod 32).toNat).toNat = _
  rw [hs, BitVec.toNat_shiftLeft, Nat.shiftLeft_eq]
theorem pk_shlN {n : Nat} (s : Int32) (k : Nat) (hs : (s.toBitVec.smod 32).toNat = k) (h : n * 2 ^ k < 2 ^ 32) : nI n <<< s = nI (n * 2 ^ k) := by
  apply Int32.toBitVec_inj.mp
  apply BitVec.eq_of_toNat_eq
  have hn : n < 2 ^ 32 := Nat.lt_of_le_of_lt (Nat.le_mul_of_pos_right n (Nat.two_pow_pos k)) h
  rw [pk_shl _ _ k hs, pk_tn hn, pk_tn h, Nat.mod_eq_of_lt h]
theorem pk_shr (a s : Int32) (k : Nat) (hs : (s.toBitVec.smod 32).toNat = k) : (a >>> s).toInt = a.toInt >>> k := by
  show (a.toBitVec.sshiftRight (s.toBitVec.smod 32).toNat).toInt = _
  rw [hs, BitVec.toInt_sshiftRight]
  rfl
theorem pk_shrN {n : Nat} (h : n < 2 ^ 31) (s : Int32) (k : Nat) (hs : (s.toBitVec.smod 32).toNat = k) : nI n >>> s = nI (n / 2 ^ k) := by
  apply Int32.toInt_inj.mp
  have h2 : n / 2 ^ k ≤ n := Nat.div_le_self _ _
  rw [pk_shr _ _ k hs, nI_toInt h, nI_toInt (by omega), Int.shiftRight_eq_div_pow]
  rfl
theorem pk_ushr (x s : Int32) (k : Nat) (hs : ((s.toUInt32 &&& Int32.toUInt32 31).toBitVec % 32).toNat = k) : (x.toUInt32 >>> (s.toUInt32 &&& Int32.toUInt32 31)).toInt32.toBitVec.toNat = x.toBitVec.toNat / 2 ^ k := by
  have e : (x.toUInt32 >>> (s.toUInt32 &&& Int32.toUInt32 31)).toInt32.toBitVec = x.toBitVec >>> k := by
    rw [← hs]
    exact UInt32.toBitVec_shiftRight _ _
  rw [e, BitVec.toNat_ushiftRight, Nat.shiftRight_eq_div_pow]
theorem pk_ushrN {n : Nat} (hn : n < 2 ^ 32) (s : Int32) (k : Nat) (hs : ((s.toUInt32 &&& Int32.toUInt32 31).toBitVec % 32).toNat = k) : ((nI n).toUInt32 >>> (s.toUInt32 &&& Int32.toUInt32 31)).toInt32 = nI (n / 2 ^ k) := by
  apply Int32.toBitVec_inj.mp
  apply BitVec.eq_of_toNat_eq
  rw [pk_ushr _ s k hs, pk_tn hn, pk_tn (Nat.lt_of_le_of_lt (Nat.div_le_self _ _) hn)]
theorem pk_nb (z : Int32) : narrow .byte (.int z.toInt8.toInt32) = .int z.toInt8.toInt32 := congrArg Value.int (by simp)
theorem pk_ns (z : Int32) : narrow .short (.int z.toInt16.toInt32) = .int z.toInt16.toInt32 := congrArg Value.int (by simp)
theorem pk_fb (r : Int32) : fits .byte (.int r.toInt8.toInt32) = true := by
  have ⟨a, b⟩ := lg_i2b_range r
  have h1 : (-128 : Int32).toInt = -128 := by decide
  have h2 : (127 : Int32).toInt = 127 := by decide
  simp only [fits, Bool.and_eq_true, decide_eq_true_eq, Int32.le_iff_toInt_le, h1, h2]
  omega
theorem pk_fs (r : Int32) : fits .short (.int r.toInt16.toInt32) = true := by
  have ⟨a, b⟩ := lg_i2s_range r
  have h1 : (-32768 : Int32).toInt = -32768 := by decide
  have h2 : (32767 : Int32).toInt = 32767 := by decide
  simp only [fits, Bool.and_eq_true, decide_eq_true_eq, Int32.le_iff_toInt_le, h1, h2]
  omega
theorem pk_charN {q : Nat} (hq : q < 65536) : narrow .char (.int (nI q)) = .int (nI q) ∧ fits .char (.int (nI q)) = true := by
  constructor
  · have e : (nI q).toUInt32.toUInt16.toUInt32.toInt32 = nI q := by
      apply Int32.toBitVec_inj.mp
      apply BitVec.eq_of_toNat_eq
      show (nI q).toUInt32.toUInt16.toUInt32.toNat = q % 2 ^ 32
      rw [UInt16.toNat_toUInt32, UInt32.toNat_toUInt16, show (nI q).toUInt32.toNat = q % 2 ^ 32 from rfl]
      omega
    exact congrArg Value.int e
  · have a : (0 : Int32) ≤ nI q := nI_pos' (by omega)
    have b : nI q ≤ 65535 := nI_le (b := 65535) (by omega) (by decide)
    show (decide ((0 : Int32) ≤ nI q) && decide (nI q ≤ 65535)) = true
    rw [decide_eq_true a, decide_eq_true b]
    rfl
theorem pk_char (x : Int32) : (x.toUInt32 % 65536).toInt32 = nI (x.toBitVec.toNat % 65536) := by
  apply Int32.toBitVec_inj.mp
  apply BitVec.eq_of_toNat_eq
  rw [pk_tn (by omega)]
  show (x.toUInt32 % 65536).toNat = _
  rw [UInt32.toNat_mod]
  rfl
theorem pk_nc (x : Int32) : narrow .char (.int (x.toUInt32 % 65536).toInt32) = .int (x.toUInt32 % 65536).toInt32 := by
  rw [pk_char]
  exact (pk_charN (Nat.mod_lt _ (by decide))).1
theorem pk_fc (x : Int32) : fits .char (.int (x.toUInt32 % 65536).toInt32) = true := by
  rw [pk_char]
  exact (pk_charN (Nat.mod_lt _ (by decide))).2
theorem pk_vb (z : Int32) : vp_nar .byte z.toInt8.toInt32 = z.toInt8.toInt32 := by rw [vp_nar_byte]; simp
theorem pk_vs (z : Int32) : vp_nar .short z.toInt16.toInt32 = z.toInt16.toInt32 := by rw [vp_nar_short]; simp
theorem pk_vc (z : Int32) : vp_nar .char (z.toUInt32 % 65536).toInt32 = (z.toUInt32 % 65536).toInt32 := Value.int.inj (pk_nc z)
theorem pk_lT {n : Nat} (h : n < 2 ^ 63) : (lN n).toInt = (n : Int) := lg_ofNat_toInt h
theorem pk_lLT {a b : Nat} (ha : a < 2 ^ 63) (hb : b < 2 ^ 63) : lN a < lN b ↔ a < b := by
  rw [Int64.lt_iff_toInt_lt, pk_lT ha, pk_lT hb]; omega
theorem pk_lLE {a b : Nat} (ha : a < 2 ^ 63) (hb : b < 2 ^ 63) : lN a ≤ lN b ↔ a ≤ b := by
  rw [Int64.le_iff_toInt_le, pk_lT ha, pk_lT hb]; omega
theorem pk_lEQ {a b : Nat} (ha : a < 2 ^ 63) (hb : b < 2 ^ 63) : lN a = lN b ↔ a = b := by
  rw [← Int64.toInt_inj, pk_lT ha, pk_lT hb]; omega
theorem pk_lOf {x : Int64} (h : ¬ x < 0) : ∃ k : Nat, k < 2 ^ 63 ∧ x = lN k := by
  rw [Int64.lt_iff_toInt_lt] at h
  have h0 : (0 : Int64).toInt = 0 := by decide
  have hx := Int64.toInt_lt x
  refine ⟨x.toInt.toNat, by omega, Int64.toInt_inj.mp ?_⟩
  rw [pk_lT (by omega)]
  omega
theorem pk_lDiv {a b : Nat} (ha : a < 2 ^ 63) (h0 : 0 < b) (hb : b < 2 ^ 63) : lN a / lN b = lN (a / b) := by
  apply Int64.toInt_inj.mp
  rw [lg_ldiv_nonneg (by rw [pk_lT ha]; omega) (by rw [pk_lT hb]; omega), pk_lT ha, pk_lT hb, pk_lT (Nat.lt_of_le_of_lt (Nat.div_le_self a b) ha)]
  rfl
theorem pk_lRem {a b : Nat} (ha : a < 2 ^ 63) (h0 : 0 < b) (hb : b < 2 ^ 63) : lN a - lN a / lN b * lN b = lN (a % b) := by
  rw [pk_lDiv ha h0 hb, lN_mul, lN_sub (Nat.div_mul_le_self a b)]
  exact congrArg lN (by have := Nat.div_add_mod' a b; omega)
theorem pk_loop {σ : Type} (W : Nat → Nat → σ → Prop) (I : Nat → σ → Prop) (e i0 : Nat) (s : σ) (hi : i0 ≤ e) (h0 : I i0 s) (hx : ∀ n s, I e s → W (n + 1) e s)
    (hs : ∀ n i s, i < e → I i s → (∀ s', I (i + 1) s' → W n (i + 1) s') → W (n + 1) i s) : ∃ n, W n i0 s :=
  ⟨e + 1, loop_i W I e hx hs (e + 1) i0 s hi (by omega) h0⟩
theorem pk_loopD {σ : Type} (W : Nat → Nat → σ → Prop) (I : Nat → σ → Prop) (hx : ∀ n s, I 0 s → W (n + 1) 0 s)
    (hs : ∀ n i s, I (i + 1) s → (∀ s', I i s' → W n i s') → W (n + 1) (i + 1) s) : ∀ (e : Nat) (s : σ), I e s → W (e + 1) e s := by
  intro e
  induction e with
  | zero => exact fun s h => hx 0 s h
  | succ e ih => exact fun s h => hs (e + 1) e s h (fun s' h' => ih s' h')
theorem lp1 {A1 : Type} (W : Nat → A1 → Prop) (I : A1 → Prop) (μ : A1 → Nat) (hs : ∀ (n : Nat) (a1 : A1), I a1 → (∀ (b1 : A1), I b1 → μ b1 < μ a1 → W n b1) → W (n + 1) a1) (a1 : A1) (h : I a1) : ∃ n, W n a1 :=
  loop_m (σ := A1) (fun n s => W n s) (fun s => I s) (fun s => μ s) (fun n s hI hk => hs n s hI (fun b1 h9 hm => hk b1 h9 hm)) a1 h
theorem lp2 {A1 A2 : Type} (W : Nat → A1 → A2 → Prop) (I : A1 → A2 → Prop) (μ : A1 → A2 → Nat) (hs : ∀ (n : Nat) (a1 : A1) (a2 : A2), I a1 a2 → (∀ (b1 : A1) (b2 : A2), I b1 b2 → μ b1 b2 < μ a1 a2 → W n b1 b2) → W (n + 1) a1 a2) (a1 : A1) (a2 : A2) (h : I a1 a2) : ∃ n, W n a1 a2 :=
  loop_m (σ := A1 × A2) (fun n s => W n s.1 s.2) (fun s => I s.1 s.2) (fun s => μ s.1 s.2) (fun n s hI hk => hs n s.1 s.2 hI (fun b1 b2 h9 hm => hk (b1, b2) h9 hm)) (a1, a2) h
theorem lp3 {A1 A2 A3 : Type} (W : Nat → A1 → A2 → A3 → Prop) (I : A1 → A2 → A3 → Prop) (μ : A1 → A2 → A3 → Nat) (hs : ∀ (n : Nat) (a1 : A1) (a2 : A2) (a3 : A3), I a1 a2 a3 → (∀ (b1 : A1) (b2 : A2) (b3 : A3), I b1 b2 b3 → μ b1 b2 b3 < μ a1 a2 a3 → W n b1 b2 b3) → W (n + 1) a1 a2 a3) (a1 : A1) (a2 : A2) (a3 : A3) (h : I a1 a2 a3) : ∃ n, W n a1 a2 a3 :=
  loop_m (σ := A1 × A2 × A3) (fun n s => W n s.1 s.2.1 s.2.2) (fun s => I s.1 s.2.1 s.2.2) (fun s => μ s.1 s.2.1 s.2.2) (fun n s hI hk => hs n s.1 s.2.1 s.2.2 hI (fun b1 b2 b3 h9 hm => hk (b1, b2, b3) h9 hm)) (a1, a2, a3) h
theorem lp4 {A1 A2 A3 A4 : Type} (W : Nat → A1 → A2 → A3 → A4 → Prop) (I : A1 → A2 → A3 → A4 → Prop) (μ : A1 → A2 → A3 → A4 → Nat) (hs : ∀ (n : Nat) (a1 : A1) (a2 : A2) (a3 : A3) (a4 : A4), I a1 a2 a3 a4 → (∀ (b1 : A1) (b2 : A2) (b3 : A3) (b4 : A4), I b1 b2 b3 b4 → μ b1 b2 b3 b4 < μ a1 a2 a3 a4 → W n b1 b2 b3 b4) → W (n + 1) a1 a2 a3 a4) (a1 : A1) (a2 : A2) (a3 : A3) (a4 : A4) (h : I a1 a2 a3 a4) : ∃ n, W n a1 a2 a3 a4 :=
  loop_m (σ := A1 × A2 × A3 × A4) (fun n s => W n s.1 s.2.1 s.2.2.1 s.2.2.2) (fun s => I s.1 s.2.1 s.2.2.1 s.2.2.2) (fun s => μ s.1 s.2.1 s.2.2.1 s.2.2.2) (fun n s hI hk => hs n s.1 s.2.1 s.2.2.1 s.2.2.2 hI (fun b1 b2 b3 b4 h9 hm => hk (b1, b2, b3, b4) h9 hm)) (a1, a2, a3, a4) h
theorem lp5 {A1 A2 A3 A4 A5 : Type} (W : Nat → A1 → A2 → A3 → A4 → A5 → Prop) (I : A1 → A2 → A3 → A4 → A5 → Prop) (μ : A1 → A2 → A3 → A4 → A5 → Nat) (hs : ∀ (n : Nat) (a1 : A1) (a2 : A2) (a3 : A3) (a4 : A4) (a5 : A5), I a1 a2 a3 a4 a5 → (∀ (b1 : A1) (b2 : A2) (b3 : A3) (b4 : A4) (b5 : A5), I b1 b2 b3 b4 b5 → μ b1 b2 b3 b4 b5 < μ a1 a2 a3 a4 a5 → W n b1 b2 b3 b4 b5) → W (n + 1) a1 a2 a3 a4 a5) (a1 : A1) (a2 : A2) (a3 : A3) (a4 : A4) (a5 : A5) (h : I a1 a2 a3 a4 a5) : ∃ n, W n a1 a2 a3 a4 a5 :=
  loop_m (σ := A1 × A2 × A3 × A4 × A5) (fun n s => W n s.1 s.2.1 s.2.2.1 s.2.2.2.1 s.2.2.2.2) (fun s => I s.1 s.2.1 s.2.2.1 s.2.2.2.1 s.2.2.2.2) (fun s => μ s.1 s.2.1 s.2.2.1 s.2.2.2.1 s.2.2.2.2) (fun n s hI hk => hs n s.1 s.2.1 s.2.2.1 s.2.2.2.1 s.2.2.2.2 hI (fun b1 b2 b3 b4 b5 h9 hm => hk (b1, b2, b3, b4, b5) h9 hm)) (a1, a2, a3, a4, a5) h
theorem lp6 {A1 A2 A3 A4 A5 A6 : Type} (W : Nat → A1 → A2 → A3 → A4 → A5 → A6 → Prop) (I : A1 → A2 → A3 → A4 → A5 → A6 → Prop) (μ : A1 → A2 → A3 → A4 → A5 → A6 → Nat) (hs : ∀ (n : Nat) (a1 : A1) (a2 : A2) (a3 : A3) (a4 : A4) (a5 : A5) (a6 : A6), I a1 a2 a3 a4 a5 a6 → (∀ (b1 : A1) (b2 : A2) (b3 : A3) (b4 : A4) (b5 : A5) (b6 : A6), I b1 b2 b3 b4 b5 b6 → μ b1 b2 b3 b4 b5 b6 < μ a1 a2 a3 a4 a5 a6 → W n b1 b2 b3 b4 b5 b6) → W (n + 1) a1 a2 a3 a4 a5 a6) (a1 : A1) (a2 : A2) (a3 : A3) (a4 : A4) (a5 : A5) (a6 : A6) (h : I a1 a2 a3 a4 a5 a6) : ∃ n, W n a1 a2 a3 a4 a5 a6 :=
  loop_m (σ := A1 × A2 × A3 × A4 × A5 × A6) (fun n s => W n s.1 s.2.1 s.2.2.1 s.2.2.2.1 s.2.2.2.2.1 s.2.2.2.2.2) (fun s => I s.1 s.2.1 s.2.2.1 s.2.2.2.1 s.2.2.2.2.1 s.2.2.2.2.2) (fun s => μ s.1 s.2.1 s.2.2.1 s.2.2.2.1 s.2.2.2.2.1 s.2.2.2.2.2) (fun n s hI hk => hs n s.1 s.2.1 s.2.2.1 s.2.2.2.1 s.2.2.2.2.1 s.2.2.2.2.2 hI (fun b1 b2 b3 b4 b5 b6 h9 hm => hk (b1, b2, b3, b4, b5, b6) h9 hm)) (a1, a2, a3, a4, a5, a6) h
theorem lp7 {A1 A2 A3 A4 A5 A6 A7 : Type} (W : Nat → A1 → A2 → A3 → A4 → A5 → A6 → A7 → Prop) (I : A1 → A2 → A3 → A4 → A5 → A6 → A7 → Prop) (μ : A1 → A2 → A3 → A4 → A5 → A6 → A7 → Nat) (hs : ∀ (n : Nat) (a1 : A1) (a2 : A2) (a3 : A3) (a4 : A4) (a5 : A5) (a6 : A6) (a7 : A7), I a1 a2 a3 a4 a5 a6 a7 → (∀ (b1 : A1) (b2 : A2) (b3 : A3) (b4 : A4) (b5 : A5) (b6 : A6) (b7 : A7), I b1 b2 b3 b4 b5 b6 b7 → μ b1 b2 b3 b4 b5 b6 b7 < μ a1 a2 a3 a4 a5 a6 a7 → W n b1 b2 b3 b4 b5 b6 b7) → W (n + 1) a1 a2 a3 a4 a5 a6 a7) (a1 : A1) (a2 : A2) (a3 : A3) (a4 : A4) (a5 : A5) (a6 : A6) (a7 : A7) (h : I a1 a2 a3 a4 a5 a6 a7) : ∃ n, W n a1 a2 a3 a4 a5 a6 a7 :=
  loop_m (σ := A1 × A2 × A3 × A4 × A5 × A6 × A7) (fun n s => W n s.1 s.2.1 s.2.2.1 s.2.2.2.1 s.2.2.2.2.1 s.2.2.2.2.2.1 s.2.2.2.2.2.2) (fun s => I s.1 s.2.1 s.2.2.1 s.2.2.2.1 s.2.2.2.2.1 s.2.2.2.2.2.1 s.2.2.2.2.2.2) (fun s => μ s.1 s.2.1 s.2.2.1 s.2.2.2.1 s.2.2.2.2.1 s.2.2.2.2.2.1 s.2.2.2.2.2.2) (fun n s hI hk => hs n s.1 s.2.1 s.2.2.1 s.2.2.2.1 s.2.2.2.2.1 s.2.2.2.2.2.1 s.2.2.2.2.2.2 hI (fun b1 b2 b3 b4 b5 b6 b7 h9 hm => hk (b1, b2, b3, b4, b5, b6, b7) h9 hm)) (a1, a2, a3, a4, a5, a6, a7) h
theorem lp8 {A1 A2 A3 A4 A5 A6 A7 A8 : Type} (W : Nat → A1 → A2 → A3 → A4 → A5 → A6 → A7 → A8 → Prop) (I : A1 → A2 → A3 → A4 → A5 → A6 → A7 → A8 → Prop) (μ : A1 → A2 → A3 → A4 → A5 → A6 → A7 → A8 → Nat) (hs : ∀ (n : Nat) (a1 : A1) (a2 : A2) (a3 : A3) (a4 : A4) (a5 : A5) (a6 : A6) (a7 : A7) (a8 : A8), I a1 a2 a3 a4 a5 a6 a7 a8 → (∀ (b1 : A1) (b2 : A2) (b3 : A3) (b4 : A4) (b5 : A5) (b6 : A6) (b7 : A7) (b8 : A8), I b1 b2 b3 b4 b5 b6 b7 b8 → μ b1 b2 b3 b4 b5 b6 b7 b8 < μ a1 a2 a3 a4 a5 a6 a7 a8 → W n b1 b2 b3 b4 b5 b6 b7 b8) → W (n + 1) a1 a2 a3 a4 a5 a6 a7 a8) (a1 : A1) (a2 : A2) (a3 : A3) (a4 : A4) (a5 : A5) (a6 : A6) (a7 : A7) (a8 : A8) (h : I a1 a2 a3 a4 a5 a6 a7 a8) : ∃ n, W n a1 a2 a3 a4 a5 a6 a7 a8 :=
  loop_m (σ := A1 × A2 × A3 × A4 × A5 × A6 × A7 × A8) (fun n s => W n s.1 s.2.1 s.2.2.1 s.2.2.2.1 s.2.2.2.2.1 s.2.2.2.2.2.1 s.2.2.2.2.2.2.1 s.2.2.2.2.2.2.2) (fun s => I s.1 s.2.1 s.2.2.1 s.2.2.2.1 s.2.2.2.2.1 s.2.2.2.2.2.1 s.2.2.2.2.2.2.1 s.2.2.2.2.2.2.2) (fun s => μ s.1 s.2.1 s.2.2.1 s.2.2.2.1 s.2.2.2.2.1 s.2.2.2.2.2.1 s.2.2.2.2.2.2.1 s.2.2.2.2.2.2.2) (fun n s hI hk => hs n s.1 s.2.1 s.2.2.1 s.2.2.2.1 s.2.2.2.2.1 s.2.2.2.2.2.1 s.2.2.2.2.2.2.1 s.2.2.2.2.2.2.2 hI (fun b1 b2 b3 b4 b5 b6 b7 b8 h9 hm => hk (b1, b2, b3, b4, b5, b6, b7, b8) h9 hm)) (a1, a2, a3, a4, a5, a6, a7, a8) h
theorem lp9 {A1 A2 A3 A4 A5 A6 A7 A8 A9 : Type} (W : Nat → A1 → A2 → A3 → A4 → A5 → A6 → A7 → A8 → A9 → Prop) (I : A1 → A2 → A3 → A4 → A5 → A6 → A7 → A8 → A9 → Prop) (μ : A1 → A2 → A3 → A4 → A5 → A6 → A7 → A8 → A9 → Nat) (hs : ∀ (n : Nat) (a1 : A1) (a2 : A2) (a3 : A3) (a4 : A4) (a5 : A5) (a6 : A6) (a7 : A7) (a8 : A8) (a9 : A9), I a1 a2 a3 a4 a5 a6 a7 a8 a9 → (∀ (b1 : A1) (b2 : A2) (b3 : A3) (b4 : A4) (b5 : A5) (b6 : A6) (b7 : A7) (b8 : A8) (b9 : A9), I b1 b2 b3 b4 b5 b6 b7 b8 b9 → μ b1 b2 b3 b4 b5 b6 b7 b8 b9 < μ a1 a2 a3 a4 a5 a6 a7 a8 a9 → W n b1 b2 b3 b4 b5 b6 b7 b8 b9) → W (n + 1) a1 a2 a3 a4 a5 a6 a7 a8 a9) (a1 : A1) (a2 : A2) (a3 : A3) (a4 : A4) (a5 : A5) (a6 : A6) (a7 : A7) (a8 : A8) (a9 : A9) (h : I a1 a2 a3 a4 a5 a6 a7 a8 a9) : ∃ n, W n a1 a2 a3 a4 a5 a6 a7 a8 a9 :=
  loop_m (σ := A1 × A2 × A3 × A4 × A5 × A6 × A7 × A8 × A9) (fun n s => W n s.1 s.2.1 s.2.2.1 s.2.2.2.1 s.2.2.2.2.1 s.2.2.2.2.2.1 s.2.2.2.2.2.2.1 s.2.2.2.2.2.2.2.1 s.2.2.2.2.2.2.2.2) (fun s => I s.1 s.2.1 s.2.2.1 s.2.2.2.1 s.2.2.2.2.1 s.2.2.2.2.2.1 s.2.2.2.2.2.2.1 s.2.2.2.2.2.2.2.1 s.2.2.2.2.2.2.2.2) (fun s => μ s.1 s.2.1 s.2.2.1 s.2.2.2.1 s.2.2.2.2.1 s.2.2.2.2.2.1 s.2.2.2.2.2.2.1 s.2.2.2.2.2.2.2.1 s.2.2.2.2.2.2.2.2) (fun n s hI hk => hs n s.1 s.2.1 s.2.2.1 s.2.2.2.1 s.2.2.2.2.1 s.2.2.2.2.2.1 s.2.2.2.2.2.2.1 s.2.2.2.2.2.2.2.1 s.2.2.2.2.2.2.2.2 hI (fun b1 b2 b3 b4 b5 b6 b7 b8 b9 h9 hm => hk (b1, b2, b3, b4, b5, b6, b7, b8, b9) h9 hm)) (a1, a2, a3, a4, a5, a6, a7, a8, a9) h
theorem lp10 {A1 A2 A3 A4 A5 A6 A7 A8 A9 A10 : Type} (W : Nat → A1 → A2 → A3 → A4 → A5 → A6 → A7 → A8 → A9 → A10 → Prop) (I : A1 → A2 → A3 → A4 → A5 → A6 → A7 → A8 → A9 → A10 → Prop) (μ : A1 → A2 → A3 → A4 → A5 → A6 → A7 → A8 → A9 → A10 → Nat) (hs : ∀ (n : Nat) (a1 : A1) (a2 : A2) (a3 : A3) (a4 : A4) (a5 : A5) (a6 : A6) (a7 : A7) (a8 : A8) (a9 : A9) (a10 : A10), I a1 a2 a3 a4 a5 a6 a7 a8 a9 a10 → (∀ (b1 : A1) (b2 : A2) (b3 : A3) (b4 : A4) (b5 : A5) (b6 : A6) (b7 : A7) (b8 : A8) (b9 : A9) (b10 : A10), I b1 b2 b3 b4 b5 b6 b7 b8 b9 b10 → μ b1 b2 b3 b4 b5 b6 b7 b8 b9 b10 < μ a1 a2 a3 a4 a5 a6 a7 a8 a9 a10 → W n b1 b2 b3 b4 b5 b6 b7 b8 b9 b10) → W (n + 1) a1 a2 a3 a4 a5 a6 a7 a8 a9 a10) (a1 : A1) (a2 : A2) (a3 : A3) (a4 : A4) (a5 : A5) (a6 : A6) (a7 : A7) (a8 : A8) (a9 : A9) (a10 : A10) (h : I a1 a2 a3 a4 a5 a6 a7 a8 a9 a10) : ∃ n, W n a1 a2 a3 a4 a5 a6 a7 a8 a9 a10 :=
  loop_m (σ := A1 × A2 × A3 × A4 × A5 × A6 × A7 × A8 × A9 × A10) (fun n s => W n s.1 s.2.1 s.2.2.1 s.2.2.2.1 s.2.2.2.2.1 s.2.2.2.2.2.1 s.2.2.2.2.2.2.1 s.2.2.2.2.2.2.2.1 s.2.2.2.2.2.2.2.2.1 s.2.2.2.2.2.2.2.2.2) (fun s => I s.1 s.2.1 s.2.2.1 s.2.2.2.1 s.2.2.2.2.1 s.2.2.2.2.2.1 s.2.2.2.2.2.2.1 s.2.2.2.2.2.2.2.1 s.2.2.2.2.2.2.2.2.1 s.2.2.2.2.2.2.2.2.2) (fun s => μ s.1 s.2.1 s.2.2.1 s.2.2.2.1 s.2.2.2.2.1 s.2.2.2.2.2.1 s.2.2.2.2.2.2.1 s.2.2.2.2.2.2.2.1 s.2.2.2.2.2.2.2.2.1 s.2.2.2.2.2.2.2.2.2) (fun n s hI hk => hs n s.1 s.2.1 s.2.2.1 s.2.2.2.1 s.2.2.2.2.1 s.2.2.2.2.2.1 s.2.2.2.2.2.2.1 s.2.2.2.2.2.2.2.1 s.2.2.2.2.2.2.2.2.1 s.2.2.2.2.2.2.2.2.2 hI (fun b1 b2 b3 b4 b5 b6 b7 b8 b9 b10 h9 hm => hk (b1, b2, b3, b4, b5, b6, b7, b8, b9, b10) h9 hm)) (a1, a2, a3, a4, a5, a6, a7, a8, a9, a10) h
theorem lp11 {A1 A2 A3 A4 A5 A6 A7 A8 A9 A10 A11 : Type} (W : Nat → A1 → A2 → A3 → A4 → A5 → A6 → A7 → A8 → A9 → A10 → A11 → Prop) (I : A1 → A2 → A3 → A4 → A5 → A6 → A7 → A8 → A9 → A10 → A11 → Prop) (μ : A1 → A2 → A3 → A4 → A5 → A6 → A7 → A8 → A9 → A10 → A11 → Nat) (hs : ∀ (n : Nat) (a1 : A1) (a2 : A2) (a3 : A3) (a4 : A4) (a5 : A5) (a6 : A6) (a7 : A7) (a8 : A8) (a9 : A9) (a10 : A10) (a11 : A11), I a1 a2 a3 a4 a5 a6 a7 a8 a9 a10 a11 → (∀ (b1 : A1) (b2 : A2) (b3 : A3) (b4 : A4) (b5 : A5) (b6 : A6) (b7 : A7) (b8 : A8) (b9 : A9) (b10 : A10) (b11 : A11), I b1 b2 b3 b4 b5 b6 b7 b8 b9 b10 b11 → μ b1 b2 b3 b4 b5 b6 b7 b8 b9 b10 b11 < μ a1 a2 a3 a4 a5 a6 a7 a8 a9 a10 a11 → W n b1 b2 b3 b4 b5 b6 b7 b8 b9 b10 b11) → W (n + 1) a1 a2 a3 a4 a5 a6 a7 a8 a9 a10 a11) (a1 : A1) (a2 : A2) (a3 : A3) (a4 : A4) (a5 : A5) (a6 : A6) (a7 : A7) (a8 : A8) (a9 : A9) (a10 : A10) (a11 : A11) (h : I a1 a2 a3 a4 a5 a6 a7 a8 a9 a10 a11) : ∃ n, W n a1 a2 a3 a4 a5 a6 a7 a8 a9 a10 a11 :=
  loop_m (σ := A1 × A2 × A3 × A4 × A5 × A6 × A7 × A8 × A9 × A10 × A11) (fun n s => W n s.1 s.2.1 s.2.2.1 s.2.2.2.1 s.2.2.2.2.1 s.2.2.2.2.2.1 s.2.2.2.2.2.2.1 s.2.2.2.2.2.2.2.1 s.2.2.2.2.2.2.2.2.1 s.2.2.2.2.2.2.2.2.2.1 s.2.2.2.2.2.2.2.2.2.2) (fun s => I s.1 s.2.1 s.2.2.1 s.2.2.2.1 s.2.2.2.2.1 s.2.2.2.2.2.1 s.2.2.2.2.2.2.1 s.2.2.2.2.2.2.2.1 s.2.2.2.2.2.2.2.2.1 s.2.2.2.2.2.2.2.2.2.1 s.2.2.2.2.2.2.2.2.2.2) (fun s => μ s.1 s.2.1 s.2.2.1 s.2.2.2.1 s.2.2.2.2.1 s.2.2.2.2.2.1 s.2.2.2.2.2.2.1 s.2.2.2.2.2.2.2.1 s.2.2.2.2.2.2.2.2.1 s.2.2.2.2.2.2.2.2.2.1 s.2.2.2.2.2.2.2.2.2.2) (fun n s hI hk => hs n s.1 s.2.1 s.2.2.1 s.2.2.2.1 s.2.2.2.2.1 s.2.2.2.2.2.1 s.2.2.2.2.2.2.1 s.2.2.2.2.2.2.2.1 s.2.2.2.2.2.2.2.2.1 s.2.2.2.2.2.2.2.2.2.1 s.2.2.2.2.2.2.2.2.2.2 hI (fun b1 b2 b3 b4 b5 b6 b7 b8 b9 b10 b11 h9 hm => hk (b1, b2, b3, b4, b5, b6, b7, b8, b9, b10, b11) h9 hm)) (a1, a2, a3, a4, a5, a6, a7, a8, a9, a10, a11) h
theorem lp12 {A1 A2 A3 A4 A5 A6 A7 A8 A9 A10 A11 A12 : Type} (W : Nat → A1 → A2 → A3 → A4 → A5 → A6 → A7 → A8 → A9 → A10 → A11 → A12 → Prop) (I : A1 → A2 → A3 → A4 → A5 → A6 → A7 → A8 → A9 → A10 → A11 → A12 → Prop) (μ : A1 → A2 → A3 → A4 → A5 → A6 → A7 → A8 → A9 → A10 → A11 → A12 → Nat) (hs : ∀ (n : Nat) (a1 : A1) (a2 : A2) (a3 : A3) (a4 : A4) (a5 : A5) (a6 : A6) (a7 : A7) (a8 : A8) (a9 : A9) (a10 : A10) (a11 : A11) (a12 : A12), I a1 a2 a3 a4 a5 a6 a7 a8 a9 a10 a11 a12 → (∀ (b1 : A1) (b2 : A2) (b3 : A3) (b4 : A4) (b5 : A5) (b6 : A6) (b7 : A7) (b8 : A8) (b9 : A9) (b10 : A10) (b11 : A11) (b12 : A12), I b1 b2 b3 b4 b5 b6 b7 b8 b9 b10 b11 b12 → μ b1 b2 b3 b4 b5 b6 b7 b8 b9 b10 b11 b12 < μ a1 a2 a3 a4 a5 a6 a7 a8 a9 a10 a11 a12 → W n b1 b2 b3 b4 b5 b6 b7 b8 b9 b10 b11 b12) → W (n + 1) a1 a2 a3 a4 a5 a6 a7 a8 a9 a10 a11 a12) (a1 : A1) (a2 : A2) (a3 : A3) (a4 : A4) (a5 : A5) (a6 : A6) (a7 : A7) (a8 : A8) (a9 : A9) (a10 : A10) (a11 : A11) (a12 : A12) (h : I a1 a2 a3 a4 a5 a6 a7 a8 a9 a10 a11 a12) : ∃ n, W n a1 a2 a3 a4 a5 a6 a7 a8 a9 a10 a11 a12 :=
  loop_m (σ := A1 × A2 × A3 × A4 × A5 × A6 × A7 × A8 × A9 × A10 × A11 × A12) (fun n s => W n s.1 s.2.1 s.2.2.1 s.2.2.2.1 s.2.2.2.2.1 s.2.2.2.2.2.1 s.2.2.2.2.2.2.1 s.2.2.2.2.2.2.2.1 s.2.2.2.2.2.2.2.2.1 s.2.2.2.2.2.2.2.2.2.1 s.2.2.2.2.2.2.2.2.2.2.1 s.2.2.2.2.2.2.2.2.2.2.2) (fun s => I s.1 s.2.1 s.2.2.1 s.2.2.2.1 s.2.2.2.2.1 s.2.2.2.2.2.1 s.2.2.2.2.2.2.1 s.2.2.2.2.2.2.2.1 s.2.2.2.2.2.2.2.2.1 s.2.2.2.2.2.2.2.2.2.1 s.2.2.2.2.2.2.2.2.2.2.1 s.2.2.2.2.2.2.2.2.2.2.2) (fun s => μ s.1 s.2.1 s.2.2.1 s.2.2.2.1 s.2.2.2.2.1 s.2.2.2.2.2.1 s.2.2.2.2.2.2.1 s.2.2.2.2.2.2.2.1 s.2.2.2.2.2.2.2.2.1 s.2.2.2.2.2.2.2.2.2.1 s.2.2.2.2.2.2.2.2.2.2.1 s.2.2.2.2.2.2.2.2.2.2.2) (fun n s hI hk => hs n s.1 s.2.1 s.2.2.1 s.2.2.2.1 s.2.2.2.2.1 s.2.2.2.2.2.1 s.2.2.2.2.2.2.1 s.2.2.2.2.2.2.2.1 s.2.2.2.2.2.2.2.2.1 s.2.2.2.2.2.2.2.2.2.1 s.2.2.2.2.2.2.2.2.2.2.1 s.2.2.2.2.2.2.2.2.2.2.2 hI (fun b1 b2 b3 b4 b5 b6 b7 b8 b9 b10 b11 b12 h9 hm => hk (b1, b2, b3, b4, b5, b6, b7, b8, b9, b10, b11, b12) h9 hm)) (a1, a2, a3, a4, a5, a6, a7, a8, a9, a10, a11, a12) h
theorem lp13 {A1 A2 A3 A4 A5 A6 A7 A8 A9 A10 A11 A12 A13 : Type} (W : Nat → A1 → A2 → A3 → A4 → A5 → A6 → A7 → A8 → A9 → A10 → A11 → A12 → A13 → Prop) (I : A1 → A2 → A3 → A4 → A5 → A6 → A7 → A8 → A9 → A10 → A11 → A12 → A13 → Prop) (μ : A1 → A2 → A3 → A4 → A5 → A6 → A7 → A8 → A9 → A10 → A11 → A12 → A13 → Nat) (hs : ∀ (n : Nat) (a1 : A1) (a2 : A2) (a3 : A3) (a4 : A4) (a5 : A5) (a6 : A6) (a7 : A7) (a8 : A8) (a9 : A9) (a10 : A10) (a11 : A11) (a12 : A12) (a13 : A13), I a1 a2 a3 a4 a5 a6 a7 a8 a9 a10 a11 a12 a13 → (∀ (b1 : A1) (b2 : A2) (b3 : A3) (b4 : A4) (b5 : A5) (b6 : A6) (b7 : A7) (b8 : A8) (b9 : A9) (b10 : A10) (b11 : A11) (b12 : A12) (b13 : A13), I b1 b2 b3 b4 b5 b6 b7 b8 b9 b10 b11 b12 b13 → μ b1 b2 b3 b4 b5 b6 b7 b8 b9 b10 b11 b12 b13 < μ a1 a2 a3 a4 a5 a6 a7 a8 a9 a10 a11 a12 a13 → W n b1 b2 b3 b4 b5 b6 b7 b8 b9 b10 b11 b12 b13) → W (n + 1) a1 a2 a3 a4 a5 a6 a7 a8 a9 a10 a11 a12 a13) (a1 : A1) (a2 : A2) (a3 : A3) (a4 : A4) (a5 : A5) (a6 : A6) (a7 : A7) (a8 : A8) (a9 : A9) (a10 : A10) (a11 : A11) (a12 : A12) (a13 : A13) (h : I a1 a2 a3 a4 a5 a6 a7 a8 a9 a10 a11 a12 a13) : ∃ n, W n a1 a2 a3 a4 a5 a6 a7 a8 a9 a10 a11 a12 a13 :=
  loop_m (σ := A1 × A2 × A3 × A4 × A5 × A6 × A7 × A8 × A9 × A10 × A11 × A12 × A13) (fun n s => W n s.1 s.2.1 s.2.2.1 s.2.2.2.1 s.2.2.2.2.1 s.2.2.2.2.2.1 s.2.2.2.2.2.2.1 s.2.2.2.2.2.2.2.1 s.2.2.2.2.2.2.2.2.1 s.2.2.2.2.2.2.2.2.2.1 s.2.2.2.2.2.2.2.2.2.2.1 s.2.2.2.2.2.2.2.2.2.2.2.1 s.2.2.2.2.2.2.2.2.2.2.2.2) (fun s => I s.1 s.2.1 s.2.2.1 s.2.2.2.1 s.2.2.2.2.1 s.2.2.2.2.2.1 s.2.2.2.2.2.2.1 s.2.2.2.2.2.2.2.1 s.2.2.2.2.2.2.2.2.1 s.2.2.2.2.2.2.2.2.2.1 s.2.2.2.2.2.2.2.2.2.2.1 s.2.2.2.2.2.2.2.2.2.2.2.1 s.2.2.2.2.2.2.2.2.2.2.2.2) (fun s => μ s.1 s.2.1 s.2.2.1 s.2.2.2.1 s.2.2.2.2.1 s.2.2.2.2.2.1 s.2.2.2.2.2.2.1 s.2.2.2.2.2.2.2.1 s.2.2.2.2.2.2.2.2.1 s.2.2.2.2.2.2.2.2.2.1 s.2.2.2.2.2.2.2.2.2.2.1 s.2.2.2.2.2.2.2.2.2.2.2.1 s.2.2.2.2.2.2.2.2.2.2.2.2) (fun n s hI hk => hs n s.1 s.2.1 s.2.2.1 s.2.2.2.1 s.2.2.2.2.1 s.2.2.2.2.2.1 s.2.2.2.2.2.2.1 s.2.2.2.2.2.2.2.1 s.2.2.2.2.2.2.2.2.1 s.2.2.2.2.2.2.2.2.2.1 s.2.2.2.2.2.2.2.2.2.2.1 s.2.2.2.2.2.2.2.2.2.2.2.1 s.2.2.2.2.2.2.2.2.2.2.2.2 hI (fun b1 b2 b3 b4 b5 b6 b7 b8 b9 b10 b11 b12 b13 h9 hm => hk (b1, b2, b3, b4, b5, b6, b7, b8, b9, b10, b11, b12, b13) h9 hm)) (a1, a2, a3, a4, a5, a6, a7, a8, a9, a10, a11, a12, a13) h
theorem lp14 {A1 A2 A3 A4 A5 A6 A7 A8 A9 A10 A11 A12 A13 A14 : Type} (W : Nat → A1 → A2 → A3 → A4 → A5 → A6 → A7 → A8 → A9 → A10 → A11 → A12 → A13 → A14 → Prop) (I : A1 → A2 → A3 → A4 → A5 → A6 → A7 → A8 → A9 → A10 → A11 → A12 → A13 → A14 → Prop) (μ : A1 → A2 → A3 → A4 → A5 → A6 → A7 → A8 → A9 → A10 → A11 → A12 → A13 → A14 → Nat) (hs : ∀ (n : Nat) (a1 : A1) (a2 : A2) (a3 : A3) (a4 : A4) (a5 : A5) (a6 : A6) (a7 : A7) (a8 : A8) (a9 : A9) (a10 : A10) (a11 : A11) (a12 : A12) (a13 : A13) (a14 : A14), I a1 a2 a3 a4 a5 a6 a7 a8 a9 a10 a11 a12 a13 a14 → (∀ (b1 : A1) (b2 : A2) (b3 : A3) (b4 : A4) (b5 : A5) (b6 : A6) (b7 : A7) (b8 : A8) (b9 : A9) (b10 : A10) (b11 : A11) (b12 : A12) (b13 : A13) (b14 : A14), I b1 b2 b3 b4 b5 b6 b7 b8 b9 b10 b11 b12 b13 b14 → μ b1 b2 b3 b4 b5 b6 b7 b8 b9 b10 b11 b12 b13 b14 < μ a1 a2 a3 a4 a5 a6 a7 a8 a9 a10 a11 a12 a13 a14 → W n b1 b2 b3 b4 b5 b6 b7 b8 b9 b10 b11 b12 b13 b14) → W (n + 1) a1 a2 a3 a4 a5 a6 a7 a8 a9 a10 a11 a12 a13 a14) (a1 : A1) (a2 : A2) (a3 : A3) (a4 : A4) (a5 : A5) (a6 : A6) (a7 : A7) (a8 : A8) (a9 : A9) (a10 : A10) (a11 : A11) (a12 : A12) (a13 : A13) (a14 : A14) (h : I a1 a2 a3 a4 a5 a6 a7 a8 a9 a10 a11 a12 a13 a14) : ∃ n, W n a1 a2 a3 a4 a5 a6 a7 a8 a9 a10 a11 a12 a13 a14 :=
  loop_m (σ := A1 × A2 × A3 × A4 × A5 × A6 × A7 × A8 × A9 × A10 × A11 × A12 × A13 × A14) (fun n s => W n s.1 s.2.1 s.2.2.1 s.2.2.2.1 s.2.2.2.2.1 s.2.2.2.2.2.1 s.2.2.2.2.2.2.1 s.2.2.2.2.2.2.2.1 s.2.2.2.2.2.2.2.2.1 s.2.2.2.2.2.2.2.2.2.1 s.2.2.2.2.2.2.2.2.2.2.1 s.2.2.2.2.2.2.2.2.2.2.2.1 s.2.2.2.2.2.2.2.2.2.2.2.2.1 s.2.2.2.2.2.2.2.2.2.2.2.2.2) (fun s => I s.1 s.2.1 s.2.2.1 s.2.2.2.1 s.2.2.2.2.1 s.2.2.2.2.2.1 s.2.2.2.2.2.2.1 s.2.2.2.2.2.2.2.1 s.2.2.2.2.2.2.2.2.1 s.2.2.2.2.2.2.2.2.2.1 s.2.2.2.2.2.2.2.2.2.2.1 s.2.2.2.2.2.2.2.2.2.2.2.1 s.2.2.2.2.2.2.2.2.2.2.2.2.1 s.2.2.2.2.2.2.2.2.2.2.2.2.2) (fun s => μ s.1 s.2.1 s.2.2.1 s.2.2.2.1 s.2.2.2.2.1 s.2.2.2.2.2.1 s.2.2.2.2.2.2.1 s.2.2.2.2.2.2.2.1 s.2.2.2.2.2.2.2.2.1 s.2.2.2.2.2.2.2.2.2.1 s.2.2.2.2.2.2.2.2.2.2.1 s.2.2.2.2.2.2.2.2.2.2.2.1 s.2.2.2.2.2.2.2.2.2.2.2.2.1 s.2.2.2.2.2.2.2.2.2.2.2.2.2) (fun n s hI hk => hs n s.1 s.2.1 s.2.2.1 s.2.2.2.1 s.2.2.2.2.1 s.2.2.2.2.2.1 s.2.2.2.2.2.2.1 s.2.2.2.2.2.2.2.1 s.2.2.2.2.2.2.2.2.1 s.2.2.2.2.2.2.2.2.2.1 s.2.2.2.2.2.2.2.2.2.2.1 s.2.2.2.2.2.2.2.2.2.2.2.1 s.2.2.2.2.2.2.2.2.2.2.2.2.1 s.2.2.2.2.2.2.2.2.2.2.2.2.2 hI (fun b1 b2 b3 b4 b5 b6 b7 b8 b9 b10 b11 b12 b13 b14 h9 hm => hk (b1, b2, b3, b4, b5, b6, b7, b8, b9, b10, b11, b12, b13, b14) h9 hm)) (a1, a2, a3, a4, a5, a6, a7, a8, a9, a10, a11, a12, a13, a14) h
theorem lp15 {A1 A2 A3 A4 A5 A6 A7 A8 A9 A10 A11 A12 A13 A14 A15 : Type} (W : Nat → A1 → A2 → A3 → A4 → A5 → A6 → A7 → A8 → A9 → A10 → A11 → A12 → A13 → A14 → A15 → Prop) (I : A1 → A2 → A3 → A4 → A5 → A6 → A7 → A8 → A9 → A10 → A11 → A12 → A13 → A14 → A15 → Prop) (μ : A1 → A2 → A3 → A4 → A5 → A6 → A7 → A8 → A9 → A10 → A11 → A12 → A13 → A14 → A15 → Nat) (hs : ∀ (n : Nat) (a1 : A1) (a2 : A2) (a3 : A3) (a4 : A4) (a5 : A5) (a6 : A6) (a7 : A7) (a8 : A8) (a9 : A9) (a10 : A10) (a11 : A11) (a12 : A12) (a13 : A13) (a14 : A14) (a15 : A15), I a1 a2 a3 a4 a5 a6 a7 a8 a9 a10 a11 a12 a13 a14 a15 → (∀ (b1 : A1) (b2 : A2) (b3 : A3) (b4 : A4) (b5 : A5) (b6 : A6) (b7 : A7) (b8 : A8) (b9 : A9) (b10 : A10) (b11 : A11) (b12 : A12) (b13 : A13) (b14 : A14) (b15 : A15), I b1 b2 b3 b4 b5 b6 b7 b8 b9 b10 b11 b12 b13 b14 b15 → μ b1 b2 b3 b4 b5 b6 b7 b8 b9 b10 b11 b12 b13 b14 b15 < μ a1 a2 a3 a4 a5 a6 a7 a8 a9 a10 a11 a12 a13 a14 a15 → W n b1 b2 b3 b4 b5 b6 b7 b8 b9 b10 b11 b12 b13 b14 b15) → W (n + 1) a1 a2 a3 a4 a5 a6 a7 a8 a9 a10 a11 a12 a13 a14 a15) (a1 : A1) (a2 : A2) (a3 : A3) (a4 : A4) (a5 : A5) (a6 : A6) (a7 : A7) (a8 : A8) (a9 : A9) (a10 : A10) (a11 : A11) (a12 : A12) (a13 : A13) (a14 : A14) (a15 : A15) (h : I a1 a2 a3 a4 a5 a6 a7 a8 a9 a10 a11 a12 a13 a14 a15) : ∃ n, W n a1 a2 a3 a4 a5 a6 a7 a8 a9 a10 a11 a12 a13 a14 a15 :=
  loop_m (σ := A1 × A2 × A3 × A4 × A5 × A6 × A7 × A8 × A9 × A10 × A11 × A12 × A13 × A14 × A15) (fun n s => W n s.1 s.2.1 s.2.2.1 s.2.2.2.1 s.2.2.2.2.1 s.2.2.2.2.2.1 s.2.2.2.2.2.2.1 s.2.2.2.2.2.2.2.1 s.2.2.2.2.2.2.2.2.1 s.2.2.2.2.2.2.2.2.2.1 s.2.2.2.2.2.2.2.2.2.2.1 s.2.2.2.2.2.2.2.2.2.2.2.1 s.2.2.2.2.2.2.2.2.2.2.2.2.1 s.2.2.2.2.2.2.2.2.2.2.2.2.2.1 s.2.2.2.2.2.2.2.2.2.2.2.2.2.2) (fun s => I s.1 s.2.1 s.2.2.1 s.2.2.2.1 s.2.2.2.2.1 s.2.2.2.2.2.1 s.2.2.2.2.2.2.1 s.2.2.2.2.2.2.2.1 s.2.2.2.2.2.2.2.2.1 s.2.2.2.2.2.2.2.2.2.1 s.2.2.2.2.2.2.2.2.2.2.1 s.2.2.2.2.2.2.2.2.2.2.2.1 s.2.2.2.2.2.2.2.2.2.2.2.2.1 s.2.2.2.2.2.2.2.2.2.2.2.2.2.1 s.2.2.2.2.2.2.2.2.2.2.2.2.2.2) (fun s => μ s.1 s.2.1 s.2.2.1 s.2.2.2.1 s.2.2.2.2.1 s.2.2.2.2.2.1 s.2.2.2.2.2.2.1 s.2.2.2.2.2.2.2.1 s.2.2.2.2.2.2.2.2.1 s.2.2.2.2.2.2.2.2.2.1 s.2.2.2.2.2.2.2.2.2.2.1 s.2.2.2.2.2.2.2.2.2.2.2.1 s.2.2.2.2.2.2.2.2.2.2.2.2.1 s.2.2.2.2.2.2.2.2.2.2.2.2.2.1 s.2.2.2.2.2.2.2.2.2.2.2.2.2.2) (fun n s hI hk => hs n s.1 s.2.1 s.2.2.1 s.2.2.2.1 s.2.2.2.2.1 s.2.2.2.2.2.1 s.2.2.2.2.2.2.1 s.2.2.2.2.2.2.2.1 s.2.2.2.2.2.2.2.2.1 s.2.2.2.2.2.2.2.2.2.1 s.2.2.2.2.2.2.2.2.2.2.1 s.2.2.2.2.2.2.2.2.2.2.2.1 s.2.2.2.2.2.2.2.2.2.2.2.2.1 s.2.2.2.2.2.2.2.2.2.2.2.2.2.1 s.2.2.2.2.2.2.2.2.2.2.2.2.2.2 hI (fun b1 b2 b3 b4 b5 b6 b7 b8 b9 b10 b11 b12 b13 b14 b15 h9 hm => hk (b1, b2, b3, b4, b5, b6, b7, b8, b9, b10, b11, b12, b13, b14, b15) h9 hm)) (a1, a2, a3, a4, a5, a6, a7, a8, a9, a10, a11, a12, a13, a14, a15) h
theorem lp16 {A1 A2 A3 A4 A5 A6 A7 A8 A9 A10 A11 A12 A13 A14 A15 A16 : Type} (W : Nat → A1 → A2 → A3 → A4 → A5 → A6 → A7 → A8 → A9 → A10 → A11 → A12 → A13 → A14 → A15 → A16 → Prop) (I : A1 → A2 → A3 → A4 → A5 → A6 → A7 → A8 → A9 → A10 → A11 → A12 → A13 → A14 → A15 → A16 → Prop) (μ : A1 → A2 → A3 → A4 → A5 → A6 → A7 → A8 → A9 → A10 → A11 → A12 → A13 → A14 → A15 → A16 → Nat) (hs : ∀ (n : Nat) (a1 : A1) (a2 : A2) (a3 : A3) (a4 : A4) (a5 : A5) (a6 : A6) (a7 : A7) (a8 : A8) (a9 : A9) (a10 : A10) (a11 : A11) (a12 : A12) (a13 : A13) (a14 : A14) (a15 : A15) (a16 : A16), I a1 a2 a3 a4 a5 a6 a7 a8 a9 a10 a11 a12 a13 a14 a15 a16 → (∀ (b1 : A1) (b2 : A2) (b3 : A3) (b4 : A4) (b5 : A5) (b6 : A6) (b7 : A7) (b8 : A8) (b9 : A9) (b10 : A10) (b11 : A11) (b12 : A12) (b13 : A13) (b14 : A14) (b15 : A15) (b16 : A16), I b1 b2 b3 b4 b5 b6 b7 b8 b9 b10 b11 b12 b13 b14 b15 b16 → μ b1 b2 b3 b4 b5 b6 b7 b8 b9 b10 b11 b12 b13 b14 b15 b16 < μ a1 a2 a3 a4 a5 a6 a7 a8 a9 a10 a11 a12 a13 a14 a15 a16 → W n b1 b2 b3 b4 b5 b6 b7 b8 b9 b10 b11 b12 b13 b14 b15 b16) → W (n + 1) a1 a2 a3 a4 a5 a6 a7 a8 a9 a10 a11 a12 a13 a14 a15 a16) (a1 : A1) (a2 : A2) (a3 : A3) (a4 : A4) (a5 : A5) (a6 : A6) (a7 : A7) (a8 : A8) (a9 : A9) (a10 : A10) (a11 : A11) (a12 : A12) (a13 : A13) (a14 : A14) (a15 : A15) (a16 : A16) (h : I a1 a2 a3 a4 a5 a6 a7 a8 a9 a10 a11 a12 a13 a14 a15 a16) : ∃ n, W n a1 a2 a3 a4 a5 a6 a7 a8 a9 a10 a11 a12 a13 a14 a15 a16 :=
  loop_m (σ := A1 × A2 × A3 × A4 × A5 × A6 × A7 × A8 × A9 × A10 × A11 × A12 × A13 × A14 × A15 × A16) (fun n s => W n s.1 s.2.1 s.2.2.1 s.2.2.2.1 s.2.2.2.2.1 s.2.2.2.2.2.1 s.2.2.2.2.2.2.1 s.2.2.2.2.2.2.2.1 s.2.2.2.2.2.2.2.2.1 s.2.2.2.2.2.2.2.2.2.1 s.2.2.2.2.2.2.2.2.2.2.1 s.2.2.2.2.2.2.2.2.2.2.2.1 s.2.2.2.2.2.2.2.2.2.2.2.2.1 s.2.2.2.2.2.2.2.2.2.2.2.2.2.1 s.2.2.2.2.2.2.2.2.2.2.2.2.2.2.1 s.2.2.2.2.2.2.2.2.2.2.2.2.2.2.2) (fun s => I s.1 s.2.1 s.2.2.1 s.2.2.2.1 s.2.2.2.2.1 s.2.2.2.2.2.1 s.2.2.2.2.2.2.1 s.2.2.2.2.2.2.2.1 s.2.2.2.2.2.2.2.2.1 s.2.2.2.2.2.2.2.2.2.1 s.2.2.2.2.2.2.2.2.2.2.1 s.2.2.2.2.2.2.2.2.2.2.2.1 s.2.2.2.2.2.2.2.2.2.2.2.2.1 s.2.2.2.2.2.2.2.2.2.2.2.2.2.1 s.2.2.2.2.2.2.2.2.2.2.2.2.2.2.1 s.2.2.2.2.2.2.2.2.2.2.2.2.2.2.2) (fun s => μ s.1 s.2.1 s.2.2.1 s.2.2.2.1 s.2.2.2.2.1 s.2.2.2.2.2.1 s.2.2.2.2.2.2.1 s.2.2.2.2.2.2.2.1 s.2.2.2.2.2.2.2.2.1 s.2.2.2.2.2.2.2.2.2.1 s.2.2.2.2.2.2.2.2.2.2.1 s.2.2.2.2.2.2.2.2.2.2.2.1 s.2.2.2.2.2.2.2.2.2.2.2.2.1 s.2.2.2.2.2.2.2.2.2.2.2.2.2.1 s.2.2.2.2.2.2.2.2.2.2.2.2.2.2.1 s.2.2.2.2.2.2.2.2.2.2.2.2.2.2.2) (fun n s hI hk => hs n s.1 s.2.1 s.2.2.1 s.2.2.2.1 s.2.2.2.2.1 s.2.2.2.2.2.1 s.2.2.2.2.2.2.1 s.2.2.2.2.2.2.2.1 s.2.2.2.2.2.2.2.2.1 s.2.2.2.2.2.2.2.2.2.1 s.2.2.2.2.2.2.2.2.2.2.1 s.2.2.2.2.2.2.2.2.2.2.2.1 s.2.2.2.2.2.2.2.2.2.2.2.2.1 s.2.2.2.2.2.2.2.2.2.2.2.2.2.1 s.2.2.2.2.2.2.2.2.2.2.2.2.2.2.1 s.2.2.2.2.2.2.2.2.2.2.2.2.2.2.2 hI (fun b1 b2 b3 b4 b5 b6 b7 b8 b9 b10 b11 b12 b13 b14 b15 b16 h9 hm => hk (b1, b2, b3, b4, b5, b6, b7, b8, b9, b10, b11, b12, b13, b14, b15, b16) h9 hm)) (a1, a2, a3, a4, a5, a6, a7, a8, a9, a10, a11, a12, a13, a14, a15, a16) h
theorem pk_least (P : Nat → Prop) (h : ∃ k, P k) : ∃ k, P k ∧ ∀ j, j < k → ¬ P j := by
  obtain ⟨k, hk⟩ := h
  induction k using Nat.strongRecOn with
  | ind k ih =>
    by_cases e : ∃ j, j < k ∧ P j
    · obtain ⟨j, hj, pj⟩ := e
      exact ih j hj pj
    · exact ⟨k, hk, fun j hj pj => e ⟨j, hj, pj⟩⟩
theorem rp1 {ρ A1 : Type} (W : Nat → (ρ → Prop) → A1 → Prop) (ok : A1 → Prop) (μ : A1 → Nat) (val : A1 → ρ)
    (hs : ∀ (d : Nat) (post : ρ → Prop) (a1 : A1), ok a1 → post (val a1) → (∀ (post' : ρ → Prop) (b1 : A1), ok b1 → μ b1 < μ a1 → post' (val b1) → W d post' b1) → W (d + 1) post a1) :
    ∀ (d : Nat) (post : ρ → Prop) (a1 : A1), ok a1 → μ a1 < d → post (val a1) → W d post a1 := by
  intro d
  induction d with
  | zero => intro post a1 _ h; omega
  | succ d ih =>
    intro post a1 ho hm hp
    exact hs d post a1 ho hp (fun post' b1 ho' hm' hp' => ih post' b1 ho' (by omega) hp')
theorem rp2 {ρ A1 A2 : Type} (W : Nat → (ρ → Prop) → A1 → A2 → Prop) (ok : A1 → A2 → Prop) (μ : A1 → A2 → Nat) (val : A1 → A2 → ρ)
    (hs : ∀ (d : Nat) (post : ρ → Prop) (a1 : A1) (a2 : A2), ok a1 a2 → post (val a1 a2) → (∀ (post' : ρ → Prop) (b1 : A1) (b2 : A2), ok b1 b2 → μ b1 b2 < μ a1 a2 → post' (val b1 b2) → W d post' b1 b2) → W (d + 1) post a1 a2) :
    ∀ (d : Nat) (post : ρ → Prop) (a1 : A1) (a2 : A2), ok a1 a2 → μ a1 a2 < d → post (val a1 a2) → W d post a1 a2 := by
  intro d
  induction d with
  | zero => intro post a1 a2 _ h; omega
  | succ d ih =>
    intro post a1 a2 ho hm hp
    exact hs d post a1 a2 ho hp (fun post' b1 b2 ho' hm' hp' => ih post' b1 b2 ho' (by omega) hp')
theorem rp3 {ρ A1 A2 A3 : Type} (W : Nat → (ρ → Prop) → A1 → A2 → A3 → Prop) (ok : A1 → A2 → A3 → Prop) (μ : A1 → A2 → A3 → Nat) (val : A1 → A2 → A3 → ρ)
    (hs : ∀ (d : Nat) (post : ρ → Prop) (a1 : A1) (a2 : A2) (a3 : A3), ok a1 a2 a3 → post (val a1 a2 a3) → (∀ (post' : ρ → Prop) (b1 : A1) (b2 : A2) (b3 : A3), ok b1 b2 b3 → μ b1 b2 b3 < μ a1 a2 a3 → post' (val b1 b2 b3) → W d post' b1 b2 b3) → W (d + 1) post a1 a2 a3) :
    ∀ (d : Nat) (post : ρ → Prop) (a1 : A1) (a2 : A2) (a3 : A3), ok a1 a2 a3 → μ a1 a2 a3 < d → post (val a1 a2 a3) → W d post a1 a2 a3 := by
  intro d
  induction d with
  | zero => intro post a1 a2 a3 _ h; omega
  | succ d ih =>
    intro post a1 a2 a3 ho hm hp
    exact hs d post a1 a2 a3 ho hp (fun post' b1 b2 b3 ho' hm' hp' => ih post' b1 b2 b3 ho' (by omega) hp')
theorem rp4 {ρ A1 A2 A3 A4 : Type} (W : Nat → (ρ → Prop) → A1 → A2 → A3 → A4 → Prop) (ok : A1 → A2 → A3 → A4 → Prop) (μ : A1 → A2 → A3 → A4 → Nat) (val : A1 → A2 → A3 → A4 → ρ)
    (hs : ∀ (d : Nat) (post : ρ → Prop) (a1 : A1) (a2 : A2) (a3 : A3) (a4 : A4), ok a1 a2 a3 a4 → post (val a1 a2 a3 a4) → (∀ (post' : ρ → Prop) (b1 : A1) (b2 : A2) (b3 : A3) (b4 : A4), ok b1 b2 b3 b4 → μ b1 b2 b3 b4 < μ a1 a2 a3 a4 → post' (val b1 b2 b3 b4) → W d post' b1 b2 b3 b4) → W (d + 1) post a1 a2 a3 a4) :
    ∀ (d : Nat) (post : ρ → Prop) (a1 : A1) (a2 : A2) (a3 : A3) (a4 : A4), ok a1 a2 a3 a4 → μ a1 a2 a3 a4 < d → post (val a1 a2 a3 a4) → W d post a1 a2 a3 a4 := by
  intro d
  induction d with
  | zero => intro post a1 a2 a3 a4 _ h; omega
  | succ d ih =>
    intro post a1 a2 a3 a4 ho hm hp
    exact hs d post a1 a2 a3 a4 ho hp (fun post' b1 b2 b3 b4 ho' hm' hp' => ih post' b1 b2 b3 b4 ho' (by omega) hp')
theorem rp5 {ρ A1 A2 A3 A4 A5 : Type} (W : Nat → (ρ → Prop) → A1 → A2 → A3 → A4 → A5 → Prop) (ok : A1 → A2 → A3 → A4 → A5 → Prop) (μ : A1 → A2 → A3 → A4 → A5 → Nat) (val : A1 → A2 → A3 → A4 → A5 → ρ)
    (hs : ∀ (d : Nat) (post : ρ → Prop) (a1 : A1) (a2 : A2) (a3 : A3) (a4 : A4) (a5 : A5), ok a1 a2 a3 a4 a5 → post (val a1 a2 a3 a4 a5) → (∀ (post' : ρ → Prop) (b1 : A1) (b2 : A2) (b3 : A3) (b4 : A4) (b5 : A5), ok b1 b2 b3 b4 b5 → μ b1 b2 b3 b4 b5 < μ a1 a2 a3 a4 a5 → post' (val b1 b2 b3 b4 b5) → W d post' b1 b2 b3 b4 b5) → W (d + 1) post a1 a2 a3 a4 a5) :
    ∀ (d : Nat) (post : ρ → Prop) (a1 : A1) (a2 : A2) (a3 : A3) (a4 : A4) (a5 : A5), ok a1 a2 a3 a4 a5 → μ a1 a2 a3 a4 a5 < d → post (val a1 a2 a3 a4 a5) → W d post a1 a2 a3 a4 a5 := by
  intro d
  induction d with
  | zero => intro post a1 a2 a3 a4 a5 _ h; omega
  | succ d ih =>
    intro post a1 a2 a3 a4 a5 ho hm hp
    exact hs d post a1 a2 a3 a4 a5 ho hp (fun post' b1 b2 b3 b4 b5 ho' hm' hp' => ih post' b1 b2 b3 b4 b5 ho' (by omega) hp')
theorem rp6 {ρ A1 A2 A3 A4 A5 A6 : Type} (W : Nat → (ρ → Prop) → A1 → A2 → A3 → A4 → A5 → A6 → Prop) (ok : A1 → A2 → A3 → A4 → A5 → A6 → Prop) (μ : A1 → A2 → A3 → A4 → A5 → A6 → Nat) (val : A1 → A2 → A3 → A4 → A5 → A6 → ρ)
    (hs : ∀ (d : Nat) (post : ρ → Prop) (a1 : A1) (a2 : A2) (a3 : A3) (a4 : A4) (a5 : A5) (a6 : A6), ok a1 a2 a3 a4 a5 a6 → post (val a1 a2 a3 a4 a5 a6) → (∀ (post' : ρ → Prop) (b1 : A1) (b2 : A2) (b3 : A3) (b4 : A4) (b5 : A5) (b6 : A6), ok b1 b2 b3 b4 b5 b6 → μ b1 b2 b3 b4 b5 b6 < μ a1 a2 a3 a4 a5 a6 → post' (val b1 b2 b3 b4 b5 b6) → W d post' b1 b2 b3 b4 b5 b6) → W (d + 1) post a1 a2 a3 a4 a5 a6) :
    ∀ (d : Nat) (post : ρ → Prop) (a1 : A1) (a2 : A2) (a3 : A3) (a4 : A4) (a5 : A5) (a6 : A6), ok a1 a2 a3 a4 a5 a6 → μ a1 a2 a3 a4 a5 a6 < d → post (val a1 a2 a3 a4 a5 a6) → W d post a1 a2 a3 a4 a5 a6 := by
  intro d
  induction d with
  | zero => intro post a1 a2 a3 a4 a5 a6 _ h; omega
  | succ d ih =>
    intro post a1 a2 a3 a4 a5 a6 ho hm hp
    exact hs d post a1 a2 a3 a4 a5 a6 ho hp (fun post' b1 b2 b3 b4 b5 b6 ho' hm' hp' => ih post' b1 b2 b3 b4 b5 b6 ho' (by omega) hp')
theorem rec_p {σ ρ : Type} (W : Nat → (ρ → Prop) → σ → Prop) (ok : σ → Prop) (μ : σ → Nat) (val : σ → ρ)
    (hs : ∀ d s post, ok s → post (val s) → (∀ s' post', ok s' → μ s' < μ s → post' (val s') → W d post' s') → W (d + 1) post s) :
    ∀ d s post, ok s → μ s < d → post (val s) → W d post s := by
  intro d
  induction d with
  | zero => intro s post _ h; omega
  | succ d ih =>
    intro s post ho hm hp
    exact hs d s post ho hp (fun s' post' ho' hm' hp' => ih s' post' ho' (by omega) hp')
theorem rec_q {σ ρ : Type} (W : Nat → (ρ → Prop) → σ → Prop) (ok : σ → Prop) (μ : σ → Nat) (Q : σ → ρ → Prop)
    (hs : ∀ d s post, ok s → (∀ r, Q s r → post r) → (∀ s' post', ok s' → μ s' < μ s → (∀ r, Q s' r → post' r) → W d post' s') → W (d + 1) post s) :
    ∀ d s post, ok s → μ s < d → (∀ r, Q s r → post r) → W d post s := by
  intro d
  induction d with
  | zero => intro s post _ h; omega
  | succ d ih =>
    intro s post ho hm hp
    exact hs d s post ho hp (fun s' post' ho' hm' hp' => ih s' post' ho' (by omega) hp')
def bx_sum (f : Nat → Int32) : Nat → Int32
  | 0 => 0
  | n + 1 => bx_sum f n + f n
theorem ek_u {A : Prop} {B : Nat → Prop} {k N : Nat} (hk : k < N) (h : B k) : (some k = none → A) ∧ (∀ y : Nat, some k = some y → (y < N ∧ B y)) :=
  ⟨fun z => absurd z (Option.some_ne_none k), fun _ e => (by cases e; exact ⟨hk, h⟩)⟩
theorem ek_nu {A : Prop} {B : Nat → Prop} (h : A) : ((none : Option Nat) = none → A) ∧ (∀ y : Nat, (none : Option Nat) = some y → B y) :=
  ⟨fun _ => h, fun _ e => (by cases e)⟩
theorem ek_if {c d A B : Prop} (e : c ↔ d) (f : d → A) (g : ¬ d → B) : (c → A) ∧ (¬ c → B) :=
  ⟨fun z => f (e.mp z), fun z => g (fun y => z (e.mpr y))⟩
theorem ek_v {α : Sort _} {P : α → Prop} {a b : α} (e : a = b) (h : P b) : P a := e ▸ h
theorem co_some {x : Option Nat} {A : Prop} {B : Nat → Prop} (i : Nat) (h : B i) (hx : x = some i := by rfl) : (x = none → A) ∧ (∀ y : Nat, x = some y → B y) := by
  subst hx
  exact ⟨fun e => (nomatch e), fun y e => Option.some.inj e ▸ h⟩
theorem co_none {x : Option Nat} {A : Prop} {B : Nat → Prop} (h : A) (hx : x = none := by rfl) : (x = none → A) ∧ (∀ y : Nat, x = some y → B y) := by
  subst hx
  exact ⟨fun _ => h, fun y e => (nomatch e)⟩
theorem co_any {x : Option Nat} {A : Prop} {B : Nat → Prop} (hn : x = none → A) (hs : ∀ i : Nat, x = some i → B i) : (x = none → A) ∧ (∀ y : Nat, x = some y → B y) := ⟨hn, hs⟩
theorem co_2 {P : Nat → Prop} (h0 : P 0) (h1 : P 1) {i : Nat} (hi : i < 2) : P i :=
  match i, hi with
  | 0, _ => h0
  | 1, _ => h1
theorem co_3 {P : Nat → Prop} (h0 : P 0) (h1 : P 1) (h2 : P 2) {i : Nat} (hi : i < 3) : P i :=
  match i, hi with
  | 0, _ => h0
  | 1, _ => h1
  | 2, _ => h2
theorem co_4 {P : Nat → Prop} (h0 : P 0) (h1 : P 1) (h2 : P 2) (h3 : P 3) {i : Nat} (hi : i < 4) : P i :=
  match i, hi with
  | 0, _ => h0
  | 1, _ => h1
  | 2, _ => h2
  | 3, _ => h3
theorem co_dec {N : Nat} {P : Nat → Prop} [DecidablePred P] (h : (List.range N).all (fun i => decide (P i)) = true) {i : Nat} (hi : i < N) : P i := by
  have := List.all_eq_true.mp h i (List.mem_range.mpr hi)
  exact of_decide_eq_true this
theorem co_tab {α : Type} {l : List α} {d : α} {P : α → Prop} (h : ∀ a, a ∈ l → P a) {i : Nat} (hi : i < l.length) : P (l.getD i d) := by
  rw [List.getD_eq_getElem?_getD, List.getElem?_eq_getElem hi]
  exact h _ (List.getElem_mem hi)
theorem pk_mu {x : Int32} {L : Nat} (h0 : ¬ x < 0) (h : ¬ nI L ≤ x) (hL : L < 2 ^ 31) : ∃ j : Nat, j < L ∧ x = nI j ∧ x + 1 = nI (j + 1) ∧ x.toNatClampNeg = j ∧ L - (x + 1).toNatClampNeg < L - x.toNatClampNeg := by
  obtain ⟨j, hj, rfl⟩ := nI_of h0
  have hl : j < L := Nat.not_le.mp fun q => h (nI_le q hj)
  refine ⟨j, hl, rfl, nI_1 j, nI_clamp hj, ?_⟩
  rw [nI_1, nI_clamp (by omega), nI_clamp hj]
  omega
theorem op_s {α : Type} {r : Option α} {A : Prop} {B : α → Prop} {y : α} (h : r = some y) (b : B y) : (r = none → A) ∧ ∀ z, r = some z → B z :=
  ⟨fun e => (by rw [h] at e; cases e), fun z e => (by rw [h] at e; cases e; exact b)⟩
def l_holds {α : Type} (a : Nat → Option Nat) (LP : List Nat) (p : Nat → α) (c : Nat) (b : Nat → α) : Prop :=
  ∀ j, j < c → ∃ y, a j = some y ∧ y ∈ LP ∧ p y = b j
theorem l_holds_0 {α : Type} {a : Nat → Option Nat} {LP : List Nat} {p b : Nat → α} : l_holds a LP p 0 b := fun j h => absurd h (Nat.not_lt_zero j)
theorem l_in_new (LP : List Nat) (q : Nat) : q ∈ LP ++ [q] := List.mem_append.mpr (Or.inr (List.mem_singleton.mpr rfl))
def l_sum (b : Nat → Int32) : Nat → Int32
  | 0 => 0
  | k + 1 => l_sum b k + b k
theorem sb_shr0 (x : Int32) : x >>> ((0 : Int32) &&& 31) = x := by
  rw [show ((0 : Int32) &&& 31) = 0 by decide]
  simp
theorem sb_shl0 (x : Int32) : x <<< ((0 : Int32) &&& 31) = x := by
  rw [show ((0 : Int32) &&& 31) = 0 by decide]
  simp
theorem sb_cl0 : (0 : Int32).toNatClampNeg = 0 := by decide
theorem sb_m1 {p : Nat} (h : 0 < p) : nI p + (-1) = nI (p - 1) := by
  obtain ⟨q, rfl⟩ : ∃ q, p = q + 1 := ⟨p - 1, by omega⟩
  exact pk_m1 q
def sb_b (c : Nat) : Int32 := (nI c).toInt8.toInt32
theorem sb_byte : ∀ c, c < 256 → sb_b c &&& 255 = nI c ∧ ((nI c).toUInt32 % 65536).toInt32 = nI c ∧ nI c ≤ 255 := by decide +kernel
def sb_Fit (a : Nat → Int32) : Prop := ∀ j, fits .byte (.int (a j)) = true
def sb_Lat (t : Nat → Nat) (n : Nat) (a : Nat → Int32) : Prop := ∀ j, j < n → t j < 256 ∧ a j = sb_b (t j)
theorem sb_fitB (c : Nat) : fits .byte (.int (sb_b c)) = true := pk_fb _
theorem sb_fit0 : sb_Fit (fun _ => 0) := fun _ => by
  show fits .byte (.int 0) = true
  decide
theorem sb_fitU {a : Nat → Int32} {k : Nat} {x : Int32} (h : sb_Fit a) (hx : fits .byte (.int x) = true) : sb_Fit (upd a k x) := by
  intro j
  by_cases e : j = k
  · subst e
    rw [pk_us]
    exact hx
  · rw [pk_un e]
    exact h j
def sb_cat (t : Nat → Nat) (n : Nat) (s : Nat → Nat) : Nat → Nat := fun j => if j < n then t j else s (j - n)
theorem sb_cat_lo {t s : Nat → Nat} {n j : Nat} (h : j < n) : sb_cat t n s j = t j := if_pos h
theorem sb_cat_hi {t s : Nat → Nat} {n j : Nat} : sb_cat t n s (n + j) = s j := by
  show (if n + j < n then t (n + j) else s (n + j - n)) = s j
  rw [if_neg (by omega), Nat.add_sub_cancel_left]
theorem sb_latPut {t s : Nat → Nat} {n w : Nat} {a a' : Nat → Int32} (h : sb_Lat t n a) (hk : ∀ j, j < n → a' j = a j) (hs : ∀ i, i < w → s i < 256 ∧ a' (n + i) = sb_b (s i)) : sb_Lat (sb_cat t n s) (n + w) a' := by
  intro j hj
  by_cases e : j < n
  · rw [sb_cat_lo e, hk j e]
    exact h j e
  · obtain ⟨i, rfl⟩ : ∃ i, j = n + i := ⟨j - n, by omega⟩
    rw [sb_cat_hi]
    exact hs i (by omega)
theorem sb_latKeep {t : Nat → Nat} {n : Nat} {a a' : Nat → Int32} (h : sb_Lat t n a) (hk : ∀ j, j < n → a' j = a j) : sb_Lat t n a' := fun j hj => by
  rw [hk j hj]
  exact h j hj
def sb_cap (q m : Nat) : Nat := if q ≤ m then m else if 2 * m + 2 < q then q else 2 * m + 2
def sb_Room (q m mc ms : Nat) : Prop := q ≤ m ∨ (1 ≤ mc ∧ sb_cap q m ≤ ms ∧ sb_cap q m ≤ 65536)
theorem sb_cap_ge (q m : Nat) : q ≤ sb_cap q m := by
  unfold sb_cap
  split
  · omega
  · split <;> omega
theorem sb_cap_gem (q m : Nat) : m ≤ sb_cap q m := by
  unfold sb_cap
  split
  · omega
  · split <;> omega
theorem sb_cap_le {q m mc ms : Nat} (hm : m ≤ 65536) (hr : sb_Room q m mc ms) : sb_cap q m ≤ 65536 := by
  rcases hr with h | h
  · rw [sb_cap, if_pos h]
    exact hm
  · exact h.2.2
theorem sb_at {P : Int32 → Prop} {x y : Int32} (e : x = y) (h : P y) : P x := e ▸ h
def sb_dg (w : Nat) : Nat := if w < 10 then 1 else if w < 100 then 2 else if w < 1000 then 3 else if w < 10000 then 4 else if w < 100000 then 5 else if w < 1000000 then 6 else if w < 10000000 then 7 else if w < 100000000 then 8 else if w < 1000000000 then 9 else 10
def sb_dec (v : Nat) : Nat → Nat := fun i => 48 + v / 10 ^ (sb_dg v - 1 - i) % 10
theorem sb_dg_in (w : Nat) : 1 ≤ sb_dg w ∧ sb_dg w ≤ 10 := by
  unfold sb_dg
  constructor <;> (repeat' split) <;> omega
theorem sb_dg100 {w : Nat} (h : 100 ≤ w) (hw : w < 2 ^ 31) : sb_dg w = sb_dg (w / 100) + 2 := by
  rw [sb_dg, sb_dg, if_neg (show ¬ w < 10 by omega), if_neg (show ¬ w < 100 by omega)]
  by_cases h3 : w < 1000
  · rw [if_pos h3, if_pos (show w / 100 < 10 by omega)]
  rw [if_neg h3, if_neg (show ¬ w / 100 < 10 by omega)]
  by_cases h4 : w < 10000
  · rw [if_pos h4, if_pos (show w / 100 < 100 by omega)]
  rw [if_neg h4, if_neg (show ¬ w / 100 < 100 by omega)]
  by_cases h5 : w < 100000
  · rw [if_pos h5, if_pos (show w / 100 < 1000 by omega)]
  rw [if_neg h5, if_neg (show ¬ w / 100 < 1000 by omega)]
  by_cases h6 : w < 1000000
  · rw [if_pos h6, if_pos (show w / 100 < 10000 by omega)]
  rw [if_neg h6, if_neg (show ¬ w / 100 < 10000 by omega)]
  by_cases h7 : w < 10000000
  · rw [if_pos h7, if_pos (show w / 100 < 100000 by omega)]
  rw [if_neg h7, if_neg (show ¬ w / 100 < 100000 by omega)]
  by_cases h8 : w < 100000000
  · rw [if_pos h8, if_pos (show w / 100 < 1000000 by omega)]
  rw [if_neg h8, if_neg (show ¬ w / 100 < 1000000 by omega)]
  by_cases h9 : w < 1000000000
  · rw [if_pos h9, if_pos (show w / 100 < 10000000 by omega)]
  rw [if_neg h9, if_neg (show ¬ w / 100 < 10000000 by omega)]
  rw [if_pos (show w / 100 < 100000000 by omega)]
theorem sb_negT {w : Nat} (h : w < 2 ^ 31) : (-nI w).toInt = -(w : Int) := by
  rw [Int32.toInt_neg, nI_toInt h]
  exact Int.bmod_eq_of_le (by omega) (by omega)
theorem sb_nle {a b : Nat} (ha : a < 2 ^ 31) (hb : b < 2 ^ 31) : -nI a ≤ -nI b ↔ b ≤ a := by
  rw [Int32.le_iff_toInt_le, sb_negT ha, sb_negT hb]
  omega
theorem sb_nlt {a b : Nat} (ha : a < 2 ^ 31) (hb : b < 2 ^ 31) : -nI a < -nI b ↔ b < a := by
  rw [Int32.lt_iff_toInt_lt, sb_negT ha, sb_negT hb]
  omega
theorem sb_cmp {A B : Prop} {x : Int32} (v c : Nat) (f : c ≤ v → A) (g : v < c → B) (hv : v < 2 ^ 31) (hx : x = -nI c := by rfl) (hc : c < 2 ^ 31 := by omega) : (-nI v ≤ x → A) ∧ (¬ -nI v ≤ x → B) := by
  subst hx
  rw [sb_nle hv hc]
  exact ⟨f, fun z => g (by omega)⟩
theorem sb_ndiv {w : Nat} (hw : w < 2 ^ 31) : (-nI w) / 100 = -nI (w / 100) := by
  apply Int32.toInt_inj.mp
  have h100 : (100 : Int32).toInt = 100 := by decide
  rw [Int32.toInt_div, sb_negT hw, h100, sb_negT (by omega), Int.neg_tdiv, Int.tdiv_eq_ediv_of_nonneg (by omega), Int.bmod_eq_of_le (by omega) (by omega)]
  omega
theorem sb_nrem {w : Nat} (hw : w < 2 ^ 31) : (-nI (w / 100)) * 100 - (-nI w) = nI (w % 100) := by
  have h := pk_rem (a := w) (d := 100) hw (by decide) (by decide)
  rw [pk_div hw (by decide) (by decide)] at h
  rw [← h]
  show (-nI (w / 100)) * nI 100 - (-nI w) = nI w - nI (w / 100) * nI 100
  rw [Int32.neg_mul, Int32.sub_neg, Int32.add_comm, ← Int32.sub_eq_add_neg]
/-! rows on bits, shifts and unsigned numbers, to paste: each family out of a closed proof of our own, whole with what it rests on; each by itself clean at Lean in its own claim (generation 39, form 5). Take a family whole -/
/-! ===== Int32 by its bits: bt x i ===== -/
def bt (x : Int32) (i : Nat) : Bool := x.toBitVec.getLsbD i
theorem b_ext {x y : Int32} (h : ∀ i, i < 32 → bt x i = bt y i) : x = y := Int32.toBitVec_inj.mp (BitVec.eq_of_getLsbD_eq (fun i hi => h i hi))
theorem b_or (x y : Int32) (i : Nat) : bt (x ||| y) i = (bt x i || bt y i) := by unfold bt; rw [Int32.toBitVec_or, BitVec.getLsbD_or]
theorem b_and (x y : Int32) (i : Nat) : bt (x &&& y) i = (bt x i && bt y i) := by unfold bt; rw [Int32.toBitVec_and, BitVec.getLsbD_and]
theorem b_xor (x y : Int32) (i : Nat) : bt (x ^^^ y) i = (bt x i ^^ bt y i) := by unfold bt; rw [Int32.toBitVec_xor, BitVec.getLsbD_xor]
theorem b_big {x : Int32} {i : Nat} (h : 32 ≤ i) : bt x i = false := BitVec.getLsbD_of_ge _ _ h
theorem b_255 (i : Nat) : bt 255 i = decide (i < 8) := by
  rcases Nat.lt_or_ge i 32 with h | h
  · exact (by decide +kernel : ∀ i, i < 32 → bt 255 i = decide (i < 8)) i h
  · rw [b_big h, decide_eq_false (by omega)]
theorem b_65535 (i : Nat) : bt 65535 i = decide (i < 16) := by
  rcases Nat.lt_or_ge i 32 with h | h
  · exact (by decide +kernel : ∀ i, i < 32 → bt 65535 i = decide (i < 16)) i h
  · rw [b_big h, decide_eq_false (by omega)]
theorem b_m1 : ∀ i, i < 32 → bt (-1) i = true := by decide +kernel
theorem b_0 (i : Nat) : bt 0 i = false := BitVec.getLsbD_zero
theorem s_l : ∀ n, n < 32 → ((nI n &&& 31).toBitVec.smod 32).toNat = n := by decide +kernel
theorem s_u : ∀ n, n < 32 → (((nI n).toUInt32 &&& Int32.toUInt32 31).toBitVec % 32).toNat = n := by decide +kernel
theorem b_shl (n : Nat) (hn : n < 32) (x : Int32) {i : Nat} (hi : i < 32) : bt (x <<< (nI n &&& 31)) i = (decide (n ≤ i) && bt x (i - n)) := by
  unfold bt
  rw [Int32.toBitVec_shiftLeft]
  show (x.toBitVec <<< ((nI n &&& 31).toBitVec.smod 32).toNat).getLsbD i = _
  rw [s_l n hn, BitVec.getLsbD_shiftLeft]
  rcases Nat.lt_or_ge i n with h | h
  · simp [h, Nat.not_le.mpr h]
  · simp [hi, h, Nat.not_lt.mpr h]
theorem b_ushr (n : Nat) (hn : n < 32) (x : Int32) (i : Nat) : bt ((x.toUInt32 >>> ((nI n).toUInt32 &&& Int32.toUInt32 31)).toInt32) i = bt x (n + i) := by
  show (x.toUInt32 >>> ((nI n).toUInt32 &&& Int32.toUInt32 31)).toBitVec.getLsbD i = x.toUInt32.toBitVec.getLsbD (n + i)
  rw [UInt32.toBitVec_shiftRight]
  show (x.toUInt32.toBitVec >>> (((nI n).toUInt32 &&& Int32.toUInt32 31).toBitVec % 32).toNat).getLsbD i = _
  rw [s_u n hn, BitVec.getLsbD_ushiftRight]
theorem b_sshr (n : Nat) (hn : n < 32) (x : Int32) {i : Nat} (hi : i < 32) : bt (x >>> (nI n &&& 31)) i = if n + i < 32 then bt x (n + i) else bt x 31 := by
  unfold bt
  rw [Int32.toBitVec_shiftRight]
  show (x.toBitVec.sshiftRight ((nI n &&& 31).toBitVec.smod 32).toNat).getLsbD i = _
  rw [s_l n hn, BitVec.getLsbD_sshiftRight, BitVec.msb_eq_getLsbD_last]
  simp [hi]
theorem b_shl8 (x : Int32) {i : Nat} (hi : i < 32) : bt (x <<< ((8 : Int32) &&& 31)) i = (decide (8 ≤ i) && bt x (i - 8)) := b_shl 8 (by omega) x hi
theorem b_shl16 (x : Int32) {i : Nat} (hi : i < 32) : bt (x <<< ((16 : Int32) &&& 31)) i = (decide (16 ≤ i) && bt x (i - 16)) := b_shl 16 (by omega) x hi
theorem b_shl24 (x : Int32) {i : Nat} (hi : i < 32) : bt (x <<< ((24 : Int32) &&& 31)) i = (decide (24 ≤ i) && bt x (i - 24)) := b_shl 24 (by omega) x hi
theorem b_sshr8 (x : Int32) {i : Nat} (hi : i < 32) : bt (x >>> ((8 : Int32) &&& 31)) i = if 8 + i < 32 then bt x (8 + i) else bt x 31 := b_sshr 8 (by omega) x hi
/-! ===== nI under and, xor, >>>, one bit, 65535 ===== -/
theorem nx_and (a b : Nat) : nI a &&& nI b = nI (a &&& b) := by
  apply Int32.toBitVec_inj.1
  show BitVec.ofNat 32 a &&& BitVec.ofNat 32 b = BitVec.ofNat 32 (a &&& b)
  apply BitVec.eq_of_getLsbD_eq
  intro i hi
  simp [hi]
theorem nx_xor (a b : Nat) : nI a ^^^ nI b = nI (a ^^^ b) := by
  apply Int32.toBitVec_inj.1
  show BitVec.ofNat 32 a ^^^ BitVec.ofNat 32 b = BitVec.ofNat 32 (a ^^^ b)
  apply BitVec.eq_of_getLsbD_eq
  intro i hi
  simp [hi]
theorem nx_cnt : ∀ j : Fin 32, (UInt32.ofNat j.val &&& Int32.toUInt32 31).toNat % 32 = j.val := by decide +kernel
theorem nx_ush {k j : Nat} (hk : k < 65536) (hj : j < 32) : ((nI k).toUInt32 >>> ((nI j).toUInt32 &&& Int32.toUInt32 31)).toInt32 = nI (k >>> j) := by
  have hs : k >>> j ≤ k := by
    rw [Nat.shiftRight_eq_div_pow]
    exact Nat.div_le_self _ _
  have e2 : UInt32.ofNat k >>> (UInt32.ofNat j &&& Int32.toUInt32 31) = UInt32.ofNat (k >>> j) := by
    apply UInt32.toNat_inj.1
    have h1 : (UInt32.ofNat k).toNat = k := Nat.mod_eq_of_lt (by omega)
    have h2 : (UInt32.ofNat (k >>> j)).toNat = k >>> j := Nat.mod_eq_of_lt (by omega)
    rw [UInt32.toNat_shiftRight, nx_cnt ⟨j, hj⟩, h1, h2]
  show (UInt32.ofNat k >>> (UInt32.ofNat j &&& Int32.toUInt32 31)).toInt32 = _
  rw [e2]
  rfl
theorem nx_bit {k j : Nat} (hk : k < 65536) (hj : j < 16) : (((nI k).toUInt32 >>> ((nI j).toUInt32 &&& Int32.toUInt32 31)).toInt32 &&& 1) = 0 ↔ k.testBit j = false := by
  rw [nx_ush hk (by omega)]
  show nI (k >>> j) &&& nI 1 = 0 ↔ _
  rw [nx_and, Nat.and_one_is_mod, ← nI_0, nI_eq (by omega) (by omega), Nat.testBit_eq_decide_div_mod_eq, Nat.shiftRight_eq_div_pow, decide_eq_false_iff_not]
  generalize k / 2 ^ j = z
  omega
theorem nx_mod (k : Nat) : nI k &&& 65535 = nI (k % 65536) := by
  show nI k &&& nI 65535 = _
  rw [nx_and, show (65535 : Nat) = 2 ^ 16 - 1 from rfl, Nat.and_two_pow_sub_one_eq_mod]
theorem nx_m16 {k : Nat} (h : k < 65536) : nI k &&& 65535 = nI k := by rw [nx_mod, Nat.mod_eq_of_lt h]
theorem nx_mask (x : Int32) : ∃ k, k < 65536 ∧ x &&& 65535 = nI k := by
  have e : x = nI x.toBitVec.toNat := by
    apply Int32.toBitVec_inj.1
    show x.toBitVec = BitVec.ofNat 32 x.toBitVec.toNat
    simp
  refine ⟨x.toBitVec.toNat % 65536, Nat.mod_lt _ (by omega), ?_⟩
  rw [← nx_mod, ← e]
/-! ===== Int32 as a set of bits: test, set ===== -/
def nf_M (m : Int32) : Nat := 4294967296 - m.toBitVec.toNat
theorem nf_sh : ∀ l, l < 32 → ((1 : Int32) <<< (nI l &&& 31)).toBitVec = BitVec.twoPow 32 l := by decide +kernel
theorem nf_sl : ∀ l, l < 32 → (((nI l).toUInt32 &&& Int32.toUInt32 31).toBitVec % 32).toNat = l := by decide +kernel
theorem nf_tp : ∀ l, l < 32 → BitVec.twoPow 32 l ≠ 0#32 := by decide +kernel
theorem nf_bit (m : Int32) (l : Nat) (hl : l < 32) : ((m.toUInt32 >>> ((nI l).toUInt32 &&& Int32.toUInt32 31)).toInt32 &&& 1) = 0 ↔ (m &&& ((1 : Int32) <<< (nI l &&& 31))) = 0 := by
  have e : ((m.toUInt32 >>> ((nI l).toUInt32 &&& Int32.toUInt32 31)).toInt32).toBitVec = m.toBitVec >>> l := by
    show m.toBitVec >>> (((nI l).toUInt32 &&& Int32.toUInt32 31).toBitVec % 32) = m.toBitVec >>> l
    rw [BitVec.ushiftRight_eq', nf_sl l hl]
  rw [← Int32.toBitVec_inj, ← Int32.toBitVec_inj, Int32.toBitVec_and, Int32.toBitVec_and, nf_sh l hl, e, BitVec.and_twoPow]
  show (m.toBitVec >>> l &&& 1#32) = 0#32 ↔ _ = 0#32
  rw [BitVec.and_one_eq_setWidth_ofBool_getLsbD, BitVec.getLsbD_ushiftRight, Nat.add_zero]
  cases hb : m.toBitVec.getLsbD l
  · exact ⟨fun _ => by simp, fun _ => by decide⟩
  · exact ⟨fun z => absurd z (by decide), fun z => absurd ((if_pos rfl).symm.trans z) (nf_tp l hl)⟩
theorem nf_gr (m k : Int32) (h : m &&& k = 0) (hk : k ≠ 0) : nf_M (m ||| k) < nf_M m := by
  have hm := m.toBitVec.isLt
  have hm' := (m ||| k).toBitVec.isLt
  have h1 : m.toBitVec.toNat ≤ (m ||| k).toBitVec.toNat := by
    rw [Int32.toBitVec_or, BitVec.toNat_or]
    exact Nat.left_le_or
  have h2 : m.toBitVec.toNat ≠ (m ||| k).toBitVec.toNat := by
    intro e
    have e2 : m = m ||| k := Int32.toBitVec_inj.mp (BitVec.eq_of_toNat_eq e)
    apply hk
    apply Int32.toBitVec_inj.mp
    show k.toBitVec = 0#32
    apply BitVec.eq_of_getLsbD_eq
    intro i hi
    have a : m.toBitVec.getLsbD i = (m.toBitVec.getLsbD i || k.toBitVec.getLsbD i) := by rw [← BitVec.getLsbD_or, ← Int32.toBitVec_or, ← e2]
    have b : (m.toBitVec.getLsbD i && k.toBitVec.getLsbD i) = false := by
      rw [← BitVec.getLsbD_and, ← Int32.toBitVec_and, h]
      exact BitVec.getLsbD_zero
    rw [BitVec.getLsbD_zero]
    revert a b
    cases m.toBitVec.getLsbD i <;> cases k.toBitVec.getLsbD i <;> simp
  unfold nf_M
  omega
/-! ===== a byte read unsigned ===== -/
theorem bp_b (x : Int32) : x.toInt8.toInt32 &&& 255 = x &&& 255 := by
  apply Int32.toBitVec_inj.mp
  rw [Int32.toBitVec_and, Int32.toBitVec_and, Int8.toBitVec_toInt32, Int32.toBitVec_toInt8]
  apply BitVec.eq_of_getLsbD_eq
  intro i hi
  rw [BitVec.getLsbD_and, BitVec.getLsbD_and]
  have hm : ∀ i < 32, 8 ≤ i → (255 : Int32).toBitVec.getLsbD i = false := by decide
  rcases Nat.lt_or_ge i 8 with z | z
  · rw [BitVec.getLsbD_signExtend, BitVec.getLsbD_signExtend, if_pos z, if_pos hi]
    simp only [z, hi, decide_true, Bool.true_and]
  · rw [hm i hi z]; simp
/-! ===== the char cast and 65535 ===== -/
theorem em_w (v : Int32) : ∃ w : Nat, w < 65536 ∧ (v.toUInt32 % 65536).toInt32 = nI w ∧ v &&& 65535 = nI w := by
  have hr := lw_u16_r v
  have h0 : (0 : Int32).toInt = 0 := by decide
  obtain ⟨w, h1, h2⟩ := nI_of (x := lw_u16 v) (by rw [Int32.lt_iff_toInt_lt]; omega)
  have h3 : (v.toUInt32 % 65536).toInt32 = nI w := h2
  rw [h2, nI_toInt h1] at hr
  exact ⟨w, by omega, h3, by rw [← lg_i2c_mask, ← lg_i2c_nf, h3]⟩
/-! ===== Int64 as a set of bits: test, set, clear ===== -/
theorem ts_nf {x : Bool} (h : ¬ x = false) : x = true := by cases x <;> first | rfl | exact absurd rfl h
theorem ts_nt {x : Bool} (h : ¬ x = true) : x = false := by cases x <;> first | rfl | exact absurd rfl h
theorem ts_bit {w : Int64} {s : UInt64} {j : Nat} (hj : j < 64) (hs : s.toNat = j) : ((w.toUInt64 >>> s).toInt64 &&& 1) = 0 ↔ w.toBitVec.getLsbD j = false := by
  have e : (w.toUInt64 >>> s).toInt64.toBitVec = w.toBitVec >>> j := by
    apply BitVec.eq_of_toNat_eq
    show (w.toUInt64 >>> s).toNat = _
    rw [UInt64.toNat_shiftRight, hs, Nat.mod_eq_of_lt hj, BitVec.toNat_ushiftRight]
    rfl
  rw [← Int64.toBitVec_inj, Int64.toBitVec_and, e]
  show w.toBitVec >>> j &&& 1#64 = 0#64 ↔ _
  constructor
  · intro h
    have t := congrArg (fun x => x.getLsbD 0) h
    simpa using t
  · intro h
    apply BitVec.eq_of_getLsbD_eq
    intro i hi
    cases i with
    | zero => simp [h]
    | succ i => simp
theorem ts_or {w m : Int64} {j : Nat} (hj : j < 64) (hm : m.toBitVec = BitVec.twoPow 64 j) : (w ||| m) = w ↔ w.toBitVec.getLsbD j = true := by
  rw [← Int64.toBitVec_inj, Int64.toBitVec_or, hm]
  constructor
  · intro h
    have t := congrArg (fun x => x.getLsbD j) h
    simp only [BitVec.getLsbD_or, BitVec.getLsbD_twoPow] at t
    simpa [hj] using t.symm
  · intro h
    apply BitVec.eq_of_getLsbD_eq
    intro i hi
    rw [BitVec.getLsbD_or, BitVec.getLsbD_twoPow]
    by_cases e : j = i
    · subst e; rw [h, Bool.true_or]
    · simp [e]
theorem ts_and {w m : Int64} {j : Nat} (hj : j < 64) (hm : m.toBitVec = BitVec.twoPow 64 j) : (w &&& (m ^^^ (-1))) = w ↔ w.toBitVec.getLsbD j = false := by
  have ha : (-1 : Int64).toBitVec = BitVec.allOnes 64 := by decide
  rw [← Int64.toBitVec_inj, Int64.toBitVec_and, Int64.toBitVec_xor, hm, ha]
  constructor
  · intro h
    have t := congrArg (fun x => x.getLsbD j) h
    simp only [BitVec.getLsbD_and, BitVec.getLsbD_xor, BitVec.getLsbD_twoPow, BitVec.getLsbD_allOnes] at t
    simpa [hj] using t.symm
  · intro h
    apply BitVec.eq_of_getLsbD_eq
    intro i hi
    rw [BitVec.getLsbD_and, BitVec.getLsbD_xor, BitVec.getLsbD_twoPow, BitVec.getLsbD_allOnes]
    by_cases e : j = i
    · subst e; rw [h, Bool.false_and]
    · simp [e, hi]
/-! ===== lN n to 2^64: shifts, and, or, masks, one bit ===== -/
theorem wb_tb (n : Nat) : (lN n).toBitVec = BitVec.ofNat 64 n := rfl
theorem wb_inj {a b : Int64} (h : a.toBitVec = b.toBitVec) : a = b := Int64.toBitVec_inj.mp h
theorem wb_tn {n : Nat} (h : n < 2 ^ 64) : (lN n).toBitVec.toNat = n := by rw [wb_tb, BitVec.toNat_ofNat, Nat.mod_eq_of_lt h]
theorem wb_of (x : Int64) : ∃ n, n < 2 ^ 64 ∧ x = lN n := ⟨x.toBitVec.toNat, x.toBitVec.isLt, wb_inj (by rw [wb_tb]; simp)⟩
theorem wb_of32 (x : Int32) : ∃ n, n < 2 ^ 32 ∧ x = nI n := ⟨x.toBitVec.toNat, x.toBitVec.isLt, Int32.toBitVec_inj.mp (by show _ = BitVec.ofNat 32 _; simp)⟩
theorem wb_c : ∀ k, k < 64 → ((nI k).toInt64 &&& 63) = lN k := by decide +kernel
theorem wb_cu : ∀ k, k < 64 → ((nI k).toInt64.toUInt64 &&& Int64.toUInt64 63) = UInt64.ofNat k := by decide +kernel
theorem wb_sm : ∀ k, k < 64 → (BitVec.ofNat 64 k).smod 64 = BitVec.ofNat 64 k := by decide +kernel
theorem wb_pw {a b : Nat} (h : a ≤ b) : 2 ^ b = 2 ^ a * 2 ^ (b - a) := by rw [← Nat.pow_add]; congr 1; omega
theorem wb_lt2 {a b : Nat} (h : a < b) : 2 ^ a < 2 ^ b := Nat.pow_lt_pow_right (by decide) h
theorem wb_mod (n : Nat) : lN n = lN (n % 2 ^ 64) := wb_inj (by rw [wb_tb, wb_tb]; apply BitVec.eq_of_toNat_eq; rw [BitVec.toNat_ofNat, BitVec.toNat_ofNat, Nat.mod_mod])
theorem wb_shr {n k : Nat} (hn : n < 2 ^ 64) (hk : k < 64) : ((lN n).toUInt64 >>> ((nI k).toInt64.toUInt64 &&& Int64.toUInt64 63)).toInt64 = lN (n / 2 ^ k) := by
  rw [wb_cu k hk]
  apply wb_inj
  apply BitVec.eq_of_toNat_eq
  show ((lN n).toUInt64 >>> UInt64.ofNat k).toNat = (BitVec.ofNat 64 _).toNat
  have h1 : (UInt64.ofNat k).toNat = k := by
    show (BitVec.ofNat 64 k).toNat = k
    rw [BitVec.toNat_ofNat, Nat.mod_eq_of_lt (by omega)]
  have h2 : (lN n).toUInt64.toNat = n := wb_tn hn
  rw [UInt64.toNat_shiftRight, h1, h2, Nat.mod_eq_of_lt hk, Nat.shiftRight_eq_div_pow, BitVec.toNat_ofNat, Nat.mod_eq_of_lt (Nat.lt_of_le_of_lt (Nat.div_le_self _ _) hn)]
theorem wb_shl (n : Nat) {k : Nat} (hk : k < 64) : lN n <<< ((nI k).toInt64 &&& 63) = lN (n * 2 ^ k) := by
  rw [wb_c k hk]
  apply wb_inj
  rw [Int64.toBitVec_shiftLeft, wb_tb, wb_tb, wb_tb, wb_sm k hk]
  apply BitVec.eq_of_toNat_eq
  rw [BitVec.shiftLeft_eq', BitVec.toNat_shiftLeft, BitVec.toNat_ofNat, BitVec.toNat_ofNat, BitVec.toNat_ofNat, Nat.mod_eq_of_lt (show k < 2 ^ 64 by omega), Nat.shiftLeft_eq, Nat.mul_mod, Nat.mod_mod, ← Nat.mul_mod]
theorem wb_and {a b : Nat} (ha : a < 2 ^ 64) (hb : b < 2 ^ 64) : lN a &&& lN b = lN (a &&& b) := by
  apply wb_inj
  rw [Int64.toBitVec_and, wb_tb, wb_tb, wb_tb]
  apply BitVec.eq_of_toNat_eq
  rw [BitVec.toNat_and, BitVec.toNat_ofNat, BitVec.toNat_ofNat, BitVec.toNat_ofNat, Nat.mod_eq_of_lt ha, Nat.mod_eq_of_lt hb, Nat.mod_eq_of_lt (Nat.and_lt_two_pow _ hb)]
theorem wb_or {a b : Nat} (ha : a < 2 ^ 64) (hb : b < 2 ^ 64) : lN a ||| lN b = lN (a ||| b) := by
  apply wb_inj
  rw [Int64.toBitVec_or, wb_tb, wb_tb, wb_tb]
  apply BitVec.eq_of_toNat_eq
  rw [BitVec.toNat_or, BitVec.toNat_ofNat, BitVec.toNat_ofNat, BitVec.toNat_ofNat, Nat.mod_eq_of_lt ha, Nat.mod_eq_of_lt hb, Nat.mod_eq_of_lt (Nat.or_lt_two_pow ha hb)]
theorem wb_mask {n k : Nat} (hn : n < 2 ^ 64) (hk : k < 64) : lN n &&& lN (2 ^ k - 1) = lN (n % 2 ^ k) := by
  rw [wb_and hn (by have := wb_lt2 hk; omega), Nat.and_two_pow_sub_one_eq_mod]
theorem wb_a1 {n : Nat} (hn : n < 2 ^ 64) : lN n &&& 1 = lN (n % 2) := wb_mask (k := 1) hn (by decide)
theorem wb_bit {n k : Nat} (hn : n < 2 ^ 64) (hk : k < 64) : ((lN n).toUInt64 >>> ((nI k).toInt64.toUInt64 &&& Int64.toUInt64 63)).toInt64 &&& 1 = lN (n / 2 ^ k % 2) := by
  rw [wb_shr hn hk, wb_a1 (Nat.lt_of_le_of_lt (Nat.div_le_self _ _) hn)]
theorem wb_xor {q k : Nat} (hk : k < 63) (h : 2 ^ k ≤ q) (h2 : q < 2 ^ (k + 1)) : lN q ^^^ lN (2 ^ k) = lN (q - 2 ^ k) := by
  obtain ⟨r, rfl⟩ : ∃ r, q = 2 ^ k + r := ⟨q - 2 ^ k, by omega⟩
  have hr : r < 2 ^ k := by rw [Nat.pow_succ] at h2; omega
  have hx : (2 ^ k + r) ^^^ 2 ^ k = r := by
    apply Nat.eq_of_testBit_eq
    intro i
    rw [Nat.testBit_xor, Nat.testBit_two_pow]
    rcases Nat.lt_trichotomy i k with h | h | h
    · rw [Nat.testBit_two_pow_add_gt h]
      simp [show ¬ k = i by omega]
    · subst h
      rw [Nat.testBit_two_pow_add_eq]
      simp
    · have a1 : 2 ^ (k + 1) ≤ 2 ^ i := Nat.pow_le_pow_right (by decide) h
      rw [Nat.testBit_lt_two_pow (show 2 ^ k + r < 2 ^ i by omega), Nat.testBit_lt_two_pow (show r < 2 ^ i by omega)]
      simp [show ¬ k = i by omega]
  have b1 := wb_lt2 (show k + 1 < 64 by omega)
  have b2 := wb_lt2 (show k < 64 by omega)
  apply wb_inj
  rw [Int64.toBitVec_xor, wb_tb, wb_tb, wb_tb]
  apply BitVec.eq_of_toNat_eq
  rw [BitVec.toNat_xor, BitVec.toNat_ofNat, BitVec.toNat_ofNat, BitVec.toNat_ofNat, Nat.mod_eq_of_lt (by omega : 2 ^ k + r < 2 ^ 64), Nat.mod_eq_of_lt b2, hx, Nat.add_sub_cancel_left, Nat.mod_eq_of_lt (by omega)]
/-! ===== lN: masks, 'or' of parts that don't overlap is a sum ===== -/
theorem u_tn {n : Nat} (h : n < 2 ^ 64) : (UInt64.ofNat n).toNat = n := Nat.mod_eq_of_lt h
theorem g_and {a b c : Nat} (ha : a < 2 ^ 64) (hb : b < 2 ^ 64) (hc : a &&& b = c) : lN a &&& lN b = lN c := by
  subst hc
  have h : UInt64.ofNat a &&& UInt64.ofNat b = UInt64.ofNat (a &&& b) := UInt64.toNat_inj.mp (by rw [UInt64.toNat_and, u_tn ha, u_tn hb, u_tn (Nat.and_lt_two_pow a hb)])
  have h2 := congrArg UInt64.toInt64 h
  exact h2
theorem g_and1 {a : Nat} (ha : a < 2 ^ 64) : lN a &&& 1 = lN (a % 2) := g_and (b := 1) ha (by decide) (Nat.and_two_pow_sub_one_eq_mod a 1)
theorem g_mask {a s p : Nat} (hp : 2 ^ s = p) (hs : s < 64) (ha : a < 2 ^ 64) : lN a &&& lN (p - 1) = lN (a % p) := by
  subst hp
  have := Nat.pow_lt_pow_right (show 1 < 2 by decide) hs
  exact g_and ha (by omega) (Nat.and_two_pow_sub_one_eq_mod a s)
theorem g_or {k p a b : Nat} (hp : 2 ^ k = p) (ha : a < p) (h : b * p + a < 2 ^ 64) : lN (b * p) ||| lN a = lN (b * p + a) := by
  subst hp
  have h1 : b * 2 ^ k ||| a = b * 2 ^ k + a := by rw [← Nat.shiftLeft_eq, Nat.shiftLeft_add_eq_or_of_lt ha]
  have h3 : UInt64.ofNat (b * 2 ^ k) ||| UInt64.ofNat a = UInt64.ofNat (b * 2 ^ k + a) := UInt64.toNat_inj.mp (by rw [UInt64.toNat_or, u_tn (by omega), u_tn (by omega), u_tn h, h1])
  have h2 := congrArg UInt64.toInt64 h3
  exact h2
theorem g_or' {k p a b : Nat} (hp : 2 ^ k = p) (ha : a < p) (h : a + b * p < 2 ^ 64) : lN a ||| lN (b * p) = lN (a + b * p) := by
  rw [Int64.or_comm, g_or hp ha (by omega), Nat.add_comm]
theorem g_ushr {a k p : Nat} {y : UInt64} (hy : y = UInt64.ofNat k) (hk : k < 64) (hp : 2 ^ k = p) (ha : a < 2 ^ 64) : ((lN a).toUInt64 >>> y).toInt64 = lN (a / p) := by
  subst hy hp
  have h : UInt64.ofNat a >>> UInt64.ofNat k = UInt64.ofNat (a / 2 ^ k) := UInt64.toNat_inj.mp (by rw [UInt64.toNat_shiftRight, u_tn ha, u_tn (by omega), u_tn (Nat.lt_of_le_of_lt (Nat.div_le_self _ _) ha), Nat.mod_eq_of_lt hk, Nat.shiftRight_eq_div_pow])
  have h2 := congrArg UInt64.toInt64 h
  exact h2
theorem g_shl {a k p : Nat} {y : Int64} (hy : y.toBitVec.smod 64 = BitVec.ofNat 64 k) (hk : k < 64) (hp : 2 ^ k = p) (ha : a < 2 ^ 64) : lN a <<< y = lN (a * p) := by
  subst hp
  apply Int64.toBitVec_inj.mp
  rw [Int64.toBitVec_shiftLeft, hy]
  apply BitVec.eq_of_toNat_eq
  have hb : (lN a).toBitVec.toNat = a := Nat.mod_eq_of_lt ha
  have hk' : (BitVec.ofNat 64 k).toNat = k := Nat.mod_eq_of_lt (by omega)
  have h : ((lN a).toBitVec <<< BitVec.ofNat 64 k).toNat = (a * 2 ^ k) % 2 ^ 64 := by simp only [BitVec.shiftLeft_eq', BitVec.toNat_shiftLeft, hb, hk', Nat.shiftLeft_eq]
  exact h
/-! ===== lN to 2^62 under >> and >>> ===== -/
theorem pf_lI {a : Nat} (h : a < 2 ^ 63) : (lN a).toInt = (a : Int) := lg_ofNat_toInt h
theorem pf_shr {a d : Nat} {D : Int64} (hD : (D.toBitVec.smod 64).toNat = d) (h : a < 2 ^ 62) : lN a >>> D = lN (a / 2 ^ d) := by
  have hd : a / 2 ^ d ≤ a := Nat.div_le_self _ _
  apply Int64.toInt_inj.mp
  have e : (lN a >>> D).toInt = (lN a).toInt >>> d := by
    rw [← hD]
    exact BitVec.toInt_sshiftRight ..
  rw [e, Int.shiftRight_eq_div_pow, pf_lI (by omega), pf_lI (by omega)]
  rfl
theorem pf_ushr {a d : Nat} {D : UInt64} (hD : D.toNat % 64 = d) (h : a < 2 ^ 62) : ((lN a).toUInt64 >>> D).toInt64 = lN (a / 2 ^ d) := by
  have hd : a / 2 ^ d ≤ a := Nat.div_le_self _ _
  have e : (lN a).toUInt64 >>> D = UInt64.ofNat (a / 2 ^ d) := UInt64.toNat_inj.mp (by
    rw [UInt64.toNat_shiftRight, hD, Nat.shiftRight_eq_div_pow, UInt64.toNat_ofNat']
    show (UInt64.ofNat a).toNat / 2 ^ d = _
    rw [UInt64.toNat_ofNat', Nat.mod_eq_of_lt (by omega), Nat.mod_eq_of_lt (by omega)])
  rw [e]
  rfl
theorem pf_andw (x : Int64) : ∃ m, m < 2 ^ 32 ∧ x &&& 4294967295 = lN m := ⟨x.toBitVec.toNat % 2 ^ 32, Nat.mod_lt _ (by decide), Int64.toBitVec_inj.mp (BitVec.eq_of_toNat_eq (by
  show (x.toBitVec &&& 4294967295#64).toNat = (BitVec.ofNat 64 (x.toBitVec.toNat % 2 ^ 32)).toNat
  rw [BitVec.toNat_and, show (4294967295#64).toNat = 2 ^ 32 - 1 from by decide, Nat.and_two_pow_sub_one_eq_mod, BitVec.toNat_ofNat]
  omega))⟩
/-! ===== Int64 as an unsigned number: uN x ===== -/
def uN (x : Int64) : Nat := x.toUInt64.toNat
theorem uN_lt (x : Int64) : uN x < 18446744073709551616 := x.toUInt64.toNat_lt
theorem uN_inj {x y : Int64} (h : uN x = uN y) : x = y := congrArg UInt64.toInt64 (UInt64.toNat_inj.mp h)
theorem uN_add (x y : Int64) : uN (x + y) = (uN x + uN y) % 18446744073709551616 := by
  show (x.toUInt64 + y.toUInt64).toNat = _
  exact UInt64.toNat_add _ _
theorem uN_mul (x y : Int64) : uN (x * y) = (uN x * uN y) % 18446744073709551616 := by
  show (x.toUInt64 * y.toUInt64).toNat = _
  exact UInt64.toNat_mul _ _
theorem uN_shl (x : Int64) : uN (x <<< ((1 : Int32).toInt64 &&& 63)) = (2 * uN x) % 18446744073709551616 := by
  have h : (((1 : Int32).toInt64 &&& 63).toBitVec.smod 64).toNat = 1 := by decide
  show (x.toBitVec <<< (((1 : Int32).toInt64 &&& 63).toBitVec.smod 64).toNat).toNat = _
  rw [h, BitVec.toNat_shiftLeft, Nat.shiftLeft_eq, Nat.mul_comm]
  rfl
theorem uN_shr (x : Int64) (s : UInt64) : uN (x.toUInt64 >>> s).toInt64 = uN x / 2 ^ (s.toNat % 64) := by
  show (x.toUInt64 >>> s).toNat = _
  rw [UInt64.toNat_shiftRight, Nat.shiftRight_eq_div_pow]
  rfl
theorem uN_s32 (x : Int64) : uN (x.toUInt64 >>> ((32 : Int32).toInt64.toUInt64 &&& Int64.toUInt64 63)).toInt64 = uN x / 4294967296 := by
  have h : ((32 : Int32).toInt64.toUInt64 &&& Int64.toUInt64 63).toNat % 64 = 32 := by decide
  rw [uN_shr, h]
theorem uN_s63 (x : Int64) : uN (x.toUInt64 >>> ((63 : Int32).toInt64.toUInt64 &&& Int64.toUInt64 63)).toInt64 = uN x / 9223372036854775808 := by
  have h : ((63 : Int32).toInt64.toUInt64 &&& Int64.toUInt64 63).toNat % 64 = 63 := by decide
  rw [uN_shr, h]
theorem uN_lo (x : Int64) : uN (x &&& 4294967295) = uN x % 4294967296 := by
  show (x.toUInt64 &&& Int64.toUInt64 4294967295).toNat = _
  rw [UInt64.toNat_and]
  exact Nat.and_two_pow_sub_one_eq_mod _ 32
theorem uN_bit (x : Int64) : (x &&& 1) = 0 ↔ uN x % 2 = 0 := by
  have h : uN (x &&& 1) = uN x % 2 := by
    show (x.toUInt64 &&& Int64.toUInt64 1).toNat = _
    rw [UInt64.toNat_and]
    exact Nat.and_two_pow_sub_one_eq_mod _ 1
  rw [← h]
  exact ⟨fun z => by rw [z]; rfl, fun z => uN_inj (z.trans rfl)⟩
theorem uN_or {x y : Int64} (hy : uN y < 2) : uN ((x <<< ((1 : Int32).toInt64 &&& 63)) ||| y) = (2 * uN x) % 18446744073709551616 + uN y := by
  have h1 : uN ((x <<< ((1 : Int32).toInt64 &&& 63)) ||| y) = uN (x <<< ((1 : Int32).toInt64 &&& 63)) ||| uN y := UInt64.toNat_or _ _
  have h2 : (2 * uN x) % 18446744073709551616 = 2 ^ 1 * (uN x % 9223372036854775808) := by omega
  rw [h1, uN_shl, h2]
  exact (Nat.two_pow_add_eq_or_of_lt (i := 1) hy _).symm
theorem nat_xor {a : Nat} (h : a < 18446744073709551616) : a ^^^ 2 ^ 63 = (a + 9223372036854775808) % 18446744073709551616 := by
  have h1 : (a ^^^ 2 ^ 63) % 2 ^ 63 = a % 2 ^ 63 := by rw [Nat.xor_mod_two_pow, Nat.mod_self, Nat.xor_zero]
  have h2 : (a ^^^ 2 ^ 63) / 2 ^ 63 = (a / 2 ^ 63) ^^^ 1 := by rw [Nat.xor_div_two_pow, Nat.div_self (Nat.two_pow_pos 63)]
  have h3 : a / 2 ^ 63 = 0 ∨ a / 2 ^ 63 = 1 := by omega
  generalize a ^^^ 2 ^ 63 = t at h1 h2
  rcases h3 with h3 | h3
  · rw [h3] at h2
    have h2 : t / 2 ^ 63 = 1 := h2
    omega
  · rw [h3] at h2
    have h2 : t / 2 ^ 63 = 0 := h2
    omega
theorem uN_xor (x : Int64) : uN (x ^^^ (-9223372036854775808)) = (uN x + 9223372036854775808) % 18446744073709551616 := by
  rw [← nat_xor (uN_lt x)]
  exact UInt64.toNat_xor _ _
theorem uN_int (x : Int64) : x.toInt = if 2 * uN x < 18446744073709551616 then (uN x : Int) else (uN x : Int) - 18446744073709551616 := BitVec.toInt_eq_toNat_cond _
theorem uN_le (x y : Int64) : (x ^^^ (-9223372036854775808)) ≤ (y ^^^ (-9223372036854775808)) ↔ uN x ≤ uN y := by
  have hx := uN_lt x
  have hy := uN_lt y
  rw [Int64.le_iff_toInt_le, uN_int, uN_int, uN_xor, uN_xor]
  omega
theorem uN_sk (x : Int64) {k : Nat} (hk : k < 64) : uN (x.toUInt64 >>> ((nI k).toInt64.toUInt64 &&& Int64.toUInt64 63)).toInt64 = uN x / 2 ^ k := by
  have h : ((nI k).toInt64.toUInt64 &&& Int64.toUInt64 63).toNat % 64 = k := by
    rw [nI_l (by omega), UInt64.toNat_and]
    have e : (lN k).toUInt64.toNat = k % 2 ^ 64 := rfl
    have e2 : (Int64.toUInt64 63).toNat = 2 ^ 6 - 1 := by decide
    rw [e, e2, Nat.and_two_pow_sub_one_eq_mod]
    omega
  rw [uN_shr, h]
/-! ===== unsigned comparison by xor with the least ===== -/
theorem lN_bv (n : Nat) : (lN n).toBitVec = BitVec.ofNat 64 n := rfl
theorem lN_nat {n : Nat} (h : n < 2 ^ 64) : (lN n).toBitVec.toNat = n := by rw [lN_bv, BitVec.toNat_ofNat]; exact Nat.mod_eq_of_lt h
theorem lN_xor (a b : Nat) : lN a ^^^ lN b = lN (a ^^^ b) := by
  apply Int64.toBitVec_inj.mp; rw [Int64.toBitVec_xor, lN_bv, lN_bv, lN_bv]; apply BitVec.eq_of_getLsbD_eq; intro i hi; simp [BitVec.getLsbD_ofNat, Nat.testBit_xor, hi]
theorem lN_ti {m : Nat} (h : m < 2 ^ 64) : (lN m).toInt = if m < 2 ^ 63 then (m : Int) else (m : Int) - 2 ^ 64 := by
  have c := BitVec.toInt_eq_toNat_cond (lN m).toBitVec
  rw [lN_nat h] at c
  show (lN m).toBitVec.toInt = _
  rw [c]
  split <;> split <;> omega
theorem xor63 {x : Nat} (h : x < 2 ^ 63) : x ^^^ 2 ^ 63 = 2 ^ 63 + x := by
  apply Nat.eq_of_testBit_eq
  intro i
  rw [Nat.testBit_xor, Nat.testBit_two_pow]
  rcases Nat.lt_trichotomy i 63 with z | z | z
  · rw [Nat.testBit_two_pow_add_gt z, decide_eq_false (by omega)]; simp
  · subst z; rw [Nat.testBit_two_pow_add_eq]; simp
  · have hp : 2 ^ 64 ≤ 2 ^ i := Nat.pow_le_pow_right (by decide) z
    rw [Nat.testBit_lt_two_pow (show x < 2 ^ i by omega), Nat.testBit_lt_two_pow (show 2 ^ 63 + x < 2 ^ i by omega), decide_eq_false (by omega)]; rfl
theorem xorS {a : Nat} (h : a < 2 ^ 64) : (lN a ^^^ (-9223372036854775808)).toInt = (a : Int) - 2 ^ 63 := by
  rw [show (-9223372036854775808 : Int64) = lN (2 ^ 63) from by decide +kernel, lN_xor]
  rcases Nat.lt_or_ge a (2 ^ 63) with z | z
  · rw [xor63 z, lN_ti (by omega), if_neg (by omega)]; omega
  · obtain ⟨x, rfl⟩ : ∃ x, a = 2 ^ 63 + x := ⟨a - 2 ^ 63, by omega⟩
    rw [← xor63 (by omega), Nat.xor_assoc, Nat.xor_self, Nat.xor_zero, lN_ti (by omega), if_pos (by omega), xor63 (by omega)]; omega
theorem ultL {a b : Nat} (ha : a < 2 ^ 64) (hb : b < 2 ^ 64) : ((lN b ^^^ (-9223372036854775808)) ≤ (lN a ^^^ (-9223372036854775808))) ↔ b ≤ a := by
  rw [Int64.le_iff_toInt_le, xorS ha, xorS hb]; omega
/-! ===== Int64 masks of n low bits ===== -/
theorem cr_bits (W U M : BitVec 64) : ((W &&& U) &&& (U &&& (M ^^^ BitVec.allOnes 64))) = 0#64 ↔ (W &&& U) &&& M = W &&& U := by
  constructor
  · intro h
    apply BitVec.eq_of_getLsbD_eq
    intro i hi
    have e := congrArg (fun x => BitVec.getLsbD x i) h
    simp only [BitVec.getLsbD_and, BitVec.getLsbD_xor, BitVec.getLsbD_allOnes, BitVec.getLsbD_zero, hi, decide_true] at e ⊢
    revert e
    cases W.getLsbD i <;> cases U.getLsbD i <;> cases M.getLsbD i <;> decide
  · intro h
    apply BitVec.eq_of_getLsbD_eq
    intro i hi
    have e := congrArg (fun x => BitVec.getLsbD x i) h
    simp only [BitVec.getLsbD_and, BitVec.getLsbD_xor, BitVec.getLsbD_allOnes, BitVec.getLsbD_zero, hi, decide_true] at e ⊢
    revert e
    cases W.getLsbD i <;> cases U.getLsbD i <;> cases M.getLsbD i <;> decide
theorem cr_mask (w U m : Int64) (n : Nat) (hm : m.toBitVec.toNat = 2 ^ n - 1) : ((w &&& U) &&& (U &&& (m ^^^ (-1)))) = 0 ↔ (w &&& U).toBitVec.toNat < 2 ^ n := by
  have e0 : (-1 : Int64).toBitVec = BitVec.allOnes 64 := by decide
  have z0 : (0 : Int64).toBitVec = 0#64 := by decide
  rw [← Int64.toBitVec_inj, z0, Int64.toBitVec_and, Int64.toBitVec_and, Int64.toBitVec_and, Int64.toBitVec_xor, e0, cr_bits]
  generalize w.toBitVec &&& U.toBitVec = T
  rw [← BitVec.toNat_inj, BitVec.toNat_and, hm, Nat.and_two_pow_sub_one_eq_mod]
  constructor
  · intro h
    have t := Nat.mod_lt T.toNat (Nat.two_pow_pos n)
    rw [h] at t
    exact t
  · exact Nat.mod_eq_of_lt
theorem cr_shr (t : Int64) (x : UInt64) (n : Nat) (hx : x.toNat % 64 = n) : (t.toUInt64 >>> x).toInt64 = 0 ↔ t.toBitVec.toNat < 2 ^ n := by
  rw [← Int64.toBitVec_inj, ← BitVec.toNat_inj]
  show (t.toUInt64 >>> x).toNat = 0 ↔ t.toUInt64.toNat < 2 ^ n
  rw [UInt64.toNat_shiftRight, hx, Nat.shiftRight_eq_div_pow]
  constructor
  · intro h
    have d : t.toUInt64.toNat / 2 ^ n < 1 := by
      rw [h]
      decide
    have e := (Nat.div_lt_iff_lt_mul (Nat.two_pow_pos n)).mp d
    rw [Nat.one_mul] at e
    exact e
  · exact Nat.div_eq_of_lt
theorem cr_amt (s : Int64) : ∃ n, n < 64 ∧ s &&& 63 = lN n ∧ (s.toUInt64 &&& Int64.toUInt64 63).toNat % 64 = n := by
  have e : (s.toUInt64 &&& Int64.toUInt64 63).toNat = s.toUInt64.toNat % 2 ^ 6 := by
    rw [UInt64.toNat_and, show (Int64.toUInt64 63).toNat = 2 ^ 6 - 1 from by decide, Nat.and_two_pow_sub_one_eq_mod]
  refine ⟨s.toUInt64.toNat % 2 ^ 6, by omega, ?_, by omega⟩
  rw [← Int64.toBitVec_inj, ← BitVec.toNat_inj]
  show (s.toUInt64 &&& Int64.toUInt64 63).toNat = (BitVec.ofNat 64 (s.toUInt64.toNat % 2 ^ 6)).toNat
  rw [e, BitVec.toNat_ofNat]
  omega
end
section
/-! counts, first places, bits of longs: plain rows -/
def pz_cnt (p : Nat → Bool) : Nat → Nat
  | 0 => 0
  | n + 1 => pz_cnt p n + (if p n = true then 1 else 0)
theorem pz_cnt_t {p : Nat → Bool} {n : Nat} (h : p n = true) : pz_cnt p (n + 1) = pz_cnt p n + 1 := by
  show pz_cnt p n + (if p n = true then 1 else 0) = _
  rw [if_pos h]
theorem pz_cnt_f {p : Nat → Bool} {n : Nat} (h : p n = false) : pz_cnt p (n + 1) = pz_cnt p n := by
  show pz_cnt p n + (if p n = true then 1 else 0) = _
  rw [h]; rfl
theorem pz_cnt_le (p : Nat → Bool) : ∀ n, pz_cnt p n ≤ n
  | 0 => Nat.le_refl 0
  | n + 1 => by
    have h := pz_cnt_le p n
    cases e : p n
    · rw [pz_cnt_f e]; omega
    · rw [pz_cnt_t e]; omega
theorem pz_cnt_congr {p q : Nat → Bool} : ∀ n, (∀ j, j < n → p j = q j) → pz_cnt p n = pz_cnt q n
  | 0, _ => rfl
  | n + 1, h => by
    show pz_cnt p n + (if p n = true then 1 else 0) = pz_cnt q n + (if q n = true then 1 else 0)
    rw [pz_cnt_congr n (fun j hj => h j (by omega)), h n (by omega)]
theorem pz_cnt_more {p : Nat → Bool} (n : Nat) : ∀ d, (∀ j, n ≤ j → j < n + d → p j = false) → pz_cnt p (n + d) = pz_cnt p n
  | 0, _ => rfl
  | d + 1, h => by
    rw [← Nat.add_assoc, pz_cnt_f (h (n + d) (by omega) (by omega))]
    exact pz_cnt_more n d (fun j h1 h2 => h j h1 (by omega))
theorem pz_cnt_ext {p q : Nat → Bool} {n m : Nat} (hm : n ≤ m) (h : ∀ j, j < n → p j = q j) (hf : ∀ j, n ≤ j → j < m → p j = false) : pz_cnt p m = pz_cnt q n := by
  obtain ⟨d, rfl⟩ : ∃ d, m = n + d := ⟨m - n, by omega⟩
  rw [pz_cnt_more n d hf]
  exact pz_cnt_congr n h
theorem pz_cnt_zero {p : Nat → Bool} {n : Nat} (h : ∀ j, j < n → p j = false) : pz_cnt p n = 0 :=
  pz_cnt_ext (q := p) (n := 0) (Nat.zero_le n) (fun j hj => absurd hj (Nat.not_lt_zero j)) (fun j _ hj => h j hj)
def pz_find (p : Nat → Bool) : Nat → Nat
  | 0 => 0
  | n + 1 => if pz_find p n < n then pz_find p n else if p n = true then n else n + 1
theorem pz_find_s (p : Nat → Bool) : ∀ n, pz_find p n ≤ n ∧ (∀ j, j < pz_find p n → p j = false) ∧ (pz_find p n < n → p (pz_find p n) = true)
  | 0 => ⟨Nat.le_refl 0, fun j hj => absurd hj (Nat.not_lt_zero j), fun h => absurd h (Nat.lt_irrefl 0)⟩
  | n + 1 => by
    obtain ⟨h1, h2, h3⟩ := pz_find_s p n
    by_cases a : pz_find p n < n
    · have e : pz_find p (n + 1) = pz_find p n := if_pos a
      rw [e]
      exact ⟨by omega, h2, fun _ => h3 a⟩
    · have en : pz_find p n = n := by omega
      rw [en] at h2
      by_cases b : p n = true
      · have e : pz_find p (n + 1) = n := (if_neg a).trans (if_pos b)
        rw [e]
        exact ⟨by omega, h2, fun _ => b⟩
      · have e : pz_find p (n + 1) = n + 1 := (if_neg a).trans (if_neg b)
        rw [e]
        refine ⟨by omega, fun j hj => ?_, fun h => absurd h (by omega)⟩
        by_cases c : j < n
        · exact h2 j c
        · have : j = n := by omega
          rw [this]; exact ts_nt b
theorem pz_find_eq {p : Nat → Bool} {n r : Nat} (h1 : r ≤ n) (h2 : ∀ j, j < r → p j = false) (h3 : r < n → p r = true) : pz_find p n = r := by
  obtain ⟨a1, a2, a3⟩ := pz_find_s p n
  rcases Nat.lt_trichotomy (pz_find p n) r with h | h | h
  · have := h2 _ h
    rw [a3 (by omega)] at this
    exact absurd this (by decide)
  · exact h
  · have := a2 _ h
    rw [h3 (by omega)] at this
    exact absurd this (by decide)
theorem pz_find_congr {p q : Nat → Bool} {n : Nat} (h : ∀ j, j < n → p j = q j) : pz_find p n = pz_find q n := by
  obtain ⟨a1, a2, a3⟩ := pz_find_s q n
  exact pz_find_eq a1 (fun j hj => (h j (by omega)).trans (a2 j hj)) (fun hl => (h _ hl).trans (a3 hl))
theorem pz_find_ext {p q : Nat → Bool} {n m : Nat} (hm : n ≤ m) (h : ∀ j, j < n → p j = q j) (hf : ∀ j, n ≤ j → j < m → p j = false) : pz_find p m = if pz_find q n < n then pz_find q n else m := by
  obtain ⟨a1, a2, a3⟩ := pz_find_s q n
  by_cases c : pz_find q n < n
  · rw [if_pos c]
    exact pz_find_eq (by omega) (fun j hj => (h j (by omega)).trans (a2 j hj)) (fun _ => (h _ c).trans (a3 c))
  · rw [if_neg c]
    refine pz_find_eq (Nat.le_refl m) (fun j hj => ?_) (fun hl => absurd hl (Nat.lt_irrefl m))
    by_cases d : j < n
    · exact (h j d).trans (a2 j (by omega))
    · exact hf j (by omega) hj
/-! bits of longs -/
def pz_b (x : Int64) (i : Nat) : Bool := x.toBitVec.getLsbD i
theorem pz_b_or (x y : Int64) (i : Nat) : pz_b (x ||| y) i = (pz_b x i || pz_b y i) := by unfold pz_b; rw [Int64.toBitVec_or, BitVec.getLsbD_or]
theorem pz_b_and (x y : Int64) (i : Nat) : pz_b (x &&& y) i = (pz_b x i && pz_b y i) := by unfold pz_b; rw [Int64.toBitVec_and, BitVec.getLsbD_and]
theorem pz_b_0 (i : Nat) : pz_b 0 i = false := BitVec.getLsbD_zero
theorem pz_b_not (x : Int64) {i : Nat} (hi : i < 64) : pz_b (x ^^^ (-1)) i = !pz_b x i := by
  have ha : (-1 : Int64).toBitVec = BitVec.allOnes 64 := by decide
  unfold pz_b
  rw [Int64.toBitVec_xor, ha, BitVec.getLsbD_xor, BitVec.getLsbD_allOnes]
  simp [hi]
theorem pz_b_one {k i : Nat} (hk : k < 64) (hi : i < 64) : pz_b ((1 : Int64) <<< ((nI k).toInt64 &&& 63)) i = decide (k = i) := by
  have e : (1 : Int64) <<< ((nI k).toInt64 &&& 63) = lN (1 * 2 ^ k) := wb_shl 1 hk
  unfold pz_b
  rw [e, Nat.one_mul, wb_tb, BitVec.getLsbD_ofNat, Nat.testBit_two_pow]
  simp [hi]
theorem pz_b_below {k i : Nat} (hk : k < 64) (hi : i < 64) : pz_b (((1 : Int64) <<< ((nI k).toInt64 &&& 63)) - 1) i = decide (i < k) := by
  have e : (1 : Int64) <<< ((nI k).toInt64 &&& 63) = lN (1 * 2 ^ k) := wb_shl 1 hk
  have e2 : lN (2 ^ k) - 1 = lN (2 ^ k - 1) := lN_sub (b := 1) (Nat.one_le_two_pow)
  unfold pz_b
  rw [e, Nat.one_mul, e2, wb_tb, BitVec.getLsbD_ofNat, Nat.testBit_two_pow_sub_one]
  simp [hi]
theorem pz_b_z {x : Int64} : x = 0 ↔ ∀ i, i < 64 → pz_b x i = false := by
  constructor
  · intro h i _
    rw [h]; exact pz_b_0 i
  · intro h
    apply Int64.toBitVec_inj.mp
    apply BitVec.eq_of_getLsbD_eq
    intro i hi
    exact (h i hi).trans (pz_b_0 i).symm
theorem pz_sm64 : ∀ k, k < 64 → (((nI k).toInt64 &&& 63).toBitVec.smod 64).toNat = k := by decide +kernel
theorem pz_shr0 {x : Int64} {k : Nat} (hk : k < 64) : pz_b (x >>> ((nI k).toInt64 &&& 63)) 0 = pz_b x k := by
  unfold pz_b
  rw [Int64.toBitVec_shiftRight]
  show (x.toBitVec.sshiftRight (((nI k).toInt64 &&& 63).toBitVec.smod 64).toNat).getLsbD 0 = _
  rw [pz_sm64 k hk, BitVec.getLsbD_sshiftRight]
  simp [hk]
theorem pz_and1 (x : Int64) : (x &&& 1) = 0 ↔ pz_b x 0 = false := by
  rw [pz_b_z]
  constructor
  · intro h
    have := h 0 (by decide)
    rw [pz_b_and, show pz_b 1 0 = true from by decide, Bool.and_true] at this
    exact this
  · intro h i hi
    rw [pz_b_and]
    cases i with
    | zero => rw [h, Bool.false_and]
    | succ i =>
      have e : pz_b 1 (i + 1) = false := by
        unfold pz_b
        show (1#64).getLsbD (i + 1) = false
        simp
      rw [e, Bool.and_false]
theorem pz_lo {x : Int64} {k : Nat} (hk : k < 64) : ((x >>> ((nI k).toInt64 &&& 63)) &&& 1) = 0 ↔ pz_b x k = false := by
  rw [pz_and1, pz_shr0 hk]
theorem pz_ab1 (x : Int32) : x &&& 1 = if bt x 0 = true then 1 else 0 := by
  apply b_ext
  intro i hi
  rw [b_and]
  cases i with
  | zero =>
    rw [show bt 1 0 = true from by decide, Bool.and_true]
    cases e : bt x 0
    · rfl
    · rfl
  | succ i =>
    have e1 : bt 1 (i + 1) = false := by
      unfold bt
      show (1#32).getLsbD (i + 1) = false
      simp
    rw [e1, Bool.and_false]
    cases e : bt x 0
    · exact (b_0 (i + 1)).symm
    · exact e1.symm
theorem pz_on {x : Int64} {k : Nat} (hk : k < 64) : ((x >>> ((nI k).toInt64 &&& 63)).toInt32 &&& 1) = if pz_b x k = true then 1 else 0 := by
  rw [pz_ab1]
  have e : bt (x >>> ((nI k).toInt64 &&& 63)).toInt32 0 = pz_b x k := by
    rw [← pz_shr0 hk]
    generalize x >>> ((nI k).toInt64 &&& 63) = y
    unfold bt pz_b
    rw [Int64.toBitVec_toInt32, BitVec.getLsbD_signExtend]
    simp
  rw [e]
theorem pz_bit32 {x : Int32} {k : Nat} (hk : k < 31) : ((x >>> (nI k &&& 31)) &&& 1) = 1 ↔ bt x k = true := by
  rw [pz_ab1, b_sshr k (by omega) x (by omega : 0 < 32), Nat.add_zero, if_pos (by omega : k < 32)]
  cases bt x k <;> decide
theorem pz_one32 {k i : Nat} (hk : k < 32) (hi : i < 32) : bt ((1 : Int32) <<< (nI k &&& 31)) i = decide (k = i) := by
  rw [b_shl k hk 1 hi]
  by_cases h : k = i
  · subst h
    simp [show bt 1 0 = true from by decide]
  · by_cases h2 : k ≤ i
    · have e1 : bt 1 (i - k) = false := by
        obtain ⟨d, hd⟩ : ∃ d, i - k = d + 1 := ⟨i - k - 1, by omega⟩
        rw [hd]
        unfold bt
        show (1#32).getLsbD (d + 1) = false
        simp
      rw [e1, Bool.and_false]
      simp [h]
    · simp [h, h2]
/-! naturals and indices -/
theorem pz_8 {s i : Nat} : (8 * nI s) + nI i = nI (8 * s + i) := by
  show nI 8 * nI s + nI i = _
  rw [pk_mul, nI_add]
theorem pz_9 {s i : Nat} : (9 * nI s) + nI i = nI (9 * s + i) := by
  show nI 9 * nI s + nI i = _
  rw [pk_mul, nI_add]
theorem pz_in8 {s i : Nat} (hs : s < 60) (hi : i < 8) : vp_in ((8 * nI s) + nI i) 480 := by
  rw [pz_8]
  exact vp_in_nI (by omega) (by decide)
theorem pz_cl8 {s i : Nat} (hs : s < 60) (hi : i < 8) : ((8 * nI s) + nI i).toNatClampNeg = 8 * s + i := by
  rw [pz_8]
  exact nI_clamp (by omega)
theorem pz_nlt {a b : Int32} : ¬ a < b ↔ b ≤ a := Int32.not_lt
theorem pz_nle {a b : Int32} : ¬ a ≤ b ↔ b < a := Int32.not_le
theorem pz_ilt {a b : Int32} : a < b ↔ a.toInt < b.toInt := Int32.lt_iff_toInt_lt
theorem pz_ile {a b : Int32} : a ≤ b ↔ a.toInt ≤ b.toInt := Int32.le_iff_toInt_le
theorem pz_ieq {a b : Int32} : a = b ↔ a.toInt = b.toInt := Int32.toInt_inj.symm
/-- a branch by an equivalent condition -/
theorem pz_if {c d A B : Prop} (e : c ↔ d) (f : d → A) (g : ¬ d → B) : (c → A) ∧ (¬ c → B) := ⟨fun h => f (e.mp h), fun h => g (fun k => h (e.mpr k))⟩
theorem pz_ifb {c A B : Prop} {b : Bool} (e : c ↔ b = true) (f : b = true → A) (g : b = false → B) : (c → A) ∧ (¬ c → B) := ⟨fun h => f (e.mp h), fun h => g (ts_nt (fun k => h (e.mpr k)))⟩
theorem pz_ifn {c A B : Prop} {b : Bool} (e : c ↔ b = false) (f : b = false → A) (g : b = true → B) : (c → A) ∧ (¬ c → B) := ⟨fun h => f (e.mp h), fun h => g (ts_nf (fun k => h (e.mpr k)))⟩
theorem pz_10 : ¬ (1 : Int32) = 0 := by decide
end
section
/-! items, lines, shapes: plain rows -/
def pz_num (x : Int32) : Bool := decide (1000 ≤ x.toInt ∧ x.toInt < 2000)
def pz_bl (x : Int32) : Int32 := if pz_num x = true then 1000 else x
def pz_ok (x : Int32) : Prop := (0 ≤ x.toInt ∧ x.toInt < 24) ∨ (1000 ≤ x.toInt ∧ x.toInt < 2000)
theorem pz_num_t {x : Int32} : pz_num x = true ↔ 1000 ≤ x.toInt ∧ x.toInt < 2000 := decide_eq_true_iff
theorem pz_num_f {x : Int32} : pz_num x = false ↔ ¬ (1000 ≤ x.toInt ∧ x.toInt < 2000) := decide_eq_false_iff_not
theorem pz_bl_n {x : Int32} (h : pz_num x = true) : pz_bl x = 1000 := if_pos h
theorem pz_bl_w {x : Int32} (h : pz_num x = false) : pz_bl x = x := if_neg (by rw [h]; decide)
theorem pz_1000 : (1000 : Int32).toInt = 1000 := by decide
theorem pz_bl_1000 {x : Int32} : pz_bl x = 1000 ↔ pz_num x = true := by
  constructor
  · intro h
    cases e : pz_num x
    · rw [pz_bl_w e] at h
      rw [h] at e
      exact absurd e (by decide)
    · rfl
  · exact pz_bl_n
theorem pz_bl_eq {x y : Int32} (hx : pz_ok x) (hy : pz_ok y) : pz_bl x = pz_bl y ↔ (x = y ∨ (1000 ≤ x.toInt ∧ 1000 ≤ y.toInt)) := by
  unfold pz_ok at hx hy
  cases ex : pz_num x with
  | false =>
    rw [pz_bl_w ex]
    rw [pz_num_f] at ex
    cases ey : pz_num y with
    | false =>
      rw [pz_bl_w ey]
      rw [pz_num_f] at ey
      constructor
      · exact Or.inl
      · rintro (h | h)
        · exact h
        · omega
    | true =>
      rw [pz_bl_n ey]
      rw [pz_num_t] at ey
      constructor
      · intro h
        rw [h, pz_1000] at ex
        omega
      · rintro (h | h)
        · rw [h] at ex; omega
        · omega
  | true =>
    rw [pz_bl_n ex]
    rw [pz_num_t] at ex
    cases ey : pz_num y with
    | false =>
      rw [pz_bl_w ey]
      rw [pz_num_f] at ey
      constructor
      · intro h
        rw [← h, pz_1000] at ey
        omega
      · rintro (h | h)
        · rw [← h] at ey; omega
        · omega
    | true =>
      rw [pz_bl_n ey]
      rw [pz_num_t] at ey
      exact ⟨fun _ => Or.inr ⟨ex.1, ey.1⟩, fun _ => rfl⟩
/-! words of blanked items -/
def pz_wl (f : Nat → Int32) : Nat → List Int32
  | 0 => []
  | i + 1 => pz_wl f i ++ [pz_bl (f i)]
theorem pz_wl_len (f : Nat → Int32) : ∀ k, (pz_wl f k).length = k
  | 0 => rfl
  | k + 1 => by
    show (pz_wl f k ++ [pz_bl (f k)]).length = k + 1
    rw [List.length_append, pz_wl_len f k]; rfl
theorem pz_snoc {u v : List Int32} {x y : Int32} (h : u ++ [x] = v ++ [y]) : u = v ∧ x = y := by
  obtain ⟨h1, h2⟩ := List.append_inj' h rfl
  exact ⟨h1, List.head_eq_of_cons_eq h2⟩
theorem pz_wl_inj {f g : Nat → Int32} (k : Nat) (h : pz_wl f k = pz_wl g k) : ∀ i, i < k → pz_bl (f i) = pz_bl (g i) := by
  induction k with
  | zero => intro i hi; omega
  | succ k ih =>
    obtain ⟨h1, h2⟩ := pz_snoc h
    intro i hi
    by_cases c : i < k
    · exact ih h1 i c
    · have e : i = k := by omega
      rw [e]
      exact h2
theorem pz_wl_congr {f g : Nat → Int32} : ∀ k, (∀ i, i < k → pz_bl (f i) = pz_bl (g i)) → pz_wl f k = pz_wl g k
  | 0, _ => rfl
  | k + 1, h => by
    show pz_wl f k ++ [pz_bl (f k)] = pz_wl g k ++ [pz_bl (g k)]
    rw [pz_wl_congr k (fun i hi => h i (by omega)), h k (by omega)]
theorem pz_wl_eq {f g : Nat → Int32} {a b : Nat} : pz_wl f a = pz_wl g b ↔ (a = b ∧ ∀ i, i < a → pz_bl (f i) = pz_bl (g i)) := by
  constructor
  · intro h
    have e : a = b := by rw [← pz_wl_len f a, ← pz_wl_len g b, h]
    subst e
    exact ⟨rfl, pz_wl_inj a h⟩
  · rintro ⟨rfl, h⟩
    exact pz_wl_congr a h
/-! there is one below -/
def pz_ex (p : Nat → Bool) : Nat → Bool
  | 0 => false
  | n + 1 => pz_ex p n || p n
theorem pz_ex_t {p : Nat → Bool} : ∀ n, pz_ex p n = true ↔ ∃ j, j < n ∧ p j = true
  | 0 => ⟨fun h => Bool.noConfusion h, fun ⟨j, hj, _⟩ => absurd hj (Nat.not_lt_zero j)⟩
  | n + 1 => by
    show (pz_ex p n || p n) = true ↔ _
    rw [Bool.or_eq_true, pz_ex_t n]
    constructor
    · rintro (⟨j, hj, h⟩ | h)
      · exact ⟨j, by omega, h⟩
      · exact ⟨n, by omega, h⟩
    · rintro ⟨j, hj, h⟩
      by_cases c : j < n
      · exact Or.inl ⟨j, c, h⟩
      · have : j = n := by omega
        rw [this] at h; exact Or.inr h
theorem pz_ex_f {p : Nat → Bool} {n : Nat} : pz_ex p n = false ↔ ∀ j, j < n → p j = false := by
  constructor
  · intro h j hj
    apply ts_nt
    intro hp
    have := (pz_ex_t n).mpr ⟨j, hj, hp⟩
    rw [h] at this; exact absurd this (by decide)
  · intro h
    apply ts_nt
    intro hp
    obtain ⟨j, hj, e⟩ := (pz_ex_t n).mp hp
    rw [h j hj] at e; exact absurd e (by decide)
theorem pz_ex_congr {p q : Nat → Bool} : ∀ n, (∀ j, j < n → p j = q j) → pz_ex p n = pz_ex q n
  | 0, _ => rfl
  | n + 1, h => by
    show (pz_ex p n || p n) = (pz_ex q n || q n)
    rw [pz_ex_congr n (fun j hj => h j (by omega)), h n (by omega)]
def pz_has (f : Nat → Int32) (k : Nat) (x : Int32) : Bool := pz_ex (fun t => decide (f t = x)) k
/-! shape numbers in the order of first lines -/
def pz_mm (S : Nat → Nat) : Nat → Nat
  | 0 => 0
  | l + 1 => if S l < pz_mm S l then pz_mm S l else S l + 1
def pz_sq (S : Nat → Nat) (n : Nat) : Prop := ∀ l, l < n → S l ≤ pz_mm S l
def pz_nw (S : Nat → Nat) (l : Nat) : Bool := decide (pz_mm S l ≤ S l)
theorem pz_nw_t {S : Nat → Nat} {l : Nat} : pz_nw S l = true ↔ pz_mm S l ≤ S l := decide_eq_true_iff
theorem pz_nw_f {S : Nat → Nat} {l : Nat} : pz_nw S l = false ↔ S l < pz_mm S l := by
  rw [show (pz_nw S l = false) = (decide (pz_mm S l ≤ S l) = false) from rfl, decide_eq_false_iff_not]; omega
theorem pz_mm_o {S : Nat → Nat} {l : Nat} (h : S l < pz_mm S l) : pz_mm S (l + 1) = pz_mm S l := if_pos h
theorem pz_mm_n {S : Nat → Nat} {l : Nat} (h : ¬ S l < pz_mm S l) : pz_mm S (l + 1) = S l + 1 := if_neg h
theorem pz_mm_step (S : Nat → Nat) (l : Nat) : pz_mm S l ≤ pz_mm S (l + 1) ∧ S l < pz_mm S (l + 1) := by
  by_cases h : S l < pz_mm S l
  · rw [pz_mm_o h]; omega
  · rw [pz_mm_n h]; omega
theorem pz_mm_mono (S : Nat → Nat) (a : Nat) : ∀ d, pz_mm S a ≤ pz_mm S (a + d)
  | 0 => Nat.le_refl _
  | d + 1 => Nat.le_trans (pz_mm_mono S a d) (pz_mm_step S (a + d)).1
theorem pz_mm_lt {S : Nat → Nat} {l n : Nat} (h : l < n) : S l < pz_mm S n := by
  obtain ⟨d, rfl⟩ : ∃ d, n = l + 1 + d := ⟨n - l - 1, by omega⟩
  exact Nat.lt_of_lt_of_le (pz_mm_step S l).2 (pz_mm_mono S (l + 1) d)
theorem pz_mm_le {S : Nat → Nat} : ∀ n, pz_sq S n → pz_mm S n ≤ n
  | 0, _ => Nat.le_refl 0
  | n + 1, h => by
    have ih := pz_mm_le n (fun l hl => h l (by omega))
    have hn := h n (by omega)
    by_cases c : S n < pz_mm S n
    · rw [pz_mm_o c]; omega
    · rw [pz_mm_n c]; omega
theorem pz_mm_sur {S : Nat → Nat} : ∀ n, pz_sq S n → ∀ s, s < pz_mm S n → ∃ l, l < n ∧ S l = s
  | 0, _, s, hs => absurd hs (Nat.not_lt_zero s)
  | n + 1, h, s, hs => by
    have hn := h n (by omega)
    by_cases c : s < pz_mm S n
    · obtain ⟨l, hl, e⟩ := pz_mm_sur n (fun l hl => h l (by omega)) s c
      exact ⟨l, by omega, e⟩
    · by_cases d : S n < pz_mm S n
      · rw [pz_mm_o d] at hs; omega
      · rw [pz_mm_n d] at hs
        exact ⟨n, by omega, by omega⟩
theorem pz_mm_congr {S S' : Nat → Nat} : ∀ n, (∀ l, l < n → S l = S' l) → pz_mm S n = pz_mm S' n
  | 0, _ => rfl
  | n + 1, h => by
    show (if S n < pz_mm S n then pz_mm S n else S n + 1) = (if S' n < pz_mm S' n then pz_mm S' n else S' n + 1)
    rw [pz_mm_congr n (fun l hl => h l (by omega)), h n (by omega)]
def pz_fo (S : Nat → Nat) (l : Nat) : Nat := pz_find (fun j => decide (S j = S l)) l
theorem pz_nw_new {S : Nat → Nat} {n l : Nat} (hq : pz_sq S n) (hl : l < n) : pz_nw S l = true ↔ ∀ j, j < l → S j ≠ S l := by
  rw [pz_nw_t]
  constructor
  · intro h j hj e
    have := pz_mm_lt (S := S) hj
    omega
  · intro h
    apply Nat.le_of_not_lt
    intro c
    obtain ⟨j, hj, e⟩ := pz_mm_sur l (fun k hk => hq k (by omega)) (S l) c
    exact h j hj e
theorem pz_fo_nw {S : Nat → Nat} {n l : Nat} (hq : pz_sq S n) (hl : l < n) : pz_fo S l = l ↔ pz_nw S l = true := by
  rw [pz_nw_new hq hl]
  obtain ⟨h1, h2, h3⟩ := pz_find_s (fun j => decide (S j = S l)) l
  constructor
  · intro e j hj
    have e' : pz_find (fun j => decide (S j = S l)) l = l := e
    rw [e'] at h2
    exact of_decide_eq_false (h2 j hj)
  · intro h
    exact pz_find_eq (Nat.le_refl l) (fun j hj => decide_eq_false (h j hj)) (fun c => absurd c (Nat.lt_irrefl l))
theorem pz_fo_s {S : Nat → Nat} {l : Nat} : pz_fo S l ≤ l ∧ S (pz_fo S l) = S l ∧ ∀ j, j < pz_fo S l → S j ≠ S l := by
  obtain ⟨h1, h2, h3⟩ := pz_find_s (fun j => decide (S j = S l)) l
  refine ⟨h1, ?_, fun j hj => of_decide_eq_false (h2 j hj)⟩
  by_cases c : pz_find (fun j => decide (S j = S l)) l < l
  · exact of_decide_eq_true (h3 c)
  · have e : pz_find (fun j => decide (S j = S l)) l = l := by omega
    show S (pz_find (fun j => decide (S j = S l)) l) = S l
    rw [e]
theorem pz_fo_n {S : Nat → Nat} {n l : Nat} (hl : l < n) : pz_find (fun j => decide (S j = S l)) n = pz_fo S l := by
  obtain ⟨h1, h2, h3⟩ := pz_fo_s (S := S) (l := l)
  exact pz_find_eq (by omega) (fun j hj => decide_eq_false (h3 j hj)) (fun _ => decide_eq_true h2)
theorem pz_nw_mono {S : Nat → Nat} {n a b : Nat} (hq : pz_sq S n) (ha : a < n) (hb : b < n) (na : pz_nw S a = true) (nb : pz_nw S b = true) : a < b ↔ S a < S b := by
  rw [pz_nw_t] at na nb
  rcases Nat.lt_trichotomy a b with h | h | h
  · have := pz_mm_lt (S := S) h
    omega
  · subst h; omega
  · have := pz_mm_lt (S := S) h
    omega
theorem pz_cnt_nw {S : Nat → Nat} (Q : Nat → Bool) : ∀ n, pz_sq S n → pz_cnt (fun l => pz_nw S l && Q (S l)) n = pz_cnt Q (pz_mm S n)
  | 0, _ => rfl
  | n + 1, h => by
    have ih := pz_cnt_nw Q n (fun l hl => h l (by omega))
    have hn := h n (by omega)
    cases e : pz_nw S n with
    | false =>
      rw [pz_cnt_f (by rw [e, Bool.false_and]), pz_mm_o (pz_nw_f.mp e)]
      exact ih
    | true =>
      have e1 := pz_nw_t.mp e
      have e2 : S n = pz_mm S n := by omega
      rw [pz_mm_n (by omega)]
      cases f : Q (S n) with
      | false =>
        rw [pz_cnt_f (by rw [f, Bool.and_false]), pz_cnt_f f, ih, e2]
      | true =>
        rw [pz_cnt_t (by rw [e, f]; rfl), pz_cnt_t f, ih, e2]
theorem pz_cnt_nw' {S : Nat → Nat} {n : Nat} (h : pz_sq S n) : pz_cnt (pz_nw S) n = pz_mm S n := by
  have h1 := pz_cnt_nw (fun _ => true) n h
  have h2 : ∀ m, pz_cnt (fun _ => true) m = m := by
    intro m
    induction m with
    | zero => rfl
    | succ m ih => rw [pz_cnt_t rfl, ih]
  rw [h2] at h1
  rw [← h1]
  exact pz_cnt_congr n (fun j _ => (Bool.and_true _).symm)
theorem pz_find_nw {S : Nat → Nat} {n : Nat} (hq : pz_sq S n) (R : Nat → Bool) : if pz_find R (pz_mm S n) < pz_mm S n then pz_find (fun l => pz_nw S l && R (S l)) n = pz_find (fun j => decide (S j = pz_find R (pz_mm S n))) n ∧ pz_find (fun l => pz_nw S l && R (S l)) n < n else pz_find (fun l => pz_nw S l && R (S l)) n = n := by
  obtain ⟨a1, a2, a3⟩ := pz_find_s R (pz_mm S n)
  generalize pz_find R (pz_mm S n) = q at a1 a2 a3 ⊢
  by_cases c : q < pz_mm S n
  · rw [if_pos c]
    obtain ⟨l0, hl0, e0⟩ := pz_mm_sur n hq q c
    obtain ⟨b1, b2, b3⟩ := pz_find_s (fun j => decide (S j = q)) n
    generalize pz_find (fun j => decide (S j = q)) n = r at b1 b2 b3 ⊢
    have b2' : ∀ j, j < r → S j ≠ q := fun j hj => of_decide_eq_false (b2 j hj)
    have hr : r < n := by
      apply Nat.lt_of_not_le
      intro hle
      exact b2' l0 (by omega) e0
    have er : S r = q := of_decide_eq_true (b3 hr)
    have key : pz_find (fun l => pz_nw S l && R (S l)) n = r := by
      refine pz_find_eq b1 (fun j hj => ?_) (fun _ => ?_)
      · apply ts_nt
        intro hh
        rw [Bool.and_eq_true] at hh
        obtain ⟨h1, h2⟩ := hh
        rw [pz_nw_t] at h1
        have h3 : ¬ S j < q := by
          intro hlt
          have := a2 _ hlt
          rw [h2] at this; exact absurd this (by decide)
        have h4 := b2' j hj
        have h5 := hq j (by omega)
        obtain ⟨j', hj', e'⟩ := pz_mm_sur j (fun k hk => hq k (by omega)) q (by omega)
        exact b2' j' (by omega) e'
      · rw [er, a3 c, Bool.and_true, pz_nw_new hq hr]
        intro j hj
        rw [er]; exact b2' j hj
    rw [key]
    exact ⟨rfl, hr⟩
  · rw [if_neg c]
    refine pz_find_eq (Nat.le_refl n) (fun j hj => ?_) (fun h => absurd h (Nat.lt_irrefl n))
    have := a2 (S j) (by have := pz_mm_lt (S := S) hj; omega)
    rw [this, Bool.and_false]
theorem pz_cnt_add {p q r : Nat → Bool} : ∀ n, (∀ j, j < n → p j = (q j || r j) ∧ (q j && r j) = false) → pz_cnt p n = pz_cnt q n + pz_cnt r n
  | 0, _ => rfl
  | n + 1, h => by
    have ih := pz_cnt_add n (fun j hj => h j (by omega))
    obtain ⟨h1, h2⟩ := h n (by omega)
    cases a : q n <;> cases b : r n <;> rw [a, b] at h1 h2
    · rw [pz_cnt_f h1, pz_cnt_f a, pz_cnt_f b, ih]
    · rw [pz_cnt_t h1, pz_cnt_f a, pz_cnt_t b, ih]; omega
    · rw [pz_cnt_t h1, pz_cnt_t a, pz_cnt_f b, ih]; omega
    · exact absurd h2 (by decide)
theorem pz_cnt_set {p q : Nat → Bool} {c : Nat} (hp : p c = false) (hq : q c = true) : ∀ m, c < m → (∀ j, j < m → j ≠ c → q j = p j) → pz_cnt q m = pz_cnt p m + 1
  | 0, h, _ => absurd h (Nat.not_lt_zero c)
  | m + 1, h, hh => by
    by_cases e : c = m
    · subst e
      rw [pz_cnt_t hq, pz_cnt_f hp, pz_cnt_congr c (fun j hj => hh j (by omega) (by omega))]
    · have ih := pz_cnt_set hp hq m (by omega) (fun j hj hne => hh j (by omega) hne)
      have e2 := hh m (by omega) (fun k => e k.symm)
      cases a : p m with
      | false => rw [pz_cnt_f a, pz_cnt_f (e2.trans a), ih]
      | true => rw [pz_cnt_t a, pz_cnt_t (e2.trans a), ih]
theorem pz_cnt_gr {S : Nat → Nat} {F : Nat → Bool} {m : Nat} : ∀ n, (∀ l, l < n → S l < m) → pz_cnt (fun s => pz_ex (fun l => decide (S l = s) && F l) n) m = pz_cnt (fun l => F l && !pz_ex (fun j => decide (S j = S l) && F j) l) n
  | 0, _ => pz_cnt_zero (fun _ _ => rfl)
  | n + 1, h => by
    have ih := pz_cnt_gr (F := F) n (fun l hl => h l (by omega))
    cases f : F n with
    | false =>
      rw [pz_cnt_f (n := n) (by rw [f, Bool.false_and]), ← ih]
      refine pz_cnt_congr m (fun s _ => ?_)
      show (pz_ex (fun l => decide (S l = s) && F l) n || (decide (S n = s) && F n)) = _
      rw [f, Bool.and_false, Bool.or_false]
    | true =>
      cases g : pz_ex (fun j => decide (S j = S n) && F j) n with
      | true =>
        rw [pz_cnt_f (n := n) (by rw [g]; simp), ← ih]
        refine pz_cnt_congr m (fun s _ => ?_)
        show (pz_ex (fun l => decide (S l = s) && F l) n || (decide (S n = s) && F n)) = _
        by_cases e : S n = s
        · subst e; rw [g]; rfl
        · rw [decide_eq_false e, Bool.false_and, Bool.or_false]
      | false =>
        rw [pz_cnt_t (n := n) (by rw [f, g]; rfl), ← ih]
        refine pz_cnt_set (c := S n) g ?_ m (h n (by omega)) (fun s _ hne => ?_)
        · show (pz_ex (fun l => decide (S l = S n) && F l) n || (decide (S n = S n) && F n)) = true
          rw [f, decide_eq_true rfl]; simp
        · show (pz_ex (fun l => decide (S l = s) && F l) n || (decide (S n = s) && F n)) = _
          rw [decide_eq_false (fun k => hne k.symm), Bool.false_and, Bool.or_false]
/-! the content -/
def pz_C (n : Nat) (z : Nat → Nat) (it : Nat → Nat → Int32) (T : Nat → Int32) (S : Nat → Nat) : Prop :=
  n ≤ 60 ∧ (∀ l, l < n → 1 ≤ z l ∧ z l ≤ 8) ∧ (∀ l, l < n → ∀ i, i < z l → pz_ok (it l i)) ∧
  (∀ l, l < n → 0 ≤ (T l).toInt ∧ (T l).toInt ≤ 1000) ∧ (∀ a b, a ≤ b → b < n → (T a).toInt ≤ (T b).toInt) ∧
  pz_sq S n ∧ (∀ a b, a < n → b < n → (S a = S b ↔ (z a = z b ∧ ∀ i, i < z a → pz_bl (it a i) = pz_bl (it b i))))
section
variable {n : Nat} {z : Nat → Nat} {it : Nat → Nat → Int32} {T : Nat → Int32} {S : Nat → Nat}
theorem pz_Cn (h : pz_C n z it T S) : n ≤ 60 := h.1
theorem pz_Cz (h : pz_C n z it T S) {l : Nat} (hl : l < n) : 1 ≤ z l ∧ z l ≤ 8 := h.2.1 l hl
theorem pz_Ci (h : pz_C n z it T S) {l : Nat} (hl : l < n) {i : Nat} (hi : i < z l) : pz_ok (it l i) := h.2.2.1 l hl i hi
theorem pz_Ct (h : pz_C n z it T S) {l : Nat} (hl : l < n) : 0 ≤ (T l).toInt ∧ (T l).toInt ≤ 1000 := h.2.2.2.1 l hl
theorem pz_Cm (h : pz_C n z it T S) {a b : Nat} (hab : a ≤ b) (hb : b < n) : (T a).toInt ≤ (T b).toInt := h.2.2.2.2.1 a b hab hb
theorem pz_Cq (h : pz_C n z it T S) : pz_sq S n := h.2.2.2.2.2.1
theorem pz_CS (h : pz_C n z it T S) {a b : Nat} (ha : a < n) (hb : b < n) : S a = S b ↔ (z a = z b ∧ ∀ i, i < z a → pz_bl (it a i) = pz_bl (it b i)) := h.2.2.2.2.2.2 a b ha hb
theorem pz_Cs (h : pz_C n z it T S) {l : Nat} (hl : l < n) : S l < 60 := by
  have h1 := pz_mm_le n (pz_Cq h)
  have h2 := pz_mm_lt (S := S) hl
  have h3 := pz_Cn h
  omega
theorem pz_Cmm (h : pz_C n z it T S) : pz_mm S n ≤ 60 := Nat.le_trans (pz_mm_le n (pz_Cq h)) (pz_Cn h)
/-- how many times lie below a bound -/
def pz_cb (T : Nat → Int32) (n : Nat) (t : Int32) : Nat := pz_find (fun j => decide (t ≤ T j)) n
def pz_cu (T : Nat → Int32) (n : Nat) (t : Int32) : Nat := pz_find (fun j => decide (t < T j)) n
theorem pz_cb_lt (h : pz_C n z it T S) (t : Int32) {l : Nat} (hl : l < n) : l < pz_cb T n t ↔ T l < t := by
  obtain ⟨h1, h2, h3⟩ := pz_find_s (fun j => decide (t ≤ T j)) n
  constructor
  · intro c
    exact pz_nle.mp (of_decide_eq_false (h2 l c))
  · intro c
    apply Nat.lt_of_not_le
    intro d
    have e : pz_find (fun j => decide (t ≤ T j)) n ≤ l := d
    have e2 := of_decide_eq_true (h3 (by omega))
    have e3 := pz_Cm h e hl
    rw [pz_ile] at e2
    rw [pz_ilt] at c
    omega
theorem pz_cu_lt (h : pz_C n z it T S) (t : Int32) {l : Nat} (hl : l < n) : l < pz_cu T n t ↔ T l ≤ t := by
  obtain ⟨h1, h2, h3⟩ := pz_find_s (fun j => decide (t < T j)) n
  constructor
  · intro c
    exact pz_nlt.mp (of_decide_eq_false (h2 l c))
  · intro c
    apply Nat.lt_of_not_le
    intro d
    have e : pz_find (fun j => decide (t < T j)) n ≤ l := d
    have e2 := of_decide_eq_true (h3 (by omega))
    have e3 := pz_Cm h e hl
    rw [pz_ilt] at e2
    rw [pz_ile] at c
    omega
theorem pz_cb_le (T : Nat → Int32) (n : Nat) (t : Int32) : pz_cb T n t ≤ n := (pz_find_s _ n).1
theorem pz_cu_le (T : Nat → Int32) (n : Nat) (t : Int32) : pz_cu T n t ≤ n := (pz_find_s _ n).1
end
end
section
/-! matching parts against items: plain rows -/
def pz_r0 (g : Nat → Bool) (pc : Nat) : Nat → Bool
  | 0 => true
  | p + 1 => g (pc - (p + 1)) && pz_r0 g pc p
def pz_rs (g : Nat → Bool) (t : Nat → Bool) (pc : Nat) (prev : Nat → Bool) : Nat → Bool
  | 0 => false
  | p + 1 => if g (pc - (p + 1)) = true then (pz_rs g t pc prev p || prev (p + 1)) else (t (pc - (p + 1)) && prev p)
def pz_mr (g : Nat → Bool) (t : Nat → Nat → Bool) (pc z : Nat) : Nat → Nat → Bool
  | 0 => pz_r0 g pc
  | r + 1 => pz_rs g (fun p => t p (z - (r + 1))) pc (pz_mr g t pc z r)
/-- the items from i on can be shared out among the parts from p on -/
def pz_M (g : Nat → Bool) (t : Nat → Nat → Bool) (pc z : Nat) (p i : Nat) : Bool := pz_mr g t pc z (z - i) (pc - p)
section
variable {g : Nat → Bool} {t t' : Nat → Nat → Bool} {pc z : Nat}
theorem pz_M_e : pz_M g t pc z pc z = true := by
  unfold pz_M
  rw [Nat.sub_self, Nat.sub_self]; rfl
theorem pz_M_pc {i : Nat} (hi : i < z) : pz_M g t pc z pc i = false := by
  unfold pz_M
  obtain ⟨r, hr⟩ : ∃ r, z - i = r + 1 := ⟨z - i - 1, by omega⟩
  rw [Nat.sub_self, hr]; rfl
theorem pz_M_z {p : Nat} (hp : p < pc) : pz_M g t pc z p z = (g p && pz_M g t pc z (p + 1) z) := by
  unfold pz_M
  have h1 : pc - p = (pc - (p + 1)) + 1 := by omega
  have h2 : pc - ((pc - (p + 1)) + 1) = p := by omega
  rw [Nat.sub_self, h1]
  show (g (pc - ((pc - (p + 1)) + 1)) && pz_r0 g pc (pc - (p + 1))) = _
  rw [h2]; rfl
theorem pz_M_g {p i : Nat} (hp : p < pc) (hi : i < z) (hg : g p = true) : pz_M g t pc z p i = (pz_M g t pc z (p + 1) i || pz_M g t pc z p (i + 1)) := by
  unfold pz_M
  have h1 : pc - p = (pc - (p + 1)) + 1 := by omega
  have h2 : pc - ((pc - (p + 1)) + 1) = p := by omega
  have h3 : z - i = (z - (i + 1)) + 1 := by omega
  rw [h1, h3]
  show (if g (pc - ((pc - (p + 1)) + 1)) = true then _ else _) = _
  rw [h2, if_pos hg]; rfl
theorem pz_M_t {p i : Nat} (hp : p < pc) (hi : i < z) (hg : g p = false) : pz_M g t pc z p i = (t p i && pz_M g t pc z (p + 1) (i + 1)) := by
  unfold pz_M
  have h1 : pc - p = (pc - (p + 1)) + 1 := by omega
  have h2 : pc - ((pc - (p + 1)) + 1) = p := by omega
  have h3 : z - i = (z - (i + 1)) + 1 := by omega
  have h4 : z - ((z - (i + 1)) + 1) = i := by omega
  rw [h1, h3]
  show (if g (pc - ((pc - (p + 1)) + 1)) = true then _ else (t (pc - ((pc - (p + 1)) + 1)) (z - ((z - (i + 1)) + 1)) && pz_mr g t pc z (z - (i + 1)) (pc - (p + 1)))) = _
  rw [h2, h4, if_neg (by rw [hg]; decide)]
theorem pz_M_gap {p i : Nat} (hp : p < pc) (hi : i ≤ z) (hg : g p = true) (h : pz_M g t pc z (p + 1) i = true) : pz_M g t pc z p i = true := by
  by_cases c : i < z
  · rw [pz_M_g hp c hg, h, Bool.true_or]
  · have e : i = z := by omega
    subst e
    rw [pz_M_z hp, hg, h]; rfl
theorem pz_M_mono (hh : ∀ p i, p < pc → i < z → g p = false → t p i = true → t' p i = true) : ∀ r a i p, i + r = z → p + a = pc → pz_M g t pc z p i = true → pz_M g t' pc z p i = true := by
  intro r
  induction r with
  | zero =>
    intro a
    induction a with
    | zero =>
      intro i p hi hp _
      have e1 : i = z := by omega
      have e2 : p = pc := by omega
      rw [e1, e2]; exact pz_M_e
    | succ a iha =>
      intro i p hi hp h
      have e1 : i = z := by omega
      subst e1
      rw [pz_M_z (by omega), Bool.and_eq_true] at h
      rw [pz_M_z (by omega), h.1, iha i (p + 1) hi (by omega) h.2]; rfl
  | succ r ihr =>
    intro a
    induction a with
    | zero =>
      intro i p hi hp h
      have e2 : p = pc := by omega
      subst e2
      rw [pz_M_pc (by omega)] at h
      exact absurd h (by decide)
    | succ a iha =>
      intro i p hi hp h
      cases e : g p with
      | true =>
        rw [pz_M_g (by omega) (by omega) e, Bool.or_eq_true] at h
        rw [pz_M_g (by omega) (by omega) e, Bool.or_eq_true]
        rcases h with h | h
        · exact Or.inl (iha i (p + 1) hi (by omega) h)
        · exact Or.inr (ihr (a + 1) (i + 1) p (by omega) hp h)
      | false =>
        rw [pz_M_t (by omega) (by omega) e, Bool.and_eq_true] at h
        rw [pz_M_t (by omega) (by omega) e, Bool.and_eq_true]
        exact ⟨hh p i (by omega) (by omega) e h.1, ihr a (i + 1) (p + 1) (by omega) (by omega) h.2⟩
theorem pz_M_le (hh : ∀ p i, p < pc → i < z → g p = false → t p i = true → t' p i = true) (h : pz_M g t pc z 0 0 = true) : pz_M g t' pc z 0 0 = true := pz_M_mono hh z pc 0 0 (by omega) (by omega) h
theorem pz_M_congr (hh : ∀ p i, p < pc → i < z → g p = false → t p i = t' p i) : pz_M g t pc z 0 0 = pz_M g t' pc z 0 0 := by
  cases a : pz_M g t pc z 0 0 with
  | true => exact (pz_M_le (fun p i h1 h2 h3 h4 => (hh p i h1 h2 h3).symm.trans h4) a).symm
  | false =>
    symm
    apply ts_nt
    intro b
    rw [pz_M_le (t' := t) (fun p i h1 h2 h3 h4 => (hh p i h1 h2 h3).trans h4) b] at a
    exact absurd a (by decide)
/-- some place of a set can be gone on from -/
def pz_E (g : Nat → Bool) (t : Nat → Nat → Bool) (pc z : Nat) (F : Nat → Bool) (i : Nat) : Prop := ∃ k, k ≤ pc ∧ F k = true ∧ pz_M g t pc z k i = true
def pz_clo (g : Nat → Bool) (pc : Nat) (A F : Nat → Bool) : Prop := (∀ j, A j = true → F j = true) ∧ (∀ k, k < pc → F k = true → g k = true → F (k + 1) = true) ∧ (∀ j, F j = true → A j = true ∨ ∃ k, k < pc ∧ j = k + 1 ∧ F k = true ∧ g k = true)
theorem pz_clo_E {A F : Nat → Bool} (h : pz_clo g pc A F) {i : Nat} (hi : i ≤ z) : pz_E g t pc z F i ↔ pz_E g t pc z A i := by
  constructor
  · rintro ⟨k, hk, hF, hM⟩
    induction k with
    | zero =>
      rcases h.2.2 0 hF with h1 | ⟨q, _, h2, _, _⟩
      · exact ⟨0, hk, h1, hM⟩
      · omega
    | succ k ih =>
      rcases h.2.2 (k + 1) hF with h1 | ⟨q, hq, h2, h3, h4⟩
      · exact ⟨k + 1, hk, h1, hM⟩
      · have e : q = k := by omega
        subst e
        exact ih (by omega) h3 (pz_M_gap hq hi h4 hM)
  · rintro ⟨k, hk, hA, hM⟩
    exact ⟨k, hk, h.1 k hA, hM⟩
theorem pz_E_step {F Th : Nat → Bool} {i : Nat} (hi : i < z) (hc : ∀ k, k < pc → F k = true → g k = true → F (k + 1) = true) (hT : ∀ j, Th j = true ↔ ((j < pc ∧ F j = true ∧ g j = true) ∨ ∃ k, k < pc ∧ j = k + 1 ∧ F k = true ∧ g k = false ∧ t k i = true)) : pz_E g t pc z F i ↔ pz_E g t pc z Th (i + 1) := by
  constructor
  · rintro ⟨k, hk, hF, hM⟩
    obtain ⟨d, hd⟩ : ∃ d, k + d = pc := ⟨pc - k, by omega⟩
    induction d generalizing k with
    | zero =>
      have e : k = pc := by omega
      subst e
      rw [pz_M_pc hi] at hM
      exact absurd hM (by decide)
    | succ d ih =>
      cases e : g k with
      | true =>
        rw [pz_M_g (by omega) hi e, Bool.or_eq_true] at hM
        rcases hM with hM | hM
        · exact ih (k + 1) (by omega) (hc k (by omega) hF e) hM (by omega)
        · exact ⟨k, hk, (hT k).mpr (Or.inl ⟨by omega, hF, e⟩), hM⟩
      | false =>
        rw [pz_M_t (by omega) hi e, Bool.and_eq_true] at hM
        exact ⟨k + 1, by omega, (hT (k + 1)).mpr (Or.inr ⟨k, by omega, rfl, hF, e, hM.1⟩), hM.2⟩
  · rintro ⟨k, hk, hF, hM⟩
    rcases (hT k).mp hF with ⟨h1, h2, h3⟩ | ⟨q, h1, h2, h3, h4, h5⟩
    · exact ⟨k, hk, h2, by rw [pz_M_g h1 hi h3, hM, Bool.or_true]⟩
    · subst h2
      exact ⟨q, by omega, h3, by rw [pz_M_t h1 hi h4, h5, hM]; rfl⟩
theorem pz_E_end {F : Nat → Bool} (hc : ∀ k, k < pc → F k = true → g k = true → F (k + 1) = true) : pz_E g t pc z F z ↔ F pc = true := by
  constructor
  · rintro ⟨k, hk, hF, hM⟩
    obtain ⟨d, hd⟩ : ∃ d, k + d = pc := ⟨pc - k, by omega⟩
    induction d generalizing k with
    | zero =>
      have e : k = pc := by omega
      rw [← e]; exact hF
    | succ d ih =>
      rw [pz_M_z (by omega), Bool.and_eq_true] at hM
      exact ih (k + 1) (by omega) (hc k (by omega) hF hM.1) hM.2 (by omega)
  · intro h
    exact ⟨pc, Nat.le_refl pc, h, pz_M_e⟩
theorem pz_E_one {A : Nat → Bool} (hA : ∀ j, A j = true ↔ j = 0) {i : Nat} : pz_E g t pc z A i ↔ pz_M g t pc z 0 i = true := by
  constructor
  · rintro ⟨k, _, h1, h2⟩
    rw [(hA k).mp h1] at h2; exact h2
  · intro h
    exact ⟨0, Nat.zero_le pc, (hA 0).mpr rfl, h⟩
end
/-! the loop over gaps, on bits of an int -/
def pz_gi (g : Nat → Bool) (x : Int32) (k : Nat) (w : Int32) : Prop := (∀ j, bt x j = true → bt w j = true) ∧ (∀ j, j < k → bt w j = true → g j = true → bt w (j + 1) = true) ∧ (∀ j, bt w j = true → bt x j = true ∨ ∃ q, q < k ∧ j = q + 1 ∧ bt w q = true ∧ g q = true)
theorem pz_gi_0 (g : Nat → Bool) (x : Int32) : pz_gi g x 0 x := ⟨fun _ h => h, fun j h => absurd h (Nat.not_lt_zero j), fun _ h => Or.inl h⟩
theorem pz_bt_set {w : Int32} {k : Nat} (hk : k < 32) (j : Nat) : bt (w ||| ((1 : Int32) <<< (nI k &&& 31))) j = true ↔ (bt w j = true ∨ j = k) := by
  by_cases h : j < 32
  · rw [b_or, pz_one32 hk h, Bool.or_eq_true, decide_eq_true_iff]
    constructor
    · rintro (a | a)
      · exact Or.inl a
      · exact Or.inr a.symm
    · rintro (a | a)
      · exact Or.inl a
      · exact Or.inr a.symm
  · rw [b_big (by omega), b_big (x := w) (by omega)]
    constructor
    · intro a; exact absurd a (by decide)
    · rintro (a | a)
      · exact a
      · omega
theorem pz_gi_set {g : Nat → Bool} {x w : Int32} {k : Nat} (hk : k < 31) (h : pz_gi g x k w) (hb : bt w k = true) (hg : g k = true) : pz_gi g x (k + 1) (w ||| ((1 : Int32) <<< (nI (k + 1) &&& 31))) := by
  have B := pz_bt_set (w := w) (k := k + 1) (by omega)
  refine ⟨fun j hj => (B j).mpr (Or.inl (h.1 j hj)), fun j hj h1 h2 => ?_, fun j hj => ?_⟩
  · by_cases e : j = k
    · exact (B (j + 1)).mpr (Or.inr (by omega))
    · rcases (B j).mp h1 with h3 | h3
      · exact (B (j + 1)).mpr (Or.inl (h.2.1 j (by omega) h3 h2))
      · omega
  · rcases (B j).mp hj with h3 | h3
    · rcases h.2.2 j h3 with h4 | ⟨q, q1, q2, q3, q4⟩
      · exact Or.inl h4
      · exact Or.inr ⟨q, by omega, q2, (B q).mpr (Or.inl q3), q4⟩
    · exact Or.inr ⟨k, by omega, h3, (B k).mpr (Or.inl hb), hg⟩
theorem pz_gi_skip {g : Nat → Bool} {x w : Int32} {k : Nat} (h : pz_gi g x k w) (hb : bt w k = true → g k = false) : pz_gi g x (k + 1) w := by
  refine ⟨h.1, fun j hj h1 h2 => ?_, fun j hj => ?_⟩
  · by_cases e : j = k
    · subst e
      rw [hb h1] at h2; exact absurd h2 (by decide)
    · exact h.2.1 j (by omega) h1 h2
  · rcases h.2.2 j hj with h4 | ⟨q, q1, q2, q3, q4⟩
    · exact Or.inl h4
    · exact Or.inr ⟨q, by omega, q2, q3, q4⟩
theorem pz_gi_end {g : Nat → Bool} {x w : Int32} {k : Nat} (h : pz_gi g x k w) : pz_clo g k (bt x) (bt w) := h
/-! the loop over places -/
def pz_ai (g t : Nat → Bool) (x : Int32) (k : Nat) (y : Int32) : Prop := ∀ j, bt y j = true ↔ ((j < k ∧ bt x j = true ∧ g j = true) ∨ ∃ q, q < k ∧ j = q + 1 ∧ bt x q = true ∧ g q = false ∧ t q = true)
theorem pz_ai_0 (g t : Nat → Bool) (x : Int32) : pz_ai g t x 0 0 := by
  intro j
  rw [b_0]
  constructor
  · intro h; exact absurd h (by decide)
  · rintro (⟨h, _⟩ | ⟨q, h, _⟩)
    · omega
    · omega
theorem pz_ai_gap {g t : Nat → Bool} {x y : Int32} {k : Nat} (hk : k < 31) (h : pz_ai g t x k y) (hb : bt x k = true) (hg : g k = true) : pz_ai g t x (k + 1) (y ||| ((1 : Int32) <<< (nI k &&& 31))) := by
  intro j
  rw [pz_bt_set (by omega), h j]
  constructor
  · rintro ((⟨a, b⟩ | ⟨q, a, b⟩) | rfl)
    · exact Or.inl ⟨by omega, b⟩
    · exact Or.inr ⟨q, by omega, b⟩
    · exact Or.inl ⟨by omega, hb, hg⟩
  · rintro (⟨a, b⟩ | ⟨q, a, b, c, d, e⟩)
    · by_cases e : j = k
      · exact Or.inr e
      · exact Or.inl (Or.inl ⟨by omega, b⟩)
    · by_cases e2 : q = k
      · subst e2
        rw [hg] at d; exact absurd d (by decide)
      · exact Or.inl (Or.inr ⟨q, by omega, b, c, d, e⟩)
theorem pz_ai_tk {g t : Nat → Bool} {x y : Int32} {k : Nat} (hk : k < 31) (h : pz_ai g t x k y) (hb : bt x k = true) (hg : g k = false) (ht : t k = true) : pz_ai g t x (k + 1) (y ||| ((1 : Int32) <<< (nI (k + 1) &&& 31))) := by
  intro j
  rw [pz_bt_set (by omega), h j]
  constructor
  · rintro ((⟨a, b⟩ | ⟨q, a, b⟩) | rfl)
    · exact Or.inl ⟨by omega, b⟩
    · exact Or.inr ⟨q, by omega, b⟩
    · exact Or.inr ⟨k, by omega, rfl, hb, hg, ht⟩
  · rintro (⟨a, b, c⟩ | ⟨q, a, b, c⟩)
    · by_cases e : j = k
      · subst e
        rw [hg] at c; exact absurd c (by decide)
      · exact Or.inl (Or.inl ⟨by omega, b, c⟩)
    · by_cases e2 : q = k
      · exact Or.inr (by omega)
      · exact Or.inl (Or.inr ⟨q, by omega, b, c⟩)
theorem pz_ai_skip {g t : Nat → Bool} {x y : Int32} {k : Nat} (h : pz_ai g t x k y) (hb : bt x k = true → g k = false ∧ t k = false) : pz_ai g t x (k + 1) y := by
  intro j
  rw [h j]
  constructor
  · rintro (⟨a, b⟩ | ⟨q, a, b⟩)
    · exact Or.inl ⟨by omega, b⟩
    · exact Or.inr ⟨q, by omega, b⟩
  · rintro (⟨a, b, c⟩ | ⟨q, a, b, c, d, e⟩)
    · by_cases e : j = k
      · subst e
        rw [(hb b).1] at c; exact absurd c (by decide)
      · exact Or.inl ⟨by omega, b, c⟩
    · by_cases e2 : q = k
      · subst e2
        rw [(hb c).2] at e; exact absurd e (by decide)
      · exact Or.inr ⟨q, by omega, b, c, d, e⟩
/-! one part and one item -/
def pz_pok (p : Int32) : Prop := pz_ok p ∨ (2000 ≤ p.toInt ∧ p.toInt ≤ 2002) ∨ (3000 ≤ p.toInt ∧ p.toInt < 4000)
def pz_me (x p : Int32) : Bool := if p = 2000 then true else if p = 2001 then decide (¬ x < 1000) else if p < 3000 then decide (x = p) else decide (¬ (x - 1000) ≤ (p - 3000))
def pz_tl (p x : Int32) : Bool := if p = 2000 then true else if 2000 ≤ p then (if pz_num x = true then (if p = 2001 then true else decide (¬ (x - 1000) ≤ (p - 3000))) else false) else decide (p = x)
def pz_tb (p : Int32) : Bool := if p = 2000 then true else decide (¬ p < 1000)
def pz_ts (p x : Int32) : Bool := if pz_num x = true then pz_tb p else pz_tl p x
theorem pz_c2000 : (2000 : Int32).toInt = 2000 := by decide
theorem pz_c2001 : (2001 : Int32).toInt = 2001 := by decide
theorem pz_c2002 : (2002 : Int32).toInt = 2002 := by decide
theorem pz_c3000 : (3000 : Int32).toInt = 3000 := by decide
theorem pz_c4000 : (4000 : Int32).toInt = 4000 := by decide
theorem pz_sub1000 {x : Int32} (h : -1000 ≤ x.toInt) (h2 : x.toInt < 5000) : (x - 1000).toInt = x.toInt - 1000 := by
  rw [Int32.toInt_sub, pz_1000]
  exact Int.bmod_eq_of_le (by omega) (by omega)
theorem pz_sub3000 {x : Int32} (h : 0 ≤ x.toInt) (h2 : x.toInt < 5000) : (x - 3000).toInt = x.toInt - 3000 := by
  rw [Int32.toInt_sub, pz_c3000]
  exact Int.bmod_eq_of_le (by omega) (by omega)
theorem pz_tl_me {p x : Int32} (hp : pz_pok p) (hg : p ≠ 2002) (hx : pz_ok x) : pz_tl p x = pz_me x p := by
  unfold pz_pok pz_ok at hp
  unfold pz_ok at hx
  unfold pz_tl pz_me
  by_cases c0 : p = 2000
  · rw [if_pos c0, if_pos c0]
  rw [if_neg c0, if_neg c0]
  have d0 : p.toInt ≠ 2000 := fun h => c0 (pz_ieq.mpr (by rw [h, pz_c2000]))
  have d2 : p.toInt ≠ 2002 := fun h => hg (pz_ieq.mpr (by rw [h, pz_c2002]))
  by_cases c1 : p = 2001
  · have e1 : (2000 : Int32) ≤ p := by rw [c1]; decide
    rw [if_pos e1, if_pos c1, if_pos c1]
    by_cases c2 : pz_num x = true
    · rw [if_pos c2]
      rw [pz_num_t] at c2
      symm
      exact decide_eq_true (fun k => by rw [pz_ilt, pz_1000] at k; omega)
    · rw [if_neg c2]
      rw [pz_num_t] at c2
      symm
      exact decide_eq_false (fun k => k (by rw [pz_ilt, pz_1000]; omega))
  rw [if_neg c1, if_neg c1]
  have d1 : p.toInt ≠ 2001 := fun h => c1 (pz_ieq.mpr (by rw [h, pz_c2001]))
  by_cases c3 : p < 3000
  · have e3 : ¬ (2000 : Int32) ≤ p := by
      rw [pz_ilt, pz_c3000] at c3
      rw [pz_ile, pz_c2000]; omega
    rw [if_pos c3, if_neg e3]
    by_cases e : p = x
    · rw [decide_eq_true e, decide_eq_true e.symm]
    · rw [decide_eq_false e, decide_eq_false (fun k => e k.symm)]
  · rw [pz_ilt, pz_c3000] at c3
    have e3 : (2000 : Int32) ≤ p := by rw [pz_ile, pz_c2000]; omega
    have e4 : ¬ p < 3000 := by rw [pz_ilt, pz_c3000]; exact c3
    rw [if_pos e3, if_neg e4]
    by_cases c2 : pz_num x = true
    · rw [if_pos c2]
    · rw [if_neg c2]
      rw [pz_num_t] at c2
      symm
      refine decide_eq_false (fun k => k ?_)
      rw [pz_ile, pz_sub1000 (by omega) (by omega), pz_sub3000 (by omega) (by omega)]
      omega
theorem pz_tl_ts {p x : Int32} (h : pz_tl p x = true) : pz_ts p x = true := by
  unfold pz_ts
  by_cases c : pz_num x = true
  · rw [if_pos c]
    unfold pz_tb
    unfold pz_tl at h
    by_cases c0 : p = 2000
    · rw [if_pos c0]
    rw [if_neg c0] at h ⊢
    by_cases c1 : (2000 : Int32) ≤ p
    · refine decide_eq_true (fun k => ?_)
      rw [pz_ile, pz_c2000] at c1
      rw [pz_ilt, pz_1000] at k
      omega
    · rw [if_neg c1] at h
      have e := of_decide_eq_true h
      rw [e]
      refine decide_eq_true (fun k => ?_)
      rw [pz_num_t] at c
      rw [pz_ilt, pz_1000] at k
      omega
  · rw [if_neg c]; exact h
theorem pz_ts_tl {p x : Int32} (hp : pz_pok p) (hg : p ≠ 2002) (h1 : pz_num p = false) (h2 : p < 3000) : pz_ts p x = pz_tl p x := by
  unfold pz_ts
  by_cases c : pz_num x = true
  · rw [if_pos c]
    unfold pz_tb pz_tl
    by_cases c0 : p = 2000
    · rw [if_pos c0, if_pos c0]
    rw [if_neg c0, if_neg c0]
    unfold pz_pok pz_ok at hp
    have d0 : p.toInt ≠ 2000 := fun h => c0 (pz_ieq.mpr (by rw [h, pz_c2000]))
    have d2 : p.toInt ≠ 2002 := fun h => hg (pz_ieq.mpr (by rw [h, pz_c2002]))
    rw [pz_num_f] at h1
    rw [pz_ilt, pz_c3000] at h2
    by_cases c1 : p = 2001
    · rw [if_pos c1, if_pos c, c1, if_pos (by decide : (2000 : Int32) ≤ 2001)]; decide
    · have d1 : p.toInt ≠ 2001 := fun h => c1 (pz_ieq.mpr (by rw [h, pz_c2001]))
      have e3 : ¬ (2000 : Int32) ≤ p := by
        rw [pz_ile, pz_c2000]; omega
      rw [if_neg e3]
      have f1 : ¬ ¬ p < 1000 := fun k => k (by rw [pz_ilt, pz_1000]; omega)
      have f2 : ¬ p = x := by
        intro k
        rw [pz_num_t, ← k] at c
        omega
      rw [decide_eq_false f1, decide_eq_false f2]
  · rw [if_neg c]
/-- line with items f 0 .. f (k - 1) fits the parts -/
def pz_fit (P : Nat → Int32) (pc : Nat) (f : Nat → Int32) (k : Nat) : Bool := decide (0 < pc) && pz_M (fun p => decide (P p = 2002)) (fun p i => pz_me (f i) (P p)) pc k 0 0
end
section
/-! differences in bytes: plain rows -/
def pz_dd (x : Int32) : Int32 := if (x &&& 1) = 0 then x >>> ((1 : Int32) &&& 31) else -((x + 1) >>> ((1 : Int32) &&& 31))
def pz_d2 (x y : Int32) : Int32 := (x &&& 127) ||| ((y &&& 255) <<< ((7 : Int32) &&& 31))
def pz_dec (B : Nat → Int32) (p : Nat) (d : Int32) (p' : Nat) : Prop :=
  ((B p &&& 255) < 128 ∧ p' = p + 1 ∧ d = pz_dd (B p &&& 255)) ∨ (¬ (B p &&& 255) < 128 ∧ p' = p + 2 ∧ d = pz_dd (pz_d2 (B p &&& 255) (B (p + 1))))
def pz_code (d : Int32) : Int32 := if 0 ≤ d then 2 * d else ((-2) * d) - 1
def pz_chk (d : Int32) : Bool := if 128 ≤ pz_code d then (decide (¬ ((((pz_code d &&& 127) ||| 128) &&& 255) < 128)) && decide (pz_dd ((((((pz_code d) &&& 127) ||| 128) &&& 255) &&& 127) ||| (((pz_code d >>> ((7 : Int32) &&& 31)) &&& 255) <<< ((7 : Int32) &&& 31))) = d)) else (decide ((pz_code d &&& 255) < 128) && decide (pz_dd (pz_code d &&& 255) = d))
theorem pz_chk_all : ∀ k, k < 1999 → pz_chk (nI k - 999) = true := by decide +kernel
theorem pz_chk_d {d : Int32} (h1 : -999 ≤ d.toInt) (h2 : d.toInt ≤ 999) : pz_chk d = true := by
  obtain ⟨k, hk⟩ : ∃ k : Nat, (k : Int) = d.toInt + 999 := ⟨(d.toInt + 999).toNat, by omega⟩
  have e : nI k - 999 = d := by
    apply Int32.toInt_inj.mp
    rw [Int32.toInt_sub, nI_toInt (by omega), show (999 : Int32).toInt = 999 from by decide, hk]
    rw [Int.bmod_eq_of_le (by omega) (by omega)]
    omega
  rw [← e]
  exact pz_chk_all k (by omega)
theorem pz_dec1 {B : Nat → Int32} {p : Nat} {d : Int32} (h1 : -999 ≤ d.toInt) (h2 : d.toInt ≤ 999) (hc : ¬ 128 ≤ pz_code d) (hB : B p = vp_nar .byte (pz_code d).toInt8.toInt32) : pz_dec B p d (p + 1) := by
  have h := pz_chk_d h1 h2
  unfold pz_chk at h
  rw [if_neg hc, Bool.and_eq_true] at h
  have e : B p &&& 255 = pz_code d &&& 255 := by rw [hB, pk_vb, bp_b]
  refine Or.inl ⟨?_, rfl, ?_⟩
  · rw [e]; exact of_decide_eq_true h.1
  · rw [e]; exact (of_decide_eq_true h.2).symm
theorem pz_dec2 {B : Nat → Int32} {p : Nat} {d : Int32} (h1 : -999 ≤ d.toInt) (h2 : d.toInt ≤ 999) (hc : 128 ≤ pz_code d) (hB : B p = vp_nar .byte (((pz_code d &&& 127) ||| 128).toInt8.toInt32)) (hB2 : B (p + 1) = vp_nar .byte ((pz_code d >>> ((7 : Int32) &&& 31)).toInt8.toInt32)) : pz_dec B p d (p + 2) := by
  have h := pz_chk_d h1 h2
  unfold pz_chk at h
  rw [if_pos hc, Bool.and_eq_true] at h
  have e : B p &&& 255 = ((pz_code d &&& 127) ||| 128) &&& 255 := by rw [hB, pk_vb, bp_b]
  have e2 : B (p + 1) &&& 255 = (pz_code d >>> ((7 : Int32) &&& 31)) &&& 255 := by rw [hB2, pk_vb, bp_b]
  refine Or.inr ⟨?_, rfl, ?_⟩
  · rw [e]; exact of_decide_eq_true h.1
  · unfold pz_d2
    rw [e, e2]; exact (of_decide_eq_true h.2).symm
theorem pz_dec_keep {B B' : Nat → Int32} {p p' : Nat} {d : Int32} (h : pz_dec B p d p') {q : Nat} (hq : p' ≤ q) (hB : ∀ j, j < q → B' j = B j) : pz_dec B' p d p' := by
  rcases h with ⟨h1, h2, h3⟩ | ⟨h1, h2, h3⟩
  · have e := hB p (by omega)
    exact Or.inl ⟨by rw [e]; exact h1, h2, by rw [e]; exact h3⟩
  · have e := hB p (by omega)
    have e2 := hB (p + 1) (by omega)
    exact Or.inr ⟨by rw [e]; exact h1, h2, by rw [e, e2]; exact h3⟩
theorem pz_dec_p {B : Nat → Int32} {p p' : Nat} {d : Int32} (h : pz_dec B p d p') : p < p' ∧ p' ≤ p + 2 := by
  rcases h with ⟨_, h2, _⟩ | ⟨_, h2, _⟩ <;> omega
/-! the number of a column in the line before of the same shape -/
def pz_prev (S : Nat → Nat) (it : Nat → Nat → Int32) (s i : Nat) : Nat → Int32
  | 0 => 0
  | l + 1 => if S l = s then it l i - 1000 else pz_prev S it s i l
theorem pz_prev_y {S : Nat → Nat} {it : Nat → Nat → Int32} {s i l : Nat} (h : S l = s) : pz_prev S it s i (l + 1) = it l i - 1000 := if_pos h
theorem pz_prev_n {S : Nat → Nat} {it : Nat → Nat → Int32} {s i l : Nat} (h : S l ≠ s) : pz_prev S it s i (l + 1) = pz_prev S it s i l := if_neg h
theorem pz_prev_congr {S S' : Nat → Nat} {it it' : Nat → Nat → Int32} {s i : Nat} : ∀ l, (∀ k, k < l → S k = S' k ∧ it k i = it' k i) → pz_prev S it s i l = pz_prev S' it' s i l
  | 0, _ => rfl
  | l + 1, h => by
    show (if S l = s then it l i - 1000 else pz_prev S it s i l) = (if S' l = s then it' l i - 1000 else pz_prev S' it' s i l)
    rw [pz_prev_congr l (fun k hk => h k (by omega)), (h l (by omega)).1, (h l (by omega)).2]
theorem pz_prev_0 {S : Nat → Nat} {it : Nat → Nat → Int32} {s i : Nat} : ∀ l, (∀ k, k < l → S k ≠ s) → pz_prev S it s i l = 0
  | 0, _ => rfl
  | l + 1, h => by
    rw [pz_prev_n (h l (by omega))]
    exact pz_prev_0 l (fun k hk => h k (by omega))
theorem pz_prev_r {S : Nat → Nat} {it : Nat → Nat → Int32} {s i : Nat} : ∀ l, (∀ k, k < l → S k = s → pz_num (it k i) = true) → 0 ≤ (pz_prev S it s i l).toInt ∧ (pz_prev S it s i l).toInt ≤ 999
  | 0, _ => by
    show 0 ≤ (0 : Int32).toInt ∧ (0 : Int32).toInt ≤ 999
    decide
  | l + 1, h => by
    by_cases c : S l = s
    · rw [pz_prev_y c]
      have := pz_num_t.mp (h l (by omega) c)
      rw [pz_sub1000 (by omega) (by omega)]
      omega
    · rw [pz_prev_n c]
      exact pz_prev_r l (fun k hk => h k (by omega))
theorem pz_diff_r {x y : Int32} (hx : pz_num x = true) (h1 : 0 ≤ y.toInt) (h2 : y.toInt ≤ 999) : -999 ≤ (x - 1000 - y).toInt ∧ (x - 1000 - y).toInt ≤ 999 := by
  rw [pz_num_t] at hx
  rw [Int32.toInt_sub, pz_sub1000 (by omega) (by omega), Int.bmod_eq_of_le (by omega) (by omega)]
  omega
theorem pz_undo (x y : Int32) : y + (x - 1000 - y) = x - 1000 := by
  rw [Int32.add_comm, Int32.sub_add_cancel]
theorem pz_undo2 (x : Int32) : 1000 + (x - 1000) = x := by
  rw [Int32.add_comm, Int32.sub_add_cancel]
/-! lines in bytes -/
def pz_Nm (n : Nat) (z : Nat → Nat) (it : Nat → Nat → Int32) (S : Nat → Nat) (P : Nat → Nat → Nat) (begins bytes : Nat → Int32) : Prop :=
  P 0 0 = 0 ∧ (∀ l, l < n → P (l + 1) 0 = P l (z l)) ∧ (∀ l, l ≤ n → begins l = nI (P l 0)) ∧
  (∀ l, l < n → ∀ i, i < z l → (pz_num (it l i) = true → pz_dec bytes (P l i) (it l i - 1000 - pz_prev S it (S l) i l) (P l (i + 1))) ∧ (pz_num (it l i) = false → P l (i + 1) = P l i)) ∧
  (∀ l, l < n → ∀ i, i ≤ z l → P l i ≤ P n 0) ∧ P n 0 ≤ 16 * n
def pz_La (n m : Nat) (z : Nat → Nat) (it : Nat → Nat → Int32) (S : Nat → Nat) (last : Nat → Int32) : Prop :=
  ∀ l, l < n → ∀ i, i < z l → pz_num (it l i) = true → last (8 * S l + i) = pz_prev S it (S l) i m
/-- numbers with the differences of a line added, up to a column -/
def pz_ad (u : Nat → Bool) (d : Nat → Int32) (N : Nat → Int32) : Nat → Nat → Int32
  | 0 => N
  | i + 1 => if u i = true then upd (pz_ad u d N i) i (pz_ad u d N i i + d i) else pz_ad u d N i
theorem pz_ad_at {u : Nat → Bool} {d N : Nat → Int32} : ∀ k j, pz_ad u d N k j = if j < k ∧ u j = true then N j + d j else N j
  | 0, j => by
    rw [if_neg (by omega)]; rfl
  | k + 1, j => by
    have ih := pz_ad_at (u := u) (d := d) (N := N) k
    cases e : u k with
    | true =>
      have e1 : pz_ad u d N (k + 1) = upd (pz_ad u d N k) k (pz_ad u d N k k + d k) := if_pos e
      rw [e1]
      by_cases c : j = k
      · subst c
        rw [pk_us, ih, if_neg (by omega), if_pos ⟨by omega, e⟩]
      · rw [pk_un c, ih]
        by_cases c2 : j < k ∧ u j = true
        · rw [if_pos c2, if_pos ⟨by omega, c2.2⟩]
        · rw [if_neg c2, if_neg (fun h => c2 ⟨by omega, h.2⟩)]
    | false =>
      have e1 : pz_ad u d N (k + 1) = pz_ad u d N k := if_neg (by rw [e]; decide)
      rw [e1, ih]
      by_cases c2 : j < k ∧ u j = true
      · rw [if_pos c2, if_pos ⟨by omega, c2.2⟩]
      · rw [if_neg c2, if_neg]
        rintro ⟨h1, h2⟩
        by_cases c : j = k
        · subst c
          rw [e] at h2; exact absurd h2 (by decide)
        · exact c2 ⟨by omega, h2⟩
end
section
/-! the tree of shapes: plain rows -/
/-- c is the greatest child of p below hi -/
def pz_link (par : Nat → Nat) (c : Int32) (p hi : Nat) : Prop :=
  (c = -1 ∧ ∀ q, 0 < q → q < hi → par q ≠ p) ∨ (∃ k, c = nI k ∧ 0 < k ∧ k < hi ∧ par k = p ∧ ∀ q, k < q → q < hi → par q ≠ p)
def pz_tree (N : Nat) (W : Nat → List Int32) (par : Nat → Nat) (item below beside : Nat → Int32) : Prop :=
  1 ≤ N ∧ W 0 = [] ∧ (∀ q, 0 < q → q < N → par q < q ∧ W q = W (par q) ++ [item q]) ∧ (∀ p q, p < N → q < N → W p = W q → p = q) ∧
  (∀ p, p < N → pz_link par (below p) p N) ∧ (∀ q, 0 < q → q < N → pz_link par (beside q) (par q) q)
def pz_ext {α : Type} (f : Nat → α) (n : Nat) (v : α) : Nat → α := fun l => if l = n then v else f l
theorem pz_ext_s {α : Type} {f : Nat → α} {n : Nat} {v : α} : pz_ext f n v n = v := if_pos rfl
theorem pz_ext_n {α : Type} {f : Nat → α} {n l : Nat} {v : α} (h : l ≠ n) : pz_ext f n v l = f l := if_neg h
theorem pz_ext_lt {α : Type} {f : Nat → α} {n l : Nat} {v : α} (h : l < n) : pz_ext f n v l = f l := if_neg (by omega)
theorem pz_link_congr {par par' : Nat → Nat} {c : Int32} {p hi : Nat} (hh : ∀ q, 0 < q → q < hi → par' q = par q) (h : pz_link par c p hi) : pz_link par' c p hi := by
  rcases h with ⟨h1, h2⟩ | ⟨k, h1, h2, h3, h4, h5⟩
  · exact Or.inl ⟨h1, fun q a b => by rw [hh q a b]; exact h2 q a b⟩
  · exact Or.inr ⟨k, h1, h2, h3, by rw [hh k h2 h3]; exact h4, fun q a b => by rw [hh q (by omega) b]; exact h5 q a b⟩
theorem pz_link_more {par : Nat → Nat} {c : Int32} {p hi : Nat} (h : pz_link par c p hi) (hn : par hi ≠ p) : pz_link par c p (hi + 1) := by
  rcases h with ⟨h1, h2⟩ | ⟨k, h1, h2, h3, h4, h5⟩
  · refine Or.inl ⟨h1, fun q a b => ?_⟩
    by_cases e : q = hi
    · rw [e]; exact hn
    · exact h2 q a (by omega)
  · refine Or.inr ⟨k, h1, h2, by omega, h4, fun q a b => ?_⟩
    by_cases e : q = hi
    · rw [e]; exact hn
    · exact h5 q a (by omega)
theorem pz_tree_new {N : Nat} {W : Nat → List Int32} {par : Nat → Nat} {item below beside : Nat → Int32} (h : pz_tree N W par item below beside) {node : Nat} (hn : node < N) {x : Int32} (hx : ∀ q, 0 < q → q < N → par q = node → item q ≠ x) {below' beside' : Nat → Int32} (e1 : below' = upd (upd below N (-1)) node (nI N)) (e2 : beside' = upd (upd beside N (-1)) N (below node)) : pz_tree (N + 1) (pz_ext W N (W node ++ [x])) (pz_ext par N node) (upd item N x) below' beside' := by
  obtain ⟨h1, h2, h3, h4, h5, h6⟩ := h
  have fresh : ∀ q, q < N → W q ≠ W node ++ [x] := by
    intro q hq e
    by_cases c : q = 0
    · subst c
      rw [h2] at e
      exact absurd e (by simp)
    · obtain ⟨a1, a2⟩ := h3 q (by omega) hq
      rw [a2] at e
      obtain ⟨b1, b2⟩ := List.append_inj' e rfl
      have b3 := h4 (par q) node (by omega) hn b1
      exact hx q (by omega) hq b3 (List.head_eq_of_cons_eq b2)
  refine ⟨by omega, ?_, fun q q0 hq => ?_, fun p q hp hq => ?_, fun p hp => ?_, fun q q0 hq => ?_⟩
  · rw [pz_ext_lt (by omega)]; exact h2
  · by_cases e : q = N
    · subst e
      rw [pz_ext_s, pz_ext_s, pz_ext_lt hn, pk_us]
      exact ⟨hn, rfl⟩
    · obtain ⟨a1, a2⟩ := h3 q q0 (by omega)
      rw [pz_ext_n e, pz_ext_n e, pz_ext_lt (by omega), pk_un e]
      exact ⟨a1, a2⟩
  · by_cases ep : p = N
    · by_cases eq : q = N
      · intro _; omega
      · rw [ep, pz_ext_s, pz_ext_n eq]
        intro e; exact absurd e.symm (fresh q (by omega))
    · by_cases eq : q = N
      · rw [eq, pz_ext_s, pz_ext_n ep]
        intro e; exact absurd e (fresh p (by omega))
      · rw [pz_ext_n ep, pz_ext_n eq]
        exact h4 p q (by omega) (by omega)
  · rw [e1]
    by_cases c : p = node
    · subst c
      rw [pk_us]
      exact Or.inr ⟨N, rfl, by omega, by omega, pz_ext_s, fun q a b => absurd b (by omega)⟩
    · rw [pk_un c]
      by_cases d : p = N
      · subst d
        rw [pk_us]
        refine Or.inl ⟨rfl, fun q a b => ?_⟩
        by_cases e : q = p
        · subst e
          rw [pz_ext_s]; omega
        · rw [pz_ext_n e]
          have := (h3 q a (by omega)).1
          omega
      · rw [pk_un d]
        refine pz_link_more (pz_link_congr (fun q a b => pz_ext_lt b) (h5 p (by omega))) ?_
        rw [pz_ext_s]
        exact fun k => c k.symm
  · rw [e2]
    by_cases c : q = N
    · subst c
      rw [pk_us, pz_ext_s]
      exact pz_link_congr (fun q a b => pz_ext_lt b) (h5 node hn)
    · rw [pk_un c, pk_un c, pz_ext_n c]
      exact pz_link_congr (fun r a b => pz_ext_n (by omega)) (h6 q q0 (by omega))
/-- shapes that end at nodes -/
def pz_En (n : Nat) (z : Nat → Nat) (it : Nat → Nat → Int32) (S : Nat → Nat) (N : Nat) (W : Nat → List Int32) (ends : Nat → Int32) : Prop :=
  (∀ p, p < N → ends p = -1 ∨ ∃ l, l < n ∧ ends p = nI (S l) ∧ W p = pz_wl (it l) (z l)) ∧ (∀ l, l < n → ∃ p, p < N ∧ W p = pz_wl (it l) (z l) ∧ ends p = nI (S l))
theorem pz_En_new {n : Nat} {z : Nat → Nat} {it : Nat → Nat → Int32} {S : Nat → Nat} {N : Nat} {W : Nat → List Int32} {ends : Nat → Int32} (h : pz_En n z it S N W ends) (w : List Int32) : pz_En n z it S (N + 1) (pz_ext W N w) (upd ends N (-1)) := by
  refine ⟨fun p hp => ?_, fun l hl => ?_⟩
  · by_cases c : p = N
    · subst c
      exact Or.inl pk_us
    · rw [pk_un c, pz_ext_n c]
      exact h.1 p (by omega)
  · obtain ⟨p, hp, a, b⟩ := h.2 l hl
    exact ⟨p, by omega, by rw [pz_ext_lt hp]; exact a, by rw [pk_un (by omega)]; exact b⟩
def pz_Tr (n : Nat) (z : Nat → Nat) (it : Nat → Nat → Int32) (S : Nat → Nat) (b : Nat) (nodes : Int32) (item below beside ends : Nat → Int32) : Prop :=
  ∃ (N : Nat) (W : Nat → List Int32) (par : Nat → Nat), nodes = nI N ∧ N ≤ b ∧ pz_tree N W par item below beside ∧ pz_En n z it S N W ends
end
section
/-! X: small methods -/
section
variable {f_draftCount f_partCount f_lines f_shapes f_nodes f_isFitted f_from : Int32} {f_fits : Int64} {a_draft a_parts a_times a_shapeOf a_begins a_bytes a_shapeLength a_shapeItems a_lastNumbers a_nodeItem a_below a_beside a_endsHere a_read a_numbers a_rest a_restLength a_restTime : Nat → Int32} {a_shapeLines a_wordLines : Nat → Int64}
variable {n : Nat} {z : Nat → Nat} {it : Nat → Nat → Int32} {T : Nat → Int32} {S : Nat → Nat}
theorem xw_isNumber {post : Int32 → Prop} {x : Int32} (h1 : pz_num x = true → post 1) (h0 : pz_num x = false → post 0) : wpX_isNumber post x := by
  refine br_c (fun a => h0 ?_) (fun a => br_c (fun b => h0 ?_) (fun b => h1 ?_))
  · rw [pz_num_f]; rw [pz_ilt, pz_1000] at a; omega
  · rw [pz_num_f]; rw [pz_ile, pz_c2000] at b; omega
  · rw [pz_num_t]; rw [pz_ilt, pz_1000] at a; rw [pz_ile, pz_c2000] at b; omega
theorem xw_isItem10 {post : Int32 → Prop} {x : Int32} (hx : ¬ (0 ≤ x.toInt ∧ x.toInt < 24)) (h1 : pz_ok x → post 1) (h0 : ¬ pz_ok x → post 0) : wX_isItem_10 post x := by
  refine xw_isNumber (fun a => br_f pz_10 (h1 (Or.inr (pz_num_t.mp a)))) (fun a => br_t rfl (h0 ?_))
  rintro (b | b)
  · exact hx b
  · exact pz_num_f.mp a b
theorem pz_c24 : (24 : Int32).toInt = 24 := by decide
theorem pz_c0 : (0 : Int32).toInt = 0 := by decide
theorem xw_isItem {post : Int32 → Prop} {x : Int32} (h1 : pz_ok x → post 1) (h0 : ¬ pz_ok x → post 0) : wpX_isItem post x := by
  refine br_c (fun a => xw_isItem10 ?_ h1 h0) (fun a => br_c (fun b => h1 (Or.inl ?_)) (fun b => xw_isItem10 ?_ h1 h0))
  · rw [pz_ilt, pz_c0] at a; omega
  · rw [pz_ilt, pz_c0] at a; rw [pz_ilt, pz_c24] at b; omega
  · rw [pz_ilt, pz_c24] at b; omega
theorem pz_nok {x : Int32} (h : ¬ pz_ok x) : ¬ (0 ≤ x.toInt ∧ x.toInt < 24) ∧ ¬ (1000 ≤ x.toInt ∧ x.toInt < 2000) := ⟨fun k => h (Or.inl k), fun k => h (Or.inr k)⟩
theorem xw_isPart21 {post : Int32 → Prop} {x : Int32} (hx : ¬ (pz_ok x ∨ (2000 ≤ x.toInt ∧ x.toInt ≤ 2002))) (h1 : pz_pok x → post 1) (h0 : ¬ pz_pok x → post 0) : wX_isPart_21 post x := by
  have K : ¬ (3000 ≤ x.toInt ∧ x.toInt < 4000) → ¬ pz_pok x := by
    rintro k (h | h | h)
    · exact hx (Or.inl h)
    · exact hx (Or.inr h)
    · exact k h
  refine br_c (fun a => h0 (K ?_)) (fun a => br_c (fun b => h0 (K ?_)) (fun b => h1 (Or.inr (Or.inr ?_))))
  · rw [pz_ilt, pz_c3000] at a; omega
  · rw [pz_ile, pz_c4000] at b; omega
  · rw [pz_ilt, pz_c3000] at a; rw [pz_ile, pz_c4000] at b; omega
theorem xw_isPart {post : Int32 → Prop} {x : Int32} (h1 : pz_pok x → post 1) (h0 : ¬ pz_pok x → post 0) : wpX_isPart post x := by
  refine xw_isItem (fun a => br_f pz_10 (h1 (Or.inl a))) (fun a => br_t rfl (br_c (fun b => xw_isPart21 ?_ h1 h0) (fun b => br_c (fun c => h1 (Or.inr (Or.inl ?_))) (fun c => xw_isPart21 ?_ h1 h0))))
  · rw [pz_ilt, pz_c2000] at b
    rintro (k | k)
    · exact a k
    · omega
  · rw [pz_ilt, pz_c2000] at b; rw [pz_ile, pz_c2002] at c; omega
  · rw [pz_ile, pz_c2002] at c
    rintro (k | k)
    · exact a k
    · omega
theorem xw_blanked {post : Int32 → Prop} {x : Int32} (h : post (pz_bl x)) : wpX_blanked post x :=
  xw_isNumber (fun a => br_f pz_10 (by rw [pz_bl_n a] at h; exact h)) (fun a => br_t rfl (by rw [pz_bl_w a] at h; exact h))
theorem xw_isLine_y {post : Int32 → Prop} {l : Nat} (hn : n ≤ 60) (hl : l < n) (h : post 1) : wpX_isLine post (f_draftCount, f_partCount, nI n, f_shapes, f_nodes, f_isFitted, f_fits, f_from, a_draft, a_parts, a_times, a_shapeOf, a_begins, a_bytes, a_shapeLength, a_shapeItems, a_shapeLines, a_lastNumbers, a_wordLines, a_nodeItem, a_below, a_beside, a_endsHere, a_read, a_numbers, a_rest, a_restLength, a_restTime) (nI l) :=
  br_f (nI_pos (by omega)) (pk_le n l (fun c => absurd c (by omega)) (fun _ => h))
theorem xw_isLine_n {post : Int32 → Prop} {x : Int32} (hx : x < 0 ∨ nI n ≤ x) (h : post 0) : wpX_isLine post (f_draftCount, f_partCount, nI n, f_shapes, f_nodes, f_isFitted, f_fits, f_from, a_draft, a_parts, a_times, a_shapeOf, a_begins, a_bytes, a_shapeLength, a_shapeItems, a_shapeLines, a_lastNumbers, a_wordLines, a_nodeItem, a_below, a_beside, a_endsHere, a_read, a_numbers, a_rest, a_restLength, a_restTime) x := by
  refine br_c (fun _ => h) (fun a => br_c (fun _ => h) (fun b => ?_))
  rcases hx with k | k
  · exact absurd k a
  · exact absurd k b
theorem pz_line (x : Int32) (hn : n ≤ 60) : (x < 0 ∨ nI n ≤ x) ∨ ∃ l, l < n ∧ x = nI l := by
  rcases pk_ix x (n := n) (by omega) with h | h | h
  · exact Or.inl (Or.inl h)
  · exact Or.inl (Or.inr h)
  · exact Or.inr h
theorem xw_ones4 {post : Int32 → Prop} {x : Int64} (h : post (nI (pz_cnt (pz_b x) 60))) : ∀ d k, k + d = 60 → wX_ones_4 post x (d + 1) (nI (pz_cnt (pz_b x) k)) (nI k) := by
  intro d
  induction d with
  | zero =>
    intro k hk
    have e : k = 60 := by omega
    subst e
    exact pk_le 60 60 (fun _ => h) (fun c => absurd c (by omega))
  | succ d ih =>
    intro k hk
    refine br_f (nI_ge (a := k) (b := 60) (by omega) (by decide)) (nm_r (e' := nI (pz_cnt (pz_b x) (k + 1))) ?_ (nm_r (nI_1 k) (ih (k + 1) (by omega))))
    rw [pz_on (by omega)]
    cases e : pz_b x k with
    | true => rw [pz_cnt_t e, if_pos rfl, nI_1]
    | false => rw [pz_cnt_f e, if_neg (by decide), Int32.add_zero]
theorem xw_ones {post : Int32 → Prop} {x : Int64} (h : post (nI (pz_cnt (pz_b x) 60))) : wpX_ones post x := ⟨61, xw_ones4 h 60 0 rfl⟩
theorem xw_lowest2 {post : Int32 → Prop} {x : Int64} (h : post (nI (pz_find (pz_b x) 60))) : ∀ d k, k + d = 60 → (∀ j, j < k → pz_b x j = false) → wX_lowest_2 post x (d + 1) (nI k) := by
  intro d
  induction d with
  | zero =>
    intro k hk hj
    have e : k = 60 := by omega
    subst e
    rw [pz_find_eq (Nat.le_refl 60) hj (fun c => absurd c (by omega))] at h
    exact pk_le 60 60 (fun _ => h) (fun c => absurd c (by omega))
  | succ d ih =>
    intro k hk hj
    refine br_f (nI_ge (a := k) (b := 60) (by omega) (by decide)) (pz_ifn (pz_lo (by omega)) (fun b => nm_r (nI_1 k) (ih (k + 1) (by omega) ?_)) (fun b => ?_))
    · intro j c
      by_cases e : j = k
      · rw [e]; exact b
      · exact hj j (by omega)
    · rw [pz_find_eq (by omega) hj (fun _ => b)] at h
      exact h
theorem xw_lowest {post : Int32 → Prop} {x : Int64} (h : post (nI (pz_find (pz_b x) 60))) : wpX_lowest post x := ⟨61, xw_lowest2 h 60 0 rfl (fun j c => absurd c (Nat.not_lt_zero j))⟩
theorem xw_cb7 {post : Int32 → Prop} {t : Int32} (hC : pz_C n z it T S) (h : post (nI (pz_cb T n t))) : ∀ d lo hi, hi ≤ lo + d → lo ≤ pz_cb T n t → pz_cb T n t ≤ hi → hi ≤ n → wX_countBelow_7 post t f_draftCount f_partCount (nI n) f_shapes f_nodes f_isFitted f_fits f_from a_draft a_parts T a_shapeOf a_begins a_bytes a_shapeLength a_shapeItems a_shapeLines a_lastNumbers a_wordLines a_nodeItem a_below a_beside a_endsHere a_read a_numbers a_rest a_restLength a_restTime (d + 1) (nI lo) (nI hi) := by
  have hn := pz_Cn hC
  intro d
  induction d with
  | zero =>
    intro lo hi h1 h2 h3 h4
    have e : pz_cb T n t = lo := by omega
    rw [e] at h
    exact pk_le hi lo (fun _ => h) (fun c => absurd c (by omega))
  | succ d ih =>
    intro lo hi h1 h2 h3 h4
    refine pk_le hi lo (fun c => ?_) (fun c => nm_r (e' := nI ((lo + hi) / 2)) ?_ (And.intro (vp_in_nI (by omega) (by decide)) (pz_if (d := ¬ (lo + hi) / 2 < pz_cb T n t) ?_ (fun b => ih lo ((lo + hi) / 2) (by omega) h2 (by omega) (by omega)) (fun b => nm_r (nI_1 _) (ih ((lo + hi) / 2 + 1) hi (by omega) (by omega) h3 h4)))))
    · have e : pz_cb T n t = lo := by omega
      rw [e] at h
      exact h
    · rw [nI_add, pk_shrN (by omega) _ 1 (by decide)]
    · rw [nI_clamp (by omega), pz_cb_lt hC t (by omega), pz_nlt]
theorem xw_countBelow {post : Int32 → Prop} {t : Int32} (hC : pz_C n z it T S) (h : post (nI (pz_cb T n t))) : wpX_countBelow post (f_draftCount, f_partCount, nI n, f_shapes, f_nodes, f_isFitted, f_fits, f_from, a_draft, a_parts, T, a_shapeOf, a_begins, a_bytes, a_shapeLength, a_shapeItems, a_shapeLines, a_lastNumbers, a_wordLines, a_nodeItem, a_below, a_beside, a_endsHere, a_read, a_numbers, a_rest, a_restLength, a_restTime) t :=
  ⟨n + 1, xw_cb7 hC h n 0 n (by omega) (Nat.zero_le _) (pz_cb_le T n t) (Nat.le_refl n)⟩
theorem xw_countUpTo {post : Int32 → Prop} {t : Int32} (hC : pz_C n z it T S) (h : post (nI (pz_cu T n t))) : wpX_countUpTo post (f_draftCount, f_partCount, nI n, f_shapes, f_nodes, f_isFitted, f_fits, f_from, a_draft, a_parts, T, a_shapeOf, a_begins, a_bytes, a_shapeLength, a_shapeItems, a_shapeLines, a_lastNumbers, a_wordLines, a_nodeItem, a_below, a_beside, a_endsHere, a_read, a_numbers, a_rest, a_restLength, a_restTime) t := by
  refine br_c (fun a => xw_countBelow hC ?_) (fun a => ?_)
  · have e : pz_cb T n (t + 1) = pz_cu T n t := by
      refine pz_find_congr (fun j hj => ?_)
      rw [pz_ilt, pz_1000] at a
      have b := t.le_toInt
      have e2 : (t + 1).toInt = t.toInt + 1 := by
        rw [Int32.toInt_add, show (1 : Int32).toInt = 1 from by decide]
        exact Int.bmod_eq_of_le (by omega) (by omega)
      rw [decide_eq_decide, pz_ile, pz_ilt, e2]
      omega
    rw [e]; exact h
  · have e : pz_cu T n t = n := by
      refine pz_find_eq (Nat.le_refl n) (fun j hj => decide_eq_false (fun k => ?_)) (fun c => absurd c (Nat.lt_irrefl n))
      have b := pz_Ct hC hj
      rw [pz_ilt, pz_1000] at a
      rw [pz_ilt] at k
      omega
    rw [e] at h
    exact h
theorem xw_clear2 {post : SX → Prop} (h : ∀ N : Nat → Int32, (∀ j, j < 8 → N j = 0) → post (f_draftCount, f_partCount, f_lines, f_shapes, f_nodes, f_isFitted, f_fits, f_from, a_draft, a_parts, a_times, a_shapeOf, a_begins, a_bytes, a_shapeLength, a_shapeItems, a_shapeLines, a_lastNumbers, a_wordLines, a_nodeItem, a_below, a_beside, a_endsHere, a_read, N, a_rest, a_restLength, a_restTime)) : ∀ d k (N : Nat → Int32), k + d = 8 → (∀ j, j < k → N j = 0) → wX_clearNumbers_2 post f_draftCount f_partCount f_lines f_shapes f_nodes f_isFitted f_fits f_from (d + 1) (nI k) a_draft a_parts a_times a_shapeOf a_begins a_bytes a_shapeLength a_shapeItems a_shapeLines a_lastNumbers a_wordLines a_nodeItem a_below a_beside a_endsHere a_read N a_rest a_restLength a_restTime := by
  intro d
  induction d with
  | zero =>
    intro k N hk hN
    have e : k = 8 := by omega
    subst e
    exact pk_le 8 8 (fun _ => h N hN) (fun c => absurd c (by omega))
  | succ d ih =>
    intro k N hk hN
    refine br_f (nI_ge (a := k) (b := 8) (by omega) (by decide)) (And.intro (vp_in_nI (by omega) (by decide)) (nm_r (e' := upd N k 0) ?_ (nm_r (nI_1 k) (ih (k + 1) _ (by omega) ?_))))
    · rw [nI_clamp (by omega)]
    · intro j hj
      by_cases e : j = k
      · rw [e, pk_us]
      · rw [pk_un e]; exact hN j (by omega)
theorem xw_clear {post : SX → Prop} (h : ∀ N : Nat → Int32, (∀ j, j < 8 → N j = 0) → post (f_draftCount, f_partCount, f_lines, f_shapes, f_nodes, f_isFitted, f_fits, f_from, a_draft, a_parts, a_times, a_shapeOf, a_begins, a_bytes, a_shapeLength, a_shapeItems, a_shapeLines, a_lastNumbers, a_wordLines, a_nodeItem, a_below, a_beside, a_endsHere, a_read, N, a_rest, a_restLength, a_restTime)) : wpX_clearNumbers post (f_draftCount, f_partCount, f_lines, f_shapes, f_nodes, f_isFitted, f_fits, f_from, a_draft, a_parts, a_times, a_shapeOf, a_begins, a_bytes, a_shapeLength, a_shapeItems, a_shapeLines, a_lastNumbers, a_wordLines, a_nodeItem, a_below, a_beside, a_endsHere, a_read, a_numbers, a_rest, a_restLength, a_restTime) :=
  ⟨9, xw_clear2 h 8 0 a_numbers rfl (fun j c => absurd c (Nat.not_lt_zero j))⟩
theorem xw_take63 {post : Int32 → SX → Prop} {x : Int32} (h : post (pz_dd x) (f_draftCount, f_partCount, f_lines, f_shapes, f_nodes, f_isFitted, f_fits, f_from, a_draft, a_parts, a_times, a_shapeOf, a_begins, a_bytes, a_shapeLength, a_shapeItems, a_shapeLines, a_lastNumbers, a_wordLines, a_nodeItem, a_below, a_beside, a_endsHere, a_read, a_numbers, a_rest, a_restLength, a_restTime)) : wX_takeNumber_63 post x f_draftCount f_partCount f_lines f_shapes f_nodes f_isFitted f_fits f_from a_draft a_parts a_times a_shapeOf a_begins a_bytes a_shapeLength a_shapeItems a_shapeLines a_lastNumbers a_wordLines a_nodeItem a_below a_beside a_endsHere a_read a_numbers a_rest a_restLength a_restTime := by
  unfold pz_dd at h
  refine br_c (fun a => ?_) (fun a => ?_)
  · rw [if_pos a] at h; exact h
  · rw [if_neg a] at h; exact h
theorem xw_take {post : Int32 → SX → Prop} {p p' : Nat} {d : Int32} (hd : pz_dec a_bytes p d p') (hp : p' ≤ 960) (h : post d (f_draftCount, f_partCount, f_lines, f_shapes, f_nodes, f_isFitted, f_fits, nI p', a_draft, a_parts, a_times, a_shapeOf, a_begins, a_bytes, a_shapeLength, a_shapeItems, a_shapeLines, a_lastNumbers, a_wordLines, a_nodeItem, a_below, a_beside, a_endsHere, a_read, a_numbers, a_rest, a_restLength, a_restTime)) : wpX_takeNumber post (f_draftCount, f_partCount, f_lines, f_shapes, f_nodes, f_isFitted, f_fits, nI p, a_draft, a_parts, a_times, a_shapeOf, a_begins, a_bytes, a_shapeLength, a_shapeItems, a_shapeLines, a_lastNumbers, a_wordLines, a_nodeItem, a_below, a_beside, a_endsHere, a_read, a_numbers, a_rest, a_restLength, a_restTime) := by
  have h2 := pz_dec_p hd
  refine And.intro (vp_in_nI (by omega) (by decide)) (nm_r (e' := a_bytes p &&& 255) (by rw [nI_clamp (by omega)]) (nm_r (nI_1 p) ?_))
  rcases hd with ⟨a, b, c⟩ | ⟨a, b, c⟩
  · subst b c
    exact br_t a (xw_take63 h)
  · subst b c
    exact br_f a (And.intro (vp_in_nI (by omega) (by decide)) (nm_r (e' := pz_d2 (a_bytes p &&& 255) (a_bytes (p + 1))) (by rw [nI_clamp (by omega)]; rfl) (nm_r (nI_1 (p + 1)) (xw_take63 h))))
theorem xw_bring16 {post : Int32 → SX → Prop} {p : Nat} {d : Int32} (h1 : -999 ≤ d.toInt) (h2 : d.toInt ≤ 999) (hp : p + 2 ≤ 960) (h : ∀ (B : Nat → Int32) (p' : Nat), (∀ j, j < p → B j = a_bytes j) → pz_dec B p d p' → post (nI p') (f_draftCount, f_partCount, f_lines, f_shapes, f_nodes, f_isFitted, f_fits, f_from, a_draft, a_parts, a_times, a_shapeOf, a_begins, B, a_shapeLength, a_shapeItems, a_shapeLines, a_lastNumbers, a_wordLines, a_nodeItem, a_below, a_beside, a_endsHere, a_read, a_numbers, a_rest, a_restLength, a_restTime)) : wX_bringNumber_16 post (nI p) (pz_code d) f_draftCount f_partCount f_lines f_shapes f_nodes f_isFitted f_fits f_from a_draft a_parts a_times a_shapeOf a_begins a_bytes a_shapeLength a_shapeItems a_shapeLines a_lastNumbers a_wordLines a_nodeItem a_below a_beside a_endsHere a_read a_numbers a_rest a_restLength a_restTime := by
  refine br_c (fun a => And.intro (vp_in_nI (by omega) (by decide)) (nm_r (e' := upd a_bytes p (vp_nar .byte (((pz_code d &&& 127) ||| 128).toInt8.toInt32))) ?_ (And.intro ?_ (nm_r (e' := upd (upd a_bytes p (vp_nar .byte (((pz_code d &&& 127) ||| 128).toInt8.toInt32))) (p + 1) (vp_nar .byte ((pz_code d >>> ((7 : Int32) &&& 31)).toInt8.toInt32))) ?_ ?_)))) (fun a => And.intro (vp_in_nI (by omega) (by decide)) (nm_r (e' := upd a_bytes p (vp_nar .byte (pz_code d).toInt8.toInt32)) ?_ ?_))
  · rw [nI_clamp (by omega)]
  · rw [nI_1]; exact vp_in_nI (by omega) (by decide)
  · rw [nI_1, nI_clamp (by omega)]
  · have e : nI p + 2 = nI (p + 2) := nI_add p 2
    rw [e]
    refine h _ (p + 2) (fun j hj => ?_) (pz_dec2 h1 h2 a ?_ pk_us)
    · rw [pk_un (by omega), pk_un (by omega)]
    · rw [pk_un (by omega), pk_us]
  · rw [nI_clamp (by omega)]
  · rw [nI_1]
    exact h _ (p + 1) (fun j hj => pk_un (by omega)) (pz_dec1 h1 h2 a pk_us)
theorem xw_bring {post : Int32 → SX → Prop} {p : Nat} {d : Int32} (h1 : -999 ≤ d.toInt) (h2 : d.toInt ≤ 999) (hp : p + 2 ≤ 960) (h : ∀ (B : Nat → Int32) (p' : Nat), (∀ j, j < p → B j = a_bytes j) → pz_dec B p d p' → post (nI p') (f_draftCount, f_partCount, f_lines, f_shapes, f_nodes, f_isFitted, f_fits, f_from, a_draft, a_parts, a_times, a_shapeOf, a_begins, B, a_shapeLength, a_shapeItems, a_shapeLines, a_lastNumbers, a_wordLines, a_nodeItem, a_below, a_beside, a_endsHere, a_read, a_numbers, a_rest, a_restLength, a_restTime)) : wpX_bringNumber post (f_draftCount, f_partCount, f_lines, f_shapes, f_nodes, f_isFitted, f_fits, f_from, a_draft, a_parts, a_times, a_shapeOf, a_begins, a_bytes, a_shapeLength, a_shapeItems, a_shapeLines, a_lastNumbers, a_wordLines, a_nodeItem, a_below, a_beside, a_endsHere, a_read, a_numbers, a_rest, a_restLength, a_restTime) (nI p) d := by
  have K := xw_bring16 (post := post) h1 h2 hp h
  unfold pz_code at K
  refine br_c (fun a => ?_) (fun a => ?_)
  · rw [if_pos a] at K; exact K
  · rw [if_neg a] at K; exact K
end
end
section
/-! X: a line's numbers and items -/
def pz_So (n : Nat) (S : Nat → Nat) (shapeOf : Nat → Int32) : Prop := ∀ l, l < n → shapeOf l = nI (S l)
def pz_Sl (n : Nat) (z : Nat → Nat) (it : Nat → Nat → Int32) (S : Nat → Nat) (len items : Nat → Int32) : Prop := ∀ l, l < n → len (S l) = nI (z l) ∧ ∀ i, i < z l → items (8 * S l + i) = pz_bl (it l i)
/-- the numbers are those of the last line before l of the shape of line c -/
def pz_Iv (z : Nat → Nat) (it : Nat → Nat → Int32) (S : Nat → Nat) (c : Nat) (N : Nat → Int32) (l : Nat) : Prop := ∀ i, i < z c → pz_num (it c i) = true → N i = pz_prev S it (S c) i l
section
variable {n : Nat} {z : Nat → Nat} {it : Nat → Nat → Int32} {T : Nat → Int32} {S : Nat → Nat} {P : Nat → Nat → Nat}
theorem pz_same (hC : pz_C n z it T S) {a b : Nat} (ha : a < n) (hb : b < n) (h : S a = S b) : z a = z b ∧ ∀ i, i < z a → pz_num (it a i) = pz_num (it b i) := by
  obtain ⟨h1, h2⟩ := (pz_CS hC ha hb).mp h
  refine ⟨h1, fun i hi => ?_⟩
  have e := h2 i hi
  cases c : pz_num (it b i) with
  | true =>
    rw [pz_bl_n c] at e
    exact pz_bl_1000.mp e
  | false =>
    apply ts_nt
    intro d
    rw [pz_bl_n d] at e
    rw [pz_bl_1000.mp e.symm] at c
    exact absurd c (by decide)
theorem pz_Iv_0 {c : Nat} {N : Nat → Int32} (hz : z c ≤ 8) (h : ∀ j, j < 8 → N j = 0) : pz_Iv z it S c N 0 := fun i hi _ => h i (by omega)
theorem pz_Iv_n {c l : Nat} {N : Nat → Int32} (h : pz_Iv z it S c N l) (hs : S l ≠ S c) : pz_Iv z it S c N (l + 1) := fun i hi hu => by
  rw [pz_prev_n hs]; exact h i hi hu
theorem pz_Iv_y (hC : pz_C n z it T S) {c l : Nat} {N : Nat → Int32} (hc : c < n) (hl : l < n) (h : pz_Iv z it S c N l) (hs : S l = S c) : pz_Iv z it S c (pz_ad (fun i => pz_num (it l i)) (fun i => it l i - 1000 - pz_prev S it (S l) i l) N (z l)) (l + 1) ∧ ∀ i, i < z l → pz_num (it l i) = true → pz_ad (fun i => pz_num (it l i)) (fun i => it l i - 1000 - pz_prev S it (S l) i l) N (z l) i = it l i - 1000 := by
  obtain ⟨e1, e2⟩ := pz_same hC hl hc hs
  have K : ∀ i, i < z l → pz_num (it l i) = true → pz_ad (fun i => pz_num (it l i)) (fun i => it l i - 1000 - pz_prev S it (S l) i l) N (z l) i = it l i - 1000 := by
    intro i hi hu
    rw [pz_ad_at, if_pos ⟨hi, hu⟩, h i (by omega) (by rw [← e2 i hi]; exact hu), hs]
    exact pz_undo _ _
  refine ⟨fun i hi hu => ?_, K⟩
  rw [pz_prev_y hs]
  exact K i (by omega) (by rw [e2 i (by omega)]; exact hu)
end
section
variable {f_draftCount f_partCount f_lines f_shapes f_nodes f_isFitted f_from : Int32} {f_fits : Int64} {a_draft a_parts a_times a_shapeOf a_begins a_bytes a_shapeLength a_shapeItems a_lastNumbers a_nodeItem a_below a_beside a_endsHere a_read a_numbers a_rest a_restLength a_restTime : Nat → Int32} {a_shapeLines a_wordLines : Nat → Int64}
variable {n : Nat} {z : Nat → Nat} {it : Nat → Nat → Int32} {T : Nat → Int32} {S : Nat → Nat} {P : Nat → Nat → Nat}
theorem xw_add12 {post : SX → Prop} {s zl : Nat} {f dl N : Nat → Int32} {Q : Nat → Nat} (hs : s < 60) (hz : zl ≤ 8) (hlen : a_shapeLength s = nI zl) (hit : ∀ i, i < zl → a_shapeItems (8 * s + i) = pz_bl (f i)) (hd : ∀ i, i < zl → (pz_num (f i) = true → pz_dec a_bytes (Q i) (dl i) (Q (i + 1))) ∧ (pz_num (f i) = false → Q (i + 1) = Q i)) (hQ : ∀ i, i ≤ zl → Q i ≤ 960) (h : post (f_draftCount, f_partCount, f_lines, f_shapes, f_nodes, f_isFitted, f_fits, nI (Q zl), a_draft, a_parts, a_times, a_shapeOf, a_begins, a_bytes, a_shapeLength, a_shapeItems, a_shapeLines, a_lastNumbers, a_wordLines, a_nodeItem, a_below, a_beside, a_endsHere, a_read, pz_ad (fun i => pz_num (f i)) dl N zl, a_rest, a_restLength, a_restTime)) : ∀ d i, i + d = zl → wX_addLine_12 post (nI s) (d + 1) (nI i) f_draftCount f_partCount f_lines f_shapes f_nodes f_isFitted f_fits (nI (Q i)) a_draft a_parts a_times a_shapeOf a_begins a_bytes a_shapeLength a_shapeItems a_shapeLines a_lastNumbers a_wordLines a_nodeItem a_below a_beside a_endsHere a_read (pz_ad (fun i => pz_num (f i)) dl N i) a_rest a_restLength a_restTime := by
  have hl' : a_shapeLength (nI s).toNatClampNeg = nI zl := by rw [nI_clamp (by omega)]; exact hlen
  intro d
  induction d with
  | zero =>
    intro i hi
    have e : i = zl := by omega
    subst e
    exact And.intro (vp_in_nI hs (by decide)) (pk_le i i (fun _ => h) (fun c => absurd c (by omega)) (hx := hl'))
  | succ d ih =>
    intro i hi
    have hi' : i < zl := by omega
    refine And.intro (vp_in_nI hs (by decide)) (pk_le zl i (fun c => absurd c (by omega)) (fun _ => And.intro (pz_in8 hs (by omega)) (pz_ifb (b := pz_num (f i)) ?_ (fun hu => And.intro (vp_in_nI (by omega) (by decide)) (xw_take ((hd i hi').1 hu) (hQ (i + 1) (by omega)) (And.intro (vp_in_nI (by omega) (by decide)) (nm_r (e' := pz_ad (fun i => pz_num (f i)) dl N (i + 1)) ?_ (nm_r (nI_1 i) (ih (i + 1) (by omega))))))) (fun hu => nm_r (nI_1 i) ?_))) (hx := hl'))
    · rw [pz_cl8 hs (by omega), hit i hi']
      exact pz_bl_1000
    · rw [nI_clamp (by omega)]
      exact (if_pos hu).symm
    · have k := ih (i + 1) (by omega)
      have e1 : pz_ad (fun i => pz_num (f i)) dl N (i + 1) = pz_ad (fun i => pz_num (f i)) dl N i := if_neg (fun q => by have q2 : pz_num (f i) = true := q; rw [hu] at q2; exact absurd q2 (by decide))
      rw [e1, (hd i hi').2 hu] at k
      exact k
theorem xw_addLine0 {post : SX → Prop} {l : Nat} {N : Nat → Int32} (hC : pz_C n z it T S) (hL : pz_Sl n z it S a_shapeLength a_shapeItems) (hN : pz_Nm n z it S P a_begins a_bytes) (hl : l < n) (h : post (f_draftCount, f_partCount, f_lines, f_shapes, f_nodes, f_isFitted, f_fits, nI (P l (z l)), a_draft, a_parts, a_times, a_shapeOf, a_begins, a_bytes, a_shapeLength, a_shapeItems, a_shapeLines, a_lastNumbers, a_wordLines, a_nodeItem, a_below, a_beside, a_endsHere, a_read, pz_ad (fun i => pz_num (it l i)) (fun i => it l i - 1000 - pz_prev S it (S l) i l) N (z l), a_rest, a_restLength, a_restTime)) : wpX_addLine post (f_draftCount, f_partCount, f_lines, f_shapes, f_nodes, f_isFitted, f_fits, f_from, a_draft, a_parts, a_times, a_shapeOf, a_begins, a_bytes, a_shapeLength, a_shapeItems, a_shapeLines, a_lastNumbers, a_wordLines, a_nodeItem, a_below, a_beside, a_endsHere, a_read, N, a_rest, a_restLength, a_restTime) (nI l) (nI (S l)) := by
  have hn := pz_Cn hC
  obtain ⟨n1, n2, n3, n4, n5, n6⟩ := hN
  refine And.intro (vp_in_nI (by omega) (by decide)) (nm_r (e' := nI (P l 0)) ?_ ⟨z l + 1, xw_add12 (f := it l) (Q := P l) (pz_Cs hC hl) (pz_Cz hC hl).2 (hL l hl).1 (hL l hl).2 (n4 l hl) (fun i hi => ?_) h (z l) 0 (by omega)⟩)
  · rw [nI_clamp (by omega)]
    exact n3 l (by omega)
  · have := n5 l hl i hi
    omega
theorem xw_addLine {post : SX → Prop} {l c : Nat} {N : Nat → Int32} (hC : pz_C n z it T S) (hL : pz_Sl n z it S a_shapeLength a_shapeItems) (hN : pz_Nm n z it S P a_begins a_bytes) (hl : l < n) (hc : c < n) (hs : S l = S c) (hI : pz_Iv z it S c N l) (h : ∀ (fr : Int32) (N' : Nat → Int32), pz_Iv z it S c N' (l + 1) → (∀ i, i < z l → pz_num (it l i) = true → N' i = it l i - 1000) → post (f_draftCount, f_partCount, f_lines, f_shapes, f_nodes, f_isFitted, f_fits, fr, a_draft, a_parts, a_times, a_shapeOf, a_begins, a_bytes, a_shapeLength, a_shapeItems, a_shapeLines, a_lastNumbers, a_wordLines, a_nodeItem, a_below, a_beside, a_endsHere, a_read, N', a_rest, a_restLength, a_restTime)) : wpX_addLine post (f_draftCount, f_partCount, f_lines, f_shapes, f_nodes, f_isFitted, f_fits, f_from, a_draft, a_parts, a_times, a_shapeOf, a_begins, a_bytes, a_shapeLength, a_shapeItems, a_shapeLines, a_lastNumbers, a_wordLines, a_nodeItem, a_below, a_beside, a_endsHere, a_read, N, a_rest, a_restLength, a_restTime) (nI l) (nI (S c)) := by
  rw [← hs]
  obtain ⟨k1, k2⟩ := pz_Iv_y hC hc hl hI hs
  exact xw_addLine0 hC hL hN hl (h _ _ k1 k2)
theorem xw_read59 {post : SX → Prop} {l : Nat} (hC : pz_C n z it T S) (hL : pz_Sl n z it S a_shapeLength a_shapeItems) (hl : l < n) (hN : ∀ i, i < z l → pz_num (it l i) = true → a_numbers i = it l i - 1000) (h : ∀ R : Nat → Int32, (∀ i, i < z l → R i = it l i) → post (f_draftCount, f_partCount, f_lines, f_shapes, f_nodes, f_isFitted, f_fits, f_from, a_draft, a_parts, a_times, a_shapeOf, a_begins, a_bytes, a_shapeLength, a_shapeItems, a_shapeLines, a_lastNumbers, a_wordLines, a_nodeItem, a_below, a_beside, a_endsHere, R, a_numbers, a_rest, a_restLength, a_restTime)) : ∀ d i (R : Nat → Int32), i + d = z l → (∀ j, j < i → R j = it l j) → wX_readLine_59 post (nI (S l)) f_draftCount f_partCount f_lines f_shapes f_nodes f_isFitted f_fits f_from (d + 1) (nI i) a_draft a_parts a_times a_shapeOf a_begins a_bytes a_shapeLength a_shapeItems a_shapeLines a_lastNumbers a_wordLines a_nodeItem a_below a_beside a_endsHere R a_numbers a_rest a_restLength a_restTime := by
  have hs := pz_Cs hC hl
  have hz := pz_Cz hC hl
  have hl' : a_shapeLength (nI (S l)).toNatClampNeg = nI (z l) := by rw [nI_clamp (by omega)]; exact (hL l hl).1
  intro d
  induction d with
  | zero =>
    intro i R hi hR
    have e : i = z l := by omega
    subst e
    exact And.intro (vp_in_nI hs (by decide)) (pk_le (z l) (z l) (fun _ => h R hR) (fun c => absurd c (by omega)) (hx := hl'))
  | succ d ih =>
    intro i R hi hR
    have hi' : i < z l := by omega
    have K : ∀ x : Int32, x = it l i → ∀ j, j < i + 1 → upd R i x j = it l j := by
      intro x hx j hj
      by_cases e : j = i
      · rw [e, pk_us]; exact hx
      · rw [pk_un e]; exact hR j (by omega)
    refine And.intro (vp_in_nI hs (by decide)) (pk_le (z l) i (fun c => absurd c (by omega)) (fun _ => And.intro (pz_in8 hs (by omega)) (nm_r (e' := pz_bl (it l i)) ?_ (pz_ifb (b := pz_num (it l i)) pz_bl_1000 (fun hu => And.intro (vp_in_nI (by omega) (by decide)) (And.intro (vp_in_nI (by omega) (by decide)) (nm_r (e' := upd R i (it l i)) ?_ (nm_r (nI_1 i) (ih (i + 1) _ (by omega) (K _ rfl)))))) (fun hu => And.intro (vp_in_nI (by omega) (by decide)) (nm_r (e' := upd R i (it l i)) ?_ (nm_r (nI_1 i) (ih (i + 1) _ (by omega) (K _ rfl)))))))) (hx := hl'))
    · rw [pz_cl8 hs (by omega)]
      exact (hL l hl).2 i hi'
    · rw [nI_clamp (by omega), hN i hi' hu, pz_undo2]
    · rw [nI_clamp (by omega), pz_bl_w hu]
theorem xw_read30 {post : SX → Prop} {l : Nat} (hC : pz_C n z it T S) (hO : pz_So n S a_shapeOf) (hL : pz_Sl n z it S a_shapeLength a_shapeItems) (hN : pz_Nm n z it S P a_begins a_bytes) (hl : l < n) (h : ∀ (fr : Int32) (R N : Nat → Int32), (∀ i, i < z l → R i = it l i) → post (f_draftCount, f_partCount, f_lines, f_shapes, f_nodes, f_isFitted, f_fits, fr, a_draft, a_parts, a_times, a_shapeOf, a_begins, a_bytes, a_shapeLength, a_shapeItems, a_shapeLines, a_lastNumbers, a_wordLines, a_nodeItem, a_below, a_beside, a_endsHere, R, N, a_rest, a_restLength, a_restTime)) : ∀ d k (fr : Int32) (N : Nat → Int32), k + d = l + 1 → pz_Iv z it S l N k → wX_readLine_30 post (nI l) (nI (S l)) (d + 1) (nI k) f_draftCount f_partCount f_lines f_shapes f_nodes f_isFitted f_fits fr a_draft a_parts a_times a_shapeOf a_begins a_bytes a_shapeLength a_shapeItems a_shapeLines a_lastNumbers a_wordLines a_nodeItem a_below a_beside a_endsHere a_read N a_rest a_restLength a_restTime := by
  have hn := pz_Cn hC
  intro d
  induction d with
  | zero =>
    intro k fr N hk hI
    have e : k = l + 1 := by omega
    subst e
    refine pk_lt l (l + 1) (fun _ => ⟨z l + 1, xw_read59 hC hL hl (fun i hi hu => ?_) (fun R hR => h fr R N hR) (z l) 0 a_read (by omega) (fun j c => absurd c (Nat.not_lt_zero j))⟩) (fun c => absurd c (by omega))
    rw [hI i hi hu, pz_prev_y rfl]
  | succ d ih =>
    intro k fr N hk hI
    have hk' : k < n := by omega
    refine pk_lt l k (fun c => absurd c (by omega)) (fun _ => And.intro (vp_in_nI (by omega) (by decide)) (pk_eq (S k) (S l) (fun e => xw_addLine hC hL hN hk' hl e hI (fun fr' N' k1 _ => nm_r (nI_1 k) (ih (k + 1) fr' N' (by omega) k1))) (fun e => nm_r (nI_1 k) (ih (k + 1) fr N (by omega) (pz_Iv_n hI e))) (hx := ?_) (ha := ?_) (hb := ?_)))
    · rw [nI_clamp (by omega)]; exact hO k hk'
    · have := pz_Cs hC hk'; omega
    · have := pz_Cs hC hl; omega
theorem xw_read9 {post : SX → Prop} {l : Nat} (hC : pz_C n z it T S) (hO : pz_So n S a_shapeOf) (hL : pz_Sl n z it S a_shapeLength a_shapeItems) (hN : pz_Nm n z it S P a_begins a_bytes) (hl : l < n) (h : ∀ (fr : Int32) (R N : Nat → Int32), (∀ i, i < z l → R i = it l i) → post (f_draftCount, f_partCount, f_lines, f_shapes, f_nodes, f_isFitted, f_fits, fr, a_draft, a_parts, a_times, a_shapeOf, a_begins, a_bytes, a_shapeLength, a_shapeItems, a_shapeLines, a_lastNumbers, a_wordLines, a_nodeItem, a_below, a_beside, a_endsHere, R, N, a_rest, a_restLength, a_restTime)) : ∀ d k (N : Nat → Int32), k + d = 8 → (∀ j, j < k → N j = 0) → wX_readLine_9 post (nI l) (nI (S l)) f_draftCount f_partCount f_lines f_shapes f_nodes f_isFitted f_fits f_from (d + 1) (nI k) a_draft a_parts a_times a_shapeOf a_begins a_bytes a_shapeLength a_shapeItems a_shapeLines a_lastNumbers a_wordLines a_nodeItem a_below a_beside a_endsHere a_read N a_rest a_restLength a_restTime := by
  intro d
  induction d with
  | zero =>
    intro k N hk hZ
    have e : k = 8 := by omega
    subst e
    exact pk_le 8 8 (fun _ => ⟨l + 2, xw_read30 hC hO hL hN hl h (l + 1) 0 f_from N (by omega) (pz_Iv_0 (pz_Cz hC hl).2 hZ)⟩) (fun c => absurd c (by omega))
  | succ d ih =>
    intro k N hk hZ
    refine br_f (nI_ge (a := k) (b := 8) (by omega) (by decide)) (And.intro (vp_in_nI (by omega) (by decide)) (nm_r (e' := upd N k 0) ?_ (nm_r (nI_1 k) (ih (k + 1) _ (by omega) ?_))))
    · rw [nI_clamp (by omega)]
    · intro j hj
      by_cases e : j = k
      · rw [e, pk_us]
      · rw [pk_un e]; exact hZ j (by omega)
theorem xw_readLine {post : SX → Prop} {l : Nat} (hC : pz_C n z it T S) (hO : pz_So n S a_shapeOf) (hL : pz_Sl n z it S a_shapeLength a_shapeItems) (hN : pz_Nm n z it S P a_begins a_bytes) (hl : l < n) (h : ∀ (fr : Int32) (R N : Nat → Int32), (∀ i, i < z l → R i = it l i) → post (f_draftCount, f_partCount, f_lines, f_shapes, f_nodes, f_isFitted, f_fits, fr, a_draft, a_parts, a_times, a_shapeOf, a_begins, a_bytes, a_shapeLength, a_shapeItems, a_shapeLines, a_lastNumbers, a_wordLines, a_nodeItem, a_below, a_beside, a_endsHere, R, N, a_rest, a_restLength, a_restTime)) : wpX_readLine post (f_draftCount, f_partCount, f_lines, f_shapes, f_nodes, f_isFitted, f_fits, f_from, a_draft, a_parts, a_times, a_shapeOf, a_begins, a_bytes, a_shapeLength, a_shapeItems, a_shapeLines, a_lastNumbers, a_wordLines, a_nodeItem, a_below, a_beside, a_endsHere, a_read, a_numbers, a_rest, a_restLength, a_restTime) (nI l) := by
  have hn := pz_Cn hC
  refine And.intro (vp_in_nI (by omega) (by decide)) (nm_r (e' := nI (S l)) ?_ ⟨9, xw_read9 hC hO hL hN hl h 8 0 a_numbers rfl (fun j c => absurd c (Nat.not_lt_zero j))⟩)
  rw [nI_clamp (by omega)]; exact hO l hl
end
end
section
/-! X: the shape of the draft -/
/-- bits of shapes and of words -/
def pz_Bs (n m : Nat) (S : Nat → Nat) (lines : Nat → Int64) : Prop := ∀ s, s < m → ∀ l, l < 64 → pz_b (lines s) l = (decide (l < n) && decide (S l = s))
def pz_Bw (n : Nat) (z : Nat → Nat) (it : Nat → Nat → Int32) (words : Nat → Int64) : Prop := ∀ w, w < 24 → ∀ l, l < 64 → pz_b (words w) l = (decide (l < n) && pz_has (it l) (z l) (nI w))
/-- what is known behind shapeOfDraft: the shape s of the draft D of dc items -/
def pz_HS (n : Nat) (z : Nat → Nat) (it : Nat → Nat → Int32) (S : Nat → Nat) (D : Nat → Int32) (dc s : Nat) (shapes nodes : Int32) (len items : Nat → Int32) (lines : Nat → Int64) (last item below beside ends : Nat → Int32) : Prop :=
  s ≤ pz_mm S n ∧ (∀ l, l < n → (S l = s ↔ (z l = dc ∧ ∀ i, i < z l → pz_bl (it l i) = pz_bl (D i)))) ∧ shapes = nI (pz_mm (pz_ext S n s) (n + 1)) ∧
  pz_Sl (n + 1) (pz_ext z n dc) (pz_ext it n D) (pz_ext S n s) len items ∧ pz_Bs n (pz_mm (pz_ext S n s) (n + 1)) S lines ∧
  pz_La (n + 1) n (pz_ext z n dc) (pz_ext it n D) (pz_ext S n s) last ∧ pz_Tr (n + 1) (pz_ext z n dc) (pz_ext it n D) (pz_ext S n s) (1 + 8 * (n + 1)) nodes item below beside ends
section
variable {n : Nat} {z : Nat → Nat} {it : Nat → Nat → Int32} {T : Nat → Int32} {S : Nat → Nat} {D : Nat → Int32} {dc : Nat}
theorem pz_m1ne {k : Nat} (h : k < 2 ^ 31) : nI k ≠ -1 := by
  intro e
  have h1 := nI_pos (n := k) h
  rw [e] at h1
  exact h1 (by decide)
theorem pz_mm_ext (S : Nat → Nat) (n s : Nat) : pz_mm (pz_ext S n s) n = pz_mm S n := pz_mm_congr n (fun l hl => pz_ext_lt hl)
theorem pz_prev_ext {s t i : Nat} {l : Nat} (hl : l ≤ n) : pz_prev (pz_ext S n s) (pz_ext it n D) t i l = pz_prev S it t i l :=
  pz_prev_congr l (fun k hk => ⟨pz_ext_lt (by omega), by rw [pz_ext_lt (by omega)]⟩)
theorem pz_bl_num {x y : Int32} (h : pz_bl x = pz_bl y) : pz_num x = pz_num y := by
  cases c : pz_num y with
  | true =>
    rw [pz_bl_n c] at h
    exact pz_bl_1000.mp h
  | false =>
    apply ts_nt
    intro d
    rw [pz_bl_n d] at h
    rw [pz_bl_1000.mp h.symm] at c
    exact absurd c (by decide)
theorem pz_En_ext {N e s : Nat} {W : Nat → List Int32} {ends ends' : Nat → Int32} (hC : pz_C n z it T S) (h : pz_En n z it S N W ends) (he : e < N) (hW : W e = pz_wl D dc) (h1 : ends' e = nI s) (h2 : ∀ p, p ≠ e → ends' p = ends p) (h3 : ends e = -1 ∨ ends e = nI s) : pz_En (n + 1) (pz_ext z n dc) (pz_ext it n D) (pz_ext S n s) N W ends' := by
  refine ⟨fun p hp => ?_, fun l hl => ?_⟩
  · by_cases c : p = e
    · subst c
      refine Or.inr ⟨n, by omega, ?_, ?_⟩
      · rw [pz_ext_s]; exact h1
      · rw [pz_ext_s, pz_ext_s]; exact hW
    · rw [h2 p c]
      rcases h.1 p hp with a | ⟨l, hl, a, b⟩
      · exact Or.inl a
      · refine Or.inr ⟨l, by omega, ?_, ?_⟩
        · rw [pz_ext_lt hl]; exact a
        · rw [pz_ext_lt hl, pz_ext_lt hl]; exact b
  · by_cases c : l = n
    · subst c
      exact ⟨e, he, by rw [pz_ext_s, pz_ext_s]; exact hW, by rw [pz_ext_s]; exact h1⟩
    · have hl' : l < n := by omega
      obtain ⟨p, hp, a, b⟩ := h.2 l hl'
      refine ⟨p, hp, by rw [pz_ext_lt hl', pz_ext_lt hl']; exact a, ?_⟩
      rw [pz_ext_lt hl']
      by_cases d : p = e
      · subst d
        rcases h3 with k | k
        · rw [b] at k
          exact absurd k (pz_m1ne (by have := pz_Cs hC hl'; omega))
        · rw [h1, ← k]; exact b
      · rw [h2 p d]; exact b
theorem pz_HS_old {N e l0 : Nat} {W : Nat → List Int32} {par : Nat → Nat} {len items last item below beside ends : Nat → Int32} {lines : Nat → Int64} (hC : pz_C n z it T S) (hdc : dc ≤ 8) (hL : pz_Sl n z it S len items) (hB : pz_Bs n (pz_mm S n) S lines) (hA : pz_La n n z it S last) (hN : N ≤ 1 + 8 * n + dc) (hT : pz_tree N W par item below beside) (hE : pz_En n z it S N W ends) (he : e < N) (hW : W e = pz_wl D dc) (hl0 : l0 < n) (h0 : ends e = nI (S l0)) (hW0 : W e = pz_wl (it l0) (z l0)) : pz_HS n z it S D dc (S l0) (nI (pz_mm S n)) (nI N) len items lines last item below beside ends := by
  obtain ⟨w1, w2⟩ := pz_wl_eq.mp (hW0.symm.trans hW)
  have hmm : pz_mm (pz_ext S n (S l0)) (n + 1) = pz_mm S n := by
    rw [pz_mm_o, pz_mm_ext]
    rw [pz_ext_s, pz_mm_ext]
    exact pz_mm_lt hl0
  refine ⟨Nat.le_of_lt (pz_mm_lt hl0), fun l hl => ?_, by rw [hmm], fun l hl => ?_, by rw [hmm]; exact hB, fun l hl i hi hu => ?_, ?_⟩
  · rw [pz_CS hC hl hl0, w1]
    constructor
    · rintro ⟨a, b⟩
      exact ⟨a, fun i hi => (b i hi).trans (w2 i (by omega))⟩
    · rintro ⟨a, b⟩
      exact ⟨a, fun i hi => (b i hi).trans (w2 i (by omega)).symm⟩
  · by_cases c : l = n
    · subst c
      rw [pz_ext_s, pz_ext_s, pz_ext_s]
      obtain ⟨a, b⟩ := hL l0 hl0
      exact ⟨by rw [a, w1], fun i hi => (b i (by omega)).trans (w2 i (by omega))⟩
    · have hl' : l < n := by omega
      rw [pz_ext_lt hl', pz_ext_lt hl', pz_ext_lt hl']
      exact hL l hl'
  · rw [pz_prev_ext (Nat.le_refl n)]
    by_cases c : l = n
    · subst c
      rw [pz_ext_s] at hi hu ⊢
      exact hA l0 hl0 i (by omega) (by rw [pz_bl_num (w2 i (by omega))]; exact hu)
    · have hl' : l < n := by omega
      rw [pz_ext_lt hl'] at hi hu ⊢
      exact hA l hl' i hi hu
  · exact ⟨N, W, par, rfl, by omega, hT, pz_En_ext hC hE he hW h0 (fun _ _ => rfl) (Or.inr h0)⟩
theorem pz_HS_new {N e : Nat} {W : Nat → List Int32} {par : Nat → Nat} {len items last item below beside ends len' items' last' : Nat → Int32} {lines : Nat → Int64} (hC : pz_C n z it T S) (hdc : dc ≤ 8) (hL : pz_Sl n z it S len items) (hB : pz_Bs n (pz_mm S n) S lines) (hA : pz_La n n z it S last) (hN : N ≤ 1 + 8 * n + dc) (hT : pz_tree N W par item below beside) (hE : pz_En n z it S N W ends) (he : e < N) (hW : W e = pz_wl D dc) (h0 : ends e = -1)
    (hlen : len' = upd len (pz_mm S n) (nI dc)) (hi1 : ∀ j, j < 8 * pz_mm S n → items' j = items j) (hi2 : ∀ i, i < dc → items' (8 * pz_mm S n + i) = pz_bl (D i)) (ha1 : ∀ j, j < 8 * pz_mm S n → last' j = last j) (ha2 : ∀ i, i < dc → last' (8 * pz_mm S n + i) = 0) : pz_HS n z it S D dc (pz_mm S n) (nI (pz_mm S n + 1)) (nI N) len' items' (vp_updL lines (pz_mm S n) 0) last' item below beside (upd ends e (nI (pz_mm S n))) := by
  have hmm : pz_mm (pz_ext S n (pz_mm S n)) (n + 1) = pz_mm S n + 1 := by
    rw [pz_mm_n, pz_ext_s]
    rw [pz_ext_s, pz_mm_ext]
    exact Nat.lt_irrefl _
  have fresh : ∀ l, l < n → ¬ (z l = dc ∧ ∀ i, i < z l → pz_bl (it l i) = pz_bl (D i)) := by
    intro l hl k
    obtain ⟨p, hp, a, b⟩ := hE.2 l hl
    have e1 : pz_wl (it l) (z l) = pz_wl D dc := pz_wl_eq.mpr k
    have e2 : p = e := hT.2.2.2.1 p e hp he (by rw [a, e1, hW])
    rw [e2, h0] at b
    exact pz_m1ne (by have := pz_Cs hC hl; omega) b.symm
  have lt : ∀ l, l < n → S l < pz_mm S n := fun l hl => pz_mm_lt hl
  refine ⟨Nat.le_refl _, fun l hl => ?_, by rw [hmm], fun l hl => ?_, ?_, fun l hl i hi hu => ?_, ?_⟩
  · constructor
    · intro k
      have := lt l hl
      omega
    · intro k; exact absurd k (fresh l hl)
  · by_cases c : l = n
    · subst c
      rw [pz_ext_s, pz_ext_s, pz_ext_s, hlen, pk_us]
      exact ⟨rfl, hi2⟩
    · have hl' : l < n := by omega
      have hs := lt l hl'
      rw [pz_ext_lt hl', pz_ext_lt hl', pz_ext_lt hl', hlen, pk_un (by omega)]
      obtain ⟨a, b⟩ := hL l hl'
      refine ⟨a, fun i hi => ?_⟩
      have hz := pz_Cz hC hl'
      rw [hi1 _ (by omega)]
      exact b i hi
  · rw [hmm]
    intro s hs l hl
    by_cases c : s = pz_mm S n
    · subst c
      rw [pk_uLs, pz_b_0]
      by_cases d : l < n
      · have := lt l d
        rw [decide_eq_false (show ¬ S l = pz_mm S n by omega), Bool.and_false]
      · rw [decide_eq_false d, Bool.false_and]
    · rw [pk_uLn c]
      exact hB s (by omega) l hl
  · rw [pz_prev_ext (Nat.le_refl n)]
    by_cases c : l = n
    · subst c
      rw [pz_ext_s] at hi hu ⊢
      rw [ha2 i hi, pz_prev_0 l]
      intro k hk
      have := lt k hk
      omega
    · have hl' : l < n := by omega
      have hs := lt l hl'
      have hz := pz_Cz hC hl'
      rw [pz_ext_lt hl'] at hi hu ⊢
      rw [ha1 _ (by omega)]
      exact hA l hl' i hi hu
  · exact ⟨N, W, par, rfl, by omega, hT, pz_En_ext hC hE he hW pk_us (fun p hp => pk_un hp) (Or.inl h0)⟩
end
section
variable {f_draftCount f_partCount f_lines f_shapes f_nodes f_isFitted f_from : Int32} {f_fits : Int64} {a_draft a_parts a_times a_shapeOf a_begins a_bytes a_shapeLength a_shapeItems a_lastNumbers a_nodeItem a_below a_beside a_endsHere a_read a_numbers a_rest a_restLength a_restTime : Nat → Int32} {a_shapeLines a_wordLines : Nat → Int64}
variable {n : Nat} {z : Nat → Nat} {it : Nat → Nat → Int32} {T : Nat → Int32} {S : Nat → Nat} {D : Nat → Int32} {dc : Nat} {N : Nat} {W : Nat → List Int32} {par : Nat → Nat}
theorem xw_newNode {post : Int32 → SX → Prop} {x : Int32} (hN : N < 484) (h : post (nI N) (f_draftCount, f_partCount, f_lines, f_shapes, nI (N + 1), f_isFitted, f_fits, f_from, a_draft, a_parts, a_times, a_shapeOf, a_begins, a_bytes, a_shapeLength, a_shapeItems, a_shapeLines, a_lastNumbers, a_wordLines, upd a_nodeItem N x, upd a_below N (-1), upd a_beside N (-1), upd a_endsHere N (-1), a_read, a_numbers, a_rest, a_restLength, a_restTime)) : wpX_newNode post (f_draftCount, f_partCount, f_lines, f_shapes, nI N, f_isFitted, f_fits, f_from, a_draft, a_parts, a_times, a_shapeOf, a_begins, a_bytes, a_shapeLength, a_shapeItems, a_shapeLines, a_lastNumbers, a_wordLines, a_nodeItem, a_below, a_beside, a_endsHere, a_read, a_numbers, a_rest, a_restLength, a_restTime) x := by
  have hc : (nI N).toNatClampNeg = N := nI_clamp (by omega)
  have hi : vp_in (nI N) 484 := vp_in_nI hN (by decide)
  refine And.intro hi (nm_r (e' := upd a_nodeItem N x) (by rw [hc]) (And.intro hi (nm_r (e' := upd a_below N (-1)) (by rw [hc]) (And.intro hi (nm_r (e' := upd a_beside N (-1)) (by rw [hc]) (And.intro hi (nm_r (e' := upd a_endsHere N (-1)) (by rw [hc]) (nm_r (nI_1 N) ?_))))))))
  rw [nI_pred]
  exact h
theorem xw_step7 {post : Int32 → SX → Prop} {node : Nat} {x : Int32} (hT : pz_tree N W par a_nodeItem a_below a_beside) (hn : node < N) (hN : N < 484) (hf : ∀ k, k < N → W k = W node ++ [x] → post (nI k) (f_draftCount, f_partCount, f_lines, f_shapes, nI N, f_isFitted, f_fits, f_from, a_draft, a_parts, a_times, a_shapeOf, a_begins, a_bytes, a_shapeLength, a_shapeItems, a_shapeLines, a_lastNumbers, a_wordLines, a_nodeItem, a_below, a_beside, a_endsHere, a_read, a_numbers, a_rest, a_restLength, a_restTime)) (hw : (∀ q, 0 < q → q < N → par q = node → a_nodeItem q ≠ x) → post (nI N) (f_draftCount, f_partCount, f_lines, f_shapes, nI (N + 1), f_isFitted, f_fits, f_from, a_draft, a_parts, a_times, a_shapeOf, a_begins, a_bytes, a_shapeLength, a_shapeItems, a_shapeLines, a_lastNumbers, a_wordLines, upd a_nodeItem N x, upd (upd a_below N (-1)) node (nI N), upd (upd a_beside N (-1)) N (a_below node), upd a_endsHere N (-1), a_read, a_numbers, a_rest, a_restLength, a_restTime)) : ∀ fu hi (c : Int32), hi < fu → hi ≤ N → pz_link par c node hi → (∀ q, 0 < q → hi ≤ q → q < N → par q = node → a_nodeItem q ≠ x) → wX_stepTo_7 post (nI node) x f_draftCount f_partCount f_lines f_shapes (nI N) f_isFitted f_fits f_from a_draft a_parts a_times a_shapeOf a_begins a_bytes a_shapeLength a_shapeItems a_shapeLines a_lastNumbers a_wordLines a_nodeItem a_below a_beside a_endsHere a_read a_numbers a_rest a_restLength a_restTime fu c := by
  have cn : (nI node).toNatClampNeg = node := nI_clamp (by omega)
  have cN : (nI N).toNatClampNeg = N := nI_clamp (by omega)
  have vn : vp_in (nI node) 484 := vp_in_nI (by omega) (by decide)
  have vN : vp_in (nI N) 484 := vp_in_nI (by omega) (by decide)
  intro fu
  induction fu with
  | zero => intro hi c h1; omega
  | succ fu ih =>
    intro hi c h1 h2 hl hq
    rcases hl with ⟨e, hl⟩ | ⟨k, e, k0, k1, k2, k3⟩
    · subst e
      refine br_t (by decide) (br_f (by decide) (xw_newNode hN (And.intro vn (And.intro vN (nm_r (e' := upd (upd a_beside N (-1)) N (a_below node)) ?_ (And.intro vn (nm_r (e' := upd (upd a_below N (-1)) node (nI N)) ?_ (hw ?_))))))))
      · rw [cn, cN, pk_un (by omega)]
      · rw [cn]
      · intro q q0 q1 q2
        by_cases c : q < hi
        · exact absurd q2 (hl q q0 c)
        · exact hq q q0 (by omega) q1 q2
    · subst e
      have ck : (nI k).toNatClampNeg = k := nI_clamp (by omega)
      have vk : vp_in (nI k) 484 := vp_in_nI (by omega) (by decide)
      refine br_f (nI_pos (by omega)) (And.intro vk (br_c (fun a => br_t (nI_pos' (by omega)) (hf k (by omega) ?_)) (fun a => And.intro vk (nm_r (e' := a_beside k) (by rw [ck]) (ih k _ (by omega) (by omega) ?_ ?_)))))
      · rw [ck] at a
        rw [(hT.2.2.1 k k0 (by omega)).2, k2, a]
      · have := hT.2.2.2.2.2 k k0 (by omega)
        rw [k2] at this
        exact this
      · intro q q0 q1 q2 q3
        by_cases c : q = k
        · rw [ck] at a
          rw [c]; exact a
        · by_cases d : q < hi
          · exact absurd q3 (k3 q (by omega) d)
          · exact hq q q0 (by omega) q2 q3
theorem xw_stepTo {post : Int32 → SX → Prop} {node : Nat} {x : Int32} (hT : pz_tree N W par a_nodeItem a_below a_beside) (hE : pz_En n z it S N W a_endsHere) (hn : node < N) (hN : N < 484) (h : ∀ (k N' : Nat) (W' : Nat → List Int32) (par' : Nat → Nat) (item' below' beside' ends' : Nat → Int32), N' ≤ N + 1 → k < N' → pz_tree N' W' par' item' below' beside' → W' k = W node ++ [x] → pz_En n z it S N' W' ends' → post (nI k) (f_draftCount, f_partCount, f_lines, f_shapes, nI N', f_isFitted, f_fits, f_from, a_draft, a_parts, a_times, a_shapeOf, a_begins, a_bytes, a_shapeLength, a_shapeItems, a_shapeLines, a_lastNumbers, a_wordLines, item', below', beside', ends', a_read, a_numbers, a_rest, a_restLength, a_restTime)) : wpX_stepTo post (f_draftCount, f_partCount, f_lines, f_shapes, nI N, f_isFitted, f_fits, f_from, a_draft, a_parts, a_times, a_shapeOf, a_begins, a_bytes, a_shapeLength, a_shapeItems, a_shapeLines, a_lastNumbers, a_wordLines, a_nodeItem, a_below, a_beside, a_endsHere, a_read, a_numbers, a_rest, a_restLength, a_restTime) (nI node) x := by
  refine And.intro (vp_in_nI (by omega) (by decide)) (nm_r (e' := a_below node) (by rw [nI_clamp (by omega)]) ⟨N + 1, xw_step7 hT hn hN (fun k hk hW => ?_) (fun hx => ?_) (N + 1) N _ (by omega) (by omega) (hT.2.2.2.2.1 node hn) (fun q q0 q1 q2 => absurd q2 (by omega))⟩)
  · exact h k N W par _ _ _ _ (by omega) hk hT hW hE
  · exact h N (N + 1) _ _ _ _ _ _ (Nat.le_refl _) (by omega) (pz_tree_new hT hn hx rfl rfl) pz_ext_s (pz_En_new hE _)
theorem xw_sod79 {post : Int32 → SX → Prop} {node m : Nat} (hdc : dc ≤ 8) (hm : m < 60) (hnode : node < 484) (h : ∀ It La : Nat → Int32, (∀ j, j < 8 * m → It j = a_shapeItems j) → (∀ i, i < dc → It (8 * m + i) = pz_bl (D i)) → (∀ j, j < 8 * m → La j = a_lastNumbers j) → (∀ i, i < dc → La (8 * m + i) = 0) → post (a_endsHere node) (nI dc, f_partCount, f_lines, nI (m + 1), f_nodes, f_isFitted, f_fits, f_from, D, a_parts, a_times, a_shapeOf, a_begins, a_bytes, a_shapeLength, It, a_shapeLines, La, a_wordLines, a_nodeItem, a_below, a_beside, a_endsHere, a_read, a_numbers, a_rest, a_restLength, a_restTime)) : ∀ d i (It La : Nat → Int32), i + d = dc → (∀ j, j < 8 * m → It j = a_shapeItems j) → (∀ t, t < i → It (8 * m + t) = pz_bl (D t)) → (∀ j, j < 8 * m → La j = a_lastNumbers j) → (∀ t, t < i → La (8 * m + t) = 0) → wX_shapeOfDraft_79 post (nI node) (nI dc) f_partCount f_lines (nI m) f_nodes f_isFitted f_fits f_from (d + 1) (nI i) D a_parts a_times a_shapeOf a_begins a_bytes a_shapeLength It a_shapeLines La a_wordLines a_nodeItem a_below a_beside a_endsHere a_read a_numbers a_rest a_restLength a_restTime := by
  intro d
  induction d with
  | zero =>
    intro i It La hi h1 h2 h3 h4
    have e : i = dc := by omega
    subst e
    refine pk_le i i (fun _ => nm_r (nI_1 m) (And.intro (vp_in_nI hnode (by decide)) ?_)) (fun c => absurd c (by omega))
    rw [nI_clamp (by omega)]
    exact h It La h1 h2 h3 h4
  | succ d ih =>
    intro i It La hi h1 h2 h3 h4
    have c8 := pz_cl8 hm (show i < 8 by omega)
    have v8 := pz_in8 hm (show i < 8 by omega)
    refine pk_le dc i (fun c => absurd c (by omega)) (fun _ => And.intro (vp_in_nI (by omega) (by decide)) (xw_blanked (And.intro v8 (nm_r (e' := upd It (8 * m + i) (pz_bl (D i))) ?_ (And.intro v8 (nm_r (e' := upd La (8 * m + i) 0) (by rw [c8]) (nm_r (nI_1 i) (ih (i + 1) _ _ (by omega) ?_ ?_ ?_ ?_))))))))
    · rw [c8, nI_clamp (by omega)]
    · intro j hj
      rw [pk_un (by omega)]; exact h1 j hj
    · intro t ht
      by_cases c : t = i
      · rw [c, pk_us]
      · rw [pk_un (by omega)]; exact h2 t (by omega)
    · intro j hj
      rw [pk_un (by omega)]; exact h3 j hj
    · intro t ht
      by_cases c : t = i
      · rw [c, pk_us]
      · rw [pk_un (by omega)]; exact h4 t (by omega)
theorem xw_sod4 {post : Int32 → SX → Prop} (hC : pz_C n z it T S) (hn : n < 60) (hdc : dc ≤ 8) (hL : pz_Sl n z it S a_shapeLength a_shapeItems) (hB : pz_Bs n (pz_mm S n) S a_shapeLines) (hA : pz_La n n z it S a_lastNumbers) (h : ∀ (s : Nat) (shapes' nodes' : Int32) (len' items' : Nat → Int32) (lines' : Nat → Int64) (last' item' below' beside' ends' : Nat → Int32), pz_HS n z it S D dc s shapes' nodes' len' items' lines' last' item' below' beside' ends' → post (nI s) (nI dc, f_partCount, f_lines, shapes', nodes', f_isFitted, f_fits, f_from, D, a_parts, a_times, a_shapeOf, a_begins, a_bytes, len', items', lines', last', a_wordLines, item', below', beside', ends', a_read, a_numbers, a_rest, a_restLength, a_restTime)) : ∀ d i (N : Nat) (W : Nat → List Int32) (par : Nat → Nat) (item below beside ends : Nat → Int32) (node : Nat), i + d = dc → N ≤ 1 + 8 * n + i → pz_tree N W par item below beside → pz_En n z it S N W ends → node < N → W node = pz_wl D i → wX_shapeOfDraft_4 post (d + 1) (nI node) (nI i) (nI dc) f_partCount f_lines (nI (pz_mm S n)) (nI N) f_isFitted f_fits f_from D a_parts a_times a_shapeOf a_begins a_bytes a_shapeLength a_shapeItems a_shapeLines a_lastNumbers a_wordLines item below beside ends a_read a_numbers a_rest a_restLength a_restTime := by
  have hmm := pz_mm_le n (pz_Cq hC)
  intro d
  induction d with
  | zero =>
    intro i N W par item below beside ends node hi hN hT hE hnode hW
    have e : i = dc := by omega
    subst e
    have cn : (nI node).toNatClampNeg = node := nI_clamp (by omega)
    have vn : vp_in (nI node) 484 := vp_in_nI (by omega) (by decide)
    refine pk_le i i (fun _ => And.intro vn ?_) (fun c => absurd c (by omega))
    rcases hE.1 node hnode with e | ⟨l, hl, e, e2⟩
    · refine br_f (by rw [cn, e]; decide) (And.intro vn (nm_r (e' := upd ends node (nI (pz_mm S n))) (by rw [cn]) (And.intro (vp_in_nI (by omega) (by decide)) (nm_r (e' := upd a_shapeLength (pz_mm S n) (nI i)) (by rw [nI_clamp (by omega)]) (And.intro (vp_in_nI (by omega) (by decide)) (nm_r (e' := vp_updL a_shapeLines (pz_mm S n) 0) (by rw [nI_clamp (by omega)]) ⟨i + 1, xw_sod79 hdc (by omega) (by omega) (fun It La h1 h2 h3 h4 => ?_) i 0 a_shapeItems a_lastNumbers (by omega) (fun _ _ => rfl) (fun t ht => absurd ht (by omega)) (fun _ _ => rfl) (fun t ht => absurd ht (by omega))⟩))))))
      rw [pk_us]
      exact h _ _ _ _ _ _ _ _ _ _ _ (pz_HS_new hC hdc hL hB hA hN hT hE hnode hW e rfl h1 h2 h3 h4)
    · have hs := pz_Cs hC hl
      refine br_t (by rw [cn, e]; exact nI_pos' (by omega)) (And.intro vn ?_)
      rw [cn, e]
      exact h _ _ _ _ _ _ _ _ _ _ _ (pz_HS_old hC hdc hL hB hA hN hT hE hnode hW hl e e2)
  | succ d ih =>
    intro i N W par item below beside ends node hi hN hT hE hnode hW
    refine pk_le dc i (fun c => absurd c (by omega)) (fun _ => And.intro (vp_in_nI (by omega) (by decide)) (xw_blanked (xw_stepTo hT hE hnode (by omega) (fun k N' W' par' item' below' beside' ends' k1 k2 k3 k4 k5 => nm_r (nI_1 i) (ih (i + 1) N' W' par' item' below' beside' ends' k (by omega) (by omega) k3 k5 k2 ?_)))))
    rw [k4, hW, nI_clamp (by omega)]
    rfl
theorem xw_shapeOfDraft {post : Int32 → SX → Prop} (hC : pz_C n z it T S) (hn : n < 60) (hdc : dc ≤ 8) (hL : pz_Sl n z it S a_shapeLength a_shapeItems) (hB : pz_Bs n (pz_mm S n) S a_shapeLines) (hA : pz_La n n z it S a_lastNumbers) (hT : pz_Tr n z it S (1 + 8 * n) f_nodes a_nodeItem a_below a_beside a_endsHere) (h : ∀ (s : Nat) (shapes' nodes' : Int32) (len' items' : Nat → Int32) (lines' : Nat → Int64) (last' item' below' beside' ends' : Nat → Int32), pz_HS n z it S D dc s shapes' nodes' len' items' lines' last' item' below' beside' ends' → post (nI s) (nI dc, f_partCount, f_lines, shapes', nodes', f_isFitted, f_fits, f_from, D, a_parts, a_times, a_shapeOf, a_begins, a_bytes, len', items', lines', last', a_wordLines, item', below', beside', ends', a_read, a_numbers, a_rest, a_restLength, a_restTime)) : wpX_shapeOfDraft post (nI dc, f_partCount, f_lines, nI (pz_mm S n), f_nodes, f_isFitted, f_fits, f_from, D, a_parts, a_times, a_shapeOf, a_begins, a_bytes, a_shapeLength, a_shapeItems, a_shapeLines, a_lastNumbers, a_wordLines, a_nodeItem, a_below, a_beside, a_endsHere, a_read, a_numbers, a_rest, a_restLength, a_restTime) := by
  obtain ⟨N, W, par, rfl, h1, h2, h3⟩ := hT
  exact ⟨dc + 1, xw_sod4 hC hn hdc hL hB hA h dc 0 N W par _ _ _ _ 0 (by omega) (by omega) h2 h3 (by have := h2.1; omega) h2.2.1⟩
end
end
section
/-! X: a line is written -/
/-- X's fields hold the content -/
def pz_X (n : Nat) (z : Nat → Nat) (it : Nat → Nat → Int32) (S : Nat → Nat) (shapes nodes : Int32) (shapeOf begins bytes len items : Nat → Int32) (lines : Nat → Int64) (last : Nat → Int32) (words : Nat → Int64) (item below beside ends : Nat → Int32) : Prop :=
  shapes = nI (pz_mm S n) ∧ pz_So n S shapeOf ∧ pz_Sl n z it S len items ∧ pz_Bs n (pz_mm S n) S lines ∧ pz_Bw n z it words ∧ (∃ P, pz_Nm n z it S P begins bytes) ∧ pz_La n n z it S last ∧ pz_Tr n z it S (1 + 8 * n) nodes item below beside ends
/-- the loop over the draft's items, at item i and byte p -/
def pz_Wi (n : Nat) (it : Nat → Nat → Int32) (S : Nat → Nat) (D : Nat → Int32) (s p0 : Nat) (B0 L0 : Nat → Int32) (W0 : Nat → Int64) (i p : Nat) (B L : Nat → Int32) (Wo : Nat → Int64) : Prop :=
  (∃ Q : Nat → Nat, Q 0 = p0 ∧ Q i = p ∧ (∀ t, t ≤ i → Q t ≤ p) ∧ ∀ t, t < i → (pz_num (D t) = true → pz_dec B (Q t) (D t - 1000 - pz_prev S it s t n) (Q (t + 1))) ∧ (pz_num (D t) = false → Q (t + 1) = Q t)) ∧
  p0 ≤ p ∧ p ≤ p0 + 2 * i ∧ (∀ j, j < p0 → B j = B0 j) ∧ (∀ t, t < i → pz_num (D t) = true → L (8 * s + t) = D t - 1000) ∧ (∀ j, (j < 8 * s ∨ 8 * s + i ≤ j) → L j = L0 j) ∧
  (∀ w, w < 24 → ∀ l, l < 64 → pz_b (Wo w) l = (pz_b (W0 w) l || (decide (l = n) && pz_has D i (nI w))))
section
variable {n : Nat} {z : Nat → Nat} {it : Nat → Nat → Int32} {T : Nat → Int32} {S : Nat → Nat} {D : Nat → Int32} {dc s p0 : Nat} {B0 L0 : Nat → Int32} {W0 : Nat → Int64}
theorem pz_Wi_0 : pz_Wi n it S D s p0 B0 L0 W0 0 p0 B0 L0 W0 := by
  refine ⟨⟨fun _ => p0, rfl, rfl, fun _ _ => Nat.le_refl _, fun t ht => absurd ht (Nat.not_lt_zero t)⟩, Nat.le_refl _, Nat.le_refl _, fun _ _ => rfl, fun t ht => absurd ht (Nat.not_lt_zero t), fun _ _ => rfl, fun w _ l _ => ?_⟩
  show _ = (pz_b (W0 w) l || (decide (l = n) && false))
  rw [Bool.and_false, Bool.or_false]
theorem pz_has_s {f : Nat → Int32} {k : Nat} {x : Int32} : pz_has f (k + 1) x = (pz_has f k x || decide (f k = x)) := rfl
theorem pz_Wi_num {i p p' : Nat} {B B' L : Nat → Int32} {Wo : Nat → Int64} (h : pz_Wi n it S D s p0 B0 L0 W0 i p B L Wo) (hu : pz_num (D i) = true) (hB : ∀ j, j < p → B' j = B j) (hd : pz_dec B' p (D i - 1000 - pz_prev S it s i n) p') : pz_Wi n it S D s p0 B0 L0 W0 (i + 1) p' B' (upd L (8 * s + i) (D i - 1000)) Wo := by
  obtain ⟨⟨Q, q1, q2, q3, q4⟩, h1, h2, h3, h4, h5, h6⟩ := h
  obtain ⟨d1, d2⟩ := pz_dec_p hd
  refine ⟨⟨pz_ext Q (i + 1) p', ?_, pz_ext_s, fun t ht => ?_, fun t ht => ?_⟩, by omega, by omega, fun j hj => ?_, fun t ht hu' => ?_, fun j hj => ?_, fun w hw l hl => ?_⟩
  · rw [pz_ext_n (by omega)]; exact q1
  · by_cases c : t = i + 1
    · rw [c, pz_ext_s]; exact Nat.le_refl _
    · rw [pz_ext_n c]
      have := q3 t (by omega)
      omega
  · by_cases c : t = i
    · subst c
      rw [pz_ext_n (by omega), pz_ext_s, q2]
      exact ⟨fun _ => hd, fun k => by rw [hu] at k; exact absurd k (by decide)⟩
    · rw [pz_ext_n (by omega), pz_ext_n (by omega)]
      obtain ⟨a, b⟩ := q4 t (by omega)
      exact ⟨fun k => pz_dec_keep (a k) (q3 (t + 1) (by omega)) hB, b⟩
  · rw [hB j (by omega)]; exact h3 j hj
  · by_cases c : t = i
    · rw [c, pk_us]
    · rw [pk_un (by omega)]; exact h4 t (by omega) hu'
  · rw [pk_un (by omega)]; exact h5 j (by omega)
  · rw [h6 w hw l hl, pz_has_s]
    have e : decide (D i = nI w) = false := by
      refine decide_eq_false (fun k => ?_)
      rw [pz_num_t, k, nI_toInt (by omega)] at hu
      omega
    rw [e, Bool.or_false]
theorem pz_Wi_word {i p w0 : Nat} {B L : Nat → Int32} {Wo : Nat → Int64} (hn : n < 60) (h : pz_Wi n it S D s p0 B0 L0 W0 i p B L Wo) (hu : pz_num (D i) = false) (hw0 : w0 < 24) (hD : D i = nI w0) : pz_Wi n it S D s p0 B0 L0 W0 (i + 1) p B L (vp_updL Wo w0 (Wo w0 ||| ((1 : Int64) <<< ((nI n).toInt64 &&& 63)))) := by
  obtain ⟨⟨Q, q1, q2, q3, q4⟩, h1, h2, h3, h4, h5, h6⟩ := h
  refine ⟨⟨pz_ext Q (i + 1) p, ?_, pz_ext_s, fun t ht => ?_, fun t ht => ?_⟩, h1, by omega, h3, fun t ht hu' => ?_, fun j hj => ?_, fun w hw l hl => ?_⟩
  · rw [pz_ext_n (by omega)]; exact q1
  · by_cases c : t = i + 1
    · rw [c, pz_ext_s]; exact Nat.le_refl _
    · rw [pz_ext_n c]
      exact q3 t (by omega)
  · by_cases c : t = i
    · subst c
      rw [pz_ext_n (by omega), pz_ext_s, q2]
      exact ⟨fun k => by rw [hu] at k; exact absurd k (by decide), fun _ => rfl⟩
    · rw [pz_ext_n (by omega), pz_ext_n (by omega)]
      exact q4 t (by omega)
  · by_cases c : t = i
    · rw [c, hu] at hu'; exact absurd hu' (by decide)
    · exact h4 t (by omega) hu'
  · exact h5 j (by omega)
  · rw [pz_has_s, hD]
    by_cases c : w = w0
    · subst c
      rw [pk_uLs, pz_b_or, pz_b_one (by omega) hl, h6 w hw l hl, decide_eq_true (show nI w = nI w from rfl)]
      by_cases e : l = n
      · subst e
        rw [decide_eq_true (show l = l from rfl)]
        simp
      · rw [decide_eq_false e, decide_eq_false (fun k => e k.symm)]
        simp
    · rw [pk_uLn c, h6 w hw l hl]
      have e : decide (nI w0 = nI w) = false := by
        refine decide_eq_false (fun k => c ?_)
        rw [nI_eq (by omega) (by omega)] at k
        exact k.symm
      rw [e, Bool.or_false]
theorem pz_C_ext {time : Int32} (hC : pz_C n z it T S) (hn : n < 60) (hd : 1 ≤ dc ∧ dc ≤ 8) (hD : ∀ i, i < dc → pz_ok (D i)) (ht : 0 ≤ time.toInt ∧ time.toInt ≤ 1000) (hm : ∀ l, l < n → (T l).toInt ≤ time.toInt) (hs : s ≤ pz_mm S n) (hS : ∀ l, l < n → (S l = s ↔ (z l = dc ∧ ∀ i, i < z l → pz_bl (it l i) = pz_bl (D i)))) : pz_C (n + 1) (pz_ext z n dc) (pz_ext it n D) (upd T n time) (pz_ext S n s) := by
  refine ⟨by omega, fun l hl => ?_, fun l hl i hi => ?_, fun l hl => ?_, fun a b hab hb => ?_, fun l hl => ?_, fun a b ha hb => ?_⟩
  · by_cases c : l = n
    · rw [c, pz_ext_s]; exact hd
    · rw [pz_ext_n c]; exact pz_Cz hC (by omega)
  · by_cases c : l = n
    · subst c
      rw [pz_ext_s] at hi ⊢; exact hD i hi
    · rw [pz_ext_n c] at hi ⊢; exact pz_Ci hC (by omega) hi
  · by_cases c : l = n
    · rw [c, pk_us]; exact ht
    · rw [pk_un c]; exact pz_Ct hC (by omega)
  · by_cases c : b = n
    · rw [c, pk_us]
      by_cases d : a = n
      · rw [d, pk_us]; exact Int.le_refl _
      · rw [pk_un d]; exact hm a (by omega)
    · rw [pk_un c, pk_un (by omega)]
      exact pz_Cm hC hab (by omega)
  · by_cases c : l = n
    · subst c
      rw [pz_ext_s, pz_mm_ext]; exact hs
    · rw [pz_ext_n c, pz_mm_congr (S' := S) l (fun k hk => pz_ext_n (by omega))]
      exact pz_Cq hC l (by omega)
  · by_cases c : a = n
    · by_cases d : b = n
      · rw [c, d]
        exact ⟨fun _ => ⟨rfl, fun _ _ => rfl⟩, fun _ => rfl⟩
      · rw [c, pz_ext_s, pz_ext_s, pz_ext_s, pz_ext_n d, pz_ext_n d, pz_ext_n d]
        have k := hS b (by omega)
        constructor
        · intro e
          obtain ⟨k1, k2⟩ := k.mp e.symm
          exact ⟨k1.symm, fun i hi => (k2 i (by omega)).symm⟩
        · rintro ⟨e1, e2⟩
          exact (k.mpr ⟨e1.symm, fun i hi => (e2 i (by omega)).symm⟩).symm
    · by_cases d : b = n
      · rw [d, pz_ext_s, pz_ext_s, pz_ext_s, pz_ext_n c, pz_ext_n c, pz_ext_n c]
        exact hS a (by omega)
      · rw [pz_ext_n c, pz_ext_n c, pz_ext_n c, pz_ext_n d, pz_ext_n d, pz_ext_n d]
        exact pz_CS hC (by omega) (by omega)
theorem pz_X_ext {p : Nat} {P : Nat → Nat → Nat} {shapes nodes : Int32} {shapeOf begins bytes len items last item below beside ends B L : Nat → Int32} {lines words Wo : Nat → Int64} (hC : pz_C n z it T S) (hn : n < 60) (hd : 1 ≤ dc ∧ dc ≤ 8) (hO : pz_So n S shapeOf) (hW : pz_Bw n z it words) (hN : pz_Nm n z it S P begins bytes) (hH : pz_HS n z it S D dc s shapes nodes len items lines last item below beside ends) (hI : pz_Wi n it S D s (P n 0) bytes last words dc p B L Wo) : pz_X (n + 1) (pz_ext z n dc) (pz_ext it n D) (pz_ext S n s) shapes nodes (upd shapeOf n (nI s)) (upd begins (n + 1) (nI p)) B len items (vp_updL lines s (lines s ||| ((1 : Int64) <<< ((nI n).toInt64 &&& 63)))) L Wo item below beside ends := by
  obtain ⟨a1, a2, a3, a4, a5, a6, a7⟩ := hH
  obtain ⟨⟨Q, q1, q2, q3, q4⟩, w1, w2, w3, w4, w5, w6⟩ := hI
  obtain ⟨n1, n2, n3, n4, n5, n6⟩ := hN
  refine ⟨a3, fun l hl => ?_, a4, fun t ht l hl => ?_, fun w hw l hl => ?_, ⟨fun l i => if l < n then P l i else if l = n then Q i else p, ?_, fun l hl => ?_, fun l hl => ?_, fun l hl i hi => ?_, fun l hl i hi => ?_, ?_⟩, fun l hl i hi hu => ?_, a7⟩
  · by_cases c : l = n
    · rw [c, pk_us, pz_ext_s]
    · rw [pk_un c, pz_ext_n c]; exact hO l (by omega)
  · by_cases c : t = s
    · subst c
      rw [pk_uLs, pz_b_or, pz_b_one (by omega) hl, a5 t ht l hl]
      by_cases e : l = n
      · subst e
        rw [pz_ext_s]
        simp
      · rw [pz_ext_n e, decide_eq_false (show ¬ n = l from fun k => e k.symm), Bool.or_false]
        by_cases f : l < n
        · rw [decide_eq_true f, decide_eq_true (show l < n + 1 by omega)]
        · rw [decide_eq_false f, decide_eq_false (show ¬ l < n + 1 by omega)]
    · rw [pk_uLn c, a5 t ht l hl]
      by_cases e : l = n
      · subst e
        rw [pz_ext_s, decide_eq_false (Nat.lt_irrefl l), decide_eq_false (show ¬ s = t from fun k => c k.symm)]
        simp
      · rw [pz_ext_n e]
        by_cases f : l < n
        · rw [decide_eq_true f, decide_eq_true (show l < n + 1 by omega)]
        · rw [decide_eq_false f, decide_eq_false (show ¬ l < n + 1 by omega)]
  · rw [w6 w hw l hl, hW w hw l hl]
    by_cases e : l = n
    · subst e
      rw [pz_ext_s, pz_ext_s, decide_eq_false (Nat.lt_irrefl l), decide_eq_true (show l = l from rfl), decide_eq_true (show l < l + 1 by omega)]
      simp
    · rw [pz_ext_n e, pz_ext_n e, decide_eq_false e, Bool.false_and, Bool.or_false]
      by_cases f : l < n
      · rw [decide_eq_true f, decide_eq_true (show l < n + 1 by omega)]
      · rw [decide_eq_false f, decide_eq_false (show ¬ l < n + 1 by omega)]
  · show (if 0 < n then P 0 0 else if 0 = n then Q 0 else p) = 0
    by_cases c : 0 < n
    · rw [if_pos c]; exact n1
    · have e : 0 = n := by omega
      rw [if_neg c, if_pos e, q1, ← e]; exact n1
  · show (if l + 1 < n then P (l + 1) 0 else if l + 1 = n then Q 0 else p) = (if l < n then P l (pz_ext z n dc l) else if l = n then Q (pz_ext z n dc l) else p)
    by_cases c : l = n
    · subst c
      rw [if_neg (by omega), if_neg (by omega), if_neg (by omega), if_pos rfl, pz_ext_s, q2]
    · rw [if_pos (show l < n by omega), pz_ext_n c]
      by_cases d : l + 1 < n
      · rw [if_pos d]; exact n2 l (by omega)
      · have e : l + 1 = n := by omega
        rw [if_neg d, if_pos e, q1, ← e]; exact n2 l (by omega)
  · show upd begins (n + 1) (nI p) l = nI (if l < n then P l 0 else if l = n then Q 0 else p)
    by_cases c : l = n + 1
    · rw [c, pk_us, if_neg (by omega), if_neg (by omega)]
    · rw [pk_un c, n3 l (by omega)]
      by_cases d : l < n
      · rw [if_pos d]
      · have e : l = n := by omega
        rw [if_neg d, if_pos e, q1, e]
  · show (pz_num (pz_ext it n D l i) = true → pz_dec B (if l < n then P l i else if l = n then Q i else p) (pz_ext it n D l i - 1000 - pz_prev (pz_ext S n s) (pz_ext it n D) (pz_ext S n s l) i l) (if l < n then P l (i + 1) else if l = n then Q (i + 1) else p)) ∧ (pz_num (pz_ext it n D l i) = false → (if l < n then P l (i + 1) else if l = n then Q (i + 1) else p) = (if l < n then P l i else if l = n then Q i else p))
    rw [pz_prev_ext (by omega)]
    by_cases c : l = n
    · subst c
      rw [pz_ext_s] at hi
      rw [pz_ext_s, pz_ext_s, if_neg (Nat.lt_irrefl l), if_pos rfl, if_neg (Nat.lt_irrefl l), if_pos rfl]
      exact q4 i hi
    · have hl' : l < n := by omega
      rw [pz_ext_n c] at hi
      rw [pz_ext_n c, pz_ext_n c, if_pos hl', if_pos hl']
      obtain ⟨b1, b2⟩ := n4 l hl' i hi
      exact ⟨fun k => pz_dec_keep (b1 k) (n5 l hl' (i + 1) (by omega)) w3, b2⟩
  · show (if l < n then P l i else if l = n then Q i else p) ≤ (if n + 1 < n then P (n + 1) 0 else if n + 1 = n then Q 0 else p)
    rw [if_neg (show ¬ n + 1 < n by omega), if_neg (show ¬ n + 1 = n by omega)]
    by_cases c : l = n
    · subst c
      rw [pz_ext_s] at hi
      rw [if_neg (Nat.lt_irrefl l), if_pos rfl]
      exact q3 i hi
    · have hl' : l < n := by omega
      rw [pz_ext_n c] at hi
      rw [if_pos hl']
      have := n5 l hl' i hi
      omega
  · show (if n + 1 < n then P (n + 1) 0 else if n + 1 = n then Q 0 else p) ≤ 16 * (n + 1)
    rw [if_neg (show ¬ n + 1 < n by omega), if_neg (show ¬ n + 1 = n by omega)]
    omega
  · by_cases c : l = n
    · subst c
      rw [pz_ext_s] at hi hu ⊢
      rw [pz_prev_y pz_ext_s, pz_ext_s]
      exact w4 i hi hu
    · have hl' : l < n := by omega
      have k := a6 l hl i hi hu
      rw [pz_ext_n c] at hi hu k ⊢
      by_cases d : S l = s
      · obtain ⟨e1, e2⟩ := (a2 l hl').mp d
        rw [d, pz_prev_y pz_ext_s, pz_ext_s]
        exact w4 i (by omega) (by rw [← pz_bl_num (e2 i hi)]; exact hu)
      · rw [pz_prev_n (by rw [pz_ext_s]; exact fun e => d e.symm), ← k]
        have hz := pz_Cz hC hl'
        refine w5 _ ?_
        omega
end
section
variable {f_draftCount f_partCount f_lines f_shapes f_nodes f_isFitted f_from : Int32} {f_fits : Int64} {a_draft a_parts a_times a_shapeOf a_begins a_bytes a_shapeLength a_shapeItems a_lastNumbers a_nodeItem a_below a_beside a_endsHere a_read a_numbers a_rest a_restLength a_restTime : Nat → Int32} {a_shapeLines a_wordLines : Nat → Int64}
variable {n : Nat} {z : Nat → Nat} {it : Nat → Nat → Int32} {T : Nat → Int32} {S : Nat → Nat} {D : Nat → Int32} {dc s p0 : Nat}
theorem xw_wd21 {post : Int32 → SX → Prop} {time : Int32} (hn : n < 60) (hd : dc ≤ 8) (hs : s < 60) (hp0 : p0 ≤ 16 * n) (hD : ∀ i, i < dc → pz_ok (D i)) (hr : ∀ i, i < dc → pz_num (D i) = true → a_lastNumbers (8 * s + i) = pz_prev S it s i n ∧ 0 ≤ (pz_prev S it s i n).toInt ∧ (pz_prev S it s i n).toInt ≤ 999) (h : ∀ (p : Nat) (B L : Nat → Int32) (Wo : Nat → Int64), pz_Wi n it S D s p0 a_bytes a_lastNumbers a_wordLines dc p B L Wo → post (nI n) (nI dc, f_partCount, nI (n + 1), f_shapes, f_nodes, 0, f_fits, f_from, D, a_parts, upd a_times n time, upd a_shapeOf n (nI s), upd a_begins (n + 1) (nI p), B, a_shapeLength, a_shapeItems, vp_updL a_shapeLines s (a_shapeLines s ||| ((1 : Int64) <<< ((nI n).toInt64 &&& 63))), L, Wo, a_nodeItem, a_below, a_beside, a_endsHere, a_read, a_numbers, a_rest, a_restLength, a_restTime)) : ∀ d i (p : Nat) (B L : Nat → Int32) (Wo : Nat → Int64), i + d = dc → pz_Wi n it S D s p0 a_bytes a_lastNumbers a_wordLines i p B L Wo → wX_writeDraft_21 post time (nI n) (nI s) (d + 1) (nI p) (nI i) (nI dc) f_partCount (nI n) f_shapes f_nodes f_isFitted f_fits f_from D a_parts a_times a_shapeOf a_begins B a_shapeLength a_shapeItems a_shapeLines L Wo a_nodeItem a_below a_beside a_endsHere a_read a_numbers a_rest a_restLength a_restTime := by
  have cn : (nI n).toNatClampNeg = n := nI_clamp (by omega)
  have cs : (nI s).toNatClampNeg = s := nI_clamp (by omega)
  have vs : vp_in (nI s) 60 := vp_in_nI hs (by decide)
  have vn : vp_in (nI n) 60 := vp_in_nI hn (by decide)
  intro d
  induction d with
  | zero =>
    intro i p B L Wo hi hI
    have e : i = dc := by omega
    subst e
    refine pk_le i i (fun _ => And.intro ?_ (nm_r (e' := upd a_begins (n + 1) (nI p)) ?_ (And.intro vn (nm_r (e' := upd a_times n time) (by rw [cn]) (And.intro vn (nm_r (e' := upd a_shapeOf n (nI s)) (by rw [cn]) (And.intro vs (And.intro vs (nm_r (e' := vp_updL a_shapeLines s (a_shapeLines s ||| ((1 : Int64) <<< ((nI n).toInt64 &&& 63)))) (by rw [cs]) (nm_r (nI_1 n) (h p B L Wo hI))))))))))) (fun c => absurd c (by omega))
    · rw [nI_1]; exact vp_in_nI (by omega) (by decide)
    · rw [nI_1, nI_clamp (by omega)]
  | succ d ih =>
    intro i p B L Wo hi hI
    have hi' : i < dc := by omega
    have ci : (nI i).toNatClampNeg = i := nI_clamp (by omega)
    have vi : vp_in (nI i) 8 := vp_in_nI (by omega) (by decide)
    have hp : p ≤ p0 + 2 * i := hI.2.2.1
    refine pk_le dc i (fun c => absurd c (by omega)) (fun _ => And.intro vi (xw_isNumber (fun hu => br_f pz_10 ?_) (fun hu => br_t rfl ?_)))
    · rw [ci] at hu
      obtain ⟨r1, r2, r3⟩ := hr i hi' hu
      obtain ⟨f1, f2⟩ := pz_diff_r hu r2 r3
      have eL : L (8 * s + i) = pz_prev S it s i n := by rw [hI.2.2.2.2.2.1 _ (Or.inr (Nat.le_refl _))]; exact r1
      refine nm_r pz_8 (And.intro vi (And.intro (vp_in_nI (by omega) (by decide)) ?_))
      rw [ci, nI_clamp (by omega), eL]
      refine xw_bring f1 f2 (by omega) (fun B' p' b1 b2 => And.intro vi (And.intro (vp_in_nI (by omega) (by decide)) (nm_r (e' := upd L (8 * s + i) (D i - 1000)) ?_ (nm_r (nI_1 i) (ih (i + 1) p' B' _ Wo (by omega) (pz_Wi_num hI hu b1 b2))))))
      rfl
    · rw [ci] at hu
      obtain ⟨w0, hw0, e0⟩ : ∃ w0, w0 < 24 ∧ D i = nI w0 := by
        rcases hD i hi' with k | k
        · obtain ⟨j, hj, e⟩ := nI_of (x := D i) (by rw [pz_ilt, pz_c0]; omega)
          rw [e, nI_toInt hj] at k
          exact ⟨j, by omega, e⟩
        · exact absurd k (pz_num_f.mp hu)
      have vw : vp_in (D (nI i).toNatClampNeg) 24 := by rw [ci, e0]; exact vp_in_nI hw0 (by decide)
      refine And.intro vi (And.intro vw (And.intro vw (nm_r (e' := vp_updL Wo w0 (Wo w0 ||| ((1 : Int64) <<< ((nI n).toInt64 &&& 63)))) ?_ (nm_r (nI_1 i) (ih (i + 1) p B L _ (by omega) (pz_Wi_word hn hI hu hw0 e0))))))
      rw [ci, e0, nI_clamp (by omega)]
theorem xw_writeDraft {post : Int32 → SX → Prop} {time : Int32} (hC : pz_C n z it T S) (hX : pz_X n z it S f_shapes f_nodes a_shapeOf a_begins a_bytes a_shapeLength a_shapeItems a_shapeLines a_lastNumbers a_wordLines a_nodeItem a_below a_beside a_endsHere) (hn : n < 60) (hd : 1 ≤ dc ∧ dc ≤ 8) (hD : ∀ i, i < dc → pz_ok (D i)) (ht : 0 ≤ time.toInt ∧ time.toInt ≤ 1000) (hm : ∀ l, l < n → (T l).toInt ≤ time.toInt) (h : ∀ (s : Nat) (f_shapes' f_nodes' : Int32) (a_shapeOf' a_begins' a_bytes' a_shapeLength' a_shapeItems' : Nat → Int32) (a_shapeLines' : Nat → Int64) (a_lastNumbers' : Nat → Int32) (a_wordLines' : Nat → Int64) (a_nodeItem' a_below' a_beside' a_endsHere' : Nat → Int32), pz_C (n + 1) (pz_ext z n dc) (pz_ext it n D) (upd T n time) (pz_ext S n s) → pz_X (n + 1) (pz_ext z n dc) (pz_ext it n D) (pz_ext S n s) f_shapes' f_nodes' a_shapeOf' a_begins' a_bytes' a_shapeLength' a_shapeItems' a_shapeLines' a_lastNumbers' a_wordLines' a_nodeItem' a_below' a_beside' a_endsHere' → post (nI n) (nI dc, f_partCount, nI (n + 1), f_shapes', f_nodes', 0, f_fits, f_from, D, a_parts, upd T n time, a_shapeOf', a_begins', a_bytes', a_shapeLength', a_shapeItems', a_shapeLines', a_lastNumbers', a_wordLines', a_nodeItem', a_below', a_beside', a_endsHere', a_read, a_numbers, a_rest, a_restLength, a_restTime)) : wpX_writeDraft post (nI dc, f_partCount, nI n, f_shapes, f_nodes, f_isFitted, f_fits, f_from, D, a_parts, T, a_shapeOf, a_begins, a_bytes, a_shapeLength, a_shapeItems, a_shapeLines, a_lastNumbers, a_wordLines, a_nodeItem, a_below, a_beside, a_endsHere, a_read, a_numbers, a_rest, a_restLength, a_restTime) time := by
  obtain ⟨x1, x2, x3, x4, x5, ⟨P, x6⟩, x7, x8⟩ := hX
  have hN := x6
  obtain ⟨n1, n2, n3, n4, n5, n6⟩ := x6
  rw [x1]
  refine xw_shapeOfDraft hC hn hd.2 x3 x4 x7 x8 (fun s shapes' nodes' len' items' lines' last' item' below' beside' ends' hH => And.intro (vp_in_nI (by omega) (by decide)) (nm_r (e' := nI (P n 0)) ?_ ⟨dc + 1, xw_wd21 (it := it) (S := S) (p0 := P n 0) hn hd.2 ?_ n6 hD (fun i hi hu => ?_) (fun p B L Wo hI => ?_) dc 0 (P n 0) _ _ _ (by omega) pz_Wi_0⟩))
  · rw [nI_clamp (by omega)]; exact n3 n (Nat.le_refl n)
  · have := hH.1
    have := pz_mm_le n (pz_Cq hC)
    omega
  · have k := hH.2.2.2.2.2.1 n (by omega) i (by rw [pz_ext_s]; exact hi) (by rw [pz_ext_s]; exact hu)
    rw [pz_ext_s, pz_prev_ext (Nat.le_refl n)] at k
    refine ⟨k, pz_prev_r n (fun l hl e => ?_)⟩
    obtain ⟨e1, e2⟩ := (hH.2.1 l hl).mp e
    rw [pz_bl_num (e2 i (by omega))]; exact hu
  · exact h s _ _ _ _ _ _ _ _ _ _ _ _ _ _ (pz_C_ext hC hn hd hD ht hm hH.1 hH.2.1) (pz_X_ext hC hn hd x2 x5 hN hH hI)
end
end
section
/-! X: empty, recall, expire -/
def pz_sh {α : Type} (f : Nat → α) (g c : Nat) : Nat → α := fun j => if j < c then f (g + j) else f j
theorem pz_sh_0 {α : Type} (f : Nat → α) (g : Nat) : pz_sh f g 0 = f := funext (fun j => if_neg (Nat.not_lt_zero j))
theorem pz_sh_lt {α : Type} {f : Nat → α} {g c j : Nat} (h : j < c) : pz_sh f g c j = f (g + j) := if_pos h
theorem pz_sh_ge {α : Type} {f : Nat → α} {g c j : Nat} (h : c ≤ j) : pz_sh f g c j = f j := if_neg (by omega)
theorem pz_sh_z {α : Type} (f : Nat → α) (c : Nat) : pz_sh f 0 c = f := funext (fun j => by
  show (if j < c then f (0 + j) else f j) = f j
  rw [Nat.zero_add]; exact ite_self _)
theorem pz_sh_s (f : Nat → Int32) (g c : Nat) : upd (pz_sh f g c) c (f (g + c)) = pz_sh f g (c + 1) := funext (fun j => by
  by_cases e : j = c
  · rw [e, pk_us, pz_sh_lt (by omega)]
  · rw [pk_un e]
    by_cases d : j < c
    · rw [pz_sh_lt d, pz_sh_lt (by omega)]
    · rw [pz_sh_ge (by omega), pz_sh_ge (by omega)])
theorem pz_C_0 (z : Nat → Nat) (it : Nat → Nat → Int32) (T : Nat → Int32) (S : Nat → Nat) : pz_C 0 z it T S :=
  ⟨by omega, fun l hl => absurd hl (Nat.not_lt_zero l), fun l hl => absurd hl (Nat.not_lt_zero l), fun l hl => absurd hl (Nat.not_lt_zero l), fun _ b _ hb => absurd hb (Nat.not_lt_zero b), fun l hl => absurd hl (Nat.not_lt_zero l), fun a _ ha => absurd ha (Nat.not_lt_zero a)⟩
section
variable {f_draftCount f_partCount f_lines f_shapes f_nodes f_isFitted f_from : Int32} {f_fits : Int64} {a_draft a_parts a_times a_shapeOf a_begins a_bytes a_shapeLength a_shapeItems a_lastNumbers a_nodeItem a_below a_beside a_endsHere a_read a_numbers a_rest a_restLength a_restTime : Nat → Int32} {a_shapeLines a_wordLines : Nat → Int64}
variable {n : Nat} {z : Nat → Nat} {it : Nat → Nat → Int32} {T : Nat → Int32} {S : Nat → Nat} {D : Nat → Int32} {dc : Nat} {P : Nat → Nat → Nat}
theorem xw_empty30 {post : SX → Prop} (h : ∀ Wo : Nat → Int64, (∀ w, w < 24 → Wo w = 0) → post (f_draftCount, f_partCount, f_lines, f_shapes, f_nodes, 0, f_fits, f_from, a_draft, a_parts, a_times, a_shapeOf, a_begins, a_bytes, a_shapeLength, a_shapeItems, a_shapeLines, a_lastNumbers, Wo, a_nodeItem, a_below, a_beside, a_endsHere, a_read, a_numbers, a_rest, a_restLength, a_restTime)) : ∀ d k (Wo : Nat → Int64), k + d = 24 → (∀ w, w < k → Wo w = 0) → wX_empty_30 post f_draftCount f_partCount f_lines f_shapes f_nodes f_isFitted f_fits f_from (d + 1) (nI k) a_draft a_parts a_times a_shapeOf a_begins a_bytes a_shapeLength a_shapeItems a_shapeLines a_lastNumbers Wo a_nodeItem a_below a_beside a_endsHere a_read a_numbers a_rest a_restLength a_restTime := by
  intro d
  induction d with
  | zero =>
    intro k Wo hk hW
    have e : k = 24 := by omega
    subst e
    exact pk_le 24 24 (fun _ => h Wo hW) (fun c => absurd c (by omega))
  | succ d ih =>
    intro k Wo hk hW
    refine br_f (nI_ge (a := k) (b := 24) (by omega) (by decide)) (And.intro (vp_in_nI (by omega) (by decide)) (nm_r (e' := vp_updL Wo k 0) ?_ (nm_r (nI_1 k) (ih (k + 1) _ (by omega) ?_))))
    · rw [nI_clamp (by omega)]
    · intro j hj
      by_cases e : j = k
      · rw [e, pk_uLs]
      · rw [pk_uLn e]; exact hW j (by omega)
theorem pz_X_0 {Wo : Nat → Int64} (hW : ∀ w, w < 24 → Wo w = 0) : pz_X 0 z it S 0 (nI 1) a_shapeOf (upd a_begins 0 0) a_bytes a_shapeLength a_shapeItems a_shapeLines a_lastNumbers Wo (upd a_nodeItem 0 (-1)) (upd a_below 0 (-1)) (upd a_beside 0 (-1)) (upd a_endsHere 0 (-1)) := by
  refine ⟨rfl, fun l hl => absurd hl (Nat.not_lt_zero l), fun l hl => absurd hl (Nat.not_lt_zero l), fun s hs => absurd hs (Nat.not_lt_zero s), fun w hw l hl => ?_, ⟨fun _ _ => 0, rfl, fun l hl => absurd hl (Nat.not_lt_zero l), fun l hl => ?_, fun l hl => absurd hl (Nat.not_lt_zero l), fun l hl => absurd hl (Nat.not_lt_zero l), Nat.zero_le _⟩, fun l hl => absurd hl (Nat.not_lt_zero l), ⟨1, fun _ => [], fun _ => 0, rfl, by omega, ⟨by omega, rfl, fun q h1 h2 => absurd h2 (by omega), fun p q hp hq _ => by omega, fun p hp => Or.inl ⟨?_, fun q h1 h2 => absurd h2 (by omega)⟩, fun q h1 h2 => absurd h2 (by omega)⟩, fun p hp => Or.inl ?_, fun l hl => absurd hl (Nat.not_lt_zero l)⟩⟩
  · rw [hW w hw, pz_b_0, decide_eq_false (Nat.not_lt_zero l), Bool.false_and]
  · have e : l = 0 := by omega
    rw [e, pk_us]; rfl
  · have e : p = 0 := by omega
    rw [e, pk_us]
  · have e : p = 0 := by omega
    rw [e, pk_us]
theorem xw_empty {post : SX → Prop} (h : ∀ (f_shapes' f_nodes' : Int32) (a_begins' : Nat → Int32) (a_wordLines' : Nat → Int64) (a_nodeItem' a_below' a_beside' a_endsHere' : Nat → Int32), (∀ (z : Nat → Nat) (it : Nat → Nat → Int32) (S : Nat → Nat), pz_X 0 z it S f_shapes' f_nodes' a_shapeOf a_begins' a_bytes a_shapeLength a_shapeItems a_shapeLines a_lastNumbers a_wordLines' a_nodeItem' a_below' a_beside' a_endsHere') → post (f_draftCount, f_partCount, nI 0, f_shapes', f_nodes', 0, f_fits, f_from, a_draft, a_parts, a_times, a_shapeOf, a_begins', a_bytes, a_shapeLength, a_shapeItems, a_shapeLines, a_lastNumbers, a_wordLines', a_nodeItem', a_below', a_beside', a_endsHere', a_read, a_numbers, a_rest, a_restLength, a_restTime)) : wpX_empty post (f_draftCount, f_partCount, f_lines, f_shapes, f_nodes, f_isFitted, f_fits, f_from, a_draft, a_parts, a_times, a_shapeOf, a_begins, a_bytes, a_shapeLength, a_shapeItems, a_shapeLines, a_lastNumbers, a_wordLines, a_nodeItem, a_below, a_beside, a_endsHere, a_read, a_numbers, a_rest, a_restLength, a_restTime) := by
  refine nm_e (xw_newNode (N := 0) (by omega) ⟨25, xw_empty30 (fun Wo hW => ?_) 24 0 a_wordLines rfl (fun w hw => absurd hw (Nat.not_lt_zero w))⟩)
  exact h _ _ _ _ _ _ _ _ (fun z it S => pz_X_0 hW)
theorem xw_keep12 {post : SX → Prop} (hd : dc ≤ 8) (h : ∀ R : Nat → Int32, (∀ i, i < dc → R i = a_draft i) → post (nI dc, f_partCount, f_lines, f_shapes, f_nodes, f_isFitted, f_fits, f_from, a_draft, a_parts, a_times, a_shapeOf, a_begins, a_bytes, a_shapeLength, a_shapeItems, a_shapeLines, a_lastNumbers, a_wordLines, a_nodeItem, a_below, a_beside, a_endsHere, R, a_numbers, a_rest, a_restLength, a_restTime)) : ∀ d i (R : Nat → Int32), i + d = dc → (∀ j, j < i → R j = a_draft j) → wX_keepDraft_12 post (nI dc) f_partCount f_lines f_shapes f_nodes f_isFitted f_fits f_from (d + 1) (nI i) a_draft a_parts a_times a_shapeOf a_begins a_bytes a_shapeLength a_shapeItems a_shapeLines a_lastNumbers a_wordLines a_nodeItem a_below a_beside a_endsHere R a_numbers a_rest a_restLength a_restTime := by
  intro d
  induction d with
  | zero =>
    intro i R hi hR
    have e : i = dc := by omega
    subst e
    exact pk_le i i (fun _ => h R hR) (fun c => absurd c (by omega))
  | succ d ih =>
    intro i R hi hR
    refine pk_le dc i (fun c => absurd c (by omega)) (fun _ => And.intro (vp_in_nI (by omega) (by decide)) (And.intro (vp_in_nI (by omega) (by decide)) (nm_r (e' := upd R i (a_draft i)) ?_ (nm_r (nI_1 i) (ih (i + 1) _ (by omega) ?_)))))
    · rw [nI_clamp (by omega)]
    · intro j hj
      by_cases e : j = i
      · rw [e, pk_us]
      · rw [pk_un e]; exact hR j (by omega)
theorem xw_keepDraft {post : SX → Prop} (hd : dc ≤ 8) (h : ∀ R : Nat → Int32, (∀ i, i < dc → R i = a_draft i) → post (nI dc, f_partCount, f_lines, f_shapes, f_nodes, f_isFitted, f_fits, f_from, a_draft, a_parts, a_times, a_shapeOf, a_begins, a_bytes, a_shapeLength, a_shapeItems, a_shapeLines, a_lastNumbers, a_wordLines, a_nodeItem, a_below, a_beside, a_endsHere, R, upd a_numbers 0 (nI dc), a_rest, a_restLength, a_restTime)) : wpX_keepDraft post (nI dc, f_partCount, f_lines, f_shapes, f_nodes, f_isFitted, f_fits, f_from, a_draft, a_parts, a_times, a_shapeOf, a_begins, a_bytes, a_shapeLength, a_shapeItems, a_shapeLines, a_lastNumbers, a_wordLines, a_nodeItem, a_below, a_beside, a_endsHere, a_read, a_numbers, a_rest, a_restLength, a_restTime) :=
  nm_e ⟨dc + 1, xw_keep12 hd h dc 0 a_read (by omega) (fun j hj => absurd hj (Nat.not_lt_zero j))⟩
theorem xw_bring12 {post : SX → Prop} (hd : dc ≤ 8) (h : ∀ E : Nat → Int32, (∀ i, i < dc → E i = a_read i) → post (nI dc, f_partCount, f_lines, f_shapes, f_nodes, f_isFitted, f_fits, f_from, E, a_parts, a_times, a_shapeOf, a_begins, a_bytes, a_shapeLength, a_shapeItems, a_shapeLines, a_lastNumbers, a_wordLines, a_nodeItem, a_below, a_beside, a_endsHere, a_read, a_numbers, a_rest, a_restLength, a_restTime)) : ∀ d i (E : Nat → Int32), i + d = dc → (∀ j, j < i → E j = a_read j) → wX_bringDraft_12 post (nI dc) f_partCount f_lines f_shapes f_nodes f_isFitted f_fits f_from (d + 1) (nI i) E a_parts a_times a_shapeOf a_begins a_bytes a_shapeLength a_shapeItems a_shapeLines a_lastNumbers a_wordLines a_nodeItem a_below a_beside a_endsHere a_read a_numbers a_rest a_restLength a_restTime := by
  intro d
  induction d with
  | zero =>
    intro i E hi hE
    have e : i = dc := by omega
    subst e
    exact pk_le i i (fun _ => h E hE) (fun c => absurd c (by omega))
  | succ d ih =>
    intro i E hi hE
    refine pk_le dc i (fun c => absurd c (by omega)) (fun _ => And.intro (vp_in_nI (by omega) (by decide)) (And.intro (vp_in_nI (by omega) (by decide)) (nm_r (e' := upd E i (a_read i)) ?_ (nm_r (nI_1 i) (ih (i + 1) _ (by omega) ?_)))))
    · rw [nI_clamp (by omega)]
    · intro j hj
      by_cases e : j = i
      · rw [e, pk_us]
      · rw [pk_un e]; exact hE j (by omega)
theorem xw_bringDraft {post : SX → Prop} (hd : dc ≤ 8) (hn : a_numbers 0 = nI dc) (h : ∀ E : Nat → Int32, (∀ i, i < dc → E i = a_read i) → post (nI dc, f_partCount, f_lines, f_shapes, f_nodes, f_isFitted, f_fits, f_from, E, a_parts, a_times, a_shapeOf, a_begins, a_bytes, a_shapeLength, a_shapeItems, a_shapeLines, a_lastNumbers, a_wordLines, a_nodeItem, a_below, a_beside, a_endsHere, a_read, a_numbers, a_rest, a_restLength, a_restTime)) : wpX_bringDraft post (f_draftCount, f_partCount, f_lines, f_shapes, f_nodes, f_isFitted, f_fits, f_from, a_draft, a_parts, a_times, a_shapeOf, a_begins, a_bytes, a_shapeLength, a_shapeItems, a_shapeLines, a_lastNumbers, a_wordLines, a_nodeItem, a_below, a_beside, a_endsHere, a_read, a_numbers, a_rest, a_restLength, a_restTime) :=
  nm_r hn ⟨dc + 1, xw_bring12 hd h dc 0 a_draft (by omega) (fun j hj => absurd hj (Nat.not_lt_zero j))⟩
theorem xw_recall32 {post : Int32 → SX → Prop} (hd : dc ≤ 8) (h : ∀ E : Nat → Int32, (∀ i, i < dc → E i = a_read i) → post (nI dc) (nI dc, f_partCount, f_lines, f_shapes, f_nodes, f_isFitted, f_fits, f_from, E, a_parts, a_times, a_shapeOf, a_begins, a_bytes, a_shapeLength, a_shapeItems, a_shapeLines, a_lastNumbers, a_wordLines, a_nodeItem, a_below, a_beside, a_endsHere, a_read, a_numbers, a_rest, a_restLength, a_restTime)) : ∀ d i (E : Nat → Int32), i + d = dc → (∀ j, j < i → E j = a_read j) → wX_recall_32 post (nI dc) f_partCount f_lines f_shapes f_nodes f_isFitted f_fits f_from (d + 1) (nI i) E a_parts a_times a_shapeOf a_begins a_bytes a_shapeLength a_shapeItems a_shapeLines a_lastNumbers a_wordLines a_nodeItem a_below a_beside a_endsHere a_read a_numbers a_rest a_restLength a_restTime := by
  intro d
  induction d with
  | zero =>
    intro i E hi hE
    have e : i = dc := by omega
    subst e
    exact pk_le i i (fun _ => h E hE) (fun c => absurd c (by omega))
  | succ d ih =>
    intro i E hi hE
    refine pk_le dc i (fun c => absurd c (by omega)) (fun _ => And.intro (vp_in_nI (by omega) (by decide)) (And.intro (vp_in_nI (by omega) (by decide)) (nm_r (e' := upd E i (a_read i)) ?_ (nm_r (nI_1 i) (ih (i + 1) _ (by omega) ?_)))))
    · rw [nI_clamp (by omega)]
    · intro j hj
      by_cases e : j = i
      · rw [e, pk_us]
      · rw [pk_un e]; exact hE j (by omega)
theorem xw_recall_y {post : Int32 → SX → Prop} {l : Nat} (hC : pz_C n z it T S) (hO : pz_So n S a_shapeOf) (hL : pz_Sl n z it S a_shapeLength a_shapeItems) (hN : pz_Nm n z it S P a_begins a_bytes) (hl : l < n) (h : ∀ (fr : Int32) (R N E : Nat → Int32), (∀ i, i < z l → E i = it l i) → post (nI (z l)) (nI (z l), f_partCount, nI n, f_shapes, f_nodes, f_isFitted, f_fits, fr, E, a_parts, a_times, a_shapeOf, a_begins, a_bytes, a_shapeLength, a_shapeItems, a_shapeLines, a_lastNumbers, a_wordLines, a_nodeItem, a_below, a_beside, a_endsHere, R, N, a_rest, a_restLength, a_restTime)) : wpX_recall post (f_draftCount, f_partCount, nI n, f_shapes, f_nodes, f_isFitted, f_fits, f_from, a_draft, a_parts, a_times, a_shapeOf, a_begins, a_bytes, a_shapeLength, a_shapeItems, a_shapeLines, a_lastNumbers, a_wordLines, a_nodeItem, a_below, a_beside, a_endsHere, a_read, a_numbers, a_rest, a_restLength, a_restTime) (nI l) := by
  have hn := pz_Cn hC
  have hs := pz_Cs hC hl
  have hz := pz_Cz hC hl
  have cl : (nI l).toNatClampNeg = l := nI_clamp (by omega)
  have e1 := hO l hl
  unfold wpX_recall
  refine xw_isLine_y hn hl (br_f pz_10 (xw_readLine hC hO hL hN hl (fun fr R N hR => And.intro (vp_in_nI (by omega) (by decide)) (And.intro ?_ (nm_r (e' := nI (z l)) ?_ ⟨z l + 1, xw_recall32 hz.2 (fun E hE => h fr R N E (fun i hi => (hE i hi).trans (hR i hi))) (z l) 0 a_draft (by omega) (fun j hj => absurd hj (Nat.not_lt_zero j))⟩)))))
  · rw [cl, e1]; exact vp_in_nI hs (by decide)
  · rw [cl, e1, nI_clamp (by omega)]; exact (hL l hl).1
/-- the lines that are kept, laid aside -/
def pz_Re (g k : Nat) (z : Nat → Nat) (it : Nat → Nat → Int32) (T : Nat → Int32) (Re RL RT : Nat → Int32) : Prop := ∀ q, q < k → RL q = nI (z (g + q)) ∧ RT q = T (g + q) ∧ ∀ i, i < z (g + q) → Re (8 * q + i) = it (g + q) i
theorem xw_e76 {post : Int32 → SX → Prop} {J : Int32 → Int32 → Int32 → Int32 → Int32 → Int32 → Int32 → Int64 → Int32 → (Nat → Int32) → (Nat → Int32) → (Nat → Int32) → (Nat → Int32) → (Nat → Int32) → (Nat → Int32) → (Nat → Int32) → (Nat → Int32) → (Nat → Int64) → (Nat → Int32) → (Nat → Int64) → (Nat → Int32) → (Nat → Int32) → (Nat → Int32) → (Nat → Int32) → (Nat → Int32) → (Nat → Int32) → (Nat → Int32) → (Nat → Int32) → (Nat → Int32) → Prop} {x2 x3 : Int32} {k zl : Nat} (hk : k < 60) (hz : zl ≤ 8) (hl : a_restLength k = nI zl) (h : ∀ Re : Nat → Int32, (∀ j, j < 8 * k → Re j = a_rest j) → (∀ t, t < zl → Re (8 * k + t) = a_read t) → J (nI (k + 1)) f_draftCount f_partCount f_lines f_shapes f_nodes f_isFitted f_fits f_from a_draft a_parts a_times a_shapeOf a_begins a_bytes a_shapeLength a_shapeItems a_shapeLines a_lastNumbers a_wordLines a_nodeItem a_below a_beside a_endsHere a_read a_numbers Re a_restLength a_restTime) : ∀ d i (Re : Nat → Int32), i + d = zl → (∀ j, j < 8 * k → Re j = a_rest j) → (∀ t, t < i → Re (8 * k + t) = a_read t) → wX_expire_76 post J x2 x3 (nI k) f_draftCount f_partCount f_lines f_shapes f_nodes f_isFitted f_fits f_from (d + 1) (nI i) a_draft a_parts a_times a_shapeOf a_begins a_bytes a_shapeLength a_shapeItems a_shapeLines a_lastNumbers a_wordLines a_nodeItem a_below a_beside a_endsHere a_read a_numbers Re a_restLength a_restTime := by
  have hl' : a_restLength (nI k).toNatClampNeg = nI zl := by rw [nI_clamp (by omega)]; exact hl
  intro d
  induction d with
  | zero =>
    intro i Re hi h1 h2
    have e : i = zl := by omega
    subst e
    exact And.intro (vp_in_nI hk (by decide)) (pk_le i i (fun _ => nm_r (nI_1 k) (h Re h1 h2)) (fun c => absurd c (by omega)) (hx := hl'))
  | succ d ih =>
    intro i Re hi h1 h2
    refine And.intro (vp_in_nI hk (by decide)) (pk_le zl i (fun c => absurd c (by omega)) (fun _ => And.intro (vp_in_nI (by omega) (by decide)) (And.intro (pz_in8 hk (by omega)) (nm_r (e' := upd Re (8 * k + i) (a_read i)) ?_ (nm_r (nI_1 i) (ih (i + 1) _ (by omega) ?_ ?_))))) (hx := hl'))
    · rw [pz_cl8 hk (by omega), nI_clamp (by omega)]
    · intro j hj
      rw [pk_un (by omega)]; exact h1 j hj
    · intro t ht
      by_cases e : t = i
      · rw [e, pk_us]
      · rw [pk_un (by omega)]; exact h2 t (by omega)
theorem xw_e151 {post : Int32 → SX → Prop} {J : Int32 → Int32 → Int32 → Int32 → Int32 → Int32 → Int32 → Int64 → Int32 → (Nat → Int32) → (Nat → Int32) → (Nat → Int32) → (Nat → Int32) → (Nat → Int32) → (Nat → Int32) → (Nat → Int32) → (Nat → Int32) → (Nat → Int64) → (Nat → Int32) → (Nat → Int64) → (Nat → Int32) → (Nat → Int32) → (Nat → Int32) → (Nat → Int32) → (Nat → Int32) → (Nat → Int32) → (Nat → Int32) → (Nat → Int32) → (Nat → Int32) → Prop} {x2 x3 : Int32} {k : Nat} (hC : pz_C k z it T S) (hX : pz_X k z it S f_shapes f_nodes a_shapeOf a_begins a_bytes a_shapeLength a_shapeItems a_shapeLines a_lastNumbers a_wordLines a_nodeItem a_below a_beside a_endsHere) (hk : k < 60) (hd : 1 ≤ dc ∧ dc ≤ 8) (hD : ∀ i, i < dc → pz_ok (a_rest (8 * k + i))) (ht : 0 ≤ (a_restTime k).toInt ∧ (a_restTime k).toInt ≤ 1000) (hm : ∀ l, l < k → (T l).toInt ≤ (a_restTime k).toInt) (h : ∀ (E : Nat → Int32) (s : Nat) (f_shapes' f_nodes' : Int32) (a_shapeOf' a_begins' a_bytes' a_shapeLength' a_shapeItems' : Nat → Int32) (a_shapeLines' : Nat → Int64) (a_lastNumbers' : Nat → Int32) (a_wordLines' : Nat → Int64) (a_nodeItem' a_below' a_beside' a_endsHere' : Nat → Int32), (∀ i, i < dc → E i = a_rest (8 * k + i)) → pz_C (k + 1) (pz_ext z k dc) (pz_ext it k E) (upd T k (a_restTime k)) (pz_ext S k s) → pz_X (k + 1) (pz_ext z k dc) (pz_ext it k E) (pz_ext S k s) f_shapes' f_nodes' a_shapeOf' a_begins' a_bytes' a_shapeLength' a_shapeItems' a_shapeLines' a_lastNumbers' a_wordLines' a_nodeItem' a_below' a_beside' a_endsHere' → J (nI (k + 1)) (nI dc) f_partCount (nI (k + 1)) f_shapes' f_nodes' 0 f_fits f_from E a_parts (upd T k (a_restTime k)) a_shapeOf' a_begins' a_bytes' a_shapeLength' a_shapeItems' a_shapeLines' a_lastNumbers' a_wordLines' a_nodeItem' a_below' a_beside' a_endsHere' a_read a_numbers a_rest a_restLength a_restTime) : ∀ d i (E : Nat → Int32), i + d = dc → (∀ j, j < i → E j = a_rest (8 * k + j)) → wX_expire_151 post J x2 x3 (nI k) (nI dc) f_partCount (nI k) f_shapes f_nodes f_isFitted f_fits f_from (d + 1) (nI i) E a_parts T a_shapeOf a_begins a_bytes a_shapeLength a_shapeItems a_shapeLines a_lastNumbers a_wordLines a_nodeItem a_below a_beside a_endsHere a_read a_numbers a_rest a_restLength a_restTime := by
  intro d
  induction d with
  | zero =>
    intro i E hi hE
    have e : i = dc := by omega
    subst e
    refine pk_le i i (fun _ => And.intro (vp_in_nI hk (by decide)) ?_) (fun c => absurd c (by omega))
    rw [nI_clamp (by omega)]
    exact xw_writeDraft hC hX hk hd (fun j hj => by rw [hE j hj]; exact hD j hj) ht hm (fun s _ _ _ _ _ _ _ _ _ _ _ _ _ _ c1 c2 => nm_r (nI_1 k) (h E s _ _ _ _ _ _ _ _ _ _ _ _ _ _ hE c1 c2))
  | succ d ih =>
    intro i E hi hE
    refine pk_le dc i (fun c => absurd c (by omega)) (fun _ => And.intro (pz_in8 hk (by omega)) (And.intro (vp_in_nI (by omega) (by decide)) (nm_r (e' := upd E i (a_rest (8 * k + i))) ?_ (nm_r (nI_1 i) (ih (i + 1) _ (by omega) ?_)))))
    · rw [pz_cl8 hk (by omega), nI_clamp (by omega)]
    · intro j hj
      by_cases e : j = i
      · rw [e, pk_us]
      · rw [pk_un e]; exact hE j (by omega)
end
end
section
/-! X: expire -/
section
variable {f_draftCount f_partCount f_lines f_shapes f_nodes f_isFitted f_from : Int32} {f_fits : Int64} {a_draft a_parts a_times a_shapeOf a_begins a_bytes a_shapeLength a_shapeItems a_lastNumbers a_nodeItem a_below a_beside a_endsHere a_read a_numbers a_rest a_restLength a_restTime : Nat → Int32} {a_shapeLines a_wordLines : Nat → Int64}
variable {n : Nat} {z : Nat → Nat} {it : Nat → Nat → Int32} {T : Nat → Int32} {S : Nat → Nat} {D : Nat → Int32} {dc : Nat} {P : Nat → Nat → Nat} {g kept : Nat}
theorem xw_e131 {post : Int32 → SX → Prop} (hC : pz_C n z it T S) (hg : g + kept = n) (hdc : dc ≤ 8) (hRe : pz_Re g kept z it T a_rest a_restLength a_restTime) (hn0 : a_numbers 0 = nI dc) (hr0 : ∀ i, i < dc → a_read i = D i) (h : ∀ (E : Nat → Int32) (z' : Nat → Nat) (it' : Nat → Nat → Int32) (S' : Nat → Nat) (f_shapes' f_nodes' : Int32) (a_shapeOf' a_begins' a_bytes' a_shapeLength' a_shapeItems' : Nat → Int32) (a_shapeLines' : Nat → Int64) (a_lastNumbers' : Nat → Int32) (a_wordLines' : Nat → Int64) (a_nodeItem' a_below' a_beside' a_endsHere' : Nat → Int32), pz_C kept z' it' (pz_sh T g kept) S' → pz_X kept z' it' S' f_shapes' f_nodes' a_shapeOf' a_begins' a_bytes' a_shapeLength' a_shapeItems' a_shapeLines' a_lastNumbers' a_wordLines' a_nodeItem' a_below' a_beside' a_endsHere' → (∀ q, q < kept → z' q = z (g + q) ∧ ∀ i, i < z (g + q) → it' q i = it (g + q) i) → (∀ i, i < dc → E i = D i) → post (nI g) (nI dc, f_partCount, nI kept, f_shapes', f_nodes', 0, f_fits, f_from, E, a_parts, pz_sh T g kept, a_shapeOf', a_begins', a_bytes', a_shapeLength', a_shapeItems', a_shapeLines', a_lastNumbers', a_wordLines', a_nodeItem', a_below', a_beside', a_endsHere', a_read, a_numbers, a_rest, a_restLength, a_restTime)) : ∀ d k (c : Int32) (E : Nat → Int32) (z' : Nat → Nat) (it' : Nat → Nat → Int32) (S' : Nat → Nat) (f_shapes' f_nodes' : Int32) (a_shapeOf' a_begins' a_bytes' a_shapeLength' a_shapeItems' : Nat → Int32) (a_shapeLines' : Nat → Int64) (a_lastNumbers' : Nat → Int32) (a_wordLines' : Nat → Int64) (a_nodeItem' a_below' a_beside' a_endsHere' : Nat → Int32), k + d = kept → pz_C k z' it' (pz_sh T g k) S' → pz_X k z' it' S' f_shapes' f_nodes' a_shapeOf' a_begins' a_bytes' a_shapeLength' a_shapeItems' a_shapeLines' a_lastNumbers' a_wordLines' a_nodeItem' a_below' a_beside' a_endsHere' → (∀ q, q < k → z' q = z (g + q) ∧ ∀ i, i < z (g + q) → it' q i = it (g + q) i) → wX_expire_131 post (nI g) (nI kept) (d + 1) (nI k) c f_partCount (nI k) f_shapes' f_nodes' 0 f_fits f_from E a_parts (pz_sh T g k) a_shapeOf' a_begins' a_bytes' a_shapeLength' a_shapeItems' a_shapeLines' a_lastNumbers' a_wordLines' a_nodeItem' a_below' a_beside' a_endsHere' a_read a_numbers a_rest a_restLength a_restTime := by
  have hn := pz_Cn hC
  intro d
  induction d with
  | zero =>
    intro k c E z' it' S' f_shapes' f_nodes' a_shapeOf' a_begins' a_bytes' a_shapeLength' a_shapeItems' a_shapeLines' a_lastNumbers' a_wordLines' a_nodeItem' a_below' a_beside' a_endsHere' hk c1 c2 c3
    have e : k = kept := by omega
    subst e
    exact pk_le k k (fun _ => xw_bringDraft hdc hn0 (fun E' hE' => h E' z' it' S' _ _ _ _ _ _ _ _ _ _ _ _ _ _ c1 c2 c3 (fun i hi => (hE' i hi).trans (hr0 i hi)))) (fun c => absurd c (by omega))
  | succ d ih =>
    intro k c E z' it' S' f_shapes' f_nodes' a_shapeOf' a_begins' a_bytes' a_shapeLength' a_shapeItems' a_shapeLines' a_lastNumbers' a_wordLines' a_nodeItem' a_below' a_beside' a_endsHere' hk c1 c2 c3
    obtain ⟨r1, r2, r3⟩ := hRe k (by omega)
    have hl : g + k < n := by omega
    have ht := pz_Ct hC hl
    refine pk_le kept k (fun c => absurd c (by omega)) (fun _ => And.intro (vp_in_nI (by omega) (by decide)) (nm_r (e' := nI (z (g + k))) (by rw [nI_clamp (by omega)]; exact r1) ⟨z (g + k) + 1, xw_e151 c1 c2 (by omega) (pz_Cz hC hl) (fun i hi => by rw [r3 i hi]; exact pz_Ci hC hl hi) (by rw [r2]; exact ht) (fun l hl2 => ?_) (fun E' s f_shapes'' f_nodes'' a_shapeOf'' a_begins'' a_bytes'' a_shapeLength'' a_shapeItems'' a_shapeLines'' a_lastNumbers'' a_wordLines'' a_nodeItem'' a_below'' a_beside'' a_endsHere'' hE d1 d2 => ?_) (z (g + k)) 0 E (by omega) (fun j hj => absurd hj (Nat.not_lt_zero j))⟩))
    · rw [r2, pz_sh_lt hl2]
      exact pz_Cm hC (by omega) hl
    · rw [r2, pz_sh_s] at d1
      rw [r2, pz_sh_s]
      refine ih (k + 1) _ E' _ _ _ _ _ _ _ _ _ _ _ _ _ _ _ _ _ (by omega) d1 d2 (fun q hq => ?_)
      by_cases e : q = k
      · subst e
        rw [pz_ext_s, pz_ext_s]
        exact ⟨rfl, fun i hi => (hE i hi).trans (r3 i hi)⟩
      · rw [pz_ext_n e, pz_ext_n e]
        exact c3 q (by omega)
theorem xw_e22 {post : Int32 → SX → Prop} (hC : pz_C n z it T S) (hO : pz_So n S a_shapeOf) (hL : pz_Sl n z it S a_shapeLength a_shapeItems) (hN : pz_Nm n z it S P a_begins a_bytes) (hg : g + kept = n) (hdc : dc ≤ 8) (h : ∀ (fr : Int32) (R N Re RL RT E : Nat → Int32) (z' : Nat → Nat) (it' : Nat → Nat → Int32) (S' : Nat → Nat) (f_shapes' f_nodes' : Int32) (a_shapeOf' a_begins' a_bytes' a_shapeLength' a_shapeItems' : Nat → Int32) (a_shapeLines' : Nat → Int64) (a_lastNumbers' : Nat → Int32) (a_wordLines' : Nat → Int64) (a_nodeItem' a_below' a_beside' a_endsHere' : Nat → Int32), pz_C kept z' it' (pz_sh T g kept) S' → pz_X kept z' it' S' f_shapes' f_nodes' a_shapeOf' a_begins' a_bytes' a_shapeLength' a_shapeItems' a_shapeLines' a_lastNumbers' a_wordLines' a_nodeItem' a_below' a_beside' a_endsHere' → (∀ q, q < kept → z' q = z (g + q) ∧ ∀ i, i < z (g + q) → it' q i = it (g + q) i) → (∀ i, i < dc → E i = D i) → post (nI g) (nI dc, f_partCount, nI kept, f_shapes', f_nodes', 0, f_fits, fr, E, a_parts, pz_sh T g kept, a_shapeOf', a_begins', a_bytes', a_shapeLength', a_shapeItems', a_shapeLines', a_lastNumbers', a_wordLines', a_nodeItem', a_below', a_beside', a_endsHere', R, N, Re, RL, RT)) : ∀ d k (fr : Int32) (R N Re RL RT : Nat → Int32), k + d = kept → pz_Re g k z it T Re RL RT → wX_expire_22 post (nI g) (nI kept) (d + 1) (nI k) (nI dc) f_partCount (nI n) f_shapes f_nodes f_isFitted f_fits fr D a_parts T a_shapeOf a_begins a_bytes a_shapeLength a_shapeItems a_shapeLines a_lastNumbers a_wordLines a_nodeItem a_below a_beside a_endsHere R N Re RL RT := by
  have hn := pz_Cn hC
  intro d
  induction d with
  | zero =>
    intro k fr R N Re RL RT hk hR
    have e : k = kept := by omega
    subst e
    refine pk_le k k (fun _ => xw_keepDraft hdc (fun R' hR' => xw_empty (fun _ _ _ _ _ _ _ _ hX => ⟨k + 1, ?_⟩))) (fun c => absurd c (by omega))
    have K := xw_e131 (post := post) (D := D) hC hg hdc hR (pk_us : upd N 0 (nI dc) 0 = nI dc) hR' (h fr R' _ Re RL RT) k 0 (nI dc) D z it S _ _ _ _ _ _ _ _ _ _ _ _ _ _ (by omega) (pz_C_0 z it _ S) (hX z it S) (fun q hq => absurd hq (Nat.not_lt_zero q))
    rw [pz_sh_0] at K
    exact K
  | succ d ih =>
    intro k fr R N Re RL RT hk hR
    have hl : g + k < n := by omega
    have cl : (nI (g + k)).toNatClampNeg = g + k := nI_clamp (by omega)
    have hs := pz_Cs hC hl
    refine pk_le kept k (fun c => absurd c (by omega)) (fun _ => ?_)
    rw [nI_add g k]
    refine xw_readLine hC hO hL hN hl (fun fr' R' N' hR' => And.intro (vp_in_nI (by omega) (by decide)) (And.intro ?_ (And.intro (vp_in_nI (by omega) (by decide)) (nm_r (e' := upd RL k (nI (z (g + k)))) ?_ (And.intro (vp_in_nI (by omega) (by decide)) (And.intro (vp_in_nI (by omega) (by decide)) (nm_r (e' := upd RT k (T (g + k))) ?_ ⟨z (g + k) + 1, xw_e76 (zl := z (g + k)) (by omega) (pz_Cz hC hl).2 pk_us (fun Re' h1 h2 => ih (k + 1) fr' R' N' Re' _ _ (by omega) (fun q hq => ?_)) (z (g + k)) 0 Re (by omega) (fun _ _ => rfl) (fun t ht => absurd ht (Nat.not_lt_zero t))⟩)))))))
    · rw [cl, hO _ hl]; exact vp_in_nI hs (by decide)
    · rw [cl, hO _ hl, nI_clamp (by omega), nI_clamp (by omega), (hL _ hl).1]
    · rw [cl, nI_clamp (by omega)]
    · by_cases e : q = k
      · subst e
        rw [pk_us, pk_us]
        exact ⟨rfl, rfl, fun i hi => (h2 i hi).trans (hR' i hi)⟩
      · rw [pk_un e, pk_un e]
        obtain ⟨a, b, c⟩ := hR q (by omega)
        refine ⟨a, b, fun i hi => ?_⟩
        have hz := pz_Cz hC (show g + q < n by omega)
        rw [h1 _ (by omega)]
        exact c i hi
theorem xw_expire {post : Int32 → SX → Prop} {t : Int32} (hC : pz_C n z it T S) (hX : pz_X n z it S f_shapes f_nodes a_shapeOf a_begins a_bytes a_shapeLength a_shapeItems a_shapeLines a_lastNumbers a_wordLines a_nodeItem a_below a_beside a_endsHere) (hdc : dc ≤ 8) (h0 : pz_cb T n t = 0 → post 0 (nI dc, f_partCount, nI n, f_shapes, f_nodes, f_isFitted, f_fits, f_from, D, a_parts, T, a_shapeOf, a_begins, a_bytes, a_shapeLength, a_shapeItems, a_shapeLines, a_lastNumbers, a_wordLines, a_nodeItem, a_below, a_beside, a_endsHere, a_read, a_numbers, a_rest, a_restLength, a_restTime)) (h : ∀ (fr : Int32) (R N Re RL RT E : Nat → Int32) (z' : Nat → Nat) (it' : Nat → Nat → Int32) (S' : Nat → Nat) (f_shapes' f_nodes' : Int32) (a_shapeOf' a_begins' a_bytes' a_shapeLength' a_shapeItems' : Nat → Int32) (a_shapeLines' : Nat → Int64) (a_lastNumbers' : Nat → Int32) (a_wordLines' : Nat → Int64) (a_nodeItem' a_below' a_beside' a_endsHere' : Nat → Int32), pz_C (n - pz_cb T n t) z' it' (pz_sh T (pz_cb T n t) (n - pz_cb T n t)) S' → pz_X (n - pz_cb T n t) z' it' S' f_shapes' f_nodes' a_shapeOf' a_begins' a_bytes' a_shapeLength' a_shapeItems' a_shapeLines' a_lastNumbers' a_wordLines' a_nodeItem' a_below' a_beside' a_endsHere' → (∀ q, q < n - pz_cb T n t → z' q = z (pz_cb T n t + q) ∧ ∀ i, i < z (pz_cb T n t + q) → it' q i = it (pz_cb T n t + q) i) → (∀ i, i < dc → E i = D i) → post (nI (pz_cb T n t)) (nI dc, f_partCount, nI (n - pz_cb T n t), f_shapes', f_nodes', 0, f_fits, fr, E, a_parts, pz_sh T (pz_cb T n t) (n - pz_cb T n t), a_shapeOf', a_begins', a_bytes', a_shapeLength', a_shapeItems', a_shapeLines', a_lastNumbers', a_wordLines', a_nodeItem', a_below', a_beside', a_endsHere', R, N, Re, RL, RT)) : wpX_expire post (nI dc, f_partCount, nI n, f_shapes, f_nodes, f_isFitted, f_fits, f_from, D, a_parts, T, a_shapeOf, a_begins, a_bytes, a_shapeLength, a_shapeItems, a_shapeLines, a_lastNumbers, a_wordLines, a_nodeItem, a_below, a_beside, a_endsHere, a_read, a_numbers, a_rest, a_restLength, a_restTime) t := by
  obtain ⟨x1, x2, x3, x4, x5, ⟨P, x6⟩, x7, x8⟩ := hX
  have hn := pz_Cn hC
  have hle := pz_cb_le T n t
  refine xw_countBelow hC (pk_eq (pz_cb T n t) 0 h0 (fun hne => nm_r (pk_sub hle) ⟨n - pz_cb T n t + 1, xw_e22 hC x2 x3 x6 (by omega) hdc h (n - pz_cb T n t) 0 f_from a_read a_numbers a_rest a_restLength a_restTime (by omega) (fun q hq => absurd hq (Nat.not_lt_zero q))⟩))
end
end
section
/-! X: groups, members, largest -/
def pz_sz (S : Nat → Nat) (n s : Nat) : Nat := pz_cnt (fun j => decide (S j = s)) n
def pz_rk (S : Nat → Nat) (n s : Nat) : Nat := pz_cnt (fun o => decide (pz_sz S n s < pz_sz S n o) || (decide (pz_sz S n o = pz_sz S n s) && decide (o < s))) (pz_mm S n)
section
variable {n m : Nat} {z : Nat → Nat} {it : Nat → Nat → Int32} {T : Nat → Int32} {S : Nat → Nat} {lines : Nat → Int64}
theorem pz_Bs_find (hB : pz_Bs n m S lines) (hn : n ≤ 60) {l : Nat} (hl : l < n) (hs : S l < m) : pz_find (pz_b (lines (S l))) 60 = pz_fo S l := by
  have h1 := (pz_fo_s (S := S) (l := l)).1
  rw [pz_find_ext (q := fun j => decide (S j = S l)) hn (fun j hj => ?_) (fun j h1 h2 => ?_), pz_fo_n hl, if_pos (by omega)]
  · rw [hB _ hs j (by omega), decide_eq_true hj, Bool.true_and]
  · rw [hB _ hs j (by omega), decide_eq_false (by omega), Bool.false_and]
theorem pz_Bs_cnt (hB : pz_Bs n m S lines) (hn : n ≤ 60) {s : Nat} (hs : s < m) : pz_cnt (pz_b (lines s)) 60 = pz_sz S n s := by
  refine pz_cnt_ext hn (fun j hj => ?_) (fun j h1 h2 => ?_)
  · rw [hB _ hs j (by omega), decide_eq_true hj, Bool.true_and]
  · rw [hB _ hs j (by omega), decide_eq_false (by omega), Bool.false_and]
end
section
variable {f_draftCount f_partCount f_lines f_shapes f_nodes f_isFitted f_from : Int32} {f_fits : Int64} {a_draft a_parts a_times a_shapeOf a_begins a_bytes a_shapeLength a_shapeItems a_lastNumbers a_nodeItem a_below a_beside a_endsHere a_read a_numbers a_rest a_restLength a_restTime : Nat → Int32} {a_shapeLines a_wordLines : Nat → Int64}
variable {n : Nat} {z : Nat → Nat} {it : Nat → Nat → Int32} {T : Nat → Int32} {S : Nat → Nat}
theorem xw_firstOf {post : Int32 → Prop} {l : Nat} (hC : pz_C n z it T S) (hB : pz_Bs n (pz_mm S n) S a_shapeLines) (hl : l < n) (h : post (nI (pz_fo S l))) : wpX_firstOf post (f_draftCount, f_partCount, f_lines, f_shapes, f_nodes, f_isFitted, f_fits, f_from, a_draft, a_parts, a_times, a_shapeOf, a_begins, a_bytes, a_shapeLength, a_shapeItems, a_shapeLines, a_lastNumbers, a_wordLines, a_nodeItem, a_below, a_beside, a_endsHere, a_read, a_numbers, a_rest, a_restLength, a_restTime) (nI (S l)) := by
  have hs := pz_Cs hC hl
  refine And.intro (vp_in_nI hs (by decide)) (xw_lowest ?_)
  rw [nI_clamp (by omega), pz_Bs_find hB (pz_Cn hC) hl (pz_mm_lt hl)]
  exact h
theorem xw_group_y {post : Int32 → Prop} {l : Nat} (hC : pz_C n z it T S) (hO : pz_So n S a_shapeOf) (hB : pz_Bs n (pz_mm S n) S a_shapeLines) (hl : l < n) (h : post (nI (pz_fo S l))) : wpX_group post (f_draftCount, f_partCount, nI n, f_shapes, f_nodes, f_isFitted, f_fits, f_from, a_draft, a_parts, a_times, a_shapeOf, a_begins, a_bytes, a_shapeLength, a_shapeItems, a_shapeLines, a_lastNumbers, a_wordLines, a_nodeItem, a_below, a_beside, a_endsHere, a_read, a_numbers, a_rest, a_restLength, a_restTime) (nI l) := by
  have hn := pz_Cn hC
  unfold wpX_group
  refine xw_isLine_y hn hl (br_f pz_10 (And.intro (vp_in_nI (by omega) (by decide)) ?_))
  rw [nI_clamp (by omega), hO l hl]
  exact xw_firstOf hC hB hl h
theorem xw_members_y {post : Int32 → Prop} {l : Nat} (hC : pz_C n z it T S) (hO : pz_So n S a_shapeOf) (hB : pz_Bs n (pz_mm S n) S a_shapeLines) (hl : l < n) (h : post (nI (pz_sz S n (S l)))) : wpX_members post (f_draftCount, f_partCount, nI n, f_shapes, f_nodes, f_isFitted, f_fits, f_from, a_draft, a_parts, a_times, a_shapeOf, a_begins, a_bytes, a_shapeLength, a_shapeItems, a_shapeLines, a_lastNumbers, a_wordLines, a_nodeItem, a_below, a_beside, a_endsHere, a_read, a_numbers, a_rest, a_restLength, a_restTime) (nI l) := by
  have hn := pz_Cn hC
  have hs := pz_Cs hC hl
  unfold wpX_members
  refine xw_isLine_y hn hl (br_f pz_10 (And.intro (vp_in_nI (by omega) (by decide)) ?_))
  rw [nI_clamp (by omega), hO l hl]
  refine And.intro (vp_in_nI hs (by decide)) (xw_ones ?_)
  rw [nI_clamp (by omega), pz_Bs_cnt hB hn (pz_mm_lt hl)]
  exact h
theorem pz_sz_le (S : Nat → Nat) (n s : Nat) : pz_sz S n s ≤ n := pz_cnt_le _ n
theorem xw_rank15 {post : Int32 → Prop} {s : Nat} (hC : pz_C n z it T S) (hB : pz_Bs n (pz_mm S n) S a_shapeLines) (hs : s < 60) (h : post (nI (pz_rk S n s))) : ∀ d k, k + d = pz_mm S n → wX_rankOf_15 post (nI s) (nI (pz_sz S n s)) f_draftCount f_partCount f_lines (nI (pz_mm S n)) f_nodes f_isFitted f_fits f_from a_draft a_parts a_times a_shapeOf a_begins a_bytes a_shapeLength a_shapeItems a_shapeLines a_lastNumbers a_wordLines a_nodeItem a_below a_beside a_endsHere a_read a_numbers a_rest a_restLength a_restTime (d + 1) (nI (pz_cnt (fun o => decide (pz_sz S n s < pz_sz S n o) || (decide (pz_sz S n o = pz_sz S n s) && decide (o < s))) k)) (nI k) := by
  have hn := pz_Cn hC
  have hmm := pz_Cmm hC
  have h1 := pz_sz_le S n s
  intro d
  induction d with
  | zero =>
    intro k hk
    have e : k = pz_mm S n := by omega
    rw [e]
    exact pk_le (pz_mm S n) (pz_mm S n) (fun _ => h) (fun c => absurd c (by omega))
  | succ d ih =>
    intro k hk
    have h2 := pz_sz_le S n k
    have K := ih (k + 1) (by omega)
    refine pk_le (pz_mm S n) k (fun c => absurd c (by omega)) (fun _ => And.intro (vp_in_nI (by omega) (by decide)) (xw_ones ?_))
    rw [nI_clamp (by omega), pz_Bs_cnt hB hn (by omega)]
    refine pk_lt (pz_sz S n s) (pz_sz S n k) (fun c => nm_r (nI_1 _) (nm_r (nI_1 k) ?_)) (fun c => pk_eq (pz_sz S n k) (pz_sz S n s) (fun e => pk_le s k (fun f => nm_r (Int32.add_zero _) (nm_r (nI_1 k) ?_)) (fun f => nm_r (nI_1 _) (nm_r (nI_1 k) ?_))) (fun e => nm_r (Int32.add_zero _) (nm_r (nI_1 k) ?_)))
    · rw [pz_cnt_t (by rw [decide_eq_true c]; rfl)] at K
      exact K
    · rw [pz_cnt_f (by rw [decide_eq_false (show ¬ pz_sz S n s < pz_sz S n k by omega), decide_eq_false (show ¬ k < s by omega)]; simp)] at K
      exact K
    · rw [pz_cnt_t (by rw [decide_eq_true e, decide_eq_true f]; simp)] at K
      exact K
    · rw [pz_cnt_f (by rw [decide_eq_false (show ¬ pz_sz S n s < pz_sz S n k by omega), decide_eq_false e]; rfl)] at K
      exact K
theorem xw_rankOf {post : Int32 → Prop} {s : Nat} (hC : pz_C n z it T S) (hB : pz_Bs n (pz_mm S n) S a_shapeLines) (hs : s < pz_mm S n) (h : post (nI (pz_rk S n s))) : wpX_rankOf post (f_draftCount, f_partCount, f_lines, nI (pz_mm S n), f_nodes, f_isFitted, f_fits, f_from, a_draft, a_parts, a_times, a_shapeOf, a_begins, a_bytes, a_shapeLength, a_shapeItems, a_shapeLines, a_lastNumbers, a_wordLines, a_nodeItem, a_below, a_beside, a_endsHere, a_read, a_numbers, a_rest, a_restLength, a_restTime) (nI s) := by
  have hn := pz_Cn hC
  have hmm := pz_Cmm hC
  refine And.intro (vp_in_nI (by omega) (by decide)) (xw_ones ?_)
  rw [nI_clamp (by omega), pz_Bs_cnt hB hn hs]
  exact ⟨pz_mm S n + 1, xw_rank15 hC hB (by omega) h (pz_mm S n) 0 (by omega)⟩
theorem xw_largest2 {post : Int32 → Prop} {v : Int32} (hC : pz_C n z it T S) (hB : pz_Bs n (pz_mm S n) S a_shapeLines) (h1 : pz_find (fun s => decide (nI (pz_rk S n s) = v)) (pz_mm S n) < pz_mm S n → post (nI (pz_find (fun j => decide (S j = pz_find (fun s => decide (nI (pz_rk S n s) = v)) (pz_mm S n))) n))) (h0 : pz_find (fun s => decide (nI (pz_rk S n s) = v)) (pz_mm S n) = pz_mm S n → post (-2)) : ∀ d k, k + d = pz_mm S n → (∀ s, s < k → nI (pz_rk S n s) ≠ v) → wX_largest_2 post v f_draftCount f_partCount f_lines (nI (pz_mm S n)) f_nodes f_isFitted f_fits f_from a_draft a_parts a_times a_shapeOf a_begins a_bytes a_shapeLength a_shapeItems a_shapeLines a_lastNumbers a_wordLines a_nodeItem a_below a_beside a_endsHere a_read a_numbers a_rest a_restLength a_restTime (d + 1) (nI k) := by
  have hn := pz_Cn hC
  have hmm := pz_Cmm hC
  intro d
  induction d with
  | zero =>
    intro k hk hq
    have e : k = pz_mm S n := by omega
    rw [e]
    refine pk_le (pz_mm S n) (pz_mm S n) (fun _ => h0 (pz_find_eq (Nat.le_refl _) (fun j hj => decide_eq_false (hq j (by omega))) (fun c => absurd c (Nat.lt_irrefl _)))) (fun c => absurd c (by omega))
  | succ d ih =>
    intro k hk hq
    have hk' : k < pz_mm S n := by omega
    refine pk_le (pz_mm S n) k (fun c => absurd c (by omega)) (fun _ => xw_rankOf hC hB hk' (br_c (fun a => ?_) (fun a => nm_r (nI_1 k) (ih (k + 1) (by omega) (fun s hs => ?_)))))
    · have e : pz_find (fun s => decide (nI (pz_rk S n s) = v)) (pz_mm S n) = k := pz_find_eq (by omega) (fun j hj => decide_eq_false (hq j hj)) (fun _ => decide_eq_true a)
      rw [e] at h1
      obtain ⟨l, hl, el⟩ := pz_mm_sur n (pz_Cq hC) k hk'
      have K := h1 hk'
      rw [← el, pz_fo_n hl] at K
      rw [← el]
      exact xw_firstOf hC hB hl K
    · by_cases e : s = k
      · rw [e]; exact a
      · exact hq s (by omega)
theorem xw_largest {post : Int32 → Prop} {v : Int32} (hC : pz_C n z it T S) (hB : pz_Bs n (pz_mm S n) S a_shapeLines) (h1 : pz_find (fun s => decide (nI (pz_rk S n s) = v)) (pz_mm S n) < pz_mm S n → post (nI (pz_find (fun j => decide (S j = pz_find (fun s => decide (nI (pz_rk S n s) = v)) (pz_mm S n))) n))) (h0 : pz_find (fun s => decide (nI (pz_rk S n s) = v)) (pz_mm S n) = pz_mm S n → post (-2)) : wpX_largest post (f_draftCount, f_partCount, f_lines, nI (pz_mm S n), f_nodes, f_isFitted, f_fits, f_from, a_draft, a_parts, a_times, a_shapeOf, a_begins, a_bytes, a_shapeLength, a_shapeItems, a_shapeLines, a_lastNumbers, a_wordLines, a_nodeItem, a_below, a_beside, a_endsHere, a_read, a_numbers, a_rest, a_restLength, a_restTime) v :=
  ⟨pz_mm S n + 1, xw_largest2 hC hB h1 h0 (pz_mm S n) 0 (by omega) (fun s hs => absurd hs (Nat.not_lt_zero s))⟩
end
end
section
/-! X: columns and having -/
def pz_lo' (S : Nat → Nat) (it : Nat → Nat → Int32) (s i : Nat) : Nat → Int32
  | 0 => 1000
  | l + 1 => if S l = s then (if pz_lo' S it s i l ≤ it l i - 1000 then pz_lo' S it s i l else it l i - 1000) else pz_lo' S it s i l
def pz_hi' (S : Nat → Nat) (it : Nat → Nat → Int32) (s i : Nat) : Nat → Int32
  | 0 => -1
  | l + 1 => if S l = s then (if it l i - 1000 ≤ pz_hi' S it s i l then pz_hi' S it s i l else it l i - 1000) else pz_hi' S it s i l
def pz_su' (S : Nat → Nat) (it : Nat → Nat → Int32) (s i : Nat) : Nat → Int32
  | 0 => 0
  | l + 1 => if S l = s then pz_su' S it s i l + (it l i - 1000) else pz_su' S it s i l
def pz_isn (S : Nat → Nat) (it : Nat → Nat → Int32) (i l : Nat) : Bool := !pz_ex (fun j => decide (S j = S l) && decide (it j i = it l i)) l
/-! a row that stays in order -/
def pz_so (R : Nat → Int32) (c : Nat) : Prop := ∀ a b, a < b → b < c → (R a).toInt < (R b).toInt
theorem pz_has_t {f : Nat → Int32} {k : Nat} {x : Int32} : pz_has f k x = true ↔ ∃ t, t < k ∧ f t = x := by
  unfold pz_has
  rw [pz_ex_t]
  constructor
  · rintro ⟨t, h1, h2⟩; exact ⟨t, h1, of_decide_eq_true h2⟩
  · rintro ⟨t, h1, h2⟩; exact ⟨t, h1, decide_eq_true h2⟩
theorem pz_has_f {f : Nat → Int32} {k : Nat} {x : Int32} : pz_has f k x = false ↔ ∀ t, t < k → f t ≠ x := by
  constructor
  · intro h t ht e
    rw [pz_has_t.mpr ⟨t, ht, e⟩] at h
    exact absurd h (by decide)
  · intro h
    apply ts_nt
    intro k
    obtain ⟨t, h1, h2⟩ := pz_has_t.mp k
    exact h t h1 h2
theorem pz_ins {R R' : Nat → Int32} {c k : Nat} {v : Int32} (hs : pz_so R c) (hk : k ≤ c) (h1 : ∀ j, j < k → (R j).toInt < v.toInt) (h2 : ∀ j, k ≤ j → j < c → v.toInt < (R j).toInt) (r1 : ∀ t, t < k → R' t = R t) (r2 : R' k = v) (r3 : ∀ t, k < t → t ≤ c → R' t = R (t - 1)) : pz_so R' (c + 1) ∧ pz_has R c v = false ∧ ∀ w, pz_has R' (c + 1) w = (pz_has R c w || decide (w = v)) := by
  refine ⟨fun a b hab hb => ?_, ?_, fun w => ?_⟩
  · rcases Nat.lt_trichotomy a k with ha | ha | ha
    · rw [r1 a ha]
      rcases Nat.lt_trichotomy b k with hb' | hb' | hb'
      · rw [r1 b hb']; exact hs a b hab (by omega)
      · rw [hb', r2]; exact h1 a ha
      · rw [r3 b hb' (by omega)]
        by_cases e : a = b - 1
        · omega
        · exact hs a (b - 1) (by omega) (by omega)
    · rw [ha, r2, r3 b (by omega) (by omega)]
      exact h2 (b - 1) (by omega) (by omega)
    · rw [r3 a ha (by omega), r3 b (by omega) (by omega)]
      exact hs (a - 1) (b - 1) (by omega) (by omega)
  · rw [pz_has_f]
    intro t ht e
    by_cases c1 : t < k
    · have := h1 t c1
      rw [e] at this; omega
    · have := h2 t (by omega) ht
      rw [e] at this; omega
  · cases e : pz_has R c w with
    | true =>
      obtain ⟨t, ht, et⟩ := pz_has_t.mp e
      rw [Bool.true_or, pz_has_t]
      by_cases c1 : t < k
      · exact ⟨t, by omega, by rw [r1 t c1]; exact et⟩
      · exact ⟨t + 1, by omega, by rw [r3 (t + 1) (by omega) (by omega)]; exact et⟩
    | false =>
      rw [Bool.false_or]
      rw [pz_has_f] at e
      by_cases d : w = v
      · rw [decide_eq_true d, pz_has_t]
        exact ⟨k, by omega, by rw [r2, d]⟩
      · rw [decide_eq_false d, pz_has_f]
        intro t ht
        rcases Nat.lt_trichotomy t k with h | h | h
        · rw [r1 t h]; exact e t (by omega)
        · rw [h, r2]; exact fun q => d q.symm
        · rw [r3 t h (by omega)]; exact e (t - 1) (by omega)
section
variable {f_draftCount f_partCount f_lines f_shapes f_nodes f_isFitted f_from : Int32} {f_fits : Int64} {a_draft a_parts a_times a_shapeOf a_begins a_bytes a_shapeLength a_shapeItems a_lastNumbers a_nodeItem a_below a_beside a_endsHere a_read a_numbers a_rest a_restLength a_restTime : Nat → Int32} {a_shapeLines a_wordLines : Nat → Int64}
variable {n : Nat} {z : Nat → Nat} {it : Nat → Nat → Int32} {T : Nat → Int32} {S : Nat → Nat} {P : Nat → Nat → Nat}
theorem xw_ins44 {post : Int32 → SX → Prop} {c k : Nat} {v : Int32} (hc : c < 480) (hk : k ≤ c) (h : ∀ R' : Nat → Int32, (∀ t, t < k → R' t = a_rest t) → R' k = v → (∀ t, k < t → t ≤ c → R' t = a_rest (t - 1)) → post (nI (c + 1)) (f_draftCount, f_partCount, f_lines, f_shapes, f_nodes, f_isFitted, f_fits, f_from, a_draft, a_parts, a_times, a_shapeOf, a_begins, a_bytes, a_shapeLength, a_shapeItems, a_shapeLines, a_lastNumbers, a_wordLines, a_nodeItem, a_below, a_beside, a_endsHere, a_read, a_numbers, R', a_restLength, a_restTime)) : ∀ d (R : Nat → Int32), k + d ≤ c → (∀ t, t < k + d → R t = a_rest t) → (∀ t, k + d < t → t ≤ c → R t = a_rest (t - 1)) → wX_insert_44 post (nI c) v (nI k) f_draftCount f_partCount f_lines f_shapes f_nodes f_isFitted f_fits f_from (d + 1) (nI (k + d)) a_draft a_parts a_times a_shapeOf a_begins a_bytes a_shapeLength a_shapeItems a_shapeLines a_lastNumbers a_wordLines a_nodeItem a_below a_beside a_endsHere a_read a_numbers R a_restLength a_restTime := by
  intro d
  induction d with
  | zero =>
    intro R hd h1 h2
    refine pk_le (k + 0) k (fun _ => And.intro (vp_in_nI (by omega) (by decide)) (nm_r (e' := upd R k v) (by rw [nI_clamp (by omega)]) ?_)) (fun c => absurd c (by omega))
    rw [nI_1]
    exact h _ (fun t ht => by rw [pk_un (by omega)]; exact h1 t (by omega)) pk_us (fun t t1 t2 => by rw [pk_un (by omega)]; exact h2 t (by omega) t2)
  | succ d ih =>
    intro R hd h1 h2
    have e1 : nI (k + (d + 1)) - 1 = nI (k + d) := nI_pred (k + d)
    have e2 : nI (k + (d + 1)) + (-1) = nI (k + d) := pk_m1 (k + d)
    refine pk_le (k + (d + 1)) k (fun c => absurd c (by omega)) (fun _ => And.intro (by rw [e1]; exact vp_in_nI (by omega) (by decide)) (And.intro (vp_in_nI (by omega) (by decide)) (nm_r (e' := upd R (k + (d + 1)) (a_rest (k + d))) ?_ (nm_r e2 (ih _ (by omega) ?_ ?_)))))
    · rw [e1, nI_clamp (by omega), nI_clamp (by omega), h1 (k + d) (by omega)]
    · intro t ht
      rw [pk_un (by omega)]; exact h1 t (by omega)
    · intro t t1 t2
      by_cases e : t = k + (d + 1)
      · rw [e, pk_us]; rfl
      · rw [pk_un e]; exact h2 t (by omega) t2
theorem xw_ins24 {post : Int32 → SX → Prop} {c k : Nat} {v : Int32} (hc : c < 480) (hk : k ≤ c) (hs : pz_so a_rest c) (h1 : ∀ j, j < k → (a_rest j).toInt < v.toInt) (h2 : ∀ j, k ≤ j → j < c → v.toInt ≤ (a_rest j).toInt) (hy : pz_has a_rest c v = true → post (nI c) (f_draftCount, f_partCount, f_lines, f_shapes, f_nodes, f_isFitted, f_fits, f_from, a_draft, a_parts, a_times, a_shapeOf, a_begins, a_bytes, a_shapeLength, a_shapeItems, a_shapeLines, a_lastNumbers, a_wordLines, a_nodeItem, a_below, a_beside, a_endsHere, a_read, a_numbers, a_rest, a_restLength, a_restTime)) (hn : pz_has a_rest c v = false → ∀ R' : Nat → Int32, pz_so R' (c + 1) → (∀ w, pz_has R' (c + 1) w = (pz_has a_rest c w || decide (w = v))) → post (nI (c + 1)) (f_draftCount, f_partCount, f_lines, f_shapes, f_nodes, f_isFitted, f_fits, f_from, a_draft, a_parts, a_times, a_shapeOf, a_begins, a_bytes, a_shapeLength, a_shapeItems, a_shapeLines, a_lastNumbers, a_wordLines, a_nodeItem, a_below, a_beside, a_endsHere, a_read, a_numbers, R', a_restLength, a_restTime)) : wX_insert_24 post (nI c) v (nI k) f_draftCount f_partCount f_lines f_shapes f_nodes f_isFitted f_fits f_from a_draft a_parts a_times a_shapeOf a_begins a_bytes a_shapeLength a_shapeItems a_shapeLines a_lastNumbers a_wordLines a_nodeItem a_below a_beside a_endsHere a_read a_numbers a_rest a_restLength a_restTime := by
  have hc2 : k + (c - k) = c := by omega
  have K : (∀ j, k ≤ j → j < c → v.toInt < (a_rest j).toInt) → wX_insert_44 post (nI c) v (nI k) f_draftCount f_partCount f_lines f_shapes f_nodes f_isFitted f_fits f_from (c - k + 1) (nI c) a_draft a_parts a_times a_shapeOf a_begins a_bytes a_shapeLength a_shapeItems a_shapeLines a_lastNumbers a_wordLines a_nodeItem a_below a_beside a_endsHere a_read a_numbers a_rest a_restLength a_restTime := by
    intro h3
    have k1 := xw_ins44 (post := post) (v := v) hc hk (fun R' r1 r2 r3 => by
      obtain ⟨a, b, d⟩ := pz_ins hs hk h1 h3 r1 r2 r3
      exact hn b R' a d) (c - k) a_rest (by omega) (fun _ _ => rfl) (fun t t1 t2 => absurd t2 (by omega))
    rw [hc2] at k1
    exact k1
  refine pk_le c k (fun e => ⟨_, K (fun j j1 j2 => absurd j2 (by omega))⟩) (fun e => And.intro (vp_in_nI (by omega) (by decide)) (br_c (fun a => ?_) (fun a => ⟨_, K (fun j j1 j2 => ?_)⟩)))
  · rw [nI_clamp (by omega)] at a
    exact hy (pz_has_t.mpr ⟨k, e, a⟩)
  · rw [nI_clamp (by omega)] at a
    by_cases f : j = k
    · have := h2 j j1 j2
      rw [f] at this ⊢
      have q : (a_rest k).toInt ≠ v.toInt := fun w => a (Int32.toInt_inj.mp w)
      omega
    · have := h2 k (Nat.le_refl k) e
      have := hs k j (by omega) j2
      omega
theorem xw_ins2 {post : Int32 → SX → Prop} {c : Nat} {v : Int32} (hc : c < 480) (hs : pz_so a_rest c) (hy : pz_has a_rest c v = true → post (nI c) (f_draftCount, f_partCount, f_lines, f_shapes, f_nodes, f_isFitted, f_fits, f_from, a_draft, a_parts, a_times, a_shapeOf, a_begins, a_bytes, a_shapeLength, a_shapeItems, a_shapeLines, a_lastNumbers, a_wordLines, a_nodeItem, a_below, a_beside, a_endsHere, a_read, a_numbers, a_rest, a_restLength, a_restTime)) (hn : pz_has a_rest c v = false → ∀ R' : Nat → Int32, pz_so R' (c + 1) → (∀ w, pz_has R' (c + 1) w = (pz_has a_rest c w || decide (w = v))) → post (nI (c + 1)) (f_draftCount, f_partCount, f_lines, f_shapes, f_nodes, f_isFitted, f_fits, f_from, a_draft, a_parts, a_times, a_shapeOf, a_begins, a_bytes, a_shapeLength, a_shapeItems, a_shapeLines, a_lastNumbers, a_wordLines, a_nodeItem, a_below, a_beside, a_endsHere, a_read, a_numbers, R', a_restLength, a_restTime)) : ∀ k, k ≤ c → (∀ j, k ≤ j → j < c → v.toInt ≤ (a_rest j).toInt) → wX_insert_2 post (nI c) v f_draftCount f_partCount f_lines f_shapes f_nodes f_isFitted f_fits f_from a_draft a_parts a_times a_shapeOf a_begins a_bytes a_shapeLength a_shapeItems a_shapeLines a_lastNumbers a_wordLines a_nodeItem a_below a_beside a_endsHere a_read a_numbers a_rest a_restLength a_restTime (k + 1) (nI k) := by
  intro k
  induction k with
  | zero =>
    intro hk h2
    exact br_t (by decide) (xw_ins24 (k := 0) hc hk hs (fun j hj => absurd hj (Nat.not_lt_zero j)) h2 hy hn)
  | succ k ih =>
    intro hk h2
    have e1 : nI (k + 1) - 1 = nI k := nI_pred k
    have ck : (nI (k + 1) - 1).toNatClampNeg = k := by rw [e1]; exact nI_clamp (by omega)
    refine br_f (nI_nle (by omega) (by omega)) (And.intro (by rw [e1]; exact vp_in_nI (by omega) (by decide)) (br_c (fun a => xw_ins24 hc hk hs (fun j hj => ?_) h2 hy hn) (fun a => nm_r (pk_m1 k) (ih (by omega) (fun j j1 j2 => ?_)))))
    · rw [ck, pz_ilt] at a
      by_cases e : j = k
      · rw [e]; exact a
      · have := hs j k (by omega) (by omega)
        omega
    · rw [ck, pz_ilt] at a
      by_cases e : j = k
      · rw [e]; omega
      · exact h2 j (by omega) j2
theorem xw_insert {post : Int32 → SX → Prop} {c : Nat} {v : Int32} (hc : c < 480) (hs : pz_so a_rest c) (hy : pz_has a_rest c v = true → post (nI c) (f_draftCount, f_partCount, f_lines, f_shapes, f_nodes, f_isFitted, f_fits, f_from, a_draft, a_parts, a_times, a_shapeOf, a_begins, a_bytes, a_shapeLength, a_shapeItems, a_shapeLines, a_lastNumbers, a_wordLines, a_nodeItem, a_below, a_beside, a_endsHere, a_read, a_numbers, a_rest, a_restLength, a_restTime)) (hn : pz_has a_rest c v = false → ∀ R' : Nat → Int32, pz_so R' (c + 1) → (∀ w, pz_has R' (c + 1) w = (pz_has a_rest c w || decide (w = v))) → post (nI (c + 1)) (f_draftCount, f_partCount, f_lines, f_shapes, f_nodes, f_isFitted, f_fits, f_from, a_draft, a_parts, a_times, a_shapeOf, a_begins, a_bytes, a_shapeLength, a_shapeItems, a_shapeLines, a_lastNumbers, a_wordLines, a_nodeItem, a_below, a_beside, a_endsHere, a_read, a_numbers, R', a_restLength, a_restTime)) : wpX_insert post (f_draftCount, f_partCount, f_lines, f_shapes, f_nodes, f_isFitted, f_fits, f_from, a_draft, a_parts, a_times, a_shapeOf, a_begins, a_bytes, a_shapeLength, a_shapeItems, a_shapeLines, a_lastNumbers, a_wordLines, a_nodeItem, a_below, a_beside, a_endsHere, a_read, a_numbers, a_rest, a_restLength, a_restTime) (nI c) v :=
  ⟨c + 1, xw_ins2 hc hs hy hn c (Nat.le_refl c) (fun j j1 j2 => absurd j2 (by omega))⟩
theorem xw_diff9 {post : Int32 → SX → Prop} {c i : Nat} (hC : pz_C n z it T S) (hO : pz_So n S a_shapeOf) (hL : pz_Sl n z it S a_shapeLength a_shapeItems) (hN : pz_Nm n z it S P a_begins a_bytes) (hc : c < n) (hi : i < z c) (hu : pz_num (it c i) = true) (h : ∀ (fr : Int32) (N R : Nat → Int32), post (nI (pz_cnt (fun l => decide (S l = S c) && pz_isn S it i l) n)) (f_draftCount, f_partCount, nI n, f_shapes, f_nodes, f_isFitted, f_fits, fr, a_draft, a_parts, a_times, a_shapeOf, a_begins, a_bytes, a_shapeLength, a_shapeItems, a_shapeLines, a_lastNumbers, a_wordLines, a_nodeItem, a_below, a_beside, a_endsHere, a_read, N, R, a_restLength, a_restTime)) : ∀ d l (fr : Int32) (N R : Nat → Int32), l + d = n → pz_Iv z it S c N l → pz_so R (pz_cnt (fun l => decide (S l = S c) && pz_isn S it i l) l) → (∀ w, pz_has R (pz_cnt (fun l => decide (S l = S c) && pz_isn S it i l) l) w = pz_ex (fun j => decide (S j = S c) && decide (it j i - 1000 = w)) l) → wX_differentIn_9 post (nI (S c)) (nI i) (d + 1) (nI (pz_cnt (fun l => decide (S l = S c) && pz_isn S it i l) l)) (nI l) f_draftCount f_partCount (nI n) f_shapes f_nodes f_isFitted f_fits fr a_draft a_parts a_times a_shapeOf a_begins a_bytes a_shapeLength a_shapeItems a_shapeLines a_lastNumbers a_wordLines a_nodeItem a_below a_beside a_endsHere a_read N R a_restLength a_restTime := by
  have hn := pz_Cn hC
  have hs := pz_Cs hC hc
  have hz := pz_Cz hC hc
  intro d
  induction d with
  | zero =>
    intro l fr N R hl hI hR hM
    have e : l = n := by omega
    subst e
    exact pk_le l l (fun _ => h fr N R) (fun c => absurd c (by omega))
  | succ d ih =>
    intro l fr N R hl hI hR hM
    have hl' : l < n := by omega
    have hle := pz_cnt_le (fun l => decide (S l = S c) && pz_isn S it i l) l
    have K := ih (l + 1)
    refine pk_le n l (fun c => absurd c (by omega)) (fun _ => And.intro (vp_in_nI (by omega) (by decide)) (pk_eq (S l) (S c) (fun e => xw_addLine hC hL hN hl' hc e hI (fun fr' N' k1 k2 => And.intro (vp_in_nI (by omega) (by decide)) ?_)) (fun e => nm_r (nI_1 l) ?_) (hx := ?_) (ha := ?_) (hb := ?_)))
    · obtain ⟨e1, e2⟩ := pz_same hC hl' hc e
      have ev : N' i = it l i - 1000 := k2 i (by omega) (by rw [e2 i (by omega)]; exact hu)
      have key : pz_has R (pz_cnt (fun l => decide (S l = S c) && pz_isn S it i l) l) (it l i - 1000) = !pz_isn S it i l := by
        rw [hM]
        unfold pz_isn
        rw [Bool.not_not]
        refine pz_ex_congr l (fun j hj => ?_)
        rw [e]
        congr 1
        rw [decide_eq_decide]
        exact Int32.sub_left_inj 1000
      rw [nI_clamp (by omega), ev]
      refine xw_insert (by omega) hR (fun q => nm_r (nI_1 l) ?_) (fun q R' q1 q2 => nm_r (nI_1 l) ?_)
      · rw [key] at q
        have eq : pz_isn S it i l = false := by
          cases w : pz_isn S it i l
          · rfl
          · rw [w] at q; exact absurd q (by decide)
        have ec := pz_cnt_f (p := fun l => decide (S l = S c) && pz_isn S it i l) (n := l) (by rw [eq, Bool.and_false])
        have K2 := K fr' N' R (by omega) k1
        rw [ec] at K2
        refine K2 hR (fun w => ?_)
        rw [hM w]
        show _ = (pz_ex (fun j => decide (S j = S c) && decide (it j i - 1000 = w)) l || (decide (S l = S c) && decide (it l i - 1000 = w)))
        by_cases ew : it l i - 1000 = w
        · subst ew
          have := hM (it l i - 1000)
          rw [key, eq] at this
          rw [← this]; rfl
        · rw [decide_eq_false ew, Bool.and_false, Bool.or_false]
      · rw [key] at q
        have eq : pz_isn S it i l = true := by
          cases w : pz_isn S it i l
          · rw [w] at q; exact absurd q (by decide)
          · rfl
        have ec := pz_cnt_t (p := fun l => decide (S l = S c) && pz_isn S it i l) (n := l) (by rw [eq, decide_eq_true e]; rfl)
        have K2 := K fr' N' R' (by omega) k1
        rw [ec] at K2
        refine K2 q1 (fun w => ?_)
        rw [q2 w, hM w]
        show _ = (pz_ex (fun j => decide (S j = S c) && decide (it j i - 1000 = w)) l || (decide (S l = S c) && decide (it l i - 1000 = w)))
        rw [decide_eq_true e, Bool.true_and]
        congr 1
        rw [decide_eq_decide]
        exact eq_comm
    · have ec := pz_cnt_f (p := fun l => decide (S l = S c) && pz_isn S it i l) (n := l) (by rw [decide_eq_false e, Bool.false_and])
      have K2 := K fr N R (by omega) (pz_Iv_n hI e)
      rw [ec] at K2
      refine K2 hR (fun w => ?_)
      rw [hM w]
      show _ = (pz_ex (fun j => decide (S j = S c) && decide (it j i - 1000 = w)) l || (decide (S l = S c) && decide (it l i - 1000 = w)))
      rw [decide_eq_false e, Bool.false_and, Bool.or_false]
    · rw [nI_clamp (by omega)]; exact hO l hl'
    · have := pz_Cs hC hl'; omega
    · omega
theorem xw_differentIn {post : Int32 → SX → Prop} {c i : Nat} (hC : pz_C n z it T S) (hO : pz_So n S a_shapeOf) (hL : pz_Sl n z it S a_shapeLength a_shapeItems) (hN : pz_Nm n z it S P a_begins a_bytes) (hc : c < n) (hi : i < z c) (hu : pz_num (it c i) = true) (h : ∀ (fr : Int32) (N R : Nat → Int32), post (nI (pz_cnt (fun l => decide (S l = S c) && pz_isn S it i l) n)) (f_draftCount, f_partCount, nI n, f_shapes, f_nodes, f_isFitted, f_fits, fr, a_draft, a_parts, a_times, a_shapeOf, a_begins, a_bytes, a_shapeLength, a_shapeItems, a_shapeLines, a_lastNumbers, a_wordLines, a_nodeItem, a_below, a_beside, a_endsHere, a_read, N, R, a_restLength, a_restTime)) : wpX_differentIn post (f_draftCount, f_partCount, nI n, f_shapes, f_nodes, f_isFitted, f_fits, f_from, a_draft, a_parts, a_times, a_shapeOf, a_begins, a_bytes, a_shapeLength, a_shapeItems, a_shapeLines, a_lastNumbers, a_wordLines, a_nodeItem, a_below, a_beside, a_endsHere, a_read, a_numbers, a_rest, a_restLength, a_restTime) (nI (S c)) (nI i) :=
  xw_clear (fun N hZ => ⟨n + 1, xw_diff9 hC hO hL hN hc hi hu h n 0 f_from N a_rest (by omega) (pz_Iv_0 (pz_Cz hC hc).2 hZ) (fun a b _ hb => absurd hb (Nat.not_lt_zero b)) (fun _ => rfl)⟩)
def pz_tot (S : Nat → Nat) (it : Nat → Nat → Int32) (s i n : Nat) (w : Int32) : Int32 := if w = 0 then pz_lo' S it s i n else if w = 1 then pz_hi' S it s i n else pz_su' S it s i n
theorem xw_tot18 {post : Int32 → SX → Prop} {c i : Nat} {w : Int32} (hC : pz_C n z it T S) (hO : pz_So n S a_shapeOf) (hL : pz_Sl n z it S a_shapeLength a_shapeItems) (hN : pz_Nm n z it S P a_begins a_bytes) (hc : c < n) (hi : i < z c) (hu : pz_num (it c i) = true) (h : ∀ (fr : Int32) (N : Nat → Int32), post (pz_tot S it (S c) i n w) (f_draftCount, f_partCount, nI n, f_shapes, f_nodes, f_isFitted, f_fits, fr, a_draft, a_parts, a_times, a_shapeOf, a_begins, a_bytes, a_shapeLength, a_shapeItems, a_shapeLines, a_lastNumbers, a_wordLines, a_nodeItem, a_below, a_beside, a_endsHere, a_read, N, a_rest, a_restLength, a_restTime)) : ∀ d l (fr : Int32) (N : Nat → Int32), l + d = n → pz_Iv z it S c N l → wX_totalIn_18 post (nI (S c)) (nI i) w (d + 1) (pz_lo' S it (S c) i l) (pz_hi' S it (S c) i l) (pz_su' S it (S c) i l) (nI l) f_draftCount f_partCount (nI n) f_shapes f_nodes f_isFitted f_fits fr a_draft a_parts a_times a_shapeOf a_begins a_bytes a_shapeLength a_shapeItems a_shapeLines a_lastNumbers a_wordLines a_nodeItem a_below a_beside a_endsHere a_read N a_rest a_restLength a_restTime := by
  have hn := pz_Cn hC
  have hs := pz_Cs hC hc
  have hz := pz_Cz hC hc
  have vi : vp_in (nI i) 8 := vp_in_nI (by omega) (by decide)
  have ci : (nI i).toNatClampNeg = i := nI_clamp (by omega)
  intro d
  induction d with
  | zero =>
    intro l fr N hl hI
    have e : l = n := by omega
    subst e
    have K := h fr N
    unfold pz_tot at K
    refine pk_le l l (fun _ => br_c (fun a => ?_) (fun a => br_c (fun b => ?_) (fun b => ?_))) (fun c => absurd c (by omega))
    · rw [if_pos a] at K; exact K
    · rw [if_neg a, if_pos b] at K; exact K
    · rw [if_neg a, if_neg b] at K; exact K
  | succ d ih =>
    intro l fr N hl hI
    have hl' : l < n := by omega
    refine pk_le n l (fun c => absurd c (by omega)) (fun _ => And.intro (vp_in_nI (by omega) (by decide)) (pk_eq (S l) (S c) (fun e => xw_addLine hC hL hN hl' hc e hI (fun fr' N' k1 k2 => And.intro vi ?_)) (fun e => nm_r (nI_1 l) ?_) (hx := ?_) (ha := ?_) (hb := ?_)))
    · obtain ⟨e1, e2⟩ := pz_same hC hl' hc e
      have ev : N' i = it l i - 1000 := k2 i (by omega) (by rw [e2 i (by omega)]; exact hu)
      have K := ih (l + 1) fr' N' (by omega) k1
      have a1 : pz_lo' S it (S c) i (l + 1) = if pz_lo' S it (S c) i l ≤ it l i - 1000 then pz_lo' S it (S c) i l else it l i - 1000 := if_pos e
      have a2 : pz_hi' S it (S c) i (l + 1) = if it l i - 1000 ≤ pz_hi' S it (S c) i l then pz_hi' S it (S c) i l else it l i - 1000 := if_pos e
      have a3 : pz_su' S it (S c) i (l + 1) = pz_su' S it (S c) i l + (it l i - 1000) := if_pos e
      rw [a1, a2, a3] at K
      have M : ∀ y : Int32, (y = if pz_lo' S it (S c) i l ≤ it l i - 1000 then pz_lo' S it (S c) i l else it l i - 1000) → wX_totalIn_67 post (wX_totalIn_18 post (nI (S c)) (nI i) w (d + 1)) (nI (S c)) (nI i) w (pz_hi' S it (S c) i l) (pz_su' S it (S c) i l) (nI l) y f_draftCount f_partCount (nI n) f_shapes f_nodes f_isFitted f_fits fr' a_draft a_parts a_times a_shapeOf a_begins a_bytes a_shapeLength a_shapeItems a_shapeLines a_lastNumbers a_wordLines a_nodeItem a_below a_beside a_endsHere a_read N' a_rest a_restLength a_restTime := by
        intro y ey
        rw [← ey] at K
        have M2 : ∀ y2 : Int32, (y2 = if it l i - 1000 ≤ pz_hi' S it (S c) i l then pz_hi' S it (S c) i l else it l i - 1000) → wX_totalIn_91 post (wX_totalIn_18 post (nI (S c)) (nI i) w (d + 1)) (nI (S c)) (nI i) w y (pz_su' S it (S c) i l) (nI l) y2 f_draftCount f_partCount (nI n) f_shapes f_nodes f_isFitted f_fits fr' a_draft a_parts a_times a_shapeOf a_begins a_bytes a_shapeLength a_shapeItems a_shapeLines a_lastNumbers a_wordLines a_nodeItem a_below a_beside a_endsHere a_read N' a_rest a_restLength a_restTime := by
          intro y2 ey2
          rw [← ey2] at K
          refine And.intro vi (nm_r (e' := pz_su' S it (S c) i l + (it l i - 1000)) (by rw [ci, ev]) (nm_r (nI_1 l) K))
        refine And.intro vi (br_c (fun a => M2 _ ?_) (fun a => And.intro vi (M2 _ ?_)))
        · rw [ci, ev] at a
          rw [if_pos a]
        · rw [ci, ev] at a
          rw [if_neg a, ci, ev]
      refine br_c (fun a => M _ ?_) (fun a => And.intro vi (M _ ?_))
      · rw [ci, ev] at a
        rw [if_pos a]
      · rw [ci, ev] at a
        rw [if_neg a, ci, ev]
    · have K := ih (l + 1) fr N (by omega) (pz_Iv_n hI e)
      have a1 : pz_lo' S it (S c) i (l + 1) = pz_lo' S it (S c) i l := if_neg e
      have a2 : pz_hi' S it (S c) i (l + 1) = pz_hi' S it (S c) i l := if_neg e
      have a3 : pz_su' S it (S c) i (l + 1) = pz_su' S it (S c) i l := if_neg e
      rw [a1, a2, a3] at K
      exact K
    · rw [nI_clamp (by omega)]; exact hO l hl'
    · have := pz_Cs hC hl'; omega
    · omega
theorem xw_totalIn {post : Int32 → SX → Prop} {c i : Nat} {w : Int32} (hC : pz_C n z it T S) (hO : pz_So n S a_shapeOf) (hL : pz_Sl n z it S a_shapeLength a_shapeItems) (hN : pz_Nm n z it S P a_begins a_bytes) (hc : c < n) (hi : i < z c) (hu : pz_num (it c i) = true) (h : ∀ (fr : Int32) (N : Nat → Int32), post (pz_tot S it (S c) i n w) (f_draftCount, f_partCount, nI n, f_shapes, f_nodes, f_isFitted, f_fits, fr, a_draft, a_parts, a_times, a_shapeOf, a_begins, a_bytes, a_shapeLength, a_shapeItems, a_shapeLines, a_lastNumbers, a_wordLines, a_nodeItem, a_below, a_beside, a_endsHere, a_read, N, a_rest, a_restLength, a_restTime)) : wpX_totalIn post (f_draftCount, f_partCount, nI n, f_shapes, f_nodes, f_isFitted, f_fits, f_from, a_draft, a_parts, a_times, a_shapeOf, a_begins, a_bytes, a_shapeLength, a_shapeItems, a_shapeLines, a_lastNumbers, a_wordLines, a_nodeItem, a_below, a_beside, a_endsHere, a_read, a_numbers, a_rest, a_restLength, a_restTime) (nI (S c)) (nI i) w :=
  xw_clear (fun N hZ => ⟨n + 1, xw_tot18 hC hO hL hN hc hi hu h n 0 f_from N (by omega) (pz_Iv_0 (pz_Cz hC hc).2 hZ)⟩)
theorem xw_hasN2 {post : Int32 → Prop} {l : Nat} {x : Int32} (hC : pz_C n z it T S) (hL : pz_Sl n z it S a_shapeLength a_shapeItems) (hl : l < n) (hx : pz_num x = true) (hN : ∀ i, i < z l → pz_num (it l i) = true → a_numbers i = it l i - 1000) (h1 : pz_has (it l) (z l) x = true → post 1) (h0 : pz_has (it l) (z l) x = false → post 0) : ∀ d i, i + d = z l → (∀ t, t < i → it l t ≠ x) → wX_hasNumber_2 post (nI (S l)) (x - 1000) f_draftCount f_partCount f_lines f_shapes f_nodes f_isFitted f_fits f_from a_draft a_parts a_times a_shapeOf a_begins a_bytes a_shapeLength a_shapeItems a_shapeLines a_lastNumbers a_wordLines a_nodeItem a_below a_beside a_endsHere a_read a_numbers a_rest a_restLength a_restTime (d + 1) (nI i) := by
  have hs := pz_Cs hC hl
  have hz := pz_Cz hC hl
  have hl' : a_shapeLength (nI (S l)).toNatClampNeg = nI (z l) := by rw [nI_clamp (by omega)]; exact (hL l hl).1
  intro d
  induction d with
  | zero =>
    intro i hi hq
    have e : i = z l := by omega
    subst e
    exact And.intro (vp_in_nI hs (by decide)) (pk_le (z l) (z l) (fun _ => h0 (pz_has_f.mpr hq)) (fun c => absurd c (by omega)) (hx := hl'))
  | succ d ih =>
    intro i hi hq
    have hi' : i < z l := by omega
    have nxt : it l i ≠ x → ∀ t, t < i + 1 → it l t ≠ x := by
      intro hne t ht
      by_cases e : t = i
      · rw [e]; exact hne
      · exact hq t (by omega)
    refine And.intro (vp_in_nI hs (by decide)) (pk_le (z l) i (fun c => absurd c (by omega)) (fun _ => And.intro (pz_in8 hs (by omega)) (pz_ifb (b := pz_num (it l i)) ?_ (fun hu => And.intro (vp_in_nI (by omega) (by decide)) (pz_if (d := it l i = x) ?_ (fun a => h1 (pz_has_t.mpr ⟨i, hi', a⟩)) (fun a => nm_r (nI_1 i) (ih (i + 1) (by omega) (nxt a))))) (fun hu => nm_r (nI_1 i) (ih (i + 1) (by omega) (nxt ?_))))) (hx := hl'))
    · rw [pz_cl8 hs (by omega), (hL l hl).2 i hi']
      exact pz_bl_1000
    · rw [nI_clamp (by omega), hN i hi' hu]
      exact Int32.sub_left_inj 1000
    · intro e
      rw [e, hx] at hu
      exact absurd hu (by decide)
theorem xw_hav9 {post : Int32 → SX → Prop} {c : Nat} {x : Int32} (hC : pz_C n z it T S) (hO : pz_So n S a_shapeOf) (hL : pz_Sl n z it S a_shapeLength a_shapeItems) (hN : pz_Nm n z it S P a_begins a_bytes) (hc : c < n) (hx : pz_num x = true) (h : ∀ (fr : Int32) (N : Nat → Int32), post (nI (pz_cnt (fun l => decide (S l = S c) && pz_has (it l) (z l) x) n)) (f_draftCount, f_partCount, nI n, f_shapes, f_nodes, f_isFitted, f_fits, fr, a_draft, a_parts, a_times, a_shapeOf, a_begins, a_bytes, a_shapeLength, a_shapeItems, a_shapeLines, a_lastNumbers, a_wordLines, a_nodeItem, a_below, a_beside, a_endsHere, a_read, N, a_rest, a_restLength, a_restTime)) : ∀ d l (fr : Int32) (N : Nat → Int32), l + d = n → pz_Iv z it S c N l → wX_havingIn_9 post (nI (S c)) (x - 1000) (d + 1) (nI (pz_cnt (fun l => decide (S l = S c) && pz_has (it l) (z l) x) l)) (nI l) f_draftCount f_partCount (nI n) f_shapes f_nodes f_isFitted f_fits fr a_draft a_parts a_times a_shapeOf a_begins a_bytes a_shapeLength a_shapeItems a_shapeLines a_lastNumbers a_wordLines a_nodeItem a_below a_beside a_endsHere a_read N a_rest a_restLength a_restTime := by
  have hn := pz_Cn hC
  have hs := pz_Cs hC hc
  intro d
  induction d with
  | zero =>
    intro l fr N hl hI
    have e : l = n := by omega
    subst e
    exact pk_le l l (fun _ => h fr N) (fun c => absurd c (by omega))
  | succ d ih =>
    intro l fr N hl hI
    have hl' : l < n := by omega
    refine pk_le n l (fun c => absurd c (by omega)) (fun _ => And.intro (vp_in_nI (by omega) (by decide)) (pk_eq (S l) (S c) (fun e => xw_addLine hC hL hN hl' hc e hI (fun fr' N' k1 k2 => ?_)) (fun e => nm_r (nI_1 l) ?_) (hx := ?_) (ha := ?_) (hb := ?_)))
    · have K := ih (l + 1) fr' N' (by omega) k1
      rw [← e]
      refine ⟨z l + 1, xw_hasN2 hC hL hl' hx k2 (fun q => br_f pz_10 (nm_r (nI_1 _) (nm_r (nI_1 l) ?_))) (fun q => br_t rfl (nm_r (Int32.add_zero _) (nm_r (nI_1 l) ?_))) (z l) 0 (by omega) (fun t ht => absurd ht (Nat.not_lt_zero t))⟩
      · rw [pz_cnt_t (by rw [decide_eq_true e, q]; rfl)] at K
        rw [e]
        exact K
      · rw [pz_cnt_f (by rw [q, Bool.and_false])] at K
        rw [e]
        exact K
    · have K := ih (l + 1) fr N (by omega) (pz_Iv_n hI e)
      rw [pz_cnt_f (by rw [decide_eq_false e, Bool.false_and])] at K
      exact K
    · rw [nI_clamp (by omega)]; exact hO l hl'
    · have := pz_Cs hC hl'; omega
    · omega
theorem xw_having30 {post : Int32 → SX → Prop} {x : Int32} (hC : pz_C n z it T S) (hO : pz_So n S a_shapeOf) (hL : pz_Sl n z it S a_shapeLength a_shapeItems) (hN : pz_Nm n z it S P a_begins a_bytes) (hx : pz_num x = true) (h : ∀ (fr : Int32) (N : Nat → Int32), post (nI (pz_cnt (fun l => pz_has (it l) (z l) x) n)) (f_draftCount, f_partCount, nI n, nI (pz_mm S n), f_nodes, f_isFitted, f_fits, fr, a_draft, a_parts, a_times, a_shapeOf, a_begins, a_bytes, a_shapeLength, a_shapeItems, a_shapeLines, a_lastNumbers, a_wordLines, a_nodeItem, a_below, a_beside, a_endsHere, a_read, N, a_rest, a_restLength, a_restTime)) : ∀ d s (fr : Int32) (N : Nat → Int32), s + d = pz_mm S n → wX_having_30 post x (d + 1) (nI (pz_cnt (fun l => decide (S l < s) && pz_has (it l) (z l) x) n)) (nI s) f_draftCount f_partCount (nI n) (nI (pz_mm S n)) f_nodes f_isFitted f_fits fr a_draft a_parts a_times a_shapeOf a_begins a_bytes a_shapeLength a_shapeItems a_shapeLines a_lastNumbers a_wordLines a_nodeItem a_below a_beside a_endsHere a_read N a_rest a_restLength a_restTime := by
  have hn := pz_Cn hC
  have hmm := pz_Cmm hC
  intro d
  induction d with
  | zero =>
    intro s fr N hs
    have e : s = pz_mm S n := by omega
    rw [e]
    refine pk_le (pz_mm S n) (pz_mm S n) (fun _ => ?_) (fun c => absurd c (by omega))
    have K := h fr N
    rw [pz_cnt_congr (q := fun l => decide (S l < pz_mm S n) && pz_has (it l) (z l) x) n (fun j hj => by rw [decide_eq_true (pz_mm_lt hj), Bool.true_and])] at K
    exact K
  | succ d ih =>
    intro s fr N hs
    obtain ⟨c, hc, ec⟩ := pz_mm_sur n (pz_Cq hC) s (by omega)
    refine pk_le (pz_mm S n) s (fun c => absurd c (by omega)) (fun _ => ?_)
    rw [← ec]
    refine xw_clear (fun N' hZ => ⟨n + 1, xw_hav9 hC hO hL hN hc hx (fun fr' N'' => nm_r (e' := nI (pz_cnt (fun l => decide (S l < S c + 1) && pz_has (it l) (z l) x) n)) ?_ (nm_r (nI_1 (S c)) (by rw [ec]; exact ih (s + 1) fr' N'' (by omega)))) n 0 fr N' (by omega) (pz_Iv_0 (pz_Cz hC hc).2 hZ)⟩)
    rw [nI_add]
    congr 1
    symm
    refine pz_cnt_add n (fun j hj => ?_)
    rcases Nat.lt_trichotomy (S j) (S c) with a | a | a
    · rw [decide_eq_true (show S j < S c + 1 by omega), decide_eq_true a, decide_eq_false (show ¬ S j = S c by omega)]
      simp
    · rw [decide_eq_true (show S j < S c + 1 by omega), decide_eq_false (show ¬ S j < S c by omega), decide_eq_true a]
      simp
    · rw [decide_eq_false (show ¬ S j < S c + 1 by omega), decide_eq_false (show ¬ S j < S c by omega), decide_eq_false (show ¬ S j = S c by omega)]
      simp
end
end
section
/-! X: which lines fit -/
def pz_g (P : Nat → Int32) : Nat → Bool := fun p => decide (P p = 2002)
def pz_tk (b p x : Int32) : Bool := if b = 0 then pz_tl p x else pz_tb p
section
variable {f_draftCount f_partCount f_lines f_shapes f_nodes f_isFitted f_from : Int32} {f_fits : Int64} {a_draft a_parts a_times a_shapeOf a_begins a_bytes a_shapeLength a_shapeItems a_lastNumbers a_nodeItem a_below a_beside a_endsHere a_read a_numbers a_rest a_restLength a_restTime : Nat → Int32} {a_shapeLines a_wordLines : Nat → Int64}
variable {n pc : Nat} {z : Nat → Nat} {it : Nat → Nat → Int32} {T : Nat → Int32} {S : Nat → Nat} {P : Nat → Nat → Nat}
theorem pz_or0 (x : Int32) : x ||| 0 = x := by
  apply b_ext
  intro i hi
  rw [b_or, b_0, Bool.or_false]
theorem pz_or0L (x : Int64) : x ||| 0 = x := by
  apply Int64.toBitVec_inj.mp
  apply BitVec.eq_of_getLsbD_eq
  intro i hi
  have h := pz_b_or x 0 i
  rw [pz_b_0, Bool.or_false] at h
  exact h
theorem xw_over4 {post : Int32 → Prop} {x : Int32} (hpc : pc ≤ 8) (h : ∀ w : Int32, pz_clo (pz_g a_parts) pc (bt x) (bt w) → post w) : ∀ d k (w : Int32), k + d = pc → pz_gi (pz_g a_parts) x k w → wX_overGaps_4 post f_draftCount (nI pc) f_lines f_shapes f_nodes f_isFitted f_fits f_from a_draft a_parts a_times a_shapeOf a_begins a_bytes a_shapeLength a_shapeItems a_shapeLines a_lastNumbers a_wordLines a_nodeItem a_below a_beside a_endsHere a_read a_numbers a_rest a_restLength a_restTime (d + 1) w (nI k) := by
  intro d
  induction d with
  | zero =>
    intro k w hk hI
    have e : k = pc := by omega
    subst e
    exact pk_le k k (fun _ => h w (pz_gi_end hI)) (fun c => absurd c (by omega))
  | succ d ih =>
    intro k w hk hI
    refine pk_le pc k (fun c => absurd c (by omega)) (fun _ => pz_ifb (b := bt w k) (pz_bit32 (by omega)) (fun hb => And.intro (vp_in_nI (by omega) (by decide)) (br_c (fun a => nm_r (e' := w ||| ((1 : Int32) <<< (nI (k + 1) &&& 31))) ?_ (nm_r (nI_1 k) (ih (k + 1) _ (by omega) (pz_gi_set (by omega) hI hb ?_)))) (fun a => nm_r (pz_or0 w) (nm_r (nI_1 k) (ih (k + 1) w (by omega) (pz_gi_skip hI (fun _ => ?_))))))) (fun hb => nm_r (pz_or0 w) (nm_r (nI_1 k) (ih (k + 1) w (by omega) (pz_gi_skip hI (fun hb' => ?_))))))
    · rw [nI_1]
    · rw [nI_clamp (by omega)] at a
      exact decide_eq_true a
    · rw [nI_clamp (by omega)] at a
      exact decide_eq_false a
    · rw [hb] at hb'; exact absurd hb' (by decide)
theorem xw_overGaps {post : Int32 → Prop} {x : Int32} (hpc : pc ≤ 8) (h : ∀ w : Int32, pz_clo (pz_g a_parts) pc (bt x) (bt w) → post w) : wpX_overGaps post (f_draftCount, nI pc, f_lines, f_shapes, f_nodes, f_isFitted, f_fits, f_from, a_draft, a_parts, a_times, a_shapeOf, a_begins, a_bytes, a_shapeLength, a_shapeItems, a_shapeLines, a_lastNumbers, a_wordLines, a_nodeItem, a_below, a_beside, a_endsHere, a_read, a_numbers, a_rest, a_restLength, a_restTime) x :=
  ⟨pc + 1, xw_over4 hpc h pc 0 x (by omega) (pz_gi_0 _ x)⟩
theorem xw_takes {post : Int32 → Prop} {b p x : Int32} (h1 : pz_tk b p x = true → post 1) (h0 : pz_tk b p x = false → post 0) : wpX_takes post p x b := by
  unfold pz_tk at h1 h0
  unfold pz_tl pz_tb at h1 h0
  refine br_c (fun a => h1 ?_) (fun a => br_c (fun c => br_c (fun d => xw_isNumber (fun e => br_f pz_10 (br_c (fun f => h1 ?_) (fun f => br_c (fun g => h0 ?_) (fun g => h1 ?_)))) (fun e => br_t rfl (h0 ?_))) (fun d => br_c (fun e => h1 ?_) (fun e => h0 ?_))) (fun c => br_c (fun d => h0 ?_) (fun d => h1 ?_)))
  · by_cases c : b = 0
    · rw [if_pos c, if_pos a]
    · rw [if_neg c, if_pos a]
  · rw [if_pos c, if_neg a, if_pos d, if_pos e, if_pos f]
  · rw [if_pos c, if_neg a, if_pos d, if_pos e, if_neg f]
    exact decide_eq_false (fun k => k g)
  · rw [if_pos c, if_neg a, if_pos d, if_pos e, if_neg f]
    exact decide_eq_true g
  · rw [if_pos c, if_neg a, if_pos d, if_neg (by rw [e]; decide)]
  · rw [if_pos c, if_neg a, if_neg d]
    exact decide_eq_true e
  · rw [if_pos c, if_neg a, if_neg d]
    exact decide_eq_false e
  · rw [if_neg c, if_neg a]
    exact decide_eq_false (fun k => k d)
  · rw [if_neg c, if_neg a]
    exact decide_eq_true d
theorem xw_after6 {post : Int32 → Prop} {x item b : Int32} (hpc : pc ≤ 8) (h : ∀ y w : Int32, pz_ai (pz_g a_parts) (fun k => pz_tk b (a_parts k) item) x pc y → pz_clo (pz_g a_parts) pc (bt y) (bt w) → post w) : ∀ d k (y : Int32), k + d = pc → pz_ai (pz_g a_parts) (fun k => pz_tk b (a_parts k) item) x k y → wX_after_6 post x item b f_draftCount (nI pc) f_lines f_shapes f_nodes f_isFitted f_fits f_from a_draft a_parts a_times a_shapeOf a_begins a_bytes a_shapeLength a_shapeItems a_shapeLines a_lastNumbers a_wordLines a_nodeItem a_below a_beside a_endsHere a_read a_numbers a_rest a_restLength a_restTime (d + 1) y (nI k) := by
  intro d
  induction d with
  | zero =>
    intro k y hk hI
    have e : k = pc := by omega
    subst e
    exact pk_le k k (fun _ => xw_overGaps hpc (fun w hw => h y w hI hw)) (fun c => absurd c (by omega))
  | succ d ih =>
    intro k y hk hI
    have ck : (nI k).toNatClampNeg = k := nI_clamp (by omega)
    refine pk_le pc k (fun c => absurd c (by omega)) (fun _ => pz_ifb (b := bt x k) (pz_bit32 (by omega)) (fun hb => And.intro (vp_in_nI (by omega) (by decide)) (br_c (fun a => nm_e (nm_r (nI_1 k) (ih (k + 1) _ (by omega) (pz_ai_gap (by omega) hI hb ?_)))) (fun a => And.intro (vp_in_nI (by omega) (by decide)) (xw_takes (fun t1 => br_f pz_10 (nm_r (e' := y ||| ((1 : Int32) <<< (nI (k + 1) &&& 31))) ?_ (nm_r (nI_1 k) (ih (k + 1) _ (by omega) (pz_ai_tk (by omega) hI hb ?_ ?_))))) (fun t0 => br_t rfl (nm_r (pz_or0 y) (nm_r (nI_1 k) (ih (k + 1) y (by omega) (pz_ai_skip hI (fun _ => ⟨?_, ?_⟩)))))))))) (fun hb => nm_r (nI_1 k) (ih (k + 1) y (by omega) (pz_ai_skip hI (fun hb' => ?_)))))
    · rw [ck] at a
      exact decide_eq_true a
    · rw [nI_1]
    · rw [ck] at a
      exact decide_eq_false a
    · rw [ck] at t1; exact t1
    · rw [ck] at a
      exact decide_eq_false a
    · rw [ck] at t0; exact t0
    · rw [hb] at hb'; exact absurd hb' (by decide)
theorem xw_after {post : Int32 → Prop} {x item b : Int32} (hpc : pc ≤ 8) (h : ∀ y w : Int32, pz_ai (pz_g a_parts) (fun k => pz_tk b (a_parts k) item) x pc y → pz_clo (pz_g a_parts) pc (bt y) (bt w) → post w) : wpX_after post (f_draftCount, nI pc, f_lines, f_shapes, f_nodes, f_isFitted, f_fits, f_from, a_draft, a_parts, a_times, a_shapeOf, a_begins, a_bytes, a_shapeLength, a_shapeItems, a_shapeLines, a_lastNumbers, a_wordLines, a_nodeItem, a_below, a_beside, a_endsHere, a_read, a_numbers, a_rest, a_restLength, a_restTime) x item b :=
  ⟨pc + 1, xw_after6 hpc h pc 0 0 (by omega) (pz_ai_0 _ _ x)⟩
/-- the set of places x behind i items goes on as the whole does -/
def pz_Si (g : Nat → Bool) (t : Nat → Nat → Bool) (pc k : Nat) (x : Int32) (i : Nat) : Prop := (∀ q, q < pc → bt x q = true → g q = true → bt x (q + 1) = true) ∧ (pz_E g t pc k (bt x) i ↔ pz_M g t pc k 0 0 = true)
theorem pz_Si_0 {g : Nat → Bool} {t : Nat → Nat → Bool} {k : Nat} {w : Int32} (h : pz_clo g pc (bt 1) (bt w)) : pz_Si g t pc k w 0 := by
  refine ⟨h.2.1, ?_⟩
  rw [pz_clo_E h (Nat.zero_le k)]
  refine pz_E_one (fun j => ?_)
  have e : bt 1 j = decide (0 = j) := by
    by_cases c : j < 32
    · have := pz_one32 (k := 0) (by omega) c
      rw [show (1 : Int32) <<< (nI 0 &&& 31) = 1 from by decide] at this
      exact this
    · rw [b_big (by omega), decide_eq_false (by omega)]
  rw [e, decide_eq_true_iff]
  exact eq_comm
theorem pz_Si_s {g : Nat → Bool} {t : Nat → Nat → Bool} {k i : Nat} {x y w : Int32} (hi : i < k) (h : pz_Si g t pc k x i) (ha : pz_ai g (fun q => t q i) x pc y) (hc : pz_clo g pc (bt y) (bt w)) : pz_Si g t pc k w (i + 1) := by
  refine ⟨hc.2.1, ?_⟩
  rw [pz_clo_E hc (show i + 1 ≤ k by omega), ← pz_E_step hi h.1 ha]
  exact h.2
theorem pz_Si_e {g : Nat → Bool} {t : Nat → Nat → Bool} {k : Nat} {x : Int32} (h : pz_Si g t pc k x k) : bt x pc = pz_M g t pc k 0 0 := by
  have e := h.2
  rw [pz_E_end h.1] at e
  cases a : pz_M g t pc k 0 0 with
  | true => exact e.mpr a
  | false =>
    apply ts_nt
    intro b
    rw [e.mp b] at a
    exact absurd a (by decide)
theorem pz_tk_s {p x : Int32} (hu : pz_num x = true) : pz_tk 1 p (pz_bl x) = pz_ts p x := by
  unfold pz_tk pz_ts
  rw [if_neg (by decide), if_pos hu]
theorem pz_tk_w {p x : Int32} (hu : pz_num x = false) : pz_tk 0 p (pz_bl x) = pz_ts p x := by
  unfold pz_tk pz_ts
  rw [if_pos rfl, if_neg (by rw [hu]; decide), pz_bl_w hu]
theorem pz_tk_l {p x : Int32} : pz_tk 0 p x = pz_tl p x := if_pos rfl
theorem xw_may8 {post : Int32 → Prop} {l : Nat} (hC : pz_C n z it T S) (hL : pz_Sl n z it S a_shapeLength a_shapeItems) (hl : l < n) (hpc : pc ≤ 8) (h1 : pz_M (pz_g a_parts) (fun p i => pz_ts (a_parts p) (it l i)) pc (z l) 0 0 = true → post 1) (h0 : pz_M (pz_g a_parts) (fun p i => pz_ts (a_parts p) (it l i)) pc (z l) 0 0 = false → post 0) : ∀ d i (x : Int32), i + d = z l → pz_Si (pz_g a_parts) (fun p i => pz_ts (a_parts p) (it l i)) pc (z l) x i → wX_shapeMayFit_8 post (nI (S l)) f_draftCount (nI pc) f_lines f_shapes f_nodes f_isFitted f_fits f_from a_draft a_parts a_times a_shapeOf a_begins a_bytes a_shapeLength a_shapeItems a_shapeLines a_lastNumbers a_wordLines a_nodeItem a_below a_beside a_endsHere a_read a_numbers a_rest a_restLength a_restTime (d + 1) x (nI i) := by
  have hs := pz_Cs hC hl
  have hz := pz_Cz hC hl
  have hl' : a_shapeLength (nI (S l)).toNatClampNeg = nI (z l) := by rw [nI_clamp (by omega)]; exact (hL l hl).1
  intro d
  induction d with
  | zero =>
    intro i x hi hS
    have e : i = z l := by omega
    subst e
    have eb := pz_Si_e hS
    refine And.intro (vp_in_nI hs (by decide)) (pk_le (z l) (z l) (fun _ => pz_ifb (b := bt x pc) (pz_bit32 (by omega)) (fun b => h1 ?_) (fun b => h0 ?_)) (fun c => absurd c (by omega)) (hx := hl'))
    · rw [← eb]; exact b
    · rw [← eb]; exact b
  | succ d ih =>
    intro i x hi hS
    have hi' : i < z l := by omega
    refine And.intro (vp_in_nI hs (by decide)) (pk_le (z l) i (fun c => absurd c (by omega)) (fun _ => And.intro (pz_in8 hs (by omega)) (nm_r (e' := pz_bl (it l i)) ?_ (pz_ifb (b := pz_num (it l i)) pz_bl_1000 (fun hu => xw_after hpc (fun y w k1 k2 => nm_r (nI_1 i) (ih (i + 1) w (by omega) (pz_Si_s hi' hS ?_ k2)))) (fun hu => xw_after hpc (fun y w k1 k2 => nm_r (nI_1 i) (ih (i + 1) w (by omega) (pz_Si_s hi' hS ?_ k2))))))) (hx := hl'))
    · rw [pz_cl8 hs (by omega)]
      exact (hL l hl).2 i hi'
    · have e : (fun k => pz_tk 1 (a_parts k) (pz_bl (it l i))) = (fun q => pz_ts (a_parts q) (it l i)) := funext (fun q => pz_tk_s hu)
      rw [e] at k1
      exact k1
    · have e : (fun k => pz_tk 0 (a_parts k) (pz_bl (it l i))) = (fun q => pz_ts (a_parts q) (it l i)) := funext (fun q => pz_tk_w hu)
      rw [e] at k1
      exact k1
theorem xw_may {post : Int32 → Prop} {l : Nat} (hC : pz_C n z it T S) (hL : pz_Sl n z it S a_shapeLength a_shapeItems) (hl : l < n) (hpc : pc ≤ 8) (h1 : pz_M (pz_g a_parts) (fun p i => pz_ts (a_parts p) (it l i)) pc (z l) 0 0 = true → post 1) (h0 : pz_M (pz_g a_parts) (fun p i => pz_ts (a_parts p) (it l i)) pc (z l) 0 0 = false → post 0) : wpX_shapeMayFit post (f_draftCount, nI pc, f_lines, f_shapes, f_nodes, f_isFitted, f_fits, f_from, a_draft, a_parts, a_times, a_shapeOf, a_begins, a_bytes, a_shapeLength, a_shapeItems, a_shapeLines, a_lastNumbers, a_wordLines, a_nodeItem, a_below, a_beside, a_endsHere, a_read, a_numbers, a_rest, a_restLength, a_restTime) (nI (S l)) :=
  xw_overGaps hpc (fun w hw => ⟨z l + 1, xw_may8 hC hL hl hpc h1 h0 (z l) 0 w (by omega) (pz_Si_0 hw)⟩)
theorem xw_line8 {post : Int32 → Prop} {l : Nat} (hC : pz_C n z it T S) (hL : pz_Sl n z it S a_shapeLength a_shapeItems) (hl : l < n) (hpc : pc ≤ 8) (hN : ∀ i, i < z l → pz_num (it l i) = true → a_numbers i = it l i - 1000) (h1 : pz_M (pz_g a_parts) (fun p i => pz_tl (a_parts p) (it l i)) pc (z l) 0 0 = true → post 1) (h0 : pz_M (pz_g a_parts) (fun p i => pz_tl (a_parts p) (it l i)) pc (z l) 0 0 = false → post 0) : ∀ d i (x : Int32), i + d = z l → pz_Si (pz_g a_parts) (fun p i => pz_tl (a_parts p) (it l i)) pc (z l) x i → wX_lineFits_8 post (nI (S l)) f_draftCount (nI pc) f_lines f_shapes f_nodes f_isFitted f_fits f_from a_draft a_parts a_times a_shapeOf a_begins a_bytes a_shapeLength a_shapeItems a_shapeLines a_lastNumbers a_wordLines a_nodeItem a_below a_beside a_endsHere a_read a_numbers a_rest a_restLength a_restTime (d + 1) x (nI i) := by
  have hs := pz_Cs hC hl
  have hz := pz_Cz hC hl
  have hl' : a_shapeLength (nI (S l)).toNatClampNeg = nI (z l) := by rw [nI_clamp (by omega)]; exact (hL l hl).1
  intro d
  induction d with
  | zero =>
    intro i x hi hS
    have e : i = z l := by omega
    subst e
    have eb := pz_Si_e hS
    refine And.intro (vp_in_nI hs (by decide)) (pk_le (z l) (z l) (fun _ => pz_ifb (b := bt x pc) (pz_bit32 (by omega)) (fun b => h1 ?_) (fun b => h0 ?_)) (fun c => absurd c (by omega)) (hx := hl'))
    · rw [← eb]; exact b
    · rw [← eb]; exact b
  | succ d ih =>
    intro i x hi hS
    have hi' : i < z l := by omega
    have e : (fun k => pz_tk 0 (a_parts k) (it l i)) = (fun q => pz_tl (a_parts q) (it l i)) := funext (fun q => pz_tk_l)
    have K : ∀ v : Int32, v = it l i → wX_lineFits_56 post (wX_lineFits_8 post (nI (S l)) f_draftCount (nI pc) f_lines f_shapes f_nodes f_isFitted f_fits f_from a_draft a_parts a_times a_shapeOf a_begins a_bytes a_shapeLength a_shapeItems a_shapeLines a_lastNumbers a_wordLines a_nodeItem a_below a_beside a_endsHere a_read a_numbers a_rest a_restLength a_restTime (d + 1)) (nI (S l)) (nI i) v x f_draftCount (nI pc) f_lines f_shapes f_nodes f_isFitted f_fits f_from a_draft a_parts a_times a_shapeOf a_begins a_bytes a_shapeLength a_shapeItems a_shapeLines a_lastNumbers a_wordLines a_nodeItem a_below a_beside a_endsHere a_read a_numbers a_rest a_restLength a_restTime := by
      intro v hv
      subst hv
      refine xw_after hpc (fun y w k1 k2 => nm_r (nI_1 i) (ih (i + 1) w (by omega) (pz_Si_s hi' hS ?_ k2)))
      rw [e] at k1
      exact k1
    refine And.intro (vp_in_nI hs (by decide)) (pk_le (z l) i (fun c => absurd c (by omega)) (fun _ => And.intro (pz_in8 hs (by omega)) (nm_r (e' := pz_bl (it l i)) ?_ (pz_ifb (b := pz_num (it l i)) pz_bl_1000 (fun hu => And.intro (vp_in_nI (by omega) (by decide)) (K _ ?_)) (fun hu => K _ ?_)))) (hx := hl'))
    · rw [pz_cl8 hs (by omega)]
      exact (hL l hl).2 i hi'
    · rw [nI_clamp (by omega), hN i hi' hu, pz_undo2]
    · exact pz_bl_w hu
theorem xw_line {post : Int32 → Prop} {l : Nat} (hC : pz_C n z it T S) (hL : pz_Sl n z it S a_shapeLength a_shapeItems) (hl : l < n) (hpc : pc ≤ 8) (hN : ∀ i, i < z l → pz_num (it l i) = true → a_numbers i = it l i - 1000) (h1 : pz_M (pz_g a_parts) (fun p i => pz_tl (a_parts p) (it l i)) pc (z l) 0 0 = true → post 1) (h0 : pz_M (pz_g a_parts) (fun p i => pz_tl (a_parts p) (it l i)) pc (z l) 0 0 = false → post 0) : wpX_lineFits post (f_draftCount, nI pc, f_lines, f_shapes, f_nodes, f_isFitted, f_fits, f_from, a_draft, a_parts, a_times, a_shapeOf, a_begins, a_bytes, a_shapeLength, a_shapeItems, a_shapeLines, a_lastNumbers, a_wordLines, a_nodeItem, a_below, a_beside, a_endsHere, a_read, a_numbers, a_rest, a_restLength, a_restTime) (nI (S l)) :=
  xw_overGaps hpc (fun w hw => ⟨z l + 1, xw_line8 hC hL hl hpc hN h1 h0 (z l) 0 w (by omega) (pz_Si_0 hw)⟩)
theorem xw_names2 {post : Int32 → Prop} (hpc : pc ≤ 8) (h0 : (∀ k, k < pc → pz_num (a_parts k) = false ∧ a_parts k < 3000) → post 0) (h1 : post 1) : ∀ d k, k + d = pc → (∀ j, j < k → pz_num (a_parts j) = false ∧ a_parts j < 3000) → wX_namesNumbers_2 post f_draftCount (nI pc) f_lines f_shapes f_nodes f_isFitted f_fits f_from a_draft a_parts a_times a_shapeOf a_begins a_bytes a_shapeLength a_shapeItems a_shapeLines a_lastNumbers a_wordLines a_nodeItem a_below a_beside a_endsHere a_read a_numbers a_rest a_restLength a_restTime (d + 1) (nI k) := by
  intro d
  induction d with
  | zero =>
    intro k hk hq
    have e : k = pc := by omega
    subst e
    exact pk_le k k (fun _ => h0 hq) (fun c => absurd c (by omega))
  | succ d ih =>
    intro k hk hq
    have ck : (nI k).toNatClampNeg = k := nI_clamp (by omega)
    have vk : vp_in (nI k) 8 := vp_in_nI (by omega) (by decide)
    refine pk_le pc k (fun c => absurd c (by omega)) (fun _ => And.intro vk (xw_isNumber (fun _ => br_f pz_10 h1) (fun a => br_t rfl (And.intro vk (br_c (fun b => nm_r (nI_1 k) (ih (k + 1) (by omega) (fun j hj => ?_))) (fun _ => h1))))))
    rw [ck] at a b
    by_cases e : j = k
    · rw [e]; exact ⟨a, b⟩
    · exact hq j (by omega)
theorem xw_names {post : Int32 → Prop} (hpc : pc ≤ 8) (h0 : (∀ k, k < pc → pz_num (a_parts k) = false ∧ a_parts k < 3000) → post 0) (h1 : post 1) : wpX_namesNumbers post (f_draftCount, nI pc, f_lines, f_shapes, f_nodes, f_isFitted, f_fits, f_from, a_draft, a_parts, a_times, a_shapeOf, a_begins, a_bytes, a_shapeLength, a_shapeItems, a_shapeLines, a_lastNumbers, a_wordLines, a_nodeItem, a_below, a_beside, a_endsHere, a_read, a_numbers, a_rest, a_restLength, a_restTime) :=
  ⟨pc + 1, xw_names2 hpc h0 h1 pc 0 (by omega) (fun j hj => absurd hj (Nat.not_lt_zero j))⟩
theorem xw_ltf9 {post : Int64 → SX → Prop} {c : Nat} (hC : pz_C n z it T S) (hO : pz_So n S a_shapeOf) (hL : pz_Sl n z it S a_shapeLength a_shapeItems) (hN : pz_Nm n z it S P a_begins a_bytes) (hpc : pc ≤ 8) (hc : c < n) (h : ∀ (y : Int64) (fr : Int32) (N : Nat → Int32), (∀ l, l < 64 → pz_b y l = (decide (l < n) && (decide (S l = S c) && pz_M (pz_g a_parts) (fun p i => pz_tl (a_parts p) (it l i)) pc (z l) 0 0))) → post y (f_draftCount, nI pc, nI n, f_shapes, f_nodes, f_isFitted, f_fits, fr, a_draft, a_parts, a_times, a_shapeOf, a_begins, a_bytes, a_shapeLength, a_shapeItems, a_shapeLines, a_lastNumbers, a_wordLines, a_nodeItem, a_below, a_beside, a_endsHere, a_read, N, a_rest, a_restLength, a_restTime)) : ∀ d k (y : Int64) (fr : Int32) (N : Nat → Int32), k + d = n → pz_Iv z it S c N k → (∀ l, l < 64 → pz_b y l = (decide (l < k) && (decide (S l = S c) && pz_M (pz_g a_parts) (fun p i => pz_tl (a_parts p) (it l i)) pc (z l) 0 0))) → wX_linesThatFit_9 post (nI (S c)) (d + 1) y (nI k) f_draftCount (nI pc) (nI n) f_shapes f_nodes f_isFitted f_fits fr a_draft a_parts a_times a_shapeOf a_begins a_bytes a_shapeLength a_shapeItems a_shapeLines a_lastNumbers a_wordLines a_nodeItem a_below a_beside a_endsHere a_read N a_rest a_restLength a_restTime := by
  have hn := pz_Cn hC
  have hs := pz_Cs hC hc
  intro d
  induction d with
  | zero =>
    intro k y fr N hk hI hy
    have e : k = n := by omega
    subst e
    exact pk_le k k (fun _ => h y fr N hy) (fun c => absurd c (by omega))
  | succ d ih =>
    intro k y fr N hk hI hy
    have hk' : k < n := by omega
    have stay : (decide (S k = S c) && pz_M (pz_g a_parts) (fun p i => pz_tl (a_parts p) (it k i)) pc (z k) 0 0) = false → ∀ l, l < 64 → pz_b y l = (decide (l < k + 1) && (decide (S l = S c) && pz_M (pz_g a_parts) (fun p i => pz_tl (a_parts p) (it l i)) pc (z l) 0 0)) := by
      intro hf l hl
      rw [hy l hl]
      by_cases e : l = k
      · subst e
        rw [hf, Bool.and_false, Bool.and_false]
      · by_cases f : l < k
        · rw [decide_eq_true f, decide_eq_true (show l < k + 1 by omega)]
        · rw [decide_eq_false f, decide_eq_false (show ¬ l < k + 1 by omega)]
    refine pk_le n k (fun c => absurd c (by omega)) (fun _ => And.intro (vp_in_nI (by omega) (by decide)) (pk_eq (S k) (S c) (fun e => xw_addLine hC hL hN hk' hc e hI (fun fr' N' k1 k2 => ?_)) (fun e => nm_r (nI_1 k) (ih (k + 1) y fr N (by omega) (pz_Iv_n hI e) (stay (by rw [decide_eq_false e, Bool.false_and])))) (hx := ?_) (ha := ?_) (hb := ?_)))
    · have K := fun y' => ih (k + 1) y' fr' N' (by omega) k1
      rw [← e] at K ⊢
      refine xw_line hC hL hk' hpc k2 (fun q => br_f pz_10 (nm_e (nm_r (nI_1 k) (K _ (fun l hl => ?_))))) (fun q => br_t rfl (nm_r (pz_or0L y) (nm_r (nI_1 k) (K _ ?_))))
      · rw [pz_b_or, pz_b_one (by omega) hl, hy l hl, e]
        by_cases f : l = k
        · subst f
          rw [q, decide_eq_true e, decide_eq_true (show l = l from rfl), decide_eq_true (show l < l + 1 by omega)]
          simp
        · rw [decide_eq_false (show ¬ k = l from fun w => f w.symm), Bool.or_false]
          by_cases g : l < k
          · rw [decide_eq_true g, decide_eq_true (show l < k + 1 by omega)]
          · rw [decide_eq_false g, decide_eq_false (show ¬ l < k + 1 by omega)]
      · rw [e]
        exact stay (by rw [q, Bool.and_false])
    · rw [nI_clamp (by omega)]; exact hO k hk'
    · have := pz_Cs hC hk'; omega
    · omega
theorem xw_ltf {post : Int64 → SX → Prop} {c : Nat} (hC : pz_C n z it T S) (hO : pz_So n S a_shapeOf) (hL : pz_Sl n z it S a_shapeLength a_shapeItems) (hN : pz_Nm n z it S P a_begins a_bytes) (hpc : pc ≤ 8) (hc : c < n) (h : ∀ (y : Int64) (fr : Int32) (N : Nat → Int32), (∀ l, l < 64 → pz_b y l = (decide (l < n) && (decide (S l = S c) && pz_M (pz_g a_parts) (fun p i => pz_tl (a_parts p) (it l i)) pc (z l) 0 0))) → post y (f_draftCount, nI pc, nI n, f_shapes, f_nodes, f_isFitted, f_fits, fr, a_draft, a_parts, a_times, a_shapeOf, a_begins, a_bytes, a_shapeLength, a_shapeItems, a_shapeLines, a_lastNumbers, a_wordLines, a_nodeItem, a_below, a_beside, a_endsHere, a_read, N, a_rest, a_restLength, a_restTime)) : wpX_linesThatFit post (f_draftCount, nI pc, nI n, f_shapes, f_nodes, f_isFitted, f_fits, f_from, a_draft, a_parts, a_times, a_shapeOf, a_begins, a_bytes, a_shapeLength, a_shapeItems, a_shapeLines, a_lastNumbers, a_wordLines, a_nodeItem, a_below, a_beside, a_endsHere, a_read, a_numbers, a_rest, a_restLength, a_restTime) (nI (S c)) :=
  xw_clear (fun N hZ => ⟨n + 1, xw_ltf9 hC hO hL hN hpc hc h n 0 0 f_from N (by omega) (pz_Iv_0 (pz_Cz hC hc).2 hZ) (fun l hl => by rw [pz_b_0, decide_eq_false (Nat.not_lt_zero l), Bool.false_and])⟩)
/-- bits of the lines that fit -/
def pz_Fb (n pc : Nat) (z : Nat → Nat) (it : Nat → Nat → Int32) (Q : Nat → Int32) (y : Int64) : Prop := ∀ l, l < 64 → pz_b y l = (decide (l < n) && pz_fit Q pc (it l) (z l))
theorem pz_fit_tl {Q : Nat → Int32} {l : Nat} (hC : pz_C n z it T S) (hl : l < n) (hQ : ∀ k, k < pc → pz_pok (Q k)) (h0 : 0 < pc) : pz_fit Q pc (it l) (z l) = pz_M (pz_g Q) (fun p i => pz_tl (Q p) (it l i)) pc (z l) 0 0 := by
  unfold pz_fit
  rw [decide_eq_true h0, Bool.true_and]
  exact pz_M_congr (fun p i hp hi hg => (pz_tl_me (hQ p hp) (of_decide_eq_false hg) (pz_Ci hC hl hi)).symm)
theorem xw_fit33 {post : SX → Prop} {ex : Int32} (hC : pz_C n z it T S) (hO : pz_So n S a_shapeOf) (hL : pz_Sl n z it S a_shapeLength a_shapeItems) (hN : pz_Nm n z it S P a_begins a_bytes) (hB : pz_Bs n (pz_mm S n) S a_shapeLines) (hpc : pc ≤ 8) (hQ : ∀ k, k < pc → pz_pok (a_parts k)) (hex : ex ≠ 0 → ∀ k, k < pc → pz_num (a_parts k) = false ∧ a_parts k < 3000) (h : ∀ (y : Int64) (fr : Int32) (N : Nat → Int32), pz_Fb n pc z it a_parts y → post (f_draftCount, nI pc, nI n, nI (pz_mm S n), f_nodes, f_isFitted, y, fr, a_draft, a_parts, a_times, a_shapeOf, a_begins, a_bytes, a_shapeLength, a_shapeItems, a_shapeLines, a_lastNumbers, a_wordLines, a_nodeItem, a_below, a_beside, a_endsHere, a_read, N, a_rest, a_restLength, a_restTime)) : ∀ d s (y : Int64) (fr : Int32) (N : Nat → Int32), s + d = pz_mm S n → (∀ l, l < 64 → pz_b y l = (decide (l < n) && (decide (S l < s) && pz_fit a_parts pc (it l) (z l)))) → wX_fit_33 post ex (d + 1) (nI s) f_draftCount (nI pc) (nI n) (nI (pz_mm S n)) f_nodes f_isFitted y fr a_draft a_parts a_times a_shapeOf a_begins a_bytes a_shapeLength a_shapeItems a_shapeLines a_lastNumbers a_wordLines a_nodeItem a_below a_beside a_endsHere a_read N a_rest a_restLength a_restTime := by
  have hn := pz_Cn hC
  have hmm := pz_Cmm hC
  intro d
  induction d with
  | zero =>
    intro s y fr N hs hy
    have e : s = pz_mm S n := by omega
    rw [e]
    refine pk_le (pz_mm S n) (pz_mm S n) (fun _ => h y fr N (fun l hl => ?_)) (fun c => absurd c (by omega))
    rw [hy l hl, e]
    by_cases f : l < n
    · rw [decide_eq_true (show S l < pz_mm S n from pz_mm_lt f), Bool.true_and]
    · rw [decide_eq_false f, Bool.false_and, Bool.false_and]
  | succ d ih =>
    intro s y fr N hs hy
    obtain ⟨c, hc, ec⟩ := pz_mm_sur n (pz_Cq hC) s (by omega)
    refine pk_le (pz_mm S n) s (fun c => absurd c (by omega)) (fun _ => pk_le pc 0 (fun p0 => h y fr N (fun l hl => ?_)) (fun p0 => ?_))
    · rw [hy l hl]
      have e : pz_fit a_parts pc (it l) (z l) = false := by
        unfold pz_fit
        rw [decide_eq_false (by omega), Bool.false_and]
      rw [e, Bool.and_false]
    · have step : ∀ y' : Int64, (∀ l, l < 64 → pz_b y' l = (pz_b y l || (decide (l < n) && (decide (S l = s) && pz_fit a_parts pc (it l) (z l))))) → ∀ l, l < 64 → pz_b y' l = (decide (l < n) && (decide (S l < s + 1) && pz_fit a_parts pc (it l) (z l))) := by
        intro y' hy' l hl
        rw [hy' l hl, hy l hl]
        rcases Nat.lt_trichotomy (S l) s with a | a | a
        · rw [decide_eq_true a, decide_eq_false (show ¬ S l = s by omega), decide_eq_true (show S l < s + 1 by omega)]
          simp
        · rw [decide_eq_false (show ¬ S l < s by omega), decide_eq_true a, decide_eq_true (show S l < s + 1 by omega)]
          simp
        · rw [decide_eq_false (show ¬ S l < s by omega), decide_eq_false (show ¬ S l = s by omega), decide_eq_false (show ¬ S l < s + 1 by omega)]
          simp
      have alike : ∀ l, l < n → S l = s → pz_M (pz_g a_parts) (fun p i => pz_ts (a_parts p) (it l i)) pc (z l) 0 0 = pz_M (pz_g a_parts) (fun p i => pz_ts (a_parts p) (it c i)) pc (z c) 0 0 := by
        intro l hl e
        obtain ⟨e1, e2⟩ := (pz_CS hC hl hc).mp (by rw [e, ec])
        rw [e1]
        refine pz_M_congr (fun p i hp hi hg => ?_)
        have e3 := e2 i (by omega)
        have e4 := pz_bl_num e3
        unfold pz_ts
        rw [e4]
        cases u : pz_num (it c i) with
        | true => rw [if_pos rfl, if_pos rfl]
        | false =>
          rw [if_neg (by decide), if_neg (by decide)]
          rw [u] at e4
          rw [pz_bl_w e4, pz_bl_w u] at e3
          rw [e3]
      have imp : ∀ l, l < n → pz_fit a_parts pc (it l) (z l) = true → pz_M (pz_g a_parts) (fun p i => pz_ts (a_parts p) (it l i)) pc (z l) 0 0 = true := by
        intro l hl hf
        rw [pz_fit_tl hC hl hQ p0] at hf
        exact pz_M_le (fun p i hp hi hg ht => pz_tl_ts ht) hf
      rw [← ec]
      refine xw_may hC hL hc hpc (fun m1 => br_f pz_10 (br_c (fun x0 => xw_ltf hC hO hL hN hpc hc (fun w fr' N' hw => nm_e (nm_r (nI_1 (S c)) ?_))) (fun x1 => And.intro (vp_in_nI (by omega) (by decide)) (nm_e (nm_r (nI_1 (S c)) ?_))))) (fun m0 => br_t rfl (nm_r (nI_1 (S c)) ?_))
      · rw [ec]
        refine ih (s + 1) _ fr' N' (by omega) (step _ (fun l hl => ?_))
        rw [pz_b_or, hw l hl, ec]
        by_cases f : l < n
        · rw [pz_fit_tl hC f hQ p0]
        · rw [decide_eq_false f, Bool.false_and, Bool.false_and]
      · rw [nI_clamp (by omega), ec]
        refine ih (s + 1) _ fr N (by omega) (step _ (fun l hl => ?_))
        rw [pz_b_or, hB s (by omega) l hl]
        by_cases f : l < n
        · by_cases e : S l = s
          · have e2 : pz_fit a_parts pc (it l) (z l) = true := by
              rw [pz_fit_tl hC f hQ p0, ← m1, ← alike l f e]
              exact pz_M_congr (fun p i hp hi hg => (pz_ts_tl (hQ p hp) (of_decide_eq_false hg) (hex x1 p hp).1 (hex x1 p hp).2).symm)
            rw [e2, Bool.and_true]
          · rw [decide_eq_false e, Bool.false_and]
        · rw [decide_eq_false f, Bool.false_and, Bool.false_and]
      · rw [ec]
        refine ih (s + 1) y fr N (by omega) (step y (fun l hl => ?_))
        have e0 : (decide (l < n) && (decide (S l = s) && pz_fit a_parts pc (it l) (z l))) = false := by
          by_cases f : l < n
          · by_cases e : S l = s
            · have e2 : pz_fit a_parts pc (it l) (z l) = false := by
                apply ts_nt
                intro k
                have := imp l f k
                rw [alike l f e, m0] at this
                exact absurd this (by decide)
              rw [e2, Bool.and_false, Bool.and_false]
            · rw [decide_eq_false e, Bool.false_and, Bool.and_false]
          · rw [decide_eq_false f, Bool.false_and]
        rw [e0, Bool.or_false]
theorem xw_fit {post : SX → Prop} (hC : pz_C n z it T S) (hX : pz_X n z it S f_shapes f_nodes a_shapeOf a_begins a_bytes a_shapeLength a_shapeItems a_shapeLines a_lastNumbers a_wordLines a_nodeItem a_below a_beside a_endsHere) (hpc : pc ≤ 8) (hQ : ∀ k, k < pc → pz_pok (a_parts k)) (hF : f_isFitted ≠ 0 → pz_Fb n pc z it a_parts f_fits) (h : ∀ (q : Int32) (y : Int64) (fr : Int32) (N : Nat → Int32), pz_Fb n pc z it a_parts y → post (f_draftCount, nI pc, nI n, f_shapes, f_nodes, q, y, fr, a_draft, a_parts, a_times, a_shapeOf, a_begins, a_bytes, a_shapeLength, a_shapeItems, a_shapeLines, a_lastNumbers, a_wordLines, a_nodeItem, a_below, a_beside, a_endsHere, a_read, N, a_rest, a_restLength, a_restTime)) : wpX_fit post (f_draftCount, nI pc, nI n, f_shapes, f_nodes, f_isFitted, f_fits, f_from, a_draft, a_parts, a_times, a_shapeOf, a_begins, a_bytes, a_shapeLength, a_shapeItems, a_shapeLines, a_lastNumbers, a_wordLines, a_nodeItem, a_below, a_beside, a_endsHere, a_read, a_numbers, a_rest, a_restLength, a_restTime) := by
  obtain ⟨x1, x2, x3, x4, x5, ⟨P, x6⟩, x7, x8⟩ := hX
  subst x1
  have z0 : ∀ l, l < 64 → pz_b 0 l = (decide (l < n) && (decide (S l < 0) && pz_fit a_parts pc (it l) (z l))) := fun l hl => by
    rw [pz_b_0, decide_eq_false (Nat.not_lt_zero _), Bool.false_and, Bool.and_false]
  refine br_c (fun a => xw_names hpc (fun e => br_t rfl ⟨pz_mm S n + 1, ?_⟩) (br_f pz_10 ⟨pz_mm S n + 1, ?_⟩)) (fun a => h _ _ _ _ (hF a))
  · exact xw_fit33 hC x2 x3 x6 x4 hpc hQ (fun _ => e) (fun y fr N hy => h _ y fr N hy) (pz_mm S n) 0 0 f_from a_numbers (by omega) z0
  · exact xw_fit33 hC x2 x3 x6 x4 hpc hQ (fun k => absurd rfl k) (fun y fr N hy => h _ y fr N hy) (pz_mm S n) 0 0 f_from a_numbers (by omega) z0
end
end
section
/-! Y: lines and groups -/
def pz_Y (n : Nat) (z : Nat → Nat) (it : Nat → Nat → Int32) (sizes items : Nat → Int32) : Prop := ∀ l, l < n → sizes l = nI (z l) ∧ ∀ i, i < z l → items (8 * l + i) = it l i
def pz_01 (b : Bool) : Int32 := if b = true then 1 else 0
section
variable {g_count g_draftSize g_partCount : Int32} {b_times b_sizes b_items b_draft b_parts b_table : Nat → Int32}
variable {n : Nat} {z : Nat → Nat} {it : Nat → Nat → Int32} {T : Nat → Int32} {S : Nat → Nat}
theorem pz_c1999 : (1999 : Int32).toInt = 1999 := by decide
theorem pz_c23 : (23 : Int32).toInt = 23 := by decide
theorem pz_c3999 : (3999 : Int32).toInt = 3999 := by decide
theorem yw_badItem {post : Int32 → Prop} {x : Int32} (h0 : pz_ok x → post 0) (h1 : ¬ pz_ok x → post 1) : wpY_badItem post (g_count, g_draftSize, g_partCount, b_times, b_sizes, b_items, b_draft, b_parts, b_table) x := by
  refine br_c (fun a => h1 ?_) (fun a => br_c (fun b => h1 ?_) (fun b => br_c (fun c => h0 (Or.inl ?_)) (fun c => br_c (fun d => h0 (Or.inr ?_)) (fun d => h1 ?_))))
  · rw [pz_ilt, pz_c0] at a
    rintro (k | k) <;> omega
  · rw [pz_ilt, pz_c1999] at b
    rintro (k | k) <;> omega
  · rw [pz_ilt, pz_c0] at a
    rw [pz_ile, pz_c23] at c
    omega
  · rw [pz_ilt, pz_c1999] at b
    rw [pz_ile, pz_1000] at d
    omega
  · rw [pz_ile, pz_c23] at c
    rw [pz_ile, pz_1000] at d
    rintro (k | k) <;> omega
theorem yw_badLine_y {post : Int32 → Prop} {l : Nat} (hn : n ≤ 60) (hl : l < n) (h : post 0) : wpY_badLine post (nI n, g_draftSize, g_partCount, b_times, b_sizes, b_items, b_draft, b_parts, b_table) (nI l) :=
  br_f (nI_pos (by omega)) (pk_lt l n (fun _ => h) (fun c => absurd c (by omega)))
theorem yw_badLine_n {post : Int32 → Prop} {x : Int32} (hx : x < 0 ∨ nI n ≤ x) (h : post 1) : wpY_badLine post (nI n, g_draftSize, g_partCount, b_times, b_sizes, b_items, b_draft, b_parts, b_table) x := by
  refine br_c (fun _ => h) (fun a => br_c (fun b => ?_) (fun _ => h))
  rcases hx with k | k
  · exact absurd k a
  · exact absurd b (pz_nlt.mpr k)
theorem yw_alike19 {post : Int32 → Prop} {a b : Nat} (hC : pz_C n z it T S) (hY : pz_Y n z it b_sizes b_items) (ha : a < n) (hb : b < n) (hz : z a = z b) (h1 : S a = S b → post 1) (h0 : S a ≠ S b → post 0) : ∀ d i, i + d = z a → (∀ t, t < i → pz_bl (it a t) = pz_bl (it b t)) → wY_areAlike_19 post (nI a) (nI b) g_count g_draftSize g_partCount b_times b_sizes b_items b_draft b_parts b_table (d + 1) (nI i) := by
  have hn := pz_Cn hC
  have za := pz_Cz hC ha
  have hl' : b_sizes (nI a).toNatClampNeg = nI (z a) := by rw [nI_clamp (by omega)]; exact (hY a ha).1
  intro d
  induction d with
  | zero =>
    intro i hi hq
    have e : i = z a := by omega
    subst e
    exact And.intro (vp_in_nI (by omega) (by decide)) (pk_le (z a) (z a) (fun _ => h1 ((pz_CS hC ha hb).mpr ⟨hz, hq⟩)) (fun c => absurd c (by omega)) (hx := hl'))
  | succ d ih =>
    intro i hi hq
    have hi' : i < z a := by omega
    have oa := pz_Ci hC ha hi'
    have ob := pz_Ci hC hb (i := i) (by omega)
    have K1 : (it a i = it b i ∨ (1000 ≤ (it a i).toInt ∧ 1000 ≤ (it b i).toInt)) → wY_areAlike_19 post (nI a) (nI b) g_count g_draftSize g_partCount b_times b_sizes b_items b_draft b_parts b_table (d + 1) (nI (i + 1)) := by
      intro k
      refine ih (i + 1) (by omega) (fun t ht => ?_)
      by_cases e : t = i
      · rw [e]; exact (pz_bl_eq oa ob).mpr k
      · exact hq t (by omega)
    have K0 : ¬ (it a i = it b i ∨ (1000 ≤ (it a i).toInt ∧ 1000 ≤ (it b i).toInt)) → post 0 := by
      intro k
      refine h0 (fun e => k ?_)
      exact (pz_bl_eq oa ob).mp (((pz_CS hC ha hb).mp e).2 i hi')
    refine And.intro (vp_in_nI (by omega) (by decide)) (pk_le (z a) i (fun c => absurd c (by omega)) (fun _ => And.intro (pz_in8 (by omega) (by omega)) (nm_r (e' := it a i) ?_ (And.intro (pz_in8 (by omega) (by omega)) (nm_r (e' := it b i) ?_ (br_c (fun p => br_c (fun q => nm_r (nI_1 i) (K1 (Or.inl q))) (fun q => br_t rfl (K0 ?_))) (fun p => br_c (fun r => br_c (fun q => nm_r (nI_1 i) (K1 (Or.inl q))) (fun q => br_t rfl (K0 ?_))) (fun r => br_c (fun q => nm_r (nI_1 i) (K1 (Or.inl q))) (fun q => br_f pz_10 (nm_r (nI_1 i) (K1 (Or.inr ?_)))))))))) ) (hx := hl'))
    · rw [pz_cl8 (by omega) (by omega)]; exact (hY a ha).2 i hi'
    · rw [pz_cl8 (by omega) (by omega)]; exact (hY b hb).2 i (by omega)
    · rw [pz_ilt, pz_1000] at p
      rintro (k | k)
      · exact q k
      · omega
    · rw [pz_ilt, pz_1000] at r
      rintro (k | k)
      · exact q k
      · omega
    · rw [pz_ilt, pz_1000] at p r
      omega
theorem yw_alike {post : Int32 → Prop} {a b : Nat} (hC : pz_C n z it T S) (hY : pz_Y n z it b_sizes b_items) (ha : a < n) (hb : b < n) (h1 : S a = S b → post 1) (h0 : S a ≠ S b → post 0) : wpY_areAlike post (g_count, g_draftSize, g_partCount, b_times, b_sizes, b_items, b_draft, b_parts, b_table) (nI a) (nI b) := by
  have hn := pz_Cn hC
  have za := pz_Cz hC ha
  have zb := pz_Cz hC hb
  refine And.intro (vp_in_nI (by omega) (by decide)) (And.intro (vp_in_nI (by omega) (by decide)) (pk_eq (z a) (z b) (fun e => ⟨z a + 1, yw_alike19 hC hY ha hb e h1 h0 (z a) 0 (by omega) (fun t ht => absurd ht (Nat.not_lt_zero t))⟩) (fun e => h0 (fun k => e ((pz_CS hC ha hb).mp k).1)) (hx := ?_) (hy := ?_)))
  · rw [nI_clamp (by omega)]; exact (hY a ha).1
  · rw [nI_clamp (by omega)]; exact (hY b hb).1
theorem yw_first2 {post : Int32 → Prop} {l : Nat} (hC : pz_C n z it T S) (hY : pz_Y n z it b_sizes b_items) (hl : l < n) (h : post (nI (pz_fo S l))) : ∀ d k, k + d = l → (∀ j, j < k → S j ≠ S l) → wY_firstOf_2 post (nI l) g_count g_draftSize g_partCount b_times b_sizes b_items b_draft b_parts b_table (d + 1) (nI k) := by
  have hn := pz_Cn hC
  intro d
  induction d with
  | zero =>
    intro k hk hq
    have e : k = l := by omega
    subst e
    have e2 : pz_fo S k = k := pz_find_eq (Nat.le_refl k) (fun j hj => decide_eq_false (hq j hj)) (fun c => absurd c (Nat.lt_irrefl k))
    rw [e2] at h
    exact pk_le k k (fun _ => h) (fun c => absurd c (by omega))
  | succ d ih =>
    intro k hk hq
    refine pk_le l k (fun c => absurd c (by omega)) (fun _ => yw_alike hC hY (by omega) hl (fun e => br_f pz_10 ?_) (fun e => br_t rfl (nm_r (nI_1 k) (ih (k + 1) (by omega) (fun j hj => ?_)))))
    · have e2 : pz_fo S l = k := pz_find_eq (by omega) (fun j hj => decide_eq_false (hq j hj)) (fun _ => decide_eq_true e)
      rw [e2] at h
      exact h
    · by_cases f : j = k
      · rw [f]; exact e
      · exact hq j (by omega)
theorem yw_firstOf {post : Int32 → Prop} {l : Nat} (hC : pz_C n z it T S) (hY : pz_Y n z it b_sizes b_items) (hl : l < n) (h : post (nI (pz_fo S l))) : wpY_firstOf post (g_count, g_draftSize, g_partCount, b_times, b_sizes, b_items, b_draft, b_parts, b_table) (nI l) :=
  ⟨l + 1, yw_first2 hC hY hl h l 0 (by omega) (fun j hj => absurd hj (Nat.not_lt_zero j))⟩
theorem yw_size4 {post : Int32 → Prop} {l : Nat} (hC : pz_C n z it T S) (hY : pz_Y n z it b_sizes b_items) (hl : l < n) (h : post (nI (pz_sz S n (S l)))) : ∀ d k, k + d = n → wY_sizeOf_4 post (nI l) (nI n) g_draftSize g_partCount b_times b_sizes b_items b_draft b_parts b_table (d + 1) (nI (pz_cnt (fun j => decide (S j = S l)) k)) (nI k) := by
  have hn := pz_Cn hC
  intro d
  induction d with
  | zero =>
    intro k hk
    have e : k = n := by omega
    subst e
    exact pk_le k k (fun _ => h) (fun c => absurd c (by omega))
  | succ d ih =>
    intro k hk
    have K := ih (k + 1) (by omega)
    refine pk_le n k (fun c => absurd c (by omega)) (fun _ => yw_alike hC hY (by omega) hl (fun e => br_f pz_10 (nm_r (nI_1 _) (nm_r (nI_1 k) ?_))) (fun e => br_t rfl (nm_r (nI_1 k) ?_)))
    · rw [pz_cnt_t (decide_eq_true e)] at K
      exact K
    · rw [pz_cnt_f (decide_eq_false e)] at K
      exact K
theorem yw_sizeOf {post : Int32 → Prop} {l : Nat} (hC : pz_C n z it T S) (hY : pz_Y n z it b_sizes b_items) (hl : l < n) (h : post (nI (pz_sz S n (S l)))) : wpY_sizeOf post (nI n, g_draftSize, g_partCount, b_times, b_sizes, b_items, b_draft, b_parts, b_table) (nI l) :=
  ⟨n + 1, yw_size4 hC hY hl h n 0 (by omega)⟩
theorem yw_groups4 {post : Int32 → Prop} (hC : pz_C n z it T S) (hY : pz_Y n z it b_sizes b_items) (h : post (nI (pz_mm S n))) : ∀ d k, k + d = n → wY_groups_4 post (nI n) g_draftSize g_partCount b_times b_sizes b_items b_draft b_parts b_table (d + 1) (nI (pz_cnt (pz_nw S) k)) (nI k) := by
  have hn := pz_Cn hC
  intro d
  induction d with
  | zero =>
    intro k hk
    have e : k = n := by omega
    subst e
    rw [pz_cnt_nw' (pz_Cq hC)]
    exact pk_le k k (fun _ => h) (fun c => absurd c (by omega))
  | succ d ih =>
    intro k hk
    have K := ih (k + 1) (by omega)
    have hk' : k < n := by omega
    have hfo := (pz_fo_s (S := S) (l := k)).1
    refine pk_le n k (fun c => absurd c (by omega)) (fun _ => yw_firstOf hC hY hk' (pk_eq (pz_fo S k) k (fun e => nm_r (nI_1 _) (nm_r (nI_1 k) ?_)) (fun e => nm_r (nI_1 k) ?_)))
    · rw [pz_cnt_t ((pz_fo_nw (pz_Cq hC) hk').mp e)] at K
      exact K
    · rw [pz_cnt_f (ts_nt (fun w => e ((pz_fo_nw (pz_Cq hC) hk').mpr w)))] at K
      exact K
theorem yw_groups {post : Int32 → Prop} (hC : pz_C n z it T S) (hY : pz_Y n z it b_sizes b_items) (h : post (nI (pz_mm S n))) : wpY_groups post (nI n, g_draftSize, g_partCount, b_times, b_sizes, b_items, b_draft, b_parts, b_table) :=
  ⟨n + 1, yw_groups4 hC hY h n 0 (by omega)⟩
/-- how many first lines come before line l by size -/
def pz_bp (S : Nat → Nat) (n l : Nat) : Nat → Bool := fun o => decide (o ≠ l) && (pz_nw S o && (decide (pz_sz S n (S l) < pz_sz S n (S o)) || (decide (pz_sz S n (S o) = pz_sz S n (S l)) && decide (o < l))))
theorem pz_bp_rk (hC : pz_C n z it T S) {l : Nat} (hl : l < n) (hw : pz_nw S l = true) : pz_cnt (pz_bp S n l) n = pz_rk S n (S l) := by
  unfold pz_rk
  rw [← pz_cnt_nw _ n (pz_Cq hC)]
  refine pz_cnt_congr n (fun o ho => ?_)
  unfold pz_bp
  cases w : pz_nw S o with
  | false => simp
  | true =>
    have m := pz_nw_mono (pz_Cq hC) ho hl w hw
    by_cases e : o = l
    · subst e
      simp
    · by_cases f : o < l
      · have f2 := m.mp f
        rw [decide_eq_true e, decide_eq_true f, decide_eq_true f2]
        simp
      · have f2 : ¬ S o < S l := fun k => f (m.mpr k)
        rw [decide_eq_true e, decide_eq_false f, decide_eq_false f2]
        simp
theorem yw_lar15 {post : Int32 → Prop} {J2 : Int32 → Prop} {v : Int32} {l : Nat} (hC : pz_C n z it T S) (hY : pz_Y n z it b_sizes b_items) (hl : l < n) (h1 : pz_nw S l = true → nI (pz_cnt (pz_bp S n l) n) = v → post (nI l)) (h0 : ¬ (pz_nw S l = true ∧ nI (pz_cnt (pz_bp S n l) n) = v) → J2 (nI (l + 1))) : ∀ d k, k + d = n → wY_largest_15 post J2 v (nI l) (nI n) g_draftSize g_partCount b_times b_sizes b_items b_draft b_parts b_table (d + 1) (nI (pz_cnt (pz_bp S n l) k)) (nI k) := by
  have hn := pz_Cn hC
  have hfl := (pz_fo_s (S := S) (l := l)).1
  have s1 := pz_sz_le S n (S l)
  intro d
  induction d with
  | zero =>
    intro k hk
    have e : k = n := by omega
    subst e
    refine pk_le k k (fun _ => yw_firstOf hC hY hl (pk_eq (pz_fo S l) l (fun e => br_c (fun a => ?_) (fun a => nm_r (nI_1 l) (h0 (fun w => a w.2)))) (fun e => nm_r (nI_1 l) (h0 (fun w => e ((pz_fo_nw (pz_Cq hC) hl).mpr w.1)))))) (fun c => absurd c (by omega))
    exact h1 ((pz_fo_nw (pz_Cq hC) hl).mp e) a
  | succ d ih =>
    intro k hk
    have hk' : k < n := by omega
    have hfk := (pz_fo_s (S := S) (l := k)).1
    have s2 := pz_sz_le S n (S k)
    have K := ih (k + 1) (by omega)
    have no : pz_bp S n l k = false → wY_largest_15 post J2 v (nI l) (nI n) g_draftSize g_partCount b_times b_sizes b_items b_draft b_parts b_table (d + 1) (nI (pz_cnt (pz_bp S n l) k)) (nI (k + 1)) := by
      intro f
      rw [pz_cnt_f f] at K
      exact K
    have yes : pz_bp S n l k = true → wY_largest_15 post J2 v (nI l) (nI n) g_draftSize g_partCount b_times b_sizes b_items b_draft b_parts b_table (d + 1) (nI (pz_cnt (pz_bp S n l) k + 1)) (nI (k + 1)) := by
      intro f
      rw [pz_cnt_t f] at K
      exact K
    refine pk_le n k (fun c => absurd c (by omega)) (fun _ => pk_eq k l (fun e => br_t rfl (nm_r (nI_1 k) (no ?_))) (fun ne => yw_firstOf hC hY hk' (pk_eq (pz_fo S k) k (fun e => br_f pz_10 (yw_sizeOf hC hY hk' (yw_sizeOf hC hY hl (pk_lt (pz_sz S n (S l)) (pz_sz S n (S k)) (fun a => nm_r (nI_1 _) (nm_r (nI_1 k) (yes ?_))) (fun a => yw_sizeOf hC hY hk' (yw_sizeOf hC hY hl (pk_eq (pz_sz S n (S k)) (pz_sz S n (S l)) (fun b => pk_le l k (fun c => nm_r (nI_1 k) (no ?_)) (fun c => nm_r (nI_1 _) (nm_r (nI_1 k) (yes ?_)))) (fun b => nm_r (nI_1 k) (no ?_))))))))) (fun e => br_t rfl (nm_r (nI_1 k) (no ?_))))))
    · unfold pz_bp
      rw [decide_eq_false (fun w => w e), Bool.false_and]
    · have w := (pz_fo_nw (pz_Cq hC) hk').mp e
      unfold pz_bp
      rw [w, decide_eq_true ne, decide_eq_true a]
      rfl
    · unfold pz_bp
      rw [decide_eq_false (show ¬ pz_sz S n (S l) < pz_sz S n (S k) by omega), decide_eq_false (show ¬ k < l by omega)]
      simp
    · have w := (pz_fo_nw (pz_Cq hC) hk').mp e
      unfold pz_bp
      rw [w, decide_eq_true ne, decide_eq_true b, decide_eq_true c]
      simp
    · unfold pz_bp
      rw [decide_eq_false (show ¬ pz_sz S n (S l) < pz_sz S n (S k) by omega), decide_eq_false b]
      simp
    · have w : pz_nw S k = false := ts_nt (fun q => e ((pz_fo_nw (pz_Cq hC) hk').mpr q))
      unfold pz_bp
      rw [w]
      simp
theorem yw_lar2 {post : Int32 → Prop} {v : Int32} (hC : pz_C n z it T S) (hY : pz_Y n z it b_sizes b_items) (h1 : pz_find (fun l => pz_nw S l && decide (nI (pz_rk S n (S l)) = v)) n < n → post (nI (pz_find (fun l => pz_nw S l && decide (nI (pz_rk S n (S l)) = v)) n))) (h0 : pz_find (fun l => pz_nw S l && decide (nI (pz_rk S n (S l)) = v)) n = n → post (-2)) : ∀ d k, k + d = n → (∀ j, j < k → (pz_nw S j && decide (nI (pz_rk S n (S j)) = v)) = false) → wY_largest_2 post v (nI n) g_draftSize g_partCount b_times b_sizes b_items b_draft b_parts b_table (d + 1) (nI k) := by
  have hn := pz_Cn hC
  intro d
  induction d with
  | zero =>
    intro k hk hq
    have e : k = n := by omega
    subst e
    exact pk_le k k (fun _ => h0 (pz_find_eq (Nat.le_refl k) hq (fun c => absurd c (Nat.lt_irrefl k)))) (fun c => absurd c (by omega))
  | succ d ih =>
    intro k hk hq
    have hk' : k < n := by omega
    refine pk_le n k (fun c => absurd c (by omega)) (fun _ => ⟨n + 1, yw_lar15 hC hY hk' (fun a b => ?_) (fun a => ih (k + 1) (by omega) (fun j hj => ?_)) n 0 (by omega)⟩)
    · rw [pz_bp_rk hC hk' a] at b
      have e : pz_find (fun l => pz_nw S l && decide (nI (pz_rk S n (S l)) = v)) n = k := pz_find_eq (by omega) hq (fun _ => by rw [a, decide_eq_true b]; rfl)
      rw [e] at h1
      exact h1 hk'
    · by_cases e : j = k
      · subst e
        apply ts_nt
        intro w
        rw [Bool.and_eq_true] at w
        refine a ⟨w.1, ?_⟩
        rw [pz_bp_rk hC hk' w.1]
        exact of_decide_eq_true w.2
      · exact hq j (by omega)
theorem yw_largest {post : Int32 → Prop} {v : Int32} (hC : pz_C n z it T S) (hY : pz_Y n z it b_sizes b_items) (h1 : pz_find (fun l => pz_nw S l && decide (nI (pz_rk S n (S l)) = v)) n < n → post (nI (pz_find (fun l => pz_nw S l && decide (nI (pz_rk S n (S l)) = v)) n))) (h0 : pz_find (fun l => pz_nw S l && decide (nI (pz_rk S n (S l)) = v)) n = n → post (-2)) : wpY_largest post (nI n, g_draftSize, g_partCount, b_times, b_sizes, b_items, b_draft, b_parts, b_table) v :=
  ⟨n + 1, yw_lar2 hC hY h1 h0 n 0 (by omega) (fun j hj => absurd hj (Nat.not_lt_zero j))⟩
theorem yw_isNew2 {post : Int32 → Prop} {l i : Nat} (hC : pz_C n z it T S) (hY : pz_Y n z it b_sizes b_items) (hl : l < n) (hi : i < z l) (h1 : pz_isn S it i l = true → post 1) (h0 : pz_isn S it i l = false → post 0) : ∀ d k, k + d = l → (∀ j, j < k → (decide (S j = S l) && decide (it j i = it l i)) = false) → wY_isNew_2 post (nI l) (nI i) g_count g_draftSize g_partCount b_times b_sizes b_items b_draft b_parts b_table (d + 1) (nI k) := by
  have hn := pz_Cn hC
  have hz := pz_Cz hC hl
  intro d
  induction d with
  | zero =>
    intro k hk hq
    have e : k = l := by omega
    subst e
    refine pk_le k k (fun _ => h1 ?_) (fun c => absurd c (by omega))
    unfold pz_isn
    rw [pz_ex_f.mpr hq]
    rfl
  | succ d ih =>
    intro k hk hq
    have hk' : k < n := by omega
    have nxt : (decide (S k = S l) && decide (it k i = it l i)) = false → ∀ j, j < k + 1 → (decide (S j = S l) && decide (it j i = it l i)) = false := by
      intro f j hj
      by_cases e : j = k
      · rw [e]; exact f
      · exact hq j (by omega)
    refine pk_le l k (fun c => absurd c (by omega)) (fun _ => yw_alike hC hY hk' hl (fun e => br_f pz_10 (And.intro (pz_in8 (by omega) (by omega)) (And.intro (pz_in8 (by omega) (by omega)) (pz_if (d := it k i = it l i) ?_ (fun a => h0 ?_) (fun a => nm_r (nI_1 k) (ih (k + 1) (by omega) (nxt (by rw [decide_eq_false a, Bool.and_false])))))))) (fun e => br_t rfl (nm_r (nI_1 k) (ih (k + 1) (by omega) (nxt (by rw [decide_eq_false e, Bool.false_and]))))))
    · rw [pz_cl8 (by omega) (by omega), pz_cl8 (by omega) (by omega), (hY k hk').2 i (by have := (pz_same hC hk' hl e).1; omega), (hY l hl).2 i hi]
    · unfold pz_isn
      rw [(pz_ex_t l).mpr ⟨k, by omega, by rw [decide_eq_true e, decide_eq_true a]; rfl⟩]
      rfl
theorem yw_isNew {post : Int32 → Prop} {l i : Nat} (hC : pz_C n z it T S) (hY : pz_Y n z it b_sizes b_items) (hl : l < n) (hi : i < z l) (h1 : pz_isn S it i l = true → post 1) (h0 : pz_isn S it i l = false → post 0) : wpY_isNew post (g_count, g_draftSize, g_partCount, b_times, b_sizes, b_items, b_draft, b_parts, b_table) (nI l) (nI i) :=
  ⟨l + 1, yw_isNew2 hC hY hl hi h1 h0 l 0 (by omega) (fun j hj => absurd hj (Nat.not_lt_zero j))⟩
/-- the answer of a column -/
def pz_col (S : Nat → Nat) (it : Nat → Nat → Int32) (s i n : Nat) (w : Int32) : Int32 := if w = 0 then pz_lo' S it s i n else if w = 1 then pz_hi' S it s i n else if w = 2 then pz_su' S it s i n else nI (pz_cnt (fun l => decide (S l = s) && pz_isn S it i l) n)
theorem yw_col70 {post : Int32 → Prop} {c i : Nat} {w : Int32} (hC : pz_C n z it T S) (hY : pz_Y n z it b_sizes b_items) (hc : c < n) (hi : i < z c) (h : post (pz_col S it (S c) i n w)) : ∀ d l, l + d = n → wY_column_70 post (nI c) (nI i) w (nI n) g_draftSize g_partCount b_times b_sizes b_items b_draft b_parts b_table (d + 1) (pz_lo' S it (S c) i l) (pz_hi' S it (S c) i l) (pz_su' S it (S c) i l) (nI (pz_cnt (fun l => decide (S l = S c) && pz_isn S it i l) l)) (nI l) := by
  have hn := pz_Cn hC
  have hz := pz_Cz hC hc
  intro d
  induction d with
  | zero =>
    intro l hl
    have e : l = n := by omega
    subst e
    unfold pz_col at h
    refine pk_le l l (fun _ => br_c (fun a => ?_) (fun a => br_c (fun b => ?_) (fun b => br_c (fun d => ?_) (fun d => ?_)))) (fun c => absurd c (by omega))
    · rw [if_pos a] at h; exact h
    · rw [if_neg a, if_pos b] at h; exact h
    · rw [if_neg a, if_neg b, if_pos d] at h; exact h
    · rw [if_neg a, if_neg b, if_neg d] at h; exact h
  | succ d ih =>
    intro l hl
    have hl' : l < n := by omega
    have K := ih (l + 1) (by omega)
    refine pk_le n l (fun c => absurd c (by omega)) (fun _ => yw_alike hC hY hl' hc (fun e => br_f pz_10 (And.intro (pz_in8 (by omega) (by omega)) (nm_r (e' := it l i - 1000) ?_ ?_))) (fun e => br_t rfl (nm_r (nI_1 l) ?_)))
    · rw [pz_cl8 (by omega) (by omega), (hY l hl').2 i (by have := (pz_same hC hl' hc e).1; omega)]
    · have a1 : pz_lo' S it (S c) i (l + 1) = if pz_lo' S it (S c) i l ≤ it l i - 1000 then pz_lo' S it (S c) i l else it l i - 1000 := if_pos e
      have a2 : pz_hi' S it (S c) i (l + 1) = if it l i - 1000 ≤ pz_hi' S it (S c) i l then pz_hi' S it (S c) i l else it l i - 1000 := if_pos e
      have a3 : pz_su' S it (S c) i (l + 1) = pz_su' S it (S c) i l + (it l i - 1000) := if_pos e
      rw [a1, a2, a3] at K
      have M : ∀ y : Int32, (y = if pz_lo' S it (S c) i l ≤ it l i - 1000 then pz_lo' S it (S c) i l else it l i - 1000) → wY_column_121 post (wY_column_70 post (nI c) (nI i) w (nI n) g_draftSize g_partCount b_times b_sizes b_items b_draft b_parts b_table (d + 1)) (nI c) (nI i) w (pz_hi' S it (S c) i l) (pz_su' S it (S c) i l) (nI (pz_cnt (fun l => decide (S l = S c) && pz_isn S it i l) l)) (nI l) (it l i - 1000) y (nI n) g_draftSize g_partCount b_times b_sizes b_items b_draft b_parts b_table := by
        intro y ey
        rw [← ey] at K
        have M2 : ∀ y2 : Int32, (y2 = if it l i - 1000 ≤ pz_hi' S it (S c) i l then pz_hi' S it (S c) i l else it l i - 1000) → wY_column_137 post (wY_column_70 post (nI c) (nI i) w (nI n) g_draftSize g_partCount b_times b_sizes b_items b_draft b_parts b_table (d + 1)) (nI c) (nI i) w y (pz_su' S it (S c) i l) (nI (pz_cnt (fun l => decide (S l = S c) && pz_isn S it i l) l)) (nI l) (it l i - 1000) y2 (nI n) g_draftSize g_partCount b_times b_sizes b_items b_draft b_parts b_table := by
          intro y2 ey2
          rw [← ey2] at K
          refine nm_e (yw_isNew hC hY hl' (by have := (pz_same hC hl' hc e).1; omega) (fun q => br_f pz_10 (nm_r (nI_1 _) (nm_r (nI_1 l) ?_))) (fun q => br_t rfl (nm_r (nI_1 l) ?_)))
          · rw [pz_cnt_t (by rw [decide_eq_true e, q]; rfl)] at K
            exact K
          · rw [pz_cnt_f (by rw [q, Bool.and_false])] at K
            exact K
        exact br_c (fun a => M2 _ (by rw [if_pos a])) (fun a => M2 _ (by rw [if_neg a]))
      exact br_c (fun a => M _ (by rw [if_pos a])) (fun a => M _ (by rw [if_neg a]))
    · have a1 : pz_lo' S it (S c) i (l + 1) = pz_lo' S it (S c) i l := if_neg e
      have a2 : pz_hi' S it (S c) i (l + 1) = pz_hi' S it (S c) i l := if_neg e
      have a3 : pz_su' S it (S c) i (l + 1) = pz_su' S it (S c) i l := if_neg e
      rw [a1, a2, a3, pz_cnt_f (by rw [decide_eq_false e, Bool.false_and])] at K
      exact K
theorem yw_hav28 {post : Int32 → Prop} {J : Int32 → Int32 → Prop} {x : Int32} {l c : Nat} (hC : pz_C n z it T S) (hY : pz_Y n z it b_sizes b_items) (hl : l < n) (h1 : pz_has (it l) (z l) x = true → J (nI (c + 1)) (nI (l + 1))) (h0 : pz_has (it l) (z l) x = false → J (nI c) (nI (l + 1))) : ∀ d i, i + d = z l → wY_having_28 post J x (nI c) (nI l) g_count g_draftSize g_partCount b_times b_sizes b_items b_draft b_parts b_table (d + 1) (pz_01 (pz_has (it l) i x)) (nI i) := by
  have hn := pz_Cn hC
  have hz := pz_Cz hC hl
  have hl' : b_sizes (nI l).toNatClampNeg = nI (z l) := by rw [nI_clamp (by omega)]; exact (hY l hl).1
  intro d
  induction d with
  | zero =>
    intro i hi
    have e : i = z l := by omega
    subst e
    refine And.intro (vp_in_nI (by omega) (by decide)) (pk_le (z l) (z l) (fun _ => ?_) (fun c => absurd c (by omega)) (hx := hl'))
    cases q : pz_has (it l) (z l) x with
    | true => exact br_f pz_10 (nm_r (nI_1 c) (nm_r (nI_1 l) (h1 q)))
    | false => exact br_t rfl (nm_r (nI_1 l) (h0 q))
  | succ d ih =>
    intro i hi
    have hi' : i < z l := by omega
    have K := ih (i + 1) (by omega)
    rw [pz_has_s] at K
    refine And.intro (vp_in_nI (by omega) (by decide)) (pk_le (z l) i (fun c => absurd c (by omega)) (fun _ => ?_) (hx := hl'))
    cases q : pz_has (it l) i x with
    | true =>
      rw [q, Bool.true_or] at K
      exact br_f pz_10 (nm_r (nI_1 i) K)
    | false =>
      rw [q, Bool.false_or] at K
      refine br_t rfl (And.intro (pz_in8 (by omega) (by omega)) (pz_if (d := it l i = x) ?_ (fun a => nm_r (nI_1 i) ?_) (fun a => nm_r (nI_1 i) ?_)))
      · rw [pz_cl8 (by omega) (by omega), (hY l hl).2 i hi']
      · rw [decide_eq_true a] at K; exact K
      · rw [decide_eq_false a] at K; exact K
theorem yw_hav14 {post : Int32 → Prop} {x : Int32} (hC : pz_C n z it T S) (hY : pz_Y n z it b_sizes b_items) (h : post (nI (pz_cnt (fun l => pz_has (it l) (z l) x) n))) : ∀ d l, l + d = n → wY_having_14 post x (nI n) g_draftSize g_partCount b_times b_sizes b_items b_draft b_parts b_table (d + 1) (nI (pz_cnt (fun l => pz_has (it l) (z l) x) l)) (nI l) := by
  have hn := pz_Cn hC
  intro d
  induction d with
  | zero =>
    intro l hl
    have e : l = n := by omega
    subst e
    exact pk_le l l (fun _ => h) (fun c => absurd c (by omega))
  | succ d ih =>
    intro l hl
    have hl' : l < n := by omega
    have K := ih (l + 1) (by omega)
    refine pk_le n l (fun c => absurd c (by omega)) (fun _ => ⟨z l + 1, yw_hav28 hC hY hl' (fun q => ?_) (fun q => ?_) (z l) 0 (by omega)⟩)
    · rw [pz_cnt_t (p := fun l => pz_has (it l) (z l) x) q] at K; exact K
    · rw [pz_cnt_f (p := fun l => pz_has (it l) (z l) x) q] at K; exact K
end
end
section
/-! Y: fits and what rests on it -/
section
variable {g_count g_draftSize g_partCount : Int32} {b_times b_sizes b_items b_draft b_parts b_table : Nat → Int32}
variable {n pc : Nat} {z : Nat → Nat} {it : Nat → Nat → Int32} {T : Nat → Int32} {S : Nat → Nat}
theorem pz_01_t {b : Bool} (h : b = true) : pz_01 b = 1 := if_pos h
theorem pz_01_f {b : Bool} (h : b = false) : pz_01 b = 0 := if_neg (by rw [h]; decide)
theorem pz_01_z {b : Bool} : pz_01 b = 0 ↔ b = false := by
  cases b
  · exact ⟨fun _ => rfl, fun _ => rfl⟩
  · exact ⟨fun h => absurd h (by decide), fun h => absurd h (by decide)⟩
theorem pz_01_n (b : Bool) : narrow .boolean (.int (pz_01 b)) = .int (pz_01 b) := by
  cases b <;> rfl
theorem pz_01_v (b : Bool) : vp_nar .boolean (pz_01 b) = pz_01 b := by
  cases b <;> rfl
theorem yw_meets {post : Int32 → Prop} {x p : Int32} (h1 : pz_me x p = true → post 1) (h0 : pz_me x p = false → post 0) : wpY_meets post (g_count, g_draftSize, g_partCount, b_times, b_sizes, b_items, b_draft, b_parts, b_table) x p := by
  unfold pz_me at h1 h0
  refine br_c (fun a => h1 ?_) (fun a => br_c (fun b => br_c (fun c => h0 ?_) (fun c => h1 ?_)) (fun b => br_c (fun c => br_c (fun d => h1 ?_) (fun d => h0 ?_)) (fun c => br_c (fun d => h0 ?_) (fun d => h1 ?_))))
  · rw [if_pos a]
  · rw [if_neg a, if_pos b]; exact decide_eq_false (fun k => k c)
  · rw [if_neg a, if_pos b]; exact decide_eq_true c
  · rw [if_neg a, if_neg b, if_pos c]; exact decide_eq_true d
  · rw [if_neg a, if_neg b, if_pos c]; exact decide_eq_false d
  · rw [if_neg a, if_neg b, if_neg c]; exact decide_eq_false (fun k => k d)
  · rw [if_neg a, if_neg b, if_neg c]; exact decide_eq_true d
theorem pz_9b {i p : Nat} : ((9 * nI i) + nI p) + 1 = nI (9 * i + (p + 1)) := by
  rw [pz_9, nI_1]; rfl
theorem pz_9c {i p : Nat} : ((9 * nI i) + 9) + nI p = nI (9 * (i + 1) + p) := by
  show nI 9 * nI i + nI 9 + nI p = _
  rw [pk_mul, nI_add, nI_add]
  exact congrArg nI (by omega)
theorem pz_9d {i p : Nat} : (((9 * nI i) + 9) + nI p) + 1 = nI (9 * (i + 1) + (p + 1)) := by
  rw [pz_9c, nI_1]; rfl
/-- the table holds the matches from place i, part q on -/
def pz_tb' (g : Nat → Bool) (t : Nat → Nat → Bool) (pc k i q : Nat) (tb : Nat → Int32) : Prop := ∀ a p, a ≤ k → p ≤ pc → (i < a ∨ (a = i ∧ q ≤ p)) → tb (9 * a + p) = pz_01 (pz_M g t pc k p a)
theorem yw_fit183 {post : Int32 → SY → Prop} {J16 J25 : Int32 → (Nat → Int32) → (Nat → Int32) → (Nat → Int32) → (Nat → Int32) → (Nat → Int32) → (Nat → Int32) → Prop} {g : Nat → Bool} {t : Nat → Nat → Bool} {k i p : Nat} {x1 x5 : Int32} (hk : k ≤ 8) (hi : i ≤ k) (hpc : pc ≤ 8) (hp : p ≤ pc) (hT : pz_tb' g t pc k i (p + 1) b_table) (h5 : x5 = pz_01 (pz_M g t pc k p i)) (h : ∀ tb : Nat → Int32, pz_tb' g t pc k i p tb → J25 (nI p + (-1)) b_times b_sizes b_items b_draft b_parts tb) : wY_fits_183 post J16 J25 x1 (nI i) (nI p) x5 g_count g_draftSize g_partCount b_times b_sizes b_items b_draft b_parts b_table := by
  refine And.intro (by rw [pz_9]; exact vp_in_nI (by omega) (by decide)) (nm_r (e' := upd b_table (9 * i + p) (pz_01 (pz_M g t pc k p i))) ?_ (nm_e (h _ ?_)))
  · rw [pz_9, nI_clamp (by omega), h5, pz_01_v]
  · intro a q ha hq hh
    by_cases e : a = i ∧ q = p
    · rw [e.1, e.2, pk_us]
    · rw [pk_un (by omega)]
      exact hT a q ha hq (by omega)
theorem yw_fits25 {post : Int32 → SY → Prop} {J : Int32 → (Nat → Int32) → (Nat → Int32) → (Nat → Int32) → (Nat → Int32) → (Nat → Int32) → (Nat → Int32) → Prop} {l i : Nat} (hC : pz_C n z it T S) (hY : pz_Y n z it b_sizes b_items) (hl : l < n) (hpc : pc ≤ 8) (hi : i ≤ z l) (h : ∀ tb : Nat → Int32, pz_tb' (pz_g b_parts) (fun p i => pz_me (it l i) (b_parts p)) pc (z l) i 0 tb → J (nI i + (-1)) b_times b_sizes b_items b_draft b_parts tb) : ∀ q (tb : Nat → Int32), q ≤ pc + 1 → pz_tb' (pz_g b_parts) (fun p i => pz_me (it l i) (b_parts p)) pc (z l) i q tb → wY_fits_25 post J (nI l) (nI i) g_count g_draftSize (nI pc) (q + 1) (nI q + (-1)) b_times b_sizes b_items b_draft b_parts tb := by
  have hn := pz_Cn hC
  have hz := pz_Cz hC hl
  intro q
  induction q with
  | zero =>
    intro tb hq hT
    exact br_t (by decide) (nm_e (h tb hT))
  | succ q ih =>
    intro tb hq hT
    rw [pk_m1]
    have cq : (nI q).toNatClampNeg = q := nI_clamp (by omega)
    have K : ∀ x5 : Int32, x5 = pz_01 (pz_M (pz_g b_parts) (fun p i => pz_me (it l i) (b_parts p)) pc (z l) q i) → wY_fits_183 post J (wY_fits_25 post J (nI l) (nI i) g_count g_draftSize (nI pc) (q + 1)) (nI l) (nI i) (nI q) x5 g_count g_draftSize (nI pc) b_times b_sizes b_items b_draft b_parts tb :=
      fun x5 h5 => yw_fit183 hz.2 hi hpc (by omega) hT h5 (fun tb' hT' => ih tb' (by omega) hT')
    have R1 : i < z l → tb (9 * (i + 1) + q) = pz_01 (pz_M (pz_g b_parts) (fun p i => pz_me (it l i) (b_parts p)) pc (z l) q (i + 1)) := fun hlt => hT (i + 1) q (by omega) (by omega) (Or.inl (by omega))
    have R2 : i < z l → q < pc → tb (9 * (i + 1) + (q + 1)) = pz_01 (pz_M (pz_g b_parts) (fun p i => pz_me (it l i) (b_parts p)) pc (z l) (q + 1) (i + 1)) := fun hlt hp => hT (i + 1) (q + 1) (by omega) (by omega) (Or.inl (by omega))
    have R3 : q < pc → tb (9 * i + (q + 1)) = pz_01 (pz_M (pz_g b_parts) (fun p i => pz_me (it l i) (b_parts p)) pc (z l) (q + 1) i) := fun hp => hT i (q + 1) hi (by omega) (Or.inr ⟨rfl, by omega⟩)
    refine br_f (nI_pos (by omega)) (And.intro (vp_in_nI (by omega) (by decide)) (pk_eq i (z l) (fun ei => ?_) (fun ei => ?_) (hy := by rw [nI_clamp (by omega)]; exact (hY l hl).1)))
    · refine pk_le pc q (fun c => K _ ?_) (fun c => And.intro (vp_in_nI (by omega) (by decide)) (pz_ifb (b := pz_g b_parts q) ?_ (fun hg => br_f pz_10 (And.intro (by rw [pz_9b]; exact vp_in_nI (by omega) (by decide)) (pz_ifn (b := pz_M (pz_g b_parts) (fun p i => pz_me (it l i) (b_parts p)) pc (z l) (q + 1) i) ?_ (fun m => br_f pz_10 (K _ ?_)) (fun m => K _ ?_)))) (fun hg => br_t rfl (br_f pz_10 (K _ ?_)))))
      · have e : q = pc := by omega
        rw [e, ei, pz_M_e]; rfl
      · rw [cq]; exact decide_eq_true_iff.symm
      · rw [pz_9b, nI_clamp (by omega), R3 c]; exact pz_01_z
      · rw [ei] at m
        rw [ei, pz_M_z c, m, Bool.and_false]; rfl
      · rw [ei] at m
        rw [ei, pz_M_z c, m, hg]; rfl
      · rw [ei, pz_M_z c, hg]; rfl
    · have hlt : i < z l := by omega
      refine pk_le pc q (fun c => K _ ?_) (fun c => And.intro (vp_in_nI (by omega) (by decide)) (pz_ifb (b := pz_g b_parts q) ?_ (fun hg => br_f pz_10 (And.intro (by rw [pz_9b]; exact vp_in_nI (by omega) (by decide)) (pz_ifn (b := pz_M (pz_g b_parts) (fun p i => pz_me (it l i) (b_parts p)) pc (z l) (q + 1) i) ?_ (fun m => br_t rfl (And.intro (by rw [pz_9c]; exact vp_in_nI (by omega) (by decide)) (pz_ifn (b := pz_M (pz_g b_parts) (fun p i => pz_me (it l i) (b_parts p)) pc (z l) q (i + 1)) ?_ (fun m2 => K _ ?_) (fun m2 => K _ ?_)))) (fun m => K _ ?_)))) (fun hg => br_t rfl (br_t rfl (And.intro (pz_in8 (by omega) (by omega)) (And.intro (vp_in_nI (by omega) (by decide)) ?_))))))
      · have e : q = pc := by omega
        rw [e, pz_M_pc hlt]; rfl
      · rw [cq]; exact decide_eq_true_iff.symm
      · rw [pz_9b, nI_clamp (by omega), R3 c]; exact pz_01_z
      · rw [pz_9c, nI_clamp (by omega), R1 hlt]; exact pz_01_z
      · rw [pz_M_g c hlt hg, m, m2]; rfl
      · rw [pz_M_g c hlt hg, m, m2]; rfl
      · rw [pz_M_g c hlt hg, m, Bool.true_or]; rfl
      · rw [pz_cl8 (by omega) (by omega), (hY l hl).2 i hlt, cq]
        refine yw_meets (fun m1 => br_f pz_10 (And.intro (by rw [pz_9d]; exact vp_in_nI (by omega) (by decide)) (pz_ifn (b := pz_M (pz_g b_parts) (fun p i => pz_me (it l i) (b_parts p)) pc (z l) (q + 1) (i + 1)) ?_ (fun m2 => K _ ?_) (fun m2 => K _ ?_)))) (fun m0 => br_t rfl (K _ ?_))
        · rw [pz_9d, nI_clamp (by omega), R2 hlt c]; exact pz_01_z
        · rw [pz_M_t c hlt hg, m1, m2]; rfl
        · rw [pz_M_t c hlt hg, m1, m2]; rfl
        · rw [pz_M_t c hlt hg, m0]; rfl
theorem yw_fits16 {post : Int32 → SY → Prop} {l : Nat} (hC : pz_C n z it T S) (hY : pz_Y n z it b_sizes b_items) (hl : l < n) (hpc : pc ≤ 8) (h : ∀ tb : Nat → Int32, post (pz_01 (pz_M (pz_g b_parts) (fun p i => pz_me (it l i) (b_parts p)) pc (z l) 0 0)) (g_count, g_draftSize, nI pc, b_times, b_sizes, b_items, b_draft, b_parts, tb)) : ∀ d (tb : Nat → Int32), d ≤ z l + 1 → (∀ a p, a ≤ z l → p ≤ pc → d ≤ a → tb (9 * a + p) = pz_01 (pz_M (pz_g b_parts) (fun p i => pz_me (it l i) (b_parts p)) pc (z l) p a)) → wY_fits_16 post (nI l) g_count g_draftSize (nI pc) (d + 1) (nI d + (-1)) b_times b_sizes b_items b_draft b_parts tb := by
  intro d
  induction d with
  | zero =>
    intro tb hd hT
    have e : tb 0 = pz_01 (pz_M (pz_g b_parts) (fun p i => pz_me (it l i) (b_parts p)) pc (z l) 0 0) := hT 0 0 (Nat.zero_le _) (Nat.zero_le _) (Nat.le_refl 0)
    refine br_t (by decide) ?_
    rw [e]
    exact ⟨pz_01_n _, h tb⟩
  | succ d ih =>
    intro tb hd hT
    rw [pk_m1]
    refine br_f (nI_pos (by have := pz_Cz hC hl; omega)) ⟨pc + 2, ?_⟩
    have K := yw_fits25 (g_count := g_count) (g_draftSize := g_draftSize) (post := post) (i := d) hC hY hl hpc (by omega) (fun tb' hT' => ih tb' (by omega) (fun a p ha hp hda => hT' a p ha hp (by omega))) (pc + 1) tb (by omega) (fun a p ha hp hh => hT a p ha hp (by omega))
    rw [pk_m1 pc] at K
    exact K
theorem yw_fits {post : Int32 → SY → Prop} {l : Nat} (hC : pz_C n z it T S) (hY : pz_Y n z it b_sizes b_items) (hl : l < n) (hpc : pc ≤ 8) (h : ∀ tb : Nat → Int32, post (pz_01 (pz_fit b_parts pc (it l) (z l))) (g_count, g_draftSize, nI pc, b_times, b_sizes, b_items, b_draft, b_parts, tb)) : wpY_fits post (g_count, g_draftSize, nI pc, b_times, b_sizes, b_items, b_draft, b_parts, b_table) (nI l) := by
  have hn := pz_Cn hC
  have hz := pz_Cz hC hl
  refine pk_eq pc 0 (fun e => ?_) (fun e => And.intro (vp_in_nI (by omega) (by decide)) (nm_r (e' := nI (z l)) ?_ ⟨z l + 2, ?_⟩))
  · have k := h b_table
    have e2 : pz_fit b_parts pc (it l) (z l) = false := by
      unfold pz_fit
      rw [decide_eq_false (by omega), Bool.false_and]
    rw [e2] at k
    exact k
  · rw [nI_clamp (by omega)]; exact (hY l hl).1
  · rw [← pk_m1 (z l)]
    refine yw_fits16 hC hY hl hpc (fun tb => ?_) (z l + 1) b_table (Nat.le_refl _) (fun a p ha hp hd => absurd hd (by omega))
    have k := h tb
    have e2 : pz_fit b_parts pc (it l) (z l) = pz_M (pz_g b_parts) (fun p i => pz_me (it l i) (b_parts p)) pc (z l) 0 0 := by
      unfold pz_fit
      rw [decide_eq_true (show 0 < pc by omega), Bool.true_and]
      rfl
    rw [e2] at k
    exact k
theorem pz_01c {b : Bool} {A B : Prop} (f : b = false → A) (g : b = true → B) : (pz_01 b = 0 → A) ∧ (¬ pz_01 b = 0 → B) := pz_ifn pz_01_z f g
theorem yw_fitting5 {post : Int32 → SY → Prop} {x y : Int32} (hC : pz_C n z it T S) (hY : pz_Y n z it b_sizes b_items) (hpc : pc ≤ 8) (h : ∀ tb : Nat → Int32, post (nI (pz_cnt (fun l => !decide (T l < x) && (!decide (y < T l) && pz_fit b_parts pc (it l) (z l))) n)) (nI n, g_draftSize, nI pc, T, b_sizes, b_items, b_draft, b_parts, tb)) : ∀ d l (tb : Nat → Int32), l + d = n → wY_fitting_5 post x y (d + 1) (nI (pz_cnt (fun l => !decide (T l < x) && (!decide (y < T l) && pz_fit b_parts pc (it l) (z l))) l)) (nI l) (nI n) g_draftSize (nI pc) T b_sizes b_items b_draft b_parts tb := by
  have hn := pz_Cn hC
  intro d
  induction d with
  | zero =>
    intro l tb hl
    have e : l = n := by omega
    subst e
    exact pk_le l l (fun _ => h tb) (fun c => absurd c (by omega))
  | succ d ih =>
    intro l tb hl
    have hl' : l < n := by omega
    have cl : (nI l).toNatClampNeg = l := nI_clamp (by omega)
    have vl : vp_in (nI l) 60 := vp_in_nI (by omega) (by decide)
    have K := fun tb => ih (l + 1) tb (by omega)
    refine pk_le n l (fun c => absurd c (by omega)) (fun _ => And.intro vl (br_c (fun a => nm_r (nI_1 l) ?_) (fun a => And.intro vl (br_c (fun b => nm_r (nI_1 l) ?_) (fun b => yw_fits hC hY hl' hpc (fun tb' => pz_01c (fun f => nm_r (nI_1 l) ?_) (fun f => nm_r (nI_1 _) (nm_r (nI_1 l) ?_))))))))
    · rw [cl] at a
      have k := K tb
      rw [pz_cnt_f (by rw [decide_eq_true a]; rfl)] at k
      exact k
    · rw [cl] at a b
      have k := K tb
      rw [pz_cnt_f (by rw [decide_eq_true b]; simp)] at k
      exact k
    · have k := K tb'
      rw [pz_cnt_f (by rw [f]; simp)] at k
      exact k
    · rw [cl] at a b
      have k := K tb'
      rw [pz_cnt_t (by rw [f, decide_eq_false a, decide_eq_false b]; rfl)] at k
      exact k
theorem yw_fitting {post : Int32 → SY → Prop} {x y : Int32} (hC : pz_C n z it T S) (hY : pz_Y n z it b_sizes b_items) (hpc : pc ≤ 8) (h : ∀ tb : Nat → Int32, post (nI (pz_cnt (fun l => !decide (T l < x) && (!decide (y < T l) && pz_fit b_parts pc (it l) (z l))) n)) (nI n, g_draftSize, nI pc, T, b_sizes, b_items, b_draft, b_parts, tb)) : wpY_fitting post (nI n, g_draftSize, nI pc, T, b_sizes, b_items, b_draft, b_parts, b_table) x y :=
  ⟨n + 1, yw_fitting5 hC hY hpc h n 0 b_table (by omega)⟩
theorem yw_next2 {post : Int32 → SY → Prop} {x : Int32} (hC : pz_C n z it T S) (hY : pz_Y n z it b_sizes b_items) (hpc : pc ≤ 8) (h1 : pz_find (fun l => !decide (nI l ≤ x) && pz_fit b_parts pc (it l) (z l)) n < n → ∀ tb : Nat → Int32, post (nI (pz_find (fun l => !decide (nI l ≤ x) && pz_fit b_parts pc (it l) (z l)) n)) (nI n, g_draftSize, nI pc, b_times, b_sizes, b_items, b_draft, b_parts, tb)) (h0 : pz_find (fun l => !decide (nI l ≤ x) && pz_fit b_parts pc (it l) (z l)) n = n → ∀ tb : Nat → Int32, post (-2) (nI n, g_draftSize, nI pc, b_times, b_sizes, b_items, b_draft, b_parts, tb)) : ∀ d l (tb : Nat → Int32), l + d = n → (∀ j, j < l → (!decide (nI j ≤ x) && pz_fit b_parts pc (it j) (z j)) = false) → wY_next_2 post x (d + 1) (nI l) (nI n) g_draftSize (nI pc) b_times b_sizes b_items b_draft b_parts tb := by
  have hn := pz_Cn hC
  intro d
  induction d with
  | zero =>
    intro l tb hl hq
    have e : l = n := by omega
    subst e
    exact pk_le l l (fun _ => h0 (pz_find_eq (Nat.le_refl l) hq (fun c => absurd c (Nat.lt_irrefl l))) tb) (fun c => absurd c (by omega))
  | succ d ih =>
    intro l tb hl hq
    have hl' : l < n := by omega
    have nxt : (!decide (nI l ≤ x) && pz_fit b_parts pc (it l) (z l)) = false → ∀ j, j < l + 1 → (!decide (nI j ≤ x) && pz_fit b_parts pc (it j) (z j)) = false := by
      intro f j hj
      by_cases e : j = l
      · rw [e]; exact f
      · exact hq j (by omega)
    refine pk_le n l (fun c => absurd c (by omega)) (fun _ => br_c (fun a => nm_r (nI_1 l) (ih (l + 1) tb (by omega) (nxt (by rw [decide_eq_true a]; rfl)))) (fun a => yw_fits hC hY hl' hpc (fun tb' => pz_01c (fun f => nm_r (nI_1 l) (ih (l + 1) tb' (by omega) (nxt (by rw [f, Bool.and_false])))) (fun f => ?_))))
    have e : pz_find (fun l => !decide (nI l ≤ x) && pz_fit b_parts pc (it l) (z l)) n = l := pz_find_eq (by omega) hq (fun _ => by rw [f, decide_eq_false a]; rfl)
    rw [e] at h1
    exact h1 hl' tb'
theorem yw_next {post : Int32 → SY → Prop} {x : Int32} (hC : pz_C n z it T S) (hY : pz_Y n z it b_sizes b_items) (hpc : pc ≤ 8) (h1 : pz_find (fun l => !decide (nI l ≤ x) && pz_fit b_parts pc (it l) (z l)) n < n → ∀ tb : Nat → Int32, post (nI (pz_find (fun l => !decide (nI l ≤ x) && pz_fit b_parts pc (it l) (z l)) n)) (nI n, g_draftSize, nI pc, b_times, b_sizes, b_items, b_draft, b_parts, tb)) (h0 : pz_find (fun l => !decide (nI l ≤ x) && pz_fit b_parts pc (it l) (z l)) n = n → ∀ tb : Nat → Int32, post (-2) (nI n, g_draftSize, nI pc, b_times, b_sizes, b_items, b_draft, b_parts, tb)) : wpY_next post (nI n, g_draftSize, nI pc, b_times, b_sizes, b_items, b_draft, b_parts, b_table) x :=
  ⟨n + 1, yw_next2 hC hY hpc h1 h0 n 0 b_table (by omega) (fun j hj => absurd hj (Nat.not_lt_zero j))⟩
theorem yw_iff2 {post : Int32 → SY → Prop} {l : Nat} (hC : pz_C n z it T S) (hY : pz_Y n z it b_sizes b_items) (hpc : pc ≤ 8) (hl : l < n) (h : ∀ tb : Nat → Int32, post (pz_01 (pz_fit b_parts pc (it l) (z l) && !pz_ex (fun j => decide (S j = S l) && pz_fit b_parts pc (it j) (z j)) l)) (g_count, g_draftSize, nI pc, b_times, b_sizes, b_items, b_draft, b_parts, tb)) : ∀ d k (tb : Nat → Int32), k + d = l → (∀ j, j < k → (decide (S j = S l) && pz_fit b_parts pc (it j) (z j)) = false) → wY_isFirstFitting_2 post (nI l) (d + 1) (nI k) g_count g_draftSize (nI pc) b_times b_sizes b_items b_draft b_parts tb := by
  have hn := pz_Cn hC
  intro d
  induction d with
  | zero =>
    intro k tb hk hq
    have e : k = l := by omega
    subst e
    refine pk_le k k (fun _ => yw_fits hC hY hl hpc (fun tb' => ?_)) (fun c => absurd c (by omega))
    have K := h tb'
    rw [pz_ex_f.mpr hq, Bool.not_false, Bool.and_true] at K
    exact ⟨pz_01_n _, K⟩
  | succ d ih =>
    intro k tb hk hq
    have nxt : (decide (S k = S l) && pz_fit b_parts pc (it k) (z k)) = false → ∀ j, j < k + 1 → (decide (S j = S l) && pz_fit b_parts pc (it j) (z j)) = false := by
      intro f j hj
      by_cases e : j = k
      · rw [e]; exact f
      · exact hq j (by omega)
    refine pk_le l k (fun c => absurd c (by omega)) (fun _ => yw_alike hC hY (by omega) hl (fun e => br_f pz_10 (yw_fits hC hY (by omega) hpc (fun tb' => pz_01c (fun f => nm_r (nI_1 k) (ih (k + 1) tb' (by omega) (nxt (by rw [f, Bool.and_false])))) (fun f => ?_)))) (fun e => br_t rfl (nm_r (nI_1 k) (ih (k + 1) tb (by omega) (nxt (by rw [decide_eq_false e, Bool.false_and]))))))
    have K := h tb'
    rw [(pz_ex_t l).mpr ⟨k, by omega, by rw [decide_eq_true e, f]; rfl⟩, Bool.not_true, Bool.and_false] at K
    exact K
theorem yw_fg4 {post : Int32 → SY → Prop} (hC : pz_C n z it T S) (hY : pz_Y n z it b_sizes b_items) (hpc : pc ≤ 8) (h : ∀ tb : Nat → Int32, post (nI (pz_cnt (fun l => pz_fit b_parts pc (it l) (z l) && !pz_ex (fun j => decide (S j = S l) && pz_fit b_parts pc (it j) (z j)) l) n)) (nI n, g_draftSize, nI pc, b_times, b_sizes, b_items, b_draft, b_parts, tb)) : ∀ d l (tb : Nat → Int32), l + d = n → wY_fittingGroups_4 post (d + 1) (nI (pz_cnt (fun l => pz_fit b_parts pc (it l) (z l) && !pz_ex (fun j => decide (S j = S l) && pz_fit b_parts pc (it j) (z j)) l) l)) (nI l) (nI n) g_draftSize (nI pc) b_times b_sizes b_items b_draft b_parts tb := by
  have hn := pz_Cn hC
  intro d
  induction d with
  | zero =>
    intro l tb hl
    have e : l = n := by omega
    subst e
    exact pk_le l l (fun _ => h tb) (fun c => absurd c (by omega))
  | succ d ih =>
    intro l tb hl
    have hl' : l < n := by omega
    have K := fun tb => ih (l + 1) tb (by omega)
    refine pk_le n l (fun c => absurd c (by omega)) (fun _ => ⟨l + 1, yw_iff2 hC hY hpc hl' (fun tb' => pz_01c (fun f => nm_r (nI_1 l) ?_) (fun f => nm_r (nI_1 _) (nm_r (nI_1 l) ?_))) l 0 tb (by omega) (fun j hj => absurd hj (Nat.not_lt_zero j))⟩)
    · have k := K tb'
      rw [pz_cnt_f f] at k
      exact k
    · have k := K tb'
      rw [pz_cnt_t f] at k
      exact k
theorem yw_fittingGroups {post : Int32 → SY → Prop} (hC : pz_C n z it T S) (hY : pz_Y n z it b_sizes b_items) (hpc : pc ≤ 8) (h : ∀ tb : Nat → Int32, post (nI (pz_cnt (fun l => pz_fit b_parts pc (it l) (z l) && !pz_ex (fun j => decide (S j = S l) && pz_fit b_parts pc (it j) (z j)) l) n)) (nI n, g_draftSize, nI pc, b_times, b_sizes, b_items, b_draft, b_parts, tb)) : wpY_fittingGroups post (nI n, g_draftSize, nI pc, b_times, b_sizes, b_items, b_draft, b_parts, b_table) :=
  ⟨n + 1, yw_fg4 hC hY hpc h n 0 b_table (by omega)⟩
end
end
section
/-! times: both sides; Y's stores -/
theorem pz_cnt_int {a b : Nat} : ∀ n, pz_cnt (fun l => !decide (l < a) && decide (l < b)) n = (if n < b then n else b) - a
  | 0 => by
    by_cases h : 0 < b
    · rw [if_pos h]; exact (Nat.zero_sub a).symm
    · rw [if_neg h]
      show 0 = b - a
      omega
  | n + 1 => by
    have ih := pz_cnt_int (a := a) (b := b) n
    by_cases h1 : n < a
    · rw [pz_cnt_f (by rw [decide_eq_true h1]; rfl), ih]
      by_cases c : n < b
      · rw [if_pos c]
        by_cases c2 : n + 1 < b
        · rw [if_pos c2]; omega
        · rw [if_neg c2]; omega
      · rw [if_neg c, if_neg (by omega)]
    · by_cases h2 : n < b
      · rw [pz_cnt_t (by rw [decide_eq_false h1, decide_eq_true h2]; rfl), ih, if_pos h2]
        by_cases c2 : n + 1 < b
        · rw [if_pos c2]; omega
        · rw [if_neg c2]; omega
      · rw [pz_cnt_f (by rw [decide_eq_false h2]; simp), ih, if_neg h2, if_neg (by omega)]
section
variable {n : Nat} {z : Nat → Nat} {it : Nat → Nat → Int32} {T : Nat → Int32} {S : Nat → Nat}
theorem pz_from (hC : pz_C n z it T S) (x : Int32) {l : Nat} (hl : l < n) : decide (T l < x) = decide (l < pz_cb T n x) := by
  rw [decide_eq_decide]; exact (pz_cb_lt hC x hl).symm
theorem pz_to (hC : pz_C n z it T S) (y : Int32) {l : Nat} (hl : l < n) : (!decide (y < T l)) = decide (l < pz_cu T n y) := by
  by_cases c : l < pz_cu T n y
  · rw [decide_eq_true c, decide_eq_false (pz_nlt.mpr ((pz_cu_lt hC y hl).mp c))]; rfl
  · rw [decide_eq_false c, decide_eq_true (pz_nle.mp (fun k => c ((pz_cu_lt hC y hl).mpr k)))]; rfl
theorem pz_between (hC : pz_C n z it T S) (x y : Int32) : pz_cnt (fun l => !decide (T l < x) && !decide (y < T l)) n = pz_cu T n y - pz_cb T n x := by
  rw [pz_cnt_congr (q := fun l => !decide (l < pz_cb T n x) && decide (l < pz_cu T n y)) n (fun j hj => by rw [pz_from hC x hj, pz_to hC y hj]), pz_cnt_int]
  have := pz_cu_le T n y
  by_cases c : n < pz_cu T n y
  · omega
  · rw [if_neg c]
/-! spans of time -/
def pz_en (T : Nat → Int32) (n : Nat) (w : Int32) (l : Nat) : Nat := pz_find (fun k => decide (l ≤ k) && decide (w ≤ T k - T l)) n
def pz_mo (T : Nat → Int32) (n : Nat) (w : Int32) : Nat → Nat
  | 0 => 0
  | l + 1 => if pz_en T n w l - l ≤ pz_mo T n w l then pz_mo T n w l else pz_en T n w l - l
theorem pz_tsub (hC : pz_C n z it T S) {a b : Nat} (ha : a < n) (hb : b < n) : (T a - T b).toInt = (T a).toInt - (T b).toInt := by
  have h1 := pz_Ct hC ha
  have h2 := pz_Ct hC hb
  rw [Int32.toInt_sub]
  exact Int.bmod_eq_of_le (by omega) (by omega)
theorem pz_en_le (T : Nat → Int32) (n : Nat) (w : Int32) (l : Nat) : pz_en T n w l ≤ n := (pz_find_s _ n).1
theorem pz_en_in (hC : pz_C n z it T S) {w : Int32} {l k : Nat} (h1 : l ≤ k) (h2 : k < pz_en T n w l) : ¬ w ≤ T k - T l := by
  have h := (pz_find_s (fun k => decide (l ≤ k) && decide (w ≤ T k - T l)) n).2.1 k h2
  rw [decide_eq_true h1, Bool.true_and] at h
  exact of_decide_eq_false h
theorem pz_en_out (hC : pz_C n z it T S) {w : Int32} {l k : Nat} (h1 : pz_en T n w l ≤ k) (h2 : k < n) : l ≤ k ∧ w ≤ T k - T l := by
  have hs := (pz_find_s (fun k => decide (l ≤ k) && decide (w ≤ T k - T l)) n).2.2
  have h := hs (Nat.lt_of_le_of_lt h1 h2)
  have e : pz_find (fun k => decide (l ≤ k) && decide (w ≤ T k - T l)) n = pz_en T n w l := rfl
  rw [e, Bool.and_eq_true] at h
  have a := of_decide_eq_true h.1
  have b := of_decide_eq_true h.2
  refine ⟨by omega, ?_⟩
  have c := pz_Cm hC h1 h2
  rw [pz_ile, pz_tsub hC (by omega) (by omega)] at b ⊢
  omega
theorem pz_en_gt (hC : pz_C n z it T S) {w : Int32} (hw : 1 ≤ w) {l : Nat} (hl : l < n) : l < pz_en T n w l := by
  apply Nat.lt_of_not_le
  intro h
  obtain ⟨_, b⟩ := pz_en_out hC h hl
  rw [pz_ile, pz_tsub hC hl hl] at b
  rw [pz_ile, show (1 : Int32).toInt = 1 from by decide] at hw
  omega
theorem pz_en_mono (hC : pz_C n z it T S) {w : Int32} {l : Nat} (hl : l + 1 < n) : pz_en T n w l ≤ pz_en T n w (l + 1) := by
  apply Nat.le_of_not_lt
  intro h
  have hn := pz_en_le T n w l
  obtain ⟨a, b⟩ := pz_en_out hC (Nat.le_refl (pz_en T n w (l + 1))) (by omega)
  have c := pz_en_in hC (by omega) h
  apply c
  have d := pz_Cm hC (show l ≤ l + 1 by omega) hl
  rw [pz_ile, pz_tsub hC (by omega) (by omega)] at b ⊢
  omega
theorem pz_mo_le (T : Nat → Int32) (n : Nat) (w : Int32) : ∀ l, pz_mo T n w l ≤ n
  | 0 => Nat.zero_le n
  | l + 1 => by
    have ih := pz_mo_le T n w l
    have h := pz_en_le T n w l
    show (if pz_en T n w l - l ≤ pz_mo T n w l then pz_mo T n w l else pz_en T n w l - l) ≤ n
    by_cases c : pz_en T n w l - l ≤ pz_mo T n w l
    · rw [if_pos c]; exact ih
    · rw [if_neg c]; omega
/-! digests -/
def pz_ow (t : Int32) (f : Nat → Int32) : Nat → Int32
  | 0 => t
  | i + 1 => pz_ow t f i + ((nI i + 3) * f i)
def pz_dg (T : Nat → Int32) (z : Nat → Nat) (it : Nat → Nat → Int32) : Nat → Int32
  | 0 => 0
  | l + 1 => pz_dg T z it l + ((nI l + 1) * pz_ow (T l) (it l) (z l))
end
section
variable {g_count g_draftSize g_partCount : Int32} {b_times b_sizes b_items b_draft b_parts b_table : Nat → Int32}
variable {n dc pc : Nat} {z : Nat → Nat} {it : Nat → Nat → Int32} {T : Nat → Int32} {S : Nat → Nat}
theorem yw_between5 {post : Int32 → Prop} {x y : Int32} (hC : pz_C n z it T S) (h : post (nI (pz_cnt (fun l => !decide (T l < x) && !decide (y < T l)) n))) : ∀ d l, l + d = n → wY_between_5 post x y (nI n) g_draftSize g_partCount T b_sizes b_items b_draft b_parts b_table (d + 1) (nI (pz_cnt (fun l => !decide (T l < x) && !decide (y < T l)) l)) (nI l) := by
  have hn := pz_Cn hC
  intro d
  induction d with
  | zero =>
    intro l hl
    have e : l = n := by omega
    subst e
    exact pk_le l l (fun _ => h) (fun c => absurd c (by omega))
  | succ d ih =>
    intro l hl
    have cl : (nI l).toNatClampNeg = l := nI_clamp (by omega)
    have vl : vp_in (nI l) 60 := vp_in_nI (by omega) (by decide)
    have k := ih (l + 1) (by omega)
    refine pk_le n l (fun c => absurd c (by omega)) (fun _ => And.intro vl (br_c (fun a => nm_r (nI_1 l) ?_) (fun a => And.intro vl (br_c (fun b => nm_r (nI_1 l) ?_) (fun b => nm_r (nI_1 _) (nm_r (nI_1 l) ?_))))))
    · rw [cl] at a
      rw [pz_cnt_f (by rw [decide_eq_true a]; rfl)] at k
      exact k
    · rw [cl] at a b
      rw [pz_cnt_f (by rw [decide_eq_true b]; simp)] at k
      exact k
    · rw [cl] at a b
      rw [pz_cnt_t (by rw [decide_eq_false a, decide_eq_false b]; rfl)] at k
      exact k
theorem yw_between {post : Int32 → Prop} {x y : Int32} (hC : pz_C n z it T S) (h : post (nI (pz_cu T n y - pz_cb T n x))) : wpY_between post (nI n, g_draftSize, g_partCount, T, b_sizes, b_items, b_draft, b_parts, b_table) x y := by
  rw [← pz_between hC] at h
  exact ⟨n + 1, yw_between5 hC h n 0 (by omega)⟩
theorem yw_burst25 {post : Int32 → Prop} {J : Int32 → Int32 → Prop} {w : Int32} {l : Nat} (hC : pz_C n z it T S) (hl : l < n) (hw : 1 ≤ w) (h : J (nI (pz_mo T n w (l + 1))) (nI (l + 1))) : ∀ d k, k + d = n → l ≤ k → wY_burst_25 post J w (nI (pz_mo T n w l)) (nI l) (nI n) g_draftSize g_partCount T b_sizes b_items b_draft b_parts b_table (d + 1) (nI ((if k < pz_en T n w l then k else pz_en T n w l) - l)) (nI k) := by
  have hn := pz_Cn hC
  have he := pz_en_le T n w l
  have hg := pz_en_gt hC hw hl
  have hm := pz_mo_le T n w l
  intro d
  induction d with
  | zero =>
    intro k hk hlk
    have e : k = n := by omega
    have e2 : (if k < pz_en T n w l then k else pz_en T n w l) = pz_en T n w l := if_neg (by omega)
    rw [e2]
    have e3 : pz_mo T n w (l + 1) = if pz_en T n w l - l ≤ pz_mo T n w l then pz_mo T n w l else pz_en T n w l - l := rfl
    rw [e3] at h
    refine pk_le n k (fun _ => pk_le (pz_en T n w l - l) (pz_mo T n w l) (fun a => nm_r (nI_1 l) ?_) (fun a => nm_r (nI_1 l) ?_)) (fun c => absurd c (by omega))
    · rw [if_pos a] at h; exact h
    · rw [if_neg (by omega)] at h; exact h
  | succ d ih =>
    intro k hk hlk
    have ck : (nI k).toNatClampNeg = k := nI_clamp (by omega)
    have cl : (nI l).toNatClampNeg = l := nI_clamp (by omega)
    have K := ih (k + 1) (by omega) (by omega)
    refine pk_le n k (fun c => absurd c (by omega)) (fun _ => And.intro (vp_in_nI (by omega) (by decide)) (And.intro (vp_in_nI (by omega) (by decide)) (pz_if (d := ¬ k < pz_en T n w l) ?_ (fun a => nm_r (nI_1 k) ?_) (fun a => nm_r (e' := nI ((if k + 1 < pz_en T n w l then k + 1 else pz_en T n w l) - l)) ?_ (nm_r (nI_1 k) K)))))
    · rw [ck, cl]
      constructor
      · intro a b
        exact pz_en_in hC hlk b a
      · intro a
        exact (pz_en_out hC (by omega) (by omega)).2
    · rw [if_neg a]
      rw [if_neg (by omega)] at K
      exact K
    · have a' : k < pz_en T n w l := by omega
      rw [if_pos a', nI_1]
      congr 1
      by_cases c : k + 1 < pz_en T n w l
      · rw [if_pos c]; omega
      · rw [if_neg c]; omega
theorem yw_burst11 {post : Int32 → Prop} {w : Int32} (hC : pz_C n z it T S) (hw : 1 ≤ w) (h : post (nI (pz_mo T n w n))) : ∀ d l, l + d = n → wY_burst_11 post w (nI n) g_draftSize g_partCount T b_sizes b_items b_draft b_parts b_table (d + 1) (nI (pz_mo T n w l)) (nI l) := by
  have hn := pz_Cn hC
  intro d
  induction d with
  | zero =>
    intro l hl
    have e : l = n := by omega
    subst e
    exact pk_le l l (fun _ => h) (fun c => absurd c (by omega))
  | succ d ih =>
    intro l hl
    have hl' : l < n := by omega
    have hg := pz_en_gt hC hw hl'
    refine pk_le n l (fun c => absurd c (by omega)) (fun _ => ⟨(n - l) + 1, ?_⟩)
    have K := yw_burst25 (post := post) (g_draftSize := g_draftSize) (g_partCount := g_partCount) (b_sizes := b_sizes) (b_items := b_items) (b_draft := b_draft) (b_parts := b_parts) (b_table := b_table) hC hl' hw (ih (l + 1) (by omega)) (n - l) l (by omega) (Nat.le_refl l)
    rw [if_pos hg, Nat.sub_self] at K
    exact K
theorem yw_burst {post : Int32 → Prop} {w : Int32} (hC : pz_C n z it T S) (h : 1 ≤ w → post (nI (pz_mo T n w n))) (h0 : ¬ 1 ≤ w → post (-1)) : wpY_burst post (nI n, g_draftSize, g_partCount, T, b_sizes, b_items, b_draft, b_parts, b_table) w :=
  br_c (fun a => ⟨n + 1, yw_burst11 hC a (h a) n 0 (by omega)⟩) h0
theorem yw_dig22 {post : Int32 → Prop} {J : Int32 → Int32 → Prop} {l : Nat} (hC : pz_C n z it T S) (hY : pz_Y n z it b_sizes b_items) (hl : l < n) (h : J (pz_dg T z it (l + 1)) (nI (l + 1))) : ∀ d i, i + d = z l → wY_digest_22 post J (pz_dg T z it l) (nI l) g_count g_draftSize g_partCount b_times b_sizes b_items b_draft b_parts b_table (d + 1) (pz_ow (T l) (it l) i) (nI i) := by
  have hn := pz_Cn hC
  have hz := pz_Cz hC hl
  have hl' : b_sizes (nI l).toNatClampNeg = nI (z l) := by rw [nI_clamp (by omega)]; exact (hY l hl).1
  intro d
  induction d with
  | zero =>
    intro i hi
    have e : i = z l := by omega
    subst e
    exact And.intro (vp_in_nI (by omega) (by decide)) (pk_le (z l) (z l) (fun _ => nm_e (nm_r (nI_1 l) h)) (fun c => absurd c (by omega)) (hx := hl'))
  | succ d ih =>
    intro i hi
    refine And.intro (vp_in_nI (by omega) (by decide)) (pk_le (z l) i (fun c => absurd c (by omega)) (fun _ => And.intro (pz_in8 (by omega) (by omega)) (nm_r (e' := pz_ow (T l) (it l) (i + 1)) ?_ (nm_r (nI_1 i) (ih (i + 1) (by omega))))) (hx := hl'))
    rw [pz_cl8 (by omega) (by omega), (hY l hl).2 i (by omega)]
    rfl
theorem yw_dig4 {post : Int32 → Prop} (hC : pz_C n z it T S) (hY : pz_Y n z it b_sizes b_items) (h : post (pz_dg T z it n)) : ∀ d l, l + d = n → wY_digest_4 post (nI n) g_draftSize g_partCount T b_sizes b_items b_draft b_parts b_table (d + 1) (pz_dg T z it l) (nI l) := by
  have hn := pz_Cn hC
  intro d
  induction d with
  | zero =>
    intro l hl
    have e : l = n := by omega
    subst e
    exact pk_le l l (fun _ => h) (fun c => absurd c (by omega))
  | succ d ih =>
    intro l hl
    have hl' : l < n := by omega
    refine pk_le n l (fun c => absurd c (by omega)) (fun _ => And.intro (vp_in_nI (by omega) (by decide)) (nm_r (e' := T l) (by rw [nI_clamp (by omega)]) ⟨z l + 1, yw_dig22 hC hY hl' (ih (l + 1) (by omega)) (z l) 0 (by omega)⟩))
theorem yw_digest {post : Int32 → Prop} (hC : pz_C n z it T S) (hY : pz_Y n z it b_sizes b_items) (h : post (pz_dg T z it n)) : wpY_digest post (nI n, g_draftSize, g_partCount, T, b_sizes, b_items, b_draft, b_parts, b_table) :=
  ⟨n + 1, yw_dig4 hC hY h n 0 (by omega)⟩
/-! Y: stores -/
def pz_bad (T : Nat → Int32) (n : Nat) (t : Int32) : Prop := t < 0 ∨ 1000 < t ∨ (0 < n ∧ t < T (n - 1))
theorem yw_write82 {post : Int32 → SY → Prop} (hn : n < 60) (hd : dc ≤ 8) (h : ∀ It : Nat → Int32, (∀ j, j < 8 * n → It j = b_items j) → (∀ t, t < dc → It (8 * n + t) = b_draft t) → post (nI n) (nI (n + 1), 0, g_partCount, b_times, b_sizes, It, b_draft, b_parts, b_table)) : ∀ d i (It : Nat → Int32), i + d = dc → (∀ j, j < 8 * n → It j = b_items j) → (∀ t, t < i → It (8 * n + t) = b_draft t) → wY_write_82 post (nI n) (nI dc) g_partCount (d + 1) (nI i) b_times b_sizes It b_draft b_parts b_table := by
  intro d
  induction d with
  | zero =>
    intro i It hi h1 h2
    have e : i = dc := by omega
    subst e
    refine pk_le i i (fun _ => nm_r (nI_1 n) ?_) (fun c => absurd c (by omega))
    rw [nI_pred]
    exact h It h1 h2
  | succ d ih =>
    intro i It hi h1 h2
    refine pk_le dc i (fun c => absurd c (by omega)) (fun _ => And.intro (vp_in_nI (by omega) (by decide)) (And.intro (pz_in8 hn (by omega)) (nm_r (e' := upd It (8 * n + i) (b_draft i)) ?_ (nm_r (nI_1 i) (ih (i + 1) _ (by omega) ?_ ?_)))))
    · rw [pz_cl8 hn (by omega), nI_clamp (by omega)]
    · intro j hj
      rw [pk_un (by omega)]; exact h1 j hj
    · intro t ht
      by_cases e : t = i
      · rw [e, pk_us]
      · rw [pk_un (by omega)]; exact h2 t (by omega)
theorem yw_write {post : Int32 → SY → Prop} {t : Int32} (hn : n ≤ 60) (hd : dc ≤ 8) (hA : pz_bad T n t → post (-1) (nI n, nI dc, g_partCount, T, b_sizes, b_items, b_draft, b_parts, b_table)) (hB : ¬ pz_bad T n t → dc = 0 → post (-2) (nI n, nI dc, g_partCount, T, b_sizes, b_items, b_draft, b_parts, b_table)) (hF : ¬ pz_bad T n t → dc ≠ 0 → n = 60 → post (-3) (nI n, nI dc, g_partCount, T, b_sizes, b_items, b_draft, b_parts, b_table)) (h : ¬ pz_bad T n t → dc ≠ 0 → n < 60 → ∀ It : Nat → Int32, (∀ j, j < 8 * n → It j = b_items j) → (∀ t, t < dc → It (8 * n + t) = b_draft t) → post (nI n) (nI (n + 1), 0, g_partCount, upd T n t, upd b_sizes n (nI dc), It, b_draft, b_parts, b_table)) : wpY_write post (nI n, nI dc, g_partCount, T, b_sizes, b_items, b_draft, b_parts, b_table) t := by
  have K : ¬ pz_bad T n t → wY_write_35 post t (nI n) (nI dc) g_partCount T b_sizes b_items b_draft b_parts b_table := by
    intro g
    refine pk_eq dc 0 (fun e => hB g e) (fun e => pk_eq n 60 (fun f => hF g e f) (fun f => And.intro (vp_in_nI (by omega) (by decide)) (nm_r (e' := upd T n t) (by rw [nI_clamp (by omega)]) (And.intro (vp_in_nI (by omega) (by decide)) (nm_r (e' := upd b_sizes n (nI dc)) (by rw [nI_clamp (by omega)]) ⟨dc + 1, yw_write82 (by omega) hd (h g e (by omega)) dc 0 b_items (by omega) (fun _ _ => rfl) (fun t ht => absurd ht (Nat.not_lt_zero t))⟩)))))
  refine br_c (fun a => hA (Or.inl a)) (fun a => br_c (fun b => hA (Or.inr (Or.inl b))) (fun b => pk_le n 0 (fun c => K ?_) (fun c => ?_)))
  · rintro (k | k | k)
    · exact a k
    · exact b k
    · omega
  · have e1 : nI n - 1 = nI (n - 1) := pk_sub (b := 1) (by omega)
    have e2 : (nI n - 1).toNatClampNeg = n - 1 := by rw [e1]; exact nI_clamp (by omega)
    refine And.intro (by rw [e1]; exact vp_in_nI (by omega) (by decide)) (br_c (fun d => K ?_) (fun d => hA (Or.inr (Or.inr ⟨by omega, ?_⟩))))
    · rw [e2] at d
      rintro (k | k | k)
      · exact a k
      · exact b k
      · exact pz_nlt.mpr d k.2
    · rw [e2] at d
      exact pz_nle.mp d
theorem yw_recall22 {post : Int32 → SY → Prop} {l : Nat} (hl : l < 60) (hd : dc ≤ 8) (h : ∀ E : Nat → Int32, (∀ i, i < dc → E i = b_items (8 * l + i)) → post (nI dc) (g_count, nI dc, g_partCount, b_times, b_sizes, b_items, E, b_parts, b_table)) : ∀ d i (E : Nat → Int32), i + d = dc → (∀ j, j < i → E j = b_items (8 * l + j)) → wY_recall_22 post (nI l) g_count (nI dc) g_partCount (d + 1) (nI i) b_times b_sizes b_items E b_parts b_table := by
  intro d
  induction d with
  | zero =>
    intro i E hi hE
    have e : i = dc := by omega
    subst e
    exact pk_le i i (fun _ => h E hE) (fun c => absurd c (by omega))
  | succ d ih =>
    intro i E hi hE
    refine pk_le dc i (fun c => absurd c (by omega)) (fun _ => And.intro (pz_in8 hl (by omega)) (And.intro (vp_in_nI (by omega) (by decide)) (nm_r (e' := upd E i (b_items (8 * l + i))) ?_ (nm_r (nI_1 i) (ih (i + 1) _ (by omega) ?_)))))
    · rw [pz_cl8 hl (by omega), nI_clamp (by omega)]
    · intro j hj
      by_cases e : j = i
      · rw [e, pk_us]
      · rw [pk_un e]; exact hE j (by omega)
theorem yw_recall_y {post : Int32 → SY → Prop} {l : Nat} (hC : pz_C n z it T S) (hY : pz_Y n z it b_sizes b_items) (hl : l < n) (h : ∀ E : Nat → Int32, (∀ i, i < z l → E i = it l i) → post (nI (z l)) (nI n, nI (z l), g_partCount, b_times, b_sizes, b_items, E, b_parts, b_table)) : wpY_recall post (nI n, g_draftSize, g_partCount, b_times, b_sizes, b_items, b_draft, b_parts, b_table) (nI l) := by
  have hn := pz_Cn hC
  have hz := pz_Cz hC hl
  unfold wpY_recall
  refine yw_badLine_y hn hl (br_t rfl (And.intro (vp_in_nI (by omega) (by decide)) (nm_r (e' := nI (z l)) (by rw [nI_clamp (by omega)]; exact (hY l hl).1) ⟨z l + 1, yw_recall22 (by omega) hz.2 (fun E hE => h E (fun i hi => (hE i hi).trans ((hY l hl).2 i hi))) (z l) 0 b_draft (by omega) (fun j hj => absurd hj (Nat.not_lt_zero j))⟩)))
theorem yw_exp67 {post : Int32 → SY → Prop} {J : Int32 → (Nat → Int32) → (Nat → Int32) → (Nat → Int32) → (Nat → Int32) → (Nat → Int32) → (Nat → Int32) → Prop} {g k : Nat} (hk : g + k < 60) (h : J (nI (g + k + 1)) b_times b_sizes (pz_sh b_items (8 * g) (8 * (k + 1))) b_draft b_parts b_table) : ∀ d i, i + d = 8 → wY_expire_67 post J (nI g) (nI (g + k)) g_count g_draftSize g_partCount (d + 1) (nI i) b_times b_sizes (pz_sh b_items (8 * g) (8 * k + i)) b_draft b_parts b_table := by
  have e1 : nI (g + k) - nI g = nI k := by rw [pk_sub (by omega)]; exact congrArg nI (by omega)
  intro d
  induction d with
  | zero =>
    intro i hi
    have e : i = 8 := by omega
    subst e
    exact pk_le 8 8 (fun _ => nm_r (nI_1 (g + k)) h) (fun c => absurd c (by omega))
  | succ d ih =>
    intro i hi
    refine br_f (nI_ge (a := i) (b := 8) (by omega) (by decide)) (And.intro (pz_in8 hk (by omega)) (And.intro (by rw [e1]; exact pz_in8 (by omega) (by omega)) (nm_r (e' := pz_sh b_items (8 * g) (8 * k + (i + 1))) ?_ (nm_r (nI_1 i) (ih (i + 1) (by omega))))))
    rw [e1, pz_cl8 (by omega) (by omega), pz_cl8 hk (by omega), pz_sh_ge (by omega)]
    have e2 := pz_sh_s b_items (8 * g) (8 * k + i)
    rw [show 8 * g + (8 * k + i) = 8 * (g + k) + i by omega] at e2
    exact e2
theorem yw_exp28 {post : Int32 → SY → Prop} {g kept : Nat} (hn : n ≤ 60) (hg : g + kept = n) (h : post (nI g) (nI kept, g_draftSize, g_partCount, pz_sh T g kept, pz_sh b_sizes g kept, pz_sh b_items (8 * g) (8 * kept), b_draft, b_parts, b_table)) : ∀ d k, k + d = kept → wY_expire_28 post (nI g) (nI n) g_draftSize g_partCount (d + 1) (nI (g + k)) (pz_sh T g k) (pz_sh b_sizes g k) (pz_sh b_items (8 * g) (8 * k)) b_draft b_parts b_table := by
  intro d
  induction d with
  | zero =>
    intro k hk
    have e : k = kept := by omega
    subst e
    refine pk_le n (g + k) (fun _ => nm_r (e' := nI k) ?_ h) (fun c => absurd c (by omega))
    rw [pk_sub (by omega)]; exact congrArg nI (by omega)
  | succ d ih =>
    intro k hk
    have e1 : nI (g + k) - nI g = nI k := by rw [pk_sub (by omega)]; exact congrArg nI (by omega)
    have cl : (nI (g + k)).toNatClampNeg = g + k := nI_clamp (by omega)
    have ck : (nI k).toNatClampNeg = k := nI_clamp (by omega)
    have vl : vp_in (nI (g + k)) 60 := vp_in_nI (by omega) (by decide)
    have vk : vp_in (nI (g + k) - nI g) 60 := by rw [e1]; exact vp_in_nI (by omega) (by decide)
    refine pk_le n (g + k) (fun c => absurd c (by omega)) (fun _ => And.intro vl (And.intro vk (nm_r (e' := pz_sh T g (k + 1)) ?_ (And.intro vl (And.intro vk (nm_r (e' := pz_sh b_sizes g (k + 1)) ?_ ⟨9, ?_⟩))))))
    · rw [e1, cl, ck, pz_sh_ge (by omega)]
      exact pz_sh_s T g k
    · rw [e1, cl, ck, pz_sh_ge (by omega)]
      exact pz_sh_s b_sizes g k
    · exact yw_exp67 (by omega) (ih (k + 1) (by omega)) 8 0 (by omega)
theorem yw_exp2 {post : Int32 → SY → Prop} {t : Int32} (hC : pz_C n z it T S) (h : post (nI (pz_cb T n t)) (nI (n - pz_cb T n t), g_draftSize, g_partCount, pz_sh T (pz_cb T n t) (n - pz_cb T n t), pz_sh b_sizes (pz_cb T n t) (n - pz_cb T n t), pz_sh b_items (8 * pz_cb T n t) (8 * (n - pz_cb T n t)), b_draft, b_parts, b_table)) : ∀ d k, k + d = n → (∀ j, j < k → ¬ t ≤ T j) → wY_expire_2 post t (nI n) g_draftSize g_partCount T b_sizes b_items b_draft b_parts b_table (d + 1) (nI k) := by
  have hn := pz_Cn hC
  have K : ∀ k, k ≤ n → pz_cb T n t = k → wY_expire_28 post (nI k) (nI n) g_draftSize g_partCount (n - k + 1) (nI k) T b_sizes b_items b_draft b_parts b_table := by
    intro k hk e
    rw [e] at h
    have q := yw_exp28 (post := post) (g := k) (kept := n - k) hn (by omega) h (n - k) 0 (by omega)
    rw [pz_sh_0, pz_sh_0, pz_sh_0] at q
    exact q
  intro d
  induction d with
  | zero =>
    intro k hk hq
    have e : k = n := by omega
    subst e
    exact pk_le k k (fun _ => ⟨_, K k (Nat.le_refl k) (pz_find_eq (Nat.le_refl k) (fun j hj => decide_eq_false (hq j hj)) (fun c => absurd c (Nat.lt_irrefl k)))⟩) (fun c => absurd c (by omega))
  | succ d ih =>
    intro k hk hq
    have ck : (nI k).toNatClampNeg = k := nI_clamp (by omega)
    refine pk_le n k (fun c => absurd c (by omega)) (fun _ => And.intro (vp_in_nI (by omega) (by decide)) (br_c (fun a => ⟨_, K k (by omega) (pz_find_eq (by omega) (fun j hj => decide_eq_false (hq j hj)) (fun _ => ?_))⟩) (fun a => nm_r (nI_1 k) (ih (k + 1) (by omega) (fun j hj => ?_)))))
    · rw [ck] at a
      exact decide_eq_true a
    · rw [ck] at a
      by_cases e : j = k
      · rw [e]; exact a
      · exact hq j (by omega)
theorem yw_expire {post : Int32 → SY → Prop} {t : Int32} (hC : pz_C n z it T S) (h : post (nI (pz_cb T n t)) (nI (n - pz_cb T n t), g_draftSize, g_partCount, pz_sh T (pz_cb T n t) (n - pz_cb T n t), pz_sh b_sizes (pz_cb T n t) (n - pz_cb T n t), pz_sh b_items (8 * pz_cb T n t) (8 * (n - pz_cb T n t)), b_draft, b_parts, b_table)) : wpY_expire post (nI n, g_draftSize, g_partCount, T, b_sizes, b_items, b_draft, b_parts, b_table) t :=
  ⟨n + 1, yw_exp2 hC h n 0 (by omega) (fun j hj => absurd hj (Nat.not_lt_zero j))⟩
end
end
section
/-! X: the other public methods -/
section
variable {f_draftCount f_partCount f_lines f_shapes f_nodes f_isFitted f_from : Int32} {f_fits : Int64} {a_draft a_parts a_times a_shapeOf a_begins a_bytes a_shapeLength a_shapeItems a_lastNumbers a_nodeItem a_below a_beside a_endsHere a_read a_numbers a_rest a_restLength a_restTime : Nat → Int32} {a_shapeLines a_wordLines : Nat → Int64}
variable {n dc pc : Nat} {z : Nat → Nat} {it : Nat → Nat → Int32} {T : Nat → Int32} {S : Nat → Nat} {D : Nat → Int32} {P : Nat → Nat → Nat}
theorem xw_write {post : Int32 → SX → Prop} {t : Int32} (hC : pz_C n z it T S) (hX : pz_X n z it S f_shapes f_nodes a_shapeOf a_begins a_bytes a_shapeLength a_shapeItems a_shapeLines a_lastNumbers a_wordLines a_nodeItem a_below a_beside a_endsHere) (hd : dc ≤ 8) (hD : ∀ i, i < dc → pz_ok (D i)) (hA : pz_bad T n t → post (-1) (nI dc, f_partCount, nI n, f_shapes, f_nodes, f_isFitted, f_fits, f_from, D, a_parts, T, a_shapeOf, a_begins, a_bytes, a_shapeLength, a_shapeItems, a_shapeLines, a_lastNumbers, a_wordLines, a_nodeItem, a_below, a_beside, a_endsHere, a_read, a_numbers, a_rest, a_restLength, a_restTime)) (hB : ¬ pz_bad T n t → dc = 0 → post (-2) (nI dc, f_partCount, nI n, f_shapes, f_nodes, f_isFitted, f_fits, f_from, D, a_parts, T, a_shapeOf, a_begins, a_bytes, a_shapeLength, a_shapeItems, a_shapeLines, a_lastNumbers, a_wordLines, a_nodeItem, a_below, a_beside, a_endsHere, a_read, a_numbers, a_rest, a_restLength, a_restTime)) (hF : ¬ pz_bad T n t → dc ≠ 0 → n = 60 → post (-3) (nI dc, f_partCount, nI n, f_shapes, f_nodes, f_isFitted, f_fits, f_from, D, a_parts, T, a_shapeOf, a_begins, a_bytes, a_shapeLength, a_shapeItems, a_shapeLines, a_lastNumbers, a_wordLines, a_nodeItem, a_below, a_beside, a_endsHere, a_read, a_numbers, a_rest, a_restLength, a_restTime)) (h : ¬ pz_bad T n t → dc ≠ 0 → n < 60 → ∀ (s : Nat) (f_shapes' f_nodes' : Int32) (a_shapeOf' a_begins' a_bytes' a_shapeLength' a_shapeItems' : Nat → Int32) (a_shapeLines' : Nat → Int64) (a_lastNumbers' : Nat → Int32) (a_wordLines' : Nat → Int64) (a_nodeItem' a_below' a_beside' a_endsHere' : Nat → Int32), pz_C (n + 1) (pz_ext z n dc) (pz_ext it n D) (upd T n t) (pz_ext S n s) → pz_X (n + 1) (pz_ext z n dc) (pz_ext it n D) (pz_ext S n s) f_shapes' f_nodes' a_shapeOf' a_begins' a_bytes' a_shapeLength' a_shapeItems' a_shapeLines' a_lastNumbers' a_wordLines' a_nodeItem' a_below' a_beside' a_endsHere' → post (nI n) (0, f_partCount, nI (n + 1), f_shapes', f_nodes', 0, f_fits, f_from, D, a_parts, upd T n t, a_shapeOf', a_begins', a_bytes', a_shapeLength', a_shapeItems', a_shapeLines', a_lastNumbers', a_wordLines', a_nodeItem', a_below', a_beside', a_endsHere', a_read, a_numbers, a_rest, a_restLength, a_restTime)) : wpX_write post (nI dc, f_partCount, nI n, f_shapes, f_nodes, f_isFitted, f_fits, f_from, D, a_parts, T, a_shapeOf, a_begins, a_bytes, a_shapeLength, a_shapeItems, a_shapeLines, a_lastNumbers, a_wordLines, a_nodeItem, a_below, a_beside, a_endsHere, a_read, a_numbers, a_rest, a_restLength, a_restTime) t := by
  have hn := pz_Cn hC
  have K : ¬ pz_bad T n t → wX_write_35 post t (nI dc) f_partCount (nI n) f_shapes f_nodes f_isFitted f_fits f_from D a_parts T a_shapeOf a_begins a_bytes a_shapeLength a_shapeItems a_shapeLines a_lastNumbers a_wordLines a_nodeItem a_below a_beside a_endsHere a_read a_numbers a_rest a_restLength a_restTime := by
    intro g
    refine pk_eq dc 0 (fun e => hB g e) (fun e => pk_lt n 60 (fun f => xw_writeDraft hC hX f ⟨by omega, hd⟩ hD ⟨?_, ?_⟩ (fun l hl => ?_) (fun s _ _ _ _ _ _ _ _ _ _ _ _ _ _ c1 c2 => h g e f s _ _ _ _ _ _ _ _ _ _ _ _ _ _ c1 c2)) (fun f => hF g e (by omega)))
    · apply Int.not_lt.mp
      intro k
      exact g (Or.inl (by rw [pz_ilt, pz_c0]; exact k))
    · apply Int.not_lt.mp
      intro k
      exact g (Or.inr (Or.inl (by rw [pz_ilt, pz_1000]; exact k)))
    · have h1 := pz_Cm hC (show l ≤ n - 1 by omega) (by omega)
      have h2 : ¬ t < T (n - 1) := fun k => g (Or.inr (Or.inr ⟨by omega, k⟩))
      rw [pz_ilt] at h2
      omega
  refine br_c (fun a => hA (Or.inl a)) (fun a => br_c (fun b => hA (Or.inr (Or.inl b))) (fun b => pk_le n 0 (fun c => K ?_) (fun c => ?_)))
  · rintro (k | k | k)
    · exact a k
    · exact b k
    · omega
  · have e1 : nI n - 1 = nI (n - 1) := pk_sub (b := 1) (by omega)
    have e2 : (nI n - 1).toNatClampNeg = n - 1 := by rw [e1]; exact nI_clamp (by omega)
    refine And.intro (by rw [e1]; exact vp_in_nI (by omega) (by decide)) (br_c (fun d => K ?_) (fun d => hA (Or.inr (Or.inr ⟨by omega, ?_⟩))))
    · rw [e2] at d
      rintro (k | k | k)
      · exact a k
      · exact b k
      · exact pz_nlt.mpr d k.2
    · rw [e2] at d
      exact pz_nle.mp d
theorem xw_at_y {post : Int32 → SX → Prop} {l i : Nat} (hC : pz_C n z it T S) (hO : pz_So n S a_shapeOf) (hL : pz_Sl n z it S a_shapeLength a_shapeItems) (hN : pz_Nm n z it S P a_begins a_bytes) (hl : l < n) (hi : i < z l) (h : ∀ (fr : Int32) (R N : Nat → Int32), post (it l i) (f_draftCount, f_partCount, nI n, f_shapes, f_nodes, f_isFitted, f_fits, fr, a_draft, a_parts, a_times, a_shapeOf, a_begins, a_bytes, a_shapeLength, a_shapeItems, a_shapeLines, a_lastNumbers, a_wordLines, a_nodeItem, a_below, a_beside, a_endsHere, R, N, a_rest, a_restLength, a_restTime)) : wpX_at post (f_draftCount, f_partCount, nI n, f_shapes, f_nodes, f_isFitted, f_fits, f_from, a_draft, a_parts, a_times, a_shapeOf, a_begins, a_bytes, a_shapeLength, a_shapeItems, a_shapeLines, a_lastNumbers, a_wordLines, a_nodeItem, a_below, a_beside, a_endsHere, a_read, a_numbers, a_rest, a_restLength, a_restTime) (nI l) (nI i) := by
  have hn := pz_Cn hC
  have hz := pz_Cz hC hl
  have hs := pz_Cs hC hl
  have cl : (nI l).toNatClampNeg = l := nI_clamp (by omega)
  have e1 := hO l hl
  unfold wpX_at
  refine xw_isLine_y hn hl (br_f pz_10 (br_f (nI_pos (by omega)) (And.intro (vp_in_nI (by omega) (by decide)) (And.intro (by rw [cl, e1]; exact vp_in_nI hs (by decide)) (pk_lt i (z l) (fun _ => xw_readLine hC hO hL hN hl (fun fr R N hR => And.intro (vp_in_nI (by omega) (by decide)) ?_)) (fun c => absurd c (by omega)) (hy := by rw [cl, e1, nI_clamp (by omega)]; exact (hL l hl).1))))))
  rw [nI_clamp (by omega), hR i hi]
  exact h fr R N
theorem xw_at_n {post : Int32 → SX → Prop} {l : Nat} {x : Int32} (hC : pz_C n z it T S) (hO : pz_So n S a_shapeOf) (hL : pz_Sl n z it S a_shapeLength a_shapeItems) (hl : l < n) (hx : x < 0 ∨ nI (z l) ≤ x) (h : post (-2) (f_draftCount, f_partCount, nI n, f_shapes, f_nodes, f_isFitted, f_fits, f_from, a_draft, a_parts, a_times, a_shapeOf, a_begins, a_bytes, a_shapeLength, a_shapeItems, a_shapeLines, a_lastNumbers, a_wordLines, a_nodeItem, a_below, a_beside, a_endsHere, a_read, a_numbers, a_rest, a_restLength, a_restTime)) : wpX_at post (f_draftCount, f_partCount, nI n, f_shapes, f_nodes, f_isFitted, f_fits, f_from, a_draft, a_parts, a_times, a_shapeOf, a_begins, a_bytes, a_shapeLength, a_shapeItems, a_shapeLines, a_lastNumbers, a_wordLines, a_nodeItem, a_below, a_beside, a_endsHere, a_read, a_numbers, a_rest, a_restLength, a_restTime) (nI l) x := by
  have hn := pz_Cn hC
  have hs := pz_Cs hC hl
  have cl : (nI l).toNatClampNeg = l := nI_clamp (by omega)
  have e1 := hO l hl
  have e2 : a_shapeLength (a_shapeOf (nI l).toNatClampNeg).toNatClampNeg = nI (z l) := by rw [cl, e1, nI_clamp (by omega)]; exact (hL l hl).1
  unfold wpX_at
  refine xw_isLine_y hn hl (br_f pz_10 (br_c (fun _ => h) (fun a => And.intro (vp_in_nI (by omega) (by decide)) (And.intro (by rw [cl, e1]; exact vp_in_nI hs (by decide)) (br_c (fun b => ?_) (fun _ => h))))))
  rw [e2] at b
  rcases hx with k | k
  · exact absurd k a
  · exact absurd b (pz_nlt.mpr k)
theorem xw_between {post : Int32 → Prop} {x y : Int32} (hC : pz_C n z it T S) (h : post (nI (pz_cu T n y - pz_cb T n x))) : wpX_between post (f_draftCount, f_partCount, nI n, f_shapes, f_nodes, f_isFitted, f_fits, f_from, a_draft, a_parts, T, a_shapeOf, a_begins, a_bytes, a_shapeLength, a_shapeItems, a_shapeLines, a_lastNumbers, a_wordLines, a_nodeItem, a_below, a_beside, a_endsHere, a_read, a_numbers, a_rest, a_restLength, a_restTime) x y := by
  have hn := pz_Cn hC
  have h1 := pz_cu_le T n y
  have h2 := pz_cb_le T n x
  unfold wpX_between
  refine xw_countBelow hC (xw_countUpTo hC (pk_le (pz_cu T n y) (pz_cb T n x) (fun a => ?_) (fun a => ?_)))
  · rw [show pz_cu T n y - pz_cb T n x = 0 by omega] at h
    exact h
  · rw [pk_sub (by omega)]; exact h
theorem xw_burst55 {post : Int32 → Prop} {J : Int32 → Int32 → Int32 → Prop} {w : Int32} {l : Nat} (hn : n ≤ 60) (hg : l < pz_en T n w l) (h : J (nI (pz_mo T n w (l + 1))) (nI (pz_en T n w l)) (nI (l + 1))) : wX_burst_55 post J w (nI (pz_mo T n w l)) (nI (pz_en T n w l)) (nI l) f_draftCount f_partCount f_lines f_shapes f_nodes f_isFitted f_fits f_from a_draft a_parts a_times a_shapeOf a_begins a_bytes a_shapeLength a_shapeItems a_shapeLines a_lastNumbers a_wordLines a_nodeItem a_below a_beside a_endsHere a_read a_numbers a_rest a_restLength a_restTime := by
  have he := pz_en_le T n w l
  have hm := pz_mo_le T n w l
  have e1 : nI (pz_en T n w l) - nI l = nI (pz_en T n w l - l) := pk_sub (by omega)
  have e3 : pz_mo T n w (l + 1) = if pz_en T n w l - l ≤ pz_mo T n w l then pz_mo T n w l else pz_en T n w l - l := rfl
  rw [e3] at h
  refine pk_le (pz_en T n w l - l) (pz_mo T n w l) (fun a => nm_r (nI_1 l) ?_) (fun a => nm_r e1 (nm_r (nI_1 l) ?_)) (hx := e1)
  · rw [if_pos a] at h; exact h
  · rw [if_neg (by omega)] at h; exact h
theorem xw_burst23 {post : Int32 → Prop} {J : Int32 → Int32 → Int32 → Prop} {w : Int32} {l : Nat} (hC : pz_C n z it T S) (hl : l < n) (hw : 1 ≤ w) (h : J (nI (pz_mo T n w (l + 1))) (nI (pz_en T n w l)) (nI (l + 1))) : ∀ d e, e + d = pz_en T n w l → l ≤ e → wX_burst_23 post J w (nI (pz_mo T n w l)) (nI l) f_draftCount f_partCount (nI n) f_shapes f_nodes f_isFitted f_fits f_from a_draft a_parts T a_shapeOf a_begins a_bytes a_shapeLength a_shapeItems a_shapeLines a_lastNumbers a_wordLines a_nodeItem a_below a_beside a_endsHere a_read a_numbers a_rest a_restLength a_restTime (d + 1) (nI e) := by
  have hn := pz_Cn hC
  have he := pz_en_le T n w l
  have hg := pz_en_gt hC hw hl
  have cl : (nI l).toNatClampNeg = l := nI_clamp (by omega)
  intro d
  induction d with
  | zero =>
    intro e hd hle
    have ee : e = pz_en T n w l := by omega
    rw [ee]
    refine pk_le n (pz_en T n w l) (fun _ => xw_burst55 hn hg h) (fun c => And.intro (vp_in_nI (by omega) (by decide)) (And.intro (vp_in_nI (by omega) (by decide)) (br_t ?_ (xw_burst55 hn hg h))))
    rw [cl, nI_clamp (by omega)]
    exact (pz_en_out hC (Nat.le_refl _) c).2
  | succ d ih =>
    intro e hd hle
    refine pk_le n e (fun c => absurd c (by omega)) (fun _ => And.intro (vp_in_nI (by omega) (by decide)) (And.intro (vp_in_nI (by omega) (by decide)) (br_f ?_ (nm_r (nI_1 e) (ih (e + 1) (by omega) (by omega))))))
    rw [cl, nI_clamp (by omega)]
    exact pz_en_in hC hle (by omega)
theorem xw_burst14 {post : Int32 → Prop} {w : Int32} (hC : pz_C n z it T S) (hw : 1 ≤ w) (h : post (nI (pz_mo T n w n))) : ∀ d l e, l + d = n → l ≤ e → (l < n → e ≤ pz_en T n w l) → wX_burst_14 post w f_draftCount f_partCount (nI n) f_shapes f_nodes f_isFitted f_fits f_from a_draft a_parts T a_shapeOf a_begins a_bytes a_shapeLength a_shapeItems a_shapeLines a_lastNumbers a_wordLines a_nodeItem a_below a_beside a_endsHere a_read a_numbers a_rest a_restLength a_restTime (d + 1) (nI (pz_mo T n w l)) (nI e) (nI l) := by
  have hn := pz_Cn hC
  intro d
  induction d with
  | zero =>
    intro l e hl _ _
    have e : l = n := by omega
    subst e
    exact pk_le l l (fun _ => h) (fun c => absurd c (by omega))
  | succ d ih =>
    intro l e hl h1 h2
    have hl' : l < n := by omega
    have hg := pz_en_gt hC hw hl'
    have h3 := h2 hl'
    exact pk_le n l (fun c => absurd c (by omega)) (fun _ => ⟨pz_en T n w l - e + 1, xw_burst23 hC hl' hw (ih (l + 1) (pz_en T n w l) (by omega) (by omega) (fun c => pz_en_mono hC c)) (pz_en T n w l - e) e (by omega) h1⟩)
theorem xw_burst {post : Int32 → Prop} {w : Int32} (hC : pz_C n z it T S) (h : 1 ≤ w → post (nI (pz_mo T n w n))) (h0 : ¬ 1 ≤ w → post (-1)) : wpX_burst post (f_draftCount, f_partCount, nI n, f_shapes, f_nodes, f_isFitted, f_fits, f_from, a_draft, a_parts, T, a_shapeOf, a_begins, a_bytes, a_shapeLength, a_shapeItems, a_shapeLines, a_lastNumbers, a_wordLines, a_nodeItem, a_below, a_beside, a_endsHere, a_read, a_numbers, a_rest, a_restLength, a_restTime) w :=
  br_c (fun a => ⟨n + 1, xw_burst14 hC a (h a) n 0 0 (by omega) (Nat.le_refl 0) (fun _ => Nat.zero_le _)⟩) h0
theorem xw_dig27 {post : Int32 → SX → Prop} {J : Int32 → Int32 → Int32 → Int32 → Int32 → Int32 → Int32 → Int32 → Int64 → Int32 → (Nat → Int32) → (Nat → Int32) → (Nat → Int32) → (Nat → Int32) → (Nat → Int32) → (Nat → Int32) → (Nat → Int32) → (Nat → Int32) → (Nat → Int64) → (Nat → Int32) → (Nat → Int64) → (Nat → Int32) → (Nat → Int32) → (Nat → Int32) → (Nat → Int32) → (Nat → Int32) → (Nat → Int32) → (Nat → Int32) → (Nat → Int32) → (Nat → Int32) → Prop} {l : Nat} (hC : pz_C n z it T S) (hO : pz_So n S a_shapeOf) (hL : pz_Sl n z it S a_shapeLength a_shapeItems) (hl : l < n) (hR : ∀ i, i < z l → a_read i = it l i) (h : J (pz_dg T z it (l + 1)) (nI (l + 1)) f_draftCount f_partCount f_lines f_shapes f_nodes f_isFitted f_fits f_from a_draft a_parts a_times a_shapeOf a_begins a_bytes a_shapeLength a_shapeItems a_shapeLines a_lastNumbers a_wordLines a_nodeItem a_below a_beside a_endsHere a_read a_numbers a_rest a_restLength a_restTime) : ∀ d i, i + d = z l → wX_digest_27 post J (pz_dg T z it l) (nI l) f_draftCount f_partCount f_lines f_shapes f_nodes f_isFitted f_fits f_from a_draft a_parts a_times a_shapeOf a_begins a_bytes a_shapeLength a_shapeItems a_shapeLines a_lastNumbers a_wordLines a_nodeItem a_below a_beside a_endsHere a_read a_numbers a_rest a_restLength a_restTime (d + 1) (pz_ow (T l) (it l) i) (nI i) := by
  have hn := pz_Cn hC
  have hz := pz_Cz hC hl
  have hs := pz_Cs hC hl
  have cl : (nI l).toNatClampNeg = l := nI_clamp (by omega)
  have e1 := hO l hl
  have v1 : vp_in (a_shapeOf (nI l).toNatClampNeg) 60 := by rw [cl, e1]; exact vp_in_nI hs (by decide)
  have e2 : a_shapeLength (a_shapeOf (nI l).toNatClampNeg).toNatClampNeg = nI (z l) := by rw [cl, e1, nI_clamp (by omega)]; exact (hL l hl).1
  intro d
  induction d with
  | zero =>
    intro i hi
    have e : i = z l := by omega
    subst e
    exact And.intro (vp_in_nI (by omega) (by decide)) (And.intro v1 (pk_le (z l) (z l) (fun _ => nm_e (nm_r (nI_1 l) h)) (fun c => absurd c (by omega)) (hx := e2)))
  | succ d ih =>
    intro i hi
    refine And.intro (vp_in_nI (by omega) (by decide)) (And.intro v1 (pk_le (z l) i (fun c => absurd c (by omega)) (fun _ => And.intro (vp_in_nI (by omega) (by decide)) (nm_r (e' := pz_ow (T l) (it l) (i + 1)) ?_ (nm_r (nI_1 i) (ih (i + 1) (by omega))))) (hx := e2)))
    rw [nI_clamp (by omega), hR i (by omega)]
    rfl
theorem xw_dig4 {post : Int32 → SX → Prop} (hC : pz_C n z it T S) (hO : pz_So n S a_shapeOf) (hL : pz_Sl n z it S a_shapeLength a_shapeItems) (hN : pz_Nm n z it S P a_begins a_bytes) (h : ∀ (fr : Int32) (R N : Nat → Int32), post (pz_dg T z it n) (f_draftCount, f_partCount, nI n, f_shapes, f_nodes, f_isFitted, f_fits, fr, a_draft, a_parts, T, a_shapeOf, a_begins, a_bytes, a_shapeLength, a_shapeItems, a_shapeLines, a_lastNumbers, a_wordLines, a_nodeItem, a_below, a_beside, a_endsHere, R, N, a_rest, a_restLength, a_restTime)) : ∀ d l (fr : Int32) (R N : Nat → Int32), l + d = n → wX_digest_4 post (d + 1) (pz_dg T z it l) (nI l) f_draftCount f_partCount (nI n) f_shapes f_nodes f_isFitted f_fits fr a_draft a_parts T a_shapeOf a_begins a_bytes a_shapeLength a_shapeItems a_shapeLines a_lastNumbers a_wordLines a_nodeItem a_below a_beside a_endsHere R N a_rest a_restLength a_restTime := by
  have hn := pz_Cn hC
  intro d
  induction d with
  | zero =>
    intro l fr R N hl
    have e : l = n := by omega
    subst e
    exact pk_le l l (fun _ => h fr R N) (fun c => absurd c (by omega))
  | succ d ih =>
    intro l fr R N hl
    have hl' : l < n := by omega
    refine pk_le n l (fun c => absurd c (by omega)) (fun _ => xw_readLine hC hO hL hN hl' (fun fr' R' N' hR => And.intro (vp_in_nI (by omega) (by decide)) (nm_r (e' := T l) (by rw [nI_clamp (by omega)]) ⟨z l + 1, xw_dig27 hC hO hL hl' hR (ih (l + 1) fr' R' N' (by omega)) (z l) 0 (by omega)⟩)))
theorem xw_digest {post : Int32 → SX → Prop} (hC : pz_C n z it T S) (hO : pz_So n S a_shapeOf) (hL : pz_Sl n z it S a_shapeLength a_shapeItems) (hN : pz_Nm n z it S P a_begins a_bytes) (h : ∀ (fr : Int32) (R N : Nat → Int32), post (pz_dg T z it n) (f_draftCount, f_partCount, nI n, f_shapes, f_nodes, f_isFitted, f_fits, fr, a_draft, a_parts, T, a_shapeOf, a_begins, a_bytes, a_shapeLength, a_shapeItems, a_shapeLines, a_lastNumbers, a_wordLines, a_nodeItem, a_below, a_beside, a_endsHere, R, N, a_rest, a_restLength, a_restTime)) : wpX_digest post (f_draftCount, f_partCount, nI n, f_shapes, f_nodes, f_isFitted, f_fits, f_from, a_draft, a_parts, T, a_shapeOf, a_begins, a_bytes, a_shapeLength, a_shapeItems, a_shapeLines, a_lastNumbers, a_wordLines, a_nodeItem, a_below, a_beside, a_endsHere, a_read, a_numbers, a_rest, a_restLength, a_restTime) :=
  ⟨n + 1, xw_dig4 hC hO hL hN h n 0 f_from a_read a_numbers (by omega)⟩
theorem xw_fitting {post : Int32 → SX → Prop} {x y : Int32} (hC : pz_C n z it T S) (hX : pz_X n z it S f_shapes f_nodes a_shapeOf a_begins a_bytes a_shapeLength a_shapeItems a_shapeLines a_lastNumbers a_wordLines a_nodeItem a_below a_beside a_endsHere) (hpc : pc ≤ 8) (hQ : ∀ k, k < pc → pz_pok (a_parts k)) (hF : f_isFitted ≠ 0 → pz_Fb n pc z it a_parts f_fits) (h : ∀ (q : Int32) (w : Int64) (fr : Int32) (N : Nat → Int32), pz_Fb n pc z it a_parts w → post (nI (pz_cnt (fun l => !decide (T l < x) && (!decide (y < T l) && pz_fit a_parts pc (it l) (z l))) n)) (f_draftCount, nI pc, nI n, f_shapes, f_nodes, q, w, fr, a_draft, a_parts, T, a_shapeOf, a_begins, a_bytes, a_shapeLength, a_shapeItems, a_shapeLines, a_lastNumbers, a_wordLines, a_nodeItem, a_below, a_beside, a_endsHere, a_read, N, a_rest, a_restLength, a_restTime)) : wpX_fitting post (f_draftCount, nI pc, nI n, f_shapes, f_nodes, f_isFitted, f_fits, f_from, a_draft, a_parts, T, a_shapeOf, a_begins, a_bytes, a_shapeLength, a_shapeItems, a_shapeLines, a_lastNumbers, a_wordLines, a_nodeItem, a_below, a_beside, a_endsHere, a_read, a_numbers, a_rest, a_restLength, a_restTime) x y := by
  have hn := pz_Cn hC
  have h1 := pz_cu_le T n y
  have h2 := pz_cb_le T n x
  unfold wpX_fitting
  refine xw_fit hC hX hpc hQ hF (fun q w fr N hw => xw_countBelow hC (xw_countUpTo hC (pk_le (pz_cu T n y) (pz_cb T n x) (fun a => ?_) (fun a => xw_ones ?_))))
  · have K := h q w fr N hw
    have e : pz_cnt (fun l => !decide (T l < x) && (!decide (y < T l) && pz_fit a_parts pc (it l) (z l))) n = 0 := by
      refine pz_cnt_zero (fun j hj => ?_)
      rw [pz_from hC x hj, pz_to hC y hj]
      by_cases c : j < pz_cb T n x
      · rw [decide_eq_true c]; rfl
      · rw [decide_eq_false (show ¬ j < pz_cu T n y by omega)]; simp
    rw [e] at K
    exact K
  · have K := h q w fr N hw
    rw [← pz_cnt_ext (p := pz_b ((w &&& (((1 : Int64) <<< ((nI (pz_cu T n y)).toInt64 &&& 63)) - 1)) &&& ((((1 : Int64) <<< ((nI (pz_cb T n x)).toInt64 &&& 63)) - 1) ^^^ (-1)))) hn (fun j hj => ?_) (fun j j1 j2 => ?_)] at K
    · exact K
    · rw [pz_b_and, pz_b_and, pz_b_not _ (by omega), pz_b_below (by omega) (by omega), pz_b_below (by omega) (by omega), hw j (by omega), decide_eq_true hj, pz_from hC x hj, pz_to hC y hj]
      cases decide (j < pz_cb T n x) <;> cases decide (j < pz_cu T n y) <;> cases pz_fit a_parts pc (it j) (z j) <;> rfl
    · rw [pz_b_and, pz_b_and, hw j (by omega), decide_eq_false (show ¬ j < n by omega)]
      rfl
theorem xw_next26 {post : Int32 → SX → Prop} {x : Int32} {w : Int64} {b : Nat} (hC : pz_C n z it T S) (hw : pz_Fb n pc z it a_parts w) (hb : b ≤ 60) (hx : ∀ j, j < n → (j < b ↔ nI j ≤ x)) (h1 : pz_find (fun l => !decide (nI l ≤ x) && pz_fit a_parts pc (it l) (z l)) n < n → post (nI (pz_find (fun l => !decide (nI l ≤ x) && pz_fit a_parts pc (it l) (z l)) n)) (f_draftCount, f_partCount, nI n, f_shapes, f_nodes, f_isFitted, w, f_from, a_draft, a_parts, a_times, a_shapeOf, a_begins, a_bytes, a_shapeLength, a_shapeItems, a_shapeLines, a_lastNumbers, a_wordLines, a_nodeItem, a_below, a_beside, a_endsHere, a_read, a_numbers, a_rest, a_restLength, a_restTime)) (h0 : pz_find (fun l => !decide (nI l ≤ x) && pz_fit a_parts pc (it l) (z l)) n = n → post (-2) (f_draftCount, f_partCount, nI n, f_shapes, f_nodes, f_isFitted, w, f_from, a_draft, a_parts, a_times, a_shapeOf, a_begins, a_bytes, a_shapeLength, a_shapeItems, a_shapeLines, a_lastNumbers, a_wordLines, a_nodeItem, a_below, a_beside, a_endsHere, a_read, a_numbers, a_rest, a_restLength, a_restTime)) : wX_next_26 post (nI b) f_draftCount f_partCount (nI n) f_shapes f_nodes f_isFitted w f_from a_draft a_parts a_times a_shapeOf a_begins a_bytes a_shapeLength a_shapeItems a_shapeLines a_lastNumbers a_wordLines a_nodeItem a_below a_beside a_endsHere a_read a_numbers a_rest a_restLength a_restTime := by
  have hn := pz_Cn hC
  have hle := (pz_find_s (fun l => !decide (nI l ≤ x) && pz_fit a_parts pc (it l) (z l)) n).1
  refine xw_lowest ?_
  rw [pz_find_ext (q := fun l => !decide (nI l ≤ x) && pz_fit a_parts pc (it l) (z l)) hn (fun j hj => ?_) (fun j j1 j2 => ?_)]
  · by_cases c : pz_find (fun l => !decide (nI l ≤ x) && pz_fit a_parts pc (it l) (z l)) n < n
    · rw [if_pos c]
      exact pk_le n (pz_find (fun l => !decide (nI l ≤ x) && pz_fit a_parts pc (it l) (z l)) n) (fun d => absurd d (by omega)) (fun _ => h1 c)
    · rw [if_neg c]
      exact pk_le n 60 (fun _ => h0 (by omega)) (fun d => absurd d (by omega))
  · rw [pz_b_and, pz_b_not _ (by omega), pz_b_below (by omega) (by omega), hw j (by omega), decide_eq_true hj, Bool.true_and, Bool.and_comm]
    congr 2
    rw [decide_eq_decide]
    exact hx j hj
  · rw [pz_b_and, hw j (by omega), decide_eq_false (show ¬ j < n by omega)]
    rfl
theorem xw_next {post : Int32 → SX → Prop} {x : Int32} (hC : pz_C n z it T S) (hX : pz_X n z it S f_shapes f_nodes a_shapeOf a_begins a_bytes a_shapeLength a_shapeItems a_shapeLines a_lastNumbers a_wordLines a_nodeItem a_below a_beside a_endsHere) (hpc : pc ≤ 8) (hQ : ∀ k, k < pc → pz_pok (a_parts k)) (hF : f_isFitted ≠ 0 → pz_Fb n pc z it a_parts f_fits) (h1 : pz_find (fun l => !decide (nI l ≤ x) && pz_fit a_parts pc (it l) (z l)) n < n → ∀ (q : Int32) (w : Int64) (fr : Int32) (N : Nat → Int32), pz_Fb n pc z it a_parts w → post (nI (pz_find (fun l => !decide (nI l ≤ x) && pz_fit a_parts pc (it l) (z l)) n)) (f_draftCount, nI pc, nI n, f_shapes, f_nodes, q, w, fr, a_draft, a_parts, a_times, a_shapeOf, a_begins, a_bytes, a_shapeLength, a_shapeItems, a_shapeLines, a_lastNumbers, a_wordLines, a_nodeItem, a_below, a_beside, a_endsHere, a_read, N, a_rest, a_restLength, a_restTime)) (h0 : pz_find (fun l => !decide (nI l ≤ x) && pz_fit a_parts pc (it l) (z l)) n = n → ∀ (q : Int32) (w : Int64) (fr : Int32) (N : Nat → Int32), pz_Fb n pc z it a_parts w → post (-2) (f_draftCount, nI pc, nI n, f_shapes, f_nodes, q, w, fr, a_draft, a_parts, a_times, a_shapeOf, a_begins, a_bytes, a_shapeLength, a_shapeItems, a_shapeLines, a_lastNumbers, a_wordLines, a_nodeItem, a_below, a_beside, a_endsHere, a_read, N, a_rest, a_restLength, a_restTime)) : wpX_next post (f_draftCount, nI pc, nI n, f_shapes, f_nodes, f_isFitted, f_fits, f_from, a_draft, a_parts, a_times, a_shapeOf, a_begins, a_bytes, a_shapeLength, a_shapeItems, a_shapeLines, a_lastNumbers, a_wordLines, a_nodeItem, a_below, a_beside, a_endsHere, a_read, a_numbers, a_rest, a_restLength, a_restTime) x := by
  have hn := pz_Cn hC
  unfold wpX_next
  refine xw_fit hC hX hpc hQ hF (fun q w fr N hw => br_c (fun a => br_c (fun b => ?_) (fun b => ?_)) (fun a => ?_))
  · obtain ⟨k, hk, e⟩ := nI_of (x := x) (pz_nlt.mpr a)
    subst e
    have hk2 : k < 60 := by
      have b' : nI k < nI 60 := b
      rw [nI_ltI hk (by decide)] at b'
      exact b'
    rw [nI_1]
    refine xw_next26 (x := nI k) hC hw (by omega) (fun j hj => ?_) (fun c => h1 c q w fr N hw) (fun c => h0 c q w fr N hw)
    rw [nI_leI (by omega) hk]
    omega
  · refine xw_next26 (x := x) (b := 60) hC hw (by omega) (fun j hj => ⟨fun _ => ?_, fun _ => by omega⟩) (fun c => h1 c q w fr N hw) (fun c => h0 c q w fr N hw)
    refine Int32.le_trans (nI_le (a := j) (b := 60) (by omega) (by decide)) (pz_nlt.mp b)
  · refine xw_next26 (x := x) (b := 0) hC hw (by omega) (fun j hj => ⟨fun c => absurd c (Nat.not_lt_zero j), fun c => ?_⟩) (fun c => h1 c q w fr N hw) (fun c => h0 c q w fr N hw)
    exact absurd (Int32.le_trans (nI_pos' (n := j) (by omega)) c) a
theorem xw_fg8 {post : Int32 → SX → Prop} {w : Int64} (hC : pz_C n z it T S) (hB : pz_Bs n (pz_mm S n) S a_shapeLines) (hw : pz_Fb n pc z it a_parts w) (h : post (nI (pz_cnt (fun s => pz_ex (fun l => decide (S l = s) && pz_fit a_parts pc (it l) (z l)) n) (pz_mm S n))) (f_draftCount, f_partCount, f_lines, nI (pz_mm S n), f_nodes, f_isFitted, w, f_from, a_draft, a_parts, a_times, a_shapeOf, a_begins, a_bytes, a_shapeLength, a_shapeItems, a_shapeLines, a_lastNumbers, a_wordLines, a_nodeItem, a_below, a_beside, a_endsHere, a_read, a_numbers, a_rest, a_restLength, a_restTime)) : ∀ d s, s + d = pz_mm S n → wX_fittingGroups_8 post f_draftCount f_partCount f_lines (nI (pz_mm S n)) f_nodes f_isFitted w f_from a_draft a_parts a_times a_shapeOf a_begins a_bytes a_shapeLength a_shapeItems a_shapeLines a_lastNumbers a_wordLines a_nodeItem a_below a_beside a_endsHere a_read a_numbers a_rest a_restLength a_restTime (d + 1) (nI (pz_cnt (fun s => pz_ex (fun l => decide (S l = s) && pz_fit a_parts pc (it l) (z l)) n) s)) (nI s) := by
  have hn := pz_Cn hC
  have hmm := pz_Cmm hC
  intro d
  induction d with
  | zero =>
    intro s hs
    have e : s = pz_mm S n := by omega
    rw [e]
    exact pk_le (pz_mm S n) (pz_mm S n) (fun _ => h) (fun c => absurd c (by omega))
  | succ d ih =>
    intro s hs
    have K := ih (s + 1) (by omega)
    refine pk_le (pz_mm S n) s (fun c => absurd c (by omega)) (fun _ => And.intro (vp_in_nI (by omega) (by decide)) (pz_ifn (b := pz_ex (fun l => decide (S l = s) && pz_fit a_parts pc (it l) (z l)) n) ?_ (fun f => nm_r (Int32.add_zero _) (nm_r (nI_1 s) ?_)) (fun f => nm_r (nI_1 _) (nm_r (nI_1 s) ?_))))
    · rw [nI_clamp (by omega), pz_b_z, pz_ex_f]
      constructor
      · intro k l hl
        have := k l (by omega)
        rw [pz_b_and, hw l (by omega), hB s (by omega) l (by omega), decide_eq_true hl, Bool.true_and, Bool.true_and, Bool.and_comm] at this
        exact this
      · intro k l hl
        rw [pz_b_and, hw l hl, hB s (by omega) l hl]
        by_cases f : l < n
        · rw [decide_eq_true f, Bool.true_and, Bool.true_and, Bool.and_comm]
          exact k l f
        · rw [decide_eq_false f]; rfl
    · rw [pz_cnt_f (p := fun s => pz_ex (fun l => decide (S l = s) && pz_fit a_parts pc (it l) (z l)) n) f] at K
      exact K
    · rw [pz_cnt_t (p := fun s => pz_ex (fun l => decide (S l = s) && pz_fit a_parts pc (it l) (z l)) n) f] at K
      exact K
theorem xw_fittingGroups {post : Int32 → SX → Prop} (hC : pz_C n z it T S) (hX : pz_X n z it S f_shapes f_nodes a_shapeOf a_begins a_bytes a_shapeLength a_shapeItems a_shapeLines a_lastNumbers a_wordLines a_nodeItem a_below a_beside a_endsHere) (hpc : pc ≤ 8) (hQ : ∀ k, k < pc → pz_pok (a_parts k)) (hF : f_isFitted ≠ 0 → pz_Fb n pc z it a_parts f_fits) (h : ∀ (q : Int32) (w : Int64) (fr : Int32) (N : Nat → Int32), pz_Fb n pc z it a_parts w → post (nI (pz_cnt (fun l => pz_fit a_parts pc (it l) (z l) && !pz_ex (fun j => decide (S j = S l) && pz_fit a_parts pc (it j) (z j)) l) n)) (f_draftCount, nI pc, nI n, f_shapes, f_nodes, q, w, fr, a_draft, a_parts, a_times, a_shapeOf, a_begins, a_bytes, a_shapeLength, a_shapeItems, a_shapeLines, a_lastNumbers, a_wordLines, a_nodeItem, a_below, a_beside, a_endsHere, a_read, N, a_rest, a_restLength, a_restTime)) : wpX_fittingGroups post (f_draftCount, nI pc, nI n, f_shapes, f_nodes, f_isFitted, f_fits, f_from, a_draft, a_parts, a_times, a_shapeOf, a_begins, a_bytes, a_shapeLength, a_shapeItems, a_shapeLines, a_lastNumbers, a_wordLines, a_nodeItem, a_below, a_beside, a_endsHere, a_read, a_numbers, a_rest, a_restLength, a_restTime) := by
  have x1 := hX.1
  have x4 := hX.2.2.2.1
  unfold wpX_fittingGroups
  refine xw_fit hC hX hpc hQ hF (fun q w fr N hw => ?_)
  have K := h q w fr N hw
  rw [← pz_cnt_gr (F := fun l => pz_fit a_parts pc (it l) (z l)) (m := pz_mm S n) n (fun l hl => pz_mm_lt hl)] at K
  rw [x1] at K ⊢
  exact ⟨pz_mm S n + 1, xw_fg8 hC x4 hw K (pz_mm S n) 0 (by omega)⟩
end
end
section
/-! the relation -/
def pz_F (n : Nat) (z : Nat → Nat) (it : Nat → Nat → Int32) (S : Nat → Nat) (dc pc : Nat) (f_isFitted : Int32) (f_fits : Int64) (f_shapes f_nodes : Int32) (a_shapeOf a_begins a_bytes a_shapeLength a_shapeItems : Nat → Int32) (a_shapeLines : Nat → Int64) (a_lastNumbers : Nat → Int32) (a_wordLines : Nat → Int64) (a_nodeItem a_below a_beside a_endsHere : Nat → Int32) (a_draft a_parts a_times b_sizes b_items b_draft : Nat → Int32) : Prop :=
  dc ≤ 8 ∧ pc ≤ 8 ∧ (∀ i, i < dc → b_draft i = a_draft i ∧ pz_ok (a_draft i)) ∧ (∀ k, k < pc → pz_pok (a_parts k)) ∧
  pz_C n z it a_times S ∧ pz_X n z it S f_shapes f_nodes a_shapeOf a_begins a_bytes a_shapeLength a_shapeItems a_shapeLines a_lastNumbers a_wordLines a_nodeItem a_below a_beside a_endsHere ∧ pz_Y n z it b_sizes b_items ∧ (f_isFitted ≠ 0 → pz_Fb n pc z it a_parts f_fits)
/-- both hold the lines z, it with shapes S, times a_times; the draft of dc items; the pattern of pc parts -/
def i_Rel (_ : Nat) (u : SX) (v : SY) : Prop := match u, v with
  | (f_draftCount, f_partCount, f_lines, f_shapes, f_nodes, f_isFitted, f_fits, f_from, a_draft, a_parts, a_times, a_shapeOf, a_begins, a_bytes, a_shapeLength, a_shapeItems, a_shapeLines, a_lastNumbers, a_wordLines, a_nodeItem, a_below, a_beside, a_endsHere, a_read, a_numbers, a_rest, a_restLength, a_restTime), (g_count, g_draftSize, g_partCount, b_times, b_sizes, b_items, b_draft, b_parts, b_table) => ∃ (n : Nat) (z : Nat → Nat) (it : Nat → Nat → Int32) (S : Nat → Nat) (dc pc : Nat), f_draftCount = nI dc ∧ f_partCount = nI pc ∧ f_lines = nI n ∧ g_count = nI n ∧ g_draftSize = nI dc ∧ g_partCount = nI pc ∧ b_times = a_times ∧ b_parts = a_parts ∧ pz_F n z it S dc pc f_isFitted f_fits f_shapes f_nodes a_shapeOf a_begins a_bytes a_shapeLength a_shapeItems a_shapeLines a_lastNumbers a_wordLines a_nodeItem a_below a_beside a_endsHere a_draft a_parts a_times b_sizes b_items b_draft
section
variable {f_draftCount f_partCount f_lines f_shapes f_nodes f_isFitted f_from : Int32} {f_fits : Int64} {a_draft a_parts a_times a_shapeOf a_begins a_bytes a_shapeLength a_shapeItems a_lastNumbers a_nodeItem a_below a_beside a_endsHere a_read a_numbers a_rest a_restLength a_restTime : Nat → Int32} {a_shapeLines a_wordLines : Nat → Int64}
variable {g_count g_draftSize g_partCount : Int32} {b_times b_sizes b_items b_draft b_parts b_table : Nat → Int32}
theorem zz_in {k n : Nat} {z : Nat → Nat} {it : Nat → Nat → Int32} {S : Nat → Nat} {dc pc : Nat} (h : pz_F n z it S dc pc f_isFitted f_fits f_shapes f_nodes a_shapeOf a_begins a_bytes a_shapeLength a_shapeItems a_shapeLines a_lastNumbers a_wordLines a_nodeItem a_below a_beside a_endsHere a_draft a_parts a_times b_sizes b_items b_draft) : i_Rel k (nI dc, nI pc, nI n, f_shapes, f_nodes, f_isFitted, f_fits, f_from, a_draft, a_parts, a_times, a_shapeOf, a_begins, a_bytes, a_shapeLength, a_shapeItems, a_shapeLines, a_lastNumbers, a_wordLines, a_nodeItem, a_below, a_beside, a_endsHere, a_read, a_numbers, a_rest, a_restLength, a_restTime) (nI n, nI dc, nI pc, a_times, b_sizes, b_items, b_draft, a_parts, b_table) :=
  Exists.intro n (Exists.intro z (Exists.intro it (Exists.intro S (Exists.intro dc (Exists.intro pc ⟨rfl, rfl, rfl, rfl, rfl, rfl, rfl, rfl, h⟩)))))
end
theorem zz_el {k : Nat} {u : SX} {v : SY} {P : SX → SY → Prop} (h : ∀ (n : Nat) (z : Nat → Nat) (it : Nat → Nat → Int32) (S : Nat → Nat) (dc pc : Nat) (f_shapes f_nodes f_isFitted f_from : Int32) (f_fits : Int64) (a_draft a_parts a_times a_shapeOf a_begins a_bytes a_shapeLength a_shapeItems : Nat → Int32) (a_shapeLines : Nat → Int64) (a_lastNumbers : Nat → Int32) (a_wordLines : Nat → Int64) (a_nodeItem a_below a_beside a_endsHere a_read a_numbers a_rest a_restLength a_restTime b_sizes b_items b_draft b_table : Nat → Int32), pz_F n z it S dc pc f_isFitted f_fits f_shapes f_nodes a_shapeOf a_begins a_bytes a_shapeLength a_shapeItems a_shapeLines a_lastNumbers a_wordLines a_nodeItem a_below a_beside a_endsHere a_draft a_parts a_times b_sizes b_items b_draft → P (nI dc, nI pc, nI n, f_shapes, f_nodes, f_isFitted, f_fits, f_from, a_draft, a_parts, a_times, a_shapeOf, a_begins, a_bytes, a_shapeLength, a_shapeItems, a_shapeLines, a_lastNumbers, a_wordLines, a_nodeItem, a_below, a_beside, a_endsHere, a_read, a_numbers, a_rest, a_restLength, a_restTime) (nI n, nI dc, nI pc, a_times, b_sizes, b_items, b_draft, a_parts, b_table)) (I : i_Rel k u v) : P u v :=
  match u, v, I with
  | (f_draftCount, f_partCount, f_lines, f_shapes, f_nodes, f_isFitted, f_fits, f_from, a_draft, a_parts, a_times, a_shapeOf, a_begins, a_bytes, a_shapeLength, a_shapeItems, a_shapeLines, a_lastNumbers, a_wordLines, a_nodeItem, a_below, a_beside, a_endsHere, a_read, a_numbers, a_rest, a_restLength, a_restTime), (g_count, g_draftSize, g_partCount, b_times, b_sizes, b_items, b_draft, b_parts, b_table), ⟨n, z, it, S, dc, pc, e1, e2, e3, e4, e5, e6, e7, e8, F⟩ => by
    subst e1 e2 e3 e4 e5 e6 e7 e8
    exact h n z it S dc pc _ _ _ _ _ _ _ _ _ _ _ _ _ _ _ _ _ _ _ _ _ _ _ _ _ _ _ _ _ F
end
section
/-! columns, having, parts: both sides -/
section
variable {f_draftCount f_partCount f_lines f_shapes f_nodes f_isFitted f_from : Int32} {f_fits : Int64} {a_draft a_parts a_times a_shapeOf a_begins a_bytes a_shapeLength a_shapeItems a_lastNumbers a_nodeItem a_below a_beside a_endsHere a_read a_numbers a_rest a_restLength a_restTime : Nat → Int32} {a_shapeLines a_wordLines : Nat → Int64}
variable {n dc pc : Nat} {z : Nat → Nat} {it : Nat → Nat → Int32} {T : Nat → Int32} {S : Nat → Nat} {P : Nat → Nat → Nat}
theorem xw_col_bad {post : Int32 → SX → Prop} {l : Nat} {x w : Int32} (hC : pz_C n z it T S) (hl : l < n) (hw : w < 0 ∨ ¬ w ≤ 3) (h : post (-1) (f_draftCount, f_partCount, nI n, f_shapes, f_nodes, f_isFitted, f_fits, f_from, a_draft, a_parts, a_times, a_shapeOf, a_begins, a_bytes, a_shapeLength, a_shapeItems, a_shapeLines, a_lastNumbers, a_wordLines, a_nodeItem, a_below, a_beside, a_endsHere, a_read, a_numbers, a_rest, a_restLength, a_restTime)) : wpX_column post (f_draftCount, f_partCount, nI n, f_shapes, f_nodes, f_isFitted, f_fits, f_from, a_draft, a_parts, a_times, a_shapeOf, a_begins, a_bytes, a_shapeLength, a_shapeItems, a_shapeLines, a_lastNumbers, a_wordLines, a_nodeItem, a_below, a_beside, a_endsHere, a_read, a_numbers, a_rest, a_restLength, a_restTime) (nI l) x w := by
  unfold wpX_column
  refine xw_isLine_y (pz_Cn hC) hl (br_f pz_10 (br_c (fun _ => h) (fun a => br_f ?_ h)))
  rcases hw with k | k
  · exact absurd k a
  · exact k
theorem xw_col_none {post : Int32 → SX → Prop} {l : Nat} {x w : Int32} (hC : pz_C n z it T S) (hO : pz_So n S a_shapeOf) (hL : pz_Sl n z it S a_shapeLength a_shapeItems) (hl : l < n) (w0 : ¬ w < 0) (w3 : w ≤ 3) (hx : (x < 0 ∨ nI (z l) ≤ x) ∨ ∃ i, i < z l ∧ x = nI i ∧ pz_num (it l i) = false) (h : post (-2) (f_draftCount, f_partCount, nI n, f_shapes, f_nodes, f_isFitted, f_fits, f_from, a_draft, a_parts, a_times, a_shapeOf, a_begins, a_bytes, a_shapeLength, a_shapeItems, a_shapeLines, a_lastNumbers, a_wordLines, a_nodeItem, a_below, a_beside, a_endsHere, a_read, a_numbers, a_rest, a_restLength, a_restTime)) : wpX_column post (f_draftCount, f_partCount, nI n, f_shapes, f_nodes, f_isFitted, f_fits, f_from, a_draft, a_parts, a_times, a_shapeOf, a_begins, a_bytes, a_shapeLength, a_shapeItems, a_shapeLines, a_lastNumbers, a_wordLines, a_nodeItem, a_below, a_beside, a_endsHere, a_read, a_numbers, a_rest, a_restLength, a_restTime) (nI l) x w := by
  have hn := pz_Cn hC
  have hs := pz_Cs hC hl
  have hz := pz_Cz hC hl
  have e2 : a_shapeLength (nI (S l)).toNatClampNeg = nI (z l) := by rw [nI_clamp (by omega)]; exact (hL l hl).1
  unfold wpX_column
  refine xw_isLine_y hn hl (br_f pz_10 (br_f w0 (br_t w3 (And.intro (vp_in_nI (by omega) (by decide)) (nm_r (e' := nI (S l)) (by rw [nI_clamp (by omega)]; exact hO l hl) ?_)))))
  rcases hx with hx | ⟨i, hi, e, hu⟩
  · refine br_c (fun _ => h) (fun a => And.intro (vp_in_nI hs (by decide)) (br_t ?_ h))
    rw [e2]
    rcases hx with k | k
    · exact absurd k a
    · exact k
  · subst e
    refine br_f (nI_pos (by omega)) (And.intro (vp_in_nI hs (by decide)) (pk_le (z l) i (fun c => absurd c (by omega)) (fun _ => And.intro (pz_in8 hs (by omega)) (br_f ?_ h)) (hx := e2)))
    rw [pz_cl8 hs (by omega), (hL l hl).2 i hi, pz_bl_1000, hu]
    decide
theorem xw_col_y {post : Int32 → SX → Prop} {l i : Nat} {w : Int32} (hC : pz_C n z it T S) (hO : pz_So n S a_shapeOf) (hL : pz_Sl n z it S a_shapeLength a_shapeItems) (hN : pz_Nm n z it S P a_begins a_bytes) (hl : l < n) (w0 : ¬ w < 0) (w3 : w ≤ 3) (hi : i < z l) (hu : pz_num (it l i) = true) (h : ∀ (fr : Int32) (N R : Nat → Int32), post (pz_col S it (S l) i n w) (f_draftCount, f_partCount, nI n, f_shapes, f_nodes, f_isFitted, f_fits, fr, a_draft, a_parts, a_times, a_shapeOf, a_begins, a_bytes, a_shapeLength, a_shapeItems, a_shapeLines, a_lastNumbers, a_wordLines, a_nodeItem, a_below, a_beside, a_endsHere, a_read, N, R, a_restLength, a_restTime)) : wpX_column post (f_draftCount, f_partCount, nI n, f_shapes, f_nodes, f_isFitted, f_fits, f_from, a_draft, a_parts, a_times, a_shapeOf, a_begins, a_bytes, a_shapeLength, a_shapeItems, a_shapeLines, a_lastNumbers, a_wordLines, a_nodeItem, a_below, a_beside, a_endsHere, a_read, a_numbers, a_rest, a_restLength, a_restTime) (nI l) (nI i) w := by
  have hn := pz_Cn hC
  have hs := pz_Cs hC hl
  have hz := pz_Cz hC hl
  have e2 : a_shapeLength (nI (S l)).toNatClampNeg = nI (z l) := by rw [nI_clamp (by omega)]; exact (hL l hl).1
  unfold wpX_column
  refine xw_isLine_y hn hl (br_f pz_10 (br_f w0 (br_t w3 (And.intro (vp_in_nI (by omega) (by decide)) (nm_r (e' := nI (S l)) (by rw [nI_clamp (by omega)]; exact hO l hl) (br_f (nI_pos (by omega)) (And.intro (vp_in_nI hs (by decide)) (pk_le (z l) i (fun c => absurd c (by omega)) (fun _ => And.intro (pz_in8 hs (by omega)) (br_t ?_ (br_c (fun a => xw_differentIn hC hO hL hN hl hi hu (fun fr N R => ?_)) (fun a => xw_totalIn hC hO hL hN hl hi hu (fun fr N => ?_))))) (hx := e2)))))))))
  · rw [pz_cl8 hs (by omega), (hL l hl).2 i hi, pz_bl_1000]
    exact hu
  · have K := h fr N R
    have e : pz_col S it (S l) i n w = nI (pz_cnt (fun j => decide (S j = S l) && pz_isn S it i j) n) := by
      unfold pz_col
      rw [a, if_neg (by decide), if_neg (by decide), if_neg (by decide)]
    rw [e] at K
    exact K
  · have K := h fr N a_rest
    have e : pz_col S it (S l) i n w = pz_tot S it (S l) i n w := by
      unfold pz_col pz_tot
      by_cases c0 : w = 0
      · rw [if_pos c0, if_pos c0]
      · rw [if_neg c0, if_neg c0]
        by_cases c1 : w = 1
        · rw [if_pos c1, if_pos c1]
        · rw [if_neg c1, if_neg c1]
          have c2 : w = 2 := by
            have q0 : w.toInt ≠ 0 := fun k => c0 (pz_ieq.mpr (by rw [k]; decide))
            have q1 : w.toInt ≠ 1 := fun k => c1 (pz_ieq.mpr (by rw [k]; decide))
            have q3 : w.toInt ≠ 3 := fun k => a (pz_ieq.mpr (by rw [k]; decide))
            rw [pz_ilt, pz_c0] at w0
            rw [pz_ile, show (3 : Int32).toInt = 3 from by decide] at w3
            exact pz_ieq.mpr (by rw [show (2 : Int32).toInt = 2 from by decide]; omega)
          rw [if_pos c2]
    rw [e] at K
    exact K
theorem xw_having_w {post : Int32 → SX → Prop} {w : Nat} (hC : pz_C n z it T S) (hW : pz_Bw n z it a_wordLines) (hw : w < 24) (h : post (nI (pz_cnt (fun l => pz_has (it l) (z l) (nI w)) n)) (f_draftCount, f_partCount, f_lines, f_shapes, f_nodes, f_isFitted, f_fits, f_from, a_draft, a_parts, a_times, a_shapeOf, a_begins, a_bytes, a_shapeLength, a_shapeItems, a_shapeLines, a_lastNumbers, a_wordLines, a_nodeItem, a_below, a_beside, a_endsHere, a_read, a_numbers, a_rest, a_restLength, a_restTime)) : wpX_having post (f_draftCount, f_partCount, f_lines, f_shapes, f_nodes, f_isFitted, f_fits, f_from, a_draft, a_parts, a_times, a_shapeOf, a_begins, a_bytes, a_shapeLength, a_shapeItems, a_shapeLines, a_lastNumbers, a_wordLines, a_nodeItem, a_below, a_beside, a_endsHere, a_read, a_numbers, a_rest, a_restLength, a_restTime) (nI w) := by
  have hn := pz_Cn hC
  have e1 : (nI w).toInt = (w : Int) := nI_toInt (by omega)
  unfold wpX_having
  refine xw_isItem (fun _ => br_f pz_10 (xw_isNumber (fun a => ?_) (fun a => br_t rfl (And.intro (vp_in_nI hw (by decide)) (xw_ones ?_))))) (fun a => ?_)
  · rw [pz_num_t, e1] at a
    omega
  · rw [nI_clamp (by omega)]
    rw [← pz_cnt_ext (p := pz_b (a_wordLines w)) hn (fun j hj => ?_) (fun j j1 j2 => ?_)] at h
    · exact h
    · rw [hW w hw j (by omega), decide_eq_true hj, Bool.true_and]
    · rw [hW w hw j (by omega), decide_eq_false (show ¬ j < n by omega), Bool.false_and]
  · exact absurd (Or.inl (by rw [e1]; omega)) a
theorem xw_having_n {post : Int32 → SX → Prop} {x : Int32} (hC : pz_C n z it T S) (hO : pz_So n S a_shapeOf) (hL : pz_Sl n z it S a_shapeLength a_shapeItems) (hN : pz_Nm n z it S P a_begins a_bytes) (hx : pz_num x = true) (h : ∀ (fr : Int32) (N : Nat → Int32), post (nI (pz_cnt (fun l => pz_has (it l) (z l) x) n)) (f_draftCount, f_partCount, nI n, nI (pz_mm S n), f_nodes, f_isFitted, f_fits, fr, a_draft, a_parts, a_times, a_shapeOf, a_begins, a_bytes, a_shapeLength, a_shapeItems, a_shapeLines, a_lastNumbers, a_wordLines, a_nodeItem, a_below, a_beside, a_endsHere, a_read, N, a_rest, a_restLength, a_restTime)) : wpX_having post (f_draftCount, f_partCount, nI n, nI (pz_mm S n), f_nodes, f_isFitted, f_fits, f_from, a_draft, a_parts, a_times, a_shapeOf, a_begins, a_bytes, a_shapeLength, a_shapeItems, a_shapeLines, a_lastNumbers, a_wordLines, a_nodeItem, a_below, a_beside, a_endsHere, a_read, a_numbers, a_rest, a_restLength, a_restTime) x := by
  unfold wpX_having
  refine xw_isItem (fun _ => br_f pz_10 (xw_isNumber (fun a => br_f pz_10 ⟨pz_mm S n + 1, ?_⟩) (fun a => ?_))) (fun a => ?_)
  · have K := xw_having30 hC hO hL hN hx h (pz_mm S n) 0 f_from a_numbers (by omega)
    rw [pz_cnt_zero (fun j _ => by rw [decide_eq_false (Nat.not_lt_zero _), Bool.false_and])] at K
    exact K
  · rw [hx] at a; exact absurd a (by decide)
  · exact absurd (Or.inr (pz_num_t.mp hx)) a
end
section
variable {g_count g_draftSize g_partCount : Int32} {b_times b_sizes b_items b_draft b_parts b_table : Nat → Int32}
variable {n dc pc : Nat} {z : Nat → Nat} {it : Nat → Nat → Int32} {T : Nat → Int32} {S : Nat → Nat}
theorem yw_col_bad {post : Int32 → Prop} {l : Nat} {x w : Int32} (hC : pz_C n z it T S) (hl : l < n) (hw : w < 0 ∨ ¬ w ≤ 3) (h : post (-1)) : wpY_column post (nI n, g_draftSize, g_partCount, b_times, b_sizes, b_items, b_draft, b_parts, b_table) (nI l) x w := by
  unfold wpY_column
  refine yw_badLine_y (pz_Cn hC) hl (br_t rfl (br_c (fun _ => h) (fun a => br_f ?_ h)))
  rcases hw with k | k
  · exact absurd k a
  · exact k
theorem yw_col_none {post : Int32 → Prop} {l : Nat} {x w : Int32} (hC : pz_C n z it T S) (hY : pz_Y n z it b_sizes b_items) (hl : l < n) (w0 : ¬ w < 0) (w3 : w ≤ 3) (hx : (x < 0 ∨ nI (z l) ≤ x) ∨ ∃ i, i < z l ∧ x = nI i ∧ pz_num (it l i) = false) (h : post (-2)) : wpY_column post (nI n, g_draftSize, g_partCount, b_times, b_sizes, b_items, b_draft, b_parts, b_table) (nI l) x w := by
  have hn := pz_Cn hC
  have hz := pz_Cz hC hl
  have e2 : b_sizes (nI l).toNatClampNeg = nI (z l) := by rw [nI_clamp (by omega)]; exact (hY l hl).1
  unfold wpY_column
  refine yw_badLine_y hn hl (br_t rfl (br_f w0 (br_t w3 ?_)))
  rcases hx with hx | ⟨i, hi, e, hu⟩
  · refine br_c (fun _ => h) (fun a => And.intro (vp_in_nI (by omega) (by decide)) (br_t ?_ h))
    rw [e2]
    rcases hx with k | k
    · exact absurd k a
    · exact k
  · subst e
    refine br_f (nI_pos (by omega)) (And.intro (vp_in_nI (by omega) (by decide)) (pk_le (z l) i (fun c => absurd c (by omega)) (fun _ => And.intro (pz_in8 (by omega) (by omega)) (br_f ?_ h)) (hx := e2)))
    rw [pz_cl8 (by omega) (by omega), (hY l hl).2 i hi, pz_ile, pz_1000]
    rw [pz_num_f] at hu
    rcases pz_Ci hC hl hi with k | k
    · omega
    · omega
theorem yw_col_y {post : Int32 → Prop} {l i : Nat} {w : Int32} (hC : pz_C n z it T S) (hY : pz_Y n z it b_sizes b_items) (hl : l < n) (w0 : ¬ w < 0) (w3 : w ≤ 3) (hi : i < z l) (hu : pz_num (it l i) = true) (h : post (pz_col S it (S l) i n w)) : wpY_column post (nI n, g_draftSize, g_partCount, b_times, b_sizes, b_items, b_draft, b_parts, b_table) (nI l) (nI i) w := by
  have hn := pz_Cn hC
  have hz := pz_Cz hC hl
  have e2 : b_sizes (nI l).toNatClampNeg = nI (z l) := by rw [nI_clamp (by omega)]; exact (hY l hl).1
  unfold wpY_column
  refine yw_badLine_y hn hl (br_t rfl (br_f w0 (br_t w3 (br_f (nI_pos (by omega)) (And.intro (vp_in_nI (by omega) (by decide)) (pk_le (z l) i (fun c => absurd c (by omega)) (fun _ => And.intro (pz_in8 (by omega) (by omega)) (br_t ?_ ⟨n + 1, yw_col70 hC hY hl hi h n 0 (by omega)⟩)) (hx := e2)))))))
  rw [pz_cl8 (by omega) (by omega), (hY l hl).2 i hi, pz_ile, pz_1000]
  exact (pz_num_t.mp hu).1
theorem yw_having {post : Int32 → Prop} {x : Int32} (hC : pz_C n z it T S) (hY : pz_Y n z it b_sizes b_items) (h : pz_ok x → post (nI (pz_cnt (fun l => pz_has (it l) (z l) x) n))) (h0 : ¬ pz_ok x → post (-1)) : wpY_having post (nI n, g_draftSize, g_partCount, b_times, b_sizes, b_items, b_draft, b_parts, b_table) x := by
  unfold wpY_having
  exact yw_badItem (fun a => br_t rfl ⟨n + 1, yw_hav14 hC hY (h a) n 0 (by omega)⟩) (fun a => br_f pz_10 (h0 a))
theorem yw_part {post : Int32 → SY → Prop} {x : Int32} (hpc : pc ≤ 8) (h : pz_pok x → pc < 8 → post (nI (pc + 1)) (g_count, g_draftSize, nI (pc + 1), b_times, b_sizes, b_items, b_draft, upd b_parts pc x, b_table)) (hF : pz_pok x → pc = 8 → post (-3) (g_count, g_draftSize, nI pc, b_times, b_sizes, b_items, b_draft, b_parts, b_table)) (h0 : ¬ pz_pok x → post (-1) (g_count, g_draftSize, nI pc, b_times, b_sizes, b_items, b_draft, b_parts, b_table)) : wpY_part post (g_count, g_draftSize, nI pc, b_times, b_sizes, b_items, b_draft, b_parts, b_table) x := by
  have K1 : pz_pok x → wY_part_36 post x g_count g_draftSize (nI pc) b_times b_sizes b_items b_draft b_parts b_table := fun a =>
    br_f pz_10 (pk_eq pc 8 (fun e => hF a e) (fun e => And.intro (vp_in_nI (by omega) (by decide)) (nm_r (e' := upd b_parts pc x) (by rw [nI_clamp (by omega)]) (nm_r (nI_1 pc) (h a (by omega))))))
  have K0 : ¬ pz_pok x → wY_part_40 post x g_count g_draftSize (nI pc) b_times b_sizes b_items b_draft b_parts b_table := fun a => br_t rfl (h0 a)
  have K22 : ¬ (pz_ok x ∨ (2000 ≤ x.toInt ∧ x.toInt ≤ 2002)) → wY_part_22 post x g_count g_draftSize (nI pc) b_times b_sizes b_items b_draft b_parts b_table := by
    intro a
    have q : ¬ (3000 ≤ x.toInt ∧ x.toInt < 4000) → ¬ pz_pok x := by
      rintro k (w | w | w)
      · exact a (Or.inl w)
      · exact a (Or.inr w)
      · exact k w
    refine br_c (fun b => K0 (q ?_)) (fun b => br_c (fun c => K0 (q ?_)) (fun c => K1 (Or.inr (Or.inr ?_))))
    · rw [pz_ilt, pz_c3000] at b; omega
    · rw [pz_ilt, pz_c3999] at c; omega
    · rw [pz_ilt, pz_c3000] at b; rw [pz_ilt, pz_c3999] at c; omega
  unfold wpY_part
  refine yw_badItem (fun a => br_t rfl (K1 (Or.inl a))) (fun a => br_f pz_10 (br_c (fun b => K22 ?_) (fun b => br_c (fun c => K1 (Or.inr (Or.inl ?_))) (fun c => K22 ?_))))
  · rw [pz_ilt, pz_c2000] at b
    rintro (k | k)
    · exact a k
    · omega
  · rw [pz_ilt, pz_c2000] at b; rw [pz_ile, pz_c2002] at c; omega
  · rw [pz_ile, pz_c2002] at c
    rintro (k | k)
    · exact a k
    · omega
end
end
section
/-! what is owed -/
theorem i_up {k : Nat} {u : SX} {v : SY} (h : i_Rel k u v) : i_Rel (k + 4) u v := h
theorem i_vc0 : wpX_init (fun u => wpY_init (fun v => i_Rel 0 u v)) := by
  unfold wpX_init
  refine xw_empty (fun s nd bg wo ni be bs en hX => ?_)
  show i_Rel 0 (nI 0, nI 0, nI 0, s, nd, 0, 0, 0, (fun _ => 0), (fun _ => 0), (fun _ => 0), (fun _ => 0), bg, (fun _ => 0), (fun _ => 0), (fun _ => 0), (fun _ => 0), (fun _ => 0), wo, ni, be, bs, en, (fun _ => 0), (fun _ => 0), (fun _ => 0), (fun _ => 0), (fun _ => 0)) (nI 0, nI 0, nI 0, (fun _ => 0), (fun _ => 0), (fun _ => 0), (fun _ => 0), (fun _ => 0), (fun _ => 0))
  exact zz_in (n := 0) (z := fun _ => 0) (it := fun _ _ => 0) (S := fun _ => 0) (dc := 0) (pc := 0) ⟨by omega, by omega, fun i hi => absurd hi (Nat.not_lt_zero i), fun i hi => absurd hi (Nat.not_lt_zero i), pz_C_0 _ _ _ _, hX _ _ _, fun l hl => absurd hl (Nat.not_lt_zero l), fun h => absurd rfl h⟩
theorem i_vc_item {k : Nat} {u : SX} {v : SY} (I : i_Rel k u v) (hk : k + 4 ≤ 2048) (v1 : Int32) : wpX_item (fun r u' => wpY_item (fun r' v' => r' = r ∧ i_Rel (k + 4) u' v') v v1) u v1 := by
  refine zz_el (P := fun u v => wpX_item (fun r u' => wpY_item (fun r' v' => r' = r ∧ i_Rel (k + 4) u' v') v v1) u v1) ?_ I
  intro n z it S dc pc f_shapes f_nodes f_isFitted f_from f_fits a_draft a_parts a_times a_shapeOf a_begins a_bytes a_shapeLength a_shapeItems a_shapeLines a_lastNumbers a_wordLines a_nodeItem a_below a_beside a_endsHere a_read a_numbers a_rest a_restLength a_restTime b_sizes b_items b_draft b_table F
  have F0 := F
  obtain ⟨hd, hp, hD, hQ, hC, hX, hY, hF⟩ := F
  unfold wpX_item
  refine xw_isItem (fun ok => br_f pz_10 (pk_lt dc 8 (fun c => And.intro (vp_in_nI c (by decide)) (nm_r (e' := upd a_draft dc v1) (by rw [nI_clamp (by omega)]) (nm_r (nI_1 dc) ?_))) (fun c => ?_))) (fun nok => br_t rfl ?_)
  · unfold wpY_item
    refine yw_badItem (fun _ => br_t rfl (pk_eq dc 8 (fun e => absurd e (by omega)) (fun _ => And.intro (vp_in_nI c (by decide)) (nm_r (e' := upd b_draft dc v1) (by rw [nI_clamp (by omega)]) (nm_r (nI_1 dc) ⟨rfl, zz_in ⟨by omega, hp, fun i hi => ?_, hQ, hC, hX, hY, hF⟩⟩))))) (fun nok => absurd ok nok)
    by_cases e : i = dc
    · rw [e, pk_us, pk_us]
      exact ⟨rfl, ok⟩
    · rw [pk_un e, pk_un e]
      exact hD i (by omega)
  · unfold wpY_item
    exact yw_badItem (fun _ => br_t rfl (pk_eq dc 8 (fun e => ⟨rfl, zz_in F0⟩) (fun e => absurd (show dc = 8 by omega) e))) (fun nok => absurd ok nok)
  · unfold wpY_item
    exact yw_badItem (fun ok => absurd ok nok) (fun _ => br_f pz_10 ⟨rfl, zz_in F0⟩)
theorem i_vc_write {k : Nat} {u : SX} {v : SY} (I : i_Rel k u v) (hk : k + 4 ≤ 2048) (v1 : Int32) : wpX_write (fun r u' => wpY_write (fun r' v' => r' = r ∧ i_Rel (k + 4) u' v') v v1) u v1 := by
  refine zz_el (P := fun u v => wpX_write (fun r u' => wpY_write (fun r' v' => r' = r ∧ i_Rel (k + 4) u' v') v v1) u v1) ?_ I
  intro n z it S dc pc f_shapes f_nodes f_isFitted f_from f_fits a_draft a_parts a_times a_shapeOf a_begins a_bytes a_shapeLength a_shapeItems a_shapeLines a_lastNumbers a_wordLines a_nodeItem a_below a_beside a_endsHere a_read a_numbers a_rest a_restLength a_restTime b_sizes b_items b_draft b_table F
  have F0 := F
  obtain ⟨hd, hp, hD, hQ, hC, hX, hY, hF⟩ := F
  have hn := pz_Cn hC
  refine xw_write hC hX hd (fun i hi => (hD i hi).2) (fun b => ?_) (fun b e => ?_) (fun b e f => ?_) (fun b e f s _ _ _ _ _ _ _ _ _ _ _ _ _ _ c1 c2 => ?_)
  · exact yw_write hn hd (fun _ => ⟨rfl, zz_in F0⟩) (fun g => absurd b g) (fun g => absurd b g) (fun g => absurd b g)
  · exact yw_write hn hd (fun g => absurd g b) (fun _ _ => ⟨rfl, zz_in F0⟩) (fun _ g => absurd e g) (fun _ g => absurd e g)
  · exact yw_write hn hd (fun g => absurd g b) (fun _ g => absurd g e) (fun _ _ _ => ⟨rfl, zz_in F0⟩) (fun _ _ g => absurd f (by omega))
  · refine yw_write hn hd (fun g => absurd g b) (fun _ g => absurd g e) (fun _ _ g => absurd f (by omega)) (fun _ _ _ It i1 i2 => ⟨rfl, zz_in (n := n + 1) (dc := 0) ⟨by omega, hp, fun i hi => absurd hi (Nat.not_lt_zero i), hQ, c1, c2, fun l hl => ?_, fun q => absurd rfl q⟩⟩)
    by_cases c : l = n
    · subst c
      rw [pk_us, pz_ext_s, pz_ext_s]
      exact ⟨rfl, fun i hi => (i2 i hi).trans (hD i hi).1⟩
    · have hl' : l < n := by omega
      have hz := pz_Cz hC hl'
      rw [pk_un c, pz_ext_n c, pz_ext_n c]
      exact ⟨(hY l hl').1, fun i hi => (i1 _ (by omega)).trans ((hY l hl').2 i hi)⟩
theorem i_vc_recall {k : Nat} {u : SX} {v : SY} (I : i_Rel k u v) (hk : k + 4 ≤ 2048) (v1 : Int32) : wpX_recall (fun r u' => wpY_recall (fun r' v' => r' = r ∧ i_Rel (k + 4) u' v') v v1) u v1 := by
  refine zz_el (P := fun u v => wpX_recall (fun r u' => wpY_recall (fun r' v' => r' = r ∧ i_Rel (k + 4) u' v') v v1) u v1) ?_ I
  intro n z it S dc pc f_shapes f_nodes f_isFitted f_from f_fits a_draft a_parts a_times a_shapeOf a_begins a_bytes a_shapeLength a_shapeItems a_shapeLines a_lastNumbers a_wordLines a_nodeItem a_below a_beside a_endsHere a_read a_numbers a_rest a_restLength a_restTime b_sizes b_items b_draft b_table F
  have F0 := F
  obtain ⟨hd, hp, hD, hQ, hC, hX, hY, hF⟩ := F
  have hX0 := hX
  obtain ⟨x1, x2, x3, x4, x5, ⟨P, x6⟩, x7, x8⟩ := hX
  rcases pz_line (n := n) v1 (pz_Cn hC) with hx | ⟨l, hl, e⟩
  · unfold wpX_recall
    refine xw_isLine_n hx (br_t rfl ?_)
    unfold wpY_recall
    exact yw_badLine_n hx (br_f pz_10 ⟨rfl, zz_in F0⟩)
  · subst e
    refine xw_recall_y hC x2 x3 x6 hl (fun fr R N E hE => ?_)
    exact yw_recall_y hC hY hl (fun E' hE' => ⟨rfl, zz_in (dc := z l) ⟨(pz_Cz hC hl).2, hp, fun i hi => ⟨(hE' i hi).trans (hE i hi).symm, by rw [hE i hi]; exact pz_Ci hC hl hi⟩, hQ, hC, hX0, hY, hF⟩⟩)
theorem i_vc_expire {k : Nat} {u : SX} {v : SY} (I : i_Rel k u v) (hk : k + 4 ≤ 2048) (v1 : Int32) : wpX_expire (fun r u' => wpY_expire (fun r' v' => r' = r ∧ i_Rel (k + 4) u' v') v v1) u v1 := by
  refine zz_el (P := fun u v => wpX_expire (fun r u' => wpY_expire (fun r' v' => r' = r ∧ i_Rel (k + 4) u' v') v v1) u v1) ?_ I
  intro n z it S dc pc f_shapes f_nodes f_isFitted f_from f_fits a_draft a_parts a_times a_shapeOf a_begins a_bytes a_shapeLength a_shapeItems a_shapeLines a_lastNumbers a_wordLines a_nodeItem a_below a_beside a_endsHere a_read a_numbers a_rest a_restLength a_restTime b_sizes b_items b_draft b_table F
  have F0 := F
  obtain ⟨hd, hp, hD, hQ, hC, hX, hY, hF⟩ := F
  have hn := pz_Cn hC
  have hle := pz_cb_le a_times n v1
  refine xw_expire hC hX hd (fun e => ?_) (fun fr R N Re RL RT E z' it' S' _ _ _ _ _ _ _ _ _ _ _ _ _ _ c1 c2 c3 c4 => ?_)
  · refine yw_expire hC ?_
    rw [e, Nat.sub_zero, Nat.mul_zero, pz_sh_z, pz_sh_z, pz_sh_z]
    exact ⟨rfl, zz_in F0⟩
  · refine yw_expire hC ⟨rfl, zz_in (n := n - pz_cb a_times n v1) ⟨hd, hp, fun i hi => ?_, hQ, c1, c2, fun l hl => ?_, fun q => absurd rfl q⟩⟩
    · rw [c4 i hi]; exact hD i hi
    · obtain ⟨d1, d2⟩ := c3 l hl
      have hl' : pz_cb a_times n v1 + l < n := by omega
      have hz := pz_Cz hC hl'
      obtain ⟨y1, y2⟩ := hY _ hl'
      rw [pz_sh_lt hl, d1]
      refine ⟨y1, fun i hi => ?_⟩
      rw [pz_sh_lt (by omega), show 8 * pz_cb a_times n v1 + (8 * l + i) = 8 * (pz_cb a_times n v1 + l) + i by omega, y2 i hi, d2 i hi]
theorem i_vc_lines {k : Nat} {u : SX} {v : SY} (I : i_Rel k u v) (hk : k + 4 ≤ 2048) : wpX_lines (fun r => wpY_lines (fun r' => r' = r ∧ i_Rel (k + 4) u v) v) u := by
  refine zz_el (P := fun u v => wpX_lines (fun r => wpY_lines (fun r' => r' = r ∧ i_Rel (k + 4) u v) v) u) ?_ I
  intro n z it S dc pc f_shapes f_nodes f_isFitted f_from f_fits a_draft a_parts a_times a_shapeOf a_begins a_bytes a_shapeLength a_shapeItems a_shapeLines a_lastNumbers a_wordLines a_nodeItem a_below a_beside a_endsHere a_read a_numbers a_rest a_restLength a_restTime b_sizes b_items b_draft b_table F
  exact And.intro rfl (zz_in F)
theorem i_vc_time {k : Nat} {u : SX} {v : SY} (I : i_Rel k u v) (hk : k + 4 ≤ 2048) (v1 : Int32) : wpX_time (fun r => wpY_time (fun r' => r' = r ∧ i_Rel (k + 4) u v) v v1) u v1 := by
  refine zz_el (P := fun u v => wpX_time (fun r => wpY_time (fun r' => r' = r ∧ i_Rel (k + 4) u v) v v1) u v1) ?_ I
  intro n z it S dc pc f_shapes f_nodes f_isFitted f_from f_fits a_draft a_parts a_times a_shapeOf a_begins a_bytes a_shapeLength a_shapeItems a_shapeLines a_lastNumbers a_wordLines a_nodeItem a_below a_beside a_endsHere a_read a_numbers a_rest a_restLength a_restTime b_sizes b_items b_draft b_table F
  have F0 := F
  obtain ⟨hd, hp, hD, hQ, hC, hX, hY, hF⟩ := F
  have hn := pz_Cn hC
  rcases pz_line (n := n) v1 (pz_Cn hC) with hx | ⟨l, hl, e⟩
  · unfold wpX_time
    refine xw_isLine_n hx (br_t rfl ?_)
    unfold wpY_time
    exact yw_badLine_n hx (br_f pz_10 ⟨rfl, zz_in F0⟩)
  · subst e
    have vl : vp_in (nI l) 60 := vp_in_nI (by omega) (by decide)
    unfold wpX_time
    refine xw_isLine_y hn hl (br_f pz_10 (And.intro vl ?_))
    unfold wpY_time
    exact yw_badLine_y hn hl (br_t rfl (And.intro vl ⟨rfl, zz_in F0⟩))
theorem i_vc_length {k : Nat} {u : SX} {v : SY} (I : i_Rel k u v) (hk : k + 4 ≤ 2048) (v1 : Int32) : wpX_length (fun r => wpY_length (fun r' => r' = r ∧ i_Rel (k + 4) u v) v v1) u v1 := by
  refine zz_el (P := fun u v => wpX_length (fun r => wpY_length (fun r' => r' = r ∧ i_Rel (k + 4) u v) v v1) u v1) ?_ I
  intro n z it S dc pc f_shapes f_nodes f_isFitted f_from f_fits a_draft a_parts a_times a_shapeOf a_begins a_bytes a_shapeLength a_shapeItems a_shapeLines a_lastNumbers a_wordLines a_nodeItem a_below a_beside a_endsHere a_read a_numbers a_rest a_restLength a_restTime b_sizes b_items b_draft b_table F
  have F0 := F
  obtain ⟨hd, hp, hD, hQ, hC, hX, hY, hF⟩ := F
  have hn := pz_Cn hC
  rcases pz_line (n := n) v1 (pz_Cn hC) with hx | ⟨l, hl, e⟩
  · unfold wpX_length
    refine xw_isLine_n hx (br_t rfl ?_)
    unfold wpY_length
    exact yw_badLine_n hx (br_f pz_10 ⟨rfl, zz_in F0⟩)
  · subst e
    obtain ⟨x1, x2, x3, x4⟩ := hX
    have vl : vp_in (nI l) 60 := vp_in_nI (by omega) (by decide)
    have cl : (nI l).toNatClampNeg = l := nI_clamp (by omega)
    have hs := pz_Cs hC hl
    have cs : (nI (S l)).toNatClampNeg = S l := nI_clamp (by omega)
    unfold wpX_length
    refine xw_isLine_y hn hl (br_f pz_10 (And.intro vl (And.intro (by rw [cl, x2 l hl]; exact vp_in_nI hs (by decide)) ?_)))
    unfold wpY_length
    refine yw_badLine_y hn hl (br_t rfl (And.intro vl ⟨?_, zz_in F0⟩))
    rw [cl, x2 l hl, cs, (x3 l hl).1, (hY l hl).1]
theorem i_vc_at {k : Nat} {u : SX} {v : SY} (I : i_Rel k u v) (hk : k + 4 ≤ 2048) (v1 : Int32) (v2 : Int32) : wpX_at (fun r u' => wpY_at (fun r' => r' = r ∧ i_Rel (k + 4) u' v) v v1 v2) u v1 v2 := by
  refine zz_el (P := fun u v => wpX_at (fun r u' => wpY_at (fun r' => r' = r ∧ i_Rel (k + 4) u' v) v v1 v2) u v1 v2) ?_ I
  intro n z it S dc pc f_shapes f_nodes f_isFitted f_from f_fits a_draft a_parts a_times a_shapeOf a_begins a_bytes a_shapeLength a_shapeItems a_shapeLines a_lastNumbers a_wordLines a_nodeItem a_below a_beside a_endsHere a_read a_numbers a_rest a_restLength a_restTime b_sizes b_items b_draft b_table F
  have F0 := F
  obtain ⟨hd, hp, hD, hQ, hC, hX, hY, hF⟩ := F
  have hn := pz_Cn hC
  have hX0 := hX
  obtain ⟨x1, x2, x3, x4, x5, ⟨P, x6⟩, x7, x8⟩ := hX
  rcases pz_line (n := n) v1 (pz_Cn hC) with hx | ⟨l, hl, e⟩
  · unfold wpX_at
    refine xw_isLine_n hx (br_t rfl ?_)
    unfold wpY_at
    exact yw_badLine_n hx (br_f pz_10 ⟨rfl, zz_in F0⟩)
  · subst e
    have vl : vp_in (nI l) 60 := vp_in_nI (by omega) (by decide)
    have cl : (nI l).toNatClampNeg = l := nI_clamp (by omega)
    have hz := pz_Cz hC hl
    have e2 : b_sizes (nI l).toNatClampNeg = nI (z l) := by rw [cl]; exact (hY l hl).1
    rcases pk_ix v2 (n := z l) (by omega) with hi | hi | ⟨i, hi, e⟩
    · refine xw_at_n hC x2 x3 hl (Or.inl hi) ?_
      unfold wpY_at
      exact yw_badLine_y hn hl (br_t rfl (br_t hi ⟨rfl, zz_in F0⟩))
    · refine xw_at_n hC x2 x3 hl (Or.inr hi) ?_
      unfold wpY_at
      refine yw_badLine_y hn hl (br_t rfl (br_c (fun _ => ⟨rfl, zz_in F0⟩) (fun _ => And.intro vl (br_f ?_ ⟨rfl, zz_in F0⟩))))
      rw [e2]; exact pz_nlt.mpr hi
    · subst e
      refine xw_at_y hC x2 x3 x6 hl hi (fun fr R N => ?_)
      unfold wpY_at
      refine yw_badLine_y hn hl (br_t rfl (br_f (nI_pos (by omega)) (And.intro vl (pk_lt i (z l) (fun _ => And.intro (pz_in8 (by omega) (by omega)) ⟨?_, zz_in ⟨hd, hp, hD, hQ, hC, hX0, hY, hF⟩⟩) (fun c => absurd c (by omega)) (hy := e2)))))
      rw [pz_cl8 (by omega) (by omega), (hY l hl).2 i hi]
end
section
theorem i_vc_groups {k : Nat} {u : SX} {v : SY} (I : i_Rel k u v) (hk : k + 4 ≤ 2048) : wpX_groups (fun r => wpY_groups (fun r' => r' = r ∧ i_Rel (k + 4) u v) v) u := by
  refine zz_el (P := fun u v => wpX_groups (fun r => wpY_groups (fun r' => r' = r ∧ i_Rel (k + 4) u v) v) u) ?_ I
  intro n z it S dc pc f_shapes f_nodes f_isFitted f_from f_fits a_draft a_parts a_times a_shapeOf a_begins a_bytes a_shapeLength a_shapeItems a_shapeLines a_lastNumbers a_wordLines a_nodeItem a_below a_beside a_endsHere a_read a_numbers a_rest a_restLength a_restTime b_sizes b_items b_draft b_table F
  have F0 := F
  obtain ⟨hd, hp, hD, hQ, hC, hX, hY, hF⟩ := F
  unfold wpX_groups
  exact yw_groups hC hY ⟨hX.1.symm, zz_in F0⟩
theorem i_vc_group {k : Nat} {u : SX} {v : SY} (I : i_Rel k u v) (hk : k + 4 ≤ 2048) (v1 : Int32) : wpX_group (fun r => wpY_group (fun r' => r' = r ∧ i_Rel (k + 4) u v) v v1) u v1 := by
  refine zz_el (P := fun u v => wpX_group (fun r => wpY_group (fun r' => r' = r ∧ i_Rel (k + 4) u v) v v1) u v1) ?_ I
  intro n z it S dc pc f_shapes f_nodes f_isFitted f_from f_fits a_draft a_parts a_times a_shapeOf a_begins a_bytes a_shapeLength a_shapeItems a_shapeLines a_lastNumbers a_wordLines a_nodeItem a_below a_beside a_endsHere a_read a_numbers a_rest a_restLength a_restTime b_sizes b_items b_draft b_table F
  have F0 := F
  obtain ⟨hd, hp, hD, hQ, hC, hX, hY, hF⟩ := F
  have hn := pz_Cn hC
  rcases pz_line (n := n) v1 (pz_Cn hC) with hx | ⟨l, hl, e⟩
  · unfold wpX_group
    refine xw_isLine_n hx (br_t rfl ?_)
    unfold wpY_group
    exact yw_badLine_n hx (br_f pz_10 ⟨rfl, zz_in F0⟩)
  · subst e
    refine xw_group_y hC hX.2.1 hX.2.2.2.1 hl ?_
    unfold wpY_group
    exact yw_badLine_y hn hl (br_t rfl (yw_firstOf hC hY hl ⟨rfl, zz_in F0⟩))
theorem i_vc_members {k : Nat} {u : SX} {v : SY} (I : i_Rel k u v) (hk : k + 4 ≤ 2048) (v1 : Int32) : wpX_members (fun r => wpY_members (fun r' => r' = r ∧ i_Rel (k + 4) u v) v v1) u v1 := by
  refine zz_el (P := fun u v => wpX_members (fun r => wpY_members (fun r' => r' = r ∧ i_Rel (k + 4) u v) v v1) u v1) ?_ I
  intro n z it S dc pc f_shapes f_nodes f_isFitted f_from f_fits a_draft a_parts a_times a_shapeOf a_begins a_bytes a_shapeLength a_shapeItems a_shapeLines a_lastNumbers a_wordLines a_nodeItem a_below a_beside a_endsHere a_read a_numbers a_rest a_restLength a_restTime b_sizes b_items b_draft b_table F
  have F0 := F
  obtain ⟨hd, hp, hD, hQ, hC, hX, hY, hF⟩ := F
  have hn := pz_Cn hC
  rcases pz_line (n := n) v1 (pz_Cn hC) with hx | ⟨l, hl, e⟩
  · unfold wpX_members
    refine xw_isLine_n hx (br_t rfl ?_)
    unfold wpY_members
    exact yw_badLine_n hx (br_f pz_10 ⟨rfl, zz_in F0⟩)
  · subst e
    refine xw_members_y hC hX.2.1 hX.2.2.2.1 hl ?_
    unfold wpY_members
    exact yw_badLine_y hn hl (br_t rfl (yw_sizeOf hC hY hl ⟨rfl, zz_in F0⟩))
theorem i_vc_largest {k : Nat} {u : SX} {v : SY} (I : i_Rel k u v) (hk : k + 4 ≤ 2048) (v1 : Int32) : wpX_largest (fun r => wpY_largest (fun r' => r' = r ∧ i_Rel (k + 4) u v) v v1) u v1 := by
  refine zz_el (P := fun u v => wpX_largest (fun r => wpY_largest (fun r' => r' = r ∧ i_Rel (k + 4) u v) v v1) u v1) ?_ I
  intro n z it S dc pc f_shapes f_nodes f_isFitted f_from f_fits a_draft a_parts a_times a_shapeOf a_begins a_bytes a_shapeLength a_shapeItems a_shapeLines a_lastNumbers a_wordLines a_nodeItem a_below a_beside a_endsHere a_read a_numbers a_rest a_restLength a_restTime b_sizes b_items b_draft b_table F
  have F0 := F
  obtain ⟨hd, hp, hD, hQ, hC, hX, hY, hF⟩ := F
  have x1 := hX.1
  subst x1
  have N := pz_find_nw (pz_Cq hC) (fun s => decide (nI (pz_rk S n s) = v1))
  refine xw_largest hC hX.2.2.2.1 (fun c => ?_) (fun c => ?_)
  · rw [if_pos c] at N
    exact yw_largest hC hY (fun d => ⟨congrArg nI N.1, zz_in F0⟩) (fun d => absurd N.2 (by rw [d]; exact Nat.lt_irrefl n))
  · rw [if_neg (by rw [c]; exact Nat.lt_irrefl _)] at N
    exact yw_largest hC hY (fun d => absurd d (by rw [N]; exact Nat.lt_irrefl n)) (fun d => ⟨rfl, zz_in F0⟩)
theorem i_vc_column {k : Nat} {u : SX} {v : SY} (I : i_Rel k u v) (hk : k + 4 ≤ 2048) (v1 : Int32) (v2 : Int32) (v3 : Int32) : wpX_column (fun r u' => wpY_column (fun r' => r' = r ∧ i_Rel (k + 4) u' v) v v1 v2 v3) u v1 v2 v3 := by
  refine zz_el (P := fun u v => wpX_column (fun r u' => wpY_column (fun r' => r' = r ∧ i_Rel (k + 4) u' v) v v1 v2 v3) u v1 v2 v3) ?_ I
  intro n z it S dc pc f_shapes f_nodes f_isFitted f_from f_fits a_draft a_parts a_times a_shapeOf a_begins a_bytes a_shapeLength a_shapeItems a_shapeLines a_lastNumbers a_wordLines a_nodeItem a_below a_beside a_endsHere a_read a_numbers a_rest a_restLength a_restTime b_sizes b_items b_draft b_table F
  have F0 := F
  obtain ⟨hd, hp, hD, hQ, hC, hX, hY, hF⟩ := F
  have hn := pz_Cn hC
  have hX0 := hX
  obtain ⟨x1, x2, x3, x4, x5, ⟨P, x6⟩, x7, x8⟩ := hX
  rcases pz_line (n := n) v1 (pz_Cn hC) with hx | ⟨l, hl, e⟩
  · unfold wpX_column
    refine xw_isLine_n hx (br_t rfl ?_)
    unfold wpY_column
    exact yw_badLine_n hx (br_f pz_10 ⟨rfl, zz_in F0⟩)
  · subst e
    have hz := pz_Cz hC hl
    by_cases w0 : v3 < 0
    · exact xw_col_bad hC hl (Or.inl w0) (yw_col_bad hC hl (Or.inl w0) ⟨rfl, zz_in F0⟩)
    by_cases w3 : v3 ≤ 3
    · have none : ((v2 < 0 ∨ nI (z l) ≤ v2) ∨ ∃ i, i < z l ∧ v2 = nI i ∧ pz_num (it l i) = false) → wpX_column (fun r u' => wpY_column (fun r' => r' = r ∧ i_Rel (k + 4) u' (nI n, nI dc, nI pc, a_times, b_sizes, b_items, b_draft, a_parts, b_table)) (nI n, nI dc, nI pc, a_times, b_sizes, b_items, b_draft, a_parts, b_table) (nI l) v2 v3) (nI dc, nI pc, nI n, f_shapes, f_nodes, f_isFitted, f_fits, f_from, a_draft, a_parts, a_times, a_shapeOf, a_begins, a_bytes, a_shapeLength, a_shapeItems, a_shapeLines, a_lastNumbers, a_wordLines, a_nodeItem, a_below, a_beside, a_endsHere, a_read, a_numbers, a_rest, a_restLength, a_restTime) (nI l) v2 v3 := fun q =>
        xw_col_none hC x2 x3 hl w0 w3 q (yw_col_none hC hY hl w0 w3 q ⟨rfl, zz_in F0⟩)
      rcases pk_ix v2 (n := z l) (by omega) with hi | hi | ⟨i, hi, e⟩
      · exact none (Or.inl (Or.inl hi))
      · exact none (Or.inl (Or.inr hi))
      · cases hu : pz_num (it l i) with
        | false => exact none (Or.inr ⟨i, hi, e, hu⟩)
        | true =>
          subst e
          exact xw_col_y hC x2 x3 x6 hl w0 w3 hi hu (fun fr N R => yw_col_y hC hY hl w0 w3 hi hu ⟨rfl, zz_in ⟨hd, hp, hD, hQ, hC, hX0, hY, hF⟩⟩)
    · exact xw_col_bad hC hl (Or.inr w3) (yw_col_bad hC hl (Or.inr w3) ⟨rfl, zz_in F0⟩)
theorem i_vc_having {k : Nat} {u : SX} {v : SY} (I : i_Rel k u v) (hk : k + 4 ≤ 2048) (v1 : Int32) : wpX_having (fun r u' => wpY_having (fun r' => r' = r ∧ i_Rel (k + 4) u' v) v v1) u v1 := by
  refine zz_el (P := fun u v => wpX_having (fun r u' => wpY_having (fun r' => r' = r ∧ i_Rel (k + 4) u' v) v v1) u v1) ?_ I
  intro n z it S dc pc f_shapes f_nodes f_isFitted f_from f_fits a_draft a_parts a_times a_shapeOf a_begins a_bytes a_shapeLength a_shapeItems a_shapeLines a_lastNumbers a_wordLines a_nodeItem a_below a_beside a_endsHere a_read a_numbers a_rest a_restLength a_restTime b_sizes b_items b_draft b_table F
  have F0 := F
  obtain ⟨hd, hp, hD, hQ, hC, hX, hY, hF⟩ := F
  have hX0 := hX
  obtain ⟨x1, x2, x3, x4, x5, ⟨P, x6⟩, x7, x8⟩ := hX
  by_cases ok : pz_ok v1
  · cases hu : pz_num v1 with
    | true =>
      subst x1
      exact xw_having_n hC x2 x3 x6 hu (fun fr N => yw_having hC hY (fun _ => ⟨rfl, zz_in ⟨hd, hp, hD, hQ, hC, hX0, hY, hF⟩⟩) (fun q => absurd ok q))
    | false =>
      rw [pz_num_f] at hu
      have h24 : 0 ≤ v1.toInt ∧ v1.toInt < 24 := by
        rcases ok with q | q
        · exact q
        · exact absurd q hu
      obtain ⟨w, hw, e⟩ := nI_of (x := v1) (by rw [pz_ilt, pz_c0]; omega)
      subst e
      rw [nI_toInt hw] at h24
      exact xw_having_w hC x5 (by omega) (yw_having hC hY (fun _ => ⟨rfl, zz_in F0⟩) (fun q => absurd ok q))
  · unfold wpX_having
    exact xw_isItem (fun q => absurd q ok) (fun _ => br_t rfl (yw_having hC hY (fun q => absurd q ok) (fun _ => ⟨rfl, zz_in F0⟩)))
theorem i_vc_part {k : Nat} {u : SX} {v : SY} (I : i_Rel k u v) (hk : k + 4 ≤ 2048) (v1 : Int32) : wpX_part (fun r u' => wpY_part (fun r' v' => r' = r ∧ i_Rel (k + 4) u' v') v v1) u v1 := by
  refine zz_el (P := fun u v => wpX_part (fun r u' => wpY_part (fun r' v' => r' = r ∧ i_Rel (k + 4) u' v') v v1) u v1) ?_ I
  intro n z it S dc pc f_shapes f_nodes f_isFitted f_from f_fits a_draft a_parts a_times a_shapeOf a_begins a_bytes a_shapeLength a_shapeItems a_shapeLines a_lastNumbers a_wordLines a_nodeItem a_below a_beside a_endsHere a_read a_numbers a_rest a_restLength a_restTime b_sizes b_items b_draft b_table F
  have F0 := F
  obtain ⟨hd, hp, hD, hQ, hC, hX, hY, hF⟩ := F
  unfold wpX_part
  refine xw_isPart (fun ok => br_f pz_10 (pk_lt pc 8 (fun c => And.intro (vp_in_nI c (by decide)) (nm_r (e' := upd a_parts pc v1) (by rw [nI_clamp (by omega)]) (nm_r (nI_1 pc) ?_))) (fun c => ?_))) (fun nok => br_t rfl ?_)
  · refine yw_part hp (fun _ _ => ⟨rfl, zz_in (pc := pc + 1) ⟨hd, by omega, hD, fun j hj => ?_, hC, hX, hY, fun q => absurd rfl q⟩⟩) (fun _ e => absurd e (by omega)) (fun q => absurd ok q)
    by_cases e : j = pc
    · rw [e, pk_us]; exact ok
    · rw [pk_un e]; exact hQ j (by omega)
  · exact yw_part hp (fun _ e => absurd e (by omega)) (fun _ _ => ⟨rfl, zz_in F0⟩) (fun q => absurd ok q)
  · exact yw_part hp (fun q => absurd q nok) (fun q => absurd q nok) (fun _ => ⟨rfl, zz_in F0⟩)
theorem i_vc_blank {k : Nat} {u : SX} {v : SY} (I : i_Rel k u v) (hk : k + 4 ≤ 2048) : wpX_blank (fun r u' => wpY_blank (fun r' v' => r' = r ∧ i_Rel (k + 4) u' v') v) u := by
  refine zz_el (P := fun u v => wpX_blank (fun r u' => wpY_blank (fun r' v' => r' = r ∧ i_Rel (k + 4) u' v') v) u) ?_ I
  intro n z it S dc pc f_shapes f_nodes f_isFitted f_from f_fits a_draft a_parts a_times a_shapeOf a_begins a_bytes a_shapeLength a_shapeItems a_shapeLines a_lastNumbers a_wordLines a_nodeItem a_below a_beside a_endsHere a_read a_numbers a_rest a_restLength a_restTime b_sizes b_items b_draft b_table F
  obtain ⟨hd, hp, hD, hQ, hC, hX, hY, hF⟩ := F
  exact And.intro rfl (zz_in (pc := 0) ⟨hd, by omega, hD, fun j hj => absurd hj (Nat.not_lt_zero j), hC, hX, hY, fun q => absurd rfl q⟩)
theorem i_vc_fitting {k : Nat} {u : SX} {v : SY} (I : i_Rel k u v) (hk : k + 4 ≤ 2048) (v1 : Int32) (v2 : Int32) : wpX_fitting (fun r u' => wpY_fitting (fun r' v' => r' = r ∧ i_Rel (k + 4) u' v') v v1 v2) u v1 v2 := by
  refine zz_el (P := fun u v => wpX_fitting (fun r u' => wpY_fitting (fun r' v' => r' = r ∧ i_Rel (k + 4) u' v') v v1 v2) u v1 v2) ?_ I
  intro n z it S dc pc f_shapes f_nodes f_isFitted f_from f_fits a_draft a_parts a_times a_shapeOf a_begins a_bytes a_shapeLength a_shapeItems a_shapeLines a_lastNumbers a_wordLines a_nodeItem a_below a_beside a_endsHere a_read a_numbers a_rest a_restLength a_restTime b_sizes b_items b_draft b_table F
  obtain ⟨hd, hp, hD, hQ, hC, hX, hY, hF⟩ := F
  refine xw_fitting hC hX hp hQ hF (fun q w fr N hw => ?_)
  exact yw_fitting hC hY hp (fun tb => ⟨rfl, zz_in ⟨hd, hp, hD, hQ, hC, hX, hY, fun _ => hw⟩⟩)
theorem i_vc_next {k : Nat} {u : SX} {v : SY} (I : i_Rel k u v) (hk : k + 4 ≤ 2048) (v1 : Int32) : wpX_next (fun r u' => wpY_next (fun r' v' => r' = r ∧ i_Rel (k + 4) u' v') v v1) u v1 := by
  refine zz_el (P := fun u v => wpX_next (fun r u' => wpY_next (fun r' v' => r' = r ∧ i_Rel (k + 4) u' v') v v1) u v1) ?_ I
  intro n z it S dc pc f_shapes f_nodes f_isFitted f_from f_fits a_draft a_parts a_times a_shapeOf a_begins a_bytes a_shapeLength a_shapeItems a_shapeLines a_lastNumbers a_wordLines a_nodeItem a_below a_beside a_endsHere a_read a_numbers a_rest a_restLength a_restTime b_sizes b_items b_draft b_table F
  obtain ⟨hd, hp, hD, hQ, hC, hX, hY, hF⟩ := F
  refine xw_next hC hX hp hQ hF (fun c q w fr N hw => ?_) (fun c q w fr N hw => ?_)
  · exact yw_next hC hY hp (fun _ tb => ⟨rfl, zz_in ⟨hd, hp, hD, hQ, hC, hX, hY, fun _ => hw⟩⟩) (fun d => absurd c (by rw [d]; exact Nat.lt_irrefl n))
  · exact yw_next hC hY hp (fun d => absurd d (by rw [c]; exact Nat.lt_irrefl n)) (fun _ tb => ⟨rfl, zz_in ⟨hd, hp, hD, hQ, hC, hX, hY, fun _ => hw⟩⟩)
theorem i_vc_fittingGroups {k : Nat} {u : SX} {v : SY} (I : i_Rel k u v) (hk : k + 4 ≤ 2048) : wpX_fittingGroups (fun r u' => wpY_fittingGroups (fun r' v' => r' = r ∧ i_Rel (k + 4) u' v') v) u := by
  refine zz_el (P := fun u v => wpX_fittingGroups (fun r u' => wpY_fittingGroups (fun r' v' => r' = r ∧ i_Rel (k + 4) u' v') v) u) ?_ I
  intro n z it S dc pc f_shapes f_nodes f_isFitted f_from f_fits a_draft a_parts a_times a_shapeOf a_begins a_bytes a_shapeLength a_shapeItems a_shapeLines a_lastNumbers a_wordLines a_nodeItem a_below a_beside a_endsHere a_read a_numbers a_rest a_restLength a_restTime b_sizes b_items b_draft b_table F
  obtain ⟨hd, hp, hD, hQ, hC, hX, hY, hF⟩ := F
  refine xw_fittingGroups hC hX hp hQ hF (fun q w fr N hw => ?_)
  exact yw_fittingGroups hC hY hp (fun tb => ⟨rfl, zz_in ⟨hd, hp, hD, hQ, hC, hX, hY, fun _ => hw⟩⟩)
theorem i_vc_between {k : Nat} {u : SX} {v : SY} (I : i_Rel k u v) (hk : k + 4 ≤ 2048) (v1 : Int32) (v2 : Int32) : wpX_between (fun r => wpY_between (fun r' => r' = r ∧ i_Rel (k + 4) u v) v v1 v2) u v1 v2 := by
  refine zz_el (P := fun u v => wpX_between (fun r => wpY_between (fun r' => r' = r ∧ i_Rel (k + 4) u v) v v1 v2) u v1 v2) ?_ I
  intro n z it S dc pc f_shapes f_nodes f_isFitted f_from f_fits a_draft a_parts a_times a_shapeOf a_begins a_bytes a_shapeLength a_shapeItems a_shapeLines a_lastNumbers a_wordLines a_nodeItem a_below a_beside a_endsHere a_read a_numbers a_rest a_restLength a_restTime b_sizes b_items b_draft b_table F
  have F0 := F
  obtain ⟨hd, hp, hD, hQ, hC, hX, hY, hF⟩ := F
  exact xw_between hC (yw_between hC ⟨rfl, zz_in F0⟩)
theorem i_vc_burst {k : Nat} {u : SX} {v : SY} (I : i_Rel k u v) (hk : k + 4 ≤ 2048) (v1 : Int32) : wpX_burst (fun r => wpY_burst (fun r' => r' = r ∧ i_Rel (k + 4) u v) v v1) u v1 := by
  refine zz_el (P := fun u v => wpX_burst (fun r => wpY_burst (fun r' => r' = r ∧ i_Rel (k + 4) u v) v v1) u v1) ?_ I
  intro n z it S dc pc f_shapes f_nodes f_isFitted f_from f_fits a_draft a_parts a_times a_shapeOf a_begins a_bytes a_shapeLength a_shapeItems a_shapeLines a_lastNumbers a_wordLines a_nodeItem a_below a_beside a_endsHere a_read a_numbers a_rest a_restLength a_restTime b_sizes b_items b_draft b_table F
  have F0 := F
  obtain ⟨hd, hp, hD, hQ, hC, hX, hY, hF⟩ := F
  exact xw_burst hC (fun a => yw_burst hC (fun _ => ⟨rfl, zz_in F0⟩) (fun b => absurd a b)) (fun a => yw_burst hC (fun b => absurd b a) (fun _ => ⟨rfl, zz_in F0⟩))
theorem i_vc_digest {k : Nat} {u : SX} {v : SY} (I : i_Rel k u v) (hk : k + 4 ≤ 2048) : wpX_digest (fun r u' => wpY_digest (fun r' => r' = r ∧ i_Rel (k + 4) u' v) v) u := by
  refine zz_el (P := fun u v => wpX_digest (fun r u' => wpY_digest (fun r' => r' = r ∧ i_Rel (k + 4) u' v) v) u) ?_ I
  intro n z it S dc pc f_shapes f_nodes f_isFitted f_from f_fits a_draft a_parts a_times a_shapeOf a_begins a_bytes a_shapeLength a_shapeItems a_shapeLines a_lastNumbers a_wordLines a_nodeItem a_below a_beside a_endsHere a_read a_numbers a_rest a_restLength a_restTime b_sizes b_items b_draft b_table F
  obtain ⟨hd, hp, hD, hQ, hC, hX, hY, hF⟩ := F
  have hX0 := hX
  obtain ⟨x1, x2, x3, x4, x5, ⟨P, x6⟩, x7, x8⟩ := hX
  exact xw_digest hC x2 x3 x6 (fun fr R N => yw_digest hC hY ⟨rfl, zz_in ⟨hd, hp, hD, hQ, hC, hX0, hY, hF⟩⟩)
end
