section
/-! pure rows to paste: stores, nI and lN arithmetic, masks, shifts, narrowing, branches by naturals (pk_le, pk_lt, pk_eq), loops (lp1 .. lp16: the measure of the state; rp1 ..: recursion), negatives. Take what you need -/
theorem pk_us {f : Nat → Int32} {k : Nat} {x : Int32} : upd f k x k = x := if_pos rfl
theorem pk_un {f : Nat → Int32} {k j : Nat} {x : Int32} (h : j ≠ k) : upd f k x j = f j := if_neg h
theorem pk_uLs {f : Nat → Int64} {k : Nat} {x : Int64} : vp_updL f k x k = x := if_pos rfl
theorem pk_uLn {f : Nat → Int64} {k j : Nat} {x : Int64} (h : j ≠ k) : vp_updL f k x j = f j := if_neg h
theorem pk_sub {a b : Nat} (h : b ≤ a) : nI a - nI b = nI (a - b) := by
  obtain ⟨c, rfl⟩ : ∃ c, a = c + b := ⟨a - b, by omega⟩
  rw [← nI_add, Int32.add_sub_cancel, Nat.add_sub_cancel]
theorem pk_m1 (n : Nat) : nI (n + 1) + (-1) = nI n := by
  rw [← nI_1, Int32.add_assoc, show (1 : Int32) + (-1) = 0 from rfl, Int32.add_zero]
theorem pk_mul (a b : Nat) : nI a * nI b = nI (a * b) := (Int32.ofNat_mul a b).symm
theorem pk_div {a d : Nat} (ha : a < 2 ^ 31) (h0 : 0 < d) (hd : d < 2 ^ 31) : nI a / nI d = nI (a / d) := by
  apply Int32.toInt_inj.mp
  rw [lg_idiv_nonneg (by rw [nI_toInt ha]; omega) (by rw [nI_toInt hd]; omega), nI_toInt ha, nI_toInt hd, nI_toInt (Nat.lt_of_le_of_lt (Nat.div_le_self a d) ha)]
  first | rfl | exact (Int.natCast_ediv _ _).symm
theorem pk_rem {a d : Nat} (ha : a < 2 ^ 31) (h0 : 0 < d) (hd : d < 2 ^ 31) : nI a - nI a / nI d * nI d = nI (a % d) := by
  rw [pk_div ha h0 hd, pk_mul, pk_sub (Nat.div_mul_le_self a d)]
  exact congrArg nI (by have := Nat.div_add_mod' a d; omega)
theorem pk_sub_toInt {a b : Nat} (ha : a < 2 ^ 30) (hb : b < 2 ^ 30) : (nI a - nI b).toInt = (a : Int) - b := by
  rw [Int32.toInt_sub, nI_toInt (by omega), nI_toInt (by omega)]
  exact Int.bmod_eq_of_le (by omega) (by omega)
theorem pk_sneg {a b : Nat} (hb : b < 2 ^ 30) (h : a < b) : nI a - nI b < 0 := by
  rw [Int32.lt_iff_toInt_lt, pk_sub_toInt (by omega) hb, show (0 : Int32).toInt = 0 from by decide]
  omega
theorem pk_ix (x : Int32) {n : Nat} (hn : n < 2 ^ 31) : x < 0 ∨ nI n ≤ x ∨ ∃ j : Nat, j < n ∧ x = nI j := by
  by_cases h : x < 0
  · exact Or.inl h
  · obtain ⟨j, hj, rfl⟩ := nI_of h
    by_cases h2 : j < n
    · exact Or.inr (Or.inr ⟨j, h2, rfl⟩)
    · exact Or.inr (Or.inl (nI_le (by omega) hj))
theorem pk_le {x y : Int32} {A B : Prop} (a b : Nat) (f : a ≤ b → A) (g : b < a → B) (hx : x = nI a := by rfl) (hy : y = nI b := by rfl) (ha : a < 2 ^ 31 := by omega) (hb : b < 2 ^ 31 := by omega) : (x ≤ y → A) ∧ (¬ x ≤ y → B) := by
  subst hx hy
  rw [nI_leI ha hb]
  exact ⟨f, fun z => g (by omega)⟩
theorem pk_lt {x y : Int32} {A B : Prop} (a b : Nat) (f : a < b → A) (g : b ≤ a → B) (hx : x = nI a := by rfl) (hy : y = nI b := by rfl) (ha : a < 2 ^ 31 := by omega) (hb : b < 2 ^ 31 := by omega) : (x < y → A) ∧ (¬ x < y → B) := by
  subst hx hy
  rw [nI_ltI ha hb]
  exact ⟨f, fun z => g (by omega)⟩
theorem pk_eq {x y : Int32} {A B : Prop} (a b : Nat) (f : a = b → A) (g : a ≠ b → B) (hx : x = nI a := by rfl) (hy : y = nI b := by rfl) (ha : a < 2 ^ 31 := by omega) (hb : b < 2 ^ 31 := by omega) : (x = y → A) ∧ (¬ x = y → B) := by
  subst hx hy
  rw [nI_eq ha hb]
  exact ⟨f, g⟩
theorem pk_in {x : Int32} (n N : Nat) (h : n < N) (hx : x = nI n := by rfl) (hN : N < 2 ^ 31 := by omega) : vp_in x N := by
  subst hx
  exact vp_in_nI h hN
theorem pk_cl {x : Int32} (n : Nat) (hx : x = nI n := by rfl) (h : n < 2 ^ 31 := by omega) : x.toNatClampNeg = n := by
  subst hx
  exact nI_clamp h
theorem pk_tn {n : Nat} (h : n < 2 ^ 32) : (nI n).toBitVec.toNat = n := Nat.mod_eq_of_lt h
theorem pk_and (x : Int32) {m : Int32} (k : Nat) (hm : m.toBitVec.toNat = 2 ^ k - 1) : x &&& m = nI (x.toBitVec.toNat % 2 ^ k) := by
  apply Int32.toBitVec_inj.mp
  apply BitVec.eq_of_toNat_eq
  rw [Int32.toBitVec_and, BitVec.toNat_and, hm, Nat.and_two_pow_sub_one_eq_mod]
  show _ = (BitVec.ofNat 32 _).toNat
  rw [BitVec.toNat_ofNat]
  exact (Nat.mod_eq_of_lt (Nat.lt_of_le_of_lt (Nat.mod_le _ _) x.toBitVec.isLt)).symm
theorem pk_andN {n : Nat} (h : n < 2 ^ 32) {m : Int32} (k : Nat) (hm : m.toBitVec.toNat = 2 ^ k - 1) : nI n &&& m = nI (n % 2 ^ k) := by
  rw [pk_and _ k hm, pk_tn h]
theorem pk_andE (x : Int32) {m : Int32} (k : Nat) (hm : m.toBitVec.toNat = 2 ^ k - 1) : ∃ j : Nat, j < 2 ^ k ∧ x &&& m = nI j := ⟨_, Nat.mod_lt _ (Nat.two_pow_pos k), pk_and x k hm⟩
theorem pk_andIn (x : Int32) {m : Int32} (k : Nat) (hm : m.toBitVec.toNat = 2 ^ k - 1) (hk : k ≤ 30) : vp_in (x &&& m) (2 ^ k) := by
  obtain ⟨j, hj, e⟩ := pk_andE x k hm
  rw [e]
  exact vp_in_nI hj (Nat.lt_of_le_of_lt (Nat.pow_le_pow_right (by decide) hk) (by decide))
theorem pk_shl (a s : Int32) (k : Nat) (hs : (s.toBitVec.smod 32).toNat = k) : (a <<< s).toBitVec.toNat = a.toBitVec.toNat * 2 ^ k % 2 ^ 32 := by
  show (a.toBitVec <<< (s.toBitVec.smod 32).toNat).toNat = _
  rw [hs, BitVec.toNat_shiftLeft, Nat.shiftLeft_eq]
theorem pk_shlN {n : Nat} (s : Int32) (k : Nat) (hs : (s.toBitVec.smod 32).toNat = k) (h : n * 2 ^ k < 2 ^ 32) : nI n <<< s = nI (n * 2 ^ k) := by
  apply Int32.toBitVec_inj.mp
  apply BitVec.eq_of_toNat_eq
  have hn : n < 2 ^ 32 := Nat.lt_of_le_of_lt (Nat.le_mul_of_pos_right n (Nat.two_pow_pos k)) h
  rw [pk_shl _ _ k hs, pk_tn hn, pk_tn h, Nat.mod_eq_of_lt h]
theorem pk_shr (a s : Int32) (k : Nat) (hs : (s.toBitVec.smod 32).toNat = k) : (a >>> s).toInt = a.toInt >>> k := by
  show (a.toBitVec.sshiftRight (s.toBitVec.smod 32).toNat).toInt = _
  rw [hs, BitVec.toInt_sshiftRight]
  rfl
theorem pk_shrN {n : Nat} (h : n < 2 ^ 31) (s : Int32) (k : Nat) (hs : (s.toBitVec.smod 32).toNat = k) : nI n >>> s = nI (n / 2 ^ k) := by
  apply Int32.toInt_inj.mp
  have h2 : n / 2 ^ k ≤ n := Nat.div_le_self _ _
  rw [pk_shr _ _ k hs, nI_toInt h, nI_toInt (by omega), Int.shiftRight_eq_div_pow]
  rfl
theorem pk_ushr (x s : Int32) (k : Nat) (hs : ((s.toUInt32 &&& Int32.toUInt32 31).toBitVec % 32).toNat = k) : (x.toUInt32 >>> (s.toUInt32 &&& Int32.toUInt32 31)).toInt32.toBitVec.toNat = x.toBitVec.toNat / 2 ^ k := by
  have e : (x.toUInt32 >>> (s.toUInt32 &&& Int32.toUInt32 31)).toInt32.toBitVec = x.toBitVec >>> k := by
    rw [← hs]
    exact UInt32.toBitVec_shiftRight _ _
  rw [e, BitVec.toNat_ushiftRight, Nat.shiftRight_eq_div_pow]
theorem pk_ushrN {n : Nat} (hn : n < 2 ^ 32) (s : Int32) (k : Nat) (hs : ((s.toUInt32 &&& Int32.toUInt32 31).toBitVec % 32).toNat = k) : ((nI n).toUInt32 >>> (s.toUInt32 &&& Int32.toUInt32 31)).toInt32 = nI (n / 2 ^ k) := by
  apply Int32.toBitVec_inj.mp
  apply BitVec.eq_of_toNat_eq
  rw [pk_ushr _ s k hs, pk_tn hn, pk_tn (Nat.lt_of_le_of_lt (Nat.div_le_self _ _) hn)]
theorem pk_nb (z : Int32) : narrow .byte (.int z.toInt8.toInt32) = .int z.toInt8.toInt32 := congrArg Value.int (by simp)
theorem pk_ns (z : Int32) : narrow .short (.int z.toInt16.toInt32) = .int z.toInt16.toInt32 := congrArg Value.int (by simp)
theorem pk_fb (r : Int32) : fits .byte (.int r.toInt8.toInt32) = true := by
  have ⟨a, b⟩ := lg_i2b_range r
  have h1 : (-128 : Int32).toInt = -128 := by decide
  have h2 : (127 : Int32).toInt = 127 := by decide
  simp only [fits, Bool.and_eq_true, decide_eq_true_eq, Int32.le_iff_toInt_le, h1, h2]
  omega
theorem pk_fs (r : Int32) : fits .short (.int r.toInt16.toInt32) = true := by
  have ⟨a, b⟩ := lg_i2s_range r
  have h1 : (-32768 : Int32).toInt = -32768 := by decide
  have h2 : (32767 : Int32).toInt = 32767 := by decide
  simp only [fits, Bool.and_eq_true, decide_eq_true_eq, Int32.le_iff_toInt_le, h1, h2]
  omega
theorem pk_charN {q : Nat} (hq : q < 65536) : narrow .char (.int (nI q)) = .int (nI q) ∧ fits .char (.int (nI q)) = true := by
  constructor
  · have e : (nI q).toUInt32.toUInt16.toUInt32.toInt32 = nI q := by
      apply Int32.toBitVec_inj.mp
      apply BitVec.eq_of_toNat_eq
      show (nI q).toUInt32.toUInt16.toUInt32.toNat = q % 2 ^ 32
      rw [UInt16.toNat_toUInt32, UInt32.toNat_toUInt16, show (nI q).toUInt32.toNat = q % 2 ^ 32 from rfl]
      omega
    exact congrArg Value.int e
  · have a : (0 : Int32) ≤ nI q := nI_pos' (by omega)
    have b : nI q ≤ 65535 := nI_le (b := 65535) (by omega) (by decide)
    show (decide ((0 : Int32) ≤ nI q) && decide (nI q ≤ 65535)) = true
    rw [decide_eq_true a, decide_eq_true b]
    rfl
theorem pk_char (x : Int32) : (x.toUInt32 % 65536).toInt32 = nI (x.toBitVec.toNat % 65536) := by
  apply Int32.toBitVec_inj.mp
  apply BitVec.eq_of_toNat_eq
  rw [pk_tn (by omega)]
  show (x.toUInt32 % 65536).toNat = _
  rw [UInt32.toNat_mod]
  rfl
theorem pk_nc (x : Int32) : narrow .char (.int (x.toUInt32 % 65536).toInt32) = .int (x.toUInt32 % 65536).toInt32 := by
  rw [pk_char]
  exact (pk_charN (Nat.mod_lt _ (by decide))).1
theorem pk_fc (x : Int32) : fits .char (.int (x.toUInt32 % 65536).toInt32) = true := by
  rw [pk_char]
  exact (pk_charN (Nat.mod_lt _ (by decide))).2
theorem pk_vb (z : Int32) : vp_nar .byte z.toInt8.toInt32 = z.toInt8.toInt32 := by rw [vp_nar_byte]; simp
theorem pk_vs (z : Int32) : vp_nar .short z.toInt16.toInt32 = z.toInt16.toInt32 := by rw [vp_nar_short]; simp
theorem pk_vc (z : Int32) : vp_nar .char (z.toUInt32 % 65536).toInt32 = (z.toUInt32 % 65536).toInt32 := Value.int.inj (pk_nc z)
theorem pk_lT {n : Nat} (h : n < 2 ^ 63) : (lN n).toInt = (n : Int) := lg_ofNat_toInt h
theorem pk_lLT {a b : Nat} (ha : a < 2 ^ 63) (hb : b < 2 ^ 63) : lN a < lN b ↔ a < b := by
  rw [Int64.lt_iff_toInt_lt, pk_lT ha, pk_lT hb]; omega
theorem pk_lLE {a b : Nat} (ha : a < 2 ^ 63) (hb : b < 2 ^ 63) : lN a ≤ lN b ↔ a ≤ b := by
  rw [Int64.le_iff_toInt_le, pk_lT ha, pk_lT hb]; omega
theorem pk_lEQ {a b : Nat} (ha : a < 2 ^ 63) (hb : b < 2 ^ 63) : lN a = lN b ↔ a = b := by
  rw [← Int64.toInt_inj, pk_lT ha, pk_lT hb]; omega
theorem pk_lOf {x : Int64} (h : ¬ x < 0) : ∃ k : Nat, k < 2 ^ 63 ∧ x = lN k := by
  rw [Int64.lt_iff_toInt_lt] at h
  have h0 : (0 : Int64).toInt = 0 := by decide
  have hx := Int64.toInt_lt x
  refine ⟨x.toInt.toNat, by omega, Int64.toInt_inj.mp ?_⟩
  rw [pk_lT (by omega)]
  omega
theorem pk_lDiv {a b : Nat} (ha : a < 2 ^ 63) (h0 : 0 < b) (hb : b < 2 ^ 63) : lN a / lN b = lN (a / b) := by
  apply Int64.toInt_inj.mp
  rw [lg_ldiv_nonneg (by rw [pk_lT ha]; omega) (by rw [pk_lT hb]; omega), pk_lT ha, pk_lT hb, pk_lT (Nat.lt_of_le_of_lt (Nat.div_le_self a b) ha)]
  rfl
theorem pk_lRem {a b : Nat} (ha : a < 2 ^ 63) (h0 : 0 < b) (hb : b < 2 ^ 63) : lN a - lN a / lN b * lN b = lN (a % b) := by
  rw [pk_lDiv ha h0 hb, lN_mul, lN_sub (Nat.div_mul_le_self a b)]
  exact congrArg lN (by have := Nat.div_add_mod' a b; omega)
theorem pk_loop {σ : Type} (W : Nat → Nat → σ → Prop) (I : Nat → σ → Prop) (e i0 : Nat) (s : σ) (hi : i0 ≤ e) (h0 : I i0 s) (hx : ∀ n s, I e s → W (n + 1) e s)
    (hs : ∀ n i s, i < e → I i s → (∀ s', I (i + 1) s' → W n (i + 1) s') → W (n + 1) i s) : ∃ n, W n i0 s :=
  ⟨e + 1, loop_i W I e hx hs (e + 1) i0 s hi (by omega) h0⟩
theorem pk_loopD {σ : Type} (W : Nat → Nat → σ → Prop) (I : Nat → σ → Prop) (hx : ∀ n s, I 0 s → W (n + 1) 0 s)
    (hs : ∀ n i s, I (i + 1) s → (∀ s', I i s' → W n i s') → W (n + 1) (i + 1) s) : ∀ (e : Nat) (s : σ), I e s → W (e + 1) e s := by
  intro e
  induction e with
  | zero => exact fun s h => hx 0 s h
  | succ e ih => exact fun s h => hs (e + 1) e s h (fun s' h' => ih s' h')
theorem lp1 {A1 : Type} (W : Nat → A1 → Prop) (I : A1 → Prop) (μ : A1 → Nat) (hs : ∀ (n : Nat) (a1 : A1), I a1 → (∀ (b1 : A1), I b1 → μ b1 < μ a1 → W n b1) → W (n + 1) a1) (a1 : A1) (h : I a1) : ∃ n, W n a1 :=
  loop_m (σ := A1) (fun n s => W n s) (fun s => I s) (fun s => μ s) (fun n s hI hk => hs n s hI (fun b1 h9 hm => hk b1 h9 hm)) a1 h
theorem lp2 {A1 A2 : Type} (W : Nat → A1 → A2 → Prop) (I : A1 → A2 → Prop) (μ : A1 → A2 → Nat) (hs : ∀ (n : Nat) (a1 : A1) (a2 : A2), I a1 a2 → (∀ (b1 : A1) (b2 : A2), I b1 b2 → μ b1 b2 < μ a1 a2 → W n b1 b2) → W (n + 1) a1 a2) (a1 : A1) (a2 : A2) (h : I a1 a2) : ∃ n, W n a1 a2 :=
  loop_m (σ := A1 × A2) (fun n s => W n s.1 s.2) (fun s => I s.1 s.2) (fun s => μ s.1 s.2) (fun n s hI hk => hs n s.1 s.2 hI (fun b1 b2 h9 hm => hk (b1, b2) h9 hm)) (a1, a2) h
theorem lp3 {A1 A2 A3 : Type} (W : Nat → A1 → A2 → A3 → Prop) (I : A1 → A2 → A3 → Prop) (μ : A1 → A2 → A3 → Nat) (hs : ∀ (n : Nat) (a1 : A1) (a2 : A2) (a3 : A3), I a1 a2 a3 → (∀ (b1 : A1) (b2 : A2) (b3 : A3), I b1 b2 b3 → μ b1 b2 b3 < μ a1 a2 a3 → W n b1 b2 b3) → W (n + 1) a1 a2 a3) (a1 : A1) (a2 : A2) (a3 : A3) (h : I a1 a2 a3) : ∃ n, W n a1 a2 a3 :=
  loop_m (σ := A1 × A2 × A3) (fun n s => W n s.1 s.2.1 s.2.2) (fun s => I s.1 s.2.1 s.2.2) (fun s => μ s.1 s.2.1 s.2.2) (fun n s hI hk => hs n s.1 s.2.1 s.2.2 hI (fun b1 b2 b3 h9 hm => hk (b1, b2, b3) h9 hm)) (a1, a2, a3) h
theorem lp4 {A1 A2 A3 A4 : Type} (W : Nat → A1 → A2 → A3 → A4 → Prop) (I : A1 → A2 → A3 → A4 → Prop) (μ : A1 → A2 → A3 → A4 → Nat) (hs : ∀ (n : Nat) (a1 : A1) (a2 : A2) (a3 : A3) (a4 : A4), I a1 a2 a3 a4 → (∀ (b1 : A1) (b2 : A2) (b3 : A3) (b4 : A4), I b1 b2 b3 b4 → μ b1 b2 b3 b4 < μ a1 a2 a3 a4 → W n b1 b2 b3 b4) → W (n + 1) a1 a2 a3 a4) (a1 : A1) (a2 : A2) (a3 : A3) (a4 : A4) (h : I a1 a2 a3 a4) : ∃ n, W n a1 a2 a3 a4 :=
  loop_m (σ := A1 × A2 × A3 × A4) (fun n s => W n s.1 s.2.1 s.2.2.1 s.2.2.2) (fun s => I s.1 s.2.1 s.2.2.1 s.2.2.2) (fun s => μ s.1 s.2.1 s.2.2.1 s.2.2.2) (fun n s hI hk => hs n s.1 s.2.1 s.2.2.1 s.2.2.2 hI (fun b1 b2 b3 b4 h9 hm => hk (b1, b2, b3, b4) h9 hm)) (a1, a2, a3, a4) h
theorem lp5 {A1 A2 A3 A4 A5 : Type} (W : Nat → A1 → A2 → A3 → A4 → A5 → Prop) (I : A1 → A2 → A3 → A4 → A5 → Prop) (μ : A1 → A2 → A3 → A4 → A5 → Nat) (hs : ∀ (n : Nat) (a1 : A1) (a2 : A2) (a3 : A3) (a4 : A4) (a5 : A5), I a1 a2 a3 a4 a5 → (∀ (b1 : A1) (b2 : A2) (b3 : A3) (b4 : A4) (b5 : A5), I b1 b2 b3 b4 b5 → μ b1 b2 b3 b4 b5 < μ a1 a2 a3 a4 a5 → W n b1 b2 b3 b4 b5) → W (n + 1) a1 a2 a3 a4 a5) (a1 : A1) (a2 : A2) (a3 : A3) (a4 : A4) (a5 : A5) (h : I a1 a2 a3 a4 a5) : ∃ n, W n a1 a2 a3 a4 a5 :=
  loop_m (σ := A1 × A2 × A3 × A4 × A5) (fun n s => W n s.1 s.2.1 s.2.2.1 s.2.2.2.1 s.2.2.2.2) (fun s => I s.1 s.2.1 s.2.2.1 s.2.2.2.1 s.2.2.2.2) (fun s => μ s.1 s.2.1 s.2.2.1 s.2.2.2.1 s.2.2.2.2) (fun n s hI hk => hs n s.1 s.2.1 s.2.2.1 s.2.2.2.1 s.2.2.2.2 hI (fun b1 b2 b3 b4 b5 h9 hm => hk (b1, b2, b3, b4, b5) h9 hm)) (a1, a2, a3, a4, a5) h
theorem lp6 {A1 A2 A3 A4 A5 A6 : Type} (W : Nat → A1 → A2 → A3 → A4 → A5 → A6 → Prop) (I : A1 → A2 → A3 → A4 → A5 → A6 → Prop) (μ : A1 → A2 → A3 → A4 → A5 → A6 → Nat) (hs : ∀ (n : Nat) (a1 : A1) (a2 : A2) (a3 : A3) (a4 : A4) (a5 : A5) (a6 : A6), I a1 a2 a3 a4 a5 a6 → (∀ (b1 : A1) (b2 : A2) (b3 : A3) (b4 : A4) (b5 : A5) (b6 : A6), I b1 b2 b3 b4 b5 b6 → μ b1 b2 b3 b4 b5 b6 < μ a1 a2 a3 a4 a5 a6 → W n b1 b2 b3 b4 b5 b6) → W (n + 1) a1 a2 a3 a4 a5 a6) (a1 : A1) (a2 : A2) (a3 : A3) (a4 : A4) (a5 : A5) (a6 : A6) (h : I a1 a2 a3 a4 a5 a6) : ∃ n, W n a1 a2 a3 a4 a5 a6 :=
  loop_m (σ := A1 × A2 × A3 × A4 × A5 × A6) (fun n s => W n s.1 s.2.1 s.2.2.1 s.2.2.2.1 s.2.2.2.2.1 s.2.2.2.2.2) (fun s => I s.1 s.2.1 s.2.2.1 s.2.2.2.1 s.2.2.2.2.1 s.2.2.2.2.2) (fun s => μ s.1 s.2.1 s.2.2.1 s.2.2.2.1 s.2.2.2.2.1 s.2.2.2.2.2) (fun n s hI hk => hs n s.1 s.2.1 s.2.2.1 s.2.2.2.1 s.2.2.2.2.1 s.2.2.2.2.2 hI (fun b1 b2 b3 b4 b5 b6 h9 hm => hk (b1, b2, b3, b4, b5, b6) h9 hm)) (a1, a2, a3, a4, a5, a6) h
theorem lp7 {A1 A2 A3 A4 A5 A6 A7 : Type} (W : Nat → A1 → A2 → A3 → A4 → A5 → A6 → A7 → Prop) (I : A1 → A2 → A3 → A4 → A5 → A6 → A7 → Prop) (μ : A1 → A2 → A3 → A4 → A5 → A6 → A7 → Nat) (hs : ∀ (n : Nat) (a1 : A1) (a2 : A2) (a3 : A3) (a4 : A4) (a5 : A5) (a6 : A6) (a7 : A7), I a1 a2 a3 a4 a5 a6 a7 → (∀ (b1 : A1) (b2 : A2) (b3 : A3) (b4 : A4) (b5 : A5) (b6 : A6) (b7 : A7), I b1 b2 b3 b4 b5 b6 b7 → μ b1 b2 b3 b4 b5 b6 b7 < μ a1 a2 a3 a4 a5 a6 a7 → W n b1 b2 b3 b4 b5 b6 b7) → W (n + 1) a1 a2 a3 a4 a5 a6 a7) (a1 : A1) (a2 : A2) (a3 : A3) (a4 : A4) (a5 : A5) (a6 : A6) (a7 : A7) (h : I a1 a2 a3 a4 a5 a6 a7) : ∃ n, W n a1 a2 a3 a4 a5 a6 a7 :=
  loop_m (σ := A1 × A2 × A3 × A4 × A5 × A6 × A7) (fun n s => W n s.1 s.2.1 s.2.2.1 s.2.2.2.1 s.2.2.2.2.1 s.2.2.2.2.2.1 s.2.2.2.2.2.2) (fun s => I s.1 s.2.1 s.2.2.1 s.2.2.2.1 s.2.2.2.2.1 s.2.2.2.2.2.1 s.2.2.2.2.2.2) (fun s => μ s.1 s.2.1 s.2.2.1 s.2.2.2.1 s.2.2.2.2.1 s.2.2.2.2.2.1 s.2.2.2.2.2.2) (fun n s hI hk => hs n s.1 s.2.1 s.2.2.1 s.2.2.2.1 s.2.2.2.2.1 s.2.2.2.2.2.1 s.2.2.2.2.2.2 hI (fun b1 b2 b3 b4 b5 b6 b7 h9 hm => hk (b1, b2, b3, b4, b5, b6, b7) h9 hm)) (a1, a2, a3, a4, a5, a6, a7) h
theorem lp8 {A1 A2 A3 A4 A5 A6 A7 A8 : Type} (W : Nat → A1 → A2 → A3 → A4 → A5 → A6 → A7 → A8 → Prop) (I : A1 → A2 → A3 → A4 → A5 → A6 → A7 → A8 → Prop) (μ : A1 → A2 → A3 → A4 → A5 → A6 → A7 → A8 → Nat) (hs : ∀ (n : Nat) (a1 : A1) (a2 : A2) (a3 : A3) (a4 : A4) (a5 : A5) (a6 : A6) (a7 : A7) (a8 : A8), I a1 a2 a3 a4 a5 a6 a7 a8 → (∀ (b1 : A1) (b2 : A2) (b3 : A3) (b4 : A4) (b5 : A5) (b6 : A6) (b7 : A7) (b8 : A8), I b1 b2 b3 b4 b5 b6 b7 b8 → μ b1 b2 b3 b4 b5 b6 b7 b8 < μ a1 a2 a3 a4 a5 a6 a7 a8 → W n b1 b2 b3 b4 b5 b6 b7 b8) → W (n + 1) a1 a2 a3 a4 a5 a6 a7 a8) (a1 : A1) (a2 : A2) (a3 : A3) (a4 : A4) (a5 : A5) (a6 : A6) (a7 : A7) (a8 : A8) (h : I a1 a2 a3 a4 a5 a6 a7 a8) : ∃ n, W n a1 a2 a3 a4 a5 a6 a7 a8 :=
  loop_m (σ := A1 × A2 × A3 × A4 × A5 × A6 × A7 × A8) (fun n s => W n s.1 s.2.1 s.2.2.1 s.2.2.2.1 s.2.2.2.2.1 s.2.2.2.2.2.1 s.2.2.2.2.2.2.1 s.2.2.2.2.2.2.2) (fun s => I s.1 s.2.1 s.2.2.1 s.2.2.2.1 s.2.2.2.2.1 s.2.2.2.2.2.1 s.2.2.2.2.2.2.1 s.2.2.2.2.2.2.2) (fun s => μ s.1 s.2.1 s.2.2.1 s.2.2.2.1 s.2.2.2.2.1 s.2.2.2.2.2.1 s.2.2.2.2.2.2.1 s.2.2.2.2.2.2.2) (fun n s hI hk => hs n s.1 s.2.1 s.2.2.1 s.2.2.2.1 s.2.2.2.2.1 s.2.2.2.2.2.1 s.2.2.2.2.2.2.1 s.2.2.2.2.2.2.2 hI (fun b1 b2 b3 b4 b5 b6 b7 b8 h9 hm => hk (b1, b2, b3, b4, b5, b6, b7, b8) h9 hm)) (a1, a2, a3, a4, a5, a6, a7, a8) h
theorem lp9 {A1 A2 A3 A4 A5 A6 A7 A8 A9 : Type} (W : Nat → A1 → A2 → A3 → A4 → A5 → A6 → A7 → A8 → A9 → Prop) (I : A1 → A2 → A3 → A4 → A5 → A6 → A7 → A8 → A9 → Prop) (μ : A1 → A2 → A3 → A4 → A5 → A6 → A7 → A8 → A9 → Nat) (hs : ∀ (n : Nat) (a1 : A1) (a2 : A2) (a3 : A3) (a4 : A4) (a5 : A5) (a6 : A6) (a7 : A7) (a8 : A8) (a9 : A9), I a1 a2 a3 a4 a5 a6 a7 a8 a9 → (∀ (b1 : A1) (b2 : A2) (b3 : A3) (b4 : A4) (b5 : A5) (b6 : A6) (b7 : A7) (b8 : A8) (b9 : A9), I b1 b2 b3 b4 b5 b6 b7 b8 b9 → μ b1 b2 b3 b4 b5 b6 b7 b8 b9 < μ a1 a2 a3 a4 a5 a6 a7 a8 a9 → W n b1 b2 b3 b4 b5 b6 b7 b8 b9) → W (n + 1) a1 a2 a3 a4 a5 a6 a7 a8 a9) (a1 : A1) (a2 : A2) (a3 : A3) (a4 : A4) (a5 : A5) (a6 : A6) (a7 : A7) (a8 : A8) (a9 : A9) (h : I a1 a2 a3 a4 a5 a6 a7 a8 a9) : ∃ n, W n a1 a2 a3 a4 a5 a6 a7 a8 a9 :=
  loop_m (σ := A1 × A2 × A3 × A4 × A5 × A6 × A7 × A8 × A9) (fun n s => W n s.1 s.2.1 s.2.2.1 s.2.2.2.1 s.2.2.2.2.1 s.2.2.2.2.2.1 s.2.2.2.2.2.2.1 s.2.2.2.2.2.2.2.1 s.2.2.2.2.2.2.2.2) (fun s => I s.1 s.2.1 s.2.2.1 s.2.2.2.1 s.2.2.2.2.1 s.2.2.2.2.2.1 s.2.2.2.2.2.2.1 s.2.2.2.2.2.2.2.1 s.2.2.2.2.2.2.2.2) (fun s => μ s.1 s.2.1 s.2.2.1 s.2.2.2.1 s.2.2.2.2.1 s.2.2.2.2.2.1 s.2.2.2.2.2.2.1 s.2.2.2.2.2.2.2.1 s.2.2.2.2.2.2.2.2) (fun n s hI hk => hs n s.1 s.2.1 s.2.2.1 s.2.2.2.1 s.2.2.2.2.1 s.2.2.2.2.2.1 s.2.2.2.2.2.2.1 s.2.2.2.2.2.2.2.1 s.2.2.2.2.2.2.2.2 hI (fun b1 b2 b3 b4 b5 b6 b7 b8 b9 h9 hm => hk (b1, b2, b3, b4, b5, b6, b7, b8, b9) h9 hm)) (a1, a2, a3, a4, a5, a6, a7, a8, a9) h
theorem lp10 {A1 A2 A3 A4 A5 A6 A7 A8 A9 A10 : Type} (W : Nat → A1 → A2 → A3 → A4 → A5 → A6 → A7 → A8 → A9 → A10 → Prop) (I : A1 → A2 → A3 → A4 → A5 → A6 → A7 → A8 → A9 → A10 → Prop) (μ : A1 → A2 → A3 → A4 → A5 → A6 → A7 → A8 → A9 → A10 → Nat) (hs : ∀ (n : Nat) (a1 : A1) (a2 : A2) (a3 : A3) (a4 : A4) (a5 : A5) (a6 : A6) (a7 : A7) (a8 : A8) (a9 : A9) (a10 : A10), I a1 a2 a3 a4 a5 a6 a7 a8 a9 a10 → (∀ (b1 : A1) (b2 : A2) (b3 : A3) (b4 : A4) (b5 : A5) (b6 : A6) (b7 : A7) (b8 : A8) (b9 : A9) (b10 : A10), I b1 b2 b3 b4 b5 b6 b7 b8 b9 b10 → μ b1 b2 b3 b4 b5 b6 b7 b8 b9 b10 < μ a1 a2 a3 a4 a5 a6 a7 a8 a9 a10 → W n b1 b2 b3 b4 b5 b6 b7 b8 b9 b10) → W (n + 1) a1 a2 a3 a4 a5 a6 a7 a8 a9 a10) (a1 : A1) (a2 : A2) (a3 : A3) (a4 : A4) (a5 : A5) (a6 : A6) (a7 : A7) (a8 : A8) (a9 : A9) (a10 : A10) (h : I a1 a2 a3 a4 a5 a6 a7 a8 a9 a10) : ∃ n, W n a1 a2 a3 a4 a5 a6 a7 a8 a9 a10 :=
  loop_m (σ := A1 × A2 × A3 × A4 × A5 × A6 × A7 × A8 × A9 × A10) (fun n s => W n s.1 s.2.1 s.2.2.1 s.2.2.2.1 s.2.2.2.2.1 s.2.2.2.2.2.1 s.2.2.2.2.2.2.1 s.2.2.2.2.2.2.2.1 s.2.2.2.2.2.2.2.2.1 s.2.2.2.2.2.2.2.2.2) (fun s => I s.1 s.2.1 s.2.2.1 s.2.2.2.1 s.2.2.2.2.1 s.2.2.2.2.2.1 s.2.2.2.2.2.2.1 s.2.2.2.2.2.2.2.1 s.2.2.2.2.2.2.2.2.1 s.2.2.2.2.2.2.2.2.2) (fun s => μ s.1 s.2.1 s.2.2.1 s.2.2.2.1 s.2.2.2.2.1 s.2.2.2.2.2.1 s.2.2.2.2.2.2.1 s.2.2.2.2.2.2.2.1 s.2.2.2.2.2.2.2.2.1 s.2.2.2.2.2.2.2.2.2) (fun n s hI hk => hs n s.1 s.2.1 s.2.2.1 s.2.2.2.1 s.2.2.2.2.1 s.2.2.2.2.2.1 s.2.2.2.2.2.2.1 s.2.2.2.2.2.2.2.1 s.2.2.2.2.2.2.2.2.1 s.2.2.2.2.2.2.2.2.2 hI (fun b1 b2 b3 b4 b5 b6 b7 b8 b9 b10 h9 hm => hk (b1, b2, b3, b4, b5, b6, b7, b8, b9, b10) h9 hm)) (a1, a2, a3, a4, a5, a6, a7, a8, a9, a10) h
theorem lp11 {A1 A2 A3 A4 A5 A6 A7 A8 A9 A10 A11 : Type} (W : Nat → A1 → A2 → A3 → A4 → A5 → A6 → A7 → A8 → A9 → A10 → A11 → Prop) (I : A1 → A2 → A3 → A4 → A5 → A6 → A7 → A8 → A9 → A10 → A11 → Prop) (μ : A1 → A2 → A3 → A4 → A5 → A6 → A7 → A8 → A9 → A10 → A11 → Nat) (hs : ∀ (n : Nat) (a1 : A1) (a2 : A2) (a3 : A3) (a4 : A4) (a5 : A5) (a6 : A6) (a7 : A7) (a8 : A8) (a9 : A9) (a10 : A10) (a11 : A11), I a1 a2 a3 a4 a5 a6 a7 a8 a9 a10 a11 → (∀ (b1 : A1) (b2 : A2) (b3 : A3) (b4 : A4) (b5 : A5) (b6 : A6) (b7 : A7) (b8 : A8) (b9 : A9) (b10 : A10) (b11 : A11), I b1 b2 b3 b4 b5 b6 b7 b8 b9 b10 b11 → μ b1 b2 b3 b4 b5 b6 b7 b8 b9 b10 b11 < μ a1 a2 a3 a4 a5 a6 a7 a8 a9 a10 a11 → W n b1 b2 b3 b4 b5 b6 b7 b8 b9 b10 b11) → W (n + 1) a1 a2 a3 a4 a5 a6 a7 a8 a9 a10 a11) (a1 : A1) (a2 : A2) (a3 : A3) (a4 : A4) (a5 : A5) (a6 : A6) (a7 : A7) (a8 : A8) (a9 : A9) (a10 : A10) (a11 : A11) (h : I a1 a2 a3 a4 a5 a6 a7 a8 a9 a10 a11) : ∃ n, W n a1 a2 a3 a4 a5 a6 a7 a8 a9 a10 a11 :=
  loop_m (σ := A1 × A2 × A3 × A4 × A5 × A6 × A7 × A8 × A9 × A10 × A11) (fun n s => W n s.1 s.2.1 s.2.2.1 s.2.2.2.1 s.2.2.2.2.1 s.2.2.2.2.2.1 s.2.2.2.2.2.2.1 s.2.2.2.2.2.2.2.1 s.2.2.2.2.2.2.2.2.1 s.2.2.2.2.2.2.2.2.2.1 s.2.2.2.2.2.2.2.2.2.2) (fun s => I s.1 s.2.1 s.2.2.1 s.2.2.2.1 s.2.2.2.2.1 s.2.2.2.2.2.1 s.2.2.2.2.2.2.1 s.2.2.2.2.2.2.2.1 s.2.2.2.2.2.2.2.2.1 s.2.2.2.2.2.2.2.2.2.1 s.2.2.2.2.2.2.2.2.2.2) (fun s => μ s.1 s.2.1 s.2.2.1 s.2.2.2.1 s.2.2.2.2.1 s.2.2.2.2.2.1 s.2.2.2.2.2.2.1 s.2.2.2.2.2.2.2.1 s.2.2.2.2.2.2.2.2.1 s.2.2.2.2.2.2.2.2.2.1 s.2.2.2.2.2.2.2.2.2.2) (fun n s hI hk => hs n s.1 s.2.1 s.2.2.1 s.2.2.2.1 s.2.2.2.2.1 s.2.2.2.2.2.1 s.2.2.2.2.2.2.1 s.2.2.2.2.2.2.2.1 s.2.2.2.2.2.2.2.2.1 s.2.2.2.2.2.2.2.2.2.1 s.2.2.2.2.2.2.2.2.2.2 hI (fun b1 b2 b3 b4 b5 b6 b7 b8 b9 b10 b11 h9 hm => hk (b1, b2, b3, b4, b5, b6, b7, b8, b9, b10, b11) h9 hm)) (a1, a2, a3, a4, a5, a6, a7, a8, a9, a10, a11) h
theorem lp12 {A1 A2 A3 A4 A5 A6 A7 A8 A9 A10 A11 A12 : Type} (W : Nat → A1 → A2 → A3 → A4 → A5 → A6 → A7 → A8 → A9 → A10 → A11 → A12 → Prop) (I : A1 → A2 → A3 → A4 → A5 → A6 → A7 → A8 → A9 → A10 → A11 → A12 → Prop) (μ : A1 → A2 → A3 → A4 → A5 → A6 → A7 → A8 → A9 → A10 → A11 → A12 → Nat) (hs : ∀ (n : Nat) (a1 : A1) (a2 : A2) (a3 : A3) (a4 : A4) (a5 : A5) (a6 : A6) (a7 : A7) (a8 : A8) (a9 : A9) (a10 : A10) (a11 : A11) (a12 : A12), I a1 a2 a3 a4 a5 a6 a7 a8 a9 a10 a11 a12 → (∀ (b1 : A1) (b2 : A2) (b3 : A3) (b4 : A4) (b5 : A5) (b6 : A6) (b7 : A7) (b8 : A8) (b9 : A9) (b10 : A10) (b11 : A11) (b12 : A12), I b1 b2 b3 b4 b5 b6 b7 b8 b9 b10 b11 b12 → μ b1 b2 b3 b4 b5 b6 b7 b8 b9 b10 b11 b12 < μ a1 a2 a3 a4 a5 a6 a7 a8 a9 a10 a11 a12 → W n b1 b2 b3 b4 b5 b6 b7 b8 b9 b10 b11 b12) → W (n + 1) a1 a2 a3 a4 a5 a6 a7 a8 a9 a10 a11 a12) (a1 : A1) (a2 : A2) (a3 : A3) (a4 : A4) (a5 : A5) (a6 : A6) (a7 : A7) (a8 : A8) (a9 : A9) (a10 : A10) (a11 : A11) (a12 : A12) (h : I a1 a2 a3 a4 a5 a6 a7 a8 a9 a10 a11 a12) : ∃ n, W n a1 a2 a3 a4 a5 a6 a7 a8 a9 a10 a11 a12 :=
  loop_m (σ := A1 × A2 × A3 × A4 × A5 × A6 × A7 × A8 × A9 × A10 × A11 × A12) (fun n s => W n s.1 s.2.1 s.2.2.1 s.2.2.2.1 s.2.2.2.2.1 s.2.2.2.2.2.1 s.2.2.2.2.2.2.1 s.2.2.2.2.2.2.2.1 s.2.2.2.2.2.2.2.2.1 s.2.2.2.2.2.2.2.2.2.1 s.2.2.2.2.2.2.2.2.2.2.1 s.2.2.2.2.2.2.2.2.2.2.2) (fun s => I s.1 s.2.1 s.2.2.1 s.2.2.2.1 s.2.2.2.2.1 s.2.2.2.2.2.1 s.2.2.2.2.2.2.1 s.2.2.2.2.2.2.2.1 s.2.2.2.2.2.2.2.2.1 s.2.2.2.2.2.2.2.2.2.1 s.2.2.2.2.2.2.2.2.2.2.1 s.2.2.2.2.2.2.2.2.2.2.2) (fun s => μ s.1 s.2.1 s.2.2.1 s.2.2.2.1 s.2.2.2.2.1 s.2.2.2.2.2.1 s.2.2.2.2.2.2.1 s.2.2.2.2.2.2.2.1 s.2.2.2.2.2.2.2.2.1 s.2.2.2.2.2.2.2.2.2.1 s.2.2.2.2.2.2.2.2.2.2.1 s.2.2.2.2.2.2.2.2.2.2.2) (fun n s hI hk => hs n s.1 s.2.1 s.2.2.1 s.2.2.2.1 s.2.2.2.2.1 s.2.2.2.2.2.1 s.2.2.2.2.2.2.1 s.2.2.2.2.2.2.2.1 s.2.2.2.2.2.2.2.2.1 s.2.2.2.2.2.2.2.2.2.1 s.2.2.2.2.2.2.2.2.2.2.1 s.2.2.2.2.2.2.2.2.2.2.2 hI (fun b1 b2 b3 b4 b5 b6 b7 b8 b9 b10 b11 b12 h9 hm => hk (b1, b2, b3, b4, b5, b6, b7, b8, b9, b10, b11, b12) h9 hm)) (a1, a2, a3, a4, a5, a6, a7, a8, a9, a10, a11, a12) h
theorem lp13 {A1 A2 A3 A4 A5 A6 A7 A8 A9 A10 A11 A12 A13 : Type} (W : Nat → A1 → A2 → A3 → A4 → A5 → A6 → A7 → A8 → A9 → A10 → A11 → A12 → A13 → Prop) (I : A1 → A2 → A3 → A4 → A5 → A6 → A7 → A8 → A9 → A10 → A11 → A12 → A13 → Prop) (μ : A1 → A2 → A3 → A4 → A5 → A6 → A7 → A8 → A9 → A10 → A11 → A12 → A13 → Nat) (hs : ∀ (n : Nat) (a1 : A1) (a2 : A2) (a3 : A3) (a4 : A4) (a5 : A5) (a6 : A6) (a7 : A7) (a8 : A8) (a9 : A9) (a10 : A10) (a11 : A11) (a12 : A12) (a13 : A13), I a1 a2 a3 a4 a5 a6 a7 a8 a9 a10 a11 a12 a13 → (∀ (b1 : A1) (b2 : A2) (b3 : A3) (b4 : A4) (b5 : A5) (b6 : A6) (b7 : A7) (b8 : A8) (b9 : A9) (b10 : A10) (b11 : A11) (b12 : A12) (b13 : A13), I b1 b2 b3 b4 b5 b6 b7 b8 b9 b10 b11 b12 b13 → μ b1 b2 b3 b4 b5 b6 b7 b8 b9 b10 b11 b12 b13 < μ a1 a2 a3 a4 a5 a6 a7 a8 a9 a10 a11 a12 a13 → W n b1 b2 b3 b4 b5 b6 b7 b8 b9 b10 b11 b12 b13) → W (n + 1) a1 a2 a3 a4 a5 a6 a7 a8 a9 a10 a11 a12 a13) (a1 : A1) (a2 : A2) (a3 : A3) (a4 : A4) (a5 : A5) (a6 : A6) (a7 : A7) (a8 : A8) (a9 : A9) (a10 : A10) (a11 : A11) (a12 : A12) (a13 : A13) (h : I a1 a2 a3 a4 a5 a6 a7 a8 a9 a10 a11 a12 a13) : ∃ n, W n a1 a2 a3 a4 a5 a6 a7 a8 a9 a10 a11 a12 a13 :=
  loop_m (σ := A1 × A2 × A3 × A4 × A5 × A6 × A7 × A8 × A9 × A10 × A11 × A12 × A13) (fun n s => W n s.1 s.2.1 s.2.2.1 s.2.2.2.1 s.2.2.2.2.1 s.2.2.2.2.2.1 s.2.2.2.2.2.2.1 s.2.2.2.2.2.2.2.1 s.2.2.2.2.2.2.2.2.1 s.2.2.2.2.2.2.2.2.2.1 s.2.2.2.2.2.2.2.2.2.2.1 s.2.2.2.2.2.2.2.2.2.2.2.1 s.2.2.2.2.2.2.2.2.2.2.2.2) (fun s => I s.1 s.2.1 s.2.2.1 s.2.2.2.1 s.2.2.2.2.1 s.2.2.2.2.2.1 s.2.2.2.2.2.2.1 s.2.2.2.2.2.2.2.1 s.2.2.2.2.2.2.2.2.1 s.2.2.2.2.2.2.2.2.2.1 s.2.2.2.2.2.2.2.2.2.2.1 s.2.2.2.2.2.2.2.2.2.2.2.1 s.2.2.2.2.2.2.2.2.2.2.2.2) (fun s => μ s.1 s.2.1 s.2.2.1 s.2.2.2.1 s.2.2.2.2.1 s.2.2.2.2.2.1 s.2.2.2.2.2.2.1 s.2.2.2.2.2.2.2.1 s.2.2.2.2.2.2.2.2.1 s.2.2.2.2.2.2.2.2.2.1 s.2.2.2.2.2.2.2.2.2.2.1 s.2.2.2.2.2.2.2.2.2.2.2.1 s.2.2.2.2.2.2.2.2.2.2.2.2) (fun n s hI hk => hs n s.1 s.2.1 s.2.2.1 s.2.2.2.1 s.2.2.2.2.1 s.2.2.2.2.2.1 s.2.2.2.2.2.2.1 s.2.2.2.2.2.2.2.1 s.2.2.2.2.2.2.2.2.1 s.2.2.2.2.2.2.2.2.2.1 s.2.2.2.2.2.2.2.2.2.2.1 s.2.2.2.2.2.2.2.2.2.2.2.1 s.2.2.2.2.2.2.2.2.2.2.2.2 hI (fun b1 b2 b3 b4 b5 b6 b7 b8 b9 b10 b11 b12 b13 h9 hm => hk (b1, b2, b3, b4, b5, b6, b7, b8, b9, b10, b11, b12, b13) h9 hm)) (a1, a2, a3, a4, a5, a6, a7, a8, a9, a10, a11, a12, a13) h
theorem lp14 {A1 A2 A3 A4 A5 A6 A7 A8 A9 A10 A11 A12 A13 A14 : Type} (W : Nat → A1 → A2 → A3 → A4 → A5 → A6 → A7 → A8 → A9 → A10 → A11 → A12 → A13 → A14 → Prop) (I : A1 → A2 → A3 → A4 → A5 → A6 → A7 → A8 → A9 → A10 → A11 → A12 → A13 → A14 → Prop) (μ : A1 → A2 → A3 → A4 → A5 → A6 → A7 → A8 → A9 → A10 → A11 → A12 → A13 → A14 → Nat) (hs : ∀ (n : Nat) (a1 : A1) (a2 : A2) (a3 : A3) (a4 : A4) (a5 : A5) (a6 : A6) (a7 : A7) (a8 : A8) (a9 : A9) (a10 : A10) (a11 : A11) (a12 : A12) (a13 : A13) (a14 : A14), I a1 a2 a3 a4 a5 a6 a7 a8 a9 a10 a11 a12 a13 a14 → (∀ (b1 : A1) (b2 : A2) (b3 : A3) (b4 : A4) (b5 : A5) (b6 : A6) (b7 : A7) (b8 : A8) (b9 : A9) (b10 : A10) (b11 : A11) (b12 : A12) (b13 : A13) (b14 : A14), I b1 b2 b3 b4 b5 b6 b7 b8 b9 b10 b11 b12 b13 b14 → μ b1 b2 b3 b4 b5 b6 b7 b8 b9 b10 b11 b12 b13 b14 < μ a1 a2 a3 a4 a5 a6 a7 a8 a9 a10 a11 a12 a13 a14 → W n b1 b2 b3 b4 b5 b6 b7 b8 b9 b10 b11 b12 b13 b14) → W (n + 1) a1 a2 a3 a4 a5 a6 a7 a8 a9 a10 a11 a12 a13 a14) (a1 : A1) (a2 : A2) (a3 : A3) (a4 : A4) (a5 : A5) (a6 : A6) (a7 : A7) (a8 : A8) (a9 : A9) (a10 : A10) (a11 : A11) (a12 : A12) (a13 : A13) (a14 : A14) (h : I a1 a2 a3 a4 a5 a6 a7 a8 a9 a10 a11 a12 a13 a14) : ∃ n, W n a1 a2 a3 a4 a5 a6 a7 a8 a9 a10 a11 a12 a13 a14 :=
  loop_m (σ := A1 × A2 × A3 × A4 × A5 × A6 × A7 × A8 × A9 × A10 × A11 × A12 × A13 × A14) (fun n s => W n s.1 s.2.1 s.2.2.1 s.2.2.2.1 s.2.2.2.2.1 s.2.2.2.2.2.1 s.2.2.2.2.2.2.1 s.2.2.2.2.2.2.2.1 s.2.2.2.2.2.2.2.2.1 s.2.2.2.2.2.2.2.2.2.1 s.2.2.2.2.2.2.2.2.2.2.1 s.2.2.2.2.2.2.2.2.2.2.2.1 s.2.2.2.2.2.2.2.2.2.2.2.2.1 s.2.2.2.2.2.2.2.2.2.2.2.2.2) (fun s => I s.1 s.2.1 s.2.2.1 s.2.2.2.1 s.2.2.2.2.1 s.2.2.2.2.2.1 s.2.2.2.2.2.2.1 s.2.2.2.2.2.2.2.1 s.2.2.2.2.2.2.2.2.1 s.2.2.2.2.2.2.2.2.2.1 s.2.2.2.2.2.2.2.2.2.2.1 s.2.2.2.2.2.2.2.2.2.2.2.1 s.2.2.2.2.2.2.2.2.2.2.2.2.1 s.2.2.2.2.2.2.2.2.2.2.2.2.2) (fun s => μ s.1 s.2.1 s.2.2.1 s.2.2.2.1 s.2.2.2.2.1 s.2.2.2.2.2.1 s.2.2.2.2.2.2.1 s.2.2.2.2.2.2.2.1 s.2.2.2.2.2.2.2.2.1 s.2.2.2.2.2.2.2.2.2.1 s.2.2.2.2.2.2.2.2.2.2.1 s.2.2.2.2.2.2.2.2.2.2.2.1 s.2.2.2.2.2.2.2.2.2.2.2.2.1 s.2.2.2.2.2.2.2.2.2.2.2.2.2) (fun n s hI hk => hs n s.1 s.2.1 s.2.2.1 s.2.2.2.1 s.2.2.2.2.1 s.2.2.2.2.2.1 s.2.2.2.2.2.2.1 s.2.2.2.2.2.2.2.1 s.2.2.2.2.2.2.2.2.1 s.2.2.2.2.2.2.2.2.2.1 s.2.2.2.2.2.2.2.2.2.2.1 s.2.2.2.2.2.2.2.2.2.2.2.1 s.2.2.2.2.2.2.2.2.2.2.2.2.1 s.2.2.2.2.2.2.2.2.2.2.2.2.2 hI (fun b1 b2 b3 b4 b5 b6 b7 b8 b9 b10 b11 b12 b13 b14 h9 hm => hk (b1, b2, b3, b4, b5, b6, b7, b8, b9, b10, b11, b12, b13, b14) h9 hm)) (a1, a2, a3, a4, a5, a6, a7, a8, a9, a10, a11, a12, a13, a14) h
theorem lp15 {A1 A2 A3 A4 A5 A6 A7 A8 A9 A10 A11 A12 A13 A14 A15 : Type} (W : Nat → A1 → A2 → A3 → A4 → A5 → A6 → A7 → A8 → A9 → A10 → A11 → A12 → A13 → A14 → A15 → Prop) (I : A1 → A2 → A3 → A4 → A5 → A6 → A7 → A8 → A9 → A10 → A11 → A12 → A13 → A14 → A15 → Prop) (μ : A1 → A2 → A3 → A4 → A5 → A6 → A7 → A8 → A9 → A10 → A11 → A12 → A13 → A14 → A15 → Nat) (hs : ∀ (n : Nat) (a1 : A1) (a2 : A2) (a3 : A3) (a4 : A4) (a5 : A5) (a6 : A6) (a7 : A7) (a8 : A8) (a9 : A9) (a10 : A10) (a11 : A11) (a12 : A12) (a13 : A13) (a14 : A14) (a15 : A15), I a1 a2 a3 a4 a5 a6 a7 a8 a9 a10 a11 a12 a13 a14 a15 → (∀ (b1 : A1) (b2 : A2) (b3 : A3) (b4 : A4) (b5 : A5) (b6 : A6) (b7 : A7) (b8 : A8) (b9 : A9) (b10 : A10) (b11 : A11) (b12 : A12) (b13 : A13) (b14 : A14) (b15 : A15), I b1 b2 b3 b4 b5 b6 b7 b8 b9 b10 b11 b12 b13 b14 b15 → μ b1 b2 b3 b4 b5 b6 b7 b8 b9 b10 b11 b12 b13 b14 b15 < μ a1 a2 a3 a4 a5 a6 a7 a8 a9 a10 a11 a12 a13 a14 a15 → W n b1 b2 b3 b4 b5 b6 b7 b8 b9 b10 b11 b12 b13 b14 b15) → W (n + 1) a1 a2 a3 a4 a5 a6 a7 a8 a9 a10 a11 a12 a13 a14 a15) (a1 : A1) (a2 : A2) (a3 : A3) (a4 : A4) (a5 : A5) (a6 : A6) (a7 : A7) (a8 : A8) (a9 : A9) (a10 : A10) (a11 : A11) (a12 : A12) (a13 : A13) (a14 : A14) (a15 : A15) (h : I a1 a2 a3 a4 a5 a6 a7 a8 a9 a10 a11 a12 a13 a14 a15) : ∃ n, W n a1 a2 a3 a4 a5 a6 a7 a8 a9 a10 a11 a12 a13 a14 a15 :=
  loop_m (σ := A1 × A2 × A3 × A4 × A5 × A6 × A7 × A8 × A9 × A10 × A11 × A12 × A13 × A14 × A15) (fun n s => W n s.1 s.2.1 s.2.2.1 s.2.2.2.1 s.2.2.2.2.1 s.2.2.2.2.2.1 s.2.2.2.2.2.2.1 s.2.2.2.2.2.2.2.1 s.2.2.2.2.2.2.2.2.1 s.2.2.2.2.2.2.2.2.2.1 s.2.2.2.2.2.2.2.2.2.2.1 s.2.2.2.2.2.2.2.2.2.2.2.1 s.2.2.2.2.2.2.2.2.2.2.2.2.1 s.2.2.2.2.2.2.2.2.2.2.2.2.2.1 s.2.2.2.2.2.2.2.2.2.2.2.2.2.2) (fun s => I s.1 s.2.1 s.2.2.1 s.2.2.2.1 s.2.2.2.2.1 s.2.2.2.2.2.1 s.2.2.2.2.2.2.1 s.2.2.2.2.2.2.2.1 s.2.2.2.2.2.2.2.2.1 s.2.2.2.2.2.2.2.2.2.1 s.2.2.2.2.2.2.2.2.2.2.1 s.2.2.2.2.2.2.2.2.2.2.2.1 s.2.2.2.2.2.2.2.2.2.2.2.2.1 s.2.2.2.2.2.2.2.2.2.2.2.2.2.1 s.2.2.2.2.2.2.2.2.2.2.2.2.2.2) (fun s => μ s.1 s.2.1 s.2.2.1 s.2.2.2.1 s.2.2.2.2.1 s.2.2.2.2.2.1 s.2.2.2.2.2.2.1 s.2.2.2.2.2.2.2.1 s.2.2.2.2.2.2.2.2.1 s.2.2.2.2.2.2.2.2.2.1 s.2.2.2.2.2.2.2.2.2.2.1 s.2.2.2.2.2.2.2.2.2.2.2.1 s.2.2.2.2.2.2.2.2.2.2.2.2.1 s.2.2.2.2.2.2.2.2.2.2.2.2.2.1 s.2.2.2.2.2.2.2.2.2.2.2.2.2.2) (fun n s hI hk => hs n s.1 s.2.1 s.2.2.1 s.2.2.2.1 s.2.2.2.2.1 s.2.2.2.2.2.1 s.2.2.2.2.2.2.1 s.2.2.2.2.2.2.2.1 s.2.2.2.2.2.2.2.2.1 s.2.2.2.2.2.2.2.2.2.1 s.2.2.2.2.2.2.2.2.2.2.1 s.2.2.2.2.2.2.2.2.2.2.2.1 s.2.2.2.2.2.2.2.2.2.2.2.2.1 s.2.2.2.2.2.2.2.2.2.2.2.2.2.1 s.2.2.2.2.2.2.2.2.2.2.2.2.2.2 hI (fun b1 b2 b3 b4 b5 b6 b7 b8 b9 b10 b11 b12 b13 b14 b15 h9 hm => hk (b1, b2, b3, b4, b5, b6, b7, b8, b9, b10, b11, b12, b13, b14, b15) h9 hm)) (a1, a2, a3, a4, a5, a6, a7, a8, a9, a10, a11, a12, a13, a14, a15) h
theorem lp16 {A1 A2 A3 A4 A5 A6 A7 A8 A9 A10 A11 A12 A13 A14 A15 A16 : Type} (W : Nat → A1 → A2 → A3 → A4 → A5 → A6 → A7 → A8 → A9 → A10 → A11 → A12 → A13 → A14 → A15 → A16 → Prop) (I : A1 → A2 → A3 → A4 → A5 → A6 → A7 → A8 → A9 → A10 → A11 → A12 → A13 → A14 → A15 → A16 → Prop) (μ : A1 → A2 → A3 → A4 → A5 → A6 → A7 → A8 → A9 → A10 → A11 → A12 → A13 → A14 → A15 → A16 → Nat) (hs : ∀ (n : Nat) (a1 : A1) (a2 : A2) (a3 : A3) (a4 : A4) (a5 : A5) (a6 : A6) (a7 : A7) (a8 : A8) (a9 : A9) (a10 : A10) (a11 : A11) (a12 : A12) (a13 : A13) (a14 : A14) (a15 : A15) (a16 : A16), I a1 a2 a3 a4 a5 a6 a7 a8 a9 a10 a11 a12 a13 a14 a15 a16 → (∀ (b1 : A1) (b2 : A2) (b3 : A3) (b4 : A4) (b5 : A5) (b6 : A6) (b7 : A7) (b8 : A8) (b9 : A9) (b10 : A10) (b11 : A11) (b12 : A12) (b13 : A13) (b14 : A14) (b15 : A15) (b16 : A16), I b1 b2 b3 b4 b5 b6 b7 b8 b9 b10 b11 b12 b13 b14 b15 b16 → μ b1 b2 b3 b4 b5 b6 b7 b8 b9 b10 b11 b12 b13 b14 b15 b16 < μ a1 a2 a3 a4 a5 a6 a7 a8 a9 a10 a11 a12 a13 a14 a15 a16 → W n b1 b2 b3 b4 b5 b6 b7 b8 b9 b10 b11 b12 b13 b14 b15 b16) → W (n + 1) a1 a2 a3 a4 a5 a6 a7 a8 a9 a10 a11 a12 a13 a14 a15 a16) (a1 : A1) (a2 : A2) (a3 : A3) (a4 : A4) (a5 : A5) (a6 : A6) (a7 : A7) (a8 : A8) (a9 : A9) (a10 : A10) (a11 : A11) (a12 : A12) (a13 : A13) (a14 : A14) (a15 : A15) (a16 : A16) (h : I a1 a2 a3 a4 a5 a6 a7 a8 a9 a10 a11 a12 a13 a14 a15 a16) : ∃ n, W n a1 a2 a3 a4 a5 a6 a7 a8 a9 a10 a11 a12 a13 a14 a15 a16 :=
  loop_m (σ := A1 × A2 × A3 × A4 × A5 × A6 × A7 × A8 × A9 × A10 × A11 × A12 × A13 × A14 × A15 × A16) (fun n s => W n s.1 s.2.1 s.2.2.1 s.2.2.2.1 s.2.2.2.2.1 s.2.2.2.2.2.1 s.2.2.2.2.2.2.1 s.2.2.2.2.2.2.2.1 s.2.2.2.2.2.2.2.2.1 s.2.2.2.2.2.2.2.2.2.1 s.2.2.2.2.2.2.2.2.2.2.1 s.2.2.2.2.2.2.2.2.2.2.2.1 s.2.2.2.2.2.2.2.2.2.2.2.2.1 s.2.2.2.2.2.2.2.2.2.2.2.2.2.1 s.2.2.2.2.2.2.2.2.2.2.2.2.2.2.1 s.2.2.2.2.2.2.2.2.2.2.2.2.2.2.2) (fun s => I s.1 s.2.1 s.2.2.1 s.2.2.2.1 s.2.2.2.2.1 s.2.2.2.2.2.1 s.2.2.2.2.2.2.1 s.2.2.2.2.2.2.2.1 s.2.2.2.2.2.2.2.2.1 s.2.2.2.2.2.2.2.2.2.1 s.2.2.2.2.2.2.2.2.2.2.1 s.2.2.2.2.2.2.2.2.2.2.2.1 s.2.2.2.2.2.2.2.2.2.2.2.2.1 s.2.2.2.2.2.2.2.2.2.2.2.2.2.1 s.2.2.2.2.2.2.2.2.2.2.2.2.2.2.1 s.2.2.2.2.2.2.2.2.2.2.2.2.2.2.2) (fun s => μ s.1 s.2.1 s.2.2.1 s.2.2.2.1 s.2.2.2.2.1 s.2.2.2.2.2.1 s.2.2.2.2.2.2.1 s.2.2.2.2.2.2.2.1 s.2.2.2.2.2.2.2.2.1 s.2.2.2.2.2.2.2.2.2.1 s.2.2.2.2.2.2.2.2.2.2.1 s.2.2.2.2.2.2.2.2.2.2.2.1 s.2.2.2.2.2.2.2.2.2.2.2.2.1 s.2.2.2.2.2.2.2.2.2.2.2.2.2.1 s.2.2.2.2.2.2.2.2.2.2.2.2.2.2.1 s.2.2.2.2.2.2.2.2.2.2.2.2.2.2.2) (fun n s hI hk => hs n s.1 s.2.1 s.2.2.1 s.2.2.2.1 s.2.2.2.2.1 s.2.2.2.2.2.1 s.2.2.2.2.2.2.1 s.2.2.2.2.2.2.2.1 s.2.2.2.2.2.2.2.2.1 s.2.2.2.2.2.2.2.2.2.1 s.2.2.2.2.2.2.2.2.2.2.1 s.2.2.2.2.2.2.2.2.2.2.2.1 s.2.2.2.2.2.2.2.2.2.2.2.2.1 s.2.2.2.2.2.2.2.2.2.2.2.2.2.1 s.2.2.2.2.2.2.2.2.2.2.2.2.2.2.1 s.2.2.2.2.2.2.2.2.2.2.2.2.2.2.2 hI (fun b1 b2 b3 b4 b5 b6 b7 b8 b9 b10 b11 b12 b13 b14 b15 b16 h9 hm => hk (b1, b2, b3, b4, b5, b6, b7, b8, b9, b10, b11, b12, b13, b14, b15, b16) h9 hm)) (a1, a2, a3, a4, a5, a6, a7, a8, a9, a10, a11, a12, a13, a14, a15, a16) h
theorem pk_least (P : Nat → Prop) (h : ∃ k, P k) : ∃ k, P k ∧ ∀ j, j < k → ¬ P j := by
  obtain ⟨k, hk⟩ := h
  induction k using Nat.strongRecOn with
  | ind k ih =>
    by_cases e : ∃ j, j < k ∧ P j
    · obtain ⟨j, hj, pj⟩ := e
      exact ih j hj pj
    · exact ⟨k, hk, fun j hj pj => e ⟨j, hj, pj⟩⟩
theorem rp1 {ρ A1 : Type} (W : Nat → (ρ → Prop) → A1 → Prop) (ok : A1 → Prop) (μ : A1 → Nat) (val : A1 → ρ)
    (hs : ∀ (d : Nat) (post : ρ → Prop) (a1 : A1), ok a1 → post (val a1) → (∀ (post' : ρ → Prop) (b1 : A1), ok b1 → μ b1 < μ a1 → post' (val b1) → W d post' b1) → W (d + 1) post a1) :
    ∀ (d : Nat) (post : ρ → Prop) (a1 : A1), ok a1 → μ a1 < d → post (val a1) → W d post a1 := by
  intro d
  induction d with
  | zero => intro post a1 _ h; omega
  | succ d ih =>
    intro post a1 ho hm hp
    exact hs d post a1 ho hp (fun post' b1 ho' hm' hp' => ih post' b1 ho' (by omega) hp')
theorem rp2 {ρ A1 A2 : Type} (W : Nat → (ρ → Prop) → A1 → A2 → Prop) (ok : A1 → A2 → Prop) (μ : A1 → A2 → Nat) (val : A1 → A2 → ρ)
    (hs : ∀ (d : Nat) (post : ρ → Prop) (a1 : A1) (a2 : A2), ok a1 a2 → post (val a1 a2) → (∀ (post' : ρ → Prop) (b1 : A1) (b2 : A2), ok b1 b2 → μ b1 b2 < μ a1 a2 → post' (val b1 b2) → W d post' b1 b2) → W (d + 1) post a1 a2) :
    ∀ (d : Nat) (post : ρ → Prop) (a1 : A1) (a2 : A2), ok a1 a2 → μ a1 a2 < d → post (val a1 a2) → W d post a1 a2 := by
  intro d
  induction d with
  | zero => intro post a1 a2 _ h; omega
  | succ d ih =>
    intro post a1 a2 ho hm hp
    exact hs d post a1 a2 ho hp (fun post' b1 b2 ho' hm' hp' => ih post' b1 b2 ho' (by omega) hp')
theorem rp3 {ρ A1 A2 A3 : Type} (W : Nat → (ρ → Prop) → A1 → A2 → A3 → Prop) (ok : A1 → A2 → A3 → Prop) (μ : A1 → A2 → A3 → Nat) (val : A1 → A2 → A3 → ρ)
    (hs : ∀ (d : Nat) (post : ρ → Prop) (a1 : A1) (a2 : A2) (a3 : A3), ok a1 a2 a3 → post (val a1 a2 a3) → (∀ (post' : ρ → Prop) (b1 : A1) (b2 : A2) (b3 : A3), ok b1 b2 b3 → μ b1 b2 b3 < μ a1 a2 a3 → post' (val b1 b2 b3) → W d post' b1 b2 b3) → W (d + 1) post a1 a2 a3) :
    ∀ (d : Nat) (post : ρ → Prop) (a1 : A1) (a2 : A2) (a3 : A3), ok a1 a2 a3 → μ a1 a2 a3 < d → post (val a1 a2 a3) → W d post a1 a2 a3 := by
  intro d
  induction d with
  | zero => intro post a1 a2 a3 _ h; omega
  | succ d ih =>
    intro post a1 a2 a3 ho hm hp
    exact hs d post a1 a2 a3 ho hp (fun post' b1 b2 b3 ho' hm' hp' => ih post' b1 b2 b3 ho' (by omega) hp')
theorem rp4 {ρ A1 A2 A3 A4 : Type} (W : Nat → (ρ → Prop) → A1 → A2 → A3 → A4 → Prop) (ok : A1 → A2 → A3 → A4 → Prop) (μ : A1 → A2 → A3 → A4 → Nat) (val : A1 → A2 → A3 → A4 → ρ)
    (hs : ∀ (d : Nat) (post : ρ → Prop) (a1 : A1) (a2 : A2) (a3 : A3) (a4 : A4), ok a1 a2 a3 a4 → post (val a1 a2 a3 a4) → (∀ (post' : ρ → Prop) (b1 : A1) (b2 : A2) (b3 : A3) (b4 : A4), ok b1 b2 b3 b4 → μ b1 b2 b3 b4 < μ a1 a2 a3 a4 → post' (val b1 b2 b3 b4) → W d post' b1 b2 b3 b4) → W (d + 1) post a1 a2 a3 a4) :
    ∀ (d : Nat) (post : ρ → Prop) (a1 : A1) (a2 : A2) (a3 : A3) (a4 : A4), ok a1 a2 a3 a4 → μ a1 a2 a3 a4 < d → post (val a1 a2 a3 a4) → W d post a1 a2 a3 a4 := by
  intro d
  induction d with
  | zero => intro post a1 a2 a3 a4 _ h; omega
  | succ d ih =>
    intro post a1 a2 a3 a4 ho hm hp
    exact hs d post a1 a2 a3 a4 ho hp (fun post' b1 b2 b3 b4 ho' hm' hp' => ih post' b1 b2 b3 b4 ho' (by omega) hp')
theorem rp5 {ρ A1 A2 A3 A4 A5 : Type} (W : Nat → (ρ → Prop) → A1 → A2 → A3 → A4 → A5 → Prop) (ok : A1 → A2 → A3 → A4 → A5 → Prop) (μ : A1 → A2 → A3 → A4 → A5 → Nat) (val : A1 → A2 → A3 → A4 → A5 → ρ)
    (hs : ∀ (d : Nat) (post : ρ → Prop) (a1 : A1) (a2 : A2) (a3 : A3) (a4 : A4) (a5 : A5), ok a1 a2 a3 a4 a5 → post (val a1 a2 a3 a4 a5) → (∀ (post' : ρ → Prop) (b1 : A1) (b2 : A2) (b3 : A3) (b4 : A4) (b5 : A5), ok b1 b2 b3 b4 b5 → μ b1 b2 b3 b4 b5 < μ a1 a2 a3 a4 a5 → post' (val b1 b2 b3 b4 b5) → W d post' b1 b2 b3 b4 b5) → W (d + 1) post a1 a2 a3 a4 a5) :
    ∀ (d : Nat) (post : ρ → Prop) (a1 : A1) (a2 : A2) (a3 : A3) (a4 : A4) (a5 : A5), ok a1 a2 a3 a4 a5 → μ a1 a2 a3 a4 a5 < d → post (val a1 a2 a3 a4 a5) → W d post a1 a2 a3 a4 a5 := by
  intro d
  induction d with
  | zero => intro post a1 a2 a3 a4 a5 _ h; omega
  | succ d ih =>
    intro post a1 a2 a3 a4 a5 ho hm hp
    exact hs d post a1 a2 a3 a4 a5 ho hp (fun post' b1 b2 b3 b4 b5 ho' hm' hp' => ih post' b1 b2 b3 b4 b5 ho' (by omega) hp')
theorem rp6 {ρ A1 A2 A3 A4 A5 A6 : Type} (W : Nat → (ρ → Prop) → A1 → A2 → A3 → A4 → A5 → A6 → Prop) (ok : A1 → A2 → A3 → A4 → A5 → A6 → Prop) (μ : A1 → A2 → A3 → A4 → A5 → A6 → Nat) (val : A1 → A2 → A3 → A4 → A5 → A6 → ρ)
    (hs : ∀ (d : Nat) (post : ρ → Prop) (a1 : A1) (a2 : A2) (a3 : A3) (a4 : A4) (a5 : A5) (a6 : A6), ok a1 a2 a3 a4 a5 a6 → post (val a1 a2 a3 a4 a5 a6) → (∀ (post' : ρ → Prop) (b1 : A1) (b2 : A2) (b3 : A3) (b4 : A4) (b5 : A5) (b6 : A6), ok b1 b2 b3 b4 b5 b6 → μ b1 b2 b3 b4 b5 b6 < μ a1 a2 a3 a4 a5 a6 → post' (val b1 b2 b3 b4 b5 b6) → W d post' b1 b2 b3 b4 b5 b6) → W (d + 1) post a1 a2 a3 a4 a5 a6) :
    ∀ (d : Nat) (post : ρ → Prop) (a1 : A1) (a2 : A2) (a3 : A3) (a4 : A4) (a5 : A5) (a6 : A6), ok a1 a2 a3 a4 a5 a6 → μ a1 a2 a3 a4 a5 a6 < d → post (val a1 a2 a3 a4 a5 a6) → W d post a1 a2 a3 a4 a5 a6 := by
  intro d
  induction d with
  | zero => intro post a1 a2 a3 a4 a5 a6 _ h; omega
  | succ d ih =>
    intro post a1 a2 a3 a4 a5 a6 ho hm hp
    exact hs d post a1 a2 a3 a4 a5 a6 ho hp (fun post' b1 b2 b3 b4 b5 b6 ho' hm' hp' => ih post' b1 b2 b3 b4 b5 b6 ho' (by omega) hp')
theorem rec_p {σ ρ : Type} (W : Nat → (ρ → Prop) → σ → Prop) (ok : σ → Prop) (μ : σ → Nat) (val : σ → ρ)
    (hs : ∀ d s post, ok s → post (val s) → (∀ s' post', ok s' → μ s' < μ s → post' (val s') → W d post' s') → W (d + 1) post s) :
    ∀ d s post, ok s → μ s < d → post (val s) → W d post s := by
  intro d
  induction d with
  | zero => intro s post _ h; omega
  | succ d ih =>
    intro s post ho hm hp
    exact hs d s post ho hp (fun s' post' ho' hm' hp' => ih s' post' ho' (by omega) hp')
theorem rec_q {σ ρ : Type} (W : Nat → (ρ → Prop) → σ → Prop) (ok : σ → Prop) (μ : σ → Nat) (Q : σ → ρ → Prop)
    (hs : ∀ d s post, ok s → (∀ r, Q s r → post r) → (∀ s' post', ok s' → μ s' < μ s → (∀ r, Q s' r → post' r) → W d post' s') → W (d + 1) post s) :
    ∀ d s post, ok s → μ s < d → (∀ r, Q s r → post r) → W d post s := by
  intro d
  induction d with
  | zero => intro s post _ h; omega
  | succ d ih =>
    intro s post ho hm hp
    exact hs d s post ho hp (fun s' post' ho' hm' hp' => ih s' post' ho' (by omega) hp')
def bx_sum (f : Nat → Int32) : Nat → Int32
  | 0 => 0
  | n + 1 => bx_sum f n + f n
theorem ek_u {A : Prop} {B : Nat → Prop} {k N : Nat} (hk : k < N) (h : B k) : (some k = none → A) ∧ (∀ y : Nat, some k = some y → (y < N ∧ B y)) :=
  ⟨fun z => absurd z (Option.some_ne_none k), fun _ e => (by cases e; exact ⟨hk, h⟩)⟩
theorem ek_nu {A : Prop} {B : Nat → Prop} (h : A) : ((none : Option Nat) = none → A) ∧ (∀ y : Nat, (none : Option Nat) = some y → B y) :=
  ⟨fun _ => h, fun _ e => (by cases e)⟩
theorem ek_if {c d A B : Prop} (e : c ↔ d) (f : d → A) (g : ¬ d → B) : (c → A) ∧ (¬ c → B) :=
  ⟨fun z => f (e.mp z), fun z => g (fun y => z (e.mpr y))⟩
theorem ek_v {α : Sort _} {P : α → Prop} {a b : α} (e : a = b) (h : P b) : P a := e ▸ h
theorem co_some {x : Option Nat} {A : Prop} {B : Nat → Prop} (i : Nat) (h : B i) (hx : x = some i := by rfl) : (x = none → A) ∧ (∀ y : Nat, x = some y → B y) := by
  subst hx
  exact ⟨fun e => (nomatch e), fun y e => Option.some.inj e ▸ h⟩
theorem co_none {x : Option Nat} {A : Prop} {B : Nat → Prop} (h : A) (hx : x = none := by rfl) : (x = none → A) ∧ (∀ y : Nat, x = some y → B y) := by
  subst hx
  exact ⟨fun _ => h, fun y e => (nomatch e)⟩
theorem co_any {x : Option Nat} {A : Prop} {B : Nat → Prop} (hn : x = none → A) (hs : ∀ i : Nat, x = some i → B i) : (x = none → A) ∧ (∀ y : Nat, x = some y → B y) := ⟨hn, hs⟩
theorem co_2 {P : Nat → Prop} (h0 : P 0) (h1 : P 1) {i : Nat} (hi : i < 2) : P i :=
  match i, hi with
  | 0, _ => h0
  | 1, _ => h1
theorem co_3 {P : Nat → Prop} (h0 : P 0) (h1 : P 1) (h2 : P 2) {i : Nat} (hi : i < 3) : P i :=
  match i, hi with
  | 0, _ => h0
  | 1, _ => h1
  | 2, _ => h2
theorem co_4 {P : Nat → Prop} (h0 : P 0) (h1 : P 1) (h2 : P 2) (h3 : P 3) {i : Nat} (hi : i < 4) : P i :=
  match i, hi with
  | 0, _ => h0
  | 1, _ => h1
  | 2, _ => h2
  | 3, _ => h3
theorem co_dec {N : Nat} {P : Nat → Prop} [DecidablePred P] (h : (List.range N).all (fun i => decide (P i)) = true) {i : Nat} (hi : i < N) : P i := by
  have := List.all_eq_true.mp h i (List.mem_range.mpr hi)
  exact of_decide_eq_true this
theorem co_tab {α : Type} {l : List α} {d : α} {P : α → Prop} (h : ∀ a, a ∈ l → P a) {i : Nat} (hi : i < l.length) : P (l.getD i d) := by
  rw [List.getD_eq_getElem?_getD, List.getElem?_eq_getElem hi]
  exact h _ (List.getElem_mem hi)
theorem pk_mu {x : Int32} {L : Nat} (h0 : ¬ x < 0) (h : ¬ nI L ≤ x) (hL : L < 2 ^ 31) : ∃ j : Nat, j < L ∧ x = nI j ∧ x + 1 = nI (j + 1) ∧ x.toNatClampNeg = j ∧ L - (x + 1).toNatClampNeg < L - x.toNatClampNeg := by
  obtain ⟨j, hj, rfl⟩ := nI_of h0
  have hl : j < L := Nat.not_le.mp fun q => h (nI_le q hj)
  refine ⟨j, hl, rfl, nI_1 j, nI_clamp hj, ?_⟩
  rw [nI_1, nI_clamp (by omega), nI_clamp hj]
  omega
theorem op_s {α : Type} {r : Option α} {A : Prop} {B : α → Prop} {y : α} (h : r = some y) (b : B y) : (r = none → A) ∧ ∀ z, r = some z → B z :=
  ⟨fun e => (by rw [h] at e; cases e), fun z e => (by rw [h] at e; cases e; exact b)⟩
def l_holds {α : Type} (a : Nat → Option Nat) (LP : List Nat) (p : Nat → α) (c : Nat) (b : Nat → α) : Prop :=
  ∀ j, j < c → ∃ y, a j = some y ∧ y ∈ LP ∧ p y = b j
theorem l_holds_0 {α : Type} {a : Nat → Option Nat} {LP : List Nat} {p b : Nat → α} : l_holds a LP p 0 b := fun j h => absurd h (Nat.not_lt_zero j)
theorem l_in_new (LP : List Nat) (q : Nat) : q ∈ LP ++ [q] := List.mem_append.mpr (Or.inr (List.mem_singleton.mpr rfl))
def l_sum (b : Nat → Int32) : Nat → Int32
  | 0 => 0
  | k + 1 => l_sum b k + b k
theorem sb_shr0 (x : Int32) : x >>> ((0 : Int32) &&& 31) = x := by
  rw [show ((0 : Int32) &&& 31) = 0 by decide]
  simp
theorem sb_shl0 (x : Int32) : x <<< ((0 : Int32) &&& 31) = x := by
  rw [show ((0 : Int32) &&& 31) = 0 by decide]
  simp
theorem sb_cl0 : (0 : Int32).toNatClampNeg = 0 := by decide
theorem sb_m1 {p : Nat} (h : 0 < p) : nI p + (-1) = nI (p - 1) := by
  obtain ⟨q, rfl⟩ : ∃ q, p = q + 1 := ⟨p - 1, by omega⟩
  exact pk_m1 q
def sb_b (c : Nat) : Int32 := (nI c).toInt8.toInt32
theorem sb_byte : ∀ c, c < 256 → sb_b c &&& 255 = nI c ∧ ((nI c).toUInt32 % 65536).toInt32 = nI c ∧ nI c ≤ 255 := by decide +kernel
def sb_Fit (a : Nat → Int32) : Prop := ∀ j, fits .byte (.int (a j)) = true
def sb_Lat (t : Nat → Nat) (n : Nat) (a : Nat → Int32) : Prop := ∀ j, j < n → t j < 256 ∧ a j = sb_b (t j)
theorem sb_fitB (c : Nat) : fits .byte (.int (sb_b c)) = true := pk_fb _
theorem sb_fit0 : sb_Fit (fun _ => 0) := fun _ => by
  show fits .byte (.int 0) = true
  decide
theorem sb_fitU {a : Nat → Int32} {k : Nat} {x : Int32} (h : sb_Fit a) (hx : fits .byte (.int x) = true) : sb_Fit (upd a k x) := by
  intro j
  by_cases e : j = k
  · subst e
    rw [pk_us]
    exact hx
  · rw [pk_un e]
    exact h j
def sb_cat (t : Nat → Nat) (n : Nat) (s : Nat → Nat) : Nat → Nat := fun j => if j < n then t j else s (j - n)
theorem sb_cat_lo {t s : Nat → Nat} {n j : Nat} (h : j < n) : sb_cat t n s j = t j := if_pos h
theorem sb_cat_hi {t s : Nat → Nat} {n j : Nat} : sb_cat t n s (n + j) = s j := by
  show (if n + j < n then t (n + j) else s (n + j - n)) = s j
  rw [if_neg (by omega), Nat.add_sub_cancel_left]
theorem sb_latPut {t s : Nat → Nat} {n w : Nat} {a a' : Nat → Int32} (h : sb_Lat t n a) (hk : ∀ j, j < n → a' j = a j) (hs : ∀ i, i < w → s i < 256 ∧ a' (n + i) = sb_b (s i)) : sb_Lat (sb_cat t n s) (n + w) a' := by
  intro j hj
  by_cases e : j < n
  · rw [sb_cat_lo e, hk j e]
    exact h j e
  · obtain ⟨i, rfl⟩ : ∃ i, j = n + i := ⟨j - n, by omega⟩
    rw [sb_cat_hi]
    exact hs i (by omega)
theorem sb_latKeep {t : Nat → Nat} {n : Nat} {a a' : Nat → Int32} (h : sb_Lat t n a) (hk : ∀ j, j < n → a' j = a j) : sb_Lat t n a' := fun j hj => by
  rw [hk j hj]
  exact h j hj
def sb_cap (q m : Nat) : Nat := if q ≤ m then m else if 2 * m + 2 < q then q else 2 * m + 2
def sb_Room (q m mc ms : Nat) : Prop := q ≤ m ∨ (1 ≤ mc ∧ sb_cap q m ≤ ms ∧ sb_cap q m ≤ 65536)
theorem sb_cap_ge (q m : Nat) : q ≤ sb_cap q m := by
  unfold sb_cap
  split
  · omega
  · split <;> omega
theorem sb_cap_gem (q m : Nat) : m ≤ sb_cap q m := by
  unfold sb_cap
  split
  · omega
  · split <;> omega
theorem sb_cap_le {q m mc ms : Nat} (hm : m ≤ 65536) (hr : sb_Room q m mc ms) : sb_cap q m ≤ 65536 := by
  rcases hr with h | h
  · rw [sb_cap, if_pos h]
    exact hm
  · exact h.2.2
theorem sb_at {P : Int32 → Prop} {x y : Int32} (e : x = y) (h : P y) : P x := e ▸ h
def sb_dg (w : Nat) : Nat := if w < 10 then 1 else if w < 100 then 2 else if w < 1000 then 3 else if w < 10000 then 4 else if w < 100000 then 5 else if w < 1000000 then 6 else if w < 10000000 then 7 else if w < 100000000 then 8 else if w < 1000000000 then 9 else 10
def sb_dec (v : Nat) : Nat → Nat := fun i => 48 + v / 10 ^ (sb_dg v - 1 - i) % 10
theorem sb_dg_in (w : Nat) : 1 ≤ sb_dg w ∧ sb_dg w ≤ 10 := by
  unfold sb_dg
  constructor <;> (repeat' split) <;> omega
theorem sb_dg100 {w : Nat} (h : 100 ≤ w) (hw : w < 2 ^ 31) : sb_dg w = sb_dg (w / 100) + 2 := by
  rw [sb_dg, sb_dg, if_neg (show ¬ w < 10 by omega), if_neg (show ¬ w < 100 by omega)]
  by_cases h3 : w < 1000
  · rw [if_pos h3, if_pos (show w / 100 < 10 by omega)]
  rw [if_neg h3, if_neg (show ¬ w / 100 < 10 by omega)]
  by_cases h4 : w < 10000
  · rw [if_pos h4, if_pos (show w / 100 < 100 by omega)]
  rw [if_neg h4, if_neg (show ¬ w / 100 < 100 by omega)]
  by_cases h5 : w < 100000
  · rw [if_pos h5, if_pos (show w / 100 < 1000 by omega)]
  rw [if_neg h5, if_neg (show ¬ w / 100 < 1000 by omega)]
  by_cases h6 : w < 1000000
  · rw [if_pos h6, if_pos (show w / 100 < 10000 by omega)]
  rw [if_neg h6, if_neg (show ¬ w / 100 < 10000 by omega)]
  by_cases h7 : w < 10000000
  · rw [if_pos h7, if_pos (show w / 100 < 100000 by omega)]
  rw [if_neg h7, if_neg (show ¬ w / 100 < 100000 by omega)]
  by_cases h8 : w < 100000000
  · rw [if_pos h8, if_pos (show w / 100 < 1000000 by omega)]
  rw [if_neg h8, if_neg (show ¬ w / 100 < 1000000 by omega)]
  by_cases h9 : w < 1000000000
  · rw [if_pos h9, if_pos (show w / 100 < 10000000 by omega)]
  rw [if_neg h9, if_neg (show ¬ w / 100 < 10000000 by omega)]
  rw [if_pos (show w / 100 < 100000000 by omega)]
theorem sb_negT {w : Nat} (h : w < 2 ^ 31) : (-nI w).toInt = -(w : Int) := by
  rw [Int32.toInt_neg, nI_toInt h]
  exact Int.bmod_eq_of_le (by omega) (by omega)
theorem sb_nle {a b : Nat} (ha : a < 2 ^ 31) (hb : b < 2 ^ 31) : -nI a ≤ -nI b ↔ b ≤ a := by
  rw [Int32.le_iff_toInt_le, sb_negT ha, sb_negT hb]
  omega
theorem sb_nlt {a b : Nat} (ha : a < 2 ^ 31) (hb : b < 2 ^ 31) : -nI a < -nI b ↔ b < a := by
  rw [Int32.lt_iff_toInt_lt, sb_negT ha, sb_negT hb]
  omega
theorem sb_cmp {A B : Prop} {x : Int32} (v c : Nat) (f : c ≤ v → A) (g : v < c → B) (hv : v < 2 ^ 31) (hx : x = -nI c := by rfl) (hc : c < 2 ^ 31 := by omega) : (-nI v ≤ x → A) ∧ (¬ -nI v ≤ x → B) := by
  subst hx
  rw [sb_nle hv hc]
  exact ⟨f, fun z => g (by omega)⟩
theorem sb_ndiv {w : Nat} (hw : w < 2 ^ 31) : (-nI w) / 100 = -nI (w / 100) := by
  apply Int32.toInt_inj.mp
  have h100 : (100 : Int32).toInt = 100 := by decide
  rw [Int32.toInt_div, sb_negT hw, h100, sb_negT (by omega), Int.neg_tdiv, Int.tdiv_eq_ediv_of_nonneg (by omega), Int.bmod_eq_of_le (by omega) (by omega)]
  omega
theorem sb_nrem {w : Nat} (hw : w < 2 ^ 31) : (-nI (w / 100)) * 100 - (-nI w) = nI (w % 100) := by
  have h := pk_rem (a := w) (d := 100) hw (by decide) (by decide)
  rw [pk_div hw (by decide) (by decide)] at h
  rw [← h]
  show (-nI (w / 100)) * nI 100 - (-nI w) = nI w - nI (w / 100) * nI 100
  rw [Int32.neg_mul, Int32.sub_neg, Int32.add_comm, ← Int32.sub_eq_add_neg]
end
section
/-! kinds: wrapper, head, frame -/
def ka_w (k : Nat) : Bool := decide (5 ≤ k ∧ k ≤ 8)
def ka_h (k : Nat) : Bool := decide (k = 0 ∨ k = 2)
def ka_f (k : Nat) : Bool := decide (k = 3 ∨ k = 9 ∨ k = 10)
theorem ka_wi {k : Nat} : ka_w k = true ↔ 5 ≤ k ∧ k ≤ 8 := by unfold ka_w; exact decide_eq_true_iff
theorem ka_hi {k : Nat} : ka_h k = true ↔ k = 0 ∨ k = 2 := by unfold ka_h; exact decide_eq_true_iff
theorem ka_fi {k : Nat} : ka_f k = true ↔ k = 3 ∨ k = 9 ∨ k = 10 := by unfold ka_f; exact decide_eq_true_iff
theorem ka_wn {k : Nat} : ka_w k = false ↔ ¬ (5 ≤ k ∧ k ≤ 8) := by unfold ka_w; exact decide_eq_false_iff_not
theorem ka_hn {k : Nat} : ka_h k = false ↔ ¬ (k = 0 ∨ k = 2) := by unfold ka_h; exact decide_eq_false_iff_not
theorem ka_fn {k : Nat} : ka_f k = false ↔ ¬ (k = 3 ∨ k = 9 ∨ k = 10) := by unfold ka_f; exact decide_eq_false_iff_not
/-! the stack of open names, wrappers and lists; top first -/
def sk_w (K : Nat → Nat) (l : List Nat) : List Nat := l.dropWhile (fun x => ka_w (K x))
def sk_t (K : Nat → Nat) (l : List Nat) : List Nat := l.takeWhile (fun x => ka_w (K x))
def sk_c (K : Nat → Nat) : List Nat → List Nat
  | [] => []
  | s :: r => if ka_h (K s) = true then sk_w K r else s :: r
def sk_e (K : Nat → Nat) : List Nat → List Nat
  | [] => []
  | f :: r => if K f = 9 then sk_w K r else r
def sk_s (K : Nat → Nat) (i : Nat) (l : List Nat) : List Nat :=
  if K i = 1 then l else if K i = 3 then i :: l else if K i = 4 then sk_w K (sk_c K l)
  else if K i = 11 then sk_e K (sk_c K l) else i :: sk_c K l
def sk_ (K : Nat → Nat) : Nat → List Nat
  | 0 => []
  | i + 1 => sk_s K i (sk_ K i)
def fs_s (K : Nat → Nat) (i : Nat) (l : List Nat) : List Nat :=
  if ka_f (K i) = true then i :: l else if K i = 11 then l.tail else l
def fs_ (K : Nat → Nat) : Nat → List Nat
  | 0 => []
  | i + 1 => fs_s K i (fs_ K i)
def op_ (K : Nat → Nat) (i : Nat) : Nat := (fs_ K i).headD 0
/-- a part of a name ends at node i - 1 -/
def en_ (K : Nat → Nat) (i : Nat) : Prop := 0 < i ∧ (K (i - 1) ≤ 2 ∨ (K (i - 1) = 11 ∧ K (op_ K (i - 1)) = 3 ∧ op_ K (i - 1) ≠ 0))
/-- the list open at i has all that it must have -/
def eg_ (K : Nat → Nat) (i : Nat) : Prop := i - 1 ≠ op_ K i ∨ (K (op_ K i) = 10 ∧ K (op_ K i - 1) ≠ 11)
def ft_ (K : Nat → Nat) (i k v : Nat) : Prop :=
  (i = 0 ∧ k = 0) ∨ (0 < i ∧
    ((k = 1 ∧ en_ K i) ∨ (k = 3 ∧ en_ K i ∧ K (i - 1) ≠ 11) ∨ (k = 10 ∧ op_ K i = 0 ∧ en_ K i) ∨
     (k ≠ 1 ∧ k ≠ 3 ∧ k ≠ 10 ∧ op_ K i ≠ 0 ∧
       ((ka_w (K (i - 1)) = true ∧ k ≠ 11 ∧ k ≠ 6 ∧ k ≠ 7 ∧ (k ≠ 8 ∨ K (i - 1) ≠ 8)) ∨
        (ka_w (K (i - 1)) = false ∧ ((k = 11 ∧ eg_ K i) ∨ (k ≠ 11 ∧ (k ≠ 4 ∨ v ≠ 0 ∨ ¬ eg_ K i ∨ K (op_ K i) = 3))))))))
def mx_ (k : Nat) : Nat := if k = 0 ∨ k = 1 then 701 else if k = 2 then 99 else if k = 4 ∨ k = 8 then 7 else 0
def vr_ (k v : Nat) : Prop := k ≤ 11 ∧ v ≤ mx_ k ∧ (k = 8 → 1 ≤ v)
def wf_ (K V : Nat → Nat) (n : Nat) : Prop := ∀ i, i < n → vr_ (K i) (V i) ∧ ft_ K i (K i) (V i)
theorem wf_le {K V : Nat → Nat} {n m : Nat} (h : wf_ K V n) (hm : m ≤ n) : wf_ K V m := fun i hi => h i (by omega)
/-! suffixes -/
theorem sk_w_suf (K : Nat → Nat) (l : List Nat) : sk_w K l <:+ l := List.dropWhile_suffix _
theorem sk_c_suf (K : Nat → Nat) (l : List Nat) : sk_c K l <:+ l := by
  cases l with
  | nil => exact List.suffix_refl _
  | cons s r =>
    show (if ka_h (K s) = true then sk_w K r else s :: r) <:+ _
    by_cases h : ka_h (K s) = true
    · rw [if_pos h]; exact (sk_w_suf K r).trans (List.suffix_cons s r)
    · rw [if_neg h]; exact List.suffix_refl _
theorem sk_e_suf (K : Nat → Nat) (l : List Nat) : sk_e K l <:+ l := by
  cases l with
  | nil => exact List.suffix_refl _
  | cons s r =>
    show (if K s = 9 then sk_w K r else r) <:+ _
    by_cases h : K s = 9
    · rw [if_pos h]; exact (sk_w_suf K r).trans (List.suffix_cons s r)
    · rw [if_neg h]; exact List.suffix_cons s r
theorem sk_step (K : Nat → Nat) (i : Nat) : sk_ K (i + 1) <:+ sk_ K i ∨ ∃ t, sk_ K (i + 1) = i :: t ∧ t <:+ sk_ K i := by
  show sk_s K i (sk_ K i) <:+ _ ∨ ∃ t, sk_s K i (sk_ K i) = _ ∧ _
  unfold sk_s
  by_cases h1 : K i = 1
  · rw [if_pos h1]; exact Or.inl (List.suffix_refl _)
  rw [if_neg h1]
  by_cases h3 : K i = 3
  · rw [if_pos h3]; exact Or.inr ⟨_, rfl, List.suffix_refl _⟩
  rw [if_neg h3]
  by_cases h4 : K i = 4
  · rw [if_pos h4]; exact Or.inl ((sk_w_suf _ _).trans (sk_c_suf _ _))
  rw [if_neg h4]
  by_cases h5 : K i = 11
  · rw [if_pos h5]; exact Or.inl ((sk_e_suf _ _).trans (sk_c_suf _ _))
  rw [if_neg h5]; exact Or.inr ⟨_, rfl, sk_c_suf _ _⟩
theorem sk_at (K : Nat → Nat) : ∀ (i x : Nat) (r : List Nat), (x :: r) <:+ sk_ K i → x < i ∧ sk_ K (x + 1) = x :: r := by
  intro i
  induction i with
  | zero => intro x r h; exact absurd (List.suffix_nil.mp h) (by simp)
  | succ i ih =>
    intro x r h
    rcases sk_step K i with h1 | ⟨t, e, h1⟩
    · have := ih x r (h.trans h1); exact ⟨by omega, this.2⟩
    · rw [e] at h
      rcases List.suffix_cons_iff.mp h with h2 | h2
      · have hx : x = i := (List.cons.inj h2).1
        subst hx
        exact ⟨by omega, by rw [e, ← h2]⟩
      · have := ih x r (h2.trans h1); exact ⟨by omega, this.2⟩
theorem sk_mem {K : Nat → Nat} {i x : Nat} (h : x ∈ sk_ K i) : ∃ r, (x :: r) <:+ sk_ K i := by
  obtain ⟨a, b, e⟩ := List.append_of_mem h
  exact ⟨b, a, e.symm⟩
theorem sk_lt {K : Nat → Nat} {i x : Nat} (h : x ∈ sk_ K i) : x < i := by
  obtain ⟨r, h⟩ := sk_mem h; exact (sk_at K i x r h).1
theorem sk_keep {K : Nat → Nat} {x i : Nat} : ∀ {j : Nat}, x ∈ sk_ K j → x < i → i ≤ j → x ∈ sk_ K i := by
  intro j
  induction j with
  | zero => intro h; exact absurd h (by simp [sk_])
  | succ j ih =>
    intro h hx hi
    by_cases e : i = j + 1
    · subst e; exact h
    · refine ih ?_ hx (by omega)
      rcases sk_step K j with h1 | ⟨t, e1, h1⟩
      · exact h1.subset h
      · rw [e1] at h
        rcases List.mem_cons.mp h with h2 | h2
        · omega
        · exact h1.subset h2
/-- what lies below x on the stack stays -/
theorem sk_below {K : Nat → Nat} {i x y : Nat} (hx : x ∈ sk_ K i) (hy : y ∈ sk_ K (x + 1)) : y ∈ sk_ K i := by
  obtain ⟨r, h⟩ := sk_mem hx
  have := (sk_at K i x r h).2
  rw [this] at hy
  exact h.subset hy
theorem fs_tail (K : Nat → Nat) : ∀ (i f : Nat) (r : List Nat), fs_ K i = f :: r → f < i ∧ ka_f (K f) = true ∧ r = fs_ K f := by
  intro i
  induction i using Nat.strongRecOn with
  | _ i ih =>
    intro f r h
    cases i with
    | zero => exact absurd h (by simp [fs_])
    | succ i =>
      have e : fs_ K (i + 1) = fs_s K i (fs_ K i) := rfl
      rw [e] at h
      unfold fs_s at h
      by_cases h1 : ka_f (K i) = true
      · rw [if_pos h1] at h
        have h2 := List.cons.inj h
        rw [← h2.1, ← h2.2]
        exact ⟨by omega, h1, rfl⟩
      rw [if_neg h1] at h
      by_cases h2 : K i = 11
      · rw [if_pos h2] at h
        cases hq : fs_ K i with
        | nil => rw [hq] at h; exact absurd h (by simp)
        | cons g q =>
          rw [hq] at h
          have := ih i (by omega) g q hq
          have e2 : fs_ K g = f :: r := by rw [← this.2.2]; exact h
          have := ih g (by omega) f r e2
          exact ⟨by omega, this.2⟩
      · rw [if_neg h2] at h
        have := ih i (by omega) f r h
        exact ⟨by omega, this.2⟩
end
section
/-! the shape of the stack of well-formed nodes -/
def gs_1 (K : Nat → Nat) (x : Nat) (r : List Nat) : Prop :=
  (r = [] ∧ ((x = 0 ∧ K x = 0) ∨ K x = 10)) ∨
  (∃ y r', r = y :: r' ∧ ((K x = 3 ∧ ka_h (K y) = true) ∨
     ((ka_h (K x) = true ∨ ka_w (K x) = true ∨ K x = 9) ∧ (ka_f (K y) = true ∨ (ka_w (K y) = true ∧ x = y + 1)))))
def gs_ (K : Nat → Nat) : List Nat → Prop
  | [] => True
  | x :: r => gs_ K r ∧ (∀ y, y ∈ r → y < x) ∧ gs_1 K x r
theorem gs_suf {K : Nat → Nat} {l : List Nat} : ∀ {m : List Nat}, gs_ K m → l <:+ m → gs_ K l := by
  intro m
  induction m with
  | nil => intro _ h; rw [List.suffix_nil.mp h]; trivial
  | cons x r ih =>
    intro h hl
    rcases List.suffix_cons_iff.mp hl with h2 | h2
    · rw [h2]; exact h
    · exact ih h.1 h2
theorem gs_xor {k : Nat} : ka_w k = true → ka_h k = false ∧ ka_f k = false := by
  intro h; rw [ka_wi] at h; rw [ka_hn, ka_fn]; omega
theorem gs_xoh {k : Nat} : ka_h k = true → ka_w k = false ∧ ka_f k = false := by
  intro h; rw [ka_hi] at h; rw [ka_wn, ka_fn]; omega
theorem gs_xof {k : Nat} : ka_f k = true → ka_w k = false ∧ ka_h k = false := by
  intro h; rw [ka_fi] at h; rw [ka_wn, ka_hn]; omega
theorem sk_w_cons_t {K : Nat → Nat} {x : Nat} {r : List Nat} (h : ka_w (K x) = true) : sk_w K (x :: r) = sk_w K r := by
  unfold sk_w; rw [List.dropWhile_cons]; rw [if_pos h]
theorem sk_w_cons_f {K : Nat → Nat} {x : Nat} {r : List Nat} (h : ka_w (K x) = false) : sk_w K (x :: r) = x :: r := by
  unfold sk_w; rw [List.dropWhile_cons]; rw [if_neg (by rw [h]; exact Bool.false_ne_true)]
theorem sk_t_cons_t {K : Nat → Nat} {x : Nat} {r : List Nat} (h : ka_w (K x) = true) : sk_t K (x :: r) = x :: sk_t K r := by
  unfold sk_t; rw [List.takeWhile_cons]; rw [if_pos h]
theorem sk_t_cons_f {K : Nat → Nat} {x : Nat} {r : List Nat} (h : ka_w (K x) = false) : sk_t K (x :: r) = [] := by
  unfold sk_t; rw [List.takeWhile_cons]; rw [if_neg (by rw [h]; exact Bool.false_ne_true)]
theorem sk_tw (K : Nat → Nat) (l : List Nat) : sk_t K l ++ sk_w K l = l := List.takeWhile_append_dropWhile
theorem sk_c_h {K : Nat → Nat} {x : Nat} {r : List Nat} (h : ka_h (K x) = true) : sk_c K (x :: r) = sk_w K r := by
  show (if ka_h (K x) = true then sk_w K r else x :: r) = _; rw [if_pos h]
theorem sk_c_n {K : Nat → Nat} {x : Nat} {r : List Nat} (h : ka_h (K x) = false) : sk_c K (x :: r) = x :: r := by
  show (if ka_h (K x) = true then sk_w K r else x :: r) = _; rw [if_neg (by rw [h]; exact Bool.false_ne_true)]
/-- the frames of a list -/
def ff_ (K : Nat → Nat) (l : List Nat) : List Nat := l.filter (fun x => ka_f (K x))
theorem ff_t {K : Nat → Nat} {x : Nat} {r : List Nat} (h : ka_f (K x) = true) : ff_ K (x :: r) = x :: ff_ K r := by
  unfold ff_; rw [List.filter_cons, if_pos h]
theorem ff_f {K : Nat → Nat} {x : Nat} {r : List Nat} (h : ka_f (K x) = false) : ff_ K (x :: r) = ff_ K r := by
  unfold ff_; rw [List.filter_cons, if_neg (by rw [h]; exact Bool.false_ne_true)]
theorem ff_w (K : Nat → Nat) (l : List Nat) : ff_ K (sk_w K l) = ff_ K l := by
  induction l with
  | nil => rfl
  | cons x r ih =>
    cases h : ka_w (K x) with
    | true => rw [sk_w_cons_t h, ih, ff_f (gs_xor h).2]
    | false => rw [sk_w_cons_f h]
theorem ff_c (K : Nat → Nat) (l : List Nat) : ff_ K (sk_c K l) = ff_ K l := by
  cases l with
  | nil => rfl
  | cons x r =>
    cases h : ka_h (K x) with
    | true => rw [sk_c_h h, ff_w, ff_f (gs_xoh h).2]
    | false => rw [sk_c_n h]
/-- below a name, a wrapper or a FUNC the next that is no wrapper is a frame -/
theorem gs_dw {K : Nat → Nat} : ∀ (r : List Nat) (x : Nat), gs_ K (x :: r) → (ka_h (K x) = true ∨ ka_w (K x) = true ∨ K x = 9) → r ≠ [] →
    ∃ f r', sk_w K r = f :: r' ∧ ka_f (K f) = true := by
  intro r
  induction r with
  | nil => intro x _ _ h; exact absurd rfl h
  | cons y r' ih =>
    intro x hg hx _
    rcases hg.2.2 with ⟨h, _⟩ | ⟨y1, r1, e, h⟩
    · exact absurd h (by simp)
    · cases e
      rcases h with ⟨h3, _⟩ | ⟨_, hf | ⟨hw, _⟩⟩
      · exfalso
        rcases hx with h | h | h
        · rw [ka_hi] at h; omega
        · rw [ka_wi] at h; omega
        · omega
      · exact ⟨y, r', sk_w_cons_f (gs_xof hf).1, hf⟩
      · rw [sk_w_cons_t hw]
        refine ih y hg.1 (Or.inr (Or.inl hw)) ?_
        intro hr
        rcases hg.1.2.2 with ⟨_, h | h⟩ | ⟨y2, r2, e2, _⟩
        · rw [ka_wi] at hw; omega
        · rw [ka_wi] at hw; omega
        · rw [hr] at e2; exact absurd e2 (by simp)
/-- a head on top: closing it leaves nothing or a frame -/
theorem gs_ch {K : Nat → Nat} {x : Nat} {r : List Nat} (hg : gs_ K (x :: r)) (hx : ka_h (K x) = true) :
    (r = [] ∧ x = 0 ∧ sk_c K (x :: r) = []) ∨ (r ≠ [] ∧ ∃ f r', sk_c K (x :: r) = f :: r' ∧ sk_w K r = f :: r' ∧ ka_f (K f) = true) := by
  cases hr : r with
  | nil =>
    refine Or.inl ⟨rfl, ?_, by rw [sk_c_h hx]; rfl⟩
    rcases hg.2.2 with ⟨_, h | h⟩ | ⟨y1, r1, e, _⟩
    · exact h.1
    · rw [ka_hi] at hx; omega
    · rw [hr] at e; exact absurd e (by simp)
  | cons y q =>
    rw [hr] at hg
    obtain ⟨f, r', e, hf⟩ := gs_dw (y :: q) x hg (Or.inl hx) (by simp)
    exact Or.inr ⟨by simp, f, r', by rw [sk_c_h hx, e], e, hf⟩
/-- what stands on top after i nodes -/
def ts_ (K : Nat → Nat) (i : Nat) : Prop :=
  (ka_w (K (i - 1)) = true ∧ ¬ en_ K i ∧ op_ K i ≠ 0 ∧ ∃ r, sk_ K i = (i - 1) :: r) ∨
  (en_ K i ∧ ka_w (K (i - 1)) = false ∧ ∃ s r, sk_ K i = s :: r ∧ ka_h (K s) = true) ∨
  (¬ en_ K i ∧ ka_w (K (i - 1)) = false ∧ op_ K i ≠ 0 ∧ ∃ r, sk_ K i = op_ K i :: r) ∨
  (¬ en_ K i ∧ ka_w (K (i - 1)) = false ∧ op_ K i = 0 ∧ sk_ K i = [])
/-- all that holds of the stack after i nodes -/
def si_ (K : Nat → Nat) (i : Nat) : Prop := gs_ K (sk_ K i) ∧ ff_ K (sk_ K i) = fs_ K i ∧ (0 < i → ts_ K i)
theorem op_cons {K : Nat → Nat} {i f : Nat} {r : List Nat} (h : fs_ K i = f :: r) : op_ K i = f := by
  unfold op_; rw [h]; rfl
theorem op_nil {K : Nat → Nat} {i : Nat} (h : fs_ K i = []) : op_ K i = 0 := by
  unfold op_; rw [h]; rfl
theorem op_fs {K : Nat → Nat} {i : Nat} (h : op_ K i ≠ 0) : fs_ K i = op_ K i :: fs_ K (op_ K i) ∧ op_ K i < i ∧ ka_f (K (op_ K i)) = true := by
  cases e : fs_ K i with
  | nil => exact absurd (op_nil e) h
  | cons f r =>
    rw [op_cons e]
    have := fs_tail K i f r e
    exact ⟨by rw [← this.2.2], this.1, this.2.1⟩
theorem fs_op {K : Nat → Nat} {n i f : Nat} {r : List Nat} (h0 : K 0 = 0) (h : fs_ K i = f :: r) : op_ K i = f ∧ f ≠ 0 := by
  have := fs_tail K i f r h
  refine ⟨op_cons h, fun e => ?_⟩
  rw [e, h0] at this
  exact absurd this.2.1 (by decide)
theorem en_1 {K : Nat → Nat} {i : Nat} (h : K i ≤ 2) : en_ K (i + 1) := ⟨by omega, Or.inl (by rw [Nat.add_sub_cancel]; exact h)⟩
theorem en_n {K : Nat → Nat} {i : Nat} (h : 2 < K i) (h11 : K i ≠ 11) : ¬ en_ K (i + 1) := by
  intro h; have := h.2; rw [Nat.add_sub_cancel] at this; omega
theorem en_e {K : Nat → Nat} {i : Nat} (h : K i = 11) : en_ K (i + 1) ↔ K (op_ K i) = 3 ∧ op_ K i ≠ 0 := by
  unfold en_; rw [Nat.add_sub_cancel]; constructor
  · intro q; rcases q.2 with q | q
    · omega
    · exact q.2
  · intro q; exact ⟨by omega, Or.inr ⟨h, q⟩⟩
theorem op_s1 {K : Nat → Nat} {i : Nat} (h : ka_f (K i) = true) : fs_ K (i + 1) = i :: fs_ K i := by
  show fs_s K i (fs_ K i) = _; unfold fs_s; rw [if_pos h]
theorem op_s2 {K : Nat → Nat} {i : Nat} (h : K i = 11) : fs_ K (i + 1) = (fs_ K i).tail := by
  show fs_s K i (fs_ K i) = _; unfold fs_s; rw [if_neg (by rw [h]; decide), if_pos h]
theorem op_s3 {K : Nat → Nat} {i : Nat} (h : ka_f (K i) = false) (h2 : K i ≠ 11) : fs_ K (i + 1) = fs_ K i := by
  show fs_s K i (fs_ K i) = _; unfold fs_s; rw [if_neg (by rw [h]; decide), if_neg h2]
theorem op_c1 {K : Nat → Nat} {i : Nat} (h : ka_f (K i) = true) : op_ K (i + 1) = i := by rw [op_cons (op_s1 h)]
theorem op_c2 {K : Nat → Nat} {i : Nat} (h : K i = 11) (h2 : op_ K i ≠ 0) : op_ K (i + 1) = op_ K (op_ K i) := by
  show (fs_ K (i + 1)).headD 0 = _
  rw [op_s2 h, (op_fs h2).1]; rfl
theorem op_c3 {K : Nat → Nat} {i : Nat} (h : ka_f (K i) = false) (h2 : K i ≠ 11) : op_ K (i + 1) = op_ K i := by
  show (fs_ K (i + 1)).headD 0 = _
  rw [op_s3 h h2]; rfl
theorem sk_s1 {K : Nat → Nat} {i : Nat} (h : K i = 1) : sk_ K (i + 1) = sk_ K i := by
  show sk_s K i _ = _; unfold sk_s; rw [if_pos h]
theorem sk_s3 {K : Nat → Nat} {i : Nat} (h : K i = 3) : sk_ K (i + 1) = i :: sk_ K i := by
  show sk_s K i _ = _; unfold sk_s; rw [if_neg (by omega), if_pos h]
theorem sk_s4 {K : Nat → Nat} {i : Nat} (h : K i = 4) : sk_ K (i + 1) = sk_w K (sk_c K (sk_ K i)) := by
  show sk_s K i _ = _; unfold sk_s; rw [if_neg (by omega), if_neg (by omega), if_pos h]
theorem sk_s11 {K : Nat → Nat} {i : Nat} (h : K i = 11) : sk_ K (i + 1) = sk_e K (sk_c K (sk_ K i)) := by
  show sk_s K i _ = _; unfold sk_s; rw [if_neg (by omega), if_neg (by omega), if_neg (by omega), if_pos h]
theorem sk_so {K : Nat → Nat} {i : Nat} (h1 : K i ≠ 1) (h3 : K i ≠ 3) (h4 : K i ≠ 4) (h11 : K i ≠ 11) : sk_ K (i + 1) = i :: sk_c K (sk_ K i) := by
  show sk_s K i _ = _; unfold sk_s; rw [if_neg h1, if_neg h3, if_neg h4, if_neg h11]
theorem gs_lt {K : Nat → Nat} {i : Nat} {l : List Nat} (h : l <:+ sk_ K i) : ∀ y, y ∈ l → y < i := fun y hy => sk_lt (h.subset hy)
/-- closed, under an open frame: the frame is on top unless a wrapper is -/
theorem si_c {K : Nat → Nat} {i : Nat} (h0 : K 0 = 0) (h : si_ K i) (hi : 0 < i) (ho : op_ K i ≠ 0) :
    (ka_w (K (i - 1)) = true ∧ ∃ r, sk_ K i = (i - 1) :: r ∧ sk_c K (sk_ K i) = (i - 1) :: r) ∨
    (ka_w (K (i - 1)) = false ∧ ∃ r, sk_c K (sk_ K i) = op_ K i :: r) := by
  rcases h.2.2 hi with ⟨hw, _, _, r, e⟩ | ⟨he, hw, s, r, e, hs⟩ | ⟨_, hw, _, r, e⟩ | ⟨_, _, hz, _⟩
  · exact Or.inl ⟨hw, r, e, by rw [e, sk_c_n (gs_xor hw).1]⟩
  · refine Or.inr ⟨hw, ?_⟩
    have hg := h.1
    rw [e] at hg
    rcases gs_ch hg hs with ⟨hr, _, _⟩ | ⟨_, f, r', e1, e2, hf⟩
    · exfalso
      have := h.2.1
      rw [e, hr, ff_f (gs_xoh hs).2] at this
      exact ho (op_nil this.symm)
    · have := h.2.1
      rw [e, ff_f (gs_xoh hs).2, ← ff_w, e2, ff_t hf] at this
      rw [e, e1, (op_cons this.symm)]
      exact ⟨r', rfl⟩
  · exact Or.inr ⟨hw, r, by rw [e, sk_c_n (gs_xof (op_fs ho).2.2).2]⟩
  · exact absurd hz ho
end
section
/-! the shape lasts -/
theorem wf_0 {K V : Nat → Nat} {n : Nat} (h : wf_ K V n) (hn : 0 < n) : K 0 = 0 := by
  rcases (h 0 hn).2 with ⟨_, h⟩ | ⟨h, _⟩
  · exact h
  · omega
theorem ft_c {K : Nat → Nat} {i k v : Nat} (h : ft_ K i k v) (hi : 0 < i) :
    (k = 1 ∧ en_ K i) ∨ (k = 3 ∧ en_ K i ∧ K (i - 1) ≠ 11) ∨ (k = 10 ∧ op_ K i = 0 ∧ en_ K i) ∨
     (k ≠ 1 ∧ k ≠ 3 ∧ k ≠ 10 ∧ op_ K i ≠ 0 ∧
       ((ka_w (K (i - 1)) = true ∧ k ≠ 11 ∧ k ≠ 6 ∧ k ≠ 7 ∧ (k ≠ 8 ∨ K (i - 1) ≠ 8)) ∨
        (ka_w (K (i - 1)) = false ∧ ((k = 11 ∧ eg_ K i) ∨ (k ≠ 11 ∧ (k ≠ 4 ∨ v ≠ 0 ∨ ¬ eg_ K i ∨ K (op_ K i) = 3)))))) := by
  rcases h with h | h
  · omega
  · exact h.2
theorem si_0 (K : Nat → Nat) : si_ K 0 := ⟨trivial, rfl, fun h => by omega⟩
theorem si_1 {K : Nat → Nat} (h0 : K 0 = 0) : si_ K 1 := by
  have e : sk_ K 1 = [0] := by
    show sk_ K (0 + 1) = _
    rw [sk_so (by omega) (by omega) (by omega) (by omega)]; rfl
  have hf : ka_f (K 0) = false := by rw [h0]; rfl
  have e2 : fs_ K 1 = [] := by
    show fs_ K (0 + 1) = _
    rw [op_s3 hf (by omega)]; rfl
  refine ⟨?_, ?_, fun _ => Or.inr (Or.inl ⟨en_1 (by omega), by show ka_w (K 0) = false; rw [h0]; rfl, 0, [], e, by rw [h0]; rfl⟩)⟩
  · rw [e]; exact ⟨trivial, fun y hy => absurd hy (by simp), Or.inl ⟨rfl, Or.inl ⟨rfl, h0⟩⟩⟩
  · rw [e, e2, ff_f hf]; rfl
/-- a push on a closed stack under a frame -/
theorem si_push {K : Nat → Nat} {i : Nat} (h0 : K 0 = 0) (h : si_ K i) (hi : 0 < i) (ho : op_ K i ≠ 0)
    (hk : ka_h (K i) = true ∨ ka_w (K i) = true ∨ K i = 9) : gs_ K (i :: sk_c K (sk_ K i)) := by
  refine ⟨gs_suf h.1 (sk_c_suf _ _), gs_lt (sk_c_suf _ _), Or.inr ?_⟩
  rcases si_c h0 h hi ho with ⟨hw, r, _, e⟩ | ⟨hw, r, e⟩
  · rw [e]; exact ⟨_, _, rfl, Or.inr ⟨hk, Or.inr ⟨hw, by omega⟩⟩⟩
  · rw [e]; exact ⟨_, _, rfl, Or.inr ⟨hk, Or.inl (op_fs ho).2.2⟩⟩
theorem si_step {K V : Nat → Nat} {n i : Nat} (h : wf_ K V n) (hi : i < n) (s : si_ K i) : si_ K (i + 1) := by
  have h0 := wf_0 h (by omega)
  by_cases hz : i = 0
  · subst hz; exact si_1 h0
  have hp : 0 < i := by omega
  have hv := (h i hi).1
  have e1 : i + 1 - 1 = i := by omega
  rcases ft_c (h i hi).2 hp with ⟨hk, he⟩ | ⟨hk, he, _⟩ | ⟨hk, ho, he⟩ | ⟨k1, k3, k10, ho, hc⟩
  · -- MEMBER
    have hf : ka_f (K i) = false := by rw [hk]; rfl
    have es := sk_s1 hk
    refine ⟨by rw [es]; exact s.1, by rw [es, op_s3 hf (by omega)]; exact s.2.1, fun _ => Or.inr (Or.inl ⟨en_1 (by omega), by rw [e1, hk]; rfl, ?_⟩)⟩
    rw [es]
    rcases s.2.2 hp with ⟨_, hn, _⟩ | ⟨_, _, q⟩ | ⟨hn, _⟩ | ⟨hn, _⟩
    · exact absurd he hn
    · exact q
    · exact absurd he hn
    · exact absurd he hn
  · -- ARGS
    have hf : ka_f (K i) = true := by rw [hk]; rfl
    have es := sk_s3 hk
    refine ⟨?_, by rw [es, op_s1 hf, ff_t hf, s.2.1], fun _ => Or.inr (Or.inr (Or.inl ⟨en_n (by omega) (by omega), by rw [e1, hk]; rfl, by rw [op_c1 hf]; omega, sk_ K i, by rw [op_c1 hf]; exact es⟩))⟩
    rw [es]
    refine ⟨s.1, gs_lt (List.suffix_refl _), Or.inr ?_⟩
    rcases s.2.2 hp with ⟨_, hn, _⟩ | ⟨_, _, y, r, e, hy⟩ | ⟨hn, _⟩ | ⟨hn, _⟩
    · exact absurd he hn
    · exact ⟨y, r, e, Or.inl ⟨hk, hy⟩⟩
    · exact absurd he hn
    · exact absurd he hn
  · -- SIG
    have hf : ka_f (K i) = true := by rw [hk]; rfl
    have es := sk_so (K := K) (i := i) (by omega) (by omega) (by omega) (by omega)
    have ec : sk_c K (sk_ K i) = [] := by
      rcases s.2.2 hp with ⟨_, hn, _⟩ | ⟨_, _, y, r, e, hy⟩ | ⟨hn, _⟩ | ⟨hn, _⟩
      · exact absurd he hn
      · have hg := s.1
        rw [e] at hg ⊢
        rcases gs_ch hg hy with ⟨_, _, q⟩ | ⟨_, f, r', q1, q2, hf'⟩
        · exact q
        · exfalso
          have q3 := s.2.1
          rw [e, ff_f (gs_xoh hy).2, ← ff_w, q2, ff_t hf'] at q3
          have := fs_op (n := n) h0 q3.symm
          omega
      · exact absurd he hn
      · exact absurd he hn
    rw [ec] at es
    have ef : fs_ K i = [] := by
      rw [← s.2.1, ← ff_c, ec]; rfl
    refine ⟨?_, by rw [es, op_s1 hf, ff_t hf, ef]; rfl, fun _ => Or.inr (Or.inr (Or.inl ⟨en_n (by omega) (by omega), by rw [e1, hk]; rfl, by rw [op_c1 hf]; omega, [], by rw [op_c1 hf]; exact es⟩))⟩
    rw [es]; exact ⟨trivial, fun y hy => absurd hy (by simp), Or.inl ⟨rfl, Or.inr hk⟩⟩
  · -- the others stand inside a frame
    have hff := op_fs ho
    by_cases h4 : K i = 4
    · have hf : ka_f (K i) = false := by rw [h4]; rfl
      have es := sk_s4 h4
      refine ⟨by rw [es]; exact gs_suf s.1 ((sk_w_suf _ _).trans (sk_c_suf _ _)), by rw [es, op_s3 hf (by omega), ff_w, ff_c]; exact s.2.1,
        fun _ => Or.inr (Or.inr (Or.inl ⟨en_n (by omega) (by omega), by rw [e1, h4]; rfl, by rw [op_c3 hf (by omega)]; exact ho, ?_⟩))⟩
      rw [op_c3 hf (by omega), es]
      rcases si_c h0 s hp ho with ⟨hw, r, e, ec⟩ | ⟨hw, r, ec⟩
      · have hg := s.1
        rw [e] at hg
        have hr : r ≠ [] := by
          intro hr; rw [hr] at hg
          rcases hg.2.2 with ⟨_, q | q⟩ | ⟨_, _, q, _⟩
          · rw [q.1, h0] at hw; exact absurd hw (by decide)
          · rw [q] at hw; exact absurd hw (by decide)
          · exact absurd q (by simp)
        obtain ⟨f, r', q, hf'⟩ := gs_dw r (i - 1) hg (Or.inr (Or.inl hw)) hr
        have q3 := s.2.1
        rw [e, ff_f (gs_xor hw).2, ← ff_w, q, ff_t hf'] at q3
        rw [ec, sk_w_cons_t hw, q, op_cons q3.symm]
        exact ⟨r', rfl⟩
      · rw [ec, sk_w_cons_f (gs_xof hff.2.2).1]; exact ⟨r, rfl⟩
    by_cases h11 : K i = 11
    · have hw : ka_w (K (i - 1)) = false := by
        rcases hc with ⟨_, q, _⟩ | ⟨q, _⟩
        · exact absurd h11 q
        · exact q
      have es := sk_s11 h11
      rcases si_c h0 s hp ho with ⟨hw', _⟩ | ⟨_, r, ec⟩
      · rw [hw] at hw'; exact absurd hw' (by decide)
      rw [ec] at es
      have hg := gs_suf s.1 (sk_c_suf K (sk_ K i))
      rw [ec] at hg
      have e3 := s.2.1
      rw [← ff_c, ec, ff_t hff.2.2] at e3
      have e4 : fs_ K (i + 1) = ff_ K r := by rw [op_s2 h11, ← e3]; rfl
      have hwi : ka_w (K i) = false := by rw [h11]; rfl
      rcases ka_fi.mp hff.2.2 with q | q | q
      · -- ARGS
        have es' : sk_ K (i + 1) = r := by rw [es]; show (if _ then _ else _) = _; rw [if_neg (by omega)]
        refine ⟨by rw [es']; exact hg.1, by rw [es', e4], fun _ => Or.inr (Or.inl ⟨(en_e h11).mpr ⟨q, ho⟩, by rw [e1]; exact hwi, ?_⟩)⟩
        rw [es']
        rcases hg.2.2 with ⟨_, q2 | q2⟩ | ⟨y, r', q2, q3 | q3⟩
        · exact absurd q2.1 ho
        · omega
        · exact ⟨y, r', q2, q3.2⟩
        · exfalso
          rcases q3.1 with z | z | z
          · rw [q] at z; exact absurd z (by decide)
          · rw [q] at z; exact absurd z (by decide)
          · omega
      · -- FUNC
        have es' : sk_ K (i + 1) = sk_w K r := by rw [es]; show (if _ then _ else _) = _; rw [if_pos q]
        have hr : r ≠ [] := by
          intro hr
          rcases hg.2.2 with ⟨_, q2 | q2⟩ | ⟨y, r', q2, _⟩
          · exact absurd q2.1 ho
          · omega
          · rw [hr] at q2; exact absurd q2 (by simp)
        obtain ⟨f, r', q4, hf'⟩ := gs_dw r _ hg (Or.inr (Or.inr q)) hr
        have q5 : fs_ K (i + 1) = f :: ff_ K r' := by rw [e4, ← ff_w, q4, ff_t hf']
        have q6 := fs_op (n := n) h0 q5
        refine ⟨by rw [es']; exact gs_suf hg.1 (sk_w_suf _ _), by rw [es', ff_w, e4], fun _ => Or.inr (Or.inr (Or.inl ⟨fun z => ?_, by rw [e1]; exact hwi, by rw [q6.1]; exact q6.2, r', by rw [es', q6.1]; exact q4⟩))⟩
        have := (en_e h11).mp z; omega
      · -- SIG
        have es' : sk_ K (i + 1) = r := by rw [es]; show (if _ then _ else _) = _; rw [if_neg (by omega)]
        have hr : r = [] := by
          rcases hg.2.2 with ⟨q2, _⟩ | ⟨y, r', q2, q3 | q3⟩
          · exact q2
          · omega
          · exfalso
            rcases q3.1 with z | z | z
            · rw [q] at z; exact absurd z (by decide)
            · rw [q] at z; exact absurd z (by decide)
            · omega
        rw [hr] at es' e4
        refine ⟨by rw [es']; trivial, by rw [es', e4], fun _ => Or.inr (Or.inr (Or.inr ⟨fun z => ?_, by rw [e1]; exact hwi, op_nil e4, es'⟩))⟩
        have := (en_e h11).mp z; omega
    · -- NAME, PARAM, wrappers, FUNC
      have es := sk_so k1 k3 h4 h11
      have hk : ka_h (K i) = true ∨ ka_w (K i) = true ∨ K i = 9 := by
        rw [ka_hi, ka_wi]; have := hv.1; omega
      have hg := si_push h0 s hp ho hk
      refine ⟨by rw [es]; exact hg, ?_, fun _ => ?_⟩
      · cases hf : ka_f (K i) with
        | true => rw [es, op_s1 hf, ff_t hf, ff_c, s.2.1]
        | false => rw [es, op_s3 hf h11, ff_f hf, ff_c, s.2.1]
      · rcases hk with hk | hk | hk
        · refine Or.inr (Or.inl ⟨en_1 (by rw [ka_hi] at hk; omega), by rw [e1]; exact (gs_xoh hk).1, i, _, es, hk⟩)
        · refine Or.inl ⟨by rw [e1]; exact hk, en_n (by rw [ka_wi] at hk; omega) h11, by rw [op_c3 (gs_xor hk).2 h11]; exact ho, _, by rw [e1]; exact es⟩
        · have hf : ka_f (K i) = true := by rw [hk]; rfl
          refine Or.inr (Or.inr (Or.inl ⟨en_n (by omega) h11, by rw [e1, hk]; rfl, by rw [op_c1 hf]; omega, _, by rw [op_c1 hf]; exact es⟩))
theorem si_all {K V : Nat → Nat} {n : Nat} (h : wf_ K V n) : ∀ i, i ≤ n → si_ K i := by
  intro i
  induction i with
  | zero => intro _; exact si_0 K
  | succ i ih => intro hi; exact si_step h (by omega) (ih (by omega))
end
section
/-! sequences of nodes -/
def sg_ (K V : Nat → Nat) (s n : Nat) : List (Nat × Nat) := (List.range n).map (fun j => (K (s + j), V (s + j)))
theorem sg_len (K V : Nat → Nat) (s n : Nat) : (sg_ K V s n).length = n := by unfold sg_; rw [List.length_map, List.length_range]
theorem sg_0 (K V : Nat → Nat) (s : Nat) : sg_ K V s 0 = [] := rfl
theorem sg_1 (K V : Nat → Nat) (s : Nat) : sg_ K V s 1 = [(K s, V s)] := rfl
theorem sg_snoc (K V : Nat → Nat) (s n : Nat) : sg_ K V s (n + 1) = sg_ K V s n ++ [(K (s + n), V (s + n))] := by
  unfold sg_; rw [List.range_succ, List.map_append]; rfl
theorem sg_app (K V : Nat → Nat) (s n : Nat) : ∀ m, sg_ K V s (n + m) = sg_ K V s n ++ sg_ K V (s + n) m := by
  intro m
  induction m with
  | zero => rw [Nat.add_zero, sg_0, List.append_nil]
  | succ m ih => rw [← Nat.add_assoc, sg_snoc, ih, sg_snoc, List.append_assoc, Nat.add_assoc]
theorem sg_cons (K V : Nat → Nat) (s n : Nat) : sg_ K V s (n + 1) = (K s, V s) :: sg_ K V (s + 1) n := by
  rw [Nat.add_comm, sg_app, sg_1]; rfl
theorem sg_get {K V K' V' : Nat → Nat} {s s' n : Nat} (h : sg_ K V s n = sg_ K' V' s' n) : ∀ j, j < n → K (s + j) = K' (s' + j) ∧ V (s + j) = V' (s' + j) := by
  intro j hj
  have e : (sg_ K V s n)[j]? = (sg_ K' V' s' n)[j]? := by rw [h]
  unfold sg_ at e
  rw [List.getElem?_map, List.getElem?_map, List.getElem?_range hj] at e
  have := Option.some.inj e
  exact Prod.mk.inj this
theorem sg_ext {K V K' V' : Nat → Nat} {s s' n : Nat} (h : ∀ j, j < n → K (s + j) = K' (s' + j) ∧ V (s + j) = V' (s' + j)) : sg_ K V s n = sg_ K' V' s' n := by
  unfold sg_
  apply List.map_congr_left
  intro j hj
  have := h j (List.mem_range.mp hj)
  rw [this.1, this.2]
theorem sg_n {K V K' V' : Nat → Nat} {s s' n n' : Nat} (h : sg_ K V s n = sg_ K' V' s' n') : n = n' := by
  have := congrArg List.length h; rw [sg_len, sg_len] at this; exact this
/-! balance -/
def bl_1 (p : Nat × Nat) : Int := if p.1 = 11 then 1 else if ka_f p.1 = true then -1 else 0
def bl_ : List (Nat × Nat) → Int
  | [] => 0
  | p :: r => bl_1 p + bl_ r
theorem bl_app (a b : List (Nat × Nat)) : bl_ (a ++ b) = bl_ a + bl_ b := by
  induction a with
  | nil => show bl_ b = 0 + bl_ b; omega
  | cons p r ih => show bl_1 p + bl_ (r ++ b) = bl_1 p + bl_ r + bl_ b; rw [ih]; omega
def bq_s (w : List (Nat × Nat)) : Prop := ∀ X u, w = X ++ u → 0 ≤ bl_ u
def bq_l (w : List (Nat × Nat)) : Prop := bl_ w = 0 ∧ bq_s w ∧ (∀ X p, w = X ++ [p] → ka_w p.1 = false)
def bq_k (k : Nat) : Prop := k ≠ 1 ∧ k ≠ 3 ∧ k ≠ 10 ∧ k ≠ 11
def bq_z (w : List (Nat × Nat)) : Prop := ∀ X p u, w = X ++ p :: u → bq_k p.1 → bl_ (p :: u) = 0 → ∀ x, x ∈ X → ka_w x.1 = true
def bq_t (w : List (Nat × Nat)) : Prop := bq_l w ∧ (∃ p u, w = p :: u ∧ bq_k p.1) ∧ bq_z w
def bq_n (w : List (Nat × Nat)) : Prop := ∃ p u, w = p :: u ∧ ka_h p.1 = true
theorem bq_sapp {a b : List (Nat × Nat)} (ha : bq_s a) (hb : bq_s b) : bq_s (a ++ b) := by
  intro X u h
  rcases List.append_eq_append_iff.mp h with ⟨c, _, e⟩ | ⟨c, e1, e2⟩
  · exact hb c u e
  · rw [e2, bl_app]
    have h1 := ha X c e1
    have h2 := hb [] b rfl
    omega
theorem bq_lapp {a b : List (Nat × Nat)} (ha : bq_l a) (hb : bq_l b) (hne : b ≠ []) : bq_l (a ++ b) := by
  refine ⟨by rw [bl_app, ha.1, hb.1]; rfl, bq_sapp ha.2.1 hb.2.1, ?_⟩
  intro X p h
  rcases List.append_eq_append_iff.mp h with ⟨c, _, e⟩ | ⟨c, e1, e2⟩
  · exact hb.2.2 c p e
  · cases c with
    | nil => exact hb.2.2 [] p (by rw [← List.nil_append b]; exact e2.symm)
    | cons q c =>
      exfalso
      have := congrArg List.length e2
      rw [List.length_append] at this
      have h3 : b.length = 0 := by simp at this; omega
      exact hne (List.length_eq_zero_iff.mp h3)
theorem bq_nil : bq_l [] := by
  refine ⟨rfl, ?_, ?_⟩
  · intro X u h
    have := (List.append_eq_nil_iff.mp h.symm).2
    rw [this]; exact Int.le_refl 0
  · intro X p h
    exact absurd (List.append_eq_nil_iff.mp h.symm).2 (by simp)
/-- one node that is neither an opener nor END nor a wrapper -/
theorem bq_one {p : Nat × Nat} (h1 : p.1 ≠ 11) (h2 : ka_f p.1 = false) (h3 : ka_w p.1 = false) : bq_l [p] := by
  have e : bl_1 p = 0 := by unfold bl_1; rw [if_neg h1, if_neg (by rw [h2]; decide)]
  have e1 : bl_ [p] = 0 := by show bl_1 p + 0 = 0; omega
  refine ⟨e1, ?_, ?_⟩
  · intro X u h
    cases X with
    | nil => have : u = [p] := h.symm; rw [this, e1]; exact Int.le_refl 0
    | cons q X =>
      have := (List.cons.inj h).2
      rw [(List.append_eq_nil_iff.mp this.symm).2]; exact Int.le_refl 0
  · intro X q h
    cases X with
    | nil => have := (List.cons.inj h).1; rw [← this]; exact h3
    | cons q' X =>
      have := (List.cons.inj h).2
      exact absurd (List.append_eq_nil_iff.mp this.symm).2 (by simp)
/-- inside brackets: a proper suffix is above nought -/
theorem bq_in {l X u : List (Nat × Nat)} {p : Nat × Nat} (hl : bq_s l) (h : l ++ [((11 : Nat), (0 : Nat))] = X ++ p :: u) : 1 ≤ bl_ (p :: u) := by
  rcases List.append_eq_append_iff.mp h with ⟨c, _, e⟩ | ⟨c, e1, e2⟩
  · cases c with
    | nil => have := e.symm; rw [List.nil_append] at this; rw [this]; exact Int.le_refl 1
    | cons q c =>
      have := (List.cons.inj e).2
      exact absurd (List.append_eq_nil_iff.mp this.symm).2 (by simp)
  · rw [e2, bl_app]
    have := hl X c e1
    have e3 : bl_ [((11 : Nat), (0 : Nat))] = 1 := rfl
    omega
/-- a bracketed list -/
theorem bq_br {l : List (Nat × Nat)} {k : Nat} (hk : ka_f k = true) (hl : bq_l l) : bq_l ((k, 0) :: (l ++ [((11 : Nat), (0 : Nat))])) := by
  have e : bl_1 (k, 0) = -1 := by
    unfold bl_1
    have h11 : k ≠ 11 := by rw [ka_fi] at hk; omega
    rw [if_neg h11, if_pos hk]
  have e1 : bl_ ((k, 0) :: (l ++ [((11 : Nat), (0 : Nat))])) = 0 := by
    show bl_1 (k, 0) + bl_ (l ++ [(11, 0)]) = 0
    rw [bl_app, hl.1, e]; rfl
  refine ⟨e1, ?_, ?_⟩
  · intro X u h
    cases X with
    | nil => have : u = _ := h.symm; rw [this, e1]; exact Int.le_refl 0
    | cons q X =>
      cases u with
      | nil => exact Int.le_refl 0
      | cons p u =>
        have := bq_in hl.2.1 (List.cons.inj h).2
        omega
  · intro X p h
    rw [← List.cons_append] at h
    have := (List.append_singleton_inj.mp h).2
    rw [← this]; rfl
theorem bq_t1 {k v : Nat} (hk : k = 0 ∨ k = 2 ∨ k = 4) : bq_t [(k, v)] := by
  refine ⟨bq_one ?_ ?_ ?_, ⟨_, _, rfl, ?_⟩, ?_⟩
  · show k ≠ 11; omega
  · show ka_f k = false; rw [ka_fn]; omega
  · show ka_w k = false; rw [ka_wn]; omega
  · show bq_k k; unfold bq_k; omega
  · intro X p u h _ _ x hx
    cases X with
    | nil => exact absurd hx (by simp)
    | cons q X =>
      have := (List.cons.inj h).2
      exact absurd (List.append_eq_nil_iff.mp this.symm).2 (by simp)
theorem bq_tn {w : List (Nat × Nat)} (h : bq_t w) : w ≠ [] := by
  obtain ⟨p, u, e, _⟩ := h.2.1; rw [e]; simp
/-- a type goes on with something that is in balance and begins with no starter at its own level -/
theorem bq_ta {w e : List (Nat × Nat)} (hw : bq_t w) (he : bq_l e) (hne : e ≠ [])
    (hz : ∀ X p u, e = X ++ p :: u → bq_k p.1 → bl_ (p :: u) = 0 → False) : bq_t (w ++ e) := by
  refine ⟨bq_lapp hw.1 he hne, ?_, ?_⟩
  · obtain ⟨p, u, e1, hp⟩ := hw.2.1
    exact ⟨p, u ++ e, by rw [e1]; rfl, hp⟩
  · intro X p u h hp hb x hx
    rcases List.append_eq_append_iff.mp h with ⟨c, _, e1⟩ | ⟨c, e1, e2⟩
    · exact absurd (hz c p u e1 hp hb) id
    · cases c with
      | nil => exact absurd (hz [] p u (by rw [List.nil_append]; rw [List.nil_append] at e2; exact e2.symm) hp hb) id
      | cons q c =>
        have e3 := List.cons.inj e2
        rw [e3.2] at hb
        have e4 : bl_ (q :: c) = 0 := by
          have : bl_ (p :: (c ++ e)) = bl_ (p :: c) + bl_ e := bl_app (p :: c) e
          rw [← e3.1]
          rw [show bl_ (p :: (c ++ e)) = 0 from hb, he.1] at this
          have h0 : bl_ (p :: c) + 0 = bl_ (p :: c) := Int.add_zero _
          rw [h0] at this
          exact this.symm
        rw [e3.1] at hp
        exact hw.2.2 X q c e1 hp e4 x hx
theorem bq_tm {w : List (Nat × Nat)} {v : Nat} (hw : bq_t w) : bq_t (w ++ [(1, v)]) := by
  refine bq_ta hw (bq_one (by show (1 : Nat) ≠ 11; decide) rfl rfl) (by simp) ?_
  intro X p u h hp _
  cases X with
  | nil => have := (List.cons.inj h).1; rw [← this] at hp; exact hp.1 rfl
  | cons q X => exact absurd (List.append_eq_nil_iff.mp (List.cons.inj h).2.symm).2 (by simp)
theorem bq_tg {w l : List (Nat × Nat)} (hw : bq_t w) (hl : bq_l l) : bq_t (w ++ (3, 0) :: (l ++ [(11, 0)])) := by
  refine bq_ta hw (bq_br rfl hl) (by simp) ?_
  intro X p u h hp hb
  cases X with
  | nil => have := (List.cons.inj h).1; rw [← this] at hp; exact hp.2.1 rfl
  | cons q X => have := bq_in hl.2.1 (List.cons.inj h).2; omega
theorem bq_tf {l : List (Nat × Nat)} (hl : bq_l l) : bq_t ((9, 0) :: (l ++ [(11, 0)])) := by
  refine ⟨bq_br rfl hl, ⟨_, _, rfl, by unfold bq_k; decide⟩, ?_⟩
  intro X p u h hp hb x hx
  cases X with
  | nil => exact absurd hx (by simp)
  | cons q X => have := bq_in hl.2.1 (List.cons.inj h).2; omega
theorem bq_tw {w : List (Nat × Nat)} {k v : Nat} (hk : ka_w k = true) (hw : bq_t w) : bq_t ((k, v) :: w) := by
  have h0 : bl_1 (k, v) = 0 := by
    unfold bl_1
    have h11 : k ≠ 11 := by rw [ka_wi] at hk; omega
    rw [if_neg h11, if_neg (by rw [(gs_xor hk).2]; decide)]
  refine ⟨⟨by show bl_1 (k, v) + bl_ w = 0; rw [h0, hw.1.1]; rfl, ?_, ?_⟩, ⟨_, _, rfl, by rw [ka_wi] at hk; show bq_k k; unfold bq_k; omega⟩, ?_⟩
  · intro X u h
    cases X with
    | nil => have : u = _ := h.symm; rw [this]; show 0 ≤ bl_1 (k, v) + bl_ w; rw [h0, hw.1.1]; decide
    | cons q X => exact hw.1.2.1 X u (List.cons.inj h).2
  · intro X p h
    cases X with
    | nil => exact absurd (List.cons.inj h).2 (bq_tn hw)
    | cons q X => exact hw.1.2.2 X p (List.cons.inj h).2
  · intro X p u h hp hb x hx
    cases X with
    | nil => exact absurd hx (by simp)
    | cons q X =>
      rcases List.mem_cons.mp hx with e | hx
      · rw [e, ← (List.cons.inj h).1]; exact hk
      · exact hw.2.2 X p u (List.cons.inj h).2 hp hb x hx
/-- the last arguments of a name -/
theorem bq_ig {w w' l l' : List (Nat × Nat)} (hl : bq_l l) (hl' : bq_l l')
    (h : w ++ (3, 0) :: (l ++ [(11, 0)]) = w' ++ (3, 0) :: (l' ++ [(11, 0)])) : w = w' ∧ l = l' := by
  have h2 : (w ++ (3, 0) :: l) ++ [((11 : Nat), (0 : Nat))] = (w' ++ (3, 0) :: l') ++ [(11, 0)] := by
    rw [List.append_assoc, List.append_assoc]; exact h
  have h3 := (List.append_singleton_inj.mp h2).1
  have key : ∀ {a b : List (Nat × Nat)}, bq_l a → bq_l b → ∀ c, ((3 : Nat), (0 : Nat)) :: a = c ++ (3, 0) :: b → c = [] := by
    intro a b ha hb c e
    cases c with
    | nil => rfl
    | cons q c =>
      exfalso
      have := ha.2.1 c ((3, 0) :: b) (List.cons.inj e).2
      have e2 : bl_ ((3, 0) :: b) = -1 := by show bl_1 (3, 0) + bl_ b = -1; rw [hb.1]; rfl
      omega
  rcases List.append_eq_append_iff.mp h3 with ⟨c, e1, e2⟩ | ⟨c, e1, e2⟩
  · have hc := key hl hl' c e2
    rw [hc] at e1 e2
    exact ⟨by rw [e1, List.append_nil], (List.cons.inj e2).2⟩
  · have hc := key hl' hl c e2
    rw [hc] at e1 e2
    exact ⟨by rw [e1, List.append_nil], (List.cons.inj e2).2.symm⟩
/-- the last type of a list -/
theorem bq_il {t t' l l' : List (Nat × Nat)} (hl : bq_l l) (hl' : bq_l l') (ht : bq_t t) (ht' : bq_t t')
    (h : l ++ t = l' ++ t') : l = l' ∧ t = t' := by
  have key : ∀ {a b c d : List (Nat × Nat)}, bq_l b → bq_t c → bq_t d → ∀ e, b = a ++ e → c = e ++ d → e = [] := by
    intro a b c d hb hc hd e e1 e2
    apply Classical.byContradiction
    intro hne
    obtain ⟨p, u, e3, hp⟩ := hd.2.1
    rw [e3] at e2
    have e4 : bl_ (p :: u) = 0 := by rw [← e3]; exact hd.1.1
    have h5 := hc.2.2 e p u e2 hp e4
    have e6 : e = e.dropLast ++ [e.getLast hne] := (List.dropLast_concat_getLast hne).symm
    have h7 := h5 (e.getLast hne) (List.getLast_mem hne)
    have h8 := hb.2.2 (a ++ e.dropLast) (e.getLast hne) (by rw [e1, List.append_assoc, ← e6])
    rw [h7] at h8
    exact absurd h8 (by decide)
  rcases List.append_eq_append_iff.mp h with ⟨c, e1, e2⟩ | ⟨c, e1, e2⟩
  · have hc := key hl' ht ht' c e1 e2
    rw [hc] at e1 e2
    exact ⟨by rw [e1, List.append_nil], e2⟩
  · have hc := key hl ht' ht c e1 e2
    rw [hc] at e1 e2
    exact ⟨by rw [e1, List.append_nil], e2.symm⟩
end
section
/-! cells: what a key stands for -/
def lq_ (cs : Nat → List (Nat × Nat)) (l : Nat) : List (Nat × Nat) := if l = 0 then [] else cs (l - 1)
def bd_ (cs : Nat → List (Nat × Nat)) (o l r : Nat) : List (Nat × Nat) :=
  if o = 11 then lq_ cs l ++ lq_ cs r
  else if o = 3 then lq_ cs r ++ (3, 0) :: (lq_ cs l ++ [(11, 0)])
  else if o = 9 then (9, 0) :: (lq_ cs l ++ [(11, 0)])
  else if o = 1 then lq_ cs r ++ [(1, l - 1)]
  else (o, l - 1) :: lq_ cs r
def vd_ (n : Nat) (cs : Nat → List (Nat × Nat)) (cl : Nat → Bool) (o l r : Nat) : Prop :=
  (o = 11 ∧ (l = 0 ∨ (l ≤ n ∧ cl (l - 1) = true)) ∧ 0 < r ∧ r ≤ n ∧ cl (r - 1) = false) ∨
  (o = 3 ∧ 0 < l ∧ l ≤ n ∧ cl (l - 1) = true ∧ 0 < r ∧ r ≤ n ∧ cl (r - 1) = false ∧ bq_n (cs (r - 1))) ∨
  (o = 9 ∧ 0 < l ∧ l ≤ n ∧ cl (l - 1) = true ∧ r = 0) ∨
  (o = 1 ∧ 0 < l ∧ 0 < r ∧ r ≤ n ∧ cl (r - 1) = false ∧ bq_n (cs (r - 1))) ∨
  (ka_w o = true ∧ 0 < l ∧ 0 < r ∧ r ≤ n ∧ cl (r - 1) = false) ∨
  ((o = 0 ∨ o = 2 ∨ o = 4) ∧ 0 < l ∧ r = 0)
def gc_ (n : Nat) (cs : Nat → List (Nat × Nat)) (cl : Nat → Bool) : Prop :=
  ∀ c, c < n → (cl c = true → bq_l (cs c) ∧ cs c ≠ []) ∧ (cl c = false → bq_t (cs c))
def ij_ (n : Nat) (cs : Nat → List (Nat × Nat)) (cl : Nat → Bool) : Prop :=
  ∀ c c', c < n → c' < n → cl c = cl c' → cs c = cs c' → c = c'
section
variable {n : Nat} {cs : Nat → List (Nat × Nat)} {cl : Nat → Bool}
theorem lq_p {l : Nat} (h : 0 < l) : lq_ cs l = cs (l - 1) := by unfold lq_; rw [if_neg (by omega)]
theorem lq_z : lq_ cs 0 = [] := rfl
theorem bd_11 {l r : Nat} : bd_ cs 11 l r = lq_ cs l ++ lq_ cs r := rfl
theorem bd_3 {l r : Nat} : bd_ cs 3 l r = lq_ cs r ++ (3, 0) :: (lq_ cs l ++ [(11, 0)]) := rfl
theorem bd_9 {l r : Nat} : bd_ cs 9 l r = (9, 0) :: (lq_ cs l ++ [(11, 0)]) := rfl
theorem bd_1 {l r : Nat} : bd_ cs 1 l r = lq_ cs r ++ [(1, l - 1)] := rfl
theorem bd_o {o l r : Nat} (h1 : o ≠ 1) (h3 : o ≠ 3) (h9 : o ≠ 9) (h11 : o ≠ 11) : bd_ cs o l r = (o, l - 1) :: lq_ cs r := by
  unfold bd_; rw [if_neg h11, if_neg h3, if_neg h9, if_neg h1]
theorem bd_l {l : Nat} (g : gc_ n cs cl) (h : l ≤ n ∧ cl (l - 1) = true) (h0 : 0 < l) : bq_l (lq_ cs l) ∧ lq_ cs l ≠ [] := by
  rw [lq_p h0]; exact (g (l - 1) (by omega)).1 h.2
theorem bd_l0 {l : Nat} (g : gc_ n cs cl) (h : l = 0 ∨ (l ≤ n ∧ cl (l - 1) = true)) : bq_l (lq_ cs l) := by
  by_cases h0 : l = 0
  · rw [h0]; exact bq_nil
  · rcases h with h | h
    · exact absurd h h0
    · exact (bd_l g h (by omega)).1
theorem bd_r {r : Nat} (g : gc_ n cs cl) (h : 0 < r) (hn : r ≤ n) (hc : cl (r - 1) = false) : bq_t (lq_ cs r) := by
  rw [lq_p h]; exact (g (r - 1) (by omega)).2 hc
theorem bd_wo {o : Nat} (h : ka_w o = true) : o ≠ 1 ∧ o ≠ 3 ∧ o ≠ 9 ∧ o ≠ 11 := by rw [ka_wi] at h; omega
theorem bd_good {o l r : Nat} (g : gc_ n cs cl) (h : vd_ n cs cl o l r) :
    (o = 11 → bq_l (bd_ cs o l r) ∧ bd_ cs o l r ≠ []) ∧ (o ≠ 11 → bq_t (bd_ cs o l r)) := by
  rcases h with ⟨e, hl, hr, hn, hc⟩ | ⟨e, h0, h1, h2, hr, hn, hc, hq⟩ | ⟨e, h0, h1, h2, hr⟩ | ⟨e, h0, hr, hn, hc, hq⟩ | ⟨e, h0, hr, hn, hc⟩ | ⟨e, h0, hr⟩
  · subst e
    refine ⟨fun _ => ?_, fun z => absurd rfl z⟩
    have := bd_r g hr hn hc
    rw [bd_11]
    exact ⟨bq_lapp (bd_l0 g hl) this.1 (bq_tn this), fun z => bq_tn this (List.append_eq_nil_iff.mp z).2⟩
  · subst e
    exact ⟨fun z => absurd z (by decide), fun _ => bq_tg (bd_r g hr hn hc) (bd_l g ⟨h1, h2⟩ h0).1⟩
  · subst e
    exact ⟨fun z => absurd z (by decide), fun _ => bq_tf (bd_l g ⟨h1, h2⟩ h0).1⟩
  · subst e
    exact ⟨fun z => absurd z (by decide), fun _ => bq_tm (bd_r g hr hn hc)⟩
  · have hw := bd_wo e
    refine ⟨fun z => absurd z hw.2.2.2, fun _ => ?_⟩
    rw [bd_o hw.1 hw.2.1 hw.2.2.1 hw.2.2.2]
    exact bq_tw e (bd_r g hr hn hc)
  · refine ⟨fun z => by omega, fun _ => ?_⟩
    rw [bd_o (by omega) (by omega) (by omega) (by omega), hr]
    exact bq_t1 e
/-- the first node tells the kind of key: a name's is a head -/
theorem bd_hd {o l r : Nat} (h : vd_ n cs cl o l r) (h11 : o ≠ 11) :
    ((o = 0 ∨ o = 1 ∨ o = 2 ∨ o = 3) ∧ bq_n (bd_ cs o l r)) ∨ (ka_h o = false ∧ o ≠ 1 ∧ o ≠ 3 ∧ ∃ u v, bd_ cs o l r = (o, v) :: u) := by
  rcases h with ⟨e, _⟩ | ⟨e, h0, h1, h2, hr, hn, hc, p, u, hq, hp⟩ | ⟨e, h0, h1, h2, hr⟩ | ⟨e, h0, hr, hn, hc, p, u, hq, hp⟩ | ⟨e, h0, hr, hn, hc⟩ | ⟨e, h0, hr⟩
  · exact absurd e h11
  · subst e
    exact Or.inl ⟨by omega, p, _, by rw [bd_3, lq_p hr, hq]; rfl, hp⟩
  · subst e
    exact Or.inr ⟨rfl, by decide, by decide, _, _, rfl⟩
  · subst e
    exact Or.inl ⟨by omega, p, _, by rw [bd_1, lq_p hr, hq]; rfl, hp⟩
  · have hw := bd_wo e
    exact Or.inr ⟨(gs_xor e).1, hw.1, hw.2.1, _, _, bd_o hw.1 hw.2.1 hw.2.2.1 hw.2.2.2⟩
  · by_cases h4 : o = 4
    · subst h4; exact Or.inr ⟨rfl, by decide, by decide, _, _, rfl⟩
    · exact Or.inl ⟨by omega, (o, l - 1), _, bd_o (by omega) (by omega) (by omega) (by omega), by show ka_h o = true; rw [ka_hi]; omega⟩
theorem ij_l {l l' : Nat} (g : gc_ n cs cl) (j : ij_ n cs cl) (h : l = 0 ∨ (l ≤ n ∧ cl (l - 1) = true)) (h' : l' = 0 ∨ (l' ≤ n ∧ cl (l' - 1) = true))
    (e : lq_ cs l = lq_ cs l') : l = l' := by
  by_cases h0 : l = 0
  · by_cases h1 : l' = 0
    · omega
    · exfalso
      rcases h' with h' | h'
      · exact h1 h'
      · refine (bd_l g h' (by omega)).2 ?_
        rw [← e, h0]; rfl
  · rcases h with h | h
    · exact absurd h h0
    by_cases h1 : l' = 0
    · exfalso
      refine (bd_l g h (by omega)).2 ?_
      rw [e, h1]; rfl
    · rcases h' with h' | h'
      · exact absurd h' h1
      rw [lq_p (by omega), lq_p (by omega)] at e
      have := j (l - 1) (l' - 1) (by omega) (by omega) (by rw [h.2, h'.2]) e
      omega
theorem ij_r {r r' : Nat} (j : ij_ n cs cl) (h : 0 < r) (hn : r ≤ n) (hc : cl (r - 1) = false) (h' : 0 < r') (hn' : r' ≤ n) (hc' : cl (r' - 1) = false)
    (e : lq_ cs r = lq_ cs r') : r = r' := by
  rw [lq_p h, lq_p h'] at e
  have := j (r - 1) (r' - 1) (by omega) (by omega) (by rw [hc, hc']) e
  omega
theorem bd_nm {o l r : Nat} (h : vd_ n cs cl o l r) (h11 : o = 0 ∨ o = 1 ∨ o = 2 ∨ o = 3) :
    ((o = 0 ∨ o = 2) ∧ 0 < l ∧ r = 0 ∧ bd_ cs o l r = [(o, l - 1)]) ∨
    (o = 1 ∧ 0 < l ∧ 0 < r ∧ r ≤ n ∧ cl (r - 1) = false ∧ lq_ cs r ≠ [] ∧ bd_ cs o l r = lq_ cs r ++ [(1, l - 1)]) ∨
    (o = 3 ∧ 0 < l ∧ l ≤ n ∧ cl (l - 1) = true ∧ 0 < r ∧ r ≤ n ∧ cl (r - 1) = false ∧ lq_ cs r ≠ [] ∧ bd_ cs o l r = lq_ cs r ++ (3, 0) :: (lq_ cs l ++ [(11, 0)])) := by
  rcases h with ⟨e, _⟩ | ⟨e, h0, h1, h2, hr, hn, hc, p, u, hq, hp⟩ | ⟨e, h0, h1, h2, hr⟩ | ⟨e, h0, hr, hn, hc, p, u, hq, hp⟩ | ⟨e, h0, hr, hn, hc⟩ | ⟨e, h0, hr⟩
  · omega
  · exact Or.inr (Or.inr ⟨e, h0, h1, h2, hr, hn, hc, by rw [lq_p hr, hq]; simp, by rw [e]; rfl⟩)
  · omega
  · exact Or.inr (Or.inl ⟨e, h0, hr, hn, hc, by rw [lq_p hr, hq]; simp, by rw [e]; rfl⟩)
  · rw [ka_wi] at e; omega
  · exact Or.inl ⟨by omega, h0, hr, by rw [bd_o (by omega) (by omega) (by omega) (by omega), hr]; rfl⟩
theorem bq_sne {a : List (Nat × Nat)} {p q : Nat × Nat} (h : a ≠ []) (e : [p] = a ++ [q]) : False := by
  have h2 : ([] ++ [p] : List (Nat × Nat)) = a ++ [q] := e
  exact h (List.append_singleton_inj.mp h2).1.symm
theorem bd_inj {o l r o' l' r' : Nat} (g : gc_ n cs cl) (j : ij_ n cs cl) (h : vd_ n cs cl o l r) (h' : vd_ n cs cl o' l' r')
    (hc : o = 11 ↔ o' = 11) (e : bd_ cs o l r = bd_ cs o' l' r') : o = o' ∧ l = l' ∧ r = r' := by
  by_cases h11 : o = 11
  · have h11' := hc.mp h11
    subst h11; subst h11'
    have a : (l = 0 ∨ (l ≤ n ∧ cl (l - 1) = true)) ∧ 0 < r ∧ r ≤ n ∧ cl (r - 1) = false := by
      rcases h with z | z | z | z | z | z
      · exact z.2
      · omega
      · omega
      · omega
      · exact absurd z.1 (by decide)
      · omega
    have a' : (l' = 0 ∨ (l' ≤ n ∧ cl (l' - 1) = true)) ∧ 0 < r' ∧ r' ≤ n ∧ cl (r' - 1) = false := by
      rcases h' with z | z | z | z | z | z
      · exact z.2
      · omega
      · omega
      · omega
      · exact absurd z.1 (by decide)
      · omega
    have q := bq_il (bd_l0 g a.1) (bd_l0 g a'.1) (bd_r g a.2.1 a.2.2.1 a.2.2.2) (bd_r g a'.2.1 a'.2.2.1 a'.2.2.2) e
    exact ⟨rfl, ij_l g j a.1 a'.1 q.1, ij_r j a.2.1 a.2.2.1 a.2.2.2 a'.2.1 a'.2.2.1 a'.2.2.2 q.2⟩
  have h11' : o' ≠ 11 := fun z => h11 (hc.mpr z)
  rcases bd_hd h h11 with ⟨ho, p, u, e1, hp⟩ | ⟨ho, ho1, ho3, u, v, e1⟩
  · rcases bd_hd h' h11' with ⟨ho', p', u', e1', hp'⟩ | ⟨ho', ho1', ho3', u', v', e1'⟩
    · rcases bd_nm h ho with ⟨a, b, c, d⟩ | ⟨a, b, c, c1, c2, c3, d⟩ | ⟨a, b, b1, b2, c, c1, c2, c3, d⟩
      · rcases bd_nm h' ho' with ⟨a', b', c', d'⟩ | ⟨a', b', c', c1', c2', c3', d'⟩ | ⟨a', b', b1', b2', c', c1', c2', c3', d'⟩
        · rw [d, d'] at e
          have := Prod.mk.inj (List.cons.inj e).1
          exact ⟨this.1, by omega, by omega⟩
        · rw [d, d'] at e; exact absurd (bq_sne c3' e) id
        · rw [d, d'] at e
          rw [← List.cons_append, ← List.append_assoc] at e
          exact absurd (bq_sne (by simp) e) id
      · rcases bd_nm h' ho' with ⟨a', b', c', d'⟩ | ⟨a', b', c', c1', c2', c3', d'⟩ | ⟨a', b', b1', b2', c', c1', c2', c3', d'⟩
        · rw [d, d'] at e; exact absurd (bq_sne c3 e.symm) id
        · rw [d, d'] at e
          have q := List.append_singleton_inj.mp e
          have q2 := (Prod.mk.inj q.2).2
          exact ⟨by omega, by omega, ij_r j c c1 c2 c' c1' c2' q.1⟩
        · rw [d, d', ← List.cons_append, ← List.append_assoc] at e
          have q := (List.append_singleton_inj.mp e).2
          exact absurd (Prod.mk.inj q).1 (by decide)
      · rcases bd_nm h' ho' with ⟨a', b', c', d'⟩ | ⟨a', b', c', c1', c2', c3', d'⟩ | ⟨a', b', b1', b2', c', c1', c2', c3', d'⟩
        · rw [d, d'] at e
          rw [← List.cons_append, ← List.append_assoc] at e
          exact absurd (bq_sne (by simp) e.symm) id
        · rw [d, d', ← List.cons_append, ← List.append_assoc] at e
          have q := (List.append_singleton_inj.mp e).2
          exact absurd (Prod.mk.inj q).1 (by decide)
        · rw [d, d'] at e
          have q := bq_ig (bd_l g ⟨b1, b2⟩ b).1 (bd_l g ⟨b1', b2'⟩ b').1 e
          exact ⟨by omega, ij_l g j (Or.inr ⟨b1, b2⟩) (Or.inr ⟨b1', b2'⟩) q.2, ij_r j c c1 c2 c' c1' c2' q.1⟩
    · exfalso
      rw [e1, e1'] at e
      rw [(List.cons.inj e).1] at hp
      rw [show ((o', v') : Nat × Nat).1 = o' from rfl, ho'] at hp
      exact absurd hp (by decide)
  · rcases bd_hd h' h11' with ⟨ho', p', u', e1', hp'⟩ | ⟨ho', ho1', ho3', u', v', e1'⟩
    · exfalso
      rw [e1, e1'] at e
      rw [← (List.cons.inj e).1] at hp'
      rw [show ((o, v) : Nat × Nat).1 = o from rfl, ho] at hp'
      exact absurd hp' (by decide)
    · have eo : o = o' := by
        rw [e1, e1'] at e
        exact (Prod.mk.inj (List.cons.inj e).1).1
      subst eo
      rcases h with ⟨z, _⟩ | ⟨z, _⟩ | ⟨z, h0, h1, h2, hr⟩ | ⟨z, _⟩ | ⟨z, h0, hr, hn, hc⟩ | ⟨z, h0, hr⟩
      · exact absurd z h11
      · exact absurd z ho3
      · subst z
        rcases h' with ⟨y, _⟩ | ⟨y, _⟩ | ⟨_, h0', h1', h2', hr'⟩ | ⟨y, _⟩ | ⟨y, _⟩ | ⟨y, _⟩
        · omega
        · omega
        · rw [bd_9, bd_9] at e
          have q := (List.append_singleton_inj.mp (List.cons.inj e).2).1
          exact ⟨rfl, ij_l g j (Or.inr ⟨h1, h2⟩) (Or.inr ⟨h1', h2'⟩) q, by omega⟩
        · omega
        · exact absurd y (by decide)
        · omega
      · exact absurd z ho1
      · have hw := bd_wo z
        rcases h' with ⟨y, _⟩ | ⟨y, _⟩ | ⟨y, _⟩ | ⟨y, _⟩ | ⟨_, h0', hr', hn', hc'⟩ | ⟨y, _⟩
        · exact absurd y h11
        · exact absurd y hw.2.1
        · exact absurd y hw.2.2.1
        · exact absurd y hw.1
        · rw [bd_o hw.1 hw.2.1 hw.2.2.1 hw.2.2.2, bd_o hw.1 hw.2.1 hw.2.2.1 hw.2.2.2] at e
          have q := List.cons.inj e
          have q2 := (Prod.mk.inj q.1).2
          exact ⟨rfl, by omega, ij_r j hr hn hc hr' hn' hc' q.2⟩
        · rw [ka_wi] at z; omega
      · rcases h' with ⟨y, _⟩ | ⟨y, _⟩ | ⟨y, _⟩ | ⟨y, _⟩ | ⟨y, _⟩ | ⟨_, h0', hr'⟩
        · omega
        · omega
        · omega
        · omega
        · rw [ka_wi] at y; omega
        · rw [bd_o (by omega) (by omega) (by omega) (by omega), bd_o (by omega) (by omega) (by omega) (by omega)] at e
          have q2 := (Prod.mk.inj (List.cons.inj e).1).2
          exact ⟨rfl, by omega, by omega⟩
end
end
section
/-! the components that end at node e: their starts, in the order of registration -/
def ah_ : List Nat → List Nat
  | [] => []
  | s :: _ => if 0 < s then [s] else []
def pf_ (K : Nat → Nat) : List Nat → List Nat
  | [] => []
  | f :: r => if K f = 9 then f :: sk_t K r else if K f = 3 then ah_ r else []
def pa_ (K : Nat → Nat) (e : Nat) : List Nat :=
  if K e = 4 then sk_t K (sk_c K (sk_ K e)) else if K e = 11 then pf_ K (sk_c K (sk_ K e))
  else if K e ≤ 2 then ah_ (sk_ K (e + 1)) else []
def pq_c (K : Nat → Nat) : List Nat → List Nat
  | [] => []
  | s :: r => if ka_h (K s) = true then sk_t K r else []
def pc_ (K : Nat → Nat) (e : Nat) : List Nat := pq_c K (sk_ K (e + 1))
def po_ (K : Nat → Nat) (e : Nat) : List Nat := if sk_ K (e + 1) = [0] then [0] else []
def pb_ (K : Nat → Nat) (e : Nat) : List Nat := if K (e + 1) = 1 ∨ K (e + 1) = 3 then po_ K e else pc_ K e
def pp_ (K : Nat → Nat) (e : Nat) : List Nat := pa_ K e ++ pb_ K e
/-- the core c of a type ends at e -/
def ce_ (K : Nat → Nat) (c e : Nat) : Prop :=
  (K c = 4 ∧ e = c) ∨ (K c = 9 ∧ K e = 11 ∧ op_ K e = c) ∨
  (ka_h (K c) = true ∧ en_ K (e + 1) ∧ (sk_ K (e + 1)).head? = some c ∧ K (e + 1) ≠ 1 ∧ K (e + 1) ≠ 3)
def rw_ (K : Nat → Nat) (s c : Nat) : Prop := ∀ j, s ≤ j → j < c → ka_w (K j) = true
/-- wrapper runs on the stack -/
theorem rn_ {K V : Nat → Nat} {n : Nat} (h : wf_ K V n) : ∀ (x s : Nat), x ≤ n → 0 < x → op_ K x ≠ 0 →
    (s ∈ sk_t K (sk_c K (sk_ K x)) ↔ s < x ∧ rw_ K s x) := by
  intro x
  induction x with
  | zero => intro s _ h; omega
  | succ x ih =>
    intro s hx _ ho
    have h0 := wf_0 h (by omega)
    rcases si_c h0 (si_all h (x + 1) hx) (by omega) ho with ⟨hw, r, e, ec⟩ | ⟨hw, r, ec⟩
    · rw [Nat.add_sub_cancel] at hw e ec
      have hx0 : 0 < x := by
        rcases Nat.eq_zero_or_pos x with z | z
        · rw [z, h0] at hw; exact absurd hw (by decide)
        · exact z
      have hk := ka_wi.mp hw
      have ho' : op_ K x ≠ 0 := by rw [op_c3 (gs_xor hw).2 (by omega)] at ho; exact ho
      have er : r = sk_c K (sk_ K x) := by
        have := sk_so (K := K) (i := x) (by omega) (by omega) (by omega) (by omega)
        rw [e] at this; exact (List.cons.inj this).2
      rw [ec, sk_t_cons_t hw, List.mem_cons, er, ih s (by omega) hx0 ho']
      constructor
      · rintro (z | z)
        · refine ⟨by omega, fun j a b => ?_⟩
          have : j = x := by omega
          rw [this]; exact hw
        · refine ⟨by omega, fun j a b => ?_⟩
          by_cases q : j = x
          · rw [q]; exact hw
          · exact z.2 j a (by omega)
      · intro z
        by_cases q : s = x
        · exact Or.inl q
        · exact Or.inr ⟨by omega, fun j a b => z.2 j a (by omega)⟩
    · rw [ec, sk_t_cons_f (gs_xof (op_fs ho).2.2).1]
      constructor
      · intro z; exact absurd z (by simp)
      · intro z
        have := z.2 x (by omega) (by omega)
        rw [Nat.add_sub_cancel] at hw
        rw [hw] at this; exact absurd this (by decide)
/-- a name: its head on top after each of its parts -/
theorem en_top {K V : Nat → Nat} {n i : Nat} (h : wf_ K V n) (hi : i ≤ n) (he : en_ K i) : ∃ s r, sk_ K i = s :: r ∧ ka_h (K s) = true ∧ s < i := by
  rcases (si_all h i hi).2.2 he.1 with ⟨_, hn, _⟩ | ⟨_, _, s, r, e, hs⟩ | ⟨hn, _⟩ | ⟨hn, _⟩
  · exact absurd he hn
  · exact ⟨s, r, e, hs, sk_lt (by rw [e]; simp)⟩
  · exact absurd he hn
  · exact absurd he hn
theorem en_hd {K V : Nat → Nat} {n i s : Nat} {r : List Nat} (h : wf_ K V n) (hi : i ≤ n) (e : sk_ K i = s :: r) (hs : ka_h (K s) = true) : en_ K i := by
  have hp : 0 < i := by
    rcases Nat.eq_zero_or_pos i with z | z
    · rw [z] at e; exact absurd e (by simp [sk_])
    · exact z
  rcases (si_all h i hi).2.2 hp with ⟨hw, _, _, r', e'⟩ | ⟨he, _⟩ | ⟨_, _, ho, r', e'⟩ | ⟨_, _, _, e'⟩
  · rw [e] at e'; rw [← (List.cons.inj e').1, (gs_xoh hs).1] at hw; exact absurd hw (by decide)
  · exact he
  · rw [e] at e'
    have := (op_fs ho).2.2
    rw [← (List.cons.inj e').1, (gs_xoh hs).2] at this; exact absurd this (by decide)
  · rw [e] at e'; exact absurd e' (by simp)
/-- what a head, a wrapper or a FUNC was pushed on -/
theorem sk_push {K V : Nat → Nat} {n i x : Nat} {r : List Nat} (h : wf_ K V n) (hi : i ≤ n) (e : (x :: r) <:+ sk_ K i) (hx : 0 < x)
    (hk : ka_h (K x) = true ∨ ka_w (K x) = true ∨ K x = 9) : r = sk_c K (sk_ K x) ∧ op_ K x ≠ 0 ∧ x < i := by
  have h1 := sk_at K i x r e
  have hk' : K x ≠ 1 ∧ K x ≠ 3 ∧ K x ≠ 4 ∧ K x ≠ 11 ∧ K x ≠ 10 := by
    rcases hk with z | z | z
    · rw [ka_hi] at z; omega
    · rw [ka_wi] at z; omega
    · omega
  have h2 := sk_so hk'.1 hk'.2.1 hk'.2.2.1 hk'.2.2.2.1
  rw [h1.2] at h2
  refine ⟨(List.cons.inj h2).2, ?_, h1.1⟩
  rcases ft_c (h x (by omega)).2 hx with z | z | z | z
  · omega
  · omega
  · omega
  · exact z.2.2.2.1
theorem nr_run {K V : Nat → Nat} {n i x s : Nat} {r : List Nat} (h : wf_ K V n) (hi : i ≤ n) (e : (x :: r) <:+ sk_ K i)
    (hk : ka_h (K x) = true ∨ ka_w (K x) = true ∨ K x = 9) : s ∈ sk_t K r ↔ s < x ∧ rw_ K s x := by
  by_cases hx : x = 0
  · have h1 := sk_at K i x r e
    have hg := gs_suf (si_all h i hi).1 e
    have hr : r = [] := by
      rcases hg.2.2 with ⟨z, _⟩ | ⟨y, r', z, _⟩
      · exact z
      · have := hg.2.1 y (by rw [z]; simp); omega
    rw [hr]
    constructor
    · intro z; exact absurd z (by simp [sk_t])
    · intro z; omega
  · have h1 := sk_push h hi e (by omega) hk
    rw [h1.1]
    exact rn_ h x s (by omega) (by omega) h1.2.1
/-- the END of a list: the frame on top of the closed stack -/
theorem end_top {K V : Nat → Nat} {n e : Nat} (h : wf_ K V n) (he : e < n) (h11 : K e = 11) :
    ∃ r, sk_c K (sk_ K e) = op_ K e :: r ∧ (op_ K e :: r) <:+ sk_ K e ∧ op_ K e ≠ 0 ∧ ka_f (K (op_ K e)) = true ∧ op_ K e < e := by
  have hp : 0 < e := by
    rcases Nat.eq_zero_or_pos e with z | z
    · have := wf_0 h (by omega); rw [z] at h11; omega
    · exact z
  have h0 := wf_0 h (by omega)
  rcases ft_c (h e he).2 hp with z | z | z | ⟨_, _, _, ho, hc⟩
  · omega
  · omega
  · omega
  · rcases si_c h0 (si_all h e (by omega)) hp ho with ⟨hw, _⟩ | ⟨_, r, ec⟩
    · rcases hc with z | z
      · exact absurd h11 z.2.1
      · rw [z.1] at hw; exact absurd hw (by decide)
    · have := op_fs ho
      exact ⟨r, ec, by rw [← ec]; exact sk_c_suf _ _, ho, this.2.2, this.2.1⟩
theorem bt_op {K V : Nat → Nat} {n e : Nat} (h : wf_ K V n) (he : e < n) (h4 : K e = 4) : op_ K e ≠ 0 ∧ 0 < e := by
  have hp : 0 < e := by
    rcases Nat.eq_zero_or_pos e with z | z
    · have := wf_0 h (by omega); rw [z] at h4; omega
    · exact z
  rcases ft_c (h e he).2 hp with z | z | z | z
  · omega
  · omega
  · omega
  · exact ⟨z.2.2.2.1, hp⟩
theorem en_ne {K V : Nat → Nat} {n e : Nat} (h : wf_ K V n) (he : e < n) : en_ K (e + 1) → (K e ≤ 2 ∨ (K e = 11 ∧ K (op_ K e) = 3)) := by
  intro z
  have := z.2; rw [Nat.add_sub_cancel] at this; omega
/-- pa_ of a name part -/
theorem pa_en {K V : Nat → Nat} {n e s : Nat} {r : List Nat} (h : wf_ K V n) (he : e < n) (z : en_ K (e + 1)) (es : sk_ K (e + 1) = s :: r) :
    pa_ K e = if 0 < s then [s] else [] := by
  unfold pa_
  rcases en_ne h he z with q | ⟨q, q3⟩
  · rw [if_neg (by omega), if_neg (by omega), if_pos q, es]; rfl
  · obtain ⟨r', ec, _, ho, _⟩ := end_top h he q
    rw [if_neg (by omega), if_pos q, ec]
    show (if _ then _ else if _ then _ else _) = _
    rw [if_neg (by omega), if_pos q3]
    have e2 := sk_s11 q
    rw [ec] at e2
    have e3 : sk_e K (op_ K e :: r') = r' := by show (if _ then _ else _) = _; rw [if_neg (by omega)]
    rw [e3, es] at e2
    rw [← e2]; rfl
theorem pa_f {K V : Nat → Nat} {n e : Nat} (h : wf_ K V n) (he : e < n) (h11 : K e = 11) (h9 : K (op_ K e) = 9) :
    ∃ r, pa_ K e = op_ K e :: sk_t K r ∧ (op_ K e :: r) <:+ sk_ K e ∧ sk_c K (sk_ K e) = op_ K e :: r := by
  obtain ⟨r, ec, es, _⟩ := end_top h he h11
  refine ⟨r, ?_, es, ec⟩
  unfold pa_
  rw [if_neg (by omega), if_pos h11, ec]
  show (if _ then _ else _) = _
  rw [if_pos h9]
theorem pa_o {K V : Nat → Nat} {n e : Nat} (h : wf_ K V n) (he : e < n) (z : ¬ en_ K (e + 1)) (h4 : K e ≠ 4) (h9 : ¬ (K e = 11 ∧ K (op_ K e) = 9)) : pa_ K e = [] := by
  unfold pa_
  rw [if_neg h4]
  by_cases h11 : K e = 11
  · obtain ⟨r, ec, es, ho, _⟩ := end_top h he h11
    rw [if_pos h11, ec]
    show (if _ then _ else if _ then _ else _) = _
    rw [if_neg (fun q => h9 ⟨h11, q⟩), if_neg (fun q => z ((en_e h11).mpr ⟨q, ho⟩))]
  · rw [if_neg h11, if_neg (fun q => z (en_1 q))]
theorem pc_en {K : Nat → Nat} {e s : Nat} {r : List Nat} (es : sk_ K (e + 1) = s :: r) (hs : ka_h (K s) = true) : pc_ K e = sk_t K r := by
  unfold pc_; rw [es]; show (if _ then _ else _) = _; rw [if_pos hs]
theorem pc_n {K V : Nat → Nat} {n e : Nat} (h : wf_ K V n) (he : e < n) (z : ¬ en_ K (e + 1)) : pc_ K e = [] := by
  unfold pc_
  cases es : sk_ K (e + 1) with
  | nil => rfl
  | cons s r =>
    show (if _ then _ else _) = _
    cases hs : ka_h (K s) with
    | true => exact absurd (en_hd h (by omega) es hs) z
    | false => rw [if_neg (by decide)]
theorem po_0 {K V : Nat → Nat} {n e s : Nat} {r : List Nat} (h : wf_ K V n) (he : e < n) (es : sk_ K (e + 1) = s :: r) : po_ K e = if s = 0 then [0] else [] := by
  unfold po_
  by_cases hs : s = 0
  · have hg := (si_all h (e + 1) (by omega)).1
    rw [es] at hg
    have hr : r = [] := by
      rcases hg.2.2 with ⟨z, _⟩ | ⟨y, r', z, _⟩
      · exact z
      · have := hg.2.1 y (by rw [z]; simp); omega
    rw [if_pos hs, if_pos (by rw [es, hs, hr])]
  · rw [if_neg hs, if_neg (by rw [es]; intro z; exact hs (List.cons.inj z).1)]
theorem po_n {K V : Nat → Nat} {n e : Nat} (h : wf_ K V n) (he : e < n) (z : ¬ en_ K (e + 1)) : po_ K e = [] := by
  unfold po_
  rw [if_neg]
  intro es
  exact z (en_hd h (by omega) es (by rw [wf_0 h (by omega)]; rfl))
theorem pb_n {K V : Nat → Nat} {n e : Nat} (h : wf_ K V n) (he : e < n) (z : ¬ en_ K (e + 1)) : pb_ K e = [] := by
  unfold pb_
  by_cases q : K (e + 1) = 1 ∨ K (e + 1) = 3
  · rw [if_pos q, po_n h he z]
  · rw [if_neg q, pc_n h he z]
/-- which pairs are components -/
theorem pp_iff {K V : Nat → Nat} {n e s : Nat} (h : wf_ K V n) (he : e < n) :
    s ∈ pp_ K e ↔ (∃ c, s ≤ c ∧ rw_ K s c ∧ ce_ K c e ∧ (s < c ∨ K c = 9)) ∨
      (ka_h (K s) = true ∧ en_ K (e + 1) ∧ (sk_ K (e + 1)).head? = some s ∧ (0 < s ∨ K (e + 1) = 1 ∨ K (e + 1) = 3)) := by
  unfold pp_
  rw [List.mem_append]
  by_cases z : en_ K (e + 1)
  · obtain ⟨t, r, es, ht, _⟩ := en_top h (by omega) z
    have hrun : s ∈ sk_t K r ↔ s < t ∧ rw_ K s t := nr_run h (i := e + 1) (by omega) (by rw [es]; exact List.suffix_refl _) (Or.inl ht)
    have h4 : K e ≠ 4 := by have := en_ne h he z; omega
    rw [pa_en h he z es]
    constructor
    · rintro (q | q)
      · by_cases ht0 : 0 < t
        · rw [if_pos ht0] at q
          have : s = t := List.mem_singleton.mp q
          subst this
          exact Or.inr ⟨ht, z, by rw [es]; rfl, Or.inl ht0⟩
        · rw [if_neg ht0] at q; exact absurd q (by simp)
      · unfold pb_ at q
        by_cases hk : K (e + 1) = 1 ∨ K (e + 1) = 3
        · rw [if_pos hk, po_0 h he es] at q
          by_cases ht0 : t = 0
          · rw [if_pos ht0] at q
            have : s = t := by rw [ht0]; exact List.mem_singleton.mp q
            subst this
            exact Or.inr ⟨ht, z, by rw [es]; rfl, Or.inr hk⟩
          · rw [if_neg ht0] at q; exact absurd q (by simp)
        · rw [if_neg hk, pc_en es ht, hrun] at q
          exact Or.inl ⟨t, by omega, q.2, Or.inr (Or.inr ⟨ht, z, by rw [es]; rfl, by omega, by omega⟩), Or.inl q.1⟩
    · rintro (⟨c, hc, hr, hce, hs⟩ | ⟨hs, _, hh, hz⟩)
      · rcases hce with ⟨q, q2⟩ | ⟨q, q2, q3⟩ | ⟨q, _, q3, q4, q5⟩
        · rw [q2] at h4; exact absurd q h4
        · have := en_ne h he z
          rw [q3, q] at this; omega
        · rw [es] at q3
          have : t = c := Option.some.inj q3
          subst this
          rcases hs with hs | hs
          · refine Or.inr ?_
            unfold pb_
            rw [if_neg (by omega), pc_en es ht, hrun]; exact ⟨hs, hr⟩
          · rw [ka_hi] at ht; omega
      · rw [es] at hh
        have : t = s := Option.some.inj hh
        subst this
        by_cases ht0 : 0 < t
        · rw [if_pos ht0]; exact Or.inl (List.mem_singleton.mpr rfl)
        · refine Or.inr ?_
          unfold pb_
          rw [if_pos (hz.resolve_left ht0), po_0 h he es, if_pos (by omega)]
          exact List.mem_singleton.mpr (by omega)
  · rw [pb_n h he z]
    have hno : ¬ (ka_h (K s) = true ∧ en_ K (e + 1) ∧ (sk_ K (e + 1)).head? = some s ∧ (0 < s ∨ K (e + 1) = 1 ∨ K (e + 1) = 3)) := fun q => z q.2.1
    by_cases h4 : K e = 4
    · have hb := bt_op h he h4
      have ea : pa_ K e = sk_t K (sk_c K (sk_ K e)) := by unfold pa_; rw [if_pos h4]
      rw [ea, rn_ h e s (by omega) hb.2 hb.1]
      constructor
      · rintro (q | q)
        · exact Or.inl ⟨e, by omega, q.2, Or.inl ⟨h4, rfl⟩, Or.inl q.1⟩
        · exact absurd q (by simp)
      · rintro (⟨c, hc, hr, hce, hs⟩ | q)
        · rcases hce with ⟨q, q2⟩ | ⟨q, q2, q3⟩ | ⟨_, q, _⟩
          · subst q2
            refine Or.inl ⟨?_, hr⟩
            omega
          · omega
          · exact absurd q z
        · exact absurd q hno
    · by_cases h9 : K e = 11 ∧ K (op_ K e) = 9
      · obtain ⟨r, ea, es, _⟩ := pa_f h he h9.1 h9.2
        rw [ea, List.mem_cons, nr_run h (i := e) (by omega) es (Or.inr (Or.inr h9.2))]
        constructor
        · rintro ((q | q) | q)
          · subst q
            exact Or.inl ⟨_, Nat.le_refl _, fun j a b => by omega, Or.inr (Or.inl ⟨h9.2, h9.1, rfl⟩), Or.inr h9.2⟩
          · exact Or.inl ⟨_, by omega, q.2, Or.inr (Or.inl ⟨h9.2, h9.1, rfl⟩), Or.inl q.1⟩
          · exact absurd q (by simp)
        · rintro (⟨c, hc, hr, hce, hs⟩ | q)
          · rcases hce with ⟨q, q2⟩ | ⟨q, q2, q3⟩ | ⟨_, q, _⟩
            · subst q2; omega
            · subst q3
              refine Or.inl ?_
              by_cases hsc : s = op_ K e
              · exact Or.inl hsc
              · exact Or.inr ⟨by omega, hr⟩
            · exact absurd q z
          · exact absurd q hno
      · rw [pa_o h he z h4 h9]
        constructor
        · rintro (q | q) <;> exact absurd q (by simp)
        · rintro (⟨c, hc, hr, hce, hs⟩ | q)
          · exfalso
            rcases hce with ⟨q, q2⟩ | ⟨q, q2, q3⟩ | ⟨_, q, _⟩
            · rw [q2] at h4; exact h4 q
            · rw [← q3] at q; exact h9 ⟨q2, q⟩
            · exact z q
          · exact absurd q hno
end
section
/-! order of the starts -/
theorem gs_pw {K : Nat → Nat} : ∀ {l : List Nat}, gs_ K l → l.Pairwise (fun a b => b < a) := by
  intro l
  induction l with
  | nil => intro _; exact List.Pairwise.nil
  | cons x r ih => intro h; exact List.Pairwise.cons h.2.1 (ih h.1)
theorem sk_tp (K : Nat → Nat) (l : List Nat) : (sk_t K l).Sublist l := (List.takeWhile_prefix _).sublist
theorem pp_pw {K V : Nat → Nat} {n e : Nat} (h : wf_ K V n) (he : e < n) : (pp_ K e).Pairwise (fun a b => b < a) := by
  unfold pp_
  have hg := (si_all h (e + 1) (by omega)).1
  by_cases z : en_ K (e + 1)
  · obtain ⟨t, r, es, ht, _⟩ := en_top h (by omega) z
    rw [pa_en h he z es]
    rw [es] at hg
    have hpw := gs_pw hg
    unfold pb_
    by_cases hk : K (e + 1) = 1 ∨ K (e + 1) = 3
    · rw [if_pos hk, po_0 h he es]
      by_cases ht0 : t = 0
      · rw [if_pos ht0, if_neg (by omega)]; exact List.pairwise_singleton _ _
      · rw [if_neg ht0, if_pos (by omega)]; exact List.pairwise_singleton _ _
    · rw [if_neg hk, pc_en es ht]
      have hs : (t :: sk_t K r).Sublist (t :: r) := (sk_tp K r).cons_cons t
      have := hpw.sublist hs
      by_cases ht0 : 0 < t
      · rw [if_pos ht0]; exact this
      · rw [if_neg ht0]; exact (List.pairwise_cons.mp this).2
  · rw [pb_n h he z, List.append_nil]
    have hg' := gs_pw (si_all h e (by omega)).1
    by_cases h4 : K e = 4
    · have ea : pa_ K e = sk_t K (sk_c K (sk_ K e)) := by unfold pa_; rw [if_pos h4]
      rw [ea]
      exact hg'.sublist ((sk_tp K _).trans (sk_c_suf K _).sublist)
    · by_cases h9 : K e = 11 ∧ K (op_ K e) = 9
      · obtain ⟨r, ea, es, _⟩ := pa_f h he h9.1 h9.2
        rw [ea]
        have hs : (op_ K e :: sk_t K r).Sublist (op_ K e :: r) := (sk_tp K r).cons_cons _
        exact hg'.sublist (hs.trans es.sublist)
      · rw [pa_o h he z h4 h9]; exact List.Pairwise.nil
theorem ce_le {K V : Nat → Nat} {n c e : Nat} (h : wf_ K V n) (he : e < n) (q : ce_ K c e) : c ≤ e := by
  rcases q with ⟨_, q⟩ | ⟨_, q, q2⟩ | ⟨_, z, q, _⟩
  · omega
  · have := end_top h he q
    obtain ⟨r, _, _, _, _, w⟩ := this
    omega
  · have : c ∈ sk_ K (e + 1) := by
      cases es : sk_ K (e + 1) with
      | nil => rw [es] at q; exact absurd q (by simp)
      | cons a r => rw [es] at q; have : a = c := Option.some.inj q; rw [this]; simp
    have := sk_lt this
    omega
theorem pp_le {K V : Nat → Nat} {n e s : Nat} (h : wf_ K V n) (he : e < n) (hs : s ∈ pp_ K e) : s ≤ e := by
  rcases (pp_iff h he).mp hs with ⟨c, hc, _, q, _⟩ | ⟨_, z, q, _⟩
  · have := ce_le h he q; omega
  · obtain ⟨t, r, es, _, hl⟩ := en_top h (by omega) z
    rw [es] at q
    have : t = s := Option.some.inj q
    omega
/-! the table -/
def kw_ (K V : Nat → Nat) (t : List (Nat × Nat)) (s e : Nat) : Bool := t.any (fun p => decide (sg_ K V p.1 p.2 = sg_ K V s (e + 1 - s)))
def ta_ (K V : Nat → Nat) (e : Nat) (t : List (Nat × Nat)) (s : Nat) : List (Nat × Nat) := if kw_ K V t s e = true then t else t ++ [(s, e + 1 - s)]
def tl_ (K V : Nat → Nat) (e : Nat) (t : List (Nat × Nat)) (l : List Nat) : List (Nat × Nat) := l.foldl (ta_ K V e) t
def tb_ (K V : Nat → Nat) : Nat → List (Nat × Nat)
  | 0 => []
  | e + 1 => tl_ K V e (tb_ K V e) (pp_ K e)
theorem kw_i {K V : Nat → Nat} {t : List (Nat × Nat)} {s e : Nat} : kw_ K V t s e = true ↔ ∃ p, p ∈ t ∧ sg_ K V p.1 p.2 = sg_ K V s (e + 1 - s) := by
  unfold kw_; rw [List.any_eq_true]
  constructor
  · rintro ⟨p, a, b⟩; exact ⟨p, a, of_decide_eq_true b⟩
  · rintro ⟨p, a, b⟩; exact ⟨p, a, decide_eq_true b⟩
theorem kw_f {K V : Nat → Nat} {t : List (Nat × Nat)} {s e : Nat} (h : kw_ K V t s e = false) : ∀ p, p ∈ t → sg_ K V p.1 p.2 ≠ sg_ K V s (e + 1 - s) := by
  intro p hp q
  have := kw_i.mpr ⟨p, hp, q⟩
  rw [h] at this; exact absurd this (by decide)
theorem tl_nil {K V : Nat → Nat} {e : Nat} {t : List (Nat × Nat)} : tl_ K V e t [] = t := rfl
theorem tl_app {K V : Nat → Nat} {e : Nat} {t : List (Nat × Nat)} {l m : List Nat} : tl_ K V e t (l ++ m) = tl_ K V e (tl_ K V e t l) m := List.foldl_append
theorem tl_snoc {K V : Nat → Nat} {e s : Nat} {t : List (Nat × Nat)} {l : List Nat} : tl_ K V e t (l ++ [s]) = ta_ K V e (tl_ K V e t l) s := by rw [tl_app]; rfl
theorem ta_mem {K V : Nat → Nat} {e s : Nat} {t : List (Nat × Nat)} {p : Nat × Nat} (h : p ∈ ta_ K V e t s) : p ∈ t ∨ p = (s, e + 1 - s) := by
  unfold ta_ at h
  cases q : kw_ K V t s e with
  | true => rw [if_pos q] at h; exact Or.inl h
  | false =>
    rw [if_neg (by rw [q]; decide), List.mem_append] at h
    rcases h with h | h
    · exact Or.inl h
    · exact Or.inr (List.mem_singleton.mp h)
theorem ta_pre {K V : Nat → Nat} {e s : Nat} {t : List (Nat × Nat)} : t <+: ta_ K V e t s := by
  unfold ta_
  cases q : kw_ K V t s e with
  | true => rw [if_pos rfl]; exact List.prefix_refl _
  | false => rw [if_neg (by decide)]; exact List.prefix_append _ _
theorem tl_mem {K V : Nat → Nat} {e : Nat} {p : Nat × Nat} : ∀ {l : List Nat} {t : List (Nat × Nat)}, p ∈ tl_ K V e t l → p ∈ t ∨ ∃ s, s ∈ l ∧ p = (s, e + 1 - s) := by
  intro l
  induction l with
  | nil => intro t h; exact Or.inl h
  | cons s l ih =>
    intro t h
    rcases ih (t := ta_ K V e t s) h with q | ⟨s', q, q2⟩
    · rcases ta_mem q with q | q
      · exact Or.inl q
      · exact Or.inr ⟨s, by simp, q⟩
    · exact Or.inr ⟨s', by simp [q], q2⟩
theorem tl_pre {K V : Nat → Nat} {e : Nat} : ∀ {l : List Nat} {t : List (Nat × Nat)}, t <+: tl_ K V e t l := by
  intro l
  induction l with
  | nil => intro t; exact List.prefix_refl _
  | cons s l ih => intro t; exact ta_pre.trans (ih (t := ta_ K V e t s))
/-- a start of another length is not touched by the others of its end -/
theorem kw_tl {K V : Nat → Nat} {e s : Nat} {l : List Nat} {t : List (Nat × Nat)} (hs : s ≤ e) (hl : ∀ x, x ∈ l → x ≤ e) (h : s ∉ l) :
    kw_ K V (tl_ K V e t l) s e = kw_ K V t s e := by
  rw [Bool.eq_iff_iff, kw_i, kw_i]
  constructor
  · rintro ⟨p, hp, q⟩
    rcases tl_mem hp with z | ⟨x, hx, z⟩
    · exact ⟨p, z, q⟩
    · exfalso
      rw [z] at q
      have := sg_n q
      have h2 := hl x hx
      have : x = s := by simp at this; omega
      rw [this] at hx; exact h hx
  · rintro ⟨p, hp, q⟩
    exact ⟨p, tl_pre.subset hp, q⟩
theorem tb_mem {K V : Nat → Nat} {n : Nat} (h : wf_ K V n) {p : Nat × Nat} : ∀ {i : Nat}, i ≤ n → p ∈ tb_ K V i → ∃ e s, e < i ∧ s ∈ pp_ K e ∧ p = (s, e + 1 - s) ∧ s ≤ e := by
  intro i
  induction i with
  | zero => intro _ h; exact absurd h (by simp [tb_])
  | succ i ih =>
    intro hi hp
    rcases tl_mem (show p ∈ tl_ K V i (tb_ K V i) (pp_ K i) from hp) with z | ⟨s, hs, z⟩
    · obtain ⟨e, s, a, b⟩ := ih (by omega) z
      exact ⟨e, s, by omega, b⟩
    · exact ⟨i, s, by omega, hs, z, pp_le h (by omega) hs⟩
theorem tb_pre {K V : Nat → Nat} {i : Nat} : ∀ {j : Nat}, i ≤ j → tb_ K V i <+: tb_ K V j := by
  intro j
  induction j with
  | zero => intro h; rw [show i = 0 by omega]; exact List.prefix_refl _
  | succ j ih =>
    intro h
    by_cases e : i = j + 1
    · rw [e]; exact List.prefix_refl _
    · exact (ih (by omega)).trans (tl_pre (K := K) (V := V) (e := j) (l := pp_ K j))
/-- an entry that ends early stood early -/
theorem tb_old {K V : Nat → Nat} {n : Nat} (h : wf_ K V n) {p : Nat × Nat} {m : Nat} : ∀ {i : Nat}, i ≤ n → p ∈ tb_ K V i → p.1 + p.2 ≤ m → p ∈ tb_ K V m := by
  intro i
  induction i with
  | zero => intro _ h; exact absurd h (by simp [tb_])
  | succ i ih =>
    intro hi hp hm
    by_cases q : i + 1 ≤ m
    · exact (tb_pre q).subset hp
    rcases tl_mem (show p ∈ tl_ K V i (tb_ K V i) (pp_ K i) from hp) with z | ⟨s, hs, z⟩
    · exact ih (by omega) z hm
    · exfalso
      have := pp_le h (by omega) hs
      rw [z] at hm; simp at hm; omega
/-- no two entries are equal -/
theorem tl_pw {K V : Nat → Nat} {e : Nat} : ∀ {l : List Nat} {t : List (Nat × Nat)}, t.Pairwise (fun p q => sg_ K V p.1 p.2 ≠ sg_ K V q.1 q.2) →
    (tl_ K V e t l).Pairwise (fun p q => sg_ K V p.1 p.2 ≠ sg_ K V q.1 q.2) := by
  intro l
  induction l with
  | nil => intro t h; exact h
  | cons s l ih =>
    intro t h
    refine ih (t := ta_ K V e t s) ?_
    unfold ta_
    cases q : kw_ K V t s e with
    | true => rw [if_pos rfl]; exact h
    | false =>
      rw [if_neg (by decide), List.pairwise_append]
      refine ⟨h, List.pairwise_singleton _ _, fun a ha b hb => ?_⟩
      rw [List.mem_singleton.mp hb]
      exact kw_f q a ha
theorem tb_pw (K V : Nat → Nat) : ∀ i, (tb_ K V i).Pairwise (fun p q => sg_ K V p.1 p.2 ≠ sg_ K V q.1 q.2) := by
  intro i
  induction i with
  | zero => exact List.Pairwise.nil
  | succ i ih => exact tl_pw (e := i) (l := pp_ K i) ih
/-- the known size at s, of the ends below n -/
def kl_ (K V : Nat → Nat) (s : Nat) : Nat → Nat
  | 0 => 0
  | e + 1 => if (decide (s ∈ pp_ K e) && kw_ K V (tb_ K V e) s e) = true then e + 1 - s else kl_ K V s e
/-! every frame has one END, every name one close -/
theorem fs_keep {K : Nat → Nat} {x i : Nat} : ∀ {j : Nat}, x ∈ fs_ K j → x < i → i ≤ j → x ∈ fs_ K i := by
  intro j
  induction j with
  | zero => intro h; exact absurd h (by simp [fs_])
  | succ j ih =>
    intro h hx hi
    by_cases e : i = j + 1
    · rw [e]; exact h
    · refine ih ?_ hx (by omega)
      by_cases a : ka_f (K j) = true
      · rw [op_s1 a] at h
        rcases List.mem_cons.mp h with q | q
        · omega
        · exact q
      · by_cases b : K j = 11
        · rw [op_s2 b] at h; exact List.mem_of_mem_tail h
        · rw [op_s3 (by simpa using a) b] at h; exact h
theorem fs_mlt {K : Nat → Nat} {x : Nat} : ∀ {j : Nat}, x ∈ fs_ K j → x < j := by
  intro j
  induction j with
  | zero => intro h; exact absurd h (by simp [fs_])
  | succ j ih =>
    intro h
    by_cases a : ka_f (K j) = true
    · rw [op_s1 a] at h
      rcases List.mem_cons.mp h with q | q
      · omega
      · have := ih q; omega
    · by_cases b : K j = 11
      · rw [op_s2 b] at h; have := ih (List.mem_of_mem_tail h); omega
      · rw [op_s3 (by simpa using a) b] at h; have := ih h; omega
theorem fs_one' {K : Nat → Nat} {e e' : Nat} (h : K e = 11) (ho : op_ K e ≠ 0) (eq : op_ K e = op_ K e') (hl : e < e') : False := by
  have a := op_fs ho
  have b := op_fs (K := K) (i := e') (by rw [← eq]; exact ho)
  have c : op_ K e ∈ fs_ K e' := by rw [eq, b.1]; simp
  have d := fs_keep c (show op_ K e < e + 1 by omega) (by omega)
  rw [op_s2 h, a.1] at d
  have := fs_mlt (show op_ K e ∈ fs_ K (op_ K e) from d)
  omega
theorem fs_one {K : Nat → Nat} {e e' : Nat} (h : K e = 11) (h' : K e' = 11) (ho : op_ K e ≠ 0) (eq : op_ K e = op_ K e') : e = e' := by
  rcases Nat.lt_trichotomy e e' with q | q | q
  · exact absurd (fs_one' h ho eq q) id
  · exact q
  · exact absurd (fs_one' h' (by rw [← eq]; exact ho) eq.symm q) id
/-- a closed name does not come back -/
theorem sk_gone {K V : Nat → Nat} {n e c j : Nat} (h : wf_ K V n) (he : e < n) (z : en_ K (e + 1)) (hh : (sk_ K (e + 1)).head? = some c)
    (h1 : K (e + 1) ≠ 1) (h3 : K (e + 1) ≠ 3) (hj : e + 1 < j) : c ∉ sk_ K j := by
  intro hc
  obtain ⟨t, r, es, ht, hl⟩ := en_top h (by omega) z
  rw [es] at hh
  have : t = c := Option.some.inj hh
  subst this
  have hk := sk_keep hc (show t < e + 2 by omega) (by omega)
  have hg := (si_all h (e + 1) (by omega)).1
  rw [es] at hg
  have hnr : t ∉ r := fun q => by have := hg.2.1 t q; omega
  have hnc : t ∉ sk_c K (sk_ K (e + 1)) := by
    rw [es, sk_c_h ht]; exact fun q => hnr ((sk_w_suf K r).subset q)
  have e2 : sk_ K (e + 2) = sk_s K (e + 1) (sk_ K (e + 1)) := rfl
  rw [e2] at hk
  unfold sk_s at hk
  rw [if_neg h1, if_neg h3] at hk
  by_cases h4 : K (e + 1) = 4
  · rw [if_pos h4] at hk; exact hnc ((sk_w_suf K _).subset hk)
  rw [if_neg h4] at hk
  by_cases h11 : K (e + 1) = 11
  · rw [if_pos h11] at hk; exact hnc ((sk_e_suf K _).subset hk)
  rw [if_neg h11] at hk
  rcases List.mem_cons.mp hk with q | q
  · omega
  · exact hnc q
theorem sk_hm {l : List Nat} {c : Nat} (h : l.head? = some c) : c ∈ l := by
  cases l with
  | nil => exact absurd h (by simp)
  | cons a r => have : a = c := Option.some.inj h; rw [this]; simp
theorem ce_un' {K V : Nat → Nat} {n c e e' : Nat} (h : wf_ K V n) (he : e < n) (he' : e' < n) (q : ce_ K c e) (q' : ce_ K c e') : e ≤ e' := by
  rcases q with ⟨a, b⟩ | ⟨a, b, d⟩ | ⟨a, b, d, d1, d3⟩
  · rcases q' with ⟨a', b'⟩ | ⟨a', b', d'⟩ | ⟨a', b', d', d1', d3'⟩
    · omega
    · omega
    · rw [ka_hi] at a'; omega
  · rcases q' with ⟨a', b'⟩ | ⟨a', b', d'⟩ | ⟨a', b', d', d1', d3'⟩
    · omega
    · obtain ⟨_, _, _, ho, _⟩ := end_top h he b
      have := fs_one b b' ho (by rw [d, d']); omega
    · rw [ka_hi] at a'; omega
  · rcases q' with ⟨a', b'⟩ | ⟨a', b', d'⟩ | ⟨a', b', d', d1', d3'⟩
    · rw [ka_hi] at a; omega
    · rw [ka_hi] at a; omega
    · rcases Nat.lt_or_ge e' e with z | z
      · exact absurd (sk_hm d) (sk_gone h he' b' d' d1' d3' (by omega))
      · exact z
theorem ce_un {K V : Nat → Nat} {n c e e' : Nat} (h : wf_ K V n) (he : e < n) (he' : e' < n) (q : ce_ K c e) (q' : ce_ K c e') : e = e' :=
  Nat.le_antisymm (ce_un' h he he' q q') (ce_un' h he' he q' q)
theorem ce_nw {K : Nat → Nat} {c e : Nat} (q : ce_ K c e) : ka_w (K c) = false := by
  rcases q with ⟨a, _⟩ | ⟨a, _⟩ | ⟨a, _⟩
  · rw [a]; rfl
  · rw [a]; rfl
  · exact (gs_xoh a).1
theorem rw_un {K : Nat → Nat} {s c c' : Nat} (h : rw_ K s c) (h' : rw_ K s c') (hs : s ≤ c) (hs' : s ≤ c') (q : ka_w (K c) = false) (q' : ka_w (K c') = false) : c = c' := by
  rcases Nat.lt_trichotomy c c' with z | z | z
  · have := h' c hs z; rw [q] at this; exact absurd this (by decide)
  · exact z
  · have := h c' hs' z; rw [q'] at this; exact absurd this (by decide)
/-- a wrapper or FUNC ends once -/
theorem pp_un {K V : Nat → Nat} {n s e e' : Nat} (h : wf_ K V n) (he : e < n) (he' : e' < n) (hs : ka_h (K s) = false) (q : s ∈ pp_ K e) (q' : s ∈ pp_ K e') : e = e' := by
  rcases (pp_iff h he).mp q with ⟨c, a, b, d, _⟩ | ⟨z, _⟩
  · rcases (pp_iff h he').mp q' with ⟨c', a', b', d', _⟩ | ⟨z, _⟩
    · have := rw_un b b' a a' (ce_nw d) (ce_nw d')
      subst this
      exact ce_un h he he' d d'
    · rw [hs] at z; exact absurd z (by decide)
  · rw [hs] at z; exact absurd z (by decide)
end
section
/-! no more entries than nodes: each component has a node of its own -/
theorem nd_len : ∀ (n : Nat) (l : List Nat), l.Nodup → (∀ x, x ∈ l → x < n) → l.length ≤ n := by
  intro n
  induction n with
  | zero =>
    intro l _ h
    cases l with
    | nil => exact Nat.le_refl 0
    | cons a r => exact absurd (h a (by simp)) (by omega)
  | succ n ih =>
    intro l hn h
    have h2 := ih (l.erase n) (hn.erase n) (fun x hx => by
      have := (hn.mem_erase_iff).mp hx
      have h3 := h x this.2
      have := this.1
      omega)
    have h4 := List.length_erase (a := n) (l := l)
    by_cases q : n ∈ l
    · rw [if_pos (by simpa using q)] at h4; omega
    · rw [if_neg (by simpa using q)] at h4; omega
def ch_ (K : Nat → Nat) (s e : Nat) : Nat := if ka_h (K s) = true then (if K e = 11 then op_ K e else e) else s
theorem pp_nh {K V : Nat → Nat} {n s e : Nat} (h : wf_ K V n) (he : e < n) (hs : ka_h (K s) = false) (q : s ∈ pp_ K e) : 5 ≤ K s ∧ K s ≤ 9 := by
  rcases (pp_iff h he).mp q with ⟨c, a, b, d, z⟩ | ⟨z, _⟩
  · by_cases hc : s = c
    · have : K c = 9 := by omega
      rw [hc]; omega
    · have := ka_wi.mp (b s (Nat.le_refl _) (by omega)); omega
  · rw [hs] at z; exact absurd z (by decide)
theorem pp_h {K V : Nat → Nat} {n s e : Nat} (h : wf_ K V n) (he : e < n) (hs : ka_h (K s) = true) (q : s ∈ pp_ K e) : en_ K (e + 1) ∧ (sk_ K (e + 1)).head? = some s ∧ (0 < s ∨ K (e + 1) = 1 ∨ K (e + 1) = 3) := by
  rcases (pp_iff h he).mp q with ⟨c, a, b, d, z⟩ | ⟨_, z⟩
  · by_cases hc : s = c
    · have : K c = 9 := by omega
      rw [ka_hi, hc] at hs; omega
    · have := b s (Nat.le_refl _) (by omega)
      rw [(gs_xoh hs).1] at this; exact absurd this (by decide)
  · exact z
theorem ch_inj {K V : Nat → Nat} {n s s' e e' : Nat} (h : wf_ K V n) (he : e < n) (he' : e' < n) (q : s ∈ pp_ K e) (q' : s' ∈ pp_ K e')
    (hc : ch_ K s e = ch_ K s' e') : s = s' ∧ e = e' := by
  unfold ch_ at hc
  cases hs : ka_h (K s) with
  | true =>
    have a := pp_h h he hs q
    rw [if_pos hs] at hc
    have hk := en_ne h he a.1
    cases hs' : ka_h (K s') with
    | true =>
      have a' := pp_h h he' hs' q'
      rw [if_pos hs'] at hc
      have hk' := en_ne h he' a'.1
      have ee : e = e' := by
        by_cases z : K e = 11
        · rw [if_pos z] at hc
          obtain ⟨_, _, _, ho, hf, _⟩ := end_top h he z
          by_cases z' : K e' = 11
          · rw [if_pos z'] at hc; exact fs_one z z' ho hc
          · rw [if_neg z'] at hc
            rw [hc, ka_fi] at hf; omega
        · rw [if_neg z] at hc
          by_cases z' : K e' = 11
          · rw [if_pos z'] at hc
            obtain ⟨_, _, _, ho, hf, _⟩ := end_top h he' z'
            rw [← hc, ka_fi] at hf; omega
          · rw [if_neg z'] at hc; exact hc
      subst ee
      have := a.2.1.symm.trans a'.2.1
      exact ⟨Option.some.inj this, rfl⟩
    | false =>
      have a' := pp_nh h he' hs' q'
      rw [if_neg (show ¬ ka_h (K s') = true by rw [hs']; decide)] at hc
      exfalso
      by_cases z : K e = 11
      · rw [if_pos z] at hc; rw [hc] at hk; omega
      · rw [if_neg z] at hc; rw [hc] at hk; omega
  | false =>
    have a := pp_nh h he hs q
    rw [if_neg (by rw [hs]; decide)] at hc
    cases hs' : ka_h (K s') with
    | true =>
      have a' := pp_h h he' hs' q'
      rw [if_pos hs'] at hc
      have hk' := en_ne h he' a'.1
      exfalso
      by_cases z : K e' = 11
      · rw [if_pos z] at hc; rw [← hc] at hk'; omega
      · rw [if_neg z] at hc; rw [← hc] at hk'; omega
    | false =>
      rw [if_neg (by rw [hs']; decide)] at hc
      subst hc
      exact ⟨rfl, pp_un h he he' hs q q'⟩
theorem ch_lt {K V : Nat → Nat} {n s e : Nat} (h : wf_ K V n) (he : e < n) (q : s ∈ pp_ K e) : ch_ K s e ≤ e := by
  unfold ch_
  cases hs : ka_h (K s) with
  | true =>
    rw [if_pos rfl]
    by_cases z : K e = 11
    · rw [if_pos z]; obtain ⟨_, _, _, _, _, w⟩ := end_top h he z; omega
    · rw [if_neg z]; omega
  | false => rw [if_neg (by decide)]; exact pp_le h he q
/-- a part of the table: all entries are components that end below i -/
def tq_ (K : Nat → Nat) (i : Nat) (t : List (Nat × Nat)) : Prop := ∀ p, p ∈ t → ∃ e s, e < i ∧ s ∈ pp_ K e ∧ p = (s, e + 1 - s) ∧ s ≤ e
theorem tq_len {K V : Nat → Nat} {n i : Nat} {t : List (Nat × Nat)} (h : wf_ K V n) (hi : i ≤ n) (ht : tq_ K i t)
    (hp : t.Pairwise (fun p q => sg_ K V p.1 p.2 ≠ sg_ K V q.1 q.2)) : t.length ≤ i := by
  have hl : (t.map (fun p => ch_ K p.1 (p.1 + p.2 - 1))).length ≤ i := by
    apply nd_len
    · rw [List.Nodup, List.pairwise_map]
      refine List.Pairwise.imp_of_mem ?_ hp
      intro p q hpm hqm hne hc
      obtain ⟨e, s, a, b, c, d⟩ := ht p hpm
      obtain ⟨e', s', a', b', c', d'⟩ := ht q hqm
      subst c; subst c'
      simp only at hc hne
      rw [show s + (e + 1 - s) - 1 = e by omega, show s' + (e' + 1 - s') - 1 = e' by omega] at hc
      have := ch_inj h (by omega) (by omega) b b' hc
      rw [this.1, this.2] at hne
      exact hne rfl
    · intro x hx
      obtain ⟨p, hpm, hx⟩ := List.mem_map.mp hx
      obtain ⟨e, s, a, b, c, d⟩ := ht p hpm
      subst c
      simp only at hx
      rw [show s + (e + 1 - s) - 1 = e by omega] at hx
      have := ch_lt h (by omega) b
      omega
  rw [List.length_map] at hl
  exact hl
theorem tb_tq {K V : Nat → Nat} {n i : Nat} (h : wf_ K V n) (hi : i ≤ n) : tq_ K i (tb_ K V i) := fun p hp => tb_mem h hi hp
theorem tl_tq {K V : Nat → Nat} {n e : Nat} {l : List Nat} (h : wf_ K V n) (he : e < n) (hl : ∀ s, s ∈ l → s ∈ pp_ K e) : tq_ K (e + 1) (tl_ K V e (tb_ K V e) l) := by
  intro p hp
  rcases tl_mem hp with z | ⟨s, hs, z⟩
  · obtain ⟨e', s, a, b⟩ := tb_mem h (by omega) z
    exact ⟨e', s, by omega, b⟩
  · exact ⟨e, s, by omega, hl s hs, z, pp_le h he (hl s hs)⟩
theorem tb_len {K V : Nat → Nat} {n i : Nat} (h : wf_ K V n) (hi : i ≤ n) : (tb_ K V i).length ≤ i := tq_len h hi (tb_tq h hi) (tb_pw K V i)
theorem tl_len {K V : Nat → Nat} {n e : Nat} {l : List Nat} (h : wf_ K V n) (he : e < n) (hl : ∀ s, s ∈ l → s ∈ pp_ K e) : (tl_ K V e (tb_ K V e) l).length ≤ e + 1 :=
  tq_len h (by omega) (tl_tq h he hl) (tl_pw (tb_pw K V e))
end
section
/-! X's cells and entries -/
def cv_ (K V : Nat → Nat) (t : List (Nat × Nat)) (n : Nat) (cs : Nat → List (Nat × Nat)) (cl : Nat → Bool) (xc : Int32) (xq : Nat → Int64) (xy : Nat → Int32) : Prop :=
  xc = nI n ∧ n ≤ 128 ∧ gc_ n cs cl ∧ ij_ n cs cl ∧
  (∀ c, c < n → ∃ o l r, vd_ n cs cl o l r ∧ o ≤ 11 ∧ l < 1024 ∧ r < 1024 ∧ xq c = lN ((o * 1024 + l) * 1024 + r) ∧ cs c = bd_ cs o l r ∧ (cl c = true ↔ o = 11)) ∧
  (∀ c, c < n → (xy c = -1 ∧ (cl c = true ∨ ∀ p, p ∈ t → sg_ K V p.1 p.2 ≠ cs c)) ∨ (∃ k p, xy c = nI k ∧ cl c = false ∧ t[k]? = some p ∧ sg_ K V p.1 p.2 = cs c)) ∧
  (∀ p, p ∈ t → ∃ c, c < n ∧ cl c = false ∧ cs c = sg_ K V p.1 p.2)
def tv_ (t : List (Nat × Nat)) (xe : Int32) (xF xZ : Nat → Int32) : Prop := xe = nI t.length ∧ ∀ k p, t[k]? = some p → xF k = nI p.1 ∧ xZ k = nI p.2
def kp_ (K V : Nat → Nat) (e : Nat) (L : List Nat) (s : Nat) : Nat := if (decide (s ∈ L) && kw_ K V (tb_ K V e) s e) = true then e + 1 - s else kl_ K V s e
def kv_ (K V : Nat → Nat) (e : Nat) (L : List Nat) (m : Nat) (t : List (Nat × Nat)) (xk xt : Nat → Int32) : Prop :=
  ∀ s, s < m → xk s = nI (kp_ K V e L s) ∧ (0 < kp_ K V e L s → ∃ k f, t[k]? = some (f, kp_ K V e L s) ∧ xt s = nI k ∧ sg_ K V f (kp_ K V e L s) = sg_ K V s (kp_ K V e L s))
/-- what becomes of 'failed' -/
def fr_ (K V : Nat → Nat) (xC : Nat → Int32) (xf xf' : Int32) (P : List (Nat × Nat)) : Prop :=
  (xf' = xf ∧ ∀ p, p ∈ P → kw_ K V (tb_ K V p.2) p.1 p.2 = true → nI p.2 ≤ xC p.1) ∨
  (xf' = 1 ∧ ∃ p, p ∈ P ∧ kw_ K V (tb_ K V p.2) p.1 p.2 = true ∧ ¬ nI p.2 ≤ xC p.1)
theorem fr_0 {K V : Nat → Nat} {xC : Nat → Int32} {xf : Int32} : fr_ K V xC xf xf [] := Or.inl ⟨rfl, fun p h => absurd h (by simp)⟩
theorem fr_app {K V : Nat → Nat} {xC : Nat → Int32} {a b c : Int32} {P Q : List (Nat × Nat)} (h : fr_ K V xC a b P) (h' : fr_ K V xC b c Q) : fr_ K V xC a c (P ++ Q) := by
  rcases h' with ⟨e, f⟩ | ⟨e, p, f, g⟩
  · rcases h with ⟨e2, f2⟩ | ⟨e2, p, f2, g2⟩
    · refine Or.inl ⟨by rw [e, e2], fun p hp => ?_⟩
      rcases List.mem_append.mp hp with z | z
      · exact f2 p z
      · exact f p z
    · exact Or.inr ⟨by rw [e, e2], p, by simp [f2], g2⟩
  · exact Or.inr ⟨e, p, by simp [f], g⟩
theorem ek_neg {a : Nat} (h : a < 2 ^ 31) : ¬ nI a = -1 := by
  intro e
  have := nI_pos (n := a) h
  rw [e] at this
  exact this (by decide)
theorem zc_key {o l r : Nat} {p0 p1 p2 : Int32} (h0 : p0.toInt64 = lN o) (h1 : p1.toInt64 + 1 = lN l) (h2 : p2.toInt64 + 1 = lN r) :
    (((((p0.toInt64 * 1024) + p1.toInt64) + 1) * 1024) + p2.toInt64) + 1 = lN ((o * 1024 + l) * 1024 + r) := by
  have e : (1024 : Int64) = lN 1024 := rfl
  rw [Int64.add_assoc, Int64.add_assoc, h1, h2, h0, e, lN_mul, lN_add, lN_mul, lN_add]
theorem zc_p (v : Nat) (h : v < 2 ^ 31) : (nI v).toInt64 + 1 = lN (v + 1) := by rw [nI_l h, lN_1]
theorem zc_m : (-1 : Int32).toInt64 + 1 = lN 0 := by decide
/-- more cells: what is said of the old ones stays -/
theorem vd_up {n : Nat} {cs cs' : Nat → List (Nat × Nat)} {cl cl' : Nat → Bool} {o l r : Nat} (h : vd_ n cs cl o l r) (hs : ∀ c, c < n → cs' c = cs c ∧ cl' c = cl c) (m : Nat) (hm : n ≤ m) :
    vd_ m cs' cl' o l r ∧ bd_ cs' o l r = bd_ cs o l r := by
  have hl : ∀ l, l ≤ n → lq_ cs' l = lq_ cs l := by
    intro l hl
    by_cases z : l = 0
    · rw [z]; rfl
    · rw [lq_p (by omega), lq_p (by omega), (hs (l - 1) (by omega)).1]
  have hc : ∀ l, 0 < l → l ≤ n → cl' (l - 1) = cl (l - 1) := fun l a b => (hs (l - 1) (by omega)).2
  rcases h with ⟨e, h1, hr, hn, hc1⟩ | ⟨e, h0, h1, h2, hr, hn, hc1, hq⟩ | ⟨e, h0, h1, h2, hr⟩ | ⟨e, h0, hr, hn, hc1, hq⟩ | ⟨e, h0, hr, hn, hc1⟩ | ⟨e, h0, hr⟩
  · subst e
    refine ⟨Or.inl ⟨rfl, ?_, hr, by omega, by rw [hc r hr hn]; exact hc1⟩, ?_⟩
    · rcases h1 with h1 | h1
      · exact Or.inl h1
      · by_cases z : l = 0
        · exact Or.inl z
        · exact Or.inr ⟨by omega, by rw [hc l (by omega) h1.1]; exact h1.2⟩
    · rw [bd_11, bd_11, hl r hn, hl l (by omega)]
  · subst e
    exact ⟨Or.inr (Or.inl ⟨rfl, h0, by omega, by rw [hc l h0 h1]; exact h2, hr, by omega, by rw [hc r hr hn]; exact hc1, by rw [(hs (r - 1) (by omega)).1]; exact hq⟩), by rw [bd_3, bd_3, hl r hn, hl l h1]⟩
  · subst e
    exact ⟨Or.inr (Or.inr (Or.inl ⟨rfl, h0, by omega, by rw [hc l h0 h1]; exact h2, hr⟩)), by rw [bd_9, bd_9, hl l h1]⟩
  · subst e
    exact ⟨Or.inr (Or.inr (Or.inr (Or.inl ⟨rfl, h0, hr, by omega, by rw [hc r hr hn]; exact hc1, by rw [(hs (r - 1) (by omega)).1]; exact hq⟩))), by rw [bd_1, bd_1, hl r hn]⟩
  · have hw := bd_wo e
    exact ⟨Or.inr (Or.inr (Or.inr (Or.inr (Or.inl ⟨e, h0, hr, by omega, by rw [hc r hr hn]; exact hc1⟩)))), by rw [bd_o hw.1 hw.2.1 hw.2.2.1 hw.2.2.2, bd_o hw.1 hw.2.1 hw.2.2.1 hw.2.2.2, hl r hn]⟩
  · exact ⟨Or.inr (Or.inr (Or.inr (Or.inr (Or.inr ⟨e, h0, hr⟩)))), by rw [bd_o (by omega) (by omega) (by omega) (by omega), bd_o (by omega) (by omega) (by omega) (by omega), hr]; rfl⟩
theorem key_un {o l r o' l' r' : Nat} (a : o ≤ 11) (b : l < 1024) (c : r < 1024) (a' : o' ≤ 11) (b' : l' < 1024) (c' : r' < 1024)
    (h : lN ((o * 1024 + l) * 1024 + r) = lN ((o' * 1024 + l') * 1024 + r')) : o = o' ∧ l = l' ∧ r = r' := by
  rw [lN_eq (by omega) (by omega)] at h
  omega
section
variable {xo xb : Int64} {xl xs xg xu xd xc xe xp xf xz : Int32} {xK xV xO xT xS xA xY xN xW xk xt xH xn : Nat → Int32} {xq : Nat → Int64} {xy xF xZ xC xv : Nat → Int32}
variable {K V : Nat → Nat} {t : List (Nat × Nat)} {n : Nat} {cs : Nat → List (Nat × Nat)} {cl : Nat → Bool}
def cs_n (n : Nat) (cs : Nat → List (Nat × Nat)) (w : List (Nat × Nat)) : Nat → List (Nat × Nat) := fun c => if c = n then w else cs c
def cl_n (n : Nat) (cl : Nat → Bool) (b : Bool) : Nat → Bool := fun c => if c = n then b else cl c
/-- a new cell -/
theorem cv_new {o l r : Nat} (h : cv_ K V t n cs cl xc xq xy) (hv : vd_ n cs cl o l r) (ho : o ≤ 11) (hl : l < 1024) (hr : r < 1024) (hn : n < 128)
    (hk : ∀ c, c < n → ¬ xq c = lN ((o * 1024 + l) * 1024 + r)) :
    cv_ K V t (n + 1) (cs_n n cs (bd_ cs o l r)) (cl_n n cl (decide (o = 11))) (nI (n + 1)) (vp_updL xq n (lN ((o * 1024 + l) * 1024 + r))) (upd xy n (-1)) := by
  obtain ⟨h1, h2, h3, h4, h5, h6, h7⟩ := h
  have hs : ∀ c, c < n → cs_n n cs (bd_ cs o l r) c = cs c ∧ cl_n n cl (decide (o = 11)) c = cl c := by
    intro c hc
    unfold cs_n cl_n
    rw [if_neg (by omega), if_neg (by omega)]; exact ⟨rfl, rfl⟩
  have en : cs_n n cs (bd_ cs o l r) n = bd_ cs o l r := by unfold cs_n; rw [if_pos rfl]
  have el : cl_n n cl (decide (o = 11)) n = decide (o = 11) := by unfold cl_n; rw [if_pos rfl]
  have hg := bd_good h3 hv
  have fresh : ∀ c, c < n → cl c = decide (o = 11) → cs c ≠ bd_ cs o l r := by
    intro c hc hcl heq
    obtain ⟨o', l', r', a, b, d, d2, d3, d4, d5⟩ := h5 c hc
    rw [d4] at heq
    have := bd_inj h3 h4 a hv (by rw [← d5, hcl]; exact decide_eq_true_iff) heq
    obtain ⟨e1, e2, e3⟩ := this
    subst e1; subst e2; subst e3
    exact hk c hc d3
  refine ⟨rfl, by omega, ?_, ?_, ?_, ?_, ?_⟩
  · intro c hc
    by_cases z : c = n
    · subst z
      rw [en, el]
      constructor
      · intro q; exact hg.1 (of_decide_eq_true q)
      · intro q; exact hg.2 (of_decide_eq_false q)
    · rw [(hs c (by omega)).1, (hs c (by omega)).2]; exact h3 c (by omega)
  · intro c c' hc hc' e1 e2
    by_cases z : c = n
    · by_cases z' : c' = n
      · omega
      · exfalso
        subst z
        rw [el, (hs c' (by omega)).2] at e1
        rw [en, (hs c' (by omega)).1] at e2
        exact fresh c' (by omega) e1.symm e2.symm
    · by_cases z' : c' = n
      · exfalso
        subst z'
        rw [el, (hs c (by omega)).2] at e1
        rw [en, (hs c (by omega)).1] at e2
        exact fresh c (by omega) e1 e2
      · rw [(hs c (by omega)).2, (hs c' (by omega)).2] at e1
        rw [(hs c (by omega)).1, (hs c' (by omega)).1] at e2
        exact h4 c c' (by omega) (by omega) e1 e2
  · intro c hc
    by_cases z : c = n
    · subst z
      have := vd_up hv hs (c + 1) (by omega)
      refine ⟨o, l, r, this.1, ho, hl, hr, pk_uLs, by rw [en, this.2], by rw [el]; exact decide_eq_true_iff⟩
    · obtain ⟨o', l', r', a, b, d, d2, d3, d4, d5⟩ := h5 c (by omega)
      have := vd_up a hs (n + 1) (by omega)
      refine ⟨o', l', r', this.1, b, d, d2, by rw [pk_uLn z]; exact d3, by rw [(hs c (by omega)).1, this.2]; exact d4, by rw [(hs c (by omega)).2]; exact d5⟩
  · intro c hc
    by_cases z : c = n
    · subst z
      refine Or.inl ⟨pk_us, ?_⟩
      rw [el, en]
      by_cases q : o = 11
      · exact Or.inl (decide_eq_true q)
      · refine Or.inr (fun p hp heq => ?_)
        obtain ⟨c', a, b, d⟩ := h7 p hp
        exact fresh c' a (by rw [b]; exact (decide_eq_false q).symm) (d.trans heq)
    · rw [pk_un z, (hs c (by omega)).1, (hs c (by omega)).2]; exact h6 c (by omega)
  · intro p hp
    obtain ⟨c, a, b, d⟩ := h7 p hp
    exact ⟨c, by omega, by rw [(hs c a).2]; exact b, by rw [(hs c a).1]; exact d⟩
/-- the ghosts grow -/
def xt_ (n n' : Nat) (cs cs' : Nat → List (Nat × Nat)) (cl cl' : Nat → Bool) : Prop := n ≤ n' ∧ ∀ c, c < n → cs' c = cs c ∧ cl' c = cl c
theorem xt_r : xt_ n n cs cs cl cl := ⟨Nat.le_refl _, fun _ _ => ⟨rfl, rfl⟩⟩
theorem xt_t {n' n'' : Nat} {cs' cs'' : Nat → List (Nat × Nat)} {cl' cl'' : Nat → Bool} (h : xt_ n n' cs cs' cl cl') (h' : xt_ n' n'' cs' cs'' cl' cl'') : xt_ n n'' cs cs'' cl cl'' :=
  ⟨Nat.le_trans h.1 h'.1, fun c hc => by
    have a := h.2 c hc
    have b := h'.2 c (Nat.lt_of_lt_of_le hc h.1)
    exact ⟨b.1.trans a.1, b.2.trans a.2⟩⟩
theorem zc_cell {post : Int32 → SX → Prop} {o l r : Nat} {p0 p1 p2 : Int32} (h : cv_ K V t n cs cl xc xq xy) (hv : vd_ n cs cl o l r)
    (ho : o ≤ 11) (hl : l < 1024) (hr : r < 1024) (hn : n < 128)
    (e0 : p0.toInt64 = lN o) (e1 : p1.toInt64 + 1 = lN l) (e2 : p2.toInt64 + 1 = lN r)
    (H : ∀ (c n' : Nat) (cs' : Nat → List (Nat × Nat)) (cl' : Nat → Bool) (xc' : Int32) (xq' : Nat → Int64) (xy' : Nat → Int32),
      cv_ K V t n' cs' cl' xc' xq' xy' → xt_ n n' cs cs' cl cl' → n' ≤ n + 1 → c < n' → cs' c = bd_ cs o l r → (cl' c = true ↔ o = 11) →
      post (nI c) (xo, xb, xl, xs, xg, xu, xd, xc', xe, xp, xf, xz, xK, xV, xO, xT, xS, xA, xY, xN, xW, xk, xt, xH, xn, xq', xy', xF, xZ, xC, xv)) : wpX_cell post (xo, xb, xl, xs, xg, xu, xd, xc, xe, xp, xf, xz, xK, xV, xO, xT, xS, xA, xY, xN, xW, xk, xt, xH, xn, xq, xy, xF, xZ, xC, xv) p0 p1 p2 := by
  refine nm_r (zc_key e0 e1 e2) ⟨n + 1, ?_⟩
  have hx : xc = nI n := h.1
  have key : ∀ d j, j + d = n → (∀ c, c < j → ¬ xq c = lN ((o * 1024 + l) * 1024 + r)) → wX_cell_25 post (lN ((o * 1024 + l) * 1024 + r)) xo xb xl xs xg xu xd xc xe xp xf xz xK xV xO xT xS xA xY xN xW xk xt xH xn xq xy xF xZ xC xv (d + 1) (nI j) := by
    intro d
    induction d with
    | zero =>
      intro j hj hno
      have hjn : j = n := by omega
      subst hjn
      refine br_t (by rw [hx]; exact nI_le (by omega) (by omega)) ?_
      refine br_t (by rw [hx]; exact nI_lt (b := 128) (by omega) (by omega)) ?_
      have hin : vp_in xc 128 := by rw [hx]; exact vp_in_nI (by omega) (by omega)
      have hcl : xc.toNatClampNeg = j := by rw [hx]; exact nI_clamp (by omega)
      refine ⟨hin, nm_r (by rw [hcl]) ⟨hin, nm_r (by rw [hcl]) (nm_r (e' := nI (j + 1)) (by rw [hx, nI_1]) ?_)⟩⟩
      rw [show nI (j + 1) - 1 = nI j from nI_pred j]
      refine H j (j + 1) _ _ _ _ _ (cv_new h hv ho hl hr hn hno) ⟨by omega, fun c hc => ?_⟩ (by omega) (by omega) ?_ ?_
      · unfold cs_n cl_n; rw [if_neg (by omega), if_neg (by omega)]; exact ⟨rfl, rfl⟩
      · unfold cs_n; rw [if_pos rfl]
      · unfold cl_n; rw [if_pos rfl]; exact decide_eq_true_iff
    | succ d ih =>
      intro j hj hno
      refine br_f (by rw [hx]; exact nI_ge (by omega) (by omega)) ⟨vp_in_nI (by omega) (by omega), ?_⟩
      rw [nI_clamp (by omega)]
      by_cases q : xq j = lN ((o * 1024 + l) * 1024 + r)
      · refine br_t q ?_
        obtain ⟨o', l', r', a, b, b1, b2, b3, b4, b5⟩ := h.2.2.2.2.1 j (by omega)
        have := key_un ho hl hr b b1 b2 (q.symm.trans b3)
        obtain ⟨z1, z2, z3⟩ := this
        subst z1; subst z2; subst z3
        exact H j n cs cl xc xq xy h xt_r (by omega) (by omega) b4 b5
      · refine br_f q (nm_r (nI_1 j) ?_)
        refine ih (j + 1) (by omega) (fun c hc => ?_)
        by_cases z : c = j
        · rw [z]; exact q
        · exact hno c (by omega)
  exact key n 0 (by omega) (fun c hc => absurd hc (by omega))
end
end
section
/-! X's register -/
theorem kp_n {K V : Nat → Nat} {e s x : Nat} {L : List Nat} (h : x ≠ s) : kp_ K V e (L ++ [s]) x = kp_ K V e L x := by
  unfold kp_
  have : decide (x ∈ L ++ [s]) = decide (x ∈ L) := by
    rw [decide_eq_decide, List.mem_append, List.mem_singleton]
    constructor
    · rintro (z | z)
      · exact z
      · exact absurd z h
    · exact Or.inl
  rw [this]
theorem kp_t {K V : Nat → Nat} {e s : Nat} {L : List Nat} (hw : kw_ K V (tb_ K V e) s e = true) : kp_ K V e (L ++ [s]) s = e + 1 - s := by
  unfold kp_
  rw [hw, Bool.and_true, if_pos (decide_eq_true (by simp))]
theorem kp_f {K V : Nat → Nat} {e s : Nat} {L : List Nat} (hw : kw_ K V (tb_ K V e) s e = false) : kp_ K V e L s = kl_ K V s e := by
  unfold kp_
  rw [hw, Bool.and_false, if_neg (by decide)]
theorem ek_pre {α : Type} {t t' : List α} {k : Nat} {p : α} (h : t <+: t') (q : t[k]? = some p) : t'[k]? = some p := by
  obtain ⟨r, rfl⟩ := h
  rw [List.getElem?_append_left]
  · exact q
  · exact (List.getElem?_eq_some_iff.mp q).1
theorem ek_last {α : Type} {t : List α} {k : Nat} {p q : α} (h : (t ++ [p])[k]? = some q) : t[k]? = some q ∨ (k = t.length ∧ q = p) := by
  rcases Nat.lt_trichotomy k t.length with z | z | z
  · rw [List.getElem?_append_left z] at h; exact Or.inl h
  · rw [List.getElem?_append_right (by omega), z, Nat.sub_self] at h
    exact Or.inr ⟨z, (Option.some.inj h).symm⟩
  · rw [List.getElem?_append_right (by omega)] at h
    have : ([p] : List α)[k - t.length]? = none := List.getElem?_eq_none (by simp; omega)
    rw [this] at h; exact absurd h (by simp)
section
variable {xo xb : Int64} {xl xs xg xu xd xc xe xp xf xz : Int32} {xK xV xO xT xS xA xY xN xW xk xt xH xn : Nat → Int32} {xq : Nat → Int64} {xy xF xZ xC xv : Nat → Int32}
variable {K V : Nat → Nat} {n : Nat} {cs : Nat → List (Nat × Nat)} {cl : Nat → Bool}
theorem zr_reg {post : SX → Prop} {e s c m : Nat} {L : List Nat}
    (h : cv_ K V (tl_ K V e (tb_ K V e) L) n cs cl xc xq xy) (ht : tv_ (tl_ K V e (tb_ K V e) L) xe xF xZ) (hk : kv_ K V e L m (tl_ K V e (tb_ K V e) L) xk xt)
    (hs : s < m) (hm : m ≤ 48) (hse : s ≤ e) (he : e < 48) (hL : ∀ x, x ∈ L → x ≤ e) (hsL : s ∉ L)
    (hc : c < n) (hcl : cl c = false) (hcs : cs c = sg_ K V s (e + 1 - s)) (hlen : (tl_ K V e (tb_ K V e) (L ++ [s])).length ≤ 48)
    (H : ∀ (xe' xf' : Int32) (xy' xF' xZ' xk' xt' : Nat → Int32), cv_ K V (tl_ K V e (tb_ K V e) (L ++ [s])) n cs cl xc xq xy' → tv_ (tl_ K V e (tb_ K V e) (L ++ [s])) xe' xF' xZ' →
      kv_ K V e (L ++ [s]) m (tl_ K V e (tb_ K V e) (L ++ [s])) xk' xt' → fr_ K V xC xf xf' [(s, e)] → post (xo, xb, xl, xs, xg, xu, xd, xc, xe', xp, xf', xz, xK, xV, xO, xT, xS, xA, xY, xN, xW, xk', xt', xH, xn, xq, xy', xF', xZ', xC, xv)) :
    wpX_register post (xo, xb, xl, xs, xg, xu, xd, xc, xe, xp, xf, xz, xK, xV, xO, xT, xS, xA, xY, xN, xW, xk, xt, xH, xn, xq, xy, xF, xZ, xC, xv) (nI s) (nI e) (nI c) := by
  have hkw := kw_tl (K := K) (V := V) (t := tb_ K V e) hse hL hsL
  rw [tl_snoc] at hlen H
  generalize hT : tl_ K V e (tb_ K V e) L = T at *
  have hn := h.2.1
  have hin : vp_in (nI c) 128 := vp_in_nI (by omega) (by omega)
  have hcc : (nI c).toNatClampNeg = c := nI_clamp (by omega)
  have hsc : (nI s).toNatClampNeg = s := nI_clamp (by omega)
  have hsi : vp_in (nI s) 48 := vp_in_nI (by omega) (by omega)
  have hsz : (nI e - nI s) + 1 = nI (e + 1 - s) := by rw [pk_sub hse, nI_1, show e - s + 1 = e + 1 - s by omega]
  refine ⟨hin, ?_⟩
  rw [hcc]
  rcases h.2.2.2.2.2.1 c hc with ⟨e1, e2⟩ | ⟨k, p, e1, _, e3, e4⟩
  · have e2' : ∀ p, p ∈ T → sg_ K V p.1 p.2 ≠ cs c := by
      rcases e2 with z | z
      · rw [hcl] at z; exact absurd z (by decide)
      · exact z
    have hf : kw_ K V T s e = false := by
      cases q : kw_ K V T s e with
      | false => rfl
      | true =>
        obtain ⟨p, a, b⟩ := kw_i.mp q
        exact absurd (b.trans hcs.symm) (e2' p a)
    have hta : ta_ K V e T s = T ++ [(s, e + 1 - s)] := by unfold ta_; rw [if_neg (by rw [hf]; decide)]
    rw [hta] at hlen H
    have hTl : T.length + 1 ≤ 48 := by rw [List.length_append] at hlen; exact hlen
    refine br_t (by rw [e1]; decide) ?_
    refine br_f (by rw [ht.1]; exact nI_ge (b := 48) (by omega) (by omega)) ?_
    have hein : vp_in xe 48 := by rw [ht.1]; exact vp_in_nI (by omega) (by omega)
    have hec : xe.toNatClampNeg = T.length := by rw [ht.1]; exact nI_clamp (by omega)
    refine ⟨hin, nm_r (e' := upd xy c (nI T.length)) (by rw [ht.1]) ⟨hein, nm_r (e' := upd xF T.length (nI s)) (by rw [hec]) ⟨hein, nm_r (e' := upd xZ T.length (nI (e + 1 - s))) (by rw [hec, hsz]) (nm_r (e' := nI (T.length + 1)) (by rw [ht.1, nI_1]) ?_)⟩⟩⟩
    refine H _ _ _ _ _ _ _ ?_ ?_ ?_ ?_
    · obtain ⟨h1, h2, h3, h4, h5, h6, h7⟩ := h
      refine ⟨h1, h2, h3, h4, h5, ?_, ?_⟩
      · intro c' hc'
        by_cases z : c' = c
        · subst z
          refine Or.inr ⟨T.length, (s, e + 1 - s), pk_us, hcl, by simp, hcs.symm⟩
        · rw [pk_un z]
          rcases h6 c' hc' with ⟨a, b⟩ | ⟨k, p, a, b, d, f⟩
          · refine Or.inl ⟨a, ?_⟩
            rcases b with b | b
            · exact Or.inl b
            · cases q : cl c' with
              | true => exact Or.inl rfl
              | false =>
                refine Or.inr (fun p hp hq => ?_)
                rcases List.mem_append.mp hp with w | w
                · exact b p w hq
                · rw [List.mem_singleton.mp w] at hq
                  exact z (h4 c' c hc' hc (by rw [q, hcl]) (hq.symm.trans hcs.symm))
          · exact Or.inr ⟨k, p, a, b, ek_pre (List.prefix_append _ _) d, f⟩
      · intro p hp
        rcases List.mem_append.mp hp with w | w
        · exact h7 p w
        · rw [List.mem_singleton.mp w]; exact ⟨c, hc, hcl, hcs⟩
    · refine ⟨by rw [List.length_append]; rfl, fun k p q => ?_⟩
      rcases ek_last q with z | ⟨z1, z2⟩
      · have hlt := (List.getElem?_eq_some_iff.mp z).1
        rw [pk_un (by omega), pk_un (by omega)]; exact ht.2 k p z
      · rw [z1, z2]; exact ⟨pk_us, pk_us⟩
    · intro x hx
      have ex : kp_ K V e (L ++ [s]) x = kp_ K V e L x := by
        by_cases z : x = s
        · subst z; rw [kp_f (by rw [← hkw]; exact hf), kp_f (by rw [← hkw]; exact hf)]
        · exact kp_n z
      rw [ex]
      refine ⟨(hk x hx).1, fun q => ?_⟩
      obtain ⟨k, f, a, b⟩ := (hk x hx).2 q
      exact ⟨k, f, ek_pre (List.prefix_append _ _) a, b⟩
    · refine Or.inl ⟨rfl, fun p hp q => ?_⟩
      rw [List.mem_singleton.mp hp] at q
      rw [← hkw, hf] at q; exact absurd q (by decide)
  · have hw : kw_ K V T s e = true := kw_i.mpr ⟨p, List.mem_of_getElem? e3, e4.trans hcs⟩
    have hta : ta_ K V e T s = T := by unfold ta_; rw [if_pos hw]
    rw [hta] at hlen H
    have hkl : k < T.length := (List.getElem?_eq_some_iff.mp e3).1
    refine br_f (by rw [e1]; exact nI_pos (by omega)) ?_
    refine ⟨hsi, nm_r (e' := upd xk s (nI (e + 1 - s))) (by rw [hsc, hsz]) ⟨hin, hsi, nm_r (e' := upd xt s (nI k)) (by rw [hsc, e1]) ⟨hsi, ?_⟩⟩⟩
    rw [hsc]
    have kv' : kv_ K V e (L ++ [s]) m T (upd xk s (nI (e + 1 - s))) (upd xt s (nI k)) := by
      intro x hx
      by_cases z : x = s
      · subst z
        rw [kp_t (by rw [← hkw]; exact hw)]
        refine ⟨pk_us, fun _ => ?_⟩
        have hz : p.2 = e + 1 - x := sg_n (e4.trans hcs)
        refine ⟨k, p.1, ?_, pk_us, ?_⟩
        · rw [e3, ← hz]
        · rw [← hz, e4, hcs, hz]
      · rw [kp_n z, pk_un z, pk_un z]; exact hk x hx
    by_cases q : nI e ≤ xC s
    · exact br_t q (H _ _ _ _ _ _ _ h ht kv' (Or.inl ⟨rfl, fun p hp _ => by rw [List.mem_singleton.mp hp]; exact q⟩))
    · exact br_f q (H _ _ _ _ _ _ _ h ht kv' (Or.inr ⟨rfl, (s, e), by simp, by rw [← hkw]; exact hw, q⟩))
end
end
section
/-! X: a type is complete -/
def sv_ (xS : Nat → Int32) : List Nat → Prop
  | [] => True
  | x :: r => xS r.length = nI x ∧ sv_ xS r
def kx_ (K V : Nat → Nat) (m : Nat) (xK xV : Nat → Int32) : Prop := ∀ j, j < m → xK j = nI (K j) ∧ xV j = nI (V j) ∧ K j ≤ 11 ∧ V j ≤ 701
def aq_ (K V : Nat → Nat) (n : Nat) (cs : Nat → List (Nat × Nat)) (cl : Nat → Bool) (xA : Nat → Int32) : Nat → List Nat → Prop
  | _, [] => True
  | b, x :: r => (ka_h (K x) = true → ∃ c, xA x = nI c ∧ c < n ∧ cl c = false ∧ cs c = sg_ K V x (b - x)) ∧
      (ka_f (K x) = true → (b = x + 1 ∧ xA x = -1) ∨ (x + 1 < b ∧ ∃ c, xA x = nI c ∧ c < n ∧ cl c = true ∧ cs c = sg_ K V (x + 1) (b - (x + 1)))) ∧
      aq_ K V n cs cl xA x r
theorem sv_app {xS : Nat → Int32} {r : List Nat} : ∀ {l : List Nat}, sv_ xS (l ++ r) → sv_ xS r := by
  intro l
  induction l with
  | nil => intro h; exact h
  | cons x l ih => intro h; exact ih h.2
theorem aq_up {K V : Nat → Nat} {n n' : Nat} {cs cs' : Nat → List (Nat × Nat)} {cl cl' : Nat → Bool} {xA : Nat → Int32} (hx : xt_ n n' cs cs' cl cl') :
    ∀ {r : List Nat} {b : Nat}, aq_ K V n cs cl xA b r → aq_ K V n' cs' cl' xA b r := by
  intro r
  induction r with
  | nil => intro b _; trivial
  | cons x r ih =>
    intro b h
    refine ⟨fun q => ?_, fun q => ?_, ih h.2.2⟩
    · obtain ⟨c, a, b1, d, f⟩ := h.1 q
      have := hx.2 c b1
      exact ⟨c, a, Nat.lt_of_lt_of_le b1 hx.1, this.2.trans d, this.1.trans f⟩
    · rcases h.2.1 q with z | ⟨z, c, a, b1, d, f⟩
      · exact Or.inl z
      · have := hx.2 c b1
        exact Or.inr ⟨z, c, a, Nat.lt_of_lt_of_le b1 hx.1, this.2.trans d, this.1.trans f⟩
theorem aq_u {K V : Nat → Nat} {n : Nat} {cs : Nat → List (Nat × Nat)} {cl : Nat → Bool} {xA : Nat → Int32} {x : Nat} {v : Int32} :
    ∀ {r : List Nat} {b : Nat}, (∀ y, y ∈ r → y ≠ x) → aq_ K V n cs cl xA b r → aq_ K V n cs cl (upd xA x v) b r := by
  intro r
  induction r with
  | nil => intro b _ _; trivial
  | cons y r ih =>
    intro b hy h
    have h1 := hy y (by simp)
    unfold aq_
    rw [pk_un h1]
    exact ⟨h.1, h.2.1, ih (fun z hz => hy z (by simp [hz])) h.2.2⟩
/-- wrappers that stand in a row below y -/
def cg_ (K : Nat → Nat) : Nat → List Nat → Prop
  | _, [] => True
  | y, w :: l => w + 1 = y ∧ ka_w (K w) = true ∧ cg_ K w l
def yb_ : Nat → List Nat → Nat
  | y, [] => y
  | _, w :: l => yb_ w l
theorem ek_b {a b : Nat} (h : a = b) : nI a = nI b := by rw [h]
section
variable {xo xb : Int64} {xl xs xg xu xd xc xe xp xf xz : Int32} {xK xV xO xT xS xA xY xN xW xk xt xH xn : Nat → Int32} {xq : Nat → Int64} {xy xF xZ xC xv : Nat → Int32}
variable {K V : Nat → Nat}
theorem zx_w {post : Int32 → Prop} {k : Nat} (hk : k ≤ 11) (h1 : ka_w k = true → post 1) (h0 : ka_w k = false → post 0) : wpX_isWrapper post (xo, xb, xl, xs, xg, xu, xd, xc, xe, xp, xf, xz, xK, xV, xO, xT, xS, xA, xY, xN, xW, xk, xt, xH, xn, xq, xy, xF, xZ, xC, xv) (nI k) :=
  pk_lt k 5 (fun q => h0 (ka_wn.mpr (by omega))) (fun q => pk_lt 8 k (fun z => h0 (ka_wn.mpr (by omega))) (fun z => h1 (ka_wi.mpr ⟨q, z⟩)))
theorem zx_h {post : Int32 → Prop} {k : Nat} (hk : k ≤ 11) (h1 : ka_h k = true → post 1) (h0 : ka_h k = false → post 0) : wpX_isHead post (xo, xb, xl, xs, xg, xu, xd, xc, xe, xp, xf, xz, xK, xV, xO, xT, xS, xA, xY, xN, xW, xk, xt, xH, xn, xq, xy, xF, xZ, xC, xv) (nI k) :=
  pk_eq k 0 (fun q => h1 (ka_hi.mpr (Or.inl q))) (fun q => pk_eq k 2 (fun z => h1 (ka_hi.mpr (Or.inr z))) (fun z => h0 (ka_hn.mpr (by omega))))
theorem zx_top {post : Int32 → Prop} {x : Nat} {r : List Nat} (hd : xd = nI (x :: r).length) (hs : sv_ xS (x :: r)) (hl : (x :: r).length ≤ 48) (h : post (nI x)) : wpX_top post (xo, xb, xl, xs, xg, xu, xd, xc, xe, xp, xf, xz, xK, xV, xO, xT, xS, xA, xY, xN, xW, xk, xt, xH, xn, xq, xy, xF, xZ, xC, xv) := by
  have hl' : r.length + 1 ≤ 48 := hl
  have e1 : nI (x :: r).length - 1 = nI r.length := nI_pred _
  subst hd
  refine br_f (nI_nle (by simp) (by simp; omega)) ⟨by rw [e1]; exact vp_in_nI (by omega) (by omega), ?_⟩
  rw [e1, nI_clamp (by omega), hs.1]; exact h
theorem zx_top0 {post : Int32 → Prop} (hd : xd = nI 0) (h : post 0) : wpX_top post (xo, xb, xl, xs, xg, xu, xd, xc, xe, xp, xf, xz, xK, xV, xO, xT, xS, xA, xY, xN, xW, xk, xt, xH, xn, xq, xy, xF, xZ, xC, xv) := by
  subst hd; exact br_t (by decide) h
/-- the frame's list grows -/
theorem zt_base {post : SX → Prop} {e y c f tf n m : Nat} {t : List (Nat × Nat)} {r : List Nat} {cs : Nat → List (Nat × Nat)} {cl : Nat → Bool}
    (h : cv_ K V t n cs cl xc xq xy) (hm : m ≤ 48) (hst : ∀ x, x ∈ f :: r → x < m) (hd : xd = nI (f :: r).length) (hs : sv_ xS (f :: r)) (hl : (f :: r).length ≤ 48)
    (hq : aq_ K V n cs cl xA y (f :: r)) (hf : ka_f (K f) = true) (hy : f < y) (hye : y ≤ e) (hc : c < n) (hcl : cl c = false) (hcs : cs c = sg_ K V y (e + 1 - y)) (hn : n < 128)
    (hty : xY f = nI tf)
    (H : ∀ (n' c' : Nat) (cs' : Nat → List (Nat × Nat)) (cl' : Nat → Bool) (xc' : Int32) (xq' : Nat → Int64) (xy' : Nat → Int32), cv_ K V t n' cs' cl' xc' xq' xy' → xt_ n n' cs cs' cl cl' → n' ≤ n + 1 →
      c' < n' → cl' c' = true → cs' c' = sg_ K V (f + 1) (e - f) → post (xo, xb, xl, xs, xg, xu, xd, xc', xe, xp, xf, xz, xK, xV, xO, xT, xS, upd xA f (nI c'), upd xY f (nI (tf + 1)), xN, xW, xk, xt, xH, xn, xq', xy', xF, xZ, xC, xv)) :
    wX_completeType_84 post (nI c) xo xb xl xs xg xu xd xc xe xp xf xz xK xV xO xT xS xA xY xN xW xk xt xH xn xq xy xF xZ xC xv := by
  have hfm : f < m := hst f (by simp)
  have hfi : vp_in (nI f) 48 := vp_in_nI (by omega) (by omega)
  have hfc : (nI f).toNatClampNeg = f := nI_clamp (by omega)
  have h128 := h.2.1
  refine zx_top hd hs hl ⟨hfi, ?_⟩
  rw [hfc]
  have hl0 : ∃ l, (l = 0 ∨ (l ≤ n ∧ cl (l - 1) = true)) ∧ (xA f).toInt64 + 1 = lN l ∧ l < 1024 ∧ lq_ cs l = sg_ K V (f + 1) (y - (f + 1)) := by
    rcases hq.2.1 hf with ⟨z1, z2⟩ | ⟨z1, c1, z2, z3, z4, z5⟩
    · exact ⟨0, Or.inl rfl, by rw [z2]; exact zc_m, by omega, by rw [lq_z, show y - (f + 1) = 0 by omega, sg_0]⟩
    · exact ⟨c1 + 1, Or.inr ⟨by omega, by rw [Nat.add_sub_cancel]; exact z4⟩, by rw [z2]; exact zc_p c1 (by omega), by omega, by rw [lq_p (by omega), Nat.add_sub_cancel, z5]⟩
  obtain ⟨l, hl1, hl2, hl3, hl4⟩ := hl0
  refine zc_cell (o := 11) (l := l) (r := c + 1) h (Or.inl ⟨rfl, hl1, by omega, by omega, by rw [Nat.add_sub_cancel]; exact hcl⟩) (by omega) hl3 (by omega) hn (by decide) hl2 (zc_p c (by omega)) ?_
  intro c' n' cs' cl' xc' xq' xy' a1 a2 a3 a4 a5 a6
  refine ⟨hfi, nm_e ⟨hfi, hfi, nm_r (e' := upd xY f (nI (tf + 1))) (by rw [hty, nI_1]) ?_⟩⟩
  refine H n' c' cs' cl' xc' xq' xy' a1 a2 a3 a4 (a6.mpr rfl) ?_
  rw [a5, bd_11, hl4, lq_p (by omega), Nat.add_sub_cancel, hcs]
  have e2 : e - f = (y - (f + 1)) + (e + 1 - y) := by omega
  rw [e2, sg_app, show f + 1 + (y - (f + 1)) = y by omega]
end
end
section
/-! X: the wrappers around a complete type -/
def tt_ (K V : Nat → Nat) (e : Nat) (L : List Nat) (m n : Nat) (cs : Nat → List (Nat × Nat)) (cl : Nat → Bool) (xc xe : Int32) (xk xt : Nat → Int32) (xq : Nat → Int64) (xy xF xZ : Nat → Int32) : Prop :=
  cv_ K V (tl_ K V e (tb_ K V e) L) n cs cl xc xq xy ∧ tv_ (tl_ K V e (tb_ K V e) L) xe xF xZ ∧ kv_ K V e L m (tl_ K V e (tb_ K V e) L) xk xt
/-- a list of starts that may be registered at e -/
def lo_ (K V : Nat → Nat) (e : Nat) (L : List Nat) : Prop := (∀ x, x ∈ L → x ≤ e) ∧ L.Nodup ∧ ∀ L', L' <+: L → (tl_ K V e (tb_ K V e) L').length ≤ 48
section
variable {xo xb : Int64} {xl xs xg xu xd xc xe xp xf xz : Int32} {xK xV xO xT xS xA xY xN xW xk xt xH xn : Nat → Int32} {xq : Nat → Int64} {xy xF xZ xC xv : Nat → Int32}
variable {K V : Nat → Nat}
theorem zt_loop {post : SX → Prop} {e m f tf n0 nb : Nat} {r Lf : List Nat} {Pf : List (Nat × Nat)} {cs0 : Nat → List (Nat × Nat)} {cl0 : Nat → Bool} {xf0 : Int32}
    (hm : m ≤ 48) (he : e < 48) (hnb : nb ≤ 128) (hf : ka_f (K f) = true) (hkx : kx_ K V m xK xV) (hty : xY f = nI tf) (hLf : lo_ K V e Lf)
    (H : ∀ (n' c' : Nat) (cs' : Nat → List (Nat × Nat)) (cl' : Nat → Bool) (xf' : Int32) (xc' xe' : Int32) (xk' xt' : Nat → Int32) (xq' : Nat → Int64) (xy' xF' xZ' : Nat → Int32), tt_ K V e Lf m n' cs' cl' xc' xe' xk' xt' xq' xy' xF' xZ' → xt_ n0 n' cs0 cs' cl0 cl' →
      fr_ K V xC xf0 xf' Pf → n' ≤ nb → c' < n' → cl' c' = true → cs' c' = sg_ K V (f + 1) (e - f) →
      post (xo, xb, xl, xs, xg, xu, nI (f :: r).length, xc', xe', xp, xf', xz, xK, xV, xO, xT, xS, upd xA f (nI c'), upd xY f (nI (tf + 1)), xN, xW, xk', xt', xH, xn, xq', xy', xF', xZ', xC, xv)) :
    ∀ (ws : List Nat) (y c n : Nat) (cs : Nat → List (Nat × Nat)) (cl : Nat → Bool) (L : List Nat) (P : List (Nat × Nat)) (xd xf : Int32) (xc xe : Int32) (xk xt : Nat → Int32) (xq : Nat → Int64) (xy xF xZ : Nat → Int32),
      tt_ K V e L m n cs cl xc xe xk xt xq xy xF xZ → xt_ n0 n cs0 cs cl0 cl → fr_ K V xC xf0 xf P → L ++ ws = Lf → P ++ ws.map (fun w => (w, e)) = Pf → cg_ K y ws → n + ws.length + 1 ≤ nb →
      (∀ x, x ∈ ws ++ f :: r → x < m) → (ws ++ f :: r).length ≤ 48 → xd = nI (ws ++ f :: r).length → sv_ xS (ws ++ f :: r) →
      aq_ K V n cs cl xA (yb_ y ws) (f :: r) → y ≤ e → f < yb_ y ws → c < n → cl c = false → cs c = sg_ K V y (e + 1 - y) →
      ∀ fuel, ws.length < fuel → wX_completeType_2 post (nI e) fuel (nI c) xo xb xl xs xg xu xd xc xe xp xf xz xK xV xO xT xS xA xY xN xW xk xt xH xn xq xy xF xZ xC xv := by
  intro ws
  induction ws with
  | nil =>
    intro y c n cs cl L P xd xf xc xe xk xt xq xy xF xZ ht hx hfr hL hP _ hn hst hl hd hs hq hye hfy hc hcl hcs fuel hfu
    obtain ⟨fuel, rfl⟩ : ∃ k, fuel = k + 1 := ⟨fuel - 1, by simp at hfu; omega⟩
    rw [List.append_nil] at hL
    rw [List.map_nil, List.append_nil] at hP
    subst hL; subst hP
    simp only [List.nil_append] at hst hl hd hs
    have hfm := hst f (by simp)
    have hrl : r.length + 1 ≤ 48 := hl
    have hbase : wX_completeType_84 post (nI c) xo xb xl xs xg xu xd xc xe xp xf xz xK xV xO xT xS xA xY xN xW xk xt xH xn xq xy xF xZ xC xv := by
      refine zt_base (f := f) (y := y) (e := e) (r := r) ht.1 hm hst hd hs hl hq hf hfy hye hc hcl hcs (by simp at hn; omega) hty ?_
      intro n' c' cs' cl' xc' xq' xy' a1 a2 a3 a4 a5 a6
      have := H n' c' cs' cl' xf xc' xe xk xt xq' xy' xF xZ ⟨a1, ht.2⟩ (xt_t hx a2) hfr (by simp at hn; omega) a4 a5 a6
      rw [hd]; exact this
    have e1 : nI (f :: r).length - 1 = nI r.length := nI_pred _
    refine br_f (by rw [hd]; exact nI_nle (by simp) (by simp; omega)) ⟨by rw [hd, e1]; exact vp_in_nI (by omega) (by omega), ?_⟩
    rw [show xS (xd - 1).toNatClampNeg = nI f by rw [hd, e1, nI_clamp (by omega)]; exact hs.1]
    refine And.intro (vp_in_nI (by omega) (by omega)) ?_
    rw [nI_clamp (by omega), (hkx f hfm).1]
    refine zx_w (hkx f hfm).2.2.1 (fun z => ?_) (fun _ => br_t rfl hbase)
    rw [(gs_xof hf).1] at z; exact absurd z (by decide)
  | cons w ws ih =>
    intro y c n cs cl L P xd xf xc xe xk xt xq xy xF xZ ht hx hfr hL hP hcg hn hst hl hd hs hq hye hfy hc hcl hcs fuel hfu
    obtain ⟨fuel, rfl⟩ : ∃ k, fuel = k + 1 := ⟨fuel - 1, by simp at hfu; omega⟩
    have hwm := hst w (by simp)
    have hll : (ws ++ f :: r).length + 1 ≤ 48 := hl
    have hk := hkx w hwm
    have hw := hcg.2.1
    have e1 : nI (w :: ws ++ f :: r).length - 1 = nI (ws ++ f :: r).length := nI_pred _
    have hin : vp_in (nI (ws ++ f :: r).length) 48 := vp_in_nI (by omega) (by omega)
    have hwi : vp_in (nI w) 48 := vp_in_nI (by omega) (by omega)
    have hwc : (nI w).toNatClampNeg = w := nI_clamp (by omega)
    have hsw : xS (nI (ws ++ f :: r).length).toNatClampNeg = nI w := by rw [nI_clamp (by omega)]; exact hs.1
    refine br_f (by rw [hd]; exact nI_nle (by simp) (by simp at hl ⊢; omega)) ?_
    rw [hd, e1]
    refine ⟨hin, ?_⟩
    rw [hsw]
    refine ⟨hwi, ?_⟩
    rw [hwc, hk.1]
    refine zx_w hk.2.2.1 (fun _ => ?_) (fun z => by rw [hw] at z; exact absurd z (by decide))
    refine br_f (by decide) (nm_e ⟨hin, nm_r hsw ⟨hwi, hwi, ?_⟩⟩)
    rw [hwc, hk.1, hk.2.1]
    have hwo := bd_wo hw
    have h128 := ht.1.2.1
    refine zc_cell (o := K w) (l := V w + 1) (r := c + 1) ht.1 (Or.inr (Or.inr (Or.inr (Or.inr (Or.inl ⟨hw, by omega, by omega, by omega, by rw [Nat.add_sub_cancel]; exact hcl⟩))))) hk.2.2.1 (by have := hk.2.2.2; omega) (by omega) (by simp at hn; omega) (nI_l (by have := hk.2.2.1; omega)) (zc_p _ (by have := hk.2.2.2; omega)) (zc_p c (by omega)) ?_
    intro c' n' cs' cl' xc' xq' xy' a1 a2 a3 a4 a5 a6
    have hcs' : cs' c' = sg_ K V w (e + 1 - w) := by
      rw [a5, bd_o hwo.1 hwo.2.1 hwo.2.2.1 hwo.2.2.2, lq_p (by omega), Nat.add_sub_cancel, Nat.add_sub_cancel, hcs]
      have := hcg.1
      rw [show e + 1 - w = (e + 1 - y) + 1 by omega, sg_cons, this]
    have hcl' : cl' c' = false := by
      cases q : cl' c' with
      | false => rfl
      | true => exact absurd (a6.mp q) hwo.2.2.2
    have hLw : L ++ [w] <+: Lf := by rw [← hL]; exact ⟨ws, by simp⟩
    have hwL : w ∉ L := by
      intro q
      have hnd := hLf.2.1
      rw [← hL] at hnd
      exact (List.nodup_append.mp hnd).2.2 w q w (by simp) rfl
    refine zr_reg (e := e) (s := w) (L := L) (m := m) a1 ht.2.1 ht.2.2 hwm hm (by have := hcg.1; omega) he (fun x hx => hLf.1 x (by rw [← hL]; simp [hx])) hwL a4 hcl' hcs' (hLf.2.2 _ hLw) ?_
    intro xe' xf' xy'' xF' xZ' xk' xt' b1 b2 b3 b4
    refine ih w c' n' cs' cl' (L ++ [w]) (P ++ [(w, e)]) _ xf' xc' xe' xk' xt' xq' xy'' xF' xZ' ⟨b1, b2, b3⟩ (xt_t hx a2) (fr_app hfr b4) (by rw [← hL]; simp) (by rw [← hP]; simp) hcg.2.2 (by simp at hn; omega) (fun x hx => hst x (by simp at hx ⊢; exact Or.inr hx)) (by omega) rfl hs.2 (aq_up a2 hq) (by have := hcg.1; omega) hfy a4 hcl' hcs' fuel (by simp at hfu; omega)
end
end
section
/-! X: closeName, extendName -/
def cr_ (K : Nat → Nat) : List Nat → Nat
  | [] => 0
  | x :: r => (if K x = 9 then 2 else if K x = 10 then 0 else 1) + cr_ K r
theorem cr_w {K : Nat → Nat} {x : Nat} {r : List Nat} (h : ka_w (K x) = true ∨ ka_h (K x) = true ∨ K x = 3) : cr_ K (x :: r) = 1 + cr_ K r := by
  show (if _ then _ else if _ then _ else _) + _ = _
  have : K x ≠ 9 ∧ K x ≠ 10 := by
    rcases h with h | h | h
    · rw [ka_wi] at h; omega
    · rw [ka_hi] at h; omega
    · omega
  rw [if_neg this.1, if_neg this.2]
theorem cr_tw (K : Nat → Nat) : ∀ l, cr_ K l = (sk_t K l).length + cr_ K (sk_w K l) := by
  intro l
  induction l with
  | nil => rfl
  | cons x r ih =>
    cases h : ka_w (K x) with
    | true => rw [sk_t_cons_t h, sk_w_cons_t h, cr_w (Or.inl h), ih]; simp; omega
    | false => rw [sk_t_cons_f h, sk_w_cons_f h]; simp
theorem cg_gs {K : Nat → Nat} : ∀ {r : List Nat} {x : Nat}, gs_ K (x :: r) → (ka_h (K x) = true ∨ ka_w (K x) = true ∨ K x = 9) → cg_ K x (sk_t K r) := by
  intro r
  induction r with
  | nil => intro x _ _; trivial
  | cons y r ih =>
    intro x h hx
    cases hw : ka_w (K y) with
    | false => rw [sk_t_cons_f hw]; trivial
    | true =>
      rw [sk_t_cons_t hw]
      refine ⟨?_, hw, ih h.1 (Or.inr (Or.inl hw))⟩
      rcases h.2.2 with ⟨q, _⟩ | ⟨y', r', q, ⟨_, z⟩ | ⟨_, z | z⟩⟩
      · exact absurd q (by simp)
      · rw [← (List.cons.inj q).1, (gs_xor hw).1] at z; exact absurd z (by decide)
      · rw [← (List.cons.inj q).1, (gs_xor hw).2] at z; exact absurd z (by decide)
      · rw [(List.cons.inj q).1]; exact z.2.symm
theorem aq_drop {K V : Nat → Nat} {n : Nat} {cs : Nat → List (Nat × Nat)} {cl : Nat → Bool} {xA : Nat → Int32} {r : List Nat} :
    ∀ {ws : List Nat} {b : Nat}, aq_ K V n cs cl xA b (ws ++ r) → aq_ K V n cs cl xA (yb_ b ws) r := by
  intro ws
  induction ws with
  | nil => intro b h; exact h
  | cons w ws ih => intro b h; exact ih h.2.2
theorem yb_lt {f : Nat} {r : List Nat} : ∀ {ws : List Nat} {y : Nat}, (y :: (ws ++ f :: r)).Pairwise (fun a b => b < a) → f < yb_ y ws := by
  intro ws
  induction ws with
  | nil => intro y h; exact (List.pairwise_cons.mp h).1 f (by simp)
  | cons w ws ih => intro y h; exact ih (List.pairwise_cons.mp h).2
theorem sk_nd {K : Nat → Nat} {l : List Nat} (h : l.Pairwise (fun a b => b < a)) : l.Nodup := h.imp (fun h => by omega)
section
variable {xo xb : Int64} {xl xs xg xu xd xc xe xp xf xz : Int32} {xK xV xO xT xS xA xY xN xW xk xt xH xn : Nat → Int32} {xq : Nat → Int64} {xy xF xZ xC xv : Nat → Int32}
variable {K V : Nat → Nat}
theorem zk_0 {post : SX → Prop} (hd : xd = nI 0) (h : post (xo, xb, xl, xs, xg, xu, xd, xc, xe, xp, xf, xz, xK, xV, xO, xT, xS, xA, xY, xN, xW, xk, xt, xH, xn, xq, xy, xF, xZ, xC, xv)) : wpX_closeName post (xo, xb, xl, xs, xg, xu, xd, xc, xe, xp, xf, xz, xK, xV, xO, xT, xS, xA, xY, xN, xW, xk, xt, xH, xn, xq, xy, xF, xZ, xC, xv) := by subst hd; exact br_t rfl h
theorem zk_n {post : SX → Prop} {m x : Nat} {r : List Nat} (hm : m ≤ 48) (hkx : kx_ K V m xK xV) (hst : ∀ y, y ∈ x :: r → y < m) (hl : (x :: r).length ≤ 48) (hd : xd = nI (x :: r).length) (hs : sv_ xS (x :: r))
    (hx : ka_h (K x) = false) (h : post (xo, xb, xl, xs, xg, xu, xd, xc, xe, xp, xf, xz, xK, xV, xO, xT, xS, xA, xY, xN, xW, xk, xt, xH, xn, xq, xy, xF, xZ, xC, xv)) : wpX_closeName post (xo, xb, xl, xs, xg, xu, xd, xc, xe, xp, xf, xz, xK, xV, xO, xT, xS, xA, xY, xN, xW, xk, xt, xH, xn, xq, xy, xF, xZ, xC, xv) := by
  have hxm := hst x (by simp)
  have hl' : r.length + 1 ≤ 48 := hl
  have e1 : nI (x :: r).length - 1 = nI r.length := nI_pred _
  refine br_f (by rw [hd]; exact nI_ne0 (by simp) (by simp; omega)) ?_
  rw [hd, e1]
  refine ⟨vp_in_nI (by omega) (by omega), ?_⟩
  rw [nI_clamp (by omega), hs.1]
  refine ⟨vp_in_nI (by omega) (by omega), ?_⟩
  rw [nI_clamp (by omega), (hkx x hxm).1, ← hd]
  exact zx_h (hkx x hxm).2.2.1 (fun z => by rw [hx] at z; exact absurd z (by decide)) (fun _ => br_t rfl h)
theorem zk_1 {post : SX → Prop} {m x : Nat} (hm : m ≤ 48) (hkx : kx_ K V m xK xV) (hxm : x < m) (hd : xd = nI 1) (hs : sv_ xS [x])
    (hx : ka_h (K x) = true) (h : post (xo, xb, xl, xs, xg, xu, nI 0, xc, xe, xp, xf, xz, xK, xV, xO, xT, xS, xA, xY, xN, xW, xk, xt, xH, xn, xq, xy, xF, xZ, xC, xv)) : wpX_closeName post (xo, xb, xl, xs, xg, xu, xd, xc, xe, xp, xf, xz, xK, xV, xO, xT, xS, xA, xY, xN, xW, xk, xt, xH, xn, xq, xy, xF, xZ, xC, xv) := by
  have e1 : nI 1 - 1 = nI 0 := rfl
  refine br_f (by rw [hd]; decide) ?_
  rw [hd, e1]
  refine ⟨vp_in_nI (by omega) (by omega), ?_⟩
  rw [nI_clamp (by omega), show xS 0 = nI x from hs.1]
  refine ⟨vp_in_nI (by omega) (by omega), ?_⟩
  rw [nI_clamp (by omega), (hkx x hxm).1]
  refine zx_h (hkx x hxm).2.2.1 (fun _ => ?_) (fun z => by rw [hx] at z; exact absurd z (by decide))
  exact br_f (by decide) (nm_e ⟨vp_in_nI (by omega) (by omega), nm_e (br_t (by decide) h)⟩)
theorem zk_c {post : SX → Prop} {m i s f tf n nb : Nat} {r r' L Lf : List Nat} {cs : Nat → List (Nat × Nat)} {cl : Nat → Bool}
    (hm : m ≤ 48) (hi : i ≤ 48) (hsi : s < i) (hkx : kx_ K V m xK xV) (hg : gs_ K (s :: r)) (hst : ∀ y, y ∈ s :: r → y < m) (hl : (s :: r).length ≤ 48) (hd : xd = nI (s :: r).length) (hs : sv_ xS (s :: r))
    (hsh : ka_h (K s) = true) (hr : sk_w K r = f :: r') (hf : ka_f (K f) = true) (hN : xN s = nI (i - 1)) (hty : xY f = nI tf)
    (ht : tt_ K V (i - 1) L m n cs cl xc xe xk xt xq xy xF xZ) (hq : aq_ K V n cs cl xA i (s :: r)) (hLf : lo_ K V (i - 1) Lf) (hL : L ++ sk_t K r = Lf) (hn : n + (sk_t K r).length + 1 ≤ nb) (hnb : nb ≤ 128)
    (H : ∀ (n' c' : Nat) (cs' : Nat → List (Nat × Nat)) (cl' : Nat → Bool) (xf' : Int32) (xc' xe' : Int32) (xk' xt' : Nat → Int32) (xq' : Nat → Int64) (xy' xF' xZ' : Nat → Int32), tt_ K V (i - 1) Lf m n' cs' cl' xc' xe' xk' xt' xq' xy' xF' xZ' → xt_ n n' cs cs' cl cl' →
      fr_ K V xC xf xf' ((sk_t K r).map (fun w => (w, i - 1))) → n' ≤ nb → c' < n' → cl' c' = true → cs' c' = sg_ K V (f + 1) (i - 1 - f) →
      post (xo, xb, xl, xs, xg, xu, nI (f :: r').length, xc', xe', xp, xf', xz, xK, xV, xO, xT, xS, upd xA f (nI c'), upd xY f (nI (tf + 1)), xN, xW, xk', xt', xH, xn, xq', xy', xF', xZ', xC, xv)) : wpX_closeName post (xo, xb, xl, xs, xg, xu, xd, xc, xe, xp, xf, xz, xK, xV, xO, xT, xS, xA, xY, xN, xW, xk, xt, xH, xn, xq, xy, xF, xZ, xC, xv) := by
  have hsm := hst s (by simp)
  have hl' : r.length + 1 ≤ 48 := hl
  have e1 : nI (s :: r).length - 1 = nI r.length := nI_pred _
  have er : sk_t K r ++ f :: r' = r := by rw [← hr]; exact sk_tw K r
  have hr0 : 0 < r.length := by rw [← er]; simp; omega
  have hin : vp_in (nI r.length) 48 := vp_in_nI (by omega) (by omega)
  have hsv : vp_in (nI s) 48 := vp_in_nI (by omega) (by omega)
  have hsc : (nI s).toNatClampNeg = s := nI_clamp (by omega)
  obtain ⟨c, c1, c2, c3, c4⟩ := hq.1 hsh
  refine br_f (by rw [hd]; exact nI_ne0 (by simp) (by simp; omega)) ?_
  rw [hd, e1]
  refine ⟨hin, ?_⟩
  rw [nI_clamp (by omega), hs.1]
  refine ⟨hsv, ?_⟩
  rw [hsc, (hkx s hsm).1]
  refine zx_h (hkx s hsm).2.2.1 (fun _ => ?_) (fun z => by rw [hsh] at z; exact absurd z (by decide))
  refine br_f (by decide) (nm_e ⟨hin, nm_r (e' := nI s) (by rw [nI_clamp (by omega)]; exact hs.1) (br_f (nI_nle hr0 (by omega)) ⟨hsv, hsv, ?_⟩)⟩)
  rw [hsc, c1, hN]
  refine ⟨(sk_t K r).length + 1, ?_⟩
  have hpw := gs_pw hg
  rw [← er] at hpw
  refine zt_loop (f := f) (tf := tf) (r := r') (Lf := Lf) (n0 := n) (nb := nb) (cs0 := cs) (cl0 := cl) (xf0 := xf) (m := m) (Pf := (sk_t K r).map (fun w => (w, i - 1))) hm (by omega) hnb hf hkx hty hLf H
    (sk_t K r) s c n cs cl L [] _ xf xc xe xk xt xq xy xF xZ ht xt_r fr_0 hL rfl (cg_gs hg (Or.inl hsh)) hn (fun x hx => hst x (by rw [er] at hx; simp [hx])) (by rw [er]; omega) (by rw [er]) (by rw [er]; exact hs.2)
    (aq_drop (by rw [er]; exact hq.2.2)) (by omega) (yb_lt hpw) c2 c3 (by rw [c4, show i - 1 + 1 - s = i - s by omega]) _ (by omega)
/-- a part of the name on top ends at i -/
theorem zn_ext {post : SX → Prop} {i s o l q n : Nat} {r : List Nat} {cs : Nat → List (Nat × Nat)} {cl : Nat → Bool} {p2 : Int32}
    (hi : i < 48) (hsi : s ≤ i) (hl : (s :: r).length ≤ 48) (hd : xd = nI (s :: r).length) (hs : sv_ xS (s :: r))
    (ht : tt_ K V i [] (i + 1) n cs cl xc xe xk xt xq xy xF xZ) (hn : n < 128) (hv : vd_ n cs cl o l q) (ho : o ≤ 3) (hl1 : l < 1024) (hq1 : q < 1024)
    (e1 : p2.toInt64 + 1 = lN l) (e2 : (xA s).toInt64 + 1 = lN q) (hb : bd_ cs o l q = sg_ K V s (i + 1 - s)) (hLf : lo_ K V i (if 0 < s then [s] else []))
    (H : ∀ (n' c' : Nat) (cs' : Nat → List (Nat × Nat)) (cl' : Nat → Bool) (xf' : Int32) (xc' xe' : Int32) (xk' xt' : Nat → Int32) (xq' : Nat → Int64) (xy' xF' xZ' : Nat → Int32), tt_ K V i (if 0 < s then [s] else []) (i + 1) n' cs' cl' xc' xe' xk' xt' xq' xy' xF' xZ' → xt_ n n' cs cs' cl cl' →
      fr_ K V xC xf xf' ((if 0 < s then [s] else []).map (fun w => (w, i))) → n' ≤ n + 1 → c' < n' → cl' c' = false → cs' c' = sg_ K V s (i + 1 - s) →
      post (xo, xb, xl, xs, xg, xu, xd, xc', xe', xp, xf', xz, xK, xV, xO, xT, xS, upd xA s (nI c'), xY, upd xN s (nI i), upd xW i (nI s), xk', xt', if o = 1 then upd xH s 1 else xH, xn, xq', xy', xF', xZ', xC, xv)) :
    wpX_extendName post (xo, xb, xl, xs, xg, xu, xd, xc, xe, xp, xf, xz, xK, xV, xO, xT, xS, xA, xY, xN, xW, xk, xt, xH, xn, xq, xy, xF, xZ, xC, xv) (nI i) (nI o) p2 := by
  have hsv : vp_in (nI s) 48 := vp_in_nI (by omega) (by omega)
  have hiv : vp_in (nI i) 48 := vp_in_nI (by omega) (by omega)
  have hsc : (nI s).toNatClampNeg = s := nI_clamp (by omega)
  have hic : (nI i).toNatClampNeg = i := nI_clamp (by omega)
  unfold wpX_extendName
  refine zx_top hd hs hl ?_
  refine ⟨hsv, ?_⟩
  rw [hsc]
  refine zc_cell (o := o) (l := l) (r := q) ht.1 hv (by omega) hl1 hq1 hn (nI_l (by omega)) e1 e2 ?_
  intro c' n' cs' cl' xc' xq' xy' a1 a2 a3 a4 a5 a6
  rw [hb] at a5
  have hcl' : cl' c' = false := by
    cases z : cl' c' with
    | false => rfl
    | true => have := a6.mp z; omega
  have h128 := a1.2.1
  have last : ∀ xh : Nat → Int32, xh = (if o = 1 then upd xH s 1 else xH) → wX_extendName_39 post (nI i) (nI s) xo xb xl xs xg xu xd xc' xe xp xf xz xK xV xO xT xS (upd xA s (nI c')) xY xN xW xk xt xh xn xq' xy' xF xZ xC xv := by
    intro xh hxh
    subst hxh
    refine ⟨hsv, nm_r (e' := upd xN s (nI i)) (by rw [hsc]) ⟨hiv, nm_r (e' := upd xW i (nI s)) (by rw [hic]) ?_⟩⟩
    by_cases hs0 : 0 < s
    · rw [if_pos hs0] at H hLf
      refine br_f (nI_nle hs0 (by omega)) ⟨hsv, ?_⟩
      rw [hsc, pk_us]
      refine zr_reg (e := i) (s := s) (L := []) (m := i + 1) a1 ht.2.1 ht.2.2 (by omega) (by omega) hsi hi (fun x hx => absurd hx (by simp)) (by simp) a4 hcl' a5 (hLf.2.2 _ (List.prefix_refl _)) ?_
      intro xe' xf' xy'' xF' xZ' xk' xt' b1 b2 b3 b4
      exact H n' c' cs' cl' xf' xc' xe' xk' xt' xq' xy'' xF' xZ' ⟨b1, b2, b3⟩ a2 b4 a3 a4 hcl' a5
    · rw [if_neg hs0] at H
      refine br_t ?_ ?_
      · rw [show s = 0 by omega]; decide
      · exact H n' c' cs' cl' xf xc' xe xk xt xq' xy' xF xZ ⟨a1, ht.2⟩ a2 fr_0 a3 a4 hcl' a5
  refine And.intro hsv (nm_e ?_)
  by_cases ho1 : o = 1
  · refine br_t (by rw [ho1]; decide) ⟨hsv, nm_r (e' := upd xH s 1) (by rw [show vp_nar .boolean 1 = 1 by decide]) ?_⟩
    exact last _ (by rw [if_pos ho1])
  · refine br_f (fun z => ho1 ((nI_eq (a := o) (b := 1) (by omega) (by omega)).mp z)) ?_
    exact last _ (by rw [if_neg ho1])
end
end
section
/-! what X's table holds after i nodes -/
def eb_ (K : Nat → Nat) (i : Nat) : Bool := decide (0 < i ∧ (K (i - 1) ≤ 2 ∨ (K (i - 1) = 11 ∧ K (op_ K (i - 1)) = 3 ∧ op_ K (i - 1) ≠ 0)))
theorem eb_i {K : Nat → Nat} {i : Nat} : eb_ K i = true ↔ en_ K i := by unfold eb_ en_; exact decide_eq_true_iff
theorem eb_n {K : Nat → Nat} {i : Nat} : eb_ K i = false ↔ ¬ en_ K i := by unfold eb_ en_; exact decide_eq_false_iff_not
def oe_ (K : Nat → Nat) (s e : Nat) : Bool := eb_ K (e + 1) && decide ((sk_ K (e + 1)).head? = some s)
theorem oe_i {K : Nat → Nat} {s e : Nat} : oe_ K s e = true ↔ en_ K (e + 1) ∧ (sk_ K (e + 1)).head? = some s := by
  unfold oe_; rw [Bool.and_eq_true, eb_i, decide_eq_true_iff]
theorem oe_n {K : Nat → Nat} {s e : Nat} (h : ¬ en_ K (e + 1)) : oe_ K s e = false := by
  unfold oe_; rw [eb_n.mpr h]; rfl
theorem oe_c {K : Nat → Nat} {s x e : Nat} {r : List Nat} (h : en_ K (e + 1)) (hs : sk_ K (e + 1) = s :: r) : oe_ K x e = decide (x = s) := by
  unfold oe_; rw [eb_i.mpr h, hs, Bool.true_and, decide_eq_decide]
  show some s = some x ↔ _
  constructor
  · intro q; exact (Option.some.inj q).symm
  · intro q; rw [q]
/-- the last part of the name s -/
def ne_ (K : Nat → Nat) (s : Nat) : Nat → Nat
  | 0 => 0
  | e + 1 => if oe_ K s e = true then e else ne_ K s e
/-- whether the name s has a MEMBER -/
def hm_ (K : Nat → Nat) (s : Nat) : Nat → Bool
  | 0 => false
  | e + 1 => (oe_ K s e && decide (K e = 1)) || hm_ K s e
def tm_ (K : Nat → Nat) (e : Nat) : Bool := decide (K e = 4 ∨ (K e = 11 ∧ K (op_ K e) = 9))
/-- how many types of the list f are complete below n -/
def tc_ (K : Nat → Nat) (f : Nat) : Nat → Nat
  | 0 => 0
  | e + 1 => tc_ K f e + (if (decide (op_ K (e + 1) = f) && (tm_ K e || (eb_ K (e + 1) && decide (K (e + 1) ≠ 1 ∧ K (e + 1) ≠ 3)))) = true then 1 else 0)
def tp_ (K : Nat → Nat) (f : Nat) (c : Bool) : Nat → Nat
  | 0 => 0
  | e + 1 => tc_ K f e + (if (decide (op_ K (e + 1) = f) && (tm_ K e || (c && eb_ K (e + 1)))) = true then 1 else 0)
def lp_ (K : Nat → Nat) (c : Bool) : Nat → List Nat
  | 0 => []
  | e + 1 => if c = true then pa_ K e ++ pc_ K e else pa_ K e
def ss_ (K : Nat → Nat) (i : Nat) (c : Bool) : List Nat := if c = true then sk_c K (sk_ K i) else sk_ K i
def wv_ (K : Nat → Nat) (i : Nat) (xW : Nat → Int32) : Prop := ∀ j, j < i → (∀ s, oe_ K s j = true → xW j = nI s) ∧ (¬ en_ K (j + 1) → xW j = -1)
def nv_ (K : Nat → Nat) (i : Nat) (xN : Nat → Int32) : Prop := ∀ s, s < i → ka_h (K s) = true → xN s = nI (ne_ K s i)
def hv_ (K : Nat → Nat) (i : Nat) (xH : Nat → Int32) : Prop := ∀ s, s < i → xH s = if hm_ K s i = true then 1 else 0
def ti_ (K V : Nat → Nat) (i : Nat) (c : Bool) (n : Nat) (cs : Nat → List (Nat × Nat)) (cl : Nat → Bool) (xd : Int32) (xS xA xY xN xW xH : Nat → Int32) (xc xe : Int32) (xk xt : Nat → Int32) (xq : Nat → Int64) (xy xF xZ : Nat → Int32) : Prop :=
  tt_ K V (i - 1) (lp_ K c i) i n cs cl xc xe xk xt xq xy xF xZ ∧ xd = nI (ss_ K i c).length ∧ sv_ xS (ss_ K i c) ∧ aq_ K V n cs cl xA i (ss_ K i c) ∧
  wv_ K i xW ∧ nv_ K i xN ∧ hv_ K i xH ∧ (∀ f, f < i → ka_f (K f) = true → xY f = nI (tp_ K f c i)) ∧ n + cr_ K (ss_ K i c) ≤ 2 * i
/-- in the middle of taking node i: names are closed, the stack is st -/
def mi_ (K V : Nat → Nat) (i : Nat) (st : List Nat) (n : Nat) (cs : Nat → List (Nat × Nat)) (cl : Nat → Bool) (xd : Int32) (xS xA xY xN xW xH : Nat → Int32) (xc xe : Int32) (xk xt : Nat → Int32) (xq : Nat → Int64) (xy xF xZ : Nat → Int32) : Prop :=
  tt_ K V i [] (i + 1) n cs cl xc xe xk xt xq xy xF xZ ∧ xd = nI st.length ∧ sv_ xS st ∧ aq_ K V n cs cl xA i st ∧
  wv_ K i xW ∧ nv_ K i xN ∧ hv_ K i xH ∧ (∀ f, f < i → ka_f (K f) = true → xY f = nI (tc_ K f i)) ∧ n + cr_ K st ≤ 2 * i + 1
/-- the pairs that taking node i processes -/
def np_ (K : Nat → Nat) (c : Bool) : Nat → List (Nat × Nat)
  | 0 => (pa_ K 0).map (fun w => (w, 0))
  | e + 1 => (if c = true then [] else (pb_ K e).map (fun w => (w, e))) ++ (pa_ K (e + 1)).map (fun w => (w, e + 1))
theorem kl_0 {K V : Nat → Nat} {n s : Nat} (h : wf_ K V n) : ∀ {e : Nat}, e ≤ n → e ≤ s → kl_ K V s e = 0 := by
  intro e
  induction e with
  | zero => intro _ _; rfl
  | succ e ih =>
    intro he hs
    show (if _ then _ else _) = _
    rw [if_neg, ih (by omega) (by omega)]
    rw [Bool.and_eq_true, decide_eq_true_iff]
    intro q
    have := pp_le h (by omega) q.1
    omega
theorem tc_0 {K : Nat → Nat} {f : Nat} (hf : 0 < f) : ∀ {e : Nat}, e ≤ f → tc_ K f e = 0 := by
  intro e
  induction e with
  | zero => intro _; rfl
  | succ e ih =>
    intro he
    show _ + (if _ then _ else _) = _
    rw [ih (by omega), if_neg]
    rw [Bool.and_eq_true, decide_eq_true_iff]
    intro q
    have := (op_fs (K := K) (i := e + 1) (by omega)).2.1
    omega
theorem lo_pp {K V : Nat → Nat} {n e : Nat} (h : wf_ K V n) (he : e < n) (hn : n ≤ 48) {L : List Nat} (hL : L.Sublist (pp_ K e)) : lo_ K V e L := by
  refine ⟨fun x hx => pp_le h he (hL.subset hx), sk_nd (K := K) ((pp_pw h he).sublist hL), fun L' hL' => ?_⟩
  have := tl_len h he (l := L') (fun s hs => hL.subset (hL'.subset hs))
  omega
theorem tt_next {K V : Nat → Nat} {e m n : Nat} {cs : Nat → List (Nat × Nat)} {cl : Nat → Bool} {xc xe : Int32} {xk xt : Nat → Int32} {xq : Nat → Int64} {xy xF xZ : Nat → Int32}
    (h : tt_ K V e (pp_ K e) m n cs cl xc xe xk xt xq xy xF xZ) : tt_ K V (e + 1) [] m n cs cl xc xe xk xt xq xy xF xZ := by
  refine ⟨h.1, h.2.1, fun s hs => ?_⟩
  have e1 : kp_ K V (e + 1) [] s = kp_ K V e (pp_ K e) s := by
    unfold kp_
    rw [show decide (s ∈ ([] : List Nat)) = false from decide_eq_false (by simp), Bool.false_and, if_neg (by decide)]
    rfl
  rw [e1]; exact h.2.2 s hs
/-- node i is looked at for the first time -/
theorem tt_ext {K V : Nat → Nat} {i N n : Nat} {c : Bool} {cs : Nat → List (Nat × Nat)} {cl : Nat → Bool} {xc xe : Int32} {xk xt : Nat → Int32} {xq : Nat → Int64} {xy xF xZ : Nat → Int32} (h : wf_ K V N) (hi : i < N)
    (ht : tt_ K V (i - 1) (lp_ K c i) i n cs cl xc xe xk xt xq xy xF xZ) (hL : ∀ s, s ∈ lp_ K c i → s < i) : tt_ K V (i - 1) (lp_ K c i) (i + 1) n cs cl xc xe (upd xk i 0) xt xq xy xF xZ := by
  refine ⟨ht.1, ht.2.1, fun s hs => ?_⟩
  by_cases z : s = i
  · subst z
    have e1 : kp_ K V (s - 1) (lp_ K c s) s = 0 := by
      unfold kp_
      rw [show decide (s ∈ lp_ K c s) = false from decide_eq_false (fun q => by have := hL s q; omega), Bool.false_and, if_neg (by decide)]
      exact kl_0 h (by omega) (by omega)
    rw [e1, pk_us]
    exact ⟨rfl, fun q => absurd q (by omega)⟩
  · rw [pk_un z]; exact ht.2.2 s (by omega)
theorem lp_sub {K V : Nat → Nat} {N i : Nat} {c : Bool} (h : wf_ K V N) (hi : i < N) (hc : c = true → K i ≠ 1 ∧ K i ≠ 3) : (lp_ K c i).Sublist (pp_ K (i - 1)) := by
  cases i with
  | zero => exact List.nil_sublist _
  | succ e =>
    show (if c = true then _ else _ : List Nat).Sublist (pp_ K e)
    unfold pp_
    cases c with
    | false => rw [if_neg (by decide)]; exact List.sublist_append_left _ _
    | true =>
      have := hc rfl
      rw [if_pos rfl, show pb_ K e = pc_ K e by unfold pb_; rw [if_neg (by omega)]]
      exact List.Sublist.refl _
theorem lp_lt {K V : Nat → Nat} {N i s : Nat} {c : Bool} (h : wf_ K V N) (hi : i < N) (hc : c = true → K i ≠ 1 ∧ K i ≠ 3) (hs : s ∈ lp_ K c i) : s < i := by
  cases i with
  | zero => exact absurd hs (by simp [lp_])
  | succ e =>
    have := pp_le h (by omega) ((lp_sub h hi hc).subset hs)
    omega
theorem ss_suf {K : Nat → Nat} {i : Nat} {c : Bool} : ss_ K i c <:+ sk_ K i := by
  unfold ss_
  cases c with
  | false => rw [if_neg (by decide)]; exact List.suffix_refl _
  | true => rw [if_pos rfl]; exact sk_c_suf _ _
theorem sk_len {K V : Nat → Nat} {n : Nat} (h : wf_ K V n) {l : List Nat} {i : Nat} (hi : i ≤ n) (hl : l <:+ sk_ K i) : l.length ≤ i := by
  have := nd_len i l (sk_nd (K := K) ((gs_pw (si_all h i hi).1).sublist hl.sublist)) (fun x hx => sk_lt (hl.subset hx))
  exact this
end
section
/-! X takes a node: first the name before it is closed -/
def st_ (K : Nat → Nat) (i : Nat) : List Nat := if K i = 1 ∨ K i = 3 then sk_ K i else sk_c K (sk_ K i)
def bp_ (K : Nat → Nat) (c : Bool) : Nat → List (Nat × Nat)
  | 0 => []
  | e + 1 => if c = true then [] else (pb_ K e).map (fun w => (w, e))
theorem np_b (K : Nat → Nat) (c : Bool) (i : Nat) : np_ K c i = bp_ K c i ++ (pa_ K i).map (fun w => (w, i)) := by
  cases i with
  | zero => rfl
  | succ e => rfl
/-- closing does nothing: tables agree -/
theorem pp_same {K V : Nat → Nat} {N e : Nat} {c : Bool} (h : wf_ K V N) (hi : e + 1 < N) (hk : K (e + 1) ≠ 1 ∧ K (e + 1) ≠ 3) (hc : c = true ∨ pc_ K e = []) : lp_ K c (e + 1) = pp_ K e := by
  show (if c = true then _ else _) = _
  unfold pp_
  rw [show pb_ K e = pc_ K e by unfold pb_; rw [if_neg (by omega)]]
  cases c with
  | true => rw [if_pos rfl]
  | false =>
    rw [if_neg (by decide)]
    rcases hc with q | q
    · exact absurd q (by decide)
    · rw [q, List.append_nil]
theorem tp_same {K : Nat → Nat} {f e : Nat} {c : Bool} (h : (c && eb_ K (e + 1)) = (eb_ K (e + 1) && decide (K (e + 1) ≠ 1 ∧ K (e + 1) ≠ 3)) ∨ op_ K (e + 1) ≠ f) : tp_ K f c (e + 1) = tc_ K f (e + 1) := by
  show tc_ K f e + (if _ then _ else _) = tc_ K f e + (if _ then _ else _)
  rcases h with h | h
  · rw [h]
  · rw [decide_eq_false h]; rfl
theorem en_tm {K : Nat → Nat} {e : Nat} (h : en_ K (e + 1)) : tm_ K e = false := by
  unfold tm_
  apply decide_eq_false
  have := h.2
  rw [Nat.add_sub_cancel] at this
  omega
/-- a name with something below it stands in a frame -/
theorem en_op {K V : Nat → Nat} {N i s : Nat} {r : List Nat} (h : wf_ K V N) (hi : i ≤ N) (e : sk_ K i = s :: r) (hs : ka_h (K s) = true) :
    (r = [] ∧ s = 0 ∧ op_ K i = 0) ∨ (r ≠ [] ∧ op_ K i ≠ 0 ∧ ∃ r', sk_w K r = op_ K i :: r' ∧ sk_c K (sk_ K i) = op_ K i :: r' ∧ ka_f (K (op_ K i)) = true) := by
  have hsi := si_all h i hi
  have hg := hsi.1
  have hp : 0 < N := by
    have := sk_lt (show s ∈ sk_ K i by rw [e]; simp)
    omega
  rw [e] at hg
  have hff := hsi.2.1
  rw [e, ff_f (gs_xoh hs).2] at hff
  rcases gs_ch hg hs with ⟨hr, h0, _⟩ | ⟨hr, f, r', e1, e2, hf⟩
  · rw [hr] at hff
    exact Or.inl ⟨hr, h0, op_nil hff.symm⟩
  · rw [← ff_w, e2, ff_t hf] at hff
    have := fs_op (n := N) (wf_0 h hp) hff.symm
    refine Or.inr ⟨hr, by omega, r', by rw [this.1]; exact e2, by rw [e, this.1]; exact e1, by rw [this.1]; exact hf⟩
/-- a closed stack has no name on top -/
theorem sk_cc {K V : Nat → Nat} {N i x : Nat} {r : List Nat} (h : wf_ K V N) (hi : i ≤ N) (e : sk_c K (sk_ K i) = x :: r) : ka_h (K x) = false := by
  cases es : sk_ K i with
  | nil => rw [es] at e; exact absurd e (by simp [sk_c])
  | cons s q =>
    cases hs : ka_h (K s) with
    | false => rw [es, sk_c_n hs] at e; rw [← (List.cons.inj e).1]; exact hs
    | true =>
      rcases en_op h hi es hs with ⟨_, h0, _⟩ | ⟨_, _, r', _, e2, hf⟩
      · have hg := (si_all h i hi).1
        rw [es] at hg
        rcases gs_ch hg hs with ⟨_, _, q1⟩ | ⟨q0, _, _, _, _, _⟩
        · rw [es, q1] at e; exact absurd e (by simp)
        · exfalso
          cases q with
          | nil => exact q0 rfl
          | cons y q => have := hg.2.1 y (by simp); omega
      · rw [e2] at e; rw [← (List.cons.inj e).1]; exact (gs_xof hf).2
section
variable {xo xb : Int64} {xl xs xg xu xd xc xe xp xf xz : Int32} {xK xV xO xT xS xA xY xN xW xk xt xH xn : Nat → Int32} {xq : Nat → Int64} {xy xF xZ xC xv : Nat → Int32}
variable {K V : Nat → Nat}
theorem zj_mid {post : SX → Prop} {i N n : Nat} {c : Bool} {cs : Nat → List (Nat × Nat)} {cl : Nat → Bool} {z0 : Int32}
    (h : wf_ K V N) (hi : i < N) (hN : N ≤ 48) (hc : c = true → K i ≠ 1 ∧ K i ≠ 3) (hkx : kx_ K V N xK xV)
    (ht : tt_ K V (i - 1) (lp_ K c i) (i + 1) n cs cl xc xe xk xt xq xy xF xZ) (hd : xd = nI (ss_ K i c).length) (hs : sv_ xS (ss_ K i c)) (hq : aq_ K V n cs cl (upd xA i z0) i (ss_ K i c))
    (hw : wv_ K i xW) (hnv : nv_ K i xN) (hh : hv_ K i xH) (hy : ∀ f, f < i → ka_f (K f) = true → xY f = nI (tp_ K f c i)) (hb : n + cr_ K (ss_ K i c) ≤ 2 * i + 1)
    (H : ∀ (n' : Nat) (cs' : Nat → List (Nat × Nat)) (cl' : Nat → Bool) (xd' xf' : Int32) (xA' xY' : Nat → Int32) (xc' xe' : Int32) (xk' xt' : Nat → Int32) (xq' : Nat → Int64) (xy' xF' xZ' : Nat → Int32), mi_ K V i (st_ K i) n' cs' cl' xd' xS xA' xY' xN xW xH xc' xe' xk' xt' xq' xy' xF' xZ' → xt_ n n' cs cs' cl cl' →
      fr_ K V xC xf xf' (bp_ K c i) → xA' i = z0 → xY' i = xY i → n' + cr_ K (st_ K i) ≤ n + cr_ K (ss_ K i c) →
      wX_takeNode_104 post (nI i) (nI (K i)) xo xb xl xs xg xu xd' xc' xe' xp xf' xz xK xV xO xT xS xA' xY' xN xW xk' xt' xH xn xq' xy' xF' xZ' xC xv) :
    wX_takeNode_61 post (nI i) (nI (K i)) z0 (nI i) xo xb xl xs xg xu xd xc xe xp xf xz xK xV xO xT xS xA xY xN xW xk xt xH xn xq xy xF xZ xC xv := by
  have hiv : vp_in (nI i) 48 := vp_in_nI (by omega) (by omega)
  have hic : (nI i).toNatClampNeg = i := nI_clamp (by omega)
  have hK := (hkx i hi).2.2.1
  have hlen := sk_len h (i := i) (by omega) (ss_suf (c := c))
  have hmem : ∀ y, y ∈ ss_ K i c → y < i := fun y hy => sk_lt (ss_suf.subset hy)
  refine ⟨hiv, nm_r (e' := upd xA i z0) (by rw [hic]) ?_⟩
  by_cases hk : K i = 1 ∨ K i = 3
  · have hcf : c = false := by
      cases c with
      | false => rfl
      | true => have := hc rfl; omega
    subst hcf
    have hip : 0 < i := by
      rcases Nat.eq_zero_or_pos i with z | z
      · have := wf_0 h (by omega); rw [z] at hk; omega
      · exact z
    obtain ⟨e, rfl⟩ : ∃ e, i = e + 1 := ⟨i - 1, by omega⟩
    have hen : en_ K (e + 1) := by
      rcases ft_c (h (e + 1) hi).2 (by omega) with z | z | z | z
      · exact z.2
      · exact z.2.1
      · omega
      · omega
    obtain ⟨s, r, es, hsh, hsl⟩ := en_top h (i := e + 1) (by omega) hen
    have ess : ss_ K (e + 1) false = s :: r := es
    have est : st_ K (e + 1) = s :: r := by unfold st_; rw [if_pos hk, es]
    have epp : pp_ K e = pa_ K e ++ po_ K e := by unfold pp_ pb_; rw [if_pos hk]
    have ety : ∀ f, f < e + 1 → ka_f (K f) = true → xY f = nI (tc_ K f (e + 1)) := by
      intro f hf hff
      rw [hy f hf hff, tp_same (Or.inl (by
        rw [Bool.false_and]
        have : decide (K (e + 1) ≠ 1 ∧ K (e + 1) ≠ 3) = false := decide_eq_false (by omega)
        rw [this, Bool.and_false]))]
    rw [ess] at hd hs hq hlen hb H
    have h79 : wX_takeNode_79 post (nI (e + 1)) (nI (K (e + 1))) xo xb xl xs xg xu xd xc xe xp xf xz xK xV xO xT xS (upd xA (e + 1) z0) xY xN xW xk xt xH xn xq xy xF xZ xC xv := by
      by_cases hs0 : s = 0
      · subst hs0
        have hr : r = [] := by
          rcases en_op h (i := e + 1) (by omega) es hsh with ⟨q, _⟩ | ⟨_, ho, r', q, _⟩
          · exact q
          · have hg := (si_all h (e + 1) (by omega)).1
            rw [es] at hg
            cases r with
            | nil => rfl
            | cons y r => have := hg.2.1 y (by simp); omega
        subst hr
        have epo : po_ K e = [0] := by unfold po_; rw [if_pos es]
        obtain ⟨c1, d1, d2, d3, d4⟩ := hq.1 hsh
        have hN0 : xN 0 = nI e := by
          rw [hnv 0 (by omega) hsh]
          show nI (if _ then _ else _) = _
          rw [if_pos (oe_i.mpr ⟨hen, by rw [es]; rfl⟩)]
        refine br_t (by rw [hd]; rfl) ?_
        rw [hN0, d1]
        have hlf : lo_ K V e (pp_ K e) := lo_pp h (by omega) hN (List.Sublist.refl _)
        rw [epp, epo] at hlf
        refine zr_reg (e := e) (s := 0) (L := pa_ K e) (m := e + 2) ht.1 ht.2.1 ht.2.2 (by omega) (by omega) (by omega) (by omega) (fun x hx => hlf.1 x (by simp [hx])) ?_ d2 d3 (by rw [d4]) (hlf.2.2 _ (List.prefix_refl _)) ?_
        · intro q
          exact (List.nodup_append.mp hlf.2.1).2.2 0 q 0 (by simp) rfl
        · intro xe' xf' xy' xF' xZ' xk' xt' b1 b2 b3 b4
          refine H n cs cl xd xf' _ xY xc xe' xk' xt' xq xy' xF' xZ' ⟨tt_next ?_, by rw [est]; exact hd, by rw [est]; exact hs, by rw [est]; exact hq, hw, hnv, hh, ety, by rw [est]; exact hb⟩ xt_r ?_ pk_us rfl (by rw [est]; exact Nat.le_refl _)
          · rw [epp, epo]; exact ⟨b1, b2, b3⟩
          · show fr_ K V xC xf xf' ((pb_ K e).map (fun w => (w, e)))
            rw [show pb_ K e = [0] by unfold pb_; rw [if_pos hk, epo]]; exact b4
      · have epo : po_ K e = [] := by unfold po_; rw [if_neg (by rw [es]; intro q; exact hs0 (List.cons.inj q).1)]
        have hr : r ≠ [] := by
          rcases en_op h (i := e + 1) (by omega) es hsh with ⟨_, q, _⟩ | ⟨q, _⟩
          · exact absurd q hs0
          · exact q
        refine br_f ?_ ?_
        · rw [hd]
          intro q
          have := (nI_eq (a := (s :: r).length) (b := 1) (by simp at hlen ⊢; omega) (by omega)).mp q
          simp at this; exact hr this
        · refine H n cs cl xd xf _ xY xc xe xk xt xq xy xF xZ ⟨tt_next ?_, by rw [est]; exact hd, by rw [est]; exact hs, by rw [est]; exact hq, hw, hnv, hh, ety, by rw [est]; exact hb⟩ xt_r ?_ pk_us rfl (by rw [est]; exact Nat.le_refl _)
          · rw [epp, epo, List.append_nil]; exact ht
          · show fr_ K V xC xf xf ((pb_ K e).map (fun w => (w, e)))
            rw [show pb_ K e = [] by unfold pb_; rw [if_pos hk, epo]]; exact fr_0
    by_cases h1 : K (e + 1) = 1
    · exact br_t (by rw [h1]; rfl) h79
    · exact br_f (fun q => h1 ((nI_eq (a := K (e + 1)) (b := 1) (by omega) (by omega)).mp q)) (br_t (by rw [hk.resolve_left h1]; rfl) h79)
  · have hk1 : K i ≠ 1 ∧ K i ≠ 3 := by omega
    have est : st_ K i = sk_c K (sk_ K i) := by unfold st_; rw [if_neg hk]
    refine br_f (fun q => hk1.1 ((nI_eq (a := K i) (b := 1) (by omega) (by omega)).mp q)) (br_f (fun q => hk1.2 ((nI_eq (a := K i) (b := 3) (by omega) (by omega)).mp q)) ?_)
    -- closing changes nothing
    have nop : (i = 0 ∨ (0 < i ∧ (c = true ∨ ¬ en_ K i ∨ op_ K i = 0))) → sk_c K (sk_ K i) = ss_ K i c → wX_takeNode_104 post (nI i) (nI (K i)) xo xb xl xs xg xu xd xc xe xp xf xz xK xV xO xT xS (upd xA i z0) xY xN xW xk xt xH xn xq xy xF xZ xC xv := by
      intro hz hsk
      refine H n cs cl xd xf _ xY xc xe xk xt xq xy xF xZ ⟨?_, by rw [est, hsk]; exact hd, by rw [est, hsk]; exact hs, by rw [est, hsk]; exact hq, hw, hnv, hh, ?_, by rw [est, hsk]; exact hb⟩ xt_r ?_ pk_us rfl (by rw [est, hsk]; exact Nat.le_refl _)
      · cases i with
        | zero => exact ht
        | succ e =>
          refine tt_next ?_
          have := pp_same h hi hk1 (c := c) (by
            rcases hz with q | ⟨_, q | q | q⟩
            · omega
            · exact Or.inl q
            · exact Or.inr (pc_n h (by omega) q)
            · cases c with
              | true => exact Or.inl rfl
              | false =>
                refine Or.inr ?_
                by_cases hen : en_ K (e + 1)
                · obtain ⟨s, r, es, hsh, hsl⟩ := en_top h (i := e + 1) (by omega) hen
                  rcases en_op h (i := e + 1) (by omega) es hsh with ⟨q1, _⟩ | ⟨_, q1, _⟩
                  · rw [pc_en es hsh, q1]; rfl
                  · exact absurd q q1
                · exact pc_n h (by omega) hen)
          rw [← this]; exact ht
      · cases i with
        | zero => intro f hf; omega
        | succ e =>
          intro f hf hff
          have hf0 : f ≠ 0 := by
            intro q; rw [q, wf_0 h (by omega)] at hff; exact absurd hff (by decide)
          rw [hy f hf hff, tp_same]
          rcases hz with q | ⟨_, q | q | q⟩
          · omega
          · rw [q, decide_eq_true hk1]; simp
          · rw [eb_n.mpr q]; simp
          · exact Or.inr (by omega)
      · cases i with
        | zero => exact fr_0
        | succ e =>
          show fr_ K V xC xf xf (if c = true then [] else (pb_ K e).map (fun w => (w, e)))
          cases c with
          | true => exact fr_0
          | false =>
            rw [if_neg (by decide)]
            have : pb_ K e = [] := by
              unfold pb_
              rw [if_neg hk]
              rcases hz with q | ⟨_, q | q | q⟩
              · omega
              · exact absurd q (by decide)
              · exact pc_n h (by omega) q
              · by_cases hen : en_ K (e + 1)
                · obtain ⟨s, r, es, hsh, hsl⟩ := en_top h (i := e + 1) (by omega) hen
                  rcases en_op h (i := e + 1) (by omega) es hsh with ⟨q1, _⟩ | ⟨_, q1, _⟩
                  · rw [pc_en es hsh, q1]; rfl
                  · exact absurd q q1
                · exact pc_n h (by omega) hen
            rw [this]; exact fr_0
    by_cases hz : i = 0
    · subst hz
      have e1 : ss_ K 0 c = [] := by cases c <;> rfl
      rw [e1] at hd
      exact zk_0 hd (nop (Or.inl rfl) (by rw [e1]; rfl))
    · have hip : 0 < i := by omega
      cases hss : ss_ K i c with
      | nil =>
        rw [hss] at hd
        refine zk_0 hd (nop (Or.inr ⟨hip, ?_⟩) ?_)
        · cases c with
          | true => exact Or.inl rfl
          | false =>
            refine Or.inr (Or.inl (fun q => ?_))
            obtain ⟨s, r, es, _⟩ := en_top h (i := i) (by omega) q
            have : sk_ K i = [] := hss
            rw [es] at this; exact absurd this (by simp)
        · rw [hss]
          have : sk_c K (sk_ K i) <:+ [] ∨ c = true := by
            cases c with
            | true => exact Or.inr rfl
            | false =>
              refine Or.inl ?_
              have q : sk_ K i = [] := hss
              rw [q]; exact List.suffix_refl _
          rcases this with q | q
          · exact List.suffix_nil.mp q
          · subst q; exact hss
      | cons s r =>
        rw [hss] at hd hs hq hlen hmem
        cases hsh : ka_h (K s) with
        | false =>
          refine zk_n (m := i) (by omega) (fun j hj => hkx j (by omega)) hmem (by omega) hd hs hsh (nop (Or.inr ⟨hip, ?_⟩) ?_)
          · cases c with
            | true => exact Or.inl rfl
            | false =>
              refine Or.inr (Or.inl (fun q => ?_))
              obtain ⟨s', r', es, hs', _⟩ := en_top h (i := i) (by omega) q
              have : sk_ K i = s :: r := hss
              rw [es] at this
              rw [(List.cons.inj this).1, hsh] at hs'; exact absurd hs' (by decide)
          · rw [hss]
            cases c with
            | true => exact hss
            | false =>
              have : sk_ K i = s :: r := hss
              rw [this]; exact sk_c_n hsh
        | true =>
          have hcf : c = false := by
            cases c with
            | false => rfl
            | true =>
              have := sk_cc h (i := i) (by omega) (show sk_c K (sk_ K i) = s :: r from hss)
              rw [hsh] at this; exact absurd this (by decide)
          subst hcf
          have es : sk_ K i = s :: r := hss
          have hen := en_hd h (by omega) es hsh
          rcases en_op h (i := i) (by omega) es hsh with ⟨q1, q2, q3⟩ | ⟨q1, q2, r', q3, q4, q5⟩
          · subst q1
            refine zk_1 (m := i) (by omega) (fun j hj => hkx j (by omega)) (hmem s (by simp)) hd hs hsh ?_
            -- ownName alone: only the depth changes
            have ec : sk_c K (sk_ K i) = [] := by rw [es, sk_c_h hsh]; rfl
            obtain ⟨e, rfl⟩ : ∃ e, i = e + 1 := ⟨i - 1, by omega⟩
            have hpc : pc_ K e = [] := by rw [pc_en es hsh]; rfl
            refine H n cs cl (nI 0) xf _ xY xc xe xk xt xq xy xF xZ ⟨tt_next ?_, by rw [est, ec]; rfl, by rw [est, ec]; trivial, by rw [est, ec]; trivial, hw, hnv, hh, ?_, ?_⟩ xt_r ?_ pk_us rfl ?_
            · rw [← pp_same h hi hk1 (c := false) (Or.inr hpc)]; exact ht
            · intro f hf hff
              have hf0 : f ≠ 0 := by
                intro q; rw [q, wf_0 h (by omega)] at hff; exact absurd hff (by decide)
              rw [hy f hf hff, tp_same (Or.inr (by omega))]
            · rw [est, ec]
              show n + 0 ≤ _
              omega
            · show fr_ K V xC xf xf ((pb_ K e).map (fun w => (w, e)))
              rw [show pb_ K e = [] by unfold pb_; rw [if_neg hk, hpc]]; exact fr_0
            · rw [est, ec]
              show n + 0 ≤ _
              omega
          · obtain ⟨e, rfl⟩ : ∃ e, i = e + 1 := ⟨i - 1, by omega⟩
            have hff := op_fs q2
            have hpc : pc_ K e = sk_t K r := pc_en es hsh
            have epp : pp_ K e = pa_ K e ++ sk_t K r := by unfold pp_ pb_; rw [if_neg hk, hpc]
            have hcr : cr_ K (s :: r) = 1 + ((sk_t K r).length + cr_ K (op_ K (e + 1) :: r')) := by rw [cr_w (Or.inr (Or.inl hsh)), cr_tw K r, q3]
            rw [hss] at hb H
            have hg := (si_all h (e + 1) (by omega)).1
            rw [es] at hg
            refine zk_c (i := e + 1) (s := s) (f := op_ K (e + 1)) (tf := tp_ K (op_ K (e + 1)) false (e + 1)) (nb := n + (sk_t K r).length + 1) (L := lp_ K false (e + 1)) (Lf := pp_ K e) (m := e + 1 + 1) (by omega) (by omega) (hmem s (by simp)) (fun j hj => hkx j (by omega)) hg (fun y hy => by have := hmem y hy; omega) (by omega) hd hs hsh q3 hff.2.2 ?_ (hy _ (by omega) hff.2.2) ht hq (lo_pp h (by omega) hN (List.Sublist.refl _)) (by rw [epp]; rfl) (by omega) (by omega) ?_
            · rw [hnv s (hmem s (by simp)) hsh]
              show nI (if _ then _ else _) = _
              rw [if_pos (oe_i.mpr ⟨hen, by rw [es]; rfl⟩), Nat.add_sub_cancel]
            · intro n' c' cs' cl' xf' xc' xe' xk' xt' xq' xy' xF' xZ' b1 b2 b3 b4 b5 b6 b7
              have hmr : ∀ y, y ∈ r' → y < op_ K (e + 1) := by
                have hg2 := gs_suf hg.1 (sk_w_suf K r)
                rw [q3] at hg2
                exact hg2.2.1
              refine H n' cs' cl' _ xf' _ _ xc' xe' xk' xt' xq' xy' xF' xZ' ⟨tt_next b1, by rw [est, q4], ?_, ?_, hw, hnv, hh, ?_, ?_⟩ b2 ?_ ?_ ?_ ?_
              · rw [est, q4]
                have : sv_ xS (sk_t K r ++ op_ K (e + 1) :: r') := by rw [← q3, sk_tw]; exact hs.2
                exact sv_app this
              · rw [est, q4]
                refine ⟨fun z => ?_, fun _ => Or.inr ⟨?_, c', pk_us, b5, b6, ?_⟩, ?_⟩
                · rw [(gs_xof q5).2] at z; exact absurd z (by decide)
                · have := hg.2.1 (op_ K (e + 1)) ((sk_w_suf K r).subset (by rw [q3]; simp))
                  have := hmem s (by simp)
                  omega
                · rw [b7, show e + 1 - 1 - op_ K (e + 1) = e + 1 - (op_ K (e + 1) + 1) by omega]
                · refine aq_u (fun y hy => by have := hmr y hy; omega) (aq_up b2 ?_)
                  have : aq_ K V n cs cl (upd xA (e + 1) z0) s (sk_t K r ++ op_ K (e + 1) :: r') := by rw [← q3, sk_tw]; exact hq.2.2
                  exact (aq_drop this).2.2
              · intro f hf hfk
                have hf0 : f ≠ 0 := by
                  intro q; rw [q, wf_0 h (by omega)] at hfk; exact absurd hfk (by decide)
                by_cases hfo : f = op_ K (e + 1)
                · subst hfo
                  rw [pk_us]
                  apply congrArg nI
                  show tc_ K _ e + (if _ then _ else _) + 1 = tc_ K _ e + (if _ then _ else _)
                  rw [en_tm hen, eb_i.mpr hen, decide_eq_true hk1]
                  simp
                · rw [pk_un hfo, hy f hf hfk, tp_same (Or.inr (fun q => hfo q.symm))]
              · rw [est, q4]; omega
              · show fr_ K V xC xf xf' ((pb_ K e).map (fun w => (w, e)))
                rw [show pb_ K e = sk_t K r by unfold pb_; rw [if_neg hk, hpc]]; exact b3
              · rw [pk_un (by omega), pk_us]
              · rw [pk_un (by omega)]
              · rw [est, q4]; omega
end
end
section
/-! X takes a node: the node itself -/
theorem hm_0 {K : Nat → Nat} {s : Nat} : ∀ {e : Nat}, e ≤ s → hm_ K s e = false := by
  intro e
  induction e with
  | zero => intro _; rfl
  | succ e ih =>
    intro h
    show ((oe_ K s e && _) || hm_ K s e) = false
    have : oe_ K s e = false := by
      cases q : oe_ K s e with
      | false => rfl
      | true =>
        have := sk_lt (sk_hm (oe_i.mp q).2)
        omega
    rw [this, ih (by omega)]; rfl
/-- nothing of a name happens at i -/
theorem wv_n {K : Nat → Nat} {i : Nat} {xW : Nat → Int32} (h : wv_ K i xW) (hn : ¬ en_ K (i + 1)) (hi : xW i = -1) : wv_ K (i + 1) xW := by
  intro j hj
  by_cases z : j = i
  · subst z
    exact ⟨fun s q => by rw [oe_n hn] at q; exact absurd q (by decide), fun _ => hi⟩
  · exact h j (by omega)
theorem nv_n {K : Nat → Nat} {i : Nat} {xN : Nat → Int32} (h : nv_ K i xN) (hn : ¬ en_ K (i + 1)) : nv_ K (i + 1) xN := by
  intro s hs hk
  have : s ≠ i := by
    intro q; subst q
    exact hn (en_1 (by rw [ka_hi] at hk; omega))
  rw [h s (by omega) hk]
  show _ = nI (if _ then _ else _)
  rw [oe_n hn, if_neg (by decide)]
theorem hv_n {K : Nat → Nat} {i : Nat} {xH : Nat → Int32} (h : hv_ K i xH) (hn : ¬ en_ K (i + 1)) (hi : xH i = 0) : hv_ K (i + 1) xH := by
  intro s hs
  have e : hm_ K s (i + 1) = hm_ K s i := by show ((oe_ K s i && _) || _) = _; rw [oe_n hn]; rfl
  rw [e]
  by_cases z : s = i
  · subst z; rw [hi, hm_0 (Nat.le_refl _)]; rfl
  · exact h s (by omega)
/-- a part of the name s ends at i -/
theorem wv_y {K : Nat → Nat} {i s : Nat} {r : List Nat} {xW : Nat → Int32} (h : wv_ K i xW) (he : en_ K (i + 1)) (hs : sk_ K (i + 1) = s :: r) : wv_ K (i + 1) (upd xW i (nI s)) := by
  intro j hj
  by_cases z : j = i
  · subst z
    refine ⟨fun x q => ?_, fun q => absurd he q⟩
    rw [oe_c he hs] at q
    rw [pk_us, of_decide_eq_true q]
  · rw [pk_un z]; exact h j (by omega)
theorem nv_y {K : Nat → Nat} {i s : Nat} {r : List Nat} {xN : Nat → Int32} (h : nv_ K i xN) (he : en_ K (i + 1)) (hs : sk_ K (i + 1) = s :: r) (hi : ka_h (K i) = true → s = i) : nv_ K (i + 1) (upd xN s (nI i)) := by
  intro x hx hk
  show _ = nI (if _ then _ else _)
  rw [oe_c he hs]
  by_cases z : x = s
  · rw [decide_eq_true z, if_pos rfl, z, pk_us]
  · rw [decide_eq_false z, if_neg (by decide), pk_un z]
    have : x ≠ i := by
      intro q; subst q
      exact z (hi hk).symm
    exact h x (by omega) hk
theorem hv_y {K : Nat → Nat} {i s : Nat} {r : List Nat} {xH : Nat → Int32} (h : hv_ K i xH) (he : en_ K (i + 1)) (hs : sk_ K (i + 1) = s :: r) (hi : xH i = 0) (hsi : s ≤ i) : hv_ K (i + 1) (if K i = 1 then upd xH s 1 else xH) := by
  intro x hx
  have e : hm_ K x (i + 1) = ((decide (x = s) && decide (K i = 1)) || hm_ K x i) := by show ((oe_ K x i && _) || _) = _; rw [oe_c he hs]
  have e2 : xH x = if hm_ K x i = true then 1 else 0 := by
    by_cases z : x = i
    · subst z; rw [hi, hm_0 (Nat.le_refl _)]; rfl
    · exact h x (by omega)
  rw [e]
  by_cases hk : K i = 1
  · rw [if_pos hk, decide_eq_true hk]
    by_cases z : x = s
    · rw [z, pk_us, decide_eq_true rfl]; rfl
    · rw [pk_un z, decide_eq_false z, e2]; rfl
  · rw [if_neg hk, decide_eq_false hk, Bool.and_false, Bool.false_or]; exact e2
/-- types stay when nothing is complete at i -/
theorem yv_n {K V : Nat → Nat} {N i : Nat} {xY : Nat → Int32} (h : wf_ K V N) (hi : i < N) (hy : ∀ f, f < i → ka_f (K f) = true → xY f = nI (tc_ K f i)) (ht : tm_ K i = false) (h0 : xY i = 0) :
    ∀ f, f < i + 1 → ka_f (K f) = true → xY f = nI (tp_ K f false (i + 1)) := by
  intro f hf hk
  have e : tp_ K f false (i + 1) = tc_ K f i := by
    show tc_ K f i + (if _ then _ else _) = _
    rw [ht]; simp
  rw [e]
  by_cases z : f = i
  · subst z
    have : 0 < f := by
      rcases Nat.eq_zero_or_pos f with q | q
      · rw [q, wf_0 h (by omega)] at hk; exact absurd hk (by decide)
      · exact q
    rw [tc_0 this (Nat.le_refl _), h0]; rfl
  · exact hy f (by omega) hk
theorem yv_y {K V : Nat → Nat} {N i : Nat} {xY : Nat → Int32} (h : wf_ K V N) (hi : i < N) (hy : ∀ f, f < i → ka_f (K f) = true → xY f = nI (tc_ K f i)) (ht : tm_ K i = true) (hk : ka_f (K i) = false) :
    ∀ f, f < i + 1 → ka_f (K f) = true → upd xY (op_ K (i + 1)) (nI (tc_ K (op_ K (i + 1)) i + 1)) f = nI (tp_ K f false (i + 1)) := by
  intro f hf hkf
  have hfi : f ≠ i := by intro q; rw [q, hk] at hkf; exact absurd hkf (by decide)
  have e : tp_ K f false (i + 1) = tc_ K f i + (if op_ K (i + 1) = f then 1 else 0) := by
    show tc_ K f i + (if _ then _ else _) = _
    rw [ht]; simp
  rw [e]
  by_cases z : f = op_ K (i + 1)
  · rw [if_pos z.symm, ← z, pk_us]
  · rw [pk_un z, if_neg (fun q => z q.symm), hy f (by omega) hkf]; rfl
end
section
/-! X takes a node: kind by kind -/
theorem sv_u {xS : Nat → Int32} {k : Nat} {v : Int32} : ∀ {l : List Nat}, sv_ xS l → l.length ≤ k → sv_ (upd xS k v) l := by
  intro l
  induction l with
  | nil => intro _ _; trivial
  | cons x r ih =>
    intro h hl
    simp at hl
    exact ⟨by rw [pk_un (by omega)]; exact h.1, ih h.2 (by omega)⟩
section
variable {xo xb : Int64} {xl xs xg xu xd xc xe xp xf xz : Int32} {xK xV xO xT xS xA xY xN xW xk xt xH xn : Nat → Int32} {xq : Nat → Int64} {xy xF xZ xC xv : Nat → Int32}
variable {K V : Nat → Nat}
theorem zt_ct {post : SX → Prop} {i y c f tf n nb m : Nat} {r' st L : List Nat} {cs : Nat → List (Nat × Nat)} {cl : Nat → Bool}
    (hi : i < 48) (hm : m ≤ 48) (hkx : kx_ K V m xK xV) (hst : ∀ x, x ∈ st → x < m) (hl : st.length ≤ 48) (hd : xd = nI st.length) (hs : sv_ xS st) (hpw : (y :: st).Pairwise (fun a b => b < a))
    (hr : sk_w K st = f :: r') (hf : ka_f (K f) = true) (hcg : cg_ K y (sk_t K st)) (hy : y ≤ i) (hty : xY f = nI tf)
    (ht : tt_ K V i L m n cs cl xc xe xk xt xq xy xF xZ) (hq : aq_ K V n cs cl xA y st) (hLf : lo_ K V i (L ++ sk_t K st)) (hn : n + (sk_t K st).length + 1 ≤ nb) (hnb : nb ≤ 128)
    (hc : c < n) (hcl : cl c = false) (hcs : cs c = sg_ K V y (i + 1 - y))
    (H : ∀ (n' c' : Nat) (cs' : Nat → List (Nat × Nat)) (cl' : Nat → Bool) (xf' : Int32) (xc' xe' : Int32) (xk' xt' : Nat → Int32) (xq' : Nat → Int64) (xy' xF' xZ' : Nat → Int32), tt_ K V i (L ++ sk_t K st) m n' cs' cl' xc' xe' xk' xt' xq' xy' xF' xZ' → xt_ n n' cs cs' cl cl' →
      fr_ K V xC xf xf' ((sk_t K st).map (fun w => (w, i))) → n' ≤ nb → c' < n' → cl' c' = true → cs' c' = sg_ K V (f + 1) (i - f) →
      post (xo, xb, xl, xs, xg, xu, nI (f :: r').length, xc', xe', xp, xf', xz, xK, xV, xO, xT, xS, upd xA f (nI c'), upd xY f (nI (tf + 1)), xN, xW, xk', xt', xH, xn, xq', xy', xF', xZ', xC, xv)) : wpX_completeType post (xo, xb, xl, xs, xg, xu, xd, xc, xe, xp, xf, xz, xK, xV, xO, xT, xS, xA, xY, xN, xW, xk, xt, xH, xn, xq, xy, xF, xZ, xC, xv) (nI c) (nI i) := by
  have er : sk_t K st ++ f :: r' = st := by rw [← hr]; exact sk_tw K st
  rw [← er] at hpw
  refine ⟨(sk_t K st).length + 1, ?_⟩
  refine zt_loop (f := f) (tf := tf) (r := r') (Lf := L ++ sk_t K st) (n0 := n) (nb := nb) (cs0 := cs) (cl0 := cl) (xf0 := xf) (m := m) (Pf := (sk_t K st).map (fun w => (w, i))) hm hi hnb hf hkx hty hLf H
    (sk_t K st) y c n cs cl L [] _ xf xc xe xk xt xq xy xF xZ ht xt_r fr_0 rfl rfl hcg hn (fun x hx => hst x (by rw [er] at hx; exact hx)) (by rw [er]; omega) (by rw [er]; exact hd) (by rw [er]; exact hs)
    (aq_drop (by rw [er]; exact hq)) hy (yb_lt hpw) hc hcl hcs _ (by omega)
/-- ARGS, wrappers, FUNC, SIG: a push -/
theorem zj_A {post : SX → Prop} {i N n : Nat} {cs : Nat → List (Nat × Nat)} {cl : Nat → Bool}
    (h : wf_ K V N) (hi : i < N) (hN : N ≤ 48) (hkx : kx_ K V N xK xV) (hk : K i = 3 ∨ 5 ≤ K i ∧ K i ≤ 10)
    (M : mi_ K V i (st_ K i) n cs cl xd xS xA xY xN xW xH xc xe xk xt xq xy xF xZ) (hA : xA i = -1) (hY : xY i = 0) (hW : xW i = -1) (hH : xH i = 0) (hb : n + cr_ K (st_ K i) ≤ 2 * i)
    (H : ∀ (xd' : Int32) (xS' : Nat → Int32), ti_ K V (i + 1) false n cs cl xd' xS' xA xY xN xW xH xc xe xk xt xq xy xF xZ → fr_ K V xC xf xf ((pa_ K i).map (fun w => (w, i))) → post (xo, xb, xl, xs, xg, xu, xd', xc, xe, xp, xf, xz, xK, xV, xO, xT, xS', xA, xY, xN, xW, xk, xt, xH, xn, xq, xy, xF, xZ, xC, xv)) :
    wX_takeNode_104 post (nI i) (nI (K i)) xo xb xl xs xg xu xd xc xe xp xf xz xK xV xO xT xS xA xY xN xW xk xt xH xn xq xy xF xZ xC xv := by
  obtain ⟨m1, m2, m3, m4, m5, m6, m7, m8, _⟩ := M
  have hK := (hkx i hi).2.2.1
  have hen : ¬ en_ K (i + 1) := en_n (by omega) (by omega)
  have hsuf : st_ K i <:+ sk_ K i := by
    unfold st_
    by_cases q : K i = 1 ∨ K i = 3
    · rw [if_pos q]; exact List.suffix_refl _
    · rw [if_neg q]; exact sk_c_suf _ _
  have hlen := sk_len h (i := i) (by omega) hsuf
  have es : sk_ K (i + 1) = i :: st_ K i := by
    unfold st_
    by_cases q : K i = 3
    · rw [if_pos (Or.inr q), sk_s3 q]
    · rw [if_neg (by omega), sk_so (by omega) q (by omega) (by omega)]
  have hpa : pa_ K i = [] := pa_o h hi hen (by omega) (by omega)
  refine br_f (fun z => by have := (nI_eq (a := K i) (b := 11) (by omega) (by omega)).mp z; omega) (br_f (fun z => by have := (nI_eq (a := K i) (b := 4) (by omega) (by omega)).mp z; omega) (br_f (fun z => by have := (nI_eq (a := K i) (b := 1) (by omega) (by omega)).mp z; omega) ?_))
  refine br_f (by rw [m2]; exact nI_ge (b := 48) (by omega) (by omega)) (nm_r (e' := nI ((st_ K i).length + 1)) (by rw [m2, nI_1]) ⟨by rw [m2]; exact vp_in_nI (by omega) (by omega), nm_r (e' := upd xS (st_ K i).length (nI i)) (by rw [m2, nI_clamp (by omega)]) ?_⟩)
  refine zx_h hK (fun z => by rw [ka_hi] at z; omega) (fun _ => br_t rfl (br_f (fun z => by have := (nI_eq (a := K i) (b := 1) (by omega) (by omega)).mp z; omega) ?_))
  refine H _ _ ⟨?_, ?_, ?_, ?_, wv_n m5 hen hW, nv_n m6 hen, hv_n m7 hen hH, yv_n h hi m8 (decide_eq_false (by omega)) hY, ?_⟩ ?_
  · show tt_ K V i (pa_ K i) (i + 1) n cs cl xc xe xk xt xq xy xF xZ
    rw [hpa]; exact m1
  · show _ = nI (sk_ K (i + 1)).length
    rw [es]; rfl
  · show sv_ _ (sk_ K (i + 1))
    rw [es]; exact ⟨pk_us, sv_u m3 (Nat.le_refl _)⟩
  · show aq_ K V n cs cl xA (i + 1) (sk_ K (i + 1))
    rw [es]
    exact ⟨fun z => by rw [ka_hi] at z; omega, fun _ => Or.inl ⟨rfl, hA⟩, m4⟩
  · show n + cr_ K (sk_ K (i + 1)) ≤ _
    rw [es]
    show n + ((if _ then _ else if _ then _ else _) + _) ≤ _
    by_cases q9 : K i = 9
    · rw [if_pos q9]; omega
    · rw [if_neg q9]
      by_cases q10 : K i = 10
      · rw [if_pos q10]; omega
      · rw [if_neg q10]; omega
  · rw [hpa]; exact fr_0
/-- extendName at the end of taking node i -/
theorem zj_x {post : SX → Prop} {i N s l q n : Nat} {r : List Nat} {cs : Nat → List (Nat × Nat)} {cl : Nat → Bool} {p2 : Int32} {o : Nat}
    (h : wf_ K V N) (hi : i < N) (hN : N ≤ 48) (hen : en_ K (i + 1)) (es : sk_ K (i + 1) = s :: r)
    (ht : tt_ K V i [] (i + 1) n cs cl xc xe xk xt xq xy xF xZ) (hd : xd = nI (s :: r).length) (hs : sv_ xS (s :: r)) (hqr : aq_ K V n cs cl xA s r)
    (hw : wv_ K i xW) (hnv : nv_ K i xN) (hh : hv_ K i xH) (hy : ∀ f, f < i → ka_f (K f) = true → xY f = nI (tc_ K f i)) (hY : xY i = 0) (hH : xH i = 0) (hb : n + 1 + cr_ K (s :: r) ≤ 2 * i + 2)
    (hv : vd_ n cs cl o l q) (ho : o ≤ 3) (ho1 : o = 1 ↔ K i = 1) (hl1 : l < 1024) (hq1 : q < 1024)
    (e1 : p2.toInt64 + 1 = lN l) (e2 : (xA s).toInt64 + 1 = lN q) (hbd : bd_ cs o l q = sg_ K V s (i + 1 - s))
    (H : ∀ (n' : Nat) (cs' : Nat → List (Nat × Nat)) (cl' : Nat → Bool) (xf' : Int32) (xA' xN' xW' xH' : Nat → Int32) (xc' xe' : Int32) (xk' xt' : Nat → Int32) (xq' : Nat → Int64) (xy' xF' xZ' : Nat → Int32), ti_ K V (i + 1) false n' cs' cl' xd xS xA' xY xN' xW' xH' xc' xe' xk' xt' xq' xy' xF' xZ' → fr_ K V xC xf xf' ((pa_ K i).map (fun w => (w, i))) →
      post (xo, xb, xl, xs, xg, xu, xd, xc', xe', xp, xf', xz, xK, xV, xO, xT, xS, xA', xY, xN', xW', xk', xt', xH', xn, xq', xy', xF', xZ', xC, xv)) : wpX_extendName post (xo, xb, xl, xs, xg, xu, xd, xc, xe, xp, xf, xz, xK, xV, xO, xT, xS, xA, xY, xN, xW, xk, xt, xH, xn, xq, xy, xF, xZ, xC, xv) (nI i) (nI o) p2 := by
  have hpa := pa_en h hi hen es
  have hsl := sk_lt (show s ∈ sk_ K (i + 1) by rw [es]; simp)
  have hlen := sk_len h (i := i + 1) (by omega) (List.suffix_refl _)
  rw [es] at hlen
  have hg := (si_all h (i + 1) (by omega)).1
  rw [es] at hg
  have hsh : ka_h (K s) = true := by
    obtain ⟨s', r', es', hs', _⟩ := en_top h (i := i + 1) (by omega) hen
    rw [es] at es'; rw [(List.cons.inj es').1]; exact hs'
  have hn128 : n < 128 := by omega
  refine zn_ext (i := i) (s := s) (r := r) (by omega) (by omega) (by omega) hd hs ht hn128 hv ho hl1 hq1 e1 e2 hbd ?_ ?_
  · rw [← hpa]; exact lo_pp h hi hN (List.sublist_append_left _ _)
  · intro n' c' cs' cl' xf' xc' xe' xk' xt' xq' xy' xF' xZ' b1 b2 b3 b4 b5 b6 b7
    refine H n' cs' cl' xf' _ _ _ _ xc' xe' xk' xt' xq' xy' xF' xZ' ⟨?_, ?_, ?_, ?_, wv_y hw hen es, nv_y hnv hen es ?_, ?_, yv_n h hi hy (en_tm hen) hY, ?_⟩ ?_
    · show tt_ K V i (pa_ K i) (i + 1) n' cs' cl' xc' xe' xk' xt' xq' xy' xF' xZ'
      rw [hpa]; exact b1
    · show _ = nI (sk_ K (i + 1)).length
      rw [es]; exact hd
    · show sv_ _ (sk_ K (i + 1))
      rw [es]; exact hs
    · show aq_ K V n' cs' cl' _ (i + 1) (sk_ K (i + 1))
      rw [es]
      refine ⟨fun _ => ⟨c', pk_us, b5, b6, b7⟩, fun z => by rw [(gs_xoh hsh).2] at z; exact absurd z (by decide), ?_⟩
      exact aq_u (fun y hy => by have := hg.2.1 y hy; omega) (aq_up b2 hqr)
    · intro z
      rw [ka_hi] at z
      have := sk_so (K := K) (i := i) (by omega) (by omega) (by omega) (by omega)
      rw [es] at this; exact (List.cons.inj this).1
    · have := hv_y hh hen es hH (by omega)
      by_cases z : o = 1
      · rw [if_pos z]; rw [if_pos (ho1.mp z)] at this; exact this
      · rw [if_neg z]; rw [if_neg (fun w => z (ho1.mpr w))] at this; exact this
    · show n' + cr_ K (sk_ K (i + 1)) ≤ _
      rw [es]; omega
    · rw [hpa]; exact b3
/-- NAME, PARAM -/
theorem zj_H {post : SX → Prop} {i N n : Nat} {cs : Nat → List (Nat × Nat)} {cl : Nat → Bool}
    (h : wf_ K V N) (hi : i < N) (hN : N ≤ 48) (hkx : kx_ K V N xK xV) (hk : ka_h (K i) = true)
    (M : mi_ K V i (st_ K i) n cs cl xd xS xA xY xN xW xH xc xe xk xt xq xy xF xZ) (hA : xA i = -1) (hY : xY i = 0) (hW : xW i = -1) (hH : xH i = 0) (hb : n + cr_ K (st_ K i) ≤ 2 * i)
    (H : ∀ (n' : Nat) (cs' : Nat → List (Nat × Nat)) (cl' : Nat → Bool) (xd' xf' : Int32) (xS' xA' xN' xW' xH' : Nat → Int32) (xc' xe' : Int32) (xk' xt' : Nat → Int32) (xq' : Nat → Int64) (xy' xF' xZ' : Nat → Int32), ti_ K V (i + 1) false n' cs' cl' xd' xS' xA' xY xN' xW' xH' xc' xe' xk' xt' xq' xy' xF' xZ' → fr_ K V xC xf xf' ((pa_ K i).map (fun w => (w, i))) →
      post (xo, xb, xl, xs, xg, xu, xd', xc', xe', xp, xf', xz, xK, xV, xO, xT, xS', xA', xY, xN', xW', xk', xt', xH', xn, xq', xy', xF', xZ', xC, xv)) :
    wX_takeNode_104 post (nI i) (nI (K i)) xo xb xl xs xg xu xd xc xe xp xf xz xK xV xO xT xS xA xY xN xW xk xt xH xn xq xy xF xZ xC xv := by
  obtain ⟨m1, m2, m3, m4, m5, m6, m7, m8, _⟩ := M
  have hK := (hkx i hi).2.2.1
  have hVi := (hkx i hi).2.2.2
  have hk' := ka_hi.mp hk
  have hen : en_ K (i + 1) := en_1 (by omega)
  have est : st_ K i = sk_c K (sk_ K i) := by unfold st_; rw [if_neg (by omega)]
  have hlen := sk_len h (i := i) (by omega) (sk_c_suf K (sk_ K i))
  rw [← est] at hlen
  have es : sk_ K (i + 1) = i :: st_ K i := by rw [est, sk_so (by omega) (by omega) (by omega) (by omega)]
  refine br_f (fun z => by have := (nI_eq (a := K i) (b := 11) (by omega) (by omega)).mp z; omega) (br_f (fun z => by have := (nI_eq (a := K i) (b := 4) (by omega) (by omega)).mp z; omega) (br_f (fun z => by have := (nI_eq (a := K i) (b := 1) (by omega) (by omega)).mp z; omega) ?_))
  refine br_f (by rw [m2]; exact nI_ge (b := 48) (by omega) (by omega)) (nm_r (e' := nI ((st_ K i).length + 1)) (by rw [m2, nI_1]) ⟨by rw [m2]; exact vp_in_nI (by omega) (by omega), nm_r (e' := upd xS (st_ K i).length (nI i)) (by rw [m2, nI_clamp (by omega)]) ?_⟩)
  refine zx_h hK (fun _ => br_f (by decide) ?_) (fun z => by rw [hk] at z; exact absurd z (by decide))
  refine ⟨vp_in_nI (by omega) (by omega), ?_⟩
  rw [nI_clamp (by omega), (hkx i hi).2.1]
  refine zj_x (s := i) (r := st_ K i) (l := V i + 1) (q := 0) (n := n) (cs := cs) (cl := cl) h hi hN hen es m1 rfl ⟨pk_us, sv_u m3 (Nat.le_refl _)⟩ m4 m5 m6 m7 m8 hY hH ?_ ?_ (by omega) (by omega) (by omega) (by omega) (zc_p _ (by omega)) (by rw [hA]; exact zc_m) ?_ ?_
  · rw [cr_w (Or.inr (Or.inl hk))]; omega
  · exact Or.inr (Or.inr (Or.inr (Or.inr (Or.inr ⟨by omega, by omega, rfl⟩))))
  · rw [bd_o (by omega) (by omega) (by omega) (by omega), show i + 1 - i = 1 by omega, sg_1]; rfl
  · intro n' cs' cl' xf' xA' xN' xW' xH' xc' xe' xk' xt' xq' xy' xF' xZ' b1 b2
    exact H n' cs' cl' _ xf' _ xA' xN' xW' xH' xc' xe' xk' xt' xq' xy' xF' xZ' b1 b2
/-- MEMBER -/
theorem zj_M {post : SX → Prop} {i N n : Nat} {cs : Nat → List (Nat × Nat)} {cl : Nat → Bool}
    (h : wf_ K V N) (hi : i < N) (hN : N ≤ 48) (hkx : kx_ K V N xK xV) (hk : K i = 1)
    (M : mi_ K V i (st_ K i) n cs cl xd xS xA xY xN xW xH xc xe xk xt xq xy xF xZ) (hA : xA i = -1) (hY : xY i = 0) (hW : xW i = -1) (hH : xH i = 0) (hb : n + cr_ K (st_ K i) ≤ 2 * i)
    (H : ∀ (n' : Nat) (cs' : Nat → List (Nat × Nat)) (cl' : Nat → Bool) (xf' : Int32) (xA' xN' xW' xH' : Nat → Int32) (xc' xe' : Int32) (xk' xt' : Nat → Int32) (xq' : Nat → Int64) (xy' xF' xZ' : Nat → Int32), ti_ K V (i + 1) false n' cs' cl' xd xS xA' xY xN' xW' xH' xc' xe' xk' xt' xq' xy' xF' xZ' → fr_ K V xC xf xf' ((pa_ K i).map (fun w => (w, i))) →
      post (xo, xb, xl, xs, xg, xu, xd, xc', xe', xp, xf', xz, xK, xV, xO, xT, xS, xA', xY, xN', xW', xk', xt', xH', xn, xq', xy', xF', xZ', xC, xv)) :
    wX_takeNode_104 post (nI i) (nI (K i)) xo xb xl xs xg xu xd xc xe xp xf xz xK xV xO xT xS xA xY xN xW xk xt xH xn xq xy xF xZ xC xv := by
  obtain ⟨m1, m2, m3, m4, m5, m6, m7, m8, _⟩ := M
  have hVi := (hkx i hi).2.2.2
  have hen : en_ K (i + 1) := en_1 (by omega)
  have est : st_ K i = sk_ K i := by unfold st_; rw [if_pos (Or.inl hk)]
  obtain ⟨s, r, es, hsh, hsl⟩ := en_top h (i := i + 1) (by omega) hen
  have es' := es
  rw [sk_s1 hk] at es'
  rw [est, es'] at m2 m3 m4 hb
  have hsl' := sk_lt (show s ∈ sk_ K i by rw [es']; simp)
  obtain ⟨c, c1, c2, c3, c4⟩ := m4.1 hsh
  have hn := m1.1.2.1
  refine br_f (by rw [hk]; decide) (br_f (by rw [hk]; decide) (br_t (by rw [hk]; rfl) ?_))
  refine zx_h (by omega) (fun z => by rw [hk] at z; exact absurd z (by decide)) (fun _ => br_t rfl (br_t (by rw [hk]; rfl) ?_))
  refine ⟨vp_in_nI (by omega) (by omega), ?_⟩
  rw [nI_clamp (by omega), (hkx i hi).2.1, hk]
  refine zj_x (o := 1) (s := s) (r := r) (l := V i + 1) (q := c + 1) (n := n) (cs := cs) (cl := cl) h hi hN hen es m1 m2 m3 m4.2.2 m5 m6 m7 m8 hY hH (by omega) ?_ (by omega) (by omega) (by omega) (by omega) (zc_p _ (by omega)) (by rw [c1]; exact zc_p c (by omega)) ?_ H
  · refine Or.inr (Or.inr (Or.inr (Or.inl ⟨rfl, by omega, by omega, by omega, by rw [Nat.add_sub_cancel]; exact c3, ?_⟩)))
    rw [Nat.add_sub_cancel, c4, show i - s = (i - s - 1) + 1 by omega, sg_cons]
    exact ⟨_, _, rfl, hsh⟩
  · rw [bd_1, lq_p (by omega), Nat.add_sub_cancel, Nat.add_sub_cancel, c4, show i + 1 - s = (i - s) + 1 by omega, sg_snoc, show s + (i - s) = i by omega, hk]
end
end
section
/-! X takes BUILTIN, END; then any node -/
section
variable {xo xb : Int64} {xl xs xg xu xd xc xe xp xf xz : Int32} {xK xV xO xT xS xA xY xN xW xk xt xH xn : Nat → Int32} {xq : Nat → Int64} {xy xF xZ xC xv : Nat → Int32}
variable {K V : Nat → Nat}
theorem zj_B {post : SX → Prop} {i N n c : Nat} {cs : Nat → List (Nat × Nat)} {cl : Nat → Bool}
    (h : wf_ K V N) (hi : i < N) (hN : N ≤ 48) (hkx : kx_ K V N xK xV) (hk : K i = 4)
    (M : mi_ K V i (st_ K i) n cs cl xd xS xA xY xN xW xH xc xe xk xt xq xy xF xZ) (hA : xA i = nI c) (hc : c < n) (hcl : cl c = false) (hcs : cs c = sg_ K V i 1) (hY : xY i = 0) (hW : xW i = -1) (hH : xH i = 0)
    (H : ∀ (n' : Nat) (cs' : Nat → List (Nat × Nat)) (cl' : Nat → Bool) (xd' xf' : Int32) (xA' xY' : Nat → Int32) (xc' xe' : Int32) (xk' xt' : Nat → Int32) (xq' : Nat → Int64) (xy' xF' xZ' : Nat → Int32), ti_ K V (i + 1) false n' cs' cl' xd' xS xA' xY' xN xW xH xc' xe' xk' xt' xq' xy' xF' xZ' → fr_ K V xC xf xf' ((pa_ K i).map (fun w => (w, i))) →
      post (xo, xb, xl, xs, xg, xu, xd', xc', xe', xp, xf', xz, xK, xV, xO, xT, xS, xA', xY', xN, xW, xk', xt', xH, xn, xq', xy', xF', xZ', xC, xv)) :
    wX_takeNode_104 post (nI i) (nI (K i)) xo xb xl xs xg xu xd xc xe xp xf xz xK xV xO xT xS xA xY xN xW xk xt xH xn xq xy xF xZ xC xv := by
  obtain ⟨m1, m2, m3, m4, m5, m6, m7, m8, mb⟩ := M
  have hbt := bt_op h hi hk
  have h0 := wf_0 h (by omega)
  have hsi := si_all h i (by omega)
  have hf := op_fs hbt.1
  have hen : ¬ en_ K (i + 1) := en_n (by omega) (by omega)
  have est : st_ K i = sk_c K (sk_ K i) := by unfold st_; rw [if_neg (by omega)]
  have hsuf : st_ K i <:+ sk_ K i := by rw [est]; exact sk_c_suf _ _
  have hlen := sk_len h (i := i) (by omega) hsuf
  have hmem : ∀ y, y ∈ st_ K i → y < i := gs_lt hsuf
  have hgst := gs_suf hsi.1 hsuf
  have eo : op_ K (i + 1) = op_ K i := op_c3 (by rw [hk]; rfl) (by omega)
  have es : sk_ K (i + 1) = sk_w K (st_ K i) := by rw [sk_s4 hk, est]
  have hpa : pa_ K i = sk_t K (st_ K i) := by unfold pa_; rw [if_pos hk, est]
  have hcg : cg_ K i (sk_t K (st_ K i)) := by
    rcases si_c h0 hsi hbt.2 hbt.1 with ⟨hw, r, e1, e2⟩ | ⟨hw, r, e2⟩
    · rw [est, e2, sk_t_cons_t hw]
      rw [est, e2] at hgst
      exact ⟨by have := hbt.2; omega, hw, cg_gs hgst (Or.inr (Or.inl hw))⟩
    · rw [est, e2, sk_t_cons_f (gs_xof hf.2.2).1]; trivial
  have hw : ∃ r', sk_w K (st_ K i) = op_ K i :: r' := by
    rcases (si_all h (i + 1) (by omega)).2.2 (by omega) with ⟨q, _⟩ | ⟨q, _⟩ | ⟨_, _, _, r, q⟩ | ⟨_, _, q, _⟩
    · rw [Nat.add_sub_cancel, hk] at q; exact absurd q (by decide)
    · exact absurd q hen
    · rw [es, eo] at q; exact ⟨r, q⟩
    · rw [eo] at q; exact absurd q hbt.1
  obtain ⟨r', hw⟩ := hw
  have hcr := cr_tw K (st_ K i)
  rw [hw] at hcr
  have hpw : (i :: st_ K i).Pairwise (fun a b => b < a) := List.Pairwise.cons hmem (gs_pw hgst)
  have hmr : ∀ y, y ∈ r' → y < op_ K i := by
    have hg2 := gs_suf hgst (sk_w_suf K (st_ K i))
    rw [hw] at hg2
    exact hg2.2.1
  refine br_f (by rw [hk]; decide) (br_t (by rw [hk]; rfl) ⟨vp_in_nI (by omega) (by omega), ?_⟩)
  rw [nI_clamp (by omega), hA]
  refine zt_ct (i := i) (y := i) (f := op_ K i) (tf := tc_ K (op_ K i) i) (m := i + 1) (L := []) (nb := n + (sk_t K (st_ K i)).length + 1) (by omega) (by omega) (fun j hj => hkx j (by omega)) (fun x hx => by have := hmem x hx; omega) (by omega) m2 m3 hpw hw hf.2.2 hcg (Nat.le_refl _) (m8 _ hf.2.1 hf.2.2) m1 m4 ?_ (Nat.le_refl _) (by omega) hc hcl (by rw [hcs, show i + 1 - i = 1 by omega]) ?_
  · rw [List.nil_append, ← hpa]; exact lo_pp h hi hN (List.sublist_append_left _ _)
  · intro n' c' cs' cl' xf' xc' xe' xk' xt' xq' xy' xF' xZ' b1 b2 b3 b4 b5 b6 b7
    refine zx_h (by omega) (fun z => by rw [hk] at z; exact absurd z (by decide)) (fun _ => br_t rfl (br_f (by rw [hk]; decide) ?_))
    refine H n' cs' cl' _ xf' _ _ xc' xe' xk' xt' xq' xy' xF' xZ' ⟨?_, ?_, ?_, ?_, wv_n m5 hen hW, nv_n m6 hen, hv_n m7 hen hH, ?_, ?_⟩ ?_
    · show tt_ K V i (pa_ K i) (i + 1) n' cs' cl' xc' xe' xk' xt' xq' xy' xF' xZ'
      rw [hpa]; exact b1
    · show _ = nI (sk_ K (i + 1)).length
      rw [es, hw]
    · show sv_ _ (sk_ K (i + 1))
      rw [es]
      rw [← sk_tw K (st_ K i)] at m3
      exact sv_app m3
    · show aq_ K V n' cs' cl' _ (i + 1) (sk_ K (i + 1))
      rw [es, hw]
      refine ⟨fun z => by rw [(gs_xof hf.2.2).2] at z; exact absurd z (by decide), fun _ => Or.inr ⟨by omega, c', pk_us, b5, b6, ?_⟩, ?_⟩
      · rw [b7, show i + 1 - (op_ K i + 1) = i - op_ K i by omega]
      · refine aq_u (fun y hy => by have := hmr y hy; omega) (aq_up b2 ?_)
        rw [← sk_tw K (st_ K i), hw] at m4
        exact (aq_drop m4).2.2
    · rw [← eo]
      exact yv_y h hi m8 (decide_eq_true (Or.inl hk)) (by rw [hk]; rfl)
    · show n' + cr_ K (sk_ K (i + 1)) ≤ _
      rw [es, hw]; omega
    · rw [hpa]; exact b3
theorem zj_168 {post : SX → Prop} {i k : Nat} (hk : k = 11) (h : post (xo, xb, xl, xs, xg, xu, xd, xc, xe, xp, xf, xz, xK, xV, xO, xT, xS, xA, xY, xN, xW, xk, xt, xH, xn, xq, xy, xF, xZ, xC, xv)) : wX_takeNode_168 post (nI i) (nI k) xo xb xl xs xg xu xd xc xe xp xf xz xK xV xO xT xS xA xY xN xW xk xt xH xn xq xy xF xZ xC xv := by
  subst hk
  exact zx_h (by omega) (fun z => absurd z (by decide)) (fun _ => br_t rfl (br_f (by decide) h))
theorem zj_E {post : SX → Prop} {i N n : Nat} {cs : Nat → List (Nat × Nat)} {cl : Nat → Bool}
    (h : wf_ K V N) (hi : i < N) (hN : N ≤ 48) (hkx : kx_ K V N xK xV) (hk : K i = 11)
    (M : mi_ K V i (st_ K i) n cs cl xd xS xA xY xN xW xH xc xe xk xt xq xy xF xZ) (hY : xY i = 0) (hW : xW i = -1) (hH : xH i = 0) (hb : n + cr_ K (st_ K i) ≤ 2 * i)
    (H : ∀ (n' : Nat) (cs' : Nat → List (Nat × Nat)) (cl' : Nat → Bool) (xd' xf' : Int32) (xA' xY' xN' xW' xH' : Nat → Int32) (xc' xe' : Int32) (xk' xt' : Nat → Int32) (xq' : Nat → Int64) (xy' xF' xZ' : Nat → Int32), ti_ K V (i + 1) false n' cs' cl' xd' xS xA' xY' xN' xW' xH' xc' xe' xk' xt' xq' xy' xF' xZ' → fr_ K V xC xf xf' ((pa_ K i).map (fun w => (w, i))) →
      post (xo, xb, xl, xs, xg, xu, xd', xc', xe', xp, xf', xz, xK, xV, xO, xT, xS, xA', xY', xN', xW', xk', xt', xH', xn, xq', xy', xF', xZ', xC, xv)) :
    wX_takeNode_104 post (nI i) (nI (K i)) xo xb xl xs xg xu xd xc xe xp xf xz xK xV xO xT xS xA xY xN xW xk xt xH xn xq xy xF xZ xC xv := by
  obtain ⟨m1, m2, m3, m4, m5, m6, m7, m8, mb⟩ := M
  obtain ⟨r, ec, hsf, ho, hf, hol⟩ := end_top h hi hk
  have h0 := wf_0 h (by omega)
  have hsi := si_all h i (by omega)
  have est : st_ K i = op_ K i :: r := by unfold st_; rw [if_neg (by omega), ec]
  have hlen := sk_len h (i := i) (by omega) hsf
  have hlen' : r.length + 1 ≤ i := hlen
  have hmem : ∀ y, y ∈ op_ K i :: r → y < i := gs_lt hsf
  have hgst := gs_suf hsi.1 hsf
  rw [est] at m2 m3 m4 mb hb
  have es := sk_s11 hk
  rw [ec] at es
  have hic : (nI i).toNatClampNeg = i := nI_clamp (by omega)
  have hfc : (nI (op_ K i)).toNatClampNeg = op_ K i := nI_clamp (by omega)
  have hfv : vp_in (nI (op_ K i)) 48 := vp_in_nI (by omega) (by omega)
  have hkf := hkx (op_ K i) (by omega)
  have hkf' := ka_fi.mp hf
  refine br_t (by rw [hk]; rfl) ?_
  unfold wpX_closeFrame
  refine zx_top m2 m3 (by omega) ?_
  have e1 : nI (op_ K i :: r).length - 1 = nI r.length := nI_pred _
  refine br_f (by rw [m2]; exact nI_nle (by simp) (by simp; omega)) (nm_r (e' := nI r.length) (by rw [m2, e1]) ?_)
  refine ⟨hfv, ?_⟩
  rw [hfc, hkf.1]
  rcases hkf' with q | q | q
  · -- ARGS
    have hen : en_ K (i + 1) := (en_e hk).mpr ⟨q, ho⟩
    have es' : sk_ K (i + 1) = r := by rw [es]; show (if _ then _ else _) = _; rw [if_neg (by omega)]
    obtain ⟨s, r1, ess, hsh, hsl⟩ := en_top h (i := i + 1) (by omega) hen
    have hrs : r = s :: r1 := by rw [← es']; exact ess
    subst hrs
    obtain ⟨c, c1, c2, c3, c4⟩ := m4.2.2.1 hsh
    have hsf' : s < op_ K i := hgst.2.1 s (by simp)
    have hn128 := m1.1.2.1
    have hcr : cr_ K (op_ K i :: s :: r1) = 1 + cr_ K (s :: r1) := cr_w (Or.inr (Or.inr q))
    have hlist : ∃ c0, xA (op_ K i) = nI c0 ∧ c0 < n ∧ cl c0 = true ∧ cs c0 = sg_ K V (op_ K i + 1) (i - (op_ K i + 1)) := by
      rcases m4.2.1 hf with ⟨z, _⟩ | ⟨_, z⟩
      · exfalso
        rcases ft_c (h i hi).2 (by omega) with w | w | w | ⟨_, _, _, _, ⟨_, w, _⟩ | ⟨_, ⟨_, w⟩ | ⟨w, _⟩⟩⟩
        · omega
        · omega
        · omega
        · omega
        · rcases w with w | w
          · omega
          · omega
        · omega
      · exact z
    obtain ⟨c0, d1, d2, d3, d4⟩ := hlist
    refine br_t (by rw [q]; rfl) ⟨hfv, ?_⟩
    rw [d1]
    refine zj_x (o := 3) (s := s) (r := r1) (l := c0 + 1) (q := c + 1) (n := n) (cs := cs) (cl := cl) h hi hN hen ess m1 rfl m3.2 m4.2.2.2.2 m5 m6 m7 m8 hY hH (by omega) ?_ (by omega) (by omega) (by omega) (by omega) (zc_p _ (by omega)) (by rw [c1]; exact zc_p c (by omega)) ?_ ?_
    · refine Or.inr (Or.inl ⟨rfl, by omega, by omega, by rw [Nat.add_sub_cancel]; exact d3, by omega, by omega, by rw [Nat.add_sub_cancel]; exact c3, ?_⟩)
      rw [Nat.add_sub_cancel, c4, show op_ K i - s = (op_ K i - s - 1) + 1 by omega, sg_cons]
      exact ⟨_, _, rfl, hsh⟩
    · rw [bd_3, lq_p (by omega), lq_p (by omega), Nat.add_sub_cancel, Nat.add_sub_cancel, c4, d4]
      have hv1 : V (op_ K i) = 0 := by
        have := (h (op_ K i) (by omega)).1.2.1
        rw [q] at this; exact Nat.le_zero.mp this
      have hv2 : V i = 0 := by
        have := (h i hi).1.2.1
        rw [hk] at this; exact Nat.le_zero.mp this
      have e3 : sg_ K V (op_ K i) (i + 1 - op_ K i) = (3, 0) :: (sg_ K V (op_ K i + 1) (i - (op_ K i + 1)) ++ [(11, 0)]) := by
        rw [show i + 1 - op_ K i = (i - op_ K i) + 1 by omega, sg_cons, q, hv1, show i - op_ K i = (i - (op_ K i + 1)) + 1 by omega, sg_snoc, show op_ K i + 1 + (i - (op_ K i + 1)) = i by omega, hk, hv2]
      rw [← e3, show i + 1 - s = (op_ K i - s) + (i + 1 - op_ K i) by omega, sg_app, show s + (op_ K i - s) = op_ K i by omega]
    · intro n' cs' cl' xf' xA' xN' xW' xH' xc' xe' xk' xt' xq' xy' xF' xZ' b1 b2
      refine ⟨hfv, ?_⟩
      rw [hfc, hkf.1]
      exact br_f (by rw [q]; decide) (zj_168 hk (H n' cs' cl' _ xf' xA' xY xN' xW' xH' xc' xe' xk' xt' xq' xy' xF' xZ' b1 b2))
  · -- FUNC
    have hen : ¬ en_ K (i + 1) := fun z => by have := ((en_e hk).mp z).1; omega
    have es' : sk_ K (i + 1) = sk_w K r := by rw [es]; show (if _ then _ else _) = _; rw [if_pos q]
    have hpa : pa_ K i = op_ K i :: sk_t K r := by
      obtain ⟨r2, p1, p2, p3⟩ := pa_f h hi hk q
      rw [ec] at p3
      rw [p1, (List.cons.inj p3).2]
    have hlist : ∃ c0, xA (op_ K i) = nI c0 ∧ c0 < n ∧ cl c0 = true ∧ cs c0 = sg_ K V (op_ K i + 1) (i - (op_ K i + 1)) := by
      rcases m4.2.1 hf with ⟨z, _⟩ | ⟨_, z⟩
      · exfalso
        rcases ft_c (h i hi).2 (by omega) with w | w | w | ⟨_, _, _, _, ⟨_, w, _⟩ | ⟨_, ⟨_, w⟩ | ⟨w, _⟩⟩⟩
        · omega
        · omega
        · omega
        · omega
        · rcases w with w | w
          · omega
          · omega
        · omega
      · exact z
    obtain ⟨c0, d1, d2, d3, d4⟩ := hlist
    have hn128 := m1.1.2.1
    have hcr : cr_ K (op_ K i :: r) = 2 + cr_ K r := by show (if _ then _ else _) + _ = _; rw [if_pos q]
    have hcr2 := cr_tw K r
    have hw : ∃ r', sk_w K r = op_ K (i + 1) :: r' ∧ op_ K (i + 1) ≠ 0 := by
      rcases (si_all h (i + 1) (by omega)).2.2 (by omega) with ⟨z, _⟩ | ⟨z, _⟩ | ⟨_, _, z0, r', z⟩ | ⟨_, _, _, z⟩
      · rw [Nat.add_sub_cancel, hk] at z; exact absurd z (by decide)
      · exact absurd z hen
      · rw [es'] at z; exact ⟨r', z, z0⟩
      · exfalso
        have hr : r ≠ [] := by
          intro hr
          rcases hgst.2.2 with ⟨_, q2 | q2⟩ | ⟨y, r', q2, _⟩
          · exact absurd q2.1 ho
          · omega
          · rw [hr] at q2; exact absurd q2 (by simp)
        obtain ⟨f', r', z1, _⟩ := gs_dw r _ hgst (Or.inr (Or.inr q)) hr
        rw [es', z1] at z; exact absurd z (by simp)
    obtain ⟨r', hw, hw0⟩ := hw
    rw [hw] at hcr2
    have hf2 := op_fs hw0
    have hmr : ∀ y, y ∈ op_ K (i + 1) :: r' → y < op_ K i := fun y hy => hgst.2.1 y ((sk_w_suf K r).subset (by rw [hw]; exact hy))
    have hmr2 : ∀ y, y ∈ r' → y < op_ K (i + 1) := by
      have hg2 := gs_suf hgst.1 (sk_w_suf K r)
      rw [hw] at hg2
      exact hg2.2.1
    have hfl := hmr (op_ K (i + 1)) (by simp)
    refine br_f (by rw [q]; decide) ⟨hfv, ?_⟩
    rw [hfc, hkf.1]
    refine br_t (by rw [q]; rfl) ⟨hfv, ?_⟩
    rw [d1]
    have hv1 : V (op_ K i) = 0 := by
      have := (h (op_ K i) (by omega)).1.2.1
      rw [q] at this; exact Nat.le_zero.mp this
    have hv2 : V i = 0 := by
      have := (h i hi).1.2.1
      rw [hk] at this; exact Nat.le_zero.mp this
    have e3 : sg_ K V (op_ K i) (i + 1 - op_ K i) = (9, 0) :: (sg_ K V (op_ K i + 1) (i - (op_ K i + 1)) ++ [(11, 0)]) := by
      rw [show i + 1 - op_ K i = (i - op_ K i) + 1 by omega, sg_cons, q, hv1, show i - op_ K i = (i - (op_ K i + 1)) + 1 by omega, sg_snoc, show op_ K i + 1 + (i - (op_ K i + 1)) = i by omega, hk, hv2]
    refine zc_cell (o := 9) (l := c0 + 1) (r := 0) m1.1 (Or.inr (Or.inr (Or.inl ⟨rfl, by omega, by omega, by rw [Nat.add_sub_cancel]; exact d3, rfl⟩))) (by omega) (by omega) (by omega) (by omega) (by decide) (zc_p c0 (by omega)) zc_m ?_
    intro c' n' cs' cl' xc' xq' xy' a1 a2 a3 a4 a5 a6
    have a5' : cs' c' = sg_ K V (op_ K i) (i + 1 - op_ K i) := by rw [a5, bd_9, lq_p (by omega), Nat.add_sub_cancel, d4, e3]
    have a6' : cl' c' = false := by
      cases z : cl' c' with
      | false => rfl
      | true => have := a6.mp z; omega
    have hlo : lo_ K V i (pa_ K i) := lo_pp h hi hN (List.sublist_append_left _ _)
    rw [hpa] at hlo
    refine zr_reg (e := i) (s := op_ K i) (L := []) (m := i + 1) a1 m1.2.1 m1.2.2 (by omega) (by omega) (by omega) (by omega) (fun x hx => absurd hx (by simp)) (by simp) a4 a6' a5' (hlo.2.2 _ ⟨sk_t K r, rfl⟩) ?_
    intro xe' xf' xy'' xF' xZ' xk' xt' b1 b2 b3 b4
    have hcg := cg_gs hgst (Or.inr (Or.inr q))
    refine zt_ct (i := i) (y := op_ K i) (f := op_ K (i + 1)) (tf := tc_ K (op_ K (i + 1)) i) (m := i + 1) (st := r) (L := [op_ K i]) (nb := n' + (sk_t K r).length + 1) (by omega) (by omega) (fun j hj => hkx j (by omega)) (fun x hx => by have := hmem x (by simp [hx]); omega) (by omega) rfl m3.2 (gs_pw hgst) hw hf2.2.2 hcg (by omega) (m8 _ (by omega) hf2.2.2) ⟨b1, b2, b3⟩ (aq_up a2 m4.2.2) hlo (Nat.le_refl _) (by omega) a4 a6' a5' ?_
    intro n2 c2 cs2 cl2 xf2 xc2 xe2 xk2 xt2 xq2 xy2 xF2 xZ2 g1 g2 g3 g4 g5 g6 g7
    refine zj_168 hk (H n2 cs2 cl2 _ xf2 _ _ xN xW xH xc2 xe2 xk2 xt2 xq2 xy2 xF2 xZ2 ⟨?_, ?_, ?_, ?_, wv_n m5 hen hW, nv_n m6 hen, hv_n m7 hen hH, ?_, ?_⟩ ?_)
    · show tt_ K V i (pa_ K i) (i + 1) n2 cs2 cl2 xc2 xe2 xk2 xt2 xq2 xy2 xF2 xZ2
      rw [hpa]; exact g1
    · show _ = nI (sk_ K (i + 1)).length
      rw [es', hw]
    · show sv_ _ (sk_ K (i + 1))
      rw [es']
      have := m3.2
      rw [← sk_tw K r] at this
      exact sv_app this
    · show aq_ K V n2 cs2 cl2 _ (i + 1) (sk_ K (i + 1))
      rw [es', hw]
      refine ⟨fun z => by rw [(gs_xof hf2.2.2).2] at z; exact absurd z (by decide), fun _ => Or.inr ⟨by omega, c2, pk_us, g5, g6, ?_⟩, ?_⟩
      · rw [g7, show i + 1 - (op_ K (i + 1) + 1) = i - op_ K (i + 1) by omega]
      · refine aq_u (fun y hy => by have := hmr2 y hy; omega) (aq_up g2 (aq_up a2 ?_))
        have m42 := m4.2.2
        rw [← sk_tw K r, hw] at m42
        exact (aq_drop m42).2.2
    · exact yv_y h hi m8 (decide_eq_true (Or.inr ⟨hk, q⟩)) (by rw [hk]; rfl)
    · show n2 + cr_ K (sk_ K (i + 1)) ≤ _
      rw [es', hw]; omega
    · rw [hpa]; exact fr_app b4 g3
  · -- SIG
    have hen : ¬ en_ K (i + 1) := fun z => by have := ((en_e hk).mp z).1; omega
    have es' : sk_ K (i + 1) = r := by rw [es]; show (if _ then _ else _) = _; rw [if_neg (by omega)]
    have hr : r = [] := by
      rcases hgst.2.2 with ⟨q2, _⟩ | ⟨y, r', q2, q3 | q3⟩
      · exact q2
      · omega
      · exfalso
        rcases q3.1 with z | z | z
        · rw [q] at z; exact absurd z (by decide)
        · rw [q] at z; exact absurd z (by decide)
        · omega
    have hpa : pa_ K i = [] := pa_o h hi hen (by omega) (by omega)
    rw [hr] at es'
    refine br_f (by rw [q]; decide) ⟨hfv, ?_⟩
    rw [hfc, hkf.1]
    refine br_f (by rw [q]; decide) (zj_168 hk (H n cs cl _ xf xA xY xN xW xH xc xe xk xt xq xy xF xZ ⟨?_, ?_, ?_, ?_, wv_n m5 hen hW, nv_n m6 hen, hv_n m7 hen hH, yv_n h hi m8 (decide_eq_false (by omega)) hY, ?_⟩ ?_))
    · show tt_ K V i (pa_ K i) (i + 1) n cs cl xc xe xk xt xq xy xF xZ
      rw [hpa]; exact m1
    · show _ = nI (sk_ K (i + 1)).length
      rw [es', hr]
    · show sv_ _ (sk_ K (i + 1))
      rw [es']; trivial
    · show aq_ K V n cs cl _ (i + 1) (sk_ K (i + 1))
      rw [es']; trivial
    · show n + cr_ K (sk_ K (i + 1)) ≤ _
      rw [es']
      show n + 0 ≤ _
      omega
    · rw [hpa]; exact fr_0
end
end
section
/-! X: takeNode, sync -/
theorem wv_u {K : Nat → Nat} {i : Nat} {xW : Nat → Int32} {v : Int32} (h : wv_ K i xW) : wv_ K i (upd xW i v) := by
  intro j hj; rw [pk_un (by omega)]; exact h j hj
theorem hv_u {K : Nat → Nat} {i : Nat} {xH : Nat → Int32} {v : Int32} (h : hv_ K i xH) : hv_ K i (upd xH i v) := by
  intro j hj; rw [pk_un (by omega)]; exact h j hj
section
variable {xo xb : Int64} {xl xs xg xu xd xc xe xp xf xz : Int32} {xK xV xO xT xS xA xY xN xW xk xt xH xn : Nat → Int32} {xq : Nat → Int64} {xy xF xZ xC xv : Nat → Int32}
variable {K V : Nat → Nat}
theorem zj_take {post : SX → Prop} {i N n : Nat} {c : Bool} {cs : Nat → List (Nat × Nat)} {cl : Nat → Bool}
    (h : wf_ K V N) (hi : i < N) (hN : N ≤ 48) (hc : c = true → K i ≠ 1 ∧ K i ≠ 3) (hkx : kx_ K V N xK xV)
    (T : ti_ K V i c n cs cl xd xS xA xY xN xW xH xc xe xk xt xq xy xF xZ)
    (H : ∀ (n' : Nat) (cs' : Nat → List (Nat × Nat)) (cl' : Nat → Bool) (xd' xf' : Int32) (xS' xA' xY' xN' xW' xH' : Nat → Int32) (xc' xe' : Int32) (xk' xt' : Nat → Int32) (xq' : Nat → Int64) (xy' xF' xZ' : Nat → Int32),
      ti_ K V (i + 1) false n' cs' cl' xd' xS' xA' xY' xN' xW' xH' xc' xe' xk' xt' xq' xy' xF' xZ' → fr_ K V xC xf xf' (np_ K c i) →
      post (xo, xb, xl, xs, xg, xu, xd', xc', xe', xp, xf', xz, xK, xV, xO, xT, xS', xA', xY', xN', xW', xk', xt', xH', xn, xq', xy', xF', xZ', xC, xv)) : wpX_takeNode post (xo, xb, xl, xs, xg, xu, xd, xc, xe, xp, xf, xz, xK, xV, xO, xT, xS, xA, xY, xN, xW, xk, xt, xH, xn, xq, xy, xF, xZ, xC, xv) (nI i) := by
  obtain ⟨t1, t2, t3, t4, t5, t6, t7, t8, t9⟩ := T
  have hiv : vp_in (nI i) 48 := vp_in_nI (by omega) (by omega)
  have hic : (nI i).toNatClampNeg = i := nI_clamp (by omega)
  have hki := hkx i hi
  have hmem : ∀ y, y ∈ ss_ K i c → y < i := fun y hy => sk_lt (ss_suf.subset hy)
  have ht1 := tt_ext h hi t1 (fun s hs => lp_lt h hi hc hs)
  have hy' : ∀ f, f < i → ka_f (K f) = true → upd xY i 0 f = nI (tp_ K f c i) := fun f a b => by rw [pk_un (by omega)]; exact t8 f a b
  rw [np_b] at H
  refine ⟨hiv, nm_r (e' := nI (K i)) (by rw [hic]; exact hki.1) ⟨hiv, nm_r (e' := upd xW i (-1)) (by rw [hic]) ⟨hiv, nm_r (e' := upd xH i 0) (by rw [hic, show vp_nar .boolean 0 = 0 by decide]) ⟨hiv, nm_r (e' := upd xY i 0) (by rw [hic]) ⟨hiv, nm_r (e' := upd xk i 0) (by rw [hic]) ?_⟩⟩⟩⟩⟩
  by_cases h4 : K i = 4
  · refine br_t (by rw [h4]; rfl) ⟨hiv, ?_⟩
    rw [hic, hki.2.1]
    have hn := t1.1.2.1
    refine zc_cell (o := 4) (l := V i + 1) (r := 0) ht1.1 (Or.inr (Or.inr (Or.inr (Or.inr (Or.inr ⟨by omega, by omega, rfl⟩))))) (by omega) (by have := hki.2.2.2; omega) (by omega) (by omega) (by decide) (zc_p _ (by have := hki.2.2.2; omega)) zc_m ?_
    intro c0 n0 cs0 cl0 xc0 xq0 xy0 a1 a2 a3 a4 a5 a6
    have a5' : cs0 c0 = sg_ K V i 1 := by rw [a5, bd_o (by omega) (by omega) (by omega) (by omega), sg_1, h4]; rfl
    have a6' : cl0 c0 = false := by
      cases z : cl0 c0 with
      | false => rfl
      | true => have := a6.mp z; omega
    refine zj_mid (z0 := nI c0) (c := c) h hi hN hc hkx ⟨a1, ht1.2⟩ t2 t3 (aq_u (fun y hy => by have := hmem y hy; omega) (aq_up a2 t4)) (wv_u t5) t6 (hv_u t7) hy' (by omega) ?_
    intro n' cs' cl' xd' xf' xA' xY' xc' xe' xk' xt' xq' xy' xF' xZ' b1 b2 b3 b4 b5 b6
    refine zj_B (c := c0) h hi hN hkx h4 b1 b4 (Nat.lt_of_lt_of_le a4 b2.1) ((b2.2 c0 a4).2.trans a6') ((b2.2 c0 a4).1.trans a5') (by rw [b5, pk_us]) pk_us pk_us ?_
    intro n2 cs2 cl2 xd2 xf2 xA2 xY2 xc2 xe2 xk2 xt2 xq2 xy2 xF2 xZ2 g1 g2
    exact H n2 cs2 cl2 xd2 xf2 xS xA2 xY2 xN _ _ xc2 xe2 xk2 xt2 xq2 xy2 xF2 xZ2 g1 (fr_app b3 g2)
  · refine br_f (fun z => h4 ((nI_eq (a := K i) (b := 4) (by have := hki.2.2.1; omega) (by omega)).mp z)) ?_
    refine zj_mid (z0 := -1) (c := c) h hi hN hc hkx ht1 t2 t3 (aq_u (fun y hy => by have := hmem y hy; omega) t4) (wv_u t5) t6 (hv_u t7) hy' (by omega) ?_
    intro n' cs' cl' xd' xf' xA' xY' xc' xe' xk' xt' xq' xy' xF' xZ' b1 b2 b3 b4 b5 b6
    have hb : n' + cr_ K (st_ K i) ≤ 2 * i := by omega
    have hY : xY' i = 0 := by rw [b5, pk_us]
    have hK := hki.2.2.1
    by_cases hh : ka_h (K i) = true
    · refine zj_H h hi hN hkx hh b1 b4 hY pk_us pk_us hb ?_
      intro n2 cs2 cl2 xd2 xf2 xS2 xA2 xN2 xW2 xH2 xc2 xe2 xk2 xt2 xq2 xy2 xF2 xZ2 g1 g2
      exact H n2 cs2 cl2 xd2 xf2 xS2 xA2 xY' xN2 xW2 xH2 xc2 xe2 xk2 xt2 xq2 xy2 xF2 xZ2 g1 (fr_app b3 g2)
    rw [ka_hi] at hh
    by_cases h1 : K i = 1
    · refine zj_M h hi hN hkx h1 b1 b4 hY pk_us pk_us hb ?_
      intro n2 cs2 cl2 xf2 xA2 xN2 xW2 xH2 xc2 xe2 xk2 xt2 xq2 xy2 xF2 xZ2 g1 g2
      exact H n2 cs2 cl2 _ xf2 xS xA2 xY' xN2 xW2 xH2 xc2 xe2 xk2 xt2 xq2 xy2 xF2 xZ2 g1 (fr_app b3 g2)
    by_cases h11 : K i = 11
    · refine zj_E h hi hN hkx h11 b1 hY pk_us pk_us hb ?_
      intro n2 cs2 cl2 xd2 xf2 xA2 xY2 xN2 xW2 xH2 xc2 xe2 xk2 xt2 xq2 xy2 xF2 xZ2 g1 g2
      exact H n2 cs2 cl2 xd2 xf2 xS xA2 xY2 xN2 xW2 xH2 xc2 xe2 xk2 xt2 xq2 xy2 xF2 xZ2 g1 (fr_app b3 g2)
    · refine zj_A h hi hN hkx (by omega) b1 b4 hY pk_us pk_us hb ?_
      intro xd2 xS2 g1 g2
      exact H n' cs' cl' xd2 _ xS2 xA' xY' xN _ _ xc' xe' xk' xt' xq' xy' xF' xZ' g1 (fr_app b3 g2)
/-- sync outside of reading -/
theorem zs_all {post : SX → Prop} {N : Nat} (h : wf_ K V N) (hN : N ≤ 48) (hkx : kx_ K V N xK xV) (hs : xs = nI N)
    (H : ∀ (n' : Nat) (cs' : Nat → List (Nat × Nat)) (cl' : Nat → Bool) (xd' xf' : Int32) (xS' xA' xY' xN' xW' xH' : Nat → Int32) (xc' xe' : Int32) (xk' xt' : Nat → Int32) (xq' : Nat → Int64) (xy' xF' xZ' : Nat → Int32),
      ti_ K V N false n' cs' cl' xd' xS' xA' xY' xN' xW' xH' xc' xe' xk' xt' xq' xy' xF' xZ' → post (xo, xb, xl, xs, xg, nI N, xd', xc', xe', xp, xf', xz, xK, xV, xO, xT, xS', xA', xY', xN', xW', xk', xt', xH', xn, xq', xy', xF', xZ', xC, xv)) :
    ∀ (d i n : Nat) (cs : Nat → List (Nat × Nat)) (cl : Nat → Bool) (xd xf : Int32) (xS xA xY xN xW xH : Nat → Int32) (xc xe : Int32) (xk xt : Nat → Int32) (xq : Nat → Int64) (xy xF xZ : Nat → Int32), i + d = N →
      ti_ K V i false n cs cl xd xS xA xY xN xW xH xc xe xk xt xq xy xF xZ → wX_sync_5 post (d + 1) (nI i) xo xb xl xs xg xu xd xc xe xp xf xz xK xV xO xT xS xA xY xN xW xk xt xH xn xq xy xF xZ xC xv := by
  intro d
  induction d with
  | zero =>
    intro i n cs cl xd xf xS xA xY xN xW xH xc xe xk xt xq xy xF xZ hi T
    have : i = N := by omega
    subst this
    refine br_t (by rw [hs]; exact nI_le (Nat.le_refl _) (by omega)) ?_
    rw [hs]
    have := H n cs cl xd xf xS xA xY xN xW xH xc xe xk xt xq xy xF xZ T
    rw [hs] at this
    exact this
  | succ d ih =>
    intro i n cs cl xd xf xS xA xY xN xW xH xc xe xk xt xq xy xF xZ hi T
    refine br_f (by rw [hs]; exact nI_ge (by omega) (by omega)) ?_
    refine zj_take (c := false) h (by omega) hN (fun z => absurd z (by decide)) hkx T ?_
    intro n' cs' cl' xd' xf' xS' xA' xY' xN' xW' xH' xc' xe' xk' xt' xq' xy' xF' xZ' g1 _
    exact nm_r (nI_1 i) (ih (i + 1) n' cs' cl' xd' xf' xS' xA' xY' xN' xW' xH' xc' xe' xk' xt' xq' xy' xF' xZ' (by omega) g1)
theorem zs_sync {post : SX → Prop} {N i n : Nat} {cs : Nat → List (Nat × Nat)} {cl : Nat → Bool} (h : wf_ K V N) (hN : N ≤ 48) (hkx : kx_ K V N xK xV) (hs : xs = nI N) (hu : xu = nI i) (hi : i ≤ N)
    (T : ti_ K V i false n cs cl xd xS xA xY xN xW xH xc xe xk xt xq xy xF xZ)
    (H : ∀ (n' : Nat) (cs' : Nat → List (Nat × Nat)) (cl' : Nat → Bool) (xd' xf' : Int32) (xS' xA' xY' xN' xW' xH' : Nat → Int32) (xc' xe' : Int32) (xk' xt' : Nat → Int32) (xq' : Nat → Int64) (xy' xF' xZ' : Nat → Int32),
      ti_ K V N false n' cs' cl' xd' xS' xA' xY' xN' xW' xH' xc' xe' xk' xt' xq' xy' xF' xZ' → post (xo, xb, xl, xs, xg, nI N, xd', xc', xe', xp, xf', xz, xK, xV, xO, xT, xS', xA', xY', xN', xW', xk', xt', xH', xn, xq', xy', xF', xZ', xC, xv)) : wpX_sync post (xo, xb, xl, xs, xg, xu, xd, xc, xe, xp, xf, xz, xK, xV, xO, xT, xS, xA, xY, xN, xW, xk, xt, xH, xn, xq, xy, xF, xZ, xC, xv) := by
  refine ⟨N - i + 1, ?_⟩
  rw [hu]
  exact zs_all h hN hkx hs H (N - i) i n cs cl xd xf xS xA xY xN xW xH xc xe xk xt xq xy xF xZ (by omega) T
/-- sync of one node while reading -/
theorem zs_one {post : SX → Prop} {i N n : Nat} {c : Bool} {cs : Nat → List (Nat × Nat)} {cl : Nat → Bool} (h : wf_ K V N) (hi : i + 1 = N) (hN : N ≤ 48) (hc : c = true → K i ≠ 1 ∧ K i ≠ 3) (hkx : kx_ K V N xK xV) (hs : xs = nI N) (hu : xu = nI i)
    (T : ti_ K V i c n cs cl xd xS xA xY xN xW xH xc xe xk xt xq xy xF xZ)
    (H : ∀ (n' : Nat) (cs' : Nat → List (Nat × Nat)) (cl' : Nat → Bool) (xd' xf' : Int32) (xS' xA' xY' xN' xW' xH' : Nat → Int32) (xc' xe' : Int32) (xk' xt' : Nat → Int32) (xq' : Nat → Int64) (xy' xF' xZ' : Nat → Int32),
      ti_ K V N false n' cs' cl' xd' xS' xA' xY' xN' xW' xH' xc' xe' xk' xt' xq' xy' xF' xZ' → fr_ K V xC xf xf' (np_ K c i) → post (xo, xb, xl, xs, xg, nI N, xd', xc', xe', xp, xf', xz, xK, xV, xO, xT, xS', xA', xY', xN', xW', xk', xt', xH', xn, xq', xy', xF', xZ', xC, xv)) : wpX_sync post (xo, xb, xl, xs, xg, xu, xd, xc, xe, xp, xf, xz, xK, xV, xO, xT, xS, xA, xY, xN, xW, xk, xt, xH, xn, xq, xy, xF, xZ, xC, xv) := by
  subst hi
  refine ⟨2, ?_⟩
  rw [hu]
  refine br_f (by rw [hs]; exact nI_ge (by omega) (by omega)) ?_
  refine zj_take (c := c) h (by omega) hN hc hkx T ?_
  intro n' cs' cl' xd' xf' xS' xA' xY' xN' xW' xH' xc' xe' xk' xt' xq' xy' xF' xZ' g1 g2
  refine nm_r (nI_1 i) (br_t (by rw [hs]; exact nI_le (Nat.le_refl _) (by omega)) ?_)
  have := H n' cs' cl' xd' xf' xS' xA' xY' xN' xW' xH' xc' xe' xk' xt' xq' xy' xF' xZ' g1 g2
  rw [hs] at this
  rw [hs]
  exact this
/-- the empty table -/
theorem ti_0 {m : Nat} (hd : xd = nI 0) (hc : xc = nI 0) (he : xe = nI 0) : ti_ K V 0 false 0 (fun _ => []) (fun _ => false) xd xS xA xY xN xW xH xc xe xk xt xq xy xF xZ := by
  refine ⟨⟨⟨hc, by omega, fun c h => by omega, fun c c' h => by omega, fun c h => by omega, fun c h => by omega, fun p hp => absurd hp (by simp [lp_, tl_, tb_])⟩, ⟨he, fun k p hp => absurd hp (by simp [lp_, tl_, tb_])⟩, fun s hs => by omega⟩, hd, trivial, trivial, fun j hj => by omega, fun j hj => by omega, fun j hj => by omega, fun j hj => by omega, Nat.le_refl _⟩
end
end
section
/-! Y: opener, match, next -/
def zI (z : Nat) : Int32 := if z = 0 then -1 else nI z
theorem zI_0 : zI 0 = -1 := rfl
theorem zI_p {z : Nat} (h : z ≠ 0) : zI z = nI z := by unfold zI; rw [if_neg h]
theorem nf_neg1 (m : Nat) : -nI m + (-1) = -nI (m + 1) := by
  rw [← nI_1, Int32.neg_add, Int32.sub_eq_add_neg]
theorem nf_pos1 (m : Nat) : -nI (m + 1) + 1 = -nI m := by
  rw [← nf_neg1, Int32.add_assoc, show (-1 : Int32) + 1 = 0 by decide, Int32.add_zero]
theorem nf_le0 {m : Nat} (h : m < 2 ^ 30) : -nI m ≤ 0 := by
  rw [Int32.le_iff_toInt_le, sb_negT (by omega)]
  have : (0 : Int32).toInt = 0 := by decide
  rw [this]; omega
section
variable {yl ys yg yo yc : Int32} {yK yV yA yB yT yO yF yZ yC yS : Nat → Int32}
variable {K V : Nat → Nat} {n : Nat}
theorem zy_ch {post : Int32 → Prop} {j : Nat} (hj : j < n) (hn : n ≤ 48) (hkx : kx_ K V n yK yV) (h11 : K j = 11 → post (-1)) (hf : ka_f (K j) = true → post 1) (ho : ka_f (K j) = false → K j ≠ 11 → post 0) : wpY_change post (yl, ys, yg, yo, yc, yK, yV, yA, yB, yT, yO, yF, yZ, yC, yS) (nI j) := by
  have hiv : vp_in (nI j) 64 := vp_in_nI (by omega) (by omega)
  have hic : (nI j).toNatClampNeg = j := nI_clamp (by omega)
  have hk := hkx j hj
  have hK := hk.2.2.1
  refine ⟨hiv, ?_⟩
  rw [hic, hk.1]
  refine pk_eq (K j) 11 h11 (fun q1 => ⟨hiv, pk_eq (K j) 3 (fun q => hf (by rw [q]; rfl)) (fun q2 => ⟨hiv, pk_eq (K j) 9 (fun q => hf (by rw [q]; rfl)) (fun q3 => ⟨hiv, pk_eq (K j) 10 (fun q => hf (by rw [q]; rfl)) (fun q4 => ho (by rw [ka_fn]; omega) q1)⟩)⟩)⟩)
theorem zy_op1 {post : Int32 → Prop} (h0 : K 0 = 0) (hn : n ≤ 48) (hkx : kx_ K V n yK yV) : ∀ j m, j ≤ n → m + j < 2 ^ 20 → post (zI (((fs_ K j).drop m).headD 0)) → wY_opener_6 post yl ys yg yo yc yK yV yA yB yT yO yF yZ yC yS (j + 1) (-nI m) (nI j - 1) := by
  intro j
  induction j with
  | zero =>
    intro m _ _ h
    have e : ((fs_ K 0).drop m).headD 0 = 0 := by show (([] : List Nat).drop m).headD 0 = 0; rw [List.drop_nil]; rfl
    rw [e] at h
    exact br_t (by decide) h
  | succ k ih =>
    intro m hj hm h
    rw [nI_pred]
    refine br_f (nI_pos (by omega)) ?_
    have e1 : nI k + (-1) = nI k - 1 := by rw [Int32.sub_eq_add_neg]
    refine zy_ch (n := n) (V := V) (by omega) hn hkx (fun q => ?_) (fun q => ?_) (fun q q2 => ?_)
    · refine nm_r (nf_neg1 m) (br_t (nf_le0 (by omega)) (nm_r e1 (ih (m + 1) (by omega) (by omega) ?_)))
      rw [op_s2 q, ← List.drop_one, List.drop_drop] at h
      rw [Nat.add_comm]; exact h
    · rw [op_s1 q] at h
      have hk0 : k ≠ 0 := by intro z; rw [z, h0] at q; exact absurd q (by decide)
      cases m with
      | zero =>
        refine nm_r (e' := 1) (by decide) (br_f (by decide) ?_)
        have : zI ((List.drop 0 (k :: fs_ K k)).headD 0) = nI k := zI_p hk0
        rw [this] at h; exact h
      | succ m =>
        refine nm_r (nf_pos1 m) (br_t (nf_le0 (by omega)) (nm_r e1 (ih m (by omega) (by omega) ?_)))
        rw [List.drop_succ_cons] at h; exact h
    · refine nm_r (e' := -nI m) (by rw [Int32.add_zero]) (br_t (nf_le0 (by omega)) (nm_r e1 (ih m (by omega) (by omega) ?_)))
      rw [op_s3 q q2] at h; exact h
theorem zy_op {post : Int32 → Prop} {j : Nat} (h0 : K 0 = 0) (hn : n ≤ 48) (hkx : kx_ K V n yK yV) (hj : j ≤ n) (h : post (zI (op_ K j))) : wpY_opener post (yl, ys, yg, yo, yc, yK, yV, yA, yB, yT, yO, yF, yZ, yC, yS) (nI j) := by
  refine nm_e ⟨j + 1, ?_⟩
  have := zy_op1 (post := post) (yl := yl) (ys := ys) (yg := yg) (yo := yo) (yc := yc) (yV := yV) (yA := yA) (yB := yB) (yT := yT) (yO := yO) (yF := yF) (yZ := yZ) (yC := yC) (yS := yS) h0 hn hkx j 0 hj (by omega) h
  rw [show -nI 0 = 0 by decide] at this
  exact this
theorem zy_mt1 {post : Int32 → Prop} {o : Nat} (hn : n ≤ 48) (hs : ys = nI n) (hkx : kx_ K V n yK yV) : ∀ (d j dd : Nat) (L R : List Nat), j + d = n → fs_ K j = L ++ o :: R → dd = L.length + 1 → dd ≤ j →
    (∀ m, j ≤ m → m < n → K m = 11 → op_ K m = o → post (nI m)) → ((∀ m, j ≤ m → m < n → K m = 11 → op_ K m ≠ o) → post (-1)) → wY_match_4 post yl ys yg yo yc yK yV yA yB yT yO yF yZ yC yS (d + 1) (nI dd) (nI j) := by
  intro d
  induction d with
  | zero =>
    intro j dd L R hj _ _ _ _ h2
    refine br_t (by rw [hs]; exact nI_le (by omega) (by omega)) (h2 (fun m a b => by omega))
  | succ d ih =>
    intro j dd L R hj hf hd hdj h1 h2
    refine br_f (by rw [hs]; exact nI_ge (by omega) (by omega)) ?_
    refine zy_ch (n := n) (V := V) (by omega) hn hkx (fun q => ?_) (fun q => ?_) (fun q q2 => ?_)
    · cases L with
      | nil =>
        have e : op_ K j = o := op_cons hf
        refine nm_r (e' := 0) (by rw [hd]; decide) (br_t rfl (h1 j (Nat.le_refl _) (by omega) q e))
      | cons x L =>
        have e : op_ K j = x := op_cons hf
        have hxo : x ≠ o := by
          intro z
          have := fs_tail K j x (L ++ o :: R) hf
          have hm := fs_mlt (show o ∈ fs_ K x by rw [← this.2.2]; simp)
          omega
        refine nm_r (e' := nI (L.length + 1)) (by rw [hd]; exact pk_m1 _) (br_f (nI_ne0 (by omega) (by simp at hd; omega)) (nm_r (nI_1 j) (ih (j + 1) _ L R (by omega) (by rw [op_s2 q, hf]; rfl) rfl (by simp at hd; omega) (fun m a => h1 m (by omega)) (fun z => h2 (fun m a b c => ?_)))))
        by_cases w : m = j
        · subst w; rw [e]; exact hxo
        · exact z m (by omega) b c
    · refine nm_r (nI_1 dd) (br_f (nI_ne0 (by omega) (by omega)) (nm_r (nI_1 j) (ih (j + 1) _ (j :: L) R (by omega) (by rw [op_s1 q, hf]; rfl) (by simp; omega) (by omega) (fun m a => h1 m (by omega)) (fun z => h2 (fun m a b c => ?_)))))
      by_cases w : m = j
      · subst w; rw [ka_fi] at q; omega
      · exact z m (by omega) b c
    · refine nm_r (e' := nI dd) (by rw [Int32.add_zero]) (br_f (nI_ne0 (by omega) (by omega)) (nm_r (nI_1 j) (ih (j + 1) _ L R (by omega) (by rw [op_s3 q q2, hf]) hd (by omega) (fun m a => h1 m (by omega)) (fun z => h2 (fun m a b c => ?_)))))
      by_cases w : m = j
      · subst w; exact absurd c q2
      · exact z m (by omega) b c
theorem zy_mt {post : Int32 → Prop} {o : Nat} (hn : n ≤ 48) (hs : ys = nI n) (hkx : kx_ K V n yK yV) (ho : o < n) (hf : ka_f (K o) = true)
    (h1 : ∀ m, o < m → m < n → K m = 11 → op_ K m = o → post (nI m)) (h2 : (∀ m, o < m → m < n → K m = 11 → op_ K m ≠ o) → post (-1)) : wpY_match post (yl, ys, yg, yo, yc, yK, yV, yA, yB, yT, yO, yF, yZ, yC, yS) (nI o) := by
  refine ⟨n - o + 1, ?_⟩
  obtain ⟨d, hd⟩ : ∃ d, n - o = d + 1 := ⟨n - o - 1, by omega⟩
  rw [hd]
  refine br_f (by rw [hs]; exact nI_ge (by omega) (by omega)) ?_
  refine zy_ch (n := n) (V := V) ho hn hkx (fun q => by rw [q] at hf; exact absurd hf (by decide)) (fun _ => ?_) (fun q => by rw [hf] at q; exact absurd q (by decide))
  refine nm_r (e' := nI 1) (by decide) (br_f (by decide) (nm_r (nI_1 o) ?_))
  exact zy_mt1 hn hs hkx d (o + 1) 1 [] (fs_ K o) (by omega) (op_s1 hf) rfl (by omega) (fun m a => h1 m (by omega)) (fun z => h2 (fun m a => z m (by omega)))
/-- next: K n must be END there -/
theorem zy_nx {post : Int32 → Prop} {e : Nat} (hn : n ≤ 48) (hs : ys = nI n) (hkx : kx_ K V n yK yV) (hS : K n = 11) (he : e < n)
    (h1 : K (e + 1) = 1 → post (nI (e + 1)))
    (h3 : K (e + 1) = 3 → (∀ m, e + 1 < m → m < n → K m = 11 → op_ K m = e + 1 → post (nI m)) ∧ ((∀ m, e + 1 < m → m < n → K m = 11 → op_ K m ≠ e + 1) → post (-1)))
    (ho : K (e + 1) ≠ 1 → K (e + 1) ≠ 3 → post (nI e)) : wpY_next post (yl, ys, yg, yo, yc, yK, yV, yA, yB, yT, yO, yF, yZ, yC, yS) (nI e) := by
  have e1 : nI e + 1 = nI (e + 1) := nI_1 e
  by_cases q : e + 1 < n
  · refine br_f (by rw [hs, e1]; exact nI_ge (by omega) (by omega)) ?_
    rw [e1]
    refine ⟨vp_in_nI (by omega) (by omega), ?_⟩
    have hk := hkx (e + 1) q
    have hK := hk.2.2.1
    rw [nI_clamp (by omega), hk.1]
    refine pk_eq (K (e + 1)) 1 (fun z => by rw [e1]; exact h1 z) (fun z => pk_eq (K (e + 1)) 3 (fun w => ?_) (fun w => ho z w))
    rw [e1]
    exact zy_mt hn hs hkx q (by rw [w]; rfl) (h3 w).1 (h3 w).2
  · have : e + 1 = n := by omega
    refine br_t (by rw [hs, e1]; exact nI_le (by omega) (by omega)) (br_f (by decide) (br_f (by decide) (ho ?_ ?_)))
    · rw [this, hS]; decide
    · rw [this, hS]; decide
end
end
section
/-! names part by part -/
theorem oe_1 {K : Nat → Nat} {s e : Nat} (h : oe_ K s e = true) (h1 : K (e + 1) = 1) : oe_ K s (e + 1) = true := by
  rw [oe_i] at h ⊢
  exact ⟨en_1 (by omega), by rw [sk_s1 h1]; exact h.2⟩
theorem oe_3 {K V : Nat → Nat} {n s e m : Nat} (hw : wf_ K V n) (h : oe_ K s e = true) (h3 : K (e + 1) = 3) (hm : m < n) (h11 : K m = 11) (ho : op_ K m = e + 1) : oe_ K s m = true := by
  rw [oe_i] at h ⊢
  obtain ⟨r, ec, hs, ho0, hf, hl⟩ := end_top hw hm h11
  rw [ho] at ec hs
  have h1 := (sk_at K m (e + 1) r hs).2
  rw [sk_s3 h3] at h1
  have h2 := sk_s11 h11
  rw [ec] at h2
  have e3 : sk_e K ((e + 1) :: r) = r := by show (if _ then _ else _) = _; rw [if_neg (by omega)]
  rw [e3, ← (List.cons.inj h1).2] at h2
  exact ⟨(en_e h11).mpr ⟨by rw [ho]; exact h3, ho0⟩, by rw [h2]; exact h.2⟩
theorem fs_open {K : Nat → Nat} {f : Nat} (hf : ka_f (K f) = true) : ∀ {j : Nat}, f < j → (∀ m, f < m → m < j → K m = 11 → op_ K m ≠ f) → f ∈ fs_ K j := by
  intro j
  induction j with
  | zero => intro h; omega
  | succ j ih =>
    intro h hno
    by_cases z : f = j
    · subst z; rw [op_s1 hf]; simp
    · have h1 := ih (by omega) (fun m a b => hno m a (by omega))
      by_cases a : ka_f (K j) = true
      · rw [op_s1 a]; simp [h1]
      · by_cases b : K j = 11
        · have h2 := hno j (by omega) (by omega) b
          rw [op_s2 b]
          cases hq : fs_ K j with
          | nil => rw [hq] at h1; exact absurd h1 (by simp)
          | cons x r =>
            rw [hq] at h1
            rcases List.mem_cons.mp h1 with w | w
            · exact absurd ((op_cons hq).trans w.symm) h2
            · exact w
        · rw [op_s3 (by simpa using a) b]; exact h1
theorem oe_go {K V : Nat → Nat} {n s p e : Nat} (hw : wf_ K V n) (hp : oe_ K s p = true) (he : oe_ K s e = true) (hl : p < e) (hn : e < n) :
    K (p + 1) = 1 ∨ (K (p + 1) = 3 ∧ ∃ m, p + 1 < m ∧ m ≤ e ∧ K m = 11 ∧ op_ K m = p + 1) := by
  rw [oe_i] at hp he
  by_cases h1 : K (p + 1) = 1
  · exact Or.inl h1
  by_cases h3 : K (p + 1) = 3
  · refine Or.inr ⟨h3, ?_⟩
    apply Classical.byContradiction
    intro hno
    have hmem : p + 1 ∈ fs_ K (e + 1) := by
      refine fs_open (by rw [h3]; rfl) (by
        by_cases z : p + 1 = e
        · have := en_ne hw hn he.1; rw [← z] at this; omega
        · omega) (fun m a b c d => hno ⟨m, a, by omega, c, d⟩)
    rw [← (si_all hw (e + 1) (by omega)).2.1] at hmem
    have hmem := (List.mem_filter.mp hmem).1
    obtain ⟨t, r, es, _, _⟩ := en_top hw (i := e + 1) (by omega) he.1
    have hts : t = s := by have := he.2; rw [es] at this; exact Option.some.inj this
    subst hts
    have h5 := sk_lt (sk_hm hp.2)
    have h6 := sk_at K (e + 1) t r (by rw [es]; exact List.suffix_refl _)
    rw [es, ← h6.2] at hmem
    have := sk_lt hmem
    omega
  · exact absurd (sk_hm he.2) (sk_gone hw (by omega) hp.1 hp.2 h1 h3 (by omega))
/-- the name s ends for good at e -/
def fx_ (K : Nat → Nat) (s e : Nat) : Prop := oe_ K s e = true ∧ K (e + 1) ≠ 1 ∧ K (e + 1) ≠ 3
theorem fx_le {K V : Nat → Nat} {n s e e' : Nat} (hw : wf_ K V n) (h : fx_ K s e) (h' : oe_ K s e' = true) (he : e' < n) : e' ≤ e := by
  rcases Nat.lt_or_ge e e' with z | z
  · have := oe_go hw h.1 h' z he
    have h1 := h.2
    omega
  · exact z
theorem oe_h {K V : Nat → Nat} {n s e : Nat} (hw : wf_ K V n) (h : oe_ K s e = true) (he : e < n) : ka_h (K s) = true ∧ s ≤ e := by
  rw [oe_i] at h
  obtain ⟨t, r, es, ht, hl⟩ := en_top hw (i := e + 1) (by omega) h.1
  have hts : t = s := by have := h.2; rw [es] at this; exact Option.some.inj this
  subst hts
  exact ⟨ht, by omega⟩
theorem oe_s {K V : Nat → Nat} {n s : Nat} (hw : wf_ K V n) (hs : s < n) (h : ka_h (K s) = true) : oe_ K s s = true := by
  rw [oe_i]
  have := ka_hi.mp h
  exact ⟨en_1 (by omega), by rw [sk_so (by omega) (by omega) (by omega) (by omega)]; rfl⟩
theorem ce_fx {K V : Nat → Nat} {n c e : Nat} (hw : wf_ K V n) (he : e < n) (hc : ka_h (K c) = true) : ce_ K c e ↔ fx_ K c e := by
  unfold ce_ fx_
  rw [oe_i]
  rw [ka_hi] at hc
  constructor
  · rintro (z | z | z)
    · omega
    · omega
    · exact ⟨⟨z.2.1, z.2.2.1⟩, z.2.2.2⟩
  · intro z
    exact Or.inr (Or.inr ⟨by rw [ka_hi]; exact hc, z.1.1, z.1.2, z.2⟩)
section
variable {yl ys yg yo yc : Int32} {yK yV yA yB yT yO yF yZ yC yS : Nat → Int32}
variable {K V : Nat → Nat} {n : Nat}
theorem zy_e76m {post : Int32 → Prop} {d t : Nat} (h : post (-1)) : wY_end_76 post yl ys yg yo yc yK yV yA yB yT yO yF yZ yC yS (d + 1) (-1) (nI t) := by
  exact br_c (fun _ => h) (fun _ => br_t (by decide) h)
theorem zy_e76 {post : Int32 → Prop} {c : Nat} (hw : wf_ K V n) (hn : n ≤ 48) (hs : ys = nI n) (hkx : kx_ K V n yK yV) (hS : K n = 11)
    (h1 : ∀ e, e < n → fx_ K c e → post (nI e)) (h2 : (∀ e, e < n → ¬ fx_ K c e) → post (-1)) :
    ∀ (d t e : Nat), t + d = n → e < n → oe_ K c e = true → (t ≤ e ∨ (K (e + 1) ≠ 1 ∧ K (e + 1) ≠ 3)) → wY_end_76 post yl ys yg yo yc yK yV yA yB yT yO yF yZ yC yS (d + 1) (nI e) (nI t) := by
  intro d
  induction d with
  | zero =>
    intro t e ht he ho hf
    refine br_t (by rw [hs]; exact nI_le (by omega) (by omega)) (h1 e he ⟨ho, ?_⟩)
    rcases hf with z | z
    · omega
    · exact z
  | succ d ih =>
    intro t e ht he ho hf
    refine br_f (by rw [hs]; exact nI_ge (by omega) (by omega)) (br_f (nI_pos (by omega)) ?_)
    refine zy_nx hn hs hkx hS he (fun q => ?_) (fun q => ⟨fun m a b c1 c2 => ?_, fun hno => ?_⟩) (fun q q2 => ?_)
    · have : e + 1 < n := by
        rcases Nat.lt_or_ge (e + 1) n with z | z
        · exact z
        · rw [show e + 1 = n by omega, hS] at q; omega
      exact nm_r (nI_1 t) (ih (t + 1) (e + 1) (by omega) this (oe_1 ho q) (by omega))
    · exact nm_r (nI_1 t) (ih (t + 1) m (by omega) b (oe_3 hw ho q b c1 c2) (by omega))
    · refine nm_r (nI_1 t) (zy_e76m (h2 (fun e' he' hfx => ?_)))
      have a := fx_le hw hfx ho he
      rcases Nat.lt_or_ge e e' with z | z
      · rcases oe_go hw ho hfx.1 z he' with w | ⟨_, m, w1, w2, w3, w4⟩
        · omega
        · exact hno m w1 (by omega) w3 w4
      · have : e' = e := by omega
        rw [this] at hfx
        exact hfx.2.2 q
    · exact nm_r (nI_1 t) (ih (t + 1) e (by omega) he ho (Or.inr ⟨q, q2⟩))
theorem zy_e76f {post : Int32 → Prop} (hn : n ≤ 48) (hs : ys = nI n) (hkx : kx_ K V n yK yV) (hS : K n = 11) {e : Nat} (he : e < n) (q : K (e + 1) ≠ 1) (q2 : K (e + 1) ≠ 3) (h : post (nI e)) :
    ∀ (d t : Nat), t + d = n → wY_end_76 post yl ys yg yo yc yK yV yA yB yT yO yF yZ yC yS (d + 1) (nI e) (nI t) := by
  intro d
  induction d with
  | zero => intro t ht; exact br_t (by rw [hs]; exact nI_le (by omega) (by omega)) h
  | succ d ih =>
    intro t ht
    refine br_f (by rw [hs]; exact nI_ge (by omega) (by omega)) (br_f (nI_pos (by omega)) ?_)
    exact zy_nx hn hs hkx hS he (fun z => absurd z q) (fun z => absurd z q2) (fun _ _ => nm_r (nI_1 t) (ih (t + 1) (by omega)))
theorem zy_e76g {post : Int32 → Prop} {s : Nat} (hn : n ≤ 48) (hs : ys = nI n) (hkx : kx_ K V n yK yV) (hS : K n = 11) (h1 : ∀ e, s ≤ e → e < n → post (nI e)) (h2 : post (-1)) :
    ∀ (d t e : Nat), t + d = n → e < n → s ≤ e → wY_end_76 post yl ys yg yo yc yK yV yA yB yT yO yF yZ yC yS (d + 1) (nI e) (nI t) := by
  intro d
  induction d with
  | zero => intro t e ht he hse; exact br_t (by rw [hs]; exact nI_le (by omega) (by omega)) (h1 e hse he)
  | succ d ih =>
    intro t e ht he hse
    refine br_f (by rw [hs]; exact nI_ge (by omega) (by omega)) (br_f (nI_pos (by omega)) ?_)
    refine zy_nx hn hs hkx hS he (fun q => ?_) (fun q => ⟨fun m a b c1 c2 => ?_, fun hno => ?_⟩) (fun q q2 => ?_)
    · have : e + 1 < n := by
        rcases Nat.lt_or_ge (e + 1) n with z | z
        · exact z
        · rw [show e + 1 = n by omega, hS] at q; omega
      exact nm_r (nI_1 t) (ih (t + 1) (e + 1) (by omega) this (by omega))
    · exact nm_r (nI_1 t) (ih (t + 1) m (by omega) b (by omega))
    · exact nm_r (nI_1 t) (zy_e76m h2)
    · exact nm_r (nI_1 t) (ih (t + 1) e (by omega) he hse)
theorem zy_e2 {post : Int32 → Prop} (hn : n ≤ 48) (hs : ys = nI n) (hkx : kx_ K V n yK yV) : ∀ (d e : Nat), e + d = n →
    (∀ c, e ≤ c → c < n → rw_ K e c → ka_w (K c) = false → wY_end_37 post (nI c) yl ys yg yo yc yK yV yA yB yT yO yF yZ yC yS) → (rw_ K e n → post (-1)) → wY_end_2 post yl ys yg yo yc yK yV yA yB yT yO yF yZ yC yS (d + 1) (nI e) := by
  intro d
  induction d with
  | zero =>
    intro e he _ h2
    refine br_t (by rw [hs]; exact nI_le (by omega) (by omega)) (br_t (by rw [hs]; exact nI_le (by omega) (by omega)) (br_t (by rw [hs]; exact nI_le (by omega) (by omega)) (h2 (fun j a b => by omega))))
  | succ d ih =>
    intro e he h1 h2
    have hk := hkx e (by omega)
    have hK := hk.2.2.1
    have hiv : vp_in (nI e) 64 := vp_in_nI (by omega) (by omega)
    refine br_f (by rw [hs]; exact nI_ge (by omega) (by omega)) ⟨hiv, ?_⟩
    rw [nI_clamp (by omega), hk.1]
    have stop : ka_w (K e) = false → wY_end_37 post (nI e) yl ys yg yo yc yK yV yA yB yT yO yF yZ yC yS := fun q => h1 e (Nat.le_refl _) (by omega) (fun j a b => by omega) q
    refine pk_lt (K e) 5 (fun q => stop (by rw [ka_wn]; omega)) (fun q => ⟨hiv, pk_lt 8 (K e) (fun q2 => stop (by rw [ka_wn]; omega)) (fun q2 => nm_r (nI_1 e) (ih (e + 1) (by omega) ?_ ?_))⟩)
    · intro c a b w z
      refine h1 c (by omega) b (fun j x y => ?_) z
      by_cases r : j = e
      · rw [r, ka_wi]; omega
      · exact w j (by omega) y
    · intro w
      refine h2 (fun j x y => ?_)
      by_cases r : j = e
      · rw [r, ka_wi]; omega
      · exact w j (by omega) y
/-- after a wrapper comes a type -/
theorem wf_w {c : Nat} (hw : wf_ K V n) (hc : c < n) (hp : 0 < c) (h : ka_w (K (c - 1)) = true) (hnw : ka_w (K c) = false) : ka_h (K c) = true ∨ K c = 4 ∨ K c = 9 := by
  have hv := (hw c hc).1.1
  have hne : ¬ en_ K c := by
    intro z
    have := z.2
    rw [ka_wi] at h; omega
  rw [ka_wn] at hnw
  rw [ka_hi]
  rcases ft_c (hw c hc).2 hp with z | z | z | ⟨_, _, _, _, ⟨_, z, _⟩ | ⟨z, _⟩⟩
  · exact absurd z.2 hne
  · exact absurd z.2.1 hne
  · exact absurd z.2.2 hne
  · omega
  · rw [h] at z; exact absurd z (by decide)
theorem zy_end {post : Int32 → Prop} {s : Nat} (hw : wf_ K V n) (hn : n ≤ 48) (hs : ys = nI n) (hkx : kx_ K V n yK yV) (hS : K n = 11) (hsn : s < n) (hk : ka_h (K s) = true ∨ ka_w (K s) = true ∨ K s = 4 ∨ K s = 9)
    (h1 : ∀ c e, s ≤ c → rw_ K s c → ce_ K c e → e < n → post (nI e)) (h2 : (∀ c e, s ≤ c → rw_ K s c → ce_ K c e → ¬ e < n) → post (-1)) : wpY_end post (yl, ys, yg, yo, yc, yK, yV, yA, yB, yT, yO, yF, yZ, yC, yS) (nI s) := by
  refine ⟨n - s + 1, zy_e2 hn hs hkx (n - s) s (by omega) (fun c hc hcn hr hnw => ?_) (fun hr => h2 (fun c e a b d he => ?_))⟩
  · have hkc : ka_h (K c) = true ∨ K c = 4 ∨ K c = 9 := by
      by_cases z : s = c
      · rw [← z] at hnw ⊢
        rcases hk with q | q | q
        · exact Or.inl q
        · rw [hnw] at q; exact absurd q (by decide)
        · exact Or.inr q
      · exact wf_w hw hcn (by omega) (hr (c - 1) (by omega) (by omega)) hnw
    have hiv : vp_in (nI c) 64 := vp_in_nI (by omega) (by omega)
    have hkk := hkx c hcn
    have hun : ∀ c' e', s ≤ c' → rw_ K s c' → ce_ K c' e' → c' = c := fun c' e' a b d => rw_un b hr a hc (ce_nw d) hnw
    refine br_f (by rw [hs]; exact nI_ge (by omega) (by omega)) ⟨hiv, ?_⟩
    rw [nI_clamp (by omega), hkk.1]
    refine pk_eq (K c) 9 (fun q => ?_) (fun q => ⟨n + 1, ?_⟩) (ha := by have := hkk.2.2.1; omega)
    · refine br_f (by rw [hs]; exact nI_ge (by omega) (by omega)) ?_
      refine zy_mt hn hs hkx hcn (by rw [q]; rfl) (fun m a b d f => h1 c m hc hr (Or.inr (Or.inl ⟨q, d, f⟩)) b) (fun hno => h2 (fun c' e' a b d he' => ?_))
      have := hun c' e' a b d
      subst this
      rcases d with ⟨z, _⟩ | ⟨_, z1, z2⟩ | ⟨z, _⟩
      · omega
      · obtain ⟨_, _, _, _, _, w⟩ := end_top hw he' z1
        exact hno e' (by omega) he' z1 z2
      · rw [ka_hi] at z; omega
    · by_cases h4 : K c = 4
      · have hc1 : K (c + 1) ≠ 1 ∧ K (c + 1) ≠ 3 := by
          by_cases z : c + 1 < n
          · have hne : ¬ en_ K (c + 1) := en_n (by omega) (by omega)
            rcases ft_c (hw (c + 1) z).2 (by omega) with w | w | w | w
            · exact absurd w.2 hne
            · exact absurd w.2.1 hne
            · omega
            · exact ⟨w.1, w.2.1⟩
          · rw [show c + 1 = n by omega, hS]; decide
        exact zy_e76f hn hs hkx hS hcn hc1.1 hc1.2 (h1 c c hc hr (Or.inl ⟨h4, rfl⟩) hcn) n 0 (by omega)
      · have hh : ka_h (K c) = true := by
          rcases hkc with z | z | z
          · exact z
          · exact absurd z h4
          · exact absurd z q
        refine zy_e76 (c := c) hw hn hs hkx hS (fun e he hf => h1 c e hc hr ((ce_fx hw he hh).mpr hf) he) (fun hno => h2 (fun c' e' a b d he' => ?_)) n 0 c (by omega) hcn (oe_s hw hcn hh) (by omega)
        have := hun c' e' a b d
        subst this
        exact hno e' he' ((ce_fx hw he' hh).mp d)
  · have hce := ce_le hw he d
    have := hr c a (by omega)
    rw [ce_nw d] at this; exact absurd this (by decide)
theorem zy_endg {post : Int32 → Prop} {s : Nat} (hn : n ≤ 48) (hs : ys = nI n) (hkx : kx_ K V n yK yV) (hS : K n = 11) (hsn : s < n)
    (h1 : ∀ e, s ≤ e → e < n → post (nI e)) (h2 : post (-1)) : wpY_end post (yl, ys, yg, yo, yc, yK, yV, yA, yB, yT, yO, yF, yZ, yC, yS) (nI s) := by
  refine ⟨n - s + 1, zy_e2 hn hs hkx (n - s) s (by omega) (fun c hc hcn hr hnw => ?_) (fun hr => h2)⟩
  have hiv : vp_in (nI c) 64 := vp_in_nI (by omega) (by omega)
  have hkk := hkx c hcn
  refine br_f (by rw [hs]; exact nI_ge (by omega) (by omega)) ⟨hiv, ?_⟩
  rw [nI_clamp (by omega), hkk.1]
  refine pk_eq (K c) 9 (fun q => ?_) (fun q => ⟨n + 1, zy_e76g (s := s) hn hs hkx hS h1 h2 n 0 c (by omega) hcn hc⟩) (ha := by have := hkk.2.2.1; omega)
  refine br_f (by rw [hs]; exact nI_ge (by omega) (by omega)) ?_
  exact zy_mt hn hs hkx hcn (by rw [q]; rfl) (fun m a b d f => h1 m (by omega) b) (fun hno => h2)
end
end
section
/-! Y: component, find, build -/
section
variable {yl ys yg yo yc : Int32} {yK yV yA yB yT yO yF yZ yC yS : Nat → Int32}
variable {K V : Nat → Nat} {n : Nat}
theorem zy_c92 {post : Int32 → Prop} {s e : Nat} (hn : n ≤ 48) (hs : ys = nI n) (hkx : kx_ K V n yK yV) (hS : K n = 11) (he : e < n) (hse : s ≤ e)
    (h1 : 0 < s ∨ K (e + 1) = 1 ∨ K (e + 1) = 3 → post 1) (h0 : ¬ (0 < s ∨ K (e + 1) = 1 ∨ K (e + 1) = 3) → post 0) : wY_component_92 post (nI s) (nI e) (nI e) yl ys yg yo yc yK yV yA yB yT yO yF yZ yC yS := by
  refine br_t rfl ?_
  by_cases q : 0 < s
  · exact br_t (by rw [← nI_0]; exact nI_lt q (by omega)) (h1 (Or.inl q))
  · have q0 : s = 0 := by omega
    subst q0
    refine br_f (by decide) ?_
    refine zy_nx hn hs hkx hS he (fun z => ?_) (fun z => ⟨fun m a b c d => ?_, fun _ => ?_⟩) (fun z z2 => ?_)
    · exact br_f (fun w => by have := (nI_eq (a := e + 1) (b := e) (by omega) (by omega)).mp w; omega) (h1 (Or.inr (Or.inl z)))
    · exact br_f (fun w => by have := (nI_eq (a := m) (b := e) (by omega) (by omega)).mp w; omega) (h1 (Or.inr (Or.inr z)))
    · exact br_f (fun w => ek_neg (a := e) (by omega) w.symm) (h1 (Or.inr (Or.inr z)))
    · exact br_t rfl (h0 (by omega))
theorem zy_c62t {post : Int32 → Prop} {s e : Nat} (hw : wf_ K V n) (hn : n ≤ 48) (hs : ys = nI n) (hkx : kx_ K V n yK yV) (hS : K n = 11) (he : e < n) (hoe : oe_ K s e = true)
    (h1 : 0 < s ∨ K (e + 1) = 1 ∨ K (e + 1) = 3 → post 1) (h0 : ¬ (0 < s ∨ K (e + 1) = 1 ∨ K (e + 1) = 3) → post 0) :
    ∀ (d t p : Nat), t + d = n → p ≤ e → t ≤ p → oe_ K s p = true → wY_component_62 post (nI s) (nI e) yl ys yg yo yc yK yV yA yB yT yO yF yZ yC yS (d + 1) (nI p) (nI t) := by
  have hse := (oe_h hw hoe he).2
  intro d
  induction d with
  | zero => intro t p ht hp htp _; omega
  | succ d ih =>
    intro t p ht hp htp hop
    refine br_f (by rw [hs]; exact nI_ge (by omega) (by omega)) (br_f (nI_pos (by omega)) ?_)
    by_cases q : p = e
    · subst q
      exact br_t (nI_le (Nat.le_refl _) (by omega)) (zy_c92 hn hs hkx hS he hse h1 h0)
    · refine br_f (nI_ge (by omega) (by omega)) ?_
      have hgo := oe_go hw hop hoe (by omega) he
      refine zy_nx hn hs hkx hS (by omega) (fun z => ?_) (fun z => ⟨fun m a b c1 c2 => ?_, fun hno => ?_⟩) (fun z z2 => ?_)
      · exact nm_r (nI_1 t) (ih (t + 1) (p + 1) (by omega) (by omega) (by omega) (oe_1 hop z))
      · rcases hgo with w | ⟨_, m', w1, w2, w3, w4⟩
        · omega
        · have : m = m' := fs_one c1 w3 (by omega) (by rw [c2, w4])
          exact nm_r (nI_1 t) (ih (t + 1) m (by omega) (by omega) (by omega) (oe_3 hw hop z b c1 c2))
      · rcases hgo with w | ⟨_, m', w1, w2, w3, w4⟩
        · omega
        · exact absurd w4 (hno m' w1 (by omega) w3)
      · omega
theorem zy_c92f {post : Int32 → Prop} {s e : Nat} {x : Int32} (h : ¬ x = nI e) (h0 : post 0) : wY_component_92 post (nI s) (nI e) x yl ys yg yo yc yK yV yA yB yT yO yF yZ yC yS := br_f h h0
theorem zy_c62f {post : Int32 → Prop} {s e : Nat} (hw : wf_ K V n) (hn : n ≤ 48) (hs : ys = nI n) (hkx : kx_ K V n yK yV) (hS : K n = 11) (he : e < n) (hoe : oe_ K s e = false) (h0 : post 0) :
    ∀ (d t p : Nat), t + d = n → p < n → oe_ K s p = true → wY_component_62 post (nI s) (nI e) yl ys yg yo yc yK yV yA yB yT yO yF yZ yC yS (d + 1) (nI p) (nI t) := by
  intro d
  induction d with
  | zero =>
    intro t p ht hp hop
    refine br_t (by rw [hs]; exact nI_le (by omega) (by omega)) (zy_c92f (fun w => ?_) h0)
    have := (nI_eq (a := p) (b := e) (by omega) (by omega)).mp w
    rw [this, hoe] at hop; exact absurd hop (by decide)
  | succ d ih =>
    intro t p ht hp hop
    have hpe : p ≠ e := by intro w; rw [w, hoe] at hop; exact absurd hop (by decide)
    refine br_f (by rw [hs]; exact nI_ge (by omega) (by omega)) (br_f (nI_pos (by omega)) ?_)
    by_cases q : e ≤ p
    · exact br_t (nI_le q (by omega)) (zy_c92f (fun w => hpe ((nI_eq (a := p) (b := e) (by omega) (by omega)).mp w)) h0)
    · refine br_f (nI_ge (by omega) (by omega)) ?_
      refine zy_nx hn hs hkx hS hp (fun z => ?_) (fun z => ⟨fun m a b c1 c2 => ?_, fun hno => ?_⟩) (fun z z2 => ?_)
      · have : p + 1 < n := by omega
        exact nm_r (nI_1 t) (ih (t + 1) (p + 1) (by omega) this (oe_1 hop z))
      · exact nm_r (nI_1 t) (ih (t + 1) m (by omega) b (oe_3 hw hop z b c1 c2))
      · refine nm_r (nI_1 t) (br_c (fun _ => zy_c92f (fun w => ek_neg (a := e) (by omega) w.symm) h0) (fun _ => br_t (by decide) (zy_c92f (fun w => ek_neg (a := e) (by omega) w.symm) h0)))
      · exact nm_r (nI_1 t) (ih (t + 1) p (by omega) hp hop)
theorem zy_cmp {post : Int32 → Prop} {s e : Nat} (hw : wf_ K V n) (hn : n ≤ 48) (hs : ys = nI n) (hkx : kx_ K V n yK yV) (hS : K n = 11) (he : e < n) (hse : s ≤ e)
    (h1 : s ∈ pp_ K e → post 1) (h0 : s ∉ pp_ K e → post 0) : wpY_component post (yl, ys, yg, yo, yc, yK, yV, yA, yB, yT, yO, yF, yZ, yC, yS) (nI s) (nI e) := by
  have hiv : vp_in (nI s) 64 := vp_in_nI (by omega) (by omega)
  have hic : (nI s).toNatClampNeg = s := nI_clamp (by omega)
  have hk := hkx s (by omega)
  have hK := hk.2.2.1
  have hiff := pp_iff (s := s) hw he
  -- a head
  have head : ka_h (K s) = true → ∃ n62 : Nat, wY_component_62 post (nI s) (nI e) yl ys yg yo yc yK yV yA yB yT yO yF yZ yC yS n62 (nI s) (nI 0) := by
    intro hh
    have hh' := ka_hi.mp hh
    have hos := oe_s hw (s := s) (by omega) hh
    have hno : ¬ ∃ c, s ≤ c ∧ rw_ K s c ∧ ce_ K c e ∧ (s < c ∨ K c = 9) := by
      rintro ⟨c, a, b, d, f⟩
      by_cases z : s = c
      · rw [← z] at f; omega
      · have := b s (Nat.le_refl _) (by omega)
        rw [(gs_xoh hh).1] at this; exact absurd this (by decide)
    cases q : oe_ K s e with
    | true =>
      have q' := oe_i.mp q
      refine ⟨n + 1, zy_c62t hw hn hs hkx hS he q (fun z => h1 (hiff.mpr (Or.inr ⟨hh, q'.1, q'.2, z⟩))) (fun z => h0 (fun w => ?_)) n 0 s (by omega) hse (by omega) hos⟩
      rcases hiff.mp w with w | w
      · exact hno w
      · exact z w.2.2.2
    | false =>
      refine ⟨n + 1, zy_c62f hw hn hs hkx hS he q (h0 (fun w => ?_)) n 0 s (by omega) (by omega) hos⟩
      rcases hiff.mp w with w | w
      · exact hno w
      · rw [oe_i.mpr ⟨w.2.1, w.2.2.1⟩] at q; exact absurd q (by decide)
  have h36 : ka_w (K s) = false → K s ≠ 9 → wY_component_36 post (nI s) (nI e) yl ys yg yo yc yK yV yA yB yT yO yF yZ yC yS := by
    intro hnw h9
    refine ⟨hiv, ?_⟩
    rw [hic, hk.1]
    refine pk_eq (K s) 0 (fun z => head (by rw [z]; rfl)) (fun z => ⟨hiv, pk_eq (K s) 2 (fun w => head (by rw [w]; rfl)) (fun w => h0 (fun q => ?_))⟩)
    rcases hiff.mp q with ⟨c, a, b, d, f⟩ | ⟨f, _⟩
    · by_cases x : s = c
      · rw [← x] at f; omega
      · have := b s (Nat.le_refl _) (by omega)
        rw [hnw] at this; exact absurd this (by decide)
    · rw [ka_hi] at f; omega
  refine ⟨hiv, ?_⟩
  rw [hic, hk.1]
  refine pk_lt (K s) 5 (fun q => h36 (by rw [ka_wn]; omega) (by omega)) (fun q => ⟨hiv, pk_lt 9 (K s) (fun q2 => h36 (by rw [ka_wn]; omega) (by omega)) (fun q2 => ?_)⟩)
  have hnh : ka_h (K s) = false := by rw [ka_hn]; omega
  have hk2 : ka_w (K s) = true ∨ K s = 9 := by rw [ka_wi]; omega
  refine zy_end hw hn hs hkx hS (by omega) (Or.inr (by rcases hk2 with z | z; exact Or.inl z; exact Or.inr (Or.inr z))) (fun c e' a b d he' => ?_) (fun hno => ?_)
  · by_cases x : e' = e
    · subst x
      refine br_t rfl (h1 (hiff.mpr (Or.inl ⟨c, a, b, d, ?_⟩)))
      by_cases z : s = c
      · right
        rcases hk2 with w | w
        · rw [z, ce_nw d] at w; exact absurd w (by decide)
        · rw [← z]; exact w
      · left; omega
    · refine br_f (fun w => x ((nI_eq (a := e') (b := e) (by omega) (by omega)).mp w)) (h0 (fun q => ?_))
      rcases hiff.mp q with ⟨c', a', b', d', f'⟩ | ⟨f, _⟩
      · have := rw_un b b' a a' (ce_nw d) (ce_nw d')
        subst this
        exact x (ce_un hw he' he d d')
      · rw [hnh] at f; exact absurd f (by decide)
  · refine br_f (fun w => ek_neg (a := e) (by omega) w.symm) (h0 (fun q => ?_))
    rcases hiff.mp q with ⟨c', a', b', d', f'⟩ | ⟨f, _⟩
    · exact hno c' e a' b' d' he
    · rw [hnh] at f; exact absurd f (by decide)
/-- one entry against the nodes from s -/
theorem zy_f13 {post : Int32 → Prop} {J2 : Int32 → Prop} {s z k : Nat} {p : Nat × Nat} (hn : n ≤ 48) (hkx : kx_ K V n yK yV) (hsz : s + z ≤ n) (hz : 0 < z) (hk : k < 64) (hF : yF k = nI p.1) (hZ : yZ k = nI p.2) (hp : p.1 + p.2 ≤ n)
    (h1 : sg_ K V p.1 p.2 = sg_ K V s z → post (nI k)) (h0 : sg_ K V p.1 p.2 ≠ sg_ K V s z → J2 (nI (k + 1))) :
    ∀ (d j : Nat), j + d = z → (0 < j → p.2 = z) → (∀ x, x < j → K (p.1 + x) = K (s + x) ∧ V (p.1 + x) = V (s + x)) → wY_find_13 post J2 (nI s) (nI z) (nI k) yl ys yg yo yc yK yV yA yB yT yO yF yZ yC yS (d + 1) (nI j) := by
  have hkv : vp_in (nI k) 64 := vp_in_nI (by omega) (by omega)
  have hkc : (nI k).toNatClampNeg = k := nI_clamp (by omega)
  have miss : ∀ j, j < z → sg_ K V p.1 p.2 ≠ sg_ K V s z → wY_find_87 post J2 (nI s) (nI z) (nI k) (nI j) yl ys yg yo yc yK yV yA yB yT yO yF yZ yC yS := by
    intro j hj q
    exact br_f (fun w => by have := (nI_eq (a := j) (b := z) (by omega) (by omega)).mp w; omega) (nm_r (nI_1 k) (h0 q))
  intro d
  induction d with
  | zero =>
    intro j hj hp2 hall
    have : j = z := by omega
    subst this
    refine br_t (nI_le (Nat.le_refl _) (by omega)) (br_t rfl (h1 ?_))
    rw [hp2 hz]; exact sg_ext hall
  | succ d ih =>
    intro j hj hp2 hall
    refine br_f (nI_ge (by omega) (by omega)) ⟨hkv, ?_⟩
    rw [hkc, hZ]
    by_cases q : p.2 = z
    · refine br_t (by rw [q]) ⟨hkv, ?_⟩
      rw [hF, nI_add, nI_add]
      have v1 : vp_in (nI (p.1 + j)) 64 := vp_in_nI (by omega) (by omega)
      have v2 : vp_in (nI (s + j)) 64 := vp_in_nI (by omega) (by omega)
      have c1 : (nI (p.1 + j)).toNatClampNeg = p.1 + j := nI_clamp (by omega)
      have c2 : (nI (s + j)).toNatClampNeg = s + j := nI_clamp (by omega)
      have k1 := hkx (p.1 + j) (by omega)
      have k2 := hkx (s + j) (by omega)
      refine ⟨v1, v2, ?_⟩
      rw [c1, c2, k1.1, k2.1, k1.2.1, k2.2.1]
      refine pk_eq (K (p.1 + j)) (K (s + j)) (fun w => ⟨hkv, v1, v2, pk_eq (V (p.1 + j)) (V (s + j)) (fun w2 => nm_r (nI_1 j) (ih (j + 1) (by omega) (fun _ => q) (fun x hx => ?_))) (fun w2 => miss j (by omega) (fun e => ?_)) (ha := by have := k1.2.2.2; omega) (hb := by have := k2.2.2.2; omega)⟩) (fun w => miss j (by omega) (fun e => ?_)) (ha := by have := k1.2.2.1; omega) (hb := by have := k2.2.2.1; omega)
      · by_cases y : x = j
        · subst y; exact ⟨w, w2⟩
        · exact hall x (by omega)
      · rw [q] at e; exact w2 (sg_get e j (by omega)).2
      · rw [q] at e; exact w (sg_get e j (by omega)).1
    · exact br_f (fun w => q ((nI_eq (a := p.2) (b := z) (by omega) (by omega)).mp w)) (miss j (by omega) (fun e => q (sg_n e)))
theorem zy_find {post : Int32 → Prop} {t : List (Nat × Nat)} {s z : Nat} (hn : n ≤ 48) (hkx : kx_ K V n yK yV) (ht : tv_ t yc yF yZ) (htl : t.length ≤ 64) (htn : ∀ p, p ∈ t → p.1 + p.2 ≤ n) (hsz : s + z ≤ n) (hz : 0 < z)
    (h1 : ∀ k p, t[k]? = some p → sg_ K V p.1 p.2 = sg_ K V s z → post (nI k)) (h0 : (∀ p, p ∈ t → sg_ K V p.1 p.2 ≠ sg_ K V s z) → post (-1)) : wpY_find post (yl, ys, yg, yo, yc, yK, yV, yA, yB, yT, yO, yF, yZ, yC, yS) (nI s) (nI z) := by
  refine ⟨t.length + 1, ?_⟩
  have key : ∀ (d k : Nat), k + d = t.length → (∀ j p, j < k → t[j]? = some p → sg_ K V p.1 p.2 ≠ sg_ K V s z) → wY_find_2 post (nI s) (nI z) yl ys yg yo yc yK yV yA yB yT yO yF yZ yC yS (d + 1) (nI k) := by
    intro d
    induction d with
    | zero =>
      intro k hk hall
      refine br_t (by rw [ht.1]; exact nI_le (by omega) (by omega)) (h0 (fun p hp => ?_))
      obtain ⟨j, hj, e⟩ := List.getElem_of_mem hp
      exact hall j p (by omega) (by rw [← e]; exact List.getElem?_eq_getElem hj)
    | succ d ih =>
      intro k hk hall
      refine br_f (by rw [ht.1]; exact nI_ge (by omega) (by omega)) ?_
      have hkl : k < t.length := by omega
      have e : t[k]? = some t[k] := List.getElem?_eq_getElem hkl
      have h2 := ht.2 k _ e
      refine ⟨z + 1, zy_f13 (p := t[k]) hn hkx hsz hz (by omega) h2.1 h2.2 (htn _ (List.getElem_mem hkl)) (fun q => h1 k _ e q) (fun q => ih (k + 1) (by omega) (fun j p hj hp => ?_)) z 0 (by omega) (fun q => by omega) (fun x hx => by omega)⟩
      by_cases w : j = k
      · subst w
        rw [e] at hp
        rw [← Option.some.inj hp]; exact q
      · exact hall j p (by omega) hp
  exact key t.length 0 (by omega) (fun j p hj => by omega)
end
/-- the starts at e from b on -/
theorem pp_filter {l : List Nat} (h : l.Pairwise (fun a b => b < a)) (b : Nat) : l.filter (fun x => decide (b ≤ x)) = l.filter (fun x => decide (b + 1 ≤ x)) ++ (if b ∈ l then [b] else []) := by
  induction l with
  | nil => rfl
  | cons x r ih =>
    have h1 := List.pairwise_cons.mp h
    have ih := ih h1.2
    rw [List.filter_cons, List.filter_cons]
    by_cases q : b + 1 ≤ x
    · rw [if_pos (decide_eq_true (by omega)), if_pos (decide_eq_true q), ih, List.cons_append]
      have : (b ∈ x :: r) ↔ b ∈ r := by
        rw [List.mem_cons]; constructor
        · rintro (z | z)
          · omega
          · exact z
        · exact Or.inr
      by_cases w : b ∈ r
      · rw [if_pos w, if_pos (this.mpr w)]
      · rw [if_neg w, if_neg (fun z => w (this.mp z))]
    · rw [if_neg (c := decide (b + 1 ≤ x) = true) (by rw [decide_eq_true_iff]; exact q)]
      have e2 : r.filter (fun y => decide (b + 1 ≤ y)) = [] := by
        rw [List.filter_eq_nil_iff]
        intro y hy
        have := h1.1 y hy
        rw [decide_eq_true_iff]; omega
      by_cases w : b = x
      · subst w
        have e3 : r.filter (fun y => decide (b ≤ y)) = [] := by
          rw [List.filter_eq_nil_iff]
          intro y hy
          have := h1.1 y hy
          rw [decide_eq_true_iff]; omega
        rw [if_pos (decide_eq_true (Nat.le_refl _)), e3, e2, if_pos (by simp)]; rfl
      · rw [if_neg (by rw [decide_eq_true_iff]; omega), e2]
        have e3 : r.filter (fun y => decide (b ≤ y)) = [] := by
          rw [List.filter_eq_nil_iff]
          intro y hy
          have := h1.1 y hy
          rw [decide_eq_true_iff]; omega
        rw [e3, if_neg]
        · rfl
        · intro z
          rcases List.mem_cons.mp z with z | z
          · exact w z
          · have := h1.1 b z; omega
def pq_ (K : Nat → Nat) (e b : Nat) : List Nat := (pp_ K e).filter (fun x => decide (b ≤ x))
theorem pq_0 (K : Nat → Nat) (e : Nat) : pq_ K e 0 = pp_ K e := by
  unfold pq_; rw [List.filter_eq_self]; intro a _; exact decide_eq_true (Nat.zero_le _)
section
variable {yl ys yg yo yc : Int32} {yK yV yA yB yT yO yF yZ yC yS : Nat → Int32}
variable {K V : Nat → Nat} {n : Nat}
theorem zy_b17 {post : SY → Prop} {J7 : Int32 → Int32 → (Nat → Int32) → (Nat → Int32) → (Nat → Int32) → (Nat → Int32) → (Nat → Int32) → (Nat → Int32) → (Nat → Int32) → (Nat → Int32) → (Nat → Int32) → (Nat → Int32) → Prop} {e : Nat}
    (hw : wf_ K V n) (hn : n ≤ 48) (hs : ys = nI n) (hkx : kx_ K V n yK yV) (hS : K n = 11) (he : e < n)
    (H : ∀ (yc' : Int32) (yF' yZ' : Nat → Int32), tv_ (tb_ K V (e + 1)) yc' yF' yZ' → J7 (nI (e + 1)) yc' yK yV yA yB yT yO yF' yZ' yC yS) :
    ∀ (b : Nat) (yc : Int32) (yF yZ : Nat → Int32), b ≤ e + 1 → tv_ (tl_ K V e (tb_ K V e) (pq_ K e b)) yc yF yZ → wY_build_17 post J7 (nI e) yl ys yg yo (b + 1) (nI b - 1) yc yK yV yA yB yT yO yF yZ yC yS := by
  intro b
  induction b with
  | zero =>
    intro yc yF yZ _ ht
    refine br_t (by decide) (nm_r (nI_1 e) (H yc yF yZ ?_))
    rw [pq_0] at ht; exact ht
  | succ b ih =>
    intro yc yF yZ hb ht
    rw [nI_pred]
    have e1 : nI b + (-1) = nI b - 1 := by rw [Int32.sub_eq_add_neg]
    have hpq : pq_ K e b = pq_ K e (b + 1) ++ (if b ∈ pp_ K e then [b] else []) := pp_filter (pp_pw hw he) b
    have hsub : ∀ b, ∀ s, s ∈ pq_ K e b → s ∈ pp_ K e := fun b s hs => (List.mem_filter.mp hs).1
    have hlen := tl_len hw he (l := pq_ K e (b + 1)) (hsub _)
    have hlen2 := tl_len hw he (l := pq_ K e b) (hsub _)
    have htq := tl_tq hw he (l := pq_ K e (b + 1)) (hsub _)
    generalize hT : tl_ K V e (tb_ K V e) (pq_ K e (b + 1)) = T at *
    refine br_f (nI_pos (by omega)) (br_f (by rw [ht.1]; exact nI_ge (b := 64) (by omega) (by omega)) ?_)
    refine zy_cmp hw hn hs hkx hS he (by omega) (fun q => ?_) (fun q => ?_)
    · refine br_f (by decide) ?_
      have esz : nI e - nI b + 1 = nI (e + 1 - b) := by rw [pk_sub (by omega), nI_1, show e - b + 1 = e + 1 - b by omega]
      have e3 : tl_ K V e (tb_ K V e) (pq_ K e b) = ta_ K V e T b := by rw [hpq, if_pos q, tl_snoc, hT]
      rw [esz]
      refine zy_find hn hkx ht (by omega) (fun p hp => ?_) (by omega) (by omega) (fun k p hp heq => ?_) (fun hno => ?_)
      · obtain ⟨e', s', a1, a2, a3, a4⟩ := htq p hp
        rw [a3]; simp; omega
      · refine br_t (nI_pos' (by have := (List.getElem?_eq_some_iff.mp hp).1; omega)) (nm_r e1 (ih yc yF yZ (by omega) ?_))
        rw [e3, show ta_ K V e T b = T by unfold ta_; rw [if_pos (kw_i.mpr ⟨p, List.mem_of_getElem? hp, heq⟩)]]
        exact ht
      · have hf : kw_ K V T b e = false := by
          cases w : kw_ K V T b e with
          | false => rfl
          | true => obtain ⟨p, a, c⟩ := kw_i.mp w; exact absurd c (hno p a)
        have hta : ta_ K V e T b = T ++ [(b, e + 1 - b)] := by unfold ta_; rw [if_neg (by rw [hf]; decide)]
        have hyc : yc.toNatClampNeg = T.length := by rw [ht.1]; exact nI_clamp (by omega)
        have hyv : vp_in yc 64 := by rw [ht.1]; exact vp_in_nI (by omega) (by omega)
        refine br_f (by decide) ⟨hyv, nm_r (e' := upd yF T.length (nI b)) (by rw [hyc]) ⟨hyv, nm_r (e' := upd yZ T.length (nI (e + 1 - b))) (by rw [hyc]) (nm_r (e' := nI (T.length + 1)) (by rw [ht.1, nI_1]) (nm_r e1 (ih _ _ _ (by omega) ?_)))⟩⟩
        rw [e3, hta]
        refine ⟨by rw [List.length_append]; rfl, fun k p w => ?_⟩
        rcases ek_last w with x | ⟨x1, x2⟩
        · have hlt := (List.getElem?_eq_some_iff.mp x).1
          rw [pk_un (by omega), pk_un (by omega)]; exact ht.2 k p x
        · rw [x1, x2]; exact ⟨pk_us, pk_us⟩
    · refine br_t rfl (nm_r e1 (ih yc yF yZ (by omega) ?_))
      rw [hpq, if_neg q, List.append_nil, hT]; exact ht
theorem zy_build {post : SY → Prop} (hw : wf_ K V n) (hn : n ≤ 48) (hs : ys = nI n) (hkx : kx_ K V n yK yV) (hS : K n = 11)
    (H : ∀ (yc' : Int32) (yF' yZ' : Nat → Int32), tv_ (tb_ K V n) yc' yF' yZ' → post (yl, ys, yg, yo, yc', yK, yV, yA, yB, yT, yO, yF', yZ', yC, yS)) : wpY_build post (yl, ys, yg, yo, yc, yK, yV, yA, yB, yT, yO, yF, yZ, yC, yS) := by
  refine ⟨n + 1, ?_⟩
  have key : ∀ (d e : Nat) (yc : Int32) (yF yZ : Nat → Int32), e + d = n → tv_ (tb_ K V e) yc yF yZ → wY_build_7 post yl ys yg yo (d + 1) (nI e) yc yK yV yA yB yT yO yF yZ yC yS := by
    intro d
    induction d with
    | zero =>
      intro e yc yF yZ he ht
      have : e = n := by omega
      subst this
      exact br_t (by rw [hs]; exact nI_le (Nat.le_refl _) (by omega)) (H yc yF yZ ht)
    | succ d ih =>
      intro e yc yF yZ he ht
      refine br_f (by rw [hs]; exact nI_ge (by omega) (by omega)) ⟨e + 1 + 1, ?_⟩
      have e1 : nI (e + 1) - 1 = nI e := nI_pred e
      have hq0 : pq_ K e (e + 1) = [] := by
        unfold pq_
        rw [List.filter_eq_nil_iff]
        intro y hy
        have := pp_le hw (by omega) hy
        rw [decide_eq_true_iff]; omega
      have := zy_b17 (post := post) (J7 := wY_build_7 post yl ys yg yo (d + 1)) (yl := yl) (yg := yg) (yo := yo) (yA := yA) (yB := yB) (yT := yT) (yO := yO) (yC := yC) (yS := yS) (e := e) hw hn hs hkx hS (by omega) (fun yc' yF' yZ' h' => ih (e + 1) yc' yF' yZ' (by omega) h') (e + 1) yc yF yZ (Nat.le_refl _) (by rw [hq0]; exact ht)
      rw [e1] at this
      exact this
  exact key n 0 0 yF yZ (by omega) ⟨rfl, fun k p hp => absurd hp (by simp [tb_])⟩
end
end
section
/-! what is written -/
def dg_ (d : Nat) : Nat := if d < 10 then 48 + d else 55 + d
def nu_ (v b : Nat) : List Nat := (if v = 0 then [] else (if (v - 1) / b = 0 then [] else [dg_ ((v - 1) / b)]) ++ [dg_ ((v - 1) % b)]) ++ [95]
def id_ (v : Nat) : List Nat := if v < 26 then [49, 97 + v] else [50, 97 + v / 26 - 1, 97 + v % 26]
def ql_ (v : Nat) : List Nat := (if v / 4 % 2 = 0 then [] else [114]) ++ ((if v / 2 % 2 = 0 then [] else [86]) ++ (if v % 2 = 0 then [] else [75]))
def lb_ (v : Nat) : Nat := if v = 0 then 118 else if v = 1 then 98 else if v = 2 then 99 else if v = 3 then 115 else if v = 4 then 105 else if v = 5 then 106 else if v = 6 then 108 else 100
def ol_ (k : Nat) : Nat := if k = 3 then 73 else if k = 5 then 80 else if k = 6 then 82 else if k = 7 then 79 else 70
def rc_ (K : Nat → Nat) (f : Nat) : Nat := if K f = 9 ∨ (K f = 10 ∧ K (f - 1) = 11) then 1 else 0
def pn_ (K : Nat → Nat) (i : Nat) : List Nat := (if K (op_ K i) ≠ 3 ∧ tc_ K (op_ K i) i = rc_ K (op_ K i) then [118] else []) ++ (if K (op_ K i) = 10 then [] else [69])
def pe_ (K V : Nat → Nat) (i : Nat) : List Nat :=
  if K i ≤ 1 then id_ (V i) else if K i = 8 then ql_ (V i) else if K i = 11 then pn_ K i else if K i = 2 then 84 :: nu_ (V i) 10
  else if K i = 10 then [] else if K i = 4 then [lb_ (V i)] else [ol_ (K i)]
theorem lz_b : ∀ v, v < 8 → (((((7236275702417547894 : Int64).toUInt64 >>> ((8 * nI v).toInt64.toUInt64 &&& Int64.toUInt64 63)).toInt64).toInt32) &&& 255) = nI (lb_ v) := by decide +kernel
theorem lz_o : ∀ k, k < 12 → (k = 3 ∨ k = 5 ∨ k = 6 ∨ k = 7 ∨ k = 9) → (((((19703589053136969 : Int64).toUInt64 >>> ((8 * (nI k - 3)).toInt64.toUInt64 &&& Int64.toUInt64 63)).toInt64).toInt32) &&& 255) = nI (ol_ k) := by decide +kernel
theorem lz_4 : ∀ v, v < 8 → (nI v &&& 4 = 0 ↔ v / 4 % 2 = 0) := by decide +kernel
theorem lz_2 : ∀ v, v < 8 → (nI v &&& 2 = 0 ↔ v / 2 % 2 = 0) := by decide +kernel
theorem lz_1 : ∀ v, v < 8 → (nI v &&& 1 = 0 ↔ v % 2 = 0) := by decide +kernel
/-- a text of at most m characters -/
def tk_ (m : Nat) (w : List Nat) (g : Int32) (T : Nat → Int32) : Prop := g = nI (w.take m).length ∧ ∀ j c, (w.take m)[j]? = some c → T j = nI c
theorem tk_0 {m : Nat} {T : Nat → Int32} : tk_ m [] (nI 0) T := ⟨by rw [List.take_nil]; rfl, fun j c h => absurd h (by rw [List.take_nil]; simp)⟩
theorem tk_full {m c : Nat} {w : List Nat} {g : Int32} {T : Nat → Int32} (h : tk_ m w g T) (hl : m ≤ w.length) : tk_ m (w ++ [c]) g T := by
  unfold tk_ at h ⊢
  rw [List.take_append_of_le_length hl]; exact h
theorem tk_put {m c : Nat} {w : List Nat} {g : Int32} {T : Nat → Int32} (h : tk_ m w g T) (hl : w.length < m) : g = nI w.length ∧ tk_ m (w ++ [c]) (nI (w.length + 1)) (upd T w.length (nI c)) := by
  unfold tk_ at h ⊢
  rw [List.take_of_length_le (by omega)] at h
  rw [List.take_of_length_le (by simp; omega)]
  refine ⟨h.1, by rw [List.length_append]; rfl, fun j x q => ?_⟩
  rcases ek_last q with z | ⟨z1, z2⟩
  · have := (List.getElem?_eq_some_iff.mp z).1
    rw [pk_un (by omega)]; exact h.2 j x z
  · rw [z1, z2, pk_us]
theorem tk_len {m : Nat} {w : List Nat} {g : Int32} {T : Nat → Int32} (h : tk_ m w g T) (hm : m < 2 ^ 31) : (m ≤ w.length → nI m ≤ g) ∧ (w.length < m → ¬ nI m ≤ g) := by
  rw [h.1, List.length_take]
  constructor
  · intro q; rw [Nat.min_eq_left q]; exact nI_le (Nat.le_refl _) hm
  · intro q; rw [Nat.min_eq_right (by omega)]; exact nI_ge q hm
theorem dg_65 {d : Nat} (h : 10 ≤ d) (hd : d < 2 ^ 20) : (65 + nI d) - 10 = nI (dg_ d) := by
  have e : (65 : Int32) = nI 65 := rfl
  have e2 : (10 : Int32) = nI 10 := rfl
  rw [e, e2, nI_add, pk_sub (by omega)]
  unfold dg_; rw [if_neg (by omega), show 65 + d - 10 = 55 + d by omega]
theorem dg_48 {d : Nat} (h : d < 10) : 48 + nI d = nI (dg_ d) := by
  have e : (48 : Int32) = nI 48 := rfl
  rw [e, nI_add]; unfold dg_; rw [if_pos h]
section
variable {xo xb : Int64} {xl xs xg xu xd xc xe xp xf xz : Int32} {xK xV xO xT xS xA xY xN xW xk xt xH xn : Nat → Int32} {xq : Nat → Int64} {xy xF xZ xC xv : Nat → Int32}
variable {K V : Nat → Nat}
theorem zw_w {post : SX → Prop} {w : List Nat} {c : Nat} (h : tk_ 256 w xg xT) (H : ∀ (xg' : Int32) (xT' : Nat → Int32), tk_ 256 (w ++ [c]) xg' xT' → post (xo, xb, xl, xs, xg', xu, xd, xc, xe, xp, xf, xz, xK, xV, xO, xT', xS, xA, xY, xN, xW, xk, xt, xH, xn, xq, xy, xF, xZ, xC, xv)) : wpX_write post (xo, xb, xl, xs, xg, xu, xd, xc, xe, xp, xf, xz, xK, xV, xO, xT, xS, xA, xY, xN, xW, xk, xt, xH, xn, xq, xy, xF, xZ, xC, xv) (nI c) := by
  have hl := tk_len h (by omega)
  by_cases q : 256 ≤ w.length
  · exact br_t (hl.1 q) (H xg xT (tk_full h q))
  · have hp := tk_put (c := c) h (by omega)
    refine br_f (hl.2 (by omega)) (nm_r (e' := nI (w.length + 1)) (by rw [hp.1, nI_1]) ⟨by rw [hp.1]; exact vp_in_nI (by omega) (by omega), nm_r (e' := upd xT w.length (nI c)) (by rw [hp.1, nI_clamp (by omega)]) (H _ _ hp.2)⟩)
theorem zw_d {post : SX → Prop} {w : List Nat} {d : Nat} (hd : d < 2 ^ 20) (h : tk_ 256 w xg xT) (H : ∀ (xg' : Int32) (xT' : Nat → Int32), tk_ 256 (w ++ [dg_ d]) xg' xT' → post (xo, xb, xl, xs, xg', xu, xd, xc, xe, xp, xf, xz, xK, xV, xO, xT', xS, xA, xY, xN, xW, xk, xt, xH, xn, xq, xy, xF, xZ, xC, xv)) : wpX_writeDigit post (xo, xb, xl, xs, xg, xu, xd, xc, xe, xp, xf, xz, xK, xV, xO, xT, xS, xA, xY, xN, xW, xk, xt, xH, xn, xq, xy, xF, xZ, xC, xv) (nI d) := by
  refine pk_le 10 d (fun q => ?_) (fun q => ?_)
  · rw [dg_65 q hd]; exact zw_w h H
  · rw [dg_48 q]; exact zw_w h H
theorem zw_n {post : SX → Prop} {w : List Nat} {v b : Nat} (hb : b = 36 ∨ b = 10) (hv : v < 2 ^ 20) (h : tk_ 256 w xg xT) (H : ∀ (xg' : Int32) (xT' : Nat → Int32), tk_ 256 (w ++ nu_ v b) xg' xT' → post (xo, xb, xl, xs, xg', xu, xd, xc, xe, xp, xf, xz, xK, xV, xO, xT', xS, xA, xY, xN, xW, xk, xt, xH, xn, xq, xy, xF, xZ, xC, xv)) : wpX_writeNumber post (xo, xb, xl, xs, xg, xu, xd, xc, xe, xp, xf, xz, xK, xV, xO, xT, xS, xA, xY, xN, xW, xk, xt, xH, xn, xq, xy, xF, xZ, xC, xv) (nI v) (nI b) := by
  have hdiv : (nI v - 1) / nI b = nI ((v - 1) / b) := by
    cases v with
    | zero => rcases hb with e | e <;> subst e <;> decide
    | succ v => rw [nI_pred, pk_div (by omega) (by omega) (by omega), Nat.add_sub_cancel]
  have hd36 : (v - 1) / b < 2 ^ 20 := Nat.lt_of_le_of_lt (Nat.div_le_self _ _) (by omega)
  have h46 : ∀ (xg' : Int32) (xT' : Nat → Int32) (l : List Nat), tk_ 256 (w ++ l) xg' xT' → nu_ v b = l ++ [95] → wX_writeNumber_46 post xo xb xl xs xg' xu xd xc xe xp xf xz xK xV xO xT' xS xA xY xN xW xk xt xH xn xq xy xF xZ xC xv := by
    intro xg' xT' l hl e
    refine zw_w (w := w ++ l) (c := 95) hl (fun xg2 xT2 h2 => H xg2 xT2 ?_)
    rw [e, ← List.append_assoc]; exact h2
  have h31 : ∀ (xg' : Int32) (xT' : Nat → Int32) (l : List Nat), tk_ 256 (w ++ l) xg' xT' → (l = if v = 0 ∨ (v - 1) / b = 0 then [] else [dg_ ((v - 1) / b)]) → wX_writeNumber_31 post (nI v) (nI b) (nI ((v - 1) / b)) xo xb xl xs xg' xu xd xc xe xp xf xz xK xV xO xT' xS xA xY xN xW xk xt xH xn xq xy xF xZ xC xv := by
    intro xg' xT' l hl el
    by_cases q : v = 0
    · subst q
      rw [if_pos (Or.inl rfl)] at el
      exact br_t (by decide) (h46 xg' xT' l hl (by rw [el]; rfl))
    · refine br_f (nI_nle (by omega) (by omega)) ?_
      have e3 : (nI v - 1) - (nI ((v - 1) / b) * nI b) = nI ((v - 1) % b) := by
        obtain ⟨u, rfl⟩ : ∃ u, v = u + 1 := ⟨v - 1, by omega⟩
        rw [nI_pred, Nat.add_sub_cancel, ← pk_div (by omega) (by omega) (by omega)]
        exact pk_rem (by omega) (by omega) (by omega)
      rw [e3]
      have hmod : (v - 1) % b < 2 ^ 20 := Nat.lt_of_le_of_lt (Nat.mod_le _ _) (by omega)
      refine zw_d hmod hl (fun xg2 xT2 h2 => h46 xg2 xT2 (l ++ [dg_ ((v - 1) % b)]) (by rw [← List.append_assoc]; exact h2) ?_)
      unfold nu_
      rw [if_neg q, el]
      by_cases q2 : (v - 1) / b = 0
      · rw [if_pos q2, if_pos (Or.inr q2)]
      · rw [if_neg q2, if_neg (fun z => z.elim q q2)]
  have h21 : wX_writeNumber_21 post (nI v) (nI b) (nI ((v - 1) / b)) xo xb xl xs xg xu xd xc xe xp xf xz xK xV xO xT xS xA xY xN xW xk xt xH xn xq xy xF xZ xC xv := by
    by_cases q2 : (v - 1) / b = 0
    · refine br_t (by rw [q2]; decide) (h31 xg xT [] (by rw [List.append_nil]; exact h) (by rw [if_pos (Or.inr q2)]))
    · refine br_f (nI_nle (Nat.pos_of_ne_zero q2) (Nat.lt_trans hd36 (by decide))) (zw_d hd36 h (fun xg2 xT2 h2 => h31 xg2 xT2 _ h2 ?_))
      have : v ≠ 0 := by intro z; rw [z] at q2; exact q2 (by rw [Nat.zero_sub, Nat.zero_div])
      rw [if_neg (fun z => z.elim this q2)]
  rcases hb with e | e
  · subst e
    refine br_t rfl ⟨by decide, ?_⟩
    have := h21
    rw [← hdiv] at this
    exact this
  · subst e
    refine br_f (by decide) ⟨by decide, ?_⟩
    have := h21
    rw [← hdiv] at this
    exact this
theorem zw_i {post : SX → Prop} {w : List Nat} {v : Nat} (hv : v ≤ 701) (h : tk_ 256 w xg xT) (H : ∀ (xg' : Int32) (xT' : Nat → Int32), tk_ 256 (w ++ id_ v) xg' xT' → post (xo, xb, xl, xs, xg', xu, xd, xc, xe, xp, xf, xz, xK, xV, xO, xT', xS, xA, xY, xN, xW, xk, xt, xH, xn, xq, xy, xF, xZ, xC, xv)) : wpX_writeIdentifier post (xo, xb, xl, xs, xg, xu, xd, xc, xe, xp, xf, xz, xK, xV, xO, xT, xS, xA, xY, xN, xW, xk, xt, xH, xn, xq, xy, xF, xZ, xC, xv) (nI v) := by
  have e26 : (26 : Int32) = nI 26 := rfl
  have e97 : (97 : Int32) = nI 97 := rfl
  have h36 : ∀ (xg' : Int32) (xT' : Nat → Int32) (l : List Nat), tk_ 256 (w ++ l) xg' xT' → id_ v = l ++ [97 + v % 26] → wX_writeIdentifier_36 post (nI v) xo xb xl xs xg' xu xd xc xe xp xf xz xK xV xO xT' xS xA xY xN xW xk xt xH xn xq xy xF xZ xC xv := by
    intro xg' xT' l hl e
    refine ⟨by decide, ?_⟩
    rw [e26, pk_rem (by omega) (by omega) (by omega), e97, nI_add]
    refine zw_w hl (fun xg2 xT2 h2 => H xg2 xT2 ?_)
    rw [e, ← List.append_assoc]; exact h2
  refine pk_le 26 v (fun q => ?_) (fun q => ?_)
  · refine zw_w (c := 50) h (fun xg2 xT2 h2 => br_f (nI_nlt (b := 26) q (by omega)) ⟨by decide, ?_⟩)
    rw [e26, pk_div (by omega) (by omega) (by omega), e97, nI_add, show nI (97 + v / 26) - 1 = nI (97 + v / 26 - 1) from pk_sub (b := 1) (by omega)]
    refine zw_w h2 (fun xg3 xT3 h3 => h36 xg3 xT3 [50, 97 + v / 26 - 1] (by rw [List.append_assoc] at h3; exact h3) ?_)
    unfold id_; rw [if_neg (by omega)]; rfl
  · refine zw_w (c := 49) h (fun xg2 xT2 h2 => br_t (nI_lt (b := 26) q (by omega)) (h36 xg2 xT2 [49] h2 ?_))
    unfold id_; rw [if_pos q, Nat.mod_eq_of_lt q]; rfl
theorem zw_q {post : SX → Prop} {w : List Nat} {v : Nat} (hv : v < 8) (h : tk_ 256 w xg xT) (H : ∀ (xg' : Int32) (xT' : Nat → Int32), tk_ 256 (w ++ ql_ v) xg' xT' → post (xo, xb, xl, xs, xg', xu, xd, xc, xe, xp, xf, xz, xK, xV, xO, xT', xS, xA, xY, xN, xW, xk, xt, xH, xn, xq, xy, xF, xZ, xC, xv)) : wpX_writeQualifiers post (xo, xb, xl, xs, xg, xu, xd, xc, xe, xp, xf, xz, xK, xV, xO, xT, xS, xA, xY, xN, xW, xk, xt, xH, xn, xq, xy, xF, xZ, xC, xv) (nI v) := by
  have h24 : ∀ (xg' : Int32) (xT' : Nat → Int32) (l : List Nat), tk_ 256 (w ++ l) xg' xT' → ql_ v = l ++ (if v % 2 = 0 then [] else [75]) → wX_writeQualifiers_24 post (nI v) xo xb xl xs xg' xu xd xc xe xp xf xz xK xV xO xT' xS xA xY xN xW xk xt xH xn xq xy xF xZ xC xv := by
    intro xg' xT' l hl e
    by_cases q : v % 2 = 0
    · refine br_t ((lz_1 v hv).mpr q) (H xg' xT' ?_)
      rw [e, if_pos q, List.append_nil]; exact hl
    · refine br_f (fun z => q ((lz_1 v hv).mp z)) (zw_w (c := 75) hl (fun xg2 xT2 h2 => H xg2 xT2 ?_))
      rw [e, if_neg q, ← List.append_assoc]; exact h2
  have h12 : ∀ (xg' : Int32) (xT' : Nat → Int32) (l : List Nat), tk_ 256 (w ++ l) xg' xT' → l = (if v / 4 % 2 = 0 then [] else [114]) → wX_writeQualifiers_12 post (nI v) xo xb xl xs xg' xu xd xc xe xp xf xz xK xV xO xT' xS xA xY xN xW xk xt xH xn xq xy xF xZ xC xv := by
    intro xg' xT' l hl e
    by_cases q : v / 2 % 2 = 0
    · refine br_t ((lz_2 v hv).mpr q) (h24 xg' xT' l hl ?_)
      unfold ql_; rw [if_pos q, e]; rfl
    · refine br_f (fun z => q ((lz_2 v hv).mp z)) (zw_w (c := 86) hl (fun xg2 xT2 h2 => h24 xg2 xT2 (l ++ [86]) (by rw [← List.append_assoc]; exact h2) ?_))
      unfold ql_; rw [if_neg q, e, List.append_assoc]
  by_cases q : v / 4 % 2 = 0
  · exact br_t ((lz_4 v hv).mpr q) (h12 xg xT [] (by rw [List.append_nil]; exact h) (by rw [if_pos q]))
  · exact br_f (fun z => q ((lz_4 v hv).mp z)) (zw_w (c := 114) h (fun xg2 xT2 h2 => h12 xg2 xT2 [114] h2 (by rw [if_neg q])))
end
end
section
/-! the writer, in general: known sizes kn, entries kt, flags nf -/
def m1_ (a : Nat) : Nat := if a = 0 then 1 else a
def gn_ (kn : Nat → Nat) : Nat → Nat
  | 0 => 0
  | i + 1 => if gn_ kn i = i then i + m1_ (kn i) else gn_ kn i
def ec_ (K : Nat → Nat) (nf : Nat → Bool) (i : Nat) : Bool := eb_ K (i + 1) && (nf ((sk_ K (i + 1)).headD 0) && decide (K (i + 1) ≠ 1 ∧ K (i + 1) ≠ 3))
def gv_ (K V : Nat → Nat) (kn kt : Nat → Nat) (nf : Nat → Bool) (i : Nat) : List Nat :=
  (if nf i = true then [78] else []) ++ (if kn i = 0 then pe_ K V i ++ (if ec_ K nf i = true then [69] else []) else 83 :: nu_ (kt i) 36)
def go_ (K V : Nat → Nat) (kn kt : Nat → Nat) (nf : Nat → Bool) : Nat → List Nat
  | 0 => [95, 90]
  | i + 1 => if gn_ kn i = i then go_ K V kn kt nf i ++ gv_ K V kn kt nf i else go_ K V kn kt nf i
theorem gn_t {kn : Nat → Nat} {i : Nat} (h : gn_ kn i = i) : gn_ kn (i + 1) = i + m1_ (kn i) := by show (if _ then _ else _) = _; rw [if_pos h]
theorem gn_f {kn : Nat → Nat} {i : Nat} (h : gn_ kn i ≠ i) : gn_ kn (i + 1) = gn_ kn i := by show (if _ then _ else _) = _; rw [if_neg h]
theorem m1_p (a : Nat) : 0 < m1_ a := by unfold m1_; by_cases h : a = 0 <;> simp [h]; omega
theorem gn_ge (kn : Nat → Nat) : ∀ i, i ≤ gn_ kn i := by
  intro i
  induction i with
  | zero => exact Nat.le_refl _
  | succ i ih =>
    by_cases h : gn_ kn i = i
    · rw [gn_t h]; have := m1_p (kn i); omega
    · rw [gn_f h]; omega
/-- a visited node keeps what follows it away -/
theorem gn_vis {kn : Nat → Nat} {j : Nat} (h : gn_ kn j = j) : ∀ {i : Nat}, j < i → j + m1_ (kn j) ≤ gn_ kn i := by
  intro i
  induction i with
  | zero => intro q; omega
  | succ i ih =>
    intro q
    by_cases z : j = i
    · subst z; rw [gn_t h]; exact Nat.le_refl _
    · have := ih (by omega)
      by_cases w : gn_ kn i = i
      · rw [gn_t w]; omega
      · rw [gn_f w]; exact this
/-- a node that is passed over lies in what a visited one stands for -/
theorem gn_skip {kn : Nat → Nat} : ∀ {i : Nat}, gn_ kn i ≠ i → ∃ j, j < i ∧ gn_ kn j = j ∧ gn_ kn i = j + m1_ (kn j) := by
  intro i
  induction i with
  | zero => intro h; exact absurd rfl h
  | succ i ih =>
    intro h
    by_cases w : gn_ kn i = i
    · exact ⟨i, by omega, w, gn_t w⟩
    · obtain ⟨j, a, b, c⟩ := ih w
      exact ⟨j, by omega, b, by rw [gn_f w, c]⟩
/-- an unvisited start inside -/
theorem gn_in {kn : Nat → Nat} {j x : Nat} (h : gn_ kn j = j) (h1 : j < x) (h2 : x < j + m1_ (kn j)) : gn_ kn x ≠ x := by
  have := gn_vis h h1; omega
/-! components and the stack -/
theorem pw_lt {l m : List Nat} {x y : Nat} (h : (l ++ m).Pairwise (fun a b => b < a)) (hx : x ∈ l) (hy : y ∈ m) : y < x := (List.pairwise_append.mp h).2.2 x hx y hy
/-- after the component (j, p) nothing within it stays on the stack -/
theorem pp_lam {K V : Nat → Nat} {n j p x q : Nat} (hw : wf_ K V n) (hp : p < n) (hj : j ∈ pp_ K p) (h1 : j < x) (h2 : x ≤ p) (hq : p + 2 ≤ q) : x ∉ sk_ K q := by
  intro hx
  have hx := sk_keep hx (show x < p + 2 by omega) hq
  have hst : ∀ l : List Nat, (∀ y, y ∈ sk_c K l → y ≤ j) → K (p + 1) ≠ 1 → K (p + 1) ≠ 3 → l = sk_ K (p + 1) → False := by
    intro l hl a1 a3 el
    subst el
    have e2 : sk_ K (p + 2) = sk_s K (p + 1) (sk_ K (p + 1)) := rfl
    rw [e2] at hx
    unfold sk_s at hx
    rw [if_neg a1, if_neg a3] at hx
    by_cases h4 : K (p + 1) = 4
    · rw [if_pos h4] at hx; have := hl x ((sk_w_suf K _).subset hx); omega
    rw [if_neg h4] at hx
    by_cases h11 : K (p + 1) = 11
    · rw [if_pos h11] at hx; have := hl x ((sk_e_suf K _).subset hx); omega
    rw [if_neg h11] at hx
    rcases List.mem_cons.mp hx with z | z
    · omega
    · have := hl x z; omega
  have hall : (∀ y, y ∈ sk_ K (p + 1) → y ≤ j) → False := by
    intro hl
    rcases sk_step K (p + 1) with a | ⟨t, e, a⟩
    · have := hl x (a.subset hx); omega
    · rw [show p + 2 = p + 1 + 1 from rfl, e] at hx
      rcases List.mem_cons.mp hx with z | z
      · omega
      · have := hl x (a.subset z); omega
  have hg1 := gs_pw (si_all hw (p + 1) (by omega)).1
  have hg0 := gs_pw (si_all hw p (by omega)).1
  rcases (pp_iff hw hp).mp hj with ⟨c, a, b, d, f⟩ | ⟨_, he, hh, _⟩
  · rcases d with ⟨d1, d2⟩ | ⟨d1, d2, d3⟩ | ⟨d1, d2, d3, d4, d5⟩
    · subst d2
      have hb := bt_op hw hp d1
      refine hall (fun y hy => ?_)
      rw [sk_s4 d1] at hy
      have hjt : j ∈ sk_t K (sk_c K (sk_ K p)) := (rn_ hw p j (by omega) hb.2 hb.1).mpr ⟨by omega, b⟩
      have hpw : (sk_t K (sk_c K (sk_ K p)) ++ sk_w K (sk_c K (sk_ K p))).Pairwise (fun a b => b < a) := by rw [sk_tw]; exact hg0.sublist (sk_c_suf K _).sublist
      have := pw_lt hpw hjt hy
      omega
    · obtain ⟨r, ec, es, ho, hf, hol⟩ := end_top hw hp d2
      refine hall (fun y hy => ?_)
      rw [sk_s11 d2, ec] at hy
      have e3 : sk_e K (op_ K p :: r) = sk_w K r := by show (if _ then _ else _) = _; rw [if_pos (by rw [d3]; exact d1)]
      rw [e3] at hy
      have hpw := hg0.sublist es.sublist
      by_cases z : j = c
      · have := (List.pairwise_cons.mp hpw).1 y ((sk_w_suf K r).subset hy)
        omega
      · have hjt : j ∈ sk_t K r := (nr_run hw (i := p) (by omega) es (Or.inr (Or.inr (by rw [d3]; exact d1)))).mpr ⟨by omega, by rw [d3]; exact b⟩
        have hpw2 := (List.pairwise_cons.mp hpw).2
        rw [← sk_tw K r] at hpw2
        have := pw_lt hpw2 hjt hy
        omega
    · obtain ⟨t, r, es, ht, _⟩ := en_top hw (i := p + 1) (by omega) d2
      have htc : t = c := by rw [es] at d3; exact Option.some.inj d3
      subst htc
      rw [es] at hg1
      refine hst _ (fun y hy => ?_) d4 d5 rfl
      rw [es, sk_c_h ht] at hy
      by_cases z : j = t
      · have := (List.pairwise_cons.mp hg1).1 y ((sk_w_suf K r).subset hy); omega
      · have hjt : j ∈ sk_t K r := (nr_run hw (i := p + 1) (by omega) (by rw [es]; exact List.suffix_refl _) (Or.inl ht)).mpr ⟨by omega, b⟩
        have hpw2 := (List.pairwise_cons.mp hg1).2
        rw [← sk_tw K r] at hpw2
        have := pw_lt hpw2 hjt hy
        omega
  · refine hall (fun y hy => ?_)
    cases es : sk_ K (p + 1) with
    | nil => rw [es] at hy; exact absurd hy (by simp)
    | cons t r =>
      rw [es] at hy hh hg1
      have : t = j := Option.some.inj hh
      subst this
      rcases List.mem_cons.mp hy with z | z
      · omega
      · have := (List.pairwise_cons.mp hg1).1 y z; omega
/-- a component is open until it ends -/
theorem pp_on {K V : Nat → Nat} {n j p q : Nat} (hw : wf_ K V n) (hp : p < n) (hj : j ∈ pp_ K p) (h1 : j < q) (h2 : q ≤ p) : j ∈ sk_ K q := by
  rcases (pp_iff hw hp).mp hj with ⟨c, a, b, d, f⟩ | ⟨_, he, hh, _⟩
  · rcases d with ⟨d1, d2⟩ | ⟨d1, d2, d3⟩ | ⟨d1, d2, d3, d4, d5⟩
    · subst d2
      have hb := bt_op hw hp d1
      have hjt : j ∈ sk_t K (sk_c K (sk_ K p)) := (rn_ hw p j (by omega) hb.2 hb.1).mpr ⟨by omega, b⟩
      exact sk_keep ((sk_c_suf K _).subset ((sk_tp K _).subset hjt)) h1 h2
    · obtain ⟨r, ec, es, ho, hf, hol⟩ := end_top hw hp d2
      by_cases z : j = c
      · exact sk_keep (es.subset (by rw [z, d3]; simp)) h1 h2
      · have hjt : j ∈ sk_t K r := (nr_run hw (i := p) (by omega) es (Or.inr (Or.inr (by rw [d3]; exact d1)))).mpr ⟨by omega, by rw [d3]; exact b⟩
        exact sk_keep (es.subset (List.mem_cons_of_mem _ ((sk_tp K _).subset hjt))) h1 h2
    · obtain ⟨t, r, es, ht, _⟩ := en_top hw (i := p + 1) (by omega) d2
      have htc : t = c := by rw [es] at d3; exact Option.some.inj d3
      subst htc
      by_cases z : j = t
      · exact sk_keep (show j ∈ sk_ K (p + 1) by rw [es, z]; simp) h1 (by omega)
      · have hjt : j ∈ sk_t K r := (nr_run hw (i := p + 1) (by omega) (by rw [es]; exact List.suffix_refl _) (Or.inl ht)).mpr ⟨by omega, b⟩
        exact sk_keep (show j ∈ sk_ K (p + 1) by rw [es]; exact List.mem_cons_of_mem _ ((sk_tp K _).subset hjt)) h1 (by omega)
  · exact sk_keep (sk_hm hh) h1 (by omega)
/-- kn names components: where it is not 0, the nodes there are one -/
def kc_ (K : Nat → Nat) (n : Nat) (kn : Nat → Nat) : Prop := ∀ j, j < n → kn j ≠ 0 → j + kn j ≤ n ∧ j ∈ pp_ K (j + kn j - 1)
/-- the head of a visited part is visited, and what it stands for ends before -/
theorem gn_own {K V : Nat → Nat} {n s i : Nat} {kn : Nat → Nat} (hw : wf_ K V n) (hi : i < n) (hk : kc_ K n kn) (hv : gn_ kn i = i) (ho : oe_ K s i = true) (hsi : s < i) : gn_ kn s = s ∧ s + m1_ (kn s) ≤ i := by
  have hs : gn_ kn s = s := by
    apply Classical.byContradiction
    intro hns
    obtain ⟨j, a, b, c⟩ := gn_skip hns
    have hge := gn_ge kn s
    have hkj : kn j ≠ 0 := by
      intro z
      unfold m1_ at c
      rw [if_pos z] at c; omega
    have hm : m1_ (kn j) = kn j := by unfold m1_; rw [if_neg hkj]
    rw [hm] at c
    have hc := hk j (by omega) hkj
    have hvis := gn_vis b (show j < i by omega)
    rw [hm, hv] at hvis
    exact pp_lam (x := s) (q := i + 1) hw (by omega) hc.2 a (by omega) (by omega) (sk_hm (oe_i.mp ho).2)
  exact ⟨hs, by have := gn_vis hs hsi; omega⟩
/-- the last part of a name -/
theorem ne_le {K : Nat → Nat} {s : Nat} : ∀ {m : Nat} {e : Nat}, e < m → oe_ K s e = true → e ≤ ne_ K s m := by
  intro m
  induction m with
  | zero => intro e h; omega
  | succ m ih =>
    intro e h ho
    show e ≤ (if _ then _ else _)
    by_cases q : oe_ K s m = true
    · rw [if_pos q]; omega
    · rw [if_neg q]
      refine ih ?_ ho
      rcases Nat.lt_or_ge e m with z | z
      · exact z
      · exact absurd (by rw [show m = e by omega]; exact ho) q
theorem ne_oe {K : Nat → Nat} {s : Nat} : ∀ {m : Nat} {e : Nat}, e < m → oe_ K s e = true → oe_ K s (ne_ K s m) = true ∧ ne_ K s m < m := by
  intro m
  induction m with
  | zero => intro e h; omega
  | succ m ih =>
    intro e h ho
    show oe_ K s (if _ then _ else _) = true ∧ (if _ then _ else _) < _
    by_cases q : oe_ K s m = true
    · rw [if_pos q]; exact ⟨q, by omega⟩
    · rw [if_neg q]
      have : e < m := by
        rcases Nat.lt_or_ge e m with z | z
        · exact z
        · exact absurd (by rw [show m = e by omega]; exact ho) q
      have := ih this ho
      exact ⟨this.1, by omega⟩
/-- in complete nodes every frame is closed -/
theorem cm_mt {K V : Nat → Nat} {n f : Nat} (hw : wf_ K V n) (hc : op_ K n = 0) (hf : ka_f (K f) = true) (hfn : f < n) : ∃ m, f < m ∧ m < n ∧ K m = 11 ∧ op_ K m = f := by
  apply Classical.byContradiction
  intro hno
  have := fs_open hf hfn (fun m a b c d => hno ⟨m, a, b, c, d⟩)
  cases e : fs_ K n with
  | nil => rw [e] at this; exact absurd this (by simp)
  | cons g r => have := fs_op (n := n) (wf_0 hw (by omega)) e; omega
/-- there the last part is the one after which the name does not go on -/
theorem ne_fx {K V : Nat → Nat} {n s i : Nat} (hw : wf_ K V n) (hc : op_ K n = 0) (hS : K n = 11) (hi : i < n) (ho : oe_ K s i = true) : ne_ K s n = i ↔ K (i + 1) ≠ 1 ∧ K (i + 1) ≠ 3 := by
  constructor
  · intro e
    constructor
    · intro q
      have hin : i + 1 < n := by
        rcases Nat.lt_or_ge (i + 1) n with z | z
        · exact z
        · rw [show i + 1 = n by omega, hS] at q; omega
      have := ne_le hin (oe_1 ho q)
      omega
    · intro q
      have hin : i + 1 < n := by
        rcases Nat.lt_or_ge (i + 1) n with z | z
        · exact z
        · rw [show i + 1 = n by omega, hS] at q; omega
      obtain ⟨m, a, b, c, d⟩ := cm_mt hw hc (by rw [q]; rfl) hin
      have := ne_le b (oe_3 hw ho q b c d)
      omega
  · intro q
    have a := ne_oe hi ho
    have b := ne_le hi ho
    have := fx_le hw ⟨ho, q⟩ a.1 a.2
    omega
theorem hm_i {K : Nat → Nat} {s : Nat} : ∀ {m : Nat}, hm_ K s m = true ↔ ∃ e, e < m ∧ oe_ K s e = true ∧ K e = 1 := by
  intro m
  induction m with
  | zero =>
    constructor
    · intro h; exact absurd (show false = true from h) (by decide)
    · rintro ⟨e, h, _⟩; omega
  | succ m ih =>
    show ((oe_ K s m && decide (K m = 1)) || hm_ K s m) = true ↔ _
    rw [Bool.or_eq_true, Bool.and_eq_true, decide_eq_true_iff, ih]
    constructor
    · rintro (⟨a, b⟩ | ⟨e, a, b⟩)
      · exact ⟨m, by omega, a, b⟩
      · exact ⟨e, by omega, b⟩
    · rintro ⟨e, a, b, c⟩
      by_cases z : e = m
      · subst z; exact Or.inl ⟨b, c⟩
      · exact Or.inr ⟨e, by omega, b, c⟩
/-! the true functions: known sizes, entries, flags -/
def kt_ (K V : Nat → Nat) (n s : Nat) : Nat := (tb_ K V n).findIdx (fun p => decide (sg_ K V p.1 p.2 = sg_ K V s (kl_ K V s n)))
def nf_ (K V : Nat → Nat) (n s : Nat) : Bool := hm_ K s n && decide (kl_ K V s n + s ≤ ne_ K s n)
def mg_ (K V : Nat → Nat) (n : Nat) : List Nat := go_ K V (fun s => kl_ K V s n) (kt_ K V n) (nf_ K V n) n
theorem kl_in {K V : Nat → Nat} {n s : Nat} (hw : wf_ K V n) : ∀ {m : Nat}, m ≤ n → kl_ K V s m ≠ 0 → ∃ e, e < m ∧ s ∈ pp_ K e ∧ kw_ K V (tb_ K V e) s e = true ∧ kl_ K V s m = e + 1 - s ∧ s ≤ e ∧ ∀ e', e < e' → e' < m → ¬ (s ∈ pp_ K e' ∧ kw_ K V (tb_ K V e') s e' = true) := by
  intro m
  induction m with
  | zero => intro _ h; exact absurd rfl h
  | succ m ih =>
    intro hm h
    have e1 : kl_ K V s (m + 1) = if (decide (s ∈ pp_ K m) && kw_ K V (tb_ K V m) s m) = true then m + 1 - s else kl_ K V s m := rfl
    rw [e1] at h ⊢
    by_cases q : (decide (s ∈ pp_ K m) && kw_ K V (tb_ K V m) s m) = true
    · rw [if_pos q]
      rw [Bool.and_eq_true, decide_eq_true_iff] at q
      exact ⟨m, by omega, q.1, q.2, rfl, pp_le hw (by omega) q.1, fun e' a b => by omega⟩
    · rw [if_neg q] at h ⊢
      obtain ⟨e, a, b, c, d, f, g⟩ := ih (by omega) h
      refine ⟨e, by omega, b, c, d, f, fun e' x y => ?_⟩
      by_cases z : e' = m
      · subst z
        rw [Bool.and_eq_true, decide_eq_true_iff] at q; exact q
      · exact g e' x (by omega)
theorem kl_no {K V : Nat → Nat} {n s : Nat} (hw : wf_ K V n) : ∀ {m : Nat}, m ≤ n → kl_ K V s m = 0 → ∀ e, e < m → ¬ (s ∈ pp_ K e ∧ kw_ K V (tb_ K V e) s e = true) := by
  intro m
  induction m with
  | zero => intro _ _ e h; omega
  | succ m ih =>
    intro hm h e he
    have e1 : kl_ K V s (m + 1) = if (decide (s ∈ pp_ K m) && kw_ K V (tb_ K V m) s m) = true then m + 1 - s else kl_ K V s m := rfl
    rw [e1] at h
    by_cases q : (decide (s ∈ pp_ K m) && kw_ K V (tb_ K V m) s m) = true
    · rw [if_pos q] at h
      rw [Bool.and_eq_true, decide_eq_true_iff] at q
      have := pp_le hw (by omega) q.1
      omega
    · rw [if_neg q] at h
      by_cases z : e = m
      · subst z; rw [Bool.and_eq_true, decide_eq_true_iff] at q; exact q
      · exact ih (by omega) h e (by omega)
theorem kc_kl {K V : Nat → Nat} {n : Nat} (hw : wf_ K V n) : kc_ K n (fun s => kl_ K V s n) := by
  intro j hj hk
  obtain ⟨e, a, b, c, d, f, _⟩ := kl_in hw (Nat.le_refl _) hk
  show j + kl_ K V j n ≤ n ∧ j ∈ pp_ K (j + kl_ K V j n - 1)
  rw [d, show j + (e + 1 - j) - 1 = e by omega]
  exact ⟨by omega, b⟩
theorem kt_un {K V : Nat → Nat} {n s k : Nat} {p : Nat × Nat} (h : (tb_ K V n)[k]? = some p) (e : sg_ K V p.1 p.2 = sg_ K V s (kl_ K V s n)) : kt_ K V n s = k := by
  have hpw := tb_pw K V n
  unfold kt_
  have hk := (List.getElem?_eq_some_iff.mp h)
  obtain ⟨hkl, hke⟩ := hk
  rw [List.findIdx_eq hkl]
  refine ⟨by rw [hke]; exact decide_eq_true e, fun j hj => ?_⟩
  apply decide_eq_false
  intro q
  have h2 := List.pairwise_iff_getElem.mp hpw j k (by omega) hkl hj
  rw [hke] at h2
  exact h2 (q.trans e.symm)
end
section
/-! X: pieces, nodes, mangle -/
def ox_ (K : Nat → Nat) (n : Nat) (xO : Nat → Int32) : Prop := ∀ j, j < n → xO j = zI (op_ K (j + 1))
theorem tc_st {K : Nat → Nat} {i f : Nat} (h : K i = 11) (ho : op_ K i = f) (hf : f ≠ 0) : ∀ {n : Nat}, i ≤ n → tc_ K f n = tc_ K f i := by
  intro n
  induction n with
  | zero => intro hn; rw [show i = 0 by omega]
  | succ n ih =>
    intro hn
    by_cases z : i = n + 1
    · rw [z]
    · show tc_ K f n + (if _ then _ else _) = _
      refine (congrArg (tc_ K f n + ·) (if_neg ?_)).trans (ih (by omega))
      rw [Bool.and_eq_true, decide_eq_true_iff]
      intro q
      have a := op_fs (K := K) (i := i) (by rw [ho]; exact hf)
      have b := op_fs (K := K) (i := n + 1) (by rw [q.1]; exact hf)
      have c : f ∈ fs_ K (n + 1) := by rw [b.1, q.1]; simp
      have d := fs_keep c (show f < i + 1 by omega) (by omega)
      rw [op_s2 h, a.1, ho] at d
      have := fs_mlt (show f ∈ fs_ K f from d)
      omega
/-- what the tables say when all nodes are there -/
def fin_ (K V : Nat → Nat) (n : Nat) (xY xN xW xH xk xt : Nat → Int32) : Prop :=
  (∀ s, s < n → xk s = nI (kl_ K V s n) ∧ (kl_ K V s n ≠ 0 → xt s = nI (kt_ K V n s) ∧ kt_ K V n s < 48)) ∧ wv_ K n xW ∧ nv_ K n xN ∧ hv_ K n xH ∧ (∀ f, f < n → ka_f (K f) = true → xY f = nI (tc_ K f n))
theorem pp_cm {K V : Nat → Nat} {e : Nat} (hw : wf_ K V (e + 1)) (hc : op_ K (e + 1) = 0) (hS : K (e + 1) = 11) : pp_ K e = pa_ K e := by
  unfold pp_ pb_
  rw [if_neg (by omega)]
  have : pc_ K e = [] := by
    by_cases hen : en_ K (e + 1)
    · obtain ⟨s, r, es, hsh, hsl⟩ := en_top hw (i := e + 1) (by omega) hen
      rcases en_op hw (i := e + 1) (by omega) es hsh with ⟨q1, _⟩ | ⟨_, q1, _⟩
      · rw [pc_en es hsh, q1]; rfl
      · exact absurd hc q1
    · exact pc_n hw (by omega) hen
  rw [this, List.append_nil]
section
variable {xo xb : Int64} {xl xs xg xu xd xc xe xp xf xz : Int32} {xK xV xO xT xS xA xY xN xW xk xt xH xn : Nat → Int32} {xq : Nat → Int64} {xy xF xZ xC xv : Nat → Int32}
variable {K V : Nat → Nat} {N : Nat}
theorem ti_fin {n : Nat} {cs : Nat → List (Nat × Nat)} {cl : Nat → Bool} (hw : wf_ K V N) (hN : N ≤ 48) (h0 : 0 < N) (hc : op_ K N = 0) (hS : K N = 11) (T : ti_ K V N false n cs cl xd xS xA xY xN xW xH xc xe xk xt xq xy xF xZ) :
    fin_ K V N xY xN xW xH xk xt ∧ tv_ (tb_ K V N) xe xF xZ := by
  obtain ⟨e, rfl⟩ : ∃ e, N = e + 1 := ⟨N - 1, by omega⟩
  obtain ⟨t1, t2, t3, t4, t5, t6, t7, t8, t9⟩ := T
  have hpp := pp_cm hw hc hS
  have t1' : tt_ K V e (pp_ K e) (e + 1) n cs cl xc xe xk xt xq xy xF xZ := by rw [hpp]; exact t1
  refine ⟨⟨fun s hs => ?_, t5, t6, t7, fun f hf hk => ?_⟩, t1'.2.1⟩
  · have h := t1'.2.2 s hs
    refine ⟨h.1, fun hk => ?_⟩
    obtain ⟨k, f, a, b, c⟩ := h.2 (Nat.pos_of_ne_zero hk)
    have := kt_un (K := K) (V := V) (n := e + 1) (s := s) (k := k) (p := (f, kl_ K V s (e + 1))) a c
    rw [this]
    refine ⟨b, ?_⟩
    have h1 := (List.getElem?_eq_some_iff.mp a).1
    have h2 := tb_len hw (i := e + 1) (Nat.le_refl _)
    have h3 : (tl_ K V e (tb_ K V e) (pp_ K e)).length = (tb_ K V (e + 1)).length := rfl
    omega
  · have hf0 : f ≠ 0 := by
      intro q; rw [q, wf_0 hw (by omega)] at hk; exact absurd hk (by decide)
    rw [t8 f hf hk, tp_same (Or.inr (by omega))]
theorem zw_rc {post : Int32 → Prop} {f : Nat} (hN : N ≤ 48) (hkx : kx_ K V N xK xV) (hf : f < N) (h0 : 0 < f) (h : post (nI (rc_ K f))) : wpX_resultCount post (xo, xb, xl, xs, xg, xu, xd, xc, xe, xp, xf, xz, xK, xV, xO, xT, xS, xA, xY, xN, xW, xk, xt, xH, xn, xq, xy, xF, xZ, xC, xv) (nI f) := by
  have hv : vp_in (nI f) 48 := vp_in_nI (by omega) (by omega)
  have hv1 : vp_in (nI (f - 1)) 48 := vp_in_nI (by omega) (by omega)
  have hk := hkx f hf
  have hk1 := hkx (f - 1) (by omega)
  have hp : nI f - 1 = nI (f - 1) := by
    obtain ⟨g, rfl⟩ : ∃ g, f = g + 1 := ⟨f - 1, by omega⟩
    rw [nI_pred, Nat.add_sub_cancel]
  refine ⟨hv, ?_⟩
  rw [nI_clamp (by omega), hk.1]
  refine pk_eq (K f) 10 (fun q => br_f (nI_nle h0 (by omega)) ?_) (fun q => ⟨hv, pk_eq (K f) 9 (fun q2 => ?_) (fun q2 => ?_) (ha := by have := hk.2.2.1; omega)⟩) (ha := by have := hk.2.2.1; omega)
  · rw [hp]
    refine ⟨hv1, ?_⟩
    rw [nI_clamp (by omega), hk1.1]
    refine pk_eq (K (f - 1)) 11 (fun w => ?_) (fun w => ?_) (ha := by have := hk1.2.2.1; omega)
    · have : rc_ K f = 1 := by unfold rc_; rw [if_pos (Or.inr ⟨q, w⟩)]
      rw [this] at h; exact h
    · have : rc_ K f = 0 := by unfold rc_; rw [if_neg (by omega)]
      rw [this] at h; exact h
  · have : rc_ K f = 1 := by unfold rc_; rw [if_pos (Or.inl q2)]
    rw [this] at h; exact h
  · have : rc_ K f = 0 := by unfold rc_; rw [if_neg (by omega)]
    rw [this] at h; exact h
theorem tc_le {K : Nat → Nat} {f : Nat} : ∀ n, tc_ K f n ≤ n := by
  intro n
  induction n with
  | zero => exact Nat.le_refl _
  | succ n ih =>
    show tc_ K f n + (if _ then _ else _) ≤ _
    split <;> omega
theorem rc_le {f : Nat} : rc_ K f ≤ 1 := by unfold rc_; split <;> omega
theorem zw_e {post : SX → Prop} {w : List Nat} {i : Nat} (hw : wf_ K V N) (hN : N ≤ 48) (hkx : kx_ K V N xK xV) (hox : ox_ K N xO) (hy : ∀ f, f < N → ka_f (K f) = true → xY f = nI (tc_ K f N)) (hi : i < N) (h11 : K i = 11)
    (h : tk_ 256 w xg xT) (H : ∀ (xg' : Int32) (xT' : Nat → Int32), tk_ 256 (w ++ pn_ K i) xg' xT' → post (xo, xb, xl, xs, xg', xu, xd, xc, xe, xp, xf, xz, xK, xV, xO, xT', xS, xA, xY, xN, xW, xk, xt, xH, xn, xq, xy, xF, xZ, xC, xv)) : wpX_writeEnd post (xo, xb, xl, xs, xg, xu, xd, xc, xe, xp, xf, xz, xK, xV, xO, xT, xS, xA, xY, xN, xW, xk, xt, xH, xn, xq, xy, xF, xZ, xC, xv) (nI i) := by
  obtain ⟨r, _, _, ho, hf, hol⟩ := end_top hw hi h11
  have hp : nI i - 1 = nI (i - 1) := by
    obtain ⟨g, rfl⟩ : ∃ g, i = g + 1 := ⟨i - 1, by omega⟩
    rw [nI_pred, Nat.add_sub_cancel]
  have hoi : xO (i - 1) = nI (op_ K i) := by rw [hox (i - 1) (by omega), show i - 1 + 1 = i by omega, zI_p ho]
  have hv : vp_in (nI (op_ K i)) 48 := vp_in_nI (by omega) (by omega)
  have hc : (nI (op_ K i)).toNatClampNeg = op_ K i := nI_clamp (by omega)
  have hk := hkx (op_ K i) (by omega)
  have hK := hk.2.2.1
  have htc : tc_ K (op_ K i) N = tc_ K (op_ K i) i := tc_st h11 rfl ho (by omega)
  have h52 : ∀ (xg' : Int32) (xT' : Nat → Int32) (l : List Nat), tk_ 256 (w ++ l) xg' xT' → pn_ K i = l ++ (if K (op_ K i) = 10 then [] else [69]) → wX_writeEnd_52 post (nI (op_ K i)) xo xb xl xs xg' xu xd xc xe xp xf xz xK xV xO xT' xS xA xY xN xW xk xt xH xn xq xy xF xZ xC xv := by
    intro xg' xT' l hl e
    refine ⟨hv, ?_⟩
    rw [hc, hk.1]
    refine pk_eq (K (op_ K i)) 10 (fun q => H xg' xT' ?_) (fun q => zw_w (c := 69) hl (fun xg2 xT2 h2 => H xg2 xT2 ?_))
    · rw [e, if_pos q, List.append_nil]; exact hl
    · rw [e, if_neg q, ← List.append_assoc]; exact h2
  refine br_f (nI_nle (by omega) (by omega)) ?_
  rw [hp]
  refine ⟨vp_in_nI (by omega) (by omega), ?_⟩
  rw [nI_clamp (by omega), hoi]
  refine br_t (nI_pos' (by omega)) ⟨hv, ?_⟩
  rw [hc, hk.1]
  refine pk_eq (K (op_ K i)) 3 (fun q => h52 xg xT [] (by rw [List.append_nil]; exact h) ?_) (fun q => ⟨hv, ?_⟩)
  · unfold pn_; rw [if_neg (fun z => z.1 q)]
  · refine zw_rc hN hkx (by omega) (by omega) ?_
    rw [hy _ (by omega) hf, htc]
    have t1 := tc_le (K := K) (f := op_ K i) i
    have t2 := rc_le (K := K) (f := op_ K i)
    refine pk_eq (tc_ K (op_ K i) i) (rc_ K (op_ K i)) (fun q2 => zw_w (c := 118) h (fun xg2 xT2 h2 => h52 xg2 xT2 [118] h2 ?_)) (fun q2 => h52 xg xT [] (by rw [List.append_nil]; exact h) ?_)
    · unfold pn_; rw [if_pos ⟨q, q2⟩]
    · unfold pn_; rw [if_neg (fun z => q2 z.2)]
theorem zw_p {post : SX → Prop} {w : List Nat} {i : Nat} (hw : wf_ K V N) (hN : N ≤ 48) (hkx : kx_ K V N xK xV) (hox : ox_ K N xO) (hy : ∀ f, f < N → ka_f (K f) = true → xY f = nI (tc_ K f N)) (hi : i < N)
    (h : tk_ 256 w xg xT) (H : ∀ (xg' : Int32) (xT' : Nat → Int32), tk_ 256 (w ++ pe_ K V i) xg' xT' → post (xo, xb, xl, xs, xg', xu, xd, xc, xe, xp, xf, xz, xK, xV, xO, xT', xS, xA, xY, xN, xW, xk, xt, xH, xn, xq, xy, xF, xZ, xC, xv)) : wpX_writePiece post (xo, xb, xl, xs, xg, xu, xd, xc, xe, xp, xf, xz, xK, xV, xO, xT, xS, xA, xY, xN, xW, xk, xt, xH, xn, xq, xy, xF, xZ, xC, xv) (nI i) := by
  have hv : vp_in (nI i) 48 := vp_in_nI (by omega) (by omega)
  have hc : (nI i).toNatClampNeg = i := nI_clamp (by omega)
  have hk := hkx i hi
  have hK := hk.2.2.1
  have hV := (hw i hi).1.2.1
  have id : K i ≤ 1 → wX_writePiece_16 post (nI i) xo xb xl xs xg xu xd xc xe xp xf xz xK xV xO xT xS xA xY xN xW xk xt xH xn xq xy xF xZ xC xv := by
    intro q
    refine ⟨hv, ?_⟩
    rw [hc, hk.2.1]
    refine zw_i hk.2.2.2 h (fun xg2 xT2 h2 => H xg2 xT2 ?_)
    unfold pe_; rw [if_pos q]; exact h2
  refine ⟨hv, nm_r (e' := nI (K i)) (by rw [hc]; exact hk.1) ?_⟩
  refine pk_eq (K i) 0 (fun q => id (by omega)) (fun q0 => pk_eq (K i) 1 (fun q => id (by omega)) (fun q1 => pk_eq (K i) 8 (fun q => ⟨hv, ?_⟩) (fun q8 => pk_eq (K i) 11 (fun q => ?_) (fun q11 => pk_eq (K i) 2 (fun q => ?_) (fun q2 => pk_eq (K i) 10 (fun q => ?_) (fun q10 => pk_eq (K i) 4 (fun q => ⟨hv, ?_⟩) (fun q4 => ?_)))))))
  · rw [hc, hk.2.1]
    have hV8 : V i < 8 := by rw [q] at hV; exact Nat.lt_succ_of_le hV
    refine zw_q hV8 h (fun xg2 xT2 h2 => H xg2 xT2 ?_)
    unfold pe_; rw [if_neg (by omega), if_pos q]; exact h2
  · refine zw_e hw hN hkx hox hy hi q h (fun xg2 xT2 h2 => H xg2 xT2 ?_)
    unfold pe_; rw [if_neg (by omega), if_neg q8, if_pos q]; exact h2
  · refine zw_w (c := 84) h (fun xg2 xT2 h2 => ⟨hv, ?_⟩)
    rw [hc, hk.2.1]
    refine zw_n (Or.inr rfl) (by have := hk.2.2.2; omega) h2 (fun xg3 xT3 h3 => H xg3 xT3 ?_)
    rw [List.append_assoc] at h3
    unfold pe_; rw [if_neg (by omega), if_neg q8, if_neg q11, if_pos q]; exact h3
  · refine H xg xT ?_
    unfold pe_; rw [if_neg (by omega), if_neg q8, if_neg q11, if_neg q2, if_pos q, List.append_nil]; exact h
  · rw [hc, hk.2.1]
    have hV8 : V i < 8 := by rw [q] at hV; exact Nat.lt_succ_of_le hV
    show wX_writePiece_125 post _ xo xb xl xs xg xu xd xc xe xp xf xz xK xV xO xT xS xA xY xN xW xk xt xH xn xq xy xF xZ xC xv
    rw [lz_b _ hV8]
    refine zw_w (c := lb_ (V i)) h (fun xg2 xT2 h2 => H xg2 xT2 ?_)
    unfold pe_; rw [if_neg (by omega), if_neg q8, if_neg q11, if_neg q2, if_neg q10, if_pos q]; exact h2
  · show wX_writePiece_125 post _ xo xb xl xs xg xu xd xc xe xp xf xz xK xV xO xT xS xA xY xN xW xk xt xH xn xq xy xF xZ xC xv
    rw [lz_o (K i) (by omega) (by omega)]
    refine zw_w (c := ol_ (K i)) h (fun xg2 xT2 h2 => H xg2 xT2 ?_)
    unfold pe_; rw [if_neg (by omega), if_neg q8, if_neg q11, if_neg q2, if_neg q10, if_neg q4]; exact h2
theorem zw_nd {post : Int32 → SX → Prop} {w : List Nat} {i : Nat} (hw : wf_ K V N) (hN : N ≤ 48) (hcm : op_ K N = 0) (hS : K N = 11) (hkx : kx_ K V N xK xV) (hox : ox_ K N xO) (F : fin_ K V N xY xN xW xH xk xt) (hi : i < N)
    (hv : gn_ (fun s => kl_ K V s N) i = i)
    (h : tk_ 256 w xg xT) (H : ∀ (xg' : Int32) (xT' : Nat → Int32), tk_ 256 (w ++ gv_ K V (fun s => kl_ K V s N) (kt_ K V N) (nf_ K V N) i) xg' xT' → post (nI (i + m1_ (kl_ K V i N))) (xo, xb, xl, xs, xg', xu, xd, xc, xe, xp, xf, xz, xK, xV, xO, xT', xS, xA, xY, xN, xW, xk, xt, xH, xn, xq, xy, xF, xZ, xC, xv)) : wpX_writeNode post (xo, xb, xl, xs, xg, xu, xd, xc, xe, xp, xf, xz, xK, xV, xO, xT, xS, xA, xY, xN, xW, xk, xt, xH, xn, xq, xy, xF, xZ, xC, xv) (nI i) := by
  obtain ⟨f1, f2, f3, f4, f5⟩ := F
  have hiv : vp_in (nI i) 48 := vp_in_nI (by omega) (by omega)
  have hc : (nI i).toNatClampNeg = i := nI_clamp (by omega)
  have hk := (f1 i hi).1
  have hkc := kc_kl hw
  have hkl : kl_ K V i N ≤ 48 := by
    by_cases z : kl_ K V i N = 0
    · omega
    · have := (hkc i hi z).1; have : i + kl_ K V i N ≤ N := this; omega
  have h32 : ∀ (xg' : Int32) (xT' : Nat → Int32) (l : List Nat), tk_ 256 (w ++ l) xg' xT' → l = (if nf_ K V N i = true then [78] else []) → wX_writeNode_32 post (nI i) xo xb xl xs xg' xu xd xc xe xp xf xz xK xV xO xT' xS xA xY xN xW xk xt xH xn xq xy xF xZ xC xv := by
    intro xg' xT' l hl e
    refine ⟨hiv, ?_⟩
    rw [hc, hk]
    by_cases z : kl_ K V i N = 0
    · refine br_t (by rw [z]; decide) ?_
      have hm1 : m1_ (kl_ K V i N) = 1 := by unfold m1_; rw [if_pos z]
      refine zw_p hw hN hkx hox f5 hi hl (fun xg2 xT2 h2 => ⟨hiv, nm_e ?_⟩)
      have egv : ∀ b : Bool, ec_ K (nf_ K V N) i = b → gv_ K V (fun s => kl_ K V s N) (kt_ K V N) (nf_ K V N) i = l ++ (pe_ K V i ++ (if b = true then [69] else [])) := by
        intro b hb
        unfold gv_
        rw [if_pos z, hb, e]
      by_cases hen : en_ K (i + 1)
      · obtain ⟨s, r, es, hsh, hsl⟩ := en_top hw (i := i + 1) (by omega) hen
        have hos : oe_ K s i = true := oe_i.mpr ⟨hen, by rw [es]; rfl⟩
        rw [(f2 i hi).1 s hos]
        refine br_f (nI_pos (by omega)) ⟨vp_in_nI (by omega) (by omega), ?_⟩
        rw [nI_clamp (by omega), f4 s (by omega), f3 s (by omega) hsh]
        have hne := ne_fx hw hcm hS hi hos
        have hneL := (ne_oe hi hos).2
        have hec : ec_ K (nf_ K V N) i = (nf_ K V N s && decide (K (i + 1) ≠ 1 ∧ K (i + 1) ≠ 3)) := by
          unfold ec_; rw [eb_i.mpr hen, es, Bool.true_and]; rfl
        by_cases hm : hm_ K s N = true
        · rw [if_pos hm]
          refine br_f (by decide) ⟨vp_in_nI (by omega) (by omega), ?_⟩
          rw [nI_1 i]
          refine pk_eq (ne_ K s N) i (fun q => zw_w (c := 69) h2 (fun xg3 xT3 h3 => ?_)) (fun q => ?_)
          · have hnf : nf_ K V N s = true := by
              unfold nf_
              rw [hm, Bool.true_and]
              apply decide_eq_true
              have hsi : s < i := by
                rcases Nat.lt_or_ge s i with w1 | w1
                · exact w1
                · exfalso
                  obtain ⟨e', a, b, c⟩ := hm_i.mp hm
                  have h5 := ne_le a b
                  have h6 := (oe_h hw b a).2
                  have : e' = s := by omega
                  rw [this] at c
                  rw [ka_hi] at hsh; omega
              have := (gn_own hw hi hkc hv hos hsi).2
              by_cases w2 : kl_ K V s N = 0
              · omega
              · have hm2 : m1_ (kl_ K V s N) = kl_ K V s N := by unfold m1_; rw [if_neg w2]
                have : s + m1_ (kl_ K V s N) ≤ i := this
                omega
            have := H xg3 xT3 (by
              rw [egv true (by rw [hec, hnf, decide_eq_true (hne.mp q)]; rfl), if_pos rfl, ← List.append_assoc, ← List.append_assoc]; exact h3)
            rw [hm1] at this; exact this
          · have := H xg2 xT2 (by
              rw [egv false (by rw [hec, decide_eq_false (fun z => q (hne.mpr z)), Bool.and_false]), if_neg (by decide), List.append_nil, ← List.append_assoc]; exact h2)
            rw [hm1] at this; exact this
        · rw [if_neg hm]
          refine br_t rfl ?_
          have hnf : nf_ K V N s = false := by
            unfold nf_
            have : hm_ K s N = false := by simpa using hm
            rw [this]; rfl
          have := H xg2 xT2 (by
            rw [egv false (by rw [hec, hnf]; rfl), if_neg (by decide), List.append_nil, ← List.append_assoc]; exact h2)
          rw [hm1] at this
          rw [nI_1]; exact this
      · rw [(f2 i hi).2 hen]
        refine br_t (by decide) ?_
        have := H xg2 xT2 (by
          rw [egv false (by unfold ec_; rw [eb_n.mpr hen]; rfl), if_neg (by decide), List.append_nil, ← List.append_assoc]; exact h2)
        rw [hm1] at this
        rw [nI_1]; exact this
    · refine br_f (nI_nle (by omega) (by omega)) ?_
      have hm1 : m1_ (kl_ K V i N) = kl_ K V i N := by unfold m1_; rw [if_neg z]
      have hkt := (f1 i hi).2 z
      refine zw_w (c := 83) hl (fun xg2 xT2 h2 => ⟨hiv, ?_⟩)
      rw [hkt.1]
      refine zw_n (Or.inl rfl) (by omega) h2 (fun xg3 xT3 h3 => ⟨hiv, ?_⟩)
      rw [hk, nI_add]
      have := H xg3 xT3 (by
        unfold gv_
        rw [if_neg z, ← e, ← List.append_assoc]
        rw [List.append_assoc] at h3
        exact h3)
      rw [hm1] at this; exact this
  have hnfm : hm_ K i N = false → nf_ K V N i = false := by intro q; unfold nf_; rw [q]; rfl
  refine ⟨hiv, ?_⟩
  rw [hc, f4 i hi]
  by_cases hm : hm_ K i N = true
  · rw [if_pos hm]
    refine br_f (by decide) ⟨hiv, hiv, ?_⟩
    obtain ⟨e', a, b, c⟩ := hm_i.mp hm
    have hih := (oe_h hw b a).1
    have hos := oe_s hw hi hih
    have h5 := ne_le hi hos
    have h6 := (ne_oe hi hos).2
    rw [f3 i hi hih, hk, pk_sub h5]
    refine pk_lt (ne_ K i N - i) (kl_ K V i N) (fun q => h32 xg xT [] (by rw [List.append_nil]; exact h) ?_) (fun q => zw_w (c := 78) h (fun xg2 xT2 h2 => h32 xg2 xT2 [78] h2 ?_))
    · have : nf_ K V N i = false := by unfold nf_; rw [hm, decide_eq_false (by omega)]; rfl
      rw [if_neg (by rw [this]; decide)]
    · have : nf_ K V N i = true := by unfold nf_; rw [hm, decide_eq_true (by omega)]; rfl
      rw [if_pos this]
  · have hm' : hm_ K i N = false := by simpa using hm
    rw [if_neg hm]
    refine br_t rfl (h32 xg xT [] (by rw [List.append_nil]; exact h) ?_)
    rw [if_neg (by rw [hnfm hm']; decide)]
theorem zw_mg {post : Int32 → SX → Prop} (hw : wf_ K V N) (hN : N ≤ 48) (hcm : op_ K N = 0) (hS : K N = 11) (hkx : kx_ K V N xK xV) (hox : ox_ K N xO) (F : fin_ K V N xY xN xW xH xk xt) (hs : xs = nI N)
    (H : ∀ (xg' : Int32) (xT' : Nat → Int32), tk_ 256 (mg_ K V N) xg' xT' → post 0 (xo, xb, xl, xs, xg', xu, xd, xc, xe, xp, xf, xz, xK, xV, xO, xT', xS, xA, xY, xN, xW, xk, xt, xH, xn, xq, xy, xF, xZ, xC, xv)) :
    ∀ (d i : Nat) (xg : Int32) (xT : Nat → Int32), i + d = N → tk_ 256 (go_ K V (fun s => kl_ K V s N) (kt_ K V N) (nf_ K V N) i) xg xT → wX_mangle_34 post (d + 1) (nI (gn_ (fun s => kl_ K V s N) i)) (nI i) xo xb xl xs xg xu xd xc xe xp xf xz xK xV xO xT xS xA xY xN xW xk xt xH xn xq xy xF xZ xC xv := by
  have hgb : ∀ i, i ≤ N → gn_ (fun s => kl_ K V s N) i ≤ N := by
    intro i
    induction i with
    | zero => intro _; exact Nat.zero_le _
    | succ i ih =>
      intro hi
      by_cases q : gn_ (fun s => kl_ K V s N) i = i
      · rw [gn_t q]
        by_cases z : kl_ K V i N = 0
        · have : m1_ (kl_ K V i N) = 1 := by unfold m1_; rw [if_pos z]
          rw [this]; exact hi
        · have : m1_ (kl_ K V i N) = kl_ K V i N := by unfold m1_; rw [if_neg z]
          rw [this]; exact (kc_kl hw i (by omega) z).1
      · rw [gn_f q]; exact ih (by omega)
  intro d
  induction d with
  | zero =>
    intro i xg xT hi ht
    have : i = N := by omega
    subst this
    exact br_t (by rw [hs]; exact nI_le (Nat.le_refl _) (by omega)) (H xg xT ht)
  | succ d ih =>
    intro i xg xT hi ht
    refine br_f (by rw [hs]; exact nI_ge (by omega) (by omega)) ?_
    have hb := hgb i (by omega)
    by_cases q : gn_ (fun s => kl_ K V s N) i = i
    · refine br_t (by rw [q]) ?_
      refine zw_nd hw hN hcm hS hkx hox F (by omega) q ht (fun xg2 xT2 h2 => nm_r (nI_1 i) ?_)
      have := ih (i + 1) xg2 xT2 (by omega) (by show tk_ 256 (if _ then _ else _) xg2 xT2; rw [if_pos q]; exact h2)
      rw [gn_t q] at this
      exact this
    · refine br_f (fun z => q ((nI_eq (by omega) (by omega)).mp z).symm) (nm_r (nI_1 i) ?_)
      have := ih (i + 1) xg xT (by omega) (by show tk_ 256 (if _ then _ else _) xg xT; rw [if_neg q]; exact ht)
      rw [gn_f q] at this
      exact this
end
end
section
/-! how many types a list has when it ends -/
def te_ (K : Nat → Nat) (f e : Nat) : Bool := decide (op_ K (e + 1) = f) && (tm_ K e || (eb_ K (e + 1) && decide (K (e + 1) ≠ 1 ∧ K (e + 1) ≠ 3)))
theorem tc_s (K : Nat → Nat) (f e : Nat) : tc_ K f (e + 1) = tc_ K f e + (if te_ K f e = true then 1 else 0) := rfl
theorem te_i {K : Nat → Nat} {f e : Nat} : te_ K f e = true ↔ op_ K (e + 1) = f ∧ ((K e = 4 ∨ (K e = 11 ∧ K (op_ K e) = 9)) ∨ (en_ K (e + 1) ∧ K (e + 1) ≠ 1 ∧ K (e + 1) ≠ 3)) := by
  unfold te_ tm_
  rw [Bool.and_eq_true, Bool.or_eq_true, Bool.and_eq_true, decide_eq_true_iff, decide_eq_true_iff, decide_eq_true_iff, eb_i]
theorem tc_mono {K : Nat → Nat} {f m : Nat} : ∀ {n : Nat}, m ≤ n → tc_ K f m ≤ tc_ K f n := by
  intro n
  induction n with
  | zero => intro h; rw [show m = 0 by omega]; exact Nat.le_refl _
  | succ n ih =>
    intro h
    by_cases z : m = n + 1
    · rw [z]; exact Nat.le_refl _
    · have := ih (by omega)
      rw [tc_s]; omega
theorem tc_no {K : Nat → Nat} {f : Nat} : ∀ {n : Nat}, (∀ e, e < n → te_ K f e = false) → tc_ K f n = 0 := by
  intro n
  induction n with
  | zero => intro _; rfl
  | succ n ih =>
    intro h
    rw [tc_s, ih (fun e he => h e (by omega)), h n (by omega)]; rfl
theorem te_lt {K : Nat → Nat} {f e : Nat} (hf : 0 < f) (h : e < f) : te_ K f e = false := by
  cases q : te_ K f e with
  | false => rfl
  | true =>
    have := (te_i.mp q).1
    have h2 := op_fs (K := K) (i := e + 1) (by omega)
    omega
theorem te_f {K : Nat → Nat} {f : Nat} (hf : ka_f (K f) = true) : te_ K f f = false := by
  cases q : te_ K f f with
  | false => rfl
  | true =>
    have := (te_i.mp q).2
    rw [ka_fi] at hf
    rcases this with z | z
    · omega
    · have := z.1.2; rw [Nat.add_sub_cancel] at this; omega
/-- before END a type is complete, unless the list is empty -/
theorem te_last {K V : Nat → Nat} {n i : Nat} (hw : wf_ K V n) (hi : i < n) (h11 : K i = 11) (hl : op_ K i + 1 < i) : te_ K (op_ K i) (i - 1) = true := by
  obtain ⟨r, ec, hsf, ho, hf, hol⟩ := end_top hw hi h11
  have e1 : i - 1 + 1 = i := by omega
  rw [te_i, e1]
  refine ⟨rfl, ?_⟩
  by_cases hen : en_ K i
  · exact Or.inr ⟨hen, by omega, by omega⟩
  · left
    have hv := (hw (i - 1) (by omega)).1.1
    have hnw : ka_w (K (i - 1)) = false := by
      rcases (si_all hw i (by omega)).2.2 (by omega) with ⟨z, _⟩ | ⟨z, _⟩ | ⟨_, z, _⟩ | ⟨_, z, _⟩
      · rcases ft_c (hw i hi).2 (by omega) with w | w | w | ⟨_, _, _, _, ⟨_, w, _⟩ | ⟨w, _⟩⟩
        · omega
        · omega
        · omega
        · omega
        · exact w
      · exact absurd z hen
      · exact z
      · exact z
    have h3 : ¬ K (i - 1) ≤ 2 := fun z => hen (by rw [← e1]; exact en_1 z)
    rw [ka_wn] at hnw
    by_cases hff : ka_f (K (i - 1)) = true
    · have := op_c1 hff
      rw [e1] at this; omega
    · have hff' := hff
      rw [ka_fi] at hff'
      by_cases h4 : K (i - 1) = 4
      · exact Or.inl h4
      · have hk : K (i - 1) = 11 := by omega
        refine Or.inr ⟨hk, ?_⟩
        obtain ⟨r', ec', hsf', ho', hf', hol'⟩ := end_top hw (e := i - 1) (by omega) hk
        rcases ka_fi.mp hf' with z | z | z
        · exact absurd ((en_e hk).mpr ⟨z, ho'⟩) (by rw [e1]; exact hen)
        · exact z
        · exfalso
          have hs := sk_s11 hk
          rw [ec'] at hs
          have hg := gs_suf (si_all hw (i - 1) (by omega)).1 hsf'
          have hr : r' = [] := by
            rcases hg.2.2 with ⟨q2, _⟩ | ⟨y, r2, q2, q3 | q3⟩
            · exact q2
            · omega
            · exfalso
              rcases q3.1 with w | w | w
              · rw [z] at w; exact absurd w (by decide)
              · rw [z] at w; exact absurd w (by decide)
              · omega
          have e3 : sk_e K (op_ K (i - 1) :: r') = r' := by show (if _ then _ else _) = _; rw [if_neg (by omega)]
          rw [e3, hr, e1] at hs
          have := (si_all hw i (by omega)).2.1
          rw [hs] at this
          have := op_nil (K := K) (i := i) this.symm
          omega
theorem op_rw {K : Nat → Nat} {s : Nat} : ∀ {c : Nat}, s ≤ c → rw_ K s c → op_ K c = op_ K s := by
  intro c
  induction c with
  | zero => intro h _; rw [show s = 0 by omega]
  | succ c ih =>
    intro h hr
    by_cases z : s = c + 1
    · rw [z]
    · have hw := hr c (by omega) (by omega)
      have hk := ka_wi.mp hw
      rw [op_c3 (gs_xor hw).2 (by omega)]
      exact ih (by omega) (fun j a b => hr j a (by omega))
theorem oe_op {K V : Nat → Nat} {n c e : Nat} (hw : wf_ K V n) (he : e < n) (h : oe_ K c e = true) : op_ K (e + 1) = op_ K c := by
  have hh := oe_h hw h he
  have h' := oe_i.mp h
  obtain ⟨t, r, es, ht, _⟩ := en_top hw (i := e + 1) (by omega) h'.1
  have htc : t = c := by have := h'.2; rw [es] at this; exact Option.some.inj this
  subst htc
  have h2 := (sk_at K (e + 1) t r (by rw [es]; exact List.suffix_refl _)).2
  have a := (si_all hw (e + 1) (by omega)).2.1
  have b := (si_all hw (t + 1) (by omega)).2.1
  rw [es] at a
  rw [h2] at b
  have : fs_ K (e + 1) = fs_ K (t + 1) := by rw [← a, b]
  have h3 := ka_hi.mp ht
  rw [← op_c3 (K := K) (i := t) (gs_xoh ht).2 (by omega)]
  show (fs_ K (e + 1)).headD 0 = (fs_ K (t + 1)).headD 0
  rw [this]
/-- the first type of a list, at the list's end -/
theorem ft_type {K V : Nat → Nat} {n i : Nat} (hw : wf_ K V n) (hi : i < n) (h11 : K i = 11) (hl : op_ K i + 1 < i) :
    ∃ c e, op_ K i + 1 ≤ c ∧ rw_ K (op_ K i + 1) c ∧ ce_ K c e ∧ e < i ∧ tc_ K (op_ K i) e = 0 ∧ te_ K (op_ K i) e = true := by
  obtain ⟨r, ec, hsf, ho, hf, hol⟩ := end_top hw hi h11
  generalize hfd : op_ K i = f at *
  have hfs := op_fs (K := K) (i := i) (by rw [hfd]; exact ho)
  rw [hfd] at hfs
  have hopx : op_ K (f + 1) = f := op_c1 hf
  have hnwi : ka_w (K (i - 1)) = false := by
    rcases ft_c (hw i hi).2 (by omega) with w | w | w | ⟨_, _, _, _, ⟨_, w, _⟩ | ⟨w, _⟩⟩
    · omega
    · omega
    · omega
    · omega
    · exact w
  -- the core
  have hcore : ∃ c, f + 1 ≤ c ∧ c < i ∧ rw_ K (f + 1) c ∧ ka_w (K c) = false := by
    have := pk_least (fun c => f + 1 ≤ c ∧ ka_w (K c) = false) ⟨i - 1, by omega, hnwi⟩
    obtain ⟨c, ⟨a, b⟩, d⟩ := this
    refine ⟨c, a, ?_, fun j x y => ?_, b⟩
    · rcases Nat.lt_or_ge c i with z | z
      · exact z
      · exact absurd ⟨by omega, hnwi⟩ (d (i - 1) (by omega))
    · cases q : ka_w (K j) with
      | true => rfl
      | false => exact absurd ⟨x, q⟩ (d j y)
  obtain ⟨c, hc1, hc2, hrw, hcw⟩ := hcore
  have hopc : op_ K c = f := by rw [op_rw hc1 hrw, hopx]
  have hkc : ka_h (K c) = true ∨ K c = 4 ∨ K c = 9 := by
    by_cases z : c = f + 1
    · have hk := ka_fi.mp hf
      have hne : ¬ en_ K (f + 1) := en_n (by omega) (by omega)
      have hv := (hw c (by omega)).1.1
      rw [ka_wn] at hcw
      rw [ka_hi]
      rw [z] at hcw hv ⊢
      rcases ft_c (hw (f + 1) (by omega)).2 (by omega) with w | w | w | ⟨w1, w2, w3, w4, ⟨w5, _⟩ | ⟨_, ⟨w5, w6⟩ | ⟨w5, _⟩⟩⟩
      · exact absurd w.2 hne
      · exact absurd w.2.1 hne
      · exact absurd w.2.2 hne
      · rw [Nat.add_sub_cancel, ka_wi] at w5; omega
      · exfalso
        have := fs_one h11 w5 (by omega) (by rw [hfd, hopx])
        omega
      · omega
    · exact wf_w hw (by omega) (by omega) (hrw (c - 1) (by omega) (by omega)) hcw
  have hno : ∀ e, f + 1 ≤ e → e < c → te_ K f e = false := by
    intro e a b
    cases q : te_ K f e with
    | false => rfl
    | true =>
      exfalso
      have hwk := ka_wi.mp (hrw e a b)
      rcases (te_i.mp q).2 with z | z
      · omega
      · have := z.1.2; rw [Nat.add_sub_cancel] at this; omega
  have hz : ∀ e1, c ≤ e1 → (∀ e, c ≤ e → e < e1 → te_ K f e = false) → tc_ K f e1 = 0 := by
    intro e1 _ h
    refine tc_no (fun e he => ?_)
    rcases Nat.lt_trichotomy e f with z | z | z
    · exact te_lt (by omega) z
    · rw [z]; exact te_f hf
    · rcases Nat.lt_or_ge e c with y | y
      · exact hno e (by omega) y
      · exact h e y he
  rcases hkc with hh | h4 | h9
  · -- a name
    have hosc := oe_s hw (s := c) (by omega) hh
    have hne := ne_oe (m := i) hc2 hosc
    generalize hed : ne_ K c i = e1 at *
    have hce := ne_le (m := i) hc2 hosc
    rw [hed] at hce
    have hclosed : ∀ g, ka_f (K g) = true → f < g → g < i → ∃ m, g < m ∧ m < i ∧ K m = 11 ∧ op_ K m = g := by
      intro g hg hfg hgi
      apply Classical.byContradiction
      intro hcon
      have := fs_open hg hgi (fun m a b d q => hcon ⟨m, a, b, d, q⟩)
      rw [hfs.1] at this
      rcases List.mem_cons.mp this with z | z
      · omega
      · have := fs_mlt z; omega
    have hfx : K (e1 + 1) ≠ 1 ∧ K (e1 + 1) ≠ 3 := by
      have hlast : ∀ e, e < i → oe_ K c e = true → e ≤ e1 := fun e a b => by rw [← hed]; exact ne_le a b
      constructor
      · intro q
        have h1 : e1 + 1 < i := by
          rcases Nat.lt_or_ge (e1 + 1) i with z | z
          · exact z
          · rw [show e1 + 1 = i by omega, h11] at q; omega
        have := hlast _ h1 (oe_1 hne.1 q); omega
      · intro q
        have h1 : e1 + 1 < i := by
          rcases Nat.lt_or_ge (e1 + 1) i with z | z
          · exact z
          · rw [show e1 + 1 = i by omega, h11] at q; omega
        obtain ⟨m, a, b, d, g⟩ := hclosed (e1 + 1) (by rw [q]; rfl) (by omega) h1
        have := hlast m b (oe_3 hw hne.1 q (by omega) d g); omega
    have hop1 : op_ K (e1 + 1) = f := by rw [oe_op hw (by omega) hne.1, hopc]
    refine ⟨c, e1, hc1, hrw, (ce_fx hw (by omega) hh).mpr ⟨hne.1, hfx⟩, hne.2, hz e1 hce (fun e a b => ?_), te_i.mpr ⟨hop1, Or.inr ⟨(oe_i.mp hne.1).1, hfx⟩⟩⟩
    cases q : te_ K f e with
    | false => rfl
    | true =>
      exfalso
      have hq := te_i.mp q
      have hin := sk_hm (oe_i.mp hne.1).2
      rcases hq.2 with z | ⟨z1, z2⟩
      · have hm : c ∈ sk_ K (e + 1) := sk_keep hin (by omega) (by omega)
        have hnen : ¬ en_ K (e + 1) := by
          intro w
          have := en_ne hw (by omega) w
          omega
        rcases (si_all hw (e + 1) (by omega)).2.2 (by omega) with ⟨w, _⟩ | ⟨w, _⟩ | ⟨_, _, _, r2, w⟩ | ⟨_, _, w, _⟩
        · rw [Nat.add_sub_cancel, ka_wi] at w; omega
        · exact absurd w hnen
        · have hg := gs_pw (si_all hw (e + 1) (by omega)).1
          rw [w, hq.1] at hg
          rw [w, hq.1] at hm
          rcases List.mem_cons.mp hm with y | y
          · omega
          · have := (List.pairwise_cons.mp hg).1 c y; omega
        · omega
      · have hm : c ∈ sk_ K (e + 2) := sk_keep hin (by omega) (by omega)
        obtain ⟨t, r2, es, ht, _⟩ := en_top hw (i := e + 1) (by omega) z1
        rcases en_op hw (i := e + 1) (by omega) es ht with ⟨_, _, w⟩ | ⟨_, _, r3, _, w, _⟩
        · omega
        · have hg := gs_pw (gs_suf (si_all hw (e + 1) (by omega)).1 (sk_c_suf K (sk_ K (e + 1))))
          rw [w, hq.1] at hg
          have hall : ∀ y, y ∈ sk_c K (sk_ K (e + 1)) → y ≤ f := by
            intro y hy
            rw [w, hq.1] at hy
            rcases List.mem_cons.mp hy with x | x
            · omega
            · have := (List.pairwise_cons.mp hg).1 y x; omega
          have e2 : sk_ K (e + 2) = sk_s K (e + 1) (sk_ K (e + 1)) := rfl
          rw [e2] at hm
          unfold sk_s at hm
          rw [if_neg z2.1, if_neg z2.2] at hm
          by_cases g4 : K (e + 1) = 4
          · rw [if_pos g4] at hm; have := hall c ((sk_w_suf K _).subset hm); omega
          rw [if_neg g4] at hm
          by_cases g11 : K (e + 1) = 11
          · rw [if_pos g11] at hm; have := hall c ((sk_e_suf K _).subset hm); omega
          rw [if_neg g11] at hm
          rcases List.mem_cons.mp hm with x | x
          · omega
          · have := hall c x; omega
  · -- BUILTIN
    refine ⟨c, c, hc1, hrw, Or.inl ⟨h4, rfl⟩, hc2, hz c (Nat.le_refl _) (fun e a b => by omega), te_i.mpr ⟨?_, Or.inl (Or.inl h4)⟩⟩
    rw [op_c3 (by rw [h4]; rfl) (by omega), hopc]
  · -- FUNC
    have hcf : ka_f (K c) = true := by rw [h9]; rfl
    have : ∃ m, c < m ∧ m < i ∧ K m = 11 ∧ op_ K m = c := by
      apply Classical.byContradiction
      intro hcon
      have := fs_open hcf hc2 (fun m a b d q => hcon ⟨m, a, b, d, q⟩)
      rw [hfs.1] at this
      rcases List.mem_cons.mp this with z | z
      · omega
      · have := fs_mlt z; omega
    obtain ⟨m, a, b, d, g⟩ := this
    refine ⟨c, m, hc1, hrw, Or.inr (Or.inl ⟨h9, d, g⟩), b, hz m (by omega) (fun e x y => ?_), te_i.mpr ⟨?_, Or.inl (Or.inr ⟨d, by rw [g]; exact h9⟩)⟩⟩
    · cases q : te_ K f e with
      | false => rfl
      | true =>
        exfalso
        have hq := (te_i.mp q).1
        have hin : c ∈ fs_ K (e + 1) := fs_open hcf (by omega) (fun m' p1 p2 p3 p4 => by
          have := fs_one p3 d (by omega) (by rw [p4, g]); omega)
        have := op_fs (K := K) (i := e + 1) (by rw [hq]; exact ho)
        rw [this.1, hq] at hin
        rcases List.mem_cons.mp hin with z | z
        · omega
        · have := fs_mlt z; omega
    · rw [op_c2 d (by rw [g]; omega), g, hopc]
/-- the empty list and the list with its result alone -/
theorem tc_e0 {K V : Nat → Nat} {n i : Nat} (hw : wf_ K V n) (hi : i < n) (h11 : K i = 11) : tc_ K (op_ K i) i = 0 ↔ op_ K i + 1 = i := by
  obtain ⟨r, ec, hsf, ho, hf, hol⟩ := end_top hw hi h11
  constructor
  · intro h
    apply Classical.byContradiction
    intro q
    have := te_last hw hi h11 (by omega)
    have h2 := tc_s K (op_ K i) (i - 1)
    rw [if_pos this, show i - 1 + 1 = i by omega] at h2
    omega
  · intro h
    refine tc_no (fun e he => ?_)
    rcases Nat.lt_or_ge e (op_ K i) with z | z
    · exact te_lt (by omega) z
    · rw [show e = op_ K i by omega]; exact te_f hf
theorem tc_e1 {K V : Nat → Nat} {n i c e : Nat} (hw : wf_ K V n) (hi : i < n) (h11 : K i = 11) (hl : op_ K i + 1 < i) (hc : op_ K i + 1 ≤ c) (hr : rw_ K (op_ K i + 1) c) (hce : ce_ K c e) (he : e < n) : e + 1 = i ↔ tc_ K (op_ K i) i = 1 := by
  obtain ⟨c1, e1, a, b, d, g, h0, h1⟩ := ft_type hw hi h11 hl
  have hcc := rw_un hr b hc a (ce_nw hce) (ce_nw d)
  subst hcc
  have hee := ce_un hw he (by omega) hce d
  subst hee
  have h2 := tc_s K (op_ K i) e
  rw [h0, if_pos h1] at h2
  constructor
  · intro q
    have h6 : tc_ K (op_ K i) i = tc_ K (op_ K i) (e + 1) := by rw [q]
    omega
  · intro q
    apply Classical.byContradiction
    intro hne
    have h3 := te_last hw hi h11 hl
    have h4 := tc_s K (op_ K i) (i - 1)
    rw [if_pos h3, show i - 1 + 1 = i by omega] at h4
    have h5 := tc_mono (K := K) (f := op_ K i) (show e + 1 ≤ i - 1 by omega)
    omega
end
section
/-! Y: what is written -/
section
variable {yl ys yg yo yc : Int32} {yK yV yA yB yT yO yF yZ yC yS : Nat → Int32}
variable {K V : Nat → Nat} {N : Nat}
theorem zv_w {post : SY → Prop} {w : List Nat} {c : Nat} (h : tk_ 512 w yo yO) (H : ∀ (yo' : Int32) (yO' : Nat → Int32), tk_ 512 (w ++ [c]) yo' yO' → post (yl, ys, yg, yo', yc, yK, yV, yA, yB, yT, yO', yF, yZ, yC, yS)) : wpY_emit post (yl, ys, yg, yo, yc, yK, yV, yA, yB, yT, yO, yF, yZ, yC, yS) (nI c) := by
  have hl := tk_len h (by omega)
  by_cases q : 512 ≤ w.length
  · exact br_t (hl.1 q) (H yo yO (tk_full h q))
  · have hp := tk_put (c := c) h (by omega)
    refine br_f (hl.2 (by omega)) ⟨by rw [hp.1]; exact vp_in_nI (by omega) (by omega), nm_r (e' := upd yO w.length (nI c)) (by rw [hp.1, nI_clamp (by omega)]) (nm_r (e' := nI (w.length + 1)) (by rw [hp.1, nI_1]) (H _ _ hp.2))⟩
theorem zv_d {post : SY → Prop} {w : List Nat} {d : Nat} (hd : d < 2 ^ 20) (h : tk_ 512 w yo yO) (H : ∀ (yo' : Int32) (yO' : Nat → Int32), tk_ 512 (w ++ [dg_ d]) yo' yO' → post (yl, ys, yg, yo', yc, yK, yV, yA, yB, yT, yO', yF, yZ, yC, yS)) : wpY_digit post (yl, ys, yg, yo, yc, yK, yV, yA, yB, yT, yO, yF, yZ, yC, yS) (nI d) := by
  refine pk_le 10 d (fun q => ?_) (fun q => ?_)
  · rw [dg_65 q hd]; exact zv_w h H
  · rw [dg_48 q]; exact zv_w h H
theorem zv_n {post : SY → Prop} {w : List Nat} {v b : Nat} (hb : b = 36 ∨ b = 10) (hv : v < 2 ^ 20) (h : tk_ 512 w yo yO) (H : ∀ (yo' : Int32) (yO' : Nat → Int32), tk_ 512 (w ++ nu_ v b) yo' yO' → post (yl, ys, yg, yo', yc, yK, yV, yA, yB, yT, yO', yF, yZ, yC, yS)) : wpY_writeNumber post (yl, ys, yg, yo, yc, yK, yV, yA, yB, yT, yO, yF, yZ, yC, yS) (nI v) (nI b) := by
  have hdiv : (nI v - 1) / nI b = nI ((v - 1) / b) := by
    cases v with
    | zero => rcases hb with e | e <;> subst e <;> decide
    | succ v => rw [nI_pred, pk_div (by omega) (by omega) (by omega), Nat.add_sub_cancel]
  have hd36 : (v - 1) / b < 2 ^ 20 := Nat.lt_of_le_of_lt (Nat.div_le_self _ _) (by omega)
  have h46 : ∀ (yo' : Int32) (yO' : Nat → Int32) (l : List Nat), tk_ 512 (w ++ l) yo' yO' → nu_ v b = l ++ [95] → wY_writeNumber_50 post yl ys yg yo' yc yK yV yA yB yT yO' yF yZ yC yS := by
    intro yo' yO' l hl e
    refine zv_w (w := w ++ l) (c := 95) hl (fun yo2 yO2 h2 => H yo2 yO2 ?_)
    rw [e, ← List.append_assoc]; exact h2
  have h31 : ∀ (yo' : Int32) (yO' : Nat → Int32) (l : List Nat), tk_ 512 (w ++ l) yo' yO' → (l = if v = 0 ∨ (v - 1) / b = 0 then [] else [dg_ ((v - 1) / b)]) → wY_writeNumber_35 post (nI v) (nI b) (nI ((v - 1) / b)) yl ys yg yo' yc yK yV yA yB yT yO' yF yZ yC yS := by
    intro yo' yO' l hl el
    by_cases q : v = 0
    · subst q
      rw [if_pos (Or.inl rfl)] at el
      exact br_t (by decide) (h46 yo' yO' l hl (by rw [el]; rfl))
    · refine br_f (nI_nle (by omega) (by omega)) ?_
      have e3 : (nI v - 1) - (nI ((v - 1) / b) * nI b) = nI ((v - 1) % b) := by
        obtain ⟨u, rfl⟩ : ∃ u, v = u + 1 := ⟨v - 1, by omega⟩
        rw [nI_pred, Nat.add_sub_cancel, ← pk_div (by omega) (by omega) (by omega)]
        exact pk_rem (by omega) (by omega) (by omega)
      rw [e3]
      have hmod : (v - 1) % b < 2 ^ 20 := Nat.lt_of_le_of_lt (Nat.mod_le _ _) (by omega)
      refine zv_d hmod hl (fun yo2 yO2 h2 => h46 yo2 yO2 (l ++ [dg_ ((v - 1) % b)]) (by rw [← List.append_assoc]; exact h2) ?_)
      unfold nu_
      rw [if_neg q, el]
      by_cases q2 : (v - 1) / b = 0
      · rw [if_pos q2, if_pos (Or.inr q2)]
      · rw [if_neg q2, if_neg (fun z => z.elim q q2)]
  have h21 : wY_writeNumber_21 post (nI v) (nI b) (nI ((v - 1) / b)) yl ys yg yo yc yK yV yA yB yT yO yF yZ yC yS := by
    by_cases q : v = 0
    · refine br_t (by rw [q]; decide) (h31 yo yO [] (by rw [List.append_nil]; exact h) (by rw [if_pos (Or.inl q)]))
    refine br_f (nI_nle (by omega) (by omega)) ?_
    by_cases q2 : (v - 1) / b = 0
    · refine br_t (by rw [q2]; decide) (h31 yo yO [] (by rw [List.append_nil]; exact h) (by rw [if_pos (Or.inr q2)]))
    · refine br_f (nI_nle (Nat.pos_of_ne_zero q2) (Nat.lt_trans hd36 (by decide))) (zv_d hd36 h (fun yo2 yO2 h2 => h31 yo2 yO2 _ h2 ?_))
      rw [if_neg (fun z => z.elim q q2)]
  rcases hb with e | e
  · subst e
    refine br_t rfl ⟨by decide, ?_⟩
    have := h21
    rw [← hdiv] at this
    exact this
  · subst e
    refine br_f (by decide) ⟨by decide, ?_⟩
    have := h21
    rw [← hdiv] at this
    exact this
theorem zv_e {post : SY → Prop} {w : List Nat} {i : Nat} (hw : wf_ K V N) (hN : N ≤ 48) (hs : ys = nI N) (hkx : kx_ K V N yK yV) (hS : K N = 11) (hi : i < N) (h11 : K i = 11)
    (h : tk_ 512 w yo yO) (H : ∀ (yo' : Int32) (yO' : Nat → Int32), tk_ 512 (w ++ pn_ K i) yo' yO' → post (yl, ys, yg, yo', yc, yK, yV, yA, yB, yT, yO', yF, yZ, yC, yS)) : wpY_finish post (yl, ys, yg, yo, yc, yK, yV, yA, yB, yT, yO, yF, yZ, yC, yS) (nI i) := by
  obtain ⟨r, _, _, ho, hf, hol⟩ := end_top hw hi h11
  have h0 := wf_0 hw (by omega)
  have hv : vp_in (nI (op_ K i)) 64 := vp_in_nI (by omega) (by omega)
  have hc : (nI (op_ K i)).toNatClampNeg = op_ K i := nI_clamp (by omega)
  have hk := hkx (op_ K i) (by omega)
  have hK := hk.2.2.1
  have hk1 := hkx (op_ K i - 1) (by omega)
  have hp : nI (op_ K i) - 1 = nI (op_ K i - 1) := pk_sub (b := 1) (by omega)
  have hv1 : vp_in (nI (op_ K i - 1)) 64 := vp_in_nI (by omega) (by omega)
  have hkf := ka_fi.mp hf
  have h84 : ∀ (yo' : Int32) (yO' : Nat → Int32) (l : List Nat), tk_ 512 (w ++ l) yo' yO' → pn_ K i = l ++ (if K (op_ K i) = 10 then [] else [69]) → wY_finish_84 post (nI (op_ K i)) yl ys yg yo' yc yK yV yA yB yT yO' yF yZ yC yS := by
    intro yo' yO' l hl e
    refine br_f (nI_pos (by omega)) ⟨hv, ?_⟩
    rw [hc, hk.1]
    refine pk_eq (K (op_ K i)) 10 (fun q => H yo' yO' ?_) (fun q => zv_w (c := 69) hl (fun xg2 xT2 h2 => H xg2 xT2 ?_))
    · rw [e, if_pos q, List.append_nil]; exact hl
    · rw [e, if_neg q, ← List.append_assoc]; exact h2
  have h70 : ∀ z : Nat, z < 2 ^ 20 → (z = i ↔ (K (op_ K i) ≠ 3 ∧ tc_ K (op_ K i) i = rc_ K (op_ K i))) → wY_finish_70 post (nI i) (nI (op_ K i)) (nI z) yl ys yg yo yc yK yV yA yB yT yO yF yZ yC yS := by
    intro z hz hiff
    refine pk_eq z i (fun q => zv_w (c := 118) h (fun yo2 yO2 h2 => h84 yo2 yO2 [118] h2 ?_)) (fun q => h84 yo yO [] (by rw [List.append_nil]; exact h) ?_)
    · unfold pn_; rw [if_pos (hiff.mp q)]
    · unfold pn_; rw [if_neg (fun x => q (hiff.mpr x))]
  have heg : op_ K i + 1 < i ∨ (K (op_ K i) = 10 ∧ K (op_ K i - 1) ≠ 11) := by
    rcases ft_c (hw i hi).2 (by omega) with z | z | z | ⟨_, _, _, _, ⟨_, z, _⟩ | ⟨_, ⟨_, z⟩ | ⟨z, _⟩⟩⟩
    · omega
    · omega
    · omega
    · omega
    · rcases z with z | z
      · exact Or.inl (by omega)
      · exact Or.inr z
    · omega
  have h49 : (K (op_ K i) = 3 ∨ (K (op_ K i) = 10 ∧ K (op_ K i - 1) ≠ 11)) → wY_finish_49 post (nI i) (nI (op_ K i)) yl ys yg yo yc yK yV yA yB yT yO yF yZ yC yS := by
    intro q
    refine br_t rfl ?_
    rw [nI_1]
    refine h70 _ (by omega) ?_
    have hrc : rc_ K (op_ K i) = 0 := by unfold rc_; rw [if_neg (by omega)]
    rw [hrc, tc_e0 hw hi h11]
    constructor
    · intro z; exact ⟨by omega, z⟩
    · intro z; exact z.2
  have h45 : (K (op_ K i) = 9 ∨ (K (op_ K i) = 10 ∧ K (op_ K i - 1) = 11)) → wY_finish_45 post (nI i) (nI (op_ K i)) yl ys yg yo yc yK yV yA yB yT yO yF yZ yC yS := by
    intro q
    have hl : op_ K i + 1 < i := by omega
    have hrc : rc_ K (op_ K i) = 1 := by unfold rc_; rw [if_pos q]
    refine br_f (by decide) ?_
    rw [nI_1]
    obtain ⟨c1, e1, a, b, d, g, _, _⟩ := ft_type hw hi h11 hl
    have hkind : ka_h (K (op_ K i + 1)) = true ∨ ka_w (K (op_ K i + 1)) = true ∨ K (op_ K i + 1) = 4 ∨ K (op_ K i + 1) = 9 := by
      by_cases z : op_ K i + 1 = c1
      · rw [z]
        rcases d with ⟨d1, _⟩ | ⟨d1, _⟩ | ⟨d1, _⟩
        · exact Or.inr (Or.inr (Or.inl d1))
        · exact Or.inr (Or.inr (Or.inr d1))
        · exact Or.inl d1
      · exact Or.inr (Or.inl (b _ (Nat.le_refl _) (by omega)))
    refine zy_end hw hN hs hkx hS (by omega) hkind (fun c e x y z he => ?_) (fun hno => absurd (by omega) (hno c1 e1 a b d))
    rw [nI_1]
    refine h70 _ (by omega) ?_
    rw [hrc, tc_e1 hw hi h11 hl x y z he]
    constructor
    · intro t; exact ⟨by omega, t⟩
    · intro t; exact t.2
  unfold wpY_finish
  refine zy_op h0 hN hkx (by omega) ?_
  rw [zI_p ho]
  refine br_f (nI_nle (by omega) (by omega)) ⟨hv, ?_⟩
  rw [hc, hk.1]
  refine pk_eq (K (op_ K i)) 9 (fun q => h45 (Or.inl q)) (fun q => ⟨hv, pk_eq (K (op_ K i)) 10 (fun q2 => ?_) (fun q2 => h49 (by omega))⟩)
  rw [hp]
  refine ⟨hv1, ?_⟩
  rw [nI_clamp (by omega), hk1.1]
  exact pk_eq (K (op_ K i - 1)) 11 (fun q3 => h45 (Or.inr ⟨q2, q3⟩)) (fun q3 => h49 (Or.inr ⟨q2, q3⟩)) (ha := by have := hk1.2.2.1; omega)
theorem zv_l {post : Int32 → Prop} {v : Nat} (hv : v < 8) (h : post (nI (lb_ v))) : wpY_letter post (yl, ys, yg, yo, yc, yK, yV, yA, yB, yT, yO, yF, yZ, yC, yS) (nI v) := by
  unfold lb_ at h
  refine pk_eq v 0 (fun q => ?_) (fun q0 => pk_eq v 1 (fun q => ?_) (fun q1 => pk_eq v 2 (fun q => ?_) (fun q2 => pk_eq v 3 (fun q => ?_) (fun q3 => pk_eq v 4 (fun q => ?_) (fun q4 => pk_eq v 5 (fun q => ?_) (fun q5 => pk_eq v 6 (fun q => ?_) (fun q6 => ?_)))))))
  · rw [if_pos q] at h; exact h
  · rw [if_neg q0, if_pos q] at h; exact h
  · rw [if_neg q0, if_neg q1, if_pos q] at h; exact h
  · rw [if_neg q0, if_neg q1, if_neg q2, if_pos q] at h; exact h
  · rw [if_neg q0, if_neg q1, if_neg q2, if_neg q3, if_pos q] at h; exact h
  · rw [if_neg q0, if_neg q1, if_neg q2, if_neg q3, if_neg q4, if_pos q] at h; exact h
  · rw [if_neg q0, if_neg q1, if_neg q2, if_neg q3, if_neg q4, if_neg q5, if_pos q] at h; exact h
  · rw [if_neg q0, if_neg q1, if_neg q2, if_neg q3, if_neg q4, if_neg q5, if_neg q6] at h; exact h
theorem zv_p {post : SY → Prop} {w : List Nat} {i : Nat} (hw : wf_ K V N) (hN : N ≤ 48) (hs : ys = nI N) (hkx : kx_ K V N yK yV) (hS : K N = 11) (hi : i < N)
    (h : tk_ 512 w yo yO) (H : ∀ (yo' : Int32) (yO' : Nat → Int32), tk_ 512 (w ++ pe_ K V i) yo' yO' → post (yl, ys, yg, yo', yc, yK, yV, yA, yB, yT, yO', yF, yZ, yC, yS)) : wpY_piece post (yl, ys, yg, yo, yc, yK, yV, yA, yB, yT, yO, yF, yZ, yC, yS) (nI i) := by
  have hv : vp_in (nI i) 64 := vp_in_nI (by omega) (by omega)
  have hc : (nI i).toNatClampNeg = i := nI_clamp (by omega)
  have hk := hkx i hi
  have hK := hk.2.2.1
  have hV7 := hk.2.2.2
  have hV := (hw i hi).1.2.1
  have e26 : (26 : Int32) = nI 26 := rfl
  have e97 : (97 : Int32) = nI 97 := rfl
  have h46 : (26 ≤ V i ∨ 1 < K i) → wY_piece_46 post (nI i) (nI (K i)) (nI (V i)) yl ys yg yo yc yK yV yA yB yT yO yF yZ yC yS := by
    intro hbig
    have h55 : K i ≤ 1 → wY_piece_55 post (nI (V i)) yl ys yg yo yc yK yV yA yB yT yO yF yZ yC yS := by
      intro q
      have hb : 26 ≤ V i := by omega
      refine zv_w (c := 50) h (fun yo2 yO2 h2 => ⟨by decide, ?_⟩)
      rw [e26, pk_sub hb, pk_rem (a := V i - 26) (d := 26) (by omega) (by omega) (by omega), pk_div (a := V i - 26) (d := 26) (by omega) (by omega) (by omega), e97, nI_add, nI_add]
      refine zv_w h2 (fun yo3 yO3 h3 => ⟨by decide, zv_w h3 (fun yo4 yO4 h4 => H yo4 yO4 ?_)⟩)
      unfold pe_ id_
      rw [if_pos q, if_neg (by omega)]
      have e1 : 97 + (V i - 26) / 26 = 97 + V i / 26 - 1 := by omega
      have e2 : 97 + (V i - 26) % 26 = 97 + V i % 26 := by omega
      rw [e1, e2, List.append_assoc, List.append_assoc] at h4
      exact h4
    refine pk_eq (K i) 0 (fun q => h55 (by omega)) (fun q0 => pk_eq (K i) 1 (fun q => h55 (by omega)) (fun q1 => pk_eq (K i) 2 (fun q => ?_) (fun q2 => pk_eq (K i) 4 (fun q => ?_) (fun q4 => pk_eq (K i) 8 (fun q => ?_) (fun q8 => pk_eq (K i) 11 (fun q => ?_) (fun q11 => pk_eq (K i) 10 (fun q => ?_) (fun q10 => ?_)))))))
    · refine zv_w (c := 84) h (fun yo2 yO2 h2 => zv_n (Or.inr rfl) (by omega) h2 (fun yo3 yO3 h3 => H yo3 yO3 ?_))
      rw [List.append_assoc] at h3
      unfold pe_; rw [if_neg (by omega), if_neg (by omega), if_neg (by omega), if_pos q]; exact h3
    · have hV8 : V i < 8 := by rw [q] at hV; exact Nat.lt_succ_of_le hV
      refine zv_l hV8 (zv_w h (fun yo2 yO2 h2 => H yo2 yO2 ?_))
      unfold pe_; rw [if_neg (by omega), if_neg (by omega), if_neg (by omega), if_neg q2, if_neg (by omega), if_pos q]; exact h2
    · have hV8 : V i < 8 := by rw [q] at hV; exact Nat.lt_succ_of_le hV
      have hpe : pe_ K V i = ql_ (V i) := by unfold pe_; rw [if_neg (by omega), if_pos q]
      rw [hpe] at H
      have h24 : ∀ (yo' : Int32) (yO' : Nat → Int32) (l : List Nat), tk_ 512 (w ++ l) yo' yO' → ql_ (V i) = l ++ (if V i % 2 = 0 then [] else [75]) → wY_piece_164 post (nI (V i)) yl ys yg yo' yc yK yV yA yB yT yO' yF yZ yC yS := by
        intro yo' yO' l hl e
        by_cases q : V i % 2 = 0
        · refine br_t ((lz_1 _ hV8).mpr q) (H yo' yO' ?_)
          rw [e, if_pos q, List.append_nil]; exact hl
        · refine br_f (fun z => q ((lz_1 _ hV8).mp z)) (zv_w (c := 75) hl (fun xg2 xT2 h2 => H xg2 xT2 ?_))
          rw [e, if_neg q, ← List.append_assoc]; exact h2
      have h12 : ∀ (yo' : Int32) (yO' : Nat → Int32) (l : List Nat), tk_ 512 (w ++ l) yo' yO' → l = (if V i / 4 % 2 = 0 then [] else [114]) → wY_piece_152 post (nI (V i)) yl ys yg yo' yc yK yV yA yB yT yO' yF yZ yC yS := by
        intro yo' yO' l hl e
        by_cases q : V i / 2 % 2 = 0
        · refine br_t ((lz_2 _ hV8).mpr q) (h24 yo' yO' l hl ?_)
          unfold ql_; rw [if_pos q, e]; rfl
        · refine br_f (fun z => q ((lz_2 _ hV8).mp z)) (zv_w (c := 86) hl (fun xg2 xT2 h2 => h24 xg2 xT2 (l ++ [86]) (by rw [← List.append_assoc]; exact h2) ?_))
          unfold ql_; rw [if_neg q, e, List.append_assoc]
      by_cases q : V i / 4 % 2 = 0
      · exact br_t ((lz_4 _ hV8).mpr q) (h12 yo yO [] (by rw [List.append_nil]; exact h) (by rw [if_pos q]))
      · exact br_f (fun z => q ((lz_4 _ hV8).mp z)) (zv_w (c := 114) h (fun xg2 xT2 h2 => h12 xg2 xT2 [114] h2 (by rw [if_neg q])))
    · refine zv_e hw hN hs hkx hS hi q h (fun xg2 xT2 h2 => H xg2 xT2 ?_)
      unfold pe_; rw [if_neg (by omega), if_neg q8, if_pos q]; exact h2
    · refine H yo yO ?_
      unfold pe_; rw [if_neg (by omega), if_neg q8, if_neg q11, if_neg q2, if_pos q, List.append_nil]; exact h
    · have hpe : ∀ c, ol_ (K i) = c → tk_ 512 (w ++ [c]) = tk_ 512 (w ++ pe_ K V i) := by
        intro c hc'
        unfold pe_; rw [if_neg (by omega), if_neg q8, if_neg q11, if_neg q2, if_neg q10, if_neg q4, hc']
      have go : ∀ c, ol_ (K i) = c → wY_piece_244 post (nI c) yl ys yg yo yc yK yV yA yB yT yO yF yZ yC yS := fun c hc' => zv_w h (fun yo2 yO2 h2 => H yo2 yO2 (by rw [← hpe c hc']; exact h2))
      refine pk_eq (K i) 3 (fun q => go 73 (by rw [q]; rfl)) (fun q3 => pk_eq (K i) 5 (fun q => go 80 (by rw [q]; rfl)) (fun q5 => pk_eq (K i) 6 (fun q => go 82 (by rw [q]; rfl)) (fun q6 => pk_eq (K i) 7 (fun q => go 79 (by rw [q]; rfl)) (fun q7 => go 70 ?_))))
      unfold ol_; rw [if_neg q3, if_neg q5, if_neg q6, if_neg q7]
  have h23 : K i ≤ 1 → wY_piece_23 post (nI i) (nI (K i)) (nI (V i)) yl ys yg yo yc yK yV yA yB yT yO yF yZ yC yS := by
    intro q
    refine pk_le 26 (V i) (fun z => h46 (Or.inl z)) (fun z => zv_w (c := 49) h (fun yo2 yO2 h2 => ?_))
    rw [e97, nI_add]
    refine zv_w h2 (fun yo3 yO3 h3 => H yo3 yO3 ?_)
    unfold pe_ id_
    rw [if_pos q, if_pos z]
    rw [List.append_assoc] at h3
    exact h3
  refine ⟨hv, nm_r (e' := nI (K i)) (by rw [hc]; exact hk.1) ⟨hv, nm_r (e' := nI (V i)) (by rw [hc]; exact hk.2.1) ?_⟩⟩
  exact pk_eq (K i) 0 (fun q => h23 (by omega)) (fun q0 => pk_eq (K i) 1 (fun q => h23 (by omega)) (fun q1 => h46 (Or.inr (by omega))))
end
end
section
/-! Y: knownEnd, nested, symbol -/
theorem kl_eq {K V : Nat → Nat} {s p : Nat} : ∀ {m : Nat}, p < m → s ∈ pp_ K p → kw_ K V (tb_ K V p) s p = true → (∀ e, p < e → e < m → ¬ (s ∈ pp_ K e ∧ kw_ K V (tb_ K V e) s e = true)) → kl_ K V s m = p + 1 - s := by
  intro m
  induction m with
  | zero => intro h; omega
  | succ m ih =>
    intro hp h1 h2 h3
    show (if _ then _ else _) = _
    by_cases z : p = m
    · subst z
      rw [if_pos (by rw [Bool.and_eq_true, decide_eq_true_iff]; exact ⟨h1, h2⟩)]
    · rw [if_neg (by rw [Bool.and_eq_true, decide_eq_true_iff]; exact h3 m (by omega) (by omega))]
      exact ih (by omega) h1 h2 (fun e a b => h3 e a (by omega))
theorem kl_z {K V : Nat → Nat} {s : Nat} : ∀ {m : Nat}, (∀ e, e < m → ¬ (s ∈ pp_ K e ∧ kw_ K V (tb_ K V e) s e = true)) → kl_ K V s m = 0 := by
  intro m
  induction m with
  | zero => intro _; rfl
  | succ m ih =>
    intro h
    show (if _ then _ else _) = _
    rw [if_neg (by rw [Bool.and_eq_true, decide_eq_true_iff]; exact h m (by omega))]
    exact ih (fun e he => h e (by omega))
/-- known: an equal entry that begins before -/
theorem kw_first {K V : Nat → Nat} {n s p k : Nat} {q : Nat × Nat} (hw : wf_ K V n) (hp : p < n) (hs : s ≤ p) (hk : (tb_ K V n)[k]? = some q) (he : sg_ K V q.1 q.2 = sg_ K V s (p + 1 - s)) : kw_ K V (tb_ K V p) s p = true ↔ q.1 < s := by
  have hz : q.2 = p + 1 - s := sg_n he
  constructor
  · intro h
    obtain ⟨x, a, b⟩ := kw_i.mp h
    have hx : x ∈ tb_ K V n := (tb_pre (show p ≤ n by omega)).subset a
    obtain ⟨e', s', c1, c2, c3, c4⟩ := tb_mem hw (by omega) a
    have hxq : x = q := by
      obtain ⟨j, hj, ej⟩ := List.getElem_of_mem hx
      obtain ⟨hkl, hke⟩ := List.getElem?_eq_some_iff.mp hk
      have hpw := tb_pw K V n
      rcases Nat.lt_trichotomy j k with z | z | z
      · have := List.pairwise_iff_getElem.mp hpw j k hj hkl z
        rw [ej, hke] at this
        exact absurd (b.trans he.symm) this
      · subst z; rw [← ej, hke]
      · have := List.pairwise_iff_getElem.mp hpw k j hkl hj z
        rw [ej, hke] at this
        exact absurd (he.trans b.symm) this
    rw [hxq] at c3
    rw [c3] at hz ⊢
    simp at hz ⊢
    omega
  · intro h
    have hm : q ∈ tb_ K V p := tb_old hw (i := n) (Nat.le_refl _) (List.mem_of_getElem? hk) (by omega)
    exact kw_i.mpr ⟨q, hm, he⟩
def cz_ (K V : Nat → Nat) (n i e : Nat) : Bool := (List.range i).any (fun s => decide (gn_ (fun s => kl_ K V s n) s = s) && (nf_ K V n s && decide (ne_ K s n = e)))
theorem cz_i {K V : Nat → Nat} {n i e : Nat} : cz_ K V n i e = true ↔ ∃ s, s < i ∧ gn_ (fun s => kl_ K V s n) s = s ∧ nf_ K V n s = true ∧ ne_ K s n = e := by
  unfold cz_
  rw [List.any_eq_true]
  constructor
  · rintro ⟨s, a, b⟩
    rw [Bool.and_eq_true, Bool.and_eq_true, decide_eq_true_iff, decide_eq_true_iff] at b
    exact ⟨s, List.mem_range.mp a, b⟩
  · rintro ⟨s, a, b⟩
    refine ⟨s, List.mem_range.mpr a, ?_⟩
    rw [Bool.and_eq_true, Bool.and_eq_true, decide_eq_true_iff, decide_eq_true_iff]
    exact b
theorem cz_s {K V : Nat → Nat} {n i e : Nat} : cz_ K V n (i + 1) e = (cz_ K V n i e || (decide (gn_ (fun s => kl_ K V s n) i = i) && (nf_ K V n i && decide (ne_ K i n = e)))) := by
  unfold cz_; rw [List.range_succ, List.any_append]; simp
theorem nf_h {K V : Nat → Nat} {n s : Nat} (hw : wf_ K V n) (h : nf_ K V n s = true) : ka_h (K s) = true ∧ s < ne_ K s n ∧ kl_ K V s n + s ≤ ne_ K s n ∧ ne_ K s n < n ∧ oe_ K s (ne_ K s n) = true := by
  unfold nf_ at h
  rw [Bool.and_eq_true, decide_eq_true_iff] at h
  obtain ⟨e, a, b, c⟩ := hm_i.mp h.1
  have h1 := oe_h hw b a
  have h2 := ne_le a b
  have h3 := ne_oe a b
  refine ⟨h1.1, ?_, h.2, h3.2, h3.1⟩
  have : e ≠ s := by
    intro z
    rw [z] at c
    have := ka_hi.mp h1.1
    omega
  omega
/-- the E of a name -/
theorem cz_e {K V : Nat → Nat} {n i : Nat} (hw : wf_ K V n) (hc : op_ K n = 0) (hS : K n = 11) (hi : i < n) : cz_ K V n (i + 1) i = (decide (gn_ (fun s => kl_ K V s n) i = i ∧ kl_ K V i n = 0) && ec_ K (nf_ K V n) i) := by
  have hkc := kc_kl hw
  rw [Bool.eq_iff_iff, cz_i, Bool.and_eq_true, decide_eq_true_iff]
  unfold ec_
  rw [Bool.and_eq_true, Bool.and_eq_true, eb_i, decide_eq_true_iff]
  constructor
  · rintro ⟨s, a, b, c, d⟩
    have hn := nf_h hw c
    rw [d] at hn
    have hos := hn.2.2.2.2
    have hoe := oe_i.mp hos
    have hhd : (sk_ K (i + 1)).headD 0 = s := by
      obtain ⟨t, r, es, _, _⟩ := en_top hw (i := i + 1) (by omega) hoe.1
      have := hoe.2
      rw [es] at this ⊢
      exact Option.some.inj this
    have hsi : s < i := hn.2.1
    have hki : en_ K (i + 1) := hoe.1
    have hkk := en_ne hw hi hki
    have hvis : gn_ (fun s => kl_ K V s n) i = i := by
      apply Classical.byContradiction
      intro hns
      obtain ⟨j, x, y, z⟩ := gn_skip hns
      have hge := gn_ge (fun s => kl_ K V s n) i
      have hkj : kl_ K V j n ≠ 0 := by
        intro w
        have : m1_ (kl_ K V j n) = 1 := by unfold m1_; rw [if_pos w]
        have : gn_ (fun s => kl_ K V s n) i = j + m1_ (kl_ K V j n) := z
        omega
      have hm : m1_ (kl_ K V j n) = kl_ K V j n := by unfold m1_; rw [if_neg hkj]
      have z' : gn_ (fun s => kl_ K V s n) i = j + kl_ K V j n := by rw [← hm]; exact z
      have hcj := hkc j (by omega) hkj
      have hcj1 : j + kl_ K V j n ≤ n := hcj.1
      have hcj2 : j ∈ pp_ K (j + kl_ K V j n - 1) := hcj.2
      rcases Nat.lt_trichotomy s j with w | w | w
      · -- s lies below j on the stack
        by_cases v : i + 1 ≤ j + kl_ K V j n - 1
        · have hin := pp_on (q := i + 1) hw (by omega) hcj2 (by omega) v
          obtain ⟨t, r, es, _, _⟩ := en_top hw (i := i + 1) (by omega) hki
          have hts : t = s := by have := hoe.2; rw [es] at this; exact Option.some.inj this
          have hg := gs_pw (si_all hw (i + 1) (by omega)).1
          rw [es] at hin hg
          rcases List.mem_cons.mp hin with u | u
          · omega
          · have := (List.pairwise_cons.mp hg).1 j u; omega
        · have hpe : j + kl_ K V j n - 1 = i := by omega
          rw [hpe] at hcj2
          rcases (pp_iff hw hi).mp hcj2 with ⟨c2, a2, b2, d2, _⟩ | ⟨_, _, u, _⟩
          · rcases d2 with ⟨d3, d4⟩ | ⟨d3, d4, d5⟩ | ⟨d3, _, d5, _⟩
            · rw [← d4] at d3; omega
            · rw [← d5] at d3; omega
            · rw [hoe.2] at d5
              have : s = c2 := Option.some.inj d5
              omega
          · rw [hoe.2] at u
            have : s = j := Option.some.inj u
            omega
      · subst w; omega
      · exact gn_in y w (by show s < j + m1_ (kl_ K V j n); rw [hm]; omega) b
    have hkl : kl_ K V i n = 0 := by
      apply Classical.byContradiction
      intro hk
      have hcj : i ∈ pp_ K (i + kl_ K V i n - 1) := (hkc i hi hk).2
      have hcj1 : i + kl_ K V i n ≤ n := (hkc i hi hk).1
      have hk2 : ka_h (K i) = false := by
        cases q : ka_h (K i) with
        | false => rfl
        | true =>
          have h1 := oe_i.mp (oe_s hw hi q)
          rw [hoe.2] at h1
          have := Option.some.inj h1.2
          omega
      have := pp_nh hw (by omega) hk2 hcj
      omega
    refine ⟨⟨hvis, hkl⟩, hki, by rw [hhd]; exact c, (ne_fx hw hc hS hi hos).mp d⟩
  · rintro ⟨⟨a, b⟩, c, d, e⟩
    obtain ⟨t, r, es, ht, hl⟩ := en_top hw (i := i + 1) (by omega) c
    have hhd : (sk_ K (i + 1)).headD 0 = t := by rw [es]; rfl
    rw [hhd] at d
    have hos : oe_ K t i = true := oe_i.mpr ⟨c, by rw [es]; rfl⟩
    have hne := (ne_fx hw hc hS hi hos).mpr e
    have hn := nf_h hw d
    have hti : t < i := by omega
    exact ⟨t, by omega, (gn_own hw hi hkc a hos hti).1, d, hne⟩
section
variable {yl ys yg yo yc : Int32} {yK yV yA yB yT yO yF yZ yC yS : Nat → Int32}
variable {K V : Nat → Nat} {N : Nat}
theorem zv_k6 {post : Int32 → Prop} {s : Nat} (hw : wf_ K V N) (hN : N ≤ 48) (hs : ys = nI N) (hkx : kx_ K V N yK yV) (hS : K N = 11) (ht : tv_ (tb_ K V N) yc yF yZ) (hsN : s < N)
    (h1 : kl_ K V s N ≠ 0 → post (nI (s + kl_ K V s N - 1))) (h0 : kl_ K V s N = 0 → post (-1)) :
    ∀ (b : Nat), s + b ≤ N → (∀ p, s + b ≤ p → p < N → ¬ (s ∈ pp_ K p ∧ kw_ K V (tb_ K V p) s p = true)) → wY_knownEnd_6 post (nI s) yl ys yg yo yc yK yV yA yB yT yO yF yZ yC yS (b + 1) (nI (s + b) - 1) := by
  intro b
  induction b with
  | zero =>
    intro _ hno
    rw [Nat.add_zero] at hno ⊢
    refine br_t ?_ (h0 (kl_z (fun e he z => ?_)))
    · cases s with
      | zero => decide
      | succ s => rw [nI_pred]; exact nI_lt (by omega) (by omega)
    · exact hno e (pp_le hw he z.1) he z
  | succ b ih =>
    intro hb hno
    rw [← Nat.add_assoc, nI_pred]
    have e1 : nI (s + b) + (-1) = nI (s + b) - 1 := by rw [Int32.sub_eq_add_neg]
    have esz : nI (s + b) - nI s + 1 = nI (b + 1) := by rw [pk_sub (by omega), nI_1, show s + b - s + 1 = b + 1 by omega]
    have esz2 : s + b + 1 - s = b + 1 := by omega
    have cont : ¬ (s ∈ pp_ K (s + b) ∧ kw_ K V (tb_ K V (s + b)) s (s + b) = true) → wY_knownEnd_6 post (nI s) yl ys yg yo yc yK yV yA yB yT yO yF yZ yC yS (b + 1) (nI (s + b) - 1) := by
      intro q
      refine ih (by omega) (fun p a c => ?_)
      by_cases z : p = s + b
      · rw [z]; exact q
      · exact hno p (by omega) c
    have hlen := tb_len hw (i := N) (Nat.le_refl _)
    refine br_f (nI_nlt (by omega) (by omega)) ?_
    rw [esz]
    refine zy_find hN hkx ht (by omega) (fun p hp => ?_) (by omega) (by omega) (fun k p hp heq => ?_) (fun hnone => ?_)
    · obtain ⟨e', s', c1, c2, c3, c4⟩ := tb_mem hw (Nat.le_refl _) hp
      rw [c3]; simp; omega
    · have hkl := (List.getElem?_eq_some_iff.mp hp).1
      refine br_f (nI_pos (by omega)) ⟨vp_in_nI (by omega) (by omega), ?_⟩
      rw [nI_clamp (by omega), (ht.2 k p hp).1]
      have hpr : p.1 + p.2 ≤ N := by
        obtain ⟨e', s', c1, c2, c3, c4⟩ := tb_mem hw (Nat.le_refl _) (List.mem_of_getElem? hp)
        rw [c3]; simp; omega
      have hkf := kw_first (s := s) (p := s + b) hw (by omega) (by omega) hp (by rw [esz2]; exact heq)
      refine pk_le s p.1 (fun q => nm_r e1 (cont (fun z => ?_))) (fun q => ?_)
      · have := hkf.mp z.2; omega
      · refine zy_cmp hw hN hs hkx hS (by omega) (by omega) (fun z => br_f (by decide) ?_) (fun z => br_t rfl (nm_r e1 (cont (fun w => z w.1))))
        have hk := kl_eq (K := K) (V := V) (s := s) (p := s + b) (m := N) (by omega) z (hkf.mpr q) (fun e a c => hno e (by omega) c)
        have := h1 (by omega)
        rw [hk, show s + (s + b + 1 - s) - 1 = s + b by omega] at this
        exact this
    · refine br_t (by decide) (nm_r e1 (cont (fun z => ?_)))
      obtain ⟨x, a, c⟩ := kw_i.mp z.2
      rw [esz2] at c
      exact hnone x ((tb_pre (show s + b ≤ N by omega)).subset a) c
theorem zv_ke {post : Int32 → Prop} {s : Nat} (hw : wf_ K V N) (hN : N ≤ 48) (hcm : op_ K N = 0) (hs : ys = nI N) (hkx : kx_ K V N yK yV) (hS : K N = 11) (ht : tv_ (tb_ K V N) yc yF yZ) (hsN : s < N)
    (h1 : kl_ K V s N ≠ 0 → post (nI (s + kl_ K V s N - 1))) (h0 : kl_ K V s N = 0 → post (-1)) : wpY_knownEnd post (yl, ys, yg, yo, yc, yK, yV, yA, yB, yT, yO, yF, yZ, yC, yS) (nI s) := by
  unfold wpY_knownEnd
  have fin : ∀ e, s ≤ e → e < N → (∀ p, e < p → p < N → s ∉ pp_ K p) → ∃ n6 : Nat, wY_knownEnd_6 post (nI s) yl ys yg yo yc yK yV yA yB yT yO yF yZ yC yS n6 (nI e) := by
    intro e a b c
    refine ⟨e - s + 2, ?_⟩
    have := zv_k6 (post := post) (yl := yl) (yg := yg) (yo := yo) (yA := yA) (yB := yB) (yT := yT) (yO := yO) (yC := yC) (yS := yS) hw hN hs hkx hS ht hsN h1 h0 (e - s + 1) (by omega) (fun p x y z => c p (by omega) y z.1)
    rw [show s + (e - s + 1) = e + 1 by omega, nI_pred] at this
    exact this
  have none : (∀ p, p < N → s ∉ pp_ K p) → ∃ n6 : Nat, wY_knownEnd_6 post (nI s) yl ys yg yo yc yK yV yA yB yT yO yF yZ yC yS n6 (-1) := by
    intro c
    refine ⟨1, br_t ?_ (h0 (kl_z (fun e he z => c e he z.1)))⟩
    rw [Int32.lt_iff_toInt_lt, nI_toInt (by omega)]
    have : (-1 : Int32).toInt = -1 := by decide
    rw [this]; omega
  by_cases hk : ka_h (K s) = true ∨ ka_w (K s) = true ∨ K s = 4 ∨ K s = 9
  · refine zy_end hw hN hs hkx hS hsN hk (fun c e a b d he => fin e ?_ he (fun p x y z => ?_)) (fun hno => none (fun p hp z => ?_))
    · have := ce_le hw he d; omega
    · rcases (pp_iff hw y).mp z with ⟨c2, a2, b2, d2, _⟩ | ⟨h2, h3, h4, _⟩
      · have := rw_un b b2 a a2 (ce_nw d) (ce_nw d2)
        subst this
        have := ce_un hw he y d d2
        omega
      · have hsc : s = c := by
          by_cases w : s = c
          · exact w
          · have := b s (Nat.le_refl _) (by omega)
            rw [(gs_xoh h2).1] at this; exact absurd this (by decide)
        subst hsc
        have hf := (ce_fx hw he h2).mp d
        have := fx_le hw hf (oe_i.mpr ⟨h3, h4⟩) y
        omega
    · rcases (pp_iff hw hp).mp z with ⟨c2, a2, b2, d2, _⟩ | ⟨h2, h3, h4, _⟩
      · exact hno c2 p a2 b2 d2 hp
      · have hos : oe_ K s p = true := oe_i.mpr ⟨h3, h4⟩
        have hne := ne_oe hp hos
        have hfx := (ne_fx hw hcm hS hne.2 hne.1).mp rfl
        exact hno s (ne_ K s N) (Nat.le_refl _) (fun j a b => by omega) ((ce_fx hw hne.2 h2).mpr ⟨hne.1, hfx⟩) hne.2
  · have hnp : ∀ p, p < N → s ∉ pp_ K p := by
      intro p hp z
      rcases (pp_iff hw hp).mp z with ⟨c2, a2, b2, d2, f2⟩ | ⟨h2, _⟩
      · by_cases w : s = c2
        · subst w
          exact hk (Or.inr (Or.inr (Or.inr (by omega))))
        · exact hk (Or.inr (Or.inl (b2 s (Nat.le_refl _) (by omega))))
      · exact hk (Or.inl h2)
    exact zy_endg hN hs hkx hS hsN (fun e a b => fin e a b (fun p x y => hnp p y)) (none hnp)
theorem zv_ns {post : Int32 → Prop} {s : Nat} (hw : wf_ K V N) (hN : N ≤ 48) (hcm : op_ K N = 0) (hs : ys = nI N) (hkx : kx_ K V N yK yV) (hS : K N = 11)
    (h1 : hm_ K s N = true → post 1) (h0 : hm_ K s N = false → post 0) :
    ∀ (d t p : Nat), t + d = N → t ≤ p → p < N → oe_ K s p = true → (∀ e, e < p → oe_ K s e = true → K e ≠ 1) → wY_nested_4 post yl ys yg yo yc yK yV yA yB yT yO yF yZ yC yS (d + 1) (nI p) (nI t) := by
  intro d
  induction d with
  | zero => intro t p ht htp hp _ _; omega
  | succ d ih =>
    intro t p ht htp hp hop hall
    have hv : vp_in (nI p) 64 := vp_in_nI (by omega) (by omega)
    have hk := hkx p hp
    have hc : (nI p).toNatClampNeg = p := nI_clamp (by omega)
    have h43 : (K p = 1 → post 1) → (K p ≠ 1 → post 0) → wY_nested_43 post (nI p) yl ys yg yo yc yK yV yA yB yT yO yF yZ yC yS := by
      intro a b
      refine ⟨hv, ?_⟩
      rw [hc, hk.1]
      exact pk_eq (K p) 1 a b (ha := by have := hk.2.2.1; omega)
    refine br_f (by rw [hs]; exact nI_ge (by omega) (by omega)) ⟨hv, ?_⟩
    rw [hc, hk.1]
    refine pk_eq (K p) 1 (fun q => h43 (fun _ => h1 (hm_i.mpr ⟨p, hp, hop, q⟩)) (fun z => absurd q z)) (fun q => ?_) (ha := by have := hk.2.2.1; omega)
    have step : ∀ m, p < m → m < N → oe_ K s m = true → (∀ e, p < e → e < m → oe_ K s e = true → False) → ∀ e, e < m → oe_ K s e = true → K e ≠ 1 := by
      intro m a b c dd e he ho
      rcases Nat.lt_trichotomy e p with z | z | z
      · exact hall e z ho
      · rw [z]; exact q
      · exact absurd (dd e z he ho) id
    refine zy_nx hN hs hkx hS hp (fun z => ?_) (fun z => ⟨fun m a b c1 c2 => ?_, fun hno => ?_⟩) (fun z z2 => ?_)
    · have hp1 : p + 1 < N := by
        rcases Nat.lt_or_ge (p + 1) N with w | w
        · exact w
        · rw [show p + 1 = N by omega, hS] at z; omega
      refine br_f (nI_ge (by omega) (by omega)) ?_
      refine zy_nx hN hs hkx hS hp (fun _ => nm_r (nI_1 t) (ih (t + 1) (p + 1) (by omega) (by omega) hp1 (oe_1 hop z) (step (p + 1) (by omega) hp1 (oe_1 hop z) (fun e x y _ => by omega)))) (fun w => by omega) (fun w _ => absurd z w)
    · have hom := oe_3 hw hop z b c1 c2
      have hgap : ∀ e, p < e → e < m → oe_ K s e = true → False := by
        intro e x y w
        rcases oe_go hw hop w x (by omega) with v | ⟨_, m', v1, v2, v3, v4⟩
        · omega
        · have := fs_one c1 v3 (by omega) (by rw [c2, v4]); omega
      refine br_f (nI_ge (by omega) (by omega)) ?_
      refine zy_nx hN hs hkx hS hp (fun w => by omega) (fun _ => ⟨fun m' a' b' c1' c2' => ?_, fun hno => absurd c2 (hno m a b c1)⟩) (fun _ w => absurd z w)
      have : m' = m := fs_one c1' c1 (by omega) (by rw [c2, c2'])
      subst this
      exact nm_r (nI_1 t) (ih (t + 1) m' (by omega) (by omega) b hom (step m' (by omega) b hom hgap))
    · exfalso
      have hp1 : p + 1 < N := by
        rcases Nat.lt_or_ge (p + 1) N with w | w
        · exact w
        · rw [show p + 1 = N by omega, hS] at z; omega
      obtain ⟨m, a, b, c1, c2⟩ := cm_mt hw hcm (by rw [z]; rfl) hp1
      exact hno m a b c1 c2
    · refine br_t (nI_le (Nat.le_refl _) (by omega)) (h43 (fun w => absurd w q) (fun _ => h0 ?_))
      cases w : hm_ K s N with
      | false => rfl
      | true =>
        exfalso
        obtain ⟨e, a, b, c⟩ := hm_i.mp w
        have := fx_le hw ⟨hop, z, z2⟩ b a
        rcases Nat.lt_or_ge e p with v | v
        · exact hall e v b c
        · rw [show e = p by omega] at c; exact q c
end
end
section
/-! Y: symbol, mangle -/
section
variable {yl ys yg yo yc : Int32} {yK yV yA yB yT yO yF yZ yC yS : Nat → Int32}
variable {K V : Nat → Nat} {N : Nat}
theorem zv_46 {post : SY → Prop} (hw : wf_ K V N) (hN : N ≤ 48) (hcm : op_ K N = 0) (hs : ys = nI N) (hkx : kx_ K V N yK yV) (hS : K N = 11) (ht : tv_ (tb_ K V N) yc yF yZ)
    (H : ∀ (yo' : Int32) (yO' yC' : Nat → Int32), tk_ 512 (mg_ K V N) yo' yO' → post (yl, ys, yg, yo', yc, yK, yV, yA, yB, yT, yO', yF, yZ, yC', yS)) :
    ∀ (d i q : Nat) (yo : Int32) (yO yC : Nat → Int32), i + d = N → q ≤ N → ((q ≤ i ∧ gn_ (fun s => kl_ K V s N) i = i) ∨ (q = gn_ (fun s => kl_ K V s N) i ∧ i < q)) →
      tk_ 512 (go_ K V (fun s => kl_ K V s N) (kt_ K V N) (nf_ K V N) i) yo yO → (∀ e, e < 64 → yC e = if cz_ K V N i e = true then 1 else 0) → wY_symbol_46 post (d + 1) (nI q - 1) (nI i) yl ys yg yo yc yK yV yA yB yT yO yF yZ yC yS := by
  have hkc := kc_kl hw
  intro d
  induction d with
  | zero =>
    intro i q yo yO yC hi hq _ ho _
    have : i = N := by omega
    subst this
    exact br_t (by rw [hs]; exact nI_le (Nat.le_refl _) (by omega)) (H yo yO yC ho)
  | succ d ih =>
    intro i q yo yO yC hi hqN hq ho hcl
    have hiv : vp_in (nI i) 64 := vp_in_nI (by omega) (by omega)
    have hic : (nI i).toNatClampNeg = i := nI_clamp (by omega)
    have hk := hkx i (by omega)
    have hK := hk.2.2.1
    have hce := cz_e (i := i) hw hcm hS (by omega)
    -- the end of a turn
    have h161 : ∀ (q' : Nat) (yo' : Int32) (yO' yC' : Nat → Int32) (l : List Nat), q' ≤ N → ((q' ≤ i + 1 ∧ gn_ (fun s => kl_ K V s N) (i + 1) = i + 1) ∨ (q' = gn_ (fun s => kl_ K V s N) (i + 1) ∧ i + 1 < q')) →
        tk_ 512 (go_ K V (fun s => kl_ K V s N) (kt_ K V N) (nf_ K V N) i ++ l) yo' yO' → (∀ e, e < 64 → yC' e = if cz_ K V N (i + 1) e = true then 1 else 0) →
        go_ K V (fun s => kl_ K V s N) (kt_ K V N) (nf_ K V N) (i + 1) = go_ K V (fun s => kl_ K V s N) (kt_ K V N) (nf_ K V N) i ++ (l ++ if cz_ K V N (i + 1) i = true then [69] else []) →
        wY_symbol_161 post (wY_symbol_46 post (d + 1)) (nI q' - 1) (nI i) yl ys yg yo' yc yK yV yA yB yT yO' yF yZ yC' yS := by
      intro q' yo' yO' yC' l a b c e f
      refine ⟨hiv, ?_⟩
      rw [hic, e i (by omega)]
      cases z : cz_ K V N (i + 1) i with
      | false =>
        refine br_t rfl (nm_r (nI_1 i) (ih (i + 1) q' yo' yO' yC' (by omega) a b ?_ e))
        rw [f, z, if_neg (by decide), List.append_nil]; exact c
      | true =>
        refine br_f (by decide) (zv_w (c := 69) c (fun yo2 yO2 h2 => nm_r (nI_1 i) (ih (i + 1) q' yo2 yO2 yC' (by omega) a b ?_ e)))
        rw [f, z, if_pos rfl, ← List.append_assoc]; exact h2
    refine br_f (by rw [hs]; exact nI_ge (by omega) (by omega)) ?_
    rcases hq with ⟨hq1, hv⟩ | ⟨hq1, hq2⟩
    · -- visited
      have hng : ¬ nI i ≤ nI q - 1 := by
        cases q with
        | zero =>
          intro z
          rw [Int32.le_iff_toInt_le, nI_toInt (by omega)] at z
          have : (nI 0 - 1).toInt = -1 := by decide
          rw [this] at z; omega
        | succ q => rw [nI_pred]; exact nI_ge (by omega) (by omega)
      refine br_f hng ?_
      have hgo : go_ K V (fun s => kl_ K V s N) (kt_ K V N) (nf_ K V N) (i + 1) = go_ K V (fun s => kl_ K V s N) (kt_ K V N) (nf_ K V N) i ++ gv_ K V (fun s => kl_ K V s N) (kt_ K V N) (nf_ K V N) i := by
        show (if _ then _ else _) = _; rw [if_pos hv]
      have hgn := gn_t hv
      -- 118: the node itself
      have h118 : ∀ (yo' : Int32) (yO' yC' : Nat → Int32) (l : List Nat) (x4 : Int32), (kl_ K V i N = 0 → x4 = -1) → (kl_ K V i N ≠ 0 → x4 = nI (i + kl_ K V i N - 1)) →
          tk_ 512 (go_ K V (fun s => kl_ K V s N) (kt_ K V N) (nf_ K V N) i ++ l) yo' yO' → l = (if nf_ K V N i = true then [78] else []) → (∀ e, e < 64 → yC' e = if cz_ K V N (i + 1) e = true then 1 else 0) →
          wY_symbol_118 post (wY_symbol_46 post (d + 1)) (nI q - 1) (nI i) x4 yl ys yg yo' yc yK yV yA yB yT yO' yF yZ yC' yS := by
        intro yo' yO' yC' l x4 a0 a1 b el hcl'
        by_cases z : kl_ K V i N = 0
        · rw [a0 z]
          refine br_t (by decide) (zv_p hw hN hs hkx hS (by omega) b (fun yo2 yO2 h2 => h161 q yo2 yO2 yC' (l ++ pe_ K V i) hqN (Or.inl ⟨by omega, ?_⟩) ?_ hcl' ?_))
          · rw [hgn]; show i + m1_ (kl_ K V i N) = _; unfold m1_; rw [if_pos z]
          · rw [← List.append_assoc]; exact h2
          · rw [hgo, hce, decide_eq_true ⟨hv, z⟩, Bool.true_and]
            unfold gv_
            rw [if_pos z, ← el, List.append_assoc]
        · rw [a1 z]
          have hb1 : i + kl_ K V i N ≤ N := (hkc i (by omega) z).1
          have hm1 : m1_ (kl_ K V i N) = kl_ K V i N := by unfold m1_; rw [if_neg z]
          have esz : nI (i + kl_ K V i N - 1) - nI i + 1 = nI (kl_ K V i N) := by rw [pk_sub (by omega), nI_1, show i + kl_ K V i N - 1 - i + 1 = kl_ K V i N by omega]
          have hlen := tb_len hw (i := N) (Nat.le_refl _)
          refine br_f (nI_pos (by omega)) ?_
          rw [esz]
          refine zy_find hN hkx ht (by omega) (fun p hp => ?_) hb1 (by omega) (fun k p hp heq => ?_) (fun hnone => ?_)
          · obtain ⟨e', s', c1, c2, c3, c4⟩ := tb_mem hw (Nat.le_refl _) hp
            rw [c3]; simp; omega
          · have hkk := kt_un hp heq
            have hkl := (List.getElem?_eq_some_iff.mp hp).1
            refine zv_w (c := 83) b (fun yo2 yO2 h2 => zv_n (Or.inl rfl) (by omega) h2 (fun yo3 yO3 h3 => ?_))
            have hq' : nI (i + kl_ K V i N - 1) = nI (i + kl_ K V i N) - 1 := (pk_sub (b := 1) (by omega)).symm
            rw [hq']
            refine h161 (i + kl_ K V i N) yo3 yO3 yC' (l ++ 83 :: nu_ (kt_ K V N i) 36) hb1 ?_ ?_ hcl' ?_
            · have e2 : gn_ (fun s => kl_ K V s N) (i + 1) = i + kl_ K V i N := by rw [hgn]; show i + m1_ (kl_ K V i N) = _; rw [hm1]
              rw [e2]
              by_cases w : kl_ K V i N = 1
              · exact Or.inl ⟨by omega, by omega⟩
              · exact Or.inr ⟨rfl, by omega⟩
            · rw [hkk, ← List.append_assoc]
              rw [List.append_assoc] at h3
              exact h3
            · rw [hgo, hce, decide_eq_false (fun w => z w.2), Bool.false_and, if_neg (by decide), List.append_nil]
              unfold gv_
              rw [if_neg z, ← el]
          · exfalso
            obtain ⟨e, a, b', c, d', f, _⟩ := kl_in hw (Nat.le_refl _) z
            obtain ⟨x, g1, g2⟩ := kw_i.mp c
            refine hnone x ((tb_pre (show e ≤ N by omega)).subset g1) ?_
            rw [d']; exact g2
      have hcz : ∀ e, cz_ K V N (i + 1) e = (cz_ K V N i e || (nf_ K V N i && decide (ne_ K i N = e))) := by
        intro e; rw [cz_s, decide_eq_true hv, Bool.true_and]
      by_cases hh : ka_h (K i) = true
      · have hos := oe_s hw (s := i) (by omega) hh
        have hne := ne_oe (m := N) (by omega) hos
        have hneL := ne_le (m := N) (by omega) hos
        refine zy_end hw hN hs hkx hS (by omega) (Or.inl hh) (fun c e a b dd he => ?_) (fun hno => ?_)
        · have hci : i = c := by
            by_cases w : i = c
            · exact w
            · have := b i (Nat.le_refl _) (by omega)
              rw [(gs_xoh hh).1] at this; exact absurd this (by decide)
          subst hci
          have hfx := (ce_fx hw he hh).mp dd
          have hee : ne_ K i N = e := (ne_fx hw hcm hS he hfx.1).mpr hfx.2
          subst hee
          have h91 : ∀ x4 : Int32, (kl_ K V i N = 0 → x4 = -1) → (kl_ K V i N ≠ 0 → x4 = nI (i + kl_ K V i N - 1)) → wY_symbol_91 post (wY_symbol_46 post (d + 1)) (nI q - 1) (nI i) (nI (ne_ K i N)) x4 yl ys yg yo yc yK yV yA yB yT yO yF yZ yC yS := by
            intro x4 a0 a1
            have nofl : nf_ K V N i = false → wY_symbol_118 post (wY_symbol_46 post (d + 1)) (nI q - 1) (nI i) x4 yl ys yg yo yc yK yV yA yB yT yO yF yZ yC yS := by
              intro hnf
              refine h118 yo yO yC [] x4 a0 a1 (by rw [List.append_nil]; exact ho) (by rw [hnf]; rfl) (fun e he => ?_)
              rw [hcz, hnf, Bool.false_and, Bool.or_false]; exact hcl e he
            by_cases z : nI (ne_ K i N) ≤ x4
            · refine br_t z (nofl ?_)
              unfold nf_
              by_cases w : kl_ K V i N = 0
              · rw [a0 w] at z
                exfalso
                rw [Int32.le_iff_toInt_le, nI_toInt (by omega)] at z
                have : (-1 : Int32).toInt = -1 := by decide
                rw [this] at z; omega
              · rw [a1 w] at z
                have hb1 : i + kl_ K V i N ≤ N := (hkc i (by omega) w).1
                rw [nI_leI (by omega) (by omega)] at z
                rw [decide_eq_false (by omega), Bool.and_false]
            · refine br_f z ?_
              have hle : kl_ K V i N + i ≤ ne_ K i N := by
                by_cases w : kl_ K V i N = 0
                · omega
                · rw [a1 w] at z
                  have hb1 : i + kl_ K V i N ≤ N := (hkc i (by omega) w).1
                  rw [nI_leI (by omega) (by omega)] at z
                  omega
              refine ⟨N + 1, zv_ns (s := i) hw hN hcm hs hkx hS (fun hm => ?_) (fun hm => ?_) N 0 i (by omega) (by omega) (by omega) hos (fun e he hoe => ?_)⟩
              · have hnf : nf_ K V N i = true := by unfold nf_; rw [hm, decide_eq_true hle]; rfl
                refine br_f (by decide) (zv_w (c := 78) ho (fun yo2 yO2 h2 => ⟨vp_in_nI (by omega) (by omega), nm_r (e' := upd yC (ne_ K i N) 1) (by rw [nI_clamp (by omega), show vp_nar .boolean 1 = 1 by decide]) (h118 yo2 yO2 _ [78] x4 a0 a1 h2 (by rw [hnf]; rfl) (fun e he => ?_))⟩))
                rw [hcz, hnf, Bool.true_and]
                by_cases w : e = ne_ K i N
                · rw [w, pk_us, decide_eq_true rfl, Bool.or_true]; rfl
                · rw [pk_un w, decide_eq_false (fun v => w v.symm), Bool.or_false]; exact hcl e he
              · exact br_t rfl (nofl (by unfold nf_; rw [hm]; rfl))
              · have := (oe_h hw hoe (by omega)).2; omega
          refine zv_ke hw hN hcm hs hkx hS ht (by omega) (fun z => ⟨hiv, ?_⟩) (fun z => ⟨hiv, ?_⟩)
          · rw [hic, hk.1]
            have := h91 (nI (i + kl_ K V i N - 1)) (fun w => absurd w z) (fun _ => rfl)
            rcases ka_hi.mp hh with w | w
            · exact br_t (by rw [w]; rfl) this
            · exact br_f (by rw [w]; decide) ⟨hiv, br_t (by rw [w]; rfl) this⟩
          · rw [hic, hk.1]
            have := h91 (-1) (fun _ => rfl) (fun w => absurd z w)
            rcases ka_hi.mp hh with w | w
            · exact br_t (by rw [w]; rfl) this
            · exact br_f (by rw [w]; decide) ⟨hiv, br_t (by rw [w]; rfl) this⟩
        · exfalso
          have hfx := (ne_fx hw hcm hS hne.2 hne.1).mp rfl
          exact hno i (ne_ K i N) (Nat.le_refl _) (fun j a b => by omega) ((ce_fx hw hne.2 hh).mpr ⟨hne.1, hfx⟩) hne.2
      · have hh' := hh
        rw [ka_hi] at hh'
        have hnf : nf_ K V N i = false := by
          cases z : nf_ K V N i with
          | false => rfl
          | true => exact absurd (nf_h hw z).1 hh
        have fin : ∀ x4 : Int32, (kl_ K V i N = 0 → x4 = -1) → (kl_ K V i N ≠ 0 → x4 = nI (i + kl_ K V i N - 1)) → ∀ r72 : Int32, (vp_in (nI i) 64 ∧ ((yK (nI i).toNatClampNeg = 0 → wY_symbol_91 post (wY_symbol_46 post (d + 1)) (nI q - 1) (nI i) r72 x4 yl ys yg yo yc yK yV yA yB yT yO yF yZ yC yS) ∧ (¬ yK (nI i).toNatClampNeg = 0 → (vp_in (nI i) 64 ∧ ((yK (nI i).toNatClampNeg = 2 → wY_symbol_91 post (wY_symbol_46 post (d + 1)) (nI q - 1) (nI i) r72 x4 yl ys yg yo yc yK yV yA yB yT yO yF yZ yC yS) ∧ (¬ yK (nI i).toNatClampNeg = 2 → wY_symbol_118 post (wY_symbol_46 post (d + 1)) (nI q - 1) (nI i) x4 yl ys yg yo yc yK yV yA yB yT yO yF yZ yC yS)))))) := by
          intro x4 a0 a1 r72
          refine ⟨hiv, ?_⟩
          rw [hic, hk.1]
          refine pk_eq (K i) 0 (fun w => by omega) (fun _ => ⟨hiv, pk_eq (K i) 2 (fun w => by omega) (fun _ => h118 yo yO yC [] x4 a0 a1 (by rw [List.append_nil]; exact ho) (by rw [hnf]; rfl) (fun e he => ?_))⟩)
          rw [hcz, hnf, Bool.false_and, Bool.or_false]; exact hcl e he
        refine zy_endg hN hs hkx hS (by omega) (fun e a b => ?_) ?_
        · exact zv_ke hw hN hcm hs hkx hS ht (by omega) (fun z => fin _ (fun w => absurd w z) (fun _ => rfl) _) (fun z => fin _ (fun _ => rfl) (fun w => absurd z w) _)
        · exact zv_ke hw hN hcm hs hkx hS ht (by omega) (fun z => fin _ (fun w => absurd w z) (fun _ => rfl) _) (fun z => fin _ (fun _ => rfl) (fun w => absurd z w) _)
    · -- passed over
      have hv : gn_ (fun s => kl_ K V s N) i ≠ i := by omega
      have hgn := gn_f hv
      obtain ⟨q0, rfl⟩ : ∃ q0, q = q0 + 1 := ⟨q - 1, by omega⟩
      refine br_t (by rw [nI_pred]; exact nI_le (by omega) (by omega)) ?_
      refine h161 (q0 + 1) yo yO yC [] hqN ?_ (by rw [List.append_nil]; exact ho) (fun e he => ?_) ?_
      · rw [hgn, ← hq1]
        by_cases w : q0 + 1 = i + 1
        · exact Or.inl ⟨by omega, w⟩
        · exact Or.inr ⟨rfl, by omega⟩
      · rw [cz_s, decide_eq_false hv, Bool.false_and, Bool.or_false]; exact hcl e he
      · rw [hce, decide_eq_false (fun w => hv w.1), Bool.false_and, if_neg (by decide), List.append_nil, List.append_nil]
        show (if _ then _ else _) = _
        rw [if_neg hv]
theorem zv_sym {post : SY → Prop} (hw : wf_ K V N) (hN : N ≤ 48) (hcm : op_ K N = 0) (hs : ys = nI N) (hkx : kx_ K V N yK yV) (hS : K N = 11)
    (H : ∀ (yc' yo' : Int32) (yF' yZ' yO' yC' : Nat → Int32), tk_ 512 (mg_ K V N) yo' yO' → post (yl, ys, yg, yo', yc', yK, yV, yA, yB, yT, yO', yF', yZ', yC', yS)) : wpY_symbol post (yl, ys, yg, yo, yc, yK, yV, yA, yB, yT, yO, yF, yZ, yC, yS) := by
  unfold wpY_symbol
  refine zy_build hw hN hs hkx hS (fun yc' yF' yZ' ht => ?_)
  refine zv_w (w := []) (c := 95) tk_0 (fun yo2 yO2 h2 => zv_w (c := 90) h2 (fun yo3 yO3 h3 => ⟨65, ?_⟩))
  have key : ∀ (d j : Nat) (yC : Nat → Int32), j + d = 64 → (∀ e, e < j → yC e = 0) → wY_symbol_25 post (-1) yl ys yg yo3 yc' (d + 1) (nI j) yK yV yA yB yT yO3 yF' yZ' yC yS := by
    intro d
    induction d with
    | zero =>
      intro j yC hj hz
      refine br_t (nI_le (a := 64) (by omega) (by omega)) ⟨N + 1, ?_⟩
      have := zv_46 (post := post) (yl := yl) (yg := yg) (yA := yA) (yB := yB) (yT := yT) (yS := yS) hw hN hcm hs hkx hS ht (fun yo' yO' yC' h' => H yc' yo' yF' yZ' yO' yC' h') N 0 0 yo3 yO3 yC (by omega) (by omega) (Or.inl ⟨Nat.le_refl _, rfl⟩) h3 (fun e he => by rw [hz e (by omega)]; rfl)
      exact this
    | succ d ih =>
      intro j yC hj hz
      refine br_f (nI_ge (b := 64) (by omega) (by omega)) ⟨vp_in_nI (by omega) (by omega), nm_r (e' := upd yC j 0) (by rw [nI_clamp (by omega), show vp_nar .boolean 0 = 0 by decide]) (nm_r (nI_1 j) (ih (j + 1) _ (by omega) (fun e he => ?_)))⟩
      by_cases z : e = j
      · rw [z, pk_us]
      · rw [pk_un z]; exact hz e (by omega)
  exact key 64 0 yC (by omega) (fun e he => by omega)
/-- the output becomes the text -/
theorem zv_cp {post : Int32 → SY → Prop} {w : List Nat} (h : tk_ 512 w yo yO) (H : ∀ (yg' : Int32) (yT' : Nat → Int32), tk_ 256 w yg' yT' → post 0 (yl, ys, yg', yo, yc, yK, yV, yA, yB, yT', yO, yF, yZ, yC, yS)) :
    ∀ (d j : Nat) (yT : Nat → Int32), j + d = 256 → j ≤ w.length → (∀ k c, k < j → w[k]? = some c → yT k = nI c) → wY_mangle_18 post yl ys yo yc (d + 1) (nI j) yK yV yA yB yT yO yF yZ yC yS := by
  have hl := tk_len h (by omega)
  have e1 : yo = nI (min 512 w.length) := by rw [h.1, List.length_take]
  have stop : ∀ j (yT : Nat → Int32), j ≤ w.length → (j = w.length ∨ j = 256) → j ≤ 256 → (∀ k c, k < j → w[k]? = some c → yT k = nI c) → post 0 (yl, ys, nI j, yo, yc, yK, yV, yA, yB, yT, yO, yF, yZ, yC, yS) := by
    intro j yT a b b2 c
    refine H _ _ ⟨?_, fun k x hx => ?_⟩
    · rw [List.length_take]; congr 1; omega
    · rw [List.getElem?_take] at hx
      by_cases z : k < 256
      · rw [if_pos z] at hx
        exact c k x (by have := (List.getElem?_eq_some_iff.mp hx).1; omega) hx
      · rw [if_neg z] at hx; exact absurd hx (by simp)
  intro d
  induction d with
  | zero =>
    intro j yT hj hw hc
    refine br_c (fun _ => stop j yT hw (by omega) (by omega) hc) (fun _ => br_t (nI_le (a := 256) (by omega) (by omega)) (stop j yT hw (by omega) (by omega) hc))
  | succ d ih =>
    intro j yT hj hw hc
    by_cases z : w.length ≤ j
    · exact br_t (by rw [e1]; exact nI_le (by omega) (by omega)) (stop j yT hw (by omega) (by omega) hc)
    · refine br_f (by rw [e1]; exact nI_ge (by omega) (by omega)) (br_f (nI_ge (b := 256) (by omega) (by omega)) ⟨vp_in_nI (by omega) (by omega), vp_in_nI (by omega) (by omega), nm_r (e' := upd yT j (yO j)) (by rw [nI_clamp (by omega)]) (nm_r (nI_1 j) (ih (j + 1) _ (by omega) (by omega) (fun k c hk hx => ?_)))⟩)
      by_cases y : k = j
      · subst y
        rw [pk_us]
        refine h.2 k c ?_
        rw [List.getElem?_take, if_pos (by omega)]; exact hx
      · rw [pk_un y]; exact hc k c (by omega) hx
end
end
section
/-! what is said of i nodes rests on those nodes alone -/
section
variable {K K' V V' : Nat → Nat} {b : Nat}
theorem gc_w : ∀ {l : List Nat}, (∀ x, x ∈ l → K' x = K x) → sk_w K' l = sk_w K l ∧ sk_t K' l = sk_t K l := by
  intro l
  induction l with
  | nil => intro _; exact ⟨rfl, rfl⟩
  | cons x r ih =>
    intro h
    have hx := h x (by simp)
    have ih := ih (fun y hy => h y (by simp [hy]))
    cases q : ka_w (K x) with
    | true =>
      have q' : ka_w (K' x) = true := by rw [hx]; exact q
      rw [sk_w_cons_t q, sk_w_cons_t q', sk_t_cons_t q, sk_t_cons_t q', ih.1, ih.2]; exact ⟨rfl, rfl⟩
    | false =>
      have q' : ka_w (K' x) = false := by rw [hx]; exact q
      rw [sk_w_cons_f q, sk_w_cons_f q', sk_t_cons_f q, sk_t_cons_f q']; exact ⟨rfl, rfl⟩
theorem gc_c {l : List Nat} (h : ∀ x, x ∈ l → K' x = K x) : sk_c K' l = sk_c K l := by
  cases l with
  | nil => rfl
  | cons x r =>
    have hx := h x (by simp)
    have hw := gc_w (fun y hy => h y (by simp [hy])) (l := r)
    cases q : ka_h (K x) with
    | true => rw [sk_c_h q, sk_c_h (by rw [hx]; exact q), hw.1]
    | false => rw [sk_c_n q, sk_c_n (by rw [hx]; exact q)]
theorem gc_e {l : List Nat} (h : ∀ x, x ∈ l → K' x = K x) : sk_e K' l = sk_e K l := by
  cases l with
  | nil => rfl
  | cons x r =>
    have hx := h x (by simp)
    have hw := gc_w (fun y hy => h y (by simp [hy])) (l := r)
    show (if _ then _ else _) = (if _ then _ else _)
    rw [hx, hw.1]
theorem gc_sk (hK : ∀ j, j < b → K' j = K j) : ∀ {i : Nat}, i ≤ b → sk_ K' i = sk_ K i := by
  intro i
  induction i with
  | zero => intro _; rfl
  | succ i ih =>
    intro hi
    show sk_s K' i (sk_ K' i) = sk_s K i (sk_ K i)
    have hm : ∀ x, x ∈ sk_ K i → K' x = K x := fun x hx => hK x (by have := sk_lt hx; omega)
    have hc := gc_c hm
    have hm2 : ∀ x, x ∈ sk_c K (sk_ K i) → K' x = K x := fun x hx => hm x ((sk_c_suf K _).subset hx)
    unfold sk_s
    rw [ih (by omega), hK i (by omega), hc, (gc_w hm2).1, gc_e hm2]
theorem gc_fs (hK : ∀ j, j < b → K' j = K j) : ∀ {i : Nat}, i ≤ b → fs_ K' i = fs_ K i := by
  intro i
  induction i with
  | zero => intro _; rfl
  | succ i ih =>
    intro hi
    show fs_s K' i (fs_ K' i) = fs_s K i (fs_ K i)
    unfold fs_s
    rw [ih (by omega), hK i (by omega)]
theorem gc_op (hK : ∀ j, j < b → K' j = K j) {i : Nat} (hi : i ≤ b) : op_ K' i = op_ K i := by unfold op_; rw [gc_fs hK hi]
theorem gc_kop (hK : ∀ j, j < b → K' j = K j) (h0 : 0 < b) {i : Nat} (hi : i ≤ b) : K' (op_ K i) = K (op_ K i) := by
  by_cases z : op_ K i = 0
  · rw [z]; exact hK 0 h0
  · exact hK _ (by have := (op_fs z).2.1; omega)
theorem gc_eb (hK : ∀ j, j < b → K' j = K j) {i : Nat} (hi : i ≤ b) : eb_ K' i = eb_ K i := by
  unfold eb_
  by_cases z : 0 < i
  · rw [hK (i - 1) (by omega), gc_op hK (show i - 1 ≤ b by omega), gc_kop hK (by omega) (show i - 1 ≤ b by omega)]
  · rw [decide_eq_false (fun w => z w.1), decide_eq_false (fun w => z w.1)]
theorem gc_en (hK : ∀ j, j < b → K' j = K j) {i : Nat} (hi : i ≤ b) : en_ K' i ↔ en_ K i := by rw [← eb_i, ← eb_i, gc_eb hK hi]
theorem gc_eg (hK : ∀ j, j < b → K' j = K j) {i : Nat} (h0 : 0 < i) (hi : i ≤ b) : eg_ K' i ↔ eg_ K i := by
  unfold eg_
  rw [gc_op hK hi, gc_kop hK (by omega) hi, hK (op_ K i - 1) (by
    by_cases z : op_ K i = 0
    · omega
    · have := (op_fs z).2.1; omega)]
theorem gc_ft (hK : ∀ j, j < b → K' j = K j) {i k v : Nat} (hi : i ≤ b) : ft_ K' i k v ↔ ft_ K i k v := by
  by_cases z : 0 < i
  · unfold ft_
    rw [gc_en hK hi, gc_eg hK z hi, gc_op hK hi, gc_kop hK (by omega) hi, hK (i - 1) (by omega)]
  · unfold ft_
    constructor
    · rintro (h | h)
      · exact Or.inl h
      · exact absurd h.1 z
    · rintro (h | h)
      · exact Or.inl h
      · exact absurd h.1 z
theorem gc_wf (hK : ∀ j, j < b → K' j = K j) (hV : ∀ j, j < b → V' j = V j) (h : wf_ K V b) : wf_ K' V' b := by
  intro i hi
  rw [hK i hi, hV i hi, gc_ft hK (by omega)]
  exact h i hi
theorem gc_pa (hK : ∀ j, j < b → K' j = K j) {e : Nat} (he : e < b) : pa_ K' e = pa_ K e := by
  have hm : ∀ x, x ∈ sk_ K e → K' x = K x := fun x hx => hK x (by have := sk_lt hx; omega)
  have hm2 : ∀ x, x ∈ sk_c K (sk_ K e) → K' x = K x := fun x hx => hm x ((sk_c_suf K _).subset hx)
  unfold pa_
  rw [hK e he, gc_sk hK (show e ≤ b by omega), gc_sk hK (show e + 1 ≤ b by omega), gc_c hm, (gc_w hm2).2]
  have : pf_ K' (sk_c K (sk_ K e)) = pf_ K (sk_c K (sk_ K e)) := by
    cases q : sk_c K (sk_ K e) with
    | nil => rfl
    | cons f r =>
      rw [q] at hm2
      show (if _ then _ else if _ then _ else _) = (if _ then _ else if _ then _ else _)
      rw [hm2 f (by simp), (gc_w (fun y hy => hm2 y (by simp [hy]))).2]
  rw [this]
theorem gc_pc (hK : ∀ j, j < b → K' j = K j) {e : Nat} (he : e < b) : pc_ K' e = pc_ K e := by
  unfold pc_
  rw [gc_sk hK (show e + 1 ≤ b by omega)]
  have hm : ∀ x, x ∈ sk_ K (e + 1) → K' x = K x := fun x hx => hK x (by have := sk_lt hx; omega)
  cases q : sk_ K (e + 1) with
  | nil => rfl
  | cons f r =>
    rw [q] at hm
    show (if _ then _ else _) = (if _ then _ else _)
    rw [hm f (by simp), (gc_w (fun y hy => hm y (by simp [hy]))).2]
theorem gc_pp (hK : ∀ j, j < b → K' j = K j) {e : Nat} (he : e + 1 < b) : pp_ K' e = pp_ K e := by
  unfold pp_ pb_ po_
  rw [gc_pa hK (by omega), gc_pc hK (by omega), hK (e + 1) he, gc_sk hK (show e + 1 ≤ b by omega)]
theorem gc_sg (hK : ∀ j, j < b → K' j = K j) (hV : ∀ j, j < b → V' j = V j) {s n : Nat} (h : s + n ≤ b) : sg_ K' V' s n = sg_ K V s n :=
  sg_ext (fun j hj => ⟨hK _ (by omega), hV _ (by omega)⟩)
theorem gc_kw (hK : ∀ j, j < b → K' j = K j) (hV : ∀ j, j < b → V' j = V j) {s e : Nat} {t : List (Nat × Nat)} (he : e < b) (hs : s ≤ e) (ht : ∀ p, p ∈ t → p.1 + p.2 ≤ b) : kw_ K' V' t s e = kw_ K V t s e := by
  rw [Bool.eq_iff_iff, kw_i, kw_i]
  constructor
  · rintro ⟨p, a, c⟩
    rw [gc_sg hK hV (ht p a), gc_sg hK hV (by omega)] at c
    exact ⟨p, a, c⟩
  · rintro ⟨p, a, c⟩
    refine ⟨p, a, ?_⟩
    rw [gc_sg hK hV (ht p a), gc_sg hK hV (by omega)]; exact c
theorem gc_tl (hK : ∀ j, j < b → K' j = K j) (hV : ∀ j, j < b → V' j = V j) {e : Nat} (he : e < b) : ∀ {l : List Nat} {t : List (Nat × Nat)}, (∀ x, x ∈ l → x ≤ e) → (∀ p, p ∈ t → p.1 + p.2 ≤ b) → tl_ K' V' e t l = tl_ K V e t l := by
  intro l
  induction l with
  | nil => intro t _ _; rfl
  | cons s l ih =>
    intro t hl ht
    have hsl := hl s (by simp)
    show tl_ K' V' e (ta_ K' V' e t s) l = tl_ K V e (ta_ K V e t s) l
    have e1 : ta_ K' V' e t s = ta_ K V e t s := by unfold ta_; rw [gc_kw hK hV he hsl ht]
    rw [e1]
    refine ih (fun x hx => hl x (by simp [hx])) (fun p hp => ?_)
    rcases ta_mem hp with z | z
    · exact ht p z
    · rw [z]; simp; omega
theorem tb_b {N i : Nat} (h : wf_ K V N) (hi : i ≤ N) {p : Nat × Nat} (hp : p ∈ tb_ K V i) : p.1 + p.2 ≤ i := by
  obtain ⟨e, s, c1, c2, c3, c4⟩ := tb_mem h hi hp
  rw [c3]; simp; omega
theorem gc_tb (hK : ∀ j, j < b → K' j = K j) (hV : ∀ j, j < b → V' j = V j) (h : wf_ K V b) : ∀ {i : Nat}, i ≤ b - 1 → tb_ K' V' i = tb_ K V i := by
  intro i
  induction i with
  | zero => intro _; rfl
  | succ i ih =>
    intro hi
    show tl_ K' V' i (tb_ K' V' i) (pp_ K' i) = tl_ K V i (tb_ K V i) (pp_ K i)
    rw [ih (by omega), gc_pp hK (by omega)]
    exact gc_tl hK hV (by omega) (fun x hx => pp_le h (by omega) hx) (fun p hp => by have := tb_b h (by omega) hp; omega)
theorem gc_kl (hK : ∀ j, j < b → K' j = K j) (hV : ∀ j, j < b → V' j = V j) (h : wf_ K V b) {s : Nat} : ∀ {i : Nat}, i ≤ b - 1 → kl_ K' V' s i = kl_ K V s i := by
  intro i
  induction i with
  | zero => intro _; rfl
  | succ i ih =>
    intro hi
    show (if (decide (s ∈ pp_ K' i) && kw_ K' V' (tb_ K' V' i) s i) = true then _ else _) = (if (decide (s ∈ pp_ K i) && kw_ K V (tb_ K V i) s i) = true then _ else _)
    rw [ih (by omega), gc_pp hK (by omega), gc_tb hK hV h (by omega)]
    by_cases q : s ∈ pp_ K i
    · rw [gc_kw hK hV (by omega) (pp_le h (by omega) q) (fun p hp => by have := tb_b h (by omega) hp; omega)]
    · rw [decide_eq_false q, Bool.false_and, Bool.false_and]
theorem gc_oe (hK : ∀ j, j < b → K' j = K j) {s e : Nat} (he : e < b) : oe_ K' s e = oe_ K s e := by
  unfold oe_; rw [gc_eb hK (by omega), gc_sk hK (by omega)]
theorem gc_ne (hK : ∀ j, j < b → K' j = K j) {s : Nat} : ∀ {i : Nat}, i ≤ b → ne_ K' s i = ne_ K s i := by
  intro i
  induction i with
  | zero => intro _; rfl
  | succ i ih =>
    intro hi
    show (if _ then _ else _) = (if _ then _ else _)
    rw [gc_oe hK (by omega), ih (by omega)]
theorem gc_hm (hK : ∀ j, j < b → K' j = K j) {s : Nat} : ∀ {i : Nat}, i ≤ b → hm_ K' s i = hm_ K s i := by
  intro i
  induction i with
  | zero => intro _; rfl
  | succ i ih =>
    intro hi
    show ((oe_ K' s i && decide (K' i = 1)) || hm_ K' s i) = ((oe_ K s i && decide (K i = 1)) || hm_ K s i)
    rw [gc_oe hK (by omega), ih (by omega), hK i (by omega)]
theorem gc_tm (hK : ∀ j, j < b → K' j = K j) {e : Nat} (he : e < b) : tm_ K' e = tm_ K e := by
  unfold tm_; rw [hK e he, gc_op hK (show e ≤ b by omega), gc_kop hK (by omega) (show e ≤ b by omega)]
theorem gc_tc (hK : ∀ j, j < b → K' j = K j) {f : Nat} : ∀ {i : Nat}, i ≤ b - 1 → tc_ K' f i = tc_ K f i := by
  intro i
  induction i with
  | zero => intro _; rfl
  | succ i ih =>
    intro hi
    show tc_ K' f i + (if _ then _ else _) = tc_ K f i + (if _ then _ else _)
    rw [ih (by omega), gc_op hK (show i + 1 ≤ b by omega), gc_tm hK (by omega), gc_eb hK (show i + 1 ≤ b by omega), hK (i + 1) (by omega)]
theorem gc_tp (hK : ∀ j, j < b → K' j = K j) {f : Nat} {c : Bool} : tp_ K' f c b = tp_ K f c b := by
  cases b with
  | zero => rfl
  | succ e =>
    show tc_ K' f e + (if _ then _ else _) = tc_ K f e + (if _ then _ else _)
    rw [gc_tc hK (by omega), gc_op hK (Nat.le_refl _), gc_tm hK (by omega), gc_eb hK (Nat.le_refl _)]
theorem gc_lp (hK : ∀ j, j < b → K' j = K j) {c : Bool} : lp_ K' c b = lp_ K c b := by
  cases b with
  | zero => rfl
  | succ e =>
    show (if _ then _ else _) = (if _ then _ else _)
    rw [gc_pa hK (by omega), gc_pc hK (by omega)]
theorem gc_ss (hK : ∀ j, j < b → K' j = K j) {c : Bool} : ss_ K' b c = ss_ K b c := by
  unfold ss_
  rw [gc_sk hK (Nat.le_refl _), gc_c (fun x hx => hK x (sk_lt hx))]
theorem gc_cr : ∀ {l : List Nat}, (∀ x, x ∈ l → K' x = K x) → cr_ K' l = cr_ K l := by
  intro l
  induction l with
  | nil => intro _; rfl
  | cons x r ih =>
    intro h
    show (if _ then _ else if _ then _ else _) + _ = (if _ then _ else if _ then _ else _) + _
    rw [h x (by simp), ih (fun y hy => h y (by simp [hy]))]
theorem gc_aq (hK : ∀ j, j < b → K' j = K j) (hV : ∀ j, j < b → V' j = V j) {n : Nat} {cs : Nat → List (Nat × Nat)} {cl : Nat → Bool} {xA : Nat → Int32} : ∀ {l : List Nat} {q : Nat}, q ≤ b → (∀ x, x ∈ l → x < q) → l.Pairwise (fun a b => b < a) → aq_ K V n cs cl xA q l → aq_ K' V' n cs cl xA q l := by
  intro l
  induction l with
  | nil => intro q _ _ _ _; trivial
  | cons x r ih =>
    intro q hq hl hp h
    have hx := hl x (by simp)
    have hp' := List.pairwise_cons.mp hp
    refine ⟨fun z => ?_, fun z => ?_, ih (by omega) hp'.1 hp'.2 h.2.2⟩
    · rw [hK x (by omega)] at z
      obtain ⟨c, a1, a2, a3, a4⟩ := h.1 z
      exact ⟨c, a1, a2, a3, by rw [a4, gc_sg hK hV (by omega)]⟩
    · rw [hK x (by omega)] at z
      rcases h.2.1 z with w | ⟨w, c, a1, a2, a3, a4⟩
      · exact Or.inl w
      · exact Or.inr ⟨w, c, a1, a2, a3, by rw [a4, gc_sg hK hV (by omega)]⟩
end
section
variable {xo xb : Int64} {xl xs xg xu xd xc xe xp xf xz : Int32} {xK xV xO xT xS xA xY xN xW xk xt xH xn : Nat → Int32} {xq : Nat → Int64} {xy xF xZ xC xv : Nat → Int32}
variable {K K' V V' : Nat → Nat} {i : Nat}
theorem gc_ti {c : Bool} {n : Nat} {cs : Nat → List (Nat × Nat)} {cl : Nat → Bool} (hK : ∀ j, j < i → K' j = K j) (hV : ∀ j, j < i → V' j = V j) (h : wf_ K V i) (T : ti_ K V i c n cs cl xd xS xA xY xN xW xH xc xe xk xt xq xy xF xZ) :
    ti_ K' V' i c n cs cl xd xS xA xY xN xW xH xc xe xk xt xq xy xF xZ := by
  obtain ⟨⟨t1, t1b, t1c⟩, t2, t3, t4, t5, t6, t7, t8, t9⟩ := T
  have hlp : ∀ x, x ∈ lp_ K c i → x ≤ i - 1 := by
    intro x hx
    cases i with
    | zero => exact absurd hx (by simp [lp_])
    | succ e =>
      have hpp : ∀ y, y ∈ pa_ K e ++ pc_ K e → y ≤ e := by
        intro y hy
        have hK11 : ∀ j, j < e + 1 → (fun j => if j < e + 1 then K j else 11) j = K j := fun j hj => if_pos hj
        have hw2 := gc_wf (V' := V) hK11 (fun _ _ => rfl) h
        have e1 : pp_ (fun j => if j < e + 1 then K j else 11) e = pa_ K e ++ pc_ K e := by
          unfold pp_ pb_
          rw [if_neg (by show ¬ ((if e + 1 < e + 1 then K (e + 1) else 11) = 1 ∨ (if e + 1 < e + 1 then K (e + 1) else 11) = 3); rw [if_neg (Nat.lt_irrefl _)]; decide), gc_pa hK11 (by omega), gc_pc hK11 (by omega)]
        have := pp_le hw2 (e := e) (s := y) (by omega) (by rw [e1]; exact hy)
        exact this
      show x ≤ e
      cases c with
      | true => exact hpp x hx
      | false => exact hpp x (by simp; exact Or.inl hx)
  have htb : ∀ p, p ∈ tb_ K V (i - 1) → p.1 + p.2 ≤ i := fun p hp => by have := tb_b h (by omega) hp; omega
  have htl : ∀ p, p ∈ tl_ K V (i - 1) (tb_ K V (i - 1)) (lp_ K c i) → p.1 + p.2 ≤ i := by
    intro p hp
    rcases tl_mem hp with z | ⟨s, hs, z⟩
    · exact htb p z
    · have := hlp s hs
      rw [z]
      cases i with
      | zero => exact absurd hs (by simp [lp_])
      | succ e => simp at this ⊢; omega
  have etl : tl_ K' V' (i - 1) (tb_ K' V' (i - 1)) (lp_ K' c i) = tl_ K V (i - 1) (tb_ K V (i - 1)) (lp_ K c i) := by
    rw [gc_lp hK, gc_tb hK hV h (Nat.le_refl _)]
    cases i with
    | zero => rfl
    | succ e => exact gc_tl hK hV (by omega) hlp htb
  have hpw : (ss_ K i c).Pairwise (fun a b => b < a) := (gs_pw (si_all h i (Nat.le_refl _)).1).sublist ss_suf.sublist
  have hlt : ∀ x, x ∈ ss_ K i c → x < i := fun x hx => sk_lt (ss_suf.subset hx)
  refine ⟨⟨?_, ?_, ?_⟩, by rw [gc_ss hK]; exact t2, by rw [gc_ss hK]; exact t3, ?_, ?_, ?_, ?_, ?_, ?_⟩
  · rw [etl]
    obtain ⟨a1, a2, a3, a4, a5, a6, a7⟩ := t1
    refine ⟨a1, a2, a3, a4, a5, fun c' hc' => ?_, fun p hp => ?_⟩
    · rcases a6 c' hc' with ⟨b1, b2⟩ | ⟨k, p, b1, b2, b3, b4⟩
      · refine Or.inl ⟨b1, ?_⟩
        rcases b2 with b2 | b2
        · exact Or.inl b2
        · exact Or.inr (fun p hp => by rw [gc_sg hK hV (htl p hp)]; exact b2 p hp)
      · exact Or.inr ⟨k, p, b1, b2, b3, by rw [gc_sg hK hV (htl p (List.mem_of_getElem? b3))]; exact b4⟩
    · obtain ⟨c', b1, b2, b3⟩ := a7 p hp
      exact ⟨c', b1, b2, by rw [b3, gc_sg hK hV (htl p hp)]⟩
  · rw [etl]; exact t1b
  · rw [etl]
    intro s hs
    have ekp : kp_ K' V' (i - 1) (lp_ K' c i) s = kp_ K V (i - 1) (lp_ K c i) s := by
      unfold kp_
      rw [gc_lp hK, gc_kl hK hV h (Nat.le_refl _), gc_tb hK hV h (Nat.le_refl _), gc_kw hK hV (by omega) (by omega) htb]
    rw [ekp]
    obtain ⟨b1, b2⟩ := t1c s hs
    refine ⟨b1, fun z => ?_⟩
    obtain ⟨k, f, c1, c2, c3⟩ := b2 z
    refine ⟨k, f, c1, c2, ?_⟩
    have hb := htl _ (List.mem_of_getElem? c1)
    rw [gc_sg hK hV hb]
    have hkb : s + kp_ K V (i - 1) (lp_ K c i) s ≤ i := by
      unfold kp_
      by_cases w : (decide (s ∈ lp_ K c i) && kw_ K V (tb_ K V (i - 1)) s (i - 1)) = true
      · rw [if_pos w]; omega
      · rw [if_neg w]
        by_cases w2 : kl_ K V s (i - 1) = 0
        · omega
        · obtain ⟨e, d1, d2, d3, d4, d5, _⟩ := kl_in h (m := i - 1) (by omega) w2
          omega
    rw [gc_sg hK hV hkb]; exact c3
  · rw [gc_ss hK]; exact gc_aq hK hV (Nat.le_refl _) hlt hpw t4
  · intro j hj
    refine ⟨fun s q => (t5 j hj).1 s (by rw [gc_oe hK hj] at q; exact q), fun q => (t5 j hj).2 (fun z => q ((gc_en hK (by omega)).mpr z))⟩
  · intro s hs q
    rw [hK s hs] at q
    rw [gc_ne hK (Nat.le_refl _)]; exact t6 s hs q
  · intro s hs
    rw [gc_hm hK (Nat.le_refl _)]; exact t7 s hs
  · intro f hf q
    rw [hK f hf] at q
    rw [gc_tp hK]; exact t8 f hf q
  · rw [gc_ss hK, gc_cr (fun x hx => hK x (hlt x hx))]; exact t9
end
end
section
/-! fits, append, add -/
/-- ft_ with its parts named -/
def fq_ (A B : Prop) (l o ko k v : Nat) : Prop :=
  (k = 1 ∧ A) ∨ (k = 3 ∧ A ∧ l ≠ 11) ∨ (k = 10 ∧ o = 0 ∧ A) ∨
     (k ≠ 1 ∧ k ≠ 3 ∧ k ≠ 10 ∧ o ≠ 0 ∧
       (((5 ≤ l ∧ l ≤ 8) ∧ k ≠ 11 ∧ k ≠ 6 ∧ k ≠ 7 ∧ (k ≠ 8 ∨ l ≠ 8)) ∨
        (¬ (5 ≤ l ∧ l ≤ 8) ∧ ((k = 11 ∧ B) ∨ (k ≠ 11 ∧ (k ≠ 4 ∨ v ≠ 0 ∨ ¬ B ∨ ko = 3))))))
theorem fq_i {K : Nat → Nat} {i k v : Nat} (h : 0 < i) : ft_ K i k v ↔ fq_ (en_ K i) (eg_ K i) (K (i - 1)) (op_ K i) (K (op_ K i)) k v := by
  unfold ft_ fq_
  rw [ka_wi, ka_wn]
  constructor
  · rintro (z | z)
    · omega
    · exact z.2
  · intro z; exact Or.inr ⟨h, z⟩
theorem zI_lt {z : Nat} (h : z < 2 ^ 31) : (z = 0 → zI z < 0) ∧ (z ≠ 0 → ¬ zI z < 0) := by
  constructor
  · intro q; rw [q]; decide
  · intro q; rw [zI_p q]; exact nI_pos h
theorem zI_le {z : Nat} (h : z < 2 ^ 31) : (z = 0 → ¬ 0 ≤ zI z) ∧ (z ≠ 0 → 0 ≤ zI z) := by
  constructor
  · intro q; rw [q]; decide
  · intro q; rw [zI_p q]; exact nI_pos' h
theorem op_le {K : Nat → Nat} {i : Nat} : op_ K i ≤ i := by
  by_cases z : op_ K i = 0
  · omega
  · have := (op_fs z).2.1; omega
section
variable {xo xb : Int64} {xl xs xg xu xd xc xe xp xf xz : Int32} {xK xV xO xT xS xA xY xN xW xk xt xH xn : Nat → Int32} {xq : Nat → Int64} {xy xF xZ xC xv : Nat → Int32}
variable {K V : Nat → Nat} {N : Nat}
theorem zf_en {post : Int32 → Prop} {e : Nat} (hw : wf_ K V N) (hN : N ≤ 48) (hkx : kx_ K V N xK xV) (hox : ox_ K N xO) (he : e < N) (h1 : en_ K (e + 1) → post 1) (h0 : ¬ en_ K (e + 1) → post 0) : wpX_endsName post (xo, xb, xl, xs, xg, xu, xd, xc, xe, xp, xf, xz, xK, xV, xO, xT, xS, xA, xY, xN, xW, xk, xt, xH, xn, xq, xy, xF, xZ, xC, xv) (nI e) := by
  have hv : vp_in (nI e) 48 := vp_in_nI (by omega) (by omega)
  have hc : (nI e).toNatClampNeg = e := nI_clamp (by omega)
  have hk := hkx e he
  have hK := hk.2.2.1
  refine ⟨hv, ?_⟩
  rw [hc, hk.1]
  refine pk_eq (K e) 11 (fun q => ?_) (fun q => ⟨hv, pk_eq (K e) 1 (fun q1 => h1 (en_1 (by omega))) (fun q1 => ⟨hv, zx_h hK (fun z => br_f (by decide) (h1 (en_1 (by rw [ka_hi] at z; omega)))) (fun z => br_t rfl (h0 (en_n (by rw [ka_hn] at z; omega) q)))⟩)⟩)
  obtain ⟨r, ec, hs, ho, hf, hl⟩ := end_top hw he q
  have hp : nI e - 1 = nI (e - 1) := pk_sub (b := 1) (by omega)
  have hoi : xO (e - 1) = nI (op_ K e) := by rw [hox (e - 1) (by omega), show e - 1 + 1 = e by omega, zI_p ho]
  have hv1 : vp_in (nI (e - 1)) 48 := vp_in_nI (by omega) (by omega)
  refine br_f (nI_nle (by omega) (by omega)) ?_
  rw [hp]
  refine ⟨hv1, ?_⟩
  rw [nI_clamp (by omega), hoi]
  refine br_f (nI_pos (by omega)) ⟨hv1, vp_in_nI (by omega) (by omega), ?_⟩
  have hko := hkx (op_ K e) (by omega)
  rw [nI_clamp (by omega), hko.1]
  exact pk_eq (K (op_ K e)) 3 (fun z => h1 ((en_e q).mpr ⟨z, ho⟩)) (fun z => h0 (fun w => z ((en_e q).mp w).1)) (ha := by have := hko.2.2.1; omega)
theorem zf_187 {post : Int32 → Prop} {k v f : Nat} {p1 : Int32} {B : Prop} {z0 : Int32} (hN : N ≤ 48) (hkx : kx_ K V N xK xV) (hk : k ≤ 11) (hf : f < N) (hv : p1 = 0 ↔ v = 0) (hz : (z0 = 1 ∧ B) ∨ (z0 = 0 ∧ ¬ B))
    (h1 : (k = 11 ∧ B) ∨ (k ≠ 11 ∧ (k ≠ 4 ∨ v ≠ 0 ∨ ¬ B ∨ K f = 3)) → post 1) (h0 : ¬ ((k = 11 ∧ B) ∨ (k ≠ 11 ∧ (k ≠ 4 ∨ v ≠ 0 ∨ ¬ B ∨ K f = 3))) → post 0) : wX_fits_187 post (nI k) p1 (nI f) z0 xo xb xl xs xg xu xd xc xe xp xf xz xK xV xO xT xS xA xY xN xW xk xt xH xn xq xy xF xZ xC xv := by
  have hkf := hkx f hf
  refine pk_eq k 11 (fun q => ?_) (fun q => pk_eq k 4 (fun q4 => ?_) (fun q4 => h1 (Or.inr ⟨q, Or.inl q4⟩)))
  · rcases hz with ⟨e, b⟩ | ⟨e, b⟩
    · subst e; exact ⟨rfl, h1 (Or.inl ⟨q, b⟩)⟩
    · subst e; exact ⟨rfl, h0 (fun z => z.elim (fun w => b w.2) (fun w => w.1 q))⟩
  · by_cases w : p1 = 0
    · refine br_t w ?_
      rcases hz with ⟨e, b⟩ | ⟨e, b⟩
      · subst e
        refine br_f (by decide) ⟨vp_in_nI (by omega) (by omega), ?_⟩
        rw [nI_clamp (by omega), hkf.1]
        refine pk_eq (K f) 3 (fun y => h1 (Or.inr ⟨q, Or.inr (Or.inr (Or.inr y))⟩)) (fun y => h0 (fun z => ?_)) (ha := by have := hkf.2.2.1; omega)
        rcases z with z | ⟨_, z | z | z | z⟩
        · omega
        · exact z q4
        · exact z (hv.mp w)
        · exact z b
        · exact y z
      · subst e; exact br_t rfl (h1 (Or.inr ⟨q, Or.inr (Or.inr (Or.inl b))⟩))
    · exact br_f w (h1 (Or.inr ⟨q, Or.inr (Or.inl (fun z => w (hv.mpr z)))⟩))
theorem zf_x {post : Int32 → Prop} {k v : Nat} {p1 : Int32} (hw : wf_ K V N) (hN : N ≤ 48) (hs : xs = nI N) (hkx : kx_ K V N xK xV) (hox : ox_ K N xO) (hk : k ≤ 11) (hv : p1 = 0 ↔ v = 0)
    (h1 : ft_ K N k v → post 1) (h0 : ¬ ft_ K N k v → post 0) : wpX_fits post (xo, xb, xl, xs, xg, xu, xd, xc, xe, xp, xf, xz, xK, xV, xO, xT, xS, xA, xY, xN, xW, xk, xt, xH, xn, xq, xy, xF, xZ, xC, xv) (nI k) p1 := by
  by_cases hz : N = 0
  · subst hz
    refine br_t hs (pk_eq k 0 (fun q => h1 (Or.inl ⟨rfl, q⟩)) (fun q => h0 (fun z => ?_)))
    rcases z with z | z
    · exact q z.2
    · omega
  have hp : 0 < N := by omega
  rw [fq_i hp] at h1 h0
  have e1 : nI N - 1 = nI (N - 1) := pk_sub (b := 1) (by omega)
  have hv1 : vp_in (nI (N - 1)) 48 := vp_in_nI (by omega) (by omega)
  have hc1 : (nI (N - 1)).toNatClampNeg = N - 1 := nI_clamp (by omega)
  have hkl := hkx (N - 1) (by omega)
  have hKl := hkl.2.2.1
  have hoN : xO (N - 1) = zI (op_ K N) := by rw [hox (N - 1) (by omega), show N - 1 + 1 = N by omega]
  have hop := op_le (K := K) (i := N)
  have een : N - 1 + 1 = N := by omega
  refine br_f (by rw [hs]; exact nI_ne0 hp (by omega)) (nm_r (e' := nI (N - 1)) (by rw [hs, e1]) ⟨hv1, nm_r (e' := zI (op_ K N)) (by rw [hc1, hoN]) ⟨hv1, nm_r (e' := nI (K (N - 1))) (by rw [hc1, hkl.1]) ?_⟩⟩)
  refine pk_eq k 1 (fun q => ?_) (fun q1 => pk_eq k 3 (fun q => ?_) (fun q3 => pk_eq k 10 (fun q => ?_) (fun q10 => ?_)))
  · refine zf_en hw hN hkx hox (by omega) (fun z => ⟨rfl, h1 ?_⟩) (fun z => ⟨rfl, h0 ?_⟩)
    · rw [een] at z; exact Or.inl ⟨q, z⟩
    · rw [een] at z; unfold fq_; rw [q]; simp [z]
  · refine zf_en hw hN hkx hox (by omega) (fun z => br_f (by decide) (pk_eq (K (N - 1)) 11 (fun w => h0 ?_) (fun w => h1 ?_))) (fun z => br_t rfl (h0 ?_))
    · unfold fq_; rw [q]; simp [w]
    · rw [een] at z; exact Or.inr (Or.inl ⟨q, z, w⟩)
    · rw [een] at z; unfold fq_; rw [q]; simp [z]
  · by_cases hoz : op_ K N = 0
    · refine br_f ((zI_le (by omega)).1 hoz) ?_
      refine zf_en hw hN hkx hox (by omega) (fun z => br_f (by decide) (h1 ?_)) (fun z => br_t rfl (h0 ?_))
      · rw [een] at z; exact Or.inr (Or.inr (Or.inl ⟨q, hoz, z⟩))
      · rw [een] at z; unfold fq_; rw [q]; simp [z]
    · refine br_t ((zI_le (by omega)).2 hoz) (h0 ?_)
      unfold fq_; rw [q]; simp [hoz]
  · by_cases hoz : op_ K N = 0
    · refine br_f ((zI_le (by omega)).1 hoz) (h0 ?_)
      unfold fq_; rw [hoz]; simp [q1, q3, q10]
    · refine br_t ((zI_le (by omega)).2 hoz) ?_
      have hof := op_fs hoz
      rw [zI_p hoz]
      refine zx_w hKl (fun hwr => br_f (by decide) ?_) (fun hwr => br_t rfl ?_)
      · rw [ka_wi] at hwr
        refine pk_eq k 11 (fun q => h0 (fun z => ?_)) (fun q11 => pk_eq k 6 (fun q => h0 (fun z => ?_)) (fun q6 => pk_eq k 7 (fun q => h0 (fun z => ?_)) (fun q7 => pk_eq k 8 (fun q => pk_eq (K (N - 1)) 8 (fun w => h0 (fun z => ?_)) (fun w => h1 ?_)) (fun q8 => h1 ?_))))
        · unfold fq_ at z; omega
        · unfold fq_ at z; omega
        · unfold fq_ at z; omega
        · unfold fq_ at z; omega
        · exact Or.inr (Or.inr (Or.inr ⟨q1, q3, q10, hoz, Or.inl ⟨hwr, q11, q6, q7, Or.inr w⟩⟩))
        · exact Or.inr (Or.inr (Or.inr ⟨q1, q3, q10, hoz, Or.inl ⟨hwr, q11, q6, q7, Or.inl q8⟩⟩))
      · rw [ka_wn] at hwr
        have fin : ∀ z0 : Int32, ((z0 = 1 ∧ eg_ K N) ∨ (z0 = 0 ∧ ¬ eg_ K N)) → wX_fits_187 post (nI k) p1 (nI (op_ K N)) z0 xo xb xl xs xg xu xd xc xe xp xf xz xK xV xO xT xS xA xY xN xW xk xt xH xn xq xy xF xZ xC xv := by
          intro z0 hz0
          refine zf_187 hN hkx hk (by omega) hv hz0 (fun w => h1 (Or.inr (Or.inr (Or.inr ⟨q1, q3, q10, hoz, Or.inr ⟨hwr, w⟩⟩)))) (fun w => h0 (fun z => ?_))
          rcases z with z | z | z | ⟨_, _, _, _, z | z⟩
          · exact q1 z.1
          · exact q3 z.1
          · exact q10 z.1
          · exact hwr z.1
          · exact w z.2
        refine pk_eq (N - 1) (op_ K N) (fun w => ⟨vp_in_nI (by omega) (by omega), ?_⟩) (fun w => fin 1 (Or.inl ⟨rfl, Or.inl w⟩))
        have hkf := hkx (op_ K N) (by omega)
        rw [nI_clamp (by omega), hkf.1]
        refine pk_eq (K (op_ K N)) 10 (fun y => zw_rc hN hkx (by omega) (by omega) ?_) (fun y => fin 0 (Or.inr ⟨rfl, fun z => z.elim (fun x => x w) (fun x => y x.1)⟩)) (ha := by have := hkf.2.2.1; omega)
        by_cases x : K (op_ K N - 1) = 11
        · have : rc_ K (op_ K N) = 1 := by unfold rc_; rw [if_pos (Or.inr ⟨y, x⟩)]
          rw [this]
          exact br_f (by decide) (fin 0 (Or.inr ⟨rfl, fun z => z.elim (fun x => x w) (fun t => t.2 x)⟩))
        · have : rc_ K (op_ K N) = 0 := by unfold rc_; rw [if_neg (by omega)]
          rw [this]
          exact br_t rfl (fin 1 (Or.inl ⟨rfl, Or.inr ⟨y, x⟩⟩))
/-- one node more -/
def un_ (F : Nat → Nat) (n x : Nat) : Nat → Nat := fun j => if j = n then x else F j
theorem un_s {F : Nat → Nat} {n x : Nat} : un_ F n x n = x := if_pos rfl
theorem un_n {F : Nat → Nat} {n x j : Nat} (h : j ≠ n) : un_ F n x j = F j := if_neg h
theorem un_lt {F : Nat → Nat} {n x : Nat} : ∀ j, j < n → un_ F n x j = F j := fun j h => un_n (by omega)
theorem wf_add {k v : Nat} (hw : wf_ K V N) (hv : vr_ k v) (hf : ft_ K N k v) : wf_ (un_ K N k) (un_ V N v) (N + 1) := by
  intro i hi
  by_cases z : i = N
  · subst z
    rw [un_s, un_s]
    exact ⟨hv, (gc_ft (b := i) un_lt (Nat.le_refl _)).mpr hf⟩
  · rw [un_n z, un_n z]
    have := hw i (by omega)
    exact ⟨this.1, (gc_ft (b := N) un_lt (by omega)).mpr this.2⟩
theorem kx_add {k v : Nat} {a c : Nat → Int32} (h : kx_ K V N a c) (hk : k ≤ 11) (hv : v ≤ 701) : kx_ (un_ K N k) (un_ V N v) (N + 1) (upd a N (nI k)) (upd c N (nI v)) := by
  intro j hj
  by_cases z : j = N
  · rw [z, pk_us, pk_us, un_s, un_s]; exact ⟨rfl, rfl, hk, hv⟩
  · rw [pk_un z, pk_un z, un_n z, un_n z]; exact h j (by omega)
theorem mx_le {k : Nat} : mx_ k ≤ 701 := by unfold mx_; split <;> (try split) <;> (try split) <;> omega
theorem zf_ap {post : SX → Prop} {k v : Nat} (h0 : 0 < N → K 0 = 0) (hN : N < 48) (hs : xs = nI N) (hox : ox_ K N xO) (hk : k ≤ 11) (hK0 : N = 0 → k = 0)
    (H : ox_ (un_ K N k) (N + 1) (upd xO N (zI (op_ (un_ K N k) (N + 1)))) → post (xo, xb, xl, nI (N + 1), xg, xu, xd, xc, xe, xp, xf, xz, upd xK N (nI k), upd xV N (nI v), upd xO N (zI (op_ (un_ K N k) (N + 1))), xT, xS, xA, xY, xN, xW, xk, xt, xH, xn, xq, xy, xF, xZ, xC, xv)) : wpX_append post (xo, xb, xl, xs, xg, xu, xd, xc, xe, xp, xf, xz, xK, xV, xO, xT, xS, xA, xY, xN, xW, xk, xt, xH, xn, xq, xy, xF, xZ, xC, xv) (nI k) (nI v) := by
  have hox' : ∀ c, c = zI (op_ (un_ K N k) (N + 1)) → ox_ (un_ K N k) (N + 1) (upd xO N c) := by
    intro c hc j hj
    by_cases z : j = N
    · rw [z, pk_us, hc]
    · rw [pk_un z, hox j (by omega), gc_op (b := N) un_lt (by omega)]
  have hNc : (nI N).toNatClampNeg = N := nI_clamp (by omega)
  have hNv : vp_in (nI N) 48 := vp_in_nI (by omega) (by omega)
  have h78 : ∀ c : Int32, c = zI (op_ (un_ K N k) (N + 1)) → wX_append_78 post (nI k) (nI v) c xo xb xl xs xg xu xd xc xe xp xf xz xK xV xO xT xS xA xY xN xW xk xt xH xn xq xy xF xZ xC xv := by
    intro c hc
    subst hs
    subst hc
    exact ⟨hNv, nm_r (e' := upd xK N (nI k)) (by rw [hNc]) ⟨hNv, nm_r (e' := upd xV N (nI v)) (by rw [hNc]) ⟨hNv, nm_r (e' := upd xO N (zI (op_ (un_ K N k) (N + 1)))) (by rw [hNc]) (nm_r (nI_1 N) (H (hox' _ rfl)))⟩⟩⟩
  have eop : op_ (un_ K N k) N = op_ K N := gc_op (b := N) un_lt (Nat.le_refl _)
  have h32 : wX_append_32 post (nI k) (nI v) (zI (op_ K N)) xo xb xl xs xg xu xd xc xe xp xf xz xK xV xO xT xS xA xY xN xW xk xt xH xn xq xy xF xZ xC xv := by
    have hfr : (k = 3 ∨ k = 9 ∨ k = 10) → wX_append_50 post (nI k) (nI v) xo xb xl xs xg xu xd xc xe xp xf xz xK xV xO xT xS xA xY xN xW xk xt xH xn xq xy xF xZ xC xv := by
      intro q
      show wX_append_55 post (nI k) (nI v) xs xo xb xl xs xg xu xd xc xe xp xf xz xK xV xO xT xS xA xY xN xW xk xt xH xn xq xy xF xZ xC xv
      refine br_f (fun z => by have := (nI_eq (a := k) (b := 11) (by omega) (by omega)).mp z; omega) (h78 xs ?_)
      have hf : ka_f (un_ K N k N) = true := by rw [un_s, ka_fi]; exact q
      have hN0 : N ≠ 0 := fun z => by have := hK0 z; omega
      rw [op_c1 hf, zI_p hN0, hs]
    refine pk_eq k 3 (fun q => hfr (by omega)) (fun q3 => pk_eq k 9 (fun q => hfr (by omega)) (fun q9 => pk_eq k 10 (fun q => hfr (by omega)) (fun q10 => ?_)))
    have hnf : ka_f (un_ K N k N) = false := by rw [un_s, ka_fn]; omega
    refine pk_eq k 11 (fun q => ?_) (fun q => h78 _ ?_)
    · have h11 : un_ K N k N = 11 := by rw [un_s]; exact q
      by_cases z : op_ K N = 0
      · refine br_t (by rw [z]; decide) (h78 _ ?_)
        have : fs_ (un_ K N k) N = [] := by
          cases e : fs_ (un_ K N k) N with
          | nil => rfl
          | cons f r =>
            have hN0 : 0 < N := by
              rcases Nat.eq_zero_or_pos N with w | w
              · rw [w] at e; exact absurd e (by simp [fs_])
              · exact w
            have := fs_op (n := N) (K := un_ K N k) (by rw [un_n (by omega)]; exact h0 hN0) e
            omega
        have e2 : op_ (un_ K N k) (N + 1) = 0 := op_nil (by rw [op_s2 h11, this]; rfl)
        rw [e2]; rfl
      · have hof := op_fs z
        rw [zI_p z]
        refine br_f (nI_nle (by omega) (by omega)) ?_
        rw [show nI (op_ K N) - 1 = nI (op_ K N - 1) from pk_sub (b := 1) (by omega)]
        refine ⟨vp_in_nI (by omega) (by omega), ?_⟩
        rw [nI_clamp (by omega)]
        refine h78 _ ?_
        rw [hox (op_ K N - 1) (by omega), show op_ K N - 1 + 1 = op_ K N by omega, op_c2 h11 (by rw [eop]; exact z), eop, gc_op (b := N) un_lt (by omega)]
    · have hn11 : un_ K N k N ≠ 11 := by rw [un_s]; exact q
      rw [op_c3 hnf hn11, eop]
  refine br_t (by rw [hs]; exact nI_lt (b := 48) hN (by omega)) ?_
  by_cases z : N = 0
  · subst z
    exact br_t (by rw [hs]; decide) h32
  · refine br_f (by rw [hs]; exact nI_nle (by omega) (by omega)) ?_
    rw [show xs - 1 = nI (N - 1) by rw [hs]; exact pk_sub (b := 1) (by omega)]
    refine ⟨vp_in_nI (by omega) (by omega), ?_⟩
    rw [nI_clamp (by omega), hox (N - 1) (by omega), show N - 1 + 1 = N by omega]
    exact h32
end
end
section
/-! Y: fits, add -/
section
variable {yl ys yg yo yc : Int32} {yK yV yA yB yT yO yF yZ yC yS : Nat → Int32}
variable {K V : Nat → Nat} {N : Nat}
theorem zg_278 {post : Int32 → Prop} {k v o : Nat} {p1 z0 : Int32} {B : Prop} (hN : N ≤ 48) (h0N : 0 < N) (hs : ys = nI N) (hkx : kx_ K V N yK yV) (hk : k ≤ 11) (ho : o < N) (hv : p1 = 0 ↔ v = 0)
    (hz : (z0 = 1 ∧ ¬ B ∧ K o ≠ 3) ∨ (z0 = 0 ∧ (B ↔ (K o ≠ 3 ∨ o ≠ N - 1))))
    (h1 : (k = 11 ∧ B) ∨ (k ≠ 11 ∧ (k ≠ 4 ∨ v ≠ 0 ∨ ¬ B ∨ K o = 3)) → post 1) (h0 : ¬ ((k = 11 ∧ B) ∨ (k ≠ 11 ∧ (k ≠ 4 ∨ v ≠ 0 ∨ ¬ B ∨ K o = 3))) → post 0) : wY_fits_278 post (nI k) p1 (nI o) z0 yl ys yg yo yc yK yV yA yB yT yO yF yZ yC yS := by
  have hko := hkx o ho
  have hov : vp_in (nI o) 64 := vp_in_nI (by omega) (by omega)
  have e1 : ys - 1 = nI (N - 1) := by rw [hs]; exact pk_sub (b := 1) (by omega)
  refine pk_eq k 11 (fun q => ?_) (fun q => ?_)
  · rcases hz with ⟨e, b, _⟩ | ⟨e, b⟩
    · subst e
      exact br_f (by decide) (h0 (fun z => z.elim (fun w => b w.2) (fun w => w.1 q)))
    · subst e
      refine br_t rfl ⟨hov, ?_⟩
      rw [nI_clamp (by omega), hko.1, e1]
      refine pk_eq (K o) 3 (fun w => pk_eq o (N - 1) (fun y => h0 (fun z => ?_)) (fun y => h1 (Or.inl ⟨q, b.mpr (Or.inr y)⟩))) (fun w => h1 (Or.inl ⟨q, b.mpr (Or.inl w)⟩)) (ha := by have := hko.2.2.1; omega)
      rcases z with z | z
      · rcases b.mp z.2 with x | x
        · exact x w
        · exact x y
      · exact z.1 q
  · rcases hz with ⟨e, b, _⟩ | ⟨e, b⟩
    · subst e
      exact br_f (by decide) (h1 (Or.inr ⟨q, Or.inr (Or.inr (Or.inl b))⟩))
    · subst e
      refine br_t rfl ⟨hov, ?_⟩
      rw [nI_clamp (by omega), hko.1]
      refine pk_eq (K o) 3 (fun w => h1 (Or.inr ⟨q, Or.inr (Or.inr (Or.inr w))⟩)) (fun w => pk_eq k 4 (fun q4 => ?_) (fun q4 => h1 (Or.inr ⟨q, Or.inl q4⟩))) (ha := by have := hko.2.2.1; omega)
      by_cases x : p1 = 0
      · refine br_t x (h0 (fun z => ?_))
        rcases z with z | ⟨_, z | z | z | z⟩
        · omega
        · exact z q4
        · exact z (hv.mp x)
        · exact z (b.mpr (Or.inl w))
        · exact w z
      · exact br_f x (h1 (Or.inr ⟨q, Or.inr (Or.inl (fun z => x (hv.mpr z)))⟩))
theorem zg_y {post : Int32 → Prop} {k v : Nat} {p1 : Int32} (hw : wf_ K V N) (hN : N ≤ 48) (hs : ys = nI N) (hkx : kx_ K V N yK yV) (hk : k ≤ 11) (hv : p1 = 0 ↔ v = 0)
    (h1 : ft_ K N k v → post 1) (h0 : ¬ ft_ K N k v → post 0) : wpY_fits post (yl, ys, yg, yo, yc, yK, yV, yA, yB, yT, yO, yF, yZ, yC, yS) (nI k) p1 := by
  by_cases hz : N = 0
  · subst hz
    refine br_f (by rw [hs]; decide) (pk_eq k 0 (fun q => h1 (Or.inl ⟨rfl, q⟩)) (fun q => h0 (fun z => ?_)))
    rcases z with z | z
    · exact q z.2
    · omega
  have hp : 0 < N := by omega
  have hK0 := wf_0 hw hp
  rw [fq_i hp] at h1 h0
  have e1 : ys - 1 = nI (N - 1) := by rw [hs]; exact pk_sub (b := 1) (by omega)
  have hv1 : vp_in (nI (N - 1)) 64 := vp_in_nI (by omega) (by omega)
  have hc1 : (nI (N - 1)).toNatClampNeg = N - 1 := nI_clamp (by omega)
  have hkl := hkx (N - 1) (by omega)
  have hKl := hkl.2.2.1
  have hop := op_le (K := K) (i := N)
  -- part, args
  have h104 : ∀ (x6 z0 : Int32), ((x6 = 1 ∧ K (N - 1) ≤ 2) ∨ (x6 = 0 ∧ 2 < K (N - 1))) → ((z0 = 1 ∧ K (N - 1) = 11 ∧ en_ K N) ∨ (z0 = 0 ∧ (en_ K N → K (N - 1) ≤ 2))) →
      wY_fits_104 post (nI k) p1 (nI (K (N - 1))) (zI (op_ K N)) x6 z0 yl ys yg yo yc yK yV yA yB yT yO yF yZ yC yS := by
    intro x6 z0 hx hz
    have hpart : K (N - 1) ≤ 2 → en_ K N := fun z => ⟨hp, Or.inl z⟩
    have h116 : (k = 1 ∨ k = 3) → wY_fits_116 post (nI k) x6 z0 yl ys yg yo yc yK yV yA yB yT yO yF yZ yC yS := by
      intro q
      rcases hx with ⟨e, a⟩ | ⟨e, a⟩
      · subst e
        refine br_f (by decide) (h1 ?_)
        rcases q with q | q
        · exact Or.inl ⟨q, hpart a⟩
        · exact Or.inr (Or.inl ⟨q, hpart a, by omega⟩)
      · subst e
        refine br_t rfl ?_
        rcases hz with ⟨e, b, c⟩ | ⟨e, b⟩
        · subst e
          refine br_f (by decide) (pk_eq k 1 (fun q1 => h1 (Or.inl ⟨q1, c⟩)) (fun q1 => h0 ?_))
          intro z; unfold fq_ at z; omega
        · subst e
          refine br_t rfl (h0 (fun z => ?_))
          have : ¬ en_ K N := fun w => by have := b w; omega
          unfold fq_ at z
          rcases z with z | z | z | z
          · exact this z.2
          · exact this z.2.1
          · exact this z.2.2
          · omega
    have h149 : (k ≠ 1 ∧ k ≠ 3 ∧ (op_ K N = 0 ∨ k = 10)) → wY_fits_149 post (nI k) (zI (op_ K N)) x6 z0 yl ys yg yo yc yK yV yA yB yT yO yF yZ yC yS := by
      intro q
      by_cases hoz : op_ K N = 0
      · rw [hoz]
        refine br_f (by decide) (pk_eq k 10 (fun q10 => ?_) (fun q10 => h0 (fun z => ?_)))
        · rcases hx with ⟨e, a⟩ | ⟨e, a⟩
          · subst e
            exact br_f (by decide) (h1 (Or.inr (Or.inr (Or.inl ⟨q10, hoz, hpart a⟩))))
          · subst e
            refine br_t rfl ?_
            rcases hz with ⟨e, b, c⟩ | ⟨e, b⟩
            · subst e
              exact br_f (by decide) (h1 (Or.inr (Or.inr (Or.inl ⟨q10, hoz, c⟩))))
            · subst e
              refine br_t rfl (h0 (fun z => ?_))
              have : ¬ en_ K N := fun w => by have := b w; omega
              rcases z with z | z | z | z
              · exact this z.2
              · exact this z.2.1
              · exact this z.2.2
              · exact z.2.2.2.1 hoz
        · rcases z with z | z | z | z
          · omega
          · omega
          · omega
          · exact z.2.2.2.1 hoz
      · have q10 : k = 10 := q.2.2.resolve_left hoz
        rw [zI_p hoz]
        refine br_t (nI_le (a := 1) (by omega) (by omega)) (h0 (fun z => ?_))
        rcases z with z | z | z | z
        · omega
        · omega
        · exact hoz z.2.1
        · omega
    refine pk_eq k 3 (fun q => h116 (Or.inr q)) (fun q3 => pk_eq k 1 (fun q => h116 (Or.inl q)) (fun q1 => ?_))
    by_cases hoz : op_ K N = 0
    · exact br_t (by rw [hoz]; decide) (h149 ⟨q1, q3, Or.inl hoz⟩)
    · have hof := op_fs hoz
      refine br_f (by rw [zI_p hoz]; exact nI_nlt (b := 1) (by omega) (by omega)) (pk_eq k 10 (fun q => h149 ⟨q1, q3, Or.inr q⟩) (fun q10 => ?_))
      have hov : vp_in (nI (op_ K N)) 64 := vp_in_nI (by omega) (by omega)
      have hko := hkx (op_ K N) (by omega)
      have h224 : ¬ (5 ≤ K (N - 1) ∧ K (N - 1) ≤ 8) → wY_fits_224 post (nI k) p1 (zI (op_ K N)) yl ys yg yo yc yK yV yA yB yT yO yF yZ yC yS := by
        intro hnw
        rw [zI_p hoz]
        have g1 : (k = 11 ∧ eg_ K N) ∨ (k ≠ 11 ∧ (k ≠ 4 ∨ v ≠ 0 ∨ ¬ eg_ K N ∨ K (op_ K N) = 3)) → post 1 := fun w => h1 (Or.inr (Or.inr (Or.inr ⟨q1, q3, q10, hoz, Or.inr ⟨hnw, w⟩⟩)))
        have g0 : ¬ ((k = 11 ∧ eg_ K N) ∨ (k ≠ 11 ∧ (k ≠ 4 ∨ v ≠ 0 ∨ ¬ eg_ K N ∨ K (op_ K N) = 3))) → post 0 := fun w => h0 (fun z => by
          rcases z with z | z | z | ⟨_, _, _, _, z | z⟩
          · exact q1 z.1
          · exact q3 z.1
          · exact q10 z.1
          · exact hnw z.1
          · exact w z.2)
        have h273 : op_ K N = N - 1 → (K (op_ K N) = 9 ∨ (K (op_ K N) = 10 ∧ K (op_ K N - 1) = 11)) → wY_fits_278 post (nI k) p1 (nI (op_ K N)) 1 yl ys yg yo yc yK yV yA yB yT yO yF yZ yC yS := by
          intro a b
          refine zg_278 (v := v) hN hp hs hkx hk (by omega) hv (Or.inl ⟨rfl, fun z => ?_, by omega⟩) g1 g0
          rcases z with z | z
          · exact z a.symm
          · omega
        have h277 : ¬ (op_ K N = N - 1 ∧ (K (op_ K N) = 9 ∨ (K (op_ K N) = 10 ∧ K (op_ K N - 1) = 11))) → wY_fits_278 post (nI k) p1 (nI (op_ K N)) 0 yl ys yg yo yc yK yV yA yB yT yO yF yZ yC yS := by
          intro a
          refine zg_278 (v := v) hN hp hs hkx hk (by omega) hv (Or.inr ⟨rfl, ?_⟩) g1 g0
          have hkk := ka_fi.mp hof.2.2
          unfold eg_
          constructor
          · rintro (z | z)
            · exact Or.inr (by omega)
            · exact Or.inl (by omega)
          · rintro (z | z)
            · by_cases w : op_ K N = N - 1
              · right
                refine ⟨?_, fun x => a ⟨w, Or.inr ⟨?_, x⟩⟩⟩
                · rcases hkk with y | y | y
                  · exact absurd y z
                  · exact absurd ⟨w, Or.inl y⟩ a
                  · exact y
                · rcases hkk with y | y | y
                  · exact absurd y z
                  · exact absurd ⟨w, Or.inl y⟩ a
                  · exact y
              · exact Or.inl (by omega)
            · exact Or.inl (by omega)
        show ((nI (op_ K N) = ys - 1 → _) ∧ (¬ nI (op_ K N) = ys - 1 → _))
        rw [e1]
        refine pk_eq (op_ K N) (N - 1) (fun w => ⟨hov, ?_⟩) (fun w => h277 (fun z => w z.1))
        rw [nI_clamp (by omega), hko.1]
        refine pk_eq (K (op_ K N)) 9 (fun y => h273 w (Or.inl y)) (fun y9 => ⟨hov, pk_eq (K (op_ K N)) 10 (fun y10 => ?_) (fun y10 => h277 (fun z => by omega)) (ha := by have := hko.2.2.1; omega)⟩) (ha := by have := hko.2.2.1; omega)
        have hk1 := hkx (op_ K N - 1) (by omega)
        rw [show nI (op_ K N) - 1 = nI (op_ K N - 1) from pk_sub (b := 1) (by omega)]
        refine ⟨vp_in_nI (by omega) (by omega), ?_⟩
        rw [nI_clamp (by omega), hk1.1]
        exact pk_eq (K (op_ K N - 1)) 11 (fun x => h273 w (Or.inr ⟨y10, x⟩)) (fun x => h277 (fun z => by omega)) (ha := by have := hk1.2.2.1; omega)
      refine pk_lt (K (N - 1)) 5 (fun q => h224 (by omega)) (fun q5 => pk_lt 8 (K (N - 1)) (fun q => h224 (by omega)) (fun q8 => ?_))
      have hwr : 5 ≤ K (N - 1) ∧ K (N - 1) ≤ 8 := ⟨q5, q8⟩
      refine pk_eq k 11 (fun q => h0 (fun z => ?_)) (fun q11 => pk_eq k 6 (fun q => h0 (fun z => ?_)) (fun q6 => pk_eq k 7 (fun q => h0 (fun z => ?_)) (fun q7 => pk_eq k 8 (fun q => pk_eq (K (N - 1)) 8 (fun w => h0 (fun z => ?_)) (fun w => h1 ?_)) (fun q8 => h1 ?_))))
      · unfold fq_ at z; omega
      · unfold fq_ at z; omega
      · unfold fq_ at z; omega
      · unfold fq_ at z; omega
      · exact Or.inr (Or.inr (Or.inr ⟨q1, q3, q10, hoz, Or.inl ⟨hwr, q11, q6, q7, Or.inr w⟩⟩))
      · exact Or.inr (Or.inr (Or.inr ⟨q1, q3, q10, hoz, Or.inl ⟨hwr, q11, q6, q7, Or.inl q8⟩⟩))
  have h60 : ∀ x5 : Int32, ((x5 = -1 ∧ K (N - 1) ≠ 11) ∨ (x5 = nI (op_ K (N - 1)) ∧ K (N - 1) = 11 ∧ op_ K (N - 1) ≠ 0 ∧ op_ K (N - 1) < N)) → wY_fits_60 post (nI k) p1 (nI (K (N - 1))) (zI (op_ K N)) x5 yl ys yg yo yc yK yV yA yB yT yO yF yZ yC yS := by
    intro x5 hx5
    have h81 : ∀ x6 : Int32, ((x6 = 1 ∧ K (N - 1) ≤ 2) ∨ (x6 = 0 ∧ 2 < K (N - 1))) → wY_fits_81 post (nI k) p1 (nI (K (N - 1))) (zI (op_ K N)) x5 x6 yl ys yg yo yc yK yV yA yB yT yO yF yZ yC yS := by
      intro x6 hx6
      rcases hx5 with ⟨e, a⟩ | ⟨e, a, b, c⟩
      · subst e
        refine br_t (by decide) (h104 x6 0 hx6 (Or.inr ⟨rfl, fun z => ?_⟩))
        have := z.2; omega
      · subst e
        have hko := hkx (op_ K (N - 1)) c
        refine br_f (nI_pos (by omega)) ⟨vp_in_nI (by omega) (by omega), ?_⟩
        rw [nI_clamp (by omega), hko.1]
        refine pk_eq (K (op_ K (N - 1))) 3 (fun w => h104 x6 1 hx6 (Or.inl ⟨rfl, a, hp, Or.inr ⟨a, w, b⟩⟩)) (fun w => h104 x6 0 hx6 (Or.inr ⟨rfl, fun z => ?_⟩)) (ha := by have := hko.2.2.1; omega)
        rcases z.2 with y | y
        · exact y
        · exact absurd y.2.1 w
    refine pk_eq (K (N - 1)) 0 (fun q => h81 1 (Or.inl ⟨rfl, by omega⟩)) (fun q0 => pk_eq (K (N - 1)) 2 (fun q => h81 1 (Or.inl ⟨rfl, by omega⟩)) (fun q2 => pk_eq (K (N - 1)) 1 (fun q => h81 1 (Or.inl ⟨rfl, by omega⟩)) (fun q1 => h81 0 (Or.inr ⟨rfl, by omega⟩))))
  refine br_t (by rw [hs]; exact nI_le (a := 1) (by omega) (by omega)) ?_
  rw [e1]
  refine ⟨hv1, nm_r (e' := nI (K (N - 1))) (by rw [hc1, hkl.1]) ?_⟩
  rw [hs]
  refine zy_op hK0 hN hkx (Nat.le_refl _) ?_
  rw [← hs]
  refine pk_eq (K (N - 1)) 11 (fun q => ?_) (fun q => h60 (-1) (Or.inl ⟨rfl, q⟩))
  obtain ⟨r, ec, hs', ho, hf, hl⟩ := end_top hw (e := N - 1) (by omega) q
  refine zy_op hK0 hN hkx (by omega) ?_
  rw [zI_p ho]
  exact h60 _ (Or.inr ⟨rfl, q, ho, by omega⟩)
/-- the codes of add -/
def ac_ (K : Nat → Nat) (N l : Nat) (p0 p1 : Int32) (r : Int32) : Prop :=
  (r = 1 ∧ (p0 < 0 ∨ ¬ p0 ≤ 11)) ∨ (r = 2 ∧ ∃ k, k ≤ 11 ∧ p0 = nI k ∧ ¬ (∃ v, p1 = nI v ∧ vr_ k v)) ∨
  (∃ k v, p0 = nI k ∧ p1 = nI v ∧ vr_ k v ∧ ((r = 3 ∧ ¬ ft_ K N k v) ∨ (ft_ K N k v ∧ ((r = 4 ∧ l ≤ N) ∨ (r = 0 ∧ N < l)))))
theorem vr_z {k : Nat} {p1 : Int32} (hk : k ≤ 11) (h : p1 < 0 ∨ nI (mx_ k) < p1 ∨ (k = 8 ∧ p1 = 0)) : ¬ (∃ v, p1 = nI v ∧ vr_ k v) := by
  rintro ⟨v, e, h1, h2, h3⟩
  have hm := mx_le (k := k)
  subst e
  rcases h with z | z | z
  · exact nI_pos (by omega) z
  · rw [nI_ltI (by omega) (by omega)] at z; omega
  · have := (nI_eq (a := v) (b := 0) (by omega) (by omega)).mp z.2
    have := h3 z.1
    omega
theorem zg_add {post : Int32 → SY → Prop} {l : Nat} {p0 p1 : Int32} (hw : wf_ K V N) (hN : N ≤ l) (hl : l ≤ 48) (hs : ys = nI N) (hyl : yl = nI l) (hkx : kx_ K V N yK yV)
    (H : ∀ r : Int32, ac_ K N l p0 p1 r → r ≠ 0 → post r (yl, ys, yg, yo, yc, yK, yV, yA, yB, yT, yO, yF, yZ, yC, yS))
    (H0 : ∀ k v, p0 = nI k → p1 = nI v → vr_ k v → ft_ K N k v → N < l → post 0 (yl, nI (N + 1), yg, yo, yc, upd yK N (nI k), upd yV N (nI v), yA, yB, yT, yO, yF, yZ, yC, yS)) : wpY_add post (yl, ys, yg, yo, yc, yK, yV, yA, yB, yT, yO, yF, yZ, yC, yS) p0 p1 := by
  have h42 : ∀ k, k ≤ 11 → p0 = nI k → ∀ z0 : Int32, z0 = nI (mx_ k) → wY_add_42 post p0 p1 z0 yl ys yg yo yc yK yV yA yB yT yO yF yZ yC yS := by
    intro k hk e z0 hz
    have hm := mx_le (k := k)
    subst e; subst hz
    refine br_f (nI_pos (by omega)) (br_t (nI_le (b := 11) hk (by omega)) ?_)
    by_cases q1 : p1 < 0
    · exact br_t q1 (H 2 (Or.inr (Or.inl ⟨rfl, k, hk, rfl, vr_z hk (Or.inl q1)⟩)) (by decide))
    refine br_f q1 ?_
    by_cases q2 : nI (mx_ k) < p1
    · exact br_t q2 (H 2 (Or.inr (Or.inl ⟨rfl, k, hk, rfl, vr_z hk (Or.inr (Or.inl q2))⟩)) (by decide))
    refine br_f q2 ?_
    obtain ⟨v, hv31, ev⟩ := nI_of q1
    subst ev
    rw [nI_ltI (by omega) hv31] at q2
    have h76 : (k = 8 → 1 ≤ v) → wY_add_76 post (nI k) (nI v) yl ys yg yo yc yK yV yA yB yT yO yF yZ yC yS := by
      intro h8
      have hvr : vr_ k v := ⟨hk, by omega, h8⟩
      have h0v : nI v = 0 ↔ v = 0 := nI_eq (a := v) (b := 0) hv31 (by omega)
      refine zg_y (v := v) hw (by omega) hs hkx hk h0v (fun z => br_f (by decide) ?_) (fun z => br_t rfl (H 3 (Or.inr (Or.inr ⟨k, v, rfl, rfl, hvr, Or.inl ⟨rfl, z⟩⟩)) (by decide)))
      rw [hs, hyl]
      refine pk_lt N l (fun w => ?_) (fun w => ?_)
      · have hNv : vp_in (nI N) 64 := vp_in_nI (by omega) (by omega)
        have hNc : (nI N).toNatClampNeg = N := nI_clamp (by omega)
        have := H0 k v rfl rfl hvr z w
        rw [hyl] at this
        exact ⟨hNv, nm_r (e' := upd yK N (nI k)) (by rw [hNc]) ⟨hNv, nm_r (e' := upd yV N (nI v)) (by rw [hNc]) (nm_r (nI_1 N) this)⟩⟩
      · have := H 4 (Or.inr (Or.inr ⟨k, v, rfl, rfl, hvr, Or.inr ⟨z, Or.inl ⟨rfl, w⟩⟩⟩)) (by decide)
        rw [hs, hyl] at this
        exact this
    refine pk_eq k 8 (fun q8 => pk_eq v 0 (fun w => H 2 (Or.inr (Or.inl ⟨rfl, k, hk, rfl, vr_z hk (Or.inr (Or.inr ⟨q8, by rw [w]; rfl⟩))⟩)) (by decide)) (fun w => h76 (fun _ => by omega))) (fun q8 => h76 (fun z => absurd z q8))
  by_cases hneg : p0 < 0
  · have hne : ∀ c : Nat, c < 2 ^ 31 → ¬ p0 = nI c := fun c hc e => by rw [e] at hneg; exact nI_pos hc hneg
    refine br_f (hne 0 (by omega)) (br_f (hne 1 (by omega)) (br_f (hne 2 (by omega)) (br_f (hne 4 (by omega)) (br_f (hne 8 (by omega)) (br_t hneg (H 1 (Or.inl ⟨rfl, Or.inl hneg⟩) (by decide)))))))
  obtain ⟨k, hk31, e⟩ := nI_of hneg
  by_cases hk : k ≤ 11
  · subst e
    refine pk_eq k 0 (fun q => h42 k hk rfl 701 (by rw [q]; rfl)) (fun q0 => pk_eq k 1 (fun q => h42 k hk rfl 701 (by rw [q]; rfl)) (fun q1 => pk_eq k 2 (fun q => h42 k hk rfl 99 (by rw [q]; rfl)) (fun q2 => pk_eq k 4 (fun q => h42 k hk rfl 7 (by rw [q]; rfl)) (fun q4 => pk_eq k 8 (fun q => h42 k hk rfl 7 (by rw [q]; rfl)) (fun q8 => h42 k hk rfl 0 ?_)))))
    have : mx_ k = 0 := by unfold mx_; rw [if_neg (by omega), if_neg (by omega), if_neg (by omega)]
    rw [this]; rfl
  · subst e
    have hbig : ¬ nI k ≤ 11 := nI_ge (a := 11) (by omega) hk31
    refine pk_eq k 0 (fun q => by omega) (fun q0 => pk_eq k 1 (fun q => by omega) (fun q1 => pk_eq k 2 (fun q => by omega) (fun q2 => pk_eq k 4 (fun q => by omega) (fun q4 => pk_eq k 8 (fun q => by omega) (fun q8 => br_f (nI_pos hk31) (br_f hbig (H 1 (Or.inl ⟨rfl, Or.inr hbig⟩) (by decide))))))))
end
section
variable {xo xb : Int64} {xl xs xg xu xd xc xe xp xf xz : Int32} {xK xV xO xT xS xA xY xN xW xk xt xH xn : Nat → Int32} {xq : Nat → Int64} {xy xF xZ xC xv : Nat → Int32}
variable {K V : Nat → Nat} {N : Nat}
theorem zf_mx {post : Int32 → Prop} {k : Nat} (hk : k ≤ 11) (h : post (nI (mx_ k))) : wpX_maxValue post (xo, xb, xl, xs, xg, xu, xd, xc, xe, xp, xf, xz, xK, xV, xO, xT, xS, xA, xY, xN, xW, xk, xt, xH, xn, xq, xy, xF, xZ, xC, xv) (nI k) := by
  refine pk_eq k 0 (fun q => ?_) (fun q0 => pk_eq k 1 (fun q => ?_) (fun q1 => pk_eq k 2 (fun q => ?_) (fun q2 => pk_eq k 4 (fun q => ?_) (fun q4 => pk_eq k 8 (fun q => ?_) (fun q8 => ?_)))))
  · rw [q] at h; exact h
  · rw [q] at h; exact h
  · rw [q] at h; exact h
  · rw [q] at h; exact h
  · rw [q] at h; exact h
  · have : mx_ k = 0 := by unfold mx_; rw [if_neg (by omega), if_neg (by omega), if_neg (by omega)]
    rw [this] at h; exact h
theorem zf_add {post : Int32 → SX → Prop} {l : Nat} {p0 p1 : Int32} (hw : wf_ K V N) (hN : N ≤ l) (hl : l ≤ 48) (hs : xs = nI N) (hxl : xl = nI l) (hkx : kx_ K V N xK xV) (hox : ox_ K N xO)
    (H : ∀ r : Int32, ac_ K N l p0 p1 r → r ≠ 0 → post r (xo, xb, xl, xs, xg, xu, xd, xc, xe, xp, xf, xz, xK, xV, xO, xT, xS, xA, xY, xN, xW, xk, xt, xH, xn, xq, xy, xF, xZ, xC, xv))
    (H0 : ∀ k v, p0 = nI k → p1 = nI v → vr_ k v → ft_ K N k v → N < l → ox_ (un_ K N k) (N + 1) (upd xO N (zI (op_ (un_ K N k) (N + 1)))) →
      post 0 (xo, xb, xl, nI (N + 1), xg, xu, xd, xc, xe, xp, xf, xz, upd xK N (nI k), upd xV N (nI v), upd xO N (zI (op_ (un_ K N k) (N + 1))), xT, xS, xA, xY, xN, xW, xk, xt, xH, xn, xq, xy, xF, xZ, xC, xv)) : wpX_add post (xo, xb, xl, xs, xg, xu, xd, xc, xe, xp, xf, xz, xK, xV, xO, xT, xS, xA, xY, xN, xW, xk, xt, xH, xn, xq, xy, xF, xZ, xC, xv) p0 p1 := by
  by_cases hneg : p0 < 0
  · exact br_t hneg (H 1 (Or.inl ⟨rfl, Or.inl hneg⟩) (by decide))
  refine br_f hneg ?_
  by_cases hbig : p0 ≤ 11
  · refine br_t hbig ?_
    obtain ⟨k, hk, e⟩ := nI_of2 (M := 11) (n := 11) (by decide) hneg hbig
    subst e
    have hm := mx_le (k := k)
    have h24 : ∀ z0 : Int32, (k = 8 ∧ z0 = 1) ∨ (k ≠ 8 ∧ z0 = 0) → wX_add_24 post (nI k) p1 z0 p1 xo xb xl xs xg xu xd xc xe xp xf xz xK xV xO xT xS xA xY xN xW xk xt xH xn xq xy xF xZ xC xv := by
      intro z0 hz0
      by_cases q1 : p1 < z0
      · refine br_t q1 (H 2 (Or.inr (Or.inl ⟨rfl, k, hk, rfl, ?_⟩)) (by decide))
        rcases hz0 with ⟨a, b⟩ | ⟨a, b⟩
        · rintro ⟨v, e, h1, h2, h3⟩
          subst e; subst b
          have := h3 a
          have hlt := (nI_ltI (a := v) (b := 1) (by omega) (by omega)).mp q1
          omega
        · subst b; exact vr_z hk (Or.inl q1)
      refine br_f q1 (zf_mx hk ?_)
      have hnn : ¬ p1 < 0 := by
        rcases hz0 with ⟨a, b⟩ | ⟨a, b⟩
        · subst b
          intro z
          refine q1 ?_
          rw [Int32.lt_iff_toInt_lt] at z ⊢
          have e0 : (0 : Int32).toInt = 0 := by decide
          have e1 : (1 : Int32).toInt = 1 := by decide
          rw [e0] at z; rw [e1]; omega
        · subst b; exact q1
      obtain ⟨v, hv31, ev⟩ := nI_of hnn
      subst ev
      refine pk_le v (mx_ k) (fun w => ?_) (fun w => H 2 (Or.inr (Or.inl ⟨rfl, k, hk, rfl, vr_z hk (Or.inr (Or.inl (nI_lt w hv31)))⟩)) (by decide)) 
      have h8 : k = 8 → 1 ≤ v := by
        intro q
        rcases hz0 with ⟨a, b⟩ | ⟨a, b⟩
        · subst b
          rcases Nat.lt_or_ge 0 v with z | z
          · exact z
          · exact absurd (by rw [show v = 0 by omega]; decide) q1
        · exact absurd q a
      have hvr : vr_ k v := ⟨hk, w, h8⟩
      have h0v : nI v = 0 ↔ v = 0 := nI_eq (a := v) (b := 0) hv31 (by omega)
      refine zf_x (v := v) hw (by omega) hs hkx hox hk h0v (fun z => br_f (by decide) ?_) (fun z => br_t rfl (H 3 (Or.inr (Or.inr ⟨k, v, rfl, rfl, hvr, Or.inl ⟨rfl, z⟩⟩)) (by decide)))
      by_cases y : N < l
      · refine br_t (by rw [hs, hxl]; exact nI_lt y (by omega)) ?_
        refine zf_ap (fun p => wf_0 hw p) (by omega) hs hox hk (fun p => ?_) (fun h => H0 k v rfl rfl hvr z y h)
        subst p
        rcases z with z | z
        · exact z.2
        · omega
      · refine br_f (by rw [hs, hxl]; exact nI_nlt (by omega) (by omega)) (H 4 (Or.inr (Or.inr ⟨k, v, rfl, rfl, hvr, Or.inr ⟨z, Or.inl ⟨rfl, by omega⟩⟩⟩)) (by decide))
    exact pk_eq k 8 (fun q => h24 1 (Or.inl ⟨q, rfl⟩)) (fun q => h24 0 (Or.inr ⟨q, rfl⟩))
  · exact br_f hbig (H 1 (Or.inl ⟨rfl, Or.inr hbig⟩) (by decide))
end
/-- the code of add is one -/
theorem ac_un {K : Nat → Nat} {N l : Nat} {p0 p1 r r' : Int32} (h : ac_ K N l p0 p1 r) (h' : ac_ K N l p0 p1 r') : r = r' := by
  have key : ∀ {k k' : Nat}, k ≤ 11 → k' ≤ 11 → nI k = nI k' → k = k' := fun a b c => (nI_eq (by omega) (by omega)).mp c
  have keyv : ∀ {v v' : Nat}, v ≤ 701 → v' ≤ 701 → nI v = nI v' → v = v' := fun a b c => (nI_eq (by omega) (by omega)).mp c
  have bad : ∀ {k : Nat}, k ≤ 11 → p0 = nI k → (p0 < 0 ∨ ¬ p0 ≤ 11) → False := by
    intro k hk e z
    subst e
    rcases z with z | z
    · exact nI_pos (by omega) z
    · exact z (nI_le (b := 11) hk (by omega))
  rcases h with ⟨e, a⟩ | ⟨e, k, hk, a, b⟩ | ⟨k, v, a, b, c, d⟩
  · rcases h' with ⟨e', a'⟩ | ⟨e', k', hk', a', b'⟩ | ⟨k', v', a', b', c', d'⟩
    · rw [e, e']
    · exact absurd (bad hk' a' a) id
    · exact absurd (bad c'.1 a' a) id
  · rcases h' with ⟨e', a'⟩ | ⟨e', k', hk', a', b'⟩ | ⟨k', v', a', b', c', d'⟩
    · exact absurd (bad hk a a') id
    · rw [e, e']
    · have := key hk c'.1 (a.symm.trans a')
      subst this
      exact absurd ⟨v', b', c'⟩ b
  · rcases h' with ⟨e', a'⟩ | ⟨e', k', hk', a', b'⟩ | ⟨k', v', a', b', c', d'⟩
    · exact absurd (bad c.1 a a') id
    · have := key c.1 hk' (a.symm.trans a')
      subst this
      exact absurd ⟨v, b, c⟩ b'
    · have := key c.1 c'.1 (a.symm.trans a')
      subst this
      have hm := mx_le (k := k)
      have := keyv (show v ≤ 701 by have := c.2.1; omega) (show v' ≤ 701 by have := c'.2.1; omega) (b.symm.trans b')
      subst this
      rcases d with ⟨d1, d2⟩ | ⟨d2, d3⟩
      · rcases d' with ⟨g1, g2⟩ | ⟨g2, _⟩
        · rw [d1, g1]
        · exact absurd g2 d2
      · rcases d' with ⟨g1, g2⟩ | ⟨g2, g3⟩
        · exact absurd d2 g2
        · rcases d3 with ⟨x, y⟩ | ⟨x, y⟩
          · rcases g3 with ⟨x', y'⟩ | ⟨x', y'⟩
            · rw [x, x']
            · omega
          · rcases g3 with ⟨x', y'⟩ | ⟨x', y'⟩
            · omega
            · rw [x, x']
end
section
/-! the relation -/
def rl_ (xo xb : Int64) (xl xs xg xu xd xc xe xp xf xz : Int32) (xK xV xO xT xS xA xY xN xW xk xt xH xn : Nat → Int32) (xq : Nat → Int64) (xy xF xZ xC xv : Nat → Int32) (yl ys yg yo yc : Int32) (yK yV yA yB yT yO yF yZ yC yS : Nat → Int32) : Prop :=
  ∃ (K V : Nat → Nat) (N b l n : Nat) (cs : Nat → List (Nat × Nat)) (cl : Nat → Bool) (w : List Nat),
    wf_ K V N ∧ (∀ j, N ≤ j → K j = 11) ∧ N ≤ l ∧ 8 ≤ l ∧ l ≤ 48 ∧ xl = nI l ∧ yl = nI l ∧ xs = nI N ∧ ys = nI N ∧
    kx_ K V N xK xV ∧ kx_ K V N yK yV ∧ ox_ K N xO ∧ tk_ 256 w xg xT ∧ tk_ 256 w yg yT ∧ w.length ≤ 256 ∧ (∀ c, c ∈ w → c < 2 ^ 20) ∧
    b ≤ N ∧ xu = nI b ∧ ti_ K V b false n cs cl xd xS xA xY xN xW xH xc xe xk xt xq xy xF xZ
def i_Rel (k : Nat) (u : SX) (v : SY) : Prop := match u with | (xo, xb, xl, xs, xg, xu, xd, xc, xe, xp, xf, xz, xK, xV, xO, xT, xS, xA, xY, xN, xW, xk, xt, xH, xn, xq, xy, xF, xZ, xC, xv) => match v with | (yl, ys, yg, yo, yc, yK, yV, yA, yB, yT, yO, yF, yZ, yC, yS) => rl_ xo xb xl xs xg xu xd xc xe xp xf xz xK xV xO xT xS xA xY xN xW xk xt xH xn xq xy xF xZ xC xv yl ys yg yo yc yK yV yA yB yT yO yF yZ yC yS
theorem rl_el {P : SX → SY → Prop} {k : Nat} {u : SX} {v : SY} (I : i_Rel k u v) (h : ∀ (xo xb : Int64) (xl xs xg xu xd xc xe xp xf xz : Int32) (xK xV xO xT xS xA xY xN xW xk xt xH xn : Nat → Int32) (xq : Nat → Int64) (xy xF xZ xC xv : Nat → Int32) (yl ys yg yo yc : Int32) (yK yV yA yB yT yO yF yZ yC yS : Nat → Int32), rl_ xo xb xl xs xg xu xd xc xe xp xf xz xK xV xO xT xS xA xY xN xW xk xt xH xn xq xy xF xZ xC xv yl ys yg yo yc yK yV yA yB yT yO yF yZ yC yS → P (xo, xb, xl, xs, xg, xu, xd, xc, xe, xp, xf, xz, xK, xV, xO, xT, xS, xA, xY, xN, xW, xk, xt, xH, xn, xq, xy, xF, xZ, xC, xv) (yl, ys, yg, yo, yc, yK, yV, yA, yB, yT, yO, yF, yZ, yC, yS)) : P u v := by
  obtain ⟨xo, xb, xl, xs, xg, xu, xd, xc, xe, xp, xf, xz, xK, xV, xO, xT, xS, xA, xY, xN, xW, xk, xt, xH, xn, xq, xy, xF, xZ, xC, xv⟩ := u
  obtain ⟨yl, ys, yg, yo, yc, yK, yV, yA, yB, yT, yO, yF, yZ, yC, yS⟩ := v
  exact h xo xb xl xs xg xu xd xc xe xp xf xz xK xV xO xT xS xA xY xN xW xk xt xH xn xq xy xF xZ xC xv yl ys yg yo yc yK yV yA yB yT yO yF yZ yC yS I
theorem i_up {k : Nat} {u : SX} {v : SY} (h : i_Rel k u v) : i_Rel (k + 3) u v := h
/-- a text of at most 256 characters -/
theorem tk_e {w : List Nat} {g : Int32} {T : Nat → Int32} (h : tk_ 256 w g T) (hl : w.length ≤ 256) : g = nI w.length ∧ ∀ j c, w[j]? = some c → T j = nI c := by
  unfold tk_ at h; rw [List.take_of_length_le hl] at h; exact h
theorem tk_m {w : List Nat} {g : Int32} {T : Nat → Int32} (h1 : g = nI w.length) (h2 : ∀ j c, w[j]? = some c → T j = nI c) (hl : w.length ≤ 256) : tk_ 256 w g T := by
  unfold tk_; rw [List.take_of_length_le hl]; exact ⟨h1, h2⟩
theorem tk_tk {w : List Nat} {g : Int32} {T : Nat → Int32} (h : tk_ 256 w g T) : tk_ 256 (w.take 256) g T := by
  unfold tk_ at h ⊢; rw [List.take_take, Nat.min_self]; exact h
/-! chars of what is written are small -/
theorem dg_lt {d : Nat} (h : d < 2 ^ 19) : dg_ d < 2 ^ 20 := by unfold dg_; split <;> omega
theorem nu_lt {v b : Nat} (h : v < 2 ^ 19) : ∀ c, c ∈ nu_ v b → c < 2 ^ 20 := by
  intro c hc
  have h1 : (v - 1) / b < 2 ^ 19 := Nat.lt_of_le_of_lt (Nat.div_le_self _ _) (by omega)
  have h2 : (v - 1) % b < 2 ^ 19 := Nat.lt_of_le_of_lt (Nat.mod_le _ _) (by omega)
  unfold nu_ at hc
  rcases List.mem_append.mp hc with z | z
  · by_cases q : v = 0
    · rw [if_pos q] at z; exact absurd z (by simp)
    · rw [if_neg q] at z
      rcases List.mem_append.mp z with y | y
      · by_cases q2 : (v - 1) / b = 0
        · rw [if_pos q2] at y; exact absurd y (by simp)
        · rw [if_neg q2] at y; rw [List.mem_singleton.mp y]; exact dg_lt h1
      · rw [List.mem_singleton.mp y]; exact dg_lt h2
  · rw [List.mem_singleton.mp z]; omega
theorem pe_lt {K V : Nat → Nat} {N i : Nat} (hw : wf_ K V N) (hi : i < N) : ∀ c, c ∈ pe_ K V i → c < 2 ^ 20 := by
  intro c hc
  have hV := (hw i hi).1.2.1
  have hm := mx_le (k := K i)
  have hol : ol_ (K i) < 2 ^ 20 := by unfold ol_; split <;> (try split) <;> (try split) <;> (try split) <;> omega
  have hlb : lb_ (V i) < 2 ^ 20 := by unfold lb_; split <;> (try split) <;> (try split) <;> (try split) <;> (try split) <;> (try split) <;> (try split) <;> omega
  have one : ∀ {p : Prop} [Decidable p] {a : Nat}, c ∈ (if p then [] else [a] : List Nat) → c = a := by
    intro p _ a h
    by_cases q : p
    · rw [if_pos q] at h; exact absurd h (by simp)
    · rw [if_neg q] at h; exact List.mem_singleton.mp h
  have one' : ∀ {p : Prop} [Decidable p] {a : Nat}, c ∈ (if p then [a] else [] : List Nat) → c = a := by
    intro p _ a h
    by_cases q : p
    · rw [if_pos q] at h; exact List.mem_singleton.mp h
    · rw [if_neg q] at h; exact absurd h (by simp)
  unfold pe_ at hc
  by_cases q1 : K i ≤ 1
  · rw [if_pos q1] at hc
    unfold id_ at hc
    have : V i / 26 ≤ V i := Nat.div_le_self _ _
    by_cases q : V i < 26
    · rw [if_pos q] at hc
      simp at hc; omega
    · rw [if_neg q] at hc
      simp at hc; omega
  rw [if_neg q1] at hc
  by_cases q8 : K i = 8
  · rw [if_pos q8] at hc
    unfold ql_ at hc
    rcases List.mem_append.mp hc with z | z
    · have := one z; omega
    · rcases List.mem_append.mp z with z | z
      · have := one z; omega
      · have := one z; omega
  rw [if_neg q8] at hc
  by_cases q11 : K i = 11
  · rw [if_pos q11] at hc
    unfold pn_ at hc
    rcases List.mem_append.mp hc with z | z
    · have := one' z; omega
    · have := one z; omega
  rw [if_neg q11] at hc
  by_cases q2 : K i = 2
  · rw [if_pos q2] at hc
    rcases List.mem_cons.mp hc with z | z
    · omega
    · exact nu_lt (by omega) c z
  rw [if_neg q2] at hc
  by_cases q10 : K i = 10
  · rw [if_pos q10] at hc; exact absurd hc (by simp)
  rw [if_neg q10] at hc
  by_cases q4 : K i = 4
  · rw [if_pos q4] at hc; rw [List.mem_singleton.mp hc]; exact hlb
  · rw [if_neg q4] at hc; rw [List.mem_singleton.mp hc]; exact hol
theorem gv_lt {K V : Nat → Nat} {N i : Nat} {kn kt : Nat → Nat} {nf : Nat → Bool} (hw : wf_ K V N) (hi : i < N) (hkt : kt i < 2 ^ 19) : ∀ c, c ∈ gv_ K V kn kt nf i → c < 2 ^ 20 := by
  intro c hc
  unfold gv_ at hc
  rcases List.mem_append.mp hc with z | z
  · by_cases q : nf i = true
    · rw [if_pos q] at z; rw [List.mem_singleton.mp z]; omega
    · rw [if_neg q] at z; exact absurd z (by simp)
  · by_cases q : kn i = 0
    · rw [if_pos q] at z
      rcases List.mem_append.mp z with y | y
      · exact pe_lt hw hi c y
      · by_cases q2 : ec_ K nf i = true
        · rw [if_pos q2] at y; rw [List.mem_singleton.mp y]; omega
        · rw [if_neg q2] at y; exact absurd y (by simp)
    · rw [if_neg q] at z
      rcases List.mem_cons.mp z with y | y
      · omega
      · exact nu_lt hkt c y
theorem go_lt {K V : Nat → Nat} {N : Nat} {kn kt : Nat → Nat} {nf : Nat → Bool} (hw : wf_ K V N) (hkt : ∀ i, i < N → kt i < 2 ^ 19) : ∀ {i : Nat}, i ≤ N → ∀ c, c ∈ go_ K V kn kt nf i → c < 2 ^ 20 := by
  intro i
  induction i with
  | zero =>
    intro _ c hc
    have : c ∈ [95, 90] := hc
    simp at this; omega
  | succ i ih =>
    intro hi c hc
    have hc' : c ∈ (if gn_ kn i = i then go_ K V kn kt nf i ++ gv_ K V kn kt nf i else go_ K V kn kt nf i) := hc
    by_cases q : gn_ kn i = i
    · rw [if_pos q] at hc'
      rcases List.mem_append.mp hc' with z | z
      · exact ih (by omega) c z
      · exact gv_lt hw (by omega) (hkt i (by omega)) c z
    · rw [if_neg q] at hc'; exact ih (by omega) c hc'
theorem mg_lt {K V : Nat → Nat} {N : Nat} (hw : wf_ K V N) (hN : N ≤ 48) : ∀ c, c ∈ mg_ K V N → c < 2 ^ 20 := by
  refine go_lt hw (fun i _ => ?_) (Nat.le_refl _)
  have h1 := tb_len hw (i := N) (Nat.le_refl _)
  have h2 : kt_ K V N i ≤ (tb_ K V N).length := List.findIdx_le_length
  omega
end
section
/-! what is owed: the nodes -/
theorem i_vc0 (k0 : Int32) : wpX_init (fun u => wpY_init (fun v => i_Rel 1 u v) k0) k0 := by
  have base : ∀ l : Nat, 8 ≤ l → l ≤ 48 → i_Rel 1 ((19703589053136969, 7236275702417547894, nI l, 0, 0, 0, 0, 0, 0, 0, 0, 0, (fun _ => 0), (fun _ => 0), (fun _ => 0), (fun _ => 0), (fun _ => 0), (fun _ => 0), (fun _ => 0), (fun _ => 0), (fun _ => 0), (fun _ => 0), (fun _ => 0), (fun _ => 0), (fun _ => 0), (fun _ => 0), (fun _ => 0), (fun _ => 0), (fun _ => 0), (fun _ => 0), (fun _ => 0)) : SX) ((nI l, 0, 0, 0, 0, (fun _ => 0), (fun _ => 0), (fun _ => 0), (fun _ => 0), (fun _ => 0), (fun _ => 0), (fun _ => 0), (fun _ => 0), (fun _ => 0), (fun _ => 0)) : SY) := by
    intro l h8 h48
    exact ⟨fun _ => 11, fun _ => 0, 0, 0, l, 0, fun _ => [], fun _ => false, [], fun i hi => by omega, fun j _ => rfl, by omega, h8, h48, rfl, rfl, rfl, rfl, fun j hj => by omega, fun j hj => by omega, fun j hj => by omega, tk_0, tk_0, by simp, fun c hc => absurd hc (by simp), by omega, rfl, ti_0 (m := 0) rfl rfl rfl⟩
  by_cases h8 : 8 ≤ k0
  · by_cases h48 : k0 ≤ 48
    · have hneg : ¬ k0 < 0 := by
        intro z
        rw [Int32.le_iff_toInt_le] at h8
        rw [Int32.lt_iff_toInt_lt] at z
        have e8 : (8 : Int32).toInt = 8 := by decide
        have e0 : (0 : Int32).toInt = 0 := by decide
        omega
      obtain ⟨l, hl, e⟩ := nI_of2 (M := 48) (n := 48) (by decide) hneg h48
      subst e
      have hl8 : 8 ≤ l := (nI_leI (a := 8) (b := l) (by omega) (by omega)).mp h8
      exact br_t h8 (br_t h48 (br_t h8 (br_t h48 (base l hl8 hl))))
    · exact br_t h8 (br_f h48 (br_t h8 (br_f h48 (base 48 (by omega) (by omega)))))
  · exact br_f h8 (br_f h8 (base 8 (by omega) (by omega)))
theorem i_vc_add {k : Nat} {u : SX} {v : SY} (I : i_Rel k u v) (hk : k + 3 ≤ 1537) (v1 : Int32) (v2 : Int32) : wpX_add (fun r u' => wpY_add (fun r' v' => r' = r ∧ i_Rel (k + 3) u' v') v v1 v2) u v1 v2 := by
  refine rl_el (P := fun u v => wpX_add (fun r u' => wpY_add (fun r' v' => r' = r ∧ i_Rel (k + 3) u' v') v v1 v2) u v1 v2) I ?_
  intro xo xb xl xs xg xu xd xc xe xp xf xz xK xV xO xT xS xA xY xN xW xk xt xH xn xq xy xF xZ xC xv yl ys yg yo yc yK yV yA yB yT yO yF yZ yC yS R
  obtain ⟨K, V, N, b, l, n, cs, cl, w, R1, R2, R3, R4, R5, R6, R7, R8, R9, R10, R11, R12, R13, R14, R15, R16, R17, R18, R19⟩ := R
  refine zf_add R1 R3 R5 R8 R6 R10 R12 (fun r hr hr0 => ?_) (fun kk vv e1 e2 hvr hft hlt hox => ?_)
  · refine zg_add R1 R3 R5 R9 R7 R11 (fun r' hr' _ => ⟨ac_un hr' hr, K, V, N, b, l, n, cs, cl, w, R1, R2, R3, R4, R5, R6, R7, R8, R9, R10, R11, R12, R13, R14, R15, R16, R17, R18, R19⟩) (fun kk vv e1 e2 hvr hft hlt => ?_)
    exact absurd (ac_un hr (Or.inr (Or.inr ⟨kk, vv, e1, e2, hvr, Or.inr ⟨hft, Or.inr ⟨rfl, hlt⟩⟩⟩))) hr0
  · have hac : ac_ K N l v1 v2 0 := Or.inr (Or.inr ⟨kk, vv, e1, e2, hvr, Or.inr ⟨hft, Or.inr ⟨rfl, hlt⟩⟩⟩)
    refine zg_add R1 R3 R5 R9 R7 R11 (fun r' hr' h0 => absurd (ac_un hr' hac) h0) (fun k2 v2' f1 f2 hvr2 hft2 _ => ⟨rfl, ?_⟩)
    have hm := mx_le (k := kk)
    have hm2 := mx_le (k := k2)
    have ek : kk = k2 := (nI_eq (by have := hvr.1; omega) (by have := hvr2.1; omega)).mp (e1.symm.trans f1)
    subst ek
    have ev : vv = v2' := (nI_eq (by have := hvr.2.1; omega) (by have := hvr2.2.1; omega)).mp (e2.symm.trans f2)
    subst ev
    refine ⟨un_ K N kk, un_ V N vv, N + 1, b, l, n, cs, cl, w, wf_add R1 hvr hft, fun j hj => ?_, by omega, R4, R5, R6, R7, rfl, rfl, kx_add R10 hvr.1 (by have := hvr.2.1; omega), kx_add R11 hvr.1 (by have := hvr.2.1; omega), hox, R13, R14, R15, R16, by omega, R18, gc_ti (fun j hj => un_n (by omega)) (fun j hj => un_n (by omega)) (wf_le R1 R17) R19⟩
    rw [un_n (by omega)]; exact R2 j (by omega)
theorem i_vc_keep {k : Nat} {u : SX} {v : SY} (I : i_Rel k u v) (hk : k + 3 ≤ 1537) (v1 : Int32) : wpX_keep (fun r u' => wpY_keep (fun r' v' => r' = r ∧ i_Rel (k + 3) u' v') v v1) u v1 := by
  refine rl_el (P := fun u v => wpX_keep (fun r u' => wpY_keep (fun r' v' => r' = r ∧ i_Rel (k + 3) u' v') v v1) u v1) I ?_
  intro xo xb xl xs xg xu xd xc xe xp xf xz xK xV xO xT xS xA xY xN xW xk xt xH xn xq xy xF xZ xC xv yl ys yg yo yc yK yV yA yB yT yO yF yZ yC yS R
  obtain ⟨K, V, N, b, l, n, cs, cl, w, R1, R2, R3, R4, R5, R6, R7, R8, R9, R10, R11, R12, R13, R14, R15, R16, R17, R18, R19⟩ := R
  have same : i_Rel (k + 3) (xo, xb, xl, xs, xg, xu, xd, xc, xe, xp, xf, xz, xK, xV, xO, xT, xS, xA, xY, xN, xW, xk, xt, xH, xn, xq, xy, xF, xZ, xC, xv) (yl, ys, yg, yo, yc, yK, yV, yA, yB, yT, yO, yF, yZ, yC, yS) := ⟨K, V, N, b, l, n, cs, cl, w, R1, R2, R3, R4, R5, R6, R7, R8, R9, R10, R11, R12, R13, R14, R15, R16, R17, R18, R19⟩
  by_cases h0 : v1 < 0
  · exact br_t h0 (br_t h0 ⟨rfl, same⟩)
  by_cases h1 : v1 ≤ xs
  · have h1' : v1 ≤ ys := by rw [R9, ← R8]; exact h1
    obtain ⟨m, hm31, e⟩ := nI_of h0
    subst e
    have hm : m ≤ N := (nI_leI hm31 (by omega)).mp (by rw [← R8]; exact h1)
    have hK : ∀ j, j < m → (fun j => if j < m then K j else 11) j = K j := fun j hj => if_pos hj
    have hV : ∀ j, j < m → V j = V j := fun _ _ => rfl
    have hkx : ∀ {a c : Nat → Int32}, kx_ K V N a c → kx_ (fun j => if j < m then K j else 11) V m a c := by
      intro a c h j hj
      have := h j (by omega)
      rw [← hK j hj] at this; exact this
    have hox : ox_ (fun j => if j < m then K j else 11) m xO := by
      intro j hj
      rw [R12 j (by omega), gc_op hK (by omega)]
    have rel : ∀ (b' n' : Nat) (cs' : Nat → List (Nat × Nat)) (cl' : Nat → Bool) (xu' xd' xc' xe' : Int32), b' ≤ m → xu' = nI b' → ti_ (fun j => if j < m then K j else 11) V b' false n' cs' cl' xd' xS xA xY xN xW xH xc' xe' xk xt xq xy xF xZ →
        i_Rel (k + 3) (xo, xb, xl, nI m, xg, xu', xd', xc', xe', xp, xf, xz, xK, xV, xO, xT, xS, xA, xY, xN, xW, xk, xt, xH, xn, xq, xy, xF, xZ, xC, xv) (yl, nI m, yg, yo, yc, yK, yV, yA, yB, yT, yO, yF, yZ, yC, yS) := by
      intro b' n' cs' cl' xu' xd' xc' xe' a1 a2 a3
      exact ⟨_, V, m, b', l, n', cs', cl', w, gc_wf hK hV (wf_le R1 hm), fun j hj => if_neg (by omega), by omega, R4, R5, R6, R7, rfl, rfl, hkx R10, hkx R11, hox, R13, R14, R15, R16, a1, a2, a3⟩
    refine br_f h0 (br_t h1 ?_)
    by_cases h2 : xu ≤ nI m
    · refine br_t h2 (br_f h0 (br_t h1' ⟨rfl, ?_⟩))
      have hbm : b ≤ m := (nI_leI (by omega) hm31).mp (by rw [← R18]; exact h2)
      exact rel b n cs cl xu xd xc xe hbm R18 (gc_ti (fun j hj => hK j (by omega)) (fun j hj => hV j (by omega)) (wf_le R1 R17) R19)
    · exact br_f h2 (br_f h0 (br_t h1' ⟨rfl, rel 0 0 (fun _ => []) (fun _ => false) 0 0 0 0 (by omega) rfl (ti_0 (m := 0) rfl rfl rfl)⟩))
  · have h1' : ¬ v1 ≤ ys := by rw [R9, ← R8]; exact h1
    exact br_f h0 (br_f h1 (br_f h0 (br_f h1' ⟨rfl, same⟩)))
theorem i_vc_size {k : Nat} {u : SX} {v : SY} (I : i_Rel k u v) (hk : k + 3 ≤ 1537) : wpX_size (fun r => wpY_size (fun r' => r' = r ∧ i_Rel (k + 3) u v) v) u := by
  refine rl_el (P := fun u v => wpX_size (fun r => wpY_size (fun r' => r' = r ∧ i_Rel (k + 3) u v) v) u) I ?_
  intro xo xb xl xs xg xu xd xc xe xp xf xz xK xV xO xT xS xA xY xN xW xk xt xH xn xq xy xF xZ xC xv yl ys yg yo yc yK yV yA yB yT yO yF yZ yC yS R
  have same : i_Rel (k + 3) (xo, xb, xl, xs, xg, xu, xd, xc, xe, xp, xf, xz, xK, xV, xO, xT, xS, xA, xY, xN, xW, xk, xt, xH, xn, xq, xy, xF, xZ, xC, xv) (yl, ys, yg, yo, yc, yK, yV, yA, yB, yT, yO, yF, yZ, yC, yS) := R
  obtain ⟨K, V, N, b, l, n, cs, cl, w, R1, R2, R3, R4, R5, R6, R7, R8, R9, R10⟩ := R
  exact ⟨by rw [R8, R9], same⟩
theorem i_vc_kindAt {k : Nat} {u : SX} {v : SY} (I : i_Rel k u v) (hk : k + 3 ≤ 1537) (v1 : Int32) : wpX_kindAt (fun r => wpY_kindAt (fun r' => r' = r ∧ i_Rel (k + 3) u v) v v1) u v1 := by
  refine rl_el (P := fun u v => wpX_kindAt (fun r => wpY_kindAt (fun r' => r' = r ∧ i_Rel (k + 3) u v) v v1) u v1) I ?_
  intro xo xb xl xs xg xu xd xc xe xp xf xz xK xV xO xT xS xA xY xN xW xk xt xH xn xq xy xF xZ xC xv yl ys yg yo yc yK yV yA yB yT yO yF yZ yC yS R
  have same : i_Rel (k + 3) (xo, xb, xl, xs, xg, xu, xd, xc, xe, xp, xf, xz, xK, xV, xO, xT, xS, xA, xY, xN, xW, xk, xt, xH, xn, xq, xy, xF, xZ, xC, xv) (yl, ys, yg, yo, yc, yK, yV, yA, yB, yT, yO, yF, yZ, yC, yS) := R
  obtain ⟨K, V, N, b, l, n, cs, cl, w, R1, R2, R3, R4, R5, R6, R7, R8, R9, R10, R11, R12⟩ := R
  by_cases h0 : v1 < 0
  · exact br_t h0 (br_t h0 ⟨rfl, same⟩)
  obtain ⟨m, hm31, e⟩ := nI_of h0
  subst e
  by_cases hm : m < N
  · refine br_f h0 (br_f (by rw [R8]; exact nI_ge hm (by omega)) ⟨vp_in_nI (by omega) (by omega), br_f h0 (br_t (by rw [R9]; exact nI_lt hm (by omega)) ⟨vp_in_nI (by omega) (by omega), ?_, same⟩)⟩)
    rw [nI_clamp (by omega), (R10 m hm).1, (R11 m hm).1]
  · exact br_f h0 (br_t (by rw [R8]; exact nI_le (by omega) hm31) (br_f h0 (br_f (by rw [R9]; exact nI_nlt (by omega) hm31) ⟨rfl, same⟩)))
theorem i_vc_valueAt {k : Nat} {u : SX} {v : SY} (I : i_Rel k u v) (hk : k + 3 ≤ 1537) (v1 : Int32) : wpX_valueAt (fun r => wpY_valueAt (fun r' => r' = r ∧ i_Rel (k + 3) u v) v v1) u v1 := by
  refine rl_el (P := fun u v => wpX_valueAt (fun r => wpY_valueAt (fun r' => r' = r ∧ i_Rel (k + 3) u v) v v1) u v1) I ?_
  intro xo xb xl xs xg xu xd xc xe xp xf xz xK xV xO xT xS xA xY xN xW xk xt xH xn xq xy xF xZ xC xv yl ys yg yo yc yK yV yA yB yT yO yF yZ yC yS R
  have same : i_Rel (k + 3) (xo, xb, xl, xs, xg, xu, xd, xc, xe, xp, xf, xz, xK, xV, xO, xT, xS, xA, xY, xN, xW, xk, xt, xH, xn, xq, xy, xF, xZ, xC, xv) (yl, ys, yg, yo, yc, yK, yV, yA, yB, yT, yO, yF, yZ, yC, yS) := R
  obtain ⟨K, V, N, b, l, n, cs, cl, w, R1, R2, R3, R4, R5, R6, R7, R8, R9, R10, R11, R12⟩ := R
  by_cases h0 : v1 < 0
  · exact br_t h0 (br_t h0 ⟨rfl, same⟩)
  obtain ⟨m, hm31, e⟩ := nI_of h0
  subst e
  by_cases hm : m < N
  · refine br_f h0 (br_f (by rw [R8]; exact nI_ge hm (by omega)) ⟨vp_in_nI (by omega) (by omega), br_f h0 (br_t (by rw [R9]; exact nI_lt hm (by omega)) ⟨vp_in_nI (by omega) (by omega), ?_, same⟩)⟩)
    rw [nI_clamp (by omega), (R10 m hm).2.1, (R11 m hm).2.1]
  · exact br_f h0 (br_t (by rw [R8]; exact nI_le (by omega) hm31) (br_f h0 (br_f (by rw [R9]; exact nI_nlt (by omega) hm31) ⟨rfl, same⟩)))
/-! complete, components -/
section
variable {xo xb : Int64} {xl xs xg xu xd xc xe xp xf xz : Int32} {xK xV xO xT xS xA xY xN xW xk xt xH xn : Nat → Int32} {xq : Nat → Int64} {xy xF xZ xC xv : Nat → Int32}
variable {yl ys yg yo yc : Int32} {yK yV yA yB yT yO yF yZ yC yS : Nat → Int32}
variable {K V : Nat → Nat} {N : Nat}
theorem zo_cx {post : Int32 → Prop} (hN : N ≤ 48) (hs : xs = nI N) (hox : ox_ K N xO) (h1 : 0 < N → op_ K N = 0 → post 1) (h0 : ¬ (0 < N ∧ op_ K N = 0) → post 0) : wpX_complete post (xo, xb, xl, xs, xg, xu, xd, xc, xe, xp, xf, xz, xK, xV, xO, xT, xS, xA, xY, xN, xW, xk, xt, xH, xn, xq, xy, xF, xZ, xC, xv) := by
  by_cases z : N = 0
  · exact br_t (by rw [hs, z]; decide) (h0 (by omega))
  · refine br_f (by rw [hs]; exact nI_nle (by omega) (by omega)) ?_
    rw [show xs - 1 = nI (N - 1) by rw [hs]; exact pk_sub (b := 1) (by omega)]
    refine ⟨vp_in_nI (by omega) (by omega), ?_⟩
    have hop := op_le (K := K) (i := N)
    rw [nI_clamp (by omega), hox (N - 1) (by omega), show N - 1 + 1 = N by omega]
    by_cases q : op_ K N = 0
    · exact br_f ((zI_le (by omega)).1 q) (h1 (by omega) q)
    · exact br_t ((zI_le (by omega)).2 q) (h0 (fun w => q w.2))
theorem zo_cy {post : Int32 → Prop} (hw : wf_ K V N) (hN : N ≤ 48) (hs : ys = nI N) (hkx : kx_ K V N yK yV) (h1 : 0 < N → op_ K N = 0 → post 1) (h0 : ¬ (0 < N ∧ op_ K N = 0) → post 0) : wpY_complete post (yl, ys, yg, yo, yc, yK, yV, yA, yB, yT, yO, yF, yZ, yC, yS) := by
  by_cases z : N = 0
  · exact br_t (by rw [hs, z]; decide) (h0 (by omega))
  · refine br_f (by rw [hs]; exact nI_nle (by omega) (by omega)) ?_
    have hop := op_le (K := K) (i := N)
    rw [hs]
    refine zy_op (wf_0 hw (by omega)) hN hkx (Nat.le_refl _) ?_
    by_cases q : op_ K N = 0
    · exact br_f ((zI_le (by omega)).1 q) (h1 (by omega) q)
    · exact br_t ((zI_le (by omega)).2 q) (h0 (fun w => q w.2))
theorem zo_px {post : Int32 → SX → Prop} {b n : Nat} {cs : Nat → List (Nat × Nat)} {cl : Nat → Bool} (hw : wf_ K V N) (hN : N ≤ 48) (hS : K N = 11) (hs : xs = nI N) (hu : xu = nI b) (hb : b ≤ N) (hkx : kx_ K V N xK xV) (hox : ox_ K N xO) (T : ti_ K V b false n cs cl xd xS xA xY xN xW xH xc xe xk xt xq xy xF xZ)
    (h0 : ¬ (0 < N ∧ op_ K N = 0) → post (-1) (xo, xb, xl, xs, xg, xu, xd, xc, xe, xp, xf, xz, xK, xV, xO, xT, xS, xA, xY, xN, xW, xk, xt, xH, xn, xq, xy, xF, xZ, xC, xv))
    (h1 : 0 < N → op_ K N = 0 → ∀ (n' : Nat) (cs' : Nat → List (Nat × Nat)) (cl' : Nat → Bool) (xd' xf' : Int32) (xS' xA' xY' xN' xW' xH' : Nat → Int32) (xc' xe' : Int32) (xk' xt' : Nat → Int32) (xq' : Nat → Int64) (xy' xF' xZ' : Nat → Int32),
      ti_ K V N false n' cs' cl' xd' xS' xA' xY' xN' xW' xH' xc' xe' xk' xt' xq' xy' xF' xZ' → tv_ (tb_ K V N) xe' xF' xZ' → post (nI (tb_ K V N).length) (xo, xb, xl, xs, xg, nI N, xd', xc', xe', xp, xf', xz, xK, xV, xO, xT, xS', xA', xY', xN', xW', xk', xt', xH', xn, xq', xy', xF', xZ', xC, xv)) : wpX_components post (xo, xb, xl, xs, xg, xu, xd, xc, xe, xp, xf, xz, xK, xV, xO, xT, xS, xA, xY, xN, xW, xk, xt, xH, xn, xq, xy, xF, xZ, xC, xv) := by
  unfold wpX_components
  refine zo_cx hN hs hox (fun p q => br_f (by decide) ?_) (fun q => br_t rfl (h0 q))
  refine zs_sync hw hN hkx hs hu hb T ?_
  intro n' cs' cl' xd' xf' xS' xA' xY' xN' xW' xH' xc' xe' xk' xt' xq' xy' xF' xZ' T'
  have hf := ti_fin hw hN p q hS T'
  have := h1 p q n' cs' cl' xd' xf' xS' xA' xY' xN' xW' xH' xc' xe' xk' xt' xq' xy' xF' xZ' T' hf.2
  rw [← hf.2.1] at this
  exact this
theorem zo_py {post : Int32 → SY → Prop} (hw : wf_ K V N) (hN : N ≤ 48) (hS : K N = 11) (hs : ys = nI N) (hkx : kx_ K V N yK yV)
    (h0 : ¬ (0 < N ∧ op_ K N = 0) → post (-1) (yl, ys, yg, yo, yc, yK, yV, yA, yB, yT, yO, yF, yZ, yC, yS))
    (h1 : 0 < N → op_ K N = 0 → ∀ (yc' : Int32) (yF' yZ' : Nat → Int32), tv_ (tb_ K V N) yc' yF' yZ' → post (nI (tb_ K V N).length) (yl, ys, yg, yo, yc', yK, yV, yA, yB, yT, yO, yF', yZ', yC, yS)) : wpY_components post (yl, ys, yg, yo, yc, yK, yV, yA, yB, yT, yO, yF, yZ, yC, yS) := by
  unfold wpY_components
  refine zo_cy hw hN hs hkx (fun p q => br_f (by decide) ?_) (fun q => br_t rfl (h0 q))
  refine zy_build hw hN hs hkx hS (fun yc' yF' yZ' ht => ?_)
  have := h1 p q yc' yF' yZ' ht
  rw [← ht.1] at this
  exact this
end
theorem i_vc_complete {k : Nat} {u : SX} {v : SY} (I : i_Rel k u v) (hk : k + 3 ≤ 1537) : wpX_complete (fun r => wpY_complete (fun r' => r' = r ∧ i_Rel (k + 3) u v) v) u := by
  refine rl_el (P := fun u v => wpX_complete (fun r => wpY_complete (fun r' => r' = r ∧ i_Rel (k + 3) u v) v) u) I ?_
  intro xo xb xl xs xg xu xd xc xe xp xf xz xK xV xO xT xS xA xY xN xW xk xt xH xn xq xy xF xZ xC xv yl ys yg yo yc yK yV yA yB yT yO yF yZ yC yS R
  have same : i_Rel (k + 3) (xo, xb, xl, xs, xg, xu, xd, xc, xe, xp, xf, xz, xK, xV, xO, xT, xS, xA, xY, xN, xW, xk, xt, xH, xn, xq, xy, xF, xZ, xC, xv) (yl, ys, yg, yo, yc, yK, yV, yA, yB, yT, yO, yF, yZ, yC, yS) := R
  obtain ⟨K, V, N, b, l, n, cs, cl, w, R1, R2, R3, R4, R5, R6, R7, R8, R9, R10, R11, R12, R13⟩ := R
  refine zo_cx (by omega) R8 R12 (fun p q => zo_cy R1 (by omega) R9 R11 (fun _ _ => ⟨rfl, same⟩) (fun z => absurd ⟨p, q⟩ z)) (fun z => zo_cy R1 (by omega) R9 R11 (fun p q => absurd ⟨p, q⟩ z) (fun _ => ⟨rfl, same⟩))
theorem i_vc_components {k : Nat} {u : SX} {v : SY} (I : i_Rel k u v) (hk : k + 3 ≤ 1537) : wpX_components (fun r u' => wpY_components (fun r' v' => r' = r ∧ i_Rel (k + 3) u' v') v) u := by
  refine rl_el (P := fun u v => wpX_components (fun r u' => wpY_components (fun r' v' => r' = r ∧ i_Rel (k + 3) u' v') v) u) I ?_
  intro xo xb xl xs xg xu xd xc xe xp xf xz xK xV xO xT xS xA xY xN xW xk xt xH xn xq xy xF xZ xC xv yl ys yg yo yc yK yV yA yB yT yO yF yZ yC yS R
  have same : i_Rel (k + 3) (xo, xb, xl, xs, xg, xu, xd, xc, xe, xp, xf, xz, xK, xV, xO, xT, xS, xA, xY, xN, xW, xk, xt, xH, xn, xq, xy, xF, xZ, xC, xv) (yl, ys, yg, yo, yc, yK, yV, yA, yB, yT, yO, yF, yZ, yC, yS) := R
  obtain ⟨K, V, N, b, l, n, cs, cl, w, R1, R2, R3, R4, R5, R6, R7, R8, R9, R10, R11, R12, R13, R14, R15, R16, R17, R18, R19⟩ := R
  refine zo_px R1 (by omega) (R2 N (Nat.le_refl _)) R8 R18 R17 R10 R12 R19 (fun z => zo_py R1 (by omega) (R2 N (Nat.le_refl _)) R9 R11 (fun _ => ⟨rfl, same⟩) (fun p q => absurd ⟨p, q⟩ z)) ?_
  intro p q n' cs' cl' xd' xf' xS' xA' xY' xN' xW' xH' xc' xe' xk' xt' xq' xy' xF' xZ' T' _
  exact zo_py R1 (by omega) (R2 N (Nat.le_refl _)) R9 R11 (fun z => absurd ⟨p, q⟩ z) (fun _ _ yc' yF' yZ' _ => ⟨rfl, K, V, N, N, l, n', cs', cl', w, R1, R2, R3, R4, R5, R6, R7, R8, R9, R10, R11, R12, R13, R14, R15, R16, Nat.le_refl _, rfl, T'⟩)
theorem i_vc_componentFirst {k : Nat} {u : SX} {v : SY} (I : i_Rel k u v) (hk : k + 3 ≤ 1537) (v1 : Int32) : wpX_componentFirst (fun r u' => wpY_componentFirst (fun r' v' => r' = r ∧ i_Rel (k + 3) u' v') v v1) u v1 := by
  refine rl_el (P := fun u v => wpX_componentFirst (fun r u' => wpY_componentFirst (fun r' v' => r' = r ∧ i_Rel (k + 3) u' v') v v1) u v1) I ?_
  intro xo xb xl xs xg xu xd xc xe xp xf xz xK xV xO xT xS xA xY xN xW xk xt xH xn xq xy xF xZ xC xv yl ys yg yo yc yK yV yA yB yT yO yF yZ yC yS R
  have same : i_Rel (k + 3) (xo, xb, xl, xs, xg, xu, xd, xc, xe, xp, xf, xz, xK, xV, xO, xT, xS, xA, xY, xN, xW, xk, xt, xH, xn, xq, xy, xF, xZ, xC, xv) (yl, ys, yg, yo, yc, yK, yV, yA, yB, yT, yO, yF, yZ, yC, yS) := R
  obtain ⟨K, V, N, b, l, n, cs, cl, w, R1, R2, R3, R4, R5, R6, R7, R8, R9, R10, R11, R12, R13, R14, R15, R16, R17, R18, R19⟩ := R
  by_cases h0 : v1 < 0
  · exact br_t h0 (br_t h0 ⟨rfl, same⟩)
  obtain ⟨m, hm31, e⟩ := nI_of h0
  subst e
  have hneg : ∀ {x : Int32}, x = -1 → x ≤ nI m ∧ ¬ nI m < x := by
    intro x hx
    subst hx
    rw [Int32.le_iff_toInt_le, Int32.lt_iff_toInt_lt, nI_toInt hm31]
    have : (-1 : Int32).toInt = -1 := by decide
    rw [this]; omega
  refine br_f h0 ?_
  refine zo_px R1 (by omega) (R2 N (Nat.le_refl _)) R8 R18 R17 R10 R12 R19 (fun z => br_t (hneg rfl).1 (br_f h0 (zo_py R1 (by omega) (R2 N (Nat.le_refl _)) R9 R11 (fun _ => br_f (hneg rfl).2 ⟨rfl, same⟩) (fun p q => absurd ⟨p, q⟩ z)))) ?_
  intro p q n' cs' cl' xd' xf' xS' xA' xY' xN' xW' xH' xc' xe' xk' xt' xq' xy' xF' xZ' T' hX
  have hlen := tb_len R1 (i := N) (Nat.le_refl _)
  have fin : ∀ (yc' : Int32) (yF' yZ' : Nat → Int32), i_Rel (k + 3) (xo, xb, xl, xs, xg, nI N, xd', xc', xe', xp, xf', xz, xK, xV, xO, xT, xS', xA', xY', xN', xW', xk', xt', xH', xn, xq', xy', xF', xZ', xC, xv) (yl, ys, yg, yo, yc', yK, yV, yA, yB, yT, yO, yF', yZ', yC, yS) := fun yc' yF' yZ' => ⟨K, V, N, N, l, n', cs', cl', w, R1, R2, R3, R4, R5, R6, R7, R8, R9, R10, R11, R12, R13, R14, R15, R16, Nat.le_refl _, rfl, T'⟩
  refine pk_le (tb_ K V N).length m (fun z => ?_) (fun z => ⟨vp_in_nI (by omega) (by omega), ?_⟩)
  · exact br_f h0 (zo_py R1 (by omega) (R2 N (Nat.le_refl _)) R9 R11 (fun z => absurd ⟨p, q⟩ z) (fun _ _ yc' yF' yZ' _ => br_f (nI_nlt z hm31) ⟨rfl, fin yc' yF' yZ'⟩))
  · refine br_f h0 (zo_py R1 (by omega) (R2 N (Nat.le_refl _)) R9 R11 (fun z => absurd ⟨p, q⟩ z) (fun _ _ yc' yF' yZ' hY => br_t (nI_lt z (by omega)) ⟨vp_in_nI (by omega) (by omega), ?_, fin yc' yF' yZ'⟩))
    have e := List.getElem?_eq_getElem z
    rw [nI_clamp (by omega), (hX.2 m _ e).1, (hY.2 m _ e).1]
theorem i_vc_componentSize {k : Nat} {u : SX} {v : SY} (I : i_Rel k u v) (hk : k + 3 ≤ 1537) (v1 : Int32) : wpX_componentSize (fun r u' => wpY_componentSize (fun r' v' => r' = r ∧ i_Rel (k + 3) u' v') v v1) u v1 := by
  refine rl_el (P := fun u v => wpX_componentSize (fun r u' => wpY_componentSize (fun r' v' => r' = r ∧ i_Rel (k + 3) u' v') v v1) u v1) I ?_
  intro xo xb xl xs xg xu xd xc xe xp xf xz xK xV xO xT xS xA xY xN xW xk xt xH xn xq xy xF xZ xC xv yl ys yg yo yc yK yV yA yB yT yO yF yZ yC yS R
  have same : i_Rel (k + 3) (xo, xb, xl, xs, xg, xu, xd, xc, xe, xp, xf, xz, xK, xV, xO, xT, xS, xA, xY, xN, xW, xk, xt, xH, xn, xq, xy, xF, xZ, xC, xv) (yl, ys, yg, yo, yc, yK, yV, yA, yB, yT, yO, yF, yZ, yC, yS) := R
  obtain ⟨K, V, N, b, l, n, cs, cl, w, R1, R2, R3, R4, R5, R6, R7, R8, R9, R10, R11, R12, R13, R14, R15, R16, R17, R18, R19⟩ := R
  by_cases h0 : v1 < 0
  · exact br_t h0 (br_t h0 ⟨rfl, same⟩)
  obtain ⟨m, hm31, e⟩ := nI_of h0
  subst e
  have hneg : ∀ {x : Int32}, x = -1 → x ≤ nI m ∧ ¬ nI m < x := by
    intro x hx
    subst hx
    rw [Int32.le_iff_toInt_le, Int32.lt_iff_toInt_lt, nI_toInt hm31]
    have : (-1 : Int32).toInt = -1 := by decide
    rw [this]; omega
  refine br_f h0 ?_
  refine zo_px R1 (by omega) (R2 N (Nat.le_refl _)) R8 R18 R17 R10 R12 R19 (fun z => br_t (hneg rfl).1 (br_f h0 (zo_py R1 (by omega) (R2 N (Nat.le_refl _)) R9 R11 (fun _ => br_f (hneg rfl).2 ⟨rfl, same⟩) (fun p q => absurd ⟨p, q⟩ z)))) ?_
  intro p q n' cs' cl' xd' xf' xS' xA' xY' xN' xW' xH' xc' xe' xk' xt' xq' xy' xF' xZ' T' hX
  have hlen := tb_len R1 (i := N) (Nat.le_refl _)
  have fin : ∀ (yc' : Int32) (yF' yZ' : Nat → Int32), i_Rel (k + 3) (xo, xb, xl, xs, xg, nI N, xd', xc', xe', xp, xf', xz, xK, xV, xO, xT, xS', xA', xY', xN', xW', xk', xt', xH', xn, xq', xy', xF', xZ', xC, xv) (yl, ys, yg, yo, yc', yK, yV, yA, yB, yT, yO, yF', yZ', yC, yS) := fun yc' yF' yZ' => ⟨K, V, N, N, l, n', cs', cl', w, R1, R2, R3, R4, R5, R6, R7, R8, R9, R10, R11, R12, R13, R14, R15, R16, Nat.le_refl _, rfl, T'⟩
  refine pk_le (tb_ K V N).length m (fun z => ?_) (fun z => ⟨vp_in_nI (by omega) (by omega), ?_⟩)
  · exact br_f h0 (zo_py R1 (by omega) (R2 N (Nat.le_refl _)) R9 R11 (fun z => absurd ⟨p, q⟩ z) (fun _ _ yc' yF' yZ' _ => br_f (nI_nlt z hm31) ⟨rfl, fin yc' yF' yZ'⟩))
  · refine br_f h0 (zo_py R1 (by omega) (R2 N (Nat.le_refl _)) R9 R11 (fun z => absurd ⟨p, q⟩ z) (fun _ _ yc' yF' yZ' hY => br_t (nI_lt z (by omega)) ⟨vp_in_nI (by omega) (by omega), ?_, fin yc' yF' yZ'⟩))
    have e := List.getElem?_eq_getElem z
    rw [nI_clamp (by omega), (hX.2 m _ e).2, (hY.2 m _ e).2]
end
section
/-! what is owed: the text -/
def al_ (c : Int32) : Prop := (¬ c < 48 ∧ c ≤ 57) ∨ (¬ c < 65 ∧ c ≤ 90) ∨ (¬ c < 97 ∧ c ≤ 122) ∨ c = 95
theorem al_n {c : Int32} (h : al_ c) : ∃ j : Nat, j < 2 ^ 20 ∧ c = nI j := by
  have key : ∀ (a b : Int32) (n : Nat), b.toInt = n → 0 ≤ a.toInt → n < 2 ^ 20 → ¬ c < a → c ≤ b → ∃ j : Nat, j < 2 ^ 20 ∧ c = nI j := by
    intro a b n hb ha hn h1 h2
    have h0 : ¬ c < 0 := by
      intro z
      rw [Int32.lt_iff_toInt_lt] at z h1
      have e0 : (0 : Int32).toInt = 0 := by decide
      omega
    obtain ⟨j, hj, e⟩ := nI_of2 hb h0 h2
    exact ⟨j, by omega, e⟩
  rcases h with ⟨a, b⟩ | ⟨a, b⟩ | ⟨a, b⟩ | h
  · exact key 48 57 57 (by decide) (by decide) (by omega) a b
  · exact key 65 90 90 (by decide) (by decide) (by omega) a b
  · exact key 97 122 122 (by decide) (by decide) (by omega) a b
  · exact ⟨95, by omega, h⟩
section
variable {xo xb : Int64} {xl xs xg xu xd xc xe xp xf xz : Int32} {xK xV xO xT xS xA xY xN xW xk xt xH xn : Nat → Int32} {xq : Nat → Int64} {xy xF xZ xC xv : Nat → Int32}
variable {yl ys yg yo yc : Int32} {yK yV yA yB yT yO yF yZ yC yS : Nat → Int32}
theorem zo_ax {post : Int32 → Prop} {c : Int32} (h1 : al_ c → post 1) (h0 : ¬ al_ c → post 0) : wpX_isAllowed post (xo, xb, xl, xs, xg, xu, xd, xc, xe, xp, xf, xz, xK, xV, xO, xT, xS, xA, xY, xN, xW, xk, xt, xH, xn, xq, xy, xF, xZ, xC, xv) c := by
  have h36 : ¬ (¬ c < 48 ∧ c ≤ 57) → ¬ (¬ c < 65 ∧ c ≤ 90) → ¬ (¬ c < 97 ∧ c ≤ 122) → wX_isAllowed_36 post c xo xb xl xs xg xu xd xc xe xp xf xz xK xV xO xT xS xA xY xN xW xk xt xH xn xq xy xF xZ xC xv := fun a b d => br_c (fun z => h1 (Or.inr (Or.inr (Or.inr z)))) (fun z => h0 (fun w => by
    rcases w with w | w | w | w
    · exact a w
    · exact b w
    · exact d w
    · exact z w))
  have h24 : ¬ (¬ c < 48 ∧ c ≤ 57) → ¬ (¬ c < 65 ∧ c ≤ 90) → wX_isAllowed_24 post c xo xb xl xs xg xu xd xc xe xp xf xz xK xV xO xT xS xA xY xN xW xk xt xH xn xq xy xF xZ xC xv := fun a b => br_c (fun z => h36 a b (fun w => w.1 z)) (fun z => br_c (fun y => h1 (Or.inr (Or.inr (Or.inl ⟨z, y⟩)))) (fun y => h36 a b (fun w => y w.2)))
  have h12 : ¬ (¬ c < 48 ∧ c ≤ 57) → wX_isAllowed_12 post c xo xb xl xs xg xu xd xc xe xp xf xz xK xV xO xT xS xA xY xN xW xk xt xH xn xq xy xF xZ xC xv := fun a => br_c (fun z => h24 a (fun w => w.1 z)) (fun z => br_c (fun y => h1 (Or.inr (Or.inl ⟨z, y⟩))) (fun y => h24 a (fun w => y w.2)))
  exact br_c (fun z => h12 (fun w => w.1 z)) (fun z => br_c (fun y => h1 (Or.inl ⟨z, y⟩)) (fun y => h12 (fun w => y w.2)))
theorem zo_ay {post : Int32 → Prop} {c : Int32} (h1 : al_ c → post 1) (h0 : ¬ al_ c → post 0) : wpY_allowed post (yl, ys, yg, yo, yc, yK, yV, yA, yB, yT, yO, yF, yZ, yC, yS) c := by
  have h36 : ¬ (¬ c < 48 ∧ c ≤ 57) → ¬ (¬ c < 65 ∧ c ≤ 90) → ¬ (¬ c < 97 ∧ c ≤ 122) → wY_allowed_36 post c yl ys yg yo yc yK yV yA yB yT yO yF yZ yC yS := fun a b d => br_c (fun z => h1 (Or.inr (Or.inr (Or.inr z)))) (fun z => h0 (fun w => by
    rcases w with w | w | w | w
    · exact a w
    · exact b w
    · exact d w
    · exact z w))
  have h24 : ¬ (¬ c < 48 ∧ c ≤ 57) → ¬ (¬ c < 65 ∧ c ≤ 90) → wY_allowed_24 post c yl ys yg yo yc yK yV yA yB yT yO yF yZ yC yS := fun a b => br_c (fun z => h36 a b (fun w => w.1 z)) (fun z => br_c (fun y => h1 (Or.inr (Or.inr (Or.inl ⟨z, y⟩)))) (fun y => h36 a b (fun w => y w.2)))
  have h12 : ¬ (¬ c < 48 ∧ c ≤ 57) → wY_allowed_12 post c yl ys yg yo yc yK yV yA yB yT yO yF yZ yC yS := fun a => br_c (fun z => h24 a (fun w => w.1 z)) (fun z => br_c (fun y => h1 (Or.inr (Or.inl ⟨z, y⟩))) (fun y => h24 a (fun w => y w.2)))
  exact br_c (fun z => h12 (fun w => w.1 z)) (fun z => br_c (fun y => h1 (Or.inl ⟨z, y⟩)) (fun y => h12 (fun w => y w.2)))
end
/-- the text alone changes -/
theorem rl_text {k : Nat} {xo xb : Int64} {xl xs xg xu xd xc xe xp xf xz : Int32} {xK xV xO xT xS xA xY xN xW xk xt xH xn : Nat → Int32} {xq : Nat → Int64} {xy xF xZ xC xv : Nat → Int32} {yl ys yg yo yc : Int32} {yK yV yA yB yT yO yF yZ yC yS : Nat → Int32} {xg' yg' : Int32} {xT' yT' : Nat → Int32} {w' : List Nat} (R : rl_ xo xb xl xs xg xu xd xc xe xp xf xz xK xV xO xT xS xA xY xN xW xk xt xH xn xq xy xF xZ xC xv yl ys yg yo yc yK yV yA yB yT yO yF yZ yC yS) (h1 : tk_ 256 w' xg' xT') (h2 : tk_ 256 w' yg' yT') (h3 : w'.length ≤ 256) (h4 : ∀ c, c ∈ w' → c < 2 ^ 20) : i_Rel k (xo, xb, xl, xs, xg', xu, xd, xc, xe, xp, xf, xz, xK, xV, xO, xT', xS, xA, xY, xN, xW, xk, xt, xH, xn, xq, xy, xF, xZ, xC, xv) (yl, ys, yg', yo, yc, yK, yV, yA, yB, yT', yO, yF, yZ, yC, yS) := by
  obtain ⟨K, V, N, b, l, n, cs, cl, w, R1, R2, R3, R4, R5, R6, R7, R8, R9, R10, R11, R12, R13, R14, R15, R16, R17, R18, R19⟩ := R
  exact ⟨K, V, N, b, l, n, cs, cl, w', R1, R2, R3, R4, R5, R6, R7, R8, R9, R10, R11, R12, h1, h2, h3, h4, R17, R18, R19⟩
theorem rl_w {xo xb : Int64} {xl xs xg xu xd xc xe xp xf xz : Int32} {xK xV xO xT xS xA xY xN xW xk xt xH xn : Nat → Int32} {xq : Nat → Int64} {xy xF xZ xC xv : Nat → Int32} {yl ys yg yo yc : Int32} {yK yV yA yB yT yO yF yZ yC yS : Nat → Int32} (R : rl_ xo xb xl xs xg xu xd xc xe xp xf xz xK xV xO xT xS xA xY xN xW xk xt xH xn xq xy xF xZ xC xv yl ys yg yo yc yK yV yA yB yT yO yF yZ yC yS) : ∃ w : List Nat, tk_ 256 w xg xT ∧ tk_ 256 w yg yT ∧ w.length ≤ 256 ∧ (∀ c, c ∈ w → c < 2 ^ 20) := by
  obtain ⟨K, V, N, b, l, n, cs, cl, w, R1, R2, R3, R4, R5, R6, R7, R8, R9, R10, R11, R12, R13, R14, R15, R16, R17, R18, R19⟩ := R
  exact ⟨w, R13, R14, R15, R16⟩
theorem i_vc_put {k : Nat} {u : SX} {v : SY} (I : i_Rel k u v) (hk : k + 3 ≤ 1537) (v1 : Int32) : wpX_put (fun r u' => wpY_put (fun r' v' => r' = r ∧ i_Rel (k + 3) u' v') v v1) u v1 := by
  refine rl_el (P := fun u v => wpX_put (fun r u' => wpY_put (fun r' v' => r' = r ∧ i_Rel (k + 3) u' v') v v1) u v1) I ?_
  intro xo xb xl xs xg xu xd xc xe xp xf xz xK xV xO xT xS xA xY xN xW xk xt xH xn xq xy xF xZ xC xv yl ys yg yo yc yK yV yA yB yT yO yF yZ yC yS R
  have same : i_Rel (k + 3) (xo, xb, xl, xs, xg, xu, xd, xc, xe, xp, xf, xz, xK, xV, xO, xT, xS, xA, xY, xN, xW, xk, xt, xH, xn, xq, xy, xF, xZ, xC, xv) (yl, ys, yg, yo, yc, yK, yV, yA, yB, yT, yO, yF, yZ, yC, yS) := R
  obtain ⟨w, hx, hy, hl, hc⟩ := rl_w R
  have ex := tk_e hx hl
  have ey := tk_e hy hl
  unfold wpX_put
  refine zo_ax (fun a => br_f (by decide) ?_) (fun a => br_t rfl ?_)
  · obtain ⟨j, hj, e⟩ := al_n a
    subst e
    by_cases q : w.length < 256
    · refine br_t (by rw [ex.1]; exact nI_lt (b := 256) q (by omega)) (zw_w hx (fun xg' xT' hx' => ?_))
      unfold wpY_put
      refine zo_ay (fun _ => br_f (by decide) (br_t (by rw [ey.1]; exact nI_lt (b := 256) q (by omega)) ?_)) (fun z => absurd a z)
      refine ⟨by rw [ey.1]; exact vp_in_nI (by omega) (by omega), nm_r (e' := upd yT w.length (nI j)) (by rw [ey.1, nI_clamp (by omega)]) (nm_r (e' := nI (w.length + 1)) (by rw [ey.1, nI_1]) ⟨rfl, ?_⟩)⟩
      refine rl_text R hx' (tk_put (c := j) hy q).2 (by simp; omega) (fun c hc' => ?_)
      rcases List.mem_append.mp hc' with z | z
      · exact hc c z
      · rw [List.mem_singleton.mp z]; exact hj
    · refine br_f (by rw [ex.1]; exact nI_nlt (b := 256) (by omega) (by omega)) ?_
      unfold wpY_put
      exact zo_ay (fun _ => br_f (by decide) (br_f (by rw [ey.1]; exact nI_nlt (b := 256) (by omega) (by omega)) ⟨rfl, same⟩)) (fun z => absurd a z)
  · unfold wpY_put
    exact zo_ay (fun z => absurd z a) (fun _ => br_t rfl ⟨rfl, same⟩)
theorem i_vc_setChar {k : Nat} {u : SX} {v : SY} (I : i_Rel k u v) (hk : k + 3 ≤ 1537) (v1 : Int32) (v2 : Int32) : wpX_setChar (fun r u' => wpY_setChar (fun r' v' => r' = r ∧ i_Rel (k + 3) u' v') v v1 v2) u v1 v2 := by
  refine rl_el (P := fun u v => wpX_setChar (fun r u' => wpY_setChar (fun r' v' => r' = r ∧ i_Rel (k + 3) u' v') v v1 v2) u v1 v2) I ?_
  intro xo xb xl xs xg xu xd xc xe xp xf xz xK xV xO xT xS xA xY xN xW xk xt xH xn xq xy xF xZ xC xv yl ys yg yo yc yK yV yA yB yT yO yF yZ yC yS R
  have same : i_Rel (k + 3) (xo, xb, xl, xs, xg, xu, xd, xc, xe, xp, xf, xz, xK, xV, xO, xT, xS, xA, xY, xN, xW, xk, xt, xH, xn, xq, xy, xF, xZ, xC, xv) (yl, ys, yg, yo, yc, yK, yV, yA, yB, yT, yO, yF, yZ, yC, yS) := R
  obtain ⟨w, hx, hy, hl, hc⟩ := rl_w R
  have ex := tk_e hx hl
  have ey := tk_e hy hl
  by_cases h0 : v1 < 0
  · exact br_t h0 (br_t h0 ⟨rfl, same⟩)
  obtain ⟨m, hm31, e⟩ := nI_of h0
  subst e
  by_cases q : m < w.length
  · refine br_f h0 (br_t (by rw [ex.1]; exact nI_lt q (by omega)) ?_)
    have hyq : nI m < yg := by rw [ey.1]; exact nI_lt q (by omega)
    refine zo_ax (fun a => br_f (by decide) ⟨vp_in_nI (by omega) (by omega), nm_r (e' := upd xT m v2) (by rw [nI_clamp (by omega)]) ?_⟩) (fun a => br_t rfl ?_)
    · refine br_f h0 (br_t hyq (zo_ay (fun _ => br_f (by decide) ⟨vp_in_nI (by omega) (by omega), nm_r (e' := upd yT m v2) (by rw [nI_clamp (by omega)]) ⟨rfl, ?_⟩⟩) (fun z => absurd a z)))
      obtain ⟨j, hj, e⟩ := al_n a
      subst e
      have hset : ∀ (T : Nat → Int32), (∀ i c, w[i]? = some c → T i = nI c) → ∀ i c, (w.set m j)[i]? = some c → upd T m (nI j) i = nI c := by
        intro T hT i c h
        rw [List.getElem?_set] at h
        by_cases z : m = i
        · subst z
          rw [if_pos rfl, if_pos q] at h
          rw [pk_us, Option.some.inj h]
        · rw [if_neg z] at h
          rw [pk_un (fun y => z y.symm)]; exact hT i c h
      refine rl_text (w' := w.set m j) R (tk_m (by rw [List.length_set]; exact ex.1) (hset xT ex.2) (by rw [List.length_set]; exact hl)) (tk_m (by rw [List.length_set]; exact ey.1) (hset yT ey.2) (by rw [List.length_set]; exact hl)) (by rw [List.length_set]; exact hl) (fun c hc' => ?_)
      rcases List.mem_or_eq_of_mem_set hc' with z | z
      · exact hc c z
      · rw [z]; exact hj
    · exact br_f h0 (br_t hyq (zo_ay (fun z => absurd z a) (fun _ => br_t rfl ⟨rfl, same⟩)))
  · exact br_f h0 (br_f (by rw [ex.1]; exact nI_nlt (by omega) hm31) (br_f h0 (br_f (by rw [ey.1]; exact nI_nlt (by omega) hm31) ⟨rfl, same⟩)))
theorem i_vc_cut {k : Nat} {u : SX} {v : SY} (I : i_Rel k u v) (hk : k + 3 ≤ 1537) (v1 : Int32) : wpX_cut (fun r u' => wpY_cut (fun r' v' => r' = r ∧ i_Rel (k + 3) u' v') v v1) u v1 := by
  refine rl_el (P := fun u v => wpX_cut (fun r u' => wpY_cut (fun r' v' => r' = r ∧ i_Rel (k + 3) u' v') v v1) u v1) I ?_
  intro xo xb xl xs xg xu xd xc xe xp xf xz xK xV xO xT xS xA xY xN xW xk xt xH xn xq xy xF xZ xC xv yl ys yg yo yc yK yV yA yB yT yO yF yZ yC yS R
  have same : i_Rel (k + 3) (xo, xb, xl, xs, xg, xu, xd, xc, xe, xp, xf, xz, xK, xV, xO, xT, xS, xA, xY, xN, xW, xk, xt, xH, xn, xq, xy, xF, xZ, xC, xv) (yl, ys, yg, yo, yc, yK, yV, yA, yB, yT, yO, yF, yZ, yC, yS) := R
  obtain ⟨w, hx, hy, hl, hc⟩ := rl_w R
  have ex := tk_e hx hl
  have ey := tk_e hy hl
  by_cases h0 : v1 < 0
  · exact br_t h0 (br_t h0 ⟨rfl, same⟩)
  obtain ⟨m, hm31, e⟩ := nI_of h0
  subst e
  by_cases q : m ≤ w.length
  · refine br_f h0 (br_t (by rw [ex.1]; exact nI_le q (by omega)) (br_f h0 (br_t (by rw [ey.1]; exact nI_le q (by omega)) ⟨rfl, ?_⟩)))
    have hlen : (w.take m).length = m := by rw [List.length_take]; omega
    have ht : ∀ (T : Nat → Int32), (∀ i c, w[i]? = some c → T i = nI c) → ∀ i c, (w.take m)[i]? = some c → T i = nI c := by
      intro T hT i c h
      rw [List.getElem?_take] at h
      by_cases z : i < m
      · rw [if_pos z] at h; exact hT i c h
      · rw [if_neg z] at h; exact absurd h (by simp)
    exact rl_text (w' := w.take m) R (tk_m (by rw [hlen]) (ht xT ex.2) (by omega)) (tk_m (by rw [hlen]) (ht yT ey.2) (by omega)) (by omega) (fun c hc' => hc c (List.mem_of_mem_take hc'))
  · exact br_f h0 (br_f (by rw [ex.1]; exact nI_ge (by omega) hm31) (br_f h0 (br_f (by rw [ey.1]; exact nI_ge (by omega) hm31) ⟨rfl, same⟩)))
theorem i_vc_length {k : Nat} {u : SX} {v : SY} (I : i_Rel k u v) (hk : k + 3 ≤ 1537) : wpX_length (fun r => wpY_length (fun r' => r' = r ∧ i_Rel (k + 3) u v) v) u := by
  refine rl_el (P := fun u v => wpX_length (fun r => wpY_length (fun r' => r' = r ∧ i_Rel (k + 3) u v) v) u) I ?_
  intro xo xb xl xs xg xu xd xc xe xp xf xz xK xV xO xT xS xA xY xN xW xk xt xH xn xq xy xF xZ xC xv yl ys yg yo yc yK yV yA yB yT yO yF yZ yC yS R
  have same : i_Rel (k + 3) (xo, xb, xl, xs, xg, xu, xd, xc, xe, xp, xf, xz, xK, xV, xO, xT, xS, xA, xY, xN, xW, xk, xt, xH, xn, xq, xy, xF, xZ, xC, xv) (yl, ys, yg, yo, yc, yK, yV, yA, yB, yT, yO, yF, yZ, yC, yS) := R
  obtain ⟨w, hx, hy, hl, hc⟩ := rl_w R
  exact ⟨by rw [(tk_e hx hl).1, (tk_e hy hl).1], same⟩
theorem i_vc_charAt {k : Nat} {u : SX} {v : SY} (I : i_Rel k u v) (hk : k + 3 ≤ 1537) (v1 : Int32) : wpX_charAt (fun r => wpY_charAt (fun r' => r' = r ∧ i_Rel (k + 3) u v) v v1) u v1 := by
  refine rl_el (P := fun u v => wpX_charAt (fun r => wpY_charAt (fun r' => r' = r ∧ i_Rel (k + 3) u v) v v1) u v1) I ?_
  intro xo xb xl xs xg xu xd xc xe xp xf xz xK xV xO xT xS xA xY xN xW xk xt xH xn xq xy xF xZ xC xv yl ys yg yo yc yK yV yA yB yT yO yF yZ yC yS R
  have same : i_Rel (k + 3) (xo, xb, xl, xs, xg, xu, xd, xc, xe, xp, xf, xz, xK, xV, xO, xT, xS, xA, xY, xN, xW, xk, xt, xH, xn, xq, xy, xF, xZ, xC, xv) (yl, ys, yg, yo, yc, yK, yV, yA, yB, yT, yO, yF, yZ, yC, yS) := R
  obtain ⟨w, hx, hy, hl, hc⟩ := rl_w R
  have ex := tk_e hx hl
  have ey := tk_e hy hl
  by_cases h0 : v1 < 0
  · exact br_t h0 (br_t h0 ⟨rfl, same⟩)
  obtain ⟨m, hm31, e⟩ := nI_of h0
  subst e
  by_cases q : m < w.length
  · refine br_f h0 (br_f (by rw [ex.1]; exact nI_ge q (by omega)) ⟨vp_in_nI (by omega) (by omega), br_f h0 (br_t (by rw [ey.1]; exact nI_lt q (by omega)) ⟨vp_in_nI (by omega) (by omega), ?_, same⟩)⟩)
    have e := List.getElem?_eq_getElem q
    rw [nI_clamp (by omega), ex.2 m _ e, ey.2 m _ e]
  · exact br_f h0 (br_t (by rw [ex.1]; exact nI_le (by omega) hm31) (br_f h0 (br_f (by rw [ey.1]; exact nI_nlt (by omega) hm31) ⟨rfl, same⟩)))
theorem i_vc_mangle {k : Nat} {u : SX} {v : SY} (I : i_Rel k u v) (hk : k + 3 ≤ 1537) : wpX_mangle (fun r u' => wpY_mangle (fun r' v' => r' = r ∧ i_Rel (k + 3) u' v') v) u := by
  refine rl_el (P := fun u v => wpX_mangle (fun r u' => wpY_mangle (fun r' v' => r' = r ∧ i_Rel (k + 3) u' v') v) u) I ?_
  intro xo xb xl xs xg xu xd xc xe xp xf xz xK xV xO xT xS xA xY xN xW xk xt xH xn xq xy xF xZ xC xv yl ys yg yo yc yK yV yA yB yT yO yF yZ yC yS R
  have same : i_Rel (k + 3) (xo, xb, xl, xs, xg, xu, xd, xc, xe, xp, xf, xz, xK, xV, xO, xT, xS, xA, xY, xN, xW, xk, xt, xH, xn, xq, xy, xF, xZ, xC, xv) (yl, ys, yg, yo, yc, yK, yV, yA, yB, yT, yO, yF, yZ, yC, yS) := R
  obtain ⟨K, V, N, b, l, n, cs, cl, w, R1, R2, R3, R4, R5, R6, R7, R8, R9, R10, R11, R12, R13, R14, R15, R16, R17, R18, R19⟩ := R
  have hS := R2 N (Nat.le_refl _)
  unfold wpX_mangle
  refine zo_cx (by omega) R8 R12 (fun p q => br_f (by decide) ?_) (fun z => br_t rfl ?_)
  · refine zs_sync R1 (by omega) R10 R8 R18 R17 R19 ?_
    intro n' cs' cl' xd' xf' xS' xA' xY' xN' xW' xH' xc' xe' xk' xt' xq' xy' xF' xZ' T'
    have hf := ti_fin R1 (by omega) p q hS T'
    refine zw_w (w := []) (c := 95) tk_0 (fun xg2 xT2 h2 => zw_w (c := 90) h2 (fun xg3 xT3 h3 => ⟨N + 1, ?_⟩))
    refine zw_mg (post := fun r u' => wpY_mangle (fun r' v' => r' = r ∧ i_Rel (k + 3) u' v') (yl, ys, yg, yo, yc, yK, yV, yA, yB, yT, yO, yF, yZ, yC, yS)) R1 (by omega) q hS R10 R12 hf.1 R8 (fun xg4 xT4 h4 => ?_) N 0 xg3 xT3 (by omega) h3
    unfold wpY_mangle
    refine zo_cy R1 (by omega) R9 R11 (fun _ _ => br_f (by decide) ?_) (fun z => absurd ⟨p, q⟩ z)
    refine zv_sym R1 (by omega) q R9 R11 hS (fun yc' yo' yF' yZ' yO' yC' h5 => ⟨257, ?_⟩)
    refine zv_cp (post := fun r' v' => r' = 0 ∧ i_Rel (k + 3) _ v') h5 (fun yg6 yT6 h6 => ⟨rfl, ?_⟩) 256 0 yT (by omega) (by omega) (fun kk c hkk => by omega)
    exact ⟨K, V, N, N, l, n', cs', cl', (mg_ K V N).take 256, R1, R2, R3, R4, R5, R6, R7, R8, R9, R10, R11, R12, tk_tk h4, tk_tk h6, by rw [List.length_take]; omega, fun c hc => mg_lt R1 (by omega) c (List.mem_of_mem_take hc), Nat.le_refl _, rfl, T'⟩
  · unfold wpY_mangle
    exact zo_cy R1 (by omega) R9 R11 (fun p q => absurd ⟨p, q⟩ z) (fun _ => br_t rfl ⟨rfl, same⟩)
end
section
/-! X reads characters -/
def pr_ (w : List Nat) (p : Nat) (l : List Nat) : Prop := ∀ j c, l[j]? = some c → w[p + j]? = some c
theorem pr_nil {w : List Nat} {p : Nat} : pr_ w p [] := fun j c h => absurd h (by simp)
theorem pr_hd {w : List Nat} {p a : Nat} {l : List Nat} (h : pr_ w p (a :: l)) : w[p]? = some a ∧ pr_ w (p + 1) l := by
  refine ⟨h 0 a rfl, fun j c q => ?_⟩
  have := h (j + 1) c q
  rw [show p + 1 + j = p + (j + 1) by omega]; exact this
theorem pr_cons {w : List Nat} {p a : Nat} {l : List Nat} (h : w[p]? = some a) (h2 : pr_ w (p + 1) l) : pr_ w p (a :: l) := by
  intro j c q
  cases j with
  | zero => have : a = c := Option.some.inj q; rw [← this]; exact h
  | succ j => rw [show p + (j + 1) = p + 1 + j by omega]; exact h2 j c q
theorem pr_app {w : List Nat} {p : Nat} {l m : List Nat} : pr_ w p (l ++ m) ↔ pr_ w p l ∧ pr_ w (p + l.length) m := by
  induction l generalizing p with
  | nil => exact ⟨fun h => ⟨pr_nil, h⟩, fun h => h.2⟩
  | cons a l ih =>
    rw [List.cons_append]
    constructor
    · intro h
      have h1 := pr_hd h
      have h2 := ih.mp h1.2
      refine ⟨pr_cons h1.1 h2.1, ?_⟩
      rw [List.length_cons, show p + (l.length + 1) = p + 1 + l.length by omega]; exact h2.2
    · intro h
      have h1 := pr_hd h.1
      refine pr_cons h1.1 (ih.mpr ⟨h1.2, ?_⟩)
      have := h.2
      rw [List.length_cons, show p + (l.length + 1) = p + 1 + l.length by omega] at this; exact this
theorem pr_take {w : List Nat} : ∀ {l : List Nat} {p : Nat}, pr_ w p l → w.take (p + l.length) = w.take p ++ l := by
  intro l
  induction l with
  | nil => intro p _; simp
  | cons a l ih =>
    intro p h
    have h1 := pr_hd h
    rw [List.length_cons, show p + (l.length + 1) = p + 1 + l.length by omega, ih h1.2, List.take_add_one, h1.1]
    simp
theorem pr_len {w : List Nat} {l : List Nat} {p : Nat} (h : pr_ w p l) (hl : l ≠ []) : p + l.length ≤ w.length := by
  have h1 : 0 < l.length := List.length_pos_iff.mpr hl
  have e : l[l.length - 1]? = some l[l.length - 1] := List.getElem?_eq_getElem (by omega)
  have := (List.getElem?_eq_some_iff.mp (h _ _ e)).1
  omega
/-- the value of a digit -/
def dv_ (b c : Nat) : Option Nat := if b = 36 ∧ 65 ≤ c then (if c ≤ 90 then some (c - 55) else none) else if 48 ≤ c ∧ c ≤ 57 then some (c - 48) else none
theorem dv_dg {b d : Nat} (hb : b = 36 ∨ b = 10) (hd : d < b) : dv_ b (dg_ d) = some d ∧ dg_ d ≠ 95 := by
  unfold dv_ dg_
  by_cases h : d < 10
  · rw [if_pos h, if_neg (by omega), if_pos (by omega)]
    exact ⟨by rw [show 48 + d - 48 = d by omega], by omega⟩
  · have : b = 36 := by omega
    rw [if_neg h, if_pos ⟨this, by omega⟩, if_pos (by omega)]
    exact ⟨by rw [show 55 + d - 55 = d by omega], by omega⟩
theorem dg_dv {b c d : Nat} (hb : b = 36 ∨ b = 10) (h : dv_ b c = some d) : d < b ∧ dg_ d = c := by
  unfold dv_ at h
  by_cases q : b = 36 ∧ 65 ≤ c
  · rw [if_pos q] at h
    by_cases q2 : c ≤ 90
    · rw [if_pos q2] at h
      have := Option.some.inj h
      refine ⟨by omega, ?_⟩
      unfold dg_; rw [if_neg (by omega)]; omega
    · rw [if_neg q2] at h; exact absurd h (by simp)
  · rw [if_neg q] at h
    by_cases q2 : 48 ≤ c ∧ c ≤ 57
    · rw [if_pos q2] at h
      have := Option.some.inj h
      refine ⟨by omega, ?_⟩
      unfold dg_; rw [if_pos (by omega)]; omega
    · rw [if_neg q2] at h; exact absurd h (by simp)
theorem nu_0 {b : Nat} : nu_ 0 b = [95] := rfl
theorem nu_1 {b m : Nat} (h : m < b) : nu_ (m + 1) b = [dg_ m, 95] := by
  unfold nu_
  rw [if_neg (by omega), Nat.add_sub_cancel, Nat.div_eq_of_lt h, if_pos rfl, Nat.mod_eq_of_lt h]; rfl
theorem nu_2 {b h m : Nat} (h0 : 0 < h) (hm : m < b) : nu_ (h * b + m + 1) b = [dg_ h, dg_ m, 95] := by
  unfold nu_
  have e1 : (h * b + m) / b = h := by rw [Nat.mul_comm, Nat.mul_add_div (by omega), Nat.div_eq_of_lt hm, Nat.add_zero]
  have e2 : (h * b + m) % b = m := by rw [Nat.mul_comm, Nat.mul_add_mod, Nat.mod_eq_of_lt hm]
  rw [if_neg (by omega), Nat.add_sub_cancel, e1, e2, if_neg (by omega)]; rfl
/-- every number has one of three forms -/
theorem nu_c {v b : Nat} (hb : 0 < b) : v = 0 ∨ (∃ m, m < b ∧ v = m + 1) ∨ (∃ h m, 0 < h ∧ m < b ∧ v = h * b + m + 1 ∧ h = (v - 1) / b) := by
  by_cases h0 : v = 0
  · exact Or.inl h0
  · by_cases h1 : (v - 1) / b = 0
    · have := (Nat.div_eq_zero_iff.mp h1)
      exact Or.inr (Or.inl ⟨v - 1, by omega, by omega⟩)
    · refine Or.inr (Or.inr ⟨(v - 1) / b, (v - 1) % b, Nat.pos_of_ne_zero h1, Nat.mod_lt _ hb, ?_, rfl⟩)
      have := Nat.div_add_mod (v - 1) b
      rw [Nat.mul_comm] at this
      omega
section
variable {xo xb : Int64} {xl xs xg xu xd xc xe xp xf xz : Int32} {xK xV xO xT xS xA xY xN xW xk xt xH xn : Nat → Int32} {xq : Nat → Int64} {xy xF xZ xC xv : Nat → Int32}
/-- the text, the position -/
def lx_ (w : List Nat) (p : Nat) (xg xp : Int32) (xT : Nat → Int32) : Prop := tk_ 256 w xg xT ∧ w.length ≤ 256 ∧ (∀ c, c ∈ w → c < 2 ^ 20) ∧ xp = nI p ∧ p < 2 ^ 20
theorem lx_p {w : List Nat} {p q : Nat} (h : lx_ w p xg xp xT) (hq : q < 2 ^ 20) : lx_ w q xg (nI q) xT := ⟨h.1, h.2.1, h.2.2.1, rfl, hq⟩
theorem zq_pk {post : Int32 → Prop} {w : List Nat} {p : Nat} (h : lx_ w p xg xp xT) (h1 : ∀ c, w[p]? = some c → c < 2 ^ 20 → post (nI c)) (h0 : w[p]? = none → post (-1)) : wpX_peek post (xo, xb, xl, xs, xg, xu, xd, xc, xe, xp, xf, xz, xK, xV, xO, xT, xS, xA, xY, xN, xW, xk, xt, xH, xn, xq, xy, xF, xZ, xC, xv) := by
  obtain ⟨a1, a2, a3, a4, a5⟩ := h
  have e := tk_e a1 a2
  subst a4
  refine br_f (nI_pos (by omega)) ?_
  by_cases q : p < w.length
  · refine br_f (by rw [e.1]; exact nI_ge q (by omega)) ⟨vp_in_nI (by omega) (by omega), ?_⟩
    have ew := List.getElem?_eq_getElem q
    rw [nI_clamp (by omega), e.2 p _ ew]
    exact h1 _ ew (a3 _ (List.getElem_mem q))
  · exact br_t (by rw [e.1]; exact nI_le (by omega) (by omega)) (h0 (List.getElem?_eq_none (by omega)))
theorem zq_sk {post : Int32 → SX → Prop} {w : List Nat} {p a : Nat} (h : lx_ w p xg xp xT) (ha : a < 2 ^ 20) (h1 : w[p]? = some a → post 1 (xo, xb, xl, xs, xg, xu, xd, xc, xe, nI (p + 1), xf, xz, xK, xV, xO, xT, xS, xA, xY, xN, xW, xk, xt, xH, xn, xq, xy, xF, xZ, xC, xv)) (h0 : w[p]? ≠ some a → post 0 (xo, xb, xl, xs, xg, xu, xd, xc, xe, xp, xf, xz, xK, xV, xO, xT, xS, xA, xY, xN, xW, xk, xt, xH, xn, xq, xy, xF, xZ, xC, xv)) : wpX_skip post (xo, xb, xl, xs, xg, xu, xd, xc, xe, xp, xf, xz, xK, xV, xO, xT, xS, xA, xY, xN, xW, xk, xt, xH, xn, xq, xy, xF, xZ, xC, xv) (nI a) := by
  have hp := h.2.2.2.1
  unfold wpX_skip
  refine zq_pk h (fun c hc hl => ?_) (fun hn => ?_)
  · refine pk_eq c a (fun q => ?_) (fun q => ?_)
    · refine br_f (by decide) (nm_r (e' := nI (p + 1)) (by rw [hp, nI_1]) ⟨rfl, h1 (by rw [hc, q])⟩)
    · exact br_t rfl ⟨rfl, h0 (by rw [hc]; exact fun z => q (Option.some.inj z))⟩
  · exact br_f (fun z => ek_neg (a := a) (by omega) z.symm) (br_t rfl ⟨rfl, h0 (by rw [hn]; simp)⟩)
theorem zq_in {post : Int32 → SX → Prop} {w : List Nat} {p lo hi : Nat} (h : lx_ w p xg xp xT) (hlo : lo < 2 ^ 20) (hhi : hi < 2 ^ 20)
    (h1 : ∀ c, w[p]? = some c → lo ≤ c → c ≤ hi → post (nI (c - lo)) (xo, xb, xl, xs, xg, xu, xd, xc, xe, nI (p + 1), xf, xz, xK, xV, xO, xT, xS, xA, xY, xN, xW, xk, xt, xH, xn, xq, xy, xF, xZ, xC, xv)) (h0 : (∀ c, w[p]? = some c → ¬ (lo ≤ c ∧ c ≤ hi)) → post 0 (xo, xb, xl, xs, xg, xu, xd, xc, xe, nI (p + 1), 1, xz, xK, xV, xO, xT, xS, xA, xY, xN, xW, xk, xt, xH, xn, xq, xy, xF, xZ, xC, xv)) : wpX_readIn post (xo, xb, xl, xs, xg, xu, xd, xc, xe, xp, xf, xz, xK, xV, xO, xT, xS, xA, xY, xN, xW, xk, xt, xH, xn, xq, xy, xF, xZ, xC, xv) (nI lo) (nI hi) := by
  have hp := h.2.2.2.1
  unfold wpX_readIn
  refine zq_pk h (fun c hc hl => nm_r (e' := nI (p + 1)) (by rw [hp, nI_1]) ?_) (fun hn => nm_r (e' := nI (p + 1)) (by rw [hp, nI_1]) ?_)
  · refine pk_lt c lo (fun q => br_t (nI_lt q (by omega)) (h0 (fun c' hc' z => ?_))) (fun q => pk_le c hi (fun q2 => br_f (nI_nlt q (by omega)) (br_t (nI_le q2 (by omega)) ?_)) (fun q2 => br_f (nI_nlt q (by omega)) (br_f (nI_ge q2 (by omega)) (h0 (fun c' hc' z => ?_)))))
    · rw [hc] at hc'; have := Option.some.inj hc'; omega
    · rw [pk_sub q]; exact h1 c hc q q2
    · rw [hc] at hc'; have := Option.some.inj hc'; omega
  · have hneg : (-1 : Int32) < nI lo := by
      rw [Int32.lt_iff_toInt_lt, nI_toInt (by omega)]
      have : (-1 : Int32).toInt = -1 := by decide
      rw [this]; omega
    exact br_t hneg (br_t hneg (h0 (fun c hc => by rw [hn] at hc; exact absurd hc (by simp))))
end
end
section
/-! X accepts a node that it has read -/
def rd_ (K V : Nat → Nat) (i : Nat) (c : Bool) (n : Nat) (cs : Nat → List (Nat × Nat)) (cl : Nat → Bool) (l : Nat) (w : List Nat) (p : Nat) (xo xb : Int64) (xl xs xg xu xd xc xe xp xf xz : Int32) (xK xV xO xT xS xA xY xN xW xk xt xH xn : Nat → Int32) (xq : Nat → Int64) (xy xF xZ xC xv : Nat → Int32) : Prop :=
  wf_ K V i ∧ (∀ j, i ≤ j → K j = 11) ∧ i ≤ l ∧ l ≤ 48 ∧ xl = nI l ∧ xs = nI i ∧ xu = nI i ∧ kx_ K V i xK xV ∧ ox_ K i xO ∧ lx_ w p xg xp xT ∧
  ti_ K V i c n cs cl xd xS xA xY xN xW xH xc xe xk xt xq xy xF xZ
section
variable {xo xb : Int64} {xl xs xg xu xd xc xe xp xf xz : Int32} {xK xV xO xT xS xA xY xN xW xk xt xH xn : Nat → Int32} {xq : Nat → Int64} {xy xF xZ xC xv : Nat → Int32}
variable {K V : Nat → Nat} {i : Nat} {c : Bool} {n : Nat} {cs : Nat → List (Nat × Nat)} {cl : Nat → Bool} {l : Nat} {w : List Nat} {p : Nat}
theorem rd_p {q : Nat} {xf' xz' : Int32} {xn' xC' xv' : Nat → Int32} (R : rd_ K V i c n cs cl l w p xo xb xl xs xg xu xd xc xe xp xf xz xK xV xO xT xS xA xY xN xW xk xt xH xn xq xy xF xZ xC xv) (hq : q < 2 ^ 20) : rd_ K V i c n cs cl l w q xo xb xl xs xg xu xd xc xe (nI q) xf' xz' xK xV xO xT xS xA xY xN xW xk xt xH xn' xq xy xF xZ xC' xv' := by
  obtain ⟨r1, r2, r3, r4, r5, r6, r7, r8, r9, r10, r11⟩ := R
  exact ⟨r1, r2, r3, r4, r5, r6, r7, r8, r9, lx_p r10 hq, r11⟩
theorem rd_f {xf' xz' : Int32} {xn' xC' xv' : Nat → Int32} (R : rd_ K V i c n cs cl l w p xo xb xl xs xg xu xd xc xe xp xf xz xK xV xO xT xS xA xY xN xW xk xt xH xn xq xy xF xZ xC xv) : rd_ K V i c n cs cl l w p xo xb xl xs xg xu xd xc xe xp xf' xz' xK xV xO xT xS xA xY xN xW xk xt xH xn' xq xy xF xZ xC' xv' := R
theorem zq_acc {post : SX → Prop} {k : Nat} {p1 p2 : Int32} (R : rd_ K V i c n cs cl l w p xo xb xl xs xg xu xd xc xe xp xf xz xK xV xO xT xS xA xY xN xW xk xt xH xn xq xy xF xZ xC xv) (hk : k ≤ 11) (hc : c = true → k ≠ 1 ∧ k ≠ 3) (h01 : xf = 0 ∨ xf = 1) (hv : xf = 0 → ∃ v, p1 = nI v ∧ vr_ k v)
    (HF : (∀ v, xf = 0 → p1 = nI v → vr_ k v → i < l → ¬ ft_ K i k v) → post (xo, xb, xl, xs, xg, xu, xd, xc, xe, xp, 1, xz, xK, xV, xO, xT, xS, xA, xY, xN, xW, xk, xt, xH, xn, xq, xy, xF, xZ, xC, xv))
    (HB : ∀ v, xf = 0 → p1 = nI v → vr_ k v → i < l → ft_ K i k v → ∀ (n' : Nat) (cs' : Nat → List (Nat × Nat)) (cl' : Nat → Bool) (xs' xu' xd' xc' xe' xf' : Int32) (xK' xV' xO' xS' xA' xY' xN' xW' xk' xt' xH' : Nat → Int32) (xq' : Nat → Int64) (xy' xF' xZ' : Nat → Int32),
      rd_ (un_ K i k) (un_ V i v) (i + 1) false n' cs' cl' l w p xo xb xl xs' xg xu' xd' xc' xe' xp xf' xz xK' xV' xO' xT xS' xA' xY' xN' xW' xk' xt' xH' xn xq' xy' xF' xZ' (upd xC i p2) xv → fr_ (un_ K i k) (un_ V i v) (upd xC i p2) 0 xf' (np_ (un_ K i k) c i) → post (xo, xb, xl, xs', xg, xu', xd', xc', xe', xp, xf', xz, xK', xV', xO', xT, xS', xA', xY', xN', xW', xk', xt', xH', xn, xq', xy', xF', xZ', upd xC i p2, xv)) :
    wpX_accept post (xo, xb, xl, xs, xg, xu, xd, xc, xe, xp, xf, xz, xK, xV, xO, xT, xS, xA, xY, xN, xW, xk, xt, xH, xn, xq, xy, xF, xZ, xC, xv) (nI k) p1 p2 := by
  obtain ⟨r1, r2, r3, r4, r5, r6, r7, r8, r9, r10, r11⟩ := R
  have bad : (∀ v, xf = 0 → p1 = nI v → vr_ k v → i < l → ¬ ft_ K i k v) → wX_accept_20 post (nI k) p1 p2 xo xb xl xs xg xu xd xc xe xp xf xz xK xV xO xT xS xA xY xN xW xk xt xH xn xq xy xF xZ xC xv := fun h => br_f (by decide) (HF h)
  by_cases hl : l ≤ i
  · exact br_t (by rw [r5, r6]; exact nI_le hl (by omega)) (bad (fun v _ _ _ q => by omega))
  refine br_f (by rw [r5, r6]; exact nI_ge (by omega) (by omega)) ?_
  rcases h01 with h0 | h1
  · obtain ⟨v, ev, hvr⟩ := hv h0
    subst ev
    have hm := mx_le (k := k)
    have hv701 : v ≤ 701 := by have := hvr.2.1; omega
    have h0v : nI v = 0 ↔ v = 0 := nI_eq (a := v) (b := 0) (by omega) (by omega)
    refine zf_x (v := v) r1 (by omega) r6 r8 r9 hk h0v (fun hf => br_f (by decide) ?_) (fun hf => br_t rfl (bad (fun v' _ e hvr' _ => ?_)))
    · have hic : (nI i).toNatClampNeg = i := nI_clamp (by omega)
      refine br_t h0 ⟨by rw [r6]; exact vp_in_nI (by omega) (by omega), nm_r (e' := upd xC i p2) (by rw [r6, hic]) ?_⟩
      refine zf_ap (fun q => wf_0 r1 q) (by omega) r6 r9 hk (fun q => ?_) (fun hox => ?_)
      · subst q
        rcases hf with z | z
        · exact z.2
        · omega
      · have hw' := wf_add r1 hvr hf
        have hkx' := kx_add r8 hk hv701
        have T' := gc_ti (K' := un_ K i k) (V' := un_ V i v) un_lt un_lt r1 r11
        refine zs_one (i := i) (N := i + 1) (c := c) hw' rfl (by omega) (fun q => by rw [un_s]; exact hc q) hkx' rfl r7 T' ?_
        intro n' cs' cl' xd' xf' xS' xA' xY' xN' xW' xH' xc' xe' xk' xt' xq' xy' xF' xZ' T2 hfr
        rw [h0] at hfr
        refine HB v h0 rfl hvr (by omega) hf n' cs' cl' _ _ _ _ _ _ _ _ _ _ _ _ _ _ _ _ _ _ _ _ _ ⟨hw', fun j hj => ?_, by omega, r4, r5, rfl, rfl, hkx', hox, r10, T2⟩ hfr
        rw [un_n (by omega)]; exact r2 j (by omega)
    · have hvv : v' = v := (nI_eq (by have := hvr'.2.1; omega) (by omega)).mp e.symm
      rw [hvv]; exact hf
  · have fin : post (xo, xb, xl, xs, xg, xu, xd, xc, xe, xp, xf, xz, xK, xV, xO, xT, xS, xA, xY, xN, xW, xk, xt, xH, xn, xq, xy, xF, xZ, xC, xv) := by
      have := HF (fun v q => by rw [h1] at q; exact absurd q (by decide))
      rw [← h1] at this; exact this
    have hb1 : wX_accept_25 post (nI k) p1 p2 xo xb xl xs xg xu xd xc xe xp xf xz xK xV xO xT xS xA xY xN xW xk xt xH xn xq xy xF xZ xC xv := br_f (by rw [h1]; decide) fin
    refine zf_x (v := if p1 = 0 then 0 else 1) r1 (by omega) r6 r8 r9 hk (by by_cases q : p1 = 0 <;> simp [q]) (fun _ => br_f (by decide) hb1) (fun _ => br_t rfl (bad (fun v q => by rw [h1] at q; exact absurd q (by decide))))
end
end
section
/-! X reads numbers and identifiers -/
section
variable {xo xb : Int64} {xl xs xg xu xd xc xe xp xf xz : Int32} {xK xV xO xT xS xA xY xN xW xk xt xH xn : Nat → Int32} {xq : Nat → Int64} {xy xF xZ xC xv : Nat → Int32}
variable {w : List Nat} {p b : Nat}
theorem zq_dig {post : Int32 → SX → Prop} {J5 : Int32 → Int32 → Int64 → Int64 → Int32 → Int32 → Int32 → Int32 → Int32 → Int32 → Int32 → Int32 → Int32 → Int32 → (Nat → Int32) → (Nat → Int32) → (Nat → Int32) → (Nat → Int32) → (Nat → Int32) → (Nat → Int32) → (Nat → Int32) → (Nat → Int32) → (Nat → Int32) → (Nat → Int32) → (Nat → Int32) → (Nat → Int32) → (Nat → Int32) → (Nat → Int64) → (Nat → Int32) → (Nat → Int32) → (Nat → Int32) → (Nat → Int32) → (Nat → Int32) → Prop} {x2 x3 x4 : Int32} (hb : b = 36 ∨ b = 10) (L : lx_ w p xg xp xT) (h01 : xf = 0 ∨ xf = 1)
    (h1 : ∀ c d, w[p]? = some c → dv_ b c = some d → wX_readNumber_79 post J5 (nI b) x2 x3 x4 (nI d) xo xb xl xs xg xu xd xc xe (nI (p + 1)) xf xz xK xV xO xT xS xA xY xN xW xk xt xH xn xq xy xF xZ xC xv)
    (h0 : (∀ c d, w[p]? = some c → dv_ b c ≠ some d) → ∀ r, wX_readNumber_79 post J5 (nI b) x2 x3 x4 r xo xb xl xs xg xu xd xc xe (nI (p + 1)) 1 xz xK xV xO xT xS xA xY xN xW xk xt xH xn xq xy xF xZ xC xv) : wX_readNumber_42 post J5 (nI b) x2 x3 x4 xo xb xl xs xg xu xd xc xe xp xf xz xK xV xO xT xS xA xY xN xW xk xt xH xn xq xy xF xZ xC xv := by
  have h71 : (∀ c, w[p]? = some c → ¬ (b = 36 ∧ 65 ≤ c)) → wX_readNumber_71 post J5 (nI b) x2 x3 x4 xo xb xl xs xg xu xd xc xe xp xf xz xK xV xO xT xS xA xY xN xW xk xt xH xn xq xy xF xZ xC xv := by
    intro hlow
    refine zq_in (lo := 48) (hi := 57) L (by omega) (by omega) (fun c hc a1 a2 => ?_) (fun hn => h0 (fun c d hc hd => ?_) _)
    · exact h1 c (c - 48) hc (by unfold dv_; rw [if_neg (hlow c hc), if_pos ⟨a1, a2⟩])
    · have := dg_dv hb hd
      unfold dv_ at hd
      rw [if_neg (hlow c hc), if_neg (hn c hc)] at hd
      exact absurd hd (by simp)
  rcases hb with e | e
  · subst e
    refine br_t rfl (zq_pk L (fun c hc hl => pk_lt c 65 (fun q => h71 (fun c' hc' z => ?_)) (fun q => ?_)) (fun hn => br_t (by decide) (h71 (fun c' hc' => by rw [hn] at hc'; exact absurd hc' (by simp)))))
    · rw [hc] at hc'; have := Option.some.inj hc'; omega
    · refine zq_in (lo := 65) (hi := 90) L (by omega) (by omega) (fun c' hc' a1 a2 => ?_) (fun hn => h0 (fun c' d hc' hd => ?_) _)
      · have e2 : (10 : Int32) + nI (c' - 65) = nI (c' - 55) := by
          have : (10 : Int32) = nI 10 := rfl
          rw [this, nI_add, show 10 + (c' - 65) = c' - 55 by omega]
        rw [e2]
        exact h1 c' (c' - 55) hc' (by unfold dv_; rw [if_pos ⟨rfl, a1⟩, if_pos a2])
      · rw [hc] at hc'
        have hcc := Option.some.inj hc'
        subst hcc
        unfold dv_ at hd
        rw [if_pos ⟨rfl, q⟩] at hd
        by_cases q2 : c ≤ 90
        · exact hn c hc ⟨q, q2⟩
        · rw [if_neg q2] at hd; exact absurd hd (by simp)
  · subst e
    exact br_f (by decide) (h71 (fun c _ z => by omega))
/-- it has failed: the rest runs out -/
theorem za_nf {post : Int32 → SX → Prop} {p1 : Int32} (hb : b = 36 ∨ b = 10) : ∀ (d t : Nat) (x3 : Int32) (q : Nat) (xp : Int32), t + d = 3 → lx_ w q xg xp xT → q + 2 * d + 2 < 2 ^ 20 → xf = 1 →
    (∀ (r : Int32) (p' : Nat), p' ≤ q + 2 * d → post r (xo, xb, xl, xs, xg, xu, xd, xc, xe, nI p', 1, xz, xK, xV, xO, xT, xS, xA, xY, xN, xW, xk, xt, xH, xn, xq, xy, xF, xZ, xC, xv)) → wX_readNumber_5 post (nI b) p1 (d + 1) x3 (nI t) xo xb xl xs xg xu xd xc xe xp xf xz xK xV xO xT xS xA xY xN xW xk xt xH xn xq xy xF xZ xC xv := by
  intro d
  induction d with
  | zero =>
    intro t x3 q xp ht L hq hf HB
    have e : xp = nI q := L.2.2.2.1
    have h107 : wX_readNumber_107 post p1 x3 xo xb xl xs xg xu xd xc xe xp xf xz xK xV xO xT xS xA xY xN xW xk xt xH xn xq xy xF xZ xC xv := by
      have := HB x3 q (by omega)
      rw [← e] at this
      refine br_c (fun _ => ?_) (fun _ => this)
      rw [← hf] at this; exact this
    exact br_t (nI_le (a := 3) (by omega) (by omega)) h107
  | succ d ih =>
    intro t x3 q xp ht L hq hf HB
    have h107 : ∀ q', q' ≤ q + 1 → wX_readNumber_107 post p1 x3 xo xb xl xs xg xu xd xc xe (nI q') xf xz xK xV xO xT xS xA xY xN xW xk xt xH xn xq xy xF xZ xC xv := by
      intro q' hq'
      have := HB x3 q' (by omega)
      refine br_c (fun _ => ?_) (fun _ => this)
      rw [← hf] at this; exact this
    have h79 : ∀ r, wX_readNumber_79 post (wX_readNumber_5 post (nI b) p1 (d + 1)) (nI b) p1 x3 (nI t) r xo xb xl xs xg xu xd xc xe (nI (q + 1)) 1 xz xK xV xO xT xS xA xY xN xW xk xt xH xn xq xy xF xZ xC xv := by
      intro r
      have go : ∀ x3', wX_readNumber_5 post (nI b) p1 (d + 1) x3' (nI (t + 1)) xo xb xl xs xg xu xd xc xe (nI (q + 1)) 1 xz xK xV xO xT xS xA xY xN xW xk xt xH xn xq xy xF xZ xC xv := by
        intro x3'
        have := ih (t + 1) x3' (q + 1) (nI (q + 1)) (by omega) (lx_p L (by omega)) (by omega) hf (fun r p' hp' => HB r p' (by omega))
        rw [hf] at this; exact this
      exact br_c (fun _ => nm_e (nm_r (nI_1 t) (go _))) (fun _ => nm_e (nm_r (nI_1 t) (go _)))
    have h42 : wX_readNumber_42 post (wX_readNumber_5 post (nI b) p1 (d + 1)) (nI b) p1 x3 (nI t) xo xb xl xs xg xu xd xc xe xp xf xz xK xV xO xT xS xA xY xN xW xk xt xH xn xq xy xF xZ xC xv :=
      zq_dig hb L (Or.inr hf) (fun c dd _ _ => by have := h79 (nI dd); rw [← hf] at this; exact this) (fun _ r => h79 r)
    have h37 : wX_readNumber_37 post (wX_readNumber_5 post (nI b) p1 (d + 1)) (nI b) p1 x3 (nI t) xo xb xl xs xg xu xd xc xe xp xf xz xK xV xO xT xS xA xY xN xW xk xt xH xn xq xy xF xZ xC xv := by
      have := h42
      rw [hf] at this
      exact this
    refine br_f (nI_ge (b := 3) (by omega) (by omega)) ?_
    refine zq_sk (a := 95) L (by omega) (fun _ => br_f (by decide) (h107 (q + 1) (by omega))) (fun _ => br_t rfl (br_c (fun _ => h37) (fun _ => br_c (fun _ => br_c (fun _ => h37) (fun _ => h42)) (fun _ => h42))))
theorem za_nu {post : Int32 → SX → Prop} {mx : Nat} {p1 : Int32} (hb : b = 36 ∨ b = 10) (L : lx_ w p xg xp xT) (hp : p + 20 < 2 ^ 20) (hmx : mx ≤ 100) (e1 : p1 = nI mx - 1) (h0 : xf = 0)
    (HOK : ∀ v, v < mx → pr_ w p (nu_ v b) → post (nI v) (xo, xb, xl, xs, xg, xu, xd, xc, xe, nI (p + (nu_ v b).length), xf, xz, xK, xV, xO, xT, xS, xA, xY, xN, xW, xk, xt, xH, xn, xq, xy, xF, xZ, xC, xv))
    (HB : ∀ (r : Int32) (p' : Nat), p' ≤ p + 10 → post r (xo, xb, xl, xs, xg, xu, xd, xc, xe, nI p', 1, xz, xK, xV, xO, xT, xS, xA, xY, xN, xW, xk, xt, xH, xn, xq, xy, xF, xZ, xC, xv)) : wpX_readNumber post (xo, xb, xl, xs, xg, xu, xd, xc, xe, xp, xf, xz, xK, xV, xO, xT, xS, xA, xY, xN, xW, xk, xt, xH, xn, xq, xy, xF, xZ, xC, xv) (nI b) p1 := by
  have hbb : b < 2 ^ 10 ∧ 0 < b := by omega
  -- the end: compare with the greatest
  have h107 : ∀ v q, v < 2 ^ 20 → q ≤ p + 10 → (v < mx → pr_ w p (nu_ v b) ∧ q = p + (nu_ v b).length) → wX_readNumber_107 post p1 (nI v) xo xb xl xs xg xu xd xc xe (nI q) xf xz xK xV xO xT xS xA xY xN xW xk xt xH xn xq xy xF xZ xC xv := by
    intro v q hv hq hok
    subst e1
    cases mx with
    | zero =>
      refine br_f ?_ (HB _ q hq)
      rw [Int32.le_iff_toInt_le, nI_toInt (by omega)]
      have : (nI 0 - 1).toInt = -1 := by decide
      rw [this]; omega
    | succ m =>
      rw [nI_pred]
      refine pk_le v m (fun z => ?_) (fun z => HB _ q hq)
      have := hok (by omega)
      rw [this.2]; exact HOK v (by omega) this.1
  have nf : ∀ (d t : Nat) (x3 : Int32) (q : Nat), t + d = 3 → q + 2 * d ≤ p + 10 → wX_readNumber_5 post (nI b) p1 (d + 1) x3 (nI t) xo xb xl xs xg xu xd xc xe (nI q) 1 xz xK xV xO xT xS xA xY xN xW xk xt xH xn xq xy xF xZ xC xv := by
    intro d t x3 q ht hq
    exact za_nf hb d t x3 q (nI q) ht (lx_p L (by omega)) (by omega) rfl (fun r p' hp' => HB r p' (by omega))
  have s79 : ∀ (d t : Nat) (x3 r : Int32) (q : Nat), t + d = 2 → q + 2 * d ≤ p + 10 → wX_readNumber_79 post (wX_readNumber_5 post (nI b) p1 (d + 1)) (nI b) p1 x3 (nI t) r xo xb xl xs xg xu xd xc xe (nI q) 1 xz xK xV xO xT xS xA xY xN xW xk xt xH xn xq xy xF xZ xC xv := by
    intro d t x3 r q ht hq
    exact br_c (fun _ => nm_e (nm_r (nI_1 t) (nf d (t + 1) _ q (by omega) hq))) (fun _ => nm_e (nm_r (nI_1 t) (nf d (t + 1) _ q (by omega) hq)))
  refine ⟨4, ?_⟩
  -- nothing, or a first digit
  refine br_f (by decide) ?_
  refine zq_sk (a := 95) L (by omega) (fun hu => br_f (by decide) (h107 0 (p + 1) (by omega) (by omega) (fun _ => ⟨pr_cons hu pr_nil, rfl⟩))) (fun hu => br_t rfl (br_f (by decide) (br_f (by decide) ?_)))
  refine zq_dig hb L (Or.inl h0) (fun c1 d1 hc1 hd1 => ?_) (fun _ r => s79 2 0 _ r (p + 1) (by omega) (by omega))
  have g1 := dg_dv hb hd1
  have L1 : lx_ w (p + 1) xg (nI (p + 1)) xT := lx_p L (by omega)
  refine br_t rfl (nm_r (e' := nI (d1 + 1)) (by
    have : (0 : Int32) = nI 0 := rfl
    rw [this, pk_mul, Nat.zero_mul, nI_add, Nat.zero_add, nI_1]) (nm_r (e' := nI 1) rfl ?_))
  refine br_f (by decide) ?_
  refine zq_sk (a := 95) L1 (by omega) (fun hu1 => br_f (by decide) (h107 (d1 + 1) (p + 1 + 1) (by omega) (by omega) (fun _ => ?_))) (fun hu1 => br_t rfl (br_f (by decide) (br_t rfl ?_)))
  · rw [nu_1 g1.1]
    exact ⟨pr_cons (by rw [hc1, g1.2]) (pr_cons hu1 pr_nil), rfl⟩
  refine pk_eq (d1 + 1) 1 (fun q => ?_) (fun q => ?_)
  · -- a leading zero
    show wX_readNumber_42 post _ (nI b) p1 (nI (d1 + 1)) 1 xo xb xl xs xg xu xd xc xe (nI (p + 1)) 1 xz xK xV xO xT xS xA xY xN xW xk xt xH xn xq xy xF xZ xC xv
    refine zq_dig (w := w) (p := p + 1) hb L1 (Or.inr rfl) (fun c d _ _ => s79 1 1 _ (nI d) (p + 1 + 1) (by omega) (by omega)) (fun _ r => s79 1 1 _ r (p + 1 + 1) (by omega) (by omega))
  · refine zq_dig (w := w) (p := p + 1) hb L1 (Or.inl h0) (fun c2 d2 hc2 hd2 => ?_) (fun _ r => s79 1 1 _ r (p + 1 + 1) (by omega) (by omega))
    have g2 := dg_dv hb hd2
    have hmul : d1 * b + d2 + 1 < 2 ^ 20 := by
      have : d1 * b ≤ 36 * 36 := Nat.mul_le_mul (by omega) (by omega)
      omega
    refine br_f (by decide) (nm_r (e' := nI (d1 * b + d2 + 1)) (by rw [show nI (d1 + 1) - 1 = nI d1 from nI_pred d1, pk_mul, nI_add, nI_1]) (nm_r (e' := nI 2) rfl ?_))
    have L2 : lx_ w (p + 1 + 1) xg (nI (p + 1 + 1)) xT := lx_p L (by omega)
    refine br_f (by decide) ?_
    refine zq_sk (a := 95) L2 (by omega) (fun hu2 => br_f (by decide) (h107 (d1 * b + d2 + 1) (p + 1 + 1 + 1) hmul (by omega) (fun _ => ?_))) (fun hu2 => br_t rfl (br_t rfl ?_))
    · rw [nu_2 (by omega) g2.1]
      exact ⟨pr_cons (by rw [hc1, g1.2]) (pr_cons (by rw [hc2, g2.2]) (pr_cons hu2 pr_nil)), rfl⟩
    · -- too long
      show wX_readNumber_42 post _ (nI b) p1 (nI (d1 * b + d2 + 1)) 2 xo xb xl xs xg xu xd xc xe (nI (p + 1 + 1)) 1 xz xK xV xO xT xS xA xY xN xW xk xt xH xn xq xy xF xZ xC xv
      refine zq_dig (w := w) (p := p + 1 + 1) hb L2 (Or.inr rfl) (fun c d _ _ => s79 0 2 _ (nI d) (p + 1 + 1 + 1) (by omega) (by omega)) (fun _ r => s79 0 2 _ r (p + 1 + 1 + 1) (by omega) (by omega))
theorem zb_nu {post : Int32 → SX → Prop} {mx v : Nat} {p1 : Int32} (hb : b = 36 ∨ b = 10) (L : lx_ w p xg xp xT) (hp : p + 20 < 2 ^ 20) (hmx : mx ≤ 100) (e1 : p1 = nI mx - 1) (h0 : xf = 0) (hv : v < mx) (hpr : pr_ w p (nu_ v b))
    (H : post (nI v) (xo, xb, xl, xs, xg, xu, xd, xc, xe, nI (p + (nu_ v b).length), xf, xz, xK, xV, xO, xT, xS, xA, xY, xN, xW, xk, xt, xH, xn, xq, xy, xF, xZ, xC, xv)) : wpX_readNumber post (xo, xb, xl, xs, xg, xu, xd, xc, xe, xp, xf, xz, xK, xV, xO, xT, xS, xA, xY, xN, xW, xk, xt, xH, xn, xq, xy, xF, xZ, xC, xv) (nI b) p1 := by
  have hbb : 0 < b := by omega
  have h107 : ∀ q, q = p + (nu_ v b).length → wX_readNumber_107 post p1 (nI v) xo xb xl xs xg xu xd xc xe (nI q) xf xz xK xV xO xT xS xA xY xN xW xk xt xH xn xq xy xF xZ xC xv := by
    intro q hq
    subst hq
    obtain ⟨m, rfl⟩ : ∃ m, mx = m + 1 := ⟨mx - 1, by omega⟩
    rw [e1, nI_pred]
    exact br_t (nI_le (by omega) (by omega)) H
  refine ⟨4, ?_⟩
  refine br_f (by decide) ?_
  rcases nu_c (v := v) hbb with e | ⟨m, hm, e⟩ | ⟨h, m, hh, hm, e, eh⟩
  · subst e
    exact zq_sk (a := 95) L (by omega) (fun _ => br_f (by decide) (h107 _ rfl)) (fun z => absurd (pr_hd hpr).1 z)
  · subst e
    have ds := dv_dg hb hm
    rw [nu_1 hm] at hpr h107
    have p0 := pr_hd hpr
    have p1' := pr_hd p0.2
    refine zq_sk (a := 95) L (by omega) (fun z => absurd (Option.some.inj (p0.1.symm.trans z)) ds.2) (fun _ => br_t rfl (br_f (by decide) (br_f (by decide) ?_)))
    refine zq_dig hb L (Or.inl h0) (fun c1 d1 hc1 hd1 => ?_) (fun hn r => absurd ds.1 (hn _ m p0.1))
    have ec : c1 = dg_ m := Option.some.inj (hc1.symm.trans p0.1)
    subst ec
    have ed : d1 = m := Option.some.inj (hd1.symm.trans ds.1)
    subst ed
    refine br_t rfl (nm_r (e' := nI (d1 + 1)) (by
      have : (0 : Int32) = nI 0 := rfl
      rw [this, pk_mul, Nat.zero_mul, nI_add, Nat.zero_add, nI_1]) (nm_r (e' := nI 1) rfl ?_))
    refine br_f (by decide) ?_
    exact zq_sk (a := 95) (lx_p L (q := p + 1) (by omega)) (by omega) (fun _ => br_f (by decide) (h107 _ rfl)) (fun z => absurd p1'.1 z)
  · have hh10 : h < b := by
      have : (v - 1) / b ≤ 98 / b := Nat.div_le_div_right (by omega)
      rcases hb with z | z <;> subst z <;> omega
    have ds := dv_dg hb hm
    have dh := dv_dg hb hh10
    have hvv : nu_ v b = [dg_ h, dg_ m, 95] := by rw [e]; exact nu_2 hh hm
    rw [hvv] at hpr h107
    have p0 := pr_hd hpr
    have p1' := pr_hd p0.2
    have p2' := pr_hd p1'.2
    refine zq_sk (a := 95) L (by omega) (fun z => absurd (Option.some.inj (p0.1.symm.trans z)) dh.2) (fun _ => br_t rfl (br_f (by decide) (br_f (by decide) ?_)))
    refine zq_dig hb L (Or.inl h0) (fun c1 d1 hc1 hd1 => ?_) (fun hn r => absurd dh.1 (hn _ h p0.1))
    have ec : c1 = dg_ h := Option.some.inj (hc1.symm.trans p0.1)
    subst ec
    have ed : d1 = h := Option.some.inj (hd1.symm.trans dh.1)
    subst ed
    refine br_t rfl (nm_r (e' := nI (d1 + 1)) (by
      have : (0 : Int32) = nI 0 := rfl
      rw [this, pk_mul, Nat.zero_mul, nI_add, Nat.zero_add, nI_1]) (nm_r (e' := nI 1) rfl ?_))
    have L1 : lx_ w (p + 1) xg (nI (p + 1)) xT := lx_p L (by omega)
    refine br_f (by decide) ?_
    refine zq_sk (a := 95) L1 (by omega) (fun z => absurd (Option.some.inj (p1'.1.symm.trans z)) ds.2) (fun _ => br_t rfl (br_f (by decide) (br_t rfl ?_)))
    refine pk_eq (d1 + 1) 1 (fun q => by omega) (fun _ => ?_)
    refine zq_dig (w := w) (p := p + 1) hb L1 (Or.inl h0) (fun c2 d2 hc2 hd2 => ?_) (fun hn r => absurd ds.1 (hn _ m p1'.1))
    have ec : c2 = dg_ m := Option.some.inj (hc2.symm.trans p1'.1)
    subst ec
    have ed : d2 = m := Option.some.inj (hd2.symm.trans ds.1)
    subst ed
    refine br_f (by decide) (nm_r (e' := nI v) (by rw [show nI (d1 + 1) - 1 = nI d1 from nI_pred d1, pk_mul, nI_add, nI_1, e]) (nm_r (e' := nI 2) rfl ?_))
    have L2 : lx_ w (p + 1 + 1) xg (nI (p + 1 + 1)) xT := lx_p L (by omega)
    refine br_f (by decide) ?_
    exact zq_sk (a := 95) L2 (by omega) (fun _ => br_f (by decide) (h107 _ rfl)) (fun z => absurd p2'.1 z)
end
end
section
/-! X: identifiers; closing a name while reading -/
theorem id_1 {v : Nat} (h : v < 26) : id_ v = [49, 97 + v] := by unfold id_; rw [if_pos h]
theorem id_2 {x y : Nat} (hy : y < 26) : id_ ((x + 1) * 26 + y) = [50, 97 + x, 97 + y] := by
  unfold id_
  have e1 : ((x + 1) * 26 + y) / 26 = x + 1 := by omega
  have e2 : ((x + 1) * 26 + y) % 26 = y := by omega
  rw [if_neg (by omega), e1, e2]; rfl
section
variable {xo xb : Int64} {xl xs xg xu xd xc xe xp xf xz : Int32} {xK xV xO xT xS xA xY xN xW xk xt xH xn : Nat → Int32} {xq : Nat → Int64} {xy xF xZ xC xv : Nat → Int32}
variable {w : List Nat} {p : Nat}
theorem zq_25 {post : SX → Prop} {kd : Nat} {x2 : Int32} (L : lx_ w p xg xp xT) (hp : p + 20 < 2 ^ 20) (h2 : x2 = 0 ∨ x2 = 1)
    (h1 : ∀ c, w[p]? = some c → 97 ≤ c → c ≤ 122 → x2 = 0 → wpX_accept post (xo, xb, xl, xs, xg, xu, xd, xc, xe, nI (p + 1), xf, xz, xK, xV, xO, xT, xS, xA, xY, xN, xW, xk, xt, xH, xn, xq, xy, xF, xZ, xC, xv) (nI kd) (nI (c - 97)) (-1))
    (h12 : ∀ c d, w[p]? = some c → 97 ≤ c → c ≤ 122 → w[p + 1]? = some d → 97 ≤ d → d ≤ 122 → x2 = 1 → wpX_accept post (xo, xb, xl, xs, xg, xu, xd, xc, xe, nI (p + 2), xf, xz, xK, xV, xO, xT, xS, xA, xY, xN, xW, xk, xt, xH, xn, xq, xy, xF, xZ, xC, xv) (nI kd) (nI ((c - 97 + 1) * 26 + (d - 97))) (-1))
    (hb : ((∀ c, w[p]? = some c → ¬ (97 ≤ c ∧ c ≤ 122)) ∨ (x2 = 1 ∧ ∀ d, w[p + 1]? = some d → ¬ (97 ≤ d ∧ d ≤ 122))) → ∀ (r : Int32) (p' : Nat), p' ≤ p + 4 → wpX_accept post (xo, xb, xl, xs, xg, xu, xd, xc, xe, nI p', 1, xz, xK, xV, xO, xT, xS, xA, xY, xN, xW, xk, xt, xH, xn, xq, xy, xF, xZ, xC, xv) (nI kd) r (-1)) : wX_readIdentifier_25 post (nI kd) x2 xo xb xl xs xg xu xd xc xe xp xf xz xK xV xO xT xS xA xY xN xW xk xt xH xn xq xy xF xZ xC xv := by
  refine zq_in (lo := 97) (hi := 122) L (by omega) (by omega) (fun c hc a1 a2 => ?_) (fun hn => ?_)
  · rcases h2 with e | e
    · exact br_t e (h1 c hc a1 a2 e)
    · refine br_f (by rw [e]; decide) ?_
      refine zq_in (lo := 97) (hi := 122) (lx_p L (q := p + 1) (by omega)) (by omega) (by omega) (fun d hd b1 b2 => nm_r (e' := nI ((c - 97 + 1) * 26 + (d - 97))) ?_ ?_) (fun hn => nm_e (hb (Or.inr ⟨e, hn⟩) _ (p + 1 + 1) (by omega)))
      · have : (26 : Int32) = nI 26 := rfl
        rw [nI_1, this, pk_mul, nI_add]
      · exact h12 c d hc a1 a2 hd b1 b2 e
  · rcases h2 with e | e
    · exact br_t e (hb (Or.inl hn) _ (p + 1) (by omega))
    · refine br_f (by rw [e]; decide) ?_
      refine zq_in (lo := 97) (hi := 122) (lx_p L (q := p + 1) (by omega)) (by omega) (by omega) (fun d hd b1 b2 => nm_e (hb (Or.inl hn) _ (p + 1 + 1) (by omega))) (fun _ => nm_e (hb (Or.inl hn) _ (p + 1 + 1) (by omega)))
theorem zq_25f {post : SX → Prop} {kd : Nat} {x2 : Int32} (L : lx_ w p xg xp xT) (hp : p + 20 < 2 ^ 20) (hf : xf = 1)
    (hb : ∀ (r : Int32) (p' : Nat), p' ≤ p + 4 → wpX_accept post (xo, xb, xl, xs, xg, xu, xd, xc, xe, nI p', 1, xz, xK, xV, xO, xT, xS, xA, xY, xN, xW, xk, xt, xH, xn, xq, xy, xF, xZ, xC, xv) (nI kd) r (-1)) : wX_readIdentifier_25 post (nI kd) x2 xo xb xl xs xg xu xd xc xe xp xf xz xK xV xO xT xS xA xY xN xW xk xt xH xn xq xy xF xZ xC xv := by
  subst hf
  refine zq_in (lo := 97) (hi := 122) L (by omega) (by omega) (fun c hc a1 a2 => ?_) (fun hn => ?_)
  · refine br_c (fun _ => hb _ (p + 1) (by omega)) (fun _ => ?_)
    refine zq_in (lo := 97) (hi := 122) (lx_p L (q := p + 1) (by omega)) (by omega) (by omega) (fun d hd b1 b2 => nm_e (hb _ (p + 1 + 1) (by omega))) (fun hn => nm_e (hb _ (p + 1 + 1) (by omega)))
  · refine br_c (fun _ => hb _ (p + 1) (by omega)) (fun _ => ?_)
    refine zq_in (lo := 97) (hi := 122) (lx_p L (q := p + 1) (by omega)) (by omega) (by omega) (fun d hd b1 b2 => nm_e (hb _ (p + 1 + 1) (by omega))) (fun _ => nm_e (hb _ (p + 1 + 1) (by omega)))
theorem za_id {post : SX → Prop} {kd : Nat} (L : lx_ w p xg xp xT) (hp : p + 40 < 2 ^ 20)
    (HOK : ∀ v, v ≤ 701 → pr_ w p (id_ v) → wpX_accept post (xo, xb, xl, xs, xg, xu, xd, xc, xe, nI (p + (id_ v).length), xf, xz, xK, xV, xO, xT, xS, xA, xY, xN, xW, xk, xt, xH, xn, xq, xy, xF, xZ, xC, xv) (nI kd) (nI v) (-1))
    (HB : ∀ (r : Int32) (p' : Nat), p' ≤ p + 10 → wpX_accept post (xo, xb, xl, xs, xg, xu, xd, xc, xe, nI p', 1, xz, xK, xV, xO, xT, xS, xA, xY, xN, xW, xk, xt, xH, xn, xq, xy, xF, xZ, xC, xv) (nI kd) r (-1)) : wpX_readIdentifier post (xo, xb, xl, xs, xg, xu, xd, xc, xe, xp, xf, xz, xK, xV, xO, xT, xS, xA, xY, xN, xW, xk, xt, xH, xn, xq, xy, xF, xZ, xC, xv) (nI kd) := by
  have L1 : lx_ w (p + 1) xg (nI (p + 1)) xT := lx_p L (by omega)
  unfold wpX_readIdentifier
  refine zq_sk (a := 50) L (by omega) (fun h2 => br_f (by decide) ?_) (fun h2 => br_t rfl ?_)
  · refine zq_25 L1 (by omega) (Or.inr rfl) (fun c _ _ _ z => absurd z (by decide)) (fun c d hc a1 a2 hd b1 b2 _ => ?_) (fun _ r p' hp' => HB r p' (by omega))
    have hid := id_2 (x := c - 97) (y := d - 97) (by omega)
    have := HOK ((c - 97 + 1) * 26 + (d - 97)) (by omega) (by
      rw [hid]
      refine pr_cons h2 (pr_cons ?_ (pr_cons ?_ pr_nil))
      · rw [hc, show 97 + (c - 97) = c by omega]
      · rw [hd, show 97 + (d - 97) = d by omega])
    rw [hid] at this
    exact this
  · refine zq_sk (a := 49) L (by omega) (fun h1 => br_f (by decide) ?_) (fun h1 => br_t rfl ?_)
    · refine zq_25 L1 (by omega) (Or.inl rfl) (fun c hc a1 a2 _ => ?_) (fun c d _ _ _ _ _ _ z => absurd z (by decide)) (fun _ r p' hp' => HB r p' (by omega))
      have hid := id_1 (v := c - 97) (by omega)
      have := HOK (c - 97) (by omega) (by
        rw [hid]
        refine pr_cons h1 (pr_cons ?_ pr_nil)
        rw [hc, show 97 + (c - 97) = c by omega])
      rw [hid] at this
      exact this
    · exact zq_25f (w := w) (p := p) L (by omega) rfl (fun r p' hp' => HB r p' (by omega))
theorem zb_id {post : SX → Prop} {kd v : Nat} (L : lx_ w p xg xp xT) (hp : p + 40 < 2 ^ 20) (hv : v ≤ 701) (hpr : pr_ w p (id_ v))
    (H : wpX_accept post (xo, xb, xl, xs, xg, xu, xd, xc, xe, nI (p + (id_ v).length), xf, xz, xK, xV, xO, xT, xS, xA, xY, xN, xW, xk, xt, xH, xn, xq, xy, xF, xZ, xC, xv) (nI kd) (nI v) (-1)) : wpX_readIdentifier post (xo, xb, xl, xs, xg, xu, xd, xc, xe, xp, xf, xz, xK, xV, xO, xT, xS, xA, xY, xN, xW, xk, xt, xH, xn, xq, xy, xF, xZ, xC, xv) (nI kd) := by
  have L1 : lx_ w (p + 1) xg (nI (p + 1)) xT := lx_p L (by omega)
  unfold wpX_readIdentifier
  by_cases hv26 : v < 26
  · rw [id_1 hv26] at hpr H
    have p0 := pr_hd hpr
    have p1 := pr_hd p0.2
    refine zq_sk (a := 50) L (by omega) (fun z => absurd (Option.some.inj (p0.1.symm.trans z)) (by decide)) (fun _ => br_t rfl ?_)
    refine zq_sk (a := 49) L (by omega) (fun _ => br_f (by decide) ?_) (fun z => absurd p0.1 z)
    refine zq_25 L1 (by omega) (Or.inl rfl) (fun c hc a1 a2 _ => ?_) (fun c d _ _ _ _ _ _ z => absurd z (by decide)) (fun z => ?_)
    · have : c = 97 + v := Option.some.inj (hc.symm.trans p1.1)
      rw [this, show 97 + v - 97 = v by omega]; exact H
    · exfalso
      rcases z with z | z
      · exact z _ p1.1 ⟨by omega, by omega⟩
      · exact absurd z.1 (by decide)
  · obtain ⟨x, y, hx, hy, e⟩ : ∃ x y, x < 26 ∧ y < 26 ∧ v = (x + 1) * 26 + y := ⟨v / 26 - 1, v % 26, by omega, by omega, by omega⟩
    subst e
    rw [id_2 hy] at hpr H
    have p0 := pr_hd hpr
    have p1 := pr_hd p0.2
    have p2 := pr_hd p1.2
    refine zq_sk (a := 50) L (by omega) (fun _ => br_f (by decide) ?_) (fun z => absurd p0.1 z)
    refine zq_25 L1 (by omega) (Or.inr rfl) (fun c _ _ _ z => absurd z (by decide)) (fun c d hc a1 a2 hd b1 b2 _ => ?_) (fun z => ?_)
    · have e1 : c = 97 + x := Option.some.inj (hc.symm.trans p1.1)
      have e2 : d = 97 + y := Option.some.inj (hd.symm.trans p2.1)
      rw [e1, e2, show 97 + x - 97 = x by omega, show 97 + y - 97 = y by omega]; exact H
    · exfalso
      rcases z with z | z
      · exact z _ p1.1 ⟨by omega, by omega⟩
      · exact z.2 _ p2.1 ⟨by omega, by omega⟩
end
section
variable {xo xb : Int64} {xl xs xg xu xd xc xe xp xf xz : Int32} {xK xV xO xT xS xA xY xN xW xk xt xH xn : Nat → Int32} {xq : Nat → Int64} {xy xF xZ xC xv : Nat → Int32}
variable {K V : Nat → Nat} {i : Nat} {n : Nat} {cs : Nat → List (Nat × Nat)} {cl : Nat → Bool} {l : Nat} {w : List Nat} {p : Nat}
theorem zq_cl {post : SX → Prop} (R : rd_ K V i false n cs cl l w p xo xb xl xs xg xu xd xc xe xp xf xz xK xV xO xT xS xA xY xN xW xk xt xH xn xq xy xF xZ xC xv) (hi : 0 < i)
    (H : ∀ (n' : Nat) (cs' : Nat → List (Nat × Nat)) (cl' : Nat → Bool) (xs' xu' xd' xc' xe' xf' : Int32) (xK' xV' xO' xS' xA' xY' xN' xW' xk' xt' xH' : Nat → Int32) (xq' : Nat → Int64) (xy' xF' xZ' : Nat → Int32), rd_ K V i true n' cs' cl' l w p xo xb xl xs' xg xu' xd' xc' xe' xp xf' xz xK' xV' xO' xT xS' xA' xY' xN' xW' xk' xt' xH' xn xq' xy' xF' xZ' xC xv → fr_ K V xC xf xf' ((pc_ K (i - 1)).map (fun w => (w, i - 1))) → xs' = xs → xK' = xK → xV' = xV → post (xo, xb, xl, xs', xg, xu', xd', xc', xe', xp, xf', xz, xK', xV', xO', xT, xS', xA', xY', xN', xW', xk', xt', xH', xn, xq', xy', xF', xZ', xC, xv)) : wpX_closeName post (xo, xb, xl, xs, xg, xu, xd, xc, xe, xp, xf, xz, xK, xV, xO, xT, xS, xA, xY, xN, xW, xk, xt, xH, xn, xq, xy, xF, xZ, xC, xv) := by
  obtain ⟨r1, r2, r3, r4, r5, r6, r7, r8, r9, r10, r11⟩ := R
  obtain ⟨t1, t2, t3, t4, t5, t6, t7, t8, t9⟩ := r11
  obtain ⟨e, rfl⟩ : ∃ e, i = e + 1 := ⟨i - 1, by omega⟩
  have hlen := sk_len r1 (i := e + 1) (Nat.le_refl _) (List.suffix_refl _)
  have nop : ¬ en_ K (e + 1) → post (xo, xb, xl, xs, xg, xu, xd, xc, xe, xp, xf, xz, xK, xV, xO, xT, xS, xA, xY, xN, xW, xk, xt, xH, xn, xq, xy, xF, xZ, xC, xv) := by
    intro hen
    have hpc : pc_ K e = [] := pc_n r1 (by omega) hen
    have hsk : sk_c K (sk_ K (e + 1)) = sk_ K (e + 1) := by
      cases es : sk_ K (e + 1) with
      | nil => rfl
      | cons s r =>
        cases hs : ka_h (K s) with
        | false => exact sk_c_n hs
        | true => exact absurd (en_hd r1 (Nat.le_refl _) es hs) hen
    refine H n cs cl xs xu xd xc xe xf xK xV xO xS xA xY xN xW xk xt xH xq xy xF xZ ⟨r1, r2, r3, r4, r5, r6, r7, r8, r9, r10, ?_, ?_, ?_, ?_, t5, t6, t7, ?_, ?_⟩ ?_ rfl rfl rfl
    · show tt_ K V e (pa_ K e ++ pc_ K e) (e + 1) n cs cl xc xe xk xt xq xy xF xZ
      rw [hpc, List.append_nil]; exact t1
    · show xd = nI (sk_c K (sk_ K (e + 1))).length
      rw [hsk]; exact t2
    · show sv_ xS (sk_c K (sk_ K (e + 1)))
      rw [hsk]; exact t3
    · show aq_ K V n cs cl xA (e + 1) (sk_c K (sk_ K (e + 1)))
      rw [hsk]; exact t4
    · intro f hf hk
      rw [t8 f hf hk]
      show nI (tc_ K f e + (if _ then _ else _)) = nI (tc_ K f e + (if _ then _ else _))
      rw [eb_n.mpr hen]; simp
    · show n + cr_ K (sk_c K (sk_ K (e + 1))) ≤ _
      rw [hsk]; exact t9
    · show fr_ K V xC xf xf ((pc_ K e).map _)
      rw [hpc]; exact fr_0
  cases es : sk_ K (e + 1) with
  | nil =>
    have t2' : xd = nI (sk_ K (e + 1)).length := t2
    rw [es] at t2'
    refine zk_0 t2' (nop (fun z => ?_))
    obtain ⟨s, r, es', _⟩ := en_top r1 (i := e + 1) (Nat.le_refl _) z
    rw [es] at es'; exact absurd es' (by simp)
  | cons s r =>
    have t2' : xd = nI (sk_ K (e + 1)).length := t2
    have t3' : sv_ xS (sk_ K (e + 1)) := t3
    have t4' : aq_ K V n cs cl xA (e + 1) (sk_ K (e + 1)) := t4
    have t9' : n + cr_ K (sk_ K (e + 1)) ≤ 2 * (e + 1) := t9
    rw [es] at t2' t3' t4' hlen t9'
    have hmem : ∀ y, y ∈ s :: r → y < e + 1 := fun y hy => sk_lt (by rw [es]; exact hy)
    cases hs : ka_h (K s) with
    | false =>
      refine zk_n (m := e + 1) (by omega) r8 hmem (by omega) t2' t3' hs (nop (fun z => ?_))
      obtain ⟨s', r', es', hs', _⟩ := en_top r1 (i := e + 1) (Nat.le_refl _) z
      rw [es] at es'
      rw [← (List.cons.inj es').1, hs] at hs'; exact absurd hs' (by decide)
    | true =>
      have hen := en_hd r1 (Nat.le_refl _) es hs
      rcases en_op r1 (i := e + 1) (Nat.le_refl _) es hs with ⟨q1, q2, q3⟩ | ⟨q1, q2, r', q3, q4, q5⟩
      · subst q1
        have ec : sk_c K (sk_ K (e + 1)) = [] := by rw [es, sk_c_h hs]; rfl
        have hpc : pc_ K e = [] := by rw [pc_en es hs]; rfl
        refine zk_1 (m := e + 1) (by omega) r8 (hmem s (by simp)) t2' t3' hs ?_
        refine H n cs cl xs xu (nI 0) xc xe xf xK xV xO xS xA xY xN xW xk xt xH xq xy xF xZ ⟨r1, r2, r3, r4, r5, r6, r7, r8, r9, r10, ?_, ?_, ?_, ?_, t5, t6, t7, ?_, ?_⟩ ?_ rfl rfl rfl
        · show tt_ K V e (pa_ K e ++ pc_ K e) (e + 1) n cs cl xc xe xk xt xq xy xF xZ
          rw [hpc, List.append_nil]; exact t1
        · show nI 0 = nI (sk_c K (sk_ K (e + 1))).length
          rw [ec]; rfl
        · show sv_ xS (sk_c K (sk_ K (e + 1)))
          rw [ec]; trivial
        · show aq_ K V n cs cl xA (e + 1) (sk_c K (sk_ K (e + 1)))
          rw [ec]; trivial
        · intro f hf hk
          have hf0 : f ≠ 0 := by
            intro q; rw [q, wf_0 r1 (by omega)] at hk; exact absurd hk (by decide)
          rw [t8 f hf hk]
          show nI (tc_ K f e + (if _ then _ else _)) = nI (tc_ K f e + (if _ then _ else _))
          rw [decide_eq_false (show ¬ op_ K (e + 1) = f by omega)]; rfl
        · show n + cr_ K (sk_c K (sk_ K (e + 1))) ≤ _
          rw [ec]
          show n + 0 ≤ _
          omega
        · show fr_ K V xC xf xf ((pc_ K e).map _)
          rw [hpc]; exact fr_0
      · have hff := op_fs q2
        have hpc : pc_ K e = sk_t K r := pc_en es hs
        have hcr : cr_ K (s :: r) = 1 + ((sk_t K r).length + cr_ K (op_ K (e + 1) :: r')) := by rw [cr_w (Or.inr (Or.inl hs)), cr_tw K r, q3]
        have hg := (si_all r1 (e + 1) (Nat.le_refl _)).1
        rw [es] at hg
        have hS : K (e + 1) = 11 := r2 (e + 1) (Nat.le_refl _)
        have epp : pp_ K e = pa_ K e ++ sk_t K r := by unfold pp_ pb_; rw [if_neg (by omega), hpc]
        refine zk_c (i := e + 1) (s := s) (f := op_ K (e + 1)) (tf := tp_ K (op_ K (e + 1)) false (e + 1)) (nb := n + (sk_t K r).length + 1) (L := pa_ K e) (Lf := pp_ K e) (m := e + 1) (by omega) (by omega) (hmem s (by simp)) r8 hg hmem (by omega) t2' t3' hs q3 hff.2.2 ?_ (t8 _ hff.2.1 hff.2.2) t1 t4' (lo_pp r1 (by omega) (by omega) (List.Sublist.refl _)) epp.symm (Nat.le_refl _) (by omega) ?_
        · rw [t6 s (hmem s (by simp)) hs]
          show nI (if _ then _ else _) = _
          rw [if_pos (oe_i.mpr ⟨hen, by rw [es]; rfl⟩), Nat.add_sub_cancel]
        · intro n' c' cs' cl' xf' xc' xe' xk' xt' xq' xy' xF' xZ' b1 b2 b3 b4 b5 b6 b7
          have hmr : ∀ y, y ∈ r' → y < op_ K (e + 1) := by
            have hg2 := gs_suf hg.1 (sk_w_suf K r)
            rw [q3] at hg2
            exact hg2.2.1
          refine H n' cs' cl' xs xu _ xc' xe' xf' xK xV xO xS _ _ xN xW xk' xt' xH xq' xy' xF' xZ' ⟨r1, r2, r3, r4, r5, r6, r7, r8, r9, r10, ?_, ?_, ?_, ?_, t5, t6, t7, ?_, ?_⟩ ?_ rfl rfl rfl
          · show tt_ K V e (pa_ K e ++ pc_ K e) (e + 1) n' cs' cl' xc' xe' xk' xt' xq' xy' xF' xZ'
            rw [hpc, ← epp]; exact b1
          · show _ = nI (sk_c K (sk_ K (e + 1))).length
            rw [q4]
          · show sv_ xS (sk_c K (sk_ K (e + 1)))
            rw [q4]
            have : sv_ xS (sk_t K r ++ op_ K (e + 1) :: r') := by rw [← q3, sk_tw]; exact t3'.2
            exact sv_app this
          · show aq_ K V n' cs' cl' _ (e + 1) (sk_c K (sk_ K (e + 1)))
            rw [q4]
            refine ⟨fun z => ?_, fun _ => Or.inr ⟨?_, c', pk_us, b5, b6, ?_⟩, ?_⟩
            · rw [(gs_xof q5).2] at z; exact absurd z (by decide)
            · have := hg.2.1 (op_ K (e + 1)) ((sk_w_suf K r).subset (by rw [q3]; simp))
              have := hmem s (by simp)
              omega
            · rw [b7, show e + 1 - 1 - op_ K (e + 1) = e + 1 - (op_ K (e + 1) + 1) by omega]
            · refine aq_u (fun y hy => by have := hmr y hy; omega) (aq_up b2 ?_)
              have : aq_ K V n cs cl xA s (sk_t K r ++ op_ K (e + 1) :: r') := by rw [← q3, sk_tw]; exact t4'.2.2
              exact (aq_drop this).2.2
          · intro f hf hfk
            by_cases hfo : f = op_ K (e + 1)
            · subst hfo
              rw [pk_us]
              apply congrArg nI
              show tc_ K _ e + (if _ then _ else _) + 1 = tc_ K _ e + (if _ then _ else _)
              rw [en_tm hen, eb_i.mpr hen]
              simp
            · rw [pk_un hfo, t8 f hf hfk]
              show nI (tc_ K f e + (if _ then _ else _)) = nI (tc_ K f e + (if _ then _ else _))
              rw [decide_eq_false (fun z => hfo z.symm)]; rfl
          · show n' + cr_ K (sk_c K (sk_ K (e + 1))) ≤ _
            rw [q4]; omega
          · show fr_ K V xC xf xf' ((pc_ K e).map _)
            rw [hpc]; exact b3
end
end
section
/-! X: one step of reading, by what is open innermost -/
def qa_ (w : List Nat) (p c : Nat) : Nat := if w[p]? = some c then 1 else 0
def qv_ (w : List Nat) (p : Nat) : Nat := qa_ w p 114 * 4 + qa_ w (p + qa_ w p 114) 86 * 2 + qa_ w (p + qa_ w p 114 + qa_ w (p + qa_ w p 114) 86) 75
theorem qa_c (w : List Nat) (p c : Nat) : (qa_ w p c = 0 ∧ w[p]? ≠ some c) ∨ (qa_ w p c = 1 ∧ w[p]? = some c) := by
  unfold qa_
  by_cases h : w[p]? = some c
  · rw [if_pos h]; exact Or.inr ⟨rfl, h⟩
  · rw [if_neg h]; exact Or.inl ⟨rfl, h⟩
/-- how many characters the qualifiers take -/
def qn_ (w : List Nat) (p : Nat) : Nat := qa_ w p 114 + qa_ w (p + qa_ w p 114) 86 + qa_ w (p + qa_ w p 114 + qa_ w (p + qa_ w p 114) 86) 75
theorem qv_pr (w : List Nat) (p : Nat) : qv_ w p < 8 ∧ pr_ w p (ql_ (qv_ w p)) ∧ (ql_ (qv_ w p)).length = qn_ w p := by
  unfold qv_ qn_
  rcases qa_c w p 114 with ⟨e1, h1⟩ | ⟨e1, h1⟩
  · rw [e1]
    rcases qa_c w (p + 0) 86 with ⟨e2, h2⟩ | ⟨e2, h2⟩
    · rw [e2]
      rcases qa_c w (p + 0 + 0) 75 with ⟨e3, h3⟩ | ⟨e3, h3⟩
      · rw [e3]; exact ⟨by omega, pr_nil, rfl⟩
      · rw [e3]; exact ⟨by omega, pr_cons h3 pr_nil, rfl⟩
    · rw [e2]
      rcases qa_c w (p + 0 + 1) 75 with ⟨e3, h3⟩ | ⟨e3, h3⟩
      · rw [e3]; exact ⟨by omega, pr_cons h2 pr_nil, rfl⟩
      · rw [e3]; exact ⟨by omega, pr_cons h2 (pr_cons h3 pr_nil), rfl⟩
  · rw [e1]
    rcases qa_c w (p + 1) 86 with ⟨e2, h2⟩ | ⟨e2, h2⟩
    · rw [e2]
      rcases qa_c w (p + 1 + 0) 75 with ⟨e3, h3⟩ | ⟨e3, h3⟩
      · rw [e3]; exact ⟨by omega, pr_cons h1 pr_nil, rfl⟩
      · rw [e3]; exact ⟨by omega, pr_cons h1 (pr_cons h3 pr_nil), rfl⟩
    · rw [e2]
      rcases qa_c w (p + 1 + 1) 75 with ⟨e3, h3⟩ | ⟨e3, h3⟩
      · rw [e3]; exact ⟨by omega, pr_cons h1 (pr_cons h2 pr_nil), rfl⟩
      · rw [e3]; exact ⟨by omega, pr_cons h1 (pr_cons h2 (pr_cons h3 pr_nil)), rfl⟩
theorem qv_0 {w : List Nat} {p : Nat} (h : qv_ w p = 0) : qn_ w p = 0 ∧ w[p]? ≠ some 114 ∧ w[p]? ≠ some 86 ∧ w[p]? ≠ some 75 := by
  unfold qv_ at h
  unfold qn_
  rcases qa_c w p 114 with ⟨e1, h1⟩ | ⟨e1, h1⟩
  · rw [e1] at h ⊢
    rcases qa_c w (p + 0) 86 with ⟨e2, h2⟩ | ⟨e2, h2⟩
    · rw [e2] at h ⊢
      rcases qa_c w (p + 0 + 0) 75 with ⟨e3, h3⟩ | ⟨e3, h3⟩
      · rw [e3]; exact ⟨rfl, h1, h2, h3⟩
      · omega
    · omega
  · omega
/-- given text: the qualifiers are those -/
theorem qv_of {w : List Nat} {p v : Nat} (hv : 0 < v) (hv8 : v < 8) (h : pr_ w p (ql_ v)) (hn : w[p + (ql_ v).length]? ≠ some 86 ∧ w[p + (ql_ v).length]? ≠ some 75) : qv_ w p = v := by
  have key : ∀ a c, w[a]? = some c → ∀ d, qa_ w a d = if c = d then 1 else 0 := by
    intro a c hc d
    unfold qa_; rw [hc]
    by_cases z : c = d
    · rw [if_pos (by rw [z]), if_pos z]
    · rw [if_neg (fun y => z (Option.some.inj y)), if_neg z]
  have no : ∀ a d, w[a]? ≠ some d → qa_ w a d = 0 := fun a d hd => if_neg hd
  unfold qv_
  obtain e | e | e | e | e | e | e : v = 1 ∨ v = 2 ∨ v = 3 ∨ v = 4 ∨ v = 5 ∨ v = 6 ∨ v = 7 := by omega
  · subst e
    have h0 := (pr_hd (show pr_ w p [75] from h)).1
    rw [key p 75 h0 114]
    show 0 * 4 + qa_ w (p + 0) 86 * 2 + qa_ w (p + 0 + qa_ w (p + 0) 86) 75 = 1
    rw [key (p + 0) 75 h0 86]
    show 0 + 0 * 2 + qa_ w (p + 0 + 0) 75 = 1
    rw [key (p + 0 + 0) 75 h0 75]; rfl
  · subst e
    have hh : pr_ w p [86] := h
    have h0 := (pr_hd hh).1
    have hn' : w[p + 1]? ≠ some 75 := hn.2
    rw [key p 86 h0 114]
    show 0 * 4 + qa_ w (p + 0) 86 * 2 + qa_ w (p + 0 + qa_ w (p + 0) 86) 75 = 2
    rw [key (p + 0) 86 h0 86]
    show 0 + 1 * 2 + qa_ w (p + 0 + 1) 75 = 2
    rw [no (p + 0 + 1) 75 hn']
  · subst e
    have hh : pr_ w p [86, 75] := h
    have h0 := (pr_hd hh).1
    have h1 := (pr_hd (pr_hd hh).2).1
    rw [key p 86 h0 114]
    show 0 * 4 + qa_ w (p + 0) 86 * 2 + qa_ w (p + 0 + qa_ w (p + 0) 86) 75 = 3
    rw [key (p + 0) 86 h0 86]
    show 0 + 1 * 2 + qa_ w (p + 0 + 1) 75 = 3
    rw [key (p + 0 + 1) 75 h1 75]; rfl
  · subst e
    have hh : pr_ w p [114] := h
    have h0 := (pr_hd hh).1
    have hn' : w[p + 1]? ≠ some 86 ∧ w[p + 1]? ≠ some 75 := hn
    rw [key p 114 h0 114]
    show 1 * 4 + qa_ w (p + 1) 86 * 2 + qa_ w (p + 1 + qa_ w (p + 1) 86) 75 = 4
    rw [no (p + 1) 86 hn'.1]
    show 4 + 0 * 2 + qa_ w (p + 1 + 0) 75 = 4
    rw [no (p + 1 + 0) 75 hn'.2]
  · subst e
    have hh : pr_ w p [114, 75] := h
    have h0 := (pr_hd hh).1
    have h1 := (pr_hd (pr_hd hh).2).1
    rw [key p 114 h0 114]
    show 1 * 4 + qa_ w (p + 1) 86 * 2 + qa_ w (p + 1 + qa_ w (p + 1) 86) 75 = 5
    rw [key (p + 1) 75 h1 86]
    show 4 + 0 * 2 + qa_ w (p + 1 + 0) 75 = 5
    rw [key (p + 1 + 0) 75 h1 75]; rfl
  · subst e
    have hh : pr_ w p [114, 86] := h
    have h0 := (pr_hd hh).1
    have h1 := (pr_hd (pr_hd hh).2).1
    have hn' : w[p + 2]? ≠ some 75 := hn.2
    rw [key p 114 h0 114]
    show 1 * 4 + qa_ w (p + 1) 86 * 2 + qa_ w (p + 1 + qa_ w (p + 1) 86) 75 = 6
    rw [key (p + 1) 86 h1 86]
    show 4 + 1 * 2 + qa_ w (p + 1 + 1) 75 = 6
    rw [no (p + 1 + 1) 75 hn']
  · subst e
    have hh : pr_ w p [114, 86, 75] := h
    have h0 := (pr_hd hh).1
    have h1 := (pr_hd (pr_hd hh).2).1
    have h2 := (pr_hd (pr_hd (pr_hd hh).2).2).1
    rw [key p 114 h0 114]
    show 1 * 4 + qa_ w (p + 1) 86 * 2 + qa_ w (p + 1 + qa_ w (p + 1) 86) 75 = 7
    rw [key (p + 1) 86 h1 86]
    show 4 + 1 * 2 + qa_ w (p + 1 + 1) 75 = 7
    rw [key (p + 1 + 1) 75 h2 75]; rfl
/-- letters by their place -/
def lo8_ (i : Nat) : Nat := if i = 0 then 73 else if i = 2 then 80 else if i = 3 then 82 else if i = 4 then 79 else if i = 6 then 70 else 0
theorem lz_o8 : ∀ v, v < 8 → (((((19703589053136969 : Int64).toUInt64 >>> ((8 * nI v).toInt64.toUInt64 &&& Int64.toUInt64 63)).toInt64).toInt32) &&& 255) = nI (lo8_ v) := by decide +kernel
section
variable {xo xb : Int64} {xl xs xg xu xd xc xe xp xf xz : Int32} {xK xV xO xT xS xA xY xN xW xk xt xH xn : Nat → Int32} {xq : Nat → Int64} {xy xF xZ xC xv : Nat → Int32}
variable {w : List Nat} {p : Nat}
/-- indexOf -/
theorem zq_lt {post : Int32 → Prop} {q : Int64} {p1 e : Int32} (h : (((((q).toUInt64 >>> ((8 * p1).toInt64.toUInt64 &&& Int64.toUInt64 63)).toInt64).toInt32) &&& 255) = e) (hp : post e) : wpX_letter post (xo, xb, xl, xs, xg, xu, xd, xc, xe, xp, xf, xz, xK, xV, xO, xT, xS, xA, xY, xN, xW, xk, xt, xH, xn, xq, xy, xF, xZ, xC, xv) q p1 := by
  subst h; exact hp
theorem zq_ix {post : Int32 → Prop} {let8 : Nat → Nat} {q : Int64} (L : lx_ w p xg xp xT) (hlet : ∀ v, v < 8 → (((((q).toUInt64 >>> ((8 * nI v).toInt64.toUInt64 &&& Int64.toUInt64 63)).toInt64).toInt32) &&& 255) = nI (let8 v)) (hs : ∀ v, v < 8 → let8 v < 2 ^ 20)
    (h1 : ∀ v, v < 8 → w[p]? = some (let8 v) → (∀ u, u < v → w[p]? ≠ some (let8 u)) → post (nI v)) (h0 : (∀ v, v < 8 → w[p]? ≠ some (let8 v)) → post (-1)) : wpX_indexOf post (xo, xb, xl, xs, xg, xu, xd, xc, xe, xp, xf, xz, xK, xV, xO, xT, xS, xA, xY, xN, xW, xk, xt, xH, xn, xq, xy, xF, xZ, xC, xv) q := by
  have key : ∀ (d j : Nat), j + d = 8 → (∀ v, v < j → w[p]? ≠ some (let8 v)) → wX_indexOf_2 post q xo xb xl xs xg xu xd xc xe xp xf xz xK xV xO xT xS xA xY xN xW xk xt xH xn xq xy xF xZ xC xv (d + 1) (nI j) := by
    intro d
    induction d with
    | zero => intro j hj hno; exact br_t (nI_le (a := 8) (by omega) (by omega)) (h0 (fun v hv => hno v (by omega)))
    | succ d ih =>
      intro j hj hno
      refine br_f (nI_ge (b := 8) (by omega) (by omega)) ?_
      refine zq_lt (hlet j (by omega)) ?_
      have cont : w[p]? ≠ some (let8 j) → ∀ x, x = nI j + 1 → wX_indexOf_2 post q xo xb xl xs xg xu xd xc xe xp xf xz xK xV xO xT xS xA xY xN xW xk xt xH xn xq xy xF xZ xC xv (d + 1) x := by
        intro hne
        refine nm_r (nI_1 j) (ih (j + 1) (by omega) (fun v hv => ?_))
        by_cases z : v = j
        · rw [z]; exact hne
        · exact hno v (by omega)
      have hsj := hs j (by omega)
      refine zq_pk L (fun c hc hl => pk_eq (let8 j) c (fun z => h1 j (by omega) (by rw [hc, z]) hno) (fun z => cont (by rw [hc]; exact fun y => z (Option.some.inj y).symm))) (fun hn => br_f (fun z => ek_neg (a := let8 j) (by omega) z) (cont (by rw [hn]; simp)))
  exact ⟨9, key 8 0 (by omega) (fun v hv => by omega)⟩
theorem zq_ty {post : SX → Prop} (L : lx_ w p xg xp xT) (hp : p + 40 < 2 ^ 20)
    (HQ : 0 < qv_ w p → wpX_accept post (xo, xb, xl, xs, xg, xu, xd, xc, xe, nI (p + qn_ w p), xf, xz, xK, xV, xO, xT, xS, xA, xY, xN, xW, xk, xt, xH, xn, xq, xy, xF, xZ, xC, xv) (nI 8) (nI (qv_ w p)) (-1))
    (HL : ∀ k, k = 5 ∨ k = 6 ∨ k = 7 ∨ k = 9 → w[p]? = some (ol_ k) → wpX_accept post (xo, xb, xl, xs, xg, xu, xd, xc, xe, nI (p + 1), xf, xz, xK, xV, xO, xT, xS, xA, xY, xN, xW, xk, xt, xH, xn, xq, xy, xF, xZ, xC, xv) (nI k) (nI 0) (-1))
    (HB : ∀ v, v < 8 → w[p]? = some (lb_ v) → wpX_accept post (xo, xb, xl, xs, xg, xu, xd, xc, xe, nI (p + 1), xf, xz, xK, xV, xO, xT, xS, xA, xY, xN, xW, xk, xt, xH, xn, xq, xy, xF, xZ, xC, xv) (nI 4) (nI v) (-1))
    (HN1 : w[p]? = some 78 → wpX_readHead post (xo, xb, xl, xs, xg, xu, xd, xc, xe, nI (p + 1), xf, xz, xK, xV, xO, xT, xS, xA, xY, xN, xW, xk, xt, xH, xn, xq, xy, xF, xZ, xC, xv) 1)
    (HN0 : qv_ w p = 0 → (∀ k, k = 5 ∨ k = 6 ∨ k = 7 ∨ k = 9 → w[p]? ≠ some (ol_ k)) → (∀ v, v < 8 → w[p]? ≠ some (lb_ v)) → w[p]? ≠ some 78 → wpX_readHead post (xo, xb, xl, xs, xg, xu, xd, xc, xe, xp, xf, xz, xK, xV, xO, xT, xS, xA, xY, xN, xW, xk, xt, xH, xn, xq, xy, xF, xZ, xC, xv) 0) : wpX_readType post (xo, xb, xl, xs, xg, xu, xd, xc, xe, xp, xf, xz, xK, xV, xO, xT, xS, xA, xY, xN, xW, xk, xt, xH, xn, xq, xy, xF, xZ, xC, xv) := by
  have ep : xp = nI p := L.2.2.2.1
  have h87 : ∀ (k : Nat), k = 5 ∨ k = 6 ∨ k = 7 ∨ k = 9 → w[p]? = some (ol_ k) → wX_readType_87 post (nI k) (-1) xo xb xl xs xg xu xd xc xe xp xf xz xK xV xO xT xS xA xY xN xW xk xt xH xn xq xy xF xZ xC xv := by
    intro k hk hc
    refine nm_r (e' := nI (p + 1)) (by rw [ep, nI_1]) (br_t (by decide) (br_t (by decide) ?_))
    exact HL k hk hc
  have h87b : ∀ (x1 : Int32) (v : Nat), v < 8 → w[p]? = some (lb_ v) → wX_readType_87 post x1 (nI v) xo xb xl xs xg xu xd xc xe xp xf xz xK xV xO xT xS xA xY xN xW xk xt xH xn xq xy xF xZ xC xv := by
    intro x1 v hv hc
    refine nm_r (e' := nI (p + 1)) (by rw [ep, nI_1]) (br_f (nI_pos (by omega)) (br_f (nI_pos (by omega)) ?_))
    exact HB v hv hc
  have h32 : ∀ (kd bi : Int32), ((∃ k, (k = 5 ∨ k = 6 ∨ k = 7 ∨ k = 9) ∧ kd = nI k ∧ w[p]? = some (ol_ k)) ∨ (¬ 5 ≤ kd ∧ ∀ k, k = 5 ∨ k = 6 ∨ k = 7 ∨ k = 9 → w[p]? ≠ some (ol_ k))) →
      ((∃ v, v < 8 ∧ bi = nI v ∧ w[p]? = some (lb_ v)) ∨ (bi = -1 ∧ ∀ v, v < 8 → w[p]? ≠ some (lb_ v))) → wX_readType_32 post kd bi (nI (qa_ w p 114 * 4)) xo xb xl xs xg xu xd xc xe (nI (p + qa_ w p 114)) xf xz xK xV xO xT xS xA xY xN xW xk xt xH xn xq xy xF xZ xC xv := by
    intro kd bi hkd hbi
    -- the last join
    have h61 : ∀ z0 z1 : Nat, z1 + z0 = qv_ w p → wX_readType_61 post kd bi (nI z0) (nI z1) xo xb xl xs xg xu xd xc xe (nI (p + qn_ w p)) xf xz xK xV xO xT xS xA xY xN xW xk xt xH xn xq xy xF xZ xC xv := by
      intro z0 z1 hz
      have h8 := (qv_pr w p).1
      refine nm_r (e' := nI (qv_ w p)) (by rw [nI_add, hz]) ?_
      by_cases q0 : qv_ w p = 0
      · have hq := qv_0 q0
        have epn : nI (p + qn_ w p) = xp := by rw [hq.1, Nat.add_zero, ep]
        rw [epn]
        refine br_t (by rw [q0]; decide) ?_
        rcases hkd with ⟨k, hk, ek, hc⟩ | ⟨hk5, hk⟩
        · refine br_t (by rw [ek]; exact nI_le (a := 5) (by omega) (by omega)) ?_
          rcases hbi with ⟨v, hv, ev, hcv⟩ | ⟨ev, _⟩
          · rw [ev]; exact h87b kd v hv hcv
          · rw [ev, ek]; exact h87 k hk hc
        · refine br_f hk5 ?_
          rcases hbi with ⟨v, hv, ev, hcv⟩ | ⟨ev, hnv⟩
          · rw [ev]; exact br_f (nI_pos (by omega)) (h87b kd v hv hcv)
          · rw [ev]
            refine br_t (by decide) (zq_sk (a := 78) L (by omega) (fun hc => HN1 hc) (fun hc => HN0 q0 hk hnv hc))
      · exact br_f (nI_nle (by omega) (by omega)) (HQ (by omega))
    have hqa1 : qa_ w p 114 ≤ 1 := by rcases qa_c w p 114 with z | z <;> omega
    have e00 : (0 : Int32) = nI 0 := rfl
    -- K
    have h46 : ∀ z0 : Nat, z0 = qa_ w (p + qa_ w p 114) 86 * 2 → wX_readType_46 post kd bi (nI z0) (nI (qa_ w p 114 * 4)) xo xb xl xs xg xu xd xc xe (nI (p + qa_ w p 114 + qa_ w (p + qa_ w p 114) 86)) xf xz xK xV xO xT xS xA xY xN xW xk xt xH xn xq xy xF xZ xC xv := by
      intro z0 hz0
      have hqa2 : qa_ w (p + qa_ w p 114) 86 ≤ 1 := by rcases qa_c w (p + qa_ w p 114) 86 with z | z <;> omega
      refine zq_sk (a := 75) (lx_p L (q := p + qa_ w p 114 + qa_ w (p + qa_ w p 114) 86) (by omega)) (by omega) (fun hc => br_f (by decide) ?_) (fun hc => br_t rfl ?_)
      · have e3 : qa_ w (p + qa_ w p 114 + qa_ w (p + qa_ w p 114) 86) 75 = 1 := if_pos hc
        have e4 : qn_ w p = qa_ w p 114 + qa_ w (p + qa_ w p 114) 86 + 1 := by unfold qn_; rw [e3]
        have := h61 1 (qa_ w p 114 * 4 + z0) (by unfold qv_; rw [e3, hz0])
        rw [e4, ← Nat.add_assoc, ← Nat.add_assoc] at this
        rw [nI_add]
        exact this
      · have e3 : qa_ w (p + qa_ w p 114 + qa_ w (p + qa_ w p 114) 86) 75 = 0 := if_neg hc
        have e4 : qn_ w p = qa_ w p 114 + qa_ w (p + qa_ w p 114) 86 := by unfold qn_; rw [e3]; rfl
        have := h61 0 (qa_ w p 114 * 4 + z0) (by unfold qv_; rw [e3, hz0])
        rw [e4, ← Nat.add_assoc] at this
        rw [nI_add]
        exact this
    -- V
    refine zq_sk (a := 86) (lx_p L (q := p + qa_ w p 114) (by omega)) (by omega) (fun hc => br_f (by decide) ?_) (fun hc => br_t rfl ?_)
    · have e2 : qa_ w (p + qa_ w p 114) 86 = 1 := if_pos hc
      have := h46 2 (by rw [e2])
      rw [e2] at this
      exact this
    · have e2 : qa_ w (p + qa_ w p 114) 86 = 0 := if_neg hc
      have := h46 0 (by rw [e2])
      rw [e2] at this
      exact this
  have hr : ∀ (kd bi : Int32), ((∃ k, (k = 5 ∨ k = 6 ∨ k = 7 ∨ k = 9) ∧ kd = nI k ∧ w[p]? = some (ol_ k)) ∨ (¬ 5 ≤ kd ∧ ∀ k, k = 5 ∨ k = 6 ∨ k = 7 ∨ k = 9 → w[p]? ≠ some (ol_ k))) →
      ((∃ v, v < 8 ∧ bi = nI v ∧ w[p]? = some (lb_ v)) ∨ (bi = -1 ∧ ∀ v, v < 8 → w[p]? ≠ some (lb_ v))) → (w[p]? = some 114 → wX_readType_32 post kd bi 4 xo xb xl xs xg xu xd xc xe (nI (p + 1)) xf xz xK xV xO xT xS xA xY xN xW xk xt xH xn xq xy xF xZ xC xv) ∧ (w[p]? ≠ some 114 → wX_readType_32 post kd bi 0 xo xb xl xs xg xu xd xc xe xp xf xz xK xV xO xT xS xA xY xN xW xk xt xH xn xq xy xF xZ xC xv) := by
    intro kd bi hkd hbi
    have := h32 kd bi hkd hbi
    constructor
    · intro hc
      have e1 : qa_ w p 114 = 1 := if_pos hc
      rw [e1] at this; exact this
    · intro hc
      have e1 : qa_ w p 114 = 0 := if_neg hc
      rw [e1, Nat.add_zero, ← ep] at this; exact this
  have hlbs : ∀ v, v < 8 → lb_ v < 2 ^ 20 := by
    intro v _; unfold lb_; split <;> (try split) <;> (try split) <;> (try split) <;> (try split) <;> (try split) <;> (try split) <;> omega
  have hlos : ∀ v, v < 8 → lo8_ v < 2 ^ 20 := by
    intro v _; unfold lo8_; split <;> (try split) <;> (try split) <;> (try split) <;> (try split) <;> omega
  unfold wpX_readType
  refine zq_ix (let8 := lo8_) L lz_o8 hlos (fun v hv hc hfirst => nm_e ?_) (fun hno => nm_e ?_)
  · have hkd : (∃ k, (k = 5 ∨ k = 6 ∨ k = 7 ∨ k = 9) ∧ (3 + nI v : Int32) = nI k ∧ w[p]? = some (ol_ k)) ∨ (¬ 5 ≤ (3 + nI v : Int32) ∧ ∀ k, k = 5 ∨ k = 6 ∨ k = 7 ∨ k = 9 → w[p]? ≠ some (ol_ k)) := by
      have e3 : (3 : Int32) + nI v = nI (3 + v) := nI_add 3 v
      obtain e | e | e | e | e | e | e | e : v = 0 ∨ v = 1 ∨ v = 2 ∨ v = 3 ∨ v = 4 ∨ v = 5 ∨ v = 6 ∨ v = 7 := by omega
      · subst e
        refine Or.inr ⟨by decide, fun k hk z => ?_⟩
        rw [hc] at z
        have := Option.some.inj z
        rcases hk with h | h | h | h <;> subst h <;> exact absurd this (by decide)
      · subst e
        refine Or.inr ⟨by decide, fun k hk z => ?_⟩
        rw [hc] at z
        have := Option.some.inj z
        rcases hk with h | h | h | h <;> subst h <;> exact absurd this (by decide)
      · subst e; exact Or.inl ⟨5, by omega, e3, hc⟩
      · subst e; exact Or.inl ⟨6, by omega, e3, hc⟩
      · subst e; exact Or.inl ⟨7, by omega, e3, hc⟩
      · subst e; exact absurd hc (hfirst 1 (by omega))
      · subst e; exact Or.inl ⟨9, by omega, e3, hc⟩
      · subst e; exact absurd hc (hfirst 1 (by omega))
    refine zq_ix (let8 := lb_) L lz_b hlbs (fun u hu hcu _ => ?_) (fun hnu => ?_)
    · have := hr _ _ hkd (Or.inl ⟨u, hu, rfl, hcu⟩)
      exact zq_sk (a := 114) L (by omega) (fun z => br_f (by decide) (this.1 z)) (fun z => br_t rfl (this.2 z))
    · have := hr _ _ hkd (Or.inr ⟨rfl, hnu⟩)
      exact zq_sk (a := 114) L (by omega) (fun z => br_f (by decide) (this.1 z)) (fun z => br_t rfl (this.2 z))
  · have hkd : (∃ k, (k = 5 ∨ k = 6 ∨ k = 7 ∨ k = 9) ∧ (3 + (-1) : Int32) = nI k ∧ w[p]? = some (ol_ k)) ∨ (¬ 5 ≤ (3 + (-1) : Int32) ∧ ∀ k, k = 5 ∨ k = 6 ∨ k = 7 ∨ k = 9 → w[p]? ≠ some (ol_ k)) := by
      refine Or.inr ⟨by decide, fun k hk => ?_⟩
      rcases hk with h | h | h | h <;> subst h
      · exact hno 2 (by omega)
      · exact hno 3 (by omega)
      · exact hno 4 (by omega)
      · exact hno 6 (by omega)
    refine zq_ix (let8 := lb_) L lz_b hlbs (fun u hu hcu _ => ?_) (fun hnu => ?_)
    · have := hr _ _ hkd (Or.inl ⟨u, hu, rfl, hcu⟩)
      exact zq_sk (a := 114) L (by omega) (fun z => br_f (by decide) (this.1 z)) (fun z => br_t rfl (this.2 z))
    · have := hr _ _ hkd (Or.inr ⟨rfl, hnu⟩)
      exact zq_sk (a := 114) L (by omega) (fun z => br_f (by decide) (this.1 z)) (fun z => br_t rfl (this.2 z))
end
end
section
/-! X: parts of names, items of lists, the step -/
section
variable {xo xb : Int64} {xl xs xg xu xd xc xe xp xf xz : Int32} {xK xV xO xT xS xA xY xN xW xk xt xH xn : Nat → Int32} {xq : Nat → Int64} {xy xF xZ xC xv : Nat → Int32}
variable {K V : Nat → Nat} {i : Nat} {c : Bool} {n : Nat} {cs : Nat → List (Nat × Nat)} {cl : Nat → Bool} {l : Nat} {w : List Nat} {p : Nat}
theorem zq_part {post : SX → Prop} {s : Nat} (L : lx_ w p xg xp xT) (hp : p + 40 < 2 ^ 20) (hs : s < 48)
    (H1 : w[p]? = some 73 → wpX_accept post (xo, xb, xl, xs, xg, xu, xd, xc, xe, nI (p + 1), xf, xz, xK, xV, xO, xT, xS, xA, xY, xN, xW, xk, xt, xH, xn, xq, xy, xF, xZ, xC, xv) (nI 3) (nI 0) (-1))
    (H2 : w[p]? ≠ some 73 → xn s = 0 → wpX_finishName post (xo, xb, xl, xs, xg, xu, xd, xc, xe, xp, xf, xz, xK, xV, xO, xT, xS, xA, xY, xN, xW, xk, xt, xH, xn, xq, xy, xF, xZ, xC, xv) (nI s))
    (H3 : w[p]? ≠ some 73 → ¬ xn s = 0 → w[p]? = some 69 → wpX_finishName post (xo, xb, xl, xs, xg, xu, xd, xc, xe, nI (p + 1), xf, xz, xK, xV, xO, xT, xS, xA, xY, xN, xW, xk, xt, xH, xn, xq, xy, xF, xZ, xC, xv) (nI s))
    (H4 : w[p]? ≠ some 73 → ¬ xn s = 0 → w[p]? ≠ some 69 → wpX_readIdentifier post (xo, xb, xl, xs, xg, xu, xd, xc, xe, xp, xf, xz, xK, xV, xO, xT, xS, xA, xY, xN, xW, xk, xt, xH, xn, xq, xy, xF, xZ, xC, xv) (nI 1)) : wpX_readPart post (xo, xb, xl, xs, xg, xu, xd, xc, xe, xp, xf, xz, xK, xV, xO, xT, xS, xA, xY, xN, xW, xk, xt, xH, xn, xq, xy, xF, xZ, xC, xv) (nI s) := by
  unfold wpX_readPart
  refine zq_sk (a := 73) L (by omega) (fun hc => br_f (by decide) (H1 hc)) (fun hc => br_t rfl ⟨vp_in_nI (by omega) (by omega), ?_⟩)
  rw [nI_clamp (by omega)]
  by_cases hn : xn s = 0
  · exact br_t hn (H2 hc hn)
  · exact br_f hn (zq_sk (a := 69) L (by omega) (fun he => br_f (by decide) (H3 hc hn he)) (fun he => br_t rfl (H4 hc hn he)))
theorem zq_fin {post : SX → Prop} {s : Nat} (hs : s < 48)
    (H1 : ((xn s = 1 ∧ ¬ xH s = 0 ∧ xC s < xN s) ∨ (xn s = 0 ∧ ¬ (¬ xH s = 0 ∧ xC s < xN s))) → wpX_closeName post (xo, xb, xl, xs, xg, xu, xd, xc, xe, xp, xf, xz, xK, xV, xO, xT, xS, xA, xY, xN, xW, xk, xt, xH, xn, xq, xy, xF, xZ, xC, xv))
    (H0 : ¬ ((xn s = 1 ∧ ¬ xH s = 0 ∧ xC s < xN s) ∨ (xn s = 0 ∧ ¬ (¬ xH s = 0 ∧ xC s < xN s))) → wpX_closeName post (xo, xb, xl, xs, xg, xu, xd, xc, xe, xp, 1, xz, xK, xV, xO, xT, xS, xA, xY, xN, xW, xk, xt, xH, xn, xq, xy, xF, xZ, xC, xv)) : wpX_finishName post (xo, xb, xl, xs, xg, xu, xd, xc, xe, xp, xf, xz, xK, xV, xO, xT, xS, xA, xY, xN, xW, xk, xt, xH, xn, xq, xy, xF, xZ, xC, xv) (nI s) := by
  have hv : vp_in (nI s) 48 := vp_in_nI (by omega) (by omega)
  have hc : (nI s).toNatClampNeg = s := nI_clamp (by omega)
  have h45 : ∀ z0 : Int32, ((z0 = 1 ∧ (¬ xH s = 0 ∧ xC s < xN s)) ∨ (z0 = 0 ∧ ¬ (¬ xH s = 0 ∧ xC s < xN s))) → wX_finishName_45 post z0 (xn s) xo xb xl xs xg xu xd xc xe xp xf xz xK xV xO xT xS xA xY xN xW xk xt xH xn xq xy xF xZ xC xv := by
    intro z0 hz
    rcases hz with ⟨e, a⟩ | ⟨e, a⟩
    · subst e
      refine br_c (fun q => H1 (Or.inl ⟨q, a⟩)) (fun q => H0 (fun z => ?_))
      rcases z with z | z
      · exact q z.1
      · exact z.2 a
    · subst e
      refine br_c (fun q => H1 (Or.inr ⟨q, a⟩)) (fun q => H0 (fun z => ?_))
      rcases z with z | z
      · exact a z.2
      · exact q z.1
  have h20 : ∀ z0 : Int32, ((z0 = 0 ∧ xC s < xN s) ∨ (z0 = 1 ∧ ¬ xC s < xN s)) → wX_finishName_20 post (nI s) z0 xo xb xl xs xg xu xd xc xe xp xf xz xK xV xO xT xS xA xY xN xW xk xt xH xn xq xy xF xZ xC xv := by
    intro z0 hz
    refine ⟨hv, hv, ?_⟩
    rw [hc]
    by_cases hh : xH s = 0
    · exact br_t hh (h45 0 (Or.inr ⟨rfl, fun z => z.1 hh⟩))
    · refine br_f hh ?_
      rcases hz with ⟨e, a⟩ | ⟨e, a⟩
      · subst e; exact br_t rfl (h45 1 (Or.inl ⟨rfl, hh, a⟩))
      · subst e; exact br_f (by decide) (h45 0 (Or.inr ⟨rfl, fun z => a z.2⟩))
  refine ⟨hv, hv, ?_⟩
  rw [hc]
  exact br_c (fun q => h20 0 (Or.inl ⟨rfl, q⟩)) (fun q => h20 1 (Or.inr ⟨rfl, q⟩))
theorem zq_li {post : SX → Prop} {f t : Nat} (R : rd_ K V i c n cs cl l w p xo xb xl xs xg xu xd xc xe xp xf xz xK xV xO xT xS xA xY xN xW xk xt xH xn xq xy xF xZ xC xv) (hp : p + 40 < 2 ^ 20) (hf : f < i) (h0 : 0 < f) (hff : ka_f (K f) = true) (ht : xY f = nI t) (htl : t < 2 ^ 20)
    (HE : ∀ b : Nat, ((b = 1 ∧ K f ≠ 3 ∧ t = rc_ K f ∧ w[p]? = some 118) ∨ (b = 0 ∧ rc_ K f < t)) → (K f = 10 → w.length ≤ p + b → wpX_accept post (xo, xb, xl, xs, xg, xu, xd, xc, xe, nI (p + b), xf, 1, xK, xV, xO, xT, xS, xA, xY, xN, xW, xk, xt, xH, xn, xq, xy, xF, xZ, xC, xv) (nI 11) (nI 0) (-1)) ∧ (K f ≠ 10 → w[p + b]? = some 69 → wpX_accept post (xo, xb, xl, xs, xg, xu, xd, xc, xe, nI (p + b + 1), xf, 0, xK, xV, xO, xT, xS, xA, xY, xN, xW, xk, xt, xH, xn, xq, xy, xF, xZ, xC, xv) (nI 11) (nI 0) (-1)))
    (HT : ¬ (K f ≠ 3 ∧ t = rc_ K f ∧ w[p]? = some 118) → ¬ (rc_ K f < t ∧ ((K f = 10 ∧ w.length ≤ p) ∨ (K f ≠ 10 ∧ w[p]? = some 69))) → wpX_readType post (xo, xb, xl, xs, xg, xu, xd, xc, xe, xp, xf, xz, xK, xV, xO, xT, xS, xA, xY, xN, xW, xk, xt, xH, xn, xq, xy, xF, xZ, xC, xv))
    (HF : K f ≠ 3 → t = rc_ K f → w[p]? = some 118 → ¬ ((K f = 10 ∧ w.length ≤ p + 1) ∨ (K f ≠ 10 ∧ w[p + 1]? = some 69)) → post (xo, xb, xl, xs, xg, xu, xd, xc, xe, nI (p + 1), 1, xz, xK, xV, xO, xT, xS, xA, xY, xN, xW, xk, xt, xH, xn, xq, xy, xF, xZ, xC, xv)) : wpX_readListItem post (xo, xb, xl, xs, xg, xu, xd, xc, xe, xp, xf, xz, xK, xV, xO, xT, xS, xA, xY, xN, xW, xk, xt, xH, xn, xq, xy, xF, xZ, xC, xv) (nI f) := by
  obtain ⟨r1, r2, r3, r4, r5, r6, r7, r8, r9, r10, r11⟩ := R
  have hv : vp_in (nI f) 48 := vp_in_nI (by omega) (by omega)
  have hc : (nI f).toNatClampNeg = f := nI_clamp (by omega)
  have hk := r8 f hf
  have hK := hk.2.2.1
  have hrc := rc_le (K := K) (f := f)
  have ep : xp = nI p := r10.2.2.2.1
  have eg := (tk_e r10.1 r10.2.1).1
  have hwl := r10.2.1
  -- the end, or not
  have h55 : ∀ b : Nat, ((b = 1 ∧ K f ≠ 3 ∧ t = rc_ K f ∧ w[p]? = some 118) ∨ (b = 0 ∧ rc_ K f < t ∧ ¬ (K f ≠ 3 ∧ t = rc_ K f ∧ w[p]? = some 118))) → wX_readListItem_55 post (nI f) (nI b) xo xb xl xs xg xu xd xc xe (nI (p + b)) xf xz xK xV xO xT xS xA xY xN xW xk xt xH xn xq xy xF xZ xC xv := by
    intro b hb
    have hb1 : b ≤ 1 := by omega
    have he := HE b (by rcases hb with z | z; exact Or.inl z; exact Or.inr ⟨z.1, z.2.1⟩)
    have h94 : ∀ q, q = p + b → (b = 0 → ¬ (rc_ K f < t ∧ ((K f = 10 ∧ w.length ≤ p) ∨ (K f ≠ 10 ∧ w[p]? = some 69)))) → ¬ ((K f = 10 ∧ w.length ≤ p + b) ∨ (K f ≠ 10 ∧ w[p + b]? = some 69)) → wX_readListItem_94 post (nI f) (nI b) 0 xo xb xl xs xg xu xd xc xe (nI q) xf xz xK xV xO xT xS xA xY xN xW xk xt xH xn xq xy xF xZ xC xv := by
      intro q hq hno hno2
      subst hq
      refine br_t rfl ?_
      rcases hb with ⟨z, y1, y2, y3⟩ | ⟨z, z2, z3⟩
      · subst z; exact br_f (by decide) (HF y1 y2 y3 hno2)
      · subst z
        refine br_t rfl ?_
        have := HT z3 (hno rfl)
        rw [Nat.add_zero, ← ep]; exact this
    refine ⟨hv, ?_⟩
    rw [hc, hk.1]
    refine pk_eq (K f) 10 (fun q10 => ?_) (fun q10 => ?_)
    · refine pk_lt (p + b) w.length (fun q => h94 _ rfl (fun hb0 z => ?_) (fun z => by rcases z with y | y; omega; exact y.1 q10)) (fun q => br_f (by decide) ⟨hv, ?_⟩) (hy := eg)
      · rcases z.2 with y | y
        · omega
        · exact y.1 q10
      · rw [hc, hk.1, q10]
        exact br_t rfl ⟨rfl, rfl, he.1 q10 q⟩
    · refine zq_sk (a := 69) (lx_p r10 (q := p + b) (by omega)) (by omega) (fun q => br_f (by decide) (br_f (by decide) ⟨hv, ?_⟩)) (fun q => br_t rfl (h94 _ rfl (fun hb0 z => ?_) (fun z => by rcases z with y | y; exact q10 y.1; exact q y.2)))
      · rw [hc, hk.1]
        refine br_f (fun z => q10 ((nI_eq (a := K f) (b := 10) (by omega) (by omega)).mp z)) ⟨rfl, rfl, he.2 q10 q⟩
      · rcases z.2 with y | y
        · exact q10 y.1
        · subst hb0; exact q y.2
  have h39 : ¬ (K f ≠ 3 ∧ t = rc_ K f ∧ w[p]? = some 118) → wX_readListItem_39 post (nI f) (nI (rc_ K f)) xo xb xl xs xg xu xd xc xe xp xf xz xK xV xO xT xS xA xY xN xW xk xt xH xn xq xy xF xZ xC xv := by
    intro hne
    refine br_t rfl ⟨hv, ?_⟩
    rw [hc, ht]
    refine pk_le t (rc_ K f) (fun q => ?_) (fun q => ?_)
    · have := HT hne (fun z => by omega)
      exact br_t rfl (br_t rfl this)
    · have := h55 0 (Or.inr ⟨rfl, q, hne⟩)
      rw [Nat.add_zero, ← ep] at this
      exact this
  unfold wpX_readListItem
  refine zw_rc (N := i) (by omega) r8 hf h0 ⟨hv, ?_⟩
  rw [hc, hk.1]
  refine pk_eq (K f) 3 (fun q => h39 (fun z => z.1 q)) (fun q3 => ⟨hv, ?_⟩)
  rw [ht]
  refine pk_eq t (rc_ K f) (fun q => ?_) (fun q => h39 (fun z => q z.2.1))
  refine zq_sk (a := 118) r10 (by omega) (fun hcv => br_f (by decide) ?_) (fun hcv => br_t rfl (h39 (fun z => hcv z.2.2)))
  exact br_f (by decide) (h55 1 (Or.inl ⟨rfl, q3, q, hcv⟩))
theorem zq_step {post : SX → Prop} (R : rd_ K V i c n cs cl l w p xo xb xl xs xg xu xd xc xe xp xf xz xK xV xO xT xS xA xY xN xW xk xt xH xn xq xy xF xZ xC xv)
    (H0 : i = 0 → wpX_readType post (xo, xb, xl, xs, xg, xu, xd, xc, xe, xp, xf, xz, xK, xV, xO, xT, xS, xA, xY, xN, xW, xk, xt, xH, xn, xq, xy, xF, xZ, xC, xv))
    (HD : ss_ K i c = [] → 0 < i → w.length ≤ p → post (xo, xb, xl, xs, xg, xu, xd, xc, xe, xp, xf, 1, xK, xV, xO, xT, xS, xA, xY, xN, xW, xk, xt, xH, xn, xq, xy, xF, xZ, xC, xv))
    (HS : ss_ K i c = [] → 0 < i → p < w.length → wpX_accept post (xo, xb, xl, xs, xg, xu, xd, xc, xe, xp, xf, xz, xK, xV, xO, xT, xS, xA, xY, xN, xW, xk, xt, xH, xn, xq, xy, xF, xZ, xC, xv) (nI 10) (nI 0) (-1))
    (HW : ∀ x r, ss_ K i c = x :: r → ka_w (K x) = true → wpX_readType post (xo, xb, xl, xs, xg, xu, xd, xc, xe, xp, xf, xz, xK, xV, xO, xT, xS, xA, xY, xN, xW, xk, xt, xH, xn, xq, xy, xF, xZ, xC, xv))
    (HH : ∀ s r, ss_ K i c = s :: r → ka_h (K s) = true → wpX_readPart post (xo, xb, xl, xs, xg, xu, xd, xc, xe, xp, xf, xz, xK, xV, xO, xT, xS, xA, xY, xN, xW, xk, xt, xH, xn, xq, xy, xF, xZ, xC, xv) (nI s))
    (HL : ∀ f r, ss_ K i c = f :: r → ka_f (K f) = true → 0 < f → wpX_readListItem post (xo, xb, xl, xs, xg, xu, xd, xc, xe, xp, xf, xz, xK, xV, xO, xT, xS, xA, xY, xN, xW, xk, xt, xH, xn, xq, xy, xF, xZ, xC, xv) (nI f)) : wpX_readStep post (xo, xb, xl, xs, xg, xu, xd, xc, xe, xp, xf, xz, xK, xV, xO, xT, xS, xA, xY, xN, xW, xk, xt, xH, xn, xq, xy, xF, xZ, xC, xv) := by
  obtain ⟨r1, r2, r3, r4, r5, r6, r7, r8, r9, r10, r11⟩ := R
  obtain ⟨t1, t2, t3, t4, t5, t6, t7, t8, t9⟩ := r11
  have eg := (tk_e r10.1 r10.2.1).1
  have hwl := r10.2.1
  have hp20 := r10.2.2.2.2
  have ep : xp = nI p := r10.2.2.2.1
  have hlen := sk_len r1 (i := i) (Nat.le_refl _) (ss_suf (c := c))
  unfold wpX_readStep
  cases hss : ss_ K i c with
  | nil =>
    rw [hss] at t2
    refine zx_top0 t2 ?_
    have hd0 : xd = 0 := t2
    by_cases hi : i = 0
    · have hx0 : xs ≤ 0 := by rw [r6, hi]; decide
      exact br_t hd0 (br_t hx0 (br_t hd0 (br_t hx0 (br_t hd0 (H0 hi)))))
    · have hx0 : ¬ xs ≤ 0 := by rw [r6]; exact nI_nle (by omega) (by omega)
      refine br_t hd0 (br_f hx0 ?_)
      exact pk_lt p w.length (fun q => br_t hd0 (br_f hx0 (HS hss (by omega) q))) (fun q => HD hss (by omega) q) (hx := ep) (hy := eg)
  | cons x r =>
    rw [hss] at t2 t3 hlen
    have hl' : r.length + 1 ≤ i := hlen
    have hxi : x < i := sk_lt (ss_suf.subset (show x ∈ ss_ K i c by rw [hss]; simp))
    have hd0 : ¬ xd = 0 := by rw [t2]; exact nI_ne0 (by simp) (by simp; omega)
    refine zx_top t2 t3 (by omega) (br_f hd0 (br_f hd0 (br_f hd0 ⟨vp_in_nI (by omega) (by omega), ?_⟩)))
    have hk := r8 x hxi
    rw [nI_clamp (by omega), hk.1]
    refine zx_w hk.2.2.1 (fun z => br_f (by decide) (HW x r hss z)) (fun z => br_t rfl ⟨vp_in_nI (by omega) (by omega), ?_⟩)
    refine zx_h hk.2.2.1 (fun y => br_f (by decide) (HH x r hss y)) (fun y => br_t rfl ?_)
    have hg := gs_suf (si_all r1 i (Nat.le_refl _)).1 (ss_suf (K := K) (i := i) (c := c))
    rw [hss] at hg
    have hff : ka_f (K x) = true := by
      rcases hg.2.2 with ⟨_, a | a⟩ | ⟨y', r', _, a | a⟩
      · rw [a.2] at y; exact absurd y (by decide)
      · rw [a]; rfl
      · rw [a.1]; rfl
      · rcases a.1 with b | b | b
        · rw [y] at b; exact absurd b (by decide)
        · rw [z] at b; exact absurd b (by decide)
        · rw [b]; rfl
    refine HL x r hss hff ?_
    rcases Nat.eq_zero_or_pos x with a | a
    · rw [a, wf_0 r1 (by omega)] at hff; exact absurd hff (by decide)
    · exact a
end
end
section
/-! X: no known component is spelled out; back references -/
def fi_ (K V : Nat → Nat) (i : Nat) (c : Bool) (xC : Nat → Int32) : Prop :=
  ∀ e s, ((e + 1 < i ∧ s ∈ pp_ K e) ∨ (e + 1 = i ∧ s ∈ lp_ K c i)) → kw_ K V (tb_ K V e) s e = true → nI e ≤ xC s
/-- a known component that is spelled out -/
def bd2_ (K V : Nat → Nat) (i : Nat) (xC : Nat → Int32) : Prop :=
  ∃ e s, ((e = i ∧ s ∈ pa_ K i) ∨ (e + 1 = i ∧ s ∈ pp_ K e)) ∧ kw_ K V (tb_ K V e) s e = true ∧ ¬ nI e ≤ xC s
theorem fi_step {K V : Nat → Nat} {i k v : Nat} {c : Bool} {xC xC' : Nat → Int32} {xf' : Int32} (hw : wf_ K V i) (hw' : wf_ (un_ K i k) (un_ V i v) (i + 1)) (hc : c = true → k ≠ 1 ∧ k ≠ 3) (h : fi_ K V i c xC) (hx : ∀ j, j < i → xC' j = xC j)
    (hf : fr_ (un_ K i k) (un_ V i v) xC' 0 xf' (np_ (un_ K i k) c i)) : (xf' = 0 ∧ fi_ (un_ K i k) (un_ V i v) (i + 1) false xC') ∨ (xf' = 1 ∧ bd2_ (un_ K i k) (un_ V i v) i xC') := by
  have hK : ∀ j, j < i → un_ K i k j = K j := un_lt
  have hV : ∀ j, j < i → un_ V i v j = V j := un_lt
  rcases hf with ⟨e0, hall⟩ | ⟨e1, q, hq, hk, hn⟩
  · refine Or.inl ⟨e0, ?_⟩
    intro e s hes hkw
    rw [np_b] at hall
    rcases hes with ⟨a, b⟩ | ⟨a, b⟩
    · by_cases hei : e + 1 < i
      · rw [gc_pp hK (by omega)] at b
        have hsl := pp_le hw (by omega) b
        rw [gc_tb hK hV hw (by omega), gc_kw hK hV (by omega) hsl (fun p hp => by have := tb_b hw (by omega) hp; omega)] at hkw
        rw [hx s (by omega)]
        exact h e s (Or.inl ⟨hei, b⟩) hkw
      · have hei' : i = e + 1 := by omega
        subst hei'
        unfold pp_ at b
        rcases List.mem_append.mp b with b1 | b1
        · have b1' := b1
          rw [gc_pa hK (by omega)] at b1'
          have hsl : s ≤ e := pp_le hw' (by omega) (by unfold pp_; rw [List.mem_append]; exact Or.inl b1)
          rw [gc_tb hK hV hw (by omega), gc_kw hK hV (by omega) hsl (fun p hp => by have := tb_b hw (by omega) hp; omega)] at hkw
          rw [hx s (by omega)]
          refine h e s (Or.inr ⟨rfl, ?_⟩) hkw
          show s ∈ (if c = true then _ else _)
          cases c with
          | true => rw [if_pos rfl]; simp [b1']
          | false => rw [if_neg (by decide)]; exact b1'
        · cases c with
          | true =>
            have hk13 := hc rfl
            have hb : pb_ (un_ K (e + 1) k) e = pc_ (un_ K (e + 1) k) e := by unfold pb_; rw [if_neg (by rw [un_s]; omega)]
            have hsl : s ≤ e := pp_le hw' (by omega) (by unfold pp_; rw [List.mem_append]; exact Or.inr b1)
            rw [hb, gc_pc hK (by omega)] at b1
            rw [gc_tb hK hV hw (by omega), gc_kw hK hV (by omega) hsl (fun p hp => by have := tb_b hw (by omega) hp; omega)] at hkw
            rw [hx s (by omega)]
            refine h e s (Or.inr ⟨rfl, ?_⟩) hkw
            show s ∈ pa_ K e ++ pc_ K e
            rw [List.mem_append]; exact Or.inr b1
          | false =>
            refine hall (s, e) ?_ hkw
            rw [List.mem_append]
            refine Or.inl ?_
            show (s, e) ∈ (if false = true then [] else (pb_ (un_ K (e + 1) k) e).map (fun w => (w, e)))
            rw [if_neg (by decide)]
            exact List.mem_map.mpr ⟨s, b1, rfl⟩
    · have hei : e = i := by omega
      subst hei
      refine hall (s, e) ?_ hkw
      rw [List.mem_append]
      exact Or.inr (List.mem_map.mpr ⟨s, b, rfl⟩)
  · refine Or.inr ⟨e1, q.2, q.1, ?_, hk, hn⟩
    rw [np_b] at hq
    rcases List.mem_append.mp hq with z | z
    · cases i with
      | zero => exact absurd z (by simp [bp_])
      | succ e =>
        have z' : q ∈ (if c = true then [] else (pb_ (un_ K (e + 1) k) e).map (fun w => (w, e))) := z
        cases c with
        | true => rw [if_pos rfl] at z'; exact absurd z' (by simp)
        | false =>
          rw [if_neg (by decide)] at z'
          obtain ⟨s, a, b⟩ := List.mem_map.mp z'
          subst b
          exact Or.inr ⟨rfl, by unfold pp_; rw [List.mem_append]; exact Or.inr a⟩
    · obtain ⟨s, a, b⟩ := List.mem_map.mp z
      subst b
      exact Or.inl ⟨rfl, a⟩
/-- the same when a name is closed -/
def bd3_ (K V : Nat → Nat) (i : Nat) (xC : Nat → Int32) : Prop := ∃ e s, e + 1 = i ∧ s ∈ pp_ K e ∧ kw_ K V (tb_ K V e) s e = true ∧ ¬ nI e ≤ xC s
theorem fi_close {K V : Nat → Nat} {i : Nat} {xC : Nat → Int32} {xf' : Int32} (hi : 0 < i) (hS : K i = 11) (h : fi_ K V i false xC) (hf : fr_ K V xC 0 xf' ((pc_ K (i - 1)).map (fun w => (w, i - 1)))) :
    (xf' = 0 ∧ fi_ K V i true xC) ∨ (xf' = 1 ∧ bd3_ K V i xC) := by
  obtain ⟨e, rfl⟩ : ∃ e, i = e + 1 := ⟨i - 1, by omega⟩
  rcases hf with ⟨e0, hall⟩ | ⟨e1, q, hq, hk, hn⟩
  · refine Or.inl ⟨e0, ?_⟩
    intro e' s hes hkw
    rcases hes with z | ⟨a, b⟩
    · exact h e' s (Or.inl z) hkw
    · have : e' = e := by omega
      subst this
      have b' : s ∈ pa_ K e' ++ pc_ K e' := b
      rcases List.mem_append.mp b' with y | y
      · exact h e' s (Or.inr ⟨rfl, y⟩) hkw
      · exact hall (s, e') (List.mem_map.mpr ⟨s, y, rfl⟩) hkw
  · obtain ⟨s, a, b⟩ := List.mem_map.mp hq
    subst b
    refine Or.inr ⟨e1, e, s, rfl, ?_, hk, hn⟩
    have a' : s ∈ pc_ K e := a
    unfold pp_ pb_
    rw [if_neg (by omega), List.mem_append]; exact Or.inr a'
section
variable {xo xb : Int64} {xl xs xg xu xd xc xe xp xf xz : Int32} {xK xV xO xT xS xA xY xN xW xk xt xH xn : Nat → Int32} {xq : Nat → Int64} {xy xF xZ xC xv : Nat → Int32}
variable {K V : Nat → Nat} {i : Nat} {c : Bool} {n : Nat} {cs : Nat → List (Nat × Nat)} {cl : Nat → Bool} {l : Nat} {w : List Nat} {p : Nat}
theorem zq_ac2 {post : SX → Prop} {k v : Nat} {p2 : Int32} (R : rd_ K V i c n cs cl l w p xo xb xl xs xg xu xd xc xe xp xf xz xK xV xO xT xS xA xY xN xW xk xt xH xn xq xy xF xZ xC xv) (F : fi_ K V i c xC) (h0 : xf = 0) (hc : c = true → k ≠ 1 ∧ k ≠ 3) (hv : vr_ k v)
    (HF : (i < l → ¬ ft_ K i k v) → post (xo, xb, xl, xs, xg, xu, xd, xc, xe, xp, 1, xz, xK, xV, xO, xT, xS, xA, xY, xN, xW, xk, xt, xH, xn, xq, xy, xF, xZ, xC, xv))
    (HB : i < l → ft_ K i k v → ∀ (n' : Nat) (cs' : Nat → List (Nat × Nat)) (cl' : Nat → Bool) (xs' xu' xd' xc' xe' xf' : Int32) (xK' xV' xO' xS' xA' xY' xN' xW' xk' xt' xH' : Nat → Int32) (xq' : Nat → Int64) (xy' xF' xZ' : Nat → Int32),
      rd_ (un_ K i k) (un_ V i v) (i + 1) false n' cs' cl' l w p xo xb xl xs' xg xu' xd' xc' xe' xp xf' xz xK' xV' xO' xT xS' xA' xY' xN' xW' xk' xt' xH' xn xq' xy' xF' xZ' (upd xC i p2) xv → ((xf' = 0 ∧ fi_ (un_ K i k) (un_ V i v) (i + 1) false (upd xC i p2)) ∨ (xf' = 1 ∧ bd2_ (un_ K i k) (un_ V i v) i (upd xC i p2))) → post (xo, xb, xl, xs', xg, xu', xd', xc', xe', xp, xf', xz, xK', xV', xO', xT, xS', xA', xY', xN', xW', xk', xt', xH', xn, xq', xy', xF', xZ', upd xC i p2, xv)) :
    wpX_accept post (xo, xb, xl, xs, xg, xu, xd, xc, xe, xp, xf, xz, xK, xV, xO, xT, xS, xA, xY, xN, xW, xk, xt, xH, xn, xq, xy, xF, xZ, xC, xv) (nI k) (nI v) p2 := by
  have hm := mx_le (k := k)
  have hvv : ∀ v', vr_ k v' → nI v = nI v' → v = v' := fun v' hv' e => (nI_eq (by have := hv.2.1; omega) (by have := hv'.2.1; omega)).mp e
  refine zq_acc R hv.1 hc (Or.inl h0) (fun _ => ⟨v, rfl, hv⟩) (fun h => HF (fun hl => h v h0 rfl hv hl)) ?_
  intro v' _ e hv' hl hf n' cs' cl' xs' xu' xd' xc' xe' xf' xK' xV' xO' xS' xA' xY' xN' xW' xk' xt' xH' xq' xy' xF' xZ' R' hfr
  have := hvv v' hv' e
  subst this
  refine HB hl hf n' cs' cl' xs' xu' xd' xc' xe' xf' xK' xV' xO' xS' xA' xY' xN' xW' xk' xt' xH' xq' xy' xF' xZ' R' ?_
  exact fi_step R.1 R'.1 hc F (fun j hj => pk_un (by omega)) hfr
theorem zq_acf {post : SX → Prop} {k : Nat} {p1 p2 : Int32} (R : rd_ K V i c n cs cl l w p xo xb xl xs xg xu xd xc xe xp xf xz xK xV xO xT xS xA xY xN xW xk xt xH xn xq xy xF xZ xC xv) (hk : k ≤ 11) (h1 : xf = 1) (hc : c = true → k ≠ 1 ∧ k ≠ 3) (HF : post (xo, xb, xl, xs, xg, xu, xd, xc, xe, xp, 1, xz, xK, xV, xO, xT, xS, xA, xY, xN, xW, xk, xt, xH, xn, xq, xy, xF, xZ, xC, xv)) : wpX_accept post (xo, xb, xl, xs, xg, xu, xd, xc, xe, xp, xf, xz, xK, xV, xO, xT, xS, xA, xY, xN, xW, xk, xt, xH, xn, xq, xy, xF, xZ, xC, xv) (nI k) p1 p2 :=
  zq_acc R hk hc (Or.inr h1) (fun z => by rw [h1] at z; exact absurd z (by decide)) (fun _ => HF) (fun v z => by rw [h1] at z; exact absurd z (by decide))
theorem zq_cl2 {post : SX → Prop} (R : rd_ K V i false n cs cl l w p xo xb xl xs xg xu xd xc xe xp xf xz xK xV xO xT xS xA xY xN xW xk xt xH xn xq xy xF xZ xC xv) (hi : 0 < i) (F : fi_ K V i false xC) (h0 : xf = 0)
    (H : ∀ (n' : Nat) (cs' : Nat → List (Nat × Nat)) (cl' : Nat → Bool) (xs' xu' xd' xc' xe' xf' : Int32) (xK' xV' xO' xS' xA' xY' xN' xW' xk' xt' xH' : Nat → Int32) (xq' : Nat → Int64) (xy' xF' xZ' : Nat → Int32), rd_ K V i true n' cs' cl' l w p xo xb xl xs' xg xu' xd' xc' xe' xp xf' xz xK' xV' xO' xT xS' xA' xY' xN' xW' xk' xt' xH' xn xq' xy' xF' xZ' xC xv → ((xf' = 0 ∧ fi_ K V i true xC) ∨ (xf' = 1 ∧ bd3_ K V i xC)) → post (xo, xb, xl, xs', xg, xu', xd', xc', xe', xp, xf', xz, xK', xV', xO', xT, xS', xA', xY', xN', xW', xk', xt', xH', xn, xq', xy', xF', xZ', xC, xv)) : wpX_closeName post (xo, xb, xl, xs, xg, xu, xd, xc, xe, xp, xf, xz, xK, xV, xO, xT, xS, xA, xY, xN, xW, xk, xt, xH, xn, xq, xy, xF, xZ, xC, xv) := by
  refine zq_cl R hi ?_
  intro n' cs' cl' xs' xu' xd' xc' xe' xf' xK' xV' xO' xS' xA' xY' xN' xW' xk' xt' xH' xq' xy' xF' xZ' R' hfr _ _ _
  rw [h0] at hfr
  exact H n' cs' cl' xs' xu' xd' xc' xe' xf' xK' xV' xO' xS' xA' xY' xN' xW' xk' xt' xH' xq' xy' xF' xZ' R' (fi_close hi (R.2.1 i (Nat.le_refl _)) F hfr)
theorem zq_clf {post : SX → Prop} (R : rd_ K V i false n cs cl l w p xo xb xl xs xg xu xd xc xe xp xf xz xK xV xO xT xS xA xY xN xW xk xt xH xn xq xy xF xZ xC xv) (hi : 0 < i) (h1 : xf = 1)
    (H : ∀ (xs' xu' xd' xc' xe' xf' : Int32) (xK' xV' xO' xS' xA' xY' xN' xW' xk' xt' xH' : Nat → Int32) (xq' : Nat → Int64) (xy' xF' xZ' : Nat → Int32), xf' = 1 → post (xo, xb, xl, xs', xg, xu', xd', xc', xe', xp, xf', xz, xK', xV', xO', xT, xS', xA', xY', xN', xW', xk', xt', xH', xn, xq', xy', xF', xZ', xC, xv)) : wpX_closeName post (xo, xb, xl, xs, xg, xu, xd, xc, xe, xp, xf, xz, xK, xV, xO, xT, xS, xA, xY, xN, xW, xk, xt, xH, xn, xq, xy, xF, xZ, xC, xv) := by
  refine zq_cl R hi ?_
  intro n' cs' cl' xs' xu' xd' xc' xe' xf' xK' xV' xO' xS' xA' xY' xN' xW' xk' xt' xH' xq' xy' xF' xZ' R' hfr _ _ _
  refine H xs' xu' xd' xc' xe' xf' xK' xV' xO' xS' xA' xY' xN' xW' xk' xt' xH' xq' xy' xF' xZ' ?_
  rcases hfr with z | z
  · rw [z.1]; exact h1
  · exact z.1
/-- the start of a name, or of a copied type -/
theorem zq_54 {post : SX → Prop} {j : Nat} {ins : Int32} {N : Nat} (hkx : kx_ K V N xK xV) (hj : j < N) (hN : N ≤ 48) (hins : ins = 0 ∨ ins = 1)
    (HF : ¬ xf = 0 → post (xo, xb, xl, xs, xg, xu, xd, xc, xe, xp, xf, xz, xK, xV, xO, xT, xS, xA, xY, xN, xW, xk, xt, xH, xn, xq, xy, xF, xZ, xC, xv))
    (HH : xf = 0 → ka_h (K j) = true → post (xo, xb, xl, xs, xg, xu, xd, xc, xe, xp, xf, xz, xK, xV, xO, xT, xS, xA, xY, xN, xW, xk, xt, xH, upd xn j ins, xq, xy, xF, xZ, xC, xv))
    (HC : xf = 0 → ka_h (K j) = false → wpX_closeName post (xo, xb, xl, xs, xg, xu, xd, xc, xe, xp, ins, xz, xK, xV, xO, xT, xS, xA, xY, xN, xW, xk, xt, xH, upd xn j ins, xq, xy, xF, xZ, xC, xv)) : wX_readHead_54 post ins (nI j) xo xb xl xs xg xu xd xc xe xp xf xz xK xV xO xT xS xA xY xN xW xk xt xH xn xq xy xF xZ xC xv := by
  by_cases h0 : xf = 0
  · refine br_t h0 (br_t (nI_lt (b := 48) (by omega) (by omega)) ⟨vp_in_nI (by omega) (by omega), nm_r (e' := upd xn j ins) ?_ ⟨vp_in_nI (by omega) (by omega), ?_⟩⟩)
    · rw [nI_clamp (by omega)]
      rcases hins with e | e
      · subst e; rw [show vp_nar .boolean 0 = 0 by decide]
      · subst e; rw [show vp_nar .boolean 1 = 1 by decide]
    · have hk := hkx j hj
      rw [nI_clamp (by omega), hk.1]
      refine zx_h hk.2.2.1 (fun z => br_f (by decide) (HH h0 z)) (fun z => br_t rfl ?_)
      rcases hins with e | e
      · subst e; exact ⟨rfl, rfl, HC h0 z⟩
      · subst e; exact ⟨rfl, rfl, HC h0 z⟩
  · exact br_f h0 (HF h0)
/-- nodes i .. are copies of those from f on -/
def cp_ (F : Nat → Nat) (i f m : Nat) : Nat → Nat := fun j => if i ≤ j ∧ j < i + m then F (f + (j - i)) else F j
theorem cp_0 {F : Nat → Nat} {i f : Nat} : cp_ F i f 0 = F := by
  funext j; unfold cp_; rw [if_neg (by omega)]
theorem cp_s {F : Nat → Nat} {i f m : Nat} : un_ (cp_ F i f m) (i + m) (F (f + m)) = cp_ F i f (m + 1) := by
  funext j
  unfold un_ cp_
  by_cases h : j = i + m
  · rw [if_pos h, if_pos (by omega), h, show i + m - i = m by omega]
  · rw [if_neg h]
    by_cases h2 : i ≤ j ∧ j < i + m
    · rw [if_pos h2, if_pos (by omega)]
    · rw [if_neg h2, if_neg (by omega)]
theorem cp_lt {F : Nat → Nat} {i f m j : Nat} (h : j < i) : cp_ F i f m j = F j := by unfold cp_; rw [if_neg (by omega)]
def cc_ (xC : Nat → Int32) (i z m : Nat) : Nat → Int32 := fun j => if i ≤ j ∧ j < i + m then nI (i + z - 1) else xC j
theorem cc_0 {xC : Nat → Int32} {i z : Nat} : cc_ xC i z 0 = xC := by
  funext j; unfold cc_; rw [if_neg (by omega)]
theorem cc_s {xC : Nat → Int32} {i z m : Nat} : upd (cc_ xC i z m) (i + m) (nI (i + z - 1)) = cc_ xC i z (m + 1) := by
  funext j
  unfold upd cc_
  by_cases h : j = i + m
  · rw [if_pos h, if_pos (by omega)]
  · rw [if_neg h]
    by_cases h2 : i ≤ j ∧ j < i + m
    · rw [if_pos h2, if_pos (by omega)]
    · rw [if_neg h2, if_neg (by omega)]
/-- copying -/
theorem zq_48 {post : SX → Prop} {f z : Nat} (hfz : f + z ≤ i) (hz : 0 < z) (hkf : c = true → K f ≠ 1 ∧ K f ≠ 3) (hw0 : wf_ K V i) {xC0 : Nat → Int32}
    (HF : ∀ m, m < z → ((i + m < l → ¬ ft_ (cp_ K i f m) (i + m) (K (f + m)) (V (f + m))) ∨ bd2_ (cp_ K i f (m + 1)) (cp_ V i f (m + 1)) (i + m) (cc_ xC0 i z (m + 1))) → ∀ (xs' xu' xd' xc' xe' xf' : Int32) (xK' xV' xO' xS' xA' xY' xN' xW' xk' xt' xH' : Nat → Int32) (xq' : Nat → Int64) (xy' xF' xZ' : Nat → Int32) (xC' : Nat → Int32), xf' = 1 → post (xo, xb, xl, xs', xg, xu', xd', xc', xe', xp, xf', xz, xK', xV', xO', xT, xS', xA', xY', xN', xW', xk', xt', xH', xn, xq', xy', xF', xZ', xC', xv))
    (HB : ∀ (n' : Nat) (cs' : Nat → List (Nat × Nat)) (cl' : Nat → Bool) (xs' xu' xd' xc' xe' xf' : Int32) (xK' xV' xO' xS' xA' xY' xN' xW' xk' xt' xH' : Nat → Int32) (xq' : Nat → Int64) (xy' xF' xZ' : Nat → Int32), rd_ (cp_ K i f z) (cp_ V i f z) (i + z) false n' cs' cl' l w p xo xb xl xs' xg xu' xd' xc' xe' xp xf' xz xK' xV' xO' xT xS' xA' xY' xN' xW' xk' xt' xH' xn xq' xy' xF' xZ' (cc_ xC0 i z z) xv → xf' = 0 → fi_ (cp_ K i f z) (cp_ V i f z) (i + z) false (cc_ xC0 i z z) → post (xo, xb, xl, xs', xg, xu', xd', xc', xe', xp, xf', xz, xK', xV', xO', xT, xS', xA', xY', xN', xW', xk', xt', xH', xn, xq', xy', xF', xZ', cc_ xC0 i z z, xv)) :
    ∀ (d m : Nat) (cm : Bool) (n : Nat) (cs : Nat → List (Nat × Nat)) (cl : Nat → Bool) (xs xu xd xc xe xf : Int32) (xK xV xO xS xA xY xN xW xk xt xH : Nat → Int32) (xq : Nat → Int64) (xy xF xZ : Nat → Int32), m + d = z → (m = 0 → cm = c) → (0 < m → cm = false) →
      rd_ (cp_ K i f m) (cp_ V i f m) (i + m) cm n cs cl l w p xo xb xl xs xg xu xd xc xe xp xf xz xK xV xO xT xS xA xY xN xW xk xt xH xn xq xy xF xZ (cc_ xC0 i z m) xv → xf = 0 → fi_ (cp_ K i f m) (cp_ V i f m) (i + m) cm (cc_ xC0 i z m) →
      wX_readReference_48 post (nI f) (nI z) (nI (i + z - 1)) (d + 1) (nI m) xo xb xl xs xg xu xd xc xe xp xf xz xK xV xO xT xS xA xY xN xW xk xt xH xn xq xy xF xZ (cc_ xC0 i z m) xv := by
  intro d
  induction d with
  | zero =>
    intro m cm n cs cl xs xu xd xc xe xf xK xV xO xS xA xY xN xW xk xt xH xq xy xF xZ hm hcm hcm2 R hf F
    have : m = z := by omega
    subst this
    have hcf := hcm2 hz
    subst hcf
    have hl48 := R.2.2.2.1
    have hil := R.2.2.1
    exact br_t (nI_le (Nat.le_refl _) (by omega)) (HB n cs cl xs xu xd xc xe xf xK xV xO xS xA xY xN xW xk xt xH xq xy xF xZ R hf F)
  | succ d ih =>
    intro m cm n cs cl xs xu xd xc xe xf xK xV xO xS xA xY xN xW xk xt xH xq xy xF xZ hm hcm hcm2 R hf F
    have hl48 := R.2.2.2.1
    have hil := R.2.2.1
    have hk := R.2.2.2.2.2.2.2.1 (f + m) (by omega)
    rw [cp_lt (show f + m < i by omega), cp_lt (show f + m < i by omega)] at hk
    have hvr := (hw0 (f + m) (by omega)).1
    have hvf : vp_in (nI f + nI m) 48 := by rw [nI_add]; exact vp_in_nI (by omega) (by omega)
    refine br_f (nI_ge (by omega) (by omega)) (br_t hf ⟨hvf, hvf, ?_⟩)
    rw [nI_add, nI_clamp (by omega), hk.1, hk.2.1]
    refine zq_ac2 R F hf (fun q => ?_) hvr (fun hno => nm_r (nI_1 m) ?_) ?_
    · by_cases m0 : m = 0
      · subst m0
        rw [hcm rfl] at q
        exact hkf q
      · have := hcm2 (by omega)
        rw [this] at q; exact absurd q (by decide)
    · have h1 := HF m (by omega) (Or.inl hno) xs xu xd xc xe 1 xK xV xO xS xA xY xN xW xk xt xH xq xy xF xZ (cc_ xC0 i z m) rfl
      cases d with
      | zero => exact br_t (nI_le (by omega) (by omega)) h1
      | succ d => exact br_f (nI_ge (by omega) (by omega)) (br_f (by decide) h1)
    · intro hl hft n' cs' cl' xs' xu' xd' xc' xe' xf' xK' xV' xO' xS' xA' xY' xN' xW' xk' xt' xH' xq' xy' xF' xZ' R' hfx
      rw [cp_s, cp_s, cc_s] at hfx
      rw [cp_s, cp_s] at R'
      rw [cc_s] at R' ⊢
      refine nm_r (nI_1 m) ?_
      rcases hfx with ⟨e0, F'⟩ | ⟨e1, hbd⟩
      · exact ih (m + 1) false n' cs' cl' xs' xu' xd' xc' xe' xf' xK' xV' xO' xS' xA' xY' xN' xW' xk' xt' xH' xq' xy' xF' xZ' (by omega) (fun z => by omega) (fun _ => rfl) R' e0 F'
      · have h1 := HF m (by omega) (Or.inr hbd) xs' xu' xd' xc' xe' xf' xK' xV' xO' xS' xA' xY' xN' xW' xk' xt' xH' xq' xy' xF' xZ' (cc_ xC0 i z (m + 1)) e1
        cases d with
        | zero => exact br_t (nI_le (by omega) (by omega)) h1
        | succ d => exact br_f (nI_ge (by omega) (by omega)) (br_f (by rw [e1]; decide) h1)
theorem zq_48z {post : SX → Prop} {f z : Nat} (hfz : f + z ≤ i) (hz : 0 < z) (hkf : c = true → K f ≠ 1 ∧ K f ≠ 3) (R : rd_ K V i c n cs cl l w p xo xb xl xs xg xu xd xc xe xp xf xz xK xV xO xT xS xA xY xN xW xk xt xH xn xq xy xF xZ xC xv) (h0 : xf = 0) (F : fi_ K V i c xC)
    (HF : ∀ m, m < z → ((i + m < l → ¬ ft_ (cp_ K i f m) (i + m) (K (f + m)) (V (f + m))) ∨ bd2_ (cp_ K i f (m + 1)) (cp_ V i f (m + 1)) (i + m) (cc_ xC i z (m + 1))) → ∀ (xs' xu' xd' xc' xe' xf' : Int32) (xK' xV' xO' xS' xA' xY' xN' xW' xk' xt' xH' : Nat → Int32) (xq' : Nat → Int64) (xy' xF' xZ' : Nat → Int32) (xC' : Nat → Int32), xf' = 1 → post (xo, xb, xl, xs', xg, xu', xd', xc', xe', xp, xf', xz, xK', xV', xO', xT, xS', xA', xY', xN', xW', xk', xt', xH', xn, xq', xy', xF', xZ', xC', xv))
    (HB : ∀ (n' : Nat) (cs' : Nat → List (Nat × Nat)) (cl' : Nat → Bool) (xs' xu' xd' xc' xe' xf' : Int32) (xK' xV' xO' xS' xA' xY' xN' xW' xk' xt' xH' : Nat → Int32) (xq' : Nat → Int64) (xy' xF' xZ' : Nat → Int32), rd_ (cp_ K i f z) (cp_ V i f z) (i + z) false n' cs' cl' l w p xo xb xl xs' xg xu' xd' xc' xe' xp xf' xz xK' xV' xO' xT xS' xA' xY' xN' xW' xk' xt' xH' xn xq' xy' xF' xZ' (cc_ xC i z z) xv → xf' = 0 → fi_ (cp_ K i f z) (cp_ V i f z) (i + z) false (cc_ xC i z z) → post (xo, xb, xl, xs', xg, xu', xd', xc', xe', xp, xf', xz, xK', xV', xO', xT, xS', xA', xY', xN', xW', xk', xt', xH', xn, xq', xy', xF', xZ', cc_ xC i z z, xv)) :
    wX_readReference_48 post (nI f) (nI z) (nI (i + z - 1)) (z + 1) 0 xo xb xl xs xg xu xd xc xe xp xf xz xK xV xO xT xS xA xY xN xW xk xt xH xn xq xy xF xZ xC xv := by
  have h := zq_48 (xC0 := xC) hfz hz hkf R.1 HF HB z 0 c n cs cl xs xu xd xc xe xf xK xV xO xS xA xY xN xW xk xt xH xq xy xF xZ (by omega) (fun _ => rfl) (fun q => by omega) (by rw [cp_0, cp_0]; exact R) h0 (by rw [cp_0, cp_0, cc_0]; exact F)
  rw [cc_0] at h
  exact h
end
end
section
/-! the output up to a node, with and without the E of the last name -/
def pdv_ (kn : Nat → Nat) (e : Nat) : Bool := decide (gn_ kn e = e ∧ kn e = 0)
def pd_ (K : Nat → Nat) (kn : Nat → Nat) (nf : Nat → Bool) : Nat → Bool
  | 0 => false
  | e + 1 => pdv_ kn e && (eb_ K (e + 1) && nf ((sk_ K (e + 1)).headD 0))
def gz_ (K V : Nat → Nat) (kn kt : Nat → Nat) (nf : Nat → Bool) (e : Nat) : List Nat :=
  if gn_ kn e = e then go_ K V kn kt nf e ++ ((if nf e = true then [78] else []) ++ (if kn e = 0 then pe_ K V e else 83 :: nu_ (kt e) 36)) else go_ K V kn kt nf e
def gy_ (K V : Nat → Nat) (kn kt : Nat → Nat) (nf : Nat → Bool) (c : Bool) : Nat → List Nat
  | 0 => [95, 90]
  | e + 1 => gz_ K V kn kt nf e ++ (if (c && pd_ K kn nf (e + 1)) = true then [69] else [])
theorem go_gz {K V : Nat → Nat} {kn kt : Nat → Nat} {nf : Nat → Bool} {e : Nat} : go_ K V kn kt nf (e + 1) = gz_ K V kn kt nf e ++ (if (pd_ K kn nf (e + 1) && decide (K (e + 1) ≠ 1 ∧ K (e + 1) ≠ 3)) = true then [69] else []) := by
  show (if _ then _ else _) = _
  unfold gz_ gv_
  by_cases h : gn_ kn e = e
  · rw [if_pos h, if_pos h]
    by_cases hk : kn e = 0
    · rw [if_pos hk, if_pos hk]
      have : pd_ K kn nf (e + 1) = (eb_ K (e + 1) && nf ((sk_ K (e + 1)).headD 0)) := by
        show (pdv_ kn e && _) = _
        unfold pdv_; rw [decide_eq_true ⟨h, hk⟩, Bool.true_and]
      rw [this]
      have e2 : ec_ K nf e = ((eb_ K (e + 1) && nf ((sk_ K (e + 1)).headD 0)) && decide (K (e + 1) ≠ 1 ∧ K (e + 1) ≠ 3)) := by
        unfold ec_; rw [Bool.and_assoc]
      rw [e2]
      simp only [List.append_assoc]
    · rw [if_neg hk, if_neg hk]
      have : pd_ K kn nf (e + 1) = false := by
        show (pdv_ kn e && _) = _
        unfold pdv_; rw [decide_eq_false (fun z => hk z.2), Bool.false_and]
      rw [this, Bool.false_and, if_neg (c := false = true) (by decide), List.append_nil]
  · rw [if_neg h, if_neg h]
    have : pd_ K kn nf (e + 1) = false := by
      show (pdv_ kn e && _) = _
      unfold pdv_; rw [decide_eq_false (fun z => h z.1), Bool.false_and]
    rw [this, Bool.false_and, if_neg (by decide), List.append_nil]
theorem gy_go {K V : Nat → Nat} {kn kt : Nat → Nat} {nf : Nat → Bool} {c : Bool} {i : Nat} (h : i = 0 ∨ ((K i = 1 ∨ K i = 3) ∧ c = false) ∨ (K i ≠ 1 ∧ K i ≠ 3 ∧ (c = true ∨ pd_ K kn nf i = false))) : gy_ K V kn kt nf c i = go_ K V kn kt nf i := by
  cases i with
  | zero => rfl
  | succ e =>
    rw [go_gz]
    show gz_ K V kn kt nf e ++ _ = _
    rcases h with h | ⟨h, hc⟩ | ⟨h1, h3, h⟩
    · omega
    · rw [hc, decide_eq_false (by omega), Bool.and_false, Bool.false_and]
    · rw [decide_eq_true ⟨h1, h3⟩, Bool.and_true]
      rcases h with h | h
      · rw [h, Bool.true_and]
      · rw [h, Bool.and_false]
theorem go_pre {K V : Nat → Nat} {kn kt : Nat → Nat} {nf : Nat → Bool} {i : Nat} : ∀ {j : Nat}, i ≤ j → go_ K V kn kt nf i <+: go_ K V kn kt nf j := by
  intro j
  induction j with
  | zero => intro h; rw [show i = 0 by omega]; exact List.prefix_refl _
  | succ j ih =>
    intro h
    by_cases z : i = j + 1
    · rw [z]; exact List.prefix_refl _
    · refine (ih (by omega)).trans ?_
      show _ <+: (if _ then _ else _)
      by_cases q : gn_ kn j = j
      · rw [if_pos q]; exact List.prefix_append _ _
      · rw [if_neg q]; exact List.prefix_refl _
theorem pr_of {w a b : List Nat} (h : a ++ b <+: w) : pr_ w a.length b := by
  obtain ⟨r, rfl⟩ := h
  intro j c hj
  have hl := (List.getElem?_eq_some_iff.mp hj).1
  rw [List.append_assoc, List.getElem?_append_right (by omega), show a.length + j - a.length = j by omega, List.getElem?_append_left hl]
  exact hj
/-- components inside a component end within it -/
theorem pp_lamc {K V : Nat → Nat} {n j p s e : Nat} (hw : wf_ K V n) (hp : p < n) (he : e < n) (hj : j ∈ pp_ K p) (h1 : j < s) (h2 : s ≤ p) (hs : s ∈ pp_ K e) : e ≤ p := by
  apply Classical.byContradiction
  intro hne
  have hkp : ka_w (K p) = false := by
    rcases (pp_iff hw hp).mp hj with ⟨c, a, b, d, f⟩ | ⟨_, z, _, _⟩
    · rcases d with ⟨d1, d2⟩ | ⟨d1, d2, d3⟩ | ⟨d1, d2, d3, d4, d5⟩
      · rw [d2, d1]; rfl
      · rw [d2]; rfl
      · rcases en_ne hw hp d2 with q | q
        · rw [ka_wn]; omega
        · rw [q.1]; rfl
    · rcases en_ne hw hp z with q | q
      · rw [ka_wn]; omega
      · rw [q.1]; rfl
  by_cases hep : e = p + 1
  · subst hep
    rcases (pp_iff hw he).mp hs with ⟨c, a, b, d, f⟩ | ⟨hh, z, hd, _⟩
    · have hcp : c ≤ p := by
        rcases Nat.lt_or_ge p c with q | q
        · have := b p h2 q
          rw [hkp] at this; exact absurd this (by decide)
        · exact q
      rcases d with ⟨d1, d2⟩ | ⟨d1, d2, d3⟩ | ⟨d1, d2, d3, d4, d5⟩
      · omega
      · -- FUNC: it is on the closed stack
        obtain ⟨r, ec, hsf, ho, hf, hol⟩ := end_top hw he d2
        have hin : c ∈ sk_c K (sk_ K (p + 1)) := by rw [ec, d3]; simp
        have hall : ∀ y, y ∈ sk_c K (sk_ K (p + 1)) → y ≤ j := by
          intro y hy
          have hg1 := gs_pw (si_all hw (p + 1) (by omega)).1
          have hg0 := gs_pw (si_all hw p (by omega)).1
          rcases (pp_iff hw hp).mp hj with ⟨c', a', b', d', f'⟩ | ⟨_, he', hh', _⟩
          · rcases d' with ⟨g1, g2⟩ | ⟨g1, g2, g3⟩ | ⟨g1, g2, g3, g4, g5⟩
            · subst g2
              have hb := bt_op hw hp g1
              have hy' := (sk_c_suf K _).subset hy
              rw [sk_s4 g1] at hy'
              have hjt : j ∈ sk_t K (sk_c K (sk_ K p)) := (rn_ hw p j (by omega) hb.2 hb.1).mpr ⟨by omega, b'⟩
              have hpw : (sk_t K (sk_c K (sk_ K p)) ++ sk_w K (sk_c K (sk_ K p))).Pairwise (fun a b => b < a) := by rw [sk_tw]; exact hg0.sublist (sk_c_suf K _).sublist
              have := pw_lt hpw hjt hy'
              omega
            · obtain ⟨r2, ec2, es2, ho2, hf2, hol2⟩ := end_top hw hp g2
              have hy' := (sk_c_suf K _).subset hy
              rw [sk_s11 g2, ec2] at hy'
              have e3 : sk_e K (op_ K p :: r2) = sk_w K r2 := by show (if _ then _ else _) = _; rw [if_pos (by rw [g3]; exact g1)]
              rw [e3] at hy'
              have hpw := hg0.sublist es2.sublist
              by_cases zz : j = c'
              · have := (List.pairwise_cons.mp hpw).1 y ((sk_w_suf K r2).subset hy')
                omega
              · have hjt : j ∈ sk_t K r2 := (nr_run hw (i := p) (by omega) es2 (Or.inr (Or.inr (by rw [g3]; exact g1)))).mpr ⟨by omega, by rw [g3]; exact b'⟩
                have hpw2 := (List.pairwise_cons.mp hpw).2
                rw [← sk_tw K r2] at hpw2
                have := pw_lt hpw2 hjt hy'
                omega
            · obtain ⟨t, r2, es2, ht2, _⟩ := en_top hw (i := p + 1) (by omega) g2
              have htc : t = c' := by rw [es2] at g3; exact Option.some.inj g3
              subst htc
              rw [es2] at hg1
              rw [es2, sk_c_h ht2] at hy
              by_cases zz : j = t
              · have := (List.pairwise_cons.mp hg1).1 y ((sk_w_suf K r2).subset hy); omega
              · have hjt : j ∈ sk_t K r2 := (nr_run hw (i := p + 1) (by omega) (by rw [es2]; exact List.suffix_refl _) (Or.inl ht2)).mpr ⟨by omega, b'⟩
                have hpw2 := (List.pairwise_cons.mp hg1).2
                rw [← sk_tw K r2] at hpw2
                have := pw_lt hpw2 hjt hy
                omega
          · have hy' := (sk_c_suf K _).subset hy
            cases es2 : sk_ K (p + 1) with
            | nil => rw [es2] at hy'; exact absurd hy' (by simp)
            | cons t r2 =>
              rw [es2] at hy' hh' hg1
              have : t = j := Option.some.inj hh'
              subst this
              rcases List.mem_cons.mp hy' with y1 | y1
              · omega
              · have := (List.pairwise_cons.mp hg1).1 y y1; omega
        have := hall c hin
        omega
      · exact pp_lam (x := c) (q := p + 2) hw hp hj (by omega) hcp (Nat.le_refl _) (sk_hm d3)
    · exact pp_lam (x := s) (q := p + 2) hw hp hj h1 h2 (Nat.le_refl _) (sk_hm hd)
  · exact pp_lam (x := s) (q := p + 2) hw hp hj h1 h2 (Nat.le_refl _) (pp_on hw he hs (by omega) (by omega))
/-- what D knows lies within its references -/
theorem kl_ge {K V : Nat → Nat} {n s e : Nat} (hw : wf_ K V n) (he : e < n) (hs : s ∈ pp_ K e) (hk : kw_ K V (tb_ K V e) s e = true) : kl_ K V s n ≠ 0 ∧ e + 1 ≤ s + kl_ K V s n := by
  by_cases h0 : kl_ K V s n = 0
  · exact absurd ⟨hs, hk⟩ (kl_no hw (Nat.le_refl _) h0 e he)
  · refine ⟨h0, ?_⟩
    obtain ⟨e', a, b, c, d, f, g⟩ := kl_in hw (Nat.le_refl _) h0
    rcases Nat.lt_or_ge e' e with z | z
    · exact absurd ⟨hs, hk⟩ (g e z he)
    · omega
theorem gd_ {K V : Nat → Nat} {n s e i : Nat} {xC : Nat → Int32} (hw : wf_ K V n) (hn : n ≤ 48) (hi : i < n) (H : ∀ j, gn_ (fun s => kl_ K V s n) j = j → kl_ K V j n ≠ 0 → ∀ x, j ≤ x → x < j + kl_ K V j n → x ≤ i → xC x = nI (j + kl_ K V j n - 1))
    (he : e ≤ i) (hs : s ∈ pp_ K e) (hk : kw_ K V (tb_ K V e) s e = true) : nI e ≤ xC s := by
  have hse := pp_le hw (by omega) hs
  have hkl := kl_ge hw (by omega) hs hk
  have hkc := kc_kl hw
  by_cases hv : gn_ (fun s => kl_ K V s n) s = s
  · have hb : s + kl_ K V s n ≤ n := (hkc s (by omega) hkl.1).1
    rw [H s hv hkl.1 s (Nat.le_refl _) (by omega) (by omega)]
    exact nI_le (by omega) (by omega)
  · obtain ⟨j, a, b, d⟩ := gn_skip hv
    have hge := gn_ge (fun s => kl_ K V s n) s
    have hkj : kl_ K V j n ≠ 0 := by
      intro z
      have : m1_ (kl_ K V j n) = 1 := by unfold m1_; rw [if_pos z]
      have : gn_ (fun s => kl_ K V s n) s = j + m1_ (kl_ K V j n) := d
      omega
    have hm : m1_ (kl_ K V j n) = kl_ K V j n := by unfold m1_; rw [if_neg hkj]
    have d' : gn_ (fun s => kl_ K V s n) s = j + kl_ K V j n := by rw [← hm]; exact d
    have hcj : j + kl_ K V j n ≤ n ∧ j ∈ pp_ K (j + kl_ K V j n - 1) := hkc j (by omega) hkj
    have := pp_lamc (s := s) hw (by omega) (by omega) hcj.2 a (by omega) hs
    rw [H j b hkj s (by omega) (by omega) (by omega)]
    exact nI_le (by omega) (by omega)
/-! first characters -/
theorem id_fc (v : Nat) : ∃ a r, id_ v = a :: r ∧ (a = 49 ∨ a = 50) := by
  unfold id_
  by_cases h : v < 26
  · rw [if_pos h]; exact ⟨_, _, rfl, Or.inl rfl⟩
  · rw [if_neg h]; exact ⟨_, _, rfl, Or.inr rfl⟩
theorem ql_fc {v : Nat} (h0 : 0 < v) (h8 : v < 8) : ∃ a r, ql_ v = a :: r ∧ (a = 114 ∨ a = 86 ∨ a = 75) := by
  obtain e | e | e | e | e | e | e : v = 1 ∨ v = 2 ∨ v = 3 ∨ v = 4 ∨ v = 5 ∨ v = 6 ∨ v = 7 := by omega
  all_goals subst e
  · exact ⟨75, _, rfl, by omega⟩
  · exact ⟨86, _, rfl, by omega⟩
  · exact ⟨86, _, rfl, by omega⟩
  · exact ⟨114, _, rfl, by omega⟩
  · exact ⟨114, _, rfl, by omega⟩
  · exact ⟨114, _, rfl, by omega⟩
  · exact ⟨114, _, rfl, by omega⟩
theorem lb_fc {v : Nat} (h : v < 8) : lb_ v ≠ 73 ∧ lb_ v ≠ 69 ∧ lb_ v ≠ 86 ∧ lb_ v ≠ 75 ∧ lb_ v ≠ 114 ∧ lb_ v ≠ 78 ∧ (lb_ v = 118 → v = 0) ∧ ∀ k, k = 5 ∨ k = 6 ∨ k = 7 ∨ k = 9 → lb_ v ≠ ol_ k := by
  obtain e | e | e | e | e | e | e | e : v = 0 ∨ v = 1 ∨ v = 2 ∨ v = 3 ∨ v = 4 ∨ v = 5 ∨ v = 6 ∨ v = 7 := by omega
  all_goals (subst e; refine ⟨by decide, by decide, by decide, by decide, by decide, by decide, by decide, fun k hk => ?_⟩; rcases hk with h | h | h | h <;> subst h <;> decide)
/-- a type begins with none of I, E, and with v only if it is void -/
theorem ty_fc {K V : Nat → Nat} {n i : Nat} {kn kt : Nat → Nat} {nf : Nat → Bool} (hw : wf_ K V n) (hi : i < n) (hk : ka_h (K i) = true ∨ ka_w (K i) = true ∨ K i = 4 ∨ K i = 9) :
    ∃ a r, gv_ K V kn kt nf i = a :: r ∧ a ≠ 73 ∧ a ≠ 69 ∧ (a = 118 → K i = 4 ∧ V i = 0) ∧ ((a = 86 ∨ a = 75 ∨ a = 114) → K i = 8) := by
  unfold gv_
  by_cases h1 : nf i = true
  · rw [if_pos h1]; exact ⟨78, _, rfl, by decide, by decide, fun z => absurd z (by decide), fun z => by omega⟩
  rw [if_neg h1, List.nil_append]
  by_cases h2 : kn i = 0
  · rw [if_pos h2]
    have hV := (hw i hi).1.2.1
    rw [ka_hi, ka_wi] at hk
    unfold pe_
    by_cases q1 : K i ≤ 1
    · rw [if_pos q1]
      obtain ⟨a, r, e, h⟩ := id_fc (V i)
      rw [e]; exact ⟨a, _, rfl, by omega, by omega, by omega, by omega⟩
    rw [if_neg q1]
    by_cases q8 : K i = 8
    · rw [if_pos q8]
      obtain ⟨a, r, e, h⟩ := ql_fc (v := V i) ((hw i hi).1.2.2 q8) (by rw [q8] at hV; exact Nat.lt_succ_of_le hV)
      rw [e]; exact ⟨a, _, rfl, by omega, by omega, by omega, fun _ => q8⟩
    rw [if_neg q8, if_neg (by omega)]
    by_cases q2 : K i = 2
    · rw [if_pos q2]; exact ⟨84, _, rfl, by decide, by decide, fun z => absurd z (by decide), fun z => by omega⟩
    rw [if_neg q2, if_neg (by omega)]
    by_cases q4 : K i = 4
    · rw [if_pos q4]
      have := lb_fc (v := V i) (by rw [q4] at hV; exact Nat.lt_succ_of_le hV)
      exact ⟨lb_ (V i), _, rfl, this.1, this.2.1, fun z => ⟨q4, this.2.2.2.2.2.2.1 z⟩, fun z => by omega⟩
    · rw [if_neg q4]
      refine ⟨ol_ (K i), _, rfl, ?_⟩
      obtain e | e | e | e : K i = 5 ∨ K i = 6 ∨ K i = 7 ∨ K i = 9 := by omega
      all_goals (rw [e]; exact ⟨by decide, by decide, fun z => absurd z (by decide), fun z => absurd z (by decide)⟩)
  · rw [if_neg h2]; exact ⟨83, _, rfl, by decide, by decide, fun z => absurd z (by decide), fun z => by omega⟩
end
section
/-! X reads the symbol of given nodes: pure part -/
def tr_ (K : Nat → Nat) (i : Nat) : Nat → Nat := fun j => if j < i then K j else 11
theorem tr_lt {K : Nat → Nat} {i : Nat} : ∀ j, j < i → tr_ K i j = K j := fun j h => if_pos h
theorem tr_ge {K : Nat → Nat} {i : Nat} : ∀ j, i ≤ j → tr_ K i j = 11 := fun j h => if_neg (by omega)
theorem tr_s {K : Nat → Nat} {i : Nat} : un_ (tr_ K i) i (K i) = tr_ K (i + 1) := by
  funext j; unfold un_ tr_
  by_cases h : j = i
  · rw [if_pos h, if_pos (by omega), h]
  · rw [if_neg h]
    by_cases h2 : j < i
    · rw [if_pos h2, if_pos (by omega)]
    · rw [if_neg h2, if_neg (by omega)]
theorem un_self {F : Nat → Nat} {i : Nat} : un_ F i (F i) = F := by
  funext j; unfold un_
  by_cases h : j = i
  · rw [if_pos h, h]
  · rw [if_neg h]
theorem tr_cp {K : Nat → Nat} {i f m : Nat} (h : ∀ x, x < m → K (i + x) = K (f + x)) (hf : f + m ≤ i) : cp_ (tr_ K i) i f m = tr_ K (i + m) := by
  funext j; unfold cp_ tr_
  by_cases h1 : i ≤ j ∧ j < i + m
  · rw [if_pos h1, if_pos (by omega), if_pos (by omega)]
    have := h (j - i) (by omega)
    rw [show i + (j - i) = j by omega] at this; exact this.symm
  · rw [if_neg h1]
    by_cases h2 : j < i
    · rw [if_pos h2, if_pos (by omega)]
    · rw [if_neg h2, if_neg (by omega)]
theorem V_cp {V : Nat → Nat} {i f m : Nat} (h : ∀ x, x < m → V (i + x) = V (f + x)) : cp_ V i f m = V := by
  funext j; unfold cp_
  by_cases h1 : i ≤ j ∧ j < i + m
  · rw [if_pos h1]
    have := h (j - i) (by omega)
    rw [show i + (j - i) = j by omega] at this; exact this.symm
  · rw [if_neg h1]
/-- how the reader stands before node i of D -/
def rb_ (K V : Nat → Nat) (N : Nat) (i : Nat) (c : Bool) (p : Nat) (xn xC : Nat → Int32) : Prop :=
  i ≤ N ∧ gn_ (fun s => kl_ K V s N) i = i ∧ p = (gy_ K V (fun s => kl_ K V s N) (kt_ K V N) (nf_ K V N) c i).length ∧ (c = true → K i ≠ 1 ∧ K i ≠ 3) ∧
  (∀ j, j < i → gn_ (fun s => kl_ K V s N) j = j → (kl_ K V j N = 0 → xC j = -1) ∧ (kl_ K V j N ≠ 0 → ∀ x, j ≤ x → x < j + kl_ K V j N → xC x = nI (j + kl_ K V j N - 1))) ∧
  (∀ s, s < i → gn_ (fun s => kl_ K V s N) s = s → ka_h (K s) = true → xn s = if nf_ K V N s = true then 1 else 0) ∧
  (c = false → en_ K i → ∀ s r, sk_ K i = s :: r → gn_ (fun s => kl_ K V s N) s = s)
section
variable {K V : Nat → Nat} {N i : Nat} {c : Bool} {p : Nat} {xn xC : Nat → Int32}
/-- after a node that is spelled out -/
theorem rb_sp {xn' : Nat → Int32} (hw : wf_ K V N) (hi : i < N) (B : rb_ K V N i c p xn xC) (hk : kl_ K V i N = 0) (hgy : gy_ K V (fun s => kl_ K V s N) (kt_ K V N) (nf_ K V N) c i = go_ K V (fun s => kl_ K V s N) (kt_ K V N) (nf_ K V N) i)
    (hn1 : ∀ s, s < i → xn' s = xn s) (hn2 : ka_h (K i) = true → xn' i = if nf_ K V N i = true then 1 else 0) :
    rb_ K V N (i + 1) false (p + ((if nf_ K V N i = true then [78] else []) ++ pe_ K V i).length) xn' (upd xC i (-1)) := by
  obtain ⟨b1, b2, b3, b4, b5, b6, b7⟩ := B
  have hm : m1_ (kl_ K V i N) = 1 := by unfold m1_; rw [if_pos hk]
  have hg : gn_ (fun s => kl_ K V s N) (i + 1) = i + 1 := by rw [gn_t b2]; show i + m1_ (kl_ K V i N) = _; rw [hm]
  refine ⟨by omega, hg, ?_, fun z => absurd z (by decide), ?_, ?_, ?_⟩
  · show _ = (gz_ K V _ _ _ i ++ (if (false && _) = true then [69] else [])).length
    rw [Bool.false_and, if_neg (c := false = true) (by decide), List.append_nil]
    unfold gz_
    rw [if_pos b2, if_pos hk, b3, hgy]
    simp only [List.length_append]
  · intro j hj hv
    by_cases z : j = i
    · subst z
      exact ⟨fun _ => pk_us, fun q => absurd hk q⟩
    · have := b5 j (by omega) hv
      refine ⟨fun q => by rw [pk_un z]; exact this.1 q, fun q x a b => ?_⟩
      have hx : x ≠ i := by
        intro y
        subst y
        have hgv := gn_vis hv (show j < x by omega)
        have hm2 : m1_ (kl_ K V j N) = kl_ K V j N := by unfold m1_; rw [if_neg q]
        have : j + m1_ (kl_ K V j N) ≤ gn_ (fun s => kl_ K V s N) x := hgv
        omega
      rw [pk_un hx]; exact this.2 q x a b
  · intro s hs hv hh
    by_cases z : s = i
    · subst z; exact hn2 hh
    · rw [hn1 s (by omega)]; exact b6 s (by omega) hv hh
  · intro _ he s r es
    have hos : oe_ K s i = true := oe_i.mpr ⟨he, by rw [es]; rfl⟩
    have hsi := (oe_h hw hos hi).2
    by_cases z : s = i
    · subst z; exact b2
    · exact (gn_own hw hi (kc_kl hw) b2 hos (by omega)).1
/-- after a back reference -/
theorem rb_rf {xn' xC' : Nat → Int32} (hw : wf_ K V N) (hi : i < N) (B : rb_ K V N i c p xn xC) (hk : kl_ K V i N ≠ 0) (hgy : gy_ K V (fun s => kl_ K V s N) (kt_ K V N) (nf_ K V N) c i = go_ K V (fun s => kl_ K V s N) (kt_ K V N) (nf_ K V N) i)
    (hn1 : ∀ s, s < i → xn' s = xn s) (hn2 : ka_h (K i) = true → xn' i = if nf_ K V N i = true then 1 else 0) (hx1 : ∀ j, j < i → xC' j = xC j) (hx2 : ∀ j, i ≤ j → j < i + kl_ K V i N → xC' j = nI (i + kl_ K V i N - 1))
    (c' : Bool) (hc' : c' = true → K (i + kl_ K V i N) ≠ 1 ∧ K (i + kl_ K V i N) ≠ 3) (hh : c' = false → en_ K (i + kl_ K V i N) → ka_h (K i) = true) :
    rb_ K V N (i + kl_ K V i N) c' (p + ((if nf_ K V N i = true then [78] else []) ++ 83 :: nu_ (kt_ K V N i) 36).length) xn' xC' := by
  obtain ⟨b1, b2, b3, b4, b5, b6, b7⟩ := B
  have hkc := kc_kl hw i hi hk
  have hkc1 : i + kl_ K V i N ≤ N := hkc.1
  have hkc2 : i ∈ pp_ K (i + kl_ K V i N - 1) := hkc.2
  have hm : m1_ (kl_ K V i N) = kl_ K V i N := by unfold m1_; rw [if_neg hk]
  have hgi : gn_ (fun s => kl_ K V s N) (i + 1) = i + kl_ K V i N := by rw [gn_t b2]; show i + m1_ (kl_ K V i N) = _; rw [hm]
  have hskip : ∀ d, i + 1 + d ≤ i + kl_ K V i N → gn_ (fun s => kl_ K V s N) (i + 1 + d) = i + kl_ K V i N ∧ go_ K V (fun s => kl_ K V s N) (kt_ K V N) (nf_ K V N) (i + 1 + d) = go_ K V (fun s => kl_ K V s N) (kt_ K V N) (nf_ K V N) (i + 1) := by
    intro d
    induction d with
    | zero => intro _; exact ⟨hgi, rfl⟩
    | succ d ih =>
      intro hd
      have := ih (by omega)
      have hne : gn_ (fun s => kl_ K V s N) (i + 1 + d) ≠ i + 1 + d := by omega
      refine ⟨by rw [show i + 1 + (d + 1) = i + 1 + d + 1 by omega, gn_f hne, this.1], ?_⟩
      rw [show i + 1 + (d + 1) = i + 1 + d + 1 by omega]
      show (if _ then _ else _) = _
      rw [if_neg hne, this.2]
  have hend := hskip (kl_ K V i N - 1) (by omega)
  rw [show i + 1 + (kl_ K V i N - 1) = i + kl_ K V i N by omega] at hend
  -- the last node of the reference
  obtain ⟨e, he⟩ : ∃ e, i + kl_ K V i N = e + 1 := ⟨i + kl_ K V i N - 1, by omega⟩
  have hpdv : pdv_ (fun s => kl_ K V s N) e = false := by
    unfold pdv_
    apply decide_eq_false
    intro z
    by_cases y : e = i
    · subst y; exact hk z.2
    · have := (hskip (e - i - 1) (by omega)).1
      rw [show i + 1 + (e - i - 1) = e by omega] at this
      omega
  have hpd : pd_ K (fun s => kl_ K V s N) (nf_ K V N) (i + kl_ K V i N) = false := by
    rw [he]; show (pdv_ _ e && _) = false; rw [hpdv, Bool.false_and]
  have hgyE : gy_ K V (fun s => kl_ K V s N) (kt_ K V N) (nf_ K V N) c' (i + kl_ K V i N) = go_ K V (fun s => kl_ K V s N) (kt_ K V N) (nf_ K V N) (i + 1) := by
    rw [he]
    show gz_ K V _ _ _ e ++ (if (c' && pd_ K _ _ (e + 1)) = true then [69] else []) = _
    rw [← he, hpd, Bool.and_false, if_neg (by decide), List.append_nil, ← hend.2, he, go_gz, ← he, hpd, Bool.false_and, if_neg (by decide), List.append_nil]
  refine ⟨hkc1, hend.1, ?_, hc', ?_, ?_, ?_⟩
  · rw [hgyE]
    have hgo1 : go_ K V (fun s => kl_ K V s N) (kt_ K V N) (nf_ K V N) (i + 1) = go_ K V (fun s => kl_ K V s N) (kt_ K V N) (nf_ K V N) i ++ gv_ K V (fun s => kl_ K V s N) (kt_ K V N) (nf_ K V N) i := by
      show (if _ then _ else _) = _; rw [if_pos b2]
    rw [hgo1, b3, hgy]
    unfold gv_
    rw [if_neg hk]
    simp only [List.length_append]
  · intro j hj hv
    rcases Nat.lt_trichotomy j i with z | z | z
    · have := b5 j z hv
      refine ⟨fun q => by rw [hx1 j z]; exact this.1 q, fun q x a b => ?_⟩
      have hgv := gn_vis hv z
      have hm2 : m1_ (kl_ K V j N) = kl_ K V j N := by unfold m1_; rw [if_neg q]
      have : j + m1_ (kl_ K V j N) ≤ gn_ (fun s => kl_ K V s N) i := hgv
      rw [hx1 x (by omega)]; exact (b5 j z hv).2 q x a b
    · subst z
      exact ⟨fun q => absurd q hk, fun _ x a b => hx2 x a b⟩
    · exfalso
      have := (hskip (j - i - 1) (by omega)).1
      rw [show i + 1 + (j - i - 1) = j by omega] at this
      omega
  · intro s hs hv hh'
    rcases Nat.lt_trichotomy s i with z | z | z
    · rw [hn1 s z]; exact b6 s z hv hh'
    · subst z; exact hn2 hh'
    · exfalso
      have := (hskip (s - i - 1) (by omega)).1
      rw [show i + 1 + (s - i - 1) = s by omega] at this
      omega
  · intro hcf hen s r es
    have hih := hh hcf hen
    have h1 := pp_h hw (by omega) hih hkc2
    rw [show i + kl_ K V i N - 1 + 1 = i + kl_ K V i N by omega] at h1
    rw [es] at h1
    have : s = i := Option.some.inj h1.2.1
    rw [this]; exact b2
/-- the name is closed -/
theorem rb_cl (hw : wf_ K V N) (hcm : op_ K N = 0) (B : rb_ K V N i false p xn xC) (hk : K i ≠ 1 ∧ K i ≠ 3) :
    rb_ K V N i true (p + (if pd_ K (fun s => kl_ K V s N) (nf_ K V N) i = true then 1 else 0)) xn xC := by
  obtain ⟨b1, b2, b3, b4, b5, b6, b7⟩ := B
  refine ⟨b1, b2, ?_, fun _ => hk, b5, b6, fun z => absurd z (by decide)⟩
  cases i with
  | zero => rw [b3]; rfl
  | succ e =>
    rw [b3]
    show (gz_ K V _ _ _ e ++ (if (false && _) = true then [69] else [])).length + _ = (gz_ K V _ _ _ e ++ (if (true && _) = true then [69] else [])).length
    rw [Bool.false_and, Bool.true_and, if_neg (show ¬ false = true by decide), List.append_nil, List.length_append]
    by_cases z : pd_ K (fun s => kl_ K V s N) (nf_ K V N) (e + 1) = true
    · rw [if_pos z, if_pos z]; rfl
    · rw [if_neg z, if_neg z]; rfl
/-- the pending E: the flag of the name on top -/
theorem rb_pd (hw : wf_ K V N) (hcm : op_ K N = 0) (hS : K N = 11) (B : rb_ K V N i false p xn xC) (hk : K i ≠ 1 ∧ K i ≠ 3) (hen : en_ K i) {s : Nat} {r : List Nat} (es : sk_ K i = s :: r) :
    pd_ K (fun s => kl_ K V s N) (nf_ K V N) i = nf_ K V N s ∧ s < i ∧ ne_ K s N = i - 1 := by
  obtain ⟨b1, b2, b3, b4, b5, b6, b7⟩ := B
  obtain ⟨e, rfl⟩ : ∃ e, i = e + 1 := ⟨i - 1, by have := hen.1; omega⟩
  have hos : oe_ K s e = true := oe_i.mpr ⟨hen, by rw [es]; rfl⟩
  have hv := b7 rfl hen s r es
  have hsi := (oe_h hw hos (by omega)).2
  have hne := (ne_fx hw hcm hS (i := e) (by omega) hos).mpr hk
  refine ⟨?_, by omega, by rw [hne]; rfl⟩
  show (pdv_ _ e && (eb_ K (e + 1) && nf_ K V N ((sk_ K (e + 1)).headD 0))) = _
  rw [eb_i.mpr hen, es, Bool.true_and]
  show (pdv_ _ e && nf_ K V N s) = _
  cases hnf : nf_ K V N s with
  | false => rw [Bool.and_false]
  | true =>
    rw [Bool.and_true]
    unfold pdv_
    apply decide_eq_true
    have hn := nf_h hw hnf
    rw [hne] at hn
    have hkc := kc_kl hw
    -- e is no part of a reference
    have hno : ∀ j, gn_ (fun s => kl_ K V s N) j = j → kl_ K V j N ≠ 0 → j ≤ e → j + kl_ K V j N = e + 1 → False := by
      intro j hj hkj hje hje2
      have hcj : j ∈ pp_ K (j + kl_ K V j N - 1) := (hkc j (by omega) hkj).2
      rw [show j + kl_ K V j N - 1 = e by omega] at hcj
      rcases Nat.lt_trichotomy s j with z | z | z
      · rcases (pp_iff hw (by omega)).mp hcj with ⟨c2, a2, b2', d2, _⟩ | ⟨_, _, u, _⟩
        · rcases d2 with ⟨d3, d4⟩ | ⟨d3, d4, d5⟩ | ⟨d3, _, d5, _⟩
          · have := en_ne hw (by omega) hen
            rw [d4] at this; omega
          · have := en_ne hw (by omega) hen
            rw [d5] at this; omega
          · rw [es] at d5
            have : s = c2 := Option.some.inj d5
            omega
        · rw [es] at u
          have : s = j := Option.some.inj u
          omega
      · subst z; omega
      · have hm : m1_ (kl_ K V j N) = kl_ K V j N := by unfold m1_; rw [if_neg hkj]
        exact gn_in hj z (by show s < j + m1_ (kl_ K V j N); rw [hm]; omega) hv
    by_cases hve : gn_ (fun s => kl_ K V s N) e = e
    · refine ⟨hve, ?_⟩
      apply Classical.byContradiction
      intro hke
      have hm : m1_ (kl_ K V e N) = kl_ K V e N := by unfold m1_; rw [if_neg hke]
      have hgt := gn_t hve
      rw [b2] at hgt
      have hgt' : e + 1 = e + m1_ (kl_ K V e N) := hgt
      exact hno e hve hke (Nat.le_refl _) (by omega)
    · exfalso
      obtain ⟨j, x, y, z⟩ := gn_skip hve
      have hgf := gn_f hve
      rw [b2] at hgf
      have z' : gn_ (fun s => kl_ K V s N) e = j + m1_ (kl_ K V j N) := z
      have hge := gn_ge (fun s => kl_ K V s N) e
      have hkj : kl_ K V j N ≠ 0 := by
        intro w
        have : m1_ (kl_ K V j N) = 1 := by unfold m1_; rw [if_pos w]
        omega
      have hm : m1_ (kl_ K V j N) = kl_ K V j N := by unfold m1_; rw [if_neg hkj]
      exact hno j y hkj (by omega) (by omega)
end
end
section
/-! X reads the symbol of given nodes: a type, a reference -/
theorem rf_ent {K V : Nat → Nat} {N i : Nat} (hw : wf_ K V N) (hi : i < N) (hk : kl_ K V i N ≠ 0) : ∃ f, (tb_ K V i)[kt_ K V N i]? = some (f, kl_ K V i N) ∧ f + kl_ K V i N ≤ i ∧ sg_ K V f (kl_ K V i N) = sg_ K V i (kl_ K V i N) := by
  obtain ⟨e, a, b, c, d, f, _⟩ := kl_in hw (Nat.le_refl _) hk
  obtain ⟨q, q1, q2⟩ := kw_i.mp c
  obtain ⟨e', s', c1, c2, c3, c4⟩ := tb_mem hw (by omega) q1
  subst c3
  have hz : e' + 1 - s' = e + 1 - i := sg_n q2
  have hle : e' < i := by
    rcases Nat.lt_or_ge e' i with z | z
    · exact z
    · exfalso
      have := pp_lamc (j := s') (p := e') (s := i) (e := e) hw (by omega) a c2 (by omega) z b
      omega
  have hm : (s', e' + 1 - s') ∈ tb_ K V i := tb_old hw (i := e) (by omega) q1 (by show s' + (e' + 1 - s') ≤ i; omega)
  obtain ⟨k, hkl, hke⟩ := List.getElem_of_mem hm
  have hke' : (tb_ K V i)[k]? = some (s', e' + 1 - s') := by rw [← hke]; exact List.getElem?_eq_getElem hkl
  have hN' : (tb_ K V N)[k]? = some (s', e' + 1 - s') := ek_pre (tb_pre (by omega)) hke'
  have hkt := kt_un (s := i) hN' (by rw [d]; exact q2)
  rw [hkt, d, ← hz]
  exact ⟨s', hke', by omega, by rw [hz]; rw [hz] at q2; exact q2⟩
/-- the table that the reader has at node i -/
theorem tr_tb {K V : Nat → Nat} {N i : Nat} {c : Bool} (hw : wf_ K V N) (hi : i < N) (hk : K i ≠ 1 ∧ K i ≠ 3) (hc : c = true ∨ ¬ en_ K i) : tl_ (tr_ K i) V (i - 1) (tb_ (tr_ K i) V (i - 1)) (lp_ (tr_ K i) c i) = tb_ K V i := by
  rw [gc_lp (b := i) tr_lt, gc_tb (b := i) tr_lt (fun _ _ => rfl) (wf_le hw (by omega)) (Nat.le_refl _)]
  cases i with
  | zero => rfl
  | succ e =>
    have hpp := pp_same hw hi hk (c := c) (by
      rcases hc with z | z
      · exact Or.inl z
      · exact Or.inr (pc_n hw (by omega) z))
    rw [hpp]
    exact gc_tl (b := e + 1) tr_lt (fun _ _ => rfl) (by omega) (fun x hx => pp_le hw (by omega) hx) (fun p hp => by have := tb_b hw (i := e) (by omega) hp; omega)
section
variable {xo xb : Int64} {xl xs xg xu xd xc xe xp xf xz : Int32} {xK xV xO xT xS xA xY xN xW xk xt xH xn : Nat → Int32} {xq : Nat → Int64} {xy xF xZ xC xv : Nat → Int32}
variable {K V : Nat → Nat} {N : Nat} {i : Nat} {c : Bool} {n : Nat} {cs : Nat → List (Nat × Nat)} {cl : Nat → Bool} {l : Nat} {w : List Nat} {p : Nat}
theorem zb_bd (hw : wf_ K V N) (hN : N ≤ 48) (hi : i < N) {xC' : Nat → Int32} (H : ∀ j, gn_ (fun s => kl_ K V s N) j = j → kl_ K V j N ≠ 0 → ∀ x, j ≤ x → x < j + kl_ K V j N → x ≤ i → xC' x = nI (j + kl_ K V j N - 1))
    (hb : bd2_ (tr_ K (i + 1)) V i xC') : False := by
  obtain ⟨e, s, hes, hk, hn⟩ := hb
  have hw' := wf_le hw (m := i + 1) (by omega)
  have hs : s ∈ pp_ K e ∧ e ≤ i := by
    rcases hes with ⟨a, b⟩ | ⟨a, b⟩
    · subst a
      rw [gc_pa (b := e + 1) tr_lt (by omega)] at b
      exact ⟨by unfold pp_; rw [List.mem_append]; exact Or.inl b, Nat.le_refl _⟩
    · rw [gc_pp (b := i + 1) tr_lt (by omega)] at b
      exact ⟨b, by omega⟩
  have hsl := pp_le hw (by omega) hs.1
  rw [gc_tb (b := i + 1) tr_lt (fun _ _ => rfl) hw' (by omega), gc_kw (b := i + 1) tr_lt (fun _ _ => rfl) (by omega) hsl (fun p hp => by have := tb_b hw (i := e) (by omega) hp; omega)] at hk
  exact hn (gd_ hw hN hi H hs.2 hs.1 hk)
theorem zb_bd3 (hw : wf_ K V N) (hN : N ≤ 48) (hi : i ≤ N) (h0 : 0 < i) (hk13 : K i ≠ 1 ∧ K i ≠ 3) {xC' : Nat → Int32} (H : ∀ j, gn_ (fun s => kl_ K V s N) j = j → kl_ K V j N ≠ 0 → ∀ x, j ≤ x → x < j + kl_ K V j N → x ≤ i - 1 → xC' x = nI (j + kl_ K V j N - 1))
    (hb : bd3_ (tr_ K i) V i xC') : False := by
  obtain ⟨e, s, hei, hs, hk, hn⟩ := hb
  subst hei
  have hw' := wf_le hw (m := e + 1) (by omega)
  have e1 : pp_ (tr_ K (e + 1)) e = pp_ K e := by
    unfold pp_ pb_
    rw [tr_ge (e + 1) (Nat.le_refl _), if_neg (by decide), if_neg (by omega), gc_pa (b := e + 1) tr_lt (by omega), gc_pc (b := e + 1) tr_lt (by omega)]
  rw [e1] at hs
  have hsl := pp_le hw (by omega) hs
  rw [gc_tb (b := e + 1) tr_lt (fun _ _ => rfl) hw' (by omega), gc_kw (b := e + 1) tr_lt (fun _ _ => rfl) (by omega) hsl (fun p hp => by have := tb_b hw (i := e) (by omega) hp; omega)] at hk
  exact hn (gd_ (i := e) hw hN (by omega) H (Nat.le_refl _) hs hk)
theorem zb_sp {post : SX → Prop} {q : Nat} (hw : wf_ K V N) (hNl : N ≤ l) (hi : i < N) (R : rd_ (tr_ K i) V i c n cs cl l w q xo xb xl xs xg xu xd xc xe xp xf xz xK xV xO xT xS xA xY xN xW xk xt xH xn xq xy xF xZ xC xv) (F : fi_ (tr_ K i) V i c xC) (h0 : xf = 0)
    (B5 : ∀ j, j < i → gn_ (fun s => kl_ K V s N) j = j → (kl_ K V j N = 0 → xC j = -1) ∧ (kl_ K V j N ≠ 0 → ∀ x, j ≤ x → x < j + kl_ K V j N → xC x = nI (j + kl_ K V j N - 1)))
    (hv : gn_ (fun s => kl_ K V s N) i = i) (hk : kl_ K V i N = 0) (hc : c = true → K i ≠ 1 ∧ K i ≠ 3)
    (H : ∀ (n' : Nat) (cs' : Nat → List (Nat × Nat)) (cl' : Nat → Bool) (xs' xu' xd' xc' xe' xf' : Int32) (xK' xV' xO' xS' xA' xY' xN' xW' xk' xt' xH' : Nat → Int32) (xq' : Nat → Int64) (xy' xF' xZ' : Nat → Int32), rd_ (tr_ K (i + 1)) V (i + 1) false n' cs' cl' l w q xo xb xl xs' xg xu' xd' xc' xe' xp xf' xz xK' xV' xO' xT xS' xA' xY' xN' xW' xk' xt' xH' xn xq' xy' xF' xZ' (upd xC i (-1)) xv → xf' = 0 → fi_ (tr_ K (i + 1)) V (i + 1) false (upd xC i (-1)) → post (xo, xb, xl, xs', xg, xu', xd', xc', xe', xp, xf', xz, xK', xV', xO', xT, xS', xA', xY', xN', xW', xk', xt', xH', xn, xq', xy', xF', xZ', upd xC i (-1), xv)) :
    wpX_accept post (xo, xb, xl, xs, xg, xu, xd, xc, xe, xp, xf, xz, xK, xV, xO, xT, xS, xA, xY, xN, xW, xk, xt, xH, xn, xq, xy, xF, xZ, xC, xv) (nI (K i)) (nI (V i)) (-1) := by
  have hl48 := R.2.2.2.1
  have hvr := (hw i hi).1
  have hft : ft_ (tr_ K i) i (K i) (V i) := (gc_ft (b := i) tr_lt (Nat.le_refl _)).mpr (hw i hi).2
  refine zq_ac2 R F h0 hc hvr (fun z => absurd hft (z (by omega))) ?_
  intro _ _ n' cs' cl' xs' xu' xd' xc' xe' xf' xK' xV' xO' xS' xA' xY' xN' xW' xk' xt' xH' xq' xy' xF' xZ' R' hfx
  rw [tr_s, un_self] at R' hfx
  rcases hfx with ⟨e0, F'⟩ | ⟨_, hb⟩
  · exact H n' cs' cl' xs' xu' xd' xc' xe' xf' xK' xV' xO' xS' xA' xY' xN' xW' xk' xt' xH' xq' xy' xF' xZ' R' e0 F'
  · exfalso
    refine zb_bd hw (by omega) hi (fun j hj hkj x a b hx => ?_) hb
    have hm : m1_ (kl_ K V j N) = kl_ K V j N := by unfold m1_; rw [if_neg hkj]
    have hji : j < i := by
      rcases Nat.lt_trichotomy j i with z | z | z
      · exact z
      · rw [z] at hkj; exact absurd hk hkj
      · omega
    have hgv : j + m1_ (kl_ K V j N) ≤ gn_ (fun s => kl_ K V s N) i := gn_vis hj hji
    rw [pk_un (by omega)]
    exact (B5 j hji hj).2 hkj x a b
/-- a back reference -/
theorem zb_rf {post : SX → Prop} {q : Nat} {ins : Int32} (hw : wf_ K V N) (hcm : op_ K N = 0) (hS : K N = 11) (hNl : N ≤ l) (hi : i < N) (R : rd_ (tr_ K i) V i c n cs cl l w q xo xb xl xs xg xu xd xc xe xp xf xz xK xV xO xT xS xA xY xN xW xk xt xH xn xq xy xF xZ xC xv) (F : fi_ (tr_ K i) V i c xC) (h0 : xf = 0)
    (B : rb_ K V N i c p xn xC) (hk : kl_ K V i N ≠ 0) (hk13 : K i ≠ 1 ∧ K i ≠ 3) (hcen : c = true ∨ ¬ en_ K i) (hq : q + 40 < 2 ^ 20) (hpr : pr_ w q (nu_ (kt_ K V N i) 36)) (hins : ins = if nf_ K V N i = true then 1 else 0)
    (hgy : gy_ K V (fun s => kl_ K V s N) (kt_ K V N) (nf_ K V N) c i = go_ K V (fun s => kl_ K V s N) (kt_ K V N) (nf_ K V N) i) (hqp : q + (nu_ (kt_ K V N i) 36).length = p + ((if nf_ K V N i = true then [78] else []) ++ 83 :: nu_ (kt_ K V N i) 36).length)
    (HC : ∀ (i' : Nat) (c' : Bool) (p' n' : Nat) (cs' : Nat → List (Nat × Nat)) (cl' : Nat → Bool) (xs' xu' xd' xc' xe' xf' : Int32) (xK' xV' xO' xS' xA' xY' xN' xW' xk' xt' xH' : Nat → Int32) (xq' : Nat → Int64) (xy' xF' xZ' : Nat → Int32) (xn' xC' : Nat → Int32), i < i' → rd_ (tr_ K i') V i' c' n' cs' cl' l w p' xo xb xl xs' xg xu' xd' xc' xe' (nI p') xf' xz xK' xV' xO' xT xS' xA' xY' xN' xW' xk' xt' xH' xn' xq' xy' xF' xZ' xC' xv → xf' = 0 → fi_ (tr_ K i') V i' c' xC' → rb_ K V N i' c' p' xn' xC' → post (xo, xb, xl, xs', xg, xu', xd', xc', xe', nI p', xf', xz, xK', xV', xO', xT, xS', xA', xY', xN', xW', xk', xt', xH', xn', xq', xy', xF', xZ', xC', xv)) :
    wpX_readReference (fun u => match u with | (xo1, xb1, xl1, xs1, xg1, xu1, xd1, xc1, xe1, xp1, xf1, xz1, xK1, xV1, xO1, xT1, xS1, xA1, xY1, xN1, xW1, xk1, xt1, xH1, xn1, xq1, xy1, xF1, xZ1, xC1, xv1) => wX_readHead_54 post ins xs xo1 xb1 xl1 xs1 xg1 xu1 xd1 xc1 xe1 xp1 xf1 xz1 xK1 xV1 xO1 xT1 xS1 xA1 xY1 xN1 xW1 xk1 xt1 xH1 xn1 xq1 xy1 xF1 xZ1 xC1 xv1) (xo, xb, xl, xs, xg, xu, xd, xc, xe, xp, xf, xz, xK, xV, xO, xT, xS, xA, xY, xN, xW, xk, xt, xH, xn, xq, xy, xF, xZ, xC, xv) := by
  have hl48 := R.2.2.2.1
  have hL := R.2.2.2.2.2.2.2.2.2.1
  have es : xs = nI i := R.2.2.2.2.2.1
  obtain ⟨f, hf1, hf2, hf3⟩ := rf_ent hw hi hk
  have hkc := kc_kl hw i hi hk
  have hkc1 : i + kl_ K V i N ≤ N := hkc.1
  have hkc2 : i ∈ pp_ K (i + kl_ K V i N - 1) := hkc.2
  have hT := tr_tb hw hi hk13 hcen
  have htv : tv_ (tb_ K V i) xe xF xZ := by rw [← hT]; exact R.2.2.2.2.2.2.2.2.2.2.1.2.1
  have hlen := tb_len hw (i := i) (by omega)
  have hktl : kt_ K V N i < (tb_ K V i).length := (List.getElem?_eq_some_iff.mp hf1).1
  have hft := htv.2 _ _ hf1
  have hsg : ∀ x, x < kl_ K V i N → K (f + x) = K (i + x) ∧ V (f + x) = V (i + x) := sg_get hf3
  have hcpK : ∀ m, m ≤ kl_ K V i N → cp_ (tr_ K i) i f m = tr_ K (i + m) := fun m hm => tr_cp (fun x hx => ((hsg x (by omega)).1).symm) (by omega)
  have hcpV : ∀ m, m ≤ kl_ K V i N → cp_ V i f m = V := fun m hm => V_cp (fun x hx => ((hsg x (by omega)).2).symm)
  obtain ⟨b1, b2, b3, b4, b5, b6, b7⟩ := B
  have hh4 : K f = K i := by have := (hsg 0 (by omega)).1; exact this
  have hins01 : ins = 0 ∨ ins = 1 := by rw [hins]; by_cases z : nf_ K V N i = true <;> simp [z]
  unfold wpX_readReference
  refine zb_nu (b := 36) (mx := (tb_ K V i).length) (v := kt_ K V N i) (Or.inl rfl) hL (by omega) (by omega) (by rw [htv.1]) h0 hktl hpr ?_
  have hvk : vp_in (nI (kt_ K V N i)) 48 := vp_in_nI (by omega) (by omega)
  have hck : (nI (kt_ K V N i)).toNatClampNeg = kt_ K V N i := nI_clamp (by omega)
  refine br_t h0 ⟨hvk, nm_r (e' := nI f) (by rw [hck]; exact hft.1) ⟨hvk, nm_r (e' := nI (kl_ K V i N)) (by rw [hck]; exact hft.2) (nm_r (e' := nI (i + kl_ K V i N - 1)) ?_ ⟨kl_ K V i N + 1, ?_⟩)⟩⟩
  · rw [es, nI_add]; exact pk_sub (b := 1) (by omega)
  have R1 : rd_ (tr_ K i) V i c n cs cl l w (q + (nu_ (kt_ K V N i) 36).length) xo xb xl xs xg xu xd xc xe (nI (q + (nu_ (kt_ K V N i) 36).length)) xf xz xK xV xO xT xS xA xY xN xW xk xt xH xn xq xy xF xZ xC xv := rd_p R (by
    have : (nu_ (kt_ K V N i) 36).length ≤ 3 := by
      unfold nu_; rw [List.length_append]; split <;> (try split) <;> simp
    omega)
  -- the H of gd_ for a part of the copy
  have hH : ∀ m, m ≤ kl_ K V i N → ∀ j, gn_ (fun s => kl_ K V s N) j = j → kl_ K V j N ≠ 0 → ∀ x, j ≤ x → x < j + kl_ K V j N → x < i + m → cc_ xC i (kl_ K V i N) m x = nI (j + kl_ K V j N - 1) := by
    intro m hm j hj hkj x a b hx
    have hmj : m1_ (kl_ K V j N) = kl_ K V j N := by unfold m1_; rw [if_neg hkj]
    rcases Nat.lt_trichotomy j i with z | z | z
    · have hgv : j + m1_ (kl_ K V j N) ≤ gn_ (fun s => kl_ K V s N) i := gn_vis hj z
      unfold cc_; rw [if_neg (by omega)]
      exact (b5 j z hj).2 hkj x a b
    · subst z
      unfold cc_; rw [if_pos (by omega)]
    · exfalso
      have hmi : m1_ (kl_ K V i N) = kl_ K V i N := by unfold m1_; rw [if_neg hk]
      exact gn_in b2 z (by show j < i + m1_ (kl_ K V i N); rw [hmi]; omega) hj
  refine zq_48z (K := tr_ K i) (V := V) (i := i) (c := c) (f := f) (z := kl_ K V i N) hf2 (by omega) (fun _ => by rw [tr_lt f (by omega), hh4]; exact hk13) R1 h0 F ?_ ?_
  · intro m hm hbad
    exfalso
    rcases hbad with z | z
    · have hft' : ft_ K (i + m) (K (i + m)) (V (i + m)) := (hw (i + m) (by omega)).2
      rw [hcpK m (by omega), tr_lt (f + m) (by omega), (hsg m hm).1, (hsg m hm).2, gc_ft (b := i + m) tr_lt (Nat.le_refl _)] at z
      exact z (by omega) hft'
    · rw [hcpK (m + 1) (by omega), hcpV (m + 1) (by omega)] at z
      exact zb_bd (i := i + m) hw (by omega) (by omega) (fun j hj hkj x a b hx => hH (m + 1) (by omega) j hj hkj x a b (by omega)) z
  · intro n' cs' cl' xs' xu' xd' xc' xe' xf' xK' xV' xO' xS' xA' xY' xN' xW' xk' xt' xH' xq' xy' xF' xZ' R' e0 F'
    rw [hcpK _ (Nat.le_refl _), hcpV _ (Nat.le_refl _)] at R' F'
    have hkx' := R'.2.2.2.2.2.2.2.1
    rw [es]
    have hxcc : ∀ j, j < i → cc_ xC i (kl_ K V i N) (kl_ K V i N) j = xC j := fun j hj => by unfold cc_; rw [if_neg (by omega)]
    have hxc2 : ∀ j, i ≤ j → j < i + kl_ K V i N → cc_ xC i (kl_ K V i N) (kl_ K V i N) j = nI (i + kl_ K V i N - 1) := fun j a b => by unfold cc_; rw [if_pos ⟨a, b⟩]
    refine zq_54 (N := i + kl_ K V i N) hkx' (by omega) (by omega) hins01 (fun z => absurd e0 z) (fun _ hh => ?_) (fun _ hh => ?_)
    · rw [tr_lt i (by omega)] at hh
      refine HC (i + kl_ K V i N) false (q + (nu_ (kt_ K V N i) 36).length) n' cs' cl' xs' xu' xd' xc' xe' xf' xK' xV' xO' xS' xA' xY' xN' xW' xk' xt' xH' xq' xy' xF' xZ' _ _ (by omega) R' e0 F' ?_
      rw [hqp]
      exact rb_rf hw hi ⟨b1, b2, b3, b4, b5, b6, b7⟩ hk hgy (fun s hs => pk_un (by omega)) (fun _ => by rw [pk_us]; exact hins) hxcc hxc2 false (fun z => absurd z (by decide)) (fun _ _ => hh)
    · rw [tr_lt i (by omega)] at hh
      have hnf : nf_ K V N i = false := by
        cases z : nf_ K V N i with
        | false => rfl
        | true => have := (nf_h hw z).1; rw [hh] at this; exact absurd this (by decide)
      have hi0 : ins = 0 := by rw [hins, hnf]; rfl
      subst hi0
      have hk13' : K (i + kl_ K V i N) ≠ 1 ∧ K (i + kl_ K V i N) ≠ 3 := by
        by_cases hlast : i + kl_ K V i N = N
        · rw [hlast, hS]; decide
        · rcases (pp_iff hw (show i + kl_ K V i N - 1 < N by omega)).mp hkc2 with ⟨c2, a2, b2', d2, _⟩ | ⟨z, _⟩
          · rw [show i + kl_ K V i N - 1 = i + kl_ K V i N - 1 from rfl] at d2
            have e1 : i + kl_ K V i N - 1 + 1 = i + kl_ K V i N := by omega
            rcases d2 with ⟨d3, d4⟩ | ⟨d3, d4, d5⟩ | ⟨_, _, _, d6, d7⟩
            · have hne : ¬ en_ K (i + kl_ K V i N) := by rw [← e1]; exact en_n (by rw [d4, d3]; omega) (by rw [d4, d3]; omega)
              rcases ft_c (hw (i + kl_ K V i N) (by omega)).2 (by omega) with y | y | y | y
              · exact absurd y.2 hne
              · exact absurd y.2.1 hne
              · omega
              · exact ⟨y.1, y.2.1⟩
            · have hne : ¬ en_ K (i + kl_ K V i N) := by
                rw [← e1, en_e d4, d5, d3]; intro y; omega
              rcases ft_c (hw (i + kl_ K V i N) (by omega)).2 (by omega) with y | y | y | y
              · exact absurd y.2 hne
              · exact absurd y.2.1 hne
              · omega
              · exact ⟨y.1, y.2.1⟩
            · rw [e1] at d6 d7; exact ⟨d6, d7⟩
          · rw [hh] at z; exact absurd z (by decide)
      refine zq_cl2 (R := rd_f R') (by omega) F' rfl ?_
      intro n2 cs2 cl2 xs2 xu2 xd2 xc2 xe2 xf2 xK2 xV2 xO2 xS2 xA2 xY2 xN2 xW2 xk2 xt2 xH2 xq2 xy2 xF2 xZ2 R2 hfx
      rcases hfx with ⟨e2, F2⟩ | ⟨_, hb⟩
      · refine HC (i + kl_ K V i N) true (q + (nu_ (kt_ K V N i) 36).length) n2 cs2 cl2 xs2 xu2 xd2 xc2 xe2 xf2 xK2 xV2 xO2 xS2 xA2 xY2 xN2 xW2 xk2 xt2 xH2 xq2 xy2 xF2 xZ2 _ _ (by omega) R2 e2 F2 ?_
        rw [hqp]
        exact rb_rf hw hi ⟨b1, b2, b3, b4, b5, b6, b7⟩ hk hgy (fun s hs => pk_un (by omega)) (fun z => by rw [hh] at z; exact absurd z (by decide)) hxcc hxc2 true (fun _ => hk13') (fun z => absurd z (by decide))
      · exfalso
        exact zb_bd3 hw (by omega) hkc1 (by omega) hk13' (fun j hj hkj x a b hx => hH _ (Nat.le_refl _) j hj hkj x a b (by omega)) hb
end
end
section
/-! X reads the symbol of given nodes: heads and types -/
theorem qv_z {w : List Nat} {p a : Nat} (h : w[p]? = some a) (h1 : a ≠ 114) (h2 : a ≠ 86) (h3 : a ≠ 75) : qv_ w p = 0 := by
  have no : ∀ d, a ≠ d → qa_ w p d = 0 := fun d hd => if_neg (by rw [h]; exact fun z => hd (Option.some.inj z))
  unfold qv_
  rw [no 114 h1]
  show 0 * 4 + qa_ w (p + 0) 86 * 2 + qa_ w (p + 0 + qa_ w (p + 0) 86) 75 = 0
  rw [show qa_ w (p + 0) 86 = 0 from no 86 h2]
  show 0 + 0 * 2 + qa_ w (p + 0 + 0) 75 = 0
  rw [show qa_ w (p + 0 + 0) 75 = 0 from no 75 h3]
theorem nu_len {v b : Nat} : (nu_ v b).length ≤ 3 := by
  unfold nu_; rw [List.length_append]; split <;> (try split) <;> simp
section
variable {xo xb : Int64} {xl xs xg xu xd xc xe xp xf xz : Int32} {xK xV xO xT xS xA xY xN xW xk xt xH xn : Nat → Int32} {xq : Nat → Int64} {xy xF xZ xC xv : Nat → Int32}
variable {K V : Nat → Nat} {N : Nat} {i : Nat} {c : Bool} {n : Nat} {cs : Nat → List (Nat × Nat)} {cl : Nat → Bool} {l : Nat} {w : List Nat} {p : Nat}
theorem zb_hd {post : SX → Prop} {q : Nat} {ins : Int32} (hw : wf_ K V N) (hcm : op_ K N = 0) (hS : K N = 11) (hNl : N ≤ l) (hi : i < N) (R : rd_ (tr_ K i) V i c n cs cl l w q xo xb xl xs xg xu xd xc xe xp xf xz xK xV xO xT xS xA xY xN xW xk xt xH xn xq xy xF xZ xC xv) (F : fi_ (tr_ K i) V i c xC) (h0 : xf = 0)
    (B : rb_ K V N i c p xn xC) (hkind : ka_h (K i) = true ∨ kl_ K V i N ≠ 0) (hk13 : K i ≠ 1 ∧ K i ≠ 3) (hcen : c = true ∨ ¬ en_ K i) (hq : q + 60 < 2 ^ 20) (hins : ins = if nf_ K V N i = true then 1 else 0)
    (hgy : gy_ K V (fun s => kl_ K V s N) (kt_ K V N) (nf_ K V N) c i = go_ K V (fun s => kl_ K V s N) (kt_ K V N) (nf_ K V N) i) (hqp : q = p + (if nf_ K V N i = true then [78] else []).length)
    (hpr : pr_ w q (if kl_ K V i N = 0 then pe_ K V i else 83 :: nu_ (kt_ K V N i) 36))
    (HC : ∀ (i' : Nat) (c' : Bool) (p' n' : Nat) (cs' : Nat → List (Nat × Nat)) (cl' : Nat → Bool) (xs' xu' xd' xc' xe' xf' : Int32) (xK' xV' xO' xS' xA' xY' xN' xW' xk' xt' xH' : Nat → Int32) (xq' : Nat → Int64) (xy' xF' xZ' : Nat → Int32) (xn' xC' : Nat → Int32), i < i' → rd_ (tr_ K i') V i' c' n' cs' cl' l w p' xo xb xl xs' xg xu' xd' xc' xe' (nI p') xf' xz xK' xV' xO' xT xS' xA' xY' xN' xW' xk' xt' xH' xn' xq' xy' xF' xZ' xC' xv → xf' = 0 → fi_ (tr_ K i') V i' c' xC' → rb_ K V N i' c' p' xn' xC' → post (xo, xb, xl, xs', xg, xu', xd', xc', xe', nI p', xf', xz, xK', xV', xO', xT, xS', xA', xY', xN', xW', xk', xt', xH', xn', xq', xy', xF', xZ', xC', xv)) :
    wpX_readHead post (xo, xb, xl, xs, xg, xu, xd, xc, xe, xp, xf, xz, xK, xV, xO, xT, xS, xA, xY, xN, xW, xk, xt, xH, xn, xq, xy, xF, xZ, xC, xv) ins := by
  have hL := R.2.2.2.2.2.2.2.2.2.1
  have es : xs = nI i := R.2.2.2.2.2.1
  have hl48 := R.2.2.2.1
  have hins01 : ins = 0 ∨ ins = 1 := by rw [hins]; by_cases z : nf_ K V N i = true <;> simp [z]
  unfold wpX_readHead
  by_cases hk : kl_ K V i N = 0
  · rw [if_pos hk] at hpr
    have hh : ka_h (K i) = true := hkind.resolve_right (fun z => z hk)
    have hV := (hw i hi).1.2.1
    -- after the node
    have fin : ∀ q', q' = q + (pe_ K V i).length → ∀ (n' : Nat) (cs' : Nat → List (Nat × Nat)) (cl' : Nat → Bool) (xs' xu' xd' xc' xe' xf' : Int32) (xK' xV' xO' xS' xA' xY' xN' xW' xk' xt' xH' : Nat → Int32) (xq' : Nat → Int64) (xy' xF' xZ' : Nat → Int32), rd_ (tr_ K (i + 1)) V (i + 1) false n' cs' cl' l w q' xo xb xl xs' xg xu' xd' xc' xe' (nI q') xf' xz xK' xV' xO' xT xS' xA' xY' xN' xW' xk' xt' xH' xn xq' xy' xF' xZ' (upd xC i (-1)) xv → xf' = 0 → fi_ (tr_ K (i + 1)) V (i + 1) false (upd xC i (-1)) → wX_readHead_54 post ins xs xo xb xl xs' xg xu' xd' xc' xe' (nI q') xf' xz xK' xV' xO' xT xS' xA' xY' xN' xW' xk' xt' xH' xn xq' xy' xF' xZ' (upd xC i (-1)) xv := by
      intro q' hq' n' cs' cl' xs' xu' xd' xc' xe' xf' xK' xV' xO' xS' xA' xY' xN' xW' xk' xt' xH' xq' xy' xF' xZ' R' e0 F'
      rw [es]
      refine zq_54 (N := i + 1) R'.2.2.2.2.2.2.2.1 (by omega) (by omega) hins01 (fun z => absurd e0 z) (fun _ _ => ?_) (fun _ z => ?_)
      · refine HC (i + 1) false q' n' cs' cl' xs' xu' xd' xc' xe' xf' xK' xV' xO' xS' xA' xY' xN' xW' xk' xt' xH' xq' xy' xF' xZ' _ _ (by omega) R' e0 F' ?_
        have := rb_sp (xn' := upd xn i ins) hw hi B hk hgy (fun s hs => pk_un (by omega)) (fun _ => by rw [pk_us]; exact hins)
        rw [List.length_append, ← Nat.add_assoc, ← hqp, ← hq'] at this
        exact this
      · rw [tr_lt i (by omega), hh] at z; exact absurd z (by decide)
    rcases ka_hi.mp hh with e | e
    · have hpe : pe_ K V i = id_ (V i) := by unfold pe_; rw [if_pos (by omega)]
      rw [hpe] at hpr fin
      obtain ⟨a, r, ea, ha⟩ := id_fc (V i)
      have hw0 : w[q]? = some a := by rw [ea] at hpr; exact (pr_hd hpr).1
      refine zq_sk (a := 83) hL (by omega) (fun z => by rw [hw0] at z; have := Option.some.inj z; omega) (fun _ => br_t rfl ?_)
      refine zq_sk (a := 84) hL (by omega) (fun z => by rw [hw0] at z; have := Option.some.inj z; omega) (fun _ => br_t rfl ?_)
      have hm := mx_le (k := K i)
      have hil : (id_ (V i)).length ≤ 3 := by unfold id_; split <;> simp
      refine zb_id (kd := 0) (v := V i) hL (by omega) (by omega) hpr ?_
      have := zb_sp (post := fun u => match u with | (xo1, xb1, xl1, xs1, xg1, xu1, xd1, xc1, xe1, xp1, xf1, xz1, xK1, xV1, xO1, xT1, xS1, xA1, xY1, xN1, xW1, xk1, xt1, xH1, xn1, xq1, xy1, xF1, xZ1, xC1, xv1) => wX_readHead_54 post ins xs xo1 xb1 xl1 xs1 xg1 xu1 xd1 xc1 xe1 xp1 xf1 xz1 xK1 xV1 xO1 xT1 xS1 xA1 xY1 xN1 xW1 xk1 xt1 xH1 xn1 xq1 xy1 xF1 xZ1 xC1 xv1) hw hNl hi (rd_p R (q := q + (id_ (V i)).length) (xf' := xf) (xz' := xz) (xn' := xn) (xC' := xC) (xv' := xv) (by omega)) F h0 B.2.2.2.2.1 B.2.1 hk (fun _ => hk13) (fun n' cs' cl' xs' xu' xd' xc' xe' xf' xK' xV' xO' xS' xA' xY' xN' xW' xk' xt' xH' xq' xy' xF' xZ' R' e0 F' => fin _ rfl n' cs' cl' xs' xu' xd' xc' xe' xf' xK' xV' xO' xS' xA' xY' xN' xW' xk' xt' xH' xq' xy' xF' xZ' R' e0 F')
      rw [e] at this
      exact this
    · have hpe : pe_ K V i = 84 :: nu_ (V i) 10 := by unfold pe_; rw [if_neg (by omega), if_neg (by omega), if_neg (by omega), if_pos e]
      rw [hpe] at hpr fin
      have hw0 := pr_hd hpr
      have hV99 : V i ≤ 99 := by rw [e] at hV; exact hV
      have hnl := nu_len (v := V i) (b := 10)
      refine zq_sk (a := 83) hL (by omega) (fun z => by rw [hw0.1] at z; have := Option.some.inj z; omega) (fun _ => br_t rfl ?_)
      refine zq_sk (a := 84) hL (by omega) (fun _ => br_f (by decide) ?_) (fun z => absurd hw0.1 z)
      refine zb_nu (b := 10) (mx := 100) (v := V i) (Or.inr rfl) (lx_p hL (q := q + 1) (by omega)) (by omega) (by omega) (by decide) h0 (by omega) hw0.2 ?_
      have := zb_sp (post := fun u => match u with | (xo1, xb1, xl1, xs1, xg1, xu1, xd1, xc1, xe1, xp1, xf1, xz1, xK1, xV1, xO1, xT1, xS1, xA1, xY1, xN1, xW1, xk1, xt1, xH1, xn1, xq1, xy1, xF1, xZ1, xC1, xv1) => wX_readHead_54 post ins xs xo1 xb1 xl1 xs1 xg1 xu1 xd1 xc1 xe1 xp1 xf1 xz1 xK1 xV1 xO1 xT1 xS1 xA1 xY1 xN1 xW1 xk1 xt1 xH1 xn1 xq1 xy1 xF1 xZ1 xC1 xv1) hw hNl hi (rd_p R (q := q + 1 + (nu_ (V i) 10).length) (xf' := xf) (xz' := xz) (xn' := xn) (xC' := xC) (xv' := xv) (by omega)) F h0 B.2.2.2.2.1 B.2.1 hk (fun _ => hk13) (fun n' cs' cl' xs' xu' xd' xc' xe' xf' xK' xV' xO' xS' xA' xY' xN' xW' xk' xt' xH' xq' xy' xF' xZ' R' e0 F' => fin _ (by rw [List.length_cons]; omega) n' cs' cl' xs' xu' xd' xc' xe' xf' xK' xV' xO' xS' xA' xY' xN' xW' xk' xt' xH' xq' xy' xF' xZ' R' e0 F')
      rw [e] at this
      exact this
  · rw [if_neg hk] at hpr
    have hw0 := pr_hd hpr
    refine zq_sk (a := 83) hL (by omega) (fun _ => br_f (by decide) ?_) (fun z => absurd hw0.1 z)
    exact zb_rf (q := q + 1) (p := p) hw hcm hS hNl hi (rd_p R (by omega)) F h0 B hk hk13 hcen (by omega) hw0.2 hins hgy (by rw [List.length_append, List.length_cons]; omega) HC
end
end
section
/-! X reads the symbol of given nodes: a step -/
section
variable {xo xb : Int64} {xl xs xg xu xd xc xe xp xf xz : Int32} {xK xV xO xT xS xA xY xN xW xk xt xH xn : Nat → Int32} {xq : Nat → Int64} {xy xF xZ xC xv : Nat → Int32}
variable {K V : Nat → Nat} {N : Nat} {i : Nat} {c : Bool} {n : Nat} {cs : Nat → List (Nat × Nat)} {cl : Nat → Bool} {l : Nat} {w : List Nat} {p : Nat}
theorem gb_p (B : rb_ K V N i c p xn xC) (hcen : i = 0 ∨ ((K i = 1 ∨ K i = 3) ∧ c = false) ∨ (K i ≠ 1 ∧ K i ≠ 3 ∧ (c = true ∨ ¬ en_ K i))) :
    gy_ K V (fun s => kl_ K V s N) (kt_ K V N) (nf_ K V N) c i = go_ K V (fun s => kl_ K V s N) (kt_ K V N) (nf_ K V N) i := by
  refine gy_go ?_
  rcases hcen with z | z | ⟨z1, z3, z⟩
  · exact Or.inl z
  · exact Or.inr (Or.inl z)
  · refine Or.inr (Or.inr ⟨z1, z3, ?_⟩)
    rcases z with z | z
    · exact Or.inl z
    · refine Or.inr ?_
      cases i with
      | zero => rfl
      | succ e => show (pdv_ _ e && (eb_ K (e + 1) && _)) = false; rw [eb_n.mpr z, Bool.false_and, Bool.and_false]
/-- the text at a visited node -/
theorem gb_t (hwm : w = mg_ K V N) (B : rb_ K V N i c p xn xC) (hgy : gy_ K V (fun s => kl_ K V s N) (kt_ K V N) (nf_ K V N) c i = go_ K V (fun s => kl_ K V s N) (kt_ K V N) (nf_ K V N) i) :
    p = (go_ K V (fun s => kl_ K V s N) (kt_ K V N) (nf_ K V N) i).length ∧ p ≤ w.length ∧ (i < N → pr_ w p (gv_ K V (fun s => kl_ K V s N) (kt_ K V N) (nf_ K V N) i)) ∧ (i = N → p = w.length) := by
  have e : p = (go_ K V (fun s => kl_ K V s N) (kt_ K V N) (nf_ K V N) i).length := by rw [B.2.2.1, hgy]
  have hpre : go_ K V (fun s => kl_ K V s N) (kt_ K V N) (nf_ K V N) i <+: w := by rw [hwm]; exact go_pre B.1
  refine ⟨e, by rw [e]; exact hpre.length_le, fun hi => ?_, fun hi => ?_⟩
  · rw [e]
    refine pr_of ?_
    have h1 : go_ K V (fun s => kl_ K V s N) (kt_ K V N) (nf_ K V N) (i + 1) <+: w := by rw [hwm]; exact go_pre (by omega)
    have h2 : go_ K V (fun s => kl_ K V s N) (kt_ K V N) (nf_ K V N) (i + 1) = go_ K V (fun s => kl_ K V s N) (kt_ K V N) (nf_ K V N) i ++ gv_ K V (fun s => kl_ K V s N) (kt_ K V N) (nf_ K V N) i := by
      show (if _ then _ else _) = _; rw [if_pos B.2.1]
    rw [← h2]; exact h1
  · rw [e, hwm, hi]; rfl
theorem zb_ty {post : SX → Prop} (hw : wf_ K V N) (hcm : op_ K N = 0) (hS : K N = 11) (hNl : N ≤ l) (hwm : w = mg_ K V N) (hi : i < N) (R : rd_ (tr_ K i) V i c n cs cl l w p xo xb xl xs xg xu xd xc xe xp xf xz xK xV xO xT xS xA xY xN xW xk xt xH xn xq xy xF xZ xC xv) (F : fi_ (tr_ K i) V i c xC) (h0 : xf = 0)
    (B : rb_ K V N i c p xn xC) (hty : ka_h (K i) = true ∨ ka_w (K i) = true ∨ K i = 4 ∨ K i = 9) (hcen : c = true ∨ ¬ en_ K i)
    (HC : ∀ (i' : Nat) (c' : Bool) (p' n' : Nat) (cs' : Nat → List (Nat × Nat)) (cl' : Nat → Bool) (xs' xu' xd' xc' xe' xf' : Int32) (xK' xV' xO' xS' xA' xY' xN' xW' xk' xt' xH' : Nat → Int32) (xq' : Nat → Int64) (xy' xF' xZ' : Nat → Int32) (xn' xC' : Nat → Int32), i < i' → rd_ (tr_ K i') V i' c' n' cs' cl' l w p' xo xb xl xs' xg xu' xd' xc' xe' (nI p') xf' xz xK' xV' xO' xT xS' xA' xY' xN' xW' xk' xt' xH' xn' xq' xy' xF' xZ' xC' xv → xf' = 0 → fi_ (tr_ K i') V i' c' xC' → rb_ K V N i' c' p' xn' xC' → post (xo, xb, xl, xs', xg, xu', xd', xc', xe', nI p', xf', xz, xK', xV', xO', xT, xS', xA', xY', xN', xW', xk', xt', xH', xn', xq', xy', xF', xZ', xC', xv)) :
    wpX_readType post (xo, xb, xl, xs, xg, xu, xd, xc, xe, xp, xf, xz, xK, xV, xO, xT, xS, xA, xY, xN, xW, xk, xt, xH, xn, xq, xy, xF, xZ, xC, xv) := by
  have hL := R.2.2.2.2.2.2.2.2.2.1
  have hl48 := R.2.2.2.1
  have hwl := hL.2.1
  have ep : xp = nI p := hL.2.2.2.1
  have hk13 : K i ≠ 1 ∧ K i ≠ 3 := by rw [ka_hi, ka_wi] at hty; omega
  have hgy := gb_p B (Or.inr (Or.inr ⟨hk13.1, hk13.2, hcen⟩))
  obtain ⟨hp, hpl, hprf, _⟩ := gb_t hwm B hgy
  have hpr := hprf hi
  have hV := (hw i hi).1.2.1
  -- a node that is spelled out and no head
  have spell : ∀ q, q = p + (pe_ K V i).length → kl_ K V i N = 0 → nf_ K V N i = false → ka_h (K i) = false → q < 2 ^ 20 → wpX_accept post (xo, xb, xl, xs, xg, xu, xd, xc, xe, nI q, xf, xz, xK, xV, xO, xT, xS, xA, xY, xN, xW, xk, xt, xH, xn, xq, xy, xF, xZ, xC, xv) (nI (K i)) (nI (V i)) (-1) := by
    intro q hq hk hnf hh hq20
    refine zb_sp hw hNl hi (rd_p R hq20) F h0 B.2.2.2.2.1 B.2.1 hk (fun _ => hk13) ?_
    intro n' cs' cl' xs' xu' xd' xc' xe' xf' xK' xV' xO' xS' xA' xY' xN' xW' xk' xt' xH' xq' xy' xF' xZ' R' e0 F'
    refine HC (i + 1) false q n' cs' cl' xs' xu' xd' xc' xe' xf' xK' xV' xO' xS' xA' xY' xN' xW' xk' xt' xH' xq' xy' xF' xZ' xn _ (by omega) R' e0 F' ?_
    have := rb_sp (xn' := xn) hw hi B hk hgy (fun s hs => rfl) (fun z => by rw [hh] at z; exact absurd z (by decide))
    rw [hnf, if_neg (by decide), List.nil_append, ← hq] at this
    exact this
  cases hnf : nf_ K V N i with
  | true =>
    -- N
    have hh := (nf_h hw hnf).1
    unfold gv_ at hpr
    rw [if_pos hnf] at hpr
    have h1 := pr_app.mp hpr
    have hc0 : w[p]? = some 78 := (pr_hd h1.1).1
    have h2 : pr_ w (p + 1) (if kl_ K V i N = 0 then pe_ K V i else 83 :: nu_ (kt_ K V N i) 36) := by
      have := h1.2
      by_cases z : kl_ K V i N = 0
      · rw [if_pos z] at this ⊢; exact (pr_app.mp this).1
      · rw [if_neg z] at this ⊢; exact this
    refine zq_ty hL (by omega) (fun z => ?_) (fun k hk z => ?_) (fun v hv z => ?_) (fun _ => ?_) (fun _ _ _ z => absurd hc0 z)
    · rw [qv_z hc0 (by decide) (by decide) (by decide)] at z; omega
    · rw [hc0] at z; have := Option.some.inj z; rcases hk with h | h | h | h <;> subst h <;> exact absurd this (by decide)
    · rw [hc0] at z; exact absurd (Option.some.inj z).symm (lb_fc hv).2.2.2.2.2.1
    · refine zb_hd (q := p + 1) (p := p) hw hcm hS hNl hi (rd_p R (by omega)) F h0 B (Or.inl hh) hk13 hcen (by omega) (by rw [hnf]; rfl) hgy (by rw [hnf]; rfl) h2 ?_
      intro i' c' p' n' cs' cl' xs' xu' xd' xc' xe' xf' xK' xV' xO' xS' xA' xY' xN' xW' xk' xt' xH' xq' xy' xF' xZ' xn' xC' a1 a2 a3 a4 a5
      exact HC i' c' p' n' cs' cl' xs' xu' xd' xc' xe' xf' xK' xV' xO' xS' xA' xY' xN' xW' xk' xt' xH' xq' xy' xF' xZ' xn' xC' a1 a2 a3 a4 a5
  | false =>
    have hgv : gv_ K V (fun s => kl_ K V s N) (kt_ K V N) (nf_ K V N) i = (if kl_ K V i N = 0 then pe_ K V i ++ (if ec_ K (nf_ K V N) i = true then [69] else []) else 83 :: nu_ (kt_ K V N i) 36) := by
      unfold gv_; rw [hnf, if_neg (by decide), List.nil_append]
    have h2 : pr_ w p (if kl_ K V i N = 0 then pe_ K V i else 83 :: nu_ (kt_ K V N i) 36) := by
      rw [hgv] at hpr
      by_cases z : kl_ K V i N = 0
      · rw [if_pos z] at hpr ⊢; exact (pr_app.mp hpr).1
      · rw [if_neg z] at hpr ⊢; exact hpr
    -- a head or a reference without N
    have head : (ka_h (K i) = true ∨ kl_ K V i N ≠ 0) → wpX_readHead post (xo, xb, xl, xs, xg, xu, xd, xc, xe, xp, xf, xz, xK, xV, xO, xT, xS, xA, xY, xN, xW, xk, xt, xH, xn, xq, xy, xF, xZ, xC, xv) 0 := by
      intro hkind
      have := zb_hd (post := post) (q := p) (p := p) (ins := 0) hw hcm hS hNl hi R F h0 B hkind hk13 hcen (by omega) (by rw [hnf]; rfl) hgy (by rw [hnf]; rfl) h2 HC
      exact this
    by_cases hk : kl_ K V i N = 0
    · rw [if_pos hk] at h2
      by_cases hh : ka_h (K i) = true
      · -- NAME, PARAM
        obtain ⟨a, r, ea, ha⟩ : ∃ a r, pe_ K V i = a :: r ∧ (a = 49 ∨ a = 50 ∨ a = 84) := by
          rcases ka_hi.mp hh with e | e
          · obtain ⟨a, r, ea, ha⟩ := id_fc (V i)
            exact ⟨a, r, by unfold pe_; rw [if_pos (by omega)]; exact ea, by omega⟩
          · exact ⟨84, nu_ (V i) 10, by unfold pe_; rw [if_neg (by omega), if_neg (by omega), if_neg (by omega), if_pos e], by omega⟩
        rw [ea] at h2
        have hc0 := (pr_hd h2).1
        refine zq_ty hL (by omega) (fun z => ?_) (fun k hk z => ?_) (fun v hv z => ?_) (fun z => ?_) (fun _ _ _ _ => head (Or.inl hh))
        · rw [qv_z hc0 (by omega) (by omega) (by omega)] at z; omega
        · rw [hc0] at z; have := Option.some.inj z; rcases hk with h | h | h | h <;> subst h <;> (rcases ha with g | g | g <;> rw [g] at this <;> exact absurd this (by decide))
        · exfalso
          rw [hc0] at z
          have := Option.some.inj z
          obtain e | e | e | e | e | e | e | e : v = 0 ∨ v = 1 ∨ v = 2 ∨ v = 3 ∨ v = 4 ∨ v = 5 ∨ v = 6 ∨ v = 7 := by omega
          all_goals (subst e; rcases ha with g | g | g <;> rw [g] at this <;> exact absurd this (by decide))
        · rw [hc0] at z; have := Option.some.inj z; omega
      · have hh' : ka_h (K i) = false := by simpa using hh
        have hkk : K i = 4 ∨ K i = 5 ∨ K i = 6 ∨ K i = 7 ∨ K i = 8 ∨ K i = 9 := by
          rw [ka_hi] at hh; rw [ka_hi, ka_wi] at hty; omega
        by_cases h8 : K i = 8
        · -- QUAL
          have hpe : pe_ K V i = ql_ (V i) := by unfold pe_; rw [if_neg (by omega), if_pos h8]
          have hV0 := (hw i hi).1.2.2 h8
          have hV8 : V i < 8 := by rw [h8] at hV; exact Nat.lt_succ_of_le hV
          rw [hpe] at h2 spell
          obtain ⟨a, r, ea, ha⟩ := ql_fc hV0 hV8
          have hc0 : w[p]? = some a := by rw [ea] at h2; exact (pr_hd h2).1
          -- what follows
          have hnext : w[p + (ql_ (V i)).length]? ≠ some 86 ∧ w[p + (ql_ (V i)).length]? ≠ some 75 := by
            have hwi : ka_w (K i) = true := by rw [h8]; rfl
            have hi1 : i + 1 < N := by
              rcases Nat.lt_or_ge (i + 1) N with z | z
              · exact z
              · exfalso
                have e1 : i + 1 = N := by omega
                have := (si_all hw N (Nat.le_refl _)).2.2 (by omega)
                rw [← e1] at this hcm
                rcases this with ⟨_, _, y, _⟩ | ⟨y, _⟩ | ⟨_, y, _⟩ | ⟨_, y, _⟩
                · exact y hcm
                · exact absurd y (en_n (by omega) (by omega))
                · rw [Nat.add_sub_cancel, hwi] at y; exact absurd y (by decide)
                · rw [Nat.add_sub_cancel, hwi] at y; exact absurd y (by decide)
            have hec : ec_ K (nf_ K V N) i = false := by unfold ec_; rw [eb_n.mpr (en_n (by omega) (by omega)), Bool.false_and]
            have hg1 : gn_ (fun s => kl_ K V s N) (i + 1) = i + 1 := by rw [gn_t B.2.1]; show i + m1_ (kl_ K V i N) = _; unfold m1_; rw [if_pos hk]
            have hgo1 : go_ K V (fun s => kl_ K V s N) (kt_ K V N) (nf_ K V N) (i + 1) = go_ K V (fun s => kl_ K V s N) (kt_ K V N) (nf_ K V N) i ++ ql_ (V i) := by
              show (if _ then _ else _) = _
              rw [if_pos B.2.1, hgv, if_pos hk, hec, if_neg (by decide), List.append_nil, hpe]
            have hgo2 : go_ K V (fun s => kl_ K V s N) (kt_ K V N) (nf_ K V N) (i + 2) = go_ K V (fun s => kl_ K V s N) (kt_ K V N) (nf_ K V N) (i + 1) ++ gv_ K V (fun s => kl_ K V s N) (kt_ K V N) (nf_ K V N) (i + 1) := by
              show (if _ then _ else _) = _
              rw [if_pos hg1]
            have hpre : go_ K V (fun s => kl_ K V s N) (kt_ K V N) (nf_ K V N) (i + 2) <+: w := by rw [hwm]; exact go_pre (by omega)
            rw [hgo2] at hpre
            have hpr2 := pr_of hpre
            rw [hgo1, List.length_append, ← hp] at hpr2
            have hft := ft_c (hw (i + 1) hi1).2 (by omega)
            rw [Nat.add_sub_cancel] at hft
            have hk1 : (ka_h (K (i + 1)) = true ∨ ka_w (K (i + 1)) = true ∨ K (i + 1) = 4 ∨ K (i + 1) = 9) ∧ K (i + 1) ≠ 8 := by
              have hne : ¬ en_ K (i + 1) := en_n (by omega) (by omega)
              have hvr := (hw (i + 1) hi1).1.1
              rw [ka_hi, ka_wi]
              rcases hft with y | y | y | ⟨y1, y2, y3, y4, ⟨y5, y6, y7, y8, y9⟩ | ⟨y5, _⟩⟩
              · exact absurd y.2 hne
              · exact absurd y.2.1 hne
              · exact absurd y.2.2 hne
              · omega
              · rw [hwi] at y5; exact absurd y5 (by decide)
            obtain ⟨b, r2, eb, _, _, _, hb⟩ := ty_fc (kn := fun s => kl_ K V s N) (kt := kt_ K V N) (nf := nf_ K V N) hw hi1 hk1.1
            rw [eb] at hpr2
            have hcb := (pr_hd hpr2).1
            rw [hcb]
            exact ⟨fun z => hk1.2 (hb (Or.inl (Option.some.inj z))), fun z => hk1.2 (hb (Or.inr (Or.inl (Option.some.inj z))))⟩
          have hqv := qv_of hV0 hV8 h2 hnext
          have hqn : qn_ w p = (ql_ (V i)).length := by rw [← (qv_pr w p).2.2, hqv]
          refine zq_ty hL (by omega) (fun _ => ?_) (fun k hk2 z => ?_) (fun v hv z => ?_) (fun z => ?_) (fun z => by omega)
          · have := spell (p + qn_ w p) (by rw [hqn]) hk hnf hh' (by
              have : (ql_ (V i)).length ≤ 3 := by unfold ql_; rw [List.length_append, List.length_append]; split <;> split <;> split <;> simp
              omega)
            rw [hqv]
            rw [h8] at this
            exact this
          · rw [hc0] at z; have := Option.some.inj z; rcases hk2 with h | h | h | h <;> subst h <;> (rcases ha with g | g | g <;> rw [g] at this <;> exact absurd this (by decide))
          · exfalso
            rw [hc0] at z
            have := Option.some.inj z
            have hl := lb_fc hv
            rcases ha with g | g | g
            · exact hl.2.2.2.2.1 (by omega)
            · exact hl.2.2.1 (by omega)
            · exact hl.2.2.2.1 (by omega)
          · rw [hc0] at z; have := Option.some.inj z; omega
        · by_cases h4 : K i = 4
          · -- BUILTIN
            have hpe : pe_ K V i = [lb_ (V i)] := by unfold pe_; rw [if_neg (by omega), if_neg h8, if_neg (by omega), if_neg (by omega), if_neg (by omega), if_pos h4]
            have hV8 : V i < 8 := by rw [h4] at hV; exact Nat.lt_succ_of_le hV
            rw [hpe] at h2 spell
            have hc0 := (pr_hd h2).1
            have hl := lb_fc hV8
            have hinj : ∀ v, v < 8 → lb_ v = lb_ (V i) → v = V i := by
              have : ∀ a, a < 8 → ∀ b, b < 8 → lb_ a = lb_ b → a = b := by decide
              exact fun v hv e => this v hv (V i) hV8 e
            refine zq_ty hL (by omega) (fun z => ?_) (fun k hk2 z => ?_) (fun v hv z => ?_) (fun z => ?_) (fun _ _ z => absurd hc0 (z _ hV8))
            · rw [qv_z hc0 hl.2.2.2.2.1 hl.2.2.1 hl.2.2.2.1] at z; omega
            · rw [hc0] at z; exact absurd (Option.some.inj z) (hl.2.2.2.2.2.2.2 k hk2)
            · rw [hc0] at z
              have := hinj v hv (Option.some.inj z).symm
              subst this
              have := spell (p + 1) rfl hk hnf hh' (by omega)
              rw [h4] at this
              exact this
            · rw [hc0] at z; exact absurd (Option.some.inj z) hl.2.2.2.2.2.1
          · -- P, R, O, F
            have hk5 : K i = 5 ∨ K i = 6 ∨ K i = 7 ∨ K i = 9 := by omega
            have hpe : pe_ K V i = [ol_ (K i)] := by unfold pe_; rw [if_neg (by omega), if_neg h8, if_neg (by omega), if_neg (by omega), if_neg (by omega), if_neg h4]
            rw [hpe] at h2 spell
            have hc0 := (pr_hd h2).1
            have hV0 : V i = 0 := by
              have : mx_ (K i) = 0 := by unfold mx_; rw [if_neg (by omega), if_neg (by omega), if_neg (by omega)]
              omega
            have hol : ol_ (K i) ≠ 114 ∧ ol_ (K i) ≠ 86 ∧ ol_ (K i) ≠ 75 ∧ ol_ (K i) ≠ 78 := by rcases hk5 with g | g | g | g <;> rw [g] <;> decide
            have hinj : ∀ k, k = 5 ∨ k = 6 ∨ k = 7 ∨ k = 9 → ol_ k = ol_ (K i) → k = K i := by
              intro k hk2 e
              rcases hk2 with g | g | g | g <;> subst g <;> rcases hk5 with f | f | f | f <;> rw [f] at e ⊢ <;> first | rfl | exact absurd e (by decide)
            refine zq_ty hL (by omega) (fun z => ?_) (fun k hk2 z => ?_) (fun v hv z => ?_) (fun z => ?_) (fun _ z => absurd hc0 (z _ hk5))
            · rw [qv_z hc0 hol.1 hol.2.1 hol.2.2.1] at z; omega
            · rw [hc0] at z
              have := hinj k hk2 (Option.some.inj z).symm
              subst this
              have := spell (p + 1) rfl hk hnf hh' (by omega)
              rw [hV0] at this
              exact this
            · rw [hc0] at z; exact absurd (Option.some.inj z).symm ((lb_fc hv).2.2.2.2.2.2.2 _ hk5)
            · rw [hc0] at z; exact absurd (Option.some.inj z) hol.2.2.2
    · -- a reference
      rw [if_neg hk] at h2
      have hc0 := (pr_hd h2).1
      refine zq_ty hL (by omega) (fun z => ?_) (fun k hk2 z => ?_) (fun v hv z => ?_) (fun z => ?_) (fun _ _ _ _ => head (Or.inr hk))
      · rw [qv_z hc0 (by decide) (by decide) (by decide)] at z; omega
      · rw [hc0] at z; have := Option.some.inj z; rcases hk2 with h | h | h | h <;> subst h <;> exact absurd this (by decide)
      · exfalso
        rw [hc0] at z
        have := Option.some.inj z
        obtain e | e | e | e | e | e | e | e : v = 0 ∨ v = 1 ∨ v = 2 ∨ v = 3 ∨ v = 4 ∨ v = 5 ∨ v = 6 ∨ v = 7 := by omega
        all_goals (subst e; exact absurd this (by decide))
      · rw [hc0] at z; have := Option.some.inj z; omega
end
end
section
/-! X reads the symbol of given nodes -/
theorem kl_nc {K V : Nat → Nat} {N i : Nat} (hw : wf_ K V N) (hi : i < N) (h : K i = 1 ∨ K i = 3 ∨ K i = 10 ∨ K i = 11 ∨ K i = 4) : kl_ K V i N = 0 ∧ nf_ K V N i = false := by
  have hh : ka_h (K i) = false := by rw [ka_hn]; omega
  constructor
  · apply Classical.byContradiction
    intro hk
    have hc := kc_kl hw i hi hk
    have hc1 : i + kl_ K V i N ≤ N := hc.1
    have hc2 : i ∈ pp_ K (i + kl_ K V i N - 1) := hc.2
    have := pp_nh hw (by omega) hh hc2
    omega
  · cases z : nf_ K V N i with
    | false => rfl
    | true => have := (nf_h hw z).1; rw [hh] at this; exact absurd this (by decide)
/-- after the END of SIG nothing comes -/
theorem sig_last {K V : Nat → Nat} {N i : Nat} (hw : wf_ K V N) (hi : i < N) (h11 : K i = 11) (hf : K (op_ K i) = 10) : N = i + 1 := by
  obtain ⟨r, ec, hsf, ho, hff, hol⟩ := end_top hw hi h11
  have hne : ¬ en_ K (i + 1) := fun z => by have := ((en_e h11).mp z).1; omega
  have hg := gs_suf (si_all hw i (by omega)).1 hsf
  have hr : r = [] := by
    rcases hg.2.2 with ⟨q2, _⟩ | ⟨y, r', q2, q3 | q3⟩
    · exact q2
    · omega
    · exfalso
      rcases q3.1 with z | z | z
      · rw [hf] at z; exact absurd z (by decide)
      · rw [hf] at z; exact absurd z (by decide)
      · omega
  have es : sk_ K (i + 1) = [] := by
    rw [sk_s11 h11, ec, hr]; show (if _ then _ else _) = _; rw [if_neg (by omega)]
  have ho1 : op_ K (i + 1) = 0 := by
    have := (si_all hw (i + 1) (by omega)).2.1
    rw [es] at this
    exact op_nil this.symm
  rcases Nat.lt_or_ge (i + 1) N with z | z
  · exfalso
    rcases ft_c (hw (i + 1) z).2 (by omega) with y | y | y | y
    · exact hne y.2
    · exact hne y.2.1
    · exact hne y.2.2
    · exact y.2.2.2.1 ho1
  · omega
/-- what stands at a node that goes on no name -/
theorem nc_ {K V : Nat → Nat} {N i : Nat} {w : List Nat} (hw : wf_ K V N) (hcm : op_ K N = 0) (hS : K N = 11) (hwm : w = mg_ K V N) (hi : i ≤ N) (hv : gn_ (fun s => kl_ K V s N) i = i) (hk : K i ≠ 1 ∧ K i ≠ 3) :
    w[(go_ K V (fun s => kl_ K V s N) (kt_ K V N) (nf_ K V N) i).length]? ≠ some 73 ∧ (i < N → K i = 10 → (go_ K V (fun s => kl_ K V s N) (kt_ K V N) (nf_ K V N) i).length < w.length) := by
  have at_ : ∀ j, j < N → gn_ (fun s => kl_ K V s N) j = j → pr_ w (go_ K V (fun s => kl_ K V s N) (kt_ K V N) (nf_ K V N) j).length (gv_ K V (fun s => kl_ K V s N) (kt_ K V N) (nf_ K V N) j) := by
    intro j hj hvj
    refine pr_of ?_
    have h1 : go_ K V (fun s => kl_ K V s N) (kt_ K V N) (nf_ K V N) (j + 1) <+: w := by rw [hwm]; exact go_pre (by omega)
    have h2 : go_ K V (fun s => kl_ K V s N) (kt_ K V N) (nf_ K V N) (j + 1) = go_ K V (fun s => kl_ K V s N) (kt_ K V N) (nf_ K V N) j ++ gv_ K V (fun s => kl_ K V s N) (kt_ K V N) (nf_ K V N) j := by
      show (if _ then _ else _) = _; rw [if_pos hvj]
    rw [← h2]; exact h1
  by_cases hiN : i = N
  · refine ⟨?_, fun z => by omega⟩
    have : (go_ K V (fun s => kl_ K V s N) (kt_ K V N) (nf_ K V N) i).length = w.length := by rw [hwm, hiN]; rfl
    rw [this, List.getElem?_eq_none (Nat.le_refl _)]; simp
  have hi' : i < N := by omega
  -- a type or END at j: its first character
  have one : ∀ j, j < N → gn_ (fun s => kl_ K V s N) j = j → (ka_h (K j) = true ∨ ka_w (K j) = true ∨ K j = 4 ∨ K j = 9) → ∃ a, w[(go_ K V (fun s => kl_ K V s N) (kt_ K V N) (nf_ K V N) j).length]? = some a ∧ a ≠ 73 := by
    intro j hj hvj hty
    obtain ⟨a, r, ea, h73, _⟩ := ty_fc (kn := fun s => kl_ K V s N) (kt := kt_ K V N) (nf := nf_ K V N) hw hj hty
    have := at_ j hj hvj
    rw [ea] at this
    exact ⟨a, (pr_hd this).1, h73⟩
  have endc : ∀ j, j < N → gn_ (fun s => kl_ K V s N) j = j → K j = 11 → (pn_ K j ≠ [] → ∃ a, w[(go_ K V (fun s => kl_ K V s N) (kt_ K V N) (nf_ K V N) j).length]? = some a ∧ a ≠ 73) := by
    intro j hj hvj h11 hne
    have hnc := kl_nc hw hj (by omega)
    have h1 := at_ j hj hvj
    unfold gv_ at h1
    rw [hnc.2, if_neg (by decide), if_pos hnc.1, List.nil_append] at h1
    have h2 := (pr_app.mp h1).1
    have hpe : pe_ K V j = pn_ K j := by unfold pe_; rw [if_neg (by omega), if_neg (by omega), if_pos h11]
    rw [hpe] at h2
    unfold pn_ at h2 hne
    by_cases q : K (op_ K j) ≠ 3 ∧ tc_ K (op_ K j) j = rc_ K (op_ K j)
    · rw [if_pos q] at h2; exact ⟨118, (pr_hd h2).1, by decide⟩
    · rw [if_neg q, List.nil_append] at h2 hne
      by_cases q2 : K (op_ K j) = 10
      · rw [if_pos q2] at hne; exact absurd rfl hne
      · rw [if_neg q2] at h2; exact ⟨69, (pr_hd h2).1, by decide⟩
  have hvr := (hw i hi').1.1
  by_cases h10 : K i = 10
  · -- SIG
    have hnc := kl_nc hw hi' (by omega)
    have hen : ¬ en_ K (i + 1) := en_n (by omega) (by omega)
    have hgv : gv_ K V (fun s => kl_ K V s N) (kt_ K V N) (nf_ K V N) i = [] := by
      unfold gv_
      rw [hnc.2, if_neg (by decide), if_pos hnc.1]
      have hpe : pe_ K V i = [] := by unfold pe_; rw [if_neg (by omega), if_neg (by omega), if_neg (by omega), if_neg (by omega), if_pos h10]
      have hec : ec_ K (nf_ K V N) i = false := by unfold ec_; rw [eb_n.mpr hen, Bool.false_and]
      rw [hpe, hec]; rfl
    have hgo : go_ K V (fun s => kl_ K V s N) (kt_ K V N) (nf_ K V N) (i + 1) = go_ K V (fun s => kl_ K V s N) (kt_ K V N) (nf_ K V N) i := by
      show (if _ then _ else _) = _; rw [if_pos hv, hgv, List.append_nil]
    have hv1 : gn_ (fun s => kl_ K V s N) (i + 1) = i + 1 := by rw [gn_t hv]; show i + m1_ (kl_ K V i N) = _; unfold m1_; rw [if_pos hnc.1]
    have hf : ka_f (K i) = true := by rw [h10]; rfl
    have hi1 : i + 1 < N := by
      rcases Nat.lt_or_ge (i + 1) N with z | z
      · exact z
      · exfalso
        have := op_c1 hf
        rw [show i + 1 = N by omega, hcm] at this
        have h00 := wf_0 hw (by omega)
        rw [← this] at h10; omega
    have hop : op_ K (i + 1) = i := op_c1 hf
    have hvr1 := (hw (i + 1) hi1).1.1
    have hx : ∃ a, w[(go_ K V (fun s => kl_ K V s N) (kt_ K V N) (nf_ K V N) (i + 1)).length]? = some a ∧ a ≠ 73 := by
      rcases ft_c (hw (i + 1) hi1).2 (by omega) with y | y | y | ⟨y1, y2, y3, y4, y5⟩
      · exact absurd y.2 hen
      · exact absurd y.2.1 hen
      · exact absurd y.2.2 hen
      · by_cases h11 : K (i + 1) = 11
        · refine endc (i + 1) hi1 hv1 h11 ?_
          have heg : K (op_ K (i + 1) - 1) ≠ 11 := by
            rcases y5 with ⟨_, z, _⟩ | ⟨_, ⟨_, z⟩ | ⟨z, _⟩⟩
            · omega
            · rcases z with z | z
              · rw [hop] at z; omega
              · exact z.2
            · omega
          have hrc : rc_ K (op_ K (i + 1)) = 0 := by unfold rc_; rw [if_neg]; rw [hop]; rw [hop] at heg; omega
          have htc := (tc_e0 hw hi1 h11).mpr (by rw [hop])
          unfold pn_
          rw [if_pos ⟨by rw [hop]; omega, by rw [htc, hrc]⟩]; simp
        · refine one (i + 1) hi1 hv1 ?_
          rw [ka_hi, ka_wi]; omega
    rw [hgo] at hx
    obtain ⟨a, ha, h73⟩ := hx
    refine ⟨by rw [ha]; exact fun z => h73 (Option.some.inj z), fun _ _ => (List.getElem?_eq_some_iff.mp ha).1⟩
  · refine ⟨?_, fun _ z => absurd z h10⟩
    by_cases h11 : K i = 11
    · by_cases hpn : pn_ K i = []
      · -- the END of SIG with parameters
        have hf10 : K (op_ K i) = 10 := by
          apply Classical.byContradiction
          intro z
          unfold pn_ at hpn
          rw [if_neg z] at hpn
          exact absurd (List.append_eq_nil_iff.mp hpn).2 (by simp)
        have hN := sig_last hw hi' h11 hf10
        have hnc := kl_nc hw hi' (by omega)
        have hgo : go_ K V (fun s => kl_ K V s N) (kt_ K V N) (nf_ K V N) (i + 1) = go_ K V (fun s => kl_ K V s N) (kt_ K V N) (nf_ K V N) i := by
          show (if _ then _ else _) = _
          rw [if_pos hv]
          unfold gv_
          have hpe : pe_ K V i = pn_ K i := by unfold pe_; rw [if_neg (by omega), if_neg (by omega), if_pos h11]
          have hec : ec_ K (nf_ K V N) i = false := by
            unfold ec_; rw [eb_n.mpr (fun z => by have := ((en_e h11).mp z).1; omega), Bool.false_and]
          rw [hnc.2, if_neg (by decide), if_pos hnc.1, hpe, hpn, hec, if_neg (by decide)]
          simp
        have : (go_ K V (fun s => kl_ K V s N) (kt_ K V N) (nf_ K V N) i).length = w.length := by rw [← hgo, hwm, ← hN]; rfl
        rw [this, List.getElem?_eq_none (Nat.le_refl _)]; simp
      · obtain ⟨a, ha, h73⟩ := endc i hi' hv h11 hpn
        rw [ha]; exact fun z => h73 (Option.some.inj z)
    · obtain ⟨a, ha, h73⟩ := one i hi' hv (by rw [ka_hi, ka_wi]; omega)
      rw [ha]; exact fun z => h73 (Option.some.inj z)
section
variable {xo xb : Int64} {xl xs xg xu xd xc xe xp xf xz : Int32} {xK xV xO xT xS xA xY xN xW xk xt xH xn : Nat → Int32} {xq : Nat → Int64} {xy xF xZ xC xv : Nat → Int32}
variable {K V : Nat → Nat} {N : Nat} {i : Nat} {c : Bool} {n : Nat} {cs : Nat → List (Nat × Nat)} {cl : Nat → Bool} {l : Nat} {w : List Nat} {p : Nat}
/-- the name on top -/
theorem zb_pt {post : SX → Prop} {s : Nat} {r : List Nat} (hw : wf_ K V N) (hcm : op_ K N = 0) (hS : K N = 11) (hNl : N ≤ l) (hwm : w = mg_ K V N) (R : rd_ (tr_ K i) V i false n cs cl l w p xo xb xl xs xg xu xd xc xe xp xf xz xK xV xO xT xS xA xY xN xW xk xt xH xn xq xy xF xZ xC xv) (F : fi_ (tr_ K i) V i false xC) (h0 : xf = 0)
    (B : rb_ K V N i false p xn xC) (hen : en_ K i) (es : sk_ K i = s :: r) (hsh : ka_h (K s) = true)
    (HC : ∀ (i' : Nat) (c' : Bool) (p' n' : Nat) (cs' : Nat → List (Nat × Nat)) (cl' : Nat → Bool) (xs' xu' xd' xc' xe' xf' : Int32) (xK' xV' xO' xS' xA' xY' xN' xW' xk' xt' xH' : Nat → Int32) (xq' : Nat → Int64) (xy' xF' xZ' : Nat → Int32) (xn' xC' : Nat → Int32), (i < i' ∨ (i' = i ∧ c' = true)) → rd_ (tr_ K i') V i' c' n' cs' cl' l w p' xo xb xl xs' xg xu' xd' xc' xe' (nI p') xf' xz xK' xV' xO' xT xS' xA' xY' xN' xW' xk' xt' xH' xn' xq' xy' xF' xZ' xC' xv → xf' = 0 → fi_ (tr_ K i') V i' c' xC' → rb_ K V N i' c' p' xn' xC' → post (xo, xb, xl, xs', xg, xu', xd', xc', xe', nI p', xf', xz, xK', xV', xO', xT, xS', xA', xY', xN', xW', xk', xt', xH', xn', xq', xy', xF', xZ', xC', xv)) :
    wpX_readPart post (xo, xb, xl, xs, xg, xu, xd, xc, xe, xp, xf, xz, xK, xV, xO, xT, xS, xA, xY, xN, xW, xk, xt, xH, xn, xq, xy, xF, xZ, xC, xv) (nI s) := by
  have hL := R.2.2.2.2.2.2.2.2.2.1
  have hl48 := R.2.2.2.1
  have hwl := hL.2.1
  have ep : xp = nI p := hL.2.2.2.1
  have hiN := B.1
  have hip := hen.1
  have hsi := sk_lt (show s ∈ sk_ K i by rw [es]; simp)
  have hvs := B.2.2.2.2.2.2 rfl hen s r es
  have hxn := B.2.2.2.2.2.1 s hsi hvs hsh
  have hoe : oe_ K s (i - 1) = true := oe_i.mpr ⟨by rw [show i - 1 + 1 = i by omega]; exact hen, by rw [show i - 1 + 1 = i by omega, es]; rfl⟩
  by_cases h13 : K i = 1 ∨ K i = 3
  · have hi : i < N := by
      rcases Nat.lt_or_ge i N with z | z
      · exact z
      · rw [show i = N by omega, hS] at h13; omega
    have hgy := gb_p B (Or.inr (Or.inl ⟨h13, rfl⟩))
    obtain ⟨hp, hpl, hprf, _⟩ := gb_t hwm B hgy
    have hpr := hprf hi
    have hnc := kl_nc hw hi (by omega)
    unfold gv_ at hpr
    rw [hnc.2, if_neg (by decide), if_pos hnc.1, List.nil_append] at hpr
    have hpr := (pr_app.mp hpr).1
    have hV := (hw i hi).1.2.1
    have spell : ∀ q, q = p + (pe_ K V i).length → q < 2 ^ 20 → wpX_accept post (xo, xb, xl, xs, xg, xu, xd, xc, xe, nI q, xf, xz, xK, xV, xO, xT, xS, xA, xY, xN, xW, xk, xt, xH, xn, xq, xy, xF, xZ, xC, xv) (nI (K i)) (nI (V i)) (-1) := by
      intro q hq hq20
      refine zb_sp hw hNl hi (rd_p R hq20) F h0 B.2.2.2.2.1 B.2.1 hnc.1 (fun z => absurd z (by decide)) ?_
      intro n' cs' cl' xs' xu' xd' xc' xe' xf' xK' xV' xO' xS' xA' xY' xN' xW' xk' xt' xH' xq' xy' xF' xZ' R' e0 F'
      refine HC (i + 1) false q n' cs' cl' xs' xu' xd' xc' xe' xf' xK' xV' xO' xS' xA' xY' xN' xW' xk' xt' xH' xq' xy' xF' xZ' xn _ (Or.inl (by omega)) R' e0 F' ?_
      have := rb_sp (xn' := xn) hw hi B hnc.1 hgy (fun s hs => rfl) (fun z => by rw [ka_hi] at z; omega)
      rw [hnc.2, if_neg (by decide), List.nil_append, ← hq] at this
      exact this
    rcases h13 with h1 | h3
    · -- MEMBER
      have hpe : pe_ K V i = id_ (V i) := by unfold pe_; rw [if_pos (by omega)]
      rw [hpe] at hpr spell
      obtain ⟨a, r', ea, ha⟩ := id_fc (V i)
      have hc0 : w[p]? = some a := by rw [ea] at hpr; exact (pr_hd hpr).1
      have hos : oe_ K s i = true := by have := oe_1 hoe (by rw [show i - 1 + 1 = i by omega]; exact h1); rw [show i - 1 + 1 = i by omega] at this; exact this
      have hnf : nf_ K V N s = true := by
        unfold nf_
        rw [hm_i.mpr ⟨i, hi, hos, h1⟩, Bool.true_and]
        apply decide_eq_true
        have h2 := ne_le hi hos
        have hgv : s + m1_ (kl_ K V s N) ≤ gn_ (fun s => kl_ K V s N) i := gn_vis hvs hsi
        rw [B.2.1] at hgv
        by_cases z : kl_ K V s N = 0
        · omega
        · have : m1_ (kl_ K V s N) = kl_ K V s N := by unfold m1_; rw [if_neg z]
          omega
      rw [hnf, if_pos rfl] at hxn
      have hil : (id_ (V i)).length ≤ 3 := by unfold id_; split <;> simp
      have hm := mx_le (k := K i)
      refine zq_part hL (by omega) (by omega) (fun z => ?_) (fun _ z => ?_) (fun _ _ z => ?_) (fun _ _ _ => ?_)
      · rw [hc0] at z; have := Option.some.inj z; omega
      · rw [hxn] at z; exact absurd z (by decide)
      · rw [hc0] at z; have := Option.some.inj z; omega
      · refine zb_id (kd := 1) (v := V i) hL (by omega) (by omega) hpr ?_
        have := spell _ rfl (by omega)
        rw [h1] at this
        exact this
    · -- ARGS
      have hpe : pe_ K V i = [73] := by unfold pe_; rw [if_neg (by omega), if_neg (by omega), if_neg (by omega), if_neg (by omega), if_neg (by omega), if_neg (by omega), h3]; rfl
      rw [hpe] at hpr spell
      have hc0 := (pr_hd hpr).1
      have hV0 : V i = 0 := by rw [h3] at hV; exact Nat.le_zero.mp hV
      refine zq_part hL (by omega) (by omega) (fun _ => ?_) (fun z => absurd hc0 z) (fun z => absurd hc0 z) (fun z => absurd hc0 z)
      have := spell (p + 1) rfl (by omega)
      rw [h3, hV0] at this
      exact this
  · -- the name ends
    have hk13 : K i ≠ 1 ∧ K i ≠ 3 := by omega
    obtain ⟨hpd, _, hne⟩ := rb_pd hw hcm hS B hk13 hen es
    have hTi := R.2.2.2.2.2.2.2.2.2.2
    have hhm : hm_ K s N = hm_ K s i := by
      rw [Bool.eq_iff_iff, hm_i, hm_i]
      constructor
      · rintro ⟨e, a, b, d⟩
        have := ne_le a b
        exact ⟨e, by omega, b, d⟩
      · rintro ⟨e, a, b, d⟩
        exact ⟨e, by omega, b, d⟩
    have hH : xH s = if hm_ K s N = true then 1 else 0 := by
      rw [hTi.2.2.2.2.2.2.1 s hsi, gc_hm (b := i) tr_lt (Nat.le_refl _), hhm]
    have hN : xN s = nI (i - 1) := by
      rw [hTi.2.2.2.2.2.1 s hsi (by rw [tr_lt s hsi]; exact hsh), gc_ne (b := i) tr_lt (Nat.le_refl _)]
      obtain ⟨e, rfl⟩ : ∃ e, i = e + 1 := ⟨i - 1, by omega⟩
      show nI (if _ then _ else _) = _
      rw [if_pos (show oe_ K s e = true from hoe)]; rfl
    have hxC := B.2.2.2.2.1 s hsi hvs
    have hnfd : nf_ K V N s = (hm_ K s N && decide (kl_ K V s N + s ≤ i - 1)) := by unfold nf_; rw [hne]
    have hlt : xC s < xN s ↔ kl_ K V s N + s ≤ i - 1 := by
      rw [hN]
      by_cases z : kl_ K V s N = 0
      · rw [hxC.1 z]
        constructor
        · intro _; omega
        · intro _
          rw [Int32.lt_iff_toInt_lt, nI_toInt (by omega)]
          have : (-1 : Int32).toInt = -1 := by decide
          rw [this]; omega
      · rw [hxC.2 z s (Nat.le_refl _) (by omega), nI_ltI (by
          have : s + kl_ K V s N ≤ N := (kc_kl hw s (by omega) z).1
          omega) (by omega)]
        omega
    -- finishName
    have fin : ∀ q, q = p + (if pd_ K (fun s => kl_ K V s N) (nf_ K V N) i = true then 1 else 0) → q < 2 ^ 20 → wpX_finishName post (xo, xb, xl, xs, xg, xu, xd, xc, xe, nI q, xf, xz, xK, xV, xO, xT, xS, xA, xY, xN, xW, xk, xt, xH, xn, xq, xy, xF, xZ, xC, xv) (nI s) := by
      intro q hq hq20
      refine zq_fin (by omega) (fun _ => ?_) (fun z => absurd ?_ z)
      · refine zq_cl2 (R := rd_p R hq20) hip F h0 ?_
        intro n' cs' cl' xs' xu' xd' xc' xe' xf' xK' xV' xO' xS' xA' xY' xN' xW' xk' xt' xH' xq' xy' xF' xZ' R' hfx
        rcases hfx with ⟨e0, F'⟩ | ⟨_, hb⟩
        · refine HC i true q n' cs' cl' xs' xu' xd' xc' xe' xf' xK' xV' xO' xS' xA' xY' xN' xW' xk' xt' xH' xq' xy' xF' xZ' xn xC (Or.inr ⟨rfl, rfl⟩) R' e0 F' ?_
          rw [hq]; exact rb_cl hw hcm B hk13
        · exfalso
          refine zb_bd3 hw (by omega) hiN hip hk13 (fun j hj hkj x a b hx => ?_) hb
          have hji : j < i := by omega
          exact (B.2.2.2.2.1 j hji hj).2 hkj x a b
      · rw [hxn, hH, hlt, hnfd]
        cases hm_ K s N with
        | true =>
          by_cases y : kl_ K V s N + s ≤ i - 1
          · rw [decide_eq_true y]; exact Or.inl ⟨rfl, by decide, y⟩
          · rw [decide_eq_false y]; exact Or.inr ⟨rfl, fun z => y z.2⟩
        | false => exact Or.inr ⟨rfl, fun z => z.1 rfl⟩
    have hgz : gy_ K V (fun s => kl_ K V s N) (kt_ K V N) (nf_ K V N) false i ++ (if pd_ K (fun s => kl_ K V s N) (nf_ K V N) i = true then [69] else []) = go_ K V (fun s => kl_ K V s N) (kt_ K V N) (nf_ K V N) i := by
      obtain ⟨e, rfl⟩ : ∃ e, i = e + 1 := ⟨i - 1, by omega⟩
      rw [go_gz, decide_eq_true hk13, Bool.and_true]
      show (gz_ K V _ _ _ e ++ (if (false && _) = true then [69] else [])) ++ _ = _
      rw [Bool.false_and, if_neg (c := false = true) (by decide), List.append_nil]
    have hpre : go_ K V (fun s => kl_ K V s N) (kt_ K V N) (nf_ K V N) i <+: w := by rw [hwm]; exact go_pre hiN
    have hpl : p ≤ w.length := by
      have := hpre.length_le
      rw [← hgz, List.length_append, ← B.2.2.1] at this
      omega
    cases hnf : nf_ K V N s with
    | true =>
      rw [hnf] at hpd hxn
      rw [if_pos rfl] at hxn
      have hc0 : w[p]? = some 69 := by
        rw [← hgz, hpd, if_pos rfl] at hpre
        have := pr_of hpre
        rw [← B.2.2.1] at this
        exact (pr_hd this).1
      refine zq_part hL (by omega) (by omega) (fun z => ?_) (fun _ z => ?_) (fun _ _ _ => ?_) (fun _ _ z => absurd hc0 z)
      · rw [hc0] at z; have := Option.some.inj z; omega
      · rw [hxn] at z; exact absurd z (by decide)
      · exact fin (p + 1) (by rw [hpd]; rfl) (by omega)
    | false =>
      rw [hnf] at hpd hxn
      rw [if_neg (by decide)] at hxn
      have hpg : p = (go_ K V (fun s => kl_ K V s N) (kt_ K V N) (nf_ K V N) i).length := by
        rw [← hgz, hpd, if_neg (by decide), List.append_nil]; exact B.2.2.1
      have hnc := (nc_ hw hcm hS hwm hiN B.2.1 hk13).1
      rw [← hpg] at hnc
      refine zq_part hL (by omega) (by omega) (fun z => absurd z hnc) (fun _ _ => ?_) (fun _ z => absurd hxn z) (fun _ z => absurd hxn z)
      have := fin p (by rw [hpd]; rfl) (by omega)
      rw [← ep] at this
      exact this
end
end
section
/-! X reads the symbol of given nodes: the loop -/
theorem ss_top {K V : Nat → Nat} {N i x : Nat} {c : Bool} {r : List Nat} (hw : wf_ K V N) (hi : i ≤ N) (h : ss_ K i c = x :: r) (hx : ka_h (K x) = false) :
    op_ K i ≠ 0 ∧ (c = true ∨ ¬ en_ K i) ∧ ((ka_w (K x) = true ∧ x = i - 1) ∨ (ka_f (K x) = true ∧ x = op_ K i)) ∧ 0 < i := by
  have hip : 0 < i := by
    have := sk_lt (ss_suf.subset (show x ∈ ss_ K i c by rw [h]; simp)); omega
  have hcen : c = true ∨ ¬ en_ K i := by
    cases c with
    | true => exact Or.inl rfl
    | false =>
      refine Or.inr (fun z => ?_)
      obtain ⟨s, r', es, hs, _⟩ := en_top hw hi z
      have h' : sk_ K i = x :: r := h
      rw [es] at h'
      rw [(List.cons.inj h').1, hx] at hs; exact absurd hs (by decide)
  have h0 := wf_0 hw (by omega)
  rcases (si_all hw i hi).2.2 hip with ⟨hwr, hne, ho, r', es⟩ | ⟨he, _, s, r', es, hs⟩ | ⟨hne, _, ho, r', es⟩ | ⟨_, _, _, es⟩
  · refine ⟨ho, hcen, Or.inl ?_, hip⟩
    have : x = i - 1 := by
      cases c with
      | true =>
        have h' : sk_c K (sk_ K i) = x :: r := h
        rw [es, sk_c_n (gs_xor hwr).1] at h'
        exact (List.cons.inj h').1.symm
      | false =>
        have h' : sk_ K i = x :: r := h
        rw [es] at h'
        exact (List.cons.inj h').1.symm
    rw [this]; exact ⟨hwr, rfl⟩
  · have hct := hcen.resolve_right (fun z => z he)
    subst hct
    have h' : sk_c K (sk_ K i) = x :: r := h
    rcases en_op hw hi es hs with ⟨q1, _, _⟩ | ⟨_, q2, r2, _, q4, q5⟩
    · rw [es, sk_c_h hs, q1] at h'; exact absurd h' (by simp [sk_w])
    · rw [q4] at h'
      rw [← (List.cons.inj h').1]
      exact ⟨q2, Or.inl rfl, Or.inr ⟨q5, rfl⟩, hip⟩
  · have hof := op_fs ho
    have : x = op_ K i := by
      cases c with
      | true =>
        have h' : sk_c K (sk_ K i) = x :: r := h
        rw [es, sk_c_n (gs_xof hof.2.2).2] at h'
        exact (List.cons.inj h').1.symm
      | false =>
        have h' : sk_ K i = x :: r := h
        rw [es] at h'
        exact (List.cons.inj h').1.symm
    rw [this]; exact ⟨ho, hcen, Or.inr ⟨hof.2.2, rfl⟩, hip⟩
  · exfalso
    have := ss_suf.subset (show x ∈ ss_ K i c by rw [h]; simp)
    rw [es] at this; exact absurd this (by simp)
theorem ss_nil {K V : Nat → Nat} {N i : Nat} {c : Bool} (hw : wf_ K V N) (hi : i ≤ N) (h : ss_ K i c = []) : op_ K i = 0 ∧ (c = true ∨ ¬ en_ K i) := by
  constructor
  · have h2 := (si_all hw i hi).2.1
    have : ff_ K (ss_ K i c) = fs_ K i := by
      rw [← h2]
      unfold ss_
      cases c with
      | true => rw [if_pos rfl, ff_c]
      | false => rw [if_neg (by decide)]
    rw [h] at this
    exact op_nil this.symm
  · cases c with
    | true => exact Or.inl rfl
    | false =>
      refine Or.inr (fun z => ?_)
      obtain ⟨s, r', es, hs, _⟩ := en_top hw hi z
      have h' : sk_ K i = [] := h
      rw [es] at h'; exact absurd h' (by simp)
section
variable {xo xb : Int64} {xl xs xg xu xd xc xe xp xf xz : Int32} {xK xV xO xT xS xA xY xN xW xk xt xH xn : Nat → Int32} {xq : Nat → Int64} {xy xF xZ xC xv : Nat → Int32}
variable {K V : Nat → Nat} {N : Nat} {i : Nat} {c : Bool} {n : Nat} {cs : Nat → List (Nat × Nat)} {cl : Nat → Bool} {l : Nat} {w : List Nat} {p : Nat}
theorem zb_step {post : SX → Prop} (hw : wf_ K V N) (h0N : 0 < N) (hcm : op_ K N = 0) (hS : K N = 11) (hNl : N ≤ l) (hwm : w = mg_ K V N) (R : rd_ (tr_ K i) V i c n cs cl l w p xo xb xl xs xg xu xd xc xe xp xf xz xK xV xO xT xS xA xY xN xW xk xt xH xn xq xy xF xZ xC xv) (F : fi_ (tr_ K i) V i c xC) (h0 : xf = 0) (hz0 : xz = 0)
    (B : rb_ K V N i c p xn xC)
    (HC : ∀ (i' : Nat) (c' : Bool) (p' n' : Nat) (cs' : Nat → List (Nat × Nat)) (cl' : Nat → Bool) (xs' xu' xd' xc' xe' xf' : Int32) (xK' xV' xO' xS' xA' xY' xN' xW' xk' xt' xH' : Nat → Int32) (xq' : Nat → Int64) (xy' xF' xZ' : Nat → Int32) (xn' xC' : Nat → Int32), (i < i' ∨ (i' = i ∧ c = false ∧ c' = true)) → rd_ (tr_ K i') V i' c' n' cs' cl' l w p' xo xb xl xs' xg xu' xd' xc' xe' (nI p') xf' xz xK' xV' xO' xT xS' xA' xY' xN' xW' xk' xt' xH' xn' xq' xy' xF' xZ' xC' xv → xf' = 0 → fi_ (tr_ K i') V i' c' xC' → rb_ K V N i' c' p' xn' xC' → post (xo, xb, xl, xs', xg, xu', xd', xc', xe', nI p', xf', xz, xK', xV', xO', xT, xS', xA', xY', xN', xW', xk', xt', xH', xn', xq', xy', xF', xZ', xC', xv))
    (HD : ∀ (c' : Bool) (p' n' : Nat) (cs' : Nat → List (Nat × Nat)) (cl' : Nat → Bool) (xs' xu' xd' xc' xe' xf' : Int32) (xK' xV' xO' xS' xA' xY' xN' xW' xk' xt' xH' : Nat → Int32) (xq' : Nat → Int64) (xy' xF' xZ' : Nat → Int32) (xC' : Nat → Int32), rd_ (tr_ K N) V N c' n' cs' cl' l w p' xo xb xl xs' xg xu' xd' xc' xe' (nI p') xf' 1 xK' xV' xO' xT xS' xA' xY' xN' xW' xk' xt' xH' xn xq' xy' xF' xZ' xC' xv → xf' = 0 → post (xo, xb, xl, xs', xg, xu', xd', xc', xe', nI p', xf', 1, xK', xV', xO', xT, xS', xA', xY', xN', xW', xk', xt', xH', xn, xq', xy', xF', xZ', xC', xv)) :
    wpX_readStep post (xo, xb, xl, xs, xg, xu, xd, xc, xe, xp, xf, xz, xK, xV, xO, xT, xS, xA, xY, xN, xW, xk, xt, xH, xn, xq, xy, xF, xZ, xC, xv) := by
  have hL := R.2.2.2.2.2.2.2.2.2.1
  have hl48 := R.2.2.2.1
  have hwl := hL.2.1
  have ep : xp = nI p := hL.2.2.2.1
  have hp20 := hL.2.2.2.2
  have hiN := B.1
  have hK0 := wf_0 hw h0N
  have hss : ss_ (tr_ K i) i c = ss_ K i c := gc_ss (b := i) tr_lt
  have hlt : ∀ x, x ∈ ss_ K i c → x < i := fun x hx => sk_lt (ss_suf.subset hx)
  -- a node that is spelled out and no head
  have spell : ∀ (q : Nat) (z : Int32), i < N → (K i ≠ 1 ∧ K i ≠ 3) → gy_ K V (fun s => kl_ K V s N) (kt_ K V N) (nf_ K V N) c i = go_ K V (fun s => kl_ K V s N) (kt_ K V N) (nf_ K V N) i → q = p + (pe_ K V i).length → kl_ K V i N = 0 → nf_ K V N i = false → ka_h (K i) = false → q < 2 ^ 20 →
      (∀ (n' : Nat) (cs' : Nat → List (Nat × Nat)) (cl' : Nat → Bool) (xs' xu' xd' xc' xe' xf' : Int32) (xK' xV' xO' xS' xA' xY' xN' xW' xk' xt' xH' : Nat → Int32) (xq' : Nat → Int64) (xy' xF' xZ' : Nat → Int32), rd_ (tr_ K (i + 1)) V (i + 1) false n' cs' cl' l w q xo xb xl xs' xg xu' xd' xc' xe' (nI q) xf' z xK' xV' xO' xT xS' xA' xY' xN' xW' xk' xt' xH' xn xq' xy' xF' xZ' (upd xC i (-1)) xv → xf' = 0 → fi_ (tr_ K (i + 1)) V (i + 1) false (upd xC i (-1)) → rb_ K V N (i + 1) false q xn (upd xC i (-1)) → post (xo, xb, xl, xs', xg, xu', xd', xc', xe', nI q, xf', z, xK', xV', xO', xT, xS', xA', xY', xN', xW', xk', xt', xH', xn, xq', xy', xF', xZ', upd xC i (-1), xv)) →
      wpX_accept post (xo, xb, xl, xs, xg, xu, xd, xc, xe, nI q, xf, z, xK, xV, xO, xT, xS, xA, xY, xN, xW, xk, xt, xH, xn, xq, xy, xF, xZ, xC, xv) (nI (K i)) (nI (V i)) (-1) := by
    intro q z hi hk13 hgy hq hk hnf hh hq20 HX
    refine zb_sp hw hNl hi (rd_p R hq20) F h0 B.2.2.2.2.1 B.2.1 hk (fun _ => hk13) ?_
    intro n' cs' cl' xs' xu' xd' xc' xe' xf' xK' xV' xO' xS' xA' xY' xN' xW' xk' xt' xH' xq' xy' xF' xZ' R' e0 F'
    refine HX n' cs' cl' xs' xu' xd' xc' xe' xf' xK' xV' xO' xS' xA' xY' xN' xW' xk' xt' xH' xq' xy' xF' xZ' R' e0 F' ?_
    have := rb_sp (xn' := xn) hw hi B hk hgy (fun s hs => rfl) (fun z => by rw [hh] at z; exact absurd z (by decide))
    rw [hnf, if_neg (by decide), List.nil_append, ← hq] at this
    exact this
  have tyHC : ∀ (i' : Nat) (c' : Bool) (p' n' : Nat) (cs' : Nat → List (Nat × Nat)) (cl' : Nat → Bool) (xs' xu' xd' xc' xe' xf' : Int32) (xK' xV' xO' xS' xA' xY' xN' xW' xk' xt' xH' : Nat → Int32) (xq' : Nat → Int64) (xy' xF' xZ' : Nat → Int32) (xn' xC' : Nat → Int32), i < i' → rd_ (tr_ K i') V i' c' n' cs' cl' l w p' xo xb xl xs' xg xu' xd' xc' xe' (nI p') xf' xz xK' xV' xO' xT xS' xA' xY' xN' xW' xk' xt' xH' xn' xq' xy' xF' xZ' xC' xv → xf' = 0 → fi_ (tr_ K i') V i' c' xC' → rb_ K V N i' c' p' xn' xC' → post (xo, xb, xl, xs', xg, xu', xd', xc', xe', nI p', xf', xz, xK', xV', xO', xT, xS', xA', xY', xN', xW', xk', xt', xH', xn', xq', xy', xF', xZ', xC', xv) :=
    fun i' c' p' n' cs' cl' xs' xu' xd' xc' xe' xf' xK' xV' xO' xS' xA' xY' xN' xW' xk' xt' xH' xq' xy' xF' xZ' xn' xC' a1 a2 a3 a4 a5 => HC i' c' p' n' cs' cl' xs' xu' xd' xc' xe' xf' xK' xV' xO' xS' xA' xY' xN' xW' xk' xt' xH' xq' xy' xF' xZ' xn' xC' (Or.inl a1) a2 a3 a4 a5
  refine zq_step R (fun hi0 => ?_) (fun hs hip hpl => ?_) (fun hs hip hpl => ?_) (fun x r hs hx => ?_) (fun s r hs hx => ?_) (fun f r hs hx hf0 => ?_)
  · subst hi0
    exact zb_ty hw hcm hS hNl hwm h0N R F h0 B (Or.inl (by rw [hK0]; rfl)) (Or.inr (fun z => by have := z.1; omega)) tyHC
  · rw [hss] at hs
    have hn := ss_nil hw hiN hs
    have hiN' : i = N := by
      rcases Nat.lt_or_ge i N with z | z
      · exfalso
        have hk13 : K i ≠ 1 ∧ K i ≠ 3 := by
          rcases hn.2 with y | y
          · exact B.2.2.2.1 y
          · constructor
            · intro q
              rcases ft_c (hw i z).2 hip with u | u | u | u
              · exact y u.2
              · omega
              · omega
              · exact u.1 q
            · intro q
              rcases ft_c (hw i z).2 hip with u | u | u | u
              · omega
              · exact y u.2.1
              · omega
              · exact u.2.1 q
        have h10 : K i = 10 := by
          rcases ft_c (hw i z).2 hip with u | u | u | u
          · exact absurd u.1 hk13.1
          · exact absurd u.1 hk13.2
          · exact u.1
          · exact absurd hn.1 u.2.2.2.1
        have hgy := gb_p B (Or.inr (Or.inr ⟨hk13.1, hk13.2, hn.2⟩))
        have := (nc_ hw hcm hS hwm hiN B.2.1 hk13).2 z h10
        rw [← (gb_t hwm B hgy).1] at this
        omega
      · omega
    subst hiN'
    have := HD c p n cs cl xs xu xd xc xe xf xK xV xO xS xA xY xN xW xk xt xH xq xy xF xZ xC (rd_p (xf' := xf) (xz' := 1) (xn' := xn) (xC' := xC) (xv' := xv) R hp20) h0
    rw [← ep] at this
    exact this
  · rw [hss] at hs
    have hn := ss_nil hw hiN hs
    have hi : i < N := by
      rcases Nat.lt_or_ge i N with z | z
      · exact z
      · exfalso
        have e1 : i = N := by omega
        have hgy := gb_p B (Or.inr (Or.inr ⟨by rw [e1, hS]; decide, by rw [e1, hS]; decide, hn.2⟩))
        have := (gb_t hwm B hgy).2.2.2 e1
        omega
    have hk13 : K i ≠ 1 ∧ K i ≠ 3 := by
      rcases hn.2 with y | y
      · exact B.2.2.2.1 y
      · constructor
        · intro q
          rcases ft_c (hw i hi).2 hip with u | u | u | u
          · exact y u.2
          · omega
          · omega
          · exact u.1 q
        · intro q
          rcases ft_c (hw i hi).2 hip with u | u | u | u
          · omega
          · exact y u.2.1
          · omega
          · exact u.2.1 q
    have h10 : K i = 10 := by
      rcases ft_c (hw i hi).2 hip with u | u | u | u
      · exact absurd u.1 hk13.1
      · exact absurd u.1 hk13.2
      · exact u.1
      · exact absurd hn.1 u.2.2.2.1
    have hgy := gb_p B (Or.inr (Or.inr ⟨hk13.1, hk13.2, hn.2⟩))
    have hnc := kl_nc hw hi (by omega)
    have hpe : pe_ K V i = [] := by unfold pe_; rw [if_neg (by omega), if_neg (by omega), if_neg (by omega), if_neg (by omega), if_pos h10]
    have hV0 : V i = 0 := by have := (hw i hi).1.2.1; rw [h10] at this; exact Nat.le_zero.mp this
    have := spell p xz hi hk13 hgy (by rw [hpe]; rfl) hnc.1 hnc.2 (by rw [h10]; rfl) hp20 (fun n' cs' cl' xs' xu' xd' xc' xe' xf' xK' xV' xO' xS' xA' xY' xN' xW' xk' xt' xH' xq' xy' xF' xZ' R' e0 F' B' => HC (i + 1) false p n' cs' cl' xs' xu' xd' xc' xe' xf' xK' xV' xO' xS' xA' xY' xN' xW' xk' xt' xH' xq' xy' xF' xZ' xn _ (Or.inl (by omega)) R' e0 F' B')
    rw [h10, hV0, ← ep] at this
    exact this
  · rw [hss] at hs
    have hxi := hlt x (by rw [hs]; simp)
    rw [tr_lt x hxi] at hx
    have hn := ss_top hw hiN hs (gs_xor hx).1
    have hi : i < N := by
      rcases Nat.lt_or_ge i N with z | z
      · exact z
      · exfalso; rw [show i = N by omega] at hn; exact hn.1 hcm
    have hprev : ka_w (K (i - 1)) = true := by
      rcases hn.2.2.1 with y | y
      · rw [← y.2]; exact hx
      · rw [(gs_xor hx).2] at y; exact absurd y.1 (by decide)
    refine zb_ty hw hcm hS hNl hwm hi R F h0 B ?_ hn.2.1 tyHC
    by_cases y : ka_w (K i) = true
    · exact Or.inr (Or.inl y)
    · rcases wf_w hw hi hn.2.2.2 hprev (by simpa using y) with u | u | u
      · exact Or.inl u
      · exact Or.inr (Or.inr (Or.inl u))
      · exact Or.inr (Or.inr (Or.inr u))
  · rw [hss] at hs
    have hxi := hlt s (by rw [hs]; simp)
    rw [tr_lt s hxi] at hx
    have hcf : c = false := by
      cases c with
      | false => rfl
      | true =>
        have := sk_cc hw hiN (show sk_c K (sk_ K i) = s :: r from hs)
        rw [hx] at this; exact absurd this (by decide)
    subst hcf
    have es : sk_ K i = s :: r := hs
    refine zb_pt hw hcm hS hNl hwm R F h0 B (en_hd hw hiN es hx) es hx ?_
    intro i' c' p' n' cs' cl' xs' xu' xd' xc' xe' xf' xK' xV' xO' xS' xA' xY' xN' xW' xk' xt' xH' xq' xy' xF' xZ' xn' xC' a1 a2 a3 a4 a5
    refine HC i' c' p' n' cs' cl' xs' xu' xd' xc' xe' xf' xK' xV' xO' xS' xA' xY' xN' xW' xk' xt' xH' xq' xy' xF' xZ' xn' xC' ?_ a2 a3 a4 a5
    rcases a1 with z | z
    · exact Or.inl z
    · exact Or.inr ⟨z.1, rfl, z.2⟩
  · rw [hss] at hs
    have hfi := hlt f (by rw [hs]; simp)
    have hx' : ka_f (K f) = true := by rw [tr_lt f hfi] at hx; exact hx
    have hn := ss_top hw hiN hs (gs_xof hx').2
    have hfo : f = op_ K i := by
      rcases hn.2.2.1 with y | y
      · rw [(gs_xof hx').1] at y; exact absurd y.1 (by decide)
      · exact y.2
    have hi : i < N := by
      rcases Nat.lt_or_ge i N with z | z
      · exact z
      · exfalso; rw [show i = N by omega] at hn; exact hn.1 hcm
    have hip := hn.2.2.2
    have hft := ft_c (hw i hi).2 hip
    have hk13 : K i ≠ 1 ∧ K i ≠ 3 := by
      rcases hn.2.1 with y | y
      · exact B.2.2.2.1 y
      · constructor
        · intro q
          rcases hft with u | u | u | u
          · exact y u.2
          · omega
          · omega
          · exact u.1 q
        · intro q
          rcases hft with u | u | u | u
          · omega
          · exact y u.2.1
          · omega
          · exact u.2.1 q
    have hgy := gb_p B (Or.inr (Or.inr ⟨hk13.1, hk13.2, hn.2.1⟩))
    obtain ⟨hp, hpl, hprf, _⟩ := gb_t hwm B hgy
    have hpr := hprf hi
    have hTi := R.2.2.2.2.2.2.2.2.2.2
    -- the number of types
    have htp : tp_ K f c i = tc_ K f i := by
      obtain ⟨e, rfl⟩ : ∃ e, i = e + 1 := ⟨i - 1, by omega⟩
      refine tp_same (Or.inl ?_)
      rw [decide_eq_true hk13, Bool.and_true]
      rcases hn.2.1 with y | y
      · rw [y, Bool.true_and]
      · rw [eb_n.mpr y, Bool.and_false]
    have hY : xY f = nI (tc_ K f i) := by
      rw [hTi.2.2.2.2.2.2.2.1 f hfi hx, gc_tp (b := i) tr_lt, htp]
    have hrc : rc_ (tr_ K i) f = rc_ K f := by unfold rc_; rw [tr_lt f hfi, tr_lt (f - 1) (by omega)]
    have htcl := tc_le (K := K) (f := f) i
    have hKf : tr_ K i f = K f := tr_lt f hfi
    by_cases h11 : K i = 11
    · -- END
      have hnc := kl_nc hw hi (by omega)
      have hpe : pe_ K V i = pn_ K i := by unfold pe_; rw [if_neg (by omega), if_neg (by omega), if_pos h11]
      unfold gv_ at hpr
      rw [hnc.2, if_neg (by decide), if_pos hnc.1, List.nil_append, hpe] at hpr
      have hpn := (pr_app.mp hpr).1
      have hV0 : V i = 0 := by have := (hw i hi).1.2.1; rw [h11] at this; exact Nat.le_zero.mp this
      have hpnf : pn_ K i = (if K f ≠ 3 ∧ tc_ K f i = rc_ K f then [118] else []) ++ (if K f = 10 then [] else [69]) := by unfold pn_; rw [← hfo]
      have hrcle := rc_le (K := K) (f := f)
      have hmore : ¬ (K f ≠ 3 ∧ tc_ K f i = rc_ K f) → rc_ K f < tc_ K f i := by
        intro z
        have h0' := tc_e0 hw hi h11
        rw [← hfo] at h0'
        have heg : f + 1 < i ∨ (K f = 10 ∧ K (f - 1) ≠ 11) := by
          rcases hft with u | u | u | ⟨_, _, _, _, ⟨_, u, _⟩ | ⟨_, ⟨_, u⟩ | ⟨u, _⟩⟩⟩
          · omega
          · omega
          · omega
          · omega
          · unfold eg_ at u
            rw [← hfo] at u
            rcases u with u | u
            · exact Or.inl (by omega)
            · exact Or.inr u
          · omega
        by_cases hk3 : K f = 3
        · have hrc0 : rc_ K f = 0 := by unfold rc_; rw [if_neg (by omega)]
          have : tc_ K f i ≠ 0 := fun y => by have := h0'.mp y; omega
          omega
        · have hne : tc_ K f i ≠ rc_ K f := fun y => z ⟨hk3, y⟩
          rcases Nat.lt_or_ge (rc_ K f) (tc_ K f i) with y | y
          · exact y
          · exfalso
            have ht0 : tc_ K f i = 0 := by omega
            have hr1 : rc_ K f = 1 := by omega
            have hfi1 := h0'.mp ht0
            rcases heg with u | u
            · omega
            · have : rc_ K f = 0 := by unfold rc_; rw [if_neg (by omega)]
              omega
      have hpnl : (pn_ K i).length ≤ 2 := by rw [hpnf, List.length_append]; split <;> split <;> simp
      -- accept END
      have acc : ∀ (q : Nat) (z : Int32), q = p + (pn_ K i).length → ((K f = 10 ∧ z = 1) ∨ (K f ≠ 10 ∧ z = 0)) → wpX_accept post (xo, xb, xl, xs, xg, xu, xd, xc, xe, nI q, xf, z, xK, xV, xO, xT, xS, xA, xY, xN, xW, xk, xt, xH, xn, xq, xy, xF, xZ, xC, xv) (nI 11) (nI 0) (-1) := by
        intro q z hq hz
        have := spell q z hi hk13 hgy (by rw [hpe]; exact hq) hnc.1 hnc.2 (by rw [h11]; rfl) (by omega) (fun n' cs' cl' xs' xu' xd' xc' xe' xf' xK' xV' xO' xS' xA' xY' xN' xW' xk' xt' xH' xq' xy' xF' xZ' R' e0 F' B' => by
          rcases hz with ⟨hf10, e1⟩ | ⟨hf10, e1⟩
          · subst e1
            have hN1 := sig_last hw hi h11 (by rw [← hfo]; exact hf10)
            rw [← hN1] at R'
            exact HD false q n' cs' cl' xs' xu' xd' xc' xe' xf' xK' xV' xO' xS' xA' xY' xN' xW' xk' xt' xH' xq' xy' xF' xZ' _ R' e0
          · subst e1
            have := HC (i + 1) false q n' cs' cl' xs' xu' xd' xc' xe' xf' xK' xV' xO' xS' xA' xY' xN' xW' xk' xt' xH' xq' xy' xF' xZ' xn (upd xC i (-1)) (Or.inl (by omega))
            rw [hz0] at this
            exact this R' e0 F' B')
        rw [h11, hV0] at this
        exact this
      have hlast : K f = 10 → p + (pn_ K i).length = w.length := by
        intro hf10
        have hN1 := sig_last hw hi h11 (by rw [← hfo]; exact hf10)
        have hec : ec_ K (nf_ K V N) i = false := by
          unfold ec_; rw [eb_n.mpr (fun y => by have := ((en_e h11).mp y).1; rw [← hfo] at this; omega), Bool.false_and]
        have hgo : go_ K V (fun s => kl_ K V s N) (kt_ K V N) (nf_ K V N) (i + 1) = go_ K V (fun s => kl_ K V s N) (kt_ K V N) (nf_ K V N) i ++ pn_ K i := by
          show (if _ then _ else _) = _
          rw [if_pos B.2.1]
          unfold gv_
          rw [hnc.2, if_neg (by decide), if_pos hnc.1, hpe, hec, if_neg (by decide), List.append_nil, List.nil_append]
        rw [hp, ← List.length_append, ← hgo, hwm, ← hN1]; rfl
      by_cases hem : K f ≠ 3 ∧ tc_ K f i = rc_ K f
      · rw [if_pos hem] at hpnf
        rw [hpnf] at hpn
        have h118 := (pr_hd hpn).1
        refine zq_li R (by omega) hfi hf0 hx hY (by omega) (fun b hb => ?_) (fun z => ?_) (fun z1 z2 z3 z4 => ?_)
        · rw [hrc, hKf] at hb
          rw [hKf]
          have hb1 : b = 1 := by
            rcases hb with u | u
            · exact u.1
            · omega
          subst hb1
          refine ⟨fun q10 _ => acc (p + 1) 1 ?_ (Or.inl ⟨q10, rfl⟩), fun q10 _ => acc (p + 1 + 1) 0 ?_ (Or.inr ⟨q10, rfl⟩)⟩
          · rw [hpnf, if_pos q10]; rfl
          · rw [hpnf, if_neg q10]; rfl
        · exfalso; rw [hrc, hKf] at z; exact z ⟨hem.1, hem.2, h118⟩
        · exfalso
          rw [hKf] at z4
          by_cases q10 : K f = 10
          · refine z4 (Or.inl ⟨q10, ?_⟩)
            have := hlast q10
            rw [hpnf, if_pos q10] at this
            exact Nat.le_of_eq this.symm
          · rw [if_neg q10] at hpn
            exact z4 (Or.inr ⟨q10, (pr_hd (pr_hd hpn).2).1⟩)
      · have hlt2 := hmore hem
        rw [if_neg hem, List.nil_append] at hpnf
        rw [hpnf] at hpn
        refine zq_li R (by omega) hfi hf0 hx hY (by omega) (fun b hb => ?_) (fun _ z => ?_) (fun z1 z2 z3 z4 => ?_)
        · rw [hrc, hKf] at hb
          rw [hKf]
          have hb0 : b = 0 := by
            rcases hb with u | u
            · exact absurd ⟨u.2.1, u.2.2.1⟩ hem
            · exact u.1
          subst hb0
          refine ⟨fun q10 _ => acc p 1 ?_ (Or.inl ⟨q10, rfl⟩), fun q10 _ => acc (p + 1) 0 ?_ (Or.inr ⟨q10, rfl⟩)⟩
          · rw [hpnf, if_pos q10]; rfl
          · rw [hpnf, if_neg q10]; rfl
        · exfalso
          rw [hrc, hKf] at z
          refine z ⟨hlt2, ?_⟩
          by_cases q10 : K f = 10
          · refine Or.inl ⟨q10, ?_⟩
            have := hlast q10
            rw [hpnf, if_pos q10] at this
            exact Nat.le_of_eq this.symm
          · rw [if_neg q10] at hpn
            exact Or.inr ⟨q10, (pr_hd hpn).1⟩
        · exfalso; rw [hrc] at z2; rw [hKf] at z1; exact hem ⟨z1, z2⟩
    · -- a type
      have hvr := (hw i hi).1.1
      have hty : ka_h (K i) = true ∨ ka_w (K i) = true ∨ K i = 4 ∨ K i = 9 := by
        rw [ka_hi, ka_wi]
        rcases hft with u | u | u | u
        · omega
        · omega
        · exact absurd u.2.1 hn.1
        · omega
      obtain ⟨a, r', ea, h73, h69, h118, _⟩ := ty_fc (kn := fun s => kl_ K V s N) (kt := kt_ K V N) (nf := nf_ K V N) hw hi hty
      rw [ea] at hpr
      have hc0 := (pr_hd hpr).1
      have hplt : p < w.length := (List.getElem?_eq_some_iff.mp hc0).1
      -- no v where nothing is owed
      have hnov : K f ≠ 3 → tc_ K f i = rc_ K f → w[p]? ≠ some 118 := by
        intro hk3 htr z
        rw [hc0] at z
        have h4 := h118 (Option.some.inj z)
        have heg : eg_ K i := by
          unfold eg_
          rw [← hfo]
          by_cases hf1 : i - 1 = f
          · right
            have hf1' : i = f + 1 := by omega
            have htc0 : tc_ K f i = 0 := by
              rw [hf1']
              refine tc_no (fun e he => ?_)
              rcases Nat.lt_or_ge e f with y | y
              · exact te_lt (by omega) y
              · rw [show e = f by omega]; exact te_f hx'
            have hkk := ka_fi.mp hx'
            rw [htc0] at htr
            unfold rc_ at htr
            by_cases y : K f = 9 ∨ (K f = 10 ∧ K (f - 1) = 11)
            · rw [if_pos y] at htr; omega
            · omega
          · exact Or.inl hf1
        rcases hft with u | u | u | ⟨_, _, _, _, ⟨u, _⟩ | ⟨_, ⟨u, _⟩ | ⟨_, u⟩⟩⟩
        · omega
        · omega
        · omega
        · -- after a wrapper the top is it
          rcases (si_all hw i hiN).2.2 hip with ⟨_, hne, _, r2, es2⟩ | ⟨_, y, _⟩ | ⟨_, y, _⟩ | ⟨_, y, _⟩
          · have : ss_ K i c = (i - 1) :: r2 := by
              unfold ss_
              cases c with
              | true => rw [if_pos rfl, es2, sk_c_n (gs_xor u).1]
              | false => rw [if_neg (by decide), es2]
            rw [hs] at this
            rw [(List.cons.inj this).1] at hx'
            rw [(gs_xor u).2] at hx'; exact absurd hx' (by decide)
          · rw [u] at y; exact absurd y (by decide)
          · rw [u] at y; exact absurd y (by decide)
          · rw [u] at y; exact absurd y (by decide)
        · exact h11 u
        · rw [← hfo] at u
          rcases u with v | v | v | v
          · exact v h4.1
          · exact v h4.2
          · exact v heg
          · exact hk3 v
      refine zq_li R (by omega) hfi hf0 hx hY (by omega) (fun b hb => ?_) (fun _ _ => ?_) (fun z1 z2 z3 _ => ?_)
      · rw [hrc, hKf] at hb
        rw [hKf]
        rcases hb with ⟨_, u1, u2, u3⟩ | ⟨u0, u⟩
        · exact absurd u3 (hnov u1 u2)
        · subst u0
          refine ⟨fun _ z => by omega, fun _ z => ?_⟩
          rw [Nat.add_zero, hc0] at z
          exact absurd (Option.some.inj z) h69
      · exact zb_ty hw hcm hS hNl hwm hi R F h0 B hty hn.2.1 tyHC
      · exfalso; rw [hrc] at z2; rw [hKf] at z1; exact hnov z1 z2 z3
end
end
section
/-! X reads the symbol of given nodes: all of it -/
section
variable {xo xb : Int64} {xl xs xg xu xd xc xe xp xf xz : Int32} {xK xV xO xT xS xA xY xN xW xk xt xH xn : Nat → Int32} {xq : Nat → Int64} {xy xF xZ xC xv : Nat → Int32}
variable {K V : Nat → Nat} {N : Nat} {l : Nat} {w : List Nat}
def ms_ (N i : Nat) (c : Bool) : Nat := 2 * (N - i) + (if c = true then 0 else 1)
theorem zb_sym {post : Int32 → SX → Prop} (hw : wf_ K V N) (h0N : 0 < N) (hcm : op_ K N = 0) (hS : K N = 11) (hNl : N ≤ l) (hwm : w = mg_ K V N)
    (H : ∀ (c' : Bool) (p' n' : Nat) (cs' : Nat → List (Nat × Nat)) (cl' : Nat → Bool) (xs' xu' xd' xc' xe' xf' : Int32) (xK' xV' xO' xS' xA' xY' xN' xW' xk' xt' xH' : Nat → Int32) (xq' : Nat → Int64) (xy' xF' xZ' : Nat → Int32) (xn' xC' : Nat → Int32), rd_ (tr_ K N) V N c' n' cs' cl' l w p' xo xb xl xs' xg xu' xd' xc' xe' (nI p') xf' 1 xK' xV' xO' xT xS' xA' xY' xN' xW' xk' xt' xH' xn' xq' xy' xF' xZ' xC' xv → xf' = 0 → post 1 (xo, xb, xl, xs', xg, xu', xd', xc', xe', nI p', xf', 1, xK', xV', xO', xT, xS', xA', xY', xN', xW', xk', xt', xH', xn', xq', xy', xF', xZ', xC', xv)) :
    ∀ (m i : Nat) (c : Bool) (p t n : Nat) (cs : Nat → List (Nat × Nat)) (cl : Nat → Bool) (xs xu xd xc xe xf : Int32) (xK xV xO xS xA xY xN xW xk xt xH : Nat → Int32) (xq : Nat → Int64) (xy xF xZ : Nat → Int32) (xp : Int32) (xn xC : Nat → Int32), ms_ N i c = m → t + m + 3 ≤ 1000 →
      rd_ (tr_ K i) V i c n cs cl l w p xo xb xl xs xg xu xd xc xe xp xf xz xK xV xO xT xS xA xY xN xW xk xt xH xn xq xy xF xZ xC xv → fi_ (tr_ K i) V i c xC → xf = 0 → xz = 0 → rb_ K V N i c p xn xC → ∀ fuel, m + 2 ≤ fuel → wX_readSymbol_12 post fuel (nI t) xo xb xl xs xg xu xd xc xe xp xf xz xK xV xO xT xS xA xY xN xW xk xt xH xn xq xy xF xZ xC xv := by
  intro m
  induction m using Nat.strongRecOn with
  | _ m ih =>
    intro i c p t n cs cl xs xu xd xc xe xf xK xV xO xS xA xY xN xW xk xt xH xq xy xF xZ xp xn xC hm ht R F h0 hz0 B fuel hfu
    obtain ⟨fuel, rfl⟩ : ∃ k, fuel = k + 1 := ⟨fuel - 1, by omega⟩
    refine br_f (nI_ge (b := 1024) (by omega) (by omega)) (br_t h0 (br_t hz0 ?_))
    refine zb_step hw h0N hcm hS hNl hwm R F h0 hz0 B ?_ ?_
    · intro i' c' p' n' cs' cl' xs' xu' xd' xc' xe' xf' xK' xV' xO' xS' xA' xY' xN' xW' xk' xt' xH' xq' xy' xF' xZ' xn' xC' hlt R' e0 F' B'
      have hiN := B.1
      have hiN' := B'.1
      refine nm_r (nI_1 t) ?_
      have hms : ms_ N i' c' < m := by
        rw [← hm]
        unfold ms_
        rcases hlt with z | ⟨z, y, x⟩
        · cases c <;> cases c' <;> simp <;> omega
        · subst y; subst x; rw [z]; simp
      exact ih (ms_ N i' c') hms i' c' p' (t + 1) n' cs' cl' xs' xu' xd' xc' xe' xf' xK' xV' xO' xS' xA' xY' xN' xW' xk' xt' xH' xq' xy' xF' xZ' (nI p') xn' xC' rfl (by omega) R' F' e0 hz0 B' fuel (by omega)
    · intro c' p' n' cs' cl' xs' xu' xd' xc' xe' xf' xK' xV' xO' xS' xA' xY' xN' xW' xk' xt' xH' xq' xy' xF' xZ' xC' R' e0
      refine nm_r (nI_1 t) ?_
      obtain ⟨fuel, rfl⟩ : ∃ k, fuel = k + 1 := ⟨fuel - 1, by omega⟩
      refine br_f (nI_ge (b := 1024) (by omega) (by omega)) (br_t e0 (br_f (by decide) (br_f (by decide) (br_t e0 ?_))))
      exact H c' p' n' cs' cl' xs' xu' xd' xc' xe' xf' xK' xV' xO' xS' xA' xY' xN' xW' xk' xt' xH' xq' xy' xF' xZ' xn xC' R' e0
end
end
section
/-! a copy of a component is a component -/
section
variable {K K' : Nat → Nat} {f i z : Nat} {B B' : List Nat}
/-- the moved position -/
def ph_ (f i x : Nat) : Nat := x - f + i
theorem tx_w (hB : f ∉ B) : ∀ {A : List Nat}, (∀ a, a ∈ A → f ≤ a ∧ K' (ph_ f i a) = K a) → (∃ A1, A = A1 ++ [f]) → f ∈ sk_w K (A ++ B) →
    ∃ A2, A2 <:+ A ∧ (∃ A3, A2 = A3 ++ [f]) ∧ sk_w K (A ++ B) = A2 ++ B ∧ sk_w K' (A.map (ph_ f i) ++ B') = A2.map (ph_ f i) ++ B' := by
  intro A
  induction A with
  | nil => intro _ ⟨A1, h⟩; exact absurd h (by simp)
  | cons a A ih =>
    intro hk hl hf
    have hka := (hk a (by simp)).2
    cases hw : ka_w (K a) with
    | true =>
      have hw' : ka_w (K' (ph_ f i a)) = true := by rw [hka]; exact hw
      rw [List.cons_append, sk_w_cons_t hw] at hf
      obtain ⟨A1, h⟩ := hl
      cases A with
      | nil =>
        exfalso
        exact hB ((sk_w_suf K B).subset hf)
      | cons a2 A =>
        have hl2 : ∃ A1, a2 :: A = A1 ++ [f] := by
          cases A1 with
          | nil => exact absurd (List.cons.inj h).2 (by simp)
          | cons x A1 => exact ⟨A1, (List.cons.inj h).2⟩
        obtain ⟨A2, g1, g2, g3, g4⟩ := ih (fun y hy => hk y (by simp [hy])) hl2 hf
        refine ⟨A2, g1.trans (List.suffix_cons _ _), g2, ?_, ?_⟩
        · rw [List.cons_append, sk_w_cons_t hw]; exact g3
        · rw [List.map_cons, List.cons_append, sk_w_cons_t hw']; exact g4
    | false =>
      have hw' : ka_w (K' (ph_ f i a)) = false := by rw [hka]; exact hw
      refine ⟨a :: A, List.suffix_refl _, hl, ?_, ?_⟩
      · rw [List.cons_append, sk_w_cons_f hw]
      · rw [List.map_cons, List.cons_append, sk_w_cons_f hw']
theorem tx_last {a : Nat} {A : List Nat} (h : ∃ A1, a :: A = A1 ++ [f]) : (A = [] ∧ a = f) ∨ (∃ A1, A = A1 ++ [f]) := by
  obtain ⟨A1, h⟩ := h
  cases A1 with
  | nil => exact Or.inl ⟨(List.cons.inj h).2, (List.cons.inj h).1⟩
  | cons x A1 => exact Or.inr ⟨A1, (List.cons.inj h).2⟩
theorem tx_c (hB : f ∉ B) {A : List Nat} (hk : ∀ a, a ∈ A → f ≤ a ∧ K' (ph_ f i a) = K a) (hl : ∃ A1, A = A1 ++ [f]) (hf : f ∈ sk_c K (A ++ B)) :
    ∃ A2, A2 <:+ A ∧ (∃ A3, A2 = A3 ++ [f]) ∧ sk_c K (A ++ B) = A2 ++ B ∧ sk_c K' (A.map (ph_ f i) ++ B') = A2.map (ph_ f i) ++ B' := by
  cases A with
  | nil => obtain ⟨A1, h⟩ := hl; exact absurd h (by simp)
  | cons a A =>
    have hka := (hk a (by simp)).2
    cases hh : ka_h (K a) with
    | true =>
      have hh' : ka_h (K' (ph_ f i a)) = true := by rw [hka]; exact hh
      rw [List.cons_append, sk_c_h hh] at hf
      rcases tx_last hl with ⟨e, _⟩ | hl2
      · exfalso
        rw [e] at hf
        exact hB ((sk_w_suf K B).subset hf)
      · obtain ⟨A2, g1, g2, g3, g4⟩ := tx_w (K' := K') (i := i) (B' := B') hB (fun y hy => hk y (by simp [hy])) hl2 hf
        refine ⟨A2, g1.trans (List.suffix_cons _ _), g2, ?_, ?_⟩
        · rw [List.cons_append, sk_c_h hh]; exact g3
        · rw [List.map_cons, List.cons_append, sk_c_h hh']; exact g4
    | false =>
      have hh' : ka_h (K' (ph_ f i a)) = false := by rw [hka]; exact hh
      refine ⟨a :: A, List.suffix_refl _, hl, ?_, ?_⟩
      · rw [List.cons_append, sk_c_n hh]
      · rw [List.map_cons, List.cons_append, sk_c_n hh']
theorem tx_e (hB : f ∉ B) {A : List Nat} (hk : ∀ a, a ∈ A → f ≤ a ∧ K' (ph_ f i a) = K a) (hl : ∃ A1, A = A1 ++ [f]) (hf : f ∈ sk_e K (A ++ B)) :
    ∃ A2, A2 <:+ A ∧ (∃ A3, A2 = A3 ++ [f]) ∧ sk_e K (A ++ B) = A2 ++ B ∧ sk_e K' (A.map (ph_ f i) ++ B') = A2.map (ph_ f i) ++ B' := by
  cases A with
  | nil => obtain ⟨A1, h⟩ := hl; exact absurd h (by simp)
  | cons a A =>
    have hka := (hk a (by simp)).2
    by_cases h9 : K a = 9
    · have h9' : K' (ph_ f i a) = 9 := by rw [hka]; exact h9
      have e1 : sk_e K (a :: A ++ B) = sk_w K (A ++ B) := by show (if _ then _ else _) = _; rw [if_pos h9]; rfl
      have e2 : sk_e K' ((a :: A).map (ph_ f i) ++ B') = sk_w K' (A.map (ph_ f i) ++ B') := by show (if _ then _ else _) = _; rw [if_pos h9']; rfl
      rw [e1] at hf
      rcases tx_last hl with ⟨e, _⟩ | hl2
      · exfalso
        rw [e] at hf
        exact hB ((sk_w_suf K B).subset hf)
      · obtain ⟨A2, g1, g2, g3, g4⟩ := tx_w (K' := K') (i := i) (B' := B') hB (fun y hy => hk y (by simp [hy])) hl2 hf
        exact ⟨A2, g1.trans (List.suffix_cons _ _), g2, by rw [e1]; exact g3, by rw [e2]; exact g4⟩
    · have h9' : K' (ph_ f i a) ≠ 9 := by rw [hka]; exact h9
      have e1 : sk_e K (a :: A ++ B) = A ++ B := by show (if _ then _ else _) = _; rw [if_neg h9]; rfl
      have e2 : sk_e K' ((a :: A).map (ph_ f i) ++ B') = A.map (ph_ f i) ++ B' := by show (if _ then _ else _) = _; rw [if_neg h9']; rfl
      rw [e1] at hf
      rcases tx_last hl with ⟨e, _⟩ | hl2
      · exfalso
        rw [e] at hf
        exact hB hf
      · exact ⟨A, List.suffix_cons _ _, hl2, e1, e2⟩
/-- the stacks move alike -/
theorem tx_sk (hB : f ∉ B) (hK : ∀ x, x < z → K' (i + x) = K (f + x)) (h1 : sk_ K (f + 1) = f :: B) (h1' : sk_ K' (i + 1) = i :: B') :
    ∀ m, m < z → f ∈ sk_ K (f + (m + 1)) → ∃ A, (∃ A1, A = A1 ++ [f]) ∧ (∀ a, a ∈ A → f ≤ a ∧ a < f + (m + 1)) ∧ sk_ K (f + (m + 1)) = A ++ B ∧ sk_ K' (i + (m + 1)) = A.map (ph_ f i) ++ B' := by
  intro m
  induction m with
  | zero =>
    intro _ _
    refine ⟨[f], ⟨[], rfl⟩, fun a ha => ?_, h1, ?_⟩
    · rw [List.mem_singleton.mp ha]; omega
    · show sk_ K' (i + 1) = ph_ f i f :: B'
      rw [h1']; unfold ph_; rw [Nat.sub_self, Nat.zero_add]
  | succ m ih =>
    intro hm hf
    have hf0 : f ∈ sk_ K (f + (m + 1)) := sk_keep hf (by omega) (by omega)
    obtain ⟨A, hl, hr, g1, g2⟩ := ih (by omega) hf0
    have hk : ∀ a, a ∈ A → f ≤ a ∧ K' (ph_ f i a) = K a := by
      intro a ha
      have := hr a ha
      refine ⟨this.1, ?_⟩
      have h2 := hK (a - f) (by omega)
      rw [show f + (a - f) = a by omega] at h2
      unfold ph_
      rw [show a - f + i = i + (a - f) by omega]; exact h2
    have hkx : K' (i + (m + 1)) = K (f + (m + 1)) := hK (m + 1) hm
    have es : sk_ K (f + (m + 1 + 1)) = sk_s K (f + (m + 1)) (A ++ B) := by rw [← g1]; rfl
    have es' : sk_ K' (i + (m + 1 + 1)) = sk_s K' (i + (m + 1)) (A.map (ph_ f i) ++ B') := by rw [← g2]; rfl
    have hph : ph_ f i (f + (m + 1)) = i + (m + 1) := by unfold ph_; omega
    rw [es] at hf
    unfold sk_s at hf es es'
    rw [hkx] at es'
    by_cases k1 : K (f + (m + 1)) = 1
    · rw [if_pos k1] at es es'
      exact ⟨A, hl, fun a ha => by have := hr a ha; omega, es, es'⟩
    rw [if_neg k1] at hf es es'
    by_cases k3 : K (f + (m + 1)) = 3
    · rw [if_pos k3] at es es'
      obtain ⟨A1, e1⟩ := hl
      refine ⟨(f + (m + 1)) :: A, ⟨(f + (m + 1)) :: A1, by rw [e1]; rfl⟩, fun a ha => ?_, es, ?_⟩
      · rcases List.mem_cons.mp ha with q | q
        · omega
        · have := hr a q; omega
      · rw [es', List.map_cons, hph]; rfl
    rw [if_neg k3] at hf es es'
    by_cases k4 : K (f + (m + 1)) = 4
    · rw [if_pos k4] at hf es es'
      obtain ⟨A2, a1, a2, a3, a4⟩ := tx_c (K' := K') (i := i) (B' := B') hB hk hl ((sk_w_suf K _).subset hf)
      rw [a3] at hf es
      rw [a4] at es'
      obtain ⟨A4, b1, b2, b3, b4⟩ := tx_w (K' := K') (i := i) (B' := B') hB (fun a ha => hk a (a1.subset ha)) a2 hf
      exact ⟨A4, b2, fun a ha => by have := hr a (a1.subset (b1.subset ha)); omega, by rw [es, b3], by rw [es', b4]⟩
    rw [if_neg k4] at hf es es'
    by_cases k11 : K (f + (m + 1)) = 11
    · rw [if_pos k11] at hf es es'
      obtain ⟨A2, a1, a2, a3, a4⟩ := tx_c (K' := K') (i := i) (B' := B') hB hk hl ((sk_e_suf K _).subset hf)
      rw [a3] at hf es
      rw [a4] at es'
      obtain ⟨A4, b1, b2, b3, b4⟩ := tx_e (K' := K') (i := i) (B' := B') hB (fun a ha => hk a (a1.subset ha)) a2 hf
      exact ⟨A4, b2, fun a ha => by have := hr a (a1.subset (b1.subset ha)); omega, by rw [es, b3], by rw [es', b4]⟩
    · rw [if_neg k11] at hf es es'
      have hf2 : f ∈ sk_c K (A ++ B) := by
        rcases List.mem_cons.mp hf with q | q
        · omega
        · exact q
      obtain ⟨A2, a1, a2, a3, a4⟩ := tx_c (K' := K') (i := i) (B' := B') hB hk hl hf2
      rw [a3] at es
      rw [a4] at es'
      obtain ⟨A3, e1⟩ := a2
      refine ⟨(f + (m + 1)) :: A2, ⟨(f + (m + 1)) :: A3, by rw [e1]; rfl⟩, fun a ha => ?_, es, ?_⟩
      · rcases List.mem_cons.mp ha with q | q
        · omega
        · have := hr a (a1.subset q); omega
      · rw [es', List.map_cons, hph]; rfl
end
/-- the copy -/
theorem tx_pp {K K' V V' : Nat → Nat} {n i f z : Nat} (hw : wf_ K V n) (hw' : wf_ K' V' (i + z)) (hz : 0 < z) (hfz : f + z ≤ n) (hi : 0 < i) (hK : ∀ x, x < z → K' (i + x) = K (f + x)) (hS : K' (i + z) ≠ 1 ∧ K' (i + z) ≠ 3)
    (hf : f ∈ pp_ K (f + z - 1)) : i ∈ pp_ K' (i + z - 1) := by
  have hkf : ka_h (K f) = true ∨ ka_w (K f) = true ∨ K f = 9 := by
    cases q : ka_h (K f) with
    | true => exact Or.inl rfl
    | false => have := pp_nh hw (by omega) q hf; rw [ka_wi]; omega
  have hk0 : K' i = K f := by have := hK 0 hz; exact this
  have hkk : K f ≠ 1 ∧ K f ≠ 3 ∧ K f ≠ 4 ∧ K f ≠ 11 := by
    rcases hkf with q | q | q
    · rw [ka_hi] at q; omega
    · rw [ka_wi] at q; omega
    · omega
  have h1 : sk_ K (f + 1) = f :: sk_c K (sk_ K f) := sk_so hkk.1 hkk.2.1 hkk.2.2.1 hkk.2.2.2
  have h1' : sk_ K' (i + 1) = i :: sk_c K' (sk_ K' i) := sk_so (by omega) (by omega) (by omega) (by omega)
  have hB : f ∉ sk_c K (sk_ K f) := fun q => by have := sk_lt ((sk_c_suf K _).subset q); omega
  have tr := tx_sk (z := z) hB hK h1 h1'
  have e1 : f + z - 1 + 1 = f + z := by omega
  have e1' : i + z - 1 + 1 = i + z := by omega
  have hgf := fun (j : Nat) (hj : j ≤ n) => gs_pw (si_all hw j hj).1
  -- the top of the moved stack at the end
  have top : ∀ t r, f ∈ sk_ K (f + z) → sk_ K (f + z) = t :: r → f ≤ t → ∃ r', sk_ K' (i + z) = ph_ f i t :: r' := by
    intro t r hfin hst hft
    obtain ⟨A, hl, hr, g1, g2⟩ := tr (z - 1) (by omega) (by rw [show f + (z - 1 + 1) = f + z by omega]; exact hfin)
    rw [show f + (z - 1 + 1) = f + z by omega] at g1
    rw [show i + (z - 1 + 1) = i + z by omega] at g2
    cases A with
    | nil => obtain ⟨A1, h⟩ := hl; exact absurd h (by simp)
    | cons a A =>
      rw [hst] at g1
      have : t = a := (List.cons.inj g1).1
      rw [this]
      exact ⟨_, g2⟩
  rcases (pp_iff hw (by omega)).mp hf with ⟨c, a, b, d, g⟩ | ⟨hh, he, hd, _⟩
  · have hcle := ce_le hw (by omega) d
    have hrw : rw_ K' i (ph_ f i c) := by
      intro j x y
      unfold ph_ at y
      have := hK (j - i) (by omega)
      rw [show i + (j - i) = j by omega] at this
      rw [this]
      exact b (f + (j - i)) (by omega) (by omega)
    have hkc : K' (ph_ f i c) = K c := by
      have := hK (c - f) (by omega)
      rw [show f + (c - f) = c by omega] at this
      unfold ph_; rw [show c - f + i = i + (c - f) by omega]; exact this
    have hple : i ≤ ph_ f i c := by unfold ph_; omega
    refine (pp_iff hw' (by omega)).mpr (Or.inl ⟨ph_ f i c, hple, hrw, ?_, ?_⟩)
    · rcases d with ⟨d1, d2⟩ | ⟨d1, d2, d3⟩ | ⟨d1, d2, d3, _, _⟩
      · refine Or.inl ⟨by rw [hkc]; exact d1, ?_⟩
        unfold ph_; omega
      · -- FUNC
        have hce : c < f + z - 1 := by
          obtain ⟨_, _, _, _, _, q⟩ := end_top hw (show f + z - 1 < n by omega) d2
          omega
        obtain ⟨r, ec, hsf, ho, hff, hol⟩ := end_top hw (show f + z - 1 < n by omega) d2
        have he' : K' (i + z - 1) = 11 := by
          have := hK (z - 1) (by omega)
          rw [show i + (z - 1) = i + z - 1 by omega, show f + (z - 1) = f + z - 1 by omega] at this
          rw [this]; exact d2
        obtain ⟨r', ec', hsf', ho', hff', hol'⟩ := end_top hw' (show i + z - 1 < i + z by omega) he'
        refine Or.inr (Or.inl ⟨by rw [hkc]; exact d1, he', ?_⟩)
        have hfin : f ∈ sk_ K (f + z - 1) := pp_on hw (by omega) hf (by omega) (by omega)
        obtain ⟨A, hl, hr, g1, g2⟩ := tr (z - 2) (by omega) (by rw [show f + (z - 2 + 1) = f + z - 1 by omega]; exact hfin)
        rw [show f + (z - 2 + 1) = f + z - 1 by omega] at g1 hr
        rw [show i + (z - 2 + 1) = i + z - 1 by omega] at g2
        have hk : ∀ a, a ∈ A → f ≤ a ∧ K' (ph_ f i a) = K a := by
          intro x hx
          have := hr x hx
          refine ⟨this.1, ?_⟩
          have h2 := hK (x - f) (by omega)
          rw [show f + (x - f) = x by omega] at h2
          unfold ph_
          rw [show x - f + i = i + (x - f) by omega]; exact h2
        have hfc : f ∈ sk_c K (A ++ sk_c K (sk_ K f)) := by
          rw [← g1, ec]
          by_cases q : f = c
          · rw [d3, q]; simp
          · refine List.mem_cons_of_mem _ ((sk_tp K r).subset ?_)
            exact (nr_run hw (i := f + z - 1) (by omega) hsf (Or.inr (Or.inr (by rw [d3]; exact d1)))).mpr ⟨by omega, by rw [d3]; exact b⟩
        obtain ⟨A2, a1, a2, a3, a4⟩ := tx_c (K' := K') (i := i) (B' := sk_c K' (sk_ K' i)) hB hk hl hfc
        rw [← g1, ec] at a3
        rw [← g2, ec'] at a4
        cases A2 with
        | nil => obtain ⟨A3, h⟩ := a2; exact absurd h (by simp)
        | cons x A2 =>
          have x1 := (List.cons.inj a3).1
          have x2 := (List.cons.inj a4).1
          rw [x2, ← x1, d3]
      · -- a name
        rw [e1] at d2 d3
        obtain ⟨t, r, es, ht, _⟩ := en_top hw (i := f + z) (by omega) d2
        have htc : t = c := by rw [es] at d3; exact Option.some.inj d3
        subst htc
        have hfin : f ∈ sk_ K (f + z) := by
          rw [es]
          by_cases q : f = t
          · rw [q]; simp
          · refine List.mem_cons_of_mem _ ((sk_tp K r).subset ?_)
            exact (nr_run hw (i := f + z) (by omega) (by rw [es]; exact List.suffix_refl _) (Or.inl ht)).mpr ⟨by omega, b⟩
        obtain ⟨r', es'⟩ := top t r hfin es a
        have hh' : ka_h (K' (ph_ f i t)) = true := by rw [hkc]; exact d1
        have hen' := en_hd hw' (Nat.le_refl _) es' hh'
        refine Or.inr (Or.inr ⟨hh', by rw [e1']; exact hen', by rw [e1', es']; rfl, by rw [e1']; exact hS.1, by rw [e1']; exact hS.2⟩)
    · rcases g with g | g
      · left; unfold ph_; omega
      · right; rw [hkc]; exact g
  · rw [e1] at he hd
    cases es : sk_ K (f + z) with
    | nil => rw [es] at hd; exact absurd hd (by simp)
    | cons t r =>
      rw [es] at hd
      have htf : t = f := Option.some.inj hd
      subst htf
      obtain ⟨r', es'⟩ := top t r (by rw [es]; simp) es (Nat.le_refl _)
      have hph : ph_ t i t = i := by unfold ph_; omega
      rw [hph] at es'
      have hh' : ka_h (K' i) = true := by rw [hk0]; exact hh
      have hen' := en_hd hw' (Nat.le_refl _) es' hh'
      exact (pp_iff hw' (by omega)).mpr (Or.inr ⟨hh', by rw [e1']; exact hen', by rw [e1', es']; rfl, Or.inl hi⟩)
end
section
/-! any text: what X has read so far, and what it has taken for references -/
section
variable {K K' V V' kn kn' kt kt' : Nat → Nat} {nf nf' : Nat → Bool} {b : Nat}
theorem hd_lt {K : Nat → Nat} {i : Nat} (h : 0 < i) : (sk_ K i).headD 0 < i := by
  cases es : sk_ K i with
  | nil => exact h
  | cons s r => exact sk_lt (show s ∈ sk_ K i by rw [es]; simp)
theorem gc_pe (hK : ∀ j, j < b → K' j = K j) (hV : ∀ j, j < b → V' j = V j) {e : Nat} (he : e < b) : pe_ K' V' e = pe_ K V e := by
  have hop : op_ K' e = op_ K e := gc_op hK (by omega)
  have hol : op_ K e < b := by
    by_cases z : op_ K e = 0
    · omega
    · have := (op_fs z).2.1; omega
  have hpn : pn_ K' e = pn_ K e := by
    unfold pn_
    rw [hop, hK _ hol, gc_tc hK (by omega)]
    have : rc_ K' (op_ K e) = rc_ K (op_ K e) := by unfold rc_; rw [hK _ hol, hK _ (by omega)]
    rw [this]
  unfold pe_
  rw [hK e he, hV e he, hpn]
theorem gc_gn (hn : ∀ j, j < b → kn' j = kn j) : ∀ {i : Nat}, i ≤ b → gn_ kn' i = gn_ kn i := by
  intro i
  induction i with
  | zero => intro _; rfl
  | succ i ih =>
    intro hi
    have e := ih (by omega)
    show (if gn_ kn' i = i then i + m1_ (kn' i) else gn_ kn' i) = (if gn_ kn i = i then i + m1_ (kn i) else gn_ kn i)
    rw [e, hn i (by omega)]
theorem gc_nh (hK : ∀ j, j < b → K' j = K j) (hf : ∀ j, j < b → nf' j = nf j) {e : Nat} (he : e < b) : (eb_ K' (e + 1) && nf' ((sk_ K' (e + 1)).headD 0)) = (eb_ K (e + 1) && nf ((sk_ K (e + 1)).headD 0)) := by
  rw [gc_eb hK (by omega), gc_sk hK (by omega), hf _ (by have := hd_lt (K := K) (i := e + 1) (by omega); omega)]
theorem gc_go (hK : ∀ j, j < b → K' j = K j) (hV : ∀ j, j < b → V' j = V j) (hn : ∀ j, j < b → kn' j = kn j) (ht : ∀ j, j < b → kt' j = kt j) (hf : ∀ j, j < b → nf' j = nf j) : ∀ {i : Nat}, i < b → go_ K' V' kn' kt' nf' i = go_ K V kn kt nf i := by
  intro i
  induction i with
  | zero => intro _; rfl
  | succ e ih =>
    intro hi
    have h1 := ih (by omega)
    have hgv : gv_ K' V' kn' kt' nf' e = gv_ K V kn kt nf e := by
      have hec : ec_ K' nf' e = ec_ K nf e := by
        unfold ec_
        rw [← Bool.and_assoc, ← Bool.and_assoc, gc_nh hK hf (by omega), hK (e + 1) hi]
      unfold gv_
      rw [hf e (by omega), hn e (by omega), ht e (by omega), gc_pe hK hV (by omega), hec]
    show (if gn_ kn' e = e then _ else _) = (if gn_ kn e = e then _ else _)
    rw [gc_gn hn (by omega), h1, hgv]
theorem gc_pd (hK : ∀ j, j < b → K' j = K j) (hn : ∀ j, j < b → kn' j = kn j) (hf : ∀ j, j < b → nf' j = nf j) {i : Nat} (hi : i ≤ b) : pd_ K' kn' nf' i = pd_ K kn nf i := by
  cases i with
  | zero => rfl
  | succ e =>
    show (pdv_ kn' e && _) = (pdv_ kn e && _)
    have : pdv_ kn' e = pdv_ kn e := by unfold pdv_; rw [gc_gn hn (by omega), hn e (by omega)]
    rw [this, gc_nh hK hf (by omega)]
theorem gc_gy (hK : ∀ j, j < b → K' j = K j) (hV : ∀ j, j < b → V' j = V j) (hn : ∀ j, j < b → kn' j = kn j) (ht : ∀ j, j < b → kt' j = kt j) (hf : ∀ j, j < b → nf' j = nf j) {c : Bool} {i : Nat} (hi : i ≤ b) : gy_ K' V' kn' kt' nf' c i = gy_ K V kn kt nf c i := by
  cases i with
  | zero => rfl
  | succ e =>
    have hgz : gz_ K' V' kn' kt' nf' e = gz_ K V kn kt nf e := by
      unfold gz_
      rw [gc_gn hn (by omega), gc_go hK hV hn ht hf (by omega), hf e (by omega), hn e (by omega), ht e (by omega), gc_pe hK hV (by omega)]
    show gz_ _ _ _ _ _ e ++ _ = gz_ _ _ _ _ _ e ++ _
    rw [hgz, gc_pd hK hn hf hi]
end
theorem pr_ext {w a l : List Nat} (ha : a <+: w) (h : pr_ w a.length l) : a ++ l <+: w := by
  have h1 := pr_take h
  have h2 : w.take a.length = a := (List.prefix_iff_eq_take.mp ha).symm
  rw [h2] at h1
  rw [← h1]; exact List.take_prefix _ _
theorem pd_en {K kn : Nat → Nat} {nf : Nat → Bool} {i : Nat} (h : ¬ en_ K i) : pd_ K kn nf i = false := by
  cases i with
  | zero => rfl
  | succ e => show (pdv_ _ e && (eb_ K (e + 1) && _)) = false; rw [eb_n.mpr h, Bool.false_and, Bool.and_false]
/-- names leave the stack only by being closed -/
theorem sk_wh {K : Nat → Nat} {s : Nat} (hs : ka_h (K s) = true) : ∀ {l : List Nat}, s ∈ l → s ∈ sk_w K l := by
  intro l
  induction l with
  | nil => intro h; exact h
  | cons a l ih =>
    intro h
    cases hw : ka_w (K a) with
    | true =>
      rw [sk_w_cons_t hw]
      rcases List.mem_cons.mp h with z | z
      · rw [z, (gs_xor hw).1] at hs; exact absurd hs (by decide)
      · exact ih z
    | false => rw [sk_w_cons_f hw]; exact h
/-- a name stays on the stack after a node, if it is not closed by it -/
theorem sk_hold {K V : Nat → Nat} {n i s : Nat} {c : Bool} (hw : wf_ K V n) (hi : i < n) (hs : ka_h (K s) = true) (hsk : s ∈ ss_ K i c) (hc : ((K i = 1 ∨ K i = 3) ∧ c = false) ∨ (K i ≠ 1 ∧ K i ≠ 3 ∧ (c = true ∨ ¬ (sk_ K i).head? = some s))) : s ∈ sk_ K (i + 1) := by
  rcases hc with ⟨h, hc⟩ | ⟨h1, h3, hc⟩
  · subst hc
    have h' : s ∈ sk_ K i := hsk
    rcases h with h | h
    · rw [sk_s1 h]; exact h'
    · rw [sk_s3 h]; exact List.mem_cons_of_mem _ h'
  · have hcl : s ∈ sk_c K (sk_ K i) := by
      cases c with
      | true => exact hsk
      | false =>
        have h' : s ∈ sk_ K i := hsk
        have hne := hc.resolve_left (by decide)
        cases es : sk_ K i with
        | nil => rw [es] at h'; exact absurd h' (by simp)
        | cons t r =>
          rw [es] at h' hne
          have hts : t ≠ s := fun z => hne (by rw [z]; rfl)
          cases ht : ka_h (K t) with
          | true =>
            rw [sk_c_h ht]
            rcases List.mem_cons.mp h' with z | z
            · exact absurd z.symm hts
            · exact sk_wh hs z
          | false => rw [sk_c_n ht]; exact h'
    by_cases h4 : K i = 4
    · rw [sk_s4 h4]; exact sk_wh hs hcl
    · by_cases h11 : K i = 11
      · obtain ⟨r, ec, hsf, ho, hff, hol⟩ := end_top hw hi h11
        rw [sk_s11 h11]
        rw [ec] at hcl ⊢
        have hr : s ∈ r := by
          rcases List.mem_cons.mp hcl with z | z
          · rw [z, (gs_xof hff).2] at hs; exact absurd hs (by decide)
          · exact z
        show s ∈ (if _ then _ else _)
        by_cases h9 : K (op_ K i) = 9
        · rw [if_pos h9]; exact sk_wh hs hr
        · rw [if_neg h9]; exact hr
      · rw [sk_so h1 h3 h4 h11]; exact List.mem_cons_of_mem _ hcl
/-- what is off the stack has no more parts -/
theorem off_ {K : Nat → Nat} {s i : Nat} (hs : s < i) (hoff : s ∉ sk_ K i) : ∀ {j : Nat}, i ≤ j → hm_ K s j = hm_ K s i ∧ ne_ K s j = ne_ K s i := by
  intro j
  induction j with
  | zero => intro h; omega
  | succ e ih =>
    intro h
    by_cases z : i = e + 1
    · rw [z]; exact ⟨rfl, rfl⟩
    · have hih := ih (by omega)
      have hoe : oe_ K s e = false := by
        cases q : oe_ K s e with
        | false => rfl
        | true =>
          have := sk_hm (oe_i.mp q).2
          exact absurd (sk_keep this hs (by omega)) hoff
      refine ⟨?_, ?_⟩
      · show ((oe_ K s e && _) || hm_ K s e) = _
        rw [hoe, Bool.false_and, Bool.false_or]; exact hih.1
      · show (if oe_ K s e = true then _ else _) = _
        rw [hoe, if_neg (by decide)]; exact hih.2
/-- how the reader stands after node i of any text -/
def ra_ (K V : Nat → Nat) (i : Nat) (c : Bool) (kn kt : Nat → Nat) (nf : Nat → Bool) (w : List Nat) (p : Nat) (xn xC : Nat → Int32) : Prop :=
  gn_ kn i = i ∧ (∀ j, i ≤ j → kn j = 0) ∧ (∀ j, kn j ≠ 0 → gn_ kn j = j) ∧ (gy_ K V kn kt nf c i <+: w ∧ p = (gy_ K V kn kt nf c i).length) ∧
  (∀ j, j < i → gn_ kn j = j → (kn j = 0 → xC j = -1) ∧ (kn j ≠ 0 → ∀ x, j ≤ x → x < j + kn j → xC x = nI (j + kn j - 1))) ∧
  (∀ j, kn j ≠ 0 → (∃ f, (tb_ K V j)[kt j]? = some (f, kn j) ∧ sg_ K V f (kn j) = sg_ K V j (kn j)) ∧ ((j + kn j < i ∧ j ∈ pp_ K (j + kn j - 1)) ∨ (j + kn j = i ∧ j ∈ lp_ K c i))) ∧
  (∀ s, s < i → gn_ kn s = s → ka_h (K s) = true → xn s = if nf s = true then 1 else 0) ∧
  (∀ s, s < i → gn_ kn s = s → ka_h (K s) = true → s ∉ ss_ K i c → nf s = (hm_ K s i && decide (kn s + s ≤ ne_ K s i))) ∧
  (∀ s, s < i → gn_ kn s = s → ka_h (K s) = false → nf s = false) ∧
  (c = false → en_ K i → ∀ s r, sk_ K i = s :: r → gn_ kn s = s)
theorem lp_pp {K K' : Nat → Nat} {i s : Nat} {c : Bool} (hi : 0 < i) (hK : ∀ j, j < i → K' j = K j) (hc : c = true → K' i ≠ 1 ∧ K' i ≠ 3) (h : s ∈ lp_ K c i) : s ∈ pp_ K' (i - 1) := by
  obtain ⟨e, rfl⟩ : ∃ e, i = e + 1 := ⟨i - 1, by omega⟩
  rw [Nat.add_sub_cancel]
  unfold pp_
  rw [List.mem_append, gc_pa hK (by omega)]
  have h' : s ∈ (if c = true then pa_ K e ++ pc_ K e else pa_ K e) := h
  cases c with
  | true =>
    have := hc rfl
    rw [if_pos rfl] at h'
    unfold pb_
    rw [if_neg (by omega), gc_pc hK (by omega), ← List.mem_append]; exact h'
  | false => rw [if_neg (by decide)] at h'; exact Or.inl h'
section
variable {K V kn kt : Nat → Nat} {nf : Nat → Bool} {i : Nat} {c : Bool} {w : List Nat} {p : Nat} {xn xC : Nat → Int32}
theorem ra_kc {K' : Nat → Nat} {n : Nat} (A : ra_ K V i c kn kt nf w p xn xC) (hin : i ≤ n) (hK : ∀ j, j < i → K' j = K j) (hc : c = true → K' i ≠ 1 ∧ K' i ≠ 3) : kc_ K' n kn := by
  intro j _ hk
  have h := (A.2.2.2.2.2.1 j hk).2
  have hji : j < i := by
    rcases Nat.lt_or_ge j i with z | z
    · exact z
    · exact absurd (A.2.1 j z) hk
  rcases h with ⟨a, d⟩ | ⟨a, d⟩
  · refine ⟨by omega, ?_⟩
    rw [gc_pp (b := i) hK (by omega)]; exact d
  · refine ⟨by omega, ?_⟩
    rw [a]
    exact lp_pp (by omega) hK hc d
end
end
section
/-! any text: the steps of the reader -/
def ub_ (nf : Nat → Bool) (i : Nat) (fl : Bool) : Nat → Bool := fun j => if j = i then fl else nf j
theorem ub_s {nf : Nat → Bool} {i : Nat} {fl : Bool} : ub_ nf i fl i = fl := if_pos rfl
theorem ub_lt {nf : Nat → Bool} {i : Nat} {fl : Bool} : ∀ j, j < i → ub_ nf i fl j = nf j := fun j h => if_neg (by omega)
section
variable {K V kn kt : Nat → Nat} {nf : Nat → Bool} {i : Nat} {c : Bool} {w : List Nat} {p : Nat} {xn xC : Nat → Int32}
/-- a node is spelled out -/
theorem ra_sp {k v : Nat} {fl : Bool} {xn' : Nat → Int32} (hw : wf_ K V i) (hw' : wf_ (un_ K i k) (un_ V i v) (i + 1)) (A : ra_ K V i c kn kt nf w p xn xC)
    (hcen : (i = 0 ∧ k = 0) ∨ ((k = 1 ∨ k = 3) ∧ c = false) ∨ (k ≠ 1 ∧ k ≠ 3 ∧ (c = true ∨ ¬ en_ K i))) (hfl : ka_h k = false → fl = false)
    (hpr : pr_ w p ((if fl = true then [78] else []) ++ pe_ (un_ K i k) (un_ V i v) i)) (hx1 : ∀ s, s < i → xn' s = xn s) (hx2 : ka_h k = true → xn' i = if fl = true then 1 else 0) :
    ra_ (un_ K i k) (un_ V i v) (i + 1) false kn kt (ub_ nf i fl) w (p + ((if fl = true then [78] else []) ++ pe_ (un_ K i k) (un_ V i v) i).length) xn' (upd xC i (-1)) := by
  have hK : ∀ j, j < i → un_ K i k j = K j := un_lt
  have hV : ∀ j, j < i → un_ V i v j = V j := un_lt
  have hc : c = true → un_ K i k i ≠ 1 ∧ un_ K i k i ≠ 3 := by
    rw [un_s]; intro z
    rcases hcen with q | q | q
    · omega
    · rw [z] at q; exact absurd q.2 (by decide)
    · exact ⟨q.1, q.2.1⟩
  have A' := A
  obtain ⟨a1, a2, a3, ⟨a4, a4'⟩, a5, a6, a7, a8, a9, a10⟩ := A
  have hk0 : kn i = 0 := a2 i (Nat.le_refl _)
  have hg1 : gn_ kn (i + 1) = i + 1 := by rw [gn_t a1]; unfold m1_; rw [if_pos hk0]
  have hgy : gy_ (un_ K i k) (un_ V i v) kn kt (ub_ nf i fl) c i = gy_ K V kn kt nf c i := gc_gy (b := i) hK hV (fun _ _ => rfl) (fun _ _ => rfl) ub_lt (Nat.le_refl _)
  have hgo : gy_ (un_ K i k) (un_ V i v) kn kt (ub_ nf i fl) c i = go_ (un_ K i k) (un_ V i v) kn kt (ub_ nf i fl) i := by
    refine gy_go ?_
    rw [un_s]
    rcases hcen with q | q | ⟨q1, q3, q⟩
    · exact Or.inl q.1
    · exact Or.inr (Or.inl q)
    · refine Or.inr (Or.inr ⟨q1, q3, ?_⟩)
      rcases q with q | q
      · exact Or.inl q
      · exact Or.inr (pd_en (fun z => q ((gc_en (b := i) hK (Nat.le_refl _)).mp z)))
  have hgz : gy_ (un_ K i k) (un_ V i v) kn kt (ub_ nf i fl) false (i + 1) = gy_ K V kn kt nf c i ++ ((if fl = true then [78] else []) ++ pe_ (un_ K i k) (un_ V i v) i) := by
    show gz_ _ _ _ _ _ i ++ (if (false && _) = true then [69] else []) = _
    rw [Bool.false_and, if_neg (c := false = true) (by decide), List.append_nil]
    unfold gz_
    rw [if_pos a1, if_pos hk0, ub_s, ← hgo, hgy]
  have hlt : ∀ j, kn j ≠ 0 → j < i := by
    intro j hj
    rcases Nat.lt_or_ge j i with z | z
    · exact z
    · exact absurd (a2 j z) hj
  have hvis : ∀ s, s < i → gn_ kn s = s → s + m1_ (kn s) ≤ i := fun s hs hv => by have := gn_vis hv hs; omega
  refine ⟨hg1, fun j hj => a2 j (by omega), a3, ⟨?_, ?_⟩, ?_, ?_, ?_, ?_, ?_, ?_⟩
  · rw [hgz]; exact pr_ext a4 (by rw [← a4']; exact hpr)
  · rw [hgz, a4', ← List.length_append]
  · intro j hj hv
    by_cases z : j = i
    · subst z; exact ⟨fun _ => pk_us, fun q => absurd hk0 q⟩
    · have := a5 j (by omega) hv
      refine ⟨fun q => by rw [pk_un z]; exact this.1 q, fun q x a b => ?_⟩
      have h2 := hvis j (by omega) hv
      have hm2 : m1_ (kn j) = kn j := by unfold m1_; rw [if_neg q]
      rw [pk_un (by omega)]; exact this.2 q x a b
  · intro j hj
    have hji := hlt j hj
    obtain ⟨⟨f, f1, f2⟩, h⟩ := a6 j hj
    have hjn : j + kn j ≤ i := by rcases h with z | z <;> omega
    have hmem := List.mem_of_getElem? f1
    have hfb : f + kn j ≤ j := tb_b (p := (f, kn j)) hw (by omega) hmem
    refine ⟨⟨f, ?_, ?_⟩, Or.inl ⟨by omega, ?_⟩⟩
    · rw [gc_tb (b := i) hK hV hw (by omega)]; exact f1
    · rw [gc_sg (b := i) hK hV (by omega), gc_sg (b := i) hK hV (by omega)]; exact f2
    · exact (ra_kc (n := i + 1) A' (by omega) hK hc j (by omega) hj).2
  · intro s hs hv hh
    by_cases z : s = i
    · subst z; rw [un_s] at hh; rw [ub_s]; exact hx2 hh
    · rw [hx1 s (by omega), ub_lt s (by omega)]
      rw [hK s (by omega)] at hh
      exact a7 s (by omega) hv hh
  · intro s hs hv hh hoff
    have hoff' : s ∉ sk_ (un_ K i k) (i + 1) := hoff
    by_cases z : s = i
    · subst z
      exfalso
      apply hoff'
      have hh' := ka_hi.mp hh
      rw [sk_so (by omega) (by omega) (by omega) (by omega)]; simp
    · have hsi : s < i := by omega
      have hh0 := hh
      rw [hK s hsi] at hh
      have hss : s ∉ ss_ K i c := by
        intro y
        apply hoff'
        rw [← gc_ss (b := i) hK] at y
        refine sk_hold hw' (by omega) hh0 y ?_
        rw [un_s]
        rcases hcen with q | q | ⟨q1, q3, q⟩
        · omega
        · exact Or.inl q
        · refine Or.inr ⟨q1, q3, ?_⟩
          rcases q with q | q
          · exact Or.inl q
          · right
            intro u
            have hw2 := wf_le hw' (m := i) (by omega)
            cases es : sk_ (un_ K i k) i with
            | nil => rw [es] at u; exact absurd u (by simp)
            | cons t r =>
              rw [es] at u
              have : t = s := Option.some.inj u
              subst this
              exact q ((gc_en (b := i) hK (Nat.le_refl _)).mp (en_hd hw2 (Nat.le_refl _) es hh0))
      have h8 := a8 s hsi hv hh hss
      have hoe : oe_ (un_ K i k) s i = false := by
        cases q : oe_ (un_ K i k) s i with
        | false => rfl
        | true => exact absurd (sk_hm (oe_i.mp q).2) hoff'
      have e1 : hm_ (un_ K i k) s (i + 1) = hm_ K s i := by
        show ((oe_ _ s i && _) || hm_ _ s i) = _
        rw [hoe, Bool.false_and, Bool.false_or]; exact gc_hm (b := i) hK (Nat.le_refl _)
      have e2 : ne_ (un_ K i k) s (i + 1) = ne_ K s i := by
        show (if oe_ _ s i = true then _ else _) = _
        rw [hoe, if_neg (by decide)]; exact gc_ne (b := i) hK (Nat.le_refl _)
      rw [ub_lt s hsi, e1, e2]; exact h8
  · intro s hs hv hh
    by_cases z : s = i
    · subst z; rw [un_s] at hh; rw [ub_s]; exact hfl hh
    · rw [hK s (by omega)] at hh
      rw [ub_lt s (by omega)]; exact a9 s (by omega) hv hh
  · intro _ he s r es
    have hos : oe_ (un_ K i k) s i = true := oe_i.mpr ⟨he, by rw [es]; rfl⟩
    have hsi := (oe_h hw' hos (by omega)).2
    by_cases z : s = i
    · subst z; exact a1
    · exact (gn_own hw' (by omega) (ra_kc (n := i + 1) A' (by omega) hK hc) a1 hos (by omega)).1
/-- a name is closed -/
theorem ra_cl {s : Nat} {r : List Nat} {q : Nat} (hw : wf_ K V i) (hi : i ≤ 48) (A : ra_ K V i false kn kt nf w p xn xC) (hen : en_ K i) (es : sk_ K i = s :: r)
    (hchk : nf s = (hm_ K s i && decide (kn s + s ≤ i - 1))) (hpr : pr_ w p (if nf s = true then [69] else [])) (hq : q = p + (if nf s = true then [69] else []).length) :
    ra_ K V i true kn kt nf w q xn xC := by
  have A' := A
  obtain ⟨a1, a2, a3, ⟨a4, a4'⟩, a5, a6, a7, a8, a9, a10⟩ := A
  have hip := hen.1
  obtain ⟨e, rfl⟩ : ∃ e, i = e + 1 := ⟨i - 1, by omega⟩
  have hos : oe_ K s e = true := oe_i.mpr ⟨hen, by rw [es]; rfl⟩
  have hsh := oe_h hw hos (by omega)
  have hvs := a10 rfl hen s r es
  have hlt : ∀ j, kn j ≠ 0 → j < e + 1 := by
    intro j hj
    rcases Nat.lt_or_ge j (e + 1) with z | z
    · exact z
    · exact absurd (a2 j z) hj
  have hpd : pd_ K kn nf (e + 1) = nf s := by
    show (pdv_ kn e && (eb_ K (e + 1) && nf ((sk_ K (e + 1)).headD 0))) = _
    rw [eb_i.mpr hen, es, Bool.true_and]
    show (pdv_ kn e && nf s) = _
    cases hnf : nf s with
    | false => rw [Bool.and_false]
    | true =>
      rw [Bool.and_true]
      rw [hnf] at hchk
      have hle : kn s + s ≤ e + 1 - 1 := by
        have := (Bool.and_eq_true_iff.mp hchk.symm).2
        exact of_decide_eq_true this
      unfold pdv_
      apply decide_eq_true
      have hno : ∀ j, kn j ≠ 0 → j + kn j = e + 1 → False := by
        intro j hj hje
        rcases (a6 j hj).2 with z | ⟨_, z⟩
        · omega
        · have z' : j ∈ pa_ K e := z
          rw [pa_en hw (by omega) hen es] at z'
          by_cases y : 0 < s
          · rw [if_pos y] at z'
            have := List.mem_singleton.mp z'
            subst this
            omega
          · rw [if_neg y] at z'; exact absurd z' (by simp)
      by_cases hve : gn_ kn e = e
      · refine ⟨hve, ?_⟩
        apply Classical.byContradiction
        intro hke
        have hm : m1_ (kn e) = kn e := by unfold m1_; rw [if_neg hke]
        have hgt := gn_t hve
        rw [a1] at hgt
        exact hno e hke (by omega)
      · exfalso
        obtain ⟨j, x, y, z⟩ := gn_skip hve
        have hgf := gn_f hve
        rw [a1] at hgf
        have hkj : kn j ≠ 0 := by
          intro u
          have : m1_ (kn j) = 1 := by unfold m1_; rw [if_pos u]
          omega
        have hm : m1_ (kn j) = kn j := by unfold m1_; rw [if_neg hkj]
        exact hno j hkj (by omega)
  have hgy : gy_ K V kn kt nf true (e + 1) = gy_ K V kn kt nf false (e + 1) ++ (if nf s = true then [69] else []) := by
    show gz_ _ _ _ _ _ e ++ (if (true && _) = true then [69] else []) = (gz_ _ _ _ _ _ e ++ (if (false && _) = true then [69] else [])) ++ _
    rw [Bool.true_and, hpd, Bool.false_and, if_neg (c := false = true) (by decide), List.append_nil]
  refine ⟨a1, a2, a3, ⟨?_, ?_⟩, a5, ?_, a7, ?_, a9, fun z => absurd z (by decide)⟩
  · rw [hgy]; exact pr_ext a4 (by rw [← a4']; exact hpr)
  · rw [hgy, List.length_append, ← a4']; exact hq
  · intro j hj
    obtain ⟨h1, h2⟩ := a6 j hj
    refine ⟨h1, ?_⟩
    rcases h2 with z | ⟨z, y⟩
    · exact Or.inl z
    · refine Or.inr ⟨z, ?_⟩
      show j ∈ pa_ K e ++ pc_ K e
      rw [List.mem_append]; exact Or.inl y
  · intro x hx hv hh hoff
    by_cases z : x = s
    · subst z
      have : ne_ K x (e + 1) = e := by show (if _ then _ else _) = _; rw [if_pos hos]
      rw [this]; exact hchk
    · refine a8 x hx hv hh (fun y => hoff ?_)
      have y' : x ∈ sk_ K (e + 1) := y
      show x ∈ sk_c K (sk_ K (e + 1))
      rw [es] at y' ⊢
      rw [sk_c_h hsh.1]
      exact sk_wh hh ((List.mem_cons.mp y').resolve_left z)
end
end
section
/-! any text: a back reference; the end -/
section
variable {K V kn kt : Nat → Nat} {nf : Nat → Bool} {i : Nat} {c : Bool} {w : List Nat} {p : Nat} {xn xC : Nat → Int32}
theorem ra_rf {f z m : Nat} {fl : Bool} {xn' xC' : Nat → Int32} (hw : wf_ K V i) (hw' : wf_ (cp_ K i f z) (cp_ V i f z) (i + z)) (hS : cp_ K i f z (i + z) = 11) (A : ra_ K V i c kn kt nf w p xn xC)
    (hip : 0 < i) (hz : 0 < z) (hfz : f + z ≤ i) (hf : f ∈ pp_ K (f + z - 1)) (hT : (tb_ (cp_ K i f z) (cp_ V i f z) i)[m]? = some (f, z)) (hcen : c = true ∨ ¬ en_ K i) (hfl : ka_h (K f) = false → fl = false)
    (hpr : pr_ w p ((if fl = true then [78] else []) ++ 83 :: nu_ m 36)) (hx1 : ∀ s, s < i → xn' s = xn s) (hx2 : ka_h (K f) = true → xn' i = if fl = true then 1 else 0)
    (hy1 : ∀ j, j < i → xC' j = xC j) (hy2 : ∀ j, i ≤ j → j < i + z → xC' j = nI (i + z - 1)) (c' : Bool) (hcc : c' = !ka_h (K f)) :
    ra_ (cp_ K i f z) (cp_ V i f z) (i + z) c' (un_ kn i z) (un_ kt i m) (ub_ nf i fl) w (p + ((if fl = true then [78] else []) ++ 83 :: nu_ m 36).length) xn' xC' := by
  have hK : ∀ j, j < i → cp_ K i f z j = K j := fun j h => cp_lt h
  have hV : ∀ j, j < i → cp_ V i f z j = V j := fun j h => cp_lt h
  have hKx : ∀ x, x < z → cp_ K i f z (i + x) = K (f + x) := fun x hx => by unfold cp_; rw [if_pos (by omega), show i + x - i = x by omega]
  have hVx : ∀ x, x < z → cp_ V i f z (i + x) = V (f + x) := fun x hx => by unfold cp_; rw [if_pos (by omega), show i + x - i = x by omega]
  have hKi : cp_ K i f z i = K f := hKx 0 hz
  have hkf : K f ≠ 1 ∧ K f ≠ 3 ∧ K f ≠ 4 ∧ K f ≠ 11 := by
    cases q : ka_h (K f) with
    | true => rw [ka_hi] at q; omega
    | false => have := pp_nh hw (by omega) q hf; omega
  have hc : c = true → cp_ K i f z i ≠ 1 ∧ cp_ K i f z i ≠ 3 := fun _ => by rw [hKi]; exact ⟨hkf.1, hkf.2.1⟩
  have hpp : i ∈ pp_ (cp_ K i f z) (i + z - 1) := tx_pp hw hw' hz (by omega) hip hKx (by rw [hS]; decide) hf
  have ez : i + z - 1 + 1 = i + z := by omega
  have A' := A
  obtain ⟨a1, a2, a3, ⟨a4, a4'⟩, a5, a6, a7, a8, a9, a10⟩ := A
  have hgl : ∀ {j : Nat}, j ≤ i → gn_ (un_ kn i z) j = gn_ kn j := fun {j} hj => gc_gn (b := i) un_lt hj
  have hgi : gn_ (un_ kn i z) i = i := by rw [hgl (Nat.le_refl _)]; exact a1
  have hmz : m1_ z = z := by unfold m1_; rw [if_neg (by omega)]
  have hgi1 : gn_ (un_ kn i z) (i + 1) = i + z := by rw [gn_t hgi, un_s, hmz]
  have hskip : ∀ d, i + 1 + d ≤ i + z → gn_ (un_ kn i z) (i + 1 + d) = i + z ∧ go_ (cp_ K i f z) (cp_ V i f z) (un_ kn i z) (un_ kt i m) (ub_ nf i fl) (i + 1 + d) = go_ (cp_ K i f z) (cp_ V i f z) (un_ kn i z) (un_ kt i m) (ub_ nf i fl) (i + 1) := by
    intro d
    induction d with
    | zero => intro _; exact ⟨hgi1, rfl⟩
    | succ d ih =>
      intro hd
      have := ih (by omega)
      have hne : gn_ (un_ kn i z) (i + 1 + d) ≠ i + 1 + d := by omega
      refine ⟨by rw [show i + 1 + (d + 1) = i + 1 + d + 1 by omega, gn_f hne, this.1], ?_⟩
      rw [show i + 1 + (d + 1) = i + 1 + d + 1 by omega]
      show (if _ then _ else _) = _
      rw [if_neg hne, this.2]
  have hend := hskip (z - 1) (by omega)
  rw [show i + 1 + (z - 1) = i + z by omega] at hend
  have hin : ∀ j, i < j → j < i + z → gn_ (un_ kn i z) j ≠ j := by
    intro j h1 h2 h3
    have := (hskip (j - i - 1) (by omega)).1
    rw [show i + 1 + (j - i - 1) = j by omega] at this
    omega
  obtain ⟨e, he⟩ : ∃ e, i + z = e + 1 := ⟨i + z - 1, by omega⟩
  have hpdv : pdv_ (un_ kn i z) e = false := by
    unfold pdv_
    apply decide_eq_false
    intro q
    by_cases y : e = i
    · subst y
      have := q.2
      rw [un_s] at this; omega
    · exact hin e (by omega) (by omega) q.1
  have hpd : pd_ (cp_ K i f z) (un_ kn i z) (ub_ nf i fl) (i + z) = false := by
    rw [he]; show (pdv_ _ e && _) = false; rw [hpdv, Bool.false_and]
  have hgyE : gy_ (cp_ K i f z) (cp_ V i f z) (un_ kn i z) (un_ kt i m) (ub_ nf i fl) c' (i + z) = go_ (cp_ K i f z) (cp_ V i f z) (un_ kn i z) (un_ kt i m) (ub_ nf i fl) (i + 1) := by
    rw [he]
    show gz_ (cp_ K i f z) (cp_ V i f z) (un_ kn i z) (un_ kt i m) (ub_ nf i fl) e ++ (if (c' && pd_ (cp_ K i f z) (un_ kn i z) (ub_ nf i fl) (e + 1)) = true then [69] else []) = _
    rw [← he, hpd, Bool.and_false, if_neg (by decide), List.append_nil, ← hend.2, he, go_gz, ← he, hpd, Bool.false_and, if_neg (by decide), List.append_nil]
  have hgy : gy_ (cp_ K i f z) (cp_ V i f z) (un_ kn i z) (un_ kt i m) (ub_ nf i fl) c i = gy_ K V kn kt nf c i := gc_gy (b := i) hK hV un_lt un_lt ub_lt (Nat.le_refl _)
  have hgo : gy_ (cp_ K i f z) (cp_ V i f z) (un_ kn i z) (un_ kt i m) (ub_ nf i fl) c i = go_ (cp_ K i f z) (cp_ V i f z) (un_ kn i z) (un_ kt i m) (ub_ nf i fl) i := by
    refine gy_go (Or.inr (Or.inr ⟨by rw [hKi]; exact hkf.1, by rw [hKi]; exact hkf.2.1, ?_⟩))
    rcases hcen with q | q
    · exact Or.inl q
    · exact Or.inr (pd_en (fun y => q ((gc_en (b := i) hK (Nat.le_refl _)).mp y)))
  have hgyE2 : gy_ (cp_ K i f z) (cp_ V i f z) (un_ kn i z) (un_ kt i m) (ub_ nf i fl) c' (i + z) = gy_ K V kn kt nf c i ++ ((if fl = true then [78] else []) ++ 83 :: nu_ m 36) := by
    rw [hgyE, ← hgy, hgo]
    show (if _ then _ else _) = _
    rw [if_pos hgi]
    unfold gv_
    rw [un_s, un_s, ub_s, if_neg (c := z = 0) (by omega)]
  have hlt : ∀ j, kn j ≠ 0 → j < i := by
    intro j hj
    rcases Nat.lt_or_ge j i with y | y
    · exact y
    · exact absurd (a2 j y) hj
  have hvis : ∀ s, s < i → gn_ kn s = s → s + m1_ (kn s) ≤ i := fun s hs hv => by have := gn_vis hv hs; omega
  -- the top at the end, if it is a name, is not below i
  have htop : ∀ t r, sk_ (cp_ K i f z) (i + z) = t :: r → ka_h (cp_ K i f z t) = true → i ≤ t := by
    intro t r es ht
    have hen := en_hd hw' (Nat.le_refl _) es ht
    rw [← ez] at hen es
    rcases (pp_iff hw' (by omega)).mp hpp with ⟨c2, b1, b2, b3, _⟩ | ⟨_, _, b3, _⟩
    · rcases b3 with ⟨d1, d2⟩ | ⟨d1, d2, d3⟩ | ⟨_, _, d3, _, _⟩
      · exact absurd hen (en_n (by rw [d2, d1]; omega) (by rw [d2, d1]; omega))
      · rw [en_e d2, d3, d1] at hen; omega
      · rw [es] at d3
        have : t = c2 := Option.some.inj d3
        omega
    · rw [es] at b3
      have : t = i := Option.some.inj b3
      omega
  refine ⟨hend.1, fun j hj => ?_, fun j hj => ?_, ⟨?_, ?_⟩, ?_, ?_, ?_, ?_, ?_, ?_⟩
  · rw [un_n (by omega)]; exact a2 j (by omega)
  · by_cases y : j = i
    · rw [y]; exact hgi
    · rw [un_n y] at hj
      have := hlt j hj
      rw [hgl (by omega)]; exact a3 j hj
  · rw [hgyE2]; exact pr_ext a4 (by rw [← a4']; exact hpr)
  · rw [hgyE2, a4', ← List.length_append]
  · intro j hj hv
    rcases Nat.lt_trichotomy j i with y | y | y
    · rw [hgl (by omega)] at hv
      rw [un_n (by omega)]
      have := a5 j y hv
      refine ⟨fun q => by rw [hy1 j y]; exact this.1 q, fun q x a b => ?_⟩
      have h2 := hvis j y hv
      have hm2 : m1_ (kn j) = kn j := by unfold m1_; rw [if_neg q]
      rw [hy1 x (by omega)]; exact this.2 q x a b
    · subst y
      rw [un_s]
      exact ⟨fun q => by omega, fun _ x a b => hy2 x a b⟩
    · exact absurd hv (hin j y hj)
  · intro j hj
    by_cases y : j = i
    · subst y
      rw [un_s, un_s]
      refine ⟨⟨f, hT, ?_⟩, Or.inr ⟨rfl, ?_⟩⟩
      · refine sg_ext (fun x hx => ?_)
        rw [hKx x hx, hVx x hx, hK _ (by omega), hV _ (by omega)]; exact ⟨rfl, rfl⟩
      · rw [he]
        show j ∈ (if c' = true then pa_ _ e ++ pc_ _ e else pa_ _ e)
        have e1 : j + z - 1 = e := by omega
        rw [e1] at hpp
        have hpb : pp_ (cp_ K j f z) e = pa_ (cp_ K j f z) e ++ pc_ (cp_ K j f z) e := by
          unfold pp_ pb_; rw [if_neg (by rw [← he, hS]; decide)]
        cases hh : ka_h (K f) with
        | true =>
          rw [hcc, hh]
          have h1 := pp_h hw' (by omega) (by rw [hKi]; exact hh) hpp
          rw [if_neg (by decide)]
          cases es : sk_ (cp_ K j f z) (e + 1) with
          | nil => rw [es] at h1; exact absurd h1.2.1 (by simp)
          | cons t r =>
            rw [es] at h1
            have : t = j := Option.some.inj h1.2.1
            rw [pa_en hw' (by omega) h1.1 es, this, if_pos hip]; simp
        | false =>
          rw [hcc, hh]
          rw [if_pos (by decide), ← hpb]; exact hpp
    · rw [un_n y] at hj
      have hji := hlt j hj
      rw [un_n y, un_n y]
      obtain ⟨⟨f', f1, f2⟩, h⟩ := a6 j hj
      have hjn : j + kn j ≤ i := by rcases h with u | u <;> omega
      have hmem := List.mem_of_getElem? f1
      have hfb : f' + kn j ≤ j := tb_b (p := (f', kn j)) hw (by omega) hmem
      refine ⟨⟨f', ?_, ?_⟩, Or.inl ⟨by omega, ?_⟩⟩
      · rw [gc_tb (b := i) hK hV hw (by omega)]; exact f1
      · rw [gc_sg (b := i) hK hV (by omega), gc_sg (b := i) hK hV (by omega)]; exact f2
      · exact (ra_kc (n := i + z) A' (by omega) hK hc j (by omega) hj).2
  · intro s hs hv hh
    rcases Nat.lt_trichotomy s i with y | y | y
    · rw [hgl (by omega)] at hv
      rw [hK s y] at hh
      rw [hx1 s y, ub_lt s y]; exact a7 s y hv hh
    · subst y; rw [hKi] at hh; rw [ub_s]; exact hx2 hh
    · exact absurd hv (hin s y hs)
  · intro s hs hv hh hoff
    rcases Nat.lt_trichotomy s i with y | y | y
    · have hv0 := hv
      rw [hgl (by omega)] at hv
      have hh0 := hh
      rw [hK s y] at hh
      have hw2 := wf_le hw' (m := i) (by omega)
      -- it was closed before
      have hss : s ∉ ss_ K i c := by
        intro u
        apply hoff
        rw [← gc_ss (b := i) hK] at u
        have h1 : s ∈ sk_ (cp_ K i f z) (i + 1) := by
          refine sk_hold hw' (by omega) hh0 u (Or.inr ⟨by rw [hKi]; exact hkf.1, by rw [hKi]; exact hkf.2.1, ?_⟩)
          rcases hcen with q | q
          · exact Or.inl q
          · right
            intro t0
            cases es : sk_ (cp_ K i f z) i with
            | nil => rw [es] at t0; exact absurd t0 (by simp)
            | cons t r =>
              rw [es] at t0
              have : t = s := Option.some.inj t0
              subst this
              exact q ((gc_en (b := i) hK (Nat.le_refl _)).mp (en_hd hw2 (Nat.le_refl _) es hh0))
        have hall : ∀ d, 1 + d ≤ z → s ∈ sk_ (cp_ K i f z) (i + (1 + d)) := by
          intro d
          induction d with
          | zero => intro _; exact h1
          | succ d ih =>
            intro hd
            have h2 := ih (by omega)
            have hion : i ∈ sk_ (cp_ K i f z) (i + (1 + d)) := pp_on hw' (by omega) hpp (by omega) (by omega)
            have := sk_hold (c := false) (i := i + (1 + d)) hw' (by omega) hh0 h2 (by
              by_cases q : cp_ K i f z (i + (1 + d)) = 1 ∨ cp_ K i f z (i + (1 + d)) = 3
              · exact Or.inl ⟨q, rfl⟩
              · refine Or.inr ⟨fun x => q (Or.inl x), fun x => q (Or.inr x), Or.inr ?_⟩
                intro t0
                have hg := gs_pw (si_all hw' (i + (1 + d)) (by omega)).1
                cases es : sk_ (cp_ K i f z) (i + (1 + d)) with
                | nil => rw [es] at t0; exact absurd t0 (by simp)
                | cons t r =>
                  rw [es] at t0 hg hion
                  have : t = s := Option.some.inj t0
                  subst this
                  rcases List.mem_cons.mp hion with x | x
                  · omega
                  · have := (List.pairwise_cons.mp hg).1 i x; omega)
            rw [show i + (1 + (d + 1)) = i + (1 + d) + 1 by omega]; exact this
        have hin2 : s ∈ sk_ (cp_ K i f z) (i + z) := by
          have := hall (z - 1) (by omega)
          rw [show i + (1 + (z - 1)) = i + z by omega] at this; exact this
        unfold ss_
        cases c' with
        | false => rw [if_neg (by decide)]; exact hin2
        | true =>
          rw [if_pos rfl]
          cases es : sk_ (cp_ K i f z) (i + z) with
          | nil => rw [es] at hin2; exact absurd hin2 (by simp)
          | cons t r =>
            rw [es] at hin2
            cases ht : ka_h (cp_ K i f z t) with
            | false => rw [sk_c_n ht]; exact hin2
            | true =>
              have := htop t r es ht
              rw [sk_c_h ht]
              rcases List.mem_cons.mp hin2 with x | x
              · omega
              · exact sk_wh hh0 x
      have h8 := a8 s y hv hh hss
      -- and nothing more comes
      have hoff1 : s ∉ sk_ (cp_ K i f z) (i + 1) := by
        intro u
        apply hss
        rw [sk_so (by rw [hKi]; exact hkf.1) (by rw [hKi]; exact hkf.2.1) (by rw [hKi]; exact hkf.2.2.1) (by rw [hKi]; exact hkf.2.2.2)] at u
        have u2 := (List.mem_cons.mp u).resolve_left (by omega)
        rw [← gc_ss (b := i) hK]
        unfold ss_
        cases c with
        | true => rw [if_pos rfl]; exact u2
        | false => rw [if_neg (by decide)]; exact (sk_c_suf _ _).subset u2
      have ho := off_ (i := i + 1) (by omega) hoff1 (j := i + z) (by omega)
      have hoe : oe_ (cp_ K i f z) s i = false := by
        cases q : oe_ (cp_ K i f z) s i with
        | false => rfl
        | true => exact absurd (sk_hm (oe_i.mp q).2) hoff1
      have e1 : hm_ (cp_ K i f z) s (i + 1) = hm_ K s i := by
        show ((oe_ _ s i && _) || hm_ _ s i) = _
        rw [hoe, Bool.false_and, Bool.false_or]; exact gc_hm (b := i) hK (Nat.le_refl _)
      have e2 : ne_ (cp_ K i f z) s (i + 1) = ne_ K s i := by
        show (if oe_ _ s i = true then _ else _) = _
        rw [hoe, if_neg (by decide)]; exact gc_ne (b := i) hK (Nat.le_refl _)
      rw [ub_lt s y, un_n (by omega), ho.1, ho.2, e1, e2]; exact h8
    · exfalso
      subst y
      have hh0 := hh
      rw [hKi] at hh
      have h1 := pp_h hw' (by omega) hh0 hpp
      rw [ez] at h1
      apply hoff
      unfold ss_
      rw [hcc, hh, if_neg (by decide)]
      exact sk_hm h1.2.1
    · exact absurd hv (hin s y hs)
  · intro s hs hv hh
    rcases Nat.lt_trichotomy s i with y | y | y
    · rw [hgl (by omega)] at hv
      rw [hK s y] at hh
      rw [ub_lt s y]; exact a9 s y hv hh
    · subst y; rw [hKi] at hh; rw [ub_s]; exact hfl hh
    · exact absurd hv (hin s y hs)
  · intro hcf hen s r es
    have hh : ka_h (K f) = true := by
      rw [hcc] at hcf
      cases q : ka_h (K f) with
      | true => rfl
      | false => rw [q] at hcf; exact absurd hcf (by decide)
    have h1 := pp_h hw' (by omega) (by rw [hKi]; exact hh) hpp
    rw [ez, es] at h1
    have : s = i := Option.some.inj h1.2.1
    rw [this]; exact hgi
end
/-- the end: what was read is the symbol of the nodes -/
theorem ra_fin {K V kn kt : Nat → Nat} {nf : Nat → Bool} {N : Nat} {c : Bool} {w : List Nat} {p : Nat} {xn xC : Nat → Int32} (hw : wf_ K V N) (h0 : 0 < N) (hN : N ≤ 48) (hS : K N = 11) (hss : ss_ K N c = []) (F : fi_ K V N c xC) (A : ra_ K V N c kn kt nf w p xn xC)
    (hp : w.length ≤ p) : op_ K N = 0 ∧ mg_ K V N = w := by
  obtain ⟨hcm, hcen⟩ := ss_nil hw (Nat.le_refl _) hss
  refine ⟨hcm, ?_⟩
  have hkc : kc_ K N kn := ra_kc A (Nat.le_refl _) (fun _ _ => rfl) (fun _ => by rw [hS]; decide)
  obtain ⟨a1, a2, a3, ⟨a4, a4'⟩, a5, a6, a7, a8, a9, a10⟩ := A
  have hgy : gy_ K V kn kt nf c N = go_ K V kn kt nf N := by
    refine gy_go (Or.inr (Or.inr ⟨by rw [hS]; decide, by rw [hS]; decide, ?_⟩))
    rcases hcen with q | q
    · exact Or.inl q
    · exact Or.inr (pd_en q)
  have hww : gy_ K V kn kt nf c N = w := by
    refine a4.eq_of_length ?_
    have := a4.length_le
    omega
  -- no known component is spelled out
  have hfi : ∀ e s, e < N → s ∈ pp_ K e → kw_ K V (tb_ K V e) s e = true → nI e ≤ xC s := by
    intro e s he hs hk
    by_cases z : e + 1 < N
    · exact F e s (Or.inl ⟨z, hs⟩) hk
    · refine F e s (Or.inr ⟨by omega, ?_⟩) hk
      have e1 : N = e + 1 := by omega
      rw [e1]
      show s ∈ (if c = true then pa_ K e ++ pc_ K e else pa_ K e)
      have hpb : pp_ K e = pa_ K e ++ pc_ K e := by unfold pp_ pb_; rw [if_neg (by rw [← e1, hS]; decide)]
      rw [hpb] at hs
      cases c with
      | true => rw [if_pos rfl]; exact hs
      | false =>
        rw [if_neg (by decide)]
        have hne := hcen.resolve_left (by decide)
        rw [e1] at hne
        rw [pc_n hw (by omega) hne, List.append_nil] at hs; exact hs
  have hkl : ∀ j, j < N → gn_ kn j = j → kn j = kl_ K V j N := by
    intro j hj hv
    have h5 := a5 j hj hv
    by_cases hk : kn j = 0
    · rw [hk]
      symm
      apply Classical.byContradiction
      intro hne
      obtain ⟨e, b1, b2, b3, _⟩ := kl_in hw (Nat.le_refl _) hne
      have := hfi e j b1 b2 b3
      rw [h5.1 hk, Int32.le_iff_toInt_le, nI_toInt (by omega)] at this
      have e2 : (-1 : Int32).toInt = -1 := by decide
      rw [e2] at this; omega
    · have hc := hkc j hj hk
      obtain ⟨⟨f, f1, f2⟩, _⟩ := a6 j hk
      have hkw : kw_ K V (tb_ K V (j + kn j - 1)) j (j + kn j - 1) = true := by
        refine kw_i.mpr ⟨(f, kn j), (tb_pre (show j ≤ j + kn j - 1 by omega)).subset (List.mem_of_getElem? f1), ?_⟩
        rw [show j + kn j - 1 + 1 - j = kn j by omega]; exact f2
      have hge := kl_ge hw (show j + kn j - 1 < N by omega) hc.2 hkw
      obtain ⟨e, b1, b2, b3, b4, b5, _⟩ := kl_in hw (Nat.le_refl _) hge.1
      have := hfi e j b1 b2 b3
      rw [h5.2 hk j (Nat.le_refl _) (by omega)] at this
      have hle : e ≤ j + kn j - 1 := by
        rcases Nat.lt_or_ge (j + kn j - 1) e with y | y
        · exact absurd this (nI_ge y (by omega))
        · exact y
      omega
  have hkt : ∀ j, j < N → kn j ≠ 0 → kt j = kt_ K V N j := by
    intro j hj hk
    obtain ⟨⟨f, f1, f2⟩, _⟩ := a6 j hk
    symm
    refine kt_un (s := j) (ek_pre (tb_pre (show j ≤ N by omega)) f1) ?_
    rw [← hkl j hj (a3 j hk)]; exact f2
  have hnf : ∀ s, s < N → gn_ kn s = s → nf s = nf_ K V N s := by
    intro s hs hv
    cases hh : ka_h (K s) with
    | true =>
      rw [a8 s hs hv hh (by rw [hss]; simp)]
      unfold nf_
      rw [hkl s hs hv]
    | false =>
      rw [a9 s hs hv hh]
      cases q : nf_ K V N s with
      | false => rfl
      | true => have := (nf_h hw q).1; rw [hh] at this; exact absurd this (by decide)
  have key : ∀ m, m ≤ N → gn_ kn m = gn_ (fun s => kl_ K V s N) m ∧ go_ K V kn kt nf m = go_ K V (fun s => kl_ K V s N) (kt_ K V N) (nf_ K V N) m := by
    intro m
    induction m with
    | zero => intro _; exact ⟨rfl, rfl⟩
    | succ m ih =>
      intro hm
      obtain ⟨i1, i2⟩ := ih (by omega)
      by_cases hv : gn_ kn m = m
      · have hv' : gn_ (fun s => kl_ K V s N) m = m := by rw [← i1]; exact hv
        have hk := hkl m (by omega) hv
        refine ⟨by rw [gn_t hv, gn_t hv', hk], ?_⟩
        have e1 : go_ K V kn kt nf (m + 1) = go_ K V kn kt nf m ++ gv_ K V kn kt nf m := by show (if _ then _ else _) = _; rw [if_pos hv]
        have e2 : go_ K V (fun s => kl_ K V s N) (kt_ K V N) (nf_ K V N) (m + 1) = go_ K V (fun s => kl_ K V s N) (kt_ K V N) (nf_ K V N) m ++ gv_ K V (fun s => kl_ K V s N) (kt_ K V N) (nf_ K V N) m := by show (if _ then _ else _) = _; rw [if_pos hv']
        rw [e1, e2, i2]
        congr 1
        unfold gv_
        rw [hnf m (by omega) hv, show (fun s => kl_ K V s N) m = kn m from hk.symm]
        by_cases z : kn m = 0
        · rw [if_pos z, if_pos z]
          have hec : ec_ K nf m = ec_ K (nf_ K V N) m := by
            unfold ec_
            by_cases hen : en_ K (m + 1)
            · obtain ⟨s, r, es, hs, _⟩ := en_top hw (by omega) hen
              have hos : oe_ K s m = true := oe_i.mpr ⟨hen, by rw [es]; rfl⟩
              have hsm := (oe_h hw hos (by omega)).2
              have hvs : gn_ kn s = s := by
                by_cases y : s = m
                · rw [y]; exact hv
                · exact (gn_own hw (by omega) hkc hv hos (by omega)).1
              rw [es]
              show (_ && (nf s && _)) = (_ && (nf_ K V N s && _))
              rw [hnf s (by omega) hvs]
            · rw [eb_n.mpr hen, Bool.false_and, Bool.false_and]
          rw [hec]
        · rw [if_neg z, if_neg z, hkt m (by omega) z]
      · have hv' : gn_ (fun s => kl_ K V s N) m ≠ m := by rw [← i1]; exact hv
        refine ⟨by rw [gn_f hv, gn_f hv', i1], ?_⟩
        show (if _ then _ else _) = (if _ then _ else _)
        rw [if_neg hv, if_neg hv']; exact i2
  show go_ K V (fun s => kl_ K V s N) (kt_ K V N) (nf_ K V N) N = w
  rw [← (key N (Nat.le_refl _)).2, ← hgy]; exact hww
end
section
/-! X reads any text: nodes, references, types -/
theorem tb_of {K V K' V' : Nat → Nat} {i : Nat} {c : Bool} (hw : wf_ K V i) (hK : ∀ j, j < i → K' j = K j) (hV : ∀ j, j < i → V' j = V j) (hk : K' i ≠ 1 ∧ K' i ≠ 3) (hc : c = true ∨ ¬ en_ K i) :
    tb_ K' V' i = tl_ K V (i - 1) (tb_ K V (i - 1)) (lp_ K c i) := by
  cases i with
  | zero => rfl
  | succ e =>
    have hpp : pp_ K' e = lp_ K c (e + 1) := by
      unfold pp_ pb_
      rw [if_neg (by omega), gc_pa hK (by omega), gc_pc hK (by omega)]
      show _ = (if c = true then _ else _)
      cases c with
      | true => rw [if_pos rfl]
      | false => rw [if_neg (by decide), pc_n hw (by omega) (hc.resolve_left (by decide)), List.append_nil]
    have hle : ∀ x, x ∈ pp_ K' e → x ≤ e := by
      intro x hx
      rw [hpp] at hx
      have : x ∈ pp_ (un_ K (e + 1) 11) e := lp_pp (i := e + 1) (by omega) un_lt (fun _ => by rw [un_s]; decide) hx
      exact pp_le (gc_wf (b := e + 1) un_lt (fun _ _ => rfl) hw) (by omega) this
    show tl_ K' V' e (tb_ K' V' e) (pp_ K' e) = tl_ K V e (tb_ K V e) (lp_ K c (e + 1))
    rw [gc_tb (b := e + 1) hK hV hw (by omega), ← hpp]
    exact gc_tl (b := e + 1) hK hV (by omega) hle (fun p hp => by have := tb_b hw (i := e) (by omega) hp; omega)
section
variable {xo xb : Int64} {xl xs xg xu xd xc xe xp xf xz : Int32} {xK xV xO xT xS xA xY xN xW xk xt xH xn : Nat → Int32} {xq : Nat → Int64} {xy xF xZ xC xv : Nat → Int32}
variable {K V : Nat → Nat} {i : Nat} {c : Bool} {n : Nat} {cs : Nat → List (Nat × Nat)} {cl : Nat → Bool} {l : Nat} {w : List Nat} {p : Nat} {kn kt : Nat → Nat} {nf : Nat → Bool}
theorem zs_sp {post : SX → Prop} {k v q : Nat} {fl : Bool} (R : rd_ K V i c n cs cl l w q xo xb xl xs xg xu xd xc xe xp xf xz xK xV xO xT xS xA xY xN xW xk xt xH xn xq xy xF xZ xC xv) (F : fi_ K V i c xC) (h0 : xf = 0) (A : ra_ K V i c kn kt nf w p xn xC) (hv : vr_ k v)
    (hcen : (i = 0 ∧ k = 0) ∨ ((k = 1 ∨ k = 3) ∧ c = false) ∨ (k ≠ 1 ∧ k ≠ 3 ∧ (c = true ∨ ¬ en_ K i))) (hfl : ka_h k = false → fl = false) (hpr : pr_ w p ((if fl = true then [78] else []) ++ pe_ (un_ K i k) (un_ V i v) i))
    (hq : q = p + ((if fl = true then [78] else []) ++ pe_ (un_ K i k) (un_ V i v) i).length)
    (HF : ∀ (xs' xu' xd' xc' xe' xf' : Int32) (xK' xV' xO' xS' xA' xY' xN' xW' xk' xt' xH' : Nat → Int32) (xq' : Nat → Int64) (xy' xF' xZ' : Nat → Int32) (xC' : Nat → Int32), xf' = 1 → post (xo, xb, xl, xs', xg, xu', xd', xc', xe', xp, xf', xz, xK', xV', xO', xT, xS', xA', xY', xN', xW', xk', xt', xH', xn, xq', xy', xF', xZ', xC', xv))
    (HB : ∀ (n' : Nat) (cs' : Nat → List (Nat × Nat)) (cl' : Nat → Bool) (xs' xu' xd' xc' xe' xf' : Int32) (xK' xV' xO' xS' xA' xY' xN' xW' xk' xt' xH' : Nat → Int32) (xq' : Nat → Int64) (xy' xF' xZ' : Nat → Int32), rd_ (un_ K i k) (un_ V i v) (i + 1) false n' cs' cl' l w q xo xb xl xs' xg xu' xd' xc' xe' xp xf' xz xK' xV' xO' xT xS' xA' xY' xN' xW' xk' xt' xH' xn xq' xy' xF' xZ' (upd xC i (-1)) xv → xf' = 0 → fi_ (un_ K i k) (un_ V i v) (i + 1) false (upd xC i (-1)) →
      (∀ xn' : Nat → Int32, (∀ s, s < i → xn' s = xn s) → (ka_h k = true → xn' i = if fl = true then 1 else 0) → ra_ (un_ K i k) (un_ V i v) (i + 1) false kn kt (ub_ nf i fl) w q xn' (upd xC i (-1))) → post (xo, xb, xl, xs', xg, xu', xd', xc', xe', xp, xf', xz, xK', xV', xO', xT, xS', xA', xY', xN', xW', xk', xt', xH', xn, xq', xy', xF', xZ', upd xC i (-1), xv)) :
    wpX_accept post (xo, xb, xl, xs, xg, xu, xd, xc, xe, xp, xf, xz, xK, xV, xO, xT, xS, xA, xY, xN, xW, xk, xt, xH, xn, xq, xy, xF, xZ, xC, xv) (nI k) (nI v) (-1) := by
  have hc : c = true → k ≠ 1 ∧ k ≠ 3 := by
    intro z
    rcases hcen with y | y | y
    · omega
    · rw [z] at y; exact absurd y.2 (by decide)
    · exact ⟨y.1, y.2.1⟩
  refine zq_ac2 R F h0 hc hv (fun _ => HF xs xu xd xc xe 1 xK xV xO xS xA xY xN xW xk xt xH xq xy xF xZ xC rfl) ?_
  intro _ _ n' cs' cl' xs' xu' xd' xc' xe' xf' xK' xV' xO' xS' xA' xY' xN' xW' xk' xt' xH' xq' xy' xF' xZ' R' hfx
  rcases hfx with ⟨e0, F'⟩ | ⟨e1, _⟩
  · refine HB n' cs' cl' xs' xu' xd' xc' xe' xf' xK' xV' xO' xS' xA' xY' xN' xW' xk' xt' xH' xq' xy' xF' xZ' R' e0 F' (fun xn' h1 h2 => ?_)
    rw [hq]
    exact ra_sp R.1 R'.1 A hcen hfl hpr h1 h2
  · exact HF xs' xu' xd' xc' xe' xf' xK' xV' xO' xS' xA' xY' xN' xW' xk' xt' xH' xq' xy' xF' xZ' _ e1
/-- a back reference -/
theorem zs_rf {post : SX → Prop} {q : Nat} {ins : Int32} {fl : Bool} (R : rd_ K V i c n cs cl l w q xo xb xl xs xg xu xd xc xe xp xf xz xK xV xO xT xS xA xY xN xW xk xt xH xn xq xy xF xZ xC xv) (F : fi_ K V i c xC) (h0 : xf = 0) (A : ra_ K V i c kn kt nf w p xn xC) (hcen : c = true ∨ ¬ en_ K i) (hins : ins = if fl = true then 1 else 0)
    (hq20 : q + 40 < 2 ^ 20) (hpr : pr_ w p ((if fl = true then [78] else []) ++ [83])) (hq : q = p + ((if fl = true then [78] else []) ++ [83]).length)
    (HF : ∀ (xs' xu' xd' xc' xe' xf' : Int32) (xK' xV' xO' xS' xA' xY' xN' xW' xk' xt' xH' : Nat → Int32) (xq' : Nat → Int64) (xy' xF' xZ' : Nat → Int32) (xp' : Int32) (xn' xC' : Nat → Int32), xf' = 1 → post (xo, xb, xl, xs', xg, xu', xd', xc', xe', xp', xf', xz, xK', xV', xO', xT, xS', xA', xY', xN', xW', xk', xt', xH', xn', xq', xy', xF', xZ', xC', xv))
    (HC : ∀ (K' V' : Nat → Nat) (i' : Nat) (c' : Bool) (kn' kt' : Nat → Nat) (nf' : Nat → Bool) (p' n' : Nat) (cs' : Nat → List (Nat × Nat)) (cl' : Nat → Bool) (xs' xu' xd' xc' xe' xf' : Int32) (xK' xV' xO' xS' xA' xY' xN' xW' xk' xt' xH' : Nat → Int32) (xq' : Nat → Int64) (xy' xF' xZ' : Nat → Int32) (xn' xC' : Nat → Int32), rd_ K' V' i' c' n' cs' cl' l w p' xo xb xl xs' xg xu' xd' xc' xe' (nI p') xf' xz xK' xV' xO' xT xS' xA' xY' xN' xW' xk' xt' xH' xn' xq' xy' xF' xZ' xC' xv → xf' = 0 → fi_ K' V' i' c' xC' → ra_ K' V' i' c' kn' kt' nf' w p' xn' xC' → post (xo, xb, xl, xs', xg, xu', xd', xc', xe', nI p', xf', xz, xK', xV', xO', xT, xS', xA', xY', xN', xW', xk', xt', xH', xn', xq', xy', xF', xZ', xC', xv)) :
    wpX_readReference (fun u => match u with | (xo1, xb1, xl1, xs1, xg1, xu1, xd1, xc1, xe1, xp1, xf1, xz1, xK1, xV1, xO1, xT1, xS1, xA1, xY1, xN1, xW1, xk1, xt1, xH1, xn1, xq1, xy1, xF1, xZ1, xC1, xv1) => wX_readHead_54 post ins xs xo1 xb1 xl1 xs1 xg1 xu1 xd1 xc1 xe1 xp1 xf1 xz1 xK1 xV1 xO1 xT1 xS1 xA1 xY1 xN1 xW1 xk1 xt1 xH1 xn1 xq1 xy1 xF1 xZ1 xC1 xv1) (xo, xb, xl, xs, xg, xu, xd, xc, xe, xp, xf, xz, xK, xV, xO, xT, xS, xA, xY, xN, xW, xk, xt, xH, xn, xq, xy, xF, xZ, xC, xv) := by
  have hl48 := R.2.2.2.1
  have hil := R.2.2.1
  have hL := R.2.2.2.2.2.2.2.2.2.1
  have es : xs = nI i := R.2.2.2.2.2.1
  have hw := R.1
  have hS := R.2.1
  have htv : tv_ (tl_ K V (i - 1) (tb_ K V (i - 1)) (lp_ K c i)) xe xF xZ := R.2.2.2.2.2.2.2.2.2.2.1.2.1
  have hins01 : ins = 0 ∨ ins = 1 := by rw [hins]; by_cases z : fl = true <;> simp [z]
  -- the entries
  have hent : ∀ f z, (f, z) ∈ tl_ K V (i - 1) (tb_ K V (i - 1)) (lp_ K c i) → 0 < i ∧ 0 < z ∧ f + z ≤ i ∧ f ∈ pp_ K (f + z - 1) := by
    intro f z hm
    rcases tl_mem hm with h | ⟨s, h1, h2⟩
    · obtain ⟨e, s, b1, b2, b3, b4⟩ := tb_mem hw (by omega) h
      have e1 : f = s := congrArg Prod.fst b3
      have e2 : z = e + 1 - s := congrArg Prod.snd b3
      refine ⟨by omega, by omega, by omega, ?_⟩
      rw [e2, e1, show s + (e + 1 - s) - 1 = e by omega]; exact b2
    · have e1 : f = s := congrArg Prod.fst h2
      have e2 : z = i - 1 + 1 - s := congrArg Prod.snd h2
      have hi0 : 0 < i := by
        cases i with
        | zero => exact absurd h1 (by simp [lp_])
        | succ e => omega
      have hpp : s ∈ pp_ K (i - 1) := lp_pp hi0 (fun _ _ => rfl) (fun _ => by rw [hS i (Nat.le_refl _)]; decide) h1
      have hsl := pp_le hw (by omega) hpp
      refine ⟨hi0, by omega, by omega, ?_⟩
      rw [e2, e1, show s + (i - 1 + 1 - s) - 1 = i - 1 by omega]; exact hpp
  have hlen : (tl_ K V (i - 1) (tb_ K V (i - 1)) (lp_ K c i)).length ≤ 48 := by
    rcases Nat.eq_zero_or_pos i with z | z
    · rw [z]; show ([] : List (Nat × Nat)).length ≤ 48; simp
    · have := tl_len (K := K) (V := V) (e := i - 1) (l := lp_ K c i) hw (by omega) (fun s hs => lp_pp z (fun _ _ => rfl) (fun _ => by rw [hS i (Nat.le_refl _)]; decide) hs)
      omega
  have h54f : ∀ (xs' xu' xd' xc' xe' xf' : Int32) (xK' xV' xO' xS' xA' xY' xN' xW' xk' xt' xH' : Nat → Int32) (xq' : Nat → Int64) (xy' xF' xZ' : Nat → Int32) (xp' : Int32) (xC' : Nat → Int32), xf' = 1 → wX_readHead_54 post ins xs xo xb xl xs' xg xu' xd' xc' xe' xp' xf' xz xK' xV' xO' xT xS' xA' xY' xN' xW' xk' xt' xH' xn xq' xy' xF' xZ' xC' xv := by
    intro xs' xu' xd' xc' xe' xf' xK' xV' xO' xS' xA' xY' xN' xW' xk' xt' xH' xq' xy' xF' xZ' xp' xC' h1
    exact br_f (by rw [h1]; decide) (HF xs' xu' xd' xc' xe' xf' xK' xV' xO' xS' xA' xY' xN' xW' xk' xt' xH' xq' xy' xF' xZ' xp' xn xC' h1)
  unfold wpX_readReference
  refine za_nu (b := 36) (mx := (tl_ K V (i - 1) (tb_ K V (i - 1)) (lp_ K c i)).length) (Or.inl rfl) hL (by omega) (by omega) (by rw [htv.1]) h0 (fun m hm hnu => ?_) (fun r p' hp' => ?_)
  · obtain ⟨f, z, hfz⟩ : ∃ f z, (tl_ K V (i - 1) (tb_ K V (i - 1)) (lp_ K c i))[m]? = some (f, z) := ⟨_, _, List.getElem?_eq_getElem hm⟩
    obtain ⟨hi0, hz, hfi, hpp⟩ := hent f z (List.mem_of_getElem? hfz)
    have hft := htv.2 _ _ hfz
    have hkf : K f ≠ 1 ∧ K f ≠ 3 := by
      cases y : ka_h (K f) with
      | true => rw [ka_hi] at y; omega
      | false => have := pp_nh hw (by omega) y hpp; omega
    have hvk : vp_in (nI m) 48 := vp_in_nI (by omega) (by omega)
    have hck : (nI m).toNatClampNeg = m := nI_clamp (by omega)
    have hnl := nu_len (v := m) (b := 36)
    refine br_t h0 ⟨hvk, nm_r (e' := nI f) (by rw [hck]; exact hft.1) ⟨hvk, nm_r (e' := nI z) (by rw [hck]; exact hft.2) (nm_r (e' := nI (i + z - 1)) ?_ ⟨z + 1, ?_⟩)⟩⟩
    · rw [es, nI_add]; exact pk_sub (b := 1) (by omega)
    have R1 : rd_ K V i c n cs cl l w (q + (nu_ m 36).length) xo xb xl xs xg xu xd xc xe (nI (q + (nu_ m 36).length)) xf xz xK xV xO xT xS xA xY xN xW xk xt xH xn xq xy xF xZ xC xv := rd_p R (by omega)
    refine zq_48z (K := K) (V := V) (i := i) (c := c) (f := f) (z := z) hfi hz (fun _ => hkf) R1 h0 F ?_ ?_
    · intro m' _ _ xs' xu' xd' xc' xe' xf' xK' xV' xO' xS' xA' xY' xN' xW' xk' xt' xH' xq' xy' xF' xZ' xC' h1
      exact h54f xs' xu' xd' xc' xe' xf' xK' xV' xO' xS' xA' xY' xN' xW' xk' xt' xH' xq' xy' xF' xZ' _ xC' h1
    · intro n' cs' cl' xs' xu' xd' xc' xe' xf' xK' xV' xO' xS' xA' xY' xN' xW' xk' xt' xH' xq' xy' xF' xZ' R' e0 F'
      rw [es]
      have hKi : cp_ K i f z i = K f := by unfold cp_; rw [if_pos (by omega), Nat.sub_self, Nat.add_zero]
      have hT : (tb_ (cp_ K i f z) (cp_ V i f z) i)[m]? = some (f, z) := by
        rw [tb_of (c := c) hw (fun j hj => cp_lt hj) (fun j hj => cp_lt hj) (by rw [hKi]; exact hkf) hcen]; exact hfz
      have hxcc : ∀ j, j < i → cc_ xC i z z j = xC j := fun j hj => by unfold cc_; rw [if_neg (by omega)]
      have hxc2 : ∀ j, i ≤ j → j < i + z → cc_ xC i z z j = nI (i + z - 1) := fun j a b => by unfold cc_; rw [if_pos ⟨a, b⟩]
      have hprf : pr_ w p ((if fl = true then [78] else []) ++ 83 :: nu_ m 36) := by
        rw [show (if fl = true then [78] else []) ++ 83 :: nu_ m 36 = ((if fl = true then [78] else []) ++ [83]) ++ nu_ m 36 by simp]
        exact pr_app.mpr ⟨hpr, by rw [← hq]; exact hnu⟩
      have hqp : q + (nu_ m 36).length = p + ((if fl = true then [78] else []) ++ 83 :: nu_ m 36).length := by
        rw [hq]; simp only [List.length_append, List.length_cons, List.length_nil]; omega
      have hra : ∀ (c' : Bool) (xn' : Nat → Int32), c' = (!ka_h (K f)) → (ka_h (K f) = false → fl = false) → (∀ s, s < i → xn' s = xn s) → (ka_h (K f) = true → xn' i = if fl = true then 1 else 0) →
          ra_ (cp_ K i f z) (cp_ V i f z) (i + z) c' (un_ kn i z) (un_ kt i m) (ub_ nf i fl) w (q + (nu_ m 36).length) xn' (cc_ xC i z z) := by
        intro c' xn' h1 h2 h3 h4
        rw [hqp]
        exact ra_rf hw R'.1 (R'.2.1 _ (Nat.le_refl _)) A hi0 hz hfi hpp hT hcen h2 hprf h3 h4 hxcc hxc2 c' h1
      refine zq_54 (N := i + z) R'.2.2.2.2.2.2.2.1 (by omega) (by have := R'.2.2.1; omega) hins01 (fun y => absurd e0 y) (fun _ hh => ?_) (fun _ hh => ?_)
      · rw [hKi] at hh
        refine HC _ _ (i + z) false _ _ _ (q + (nu_ m 36).length) n' cs' cl' xs' xu' xd' xc' xe' xf' xK' xV' xO' xS' xA' xY' xN' xW' xk' xt' xH' xq' xy' xF' xZ' _ _ R' e0 F' (hra false _ (by rw [hh]; rfl) (fun y => by rw [hh] at y; exact absurd y (by decide)) (fun s hs => pk_un (by omega)) (fun _ => by rw [pk_us]; exact hins))
      · rw [hKi] at hh
        rcases hins01 with y | y
        · subst y
          have hfl : fl = false := by
            cases fl with
            | false => rfl
            | true => rw [if_pos rfl] at hins; exact absurd hins (by decide)
          refine zq_cl2 (R := rd_f R') (by omega) F' rfl ?_
          intro n2 cs2 cl2 xs2 xu2 xd2 xc2 xe2 xf2 xK2 xV2 xO2 xS2 xA2 xY2 xN2 xW2 xk2 xt2 xH2 xq2 xy2 xF2 xZ2 R2 hfx
          rcases hfx with ⟨e2, F2⟩ | ⟨e2, _⟩
          · exact HC _ _ (i + z) true _ _ _ (q + (nu_ m 36).length) n2 cs2 cl2 xs2 xu2 xd2 xc2 xe2 xf2 xK2 xV2 xO2 xS2 xA2 xY2 xN2 xW2 xk2 xt2 xH2 xq2 xy2 xF2 xZ2 _ _ R2 e2 F2 (hra true _ (by rw [hh]; rfl) (fun _ => hfl) (fun s hs => pk_un (by omega)) (fun u => by rw [hh] at u; exact absurd u (by decide)))
          · exact HF xs2 xu2 xd2 xc2 xe2 xf2 xK2 xV2 xO2 xS2 xA2 xY2 xN2 xW2 xk2 xt2 xH2 xq2 xy2 xF2 xZ2 _ _ _ e2
        · subst y
          refine zq_clf (R := rd_f R') (by omega) rfl ?_
          intro xs2 xu2 xd2 xc2 xe2 xf2 xK2 xV2 xO2 xS2 xA2 xY2 xN2 xW2 xk2 xt2 xH2 xq2 xy2 xF2 xZ2 e2
          exact HF xs2 xu2 xd2 xc2 xe2 xf2 xK2 xV2 xO2 xS2 xA2 xY2 xN2 xW2 xk2 xt2 xH2 xq2 xy2 xF2 xZ2 _ _ _ e2
  · refine br_f (by decide) ?_
    exact h54f xs xu xd xc xe 1 xK xV xO xS xA xY xN xW xk xt xH xq xy xF xZ _ xC rfl
/-- the beginning of a name, or a reference -/
theorem zs_hd {post : SX → Prop} {q : Nat} {ins : Int32} {fl : Bool} (R : rd_ K V i c n cs cl l w q xo xb xl xs xg xu xd xc xe xp xf xz xK xV xO xT xS xA xY xN xW xk xt xH xn xq xy xF xZ xC xv) (F : fi_ K V i c xC) (h0 : xf = 0) (A : ra_ K V i c kn kt nf w p xn xC) (hcen : c = true ∨ ¬ en_ K i) (hins : ins = if fl = true then 1 else 0)
    (hq20 : q + 60 < 2 ^ 20) (hpr : pr_ w p (if fl = true then [78] else [])) (hq : q = p + (if fl = true then [78] else []).length)
    (HF : ∀ (xs' xu' xd' xc' xe' xf' : Int32) (xK' xV' xO' xS' xA' xY' xN' xW' xk' xt' xH' : Nat → Int32) (xq' : Nat → Int64) (xy' xF' xZ' : Nat → Int32) (xp' : Int32) (xn' xC' : Nat → Int32), xf' = 1 → post (xo, xb, xl, xs', xg, xu', xd', xc', xe', xp', xf', xz, xK', xV', xO', xT, xS', xA', xY', xN', xW', xk', xt', xH', xn', xq', xy', xF', xZ', xC', xv))
    (HC : ∀ (K' V' : Nat → Nat) (i' : Nat) (c' : Bool) (kn' kt' : Nat → Nat) (nf' : Nat → Bool) (p' n' : Nat) (cs' : Nat → List (Nat × Nat)) (cl' : Nat → Bool) (xs' xu' xd' xc' xe' xf' : Int32) (xK' xV' xO' xS' xA' xY' xN' xW' xk' xt' xH' : Nat → Int32) (xq' : Nat → Int64) (xy' xF' xZ' : Nat → Int32) (xn' xC' : Nat → Int32), rd_ K' V' i' c' n' cs' cl' l w p' xo xb xl xs' xg xu' xd' xc' xe' (nI p') xf' xz xK' xV' xO' xT xS' xA' xY' xN' xW' xk' xt' xH' xn' xq' xy' xF' xZ' xC' xv → xf' = 0 → fi_ K' V' i' c' xC' → ra_ K' V' i' c' kn' kt' nf' w p' xn' xC' → post (xo, xb, xl, xs', xg, xu', xd', xc', xe', nI p', xf', xz, xK', xV', xO', xT, xS', xA', xY', xN', xW', xk', xt', xH', xn', xq', xy', xF', xZ', xC', xv)) :
    wpX_readHead post (xo, xb, xl, xs, xg, xu, xd, xc, xe, xp, xf, xz, xK, xV, xO, xT, xS, xA, xY, xN, xW, xk, xt, xH, xn, xq, xy, xF, xZ, xC, xv) ins := by
  have hL := R.2.2.2.2.2.2.2.2.2.1
  have es : xs = nI i := R.2.2.2.2.2.1
  have hl48 := R.2.2.2.1
  have hil := R.2.2.1
  have hins01 : ins = 0 ∨ ins = 1 := by rw [hins]; by_cases z : fl = true <;> simp [z]
  have h54f : ∀ (xs' xu' xd' xc' xe' xf' : Int32) (xK' xV' xO' xS' xA' xY' xN' xW' xk' xt' xH' : Nat → Int32) (xq' : Nat → Int64) (xy' xF' xZ' : Nat → Int32) (xp' : Int32) (xC' : Nat → Int32), xf' = 1 → wX_readHead_54 post ins xs xo xb xl xs' xg xu' xd' xc' xe' xp' xf' xz xK' xV' xO' xT xS' xA' xY' xN' xW' xk' xt' xH' xn xq' xy' xF' xZ' xC' xv := by
    intro xs' xu' xd' xc' xe' xf' xK' xV' xO' xS' xA' xY' xN' xW' xk' xt' xH' xq' xy' xF' xZ' xp' xC' h1
    exact br_f (by rw [h1]; decide) (HF xs' xu' xd' xc' xe' xf' xK' xV' xO' xS' xA' xY' xN' xW' xk' xt' xH' xq' xy' xF' xZ' xp' xn xC' h1)
  -- a head that is spelled out
  have spell : ∀ (k v q' : Nat), ka_h k = true → vr_ k v → pr_ w q (pe_ (un_ K i k) (un_ V i v) i) → q' = q + (pe_ (un_ K i k) (un_ V i v) i).length → q' < 2 ^ 20 →
      wpX_accept (fun u => match u with | (xo1, xb1, xl1, xs1, xg1, xu1, xd1, xc1, xe1, xp1, xf1, xz1, xK1, xV1, xO1, xT1, xS1, xA1, xY1, xN1, xW1, xk1, xt1, xH1, xn1, xq1, xy1, xF1, xZ1, xC1, xv1) => wX_readHead_54 post ins xs xo1 xb1 xl1 xs1 xg1 xu1 xd1 xc1 xe1 xp1 xf1 xz1 xK1 xV1 xO1 xT1 xS1 xA1 xY1 xN1 xW1 xk1 xt1 xH1 xn1 xq1 xy1 xF1 xZ1 xC1 xv1) (xo, xb, xl, xs, xg, xu, xd, xc, xe, nI q', xf, xz, xK, xV, xO, xT, xS, xA, xY, xN, xW, xk, xt, xH, xn, xq, xy, xF, xZ, xC, xv) (nI k) (nI v) (-1) := by
    intro k v q' hk hv hp' hq' hq20'
    have hkk := ka_hi.mp hk
    refine zs_sp (fl := fl) (R := rd_p R (q := q') (xf' := xf) (xz' := xz) (xn' := xn) (xC' := xC) (xv' := xv) hq20') F h0 A hv (Or.inr (Or.inr ⟨by omega, by omega, hcen⟩)) (fun z => by rw [hk] at z; exact absurd z (by decide)) (pr_app.mpr ⟨hpr, by rw [← hq]; exact hp'⟩) (by rw [List.length_append, ← Nat.add_assoc, ← hq]; exact hq') ?_ ?_
    · intro xs' xu' xd' xc' xe' xf' xK' xV' xO' xS' xA' xY' xN' xW' xk' xt' xH' xq' xy' xF' xZ' xC' h1
      exact h54f xs' xu' xd' xc' xe' xf' xK' xV' xO' xS' xA' xY' xN' xW' xk' xt' xH' xq' xy' xF' xZ' _ xC' h1
    · intro n' cs' cl' xs' xu' xd' xc' xe' xf' xK' xV' xO' xS' xA' xY' xN' xW' xk' xt' xH' xq' xy' xF' xZ' R' e0 F' hra
      show wX_readHead_54 post ins xs xo xb xl xs' xg xu' xd' xc' xe' (nI q') xf' xz xK' xV' xO' xT xS' xA' xY' xN' xW' xk' xt' xH' xn xq' xy' xF' xZ' (upd xC i (-1)) xv
      rw [es]
      refine zq_54 (N := i + 1) R'.2.2.2.2.2.2.2.1 (by omega) (by have := R'.2.2.1; omega) hins01 (fun z => absurd e0 z) (fun _ _ => ?_) (fun _ z => ?_)
      · exact HC _ _ (i + 1) false kn kt _ q' n' cs' cl' xs' xu' xd' xc' xe' xf' xK' xV' xO' xS' xA' xY' xN' xW' xk' xt' xH' xq' xy' xF' xZ' _ _ R' e0 F' (hra _ (fun s hs => pk_un (by omega)) (fun _ => by rw [pk_us]; exact hins))
      · rw [un_s, hk] at z; exact absurd z (by decide)
  unfold wpX_readHead
  refine zq_sk (a := 83) hL (by omega) (fun hc => br_f (by decide) ?_) (fun _ => br_t rfl ?_)
  · refine zs_rf (q := q + 1) (p := p) (rd_p R (by omega)) F h0 A hcen hins (by omega) (pr_app.mpr ⟨hpr, by rw [← hq]; exact pr_cons hc pr_nil⟩) (by rw [List.length_append, ← Nat.add_assoc, ← hq]; rfl) ?_ ?_
    · intro xs' xu' xd' xc' xe' xf' xK' xV' xO' xS' xA' xY' xN' xW' xk' xt' xH' xq' xy' xF' xZ' xp' xn' xC' h1
      exact HF xs' xu' xd' xc' xe' xf' xK' xV' xO' xS' xA' xY' xN' xW' xk' xt' xH' xq' xy' xF' xZ' xp' xn' xC' h1
    · intro K' V' i' c' kn' kt' nf' p' n' cs' cl' xs' xu' xd' xc' xe' xf' xK' xV' xO' xS' xA' xY' xN' xW' xk' xt' xH' xq' xy' xF' xZ' xn' xC' a1 a2 a3 a4
      exact HC K' V' i' c' kn' kt' nf' p' n' cs' cl' xs' xu' xd' xc' xe' xf' xK' xV' xO' xS' xA' xY' xN' xW' xk' xt' xH' xq' xy' xF' xZ' xn' xC' a1 a2 a3 a4
  · refine zq_sk (a := 84) hL (by omega) (fun hc => br_f (by decide) ?_) (fun _ => br_t rfl ?_)
    · refine za_nu (b := 10) (mx := 100) (Or.inr rfl) (lx_p hL (q := q + 1) (by omega)) (by omega) (by omega) (by decide) h0 (fun v hv hnu => ?_) (fun r p' hp' => ?_)
      · have hpe : pe_ (un_ K i 2) (un_ V i v) i = 84 :: nu_ v 10 := by unfold pe_; rw [un_s, un_s]; rfl
        have hnl := nu_len (v := v) (b := 10)
        exact spell 2 v (q + 1 + (nu_ v 10).length) rfl ⟨by omega, by show v ≤ 99; omega, fun z => absurd z (by decide)⟩ (by rw [hpe]; exact pr_cons hc hnu) (by rw [hpe, List.length_cons]; omega) (by omega)
      · exact zq_acf (k := 2) (R := rd_p R (q := p') (xf' := 1) (xz' := xz) (xn' := xn) (xC' := xC) (xv' := xv) (by omega)) (by omega) rfl (fun _ => by decide) (h54f xs xu xd xc xe 1 xK xV xO xS xA xY xN xW xk xt xH xq xy xF xZ (nI p') xC rfl)
    · refine za_id (kd := 0) hL (by omega) (fun v hv hid => ?_) (fun r p' hp' => ?_)
      · have hpe : pe_ (un_ K i 0) (un_ V i v) i = id_ v := by unfold pe_; rw [un_s, un_s]; rfl
        have hil2 : (id_ v).length ≤ 3 := by unfold id_; split <;> simp
        exact spell 0 v (q + (id_ v).length) rfl ⟨by omega, by show v ≤ 701; exact hv, fun z => absurd z (by decide)⟩ (by rw [hpe]; exact hid) (by rw [hpe]) (by omega)
      · exact zq_acf (k := 0) (R := rd_p R (q := p') (xf' := 1) (xz' := xz) (xn' := xn) (xC' := xC) (xv' := xv) (by omega)) (by omega) rfl (fun _ => by decide) (h54f xs xu xd xc xe 1 xK xV xO xS xA xY xN xW xk xt xH xq xy xF xZ (nI p') xC rfl)
theorem zs_ty {post : SX → Prop} (R : rd_ K V i c n cs cl l w p xo xb xl xs xg xu xd xc xe xp xf xz xK xV xO xT xS xA xY xN xW xk xt xH xn xq xy xF xZ xC xv) (F : fi_ K V i c xC) (h0 : xf = 0) (A : ra_ K V i c kn kt nf w p xn xC) (hcen : c = true ∨ ¬ en_ K i) (hp20 : p + 100 < 2 ^ 20)
    (HF : ∀ (xs' xu' xd' xc' xe' xf' : Int32) (xK' xV' xO' xS' xA' xY' xN' xW' xk' xt' xH' : Nat → Int32) (xq' : Nat → Int64) (xy' xF' xZ' : Nat → Int32) (xp' : Int32) (xn' xC' : Nat → Int32), xf' = 1 → post (xo, xb, xl, xs', xg, xu', xd', xc', xe', xp', xf', xz, xK', xV', xO', xT, xS', xA', xY', xN', xW', xk', xt', xH', xn', xq', xy', xF', xZ', xC', xv))
    (HC : ∀ (K' V' : Nat → Nat) (i' : Nat) (c' : Bool) (kn' kt' : Nat → Nat) (nf' : Nat → Bool) (p' n' : Nat) (cs' : Nat → List (Nat × Nat)) (cl' : Nat → Bool) (xs' xu' xd' xc' xe' xf' : Int32) (xK' xV' xO' xS' xA' xY' xN' xW' xk' xt' xH' : Nat → Int32) (xq' : Nat → Int64) (xy' xF' xZ' : Nat → Int32) (xn' xC' : Nat → Int32), rd_ K' V' i' c' n' cs' cl' l w p' xo xb xl xs' xg xu' xd' xc' xe' (nI p') xf' xz xK' xV' xO' xT xS' xA' xY' xN' xW' xk' xt' xH' xn' xq' xy' xF' xZ' xC' xv → xf' = 0 → fi_ K' V' i' c' xC' → ra_ K' V' i' c' kn' kt' nf' w p' xn' xC' → post (xo, xb, xl, xs', xg, xu', xd', xc', xe', nI p', xf', xz, xK', xV', xO', xT, xS', xA', xY', xN', xW', xk', xt', xH', xn', xq', xy', xF', xZ', xC', xv)) :
    wpX_readType post (xo, xb, xl, xs, xg, xu, xd, xc, xe, xp, xf, xz, xK, xV, xO, xT, xS, xA, xY, xN, xW, xk, xt, xH, xn, xq, xy, xF, xZ, xC, xv) := by
  have hL := R.2.2.2.2.2.2.2.2.2.1
  have spell : ∀ (k v q : Nat), k ≠ 1 → k ≠ 3 → ka_h k = false → vr_ k v → pr_ w p (pe_ (un_ K i k) (un_ V i v) i) → q = p + (pe_ (un_ K i k) (un_ V i v) i).length → q < 2 ^ 20 → wpX_accept post (xo, xb, xl, xs, xg, xu, xd, xc, xe, nI q, xf, xz, xK, xV, xO, xT, xS, xA, xY, xN, xW, xk, xt, xH, xn, xq, xy, xF, xZ, xC, xv) (nI k) (nI v) (-1) := by
    intro k v q hk1 hk3 hk hv hp' hq hq20
    refine zs_sp (fl := false) (R := rd_p R (q := q) (xf' := xf) (xz' := xz) (xn' := xn) (xC' := xC) (xv' := xv) hq20) F h0 A hv (Or.inr (Or.inr ⟨hk1, hk3, hcen⟩)) (fun _ => rfl) hp' hq ?_ ?_
    · intro xs' xu' xd' xc' xe' xf' xK' xV' xO' xS' xA' xY' xN' xW' xk' xt' xH' xq' xy' xF' xZ' xC' h1
      exact HF xs' xu' xd' xc' xe' xf' xK' xV' xO' xS' xA' xY' xN' xW' xk' xt' xH' xq' xy' xF' xZ' _ xn xC' h1
    · intro n' cs' cl' xs' xu' xd' xc' xe' xf' xK' xV' xO' xS' xA' xY' xN' xW' xk' xt' xH' xq' xy' xF' xZ' R' e0 F' hra
      exact HC _ _ (i + 1) false kn kt _ q n' cs' cl' xs' xu' xd' xc' xe' xf' xK' xV' xO' xS' xA' xY' xN' xW' xk' xt' xH' xq' xy' xF' xZ' xn _ R' e0 F' (hra xn (fun _ _ => rfl) (fun z => by rw [hk] at z; exact absurd z (by decide)))
  refine zq_ty hL (by omega) (fun hq => ?_) (fun k hk hc => ?_) (fun v hv hc => ?_) (fun hc => ?_) (fun _ _ _ _ => ?_)
  · have h := qv_pr w p
    have hpe : pe_ (un_ K i 8) (un_ V i (qv_ w p)) i = ql_ (qv_ w p) := by unfold pe_; rw [un_s, un_s]; rfl
    have hql : (ql_ (qv_ w p)).length ≤ 3 := by unfold ql_; rw [List.length_append, List.length_append]; split <;> split <;> split <;> simp
    exact spell 8 (qv_ w p) (p + qn_ w p) (by omega) (by omega) rfl ⟨by omega, by show qv_ w p ≤ 7; omega, fun _ => hq⟩ (by rw [hpe]; exact h.2.1) (by rw [hpe, h.2.2]) (by rw [← h.2.2]; omega)
  · have hpe : pe_ (un_ K i k) (un_ V i 0) i = [ol_ k] := by unfold pe_; rw [un_s, un_s]; rcases hk with e | e | e | e <;> subst e <;> rfl
    have hvr : vr_ k 0 := by rcases hk with e | e | e | e <;> subst e <;> exact ⟨by omega, Nat.zero_le _, fun z => absurd z (by decide)⟩
    exact spell k 0 (p + 1) (by omega) (by omega) (by rcases hk with e | e | e | e <;> subst e <;> rfl) hvr (by rw [hpe]; exact pr_cons hc pr_nil) (by rw [hpe]; rfl) (by omega)
  · have hpe : pe_ (un_ K i 4) (un_ V i v) i = [lb_ v] := by unfold pe_; rw [un_s, un_s]; rfl
    exact spell 4 v (p + 1) (by omega) (by omega) rfl ⟨by omega, by show v ≤ 7; omega, fun z => absurd z (by decide)⟩ (by rw [hpe]; exact pr_cons hc pr_nil) (by rw [hpe]; rfl) (by omega)
  · refine zs_hd (q := p + 1) (p := p) (fl := true) (rd_p R (by omega)) F h0 A hcen rfl (by omega) (pr_cons hc pr_nil) rfl ?_ ?_
    · intro xs' xu' xd' xc' xe' xf' xK' xV' xO' xS' xA' xY' xN' xW' xk' xt' xH' xq' xy' xF' xZ' xp' xn' xC' h1
      exact HF xs' xu' xd' xc' xe' xf' xK' xV' xO' xS' xA' xY' xN' xW' xk' xt' xH' xq' xy' xF' xZ' xp' xn' xC' h1
    · intro K' V' i' c' kn' kt' nf' p' n' cs' cl' xs' xu' xd' xc' xe' xf' xK' xV' xO' xS' xA' xY' xN' xW' xk' xt' xH' xq' xy' xF' xZ' xn' xC' a1 a2 a3 a4
      exact HC K' V' i' c' kn' kt' nf' p' n' cs' cl' xs' xu' xd' xc' xe' xf' xK' xV' xO' xS' xA' xY' xN' xW' xk' xt' xH' xq' xy' xF' xZ' xn' xC' a1 a2 a3 a4
  · refine zs_hd (q := p) (p := p) (fl := false) R F h0 A hcen rfl (by omega) pr_nil rfl ?_ ?_
    · intro xs' xu' xd' xc' xe' xf' xK' xV' xO' xS' xA' xY' xN' xW' xk' xt' xH' xq' xy' xF' xZ' xp' xn' xC' h1
      exact HF xs' xu' xd' xc' xe' xf' xK' xV' xO' xS' xA' xY' xN' xW' xk' xt' xH' xq' xy' xF' xZ' xp' xn' xC' h1
    · intro K' V' i' c' kn' kt' nf' p' n' cs' cl' xs' xu' xd' xc' xe' xf' xK' xV' xO' xS' xA' xY' xN' xW' xk' xt' xH' xq' xy' xF' xZ' xn' xC' a1 a2 a3 a4
      exact HC K' V' i' c' kn' kt' nf' p' n' cs' cl' xs' xu' xd' xc' xe' xf' xK' xV' xO' xS' xA' xY' xN' xW' xk' xt' xH' xq' xy' xF' xZ' xn' xC' a1 a2 a3 a4
end
end
section
/-! X reads any text: a step -/
theorem sig_sk {K V : Nat → Nat} {N i : Nat} (hw : wf_ K V N) (hi : i < N) (h11 : K i = 11) (hf : K (op_ K i) = 10) : sk_ K (i + 1) = [] := by
  obtain ⟨r, ec, hsf, ho, hff, hol⟩ := end_top hw hi h11
  have hg := gs_suf (si_all hw i (by omega)).1 hsf
  have hr : r = [] := by
    rcases hg.2.2 with ⟨q2, _⟩ | ⟨y, r', q2, q3 | q3⟩
    · exact q2
    · omega
    · exfalso
      rcases q3.1 with z | z | z
      · rw [hf] at z; exact absurd z (by decide)
      · rw [hf] at z; exact absurd z (by decide)
      · omega
  rw [sk_s11 h11, ec, hr]; show (if _ then _ else _) = _; rw [if_neg (by omega)]
section
variable {xo xb : Int64} {xl xs xg xu xd xc xe xp xf xz : Int32} {xK xV xO xT xS xA xY xN xW xk xt xH xn : Nat → Int32} {xq : Nat → Int64} {xy xF xZ xC xv : Nat → Int32}
variable {K V : Nat → Nat} {i : Nat} {c : Bool} {n : Nat} {cs : Nat → List (Nat × Nat)} {cl : Nat → Bool} {l : Nat} {w : List Nat} {p : Nat} {kn kt : Nat → Nat} {nf : Nat → Bool}
/-- the name on top -/
theorem zs_pt {post : SX → Prop} {s : Nat} {r : List Nat} (R : rd_ K V i false n cs cl l w p xo xb xl xs xg xu xd xc xe xp xf xz xK xV xO xT xS xA xY xN xW xk xt xH xn xq xy xF xZ xC xv) (F : fi_ K V i false xC) (h0 : xf = 0) (A : ra_ K V i false kn kt nf w p xn xC) (es : sk_ K i = s :: r) (hsh : ka_h (K s) = true) (hp20 : p + 100 < 2 ^ 20)
    (HF : ∀ (xs' xu' xd' xc' xe' xf' : Int32) (xK' xV' xO' xS' xA' xY' xN' xW' xk' xt' xH' : Nat → Int32) (xq' : Nat → Int64) (xy' xF' xZ' : Nat → Int32) (xp' : Int32) (xn' xC' : Nat → Int32), xf' = 1 → post (xo, xb, xl, xs', xg, xu', xd', xc', xe', xp', xf', xz, xK', xV', xO', xT, xS', xA', xY', xN', xW', xk', xt', xH', xn', xq', xy', xF', xZ', xC', xv))
    (HC : ∀ (K' V' : Nat → Nat) (i' : Nat) (c' : Bool) (kn' kt' : Nat → Nat) (nf' : Nat → Bool) (p' n' : Nat) (cs' : Nat → List (Nat × Nat)) (cl' : Nat → Bool) (xs' xu' xd' xc' xe' xf' : Int32) (xK' xV' xO' xS' xA' xY' xN' xW' xk' xt' xH' : Nat → Int32) (xq' : Nat → Int64) (xy' xF' xZ' : Nat → Int32) (xn' xC' : Nat → Int32), rd_ K' V' i' c' n' cs' cl' l w p' xo xb xl xs' xg xu' xd' xc' xe' (nI p') xf' xz xK' xV' xO' xT xS' xA' xY' xN' xW' xk' xt' xH' xn' xq' xy' xF' xZ' xC' xv → xf' = 0 → fi_ K' V' i' c' xC' → ra_ K' V' i' c' kn' kt' nf' w p' xn' xC' → post (xo, xb, xl, xs', xg, xu', xd', xc', xe', nI p', xf', xz, xK', xV', xO', xT, xS', xA', xY', xN', xW', xk', xt', xH', xn', xq', xy', xF', xZ', xC', xv)) :
    wpX_readPart post (xo, xb, xl, xs, xg, xu, xd, xc, xe, xp, xf, xz, xK, xV, xO, xT, xS, xA, xY, xN, xW, xk, xt, xH, xn, xq, xy, xF, xZ, xC, xv) (nI s) := by
  have hw := R.1
  have hL := R.2.2.2.2.2.2.2.2.2.1
  have hl48 := R.2.2.2.1
  have hil := R.2.2.1
  have ep : xp = nI p := hL.2.2.2.1
  have hen := en_hd hw (Nat.le_refl _) es hsh
  have hip := hen.1
  have hsi := sk_lt (show s ∈ sk_ K i by rw [es]; simp)
  have hvs := A.2.2.2.2.2.2.2.2.2 rfl hen s r es
  have hxn := A.2.2.2.2.2.2.1 s hsi hvs hsh
  have hoe : oe_ K s (i - 1) = true := oe_i.mpr ⟨by rw [show i - 1 + 1 = i by omega]; exact hen, by rw [show i - 1 + 1 = i by omega, es]; rfl⟩
  have hTi := R.2.2.2.2.2.2.2.2.2.2
  have hH : xH s = if hm_ K s i = true then 1 else 0 := hTi.2.2.2.2.2.2.1 s hsi
  have hN : xN s = nI (i - 1) := by
    rw [hTi.2.2.2.2.2.1 s hsi hsh]
    obtain ⟨e, rfl⟩ : ∃ e, i = e + 1 := ⟨i - 1, by omega⟩
    show nI (if _ then _ else _) = _
    rw [if_pos (show oe_ K s e = true from hoe)]; rfl
  have hxC := A.2.2.2.2.1 s hsi hvs
  have hkb : kn s ≠ 0 → s + kn s ≤ i := fun z => by
    have := gn_vis hvs hsi
    have hm : m1_ (kn s) = kn s := by unfold m1_; rw [if_neg z]
    have h1 := A.1
    omega
  have hlt : xC s < xN s ↔ kn s + s ≤ i - 1 := by
    rw [hN]
    by_cases z : kn s = 0
    · rw [hxC.1 z]
      constructor
      · intro _; omega
      · intro _
        rw [Int32.lt_iff_toInt_lt, nI_toInt (by omega)]
        have : (-1 : Int32).toInt = -1 := by decide
        rw [this]; omega
    · have := hkb z
      rw [hxC.2 z s (Nat.le_refl _) (by omega), nI_ltI (by omega) (by omega)]
      omega
  have spell : ∀ (k v q : Nat), (k = 1 ∨ k = 3) → vr_ k v → pr_ w p (pe_ (un_ K i k) (un_ V i v) i) → q = p + (pe_ (un_ K i k) (un_ V i v) i).length → q < 2 ^ 20 → wpX_accept post (xo, xb, xl, xs, xg, xu, xd, xc, xe, nI q, xf, xz, xK, xV, xO, xT, xS, xA, xY, xN, xW, xk, xt, xH, xn, xq, xy, xF, xZ, xC, xv) (nI k) (nI v) (-1) := by
    intro k v q hk hv hp' hq hq20
    refine zs_sp (fl := false) (R := rd_p R (q := q) (xf' := xf) (xz' := xz) (xn' := xn) (xC' := xC) (xv' := xv) hq20) F h0 A hv (Or.inr (Or.inl ⟨hk, rfl⟩)) (fun _ => rfl) hp' hq ?_ ?_
    · intro xs' xu' xd' xc' xe' xf' xK' xV' xO' xS' xA' xY' xN' xW' xk' xt' xH' xq' xy' xF' xZ' xC' h1
      exact HF xs' xu' xd' xc' xe' xf' xK' xV' xO' xS' xA' xY' xN' xW' xk' xt' xH' xq' xy' xF' xZ' _ xn xC' h1
    · intro n' cs' cl' xs' xu' xd' xc' xe' xf' xK' xV' xO' xS' xA' xY' xN' xW' xk' xt' xH' xq' xy' xF' xZ' R' e0 F' hra
      exact HC _ _ (i + 1) false kn kt _ q n' cs' cl' xs' xu' xd' xc' xe' xf' xK' xV' xO' xS' xA' xY' xN' xW' xk' xt' xH' xq' xy' xF' xZ' xn _ R' e0 F' (hra xn (fun _ _ => rfl) (fun z => by rw [ka_hi] at z; omega))
  -- finishName
  have fin : ∀ q, pr_ w p (if nf s = true then [69] else []) → q = p + (if nf s = true then [69] else []).length → q < 2 ^ 20 → wpX_finishName post (xo, xb, xl, xs, xg, xu, xd, xc, xe, nI q, xf, xz, xK, xV, xO, xT, xS, xA, xY, xN, xW, xk, xt, xH, xn, xq, xy, xF, xZ, xC, xv) (nI s) := by
    intro q hpr hq hq20
    refine zq_fin (by omega) (fun hck => ?_) (fun _ => ?_)
    · refine zq_cl2 (R := rd_p R hq20) hip F h0 ?_
      intro n' cs' cl' xs' xu' xd' xc' xe' xf' xK' xV' xO' xS' xA' xY' xN' xW' xk' xt' xH' xq' xy' xF' xZ' R' hfx
      rcases hfx with ⟨e0, F'⟩ | ⟨e1, _⟩
      · refine HC K V i true kn kt nf q n' cs' cl' xs' xu' xd' xc' xe' xf' xK' xV' xO' xS' xA' xY' xN' xW' xk' xt' xH' xq' xy' xF' xZ' xn xC R' e0 F' (ra_cl hw (by omega) A hen es ?_ hpr hq)
        rw [hxn, hH, hlt] at hck
        cases hnf : nf s with
        | true =>
          rw [hnf] at hck
          rcases hck with ⟨_, y1, y2⟩ | ⟨y, _⟩
          · cases hm : hm_ K s i with
            | true => rw [decide_eq_true y2]; rfl
            | false => rw [hm] at y1; exact absurd rfl y1
          · exact absurd y (by decide)
        | false =>
          rw [hnf] at hck
          rcases hck with ⟨y, _⟩ | ⟨_, y⟩
          · exact absurd y (by decide)
          · cases hm : hm_ K s i with
            | false => rfl
            | true =>
              rw [hm] at y
              rw [decide_eq_false (fun u => y ⟨by decide, u⟩)]; rfl
      · exact HF xs' xu' xd' xc' xe' xf' xK' xV' xO' xS' xA' xY' xN' xW' xk' xt' xH' xq' xy' xF' xZ' (nI q) xn xC e1
    · refine zq_clf (R := rd_p (xf' := 1) (xz' := xz) (xn' := xn) (xC' := xC) (xv' := xv) R hq20) hip rfl ?_
      intro xs' xu' xd' xc' xe' xf' xK' xV' xO' xS' xA' xY' xN' xW' xk' xt' xH' xq' xy' xF' xZ' e1
      exact HF xs' xu' xd' xc' xe' xf' xK' xV' xO' xS' xA' xY' xN' xW' xk' xt' xH' xq' xy' xF' xZ' (nI q) xn xC e1
  refine zq_part hL (by omega) (by omega) (fun hc => ?_) (fun _ hx => ?_) (fun _ hx hc => ?_) (fun _ hx _ => ?_)
  · have hpe : pe_ (un_ K i 3) (un_ V i 0) i = [73] := by unfold pe_; rw [un_s, un_s]; rfl
    exact spell 3 0 (p + 1) (Or.inr rfl) ⟨by omega, Nat.zero_le _, fun z => absurd z (by decide)⟩ (by rw [hpe]; exact pr_cons hc pr_nil) (by rw [hpe]; rfl) (by omega)
  · have hnf : nf s = false := by
      cases q : nf s with
      | false => rfl
      | true => rw [q, if_pos rfl, hx] at hxn; exact absurd hxn (by decide)
    have := fin p (by rw [hnf]; exact pr_nil) (by rw [hnf]; rfl) (by omega)
    rw [← ep] at this
    exact this
  · have hnf : nf s = true := by
      cases q : nf s with
      | true => rfl
      | false => rw [q] at hxn; exact absurd hxn hx
    exact fin (p + 1) (by rw [hnf]; exact pr_cons hc pr_nil) (by rw [hnf]; rfl) (by omega)
  · refine za_id (kd := 1) hL (by omega) (fun v hv hid => ?_) (fun r' p' hp' => ?_)
    · have hpe : pe_ (un_ K i 1) (un_ V i v) i = id_ v := by unfold pe_; rw [un_s, un_s]; rfl
      have hil2 : (id_ v).length ≤ 3 := by unfold id_; split <;> simp
      exact spell 1 v (p + (id_ v).length) (Or.inl rfl) ⟨by omega, by show v ≤ 701; exact hv, fun z => absurd z (by decide)⟩ (by rw [hpe]; exact hid) (by rw [hpe]) (by omega)
    · exact zq_acf (k := 1) (R := rd_p R (q := p') (xf' := 1) (xz' := xz) (xn' := xn) (xC' := xC) (xv' := xv) (by omega)) (by omega) rfl (fun z => absurd z (by decide)) (HF xs xu xd xc xe 1 xK xV xO xS xA xY xN xW xk xt xH xq xy xF xZ (nI p') xn xC rfl)
theorem zs_step {post : SX → Prop} (R : rd_ K V i c n cs cl l w p xo xb xl xs xg xu xd xc xe xp xf xz xK xV xO xT xS xA xY xN xW xk xt xH xn xq xy xF xZ xC xv) (F : fi_ K V i c xC) (h0 : xf = 0) (hz0 : xz = 0) (A : ra_ K V i c kn kt nf w p xn xC)
    (HF : ∀ (xs' xu' xd' xc' xe' xf' : Int32) (xK' xV' xO' xS' xA' xY' xN' xW' xk' xt' xH' : Nat → Int32) (xq' : Nat → Int64) (xy' xF' xZ' : Nat → Int32) (xp' xz' : Int32) (xn' xC' : Nat → Int32), xf' = 1 → post (xo, xb, xl, xs', xg, xu', xd', xc', xe', xp', xf', xz', xK', xV', xO', xT, xS', xA', xY', xN', xW', xk', xt', xH', xn', xq', xy', xF', xZ', xC', xv))
    (HC : ∀ (K' V' : Nat → Nat) (i' : Nat) (c' : Bool) (kn' kt' : Nat → Nat) (nf' : Nat → Bool) (p' n' : Nat) (cs' : Nat → List (Nat × Nat)) (cl' : Nat → Bool) (xs' xu' xd' xc' xe' xf' : Int32) (xK' xV' xO' xS' xA' xY' xN' xW' xk' xt' xH' : Nat → Int32) (xq' : Nat → Int64) (xy' xF' xZ' : Nat → Int32) (xn' xC' : Nat → Int32), rd_ K' V' i' c' n' cs' cl' l w p' xo xb xl xs' xg xu' xd' xc' xe' (nI p') xf' xz xK' xV' xO' xT xS' xA' xY' xN' xW' xk' xt' xH' xn' xq' xy' xF' xZ' xC' xv → xf' = 0 → fi_ K' V' i' c' xC' → ra_ K' V' i' c' kn' kt' nf' w p' xn' xC' → post (xo, xb, xl, xs', xg, xu', xd', xc', xe', nI p', xf', xz, xK', xV', xO', xT, xS', xA', xY', xN', xW', xk', xt', xH', xn', xq', xy', xF', xZ', xC', xv))
    (HD : ∀ (K' V' : Nat → Nat) (N : Nat), wf_ K' V' N → (∀ j, N ≤ j → K' j = 11) → 0 < N → N ≤ l → op_ K' N = 0 → mg_ K' V' N = w → False) :
    wpX_readStep post (xo, xb, xl, xs, xg, xu, xd, xc, xe, xp, xf, xz, xK, xV, xO, xT, xS, xA, xY, xN, xW, xk, xt, xH, xn, xq, xy, xF, xZ, xC, xv) := by
  have hw := R.1
  have hS := R.2.1
  have hil := R.2.2.1
  have hl48 := R.2.2.2.1
  have hL := R.2.2.2.2.2.2.2.2.2.1
  have hwl := hL.2.1
  have ep : xp = nI p := hL.2.2.2.1
  have hpw : p ≤ w.length := by rw [A.2.2.2.1.2]; exact A.2.2.2.1.1.length_le
  have tyF : ∀ (xs' xu' xd' xc' xe' xf' : Int32) (xK' xV' xO' xS' xA' xY' xN' xW' xk' xt' xH' : Nat → Int32) (xq' : Nat → Int64) (xy' xF' xZ' : Nat → Int32) (xp' : Int32) (xn' xC' : Nat → Int32), xf' = 1 → post (xo, xb, xl, xs', xg, xu', xd', xc', xe', xp', xf', xz, xK', xV', xO', xT, xS', xA', xY', xN', xW', xk', xt', xH', xn', xq', xy', xF', xZ', xC', xv) := fun xs' xu' xd' xc' xe' xf' xK' xV' xO' xS' xA' xY' xN' xW' xk' xt' xH' xq' xy' xF' xZ' xp' xn' xC' h1 => HF xs' xu' xd' xc' xe' xf' xK' xV' xO' xS' xA' xY' xN' xW' xk' xt' xH' xq' xy' xF' xZ' xp' xz xn' xC' h1
  refine zq_step R (fun hi0 => ?_) (fun hs hip hpl => ?_) (fun hs hip hpl => ?_) (fun x r hs hx => ?_) (fun s r hs hx => ?_) (fun f r hs hx hf0 => ?_)
  · exact zs_ty R F h0 A (Or.inr (fun z => by have := z.1; omega)) (by omega) tyF HC
  · exfalso
    obtain ⟨g1, g2⟩ := ra_fin hw hip (by omega) (hS i (Nat.le_refl _)) hs F A hpl
    exact HD K V i hw hS hip hil g1 g2
  · -- SIG
    have hn := ss_nil hw (Nat.le_refl _) hs
    have hpe : pe_ (un_ K i 10) (un_ V i 0) i = [] := by unfold pe_; rw [un_s, un_s]; rfl
    refine zs_sp (fl := false) (k := 10) (v := 0) R F h0 A ⟨by omega, Nat.zero_le _, fun z => absurd z (by decide)⟩ (Or.inr (Or.inr ⟨by omega, by omega, hn.2⟩)) (fun _ => rfl) (by rw [hpe]; exact pr_nil) (by rw [hpe]; rfl) ?_ ?_
    · intro xs' xu' xd' xc' xe' xf' xK' xV' xO' xS' xA' xY' xN' xW' xk' xt' xH' xq' xy' xF' xZ' xC' h1
      exact HF xs' xu' xd' xc' xe' xf' xK' xV' xO' xS' xA' xY' xN' xW' xk' xt' xH' xq' xy' xF' xZ' xp xz xn xC' h1
    · intro n' cs' cl' xs' xu' xd' xc' xe' xf' xK' xV' xO' xS' xA' xY' xN' xW' xk' xt' xH' xq' xy' xF' xZ' R' e0 F' hra
      have := HC _ _ (i + 1) false kn kt _ p n' cs' cl' xs' xu' xd' xc' xe' xf' xK' xV' xO' xS' xA' xY' xN' xW' xk' xt' xH' xq' xy' xF' xZ' xn (upd xC i (-1)) (by rw [← ep]; exact R') e0 F' (hra xn (fun _ _ => rfl) (fun z => absurd z (by decide)))
      rw [← ep] at this
      exact this
  · have hn := ss_top hw (Nat.le_refl _) hs (gs_xor hx).1
    exact zs_ty R F h0 A hn.2.1 (by omega) tyF HC
  · have hcf : c = false := by
      cases c with
      | false => rfl
      | true =>
        have := sk_cc hw (Nat.le_refl _) (show sk_c K (sk_ K i) = s :: r from hs)
        rw [hx] at this; exact absurd this (by decide)
    subst hcf
    exact zs_pt R F h0 A (show sk_ K i = s :: r from hs) hx (by omega) tyF HC
  · have hn := ss_top hw (Nat.le_refl _) hs (gs_xof hx).2
    have hfi : f < i := sk_lt (ss_suf.subset (show f ∈ ss_ K i c by rw [hs]; simp))
    have hfo : f = op_ K i := by
      rcases hn.2.2.1 with y | y
      · rw [(gs_xof hx).1] at y; exact absurd y.1 (by decide)
      · exact y.2
    have hip := hn.2.2.2
    have hTi := R.2.2.2.2.2.2.2.2.2.2
    have hK' : ∀ j, j < i → un_ K i 11 j = K j := un_lt
    have hop : op_ (un_ K i 11) i = f := by rw [gc_op (b := i) hK' (Nat.le_refl _), ← hfo]
    have hY : xY f = nI (tp_ K f c i) := hTi.2.2.2.2.2.2.2.1 f hfi hx
    have htp : tc_ (un_ K i 11) f i = tp_ K f c i := by
      rw [← gc_tp (b := i) hK']
      obtain ⟨e, rfl⟩ : ∃ e, i = e + 1 := ⟨i - 1, by omega⟩
      symm
      refine tp_same (Or.inl ?_)
      rw [un_s, decide_eq_true (by decide), Bool.and_true]
      rcases hn.2.1 with y | y
      · rw [y, Bool.true_and]
      · rw [eb_n.mpr (fun z => y ((gc_en (b := e + 1) hK' (Nat.le_refl _)).mp z)), Bool.and_false]
    have htl : tp_ K f c i < 2 ^ 20 := by
      have := tc_le (K := un_ K i 11) (f := f) i
      omega
    have hpn : pe_ (un_ K i 11) (un_ V i 0) i = (if K f ≠ 3 ∧ tp_ K f c i = rc_ K f then [118] else []) ++ (if K f = 10 then [] else [69]) := by
      have h1 : pe_ (un_ K i 11) (un_ V i 0) i = pn_ (un_ K i 11) i := by unfold pe_; rw [un_s, un_s]; rfl
      rw [h1]
      unfold pn_
      rw [hop, htp, hK' f hfi]
      have : rc_ (un_ K i 11) f = rc_ K f := by unfold rc_; rw [hK' f hfi, hK' (f - 1) (by omega)]
      rw [this]
    -- END
    have acc : ∀ (q : Nat) (z : Int32), pr_ w p (pe_ (un_ K i 11) (un_ V i 0) i) → q = p + (pe_ (un_ K i 11) (un_ V i 0) i).length → q < 2 ^ 20 → ((K f = 10 ∧ w.length ≤ q) ∨ (K f ≠ 10 ∧ z = 0)) → wpX_accept post (xo, xb, xl, xs, xg, xu, xd, xc, xe, nI q, xf, z, xK, xV, xO, xT, xS, xA, xY, xN, xW, xk, xt, xH, xn, xq, xy, xF, xZ, xC, xv) (nI 11) (nI 0) (-1) := by
      intro q z hpr hq hq20 hz
      refine zs_sp (fl := false) (k := 11) (v := 0) (R := rd_p R (q := q) (xf' := xf) (xz' := z) (xn' := xn) (xC' := xC) (xv' := xv) hq20) F h0 A ⟨by omega, Nat.zero_le _, fun z => absurd z (by decide)⟩ (Or.inr (Or.inr ⟨by omega, by omega, hn.2.1⟩)) (fun _ => rfl) hpr hq ?_ ?_
      · intro xs' xu' xd' xc' xe' xf' xK' xV' xO' xS' xA' xY' xN' xW' xk' xt' xH' xq' xy' xF' xZ' xC' h1
        exact HF xs' xu' xd' xc' xe' xf' xK' xV' xO' xS' xA' xY' xN' xW' xk' xt' xH' xq' xy' xF' xZ' _ z xn xC' h1
      · intro n' cs' cl' xs' xu' xd' xc' xe' xf' xK' xV' xO' xS' xA' xY' xN' xW' xk' xt' xH' xq' xy' xF' xZ' R' e0 F' hra
        have hra' := hra xn (fun _ _ => rfl) (fun z => absurd z (by decide))
        rcases hz with ⟨h10, hlen⟩ | ⟨_, e1⟩
        · exfalso
          have hsk : ss_ (un_ K i 11) (i + 1) false = [] := sig_sk R'.1 (by omega) un_s (by rw [hop, hK' f hfi]; exact h10)
          obtain ⟨g1, g2⟩ := ra_fin R'.1 (by omega) (by have := R'.2.2.1; omega) (R'.2.1 _ (Nat.le_refl _)) hsk F' hra' hlen
          exact HD _ _ (i + 1) R'.1 R'.2.1 (by omega) R'.2.2.1 g1 g2
        · subst e1
          have := HC (un_ K i 11) (un_ V i 0) (i + 1) false kn kt (ub_ nf i false) q n' cs' cl' xs' xu' xd' xc' xe' xf' xK' xV' xO' xS' xA' xY' xN' xW' xk' xt' xH' xq' xy' xF' xZ' xn (upd xC i (-1))
          rw [hz0] at this
          exact this R' e0 F' hra'
    refine zq_li R (by omega) hfi hf0 hx hY htl (fun b hb => ?_) (fun _ _ => zs_ty R F h0 A hn.2.1 (by omega) tyF HC) (fun _ _ _ _ => HF xs xu xd xc xe 1 xK xV xO xS xA xY xN xW xk xt xH xq xy xF xZ _ xz xn xC rfl)
    have hb1 : b ≤ 1 := by omega
    have hbl : pr_ w p (if K f ≠ 3 ∧ tp_ K f c i = rc_ K f then [118] else []) ∧ (if K f ≠ 3 ∧ tp_ K f c i = rc_ K f then [118] else []).length = b := by
      rcases hb with ⟨z, y1, y2, y3⟩ | ⟨z, y⟩
      · rw [if_pos ⟨y1, y2⟩, z]; exact ⟨pr_cons y3 pr_nil, rfl⟩
      · rw [if_neg (fun u => by omega), z]; exact ⟨pr_nil, rfl⟩
    refine ⟨fun h10 hlen => ?_, fun h10 hE => ?_⟩
    · rw [if_pos h10, List.append_nil] at hpn
      exact acc (p + b) 1 (by rw [hpn]; exact hbl.1) (by rw [hpn, hbl.2]) (by omega) (Or.inl ⟨h10, hlen⟩)
    · rw [if_neg h10] at hpn
      exact acc (p + b + 1) 0 (by rw [hpn]; exact pr_app.mpr ⟨hbl.1, by rw [hbl.2]; exact pr_cons hE pr_nil⟩) (by rw [hpn, List.length_append, hbl.2]; rfl) (by omega) (Or.inr ⟨h10, rfl⟩)
end
section
variable {xo xb : Int64} {xl xs xg xu xd xc xe xp xf xz : Int32} {xK xV xO xT xS xA xY xN xW xk xt xH xn : Nat → Int32} {xq : Nat → Int64} {xy xF xZ xC xv : Nat → Int32}
variable {l : Nat} {w : List Nat}
/-- no nodes have this text: it is refused -/
theorem zs_sym {post : Int32 → SX → Prop} (HD : ∀ (K' V' : Nat → Nat) (N : Nat), wf_ K' V' N → (∀ j, N ≤ j → K' j = 11) → 0 < N → N ≤ l → op_ K' N = 0 → mg_ K' V' N = w → False)
    (H : ∀ (xs' xu' xd' xc' xe' xf' : Int32) (xK' xV' xO' xS' xA' xY' xN' xW' xk' xt' xH' : Nat → Int32) (xq' : Nat → Int64) (xy' xF' xZ' : Nat → Int32) (xp' xz' : Int32) (xn' xC' : Nat → Int32), post 0 (xo, xb, xl, xs', xg, xu', xd', xc', xe', xp', xf', xz', xK', xV', xO', xT, xS', xA', xY', xN', xW', xk', xt', xH', xn', xq', xy', xF', xZ', xC', xv)) :
    ∀ (d t : Nat) (K V : Nat → Nat) (i : Nat) (c : Bool) (kn kt : Nat → Nat) (nf : Nat → Bool) (p n : Nat) (cs : Nat → List (Nat × Nat)) (cl : Nat → Bool) (xs xu xd xc xe xf : Int32) (xK xV xO xS xA xY xN xW xk xt xH : Nat → Int32) (xq : Nat → Int64) (xy xF xZ : Nat → Int32) (xp : Int32) (xn xC : Nat → Int32), t + d = 1024 →
      rd_ K V i c n cs cl l w p xo xb xl xs xg xu xd xc xe xp xf xz xK xV xO xT xS xA xY xN xW xk xt xH xn xq xy xF xZ xC xv → fi_ K V i c xC → xf = 0 → xz = 0 → ra_ K V i c kn kt nf w p xn xC → wX_readSymbol_12 post (d + 1) (nI t) xo xb xl xs xg xu xd xc xe xp xf xz xK xV xO xT xS xA xY xN xW xk xt xH xn xq xy xF xZ xC xv := by
  intro d
  induction d with
  | zero =>
    intro t K V i c kn kt nf p n cs cl xs xu xd xc xe xf xK xV xO xS xA xY xN xW xk xt xH xq xy xF xZ xp xn xC ht R F h0 hz0 A
    refine br_t (nI_le (a := 1024) (by omega) (by omega)) (br_t hz0 ?_)
    exact H xs xu xd xc xe xf xK xV xO xS xA xY xN xW xk xt xH xq xy xF xZ xp xz xn xC
  | succ d ih =>
    intro t K V i c kn kt nf p n cs cl xs xu xd xc xe xf xK xV xO xS xA xY xN xW xk xt xH xq xy xF xZ xp xn xC ht R F h0 hz0 A
    refine br_f (nI_ge (b := 1024) (by omega) (by omega)) (br_t h0 (br_t hz0 ?_))
    refine zs_step R F h0 hz0 A ?_ ?_ HD
    · intro xs' xu' xd' xc' xe' xf' xK' xV' xO' xS' xA' xY' xN' xW' xk' xt' xH' xq' xy' xF' xZ' xp' xz' xn' xC' h1
      refine nm_r (nI_1 t) ?_
      have h33 : post 0 (xo, xb, xl, xs', xg, xu', xd', xc', xe', xp', xf', xz', xK', xV', xO', xT, xS', xA', xY', xN', xW', xk', xt', xH', xn', xq', xy', xF', xZ', xC', xv) := H xs' xu' xd' xc' xe' xf' xK' xV' xO' xS' xA' xY' xN' xW' xk' xt' xH' xq' xy' xF' xZ' xp' xz' xn' xC'
      have hend : wX_readSymbol_43 post xo xb xl xs' xg xu' xd' xc' xe' xp' xf' xz' xK' xV' xO' xT xS' xA' xY' xN' xW' xk' xt' xH' xn' xq' xy' xF' xZ' xC' xv := br_c (fun _ => h33) (fun _ => br_f (by rw [h1]; decide) h33)
      exact br_c (fun _ => hend) (fun _ => br_f (by rw [h1]; decide) hend)
    · intro K' V' i' c' kn' kt' nf' p' n' cs' cl' xs' xu' xd' xc' xe' xf' xK' xV' xO' xS' xA' xY' xN' xW' xk' xt' xH' xq' xy' xF' xZ' xn' xC' R' e0 F' A'
      refine nm_r (nI_1 t) ?_
      exact ih (t + 1) K' V' i' c' kn' kt' nf' p' n' cs' cl' xs' xu' xd' xc' xe' xf' xK' xV' xO' xS' xA' xY' xN' xW' xk' xt' xH' xq' xy' xF' xZ' (nI p') xn' xC' (by omega) R' F' e0 hz0 A'
end
end
section
/-! Y reads: one character -/
def yd_ (K V : Nat → Nat) (N l : Nat) (w : List Nat) (yl ys yg yo yc : Int32) (yK yV yA yB yT yO yF yZ yC yS : Nat → Int32) : Prop :=
  wf_ K V N ∧ (∀ j, N ≤ j → K j = 11) ∧ N ≤ l ∧ l ≤ 48 ∧ yl = nI l ∧ ys = nI N ∧ kx_ K V N yK yV ∧ tk_ 256 w yg yT ∧ w.length ≤ 256 ∧ (∀ c, c ∈ w → c < 2 ^ 20)
/-- the bit of a qualifier -/
def bt_ (c : Nat) : Nat := if c = 75 then 1 else if c = 86 then 2 else if c = 114 then 4 else 0
theorem lb_cs {v : Nat} (h : v < 8) : lb_ v = 118 ∨ lb_ v = 98 ∨ lb_ v = 99 ∨ lb_ v = 115 ∨ lb_ v = 105 ∨ lb_ v = 106 ∨ lb_ v = 108 ∨ lb_ v = 100 := by
  obtain e | e | e | e | e | e | e | e : v = 0 ∨ v = 1 ∨ v = 2 ∨ v = 3 ∨ v = 4 ∨ v = 5 ∨ v = 6 ∨ v = 7 := by omega
  all_goals (subst e; decide)
theorem lb_in {a b : Nat} (ha : a < 8) (hb : b < 8) (h : lb_ a = lb_ b) : a = b := by
  have : ∀ a, a < 8 → ∀ b, b < 8 → lb_ a = lb_ b → a = b := by decide
  exact this a ha b hb h
section
variable {yl ys yg yo yc : Int32} {yK yV yA yB yT yO yF yZ yC yS : Nat → Int32}
variable {K V : Nat → Nat} {N l : Nat} {w : List Nat} {p : Nat}
theorem yd_f {yo' yc' : Int32} {yA' yB' yO' yF' yZ' yC' yS' : Nat → Int32} (D : yd_ K V N l w yl ys yg yo yc yK yV yA yB yT yO yF yZ yC yS) : yd_ K V N l w yl ys yg yo' yc' yK yV yA' yB' yT yO' yF' yZ' yC' yS' := D
theorem zr_add {post : Int32 → SY → Prop} {p0 p1 : Int32} (D : yd_ K V N l w yl ys yg yo yc yK yV yA yB yT yO yF yZ yC yS)
    (HR : ∀ r : Int32, (∀ k v, p0 = nI k → p1 = nI v → vr_ k v → N < l → ¬ ft_ K N k v) → post r (yl, ys, yg, yo, yc, yK, yV, yA, yB, yT, yO, yF, yZ, yC, yS))
    (HA : ∀ k v, p0 = nI k → p1 = nI v → vr_ k v → ft_ K N k v → N < l → yd_ (un_ K N k) (un_ V N v) (N + 1) l w yl (nI (N + 1)) yg yo yc (upd yK N (nI k)) (upd yV N (nI v)) yA yB yT yO yF yZ yC yS → post 0 (yl, nI (N + 1), yg, yo, yc, upd yK N (nI k), upd yV N (nI v), yA, yB, yT, yO, yF, yZ, yC, yS)) : wpY_add post (yl, ys, yg, yo, yc, yK, yV, yA, yB, yT, yO, yF, yZ, yC, yS) p0 p1 := by
  obtain ⟨d1, d2, d3, d4, d5, d6, d7, d8, d9, d10⟩ := D
  refine zg_add d1 d3 d4 d6 d5 d7 (fun r hr hr0 => HR r ?_) (fun k v e1 e2 hv hf hl => HA k v e1 e2 hv hf hl ?_)
  · intro k v e1 e2 hv hl hf
    have hmk := mx_le (k := k)
    rcases hr with ⟨_, z⟩ | ⟨_, k', hk', z1, z2⟩ | ⟨k', v', z1, z2, z3, z4⟩
    · rw [e1] at z
      rcases z with z | z
      · exact nI_pos (by have := hv.1; omega) z
      · exact z (nI_le (b := 11) hv.1 (by omega))
    · have : k = k' := (nI_eq (by have := hv.1; omega) (by omega)).mp (e1.symm.trans z1)
      subst this
      exact z2 ⟨v, e2, hv⟩
    · have : k = k' := (nI_eq (by have := hv.1; omega) (by have := z3.1; omega)).mp (e1.symm.trans z1)
      subst this
      have : v = v' := (nI_eq (by have := hv.2.1; omega) (by have := z3.2.1; omega)).mp (e2.symm.trans z2)
      subst this
      rcases z4 with ⟨_, z⟩ | ⟨_, ⟨_, z⟩ | ⟨z, _⟩⟩
      · exact z hf
      · omega
      · exact hr0 z
  · have hmk := mx_le (k := k)
    refine ⟨wf_add d1 hv hf, fun j hj => ?_, by omega, d4, d5, rfl, kx_add d7 hv.1 (by have := hv.2.1; omega), d8, d9, d10⟩
    rw [un_n (by omega)]; exact d2 j (by omega)
theorem zr_go {post : SY → Prop} {fuel dp c : Nat} (D : yd_ K V N l w yl ys yg yo yc yK yV yA yB yT yO yF yZ yC yS) (hc : w[p]? = some c) (hdp : dp < 256)
    (H : ∀ sx : Int32, (dp = 0 → sx = 0) → (0 < dp → sx = yS (dp - 1)) → (¬ sx = 1 → wY_read_100 post (wY_read_9 post fuel) (nI dp) (nI (p + 1)) (nI c) sx (nI (bt_ c)) yl ys yg yo yc yK yV yA yB yT yO yF yZ yC yS) ∧ (sx = 1 → wY_read_100 post (wY_read_9 post fuel) (nI dp) (nI (p + 1)) (nI c) sx (nI (bt_ c)) yl ys yg yo yc yK yV yA yB yT yO yF yZ yC (upd yS (dp - 1) 2))) :
    wY_read_9 post (fuel + 1) (nI dp) (nI p) yl ys yg yo yc yK yV yA yB yT yO yF yZ yC yS := by
  obtain ⟨d1, d2, d3, d4, d5, d6, d7, d8, d9, d10⟩ := D
  have hpl := (List.getElem?_eq_some_iff.mp hc).1
  have e := tk_e d8 d9
  have hcl : c < 2 ^ 20 := d10 c (List.mem_of_getElem? hc)
  have h80 : ∀ sx : Int32, (dp = 0 → sx = 0) → (0 < dp → sx = yS (dp - 1)) → wY_read_80 post (wY_read_9 post fuel) (nI dp) (nI p) (nI c) sx (nI (bt_ c)) yl ys yg yo yc yK yV yA yB yT yO yF yZ yC yS := by
    intro sx h1 h2
    refine nm_r (nI_1 p) ?_
    have hh := H sx h1 h2
    refine br_c (fun z => ?_) (fun z => hh.1 z)
    have hd : 0 < dp := by
      rcases Nat.eq_zero_or_pos dp with y | y
      · rw [h1 y] at z; exact absurd z (by decide)
      · exact y
    have e1 : nI dp - 1 = nI (dp - 1) := pk_sub (b := 1) (by omega)
    rw [e1]
    exact ⟨vp_in_nI (by omega) (by omega), nm_r (e' := upd yS (dp - 1) 2) (by rw [nI_clamp (by omega)]) (hh.2 z)⟩
  have h47 : ∀ sx : Int32, (dp = 0 → sx = 0) → (0 < dp → sx = yS (dp - 1)) → wY_read_47 post (wY_read_9 post fuel) (nI dp) (nI p) (nI c) sx yl ys yg yo yc yK yV yA yB yT yO yF yZ yC yS := by
    intro sx h1 h2
    have hb := h80 sx h1 h2
    unfold bt_ at hb
    refine pk_eq c 75 (fun q => ?_) (fun q => pk_eq c 86 (fun q2 => ?_) (fun q2 => pk_eq c 114 (fun q3 => ?_) (fun q3 => ?_)))
    · rw [if_pos q] at hb; exact hb
    · rw [if_neg q, if_pos q2] at hb; exact hb
    · rw [if_neg q, if_neg q2, if_pos q3] at hb; exact hb
    · rw [if_neg q, if_neg q2, if_neg q3] at hb; exact hb
  refine br_f (by rw [e.1]; exact nI_ge hpl (by omega)) (br_f (nI_ge (b := 256) hdp (by omega)) ⟨vp_in_nI (by omega) (by omega), nm_r (e' := nI c) (by rw [nI_clamp (by omega), e.2 p c hc]) ?_⟩)
  refine pk_le dp 0 (fun q => h47 0 (fun _ => rfl) (fun z => by omega)) (fun q => ?_)
  have e1 : nI dp - 1 = nI (dp - 1) := pk_sub (b := 1) (by omega)
  rw [e1]
  refine ⟨vp_in_nI (by omega) (by omega), ?_⟩
  rw [nI_clamp (by omega)]
  exact h47 _ (fun z => by omega) (fun _ => rfl)
theorem zr_end {post : SY → Prop} {fuel : Nat} {x1 : Int32} (D : yd_ K V N l w yl ys yg yo yc yK yV yA yB yT yO yF yZ yC yS) (hp : p < 2 ^ 20) (hpl : w.length ≤ p) (H : wY_read_524 post yl ys yg yo yc yK yV yA yB yT yO yF yZ yC yS) : wY_read_9 post (fuel + 1) x1 (nI p) yl ys yg yo yc yK yV yA yB yT yO yF yZ yC yS := by
  obtain ⟨d1, d2, d3, d4, d5, d6, d7, d8, d9, d10⟩ := D
  exact br_t (by rw [(tk_e d8 d9).1]; exact nI_le hpl (by omega)) H
/-- SIG -/
theorem zr_sig {post : SY → Prop} {J : Int32 → Int32 → Int32 → Int32 → Int32 → Int32 → Int32 → (Nat → Int32) → (Nat → Int32) → (Nat → Int32) → (Nat → Int32) → (Nat → Int32) → (Nat → Int32) → (Nat → Int32) → (Nat → Int32) → (Nat → Int32) → (Nat → Int32) → Prop}
    {dp c : Nat} {x2 sx x5 : Int32} (D : yd_ K V N l w yl ys yg yo yc yK yV yA yB yT yO yF yZ yC yS) (hdp : dp < 2 ^ 20) (hc : c < 2 ^ 20)
    (HR : ((dp = 0 ∧ 0 < N ∧ c ≠ 73 ∧ op_ K N = 0) → N < l → ¬ ft_ K N 10 0) → wY_read_136 post J (nI dp) x2 (nI c) sx x5 yl ys yg yo yc yK yV yA yB yT yO yF yZ yC yS)
    (HA : dp = 0 → 0 < N → c ≠ 73 → op_ K N = 0 → ft_ K N 10 0 → N < l → yd_ (un_ K N 10) (un_ V N 0) (N + 1) l w yl (nI (N + 1)) yg yo yc (upd yK N (nI 10)) (upd yV N (nI 0)) yA yB yT yO yF yZ yC yS → wY_read_136 post J (nI dp) x2 (nI c) sx x5 yl (nI (N + 1)) yg yo yc (upd yK N (nI 10)) (upd yV N (nI 0)) yA yB yT yO yF yZ yC yS) :
    wY_read_100 post J (nI dp) x2 (nI c) sx x5 yl ys yg yo yc yK yV yA yB yT yO yF yZ yC yS := by
  have D' := D
  obtain ⟨d1, d2, d3, d4, d5, d6, d7, d8, d9, d10⟩ := D
  refine pk_eq dp 0 (fun q0 => ?_) (fun q0 => HR (fun z => absurd z.1 q0))
  refine pk_le N 0 (fun qN => HR (fun z => by omega)) (fun qN => pk_eq c 73 (fun qc => HR (fun z => absurd qc z.2.2.1)) (fun qc => ?_)) (hx := d6)
  have hop := op_le (K := K) (i := N)
  rw [d6]
  refine zy_op (wf_0 d1 qN) (by omega) d7 (Nat.le_refl _) ?_
  rw [← d6]
  by_cases qo : op_ K N = 0
  · refine br_f ((zI_le (by omega)).1 qo) ?_
    refine zr_add D' (fun r hr => HR (fun _ hl => hr 10 0 rfl rfl ⟨by omega, Nat.zero_le _, fun z => absurd z (by decide)⟩ hl)) (fun k v e1 e2 hv hf hl D2 => ?_)
    have ek : k = 10 := (nI_eq (a := k) (b := 10) (by have := hv.1; omega) (by omega)).mp e1.symm
    subst ek
    have ev : v = 0 := Nat.le_zero.mp hv.2.1
    subst ev
    exact HA q0 qN qc qo hf hl D2
  · exact br_t ((zI_le (by omega)).2 qo) (HR (fun z => absurd z.2.2.2 qo))
end
end
section
/-! Y reads: the kinds of characters -/
theorem zr_or : ∀ v, v < 8 → ∀ b, b < 8 → (nI v ||| nI b) = nI (v ||| b) := by decide +kernel
theorem or_8 : ∀ v, v < 8 → ∀ b, b < 8 → v ||| b < 8 ∧ (1 ≤ v → 1 ≤ v ||| b) := by decide
section
variable {yl ys yg yo yc : Int32} {yK yV yA yB yT yO yF yZ yC yS : Nat → Int32}
variable {K V : Nat → Nat} {N l : Nat} {w : List Nat} {p : Nat}
variable {post : SY → Prop} {J : Int32 → Int32 → Int32 → Int32 → Int32 → Int32 → Int32 → (Nat → Int32) → (Nat → Int32) → (Nat → Int32) → (Nat → Int32) → (Nat → Int32) → (Nat → Int32) → (Nat → Int32) → (Nat → Int32) → (Nat → Int32) → (Nat → Int32) → Prop}
theorem zr_364 {c : Nat} {x1 x2 x4 : Int32} (hc : c < 2 ^ 20) (h : c ≠ 49 ∧ c ≠ 50 ∧ c ≠ 83 ∧ c ≠ 84) (H : J x1 x2 yl ys yg yo yc yK yV yA yB yT yO yF yZ yC yS) : wY_read_364 post J x1 x2 (nI c) x4 yl ys yg yo yc yK yV yA yB yT yO yF yZ yC yS :=
  pk_eq c 49 (fun z => absurd z h.1) (fun _ => pk_eq c 50 (fun z => absurd z h.2.1) (fun _ => pk_eq c 83 (fun z => absurd z h.2.2.1) (fun _ => pk_eq c 84 (fun z => absurd z h.2.2.2) (fun _ => H))))
theorem zr_272k {c : Nat} {x1 x2 x4 x5 : Int32} (hc : c < 2 ^ 20) (H : wY_read_272 post J x1 x2 (nI c) x4 x5 1 (nI 8) yl ys yg yo yc yK yV yA yB yT yO yF yZ yC yS) : ∀ d j, j + d = 8 → (∀ v, j ≤ v → v < 8 → c ≠ lb_ v) → wY_read_272 post J x1 x2 (nI c) x4 x5 (d + 1) (nI j) yl ys yg yo yc yK yV yA yB yT yO yF yZ yC yS := by
  intro d
  induction d with
  | zero => intro j hj _; rw [show j = 8 by omega]; exact H
  | succ d ih =>
    intro j hj hno
    refine br_f (nI_ge (b := 8) (by omega) (by omega)) (zv_l (v := j) (by omega) ?_)
    have hlj := lb_cs (v := j) (by omega)
    refine pk_eq (lb_ j) c (fun q => absurd q.symm (hno j (Nat.le_refl _) (by omega))) (fun _ => nm_r (nI_1 j) (ih (j + 1) (by omega) (fun v h1 h2 => hno v (by omega) h2)))
/-- no letter -/
theorem zr_n {c : Nat} {x1 x2 x4 : Int32} (hc : c < 2 ^ 20) (hl : ∀ v, v < 8 → c ≠ lb_ v) (H : wY_read_364 post J x1 x2 (nI c) x4 yl ys yg yo yc yK yV yA yB yT yO yF yZ yC yS) : ∃ n, wY_read_272 post J x1 x2 (nI c) x4 0 n 0 yl ys yg yo yc yK yV yA yB yT yO yF yZ yC yS :=
  ⟨9, zr_272k hc (br_t (by decide) (br_t (by decide) (br_t (by decide) H))) 8 0 (by omega) (fun v _ h => hl v h)⟩
/-- a letter -/
theorem zr_l {c u : Nat} {x1 x2 x4 : Int32} (hu : u < 8) (hcu : c = lb_ u) (D : yd_ K V N l w yl ys yg yo yc yK yV yA yB yT yO yF yZ yC yS)
    (HR : (N < l → ¬ ft_ K N 4 u) → J x1 x2 yl ys yg yo yc yK yV yA yB yT yO yF yZ yC yS)
    (HA : ft_ K N 4 u → N < l → yd_ (un_ K N 4) (un_ V N u) (N + 1) l w yl (nI (N + 1)) yg yo yc (upd yK N (nI 4)) (upd yV N (nI u)) yA yB yT yO yF yZ yC yS → J x1 x2 yl (nI (N + 1)) yg yo yc (upd yK N (nI 4)) (upd yV N (nI u)) yA yB yT yO yF yZ yC yS) :
    ∃ n, wY_read_272 post J x1 x2 (nI c) x4 0 n 0 yl ys yg yo yc yK yV yA yB yT yO yF yZ yC yS := by
  have hlu := lb_cs hu
  have hc : c < 2 ^ 20 := by omega
  have h364 : c ≠ 49 ∧ c ≠ 50 ∧ c ≠ 83 ∧ c ≠ 84 := by omega
  refine ⟨9, ?_⟩
  have key : ∀ d j, j + d = 8 → j ≤ u → wY_read_272 post J x1 x2 (nI c) x4 0 (d + 1) (nI j) yl ys yg yo yc yK yV yA yB yT yO yF yZ yC yS := by
    intro d
    induction d with
    | zero => intro j hj hju; omega
    | succ d ih =>
      intro j hj hju
      refine br_f (nI_ge (b := 8) (by omega) (by omega)) (zv_l (v := j) (by omega) ?_)
      have hlj := lb_cs (v := j) (by omega)
      refine pk_eq (lb_ j) c (fun q => ?_) (fun q => nm_r (nI_1 j) (ih (j + 1) (by omega) ?_))
      · have hju2 : j = u := lb_in (by omega) hu (q.trans hcu)
        subst hju2
        have rest : ∀ v, j + 1 ≤ v → v < 8 → c ≠ lb_ v := fun v h1 h2 z => by
          have := lb_in hu h2 (hcu.symm.trans z); omega
        refine zr_add D (fun r hr => nm_r (nI_1 j) ?_) (fun k v e1 e2 hv hf hl D2 => nm_r (nI_1 j) ?_)
        · exact zr_272k hc (br_t (by decide) (br_t (by decide) (br_t (by decide) (zr_364 hc h364 (HR (fun hl => hr 4 j rfl rfl ⟨by omega, by show j ≤ 7; omega, fun z => absurd z (by decide)⟩ hl)))))) d (j + 1) (by omega) rest
        · have ek : k = 4 := (nI_eq (a := k) (b := 4) (by have := hv.1; omega) (by omega)).mp e1.symm
          subst ek
          have hv7 : v ≤ 7 := hv.2.1
          have ev : v = j := (nI_eq (by omega) (by omega)).mp e2.symm
          subst ev
          exact zr_272k hc (br_t (by decide) (br_t (by decide) (br_t (by decide) (zr_364 hc h364 (HA hf hl D2))))) d (v + 1) (by omega) rest
      · rcases Nat.lt_or_ge j u with z | z
        · omega
        · have : j = u := by omega
          exact absurd (by rw [this, hcu]) q
  exact key 8 0 (by omega) (by omega)
theorem wf_or {b : Nat} (hw : wf_ K V N) (hN : 0 < N) (h8 : K (N - 1) = 8) (hb : b < 8) : wf_ K (un_ V (N - 1) (V (N - 1) ||| b)) N := by
  intro j hj
  by_cases z : j = N - 1
  · subst z
    rw [un_s]
    have h := hw (N - 1) hj
    have hv7 : V (N - 1) ≤ 7 := by have := h.1.2.1; rw [h8] at this; exact this
    have h1 := h.1.2.2 h8
    have ho := or_8 (V (N - 1)) (by omega) b hb
    refine ⟨⟨h.1.1, by rw [h8]; show _ ≤ 7; omega, fun _ => ho.2 h1⟩, ?_⟩
    have hf := h.2
    rw [h8] at hf ⊢
    unfold ft_ at hf ⊢
    rcases hf with q | ⟨q0, q | q | q | ⟨q1, q2, q3, q4, q5⟩⟩
    · exact Or.inl q
    · exact absurd q.1 (by decide)
    · exact absurd q.1 (by decide)
    · exact absurd q.1 (by decide)
    · refine Or.inr ⟨q0, Or.inr (Or.inr (Or.inr ⟨q1, q2, q3, q4, ?_⟩))⟩
      rcases q5 with q | q
      · exact Or.inl q
      · refine Or.inr ⟨q.1, ?_⟩
        rcases q.2 with r | r
        · exact absurd r.1 (by decide)
        · exact Or.inr ⟨r.1, Or.inl (by decide)⟩
  · rw [un_n z]; exact hw j hj
/-- a qualifier -/
theorem zr_b {c : Nat} {x1 x2 x4 : Int32} (hc : c = 75 ∨ c = 86 ∨ c = 114) (D : yd_ K V N l w yl ys yg yo yc yK yV yA yB yT yO yF yZ yC yS)
    (HO : 0 < N → K (N - 1) = 8 → yd_ K (un_ V (N - 1) (V (N - 1) ||| bt_ c)) N l w yl ys yg yo yc yK (upd yV (N - 1) (nI (V (N - 1) ||| bt_ c))) yA yB yT yO yF yZ yC yS → J x1 x2 yl ys yg yo yc yK (upd yV (N - 1) (nI (V (N - 1) ||| bt_ c))) yA yB yT yO yF yZ yC yS)
    (HR : ¬ (0 < N ∧ K (N - 1) = 8) → (N < l → ¬ ft_ K N 8 (bt_ c)) → J x1 x2 yl ys yg yo yc yK yV yA yB yT yO yF yZ yC yS)
    (HA : ¬ (0 < N ∧ K (N - 1) = 8) → ft_ K N 8 (bt_ c) → N < l → yd_ (un_ K N 8) (un_ V N (bt_ c)) (N + 1) l w yl (nI (N + 1)) yg yo yc (upd yK N (nI 8)) (upd yV N (nI (bt_ c))) yA yB yT yO yF yZ yC yS → J x1 x2 yl (nI (N + 1)) yg yo yc (upd yK N (nI 8)) (upd yV N (nI (bt_ c))) yA yB yT yO yF yZ yC yS) :
    ∃ n, wY_read_272 post J x1 x2 (nI c) x4 (nI (bt_ c)) n 0 yl ys yg yo yc yK yV yA yB yT yO yF yZ yC yS := by
  have D' := D
  obtain ⟨d1, d2, d3, d4, d5, d6, d7, d8, d9, d10⟩ := D
  have hcl : c < 2 ^ 20 := by omega
  have h364 : c ≠ 49 ∧ c ≠ 50 ∧ c ≠ 83 ∧ c ≠ 84 := by omega
  have hb : 1 ≤ bt_ c ∧ bt_ c < 8 := by rcases hc with e | e | e <;> subst e <;> decide
  have hx5 : ¬ nI (bt_ c) ≤ 0 := nI_nle (by omega) (by omega)
  have h350 : ¬ (0 < N ∧ K (N - 1) = 8) → wY_read_350 post J x1 x2 (nI c) x4 (nI (bt_ c)) yl ys yg yo yc yK yV yA yB yT yO yF yZ yC yS := by
    intro hno
    refine br_f hx5 (zr_add D' (fun r hr => zr_364 hcl h364 (HR hno (fun hl => hr 8 (bt_ c) rfl rfl ⟨by omega, by show bt_ c ≤ 7; omega, fun _ => hb.1⟩ hl))) (fun k v e1 e2 hv hf hl D2 => ?_))
    have ek : k = 8 := (nI_eq (a := k) (b := 8) (by have := hv.1; omega) (by omega)).mp e1.symm
    subst ek
    have hv7 : v ≤ 7 := hv.2.1
    have ev : v = bt_ c := (nI_eq (by omega) (by omega)).mp e2.symm
    subst ev
    exact zr_364 hcl h364 (HA hno hf hl D2)
  refine ⟨9, zr_272k hcl (br_t (by decide) (br_f hx5 ?_)) 8 0 (by omega) (fun v _ h z => ?_)⟩
  · refine pk_le N 0 (fun q => h350 (by omega)) (fun q => ?_) (hx := d6)
    have e1 : ys - 1 = nI (N - 1) := by rw [d6]; exact pk_sub (b := 1) (by omega)
    have hv1 : vp_in (nI (N - 1)) 64 := vp_in_nI (by omega) (by omega)
    have hc1 : (nI (N - 1)).toNatClampNeg = N - 1 := nI_clamp (by omega)
    have hk := d7 (N - 1) (by omega)
    rw [e1]
    refine ⟨hv1, ?_⟩
    rw [hc1, hk.1]
    refine pk_eq (K (N - 1)) 8 (fun q8 => ?_) (fun q8 => h350 (fun z => q8 z.2)) (ha := by have := hk.2.2.1; omega)
    have hv7 : V (N - 1) ≤ 7 := by have := (d1 (N - 1) (by omega)).1.2.1; rw [q8] at this; exact this
    refine ⟨hv1, hv1, nm_r (e' := upd yV (N - 1) (nI (V (N - 1) ||| bt_ c))) (by rw [hk.2.1, zr_or _ (by omega) _ hb.2]) ?_⟩
    refine zr_364 hcl h364 (HO q q8 ⟨wf_or d1 q q8 hb.2, d2, d3, d4, d5, d6, ?_, d8, d9, d10⟩)
    intro j hj
    by_cases z : j = N - 1
    · subst z
      rw [pk_us, un_s]
      have := or_8 (V (N - 1)) (by omega) (bt_ c) hb.2
      exact ⟨hk.1, rfl, hk.2.2.1, by omega⟩
    · rw [pk_un z, un_n z]; exact d7 j hj
  · have := lb_cs h; omega
/-- the plain kinds -/
theorem zr_200 {c : Nat} {x1 x2 x4 : Int32} (hc : c < 2 ^ 20) (h1 : c ≠ 73) (h2 : c ≠ 70) (h3 : c ≠ 80) (h4 : c ≠ 82) (h5 : c ≠ 79) {x5 : Int32} (H : ∃ n, wY_read_272 post J x1 x2 (nI c) x4 x5 n 0 yl ys yg yo yc yK yV yA yB yT yO yF yZ yC yS) : wY_read_200 post J x1 x2 (nI c) x4 x5 yl ys yg yo yc yK yV yA yB yT yO yF yZ yC yS :=
  pk_eq c 73 (fun z => absurd z h1) (fun _ => pk_eq c 70 (fun z => absurd z h2) (fun _ => pk_eq c 80 (fun z => absurd z h3) (fun _ => pk_eq c 82 (fun z => absurd z h4) (fun _ => pk_eq c 79 (fun z => absurd z h5) (fun _ => br_t (by decide) H)))))
theorem zr_136 {c : Nat} {x1 x2 x4 : Int32} (hc : c < 2 ^ 20) (h0 : c ≠ 69) (h1 : c ≠ 73) (h2 : c ≠ 70) (h3 : c ≠ 80) (h4 : c ≠ 82) (h5 : c ≠ 79) (h6 : c ≠ 78) {x5 : Int32} (H : ∃ n, wY_read_272 post J x1 x2 (nI c) x4 x5 n 0 yl ys yg yo yc yK yV yA yB yT yO yF yZ yC yS) : wY_read_136 post J x1 x2 (nI c) x4 x5 yl ys yg yo yc yK yV yA yB yT yO yF yZ yC yS :=
  pk_eq c 69 (fun z => absurd z h0) (fun _ => pk_eq c 78 (fun z => absurd z h6) (fun _ => pk_eq c 73 (fun z => absurd z h1) (fun _ => pk_eq c 70 (fun z => absurd z h2) (fun _ => zr_200 hc h1 h2 h3 h4 h5 H))))
/-- E -/
theorem zr_E {dp : Nat} {x2 x4 : Int32} (hdp : dp < 2 ^ 20) (D : yd_ K V N l w yl ys yg yo yc yK yV yA yB yT yO yF yZ yC yS)
    (H0 : dp = 0 → J (nI 0) x2 yl ys yg yo yc yK yV yA yB yT yO yF yZ yC yS) (HN : 0 < dp → ¬ x4 = 0 → J (nI (dp - 1)) x2 yl ys yg yo yc yK yV yA yB yT yO yF yZ yC yS)
    (HR : 0 < dp → x4 = 0 → (N < l → ¬ ft_ K N 11 0) → J (nI (dp - 1)) x2 yl ys yg yo yc yK yV yA yB yT yO yF yZ yC yS)
    (HA : 0 < dp → x4 = 0 → ft_ K N 11 0 → N < l → yd_ (un_ K N 11) (un_ V N 0) (N + 1) l w yl (nI (N + 1)) yg yo yc (upd yK N (nI 11)) (upd yV N (nI 0)) yA yB yT yO yF yZ yC yS → J (nI (dp - 1)) x2 yl (nI (N + 1)) yg yo yc (upd yK N (nI 11)) (upd yV N (nI 0)) yA yB yT yO yF yZ yC yS) :
    wY_read_136 post J (nI dp) x2 (nI 69) x4 (nI (bt_ 69)) yl ys yg yo yc yK yV yA yB yT yO yF yZ yC yS := by
  have hl69 : ∀ v, v < 8 → 69 ≠ lb_ v := fun v hv z => by have := lb_cs hv; omega
  have tail : ∀ (x1 : Int32) (ys' : Int32) (yK' yV' : Nat → Int32), J x1 x2 yl ys' yg yo yc yK' yV' yA yB yT yO yF yZ yC yS → wY_read_162 post J x1 x2 (nI 69) x4 (nI (bt_ 69)) yl ys' yg yo yc yK' yV' yA yB yT yO yF yZ yC yS := by
    intro x1 ys' yK' yV' h
    exact br_f (by decide) (br_f (by decide) (br_f (by decide) (zr_200 (by omega) (by omega) (by omega) (by omega) (by omega) (by omega) (zr_n (by omega) hl69 (zr_364 (by omega) (by omega) h)))))
  refine br_t rfl (pk_le dp 0 (fun q => ?_) (fun q => ?_))
  · have : dp = 0 := by omega
    subst this
    exact tail _ ys yK yV (H0 rfl)
  · refine nm_r (e' := nI (dp - 1)) (by rw [show nI dp + -1 = nI dp - 1 by rw [Int32.sub_eq_add_neg]]; exact pk_sub (b := 1) (by omega)) ?_
    refine br_c (fun q4 => ?_) (fun q4 => tail _ ys yK yV (HN q q4))
    refine zr_add D (fun r hr => tail _ ys yK yV (HR q q4 (fun hl => hr 11 0 rfl rfl ⟨by omega, Nat.zero_le _, fun z => absurd z (by decide)⟩ hl))) (fun k v e1 e2 hv hf hl D2 => ?_)
    have ek : k = 11 := (nI_eq (a := k) (b := 11) (by have := hv.1; omega) (by omega)).mp e1.symm
    subst ek
    have ev : v = 0 := Nat.le_zero.mp hv.2.1
    subst ev
    exact tail _ _ _ _ (HA q q4 hf hl D2)
/-- N -/
theorem zr_N {dp : Nat} {x2 x4 : Int32} (hdp : dp < 256) (H : J (nI (dp + 1)) x2 yl ys yg yo yc yK yV yA yB yT yO yF yZ yC (upd yS dp 1)) : wY_read_136 post J (nI dp) x2 (nI 78) x4 (nI (bt_ 78)) yl ys yg yo yc yK yV yA yB yT yO yF yZ yC yS := by
  have hl : ∀ v, v < 8 → 78 ≠ lb_ v := fun v hv z => by have := lb_cs hv; omega
  refine br_f (by decide) (br_t rfl (br_t rfl ⟨vp_in_nI (by omega) (by omega), nm_r (e' := upd yS dp 1) (by rw [nI_clamp (by omega)]) (nm_r (nI_1 dp) ?_)⟩))
  exact zr_200 (by omega) (by omega) (by omega) (by omega) (by omega) (by omega) (zr_n (by omega) hl (zr_364 (by omega) (by omega) H))
/-- one of I F P R O -/
theorem zr_pl {c k : Nat} {x1 x2 x4 : Int32} (hck : (k = 3 ∨ k = 5 ∨ k = 6 ∨ k = 7 ∨ k = 9) ∧ c = ol_ k) (D : yd_ K V N l w yl ys yg yo yc yK yV yA yB yT yO yF yZ yC yS)
    (HR : (N < l → ¬ ft_ K N k 0) → J x1 x2 yl ys yg yo yc yK yV yA yB yT yO yF yZ yC yS)
    (HA : ft_ K N k 0 → N < l → yd_ (un_ K N k) (un_ V N 0) (N + 1) l w yl (nI (N + 1)) yg yo yc (upd yK N (nI k)) (upd yV N (nI 0)) yA yB yT yO yF yZ yC yS → J x1 x2 yl (nI (N + 1)) yg yo yc (upd yK N (nI k)) (upd yV N (nI 0)) yA yB yT yO yF yZ yC yS) :
    wY_read_200 post J x1 x2 (nI c) x4 (nI (bt_ c)) yl ys yg yo yc yK yV yA yB yT yO yF yZ yC yS := by
  have hcc : (k = 3 ∧ c = 73) ∨ (k = 5 ∧ c = 80) ∨ (k = 6 ∧ c = 82) ∨ (k = 7 ∧ c = 79) ∨ (k = 9 ∧ c = 70) := by
    obtain ⟨h, e⟩ := hck
    rcases h with h | h | h | h | h <;> subst h <;> subst e <;> decide
  have hl : ∀ v, v < 8 → c ≠ lb_ v := fun v hv z => by have := lb_cs hv; omega
  have hb0 : bt_ c = 0 := by rcases hcc with h | h | h | h | h <;> rw [h.2] <;> decide
  have hmx : mx_ k = 0 := by rcases hcc with h | h | h | h | h <;> rw [h.1] <;> decide
  have h254 : wY_read_254 post J x1 x2 (nI c) x4 (nI (bt_ c)) (nI k) yl ys yg yo yc yK yV yA yB yT yO yF yZ yC yS := by
    rw [hb0]
    refine br_f (nI_pos (by omega)) (zr_add D (fun r hr => zr_n (by omega) hl (zr_364 (by omega) (by omega) (HR (fun hlt => hr k 0 rfl rfl ⟨by omega, Nat.zero_le _, fun z => by omega⟩ hlt)))) (fun k' v e1 e2 hv hf hlt D2 => ?_))
    have ek : k' = k := (nI_eq (by have := hv.1; omega) (by omega)).mp e1.symm
    subst ek
    have ev : v = 0 := Nat.le_zero.mp (by have := hv.2.1; rw [hmx] at this; exact this)
    subst ev
    exact zr_n (by omega) hl (zr_364 (by omega) (by omega) (HA hf hlt D2))
  rcases hcc with ⟨h, e⟩ | ⟨h, e⟩ | ⟨h, e⟩ | ⟨h, e⟩ | ⟨h, e⟩ <;> subst h <;> subst e
  · exact br_t rfl h254
  · exact br_f (by decide) (br_f (by decide) (br_t rfl h254))
  · exact br_f (by decide) (br_f (by decide) (br_f (by decide) (br_t rfl h254)))
  · exact br_f (by decide) (br_f (by decide) (br_f (by decide) (br_f (by decide) (br_t rfl h254))))
  · exact br_f (by decide) (br_t rfl h254)
end
end
section
/-! Y reads: numbers, identifiers, copies -/
section
variable {yl ys yg yo yc : Int32} {yK yV yA yB yT yO yF yZ yC yS : Nat → Int32}
variable {K V : Nat → Nat} {N l : Nat} {w : List Nat} {p : Nat}
variable {post : SY → Prop} {J : Int32 → Int32 → Int32 → Int32 → Int32 → Int32 → Int32 → (Nat → Int32) → (Nat → Int32) → (Nat → Int32) → (Nat → Int32) → (Nat → Int32) → (Nat → Int32) → (Nat → Int32) → (Nat → Int32) → (Nat → Int32) → (Nat → Int32) → Prop}
/-- numbers of any text -/
theorem zr_na {post : Int32 → Prop} {b q : Nat} (D : yd_ K V N l w yl ys yg yo yc yK yV yA yB yT yO yF yZ yC yS) (hq : q < 2 ^ 20) (H : ∀ r, post r) : wpY_readNumber post (yl, ys, yg, yo, yc, yK, yV, yA, yB, yT, yO, yF, yZ, yC, yS) (nI q) (nI b) := by
  obtain ⟨d1, d2, d3, d4, d5, d6, d7, d8, d9, d10⟩ := D
  have e := tk_e d8 d9
  have key : ∀ (d j : Nat) (x3 : Int32), j < 2 ^ 21 → w.length ≤ j + d → wY_readNumber_5 post (nI q) (nI b) yl ys yg yo yc yK yV yA yB yT yO yF yZ yC yS (d + 1) x3 (nI j) := by
    intro d
    induction d with
    | zero => intro j x3 hj hd; exact br_t (by rw [e.1]; exact nI_le (by omega) (by omega)) (H _)
    | succ d ih =>
      intro j x3 hj hd
      by_cases hl : w.length ≤ j
      · exact br_t (by rw [e.1]; exact nI_le hl (by omega)) (H _)
      · have hv : vp_in (nI j) 256 := vp_in_nI (by omega) (by omega)
        refine br_f (by rw [e.1]; exact nI_ge (by omega) (by omega)) ⟨hv, br_c (fun _ => H _) (fun _ => ?_)⟩
        have h39 : ∀ z0, wY_readNumber_39 post (wY_readNumber_5 post (nI q) (nI b) yl ys yg yo yc yK yV yA yB yT yO yF yZ yC yS (d + 1)) (nI q) (nI b) (nI j) z0 yl ys yg yo yc yK yV yA yB yT yO yF yZ yC yS := by
          intro z0
          exact ⟨hv, br_c (fun _ => ⟨hv, nm_e (nm_r (nI_1 j) (ih (j + 1) _ (by omega) (by omega)))⟩) (fun _ => ⟨hv, nm_e (nm_r (nI_1 j) (ih (j + 1) _ (by omega) (by omega)))⟩)⟩
        exact br_c (fun _ => h39 _) (fun _ => h39 _)
  exact ⟨w.length + 1, key w.length q _ (by omega) (by omega)⟩
/-- a given number -/
theorem zr_nb {post : Int32 → Prop} {b q v : Nat} (hb : b = 36 ∨ b = 10) (D : yd_ K V N l w yl ys yg yo yc yK yV yA yB yT yO yF yZ yC yS) (hv : v ≤ 100) (hpr : pr_ w q (nu_ v b)) (H : post (nI v)) : wpY_readNumber post (yl, ys, yg, yo, yc, yK, yV, yA, yB, yT, yO, yF, yZ, yC, yS) (nI q) (nI b) := by
  obtain ⟨d1, d2, d3, d4, d5, d6, d7, d8, d9, d10⟩ := D
  have e := tk_e d8 d9
  have hin : ∀ j c, w[j]? = some c → j < w.length := fun j c h => (List.getElem?_eq_some_iff.mp h).1
  have stop : ∀ (d j : Nat) (x3 : Int32), w[j]? = some 95 → post (x3 + 1) → wY_readNumber_5 post (nI q) (nI b) yl ys yg yo yc yK yV yA yB yT yO yF yZ yC yS (d + 1) x3 (nI j) := by
    intro d j x3 hc h
    have hj := hin j 95 hc
    refine br_f (by rw [e.1]; exact nI_ge hj (by omega)) ⟨vp_in_nI (by omega) (by omega), br_t ?_ h⟩
    rw [nI_clamp (by omega), e.2 j 95 hc]; rfl
  have digit : ∀ (d j : Nat) (x3 : Int32) (m a : Nat), m < b → w[j]? = some (dg_ m) → q ≤ j → ((j ≤ q ∧ a = 0) ∨ (q < j ∧ x3 * nI b = nI a)) → wY_readNumber_5 post (nI q) (nI b) yl ys yg yo yc yK yV yA yB yT yO yF yZ yC yS (d + 1) (nI (a + m)) (nI (j + 1)) → wY_readNumber_5 post (nI q) (nI b) yl ys yg yo yc yK yV yA yB yT yO yF yZ yC yS (d + 1 + 1) x3 (nI j) := by
    intro d j x3 m a hm hc hqj ha h
    have hj := hin j _ hc
    have hdg : dg_ m = 48 + m ∧ m < 10 ∨ dg_ m = 55 + m ∧ 10 ≤ m := by
      unfold dg_
      by_cases z : m < 10
      · rw [if_pos z]; exact Or.inl ⟨rfl, z⟩
      · rw [if_neg z]; exact Or.inr ⟨rfl, by omega⟩
    have hvp : vp_in (nI j) 256 := vp_in_nI (by omega) (by omega)
    have hcl : (nI j).toNatClampNeg = j := nI_clamp (by omega)
    refine br_f (by rw [e.1]; exact nI_ge hj (by omega)) ⟨hvp, ?_⟩
    rw [hcl, e.2 j _ hc]
    refine pk_eq (dg_ m) 95 (fun z => by omega) (fun _ => ?_) (ha := by omega)
    have h39 : ∀ z0, z0 = nI a → wY_readNumber_39 post (wY_readNumber_5 post (nI q) (nI b) yl ys yg yo yc yK yV yA yB yT yO yF yZ yC yS (d + 1)) (nI q) (nI b) (nI j) z0 yl ys yg yo yc yK yV yA yB yT yO yF yZ yC yS := by
      intro z0 hz
      refine ⟨hvp, ?_⟩
      rw [hcl, e.2 j _ hc]
      refine pk_lt (dg_ m) 65 (fun z => ⟨hvp, nm_r (e' := nI (a + m)) ?_ (nm_r (nI_1 j) h)⟩) (fun z => ⟨hvp, nm_r (e' := nI (a + m)) ?_ (nm_r (nI_1 j) h)⟩) (ha := by omega)
      · rw [hz, show nI (dg_ m) - 48 = nI (dg_ m - 48) from pk_sub (b := 48) (by omega), nI_add, show dg_ m - 48 = m by omega]
      · rw [hz, show nI (dg_ m) - 55 = nI (dg_ m - 55) from pk_sub (b := 55) (by omega), nI_add, show dg_ m - 55 = m by omega]
    refine pk_le j q (fun z => h39 0 ?_) (fun z => h39 _ ?_) (hb := by omega)
    · rcases ha with y | y
      · rw [y.2]; rfl
      · omega
    · rcases ha with y | y
      · omega
      · exact y.2
  have hb0 : 0 < b ∧ b < 100 := by omega
  refine ⟨4, ?_⟩
  rcases nu_c (v := v) hb0.1 with rfl | ⟨m, hm, rfl⟩ | ⟨h, m, h0, hm, ev, eh⟩
  · exact stop 3 q (-1) (pr_hd hpr).1 H
  · rw [nu_1 hm] at hpr
    have h1 := pr_hd hpr
    refine digit 2 q (-1) m 0 hm h1.1 (Nat.le_refl _) (Or.inl ⟨Nat.le_refl _, rfl⟩) (stop 2 (q + 1) _ (pr_hd h1.2).1 ?_)
    rw [Nat.zero_add, nI_1]; exact H
  · have hh : h < b := by
      rw [eh]
      refine Nat.div_lt_of_lt_mul ?_
      rcases hb with z | z <;> subst z <;> omega
    rw [ev, nu_2 h0 hm] at hpr
    have h1 := pr_hd hpr
    have h2 := pr_hd h1.2
    have hbh : h * b < 2 ^ 20 := by
      have : h * b ≤ 36 * 36 := Nat.mul_le_mul (by omega) (by omega)
      omega
    refine digit 2 q (-1) h 0 hh h1.1 (Nat.le_refl _) (Or.inl ⟨Nat.le_refl _, rfl⟩) ?_
    rw [Nat.zero_add]
    refine digit 1 (q + 1) (nI h) m (h * b) hm h2.1 (by omega) (Or.inr ⟨by omega, pk_mul h b⟩) (stop 1 (q + 1 + 1) _ (pr_hd h2.2).1 ?_)
    rw [nI_1, ← ev]; exact H
/-- up to the underscore -/
theorem zr_sk {q d : Nat} {x1 : Int32} (D : yd_ K V N l w yl ys yg yo yc yK yV yA yB yT yO yF yZ yC yS) (hq : q + d < 2 ^ 20) (hno : ∀ j, j < d → q + j < w.length ∧ w[q + j]? ≠ some 95) (hd : w.length ≤ q + d ∨ w[q + d]? = some 95) (H : J x1 (nI (q + d + 1)) yl ys yg yo yc yK yV yA yB yT yO yF yZ yC yS) : ∃ n, wY_read_493 post J x1 yl ys yg yo yc yK yV yA yB yT yO yF yZ yC yS n (nI q) := by
  obtain ⟨d1, d2, d3, d4, d5, d6, d7, d8, d9, d10⟩ := D
  have e := tk_e d8 d9
  have key : ∀ (m j : Nat), j + m = d → wY_read_493 post J x1 yl ys yg yo yc yK yV yA yB yT yO yF yZ yC yS (m + 1) (nI (q + j)) := by
    intro m
    induction m with
    | zero =>
      intro j hj
      have : j = d := by omega
      subst this
      by_cases hl : w.length ≤ q + j
      · exact br_t (by rw [e.1]; exact nI_le hl (by omega)) (nm_r (nI_1 _) H)
      · have hc := hd.resolve_left hl
        refine br_f (by rw [e.1]; exact nI_ge (by omega) (by omega)) ⟨vp_in_nI (by omega) (by omega), br_t ?_ (nm_r (nI_1 _) H)⟩
        rw [nI_clamp (by omega), e.2 _ 95 hc]; rfl
    | succ m ih =>
      intro j hj
      have h := hno j (by omega)
      have hc := List.getElem?_eq_getElem h.1
      have hcl := d10 _ (List.getElem_mem h.1)
      refine br_f (by rw [e.1]; exact nI_ge h.1 (by omega)) ⟨vp_in_nI (by omega) (by omega), ?_⟩
      rw [nI_clamp (by omega), e.2 _ _ hc]
      refine pk_eq (w[q + j]'h.1) 95 (fun z => absurd (by rw [hc, z]) h.2) (fun _ => nm_r (nI_1 _) (ih (j + 1) (by omega))) 
  exact ⟨d + 1, key d 0 (by omega)⟩
theorem zr_ska {q : Nat} {x1 : Int32} (D : yd_ K V N l w yl ys yg yo yc yK yV yA yB yT yO yF yZ yC yS) (hq : q + w.length < 2 ^ 19) (H : ∀ q', q < q' → q' ≤ q + w.length + 1 → J x1 (nI q') yl ys yg yo yc yK yV yA yB yT yO yF yZ yC yS) : ∃ n, wY_read_493 post J x1 yl ys yg yo yc yK yV yA yB yT yO yF yZ yC yS n (nI q) := by
  obtain ⟨d, hd, hl⟩ := pk_least (fun d => w.length ≤ q + d ∨ w[q + d]? = some 95) ⟨w.length, Or.inl (by omega)⟩
  have hdl : d ≤ w.length := by
    rcases Nat.lt_or_ge w.length d with z | z
    · exact absurd (Or.inl (by omega)) (hl w.length z)
    · exact z
  refine zr_sk D (d := d) (by omega) (fun j hj => ?_) hd (H (q + d + 1) (by omega) (by omega))
  have := hl j hj
  exact ⟨by rcases Nat.lt_or_ge (q + j) w.length with z | z; exact z; exact absurd (Or.inl z) this, fun z => this (Or.inr z)⟩
theorem zr_skb {q v b : Nat} {x1 : Int32} (hb : b = 36 ∨ b = 10) (D : yd_ K V N l w yl ys yg yo yc yK yV yA yB yT yO yF yZ yC yS) (hv : v ≤ 100) (hq : q < 2 ^ 19) (hpr : pr_ w q (nu_ v b)) (H : J x1 (nI (q + (nu_ v b).length)) yl ys yg yo yc yK yV yA yB yT yO yF yZ yC yS) : ∃ n, wY_read_493 post J x1 yl ys yg yo yc yK yV yA yB yT yO yF yZ yC yS n (nI q) := by
  have hdg : ∀ m, m < b → dg_ m ≠ 95 := fun m hm => (dv_dg hb hm).2
  have hb0 : 0 < b := by omega
  rcases nu_c (v := v) hb0 with rfl | ⟨m, hm, rfl⟩ | ⟨h, m, h0, hm, ev, eh⟩
  · exact zr_sk D (d := 0) (by omega) (fun j hj => by omega) (Or.inr (pr_hd hpr).1) H
  · rw [nu_1 hm] at hpr H
    have h1 := pr_hd hpr
    have h2 := pr_hd h1.2
    refine zr_sk D (d := 1) (by omega) (fun j hj => ?_) (Or.inr h2.1) H
    rw [show j = 0 by omega]
    refine ⟨(List.getElem?_eq_some_iff.mp h1.1).1, ?_⟩
    show w[q]? ≠ _
    rw [h1.1]; exact fun z => hdg m hm (Option.some.inj z)
  · have hh : h < b := by
      rw [eh]
      refine Nat.div_lt_of_lt_mul ?_
      rcases hb with z | z <;> subst z <;> omega
    rw [ev, nu_2 h0 hm] at hpr
    rw [ev, nu_2 h0 hm] at H
    have h1 := pr_hd hpr
    have h2 := pr_hd h1.2
    have h3 := pr_hd h2.2
    refine zr_sk D (d := 2) (by omega) (fun j hj => ?_) (Or.inr h3.1) H
    rcases (show j = 0 ∨ j = 1 by omega) with z | z
    · subst z
      refine ⟨(List.getElem?_eq_some_iff.mp h1.1).1, ?_⟩
      show w[q]? ≠ _
      rw [h1.1]; exact fun z => hdg h hh (Option.some.inj z)
    · subst z
      refine ⟨(List.getElem?_eq_some_iff.mp h2.1).1, ?_⟩
      rw [h2.1]; exact fun z => hdg m hm (Option.some.inj z)
/-- T -/
theorem zr_T {Q : Int32 → Prop} {x1 x2 x4 : Int32} (D : yd_ K V N l w yl ys yg yo yc yK yV yA yB yT yO yF yZ yC yS) (HN : ∀ P : Int32 → Prop, (∀ r, Q r → P r) → wpY_readNumber P (yl, ys, yg, yo, yc, yK, yV, yA, yB, yT, yO, yF, yZ, yC, yS) x2 (nI 10))
    (HR : ∀ r, Q r → (∀ v, r = nI v → vr_ 2 v → N < l → ¬ ft_ K N 2 v) → ∃ n, wY_read_493 post J x1 yl ys yg yo yc yK yV yA yB yT yO yF yZ yC yS n x2)
    (HA : ∀ r v, Q r → r = nI v → vr_ 2 v → ft_ K N 2 v → N < l → yd_ (un_ K N 2) (un_ V N v) (N + 1) l w yl (nI (N + 1)) yg yo yc (upd yK N (nI 2)) (upd yV N (nI v)) yA yB yT yO yF yZ yC yS → ∃ n, wY_read_493 post J x1 yl (nI (N + 1)) yg yo yc (upd yK N (nI 2)) (upd yV N (nI v)) yA yB yT yO yF yZ yC yS n x2) : wY_read_136 post J x1 x2 (nI 84) x4 (nI (bt_ 84)) yl ys yg yo yc yK yV yA yB yT yO yF yZ yC yS := by
  have hl : ∀ v, v < 8 → 84 ≠ lb_ v := fun v hv z => by have := lb_cs hv; omega
  refine zr_136 (by omega) (by omega) (by omega) (by omega) (by omega) (by omega) (by omega) (by omega) (zr_n (by omega) hl ?_)
  refine br_f (by decide) (br_f (by decide) (br_f (by decide) (br_t rfl (br_f (by decide) (HN _ (fun r hr => br_t rfl ?_))))))
  refine zr_add D (fun r' hno => HR r hr (fun v e hv hl => hno 2 v rfl e hv hl)) (fun k v e1 e2 hv hf hl D2 => ?_)
  have ek : k = 2 := (nI_eq (a := k) (b := 2) (by have := hv.1; omega) (by omega)).mp e1.symm
  subst ek
  exact HA r v hr e2 hv hf hl D2
/-- S -/
theorem zr_S {Q : Int32 → Prop} {x1 x2 x4 : Int32} (HN : ∀ P : Int32 → Prop, (∀ r, Q r → P r) → wpY_readNumber P (yl, ys, yg, yo, yc, yK, yV, yA, yB, yT, yO, yF, yZ, yC, yS) x2 (nI 36))
    (HC : ∀ r, Q r → wpY_copy (fun u => match u with | (yl1, ys1, yg1, yo1, yc1, yK1, yV1, yA1, yB1, yT1, yO1, yF1, yZ1, yC1, yS1) => ∃ n, wY_read_493 post J x1 yl1 ys1 yg1 yo1 yc1 yK1 yV1 yA1 yB1 yT1 yO1 yF1 yZ1 yC1 yS1 n x2) (yl, ys, yg, yo, yc, yK, yV, yA, yB, yT, yO, yF, yZ, yC, yS) r) : wY_read_136 post J x1 x2 (nI 83) x4 (nI (bt_ 83)) yl ys yg yo yc yK yV yA yB yT yO yF yZ yC yS := by
  have hl : ∀ v, v < 8 → 83 ≠ lb_ v := fun v hv z => by have := lb_cs hv; omega
  refine zr_136 (by omega) (by omega) (by omega) (by omega) (by omega) (by omega) (by omega) (by omega) (zr_n (by omega) hl ?_)
  exact br_f (by decide) (br_f (by decide) (br_t rfl (br_t rfl (HN _ (fun r hr => br_f (by decide) (HC r hr))))))
/-- digits -/
theorem zr_D {c q : Nat} {x1 x4 : Int32} (hc : c = 49 ∨ c = 50) (hq : q < 2 ^ 19) (D : yd_ K V N l w yl ys yg yo yc yK yV yA yB yT yO yF yZ yC yS) (kk : Nat) (hkk : (x4 = 2 ∧ kk = 1) ∨ (¬ x4 = 2 ∧ kk = 0))
    (HR : ∀ v7 : Int32, ((c = 49 ∧ ∀ a, w[q]? = some a → v7 = nI a - 97) ∨ (c = 50 ∧ ∀ a b, w[q]? = some a → w[q + 1]? = some b → v7 = ((26 + ((nI a - 97) * 26)) + nI b) - 97)) → (∀ v, v7 = nI v → vr_ kk v → N < l → ¬ ft_ K N kk v) → J x1 (nI (q + (c - 48))) yl ys yg yo yc yK yV yA yB yT yO yF yZ yC yS)
    (HA : ∀ (v7 : Int32) (v : Nat), ((c = 49 ∧ ∀ a, w[q]? = some a → v7 = nI a - 97) ∨ (c = 50 ∧ ∀ a b, w[q]? = some a → w[q + 1]? = some b → v7 = ((26 + ((nI a - 97) * 26)) + nI b) - 97)) → v7 = nI v → vr_ kk v → ft_ K N kk v → N < l → yd_ (un_ K N kk) (un_ V N v) (N + 1) l w yl (nI (N + 1)) yg yo yc (upd yK N (nI kk)) (upd yV N (nI v)) yA yB yT yO yF yZ yC yS → J x1 (nI (q + (c - 48))) yl (nI (N + 1)) yg yo yc (upd yK N (nI kk)) (upd yV N (nI v)) yA yB yT yO yF yZ yC yS) :
    wY_read_136 post J x1 (nI q) (nI c) x4 (nI (bt_ c)) yl ys yg yo yc yK yV yA yB yT yO yF yZ yC yS := by
  have D' := D
  obtain ⟨d1, d2, d3, d4, d5, d6, d7, d8, d9, d10⟩ := D
  have e := tk_e d8 d9
  have hl : ∀ v, v < 8 → c ≠ lb_ v := fun v hv z => by have := lb_cs hv; omega
  have hb0 : bt_ c = 0 := by rcases hc with h | h <;> rw [h] <;> decide
  have chr : ∀ (P : Int32 → Prop) (j : Nat), j < 2 ^ 20 → (∀ r, (∀ a, w[j]? = some a → r = nI a) → P r) → wpY_charAt P (yl, ys, yg, yo, yc, yK, yV, yA, yB, yT, yO, yF, yZ, yC, yS) (nI j) := by
    intro P j hj h
    refine br_f (nI_pos (by omega)) (pk_lt j w.length (fun z => ⟨vp_in_nI (by omega) (by omega), h _ (fun a ha => ?_)⟩) (fun z => h _ (fun a ha => ?_)) (hy := e.1))
    · rw [nI_clamp (by omega)]; exact e.2 j a ha
    · have := (List.getElem?_eq_some_iff.mp ha).1; omega
  have h413 : ∀ v7 : Int32, ((c = 49 ∧ ∀ a, w[q]? = some a → v7 = nI a - 97) ∨ (c = 50 ∧ ∀ a b, w[q]? = some a → w[q + 1]? = some b → v7 = ((26 + ((nI a - 97) * 26)) + nI b) - 97)) → wY_read_413 post J x1 (nI q) (nI c) x4 v7 yl ys yg yo yc yK yV yA yB yT yO yF yZ yC yS := by
    intro v7 h7
    have e2 : nI q + (nI c - 48) = nI (q + (c - 48)) := by rw [show nI c - 48 = nI (c - 48) from pk_sub (b := 48) (by omega), nI_add]
    have tail : ∀ (ys' : Int32) (yK' yV' : Nat → Int32), J x1 (nI (q + (c - 48))) yl ys' yg yo yc yK' yV' yA yB yT yO yF yZ yC yS → wY_read_438 post J x1 (nI (q + (c - 48))) (nI c) yl ys' yg yo yc yK' yV' yA yB yT yO yF yZ yC yS := by
      intro ys' yK' yV' h
      exact pk_eq c 83 (fun z => by omega) (fun _ => pk_eq c 84 (fun z => by omega) (fun _ => h))
    have h425 : ∀ z0, z0 = nI kk → wY_read_425 post J x1 (nI q) (nI c) v7 z0 yl ys yg yo yc yK yV yA yB yT yO yF yZ yC yS := by
      intro z0 hz
      subst hz
      have hk1 : kk ≤ 1 := by rcases hkk with y | y <;> omega
      refine zr_add D' (fun r hr => nm_r e2 (tail ys yK yV (HR v7 h7 (fun v e hv hlt => hr kk v rfl e hv hlt)))) (fun k v e1 e3 hv hf hlt D2 => nm_r e2 ?_)
      have ek : k = kk := (nI_eq (by have := hv.1; omega) (by omega)).mp e1.symm
      subst ek
      exact tail _ _ _ (HA v7 v h7 e3 hv hf hlt D2)
    rcases hkk with ⟨y1, y2⟩ | ⟨y1, y2⟩
    · exact br_t y1 (h425 1 (by rw [y2]; rfl))
    · exact br_f y1 (h425 0 (by rw [y2]; rfl))
  have h376 : wY_read_376 post J x1 (nI q) (nI c) x4 yl ys yg yo yc yK yV yA yB yT yO yF yZ yC yS := by
    refine chr _ q (by omega) (fun r hr => nm_e ?_)
    refine pk_eq c 50 (fun z => ?_) (fun z => h413 _ (Or.inl ⟨by omega, fun a ha => by rw [hr a ha]⟩))
    rw [nI_1]
    exact chr _ (q + 1) (by omega) (fun r2 hr2 => nm_e (h413 _ (Or.inr ⟨z, fun a b ha hb => by rw [hr a ha, hr2 b hb]⟩)))
  rw [hb0]
  refine zr_136 (by omega) (by omega) (by omega) (by omega) (by omega) (by omega) (by omega) (by omega) (zr_n (by omega) hl ?_)
  exact pk_eq c 49 (fun _ => h376) (fun _ => pk_eq c 50 (fun _ => h376) (fun _ => by omega))
/-- a copy, any number -/
theorem zr_cpa {p0 : Int32} (D : yd_ K V N l w yl ys yg yo yc yK yV yA yB yT yO yF yZ yC yS) (H : ∀ (K' V' : Nat → Nat) (N' : Nat) (ys' yc' : Int32) (yK' yV' yF' yZ' : Nat → Int32), yd_ K' V' N' l w yl ys' yg yo yc' yK' yV' yA yB yT yO yF' yZ' yC yS → post (yl, ys', yg, yo, yc', yK', yV', yA, yB, yT, yO, yF', yZ', yC, yS)) : wpY_copy post (yl, ys, yg, yo, yc, yK, yV, yA, yB, yT, yO, yF, yZ, yC, yS) p0 := by
  have D' := D
  obtain ⟨d1, d2, d3, d4, d5, d6, d7, d8, d9, d10⟩ := D
  unfold wpY_copy
  refine zy_build (yc := yc) d1 (by omega) d6 d7 (d2 N (Nat.le_refl _)) (fun yc' yF' yZ' ht => ?_)
  have hlen := tb_len d1 (i := N) (Nat.le_refl _)
  have D2 : yd_ K V N l w yl ys yg yo yc' yK yV yA yB yT yO yF' yZ' yC yS := D'
  have none_ : ∀ z0 : Int32, ∃ n, wY_copy_53 post z0 0 n 0 yl ys yg yo yc' yK yV yA yB yT yO yF' yZ' yC yS := fun z0 => ⟨1, br_t (by decide) (H K V N ys yc' yK yV yF' yZ' D2)⟩
  have h25 : p0 < 0 ∨ yc' ≤ p0 → wY_copy_25 post p0 yl ys yg yo yc' yK yV yA yB yT yO yF' yZ' yC yS := by
    intro h
    refine br_c (fun _ => none_ _) (fun q => ?_)
    exact br_t (h.resolve_left q) (none_ _)
  by_cases q1 : p0 < 0
  · exact br_t q1 (h25 (Or.inl q1))
  refine br_f q1 ?_
  by_cases q2 : yc' ≤ p0
  · exact br_t q2 (h25 (Or.inr q2))
  obtain ⟨m, hm31, em⟩ := nI_of q1
  subst em
  have hm : m < (tb_ K V N).length := by
    rcases Nat.lt_or_ge m (tb_ K V N).length with z | z
    · exact z
    · exact absurd (by rw [ht.1]; exact nI_le z (by omega)) q2
  obtain ⟨f, z, hfz⟩ : ∃ f z, (tb_ K V N)[m]? = some (f, z) := ⟨_, _, List.getElem?_eq_getElem hm⟩
  have hb : f + z ≤ N := tb_b (p := (f, z)) d1 (Nat.le_refl _) (List.mem_of_getElem? hfz)
  have hft := ht.2 _ _ hfz
  have hvm : vp_in (nI m) 64 := vp_in_nI (by omega) (by omega)
  have hcm : (nI m).toNatClampNeg = m := nI_clamp (by omega)
  refine br_f q2 ⟨hvm, br_f q1 (br_f q2 ⟨hvm, nm_r (e' := nI z) (by rw [hcm]; exact hft.2) ⟨z + 1, ?_⟩⟩)⟩
  rw [hcm, hft.1]
  have key : ∀ (d j : Nat) (K' V' : Nat → Nat) (N' : Nat) (ys' : Int32) (yK' yV' : Nat → Int32), j + d = z → N ≤ N' → yd_ K' V' N' l w yl ys' yg yo yc' yK' yV' yA yB yT yO yF' yZ' yC yS → wY_copy_53 post (nI f) (nI z) (d + 1) (nI j) yl ys' yg yo yc' yK' yV' yA yB yT yO yF' yZ' yC yS := by
    intro d
    induction d with
    | zero =>
      intro j K' V' N' ys' yK' yV' hj hN' D3
      exact br_t (nI_le (by omega) (by omega)) (H K' V' N' ys' yc' yK' yV' yF' yZ' D3)
    | succ d ih =>
      intro j K' V' N' ys' yK' yV' hj hN' D3
      have hv : vp_in (nI f + nI j) 64 := by rw [nI_add]; exact vp_in_nI (by omega) (by omega)
      refine br_f (nI_ge (by omega) (by omega)) ⟨hv, hv, ?_⟩
      refine zr_add D3 (fun r _ => nm_r (nI_1 j) (ih (j + 1) K' V' N' ys' yK' yV' (by omega) hN' D3)) (fun k v _ _ _ _ _ D4 => nm_r (nI_1 j) (ih (j + 1) _ _ (N' + 1) _ _ _ (by omega) (by omega) D4))
  exact key z 0 K V N ys yK yV (by omega) (Nat.le_refl _) D2
end
section
variable {yl ys yg yo yc : Int32} {yK yV yA yB yT yO yF yZ yC yS : Nat → Int32}
variable {K V : Nat → Nat} {N l : Nat} {w : List Nat} {i : Nat} {post : SY → Prop}
/-- a copy that the given nodes go on with -/
theorem zr_cpb {m f z : Nat} (hw : wf_ K V N) (hNl : N ≤ l) (D : yd_ (tr_ K i) V i l w yl ys yg yo yc yK yV yA yB yT yO yF yZ yC yS) (hT : (tb_ (tr_ K i) V i)[m]? = some (f, z)) (hiz : i + z ≤ N) (hfz : f + z ≤ i) (hsg : ∀ x, x < z → K (f + x) = K (i + x) ∧ V (f + x) = V (i + x))
    (H : ∀ (ys' yc' : Int32) (yK' yV' yF' yZ' : Nat → Int32), yd_ (tr_ K (i + z)) V (i + z) l w yl ys' yg yo yc' yK' yV' yA yB yT yO yF' yZ' yC yS → post (yl, ys', yg, yo, yc', yK', yV', yA, yB, yT, yO, yF', yZ', yC, yS)) : wpY_copy post (yl, ys, yg, yo, yc, yK, yV, yA, yB, yT, yO, yF, yZ, yC, yS) (nI m) := by
  have D' := D
  obtain ⟨d1, d2, d3, d4, d5, d6, d7, d8, d9, d10⟩ := D
  unfold wpY_copy
  refine zy_build (yc := yc) d1 (by omega) d6 d7 (d2 i (Nat.le_refl _)) (fun yc' yF' yZ' ht => ?_)
  have hlen := tb_len d1 (i := i) (Nat.le_refl _)
  have hm : m < (tb_ (tr_ K i) V i).length := (List.getElem?_eq_some_iff.mp hT).1
  have hft := ht.2 _ _ hT
  have hvm : vp_in (nI m) 64 := vp_in_nI (by omega) (by omega)
  have hcm : (nI m).toNatClampNeg = m := nI_clamp (by omega)
  have q1 : ¬ nI m < 0 := nI_pos (by omega)
  have q2 : ¬ yc' ≤ nI m := by rw [ht.1]; exact nI_ge hm (by omega)
  refine br_f q1 (br_f q2 ⟨hvm, br_f q1 (br_f q2 ⟨hvm, nm_r (e' := nI z) (by rw [hcm]; exact hft.2) ⟨z + 1, ?_⟩⟩)⟩)
  rw [hcm, hft.1]
  have key : ∀ (d j : Nat) (ys' : Int32) (yK' yV' : Nat → Int32), j + d = z → yd_ (tr_ K (i + j)) V (i + j) l w yl ys' yg yo yc' yK' yV' yA yB yT yO yF' yZ' yC yS → wY_copy_53 post (nI f) (nI z) (d + 1) (nI j) yl ys' yg yo yc' yK' yV' yA yB yT yO yF' yZ' yC yS := by
    intro d
    induction d with
    | zero =>
      intro j ys' yK' yV' hj D3
      have : j = z := by omega
      subst this
      exact br_t (nI_le (by omega) (by omega)) (H ys' yc' yK' yV' yF' yZ' D3)
    | succ d ih =>
      intro j ys' yK' yV' hj D3
      have hv : vp_in (nI f + nI j) 64 := by rw [nI_add]; exact vp_in_nI (by omega) (by omega)
      have hk := D3.2.2.2.2.2.2.1 (f + j) (by omega)
      have hs := hsg j (by omega)
      have hvr := (hw (i + j) (by omega)).1
      have hft2 : ft_ (tr_ K (i + j)) (i + j) (K (i + j)) (V (i + j)) := (gc_ft (b := i + j) tr_lt (Nat.le_refl _)).mpr (hw (i + j) (by omega)).2
      have hmk := mx_le (k := K (i + j))
      refine br_f (nI_ge (by omega) (by omega)) ⟨hv, hv, ?_⟩
      rw [nI_add, nI_clamp (by omega), hk.1, hk.2.1, tr_lt (f + j) (by omega), hs.1, hs.2]
      refine zr_add D3 (fun r hr => absurd hft2 (hr _ _ rfl rfl hvr (by omega))) (fun k v e1 e2 hv2 _ _ D4 => nm_r (nI_1 j) ?_)
      have ek : k = K (i + j) := (nI_eq (by have := hv2.1; omega) (by have := hvr.1; omega)).mp e1.symm
      subst ek
      have ev : v = V (i + j) := (nI_eq (by have := hv2.2.1; omega) (by have := hvr.2.1; omega)).mp e2.symm
      subst ev
      rw [tr_s, un_self] at D4
      exact ih (j + 1) _ _ _ (by omega) D4
  exact key z 0 ys yK yV (by omega) D'
end
end
section
/-! Y reads any text -/
theorem bt_0 {c : Nat} (h1 : c ≠ 75) (h2 : c ≠ 86) (h3 : c ≠ 114) : bt_ c = 0 := by unfold bt_; rw [if_neg h1, if_neg h2, if_neg h3]
section
variable {yl ys yg yo yc : Int32} {yK yV yA yB yT yO yF yZ yC yS : Nat → Int32}
variable {K V : Nat → Nat} {N l : Nat} {w : List Nat} {p : Nat}
variable {post : SY → Prop} {J : Int32 → Int32 → Int32 → Int32 → Int32 → Int32 → Int32 → (Nat → Int32) → (Nat → Int32) → (Nat → Int32) → (Nat → Int32) → (Nat → Int32) → (Nat → Int32) → (Nat → Int32) → (Nat → Int32) → (Nat → Int32) → (Nat → Int32) → Prop}
/-- I and F -/
theorem zr_IF {c dp : Nat} {x2 x4 x5 : Int32} (hc : c = 73 ∨ c = 70) (hdp : dp < 256) (H : wY_read_200 post J (nI (dp + 1)) x2 (nI c) x4 x5 yl ys yg yo yc yK yV yA yB yT yO yF yZ yC (upd yS dp 0)) : wY_read_136 post J (nI dp) x2 (nI c) x4 x5 yl ys yg yo yc yK yV yA yB yT yO yF yZ yC yS := by
  have h180 : wY_read_180 post J (nI dp) x2 (nI c) x4 x5 yl ys yg yo yc yK yV yA yB yT yO yF yZ yC yS := by
    refine pk_eq c 78 (fun z => by omega) (fun _ => ⟨vp_in_nI (by omega) (by omega), nm_r (e' := upd yS dp 0) (by rw [nI_clamp (by omega)]) (nm_r (nI_1 dp) H)⟩)
  exact pk_eq c 69 (fun z => by omega) (fun _ => pk_eq c 78 (fun z => by omega) (fun _ => pk_eq c 73 (fun _ => h180) (fun _ => pk_eq c 70 (fun _ => h180) (fun _ => by omega))))
/-- P, R, O -/
theorem zr_PRO {c : Nat} {x1 x2 x4 x5 : Int32} (hc : c = 80 ∨ c = 82 ∨ c = 79) (H : wY_read_200 post J x1 x2 (nI c) x4 x5 yl ys yg yo yc yK yV yA yB yT yO yF yZ yC yS) : wY_read_136 post J x1 x2 (nI c) x4 x5 yl ys yg yo yc yK yV yA yB yT yO yF yZ yC yS :=
  pk_eq c 69 (fun z => by omega) (fun _ => pk_eq c 78 (fun z => by omega) (fun _ => pk_eq c 73 (fun z => by omega) (fun _ => pk_eq c 70 (fun z => by omega) (fun _ => H))))
theorem zr_any {c dp : Nat} {sx : Int32} (D : yd_ K V N l w yl ys yg yo yc yK yV yA yB yT yO yF yZ yC yS) (hc : c < 2 ^ 20) (hdp : dp < 256) (hp : p < 300)
    (HJ : ∀ (K' V' : Nat → Nat) (N' dp' p' : Nat) (ys' yc' : Int32) (yK' yV' yF' yZ' yS' : Nat → Int32), p < p' → p' ≤ 1000 → dp' ≤ 256 → yd_ K' V' N' l w yl ys' yg yo yc' yK' yV' yA yB yT yO yF' yZ' yC yS' → J (nI dp') (nI p') yl ys' yg yo yc' yK' yV' yA yB yT yO yF' yZ' yC yS') :
    wY_read_136 post J (nI dp) (nI (p + 1)) (nI c) sx (nI (bt_ c)) yl ys yg yo yc yK yV yA yB yT yO yF yZ yC yS := by
  have hwl := D.2.2.2.2.2.2.2.2.1
  have J0 : ∀ (K' V' : Nat → Nat) (N' dp' : Nat) (ys' : Int32) (yK' yV' yS' : Nat → Int32), dp' ≤ 256 → yd_ K' V' N' l w yl ys' yg yo yc yK' yV' yA yB yT yO yF yZ yC yS' → J (nI dp') (nI (p + 1)) yl ys' yg yo yc yK' yV' yA yB yT yO yF yZ yC yS' :=
    fun K' V' N' dp' ys' yK' yV' yS' h1 h2 => HJ K' V' N' dp' (p + 1) ys' yc yK' yV' yF yZ yS' (by omega) (by omega) h1 h2
  by_cases h69 : c = 69
  · subst h69
    exact zr_E (by omega) D (fun _ => J0 K V N 0 ys yK yV yS (by omega) D) (fun _ _ => J0 K V N (dp - 1) ys yK yV yS (by omega) D) (fun _ _ _ => J0 K V N (dp - 1) ys yK yV yS (by omega) D) (fun _ _ _ _ D2 => J0 _ _ _ (dp - 1) _ _ _ yS (by omega) D2)
  by_cases h78 : c = 78
  · subst h78
    exact zr_N hdp (J0 K V N (dp + 1) ys yK yV _ (by omega) D)
  by_cases hif : c = 73 ∨ c = 70
  · refine zr_IF hif hdp ?_
    have : ∃ k, (k = 3 ∨ k = 5 ∨ k = 6 ∨ k = 7 ∨ k = 9) ∧ c = ol_ k := by
      rcases hif with e | e
      · exact ⟨3, by omega, e⟩
      · exact ⟨9, by omega, e⟩
    obtain ⟨k, hk⟩ := this
    exact zr_pl (N := N) (K := K) (V := V) (l := l) (w := w) hk D (fun _ => J0 K V N (dp + 1) ys yK yV _ (by omega) D) (fun _ _ D2 => J0 _ _ _ (dp + 1) _ _ _ _ (by omega) D2)
  by_cases hpro : c = 80 ∨ c = 82 ∨ c = 79
  · refine zr_PRO hpro ?_
    have : ∃ k, (k = 3 ∨ k = 5 ∨ k = 6 ∨ k = 7 ∨ k = 9) ∧ c = ol_ k := by
      rcases hpro with e | e | e
      · exact ⟨5, by omega, e⟩
      · exact ⟨6, by omega, e⟩
      · exact ⟨7, by omega, e⟩
    obtain ⟨k, hk⟩ := this
    exact zr_pl hk D (fun _ => J0 K V N dp ys yK yV yS (by omega) D) (fun _ _ D2 => J0 _ _ _ dp _ _ _ yS (by omega) D2)
  by_cases hdg : c = 49 ∨ c = 50
  · have hkk : ∃ kk, (sx = 2 ∧ kk = 1) ∨ (¬ sx = 2 ∧ kk = 0) := by
      by_cases z : sx = 2
      · exact ⟨1, Or.inl ⟨z, rfl⟩⟩
      · exact ⟨0, Or.inr ⟨z, rfl⟩⟩
    obtain ⟨kk, hkk⟩ := hkk
    exact zr_D hdg (by omega) D kk hkk (fun _ _ _ => HJ K V N dp _ ys yc yK yV yF yZ yS (by omega) (by omega) (by omega) D) (fun _ _ _ _ _ _ _ D2 => HJ _ _ _ dp _ _ yc _ _ yF yZ yS (by omega) (by omega) (by omega) D2)
  by_cases h84 : c = 84
  · subst h84
    refine zr_T (Q := fun _ => True) D (fun P hP => zr_na D (by omega) (fun r => hP r trivial)) (fun _ _ _ => ?_) (fun _ v _ _ _ _ _ D2 => ?_)
    · exact zr_ska D (by omega) (fun q' h1 h2 => HJ K V N dp q' ys yc yK yV yF yZ yS (by omega) (by omega) (by omega) D)
    · exact zr_ska D2 (by omega) (fun q' h1 h2 => HJ _ _ _ dp q' _ yc _ _ yF yZ yS (by omega) (by omega) (by omega) D2)
  by_cases h83 : c = 83
  · subst h83
    refine zr_S (Q := fun _ => True) (fun P hP => zr_na D (by omega) (fun r => hP r trivial)) (fun r _ => zr_cpa D ?_)
    intro K' V' N' ys' yc' yK' yV' yF' yZ' D2
    exact zr_ska D2 (by omega) (fun q' h1 h2 => HJ K' V' N' dp q' ys' yc' yK' yV' yF' yZ' yS (by omega) (by omega) (by omega) D2)
  have h136 : ∀ {x5 : Int32}, (∃ n, wY_read_272 post J (nI dp) (nI (p + 1)) (nI c) sx x5 n 0 yl ys yg yo yc yK yV yA yB yT yO yF yZ yC yS) → wY_read_136 post J (nI dp) (nI (p + 1)) (nI c) sx x5 yl ys yg yo yc yK yV yA yB yT yO yF yZ yC yS :=
    fun {x5} h => zr_136 hc h69 (fun z => hif (Or.inl z)) (fun z => hif (Or.inr z)) (fun z => hpro (Or.inl z)) (fun z => hpro (Or.inr (Or.inl z))) (fun z => hpro (Or.inr (Or.inr z))) h78 h
  by_cases hbit : c = 75 ∨ c = 86 ∨ c = 114
  · exact h136 (zr_b hbit D (fun _ _ D2 => J0 _ _ _ dp ys yK _ yS (by omega) D2) (fun _ _ => J0 K V N dp ys yK yV yS (by omega) D) (fun _ _ _ D2 => J0 _ _ _ dp _ _ _ yS (by omega) D2))
  rw [bt_0 (fun z => hbit (Or.inl z)) (fun z => hbit (Or.inr (Or.inl z))) (fun z => hbit (Or.inr (Or.inr z)))]
  by_cases hlet : ∃ u, u < 8 ∧ c = lb_ u
  · obtain ⟨u, hu, hcu⟩ := hlet
    exact h136 (zr_l hu hcu D (fun _ => J0 K V N dp ys yK yV yS (by omega) D) (fun _ _ D2 => J0 _ _ _ dp _ _ _ yS (by omega) D2))
  · exact h136 (zr_n hc (fun v hv z => hlet ⟨v, hv, z⟩) (zr_364 hc ⟨fun z => hdg (Or.inl z), fun z => hdg (Or.inr z), h83, h84⟩ (J0 K V N dp ys yK yV yS (by omega) D)))
/-- the end -/
theorem zr_524 (D : yd_ K V N l w yl ys yg yo yc yK yV yA yB yT yO yF yZ yC yS) (H0 : op_ K N = 0 → post (yl, ys, yg, yo, yc, yK, yV, yA, yB, yT, yO, yF, yZ, yC, yS)) (HR : op_ K N ≠ 0 → (N < l → ¬ ft_ K N 11 0) → post (yl, ys, yg, yo, yc, yK, yV, yA, yB, yT, yO, yF, yZ, yC, yS))
    (HA : op_ K N ≠ 0 → ft_ K N 11 0 → N < l → yd_ (un_ K N 11) (un_ V N 0) (N + 1) l w yl (nI (N + 1)) yg yo yc (upd yK N (nI 11)) (upd yV N (nI 0)) yA yB yT yO yF yZ yC yS → post (yl, nI (N + 1), yg, yo, yc, upd yK N (nI 11), upd yV N (nI 0), yA, yB, yT, yO, yF, yZ, yC, yS)) : wY_read_524 post yl ys yg yo yc yK yV yA yB yT yO yF yZ yC yS := by
  have D' := D
  obtain ⟨d1, d2, d3, d4, d5, d6, d7, d8, d9, d10⟩ := D
  have hop := op_le (K := K) (i := N)
  have inner : wpY_opener (fun r_2 => (((r_2 < 0 → (post (yl, ys, yg, yo, yc, yK, yV, yA, yB, yT, yO, yF, yZ, yC, yS))) ∧ (¬ r_2 < 0 → (wpY_add (fun r_19 u => match u with | (yl1, ys1, yg1, yo1, yc1, yK1, yV1, yA1, yB1, yT1, yO1, yF1, yZ1, yC1, yS1) => (post (yl1, ys1, yg1, yo1, yc1, yK1, yV1, yA1, yB1, yT1, yO1, yF1, yZ1, yC1, yS1))) (yl, ys, yg, yo, yc, yK, yV, yA, yB, yT, yO, yF, yZ, yC, yS) 11 0))))) (yl, ys, yg, yo, yc, yK, yV, yA, yB, yT, yO, yF, yZ, yC, yS) (nI N) := by
    have body : ∀ r : Int32, (op_ K N = 0 → r < 0) → (op_ K N ≠ 0 → ¬ r < 0) → ((r < 0 → (post (yl, ys, yg, yo, yc, yK, yV, yA, yB, yT, yO, yF, yZ, yC, yS))) ∧ (¬ r < 0 → (wpY_add (fun r_19 u => match u with | (yl1, ys1, yg1, yo1, yc1, yK1, yV1, yA1, yB1, yT1, yO1, yF1, yZ1, yC1, yS1) => (post (yl1, ys1, yg1, yo1, yc1, yK1, yV1, yA1, yB1, yT1, yO1, yF1, yZ1, yC1, yS1))) (yl, ys, yg, yo, yc, yK, yV, yA, yB, yT, yO, yF, yZ, yC, yS) 11 0))) := by
      intro r h1 h2
      by_cases qo : op_ K N = 0
      · exact br_t (h1 qo) (H0 qo)
      · refine br_f (h2 qo) (zr_add D' (fun r' hr => HR qo (fun hl => hr 11 0 rfl rfl ⟨by omega, Nat.zero_le _, fun z => absurd z (by decide)⟩ hl)) (fun k v e1 e2 hv hf hl D2 => ?_))
        have ek : k = 11 := (nI_eq (a := k) (b := 11) (by have := hv.1; omega) (by omega)).mp e1.symm
        subst ek
        have ev : v = 0 := Nat.le_zero.mp hv.2.1
        subst ev
        exact HA qo hf hl D2
    rcases Nat.eq_zero_or_pos N with z | z
    · subst z
      refine nm_e ⟨1, br_t (by decide) (body _ (fun _ => by decide) (fun h => ?_))⟩
      exact absurd (show op_ K 0 = 0 from rfl) h
    · refine zy_op (wf_0 d1 z) (by omega) d7 (Nat.le_refl _) (body _ (fun h => by rw [h]; decide) (fun h => ?_))
      rw [zI_p h]; exact nI_pos (by omega)
  have : wY_read_524 post yl ys yg yo yc yK yV yA yB yT yO yF yZ yC yS = wY_read_524 post yl (nI N) yg yo yc yK yV yA yB yT yO yF yZ yC yS := by rw [d6]
  unfold wY_read_524
  rw [show wpY_opener _ (yl, ys, yg, yo, yc, yK, yV, yA, yB, yT, yO, yF, yZ, yC, yS) ys = wpY_opener _ (yl, ys, yg, yo, yc, yK, yV, yA, yB, yT, yO, yF, yZ, yC, yS) (nI N) by rw [← d6]]
  exact inner
end
section
variable {yl ys yg yo yc : Int32} {yK yV yA yB yT yO yF yZ yC yS : Nat → Int32}
variable {l : Nat} {w : List Nat} {post : SY → Prop}
theorem zr_safe (H : ∀ (K' V' : Nat → Nat) (N' : Nat) (ys' yc' : Int32) (yK' yV' yF' yZ' yS' : Nat → Int32), yd_ K' V' N' l w yl ys' yg yo yc' yK' yV' yA yB yT yO yF' yZ' yC yS' → post (yl, ys', yg, yo, yc', yK', yV', yA, yB, yT, yO, yF', yZ', yC, yS')) :
    ∀ (m : Nat) (K V : Nat → Nat) (N dp p : Nat) (ys yc : Int32) (yK yV yF yZ yS : Nat → Int32), w.length ≤ p + m → p ≤ 1000 → dp ≤ 256 → yd_ K V N l w yl ys yg yo yc yK yV yA yB yT yO yF yZ yC yS → wY_read_9 post (m + 1) (nI dp) (nI p) yl ys yg yo yc yK yV yA yB yT yO yF yZ yC yS := by
  intro m
  induction m with
  | zero =>
    intro K V N dp p ys yc yK yV yF yZ yS hm hp hdp D
    exact zr_end D (by omega) (by omega) (zr_524 D (fun _ => H K V N ys yc yK yV yF yZ yS D) (fun _ _ => H K V N ys yc yK yV yF yZ yS D) (fun _ _ _ D2 => H _ _ _ _ yc _ _ yF yZ yS D2))
  | succ m ih =>
    intro K V N dp p ys yc yK yV yF yZ yS hm hp hdp D
    have h524 : wY_read_524 post yl ys yg yo yc yK yV yA yB yT yO yF yZ yC yS := zr_524 D (fun _ => H K V N ys yc yK yV yF yZ yS D) (fun _ _ => H K V N ys yc yK yV yF yZ yS D) (fun _ _ _ D2 => H _ _ _ _ yc _ _ yF yZ yS D2)
    by_cases hl : w.length ≤ p
    · exact zr_end D (by omega) hl h524
    · have hwl := D.2.2.2.2.2.2.2.2.1
      by_cases h256 : dp = 256
      · refine br_c (fun _ => h524) (fun _ => br_t (by rw [h256]; decide) h524)
      · have hc : w[p]? = some (w[p]'(by omega)) := List.getElem?_eq_getElem (by omega)
        have hcl := D.2.2.2.2.2.2.2.2.2 _ (List.getElem_mem (show p < w.length by omega))
        refine zr_go D hc (by omega) (fun sx _ _ => ?_)
        have any : ∀ (yS' : Nat → Int32), wY_read_100 post (wY_read_9 post (m + 1)) (nI dp) (nI (p + 1)) (nI (w[p]'(by omega))) sx (nI (bt_ (w[p]'(by omega)))) yl ys yg yo yc yK yV yA yB yT yO yF yZ yC yS' := by
          intro yS'
          refine zr_sig (K := K) (V := V) (N := N) (l := l) (w := w) D (by omega) hcl (fun _ => ?_) (fun _ _ _ _ _ _ D2 => ?_)
          · refine zr_any (K := K) (V := V) (N := N) (l := l) (w := w) D hcl (by omega) (by omega) ?_
            intro K2 V2 N2 dp2 p2 ys2 yc2 yK2 yV2 yF2 yZ2 yS2 h1 h2 h3 D3
            exact ih K2 V2 N2 dp2 p2 ys2 yc2 yK2 yV2 yF2 yZ2 yS2 (by omega) h2 h3 D3
          · refine zr_any D2 hcl (by omega) (by omega) ?_
            intro K2 V2 N2 dp2 p2 ys2 yc2 yK2 yV2 yF2 yZ2 yS2 h1 h2 h3 D3
            exact ih K2 V2 N2 dp2 p2 ys2 yc2 yK2 yV2 yF2 yZ2 yS2 (by omega) h2 h3 D3
        exact ⟨fun _ => any yS, fun _ => any _⟩
end
end
section
/-! Y reads the symbol of given nodes: the stack -/
def sj_ (K : Nat → Nat) (i : Nat) : List Nat := if K i = 1 ∨ K i = 3 then sk_ K i else sk_c K (sk_ K i)
theorem sj_13 {K : Nat → Nat} {i : Nat} (h : K i = 1 ∨ K i = 3) : sj_ K i = sk_ K i := if_pos h
theorem sj_n {K : Nat → Nat} {i : Nat} (h1 : K i ≠ 1) (h3 : K i ≠ 3) : sj_ K i = sk_c K (sk_ K i) := if_neg (by omega)
theorem sk_wa {K : Nat → Nat} {B : List Nat} : ∀ {A : List Nat}, (∀ a, a ∈ A → ka_w (K a) = true) → sk_w K (A ++ B) = sk_w K B := by
  intro A
  induction A with
  | nil => intro _; rfl
  | cons a A ih => intro h; rw [List.cons_append, sk_w_cons_t (h a (by simp))]; exact ih (fun x hx => h x (by simp [hx]))
/-- the stack after a component -/
theorem cmp_sk {K V : Nat → Nat} {N i z : Nat} (hw : wf_ K V N) (hz : 0 < z) (hiz : i + z ≤ N) (hpp : i ∈ pp_ K (i + z - 1)) :
    (ka_h (K i) = true → sk_ K (i + z) = i :: sk_c K (sk_ K i)) ∧ (ka_h (K i) = false → sk_c K (sk_ K (i + z)) = sk_w K (sk_c K (sk_ K i))) := by
  have hkf : K i ≠ 1 ∧ K i ≠ 3 ∧ K i ≠ 4 ∧ K i ≠ 11 := by
    cases q : ka_h (K i) with
    | true => rw [ka_hi] at q; omega
    | false => have := pp_nh hw (by omega) q hpp; omega
  have h1 : sk_ K (i + 1) = i :: sk_c K (sk_ K i) := sk_so hkf.1 hkf.2.1 hkf.2.2.1 hkf.2.2.2
  have hB : i ∉ sk_c K (sk_ K i) := fun q => by have := sk_lt ((sk_c_suf K _).subset q); omega
  have hBl : ∀ x, x ∈ sk_c K (sk_ K i) → x < i := fun x hx => sk_lt ((sk_c_suf K _).subset hx)
  have hid : ∀ l : List Nat, (∀ a, a ∈ l → i ≤ a) → l.map (ph_ i i) = l := by
    intro l
    induction l with
    | nil => intro _; rfl
    | cons a l ih =>
      intro h
      rw [List.map_cons, ih (fun x hx => h x (by simp [hx]))]
      have := h a (by simp)
      have : ph_ i i a = a := by unfold ph_; omega
      rw [this]
  have tr := tx_sk (K := K) (K' := K) (f := i) (i := i) (z := z) hB (fun _ _ => rfl) h1 h1
  have ez : i + z - 1 + 1 = i + z := by omega
  have hg := fun (j : Nat) (hj : j ≤ N) => gs_pw (si_all hw j hj).1
  -- the stack while the component is open
  have opn : ∀ m, 0 < m → m ≤ z → i ∈ sk_ K (i + m) → ∃ A, (∃ A1, A = A1 ++ [i]) ∧ (∀ a, a ∈ A → i ≤ a ∧ a < i + m) ∧ sk_ K (i + m) = A ++ sk_c K (sk_ K i) := by
    intro m h0 hm hin
    obtain ⟨A, a1, a2, a3, _⟩ := tr (m - 1) (by omega) (by rw [show m - 1 + 1 = m by omega]; exact hin)
    rw [show m - 1 + 1 = m by omega] at a2 a3
    exact ⟨A, a1, a2, a3⟩
  -- below a core all of A are wrappers
  have below : ∀ (c2 : Nat) (A' : List Nat), rw_ K i c2 → (∀ a, a ∈ A' → i ≤ a) → (∀ a, a ∈ A' → a < c2) → sk_w K (A' ++ sk_c K (sk_ K i)) = sk_w K (sk_c K (sk_ K i)) :=
    fun c2 A' hr h1 h2 => sk_wa (fun a ha => hr a (h1 a ha) (h2 a ha))
  constructor
  · intro hh
    have h2 := pp_h hw (by omega) hh hpp
    rw [ez] at h2
    obtain ⟨A, ⟨A1, a1⟩, a2, a3⟩ := opn z hz (Nat.le_refl _) (sk_hm h2.2.1)
    have hp := hg (i + z) hiz
    rw [a3] at h2 hp
    cases A with
    | nil => exact absurd a1 (by simp)
    | cons a A =>
      have : a = i := Option.some.inj h2.2.1
      subst this
      cases A with
      | nil => exact a3
      | cons b A =>
        have h3 := (List.pairwise_cons.mp hp).1 b (by simp)
        have := (a2 b (by simp)).1
        omega
  · intro hh
    rcases (pp_iff hw (by omega)).mp hpp with ⟨c2, b1, b2, b3, b4⟩ | ⟨b1, _⟩
    · rcases b3 with ⟨d1, d2⟩ | ⟨d1, d2, d3⟩ | ⟨d1, d2, d3, d4, d5⟩
      · -- BUILTIN
        have hic : i < c2 := by rcases b4 with y | y; exact y; omega
        have hin := pp_on hw (by omega) hpp (show i < i + (z - 1) by omega) (by omega)
        obtain ⟨A, ⟨A1, a1⟩, a2, a3⟩ := opn (z - 1) (by omega) (by omega) hin
        have hK4 : K (i + (z - 1)) = 4 := by rw [show i + (z - 1) = c2 by omega]; exact d1
        have hall : ∀ a, a ∈ A → ka_w (K a) = true := fun a ha => by have := a2 a ha; exact b2 a this.1 (by omega)
        have hsc : sk_c K (A ++ sk_c K (sk_ K i)) = A ++ sk_c K (sk_ K i) := by
          cases A with
          | nil => exact absurd a1 (by simp)
          | cons a A => exact sk_c_n (gs_xor (hall a (by simp))).1
        have e1 : sk_ K (i + z) = sk_w K (sk_c K (sk_ K i)) := by
          have := sk_s4 hK4
          rw [show i + (z - 1) + 1 = i + z by omega, a3, hsc, sk_wa hall] at this
          exact this
        rw [e1]
        cases es : sk_w K (sk_c K (sk_ K i)) with
        | nil => rfl
        | cons t r =>
          refine sk_c_n ?_
          cases ht : ka_h (K t) with
          | false => rfl
          | true =>
            have := en_hd hw hiz (by rw [e1]; exact es) ht
            rw [← ez] at this
            exact absurd this (en_n (by rw [d2, d1]; omega) (by rw [d2, d1]; omega))
      · -- FUNC
        obtain ⟨r, ec, hsf, ho, hff, hol⟩ := end_top hw (show i + z - 1 < N by omega) d2
        rw [d3] at ec hsf ho hff hol
        have hin := pp_on hw (by omega) hpp (show i < i + (z - 1) by omega) (by omega)
        obtain ⟨A, ⟨A1, a1⟩, a2, a3⟩ := opn (z - 1) (by omega) (by omega) hin
        rw [show i + z - 1 = i + (z - 1) by omega] at hsf ec
        rw [a3] at hsf
        obtain ⟨pre, hpre⟩ := hsf
        -- c2 :: r = A2 ++ L
        have hsp : ∃ A', r = A' ++ sk_c K (sk_ K i) ∧ ∀ a, a ∈ A' → a ∈ A := by
          have hlen : (sk_c K (sk_ K i)).length ≤ r.length := by
            apply Classical.byContradiction
            intro hlt
            have h1 : c2 :: r <:+ A ++ sk_c K (sk_ K i) := ⟨pre, hpre⟩
            have h2 : sk_c K (sk_ K i) <:+ A ++ sk_c K (sk_ K i) := List.suffix_append _ _
            have h3 : c2 :: r <:+ sk_c K (sk_ K i) := List.suffix_of_suffix_length_le h1 h2 (by rw [List.length_cons]; omega)
            have := hBl c2 (h3.subset (by simp))
            omega
          have h1 : r <:+ A ++ sk_c K (sk_ K i) := (List.suffix_cons c2 r).trans ⟨pre, hpre⟩
          have h2 : sk_c K (sk_ K i) <:+ r := List.suffix_of_suffix_length_le (List.suffix_append _ _) h1 hlen
          obtain ⟨A', e⟩ := h2
          refine ⟨A', e.symm, fun a ha => ?_⟩
          rw [← e] at h1
          obtain ⟨p2, e2⟩ := h1
          rw [← List.append_assoc] at e2
          have := List.append_cancel_right e2
          rw [← this]; simp [ha]
        obtain ⟨A', er, hA'⟩ := hsp
        have hp := hg (i + (z - 1)) (by omega)
        have hpc : ∀ a, a ∈ A' → a < c2 := by
          intro a ha
          rw [a3, ← hpre] at hp
          have := (List.pairwise_append.mp hp).2.1
          exact (List.pairwise_cons.mp this).1 a (by rw [er]; simp [ha])
        have e1 : sk_ K (i + z) = sk_w K (sk_c K (sk_ K i)) := by
          have := sk_s11 (K := K) (i := i + (z - 1)) (by rw [show i + (z - 1) = i + z - 1 by omega]; exact d2)
          rw [show i + (z - 1) + 1 = i + z by omega, ec] at this
          have e3 : sk_e K (c2 :: r) = sk_w K r := by show (if _ then _ else _) = _; rw [if_pos d1]
          rw [this, e3, er]
          exact below c2 A' b2 (fun a ha => (a2 a (hA' a ha)).1) hpc
        rw [e1]
        cases es : sk_w K (sk_c K (sk_ K i)) with
        | nil => rfl
        | cons t r' =>
          refine sk_c_n ?_
          cases ht : ka_h (K t) with
          | false => rfl
          | true =>
            have := en_hd hw hiz (by rw [e1]; exact es) ht
            rw [← ez, en_e d2, d3, d1] at this
            omega
      · -- a name
        rw [ez] at d2 d3
        obtain ⟨t, r, es, ht, _⟩ := en_top hw hiz d2
        have htc : t = c2 := by rw [es] at d3; exact Option.some.inj d3
        subst htc
        have hit : i < t := by
          rcases b4 with y | y
          · exact y
          · rw [y] at ht; exact absurd ht (by decide)
        have hin : i ∈ sk_ K (i + z) := by
          rw [es]
          refine List.mem_cons_of_mem _ ((sk_tp K r).subset ?_)
          exact (nr_run hw (i := i + z) hiz (by rw [es]; exact List.suffix_refl _) (Or.inl ht)).mpr ⟨by omega, b2⟩
        obtain ⟨A, ⟨A1, a1⟩, a2, a3⟩ := opn z hz (Nat.le_refl _) hin
        have hp := hg (i + z) hiz
        rw [a3] at hp
        rw [a3] at es
        cases A with
        | nil => exact absurd a1 (by simp)
        | cons a A =>
          have hat : a = t := (List.cons.inj es).1
          subst hat
          rw [a3, List.cons_append, sk_c_h ht]
          refine below a A b2 (fun x hx => (a2 x (by simp [hx])).1) (fun x hx => ?_)
          exact (List.pairwise_cons.mp hp).1 x (by simp [hx])
    · rw [hh] at b1; exact absurd b1 (by decide)
end
section
/-! Y reads the symbol of given nodes: Y's stack -/
def fl_ (K : Nat → Nat) (nf : Nat → Bool) (x : Nat) : Bool := (ka_h (K x) && nf x) || decide (K x = 3 ∨ K x = 9)
def yk_ (K : Nat → Nat) (nf : Nat → Bool) (i : Nat) : List Nat := (sj_ K i).filter (fl_ K nf)
def yn_ (K : Nat → Nat) (nf : Nat → Bool) (i : Nat) : List Nat := (sk_ K i).filter (fl_ K nf)
def yz_ (K : Nat → Nat) (yS : Nat → Int32) : List Nat → Prop
  | [] => True
  | x :: r => yS r.length = (if ka_h (K x) = true then 2 else 0) ∧ yz_ K yS r
section
variable {K V : Nat → Nat} {nf : Nat → Bool} {N i : Nat}
theorem fl_w {x : Nat} (h : ka_w (K x) = true) : fl_ K nf x = false := by
  unfold fl_
  rw [(gs_xor h).1, Bool.false_and, Bool.false_or]
  rw [ka_wi] at h
  exact decide_eq_false (by omega)
theorem fl_h {x : Nat} (h : ka_h (K x) = true) : fl_ K nf x = nf x := by
  unfold fl_
  rw [h, Bool.true_and]
  rw [ka_hi] at h
  rw [decide_eq_false (by omega), Bool.or_false]
theorem fl_f {x : Nat} (h : ka_f (K x) = true) : fl_ K nf x = decide (K x ≠ 10) := by
  unfold fl_
  rw [(gs_xof h).2, Bool.false_and, Bool.false_or]
  rw [ka_fi] at h
  by_cases z : K x = 10
  · rw [decide_eq_false (by omega), decide_eq_false (by omega)]
  · rw [decide_eq_true (by omega), decide_eq_true z]
theorem fl_sw : ∀ {l : List Nat}, (sk_w K l).filter (fl_ K nf) = l.filter (fl_ K nf) := by
  intro l
  induction l with
  | nil => rfl
  | cons a l ih =>
    cases h : ka_w (K a) with
    | true => rw [sk_w_cons_t h, ih, List.filter_cons_of_neg (by rw [fl_w h]; decide)]
    | false => rw [sk_w_cons_f h]
theorem yn_1 (h : K i = 1) : yn_ K nf (i + 1) = yk_ K nf i := by unfold yn_ yk_; rw [sk_s1 h, sj_13 (Or.inl h)]
theorem yn_3 (h : K i = 3) : yn_ K nf (i + 1) = i :: yk_ K nf i := by
  unfold yn_ yk_
  rw [sk_s3 h, sj_13 (Or.inr h), List.filter_cons_of_pos]
  unfold fl_; rw [decide_eq_true (Or.inl h), Bool.or_true]
theorem yn_4 (h : K i = 4) : yn_ K nf (i + 1) = yk_ K nf i := by unfold yn_ yk_; rw [sk_s4 h, sj_n (by omega) (by omega), fl_sw]
theorem yn_11 (hw : wf_ K V N) (hi : i < N) (h : K i = 11) : (K (op_ K i) = 10 → yn_ K nf (i + 1) = yk_ K nf i) ∧ (K (op_ K i) ≠ 10 → yk_ K nf i = op_ K i :: yn_ K nf (i + 1)) := by
  obtain ⟨r, ec, hsf, ho, hff, hol⟩ := end_top hw hi h
  have e1 : yn_ K nf (i + 1) = r.filter (fl_ K nf) := by
    unfold yn_
    rw [sk_s11 h, ec]
    show (if _ then _ else _ : List Nat).filter _ = _
    by_cases z : K (op_ K i) = 9
    · rw [if_pos z, fl_sw]
    · rw [if_neg z]
  have e2 : yk_ K nf i = (op_ K i :: r).filter (fl_ K nf) := by unfold yk_; rw [sj_n (by omega) (by omega), ec]
  constructor
  · intro z
    rw [e1, e2, List.filter_cons_of_neg (by rw [fl_f hff, decide_eq_false (by omega)]; decide)]
  · intro z
    rw [e1, e2, List.filter_cons_of_pos (by rw [fl_f hff, decide_eq_true z])]
theorem yn_o (h1 : K i ≠ 1) (h3 : K i ≠ 3) (h4 : K i ≠ 4) (h11 : K i ≠ 11) : yn_ K nf (i + 1) = (if fl_ K nf i = true then [i] else []) ++ yk_ K nf i := by
  unfold yn_ yk_
  rw [sk_so h1 h3 h4 h11, sj_n h1 h3]
  by_cases z : fl_ K nf i = true
  · rw [List.filter_cons_of_pos z, if_pos z]; rfl
  · rw [List.filter_cons_of_neg z, if_neg z]; rfl
/-- the E of a name -/
theorem yk_e (hw : wf_ K V N) (hi : i < N) : (ec_ K nf i = true → ∃ s, ka_h (K s) = true ∧ yn_ K nf (i + 1) = s :: yk_ K nf (i + 1)) ∧ (ec_ K nf i = false → yn_ K nf (i + 1) = yk_ K nf (i + 1)) := by
  by_cases h13 : K (i + 1) = 1 ∨ K (i + 1) = 3
  · have e : ec_ K nf i = false := by unfold ec_; rw [decide_eq_false (by omega), Bool.and_false, Bool.and_false]
    refine ⟨fun z => by rw [e] at z; exact absurd z (by decide), fun _ => ?_⟩
    unfold yn_ yk_; rw [sj_13 h13]
  · have hk : K (i + 1) ≠ 1 ∧ K (i + 1) ≠ 3 := by omega
    by_cases hen : en_ K (i + 1)
    · obtain ⟨s, r, es, hs, _⟩ := en_top hw (by omega) hen
      have e : ec_ K nf i = nf s := by
        unfold ec_; rw [eb_i.mpr hen, es, decide_eq_true hk, Bool.true_and, Bool.and_true]; rfl
      have e1 : yk_ K nf (i + 1) = r.filter (fl_ K nf) := by unfold yk_; rw [sj_n hk.1 hk.2, es, sk_c_h hs, fl_sw]
      have e2 : yn_ K nf (i + 1) = (s :: r).filter (fl_ K nf) := by unfold yn_; rw [es]
      rw [e]
      refine ⟨fun z => ⟨s, hs, ?_⟩, fun z => ?_⟩
      · rw [e1, e2, List.filter_cons_of_pos (by rw [fl_h hs]; exact z)]
      · rw [e1, e2, List.filter_cons_of_neg (by rw [fl_h hs, z]; decide)]
    · have e : ec_ K nf i = false := by unfold ec_; rw [eb_n.mpr hen, Bool.false_and]
      refine ⟨fun z => by rw [e] at z; exact absurd z (by decide), fun _ => ?_⟩
      unfold yn_ yk_
      rw [sj_n hk.1 hk.2]
      cases es : sk_ K (i + 1) with
      | nil => rfl
      | cons s r =>
        cases hs : ka_h (K s) with
        | false => rw [sk_c_n hs]
        | true => exact absurd (en_hd hw (by omega) es hs) hen
/-- after a reference -/
theorem yk_r {z : Nat} (hw : wf_ K V N) (hz : 0 < z) (hiz : i + z ≤ N) (hpp : i ∈ pp_ K (i + z - 1)) (hnf : nf i = true → ka_h (K i) = true ∧ (K (i + z) = 1 ∨ K (i + z) = 3)) (hnh : ka_h (K i) = false → K (i + z) ≠ 1 ∧ K (i + z) ≠ 3) :
    yk_ K nf (i + z) = (if nf i = true then [i] else []) ++ yk_ K nf i := by
  have hkf : K i ≠ 1 ∧ K i ≠ 3 := by
    cases q : ka_h (K i) with
    | true => rw [ka_hi] at q; omega
    | false => have := pp_nh hw (by omega) q hpp; omega
  have hc := cmp_sk hw hz hiz hpp
  unfold yk_
  rw [sj_n (i := i) hkf.1 hkf.2]
  cases hh : ka_h (K i) with
  | true =>
    have e := hc.1 hh
    by_cases u : nf i = true
    · rw [sj_13 (hnf u).2, e, if_pos u, List.filter_cons_of_pos (by rw [fl_h hh]; exact u)]; rfl
    · rw [if_neg u]
      by_cases h13 : K (i + z) = 1 ∨ K (i + z) = 3
      · rw [sj_13 h13, e, List.filter_cons_of_neg (by rw [fl_h hh]; exact u)]; rfl
      · rw [sj_n (by omega) (by omega), e, sk_c_h hh, fl_sw]; rfl
  | false =>
    have u : ¬ nf i = true := fun u => by have := (hnf u).1; rw [hh] at this; exact absurd this (by decide)
    have h2 := hnh hh
    rw [if_neg u, sj_n h2.1 h2.2, hc.2 hh, fl_sw]; rfl
end
end
section
/-! Y reads the symbol of given nodes: a character -/
theorem yz_u {K : Nat → Nat} {yS : Nat → Int32} {x : Int32} : ∀ {l : List Nat} {m : Nat}, l.length ≤ m → yz_ K yS l → yz_ K (upd yS m x) l := by
  intro l
  induction l with
  | nil => intro _ _ _; trivial
  | cons a l ih =>
    intro m hm h
    have hm' : l.length + 1 ≤ m := hm
    refine ⟨?_, ih (by omega) h.2⟩
    rw [pk_un (by omega)]; exact h.1
section
variable {yl ys yg yo yc : Int32} {yK yV yA yB yT yO yF yZ yC yS : Nat → Int32}
variable {K V : Nat → Nat} {N l : Nat} {w : List Nat} {p i j dp : Nat}
variable {post : SY → Prop}
theorem zt_ch {fuel c : Nat} (hw : wf_ K V N) (hNl : N ≤ l) (D : yd_ (tr_ K j) V j l w yl ys yg yo yc yK yV yA yB yT yO yF yZ yC yS) (hc : w[p]? = some c) (hdp : dp < 256) (hi : i ≤ N) (hj : j = i ∨ (j + 1 = i ∧ K j = 10 ∧ dp = 0 ∧ c ≠ 73)) (hno : j = i → dp = 0 → 0 < i → c ≠ 73 → op_ K i ≠ 0)
    (H : ∀ (sx ys' : Int32) (yK' yV' yS' : Nat → Int32), (dp = 0 → sx = 0 ∧ yS' = yS) → (0 < dp → sx = yS (dp - 1) ∧ ((¬ sx = 1 ∧ yS' = yS) ∨ (sx = 1 ∧ yS' = upd yS (dp - 1) 2))) → yd_ (tr_ K i) V i l w yl ys' yg yo yc yK' yV' yA yB yT yO yF yZ yC yS' → wY_read_136 post (wY_read_9 post fuel) (nI dp) (nI (p + 1)) (nI c) sx (nI (bt_ c)) yl ys' yg yo yc yK' yV' yA yB yT yO yF yZ yC yS') :
    wY_read_9 post (fuel + 1) (nI dp) (nI p) yl ys yg yo yc yK yV yA yB yT yO yF yZ yC yS := by
  have hcl : c < 2 ^ 20 := D.2.2.2.2.2.2.2.2.2 c (List.mem_of_getElem? hc)
  refine zr_go D hc hdp (fun sx h0 h1 => ?_)
  have go : ∀ yS' : Nat → Int32, ((¬ sx = 1 ∧ yS' = yS) ∨ (sx = 1 ∧ yS' = upd yS (dp - 1) 2)) → wY_read_100 post (wY_read_9 post fuel) (nI dp) (nI (p + 1)) (nI c) sx (nI (bt_ c)) yl ys yg yo yc yK yV yA yB yT yO yF yZ yC yS' := by
    intro yS' hS
    have g0 : dp = 0 → sx = 0 ∧ yS' = yS := by
      intro z
      refine ⟨h0 z, ?_⟩
      rcases hS with y | y
      · exact y.2
      · rw [h0 z] at y; exact absurd y.1 (by decide)
    have D2 : yd_ (tr_ K j) V j l w yl ys yg yo yc yK yV yA yB yT yO yF yZ yC yS' := D
    refine zr_sig D2 (by omega) hcl (fun hr => ?_) (fun e1 e2 e3 e4 e5 e6 D3 => ?_)
    · rcases hj with z | ⟨z1, z2, z3, z4⟩
      · subst z
        exact H sx ys yK yV yS' g0 (fun z => ⟨h1 z, hS⟩) D
      · exfalso
        have hjN : j < N := by omega
        have h0j : 0 < j := by
          rcases Nat.eq_zero_or_pos j with y | y
          · have := wf_0 hw (by omega); rw [y, this] at z2; exact absurd z2 (by decide)
          · exact y
        have hf := (hw j hjN).2
        have hV := (hw j hjN).1.2.1
        rw [z2] at hf hV
        have hV0 : V j = 0 := Nat.le_zero.mp hV
        rw [hV0] at hf
        have hop : op_ K j = 0 := by
          rcases ft_c hf h0j with y | y | y | y
          · omega
          · omega
          · exact y.2.1
          · omega
        exact hr ⟨z3, h0j, z4, by rw [gc_op (b := j) tr_lt (Nat.le_refl _)]; exact hop⟩ (by omega) ((gc_ft (b := j) tr_lt (Nat.le_refl _)).mpr hf)
    · rcases hj with z | ⟨z1, z2, z3, z4⟩
      · exfalso
        subst z
        rw [gc_op (b := j) tr_lt (Nat.le_refl _)] at e4
        exact hno rfl e1 e2 e3 e4
      · have hV0 : V j = 0 := by have := (hw j (by omega)).1.2.1; rw [z2] at this; exact Nat.le_zero.mp this
        have ek : un_ (tr_ K j) j 10 = tr_ K (j + 1) := by rw [← z2]; exact tr_s
        have ev : un_ V j 0 = V := by rw [← hV0]; exact un_self
        rw [ek, ev, z1] at D3
        rw [z1]
        exact H sx _ _ _ yS' g0 (fun z => ⟨h1 z, hS⟩) D3
  exact ⟨fun z => go yS (Or.inl ⟨z, rfl⟩), fun z => go _ (Or.inr ⟨z, rfl⟩)⟩
end
end
section
/-! Y reads the symbol of given nodes: a node -/
def gg_ (K V : Nat → Nat) (N i : Nat) : List Nat := go_ K V (fun s => kl_ K V s N) (kt_ K V N) (nf_ K V N) i
theorem gg_s {K V : Nat → Nat} {N i : Nat} (hv : gn_ (fun s => kl_ K V s N) i = i) : gg_ K V N (i + 1) = gg_ K V N i ++ gv_ K V (fun s => kl_ K V s N) (kt_ K V N) (nf_ K V N) i := by
  show (if _ then _ else _) = _; rw [if_pos hv]; rfl
theorem gg_pr {K V : Nat → Nat} {N i : Nat} {w : List Nat} (hwm : w = mg_ K V N) (hi : i < N) (hv : gn_ (fun s => kl_ K V s N) i = i) : pr_ w (gg_ K V N i).length (gv_ K V (fun s => kl_ K V s N) (kt_ K V N) (nf_ K V N) i) := by
  refine pr_of ?_
  rw [← gg_s hv, hwm]
  exact go_pre (by omega)
theorem gg_le {K V : Nat → Nat} {N i : Nat} {w : List Nat} (hwm : w = mg_ K V N) (hi : i ≤ N) : (gg_ K V N i).length ≤ w.length := by
  rw [hwm]; exact (go_pre hi).length_le
theorem yk_len {K V : Nat → Nat} {N i : Nat} {nf : Nat → Bool} (hw : wf_ K V N) (hi : i ≤ N) : (yk_ K nf i).length ≤ i ∧ (yn_ K nf i).length ≤ i := by
  have h1 := sk_len hw (i := i) hi (List.suffix_refl _)
  constructor
  · refine Nat.le_trans (List.length_filter_le _ _) ?_
    unfold sj_
    split
    · exact h1
    · exact Nat.le_trans (sk_c_suf K _).length_le h1
  · exact Nat.le_trans (List.length_filter_le _ _) h1
section
variable {yl ys yg yo yc : Int32} {yK yV yA yB yT yO yF yZ yC yS : Nat → Int32}
variable {K V : Nat → Nat} {N l : Nat} {w : List Nat} {i : Nat}
variable {post : SY → Prop}
/-- the E of a name -/
theorem zt_E {fuel q : Nat} (hw : wf_ K V N) (hNl : N ≤ l) (hl : l ≤ 48) (hi : i < N) (D : yd_ (tr_ K (i + 1)) V (i + 1) l w yl ys yg yo yc yK yV yA yB yT yO yF yZ yC yS) (hz : yz_ K yS (yn_ K (nf_ K V N) (i + 1)))
    (hpr : pr_ w q (if ec_ K (nf_ K V N) i = true then [69] else [])) (hfu : w.length + 1 ≤ q + fuel)
    (HN : ∀ (fuel' : Nat), w.length + 1 ≤ q + (if ec_ K (nf_ K V N) i = true then [69] else []).length + fuel' → yz_ K yS (yk_ K (nf_ K V N) (i + 1)) → ∀ (ys' : Int32) (yK' yV' : Nat → Int32), yd_ (tr_ K (i + 1)) V (i + 1) l w yl ys' yg yo yc yK' yV' yA yB yT yO yF yZ yC yS → wY_read_9 post fuel' (nI (yk_ K (nf_ K V N) (i + 1)).length) (nI (q + (if ec_ K (nf_ K V N) i = true then [69] else []).length)) yl ys' yg yo yc yK' yV' yA yB yT yO yF yZ yC yS) :
    wY_read_9 post fuel (nI (yn_ K (nf_ K V N) (i + 1)).length) (nI q) yl ys yg yo yc yK yV yA yB yT yO yF yZ yC yS := by
  have hlen := yk_len (nf := nf_ K V N) (i := i + 1) hw (by omega)
  cases hec : ec_ K (nf_ K V N) i with
  | false =>
    have e := (yk_e (nf := nf_ K V N) hw hi).2 hec
    have := HN fuel
    rw [hec, if_neg (by decide)] at this
    rw [e] at hz ⊢
    exact this (by simpa using hfu) hz ys yK yV D
  | true =>
    rw [hec, if_pos rfl] at HN hpr
    obtain ⟨s, hs, e⟩ := (yk_e (nf := nf_ K V N) hw hi).1 hec
    rw [e] at hz hlen ⊢
    have hc := (pr_hd hpr).1
    have hql : q < w.length := (List.getElem?_eq_some_iff.mp hc).1
    obtain ⟨f, rfl⟩ : ∃ f, fuel = f + 1 := ⟨fuel - 1, by omega⟩
    rw [List.length_cons] at hlen ⊢
    refine zt_ch (i := i + 1) (j := i + 1) hw hNl D hc (by omega) (by omega) (Or.inl rfl) (fun _ z => by omega) ?_
    intro sx ys' yK' yV' yS' h0 h1 D2
    obtain ⟨g1, g2⟩ := h1 (by omega)
    have hsx : sx = 2 := by
      rw [g1, Nat.add_sub_cancel, hz.1, if_pos hs]
    have hS : yS' = yS := by
      rcases g2 with y | y
      · exact y.2
      · rw [hsx] at y; exact absurd y.1 (by decide)
    subst hS
    have fin : ∀ d, d = (yk_ K (nf_ K V N) (i + 1)).length → wY_read_9 post f (nI d) (nI (q + 1)) yl ys' yg yo yc yK' yV' yA yB yT yO yF yZ yC yS' := by
      intro d hd
      rw [hd]
      exact HN f (by show w.length + 1 ≤ q + 1 + f; omega) hz.2 ys' yK' yV' D2
    refine zr_E (by omega) D2 (fun z => by omega) (fun _ _ => fin _ (by omega)) (fun _ z => ?_) (fun _ z => ?_)
    · rw [hsx] at z; exact absurd z (by decide)
    · rw [hsx] at z; exact absurd z (by decide)
end
end
section
/-! Y reads the symbol of given nodes: pieces -/
theorem yk_sig {K V : Nat → Nat} {N j : Nat} {nf : Nat → Bool} (hw : wf_ K V N) (hj : j < N) (h : K j = 10) : yk_ K nf (j + 1) = [] ∧ 0 < j ∧ op_ K j = 0 ∧ ¬ en_ K (j + 1) := by
  have h0j : 0 < j := by
    rcases Nat.eq_zero_or_pos j with y | y
    · have := wf_0 hw (by omega); rw [y, this] at h; exact absurd h (by decide)
    · exact y
  have hft : op_ K j = 0 ∧ en_ K j := by
    rcases ft_c (hw j hj).2 h0j with y | y | y | y
    · omega
    · omega
    · exact y.2
    · omega
  have hne : ¬ en_ K (j + 1) := en_n (by omega) (by omega)
  refine ⟨?_, h0j, hft.1, hne⟩
  have hec : ec_ K nf j = false := by unfold ec_; rw [eb_n.mpr hne, Bool.false_and]
  rw [← (yk_e (nf := nf) hw hj).2 hec, yn_o (by omega) (by omega) (by omega) (by omega)]
  have hfl : fl_ K nf j = false := by rw [fl_f (by rw [h]; rfl), decide_eq_false (by omega)]
  rw [hfl, if_neg (by decide), List.nil_append]
  unfold yk_
  rw [sj_n (by omega) (by omega)]
  obtain ⟨s, r, es, hs, _⟩ := en_top hw (by omega) hft.2
  rcases en_op hw (by omega) es hs with ⟨q1, _, _⟩ | ⟨_, q2, _⟩
  · rw [es, sk_c_h hs, q1]; rfl
  · exact absurd hft.1 q2
section
variable {yl ys yg yo yc : Int32} {yK yV yA yB yT yO yF yZ yC yS : Nat → Int32}
variable {K V : Nat → Nat} {N l : Nat} {w : List Nat} {i j p : Nat}
variable {post : SY → Prop}
/-- one character that adds the node -/
theorem zt_one {fuel c : Nat} (hw : wf_ K V N) (hNl : N ≤ l) (hl : l ≤ 48) (hi : i < N) (D : yd_ (tr_ K j) V j l w yl ys yg yo yc yK yV yA yB yT yO yF yZ yC yS) (hj : j = i ∨ (j + 1 = i ∧ K j = 10)) (hz : yz_ K yS (yk_ K (nf_ K V N) i))
    (hc : w[p]? = some c) (hfu : w.length + 1 ≤ p + fuel) (hop : (0 < i → op_ K i ≠ 0) ∨ c = 73 ∨ yk_ K (nf_ K V N) i ≠ []) (hc73 : j + 1 = i → c ≠ 73)
    (H : ∀ (f : Nat) (sx ys' : Int32) (yK' yV' : Nat → Int32), fuel = f + 1 → (yk_ K (nf_ K V N) i = [] → sx = 0) → (∀ x r, yk_ K (nf_ K V N) i = x :: r → sx = if ka_h (K x) = true then 2 else 0) → yd_ (tr_ K i) V i l w yl ys' yg yo yc yK' yV' yA yB yT yO yF yZ yC yS →
      wY_read_136 post (wY_read_9 post f) (nI (yk_ K (nf_ K V N) i).length) (nI (p + 1)) (nI c) sx (nI (bt_ c)) yl ys' yg yo yc yK' yV' yA yB yT yO yF yZ yC yS) :
    wY_read_9 post fuel (nI (yk_ K (nf_ K V N) i).length) (nI p) yl ys yg yo yc yK yV yA yB yT yO yF yZ yC yS := by
  have hlen := yk_len (nf := nf_ K V N) (i := i) hw (by omega)
  have hql : p < w.length := (List.getElem?_eq_some_iff.mp hc).1
  obtain ⟨f, rfl⟩ : ∃ f, fuel = f + 1 := ⟨fuel - 1, by omega⟩
  refine zt_ch (i := i) (j := j) hw hNl D hc (by omega) (by omega) ?_ ?_ ?_
  · rcases hj with z | ⟨z1, z2⟩
    · exact Or.inl z
    · refine Or.inr ⟨z1, z2, ?_, hc73 z1⟩
      rw [← z1, (yk_sig (nf := nf_ K V N) hw (by omega) z2).1]; rfl
  · intro _ hd h0 h73
    rcases hop with z | z | z
    · exact z h0
    · exact absurd z h73
    · exact absurd (List.length_eq_zero_iff.mp hd) z
  · intro sx ys' yK' yV' yS' h0 h1 D2
    have key : yS' = yS ∧ (yk_ K (nf_ K V N) i = [] → sx = 0) ∧ (∀ x r, yk_ K (nf_ K V N) i = x :: r → sx = if ka_h (K x) = true then 2 else 0) := by
      cases es : yk_ K (nf_ K V N) i with
      | nil =>
        rw [es] at h0
        exact ⟨(h0 rfl).2, fun _ => (h0 rfl).1, fun x r z => absurd z (by simp)⟩
      | cons x r =>
        rw [es] at h1 hz
        obtain ⟨g1, g2⟩ := h1 (by simp)
        have hsx : sx = if ka_h (K x) = true then 2 else 0 := by rw [g1, List.length_cons, Nat.add_sub_cancel]; exact hz.1
        refine ⟨?_, fun z => absurd z (by simp), fun x' r' z => ?_⟩
        · rcases g2 with y | y
          · exact y.2
          · rw [hsx] at y
            exfalso
            have := y.1
            by_cases u : ka_h (K x) = true
            · rw [if_pos u] at this; exact absurd this (by decide)
            · rw [if_neg u] at this; exact absurd this (by decide)
        · rw [← (List.cons.inj z).1]; exact hsx
    obtain ⟨k1, k2, k3⟩ := key
    subst k1
    exact H f sx ys' yK' yV' rfl k2 k3 D2
end
end
section
/-! Y reads the symbol of given nodes: pieces by kind -/
section
variable {yl ys yg yo yc : Int32} {yK yV yA yB yT yO yF yZ yC yS : Nat → Int32}
variable {K V : Nat → Nat} {N l : Nat} {w : List Nat} {i j p : Nat}
variable {post : SY → Prop}
theorem zt_ft (hw : wf_ K V N) (hi : i < N) : ft_ (tr_ K i) i (K i) (V i) := (gc_ft (b := i) tr_lt (Nat.le_refl _)).mpr (hw i hi).2
/-- BUILTIN, POINTER, LREF, RREF, FUNC, ARGS -/
theorem zt_pl {fuel : Nat} (hw : wf_ K V N) (hNl : N ≤ l) (hl : l ≤ 48) (hi : i < N) (D : yd_ (tr_ K j) V j l w yl ys yg yo yc yK yV yA yB yT yO yF yZ yC yS) (hj : j = i ∨ (j + 1 = i ∧ K j = 10)) (hz : yz_ K yS (yk_ K (nf_ K V N) i))
    (hpr : pr_ w p (pe_ K V i)) (hfu : w.length + 1 ≤ p + fuel) (hk : K i = 3 ∨ K i = 4 ∨ K i = 5 ∨ K i = 6 ∨ K i = 7 ∨ K i = 9)
    (AF : ∀ (f : Nat) (ys' : Int32) (yK' yV' yS' : Nat → Int32), w.length + 1 ≤ p + (pe_ K V i).length + f → yd_ (tr_ K (i + 1)) V (i + 1) l w yl ys' yg yo yc yK' yV' yA yB yT yO yF yZ yC yS' → yz_ K yS' (yn_ K (nf_ K V N) (i + 1)) → wY_read_9 post f (nI (yn_ K (nf_ K V N) (i + 1)).length) (nI (p + (pe_ K V i).length)) yl ys' yg yo yc yK' yV' yA yB yT yO yF yZ yC yS') :
    wY_read_9 post fuel (nI (yk_ K (nf_ K V N) i).length) (nI p) yl ys yg yo yc yK yV yA yB yT yO yF yZ yC yS := by
  have hlen := yk_len (nf := nf_ K V N) (i := i) hw (by omega)
  have hV := (hw i hi).1.2.1
  have hft := zt_ft hw hi
  have hip : 0 < i := by
    rcases Nat.eq_zero_or_pos i with z | z
    · have := wf_0 hw (by omega); rw [z, this] at hk; omega
    · exact z
  have hop : (0 < i → op_ K i ≠ 0) ∨ K i = 3 := by
    rcases ft_c (hw i hi).2 hip with u | u | u | u
    · omega
    · exact Or.inr u.1
    · omega
    · exact Or.inl (fun _ => u.2.2.2.1)
  by_cases h4 : K i = 4
  · have hpe : pe_ K V i = [lb_ (V i)] := by unfold pe_; rw [if_neg (by omega), if_neg (by omega), if_neg (by omega), if_neg (by omega), if_neg (by omega), if_pos h4]
    have hV8 : V i < 8 := by rw [h4] at hV; exact Nat.lt_succ_of_le hV
    rw [hpe] at hpr AF
    have hlb := lb_cs hV8
    refine zt_one hw hNl hl hi D hj hz (pr_hd hpr).1 hfu (by rcases hop with z | z; exact Or.inl z; omega) (fun _ => by omega) ?_
    intro f sx ys' yK' yV' ef _ _ D2
    rw [bt_0 (by omega) (by omega) (by omega)]
    refine zr_136 (by omega) (by omega) (by omega) (by omega) (by omega) (by omega) (by omega) (by omega) (zr_l hV8 rfl D2 (fun hr => ?_) (fun _ _ D3 => ?_))
    · rw [h4] at hft; exact absurd hft (hr (by omega))
    · have e1 : un_ (tr_ K i) i 4 = tr_ K (i + 1) := by rw [← h4]; exact tr_s
      rw [e1, un_self] at D3
      have := AF f _ _ _ yS (by show w.length + 1 ≤ p + 1 + f; omega) D3 (by rw [yn_4 h4]; exact hz)
      rw [yn_4 h4] at this
      exact this
  · have hk5 : (K i = 3 ∨ K i = 5 ∨ K i = 6 ∨ K i = 7 ∨ K i = 9) := by omega
    have hpe : pe_ K V i = [ol_ (K i)] := by unfold pe_; rw [if_neg (by omega), if_neg (by omega), if_neg (by omega), if_neg (by omega), if_neg (by omega), if_neg h4]
    have hV0 : V i = 0 := by
      have : mx_ (K i) = 0 := by unfold mx_; rw [if_neg (by omega), if_neg (by omega), if_neg (by omega)]
      omega
    rw [hpe] at hpr AF
    rw [hV0] at hft
    have hcc : (K i = 3 ∧ ol_ (K i) = 73) ∨ (K i = 5 ∧ ol_ (K i) = 80) ∨ (K i = 6 ∧ ol_ (K i) = 82) ∨ (K i = 7 ∧ ol_ (K i) = 79) ∨ (K i = 9 ∧ ol_ (K i) = 70) := by
      rcases hk5 with h | h | h | h | h <;> rw [h] <;> decide
    refine zt_one hw hNl hl hi D hj hz (pr_hd hpr).1 hfu (by rcases hop with z | z; exact Or.inl z; exact Or.inr (Or.inl (by omega))) (fun z => ?_) ?_
    · rcases hj with y | y
      · omega
      · have hs := yk_sig (nf := nf_ K V N) hw (j := j) (by omega) y.2
        intro h73
        have h3 : K i = 3 := by omega
        rcases ft_c (hw i hi).2 hip with u | u | u | u
        · omega
        · rw [z] at hs; exact hs.2.2.2 u.2.1
        · omega
        · omega
    intro f sx ys' yK' yV' ef _ _ D2
    have ev : ∀ D : Nat → Nat, un_ V i 0 = V := fun _ => by rw [← hV0]; exact un_self
    have acc : ∀ (x1 : Int32) (yS' : Nat → Int32), x1 = nI (yn_ K (nf_ K V N) (i + 1)).length → yz_ K yS' (yn_ K (nf_ K V N) (i + 1)) → wY_read_200 post (wY_read_9 post f) x1 (nI (p + 1)) (nI (ol_ (K i))) sx (nI (bt_ (ol_ (K i)))) yl ys' yg yo yc yK' yV' yA yB yT yO yF yZ yC yS' := by
      intro x1 yS' hx1 hz'
      have D2' : yd_ (tr_ K i) V i l w yl ys' yg yo yc yK' yV' yA yB yT yO yF yZ yC yS' := D2
      refine zr_pl ⟨hk5, rfl⟩ D2' (fun hr => absurd hft (hr (by omega))) (fun _ _ D3 => ?_)
      rw [tr_s, ev V] at D3
      rw [hx1]
      exact AF f _ _ _ yS' (by show w.length + 1 ≤ p + 1 + f; omega) D3 hz'
    by_cases h39 : K i = 3 ∨ K i = 9
    · have eyn : yn_ K (nf_ K V N) (i + 1) = i :: yk_ K (nf_ K V N) i := by
        rcases h39 with h | h
        · exact yn_3 h
        · rw [yn_o (by omega) (by omega) (by omega) (by omega), fl_f (by rw [h]; rfl), decide_eq_true (by omega)]; rfl
      have hnh : ka_h (K i) = false := by rw [ka_hn]; omega
      refine zr_IF (by omega) (by omega) (acc _ _ (by rw [eyn]; rfl) ?_)
      rw [eyn]
      refine ⟨?_, yz_u (Nat.le_refl _) hz⟩
      rw [pk_us, hnh]; rfl
    · have eyn : yn_ K (nf_ K V N) (i + 1) = yk_ K (nf_ K V N) i := by
        rw [yn_o (by omega) (by omega) (by omega) (by omega), fl_w (by rw [ka_wi]; omega)]; rfl
      exact zr_PRO (by omega) (acc _ yS (by rw [eyn]) (by rw [eyn]; exact hz))
end
end
section
/-! Y reads the symbol of given nodes: identifiers -/
section
variable {yl ys yg yo yc : Int32} {yK yV yA yB yT yO yF yZ yC yS : Nat → Int32}
variable {K V : Nat → Nat} {N l : Nat} {w : List Nat} {i p : Nat}
variable {post : SY → Prop} {J : Int32 → Int32 → Int32 → Int32 → Int32 → Int32 → Int32 → (Nat → Int32) → (Nat → Int32) → (Nat → Int32) → (Nat → Int32) → (Nat → Int32) → (Nat → Int32) → (Nat → Int32) → (Nat → Int32) → (Nat → Int32) → (Nat → Int32) → Prop}
theorem zt_id {c kk : Nat} {sx x1 : Int32} (hw : wf_ K V N) (hNl : N ≤ l) (hi : i < N) (hKi : K i = kk) (hkk : (sx = 2 ∧ kk = 1) ∨ (¬ sx = 2 ∧ kk = 0)) (D : yd_ (tr_ K i) V i l w yl ys yg yo yc yK yV yA yB yT yO yF yZ yC yS) (hp : p < 300) (hpr : pr_ w p (id_ (V i))) (hc : w[p]? = some c)
    (HJ : ∀ (ys' : Int32) (yK' yV' : Nat → Int32), yd_ (tr_ K (i + 1)) V (i + 1) l w yl ys' yg yo yc yK' yV' yA yB yT yO yF yZ yC yS → J x1 (nI (p + (id_ (V i)).length)) yl ys' yg yo yc yK' yV' yA yB yT yO yF yZ yC yS) :
    wY_read_136 post J x1 (nI (p + 1)) (nI c) sx (nI (bt_ c)) yl ys yg yo yc yK yV yA yB yT yO yF yZ yC yS := by
  have hft := zt_ft hw hi
  have hvr := (hw i hi).1
  have hm := mx_le (k := K i)
  have hV := hvr.2.1
  rw [hKi] at hft hvr
  have fin : ∀ (v7 : Int32) (c' : Nat), c' = c → v7 = nI (V i) → p + 1 + (c' - 48) = p + (id_ (V i)).length →
      ((∀ v, v7 = nI v → vr_ kk v → i < l → ¬ ft_ (tr_ K i) i kk v) → J x1 (nI (p + 1 + (c' - 48))) yl ys yg yo yc yK yV yA yB yT yO yF yZ yC yS) ∧
      (∀ v : Nat, v7 = nI v → vr_ kk v → yd_ (un_ (tr_ K i) i kk) (un_ V i v) (i + 1) l w yl (nI (i + 1)) yg yo yc (upd yK i (nI kk)) (upd yV i (nI v)) yA yB yT yO yF yZ yC yS → J x1 (nI (p + 1 + (c' - 48))) yl (nI (i + 1)) yg yo yc (upd yK i (nI kk)) (upd yV i (nI v)) yA yB yT yO yF yZ yC yS) := by
    intro v7 c' _ hv7 hlen
    refine ⟨fun hr => absurd hft (hr (V i) hv7 hvr (by omega)), fun v e hv D2 => ?_⟩
    have hmk := mx_le (k := kk)
    have : v = V i := (nI_eq (by have := hv.2.1; omega) (by omega)).mp (e.symm.trans hv7)
    subst this
    have ek : un_ (tr_ K i) i kk = tr_ K (i + 1) := by rw [← hKi]; exact tr_s
    rw [ek, un_self] at D2
    rw [hlen]
    exact HJ _ _ _ D2
  by_cases hv26 : V i < 26
  · rw [id_1 hv26] at hpr fin
    have p0 := pr_hd hpr
    have p1 := pr_hd p0.2
    have ec : c = 49 := Option.some.inj (hc.symm.trans p0.1)
    have e7 : ∀ v7 : Int32, ((c = 49 ∧ ∀ a, w[p + 1]? = some a → v7 = nI a - 97) ∨ (c = 50 ∧ ∀ a b, w[p + 1]? = some a → w[p + 1 + 1]? = some b → v7 = ((26 + ((nI a - 97) * 26)) + nI b) - 97)) → v7 = nI (V i) := by
      intro v7 h
      rcases h with ⟨_, h⟩ | ⟨h, _⟩
      · rw [h _ p1.1, show nI (97 + V i) - 97 = nI (97 + V i - 97) from pk_sub (b := 97) (by omega), show 97 + V i - 97 = V i by omega]
      · omega
    exact zr_D (Or.inl ec) (by omega) D kk hkk (fun v7 h hr => (fin v7 c rfl (e7 v7 h) (by rw [ec]; rfl)).1 hr) (fun v7 v h e hv _ _ D2 => (fin v7 c rfl (e7 v7 h) (by rw [ec]; rfl)).2 v e hv D2)
  · obtain ⟨x, y, hx, hy, e⟩ : ∃ x y, x < 26 ∧ y < 26 ∧ V i = (x + 1) * 26 + y := ⟨V i / 26 - 1, V i % 26, by omega, by omega, by omega⟩
    have hid : id_ (V i) = [50, 97 + x, 97 + y] := by rw [e]; exact id_2 hy
    rw [hid] at hpr fin
    have p0 := pr_hd hpr
    have p1 := pr_hd p0.2
    have p2 := pr_hd p1.2
    have ec : c = 50 := Option.some.inj (hc.symm.trans p0.1)
    have e7 : ∀ v7 : Int32, ((c = 49 ∧ ∀ a, w[p + 1]? = some a → v7 = nI a - 97) ∨ (c = 50 ∧ ∀ a b, w[p + 1]? = some a → w[p + 1 + 1]? = some b → v7 = ((26 + ((nI a - 97) * 26)) + nI b) - 97)) → v7 = nI (V i) := by
      intro v7 h
      rcases h with ⟨h, _⟩ | ⟨_, h⟩
      · omega
      · have e26 : (26 : Int32) = nI 26 := rfl
        rw [h _ _ p1.1 p2.1, show nI (97 + x) - 97 = nI (97 + x - 97) from pk_sub (b := 97) (by omega), show 97 + x - 97 = x by omega, e26, pk_mul, nI_add, nI_add,
          show nI (26 + x * 26 + (97 + y)) - 97 = nI (26 + x * 26 + (97 + y) - 97) from pk_sub (b := 97) (by omega), e, show 26 + x * 26 + (97 + y) - 97 = (x + 1) * 26 + y by omega]
    exact zr_D (Or.inr ec) (by omega) D kk hkk (fun v7 h hr => (fin v7 c rfl (e7 v7 h) (by rw [ec]; rfl)).1 hr) (fun v7 v h e hv _ _ D2 => (fin v7 c rfl (e7 v7 h) (by rw [ec]; rfl)).2 v e hv D2)
end
end
section
/-! Y reads the symbol of given nodes: MEMBER, END -/
section
variable {yl ys yg yo yc : Int32} {yK yV yA yB yT yO yF yZ yC yS : Nat → Int32}
variable {K V : Nat → Nat} {N l : Nat} {w : List Nat} {i j p : Nat}
variable {post : SY → Prop}
theorem zt_mem {fuel s : Nat} {r : List Nat} (hw : wf_ K V N) (hNl : N ≤ l) (hl : l ≤ 48) (hi : i < N) (D : yd_ (tr_ K i) V i l w yl ys yg yo yc yK yV yA yB yT yO yF yZ yC yS) (hz : yz_ K yS (yk_ K (nf_ K V N) i))
    (hpr : pr_ w p (pe_ K V i)) (hfu : w.length + 1 ≤ p + fuel) (hk : K i = 1) (hs : yk_ K (nf_ K V N) i = s :: r) (hsh : ka_h (K s) = true)
    (AF : ∀ (f : Nat) (ys' : Int32) (yK' yV' yS' : Nat → Int32), w.length + 1 ≤ p + (pe_ K V i).length + f → yd_ (tr_ K (i + 1)) V (i + 1) l w yl ys' yg yo yc yK' yV' yA yB yT yO yF yZ yC yS' → yz_ K yS' (yn_ K (nf_ K V N) (i + 1)) → wY_read_9 post f (nI (yn_ K (nf_ K V N) (i + 1)).length) (nI (p + (pe_ K V i).length)) yl ys' yg yo yc yK' yV' yA yB yT yO yF yZ yC yS') :
    wY_read_9 post fuel (nI (yk_ K (nf_ K V N) i).length) (nI p) yl ys yg yo yc yK yV yA yB yT yO yF yZ yC yS := by
  have hwl := D.2.2.2.2.2.2.2.2.1
  have hpe : pe_ K V i = id_ (V i) := by unfold pe_; rw [if_pos (by omega)]
  rw [hpe] at hpr AF
  obtain ⟨a, r', ea, ha⟩ := id_fc (V i)
  have hc : w[p]? = some a := by rw [ea] at hpr; exact (pr_hd hpr).1
  have hpl : p < w.length := (List.getElem?_eq_some_iff.mp hc).1
  have hlen1 : 1 ≤ (id_ (V i)).length := by rw [ea]; simp
  refine zt_one hw hNl hl hi D (Or.inl rfl) hz hc hfu (Or.inr (Or.inr (by rw [hs]; simp))) (fun z => by omega) ?_
  intro f sx ys' yK' yV' ef _ hsx D2
  have h2 : sx = 2 := by rw [hsx s r hs, if_pos hsh]
  refine zt_id hw hNl hi hk (Or.inl ⟨h2, rfl⟩) D2 (by omega) hpr hc (fun ys2 yK2 yV2 D3 => ?_)
  have := AF f ys2 yK2 yV2 yS (by omega) D3 (by rw [yn_1 hk]; exact hz)
  rw [yn_1 hk] at this
  exact this
end
end
section
/-! Y reads the symbol of given nodes: END -/
section
variable {yl ys yg yo yc : Int32} {yK yV yA yB yT yO yF yZ yC yS : Nat → Int32}
variable {K V : Nat → Nat} {N l : Nat} {w : List Nat} {i j p : Nat}
variable {post : SY → Prop}
theorem zt_nov (hw : wf_ K V N) (hi : i < N) (h11 : K i = 11) (h3 : K (op_ K i) ≠ 3) : ¬ ft_ (tr_ K i) i 4 0 ∧ op_ K i ≠ 0 ∧ 0 < i := by
  have hip : 0 < i := by
    rcases Nat.eq_zero_or_pos i with z | z
    · have := wf_0 hw (by omega); rw [z, this] at h11; omega
    · exact z
  obtain ⟨r, ec, hsf, ho, hff, hol⟩ := end_top hw hi h11
  refine ⟨fun z => ?_, ho, hip⟩
  rw [gc_ft (b := i) tr_lt (Nat.le_refl _)] at z
  have hf := (hw i hi).2
  rw [h11] at hf
  rcases ft_c hf hip with u | u | u | ⟨_, _, _, _, ⟨_, u, _⟩ | ⟨u1, ⟨_, u2⟩ | ⟨u, _⟩⟩⟩
  · omega
  · omega
  · omega
  · omega
  · rcases ft_c z hip with y | y | y | ⟨_, _, _, _, ⟨y, _⟩ | ⟨_, ⟨y, _⟩ | ⟨_, y⟩⟩⟩
    · omega
    · omega
    · omega
    · rw [u1] at y; exact absurd y (by decide)
    · omega
    · rcases y with y | y | y | y
      · exact y rfl
      · exact y rfl
      · exact y u2
      · exact h3 y
  · omega
/-- the v for no parameters is refused -/
theorem zt_v {fuel : Nat} (hw : wf_ K V N) (hNl : N ≤ l) (hl : l ≤ 48) (hi : i < N) (D : yd_ (tr_ K j) V j l w yl ys yg yo yc yK yV yA yB yT yO yF yZ yC yS) (hj : j = i ∨ (j + 1 = i ∧ K j = 10)) (hz : yz_ K yS (yk_ K (nf_ K V N) i)) (h11 : K i = 11) (h3 : K (op_ K i) ≠ 3)
    (hc : w[p]? = some 118) (hfu : w.length + 1 ≤ p + fuel)
    (AF : ∀ (f : Nat) (ys' : Int32) (yK' yV' : Nat → Int32), w.length + 1 ≤ p + 1 + f → yd_ (tr_ K i) V i l w yl ys' yg yo yc yK' yV' yA yB yT yO yF yZ yC yS → wY_read_9 post f (nI (yk_ K (nf_ K V N) i).length) (nI (p + 1)) yl ys' yg yo yc yK' yV' yA yB yT yO yF yZ yC yS) :
    wY_read_9 post fuel (nI (yk_ K (nf_ K V N) i).length) (nI p) yl ys yg yo yc yK yV yA yB yT yO yF yZ yC yS := by
  have hn := zt_nov hw hi h11 h3
  refine zt_one hw hNl hl hi D hj hz hc hfu (Or.inl (fun _ => hn.2.1)) (fun _ => by omega) ?_
  intro f sx ys' yK' yV' ef _ _ D2
  rw [bt_0 (by omega) (by omega) (by omega)]
  exact zr_136 (by omega) (by omega) (by omega) (by omega) (by omega) (by omega) (by omega) (by omega) (zr_l (u := 0) (by omega) rfl D2 (fun _ => AF f ys' yK' yV' (by omega) D2) (fun z => absurd z hn.1))
/-- the E of a list -/
theorem zt_le {fuel : Nat} (hw : wf_ K V N) (hNl : N ≤ l) (hl : l ≤ 48) (hi : i < N) (D : yd_ (tr_ K j) V j l w yl ys yg yo yc yK yV yA yB yT yO yF yZ yC yS) (hj : j = i ∨ (j + 1 = i ∧ K j = 10)) (hz : yz_ K yS (yk_ K (nf_ K V N) i)) (h11 : K i = 11) (h10 : K (op_ K i) ≠ 10)
    (hc : w[p]? = some 69) (hfu : w.length + 1 ≤ p + fuel)
    (AF : ∀ (f : Nat) (ys' : Int32) (yK' yV' : Nat → Int32), w.length + 1 ≤ p + 1 + f → yd_ (tr_ K (i + 1)) V (i + 1) l w yl ys' yg yo yc yK' yV' yA yB yT yO yF yZ yC yS → yz_ K yS (yn_ K (nf_ K V N) (i + 1)) → wY_read_9 post f (nI (yn_ K (nf_ K V N) (i + 1)).length) (nI (p + 1)) yl ys' yg yo yc yK' yV' yA yB yT yO yF yZ yC yS) :
    wY_read_9 post fuel (nI (yk_ K (nf_ K V N) i).length) (nI p) yl ys yg yo yc yK yV yA yB yT yO yF yZ yC yS := by
  have hlen := yk_len (nf := nf_ K V N) (i := i) hw (by omega)
  obtain ⟨r, ec, hsf, ho, hff, hol⟩ := end_top hw hi h11
  have ey := (yn_11 (nf := nf_ K V N) hw hi h11).2 h10
  have hft := zt_ft hw hi
  have hV0 : V i = 0 := by have := (hw i hi).1.2.1; rw [h11] at this; exact Nat.le_zero.mp this
  rw [h11, hV0] at hft
  refine zt_one hw hNl hl hi D hj hz hc hfu (Or.inl (fun _ => ho)) (fun _ => by omega) ?_
  intro f sx ys' yK' yV' ef _ hsx D2
  have h0 : sx = 0 := by rw [hsx _ _ ey, (gs_xof hff).2]; rfl
  rw [ey] at hz hlen ⊢
  rw [List.length_cons] at hlen ⊢
  refine zr_E (by omega) D2 (fun z => by omega) (fun _ z => absurd h0 z) (fun _ _ hr => absurd hft (hr (by omega))) (fun _ _ _ _ D3 => ?_)
  have e1 : un_ (tr_ K i) i 11 = tr_ K (i + 1) := by rw [← h11]; exact tr_s
  have e2 : un_ V i 0 = V := by rw [← hV0]; exact un_self
  rw [e1, e2] at D3
  rw [Nat.add_sub_cancel]
  exact AF f _ _ _ (by omega) D3 hz.2
end
end
section
/-! Y reads the symbol of given nodes: QUAL -/
section
variable {yl ys yg yo yc : Int32} {yK yV yA yB yT yO yF yZ yC yS : Nat → Int32}
variable {K V : Nat → Nat} {N l : Nat} {w : List Nat} {i j p : Nat}
variable {post : SY → Prop}
/-- a further bit -/
theorem zt_q2 {fuel c v : Nat} (hw : wf_ K V N) (hNl : N ≤ l) (hl : l ≤ 48) (hi : i < N) (h8 : K i = 8) (hv : v < 8) (D : yd_ (tr_ K (i + 1)) (un_ V i v) (i + 1) l w yl ys yg yo yc yK yV yA yB yT yO yF yZ yC yS) (hz : yz_ K yS (yk_ K (nf_ K V N) i)) (hop : op_ K i ≠ 0)
    (hcb : c = 86 ∨ c = 75) (hc : w[p]? = some c) (hfu : w.length + 1 ≤ p + fuel)
    (AF : ∀ (f : Nat) (ys' : Int32) (yK' yV' : Nat → Int32), w.length + 1 ≤ p + 1 + f → yd_ (tr_ K (i + 1)) (un_ V i (v ||| bt_ c)) (i + 1) l w yl ys' yg yo yc yK' yV' yA yB yT yO yF yZ yC yS → wY_read_9 post f (nI (yk_ K (nf_ K V N) i).length) (nI (p + 1)) yl ys' yg yo yc yK' yV' yA yB yT yO yF yZ yC yS) :
    wY_read_9 post fuel (nI (yk_ K (nf_ K V N) i).length) (nI p) yl ys yg yo yc yK yV yA yB yT yO yF yZ yC yS := by
  have hlen := yk_len (nf := nf_ K V N) (i := i) hw (by omega)
  have hql : p < w.length := (List.getElem?_eq_some_iff.mp hc).1
  have hcl : c < 2 ^ 20 := by omega
  obtain ⟨f, rfl⟩ : ∃ f, fuel = f + 1 := ⟨fuel - 1, by omega⟩
  have ho1 : op_ K (i + 1) ≠ 0 := by
    have hf : ka_f (K i) = false := by rw [h8]; rfl
    have : op_ K (i + 1) = op_ K i := by
      unfold op_
      show (fs_s K i (fs_ K i)).headD 0 = _
      unfold fs_s
      rw [hf, if_neg (by decide), if_neg (by omega)]
    rw [this]; exact hop
  refine zr_go D hc (by omega) (fun sx h0 h1 => ?_)
  have hsx : ¬ sx = 1 := by
    cases es : yk_ K (nf_ K V N) i with
    | nil => rw [es] at h0; rw [h0 rfl]; decide
    | cons x r =>
      rw [es] at h1 hz
      have := h1 (by simp)
      rw [this, List.length_cons, Nat.add_sub_cancel, hz.1]
      by_cases u : ka_h (K x) = true
      · rw [if_pos u]; decide
      · rw [if_neg u]; decide
  refine ⟨fun _ => ?_, fun z => absurd z hsx⟩
  refine zr_sig D (by omega) hcl (fun _ => ?_) (fun _ _ _ e4 => ?_)
  · refine zr_136 hcl (by omega) (by omega) (by omega) (by omega) (by omega) (by omega) (by omega) (zr_b (by omega) D (fun _ _ D2 => ?_) (fun z => ?_) (fun z => ?_))
    · rw [Nat.add_sub_cancel, un_s] at D2 ⊢
      have e : un_ (un_ V i v) i (v ||| bt_ c) = un_ V i (v ||| bt_ c) := by
        funext x; unfold un_; by_cases y : x = i
        · rw [if_pos y, if_pos y]
        · rw [if_neg y, if_neg y, if_neg y]
      rw [e] at D2
      exact AF f _ _ _ (by omega) D2
    · exact absurd ⟨by omega, by rw [Nat.add_sub_cancel, tr_lt i (by omega)]; exact h8⟩ z
    · exact absurd ⟨by omega, by rw [Nat.add_sub_cancel, tr_lt i (by omega)]; exact h8⟩ z
  · rw [gc_op (b := i + 1) tr_lt (Nat.le_refl _)] at e4; exact absurd e4 ho1
end
end
section
/-! Y reads the symbol of given nodes: QUAL, all of it -/
theorem ft_8 {K : Nat → Nat} {i v v' : Nat} (h : ft_ K i 8 v) : ft_ K i 8 v' := by
  unfold ft_ at h ⊢
  rcases h with q | ⟨q0, q | q | q | ⟨q1, q2, q3, q4, q5⟩⟩
  · exact Or.inl q
  · exact absurd q.1 (by decide)
  · exact absurd q.1 (by decide)
  · exact absurd q.1 (by decide)
  · refine Or.inr ⟨q0, Or.inr (Or.inr (Or.inr ⟨q1, q2, q3, q4, ?_⟩))⟩
    rcases q5 with q | q
    · exact Or.inl q
    · refine Or.inr ⟨q.1, ?_⟩
      rcases q.2 with r | r
      · exact absurd r.1 (by decide)
      · exact Or.inr ⟨r.1, Or.inl (by decide)⟩
section
variable {yl ys yg yo yc : Int32} {yK yV yA yB yT yO yF yZ yC yS : Nat → Int32}
variable {K V : Nat → Nat} {N l : Nat} {w : List Nat} {i j p : Nat}
variable {post : SY → Prop}
theorem zt_q1 {fuel c : Nat} (hw : wf_ K V N) (hNl : N ≤ l) (hl : l ≤ 48) (hi : i < N) (D : yd_ (tr_ K j) V j l w yl ys yg yo yc yK yV yA yB yT yO yF yZ yC yS) (hj : j = i ∨ (j + 1 = i ∧ K j = 10)) (hz : yz_ K yS (yk_ K (nf_ K V N) i)) (h8 : K i = 8) (hip : 0 < i) (hop : op_ K i ≠ 0)
    (hcb : c = 75 ∨ c = 86 ∨ c = 114) (hc : w[p]? = some c) (hfu : w.length + 1 ≤ p + fuel)
    (AF : ∀ (f : Nat) (ys' : Int32) (yK' yV' : Nat → Int32), w.length + 1 ≤ p + 1 + f → yd_ (tr_ K (i + 1)) (un_ V i (bt_ c)) (i + 1) l w yl ys' yg yo yc yK' yV' yA yB yT yO yF yZ yC yS → wY_read_9 post f (nI (yk_ K (nf_ K V N) i).length) (nI (p + 1)) yl ys' yg yo yc yK' yV' yA yB yT yO yF yZ yC yS) :
    wY_read_9 post fuel (nI (yk_ K (nf_ K V N) i).length) (nI p) yl ys yg yo yc yK yV yA yB yT yO yF yZ yC yS := by
  have hft := zt_ft hw hi
  rw [h8] at hft
  have hpre : ¬ (0 < i ∧ tr_ K i (i - 1) = 8) := by
    rintro ⟨_, z⟩
    rw [tr_lt (i - 1) (by omega)] at z
    have hf := (hw i hi).2
    rw [h8] at hf
    rcases ft_c hf hip with u | u | u | ⟨_, _, _, _, ⟨_, _, _, _, u⟩ | ⟨u, _⟩⟩
    · omega
    · omega
    · omega
    · omega
    · rw [z] at u; exact absurd u (by decide)
  refine zt_one hw hNl hl hi D hj hz hc hfu (Or.inl (fun _ => hop)) (fun _ => by omega) ?_
  intro f sx ys' yK' yV' ef _ _ D2
  refine zr_136 (by omega) (by omega) (by omega) (by omega) (by omega) (by omega) (by omega) (by omega) (zr_b hcb D2 (fun z1 z2 => absurd ⟨z1, z2⟩ hpre) (fun _ hr => absurd (ft_8 hft) (hr (by omega))) (fun _ _ _ D3 => ?_))
  have e1 : un_ (tr_ K i) i 8 = tr_ K (i + 1) := by rw [← h8]; exact tr_s
  rw [e1] at D3
  exact AF f _ _ _ (by omega) D3
end
end
section
/-! Y reads the symbol of given nodes: QUAL, joined -/
section
variable {yl ys yg yo yc : Int32} {yK yV yA yB yT yO yF yZ yC yS : Nat → Int32}
variable {K V : Nat → Nat} {N l : Nat} {w : List Nat} {i j p : Nat}
variable {post : SY → Prop}
theorem zt_q {fuel : Nat} (hw : wf_ K V N) (hNl : N ≤ l) (hl : l ≤ 48) (hi : i < N) (D : yd_ (tr_ K j) V j l w yl ys yg yo yc yK yV yA yB yT yO yF yZ yC yS) (hj : j = i ∨ (j + 1 = i ∧ K j = 10)) (hz : yz_ K yS (yk_ K (nf_ K V N) i)) (h8 : K i = 8)
    (hpr : pr_ w p (pe_ K V i)) (hfu : w.length + 1 ≤ p + fuel)
    (AF : ∀ (f : Nat) (ys' : Int32) (yK' yV' yS' : Nat → Int32), w.length + 1 ≤ p + (pe_ K V i).length + f → yd_ (tr_ K (i + 1)) V (i + 1) l w yl ys' yg yo yc yK' yV' yA yB yT yO yF yZ yC yS' → yz_ K yS' (yn_ K (nf_ K V N) (i + 1)) → wY_read_9 post f (nI (yn_ K (nf_ K V N) (i + 1)).length) (nI (p + (pe_ K V i).length)) yl ys' yg yo yc yK' yV' yA yB yT yO yF yZ yC yS') :
    wY_read_9 post fuel (nI (yk_ K (nf_ K V N) i).length) (nI p) yl ys yg yo yc yK yV yA yB yT yO yF yZ yC yS := by
  have hpe : pe_ K V i = ql_ (V i) := by unfold pe_; rw [if_neg (by omega), if_pos h8]
  have hV := (hw i hi).1.2.1
  have hV1 := (hw i hi).1.2.2 h8
  have hV7 : V i ≤ 7 := by rw [h8] at hV; exact hV
  have hip : 0 < i := by
    rcases Nat.eq_zero_or_pos i with z | z
    · have := wf_0 hw (by omega); rw [z, this] at h8; omega
    · exact z
  have hop : op_ K i ≠ 0 := by
    rcases ft_c (hw i hi).2 hip with u | u | u | u
    · omega
    · omega
    · omega
    · exact u.2.2.2.1
  have eyn : yn_ K (nf_ K V N) (i + 1) = yk_ K (nf_ K V N) i := by
    rw [yn_o (by omega) (by omega) (by omega) (by omega), fl_w (by rw [h8]; rfl)]; rfl
  rw [hpe] at hpr AF
  rw [eyn] at AF
  have fin : ∀ (v q f : Nat) (ys' : Int32) (yK' yV' : Nat → Int32), v = V i → q = p + (ql_ (V i)).length → w.length + 1 ≤ q + f → yd_ (tr_ K (i + 1)) (un_ V i v) (i + 1) l w yl ys' yg yo yc yK' yV' yA yB yT yO yF yZ yC yS → wY_read_9 post f (nI (yk_ K (nf_ K V N) i).length) (nI q) yl ys' yg yo yc yK' yV' yA yB yT yO yF yZ yC yS := by
    intro v q f ys' yK' yV' ev eq hf D2
    rw [ev, un_self] at D2
    rw [eq] at hf ⊢
    exact AF f ys' yK' yV' yS hf D2 hz
  obtain e | e | e | e | e | e | e : V i = 1 ∨ V i = 2 ∨ V i = 3 ∨ V i = 4 ∨ V i = 5 ∨ V i = 6 ∨ V i = 7 := by omega
  · rw [e] at hpr fin
    have h1 := pr_hd (show pr_ w p [75] from hpr)
    exact zt_q1 hw hNl hl hi D hj hz h8 hip hop (Or.inl rfl) h1.1 hfu (fun f ys' yK' yV' hf D2 => fin 1 (p + 1) f ys' yK' yV' rfl rfl hf D2)
  · rw [e] at hpr fin
    have h1 := pr_hd (show pr_ w p [86] from hpr)
    exact zt_q1 hw hNl hl hi D hj hz h8 hip hop (Or.inr (Or.inl rfl)) h1.1 hfu (fun f ys' yK' yV' hf D2 => fin 2 (p + 1) f ys' yK' yV' rfl rfl hf D2)
  · rw [e] at hpr fin
    have h1 := pr_hd (show pr_ w p [86, 75] from hpr)
    have h2 := pr_hd h1.2
    refine zt_q1 hw hNl hl hi D hj hz h8 hip hop (Or.inr (Or.inl rfl)) h1.1 hfu (fun f ys' yK' yV' hf D2 => ?_)
    exact zt_q2 (v := 2) hw hNl hl hi h8 (by omega) D2 hz hop (Or.inr rfl) h2.1 hf (fun f2 ys2 yK2 yV2 hf2 D3 => fin 3 (p + 1 + 1) f2 ys2 yK2 yV2 rfl rfl hf2 D3)
  · rw [e] at hpr fin
    have h1 := pr_hd (show pr_ w p [114] from hpr)
    exact zt_q1 hw hNl hl hi D hj hz h8 hip hop (Or.inr (Or.inr rfl)) h1.1 hfu (fun f ys' yK' yV' hf D2 => fin 4 (p + 1) f ys' yK' yV' rfl rfl hf D2)
  · rw [e] at hpr fin
    have h1 := pr_hd (show pr_ w p [114, 75] from hpr)
    have h2 := pr_hd h1.2
    refine zt_q1 hw hNl hl hi D hj hz h8 hip hop (Or.inr (Or.inr rfl)) h1.1 hfu (fun f ys' yK' yV' hf D2 => ?_)
    exact zt_q2 (v := 4) hw hNl hl hi h8 (by omega) D2 hz hop (Or.inr rfl) h2.1 hf (fun f2 ys2 yK2 yV2 hf2 D3 => fin 5 (p + 1 + 1) f2 ys2 yK2 yV2 rfl rfl hf2 D3)
  · rw [e] at hpr fin
    have h1 := pr_hd (show pr_ w p [114, 86] from hpr)
    have h2 := pr_hd h1.2
    refine zt_q1 hw hNl hl hi D hj hz h8 hip hop (Or.inr (Or.inr rfl)) h1.1 hfu (fun f ys' yK' yV' hf D2 => ?_)
    exact zt_q2 (v := 4) hw hNl hl hi h8 (by omega) D2 hz hop (Or.inl rfl) h2.1 hf (fun f2 ys2 yK2 yV2 hf2 D3 => fin 6 (p + 1 + 1) f2 ys2 yK2 yV2 rfl rfl hf2 D3)
  · rw [e] at hpr fin
    have h1 := pr_hd (show pr_ w p [114, 86, 75] from hpr)
    have h2 := pr_hd h1.2
    have h3 := pr_hd h2.2
    refine zt_q1 hw hNl hl hi D hj hz h8 hip hop (Or.inr (Or.inr rfl)) h1.1 hfu (fun f ys' yK' yV' hf D2 => ?_)
    refine zt_q2 (v := 4) hw hNl hl hi h8 (by omega) D2 hz hop (Or.inl rfl) h2.1 hf (fun f2 ys2 yK2 yV2 hf2 D3 => ?_)
    exact zt_q2 (v := 6) hw hNl hl hi h8 (by omega) D3 hz hop (Or.inr rfl) h3.1 hf2 (fun f3 ys3 yK3 yV3 hf3 D4 => fin 7 (p + 1 + 1 + 1) f3 ys3 yK3 yV3 rfl rfl hf3 D4)
end
end
section
/-! Y reads the symbol of given nodes: heads -/
theorem fl_top {K : Nat → Nat} {nf : Nat → Bool} : ∀ {L : List Nat}, gs_ K L → (∀ x r, L = x :: r → ka_h (K x) = false) → ∀ x r, L.filter (fl_ K nf) = x :: r → ka_h (K x) = false := by
  intro L
  induction L with
  | nil => intro _ _ x r h; exact absurd h (by simp)
  | cons a L ih =>
    intro hg ht x r h
    have ha := ht a L rfl
    by_cases hfl : fl_ K nf a = true
    · rw [List.filter_cons_of_pos hfl] at h
      rw [← (List.cons.inj h).1]; exact ha
    · rw [List.filter_cons_of_neg hfl] at h
      refine ih hg.1 ?_ x r h
      intro y r' e
      rcases hg.2.2 with ⟨q, _⟩ | ⟨y', r2, q, q1 | q1⟩
      · rw [e] at q; exact absurd q (by simp)
      · exfalso
        apply hfl
        unfold fl_; rw [decide_eq_true (Or.inl q1.1), Bool.or_true]
      · rw [e] at q
        rw [(List.cons.inj q).1]
        rcases q1.2 with u | u
        · exact (gs_xof u).2
        · exact (gs_xor u.1).1
theorem yk_top {K V : Nat → Nat} {N i : Nat} {nf : Nat → Bool} (hw : wf_ K V N) (hi : i ≤ N) (h1 : K i ≠ 1) (h3 : K i ≠ 3) : ∀ x r, yk_ K nf i = x :: r → ka_h (K x) = false := by
  unfold yk_
  rw [sj_n h1 h3]
  exact fl_top (gs_suf (si_all hw i hi).1 (sk_c_suf K _)) (fun x r e => sk_cc hw hi e)
end
section
/-! Y reads the symbol of given nodes: N, and the first character after it -/
section
variable {yl ys yg yo yc : Int32} {yK yV yA yB yT yO yF yZ yC yS : Nat → Int32}
variable {K V : Nat → Nat} {N l : Nat} {w : List Nat} {i j p : Nat}
variable {post : SY → Prop}
theorem zt_nn {fuel c : Nat} {rest : List Nat} (hw : wf_ K V N) (hNl : N ≤ l) (hl : l ≤ 48) (hi : i < N) (D : yd_ (tr_ K j) V j l w yl ys yg yo yc yK yV yA yB yT yO yF yZ yC yS) (hj : j = i ∨ (j + 1 = i ∧ K j = 10)) (hz : yz_ K yS (yk_ K (nf_ K V N) i)) (h1 : K i ≠ 1) (h3 : K i ≠ 3)
    (hop : 0 < i → op_ K i ≠ 0) (hc73 : c ≠ 73) (hpr : pr_ w p ((if nf_ K V N i = true then [78] else []) ++ c :: rest)) (hfu : w.length + 1 ≤ p + fuel)
    (H : ∀ (f : Nat) (sx ys' : Int32) (yK' yV' yS' : Nat → Int32), ¬ sx = 2 → yd_ (tr_ K i) V i l w yl ys' yg yo yc yK' yV' yA yB yT yO yF yZ yC yS' → yz_ K yS' ((if nf_ K V N i = true then [i] else []) ++ yk_ K (nf_ K V N) i) → w.length + 1 ≤ p + (if nf_ K V N i = true then [78] else []).length + 1 + f →
      wY_read_136 post (wY_read_9 post f) (nI ((if nf_ K V N i = true then [i] else []) ++ yk_ K (nf_ K V N) i).length) (nI (p + (if nf_ K V N i = true then [78] else []).length + 1)) (nI c) sx (nI (bt_ c)) yl ys' yg yo yc yK' yV' yA yB yT yO yF yZ yC yS') :
    wY_read_9 post fuel (nI (yk_ K (nf_ K V N) i).length) (nI p) yl ys yg yo yc yK yV yA yB yT yO yF yZ yC yS := by
  have hlen := yk_len (nf := nf_ K V N) (i := i) hw (by omega)
  cases hnf : nf_ K V N i with
  | false =>
    rw [hnf, if_neg (by decide)] at hpr
    have hc := (pr_hd hpr).1
    refine zt_one hw hNl hl hi D hj hz hc hfu (Or.inl hop) (fun _ => hc73) ?_
    intro f sx ys' yK' yV' ef hs0 hs1 D2
    have := H f sx ys' yK' yV' yS
    rw [hnf, if_neg (by decide), if_neg (by decide)] at this
    refine this ?_ D2 hz (by show w.length + 1 ≤ p + 0 + 1 + f; omega)
    cases es : yk_ K (nf_ K V N) i with
    | nil => rw [hs0 es]; decide
    | cons x r =>
      rw [hs1 x r es, yk_top (nf := nf_ K V N) hw (by omega) h1 h3 x r es]; decide
  | true =>
    have hh := (nf_h hw hnf).1
    rw [hnf, if_pos rfl] at hpr
    have hc0 := pr_hd hpr
    have hc1 := (pr_hd hc0.2).1
    have hpl1 : p + 1 < w.length := (List.getElem?_eq_some_iff.mp hc1).1
    refine zt_one hw hNl hl hi D hj hz hc0.1 hfu (Or.inl hop) (fun _ => by omega) ?_
    intro f sx ys' yK' yV' ef hs0 hs1 D2
    refine zr_N (by omega) ?_
    obtain ⟨f2, rfl⟩ : ∃ f2, f = f2 + 1 := ⟨f - 1, by omega⟩
    have D3 : yd_ (tr_ K i) V i l w yl ys' yg yo yc yK' yV' yA yB yT yO yF yZ yC (upd yS (yk_ K (nf_ K V N) i).length 1) := D2
    refine zt_ch (i := i) (j := i) hw hNl D3 hc1 (by omega) (by omega) (Or.inl rfl) (fun _ z => by omega) ?_
    intro sx2 ys2 yK2 yV2 yS2 _ g1 D4
    obtain ⟨g2, g3⟩ := g1 (by omega)
    rw [Nat.add_sub_cancel, pk_us] at g2
    have hS2 : yS2 = upd (upd yS (yk_ K (nf_ K V N) i).length 1) (yk_ K (nf_ K V N) i).length 2 := by
      rcases g3 with y | y
      · exact absurd g2 y.1
      · rw [y.2, Nat.add_sub_cancel]
    have := H f2 sx2 ys2 yK2 yV2 yS2
    rw [hnf, if_pos rfl, if_pos rfl] at this
    refine this (by rw [g2]; decide) D4 ?_ (by show w.length + 1 ≤ p + 1 + 1 + f2; omega)
    show yz_ K yS2 (i :: yk_ K (nf_ K V N) i)
    refine ⟨?_, ?_⟩
    · rw [hS2, pk_us, if_pos hh]
    · rw [hS2]; exact yz_u (Nat.le_refl _) (yz_u (Nat.le_refl _) hz)
end
end
section
/-! Y reads the symbol of given nodes: heads that are spelled out -/
theorem tb_tr {K V : Nat → Nat} {N i : Nat} (hw : wf_ K V N) (hi : i ≤ N) (hk : K i ≠ 1 ∧ K i ≠ 3) : tb_ (tr_ K i) V i = tb_ K V i := by
  have hw' : wf_ (tr_ K i) V i := gc_wf (b := i) tr_lt (fun _ _ => rfl) (wf_le hw hi)
  have h1 := tb_of (K := tr_ K i) (V := V) (K' := K) (V' := V) (i := i) (c := true) hw' (fun j hj => (tr_lt j hj).symm) (fun _ _ => rfl) hk (Or.inl rfl)
  have h2 := tb_of (K := tr_ K i) (V := V) (K' := tr_ K i) (V' := V) (i := i) (c := true) hw' (fun _ _ => rfl) (fun _ _ => rfl) (by rw [tr_ge i (Nat.le_refl _)]; decide) (Or.inl rfl)
  rw [h1, h2]
/-- after a reference: what follows -/
theorem rf_nx {K V : Nat → Nat} {N i : Nat} (hw : wf_ K V N) (hcm : op_ K N = 0) (hS : K N = 11) (hi : i < N) (hk : kl_ K V i N ≠ 0) :
    (nf_ K V N i = true → ka_h (K i) = true ∧ (K (i + kl_ K V i N) = 1 ∨ K (i + kl_ K V i N) = 3)) ∧ (ka_h (K i) = false → K (i + kl_ K V i N) ≠ 1 ∧ K (i + kl_ K V i N) ≠ 3) := by
  have hkc := kc_kl hw i hi hk
  have hkc1 : i + kl_ K V i N ≤ N := hkc.1
  have hkc2 : i ∈ pp_ K (i + kl_ K V i N - 1) := hkc.2
  have e1 : i + kl_ K V i N - 1 + 1 = i + kl_ K V i N := by omega
  constructor
  · intro hnf
    obtain ⟨n1, n2, n3, n4, n5⟩ := nf_h hw hnf
    refine ⟨n1, ?_⟩
    have hp := pp_h hw (by omega) n1 hkc2
    have ho : oe_ K i (i + kl_ K V i N - 1) = true := oe_i.mpr ⟨hp.1, hp.2.1⟩
    have hfx := ne_fx hw hcm hS (show i + kl_ K V i N - 1 < N by omega) ho
    rw [e1] at hfx
    apply Classical.byContradiction
    intro z
    have := hfx.mpr ⟨fun y => z (Or.inl y), fun y => z (Or.inr y)⟩
    omega
  · intro hh
    by_cases hlast : i + kl_ K V i N = N
    · rw [hlast, hS]; decide
    · rcases (pp_iff hw (show i + kl_ K V i N - 1 < N by omega)).mp hkc2 with ⟨c2, a2, b2', d2, _⟩ | ⟨z, _⟩
      · rcases d2 with ⟨d3, d4⟩ | ⟨d3, d4, d5⟩ | ⟨_, _, _, d6, d7⟩
        · have hne : ¬ en_ K (i + kl_ K V i N) := by rw [← e1]; exact en_n (by rw [d4, d3]; omega) (by rw [d4, d3]; omega)
          rcases ft_c (hw (i + kl_ K V i N) (by omega)).2 (by omega) with y | y | y | y
          · exact absurd y.2 hne
          · exact absurd y.2.1 hne
          · omega
          · exact ⟨y.1, y.2.1⟩
        · have hne : ¬ en_ K (i + kl_ K V i N) := by
            rw [← e1, en_e d4, d5, d3]; intro y; omega
          rcases ft_c (hw (i + kl_ K V i N) (by omega)).2 (by omega) with y | y | y | y
          · exact absurd y.2 hne
          · exact absurd y.2.1 hne
          · omega
          · exact ⟨y.1, y.2.1⟩
        · rw [e1] at d6 d7; exact ⟨d6, d7⟩
      · rw [hh] at z; exact absurd z (by decide)
section
variable {yl ys yg yo yc : Int32} {yK yV yA yB yT yO yF yZ yC yS : Nat → Int32}
variable {K V : Nat → Nat} {N l : Nat} {w : List Nat} {i j p : Nat}
variable {post : SY → Prop}
/-- NAME, PARAM -/
theorem zt_hd {fuel : Nat} (hw : wf_ K V N) (hNl : N ≤ l) (hl : l ≤ 48) (hi : i < N) (D : yd_ (tr_ K j) V j l w yl ys yg yo yc yK yV yA yB yT yO yF yZ yC yS) (hj : j = i ∨ (j + 1 = i ∧ K j = 10)) (hz : yz_ K yS (yk_ K (nf_ K V N) i)) (hk : ka_h (K i) = true)
    (hpr : pr_ w p ((if nf_ K V N i = true then [78] else []) ++ pe_ K V i)) (hfu : w.length + 1 ≤ p + fuel)
    (AF : ∀ (q f : Nat) (ys' : Int32) (yK' yV' yS' : Nat → Int32), q = p + ((if nf_ K V N i = true then [78] else []) ++ pe_ K V i).length → w.length + 1 ≤ q + f → yd_ (tr_ K (i + 1)) V (i + 1) l w yl ys' yg yo yc yK' yV' yA yB yT yO yF yZ yC yS' → yz_ K yS' (yn_ K (nf_ K V N) (i + 1)) → wY_read_9 post f (nI (yn_ K (nf_ K V N) (i + 1)).length) (nI q) yl ys' yg yo yc yK' yV' yA yB yT yO yF yZ yC yS') :
    wY_read_9 post fuel (nI (yk_ K (nf_ K V N) i).length) (nI p) yl ys yg yo yc yK yV yA yB yT yO yF yZ yC yS := by
  have hwl := D.2.2.2.2.2.2.2.2.1
  have hk02 := ka_hi.mp hk
  have hvr := (hw i hi).1
  have hV := hvr.2.1
  have hft := zt_ft hw hi
  have hop : 0 < i → op_ K i ≠ 0 := by
    intro hip
    rcases ft_c (hw i hi).2 hip with u | u | u | u
    · omega
    · omega
    · omega
    · exact u.2.2.2.1
  have eyn : yn_ K (nf_ K V N) (i + 1) = (if nf_ K V N i = true then [i] else []) ++ yk_ K (nf_ K V N) i := by
    rw [yn_o (by omega) (by omega) (by omega) (by omega), fl_h hk]
  rw [eyn] at AF
  rw [List.length_append (as := if nf_ K V N i = true then [78] else [])] at AF
  have hpr2 := (pr_app.mp hpr).2
  rcases hk02 with e | e
  · have hpe : pe_ K V i = id_ (V i) := by unfold pe_; rw [if_pos (by omega)]
    rw [hpe] at hpr hpr2 AF
    obtain ⟨a, r, ea, ha⟩ := id_fc (V i)
    have hpr3 := hpr2
    rw [ea] at hpr hpr2
    have hc := (pr_hd hpr2).1
    have hpl := (List.getElem?_eq_some_iff.mp hc).1
    have hlen1 : 1 ≤ (id_ (V i)).length := by rw [ea]; simp
    refine zt_nn (c := a) (rest := r) hw hNl hl hi D hj hz (by omega) (by omega) hop (by omega) hpr hfu ?_
    intro f sx ys' yK' yV' yS' hsx D2 hz2 hf2
    refine zt_id hw hNl hi e (Or.inr ⟨hsx, rfl⟩) D2 (by omega) hpr3 hc (fun ys2 yK2 yV2 D3 => ?_)
    exact AF _ f ys2 yK2 yV2 yS' (by omega) (by omega) D3 hz2
  · have hpe : pe_ K V i = 84 :: nu_ (V i) 10 := by unfold pe_; rw [if_neg (by omega), if_neg (by omega), if_neg (by omega), if_pos e]
    rw [hpe] at hpr hpr2 AF
    have hV99 : V i ≤ 99 := by rw [e] at hV; exact hV
    have hc := pr_hd hpr2
    have hpl := (List.getElem?_eq_some_iff.mp hc.1).1
    refine zt_nn (c := 84) (rest := nu_ (V i) 10) hw hNl hl hi D hj hz (by omega) (by omega) hop (by omega) hpr hfu ?_
    intro f sx ys' yK' yV' yS' hsx D2 hz2 hf2
    rw [List.length_cons] at AF
    rw [e] at hft hvr
    have hnl : 1 ≤ (nu_ (V i) 10).length := by unfold nu_; rw [List.length_append]; show 1 ≤ _ + 1; omega
    refine zr_T (Q := fun r => r = nI (V i)) D2 (fun P hP => zr_nb (Or.inr rfl) D2 (by omega) hc.2 (hP _ rfl)) (fun r hr hno => absurd hft (hno (V i) hr hvr (by omega))) (fun r v hr e2 hv hf hlt D3 => ?_)
    have hv99 : v ≤ 99 := hv.2.1
    have ev : v = V i := (nI_eq (by omega) (by omega)).mp (e2.symm.trans hr)
    subst ev
    have ek : un_ (tr_ K i) i 2 = tr_ K (i + 1) := by rw [← e]; exact tr_s
    rw [ek, un_self] at D3
    exact zr_skb (Or.inr rfl) D3 (by omega) (by omega) hc.2 (AF _ f _ _ _ yS' (by omega) (by omega) D3 hz2)
/-- a reference -/
theorem zt_rf {fuel : Nat} (hw : wf_ K V N) (hcm : op_ K N = 0) (hS : K N = 11) (hNl : N ≤ l) (hl : l ≤ 48) (hi : i < N) (D : yd_ (tr_ K j) V j l w yl ys yg yo yc yK yV yA yB yT yO yF yZ yC yS) (hj : j = i ∨ (j + 1 = i ∧ K j = 10)) (hz : yz_ K yS (yk_ K (nf_ K V N) i)) (hk : kl_ K V i N ≠ 0)
    (hpr : pr_ w p ((if nf_ K V N i = true then [78] else []) ++ 83 :: nu_ (kt_ K V N i) 36)) (hfu : w.length + 1 ≤ p + fuel)
    (AF : ∀ (q f : Nat) (ys' yc' : Int32) (yK' yV' yF' yZ' yS' : Nat → Int32), q = p + ((if nf_ K V N i = true then [78] else []) ++ 83 :: nu_ (kt_ K V N i) 36).length → w.length + 1 ≤ q + f → yd_ (tr_ K (i + kl_ K V i N)) V (i + kl_ K V i N) l w yl ys' yg yo yc' yK' yV' yA yB yT yO yF' yZ' yC yS' → yz_ K yS' (yk_ K (nf_ K V N) (i + kl_ K V i N)) → wY_read_9 post f (nI (yk_ K (nf_ K V N) (i + kl_ K V i N)).length) (nI q) yl ys' yg yo yc' yK' yV' yA yB yT yO yF' yZ' yC yS') :
    wY_read_9 post fuel (nI (yk_ K (nf_ K V N) i).length) (nI p) yl ys yg yo yc yK yV yA yB yT yO yF yZ yC yS := by
  have hwl := D.2.2.2.2.2.2.2.2.1
  have hkn : K i ≠ 1 ∧ K i ≠ 3 ∧ K i ≠ 10 ∧ K i ≠ 11 ∧ K i ≠ 4 := by
    refine ⟨?_, ?_, ?_, ?_, ?_⟩ <;> (intro z; exact hk (kl_nc hw hi (by omega)).1)
  have hop : 0 < i → op_ K i ≠ 0 := by
    intro hip
    rcases ft_c (hw i hi).2 hip with u | u | u | u
    · omega
    · omega
    · omega
    · exact u.2.2.2.1
  have hkc := kc_kl hw i hi hk
  have hkc1 : i + kl_ K V i N ≤ N := hkc.1
  have hkc2 : i ∈ pp_ K (i + kl_ K V i N - 1) := hkc.2
  obtain ⟨f0, hf1, hf2, hf3⟩ := rf_ent hw hi hk
  have hktl : kt_ K V N i < (tb_ K V i).length := (List.getElem?_eq_some_iff.mp hf1).1
  have hlen := tb_len hw (i := i) (by omega)
  have hT : (tb_ (tr_ K i) V i)[kt_ K V N i]? = some (f0, kl_ K V i N) := by rw [tb_tr hw (by omega) ⟨hkn.1, hkn.2.1⟩]; exact hf1
  have hnx := rf_nx hw hcm hS hi hk
  have eyk := yk_r (nf := nf_ K V N) hw (by omega) hkc1 hkc2 hnx.1 hnx.2
  rw [eyk] at AF
  rw [List.length_append (as := if nf_ K V N i = true then [78] else []), List.length_cons] at AF
  have hc := pr_hd (pr_app.mp hpr).2
  have hpl := (List.getElem?_eq_some_iff.mp hc.1).1
  refine zt_nn (c := 83) (rest := nu_ (kt_ K V N i) 36) hw hNl hl hi D hj hz hkn.1 hkn.2.1 hop (by omega) hpr hfu ?_
  intro f sx ys' yK' yV' yS' hsx D2 hz2 hf4
  have hnl : 1 ≤ (nu_ (kt_ K V N i) 36).length := by unfold nu_; rw [List.length_append]; show 1 ≤ _ + 1; omega
  refine zr_S (Q := fun r => r = nI (kt_ K V N i)) (fun P hP => zr_nb (Or.inl rfl) D2 (by omega) hc.2 (hP _ rfl)) (fun r hr => ?_)
  subst hr
  refine zr_cpb hw hNl D2 hT hkc1 hf2 (sg_get hf3) ?_
  intro ys2 yc2 yK2 yV2 yF2 yZ2 D3
  exact zr_skb (Or.inl rfl) D3 (by omega) (by omega) hc.2 (AF _ f ys2 yc2 yK2 yV2 yF2 yZ2 yS' (by omega) (by omega) D3 hz2)
end
end
section
/-! Y reads the symbol of given nodes: all of it -/
theorem gn_rf {K V : Nat → Nat} {kn kt : Nat → Nat} {nf : Nat → Bool} {i z : Nat} (hv : gn_ kn i = i) (hz : kn i = z) (h0 : z ≠ 0) : ∀ d, d + 1 ≤ z → gn_ kn (i + d + 1) = i + z ∧ go_ K V kn kt nf (i + d + 1) = go_ K V kn kt nf (i + 1) := by
  intro d
  induction d with
  | zero =>
    intro _
    refine ⟨?_, rfl⟩
    show gn_ kn (i + 1) = _
    rw [gn_t hv, hz]; unfold m1_; rw [if_neg h0]
  | succ d ih =>
    intro hd
    obtain ⟨h1, h2⟩ := ih (by omega)
    have hne : gn_ kn (i + d + 1) ≠ i + d + 1 := by omega
    refine ⟨?_, ?_⟩
    · show gn_ kn (i + d + 1 + 1) = _
      rw [gn_f hne]; exact h1
    · show (if gn_ kn (i + d + 1) = i + d + 1 then _ else _) = _
      rw [if_neg hne]; exact h2
section
variable {yl ys yg yo yc : Int32} {yK yV yA yB yT yO yF yZ yC yS : Nat → Int32}
variable {K V : Nat → Nat} {N l : Nat} {w : List Nat}
variable {post : SY → Prop}
theorem zt_all (hw : wf_ K V N) (h0N : 0 < N) (hcm : op_ K N = 0) (hS : K N = 11) (hNl : N ≤ l) (hl : l ≤ 48) (hwm : w = mg_ K V N)
    (H : ∀ (ys' yc' : Int32) (yK' yV' yF' yZ' yS' : Nat → Int32), yd_ (tr_ K N) V N l w yl ys' yg yo yc' yK' yV' yA yB yT yO yF' yZ' yC yS' → post (yl, ys', yg, yo, yc', yK', yV', yA, yB, yT, yO, yF', yZ', yC, yS')) :
    ∀ (m i j p fuel : Nat) (ys yc : Int32) (yK yV yF yZ yS : Nat → Int32), N - i = m → i ≤ N → gn_ (fun s => kl_ K V s N) i = i → yd_ (tr_ K j) V j l w yl ys yg yo yc yK yV yA yB yT yO yF yZ yC yS → (j = i ∨ (j + 1 = i ∧ K j = 10)) → yz_ K yS (yk_ K (nf_ K V N) i) → p = (gg_ K V N i).length → (j + 1 = i → p < w.length) → w.length + 1 ≤ p + fuel →
      wY_read_9 post fuel (nI (yk_ K (nf_ K V N) i).length) (nI p) yl ys yg yo yc yK yV yA yB yT yO yF yZ yC yS := by
  intro m
  induction m using Nat.strongRecOn with
  | _ m ih =>
    intro i j p fuel ys yc yK yV yF yZ yS hm hiN hv D hj hz hp hpj hfu
    have hwl := D.2.2.2.2.2.2.2.2.1
    have hpw : p ≤ w.length := by rw [hp]; exact gg_le hwm hiN
    by_cases hNi : i = N
    · -- the end
      subst hNi
      have ew : p = w.length := by rw [hp, hwm]; rfl
      have hji : j = i := by
        rcases hj with z | z
        · exact z
        · have := hpj z.1; omega
      subst hji
      obtain ⟨f, rfl⟩ : ∃ f, fuel = f + 1 := ⟨fuel - 1, by omega⟩
      refine zr_end D (by omega) (by omega) (zr_524 D (fun _ => H ys yc yK yV yF yZ yS D) (fun z => ?_) (fun z => ?_))
      · rw [gc_op (b := j) tr_lt (Nat.le_refl _)] at z; exact absurd hcm z
      · rw [gc_op (b := j) tr_lt (Nat.le_refl _)] at z; exact absurd hcm z
    have hi : i < N := by omega
    have hpr : pr_ w p (gv_ K V (fun s => kl_ K V s N) (kt_ K V N) (nf_ K V N) i) := by rw [hp]; exact gg_pr hwm hi hv
    have hg1 := gg_s hv
    have hV := (hw i hi).1.2.1
    have hK11 := (hw i hi).1.1
    by_cases hk : kl_ K V i N = 0
    · -- spelled out
      have hv1 : gn_ (fun s => kl_ K V s N) (i + 1) = i + 1 := by rw [gn_t hv]; show i + m1_ (kl_ K V i N) = _; unfold m1_; rw [if_pos hk]
      have hgv : gv_ K V (fun s => kl_ K V s N) (kt_ K V N) (nf_ K V N) i = ((if nf_ K V N i = true then [78] else []) ++ pe_ K V i) ++ (if ec_ K (nf_ K V N) i = true then [69] else []) := by
        unfold gv_; rw [if_pos hk, List.append_assoc]
      rw [hgv] at hpr hg1
      have hpE := (pr_app.mp hpr).2
      have hpP := (pr_app.mp hpr).1
      have spell : ∀ (q f : Nat) (ys' : Int32) (yK' yV' yS' : Nat → Int32), q = p + ((if nf_ K V N i = true then [78] else []) ++ pe_ K V i).length → w.length + 1 ≤ q + f → yd_ (tr_ K (i + 1)) V (i + 1) l w yl ys' yg yo yc yK' yV' yA yB yT yO yF yZ yC yS' → yz_ K yS' (yn_ K (nf_ K V N) (i + 1)) → wY_read_9 post f (nI (yn_ K (nf_ K V N) (i + 1)).length) (nI q) yl ys' yg yo yc yK' yV' yA yB yT yO yF yZ yC yS' := by
        intro q f ys' yK' yV' yS' hq hf D2 hz2
        refine zt_E hw hNl hl hi D2 hz2 (by rw [hq]; exact hpE) hf ?_
        intro fuel' hf' hz3 ys2 yK2 yV2 D3
        refine ih (N - (i + 1)) (by omega) (i + 1) (i + 1) _ fuel' ys2 yc yK2 yV2 yF yZ yS' rfl (by omega) hv1 D3 (Or.inl rfl) hz3 ?_ (fun z => by omega) hf'
        rw [hg1, List.length_append (as := gg_ K V N i), List.length_append (bs := if ec_ K (nf_ K V N) i = true then [69] else []), hq, hp]
        omega
      by_cases hh : ka_h (K i) = true
      · exact zt_hd hw hNl hl hi D hj hz hh hpP hfu spell
      · have hh' : ka_h (K i) = false := by simpa using hh
        have hnf : nf_ K V N i = false := by
          cases z : nf_ K V N i with
          | false => rfl
          | true => have := (nf_h hw z).1; rw [hh'] at this; exact absurd this (by decide)
        rw [hnf, if_neg (by decide), List.nil_append] at hpP spell hg1
        have hKi : K i = 1 ∨ K i = 3 ∨ K i = 4 ∨ K i = 5 ∨ K i = 6 ∨ K i = 7 ∨ K i = 8 ∨ K i = 9 ∨ K i = 10 ∨ K i = 11 := by rw [ka_hi] at hh; omega
        have hip : 0 < i := by
          rcases Nat.eq_zero_or_pos i with z | z
          · have := wf_0 hw h0N; rw [z, this] at hh'; exact absurd hh' (by decide)
          · exact z
        have pend : en_ K i → j = i := by
          intro z
          rcases hj with y | y
          · exact y
          · exfalso
            have := (yk_sig (nf := nf_ K V N) hw (j := j) (by omega) y.2).2.2.2
            rw [y.1] at this; exact this z
        have af : ∀ (f : Nat) (ys' : Int32) (yK' yV' yS' : Nat → Int32), w.length + 1 ≤ p + (pe_ K V i).length + f → yd_ (tr_ K (i + 1)) V (i + 1) l w yl ys' yg yo yc yK' yV' yA yB yT yO yF yZ yC yS' → yz_ K yS' (yn_ K (nf_ K V N) (i + 1)) → wY_read_9 post f (nI (yn_ K (nf_ K V N) (i + 1)).length) (nI (p + (pe_ K V i).length)) yl ys' yg yo yc yK' yV' yA yB yT yO yF yZ yC yS' :=
          fun f ys' yK' yV' yS' a b c => spell _ f ys' yK' yV' yS' rfl a b c
        by_cases h8 : K i = 8
        · exact zt_q hw hNl hl hi D hj hz h8 hpP hfu af
        by_cases hpl : K i = 3 ∨ K i = 4 ∨ K i = 5 ∨ K i = 6 ∨ K i = 7 ∨ K i = 9
        · exact zt_pl hw hNl hl hi D hj hz hpP hfu hpl af
        by_cases h1 : K i = 1
        · -- MEMBER
          have hen : en_ K i := by
            rcases ft_c (hw i hi).2 hip with u | u | u | u
            · exact u.2
            · exact u.2.1
            · exact u.2.2
            · exact absurd h1 u.1
          have hji := pend hen
          subst hji
          obtain ⟨s, r, es, hs, _⟩ := en_top hw (by omega) hen
          have hsi : s < j := sk_lt (show s ∈ sk_ K j by rw [es]; simp)
          have hoe : oe_ K s (j - 1) = true := oe_i.mpr ⟨by rw [show j - 1 + 1 = j by omega]; exact hen, by rw [show j - 1 + 1 = j by omega, es]; rfl⟩
          have hos : oe_ K s j = true := by have := oe_1 hoe (by rw [show j - 1 + 1 = j by omega]; exact h1); rw [show j - 1 + 1 = j by omega] at this; exact this
          have hvs := gn_own hw hi (kc_kl hw) hv hos hsi
          have hvs2 : s + m1_ (kl_ K V s N) ≤ j := hvs.2
          have hnfs : nf_ K V N s = true := by
            unfold nf_
            rw [hm_i.mpr ⟨j, hi, hos, h1⟩, Bool.true_and]
            apply decide_eq_true
            have h2 := ne_le hi hos
            by_cases z : kl_ K V s N = 0
            · omega
            · have : m1_ (kl_ K V s N) = kl_ K V s N := by unfold m1_; rw [if_neg z]
              omega
          have eyk : yk_ K (nf_ K V N) j = s :: r.filter (fl_ K (nf_ K V N)) := by
            unfold yk_
            rw [sj_13 (Or.inl h1), es, List.filter_cons_of_pos (by rw [fl_h hs]; exact hnfs)]
          exact zt_mem hw hNl hl hi D hz hpP hfu h1 eyk hs af
        by_cases h10 : K i = 10
        · -- SIG
          have hen : en_ K i := by
            rcases ft_c (hw i hi).2 hip with u | u | u | u
            · exact u.2
            · exact u.2.1
            · exact u.2.2
            · omega
          have hji := pend hen
          subst hji
          have hs := yk_sig (nf := nf_ K V N) hw hi h10
          have hec : ec_ K (nf_ K V N) j = false := by unfold ec_; rw [eb_n.mpr hs.2.2.2, Bool.false_and]
          have hpe : pe_ K V j = [] := by unfold pe_; rw [if_neg (by omega), if_neg (by omega), if_neg (by omega), if_neg (by omega), if_pos h10]
          have hfl : fl_ K (nf_ K V N) j = false := by rw [fl_f (by rw [h10]; rfl), decide_eq_false (by omega)]
          have e2 := yn_o (nf := nf_ K V N) (K := K) (i := j) (by omega) (by omega) (by omega) (by omega)
          rw [hfl, if_neg (by decide), List.nil_append, (yk_e (nf := nf_ K V N) hw hi).2 hec] at e2
          have hg2 : gg_ K V N (j + 1) = gg_ K V N j := by rw [hg1, hpe, hec]; simp
          have hnc := (nc_ hw hcm hS hwm hiN hv (by omega)).2 hi h10
          rw [← e2]
          refine ih (N - (j + 1)) (by omega) (j + 1) j p fuel ys yc yK yV yF yZ yS rfl (by omega) hv1 D (Or.inr ⟨rfl, h10⟩) (by rw [hs.1]; trivial) (by rw [hg2]; exact hp) (fun _ => ?_) hfu
          rw [hp]; exact hnc
        -- END
        have h11 : K i = 11 := by omega
        have hpe : pe_ K V i = pn_ K i := by unfold pe_; rw [if_neg (by omega), if_neg (by omega), if_pos h11]
        have hft := zt_ft hw hi
        have hV0 : V i = 0 := by rw [h11] at hV; exact Nat.le_zero.mp hV
        rw [h11, hV0] at hft
        have hrv : ∀ (ys' yc' : Int32) (yK' yV' yF' yZ' yS' : Nat → Int32), K (op_ K i) = 10 → yd_ (tr_ K i) V i l w yl ys' yg yo yc' yK' yV' yA yB yT yO yF' yZ' yC yS' → wY_read_524 post yl ys' yg yo yc' yK' yV' yA yB yT yO yF' yZ' yC yS' := by
          intro ys' yc' yK' yV' yF' yZ' yS' hf10 D2
          have hN1 := sig_last hw hi h11 hf10
          refine zr_524 D2 (fun z => ?_) (fun _ hr => absurd hft (hr (by omega))) (fun _ _ _ D3 => ?_)
          · rw [gc_op (b := i) tr_lt (Nat.le_refl _)] at z
            rw [z, wf_0 hw h0N] at hf10; exact absurd hf10 (by decide)
          · have ek : un_ (tr_ K i) i 11 = tr_ K (i + 1) := by rw [← h11]; exact tr_s
            have ev : un_ V i 0 = V := by rw [← hV0]; exact un_self
            rw [ek, ev, ← hN1] at D3
            rw [← hN1]
            exact H _ yc' _ _ yF' yZ' yS' D3
        by_cases hf10 : K (op_ K i) = 10
        · have hN1 := sig_last hw hi h11 hf10
          have hec : ec_ K (nf_ K V N) i = false := by
            unfold ec_; rw [eb_n.mpr (fun y => by have := ((en_e h11).mp y).1; omega), Bool.false_and]
          have hgl : w.length = p + (pn_ K i).length := by
            have hg2 : gg_ K V N (i + 1) = gg_ K V N i ++ pn_ K i := by rw [hg1, hec, hpe]; simp
            rw [hp, ← List.length_append, ← hg2, ← hN1, hwm]; rfl
          by_cases q : K (op_ K i) ≠ 3 ∧ tc_ K (op_ K i) i = rc_ K (op_ K i)
          · have hpn : pn_ K i = [118] := by unfold pn_; rw [if_pos q, if_pos hf10]; rfl
            rw [hpe, hpn] at hpP
            rw [hpn] at hgl
            refine zt_v hw hNl hl hi D hj hz h11 q.1 (pr_hd hpP).1 hfu ?_
            intro f ys' yK' yV' hf D2
            obtain ⟨f2, rfl⟩ : ∃ f2, f = f2 + 1 := ⟨f - 1, by have : w.length = p + 1 := hgl; omega⟩
            exact zr_end D2 (by omega) (by have : w.length = p + 1 := hgl; omega) (hrv ys' yc yK' yV' yF yZ yS hf10 D2)
          · have hpn : pn_ K i = [] := by unfold pn_; rw [if_neg q, if_pos hf10]; rfl
            rw [hpn] at hgl
            have hgl' : w.length = p := hgl
            have hji : j = i := by
              rcases hj with z | z
              · exact z
              · have := hpj z.1; omega
            subst hji
            obtain ⟨f2, rfl⟩ : ∃ f2, fuel = f2 + 1 := ⟨fuel - 1, by omega⟩
            exact zr_end D (by omega) (by omega) (hrv ys yc yK yV yF yZ yS hf10 D)
        · by_cases q : K (op_ K i) ≠ 3 ∧ tc_ K (op_ K i) i = rc_ K (op_ K i)
          · have hpn : pn_ K i = [118, 69] := by unfold pn_; rw [if_pos q, if_neg hf10]; rfl
            rw [hpe, hpn] at hpP af
            have h2 := pr_hd hpP
            refine zt_v hw hNl hl hi D hj hz h11 q.1 h2.1 hfu ?_
            intro f ys' yK' yV' hf D2
            refine zt_le hw hNl hl hi D2 (Or.inl rfl) hz h11 hf10 (pr_hd h2.2).1 hf ?_
            intro f2 ys2 yK2 yV2 hf2 D3 hz3
            exact af f2 ys2 yK2 yV2 yS (by show w.length + 1 ≤ p + 2 + f2; omega) D3 hz3
          · have hpn : pn_ K i = [69] := by unfold pn_; rw [if_neg q, if_neg hf10]; rfl
            rw [hpe, hpn] at hpP af
            refine zt_le hw hNl hl hi D hj hz h11 hf10 (pr_hd hpP).1 hfu ?_
            intro f2 ys2 yK2 yV2 hf2 D3 hz3
            exact af f2 ys2 yK2 yV2 yS (by show w.length + 1 ≤ p + 1 + f2; omega) D3 hz3
    · -- a reference
      have hgv : gv_ K V (fun s => kl_ K V s N) (kt_ K V N) (nf_ K V N) i = (if nf_ K V N i = true then [78] else []) ++ 83 :: nu_ (kt_ K V N i) 36 := by
        unfold gv_; rw [if_neg hk]
      rw [hgv] at hpr hg1
      have hkc1 : i + kl_ K V i N ≤ N := (kc_kl hw i hi hk).1
      have hrf := gn_rf (K := K) (V := V) (kt := kt_ K V N) (nf := nf_ K V N) (z := kl_ K V i N) hv rfl hk (kl_ K V i N - 1) (by show kl_ K V i N - 1 + 1 ≤ kl_ K V i N; omega)
      have e1 : i + (kl_ K V i N - 1) + 1 = i + kl_ K V i N := by omega
      have hr1 : gn_ (fun s => kl_ K V s N) (i + kl_ K V i N) = i + kl_ K V i N := by have := hrf.1; rw [e1] at this; exact this
      have hr2 : gg_ K V N (i + kl_ K V i N) = gg_ K V N (i + 1) := by have := hrf.2; rw [e1] at this; exact this
      refine zt_rf hw hcm hS hNl hl hi D hj hz hk hpr hfu ?_
      intro q f ys' yc' yK' yV' yF' yZ' yS' hq hf D2 hz2
      refine ih (N - (i + kl_ K V i N)) (by omega) (i + kl_ K V i N) (i + kl_ K V i N) q f ys' yc' yK' yV' yF' yZ' yS' rfl hkc1 hr1 D2 (Or.inl rfl) hz2 ?_ (fun z => by omega) hf
      rw [hr2, hg1, List.length_append (as := gg_ K V N i), hq, hp]
theorem zt_0 (hw : wf_ K V N) (h0N : 0 < N) (hcm : op_ K N = 0) (hS : K N = 11) (hNl : N ≤ l) (hl : l ≤ 48) (hwm : w = mg_ K V N) (D : yd_ (tr_ K 0) V 0 l w yl ys yg yo yc yK yV yA yB yT yO yF yZ yC yS)
    (H : ∀ (ys' yc' : Int32) (yK' yV' yF' yZ' yS' : Nat → Int32), yd_ (tr_ K N) V N l w yl ys' yg yo yc' yK' yV' yA yB yT yO yF' yZ' yC yS' → post (yl, ys', yg, yo, yc', yK', yV', yA, yB, yT, yO, yF', yZ', yC, yS')) : wY_read_9 post w.length 0 2 yl ys yg yo yc yK yV yA yB yT yO yF yZ yC yS := by
  have hyk : yk_ K (nf_ K V N) 0 = [] := List.length_eq_zero_iff.mp (Nat.le_zero.mp (yk_len (nf := nf_ K V N) (i := 0) hw (Nat.zero_le _)).1)
  have := zt_all hw h0N hcm hS hNl hl hwm H N 0 0 2 w.length ys yc yK yV yF yZ yS rfl (Nat.zero_le _) rfl D (Or.inl rfl) (by rw [hyk]; trivial) rfl (fun z => by omega) (by omega)
  rw [hyk] at this
  exact this
end
end
section
/-! demangle: the class -/
/-- these nodes have this symbol -/
def dm_ (K V : Nat → Nat) (N l : Nat) (w : List Nat) : Prop := wf_ K V N ∧ (∀ j, N ≤ j → K j = 11) ∧ 0 < N ∧ N ≤ l ∧ op_ K N = 0 ∧ mg_ K V N = w
theorem tr_id {K : Nat → Nat} {N : Nat} (h : ∀ j, N ≤ j → K j = 11) : tr_ K N = K := by
  funext j
  unfold tr_
  by_cases z : j < N
  · rw [if_pos z]
  · rw [if_neg z, h j (by omega)]
theorem dv_1024 {k v : Nat} (hk : k ≤ 11) (hv : v ≤ 701) : nI (k * 1024 + v) / 1024 = nI k ∧ nI (k * 1024 + v) - nI (k * 1024 + v) / 1024 * 1024 = nI v := by
  have e : (1024 : Int32) = nI 1024 := rfl
  have e1 : (k * 1024 + v) / 1024 = k := by omega
  have h1 : nI (k * 1024 + v) / 1024 = nI k := by rw [e, pk_div (by omega) (by omega) (by omega), e1]
  refine ⟨h1, ?_⟩
  rw [h1, e, pk_mul, pk_sub (by omega), show k * 1024 + v - k * 1024 = v by omega]
/-- the saved nodes -/
def sn_ (K V : Nat → Nat) (m : Nat) (xv : Nat → Int32) : Prop := ∀ j, j < m → xv j = nI (K j * 1024 + V j)
section
variable {xo xb : Int64} {xl xs xg xu xd xc xe xp xf xz : Int32} {xK xV xO xT xS xA xY xN xW xk xt xH xn : Nat → Int32} {xq : Nat → Int64} {xy xF xZ xC xv : Nat → Int32}
variable {K V : Nat → Nat} {N l : Nat} {w : List Nat}
variable {post : Int32 → SX → Prop}
theorem rt_ {post : SX → Prop} (h : post (xo, xb, xl, xs, xg, 0, 0, 0, 0, xp, xf, xz, xK, xV, xO, xT, xS, xA, xY, xN, xW, xk, xt, xH, xn, xq, xy, xF, xZ, xC, xv)) : wpX_resetTable post (xo, xb, xl, xs, xg, xu, xd, xc, xe, xp, xf, xz, xK, xV, xO, xT, xS, xA, xY, xN, xW, xk, xt, xH, xn, xq, xy, xF, xZ, xC, xv) := h
/-- the nodes come back -/
theorem zd_97 (hw : wf_ K V N) (hN : N ≤ 48) (hsn : sn_ K V N xv)
    (H : ∀ (xs' : Int32) (xK' xV' xO' : Nat → Int32), xs' = nI N → kx_ (tr_ K N) V N xK' xV' → ox_ (tr_ K N) N xO' → post 6 (xo, xb, xl, xs', xg, 0, 0, 0, 0, xp, xf, xz, xK', xV', xO', xT, xS, xA, xY, xN, xW, xk, xt, xH, xn, xq, xy, xF, xZ, xC, xv)) :
    ∀ (d j : Nat) (xs : Int32) (xK xV xO : Nat → Int32), j + d = N → xs = nI j → kx_ (tr_ K j) V j xK xV → ox_ (tr_ K j) j xO → wX_demangle_97 post (nI N) 0 (d + 1) (nI j) xo xb xl xs xg xu xd xc xe xp xf xz xK xV xO xT xS xA xY xN xW xk xt xH xn xq xy xF xZ xC xv := by
  intro d
  induction d with
  | zero =>
    intro j xs xK xV xO hj hs hkx hox
    have : j = N := by omega
    subst this
    exact br_t rfl (br_t (nI_le (Nat.le_refl _) (by omega)) (br_t rfl (H xs xK xV xO hs hkx hox)))
  | succ d ih =>
    intro j xs xK xV xO hj hs hkx hox
    have hjN : j < N := by omega
    have hvr := (hw j hjN).1
    have hm := mx_le (k := K j)
    have hvp : vp_in (nI j) 48 := vp_in_nI (by omega) (by omega)
    refine br_t rfl (br_f (nI_ge hjN (by omega)) ⟨hvp, by decide, hvp, by decide, ?_⟩)
    have hV7 : V j ≤ 701 := by have := hvr.2.1; omega
    have e := dv_1024 (k := K j) (v := V j) hvr.1 hV7
    rw [nI_clamp (by omega), hsn j hjN, e.2, e.1]
    refine zf_ap (K := tr_ K j) (N := j) (fun z => ?_) (by omega) hs hox hvr.1 (fun z => ?_) (fun hox2 => nm_r (nI_1 j) ?_)
    · rw [tr_lt 0 z]; exact wf_0 hw (by omega)
    · rw [z]; exact wf_0 hw (by omega)
    · rw [tr_s] at hox2 ⊢
      refine ih (j + 1) _ _ _ _ (by omega) rfl ?_ hox2
      have := kx_add (k := K j) (v := V j) hkx hvr.1 hV7
      rw [tr_s, un_self] at this
      exact this
/-- refused -/
theorem zd_84 (hw : wf_ K V N) (hS : ∀ j, N ≤ j → K j = 11) (hN : N ≤ 48) (hsn : sn_ K V N xv)
    (H : ∀ (xs' : Int32) (xK' xV' xO' : Nat → Int32), xs' = nI N → kx_ K V N xK' xV' → ox_ K N xO' → post 6 (xo, xb, xl, xs', xg, 0, 0, 0, 0, xp, xf, xz, xK', xV', xO', xT, xS, xA, xY, xN, xW, xk, xt, xH, xn, xq, xy, xF, xZ, xC, xv)) :
    wX_demangle_84 post (nI N) xo xb xl xs xg xu xd xc xe xp xf xz xK xV xO xT xS xA xY xN xW xk xt xH xn xq xy xF xZ xC xv := by
  refine br_t rfl ⟨N + 1, ?_⟩
  refine zd_97 hw hN hsn (fun xs' xK' xV' xO' h1 h2 h3 => ?_) N 0 0 xK xV xO (by omega) rfl (fun j hj => by omega) (fun j hj => by omega)
  rw [tr_id hS] at h2 h3
  exact H xs' xK' xV' xO' h1 h2 h3
/-- the nodes are saved -/
theorem zd_7 (hw : wf_ K V N) (hN : N ≤ 48) (hkx : kx_ K V N xK xV)
    (H : ∀ xv' : Nat → Int32, sn_ K V N xv' → wX_demangle_7 post (nI N) xo xb xl xs xg xu xd xc xe xp xf xz 1 (nI N) xK xV xO xT xS xA xY xN xW xk xt xH xn xq xy xF xZ xC xv') :
    ∀ (d j : Nat) (xv : Nat → Int32), j + d = N → sn_ K V j xv → wX_demangle_7 post (nI N) xo xb xl xs xg xu xd xc xe xp xf xz (d + 1) (nI j) xK xV xO xT xS xA xY xN xW xk xt xH xn xq xy xF xZ xC xv := by
  intro d
  induction d with
  | zero =>
    intro j xv hj h
    have : j = N := by omega
    subst this
    exact H xv h
  | succ d ih =>
    intro j xv hj h
    have hjN : j < N := by omega
    have hk := hkx j hjN
    have hvp : vp_in (nI j) 48 := vp_in_nI (by omega) (by omega)
    refine br_f (nI_ge hjN (by omega)) ⟨hvp, hvp, hvp, nm_r (e' := upd xv j (nI (K j * 1024 + V j))) ?_ (nm_r (nI_1 j) (ih (j + 1) _ (by omega) ?_))⟩
    · rw [nI_clamp (by omega), hk.1, hk.2.1, show (1024 : Int32) = nI 1024 from rfl, pk_mul, nI_add]
    · intro x hx
      by_cases z : x = j
      · subst z; rw [pk_us]
      · rw [pk_un z]; exact h x (by omega)
theorem zd_i (hl : l ≤ 48) (hxl : xl = nI l) (hw : wf_ K V 0) (hS : ∀ j, 0 ≤ j → K j = 11) (ht : tk_ 256 w xg xT) (hwl : w.length ≤ 256) (hwc : ∀ c, c ∈ w → c < 2 ^ 20) : rd_ K V 0 false 0 (fun _ => []) (fun _ => false) l w 2 xo xb xl 0 xg 0 0 0 0 (nI 2) xf xz xK xV xO xT xS xA xY xN xW xk xt xH xn xq xy xF xZ xC xv :=
  ⟨hw, hS, by omega, hl, hxl, rfl, rfl, fun j hj => by omega, fun j hj => by omega, ⟨ht, hwl, hwc, rfl, by omega⟩, ti_0 (m := 0) rfl rfl rfl⟩
/-- the text is the symbol of some nodes -/
theorem zd_x1 {K' V' : Nat → Nat} {N' : Nat} (hw : wf_ K V N) (hNl : N ≤ l) (hl : l ≤ 48) (hxl : xl = nI l) (hxs : xs = nI N) (hkx : kx_ K V N xK xV) (ht : tk_ 256 w xg xT) (hwl : w.length ≤ 256) (hwc : ∀ c, c ∈ w → c < 2 ^ 20) (D : dm_ K' V' N' l w)
    (H : ∀ (xs' xu' xd' xc' xe' xf' : Int32) (xK' xV' xO' xS' xA' xY' xN' xW' xk' xt' xH' : Nat → Int32) (xq' : Nat → Int64) (xy' xF' xZ' : Nat → Int32) (xp' xz' : Int32) (xn' xC' xv' : Nat → Int32), xs' = nI N' → kx_ K' V' N' xK' xV' → ox_ K' N' xO' → post 0 (xo, xb, xl, xs', xg, 0, 0, 0, 0, xp', xf', xz', xK', xV', xO', xT, xS', xA', xY', xN', xW', xk', xt', xH', xn', xq', xy', xF', xZ', xC', xv')) :
    wpX_demangle post (xo, xb, xl, xs, xg, xu, xd, xc, xe, xp, xf, xz, xK, xV, xO, xT, xS, xA, xY, xN, xW, xk, xt, xH, xn, xq, xy, xF, xZ, xC, xv) := by
  obtain ⟨d1, d2, d3, d4, d5, d6⟩ := D
  subst hxs
  refine ⟨N + 1, zd_7 hw (by omega) hkx (fun xv' hsn => ?_) N 0 xv (by omega) (fun j hj => by omega)⟩
  have hpre : [95, 90] <+: w := by rw [← d6]; exact go_pre (K := K') (V := V') (i := 0) (Nat.zero_le _)
  have hp0 := pr_hd (pr_of (a := []) (b := [95, 90]) hpre)
  have hp1 := pr_hd hp0.2
  have L0 : lx_ w 0 xg 0 xT := ⟨ht, hwl, hwc, rfl, by omega⟩
  refine br_t (nI_le (Nat.le_refl _) (by omega)) (rt_ ?_)
  show wpX_skip _ _ _
  refine zq_sk (a := 95) L0 (by omega) (fun _ => br_f (by decide) ?_) (fun z => absurd hp0.1 z)
  refine zq_sk (a := 90) (p := 0 + 1) (lx_p L0 (by omega)) (by omega) (fun _ => br_f (by decide) ?_) (fun z => absurd hp1.1 z)
  refine ⟨200, ?_⟩
  have hi := zd_i (xo := xo) (xb := xb) (xf := 0) (xz := 0) (xK := xK) (xV := xV) (xO := xO) (xS := xS) (xA := xA) (xY := xY) (xN := xN) (xW := xW) (xk := xk) (xt := xt) (xH := xH) (xn := xn) (xq := xq) (xy := xy) (xF := xF) (xZ := xZ) (xC := xC) (xv := xv') (K := tr_ K' 0) (V := V') hl hxl (fun j hj => by omega) tr_ge ht hwl hwc
  refine zb_sym (K := K') (V := V') (N := N') (l := l) (w := w) d1 d3 d5 (d2 N' (Nat.le_refl _)) d4 d6.symm ?_ (ms_ N' 0 false) 0 false 2 0 0 (fun _ => []) (fun _ => false) _ _ _ _ _ _ _ _ _ _ _ _ _ _ _ _ _ _ _ _ _ _ _ _ rfl ?_ hi ?_ rfl rfl ?_ 200 ?_
  · intro c' p' n' cs' cl' xs' xu' xd' xc' xe' xf' xK' xV' xO' xS' xA' xY' xN' xW' xk' xt' xH' xq' xy' xF' xZ' xn' xC' R e0
    refine br_f (by decide) ?_
    have R6 := R.2.2.2.2.2.1
    have R8 := R.2.2.2.2.2.2.2.1
    have R9 := R.2.2.2.2.2.2.2.2.1
    rw [tr_id d2] at R8 R9
    exact br_f (by decide) ⟨1, br_f (by decide) (br_f (by decide) (H xs' xu' xd' xc' xe' xf' xK' xV' xO' xS' xA' xY' xN' xW' xk' xt' xH' xq' xy' xF' xZ' (nI p') 1 xn' xC' xv' R6 R8 R9))⟩
  · have : ms_ N' 0 false = 2 * N' + 1 := rfl
    omega
  · intro e s h
    rcases h with z | z <;> omega
  · exact ⟨Nat.zero_le _, rfl, rfl, fun z => absurd z (by decide), fun j hj => by omega, fun s hs => by omega, fun _ z => by have := z.1; omega⟩
  · have : ms_ N' 0 false = 2 * N' + 1 := rfl
    omega
/-- it is not -/
theorem zd_x0 (hw : wf_ K V N) (hS : ∀ j, N ≤ j → K j = 11) (hNl : N ≤ l) (hl : l ≤ 48) (hxl : xl = nI l) (hxs : xs = nI N) (hkx : kx_ K V N xK xV) (ht : tk_ 256 w xg xT) (hwl : w.length ≤ 256) (hwc : ∀ c, c ∈ w → c < 2 ^ 20) (D : ∀ K' V' N', ¬ dm_ K' V' N' l w)
    (H : ∀ (xs' xu' xd' xc' xe' xf' : Int32) (xK' xV' xO' xS' xA' xY' xN' xW' xk' xt' xH' : Nat → Int32) (xq' : Nat → Int64) (xy' xF' xZ' : Nat → Int32) (xp' xz' : Int32) (xn' xC' xv' : Nat → Int32), xs' = nI N → kx_ K V N xK' xV' → ox_ K N xO' → post 6 (xo, xb, xl, xs', xg, 0, 0, 0, 0, xp', xf', xz', xK', xV', xO', xT, xS', xA', xY', xN', xW', xk', xt', xH', xn', xq', xy', xF', xZ', xC', xv')) :
    wpX_demangle post (xo, xb, xl, xs, xg, xu, xd, xc, xe, xp, xf, xz, xK, xV, xO, xT, xS, xA, xY, xN, xW, xk, xt, xH, xn, xq, xy, xF, xZ, xC, xv) := by
  subst hxs
  refine ⟨N + 1, zd_7 hw (by omega) hkx (fun xv' hsn => ?_) N 0 xv (by omega) (fun j hj => by omega)⟩
  have fail : ∀ (xs' xu' xd' xc' xe' xf' : Int32) (xK' xV' xO' xS' xA' xY' xN' xW' xk' xt' xH' : Nat → Int32) (xq' : Nat → Int64) (xy' xF' xZ' : Nat → Int32) (xp' xz' : Int32) (xn' xC' : Nat → Int32), wX_demangle_84 post (nI N) xo xb xl xs' xg xu' xd' xc' xe' xp' xf' xz' xK' xV' xO' xT xS' xA' xY' xN' xW' xk' xt' xH' xn' xq' xy' xF' xZ' xC' xv' := by
    intro xs' xu' xd' xc' xe' xf' xK' xV' xO' xS' xA' xY' xN' xW' xk' xt' xH' xq' xy' xF' xZ' xp' xz' xn' xC'
    refine zd_84 hw hS (by omega) hsn ?_
    intro xs2 xK2 xV2 xO2 h1 h2 h3
    exact H xs2 xu' xd' xc' xe' xf' xK2 xV2 xO2 xS' xA' xY' xN' xW' xk' xt' xH' xq' xy' xF' xZ' xp' xz' xn' xC' xv' h1 h2 h3
  have L0 : lx_ w 0 xg 0 xT := ⟨ht, hwl, hwc, rfl, by omega⟩
  refine br_t (nI_le (Nat.le_refl _) (by omega)) (rt_ ?_)
  show wpX_skip _ _ _
  refine zq_sk (a := 95) L0 (by omega) (fun h95 => br_f (by decide) ?_) (fun z => br_t rfl (fail _ _ _ _ _ _ _ _ _ _ _ _ _ _ _ _ _ _ _ _ _ _ _ _ _))
  refine zq_sk (a := 90) (p := 0 + 1) (lx_p L0 (by omega)) (by omega) (fun h90 => br_f (by decide) ?_) (fun z => br_t rfl (fail _ _ _ _ _ _ _ _ _ _ _ _ _ _ _ _ _ _ _ _ _ _ _ _ _))
  have hpre : [95, 90] <+: w := by
    cases w with
    | nil => exact absurd h95 (by simp)
    | cons a r =>
      have e1 : a = 95 := Option.some.inj h95
      cases r with
      | nil => exact absurd h90 (by simp)
      | cons b r =>
        have e2 : b = 90 := Option.some.inj h90
        rw [e1, e2]; exact ⟨r, rfl⟩
  refine ⟨1024 + 1, ?_⟩
  have hi := zd_i (xo := xo) (xb := xb) (xf := 0) (xz := 0) (xK := xK) (xV := xV) (xO := xO) (xS := xS) (xA := xA) (xY := xY) (xN := xN) (xW := xW) (xk := xk) (xt := xt) (xH := xH) (xn := xn) (xq := xq) (xy := xy) (xF := xF) (xZ := xZ) (xC := xC) (xv := xv') (K := fun _ => 11) (V := V) hl hxl (fun j hj => by omega) (fun _ _ => rfl) ht hwl hwc
  refine zs_sym (l := l) (w := w) (fun K' V' N' a b c d e f => D K' V' N' ⟨a, b, c, d, e, f⟩) ?_ 1024 0 (fun _ => 11) V 0 false (fun _ => 0) (fun _ => 0) (fun _ => false) 2 0 (fun _ => []) (fun _ => false) _ _ _ _ _ _ _ _ _ _ _ _ _ _ _ _ _ _ _ _ _ _ _ _ rfl hi ?_ rfl rfl ?_
  · intro xs' xu' xd' xc' xe' xf' xK' xV' xO' xS' xA' xY' xN' xW' xk' xt' xH' xq' xy' xF' xZ' xp' xz' xn' xC'
    exact br_t rfl (fail xs' xu' xd' xc' xe' xf' xK' xV' xO' xS' xA' xY' xN' xW' xk' xt' xH' xq' xy' xF' xZ' xp' xz' xn' xC')
  · intro e s h
    rcases h with z | z <;> omega
  · exact ⟨rfl, fun _ _ => rfl, fun j z => absurd rfl z, ⟨hpre, rfl⟩, fun j hj => by omega, fun j z => absurd rfl z, fun s hs => by omega, fun s hs => by omega, fun s hs => by omega, fun _ z => by have := z.1; omega⟩
end
end
section
/-! demangle: the reference -/
section
variable {yl ys yg yo yc : Int32} {yK yV yA yB yT yO yF yZ yC yS : Nat → Int32}
variable {K V : Nat → Nat} {N l : Nat} {w : List Nat}
variable {post : Int32 → SY → Prop}
/-- the nodes are saved -/
theorem zd_y7 {x1 : Int32} (H : ∀ yA' yB' : Nat → Int32, (∀ j, j < 64 → yA' j = yK j ∧ yB' j = yV j) → wY_demangle_7 post x1 yl ys yg yo yc 1 (nI 64) yK yV yA' yB' yT yO yF yZ yC yS) :
    ∀ (d j : Nat) (yA yB : Nat → Int32), j + d = 64 → (∀ x, x < j → yA x = yK x ∧ yB x = yV x) → wY_demangle_7 post x1 yl ys yg yo yc (d + 1) (nI j) yK yV yA yB yT yO yF yZ yC yS := by
  intro d
  induction d with
  | zero =>
    intro j yA yB hj h
    have : j = 64 := by omega
    subst this
    exact H yA yB h
  | succ d ih =>
    intro j yA yB hj h
    have hvp : vp_in (nI j) 64 := vp_in_nI (by omega) (by omega)
    refine br_f (nI_ge (b := 64) (by omega) (by omega)) ⟨hvp, hvp, nm_r (e' := upd yA j (yK j)) (by rw [nI_clamp (by omega)]) ⟨hvp, hvp, nm_r (e' := upd yB j (yV j)) (by rw [nI_clamp (by omega)]) (nm_r (nI_1 j) (ih (j + 1) _ _ (by omega) ?_))⟩⟩
    intro x hx
    by_cases z : x = j
    · subst z; rw [pk_us, pk_us]; exact ⟨rfl, rfl⟩
    · rw [pk_un z, pk_un z]; exact h x (by omega)
/-- they come back -/
theorem zd_131 (H : ∀ yK' yV' : Nat → Int32, (∀ j, j < 64 → yK' j = yA j ∧ yV' j = yB j) → post 6 (yl, ys, yg, yo, yc, yK', yV', yA, yB, yT, yO, yF, yZ, yC, yS)) :
    ∀ (d j : Nat) (yK yV : Nat → Int32), j + d = 64 → (∀ x, x < j → yK x = yA x ∧ yV x = yB x) → wY_demangle_131 post yl ys yg yo yc (d + 1) (nI j) yK yV yA yB yT yO yF yZ yC yS := by
  intro d
  induction d with
  | zero =>
    intro j yK yV hj h
    have : j = 64 := by omega
    subst this
    exact br_t (by decide) (H yK yV h)
  | succ d ih =>
    intro j yK yV hj h
    have hvp : vp_in (nI j) 64 := vp_in_nI (by omega) (by omega)
    refine br_f (nI_ge (b := 64) (by omega) (by omega)) ⟨hvp, hvp, nm_r (e' := upd yK j (yA j)) (by rw [nI_clamp (by omega)]) ⟨hvp, hvp, nm_r (e' := upd yV j (yB j)) (by rw [nI_clamp (by omega)]) (nm_r (nI_1 j) (ih (j + 1) _ _ (by omega) ?_))⟩⟩
    intro x hx
    by_cases z : x = j
    · subst z; rw [pk_us, pk_us]; exact ⟨rfl, rfl⟩
    · rw [pk_un z, pk_un z]; exact h x (by omega)
/-- the comparison of what differs -/
theorem zd_79n {x1 : Int32} {m : List Nat} (ht : tk_ 256 w yg yT) (hwl : w.length ≤ 256) (hwc : ∀ c, c ∈ w → c < 2 ^ 20) (hmc : ∀ c, c ∈ m → c < 2 ^ 20) (hml : m.length = w.length) (ho : ∀ j c, m[j]? = some c → yO j = nI c) (hne : m ≠ w)
    (H : wY_demangle_118 post x1 0 yl ys yg yo yc yK yV yA yB yT yO yF yZ yC yS) : ∀ (d j : Nat), j + d = w.length → (∀ x, x < j → m[x]? = w[x]?) → wY_demangle_79 post x1 yl ys yg yo yc yK yV yA yB yT yO yF yZ yC yS (d + 1) 1 (nI j) := by
  have e := tk_e ht hwl
  intro d
  induction d with
  | zero =>
    intro j hj h
    exfalso
    apply hne
    apply List.ext_getElem?
    intro x
    rcases Nat.lt_or_ge x j with z | z
    · exact h x z
    · rw [List.getElem?_eq_none (by omega), List.getElem?_eq_none (by omega)]
  | succ d ih =>
    intro j hj h
    have hjw : j < w.length := by omega
    have hjm : j < m.length := by omega
    have ew := List.getElem?_eq_getElem hjw
    have em := List.getElem?_eq_getElem hjm
    have cw := hwc _ (List.getElem_mem hjw)
    have cm := hmc _ (List.getElem_mem hjm)
    refine br_f (by rw [e.1]; exact nI_ge hjw (by omega)) (br_f (by decide) ⟨vp_in_nI (by omega) (by omega), vp_in_nI (by omega) (by omega), ?_⟩)
    rw [nI_clamp (by omega), e.2 j _ ew, ho j _ em]
    refine pk_eq (m[j]'hjm) (w[j]'hjw) (fun q => nm_r (nI_1 j) (ih (j + 1) (by omega) (fun x hx => ?_))) (fun q => nm_r (nI_1 j) ?_)
    · by_cases z : x = j
      · rw [z, ew, em, q]
      · exact h x (by omega)
    · exact br_c (fun _ => H) (fun _ => br_t rfl H)
theorem zd_79y {x1 : Int32} (ht : tk_ 256 w yg yT) (hwl : w.length ≤ 256) (ho : ∀ j c, w[j]? = some c → yO j = nI c)
    (H : wY_demangle_118 post x1 1 yl ys yg yo yc yK yV yA yB yT yO yF yZ yC yS) : ∀ (d j : Nat), j + d = w.length → wY_demangle_79 post x1 yl ys yg yo yc yK yV yA yB yT yO yF yZ yC yS (d + 1) 1 (nI j) := by
  have e := tk_e ht hwl
  intro d
  induction d with
  | zero =>
    intro j hj
    exact br_t (by rw [e.1]; exact nI_le (by omega) (by omega)) H
  | succ d ih =>
    intro j hj
    have hjw : j < w.length := by omega
    have ew := List.getElem?_eq_getElem hjw
    refine br_f (by rw [e.1]; exact nI_ge hjw (by omega)) (br_f (by decide) ⟨vp_in_nI (by omega) (by omega), vp_in_nI (by omega) (by omega), ?_⟩)
    rw [nI_clamp (by omega), e.2 j _ ew, ho j _ ew]
    exact br_t rfl (nm_r (nI_1 j) (ih (j + 1) (by omega)))
theorem tk_5 {m w : List Nat} {g o : Int32} {O : Nat → Int32} (h : tk_ 512 m o O) (hw : w.length ≤ 256) (hg : g = nI w.length) : (o = g ↔ m.length = w.length) ∧ (m.length = w.length → ∀ j c, m[j]? = some c → O j = nI c) := by
  unfold tk_ at h
  have hl : (m.take 512).length ≤ 512 := by rw [List.length_take]; omega
  have key : o = g ↔ (m.take 512).length = w.length := by rw [h.1, hg]; exact nI_eq (by omega) (by omega)
  have hmin : (m.take 512).length = w.length ↔ m.length = w.length := by rw [List.length_take]; omega
  refine ⟨key.trans hmin, fun e j c hc => h.2 j c ?_⟩
  rw [List.take_of_length_le (by omega)]; exact hc
/-- the text is the symbol of some nodes -/
theorem zd_y1 {K' V' : Nat → Nat} {N' : Nat} (D0 : yd_ K V N l w yl ys yg yo yc yK yV yA yB yT yO yF yZ yC yS) (D : dm_ K' V' N' l w)
    (H : ∀ (ys' yo' yc' : Int32) (yK' yV' yA' yB' yO' yF' yZ' yC' yS' : Nat → Int32), yd_ K' V' N' l w yl ys' yg yo' yc' yK' yV' yA' yB' yT yO' yF' yZ' yC' yS' → post 0 (yl, ys', yg, yo', yc', yK', yV', yA', yB', yT, yO', yF', yZ', yC', yS')) :
    wpY_demangle post (yl, ys, yg, yo, yc, yK, yV, yA, yB, yT, yO, yF, yZ, yC, yS) := by
  obtain ⟨d1, d2, d3, d4, d5, d6⟩ := D
  have hl := D0.2.2.2.1
  have ht := D0.2.2.2.2.2.2.2.1
  have hwl := D0.2.2.2.2.2.2.2.2.1
  refine ⟨65, zd_y7 (fun yA' yB' _ => ?_) 64 0 yA yB (by omega) (fun x hx => by omega)⟩
  refine br_t (by decide) ⟨w.length, ?_⟩
  have D1 : yd_ (tr_ K' 0) V' 0 l w yl 0 yg yo yc yK yV yA' yB' yT yO yF yZ yC yS := ⟨fun j hj => by omega, tr_ge, by omega, hl, D0.2.2.2.2.1, rfl, fun j hj => by omega, ht, hwl, D0.2.2.2.2.2.2.2.2.2⟩
  refine zt_0 d1 d3 d5 (d2 N' (Nat.le_refl _)) d4 hl d6.symm D1 ?_
  intro ys2 yc2 yK2 yV2 yF2 yZ2 yS2 D2
  rw [tr_id d2] at D2
  refine zo_cy (K := K') (V := V') (N := N') d1 (by omega) D2.2.2.2.2.2.1 D2.2.2.2.2.2.2.1 (fun _ _ => br_f (by decide) ?_) (fun z => absurd ⟨d3, d5⟩ z)
  refine zv_sym d1 (by omega) d5 D2.2.2.2.2.2.1 D2.2.2.2.2.2.2.1 (d2 N' (Nat.le_refl _)) ?_
  intro yc3 yo3 yF3 yZ3 yO3 yC3 hk
  rw [d6] at hk
  have h5 := tk_5 hk hwl (tk_e ht hwl).1
  refine br_t (h5.1.mpr rfl) ⟨w.length + 1, ?_⟩
  refine zd_79y ht hwl (h5.2 rfl) (br_f (by decide) ?_) w.length 0 (by omega)
  exact H ys2 yo3 yc3 yK2 yV2 yA' yB' yO3 yF3 yZ3 yC3 yS2 D2
/-- it is not -/
theorem zd_y0 (D0 : yd_ K V N l w yl ys yg yo yc yK yV yA yB yT yO yF yZ yC yS) (D : ∀ K' V' N', ¬ dm_ K' V' N' l w)
    (H : ∀ (ys' yo' yc' : Int32) (yK' yV' yA' yB' yO' yF' yZ' yC' yS' : Nat → Int32), yd_ K V N l w yl ys' yg yo' yc' yK' yV' yA' yB' yT yO' yF' yZ' yC' yS' → post 6 (yl, ys', yg, yo', yc', yK', yV', yA', yB', yT, yO', yF', yZ', yC', yS')) :
    wpY_demangle post (yl, ys, yg, yo, yc, yK, yV, yA, yB, yT, yO, yF, yZ, yC, yS) := by
  have hl := D0.2.2.2.1
  have ht := D0.2.2.2.2.2.2.2.1
  have hwl := D0.2.2.2.2.2.2.2.2.1
  have hwc := D0.2.2.2.2.2.2.2.2.2
  refine ⟨65, zd_y7 (fun yA' yB' hAB => ?_) 64 0 yA yB (by omega) (fun x hx => by omega)⟩
  have back : ∀ (ys' yo' yc' : Int32) (yK' yV' yO' yF' yZ' yC' yS' : Nat → Int32), wY_demangle_118 post ys 0 yl ys' yg yo' yc' yK' yV' yA' yB' yT yO' yF' yZ' yC' yS' := by
    intro ys' yo' yc' yK' yV' yO' yF' yZ' yC' yS'
    refine br_t rfl ⟨65, zd_131 (fun yK2 yV2 h2 => ?_) 64 0 yK' yV' (by omega) (fun x hx => by omega)⟩
    refine H ys yo' yc' yK2 yV2 yA' yB' yO' yF' yZ' yC' yS' ?_
    obtain ⟨d1, d2, d3, d4, d5, d6, d7, d8, d9, d10⟩ := D0
    refine ⟨d1, d2, d3, d4, d5, d6, fun j hj => ?_, d8, d9, d10⟩
    have a := h2 j (by omega)
    have b := hAB j (by omega)
    rw [a.1, a.2, b.1, b.2]; exact d7 j hj
  have stop : ∀ (ys' yo' yc' : Int32) (yK' yV' yO' yF' yZ' yC' yS' : Nat → Int32), ∃ n, wY_demangle_79 post ys yl ys' yg yo' yc' yK' yV' yA' yB' yT yO' yF' yZ' yC' yS' n 0 0 :=
    fun ys' yo' yc' yK' yV' yO' yF' yZ' yC' yS' => ⟨1, br_c (fun _ => back ys' yo' yc' yK' yV' yO' yF' yZ' yC' yS') (fun _ => br_t rfl (back ys' yo' yc' yK' yV' yO' yF' yZ' yC' yS'))⟩
  refine br_t (by decide) ⟨w.length + 1, ?_⟩
  have D1 : yd_ (fun _ => 11) V 0 l w yl 0 yg yo yc yK yV yA' yB' yT yO yF yZ yC yS := ⟨fun j hj => by omega, fun _ _ => rfl, by omega, hl, D0.2.2.2.2.1, rfl, fun j hj => by omega, ht, hwl, hwc⟩
  refine zr_safe (l := l) (w := w) ?_ w.length (fun _ => 11) V 0 0 2 0 yc yK yV yF yZ yS (by omega) (by omega) (by omega) D1
  intro K2 V2 N2 ys2 yc2 yK2 yV2 yF2 yZ2 yS2 D2
  have hN2 := D2.2.2.1
  refine zo_cy (K := K2) (V := V2) (N := N2) D2.1 (by omega) D2.2.2.2.2.2.1 D2.2.2.2.2.2.2.1 (fun h0 hop => br_f (by decide) ?_) (fun z => br_t rfl (stop ys2 yo yc2 yK2 yV2 yO yF2 yZ2 yC yS2))
  refine zv_sym D2.1 (by omega) hop D2.2.2.2.2.2.1 D2.2.2.2.2.2.2.1 (D2.2.1 N2 (Nat.le_refl _)) ?_
  intro yc3 yo3 yF3 yZ3 yO3 yC3 hk
  have h5 := tk_5 hk hwl (tk_e ht hwl).1
  have hne : mg_ K2 V2 N2 ≠ w := fun z => D K2 V2 N2 ⟨D2.1, D2.2.1, h0, hN2, hop, z⟩
  refine br_c (fun q => ⟨w.length + 1, ?_⟩) (fun _ => stop ys2 yo3 yc3 yK2 yV2 yO3 yF3 yZ3 yC3 yS2)
  exact zd_79n ht hwl hwc (mg_lt D2.1 (by omega)) (h5.1.mp q) (h5.2 (h5.1.mp q)) hne (back ys2 yo3 yc3 yK2 yV2 yO3 yF3 yZ3 yC3 yS2) w.length 0 (by omega) (fun x hx => by omega)
end
end
section
/-! demangle -/
theorem i_vc_demangle {k : Nat} {u : SX} {v : SY} (I : i_Rel k u v) (hk : k + 3 ≤ 1537) : wpX_demangle (fun r u' => wpY_demangle (fun r' v' => r' = r ∧ i_Rel (k + 3) u' v') v) u := by
  refine rl_el (P := fun u v => wpX_demangle (fun r u' => wpY_demangle (fun r' v' => r' = r ∧ i_Rel (k + 3) u' v') v) u) I ?_
  intro xo xb xl xs xg xu xd xc xe xp xf xz xK xV xO xT xS xA xY xN xW xk xt xH xn xq xy xF xZ xC xv yl ys yg yo yc yK yV yA yB yT yO yF yZ yC yS R
  obtain ⟨K, V, N, b, l, n, cs, cl, w, R1, R2, R3, R4, R5, R6, R7, R8, R9, R10, R11, R12, R13, R14, R15, R16, R17, R18, R19⟩ := R
  have D0 : yd_ K V N l w yl ys yg yo yc yK yV yA yB yT yO yF yZ yC yS := ⟨R1, R2, R3, R5, R7, R9, R11, R14, R15, R16⟩
  by_cases ex : ∃ K' V' N', dm_ K' V' N' l w
  · obtain ⟨K', V', N', D⟩ := ex
    refine zd_x1 R1 R3 R5 R6 R8 R10 R13 R15 R16 D ?_
    intro xs' xu' xd' xc' xe' xf' xK' xV' xO' xS' xA' xY' xN' xW' xk' xt' xH' xq' xy' xF' xZ' xp' xz' xn' xC' xv' h1 h2 h3
    refine zd_y1 D0 D ?_
    intro ys' yo' yc' yK' yV' yA' yB' yO' yF' yZ' yC' yS' D2
    obtain ⟨g1, g2, g3, g4, g5, g6, g7, g8, g9, g10⟩ := D2
    exact ⟨rfl, K', V', N', 0, l, 0, (fun _ => []), (fun _ => false), w, g1, g2, g3, R4, g4, R6, g5, h1, g6, h2, g7, h3, R13, g8, g9, g10, Nat.zero_le _, rfl, ti_0 (m := 0) rfl rfl rfl⟩
  · have nex : ∀ K' V' N', ¬ dm_ K' V' N' l w := fun K' V' N' z => ex ⟨K', V', N', z⟩
    refine zd_x0 R1 R2 R3 R5 R6 R8 R10 R13 R15 R16 nex ?_
    intro xs' xu' xd' xc' xe' xf' xK' xV' xO' xS' xA' xY' xN' xW' xk' xt' xH' xq' xy' xF' xZ' xp' xz' xn' xC' xv' h1 h2 h3
    refine zd_y0 D0 nex ?_
    intro ys' yo' yc' yK' yV' yA' yB' yO' yF' yZ' yC' yS' D2
    obtain ⟨g1, g2, g3, g4, g5, g6, g7, g8, g9, g10⟩ := D2
    exact ⟨rfl, K, V, N, 0, l, 0, (fun _ => []), (fun _ => false), w, g1, g2, g3, R4, g4, R6, g5, h1, g6, h2, g7, h3, R13, g8, g9, g10, Nat.zero_le _, rfl, ti_0 (m := 0) rfl rfl rfl⟩
end
