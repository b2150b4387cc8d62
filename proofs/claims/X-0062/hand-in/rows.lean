section
/-! pure rows to paste: stores, nI and lN arithmetic, masks, shifts, narrowing, branches by naturals (pk_le, pk_lt, pk_eq), loops (lp1 .. lp16: the measure of the state; rp1 ..: recursion), negatives. Take what you need -/
theorem pk_us {f : Nat → Int32} {k : Nat} {x : Int32} : upd f k x k = x := if_pos rfl
theorem pk_un {f : Nat → Int32} {k j : Nat} {x : Int32} (h : j ≠ k) : upd f k x j = f j := if_neg h
theorem pk_uLs {f : Nat → Int64} {k : Nat} {x : Int64} : vp_updL f k x k = x := if_pos rfl
theorem pk_uLn {f : Nat → Int64} {k j : Nat} {x : Int64} (h : j ≠ k) : vp_updL f k x j = f j := if_neg h
theorem pk_sub {a b : Nat} (h : b ≤ a) : nI a - nI b = nI (a - b) := by
  obtain ⟨c, rfl⟩ : ∃ c, a = c + b := ⟨a - b, by omega⟩
  rw [← nI_add, Int32.add_sub_cancel, Nat.add_sub_cancel]
theorem pk_m1 (n : Nat) : nI (n + 1) + (-1) = nI n := by
  rw [← nI_1, Int32.add_assoc, show (1 : Int32) + (-1) = 0 from rfl, Int32.add_zero]
theorem pk_mul (a b : Nat) : nI a * nI b = nI (a * b) := (Int32.ofNat_mul a b).symm
theorem pk_div {a d : Nat} (ha : a < 2 ^ 31) (h0 : 0 < d) (hd : d < 2 ^ 31) : nI a / nI d = nI (a / d) := by
  apply Int32.toInt_inj.mp
  rw [lg_idiv_nonneg (by rw [nI_toInt ha]; omega) (by rw [nI_toInt hd]; omega), nI_toInt ha, nI_toInt hd, nI_toInt (Nat.lt_of_le_of_lt (Nat.div_le_self a d) ha)]
  first | rfl | exact (Int.natCast_ediv _ _).symm
theorem pk_rem {a d : Nat} (ha : a < 2 ^ 31) (h0 : 0 < d) (hd : d < 2 ^ 31) : nI a - nI a / nI d * nI d = nI (a % d) := by
  rw [pk_div ha h0 hd, pk_mul, pk_sub (Nat.div_mul_le_self a d)]
  exact congrArg nI (by have := Nat.div_add_mod' a d; omega)
theorem pk_sub_toInt {a b : Nat} (ha : a < 2 ^ 30) (hb : b < 2 ^ 30) : (nI a - nI b).toInt = (a : Int) - b := by
  rw [Int32.toInt_sub, nI_toInt (by omega), nI_toInt (by omega)]
  exact Int.bmod_eq_of_le (by omega) (by omega)
theorem pk_sneg {a b : Nat} (hb : b < 2 ^ 30) (h : a < b) : nI a - nI b < 0 := by
  rw [Int32.lt_iff_toInt_lt, pk_sub_toInt (by omega) hb, show (0 : Int32).toInt = 0 from by decide]
  omega
theorem pk_ix (x : Int32) {n : Nat} (hn : n < 2 ^ 31) : x < 0 ∨ nI n ≤ x ∨ ∃ j : Nat, j < n ∧ x = nI j := by
  by_cases h : x < 0
  · exact Or.inl h
  · obtain ⟨j, hj, rfl⟩ := nI_of h
    by_cases h2 : j < n
    · exact Or.inr (Or.inr ⟨j, h2, rfl⟩)
    · exact Or.inr (Or.inl (nI_le (by omega) hj))
theorem pk_le {x y : Int32} {A B : Prop} (a b : Nat) (f : a ≤ b → A) (g : b < a → B) (hx : x = nI a := by rfl) (hy : y = nI b := by rfl) (ha : a < 2 ^ 31 := by omega) (hb : b < 2 ^ 31 := by omega) : (x ≤ y → A) ∧ (¬ x ≤ y → B) := by
  subst hx hy
  rw [nI_leI ha hb]
  exact ⟨f, fun z => g (by omega)⟩
theorem pk_lt {x y : Int32} {A B : Prop} (a b : Nat) (f : a < b → A) (g : b ≤ a → B) (hx : x = nI a := by rfl) (hy : y = nI b := by rfl) (ha : a < 2 ^ 31 := by omega) (hb : b < 2 ^ 31 := by omega) : (x < y → A) ∧ (¬ x < y → B) := by
  subst hx hy
  rw [nI_ltI ha hb]
  exact ⟨f, fun z => g (by omega)⟩
theorem pk_eq {x y : Int32} {A B : Prop} (a b : Nat) (f : a = b → A) (g : a ≠ b → B) (hx : x = nI a := by rfl) (hy : y = nI b := by rfl) (ha : a < 2 ^ 31 := by omega) (hb : b < 2 ^ 31 := by omega) : (x = y → A) ∧ (¬ x = y → B) := by
  subst hx hy
  rw [nI_eq ha hb]
  exact ⟨f, g⟩
theorem pk_in {x : Int32} (n N : Nat) (h : n < N) (hx : x = nI n := by rfl) (hN : N < 2 ^ 31 := by omega) : vp_in x N := by
  subst hx
  exact vp_in_nI h hN
theorem pk_cl {x : Int32} (n : Nat) (hx : x = nI n := by rfl) (h : n < 2 ^ 31 := by omega) : x.toNatClampNeg = n := by
  subst hx
  exact nI_clamp h
theorem pk_tn {n : Nat} (h : n < 2 ^ 32) : (nI n).toBitVec.toNat = n := Nat.mod_eq_of_lt h
theorem pk_and (x : Int32) {m : Int32} (k : Nat) (hm : m.toBitVec.toNat = 2 ^ k - 1) : x &&& m = nI (x.toBitVec.toNat % 2 ^ k) := by
  apply Int32.toBitVec_inj.mp
  apply BitVec.eq_of_toNat_eq
  rw [Int32.toBitVec_and, BitVec.toNat_and, hm, Nat.and_two_pow_sub_one_eq_mod]
  show _ = (BitVec.ofNat 32 _).toNat
  rw [BitVec.toNat_ofNat]
  exact (Nat.mod_eq_of_lt (Nat.lt_of_le_of_lt (Nat.mod_le _ _) x.toBitVec.isLt)).symm
theorem pk_andN {n : Nat} (h : n < 2 ^ 32) {m : Int32} (k : Nat) (hm : m.toBitVec.toNat = 2 ^ k - 1) : nI n &&& m = nI (n % 2 ^ k) := by
  rw [pk_and _ k hm, pk_tn h]
theorem pk_andE (x : Int32) {m : Int32} (k : Nat) (hm : m.toBitVec.toNat = 2 ^ k - 1) : ∃ j : Nat, j < 2 ^ k ∧ x &&& m = nI j := ⟨_, Nat.mod_lt _ (Nat.two_pow_pos k), pk_and x k hm⟩
theorem pk_andIn (x : Int32) {m : Int32} (k : Nat) (hm : m.toBitVec.toNat = 2 ^ k - 1) (hk : k ≤ 30) : vp_in (x &&& m) (2 ^ k) := by
  obtain ⟨j, hj, e⟩ := pk_andE x k hm
  rw [e]
  exact vp_in_nI hj (Nat.lt_of_le_of_lt (Nat.pow_le_pow_right (by decide) hk) (by decide))
theorem pk_shl (a s : Int32) (k : Nat) (hs : (s.toBitVec.smod 32).toNat = k) : (a <<< s).toBitVec.toNat = a.toBitVec.toNat * 2 ^ k % 2 ^ 32 := by
  show (a.toBitVec <<< (s.toBitVec.smod 32).toNat).toNat = _
  rw [hs, BitVec.toNat_shiftLeft, Nat.shiftLeft_eq]
theorem pk_shlN {n : Nat} (s : Int32) (k : Nat) (hs : (s.toBitVec.smod 32).toNat = k) (h : n * 2 ^ k < 2 ^ 32) : nI n <<< s = nI (n * 2 ^ k) := by
  apply Int32.toBitVec_inj.mp
  apply BitVec.eq_of_toNat_eq
  have hn : n < 2 ^ 32 := Nat.lt_of_le_of_lt (Nat.le_mul_of_pos_right n (Nat.two_pow_pos k)) h
  rw [pk_shl _ _ k hs, pk_tn hn, pk_tn h, Nat.mod_eq_of_lt h]
theorem pk_shr (a s : Int32) (k : Nat) (hs : (s.toBitVec.smod 32).toNat = k) : (a >>> s).toInt = a.toInt >>> k := by
  show (a.toBitVec.sshiftRight (s.toBitVec.smod 32).toNat).toInt = _
  rw [hs, BitVec.toInt_sshiftRight]
  rfl
theorem pk_shrN {n : Nat} (h : n < 2 ^ 31) (s : Int32) (k : Nat) (hs : (s.toBitVec.smod 32).toNat = k) : nI n >>> s = nI (n / 2 ^ k) := by
  apply Int32.toInt_inj.mp
  have h2 : n / 2 ^ k ≤ n := Nat.div_le_self _ _
  rw [pk_shr _ _ k hs, nI_toInt h, nI_toInt (by omega), Int.shiftRight_eq_div_pow]
  rfl
theorem pk_ushr (x s : Int32) (k : Nat) (hs : ((s.toUInt32 &&& Int32.toUInt32 31).toBitVec % 32).toNat = k) : (x.toUInt32 >>> (s.toUInt32 &&& Int32.toUInt32 31)).toInt32.toBitVec.toNat = x.toBitVec.toNat / 2 ^ k := by
  have e : (x.toUInt32 >>> (s.toUInt32 &&& Int32.toUInt32 31)).toInt32.toBitVec = x.toBitVec >>> k := by
    rw [← hs]
    exact UInt32.toBitVec_shiftRight _ _
  rw [e, BitVec.toNat_ushiftRight, Nat.shiftRight_eq_div_pow]
theorem pk_ushrN {n : Nat} (hn : n < 2 ^ 32) (s : Int32) (k : Nat) (hs : ((s.toUInt32 &&& Int32.toUInt32 31).toBitVec % 32).toNat = k) : ((nI n).toUInt32 >>> (s.toUInt32 &&& Int32.toUInt32 31)).toInt32 = nI (n / 2 ^ k) := by
  apply Int32.toBitVec_inj.mp
  apply BitVec.eq_of_toNat_eq
  rw [pk_ushr _ s k hs, pk_tn hn, pk_tn (Nat.lt_of_le_of_lt (Nat.div_le_self _ _) hn)]
theorem pk_nb (z : Int32) : narrow .byte (.int z.toInt8.toInt32) = .int z.toInt8.toInt32 := congrArg Value.int (by simp)
theorem pk_ns (z : Int32) : narrow .short (.int z.toInt16.toInt32) = .int z.toInt16.toInt32 := congrArg Value.int (by simp)
theorem pk_fb (r : Int32) : fits .byte (.int r.toInt8.toInt32) = true := by
  have ⟨a, b⟩ := lg_i2b_range r
  have h1 : (-128 : Int32).toInt = -128 := by decide
  have h2 : (127 : Int32).toInt = 127 := by decide
  simp only [fits, Bool.and_eq_true, decide_eq_true_eq, Int32.le_iff_toInt_le, h1, h2]
  omega
theorem pk_fs (r : Int32) : fits .short (.int r.toInt16.toInt32) = true := by
  have ⟨a, b⟩ := lg_i2s_range r
  have h1 : (-32768 : Int32).toInt = -32768 := by decide
  have h2 : (32767 : Int32).toInt = 32767 := by decide
  simp only [fits, Bool.and_eq_true, decide_eq_true_eq, Int32.le_iff_toInt_le, h1, h2]
  omega
theorem pk_charN {q : Nat} (hq : q < 65536) : narrow .char (.int (nI q)) = .int (nI q) ∧ fits .char (.int (nI q)) = true := by
  constructor
  · have e : (nI q).toUInt32.toUInt16.toUInt32.toInt32 = nI q := by
      apply Int32.toBitVec_inj.mp
      apply BitVec.eq_of_toNat_eq
      show (nI q).toUInt32.toUInt16.toUInt32.toNat = q % 2 ^ 32
      rw [UInt16.toNat_toUInt32, UInt32.toNat_toUInt16, show (nI q).toUInt32.toNat = q % 2 ^ 32 from rfl]
      omega
    exact congrArg Value.int e
  · have a : (0 : Int32) ≤ nI q := nI_pos' (by omega)
    have b : nI q ≤ 65535 := nI_le (b := 65535) (by omega) (by decide)
    show (decide ((0 : Int32) ≤ nI q) && decide (nI q ≤ 65535)) = true
    rw [decide_eq_true a, decide_eq_true b]
    rfl
theorem pk_char (x : Int32) : (x.toUInt32 % 65536).toInt32 = nI (x.toBitVec.toNat % 65536) := by
  apply Int32.toBitVec_inj.mp
  apply BitVec.eq_of_toNat_eq
  rw [pk_tn (by omega)]
  show (x.toUInt32 % 65536).toNat = _
  rw [UInt32.toNat_mod]
  rfl
theorem pk_nc (x : Int32) : narrow .char (.int (x.toUInt32 % 65536).toInt32) = .int (x.toUInt32 % 65536).toInt32 := by
  rw [pk_char]
  exact (pk_charN (Nat.mod_lt _ (by decide))).1
theorem pk_fc (x : Int32) : fits .char (.int (x.toUInt32 % 65536).toInt32) = true := by
  rw [pk_char]
  exact (pk_charN (Nat.mod_lt _ (by decide))).2
theorem pk_vb (z : Int32) : vp_nar .byte z.toInt8.toInt32 = z.toInt8.toInt32 := by rw [vp_nar_byte]; simp
theorem pk_vs (z : Int32) : vp_nar .short z.toInt16.toInt32 = z.toInt16.toInt32 := by rw [vp_nar_short]; simp
theorem pk_vc (z : Int32) : vp_nar .char (z.toUInt32 % 65536).toInt32 = (z.toUInt32 % 65536).toInt32 := Value.int.inj (pk_nc z)
theorem pk_lT {n : Nat} (h : n < 2 ^ 63) : (lN n).toInt = (n : Int) := lg_ofNat_toInt h
theorem pk_lLT {a b : Nat} (ha : a < 2 ^ 63) (hb : b < 2 ^ 63) : lN a < lN b ↔ a < b := by
  rw [Int64.lt_iff_toInt_lt, pk_lT ha, pk_lT hb]; omega
theorem pk_lLE {a b : Nat} (ha : a < 2 ^ 63) (hb : b < 2 ^ 63) : lN a ≤ lN b ↔ a ≤ b := by
  rw [Int64.le_iff_toInt_le, pk_lT ha, pk_lT hb]; omega
theorem pk_lEQ {a b : Nat} (ha : a < 2 ^ 63) (hb : b < 2 ^ 63) : lN a = lN b ↔ a = b := by
  rw [← Int64.toInt_inj, pk_lT ha, pk_lT hb]; omega
theorem pk_lOf {x : Int64} (h : ¬ x < 0) : ∃ k : Nat, k < 2 ^ 63 ∧ x = lN k := by
  rw [Int64.lt_iff_toInt_lt] at h
  have h0 : (0 : Int64).toInt = 0 := by decide
  have hx := Int64.toInt_lt x
  refine ⟨x.toInt.toNat, by omega, Int64.toInt_inj.mp ?_⟩
  rw [pk_lT (by omega)]
  omega
theorem pk_lDiv {a b : Nat} (ha : a < 2 ^ 63) (h0 : 0 < b) (hb : b < 2 ^ 63) : lN a / lN b = lN (a / b) := by
  apply Int64.toInt_inj.mp
  rw [lg_ldiv_nonneg (by rw [pk_lT ha]; omega) (by rw [pk_lT hb]; omega), pk_lT ha, pk_lT hb, pk_lT (Nat.lt_of_le_of_lt (Nat.div_le_self a b) ha)]
  rfl
theorem pk_lRem {a b : Nat} (ha : a < 2 ^ 63) (h0 : 0 < b) (hb : b < 2 ^ 63) : lN a - lN a / lN b * lN b = lN (a % b) := by
  rw [pk_lDiv ha h0 hb, lN_mul, lN_sub (Nat.div_mul_le_self a b)]
  exact congrArg lN (by have := Nat.div_add_mod' a b; omega)
theorem pk_loop {σ : Type} (W : Nat → Nat → σ → Prop) (I : Nat → σ → Prop) (e i0 : Nat) (s : σ) (hi : i0 ≤ e) (h0 : I i0 s) (hx : ∀ n s, I e s → W (n + 1) e s)
    (hs : ∀ n i s, i < e → I i s → (∀ s', I (i + 1) s' → W n (i + 1) s') → W (n + 1) i s) : ∃ n, W n i0 s :=
  ⟨e + 1, loop_i W I e hx hs (e + 1) i0 s hi (by omega) h0⟩
theorem pk_loopD {σ : Type} (W : Nat → Nat → σ → Prop) (I : Nat → σ → Prop) (hx : ∀ n s, I 0 s → W (n + 1) 0 s)
    (hs : ∀ n i s, I (i + 1) s → (∀ s', I i s' → W n i s') → W (n + 1) (i + 1) s) : ∀ (e : Nat) (s : σ), I e s → W (e + 1) e s := by
  intro e
  induction e with
  | zero => exact fun s h => hx 0 s h
  | succ e ih => exact fun s h => hs (e + 1) e s h (fun s' h' => ih s' h')
theorem lp1 {A1 : Type} (W : Nat → A1 → Prop) (I : A1 → Prop) (μ : A1 → Nat) (hs : ∀ (n : Nat) (a1 : A1), I a1 → (∀ (b1 : A1), I b1 → μ b1 < μ a1 → W n b1) → W (n + 1) a1) (a1 : A1) (h : I a1) : ∃ n, W n a1 :=
  loop_m (σ := A1) (fun n s => W n s) (fun s => I s) (fun s => μ s) (fun n s hI hk => hs n s hI (fun b1 h9 hm => hk b1 h9 hm)) a1 h
theorem lp2 {A1 A2 : Type} (W : Nat → A1 → A2 → Prop) (I : A1 → A2 → Prop) (μ : A1 → A2 → Nat) (hs : ∀ (n : Nat) (a1 : A1) (a2 : A2), I a1 a2 → (∀ (b1 : A1) (b2 : A2), I b1 b2 → μ b1 b2 < μ a1 a2 → W n b1 b2) → W (n + 1) a1 a2) (a1 : A1) (a2 : A2) (h : I a1 a2) : ∃ n, W n a1 a2 :=
  loop_m (σ := A1 × A2) (fun n s => W n s.1 s.2) (fun s => I s.1 s.2) (fun s => μ s.1 s.2) (fun n s hI hk => hs n s.1 s.2 hI (fun b1 b2 h9 hm => hk (b1, b2) h9 hm)) (a1, a2) h
theorem lp3 {A1 A2 A3 : Type} (W : Nat → A1 → A2 → A3 → Prop) (I : A1 → A2 → A3 → Prop) (μ : A1 → A2 → A3 → Nat) (hs : ∀ (n : Nat) (a1 : A1) (a2 : A2) (a3 : A3), I a1 a2 a3 → (∀ (b1 : A1) (b2 : A2) (b3 : A3), I b1 b2 b3 → μ b1 b2 b3 < μ a1 a2 a3 → W n b1 b2 b3) → W (n + 1) a1 a2 a3) (a1 : A1) (a2 : A2) (a3 : A3) (h : I a1 a2 a3) : ∃ n, W n a1 a2 a3 :=
  loop_m (σ := A1 × A2 × A3) (fun n s => W n s.1 s.2.1 s.2.2) (fun s => I s.1 s.2.1 s.2.2) (fun s => μ s.1 s.2.1 s.2.2) (fun n s hI hk => hs n s.1 s.2.1 s.2.2 hI (fun b1 b2 b3 h9 hm => hk (b1, b2, b3) h9 hm)) (a1, a2, a3) h
theorem lp4 {A1 A2 A3 A4 : Type} (W : Nat → A1 → A2 → A3 → A4 → Prop) (I : A1 → A2 → A3 → A4 → Prop) (μ : A1 → A2 → A3 → A4 → Nat) (hs : ∀ (n : Nat) (a1 : A1) (a2 : A2) (a3 : A3) (a4 : A4), I a1 a2 a3 a4 → (∀ (b1 : A1) (b2 : A2) (b3 : A3) (b4 : A4), I b1 b2 b3 b4 → μ b1 b2 b3 b4 < μ a1 a2 a3 a4 → W n b1 b2 b3 b4) → W (n + 1) a1 a2 a3 a4) (a1 : A1) (a2 : A2) (a3 : A3) (a4 : A4) (h : I a1 a2 a3 a4) : ∃ n, W n a1 a2 a3 a4 :=
  loop_m (σ := A1 × A2 × A3 × A4) (fun n s => W n s.1 s.2.1 s.2.2.1 s.2.2.2) (fun s => I s.1 s.2.1 s.2.2.1 s.2.2.2) (fun s => μ s.1 s.2.1 s.2.2.1 s.2.2.2) (fun n s hI hk => hs n s.1 s.2.1 s.2.2.1 s.2.2.2 hI (fun b1 b2 b3 b4 h9 hm => hk (b1, b2, b3, b4) h9 hm)) (a1, a2, a3, a4) h
theorem lp5 {A1 A2 A3 A4 A5 : Type} (W : Nat → A1 → A2 → A3 → A4 → A5 → Prop) (I : A1 → A2 → A3 → A4 → A5 → Prop) (μ : A1 → A2 → A3 → A4 → A5 → Nat) (hs : ∀ (n : Nat) (a1 : A1) (a2 : A2) (a3 : A3) (a4 : A4) (a5 : A5), I a1 a2 a3 a4 a5 → (∀ (b1 : A1) (b2 : A2) (b3 : A3) (b4 : A4) (b5 : A5), I b1 b2 b3 b4 b5 → μ b1 b2 b3 b4 b5 < μ a1 a2 a3 a4 a5 → W n b1 b2 b3 b4 b5) → W (n + 1) a1 a2 a3 a4 a5) (a1 : A1) (a2 : A2) (a3 : A3) (a4 : A4) (a5 : A5) (h : I a1 a2 a3 a4 a5) : ∃ n, W n a1 a2 a3 a4 a5 :=
  loop_m (σ := A1 × A2 × A3 × A4 × A5) (fun n s => W n s.1 s.2.1 s.2.2.1 s.2.2.2.1 s.2.2.2.2) (fun s => I s.1 s.2.1 s.2.2.1 s.2.2.2.1 s.2.2.2.2) (fun s => μ s.1 s.2.1 s.2.2.1 s.2.2.2.1 s.2.2.2.2) (fun n s hI hk => hs n s.1 s.2.1 s.2.2.1 s.2.2.2.1 s.2.2.2.2 hI (fun b1 b2 b3 b4 b5 h9 hm => hk (b1, b2, b3, b4, b5) h9 hm)) (a1, a2, a3, a4, a5) h
theorem lp6 {A1 A2 A3 A4 A5 A6 : Type} (W : Nat → A1 → A2 → A3 → A4 → A5 → A6 → Prop) (I : A1 → A2 → A3 → A4 → A5 → A6 → Prop) (μ : A1 → A2 → A3 → A4 → A5 → A6 → Nat) (hs : ∀ (n : Nat) (a1 : A1) (a2 : A2) (a3 : A3) (a4 : A4) (a5 : A5) (a6 : A6), I a1 a2 a3 a4 a5 a6 → (∀ (b1 : A1) (b2 : A2) (b3 : A3) (b4 : A4) (b5 : A5) (b6 : A6), I b1 b2 b3 b4 b5 b6 → μ b1 b2 b3 b4 b5 b6 < μ a1 a2 a3 a4 a5 a6 → W n b1 b2 b3 b4 b5 b6) → W (n + 1) a1 a2 a3 a4 a5 a6) (a1 : A1) (a2 : A2) (a3 : A3) (a4 : A4) (a5 : A5) (a6 : A6) (h : I a1 a2 a3 a4 a5 a6) : ∃ n, W n a1 a2 a3 a4 a5 a6 :=
  loop_m (σ := A1 × A2 × A3 × A4 × A5 × A6) (fun n s => W n s.1 s.2.1 s.2.2.1 s.2.2.2.1 s.2.2.2.2.1 s.2.2.2.2.2) (fun s => I s.1 s.2.1 s.2.2.1 s.2.2.2.1 s.2.2.2.2.1 s.2.2.2.2.2) (fun s => μ s.1 s.2.1 s.2.2.1 s.2.2.2.1 s.2.2.2.2.1 s.2.2.2.2.2) (fun n s hI hk => hs n s.1 s.2.1 s.2.2.1 s.2.2.2.1 s.2.2.2.2.1 s.2.2.2.2.2 hI (fun b1 b2 b3 b4 b5 b6 h9 hm => hk (b1, b2, b3, b4, b5, b6) h9 hm)) (a1, a2, a3, a4, a5, a6) h
theorem lp7 {A1 A2 A3 A4 A5 A6 A7 : Type} (W : Nat → A1 → A2 → A3 → A4 → A5 → A6 → A7 → Prop) (I : A1 → A2 → A3 → A4 → A5 → A6 → A7 → Prop) (μ : A1 → A2 → A3 → A4 → A5 → A6 → A7 → Nat) (hs : ∀ (n : Nat) (a1 : A1) (a2 : A2) (a3 : A3) (a4 : A4) (a5 : A5) (a6 : A6) (a7 : A7), I a1 a2 a3 a4 a5 a6 a7 → (∀ (b1 : A1) (b2 : A2) (b3 : A3) (b4 : A4) (b5 : A5) (b6 : A6) (b7 : A7), I b1 b2 b3 b4 b5 b6 b7 → μ b1 b2 b3 b4 b5 b6 b7 < μ a1 a2 a3 a4 a5 a6 a7 → W n b1 b2 b3 b4 b5 b6 b7) → W (n + 1) a1 a2 a3 a4 a5 a6 a7) (a1 : A1) (a2 : A2) (a3 : A3) (a4 : A4) (a5 : A5) (a6 : A6) (a7 : A7) (h : I a1 a2 a3 a4 a5 a6 a7) : ∃ n, W n a1 a2 a3 a4 a5 a6 a7 :=
  loop_m (σ := A1 × A2 × A3 × A4 × A5 × A6 × A7) (fun n s => W n s.1 s.2.1 s.2.2.1 s.2.2.2.1 s.2.2.2.2.1 s.2.2.2.2.2.1 s.2.2.2.2.2.2) (fun s => I s.1 s.2.1 s.2.2.1 s.2.2.2.1 s.2.2.2.2.1 s.2.2.2.2.2.1 s.2.2.2.2.2.2) (fun s => μ s.1 s.2.1 s.2.2.1 s.2.2.2.1 s.2.2.2.2.1 s.2.2.2.2.2.1 s.2.2.2.2.2.2) (fun n s hI hk => hs n s.1 s.2.1 s.2.2.1 s.2.2.2.1 s.2.2.2.2.1 s.2.2.2.2.2.1 s.2.2.2.2.2.2 hI (fun b1 b2 b3 b4 b5 b6 b7 h9 hm => hk (b1, b2, b3, b4, b5, b6, b7) h9 hm)) (a1, a2, a3, a4, a5, a6, a7) h
theorem lp8 {A1 A2 A3 A4 A5 A6 A7 A8 : Type} (W : Nat → A1 → A2 → A3 → A4 → A5 → A6 → A7 → A8 → Prop) (I : A1 → A2 → A3 → A4 → A5 → A6 → A7 → A8 → Prop) (μ : A1 → A2 → A3 → A4 → A5 → A6 → A7 → A8 → Nat) (hs : ∀ (n : Nat) (a1 : A1) (a2 : A2) (a3 : A3) (a4 : A4) (a5 : A5) (a6 : A6) (a7 : A7) (a8 : A8), I a1 a2 a3 a4 a5 a6 a7 a8 → (∀ (b1 : A1) (b2 : A2) (b3 : A3) (b4 : A4) (b5 : A5) (b6 : A6) (b7 : A7) (b8 : A8), I b1 b2 b3 b4 b5 b6 b7 b8 → μ b1 b2 b3 b4 b5 b6 b7 b8 < μ a1 a2 a3 a4 a5 a6 a7 a8 → W n b1 b2 b3 b4 b5 b6 b7 b8) → W (n + 1) a1 a2 a3 a4 a5 a6 a7 a8) (a1 : A1) (a2 : A2) (a3 : A3) (a4 : A4) (a5 : A5) (a6 : A6) (a7 : A7) (a8 : A8) (h : I a1 a2 a3 a4 a5 a6 a7 a8) : ∃ n, W n a1 a2 a3 a4 a5 a6 a7 a8 :=
  loop_m (σ := A1 × A2 × A3 × A4 × A5 × A6 × A7 × A8) (fun n s => W n s.1 s.2.1 s.2.2.1 s.2.2.2.1 s.2.2.2.2.1 s.2.2.2.2.2.1 s.2.2.2.2.2.2.1 s.2.2.2.2.2.2.2) (fun s => I s.1 s.2.1 s.2.2.1 s.2.2.2.1 s.2.2.2.2.1 s.2.2.2.2.2.1 s.2.2.2.2.2.2.1 s.2.2.2.2.2.2.2) (fun s => μ s.1 s.2.1 s.2.2.1 s.2.2.2.1 s.2.2.2.2.1 s.2.2.2.2.2.1 s.2.2.2.2.2.2.1 s.2.2.2.2.2.2.2) (fun n s hI hk => hs n s.1 s.2.1 s.2.2.1 s.2.2.2.1 s.2.2.2.2.1 s.2.2.2.2.2.1 s.2.2.2.2.2.2.1 s.2.2.2.2.2.2.2 hI (fun b1 b2 b3 b4 b5 b6 b7 b8 h9 hm => hk (b1, b2, b3, b4, b5, b6, b7, b8) h9 hm)) (a1, a2, a3, a4, a5, a6, a7, a8) h
theorem lp9 {A1 A2 A3 A4 A5 A6 A7 A8 A9 : Type} (W : Nat → A1 → A2 → A3 → A4 → A5 → A6 → A7 → A8 → A9 → Prop) (I : A1 → A2 → A3 → A4 → A5 → A6 → A7 → A8 → A9 → Prop) (μ : A1 → A2 → A3 → A4 → A5 → A6 → A7 → A8 → A9 → Nat) (hs : ∀ (n : Nat) (a1 : A1) (a2 : A2) (a3 : A3) (a4 : A4) (a5 : A5) (a6 : A6) (a7 : A7) (a8 : A8) (a9 : A9), I a1 a2 a3 a4 a5 a6 a7 a8 a9 → (∀ (b1 : A1) (b2 : A2) (b3 : A3) (b4 : A4) (b5 : A5) (b6 : A6) (b7 : A7) (b8 : A8) (b9 : A9), I b1 b2 b3 b4 b5 b6 b7 b8 b9 → μ b1 b2 b3 b4 b5 b6 b7 b8 b9 < μ a1 a2 a3 a4 a5 a6 a7 a8 a9 → W n b1 b2 b3 b4 b5 b6 b7 b8 b9) → W (n + 1) a1 a2 a3 a4 a5 a6 a7 a8 a9) (a1 : A1) (a2 : A2) (a3 : A3) (a4 : A4) (a5 : A5) (a6 : A6) (a7 : A7) (a8 : A8) (a9 : A9) (h : I a1 a2 a3 a4 a5 a6 a7 a8 a9) : ∃ n, W n a1 a2 a3 a4 a5 a6 a7 a8 a9 :=
  loop_m (σ := A1 × A2 × A3 × A4 × A5 × A6 × A7 × A8 × A9) (fun n s => W n s.1 s.2.1 s.2.2.1 s.2.2.2.1 s.2.2.2.2.1 s.2.2.2.2.2.1 s.2.2.2.2.2.2.1 s.2.2.2.2.2.2.2.1 s.2.2.2.2.2.2.2.2) (fun s => I s.1 s.2.1 s.2.2.1 s.2.2.2.1 s.2.2.2.2.1 s.2.2.2.2.2.1 s.2.2.2.2.2.2.1 s.2.2.2.2.2.2.2.1 s.2.2.2.2.2.2.2.2) (fun s => μ s.1 s.2.1 s.2.2.1 s.2.2.2.1 s.2.2.2.2.1 s.2.2.2.2.2.1 s.2.2.2.2.2.2.1 s.2.2.2.2.2.2.2.1 s.2.2.2.2.2.2.2.2) (fun n s hI hk => hs n s.1 s.2.1 s.2.2.1 s.2.2.2.1 s.2.2.2.2.1 s.2.2.2.2.2.1 s.2.2.2.2.2.2.1 s.2.2.2.2.2.2.2.1 s.2.2.2.2.2.2.2.2 hI (fun b1 b2 b3 b4 b5 b6 b7 b8 b9 h9 hm => hk (b1, b2, b3, b4, b5, b6, b7, b8, b9) h9 hm)) (a1, a2, a3, a4, a5, a6, a7, a8, a9) h
theorem lp10 {A1 A2 A3 A4 A5 A6 A7 A8 A9 A10 : Type} (W : Nat → A1 → A2 → A3 → A4 → A5 → A6 → A7 → A8 → A9 → A10 → Prop) (I : A1 → A2 → A3 → A4 → A5 → A6 → A7 → A8 → A9 → A10 → Prop) (μ : A1 → A2 → A3 → A4 → A5 → A6 → A7 → A8 → A9 → A10 → Nat) (hs : ∀ (n : Nat) (a1 : A1) (a2 : A2) (a3 : A3) (a4 : A4) (a5 : A5) (a6 : A6) (a7 : A7) (a8 : A8) (a9 : A9) (a10 : A10), I a1 a2 a3 a4 a5 a6 a7 a8 a9 a10 → (∀ (b1 : A1) (b2 : A2) (b3 : A3) (b4 : A4) (b5 : A5) (b6 : A6) (b7 : A7) (b8 : A8) (b9 : A9) (b10 : A10), I b1 b2 b3 b4 b5 b6 b7 b8 b9 b10 → μ b1 b2 b3 b4 b5 b6 b7 b8 b9 b10 < μ a1 a2 a3 a4 a5 a6 a7 a8 a9 a10 → W n b1 b2 b3 b4 b5 b6 b7 b8 b9 b10) → W (n + 1) a1 a2 a3 a4 a5 a6 a7 a8 a9 a10) (a1 : A1) (a2 : A2) (a3 : A3) (a4 : A4) (a5 : A5) (a6 : A6) (a7 : A7) (a8 : A8) (a9 : A9) (a10 : A10) (h : I a1 a2 a3 a4 a5 a6 a7 a8 a9 a10) : ∃ n, W n a1 a2 a3 a4 a5 a6 a7 a8 a9 a10 :=
  loop_m (σ := A1 × A2 × A3 × A4 × A5 × A6 × A7 × A8 × A9 × A10) (fun n s => W n s.1 s.2.1 s.2.2.1 s.2.2.2.1 s.2.2.2.2.1 s.2.2.2.2.2.1 s.2.2.2.2.2.2.1 s.2.2.2.2.2.2.2.1 s.2.2.2.2.2.2.2.2.1 s.2.2.2.2.2.2.2.2.2) (fun s => I s.1 s.2.1 s.2.2.1 s.2.2.2.1 s.2.2.2.2.1 s.2.2.2.2.2.1 s.2.2.2.2.2.2.1 s.2.2.2.2.2.2.2.1 s.2.2.2.2.2.2.2.2.1 s.2.2.2.2.2.2.2.2.2) (fun s => μ s.1 s.2.1 s.2.2.1 s.2.2.2.1 s.2.2.2.2.1 s.2.2.2.2.2.1 s.2.2.2.2.2.2.1 s.2.2.2.2.2.2.2.1 s.2.2.2.2.2.2.2.2.1 s.2.2.2.2.2.2.2.2.2) (fun n s hI hk => hs n s.1 s.2.1 s.2.2.1 s.2.2.2.1 s.2.2.2.2.1 s.2.2.2.2.2.1 s.2.2.2.2.2.2.1 s.2.2.2.2.2.2.2.1 s.2.2.2.2.2.2.2.2.1 s.2.2.2.2.2.2.2.2.2 hI (fun b1 b2 b3 b4 b5 b6 b7 b8 b9 b10 h9 hm => hk (b1, b2, b3, b4, b5, b6, b7, b8, b9, b10) h9 hm)) (a1, a2, a3, a4, a5, a6, a7, a8, a9, a10) h
theorem lp11 {A1 A2 A3 A4 A5 A6 A7 A8 A9 A10 A11 : Type} (W : Nat → A1 → A2 → A3 → A4 → A5 → A6 → A7 → A8 → A9 → A10 → A11 → Prop) (I : A1 → A2 → A3 → A4 → A5 → A6 → A7 → A8 → A9 → A10 → A11 → Prop) (μ : A1 → A2 → A3 → A4 → A5 → A6 → A7 → A8 → A9 → A10 → A11 → Nat) (hs : ∀ (n : Nat) (a1 : A1) (a2 : A2) (a3 : A3) (a4 : A4) (a5 : A5) (a6 : A6) (a7 : A7) (a8 : A8) (a9 : A9) (a10 : A10) (a11 : A11), I a1 a2 a3 a4 a5 a6 a7 a8 a9 a10 a11 → (∀ (b1 : A1) (b2 : A2) (b3 : A3) (b4 : A4) (b5 : A5) (b6 : A6) (b7 : A7) (b8 : A8) (b9 : A9) (b10 : A10) (b11 : A11), I b1 b2 b3 b4 b5 b6 b7 b8 b9 b10 b11 → μ b1 b2 b3 b4 b5 b6 b7 b8 b9 b10 b11 < μ a1 a2 a3 a4 a5 a6 a7 a8 a9 a10 a11 → W n b1 b2 b3 b4 b5 b6 b7 b8 b9 b10 b11) → W (n + 1) a1 a2 a3 a4 a5 a6 a7 a8 a9 a10 a11) (a1 : A1) (a2 : A2) (a3 : A3) (a4 : A4) (a5 : A5) (a6 : A6) (a7 : A7) (a8 : A8) (a9 : A9) (a10 : A10) (a11 : A11) (h : I a1 a2 a3 a4 a5 a6 a7 a8 a9 a10 a11) : ∃ n, W n a1 a2 a3 a4 a5 a6 a7 a8 a9 a10 a11 :=
  loop_m (σ := A1 × A2 × A3 × A4 × A5 × A6 × A7 × A8 × A9 × A10 × A11) (fun n s => W n s.1 s.2.1 s.2.2.1 s.2.2.2.1 s.2.2.2.2.1 s.2.2.2.2.2.1 s.2.2.2.2.2.2.1 s.2.2.2.2.2.2.2.1 s.2.2.2.2.2.2.2.2.1 s.2.2.2.2.2.2.2.2.2.1 s.2.2.2.2.2.2.2.2.2.2) (fun s => I s.1 s.2.1 s.2.2.1 s.2.2.2.1 s.2.2.2.2.1 s.2.2.2.2.2.1 s.2.2.2.2.2.2.1 s.2.2.2.2.2.2.2.1 s.2.2.2.2.2.2.2.2.1 s.2.2.2.2.2.2.2.2.2.1 s.2.2.2.2.2.2.2.2.2.2) (fun s => μ s.1 s.2.1 s.2.2.1 s.2.2.2.1 s.2.2.2.2.1 s.2.2.2.2.2.1 s.2.2.2.2.2.2.1 s.2.2.2.2.2.2.2.1 s.2.2.2.2.2.2.2.2.1 s.2.2.2.2.2.2.2.2.2.1 s.2.2.2.2.2.2.2.2.2.2) (fun n s hI hk => hs n s.1 s.2.1 s.2.2.1 s.2.2.2.1 s.2.2.2.2.1 s.2.2.2.2.2.1 s.2.2.2.2.2.2.1 s.2.2.2.2.2.2.2.1 s.2.2.2.2.2.2.2.2.1 s.2.2.2.2.2.2.2.2.2.1 s.2.2.2.2.2.2.2.2.2.2 hI (fun b1 b2 b3 b4 b5 b6 b7 b8 b9 b10 b11 h9 hm => hk (b1, b2, b3, b4, b5, b6, b7, b8, b9, b10, b11) h9 hm)) (a1, a2, a3, a4, a5, a6, a7, a8, a9, a10, a11) h
theorem lp12 {A1 A2 A3 A4 A5 A6 A7 A8 A9 A10 A11 A12 : Type} (W : Nat → A1 → A2 → A3 → A4 → A5 → A6 → A7 → A8 → A9 → A10 → A11 → A12 → Prop) (I : A1 → A2 → A3 → A4 → A5 → A6 → A7 → A8 → A9 → A10 → A11 → A12 → Prop) (μ : A1 → A2 → A3 → A4 → A5 → A6 → A7 → A8 → A9 → A10 → A11 → A12 → Nat) (hs : ∀ (n : Nat) (a1 : A1) (a2 : A2) (a3 : A3) (a4 : A4) (a5 : A5) (a6 : A6) (a7 : A7) (a8 : A8) (a9 : A9) (a10 : A10) (a11 : A11) (a12 : A12), I a1 a2 a3 a4 a5 a6 a7 a8 a9 a10 a11 a12 → (∀ (b1 : A1) (b2 : A2) (b3 : A3) (b4 : A4) (b5 : A5) (b6 : A6) (b7 : A7) (b8 : A8) (b9 : A9) (b10 : A10) (b11 : A11) (b12 : A12), I b1 b2 b3 b4 b5 b6 b7 b8 b9 b10 b11 b12 → μ b1 b2 b3 b4 b5 b6 b7 b8 b9 b10 b11 b12 < μ a1 a2 a3 a4 a5 a6 a7 a8 a9 a10 a11 a12 → W n b1 b2 b3 b4 b5 b6 b7 b8 b9 b10 b11 b12) → W (n + 1) a1 a2 a3 a4 a5 a6 a7 a8 a9 a10 a11 a12) (a1 : A1) (a2 : A2) (a3 : A3) (a4 : A4) (a5 : A5) (a6 : A6) (a7 : A7) (a8 : A8) (a9 : A9) (a10 : A10) (a11 : A11) (a12 : A12) (h : I a1 a2 a3 a4 a5 a6 a7 a8 a9 a10 a11 a12) : ∃ n, W n a1 a2 a3 a4 a5 a6 a7 a8 a9 a10 a11 a12 :=
  loop_m (σ := A1 × A2 × A3 × A4 × A5 × A6 × A7 × A8 × A9 × A10 × A11 × A12) (fun n s => W n s.1 s.2.1 s.2.2.1 s.2.2.2.1 s.2.2.2.2.1 s.2.2.2.2.2.1 s.2.2.2.2.2.2.1 s.2.2.2.2.2.2.2.1 s.2.2.2.2.2.2.2.2.1 s.2.2.2.2.2.2.2.2.2.1 s.2.2.2.2.2.2.2.2.2.2.1 s.2.2.2.2.2.2.2.2.2.2.2) (fun s => I s.1 s.2.1 s.2.2.1 s.2.2.2.1 s.2.2.2.2.1 s.2.2.2.2.2.1 s.2.2.2.2.2.2.1 s.2.2.2.2.2.2.2.1 s.2.2.2.2.2.2.2.2.1 s.2.2.2.2.2.2.2.2.2.1 s.2.2.2.2.2.2.2.2.2.2.1 s.2.2.2.2.2.2.2.2.2.2.2) (fun s => μ s.1 s.2.1 s.2.2.1 s.2.2.2.1 s.2.2.2.2.1 s.2.2.2.2.2.1 s.2.2.2.2.2.2.1 s.2.2.2.2.2.2.2.1 s.2.2.2.2.2.2.2.2.1 s.2.2.2.2.2.2.2.2.2.1 s.2.2.2.2.2.2.2.2.2.2.1 s.2.2.2.2.2.2.2.2.2.2.2) (fun n s hI hk => hs n s.1 s.2.1 s.2.2.1 s.2.2.2.1 s.2.2.2.2.1 s.2.2.2.2.2.1 s.2.2.2.2.2.2.1 s.2.2.2.2.2.2.2.1 s.2.2.2.2.2.2.2.2.1 s.2.2.2.2.2.2.2.2.2.1 s.2.2.2.2.2.2.2.2.2.2.1 s.2.2.2.2.2.2.2.2.2.2.2 hI (fun b1 b2 b3 b4 b5 b6 b7 b8 b9 b10 b11 b12 h9 hm => hk (b1, b2, b3, b4, b5, b6, b7, b8, b9, b10, b11, b12) h9 hm)) (a1, a2, a3, a4, a5, a6, a7, a8, a9, a10, a11, a12) h
theorem lp13 {A1 A2 A3 A4 A5 A6 A7 A8 A9 A10 A11 A12 A13 : Type} (W : Nat → A1 → A2 → A3 → A4 → A5 → A6 → A7 → A8 → A9 → A10 → A11 → A12 → A13 → Prop) (I : A1 → A2 → A3 → A4 → A5 → A6 → A7 → A8 → A9 → A10 → A11 → A12 → A13 → Prop) (μ : A1 → A2 → A3 → A4 → A5 → A6 → A7 → A8 → A9 → A10 → A11 → A12 → A13 → Nat) (hs : ∀ (n : Nat) (a1 : A1) (a2 : A2) (a3 : A3) (a4 : A4) (a5 : A5) (a6 : A6) (a7 : A7) (a8 : A8) (a9 : A9) (a10 : A10) (a11 : A11) (a12 : A12) (a13 : A13), I a1 a2 a3 a4 a5 a6 a7 a8 a9 a10 a11 a12 a13 → (∀ (b1 : A1) (b2 : A2) (b3 : A3) (b4 : A4) (b5 : A5) (b6 : A6) (b7 : A7) (b8 : A8) (b9 : A9) (b10 : A10) (b11 : A11) (b12 : A12) (b13 : A13), I b1 b2 b3 b4 b5 b6 b7 b8 b9 b10 b11 b12 b13 → μ b1 b2 b3 b4 b5 b6 b7 b8 b9 b10 b11 b12 b13 < μ a1 a2 a3 a4 a5 a6 a7 a8 a9 a10 a11 a12 a13 → W n b1 b2 b3 b4 b5 b6 b7 b8 b9 b10 b11 b12 b13) → W (n + 1) a1 a2 a3 a4 a5 a6 a7 a8 a9 a10 a11 a12 a13) (a1 : A1) (a2 : A2) (a3 : A3) (a4 : A4) (a5 : A5) (a6 : A6) (a7 : A7) (a8 : A8) (a9 : A9) (a10 : A10) (a11 : A11) (a12 : A12) (a13 : A13) (h : I a1 a2 a3 a4 a5 a6 a7 a8 a9 a10 a11 a12 a13) : ∃ n, W n a1 a2 a3 a4 a5 a6 a7 a8 a9 a10 a11 a12 a13 :=
  loop_m (σ := A1 × A2 × A3 × A4 × A5 × A6 × A7 × A8 × A9 × A10 × A11 × A12 × A13) (fun n s => W n s.1 s.2.1 s.2.2.1 s.2.2.2.1 s.2.2.2.2.1 s.2.2.2.2.2.1 s.2.2.2.2.2.2.1 s.2.2.2.2.2.2.2.1 s.2.2.2.2.2.2.2.2.1 s.2.2.2.2.2.2.2.2.2.1 s.2.2.2.2.2.2.2.2.2.2.1 s.2.2.2.2.2.2.2.2.2.2.2.1 s.2.2.2.2.2.2.2.2.2.2.2.2) (fun s => I s.1 s.2.1 s.2.2.1 s.2.2.2.1 s.2.2.2.2.1 s.2.2.2.2.2.1 s.2.2.2.2.2.2.1 s.2.2.2.2.2.2.2.1 s.2.2.2.2.2.2.2.2.1 s.2.2.2.2.2.2.2.2.2.1 s.2.2.2.2.2.2.2.2.2.2.1 s.2.2.2.2.2.2.2.2.2.2.2.1 s.2.2.2.2.2.2.2.2.2.2.2.2) (fun s => μ s.1 s.2.1 s.2.2.1 s.2.2.2.1 s.2.2.2.2.1 s.2.2.2.2.2.1 s.2.2.2.2.2.2.1 s.2.2.2.2.2.2.2.1 s.2.2.2.2.2.2.2.2.1 s.2.2.2.2.2.2.2.2.2.1 s.2.2.2.2.2.2.2.2.2.2.1 s.2.2.2.2.2.2.2.2.2.2.2.1 s.2.2.2.2.2.2.2.2.2.2.2.2) (fun n s hI hk => hs n s.1 s.2.1 s.2.2.1 s.2.2.2.1 s.2.2.2.2.1 s.2.2.2.2.2.1 s.2.2.2.2.2.2.1 s.2.2.2.2.2.2.2.1 s.2.2.2.2.2.2.2.2.1 s.2.2.2.2.2.2.2.2.2.1 s.2.2.2.2.2.2.2.2.2.2.1 s.2.2.2.2.2.2.2.2.2.2.2.1 s.2.2.2.2.2.2.2.2.2.2.2.2 hI (fun b1 b2 b3 b4 b5 b6 b7 b8 b9 b10 b11 b12 b13 h9 hm => hk (b1, b2, b3, b4, b5, b6, b7, b8, b9, b10, b11, b12, b13) h9 hm)) (a1, a2, a3, a4, a5, a6, a7, a8, a9, a10, a11, a12, a13) h
theorem lp14 {A1 A2 A3 A4 A5 A6 A7 A8 A9 A10 A11 A12 A13 A14 : Type} (W : Nat → A1 → A2 → A3 → A4 → A5 → A6 → A7 → A8 → A9 → A10 → A11 → A12 → A13 → A14 → Prop) (I : A1 → A2 → A3 → A4 → A5 → A6 → A7 → A8 → A9 → A10 → A11 → A12 → A13 → A14 → Prop) (μ : A1 → A2 → A3 → A4 → A5 → A6 → A7 → A8 → A9 → A10 → A11 → A12 → A13 → A14 → Nat) (hs : ∀ (n : Nat) (a1 : A1) (a2 : A2) (a3 : A3) (a4 : A4) (a5 : A5) (a6 : A6) (a7 : A7) (a8 : A8) (a9 : A9) (a10 : A10) (a11 : A11) (a12 : A12) (a13 : A13) (a14 : A14), I a1 a2 a3 a4 a5 a6 a7 a8 a9 a10 a11 a12 a13 a14 → (∀ (b1 : A1) (b2 : A2) (b3 : A3) (b4 : A4) (b5 : A5) (b6 : A6) (b7 : A7) (b8 : A8) (b9 : A9) (b10 : A10) (b11 : A11) (b12 : A12) (b13 : A13) (b14 : A14), I b1 b2 b3 b4 b5 b6 b7 b8 b9 b10 b11 b12 b13 b14 → μ b1 b2 b3 b4 b5 b6 b7 b8 b9 b10 b11 b12 b13 b14 < μ a1 a2 a3 a4 a5 a6 a7 a8 a9 a10 a11 a12 a13 a14 → W n b1 b2 b3 b4 b5 b6 b7 b8 b9 b10 b11 b12 b13 b14) → W (n + 1) a1 a2 a3 a4 a5 a6 a7 a8 a9 a10 a11 a12 a13 a14) (a1 : A1) (a2 : A2) (a3 : A3) (a4 : A4) (a5 : A5) (a6 : A6) (a7 : A7) (a8 : A8) (a9 : A9) (a10 : A10) (a11 : A11) (a12 : A12) (a13 : A13) (a14 : A14) (h : I a1 a2 a3 a4 a5 a6 a7 a8 a9 a10 a11 a12 a13 a14) : ∃ n, W n a1 a2 a3 a4 a5 a6 a7 a8 a9 a10 a11 a12 a13 a14 :=
  loop_m (σ := A1 × A2 × A3 × A4 × A5 × A6 × A7 × A8 × A9 × A10 × A11 × A12 × A13 × A14) (fun n s => W n s.1 s.2.1 s.2.2.1 s.2.2.2.1 s.2.2.2.2.1 s.2.2.2.2.2.1 s.2.2.2.2.2.2.1 s.2.2.2.2.2.2.2.1 s.2.2.2.2.2.2.2.2.1 s.2.2.2.2.2.2.2.2.2.1 s.2.2.2.2.2.2.2.2.2.2.1 s.2.2.2.2.2.2.2.2.2.2.2.1 s.2.2.2.2.2.2.2.2.2.2.2.2.1 s.2.2.2.2.2.2.2.2.2.2.2.2.2) (fun s => I s.1 s.2.1 s.2.2.1 s.2.2.2.1 s.2.2.2.2.1 s.2.2.2.2.2.1 s.2.2.2.2.2.2.1 s.2.2.2.2.2.2.2.1 s.2.2.2.2.2.2.2.2.1 s.2.2.2.2.2.2.2.2.2.1 s.2.2.2.2.2.2.2.2.2.2.1 s.2.2.2.2.2.2.2.2.2.2.2.1 s.2.2.2.2.2.2.2.2.2.2.2.2.1 s.2.2.2.2.2.2.2.2.2.2.2.2.2) (fun s => μ s.1 s.2.1 s.2.2.1 s.2.2.2.1 s.2.2.2.2.1 s.2.2.2.2.2.1 s.2.2.2.2.2.2.1 s.2.2.2.2.2.2.2.1 s.2.2.2.2.2.2.2.2.1 s.2.2.2.2.2.2.2.2.2.1 s.2.2.2.2.2.2.2.2.2.2.1 s.2.2.2.2.2.2.2.2.2.2.2.1 s.2.2.2.2.2.2.2.2.2.2.2.2.1 s.2.2.2.2.2.2.2.2.2.2.2.2.2) (fun n s hI hk => hs n s.1 s.2.1 s.2.2.1 s.2.2.2.1 s.2.2.2.2.1 s.2.2.2.2.2.1 s.2.2.2.2.2.2.1 s.2.2.2.2.2.2.2.1 s.2.2.2.2.2.2.2.2.1 s.2.2.2.2.2.2.2.2.2.1 s.2.2.2.2.2.2.2.2.2.2.1 s.2.2.2.2.2.2.2.2.2.2.2.1 s.2.2.2.2.2.2.2.2.2.2.2.2.1 s.2.2.2.2.2.2.2.2.2.2.2.2.2 hI (fun b1 b2 b3 b4 b5 b6 b7 b8 b9 b10 b11 b12 b13 b14 h9 hm => hk (b1, b2, b3, b4, b5, b6, b7, b8, b9, b10, b11, b12, b13, b14) h9 hm)) (a1, a2, a3, a4, a5, a6, a7, a8, a9, a10, a11, a12, a13, a14) h
theorem lp15 {A1 A2 A3 A4 A5 A6 A7 A8 A9 A10 A11 A12 A13 A14 A15 : Type} (W : Nat → A1 → A2 → A3 → A4 → A5 → A6 → A7 → A8 → A9 → A10 → A11 → A12 → A13 → A14 → A15 → Prop) (I : A1 → A2 → A3 → A4 → A5 → A6 → A7 → A8 → A9 → A10 → A11 → A12 → A13 → A14 → A15 → Prop) (μ : A1 → A2 → A3 → A4 → A5 → A6 → A7 → A8 → A9 → A10 → A11 → A12 → A13 → A14 → A15 → Nat) (hs : ∀ (n : Nat) (a1 : A1) (a2 : A2) (a3 : A3) (a4 : A4) (a5 : A5) (a6 : A6) (a7 : A7) (a8 : A8) (a9 : A9) (a10 : A10) (a11 : A11) (a12 : A12) (a13 : A13) (a14 : A14) (a15 : A15), I a1 a2 a3 a4 a5 a6 a7 a8 a9 a10 a11 a12 a13 a14 a15 → (∀ (b1 : A1) (b2 : A2) (b3 : A3) (b4 : A4) (b5 : A5) (b6 : A6) (b7 : A7) (b8 : A8) (b9 : A9) (b10 : A10) (b11 : A11) (b12 : A12) (b13 : A13) (b14 : A14) (b15 : A15), I b1 b2 b3 b4 b5 b6 b7 b8 b9 b10 b11 b12 b13 b14 b15 → μ b1 b2 b3 b4 b5 b6 b7 b8 b9 b10 b11 b12 b13 b14 b15 < μ a1 a2 a3 a4 a5 a6 a7 a8 a9 a10 a11 a12 a13 a14 a15 → W n b1 b2 b3 b4 b5 b6 b7 b8 b9 b10 b11 b12 b13 b14 b15) → W (n + 1) a1 a2 a3 a4 a5 a6 a7 a8 a9 a10 a11 a12 a13 a14 a15) (a1 : A1) (a2 : A2) (a3 : A3) (a4 : A4) (a5 : A5) (a6 : A6) (a7 : A7) (a8 : A8) (a9 : A9) (a10 : A10) (a11 : A11) (a12 : A12) (a13 : A13) (a14 : A14) (a15 : A15) (h : I a1 a2 a3 a4 a5 a6 a7 a8 a9 a10 a11 a12 a13 a14 a15) : ∃ n, W n a1 a2 a3 a4 a5 a6 a7 a8 a9 a10 a11 a12 a13 a14 a15 :=
  loop_m (σ := A1 × A2 × A3 × A4 × A5 × A6 × A7 × A8 × A9 × A10 × A11 × A12 × A13 × A14 × A15) (fun n s => W n s.1 s.2.1 s.2.2.1 s.2.2.2.1 s.2.2.2.2.1 s.2.2.2.2.2.1 s.2.2.2.2.2.2.1 s.2.2.2.2.2.2.2.1 s.2.2.2.2.2.2.2.2.1 s.2.2.2.2.2.2.2.2.2.1 s.2.2.2.2.2.2.2.2.2.2.1 s.2.2.2.2.2.2.2.2.2.2.2.1 s.2.2.2.2.2.2.2.2.2.2.2.2.1 s.2.2.2.2.2.2.2.2.2.2.2.2.2.1 s.2.2.2.2.2.2.2.2.2.2.2.2.2.2) (fun s => I s.1 s.2.1 s.2.2.1 s.2.2.2.1 s.2.2.2.2.1 s.2.2.2.2.2.1 s.2.2.2.2.2.2.1 s.2.2.2.2.2.2.2.1 s.2.2.2.2.2.2.2.2.1 s.2.2.2.2.2.2.2.2.2.1 s.2.2.2.2.2.2.2.2.2.2.1 s.2.2.2.2.2.2.2.2.2.2.2.1 s.2.2.2.2.2.2.2.2.2.2.2.2.1 s.2.2.2.2.2.2.2.2.2.2.2.2.2.1 s.2.2.2.2.2.2.2.2.2.2.2.2.2.2) (fun s => μ s.1 s.2.1 s.2.2.1 s.2.2.2.1 s.2.2.2.2.1 s.2.2.2.2.2.1 s.2.2.2.2.2.2.1 s.2.2.2.2.2.2.2.1 s.2.2.2.2.2.2.2.2.1 s.2.2.2.2.2.2.2.2.2.1 s.2.2.2.2.2.2.2.2.2.2.1 s.2.2.2.2.2.2.2.2.2.2.2.1 s.2.2.2.2.2.2.2.2.2.2.2.2.1 s.2.2.2.2.2.2.2.2.2.2.2.2.2.1 s.2.2.2.2.2.2.2.2.2.2.2.2.2.2) (fun n s hI hk => hs n s.1 s.2.1 s.2.2.1 s.2.2.2.1 s.2.2.2.2.1 s.2.2.2.2.2.1 s.2.2.2.2.2.2.1 s.2.2.2.2.2.2.2.1 s.2.2.2.2.2.2.2.2.1 s.2.2.2.2.2.2.2.2.2.1 s.2.2.2.2.2.2.2.2.2.2.1 s.2.2.2.2.2.2.2.2.2.2.2.1 s.2.2.2.2.2.2.2.2.2.2.2.2.1 s.2.2.2.2.2.2.2.2.2.2.2.2.2.1 s.2.2.2.2.2.2.2.2.2.2.2.2.2.2 hI (fun b1 b2 b3 b4 b5 b6 b7 b8 b9 b10 b11 b12 b13 b14 b15 h9 hm => hk (b1, b2, b3, b4, b5, b6, b7, b8, b9, b10, b11, b12, b13, b14, b15) h9 hm)) (a1, a2, a3, a4, a5, a6, a7, a8, a9, a10, a11, a12, a13, a14, a15) h
theorem lp16 {A1 A2 A3 A4 A5 A6 A7 A8 A9 A10 A11 A12 A13 A14 A15 A16 : Type} (W : Nat → A1 → A2 → A3 → A4 → A5 → A6 → A7 → A8 → A9 → A10 → A11 → A12 → A13 → A14 → A15 → A16 → Prop) (I : A1 → A2 → A3 → A4 → A5 → A6 → A7 → A8 → A9 → A10 → A11 → A12 → A13 → A14 → A15 → A16 → Prop) (μ : A1 → A2 → A3 → A4 → A5 → A6 → A7 → A8 → A9 → A10 → A11 → A12 → A13 → A14 → A15 → A16 → Nat) (hs : ∀ (n : Nat) (a1 : A1) (a2 : A2) (a3 : A3) (a4 : A4) (a5 : A5) (a6 : A6) (a7 : A7) (a8 : A8) (a9 : A9) (a10 : A10) (a11 : A11) (a12 : A12) (a13 : A13) (a14 : A14) (a15 : A15) (a16 : A16), I a1 a2 a3 a4 a5 a6 a7 a8 a9 a10 a11 a12 a13 a14 a15 a16 → (∀ (b1 : A1) (b2 : A2) (b3 : A3) (b4 : A4) (b5 : A5) (b6 : A6) (b7 : A7) (b8 : A8) (b9 : A9) (b10 : A10) (b11 : A11) (b12 : A12) (b13 : A13) (b14 : A14) (b15 : A15) (b16 : A16), I b1 b2 b3 b4 b5 b6 b7 b8 b9 b10 b11 b12 b13 b14 b15 b16 → μ b1 b2 b3 b4 b5 b6 b7 b8 b9 b10 b11 b12 b13 b14 b15 b16 < μ a1 a2 a3 a4 a5 a6 a7 a8 a9 a10 a11 a12 a13 a14 a15 a16 → W n b1 b2 b3 b4 b5 b6 b7 b8 b9 b10 b11 b12 b13 b14 b15 b16) → W (n + 1) a1 a2 a3 a4 a5 a6 a7 a8 a9 a10 a11 a12 a13 a14 a15 a16) (a1 : A1) (a2 : A2) (a3 : A3) (a4 : A4) (a5 : A5) (a6 : A6) (a7 : A7) (a8 : A8) (a9 : A9) (a10 : A10) (a11 : A11) (a12 : A12) (a13 : A13) (a14 : A14) (a15 : A15) (a16 : A16) (h : I a1 a2 a3 a4 a5 a6 a7 a8 a9 a10 a11 a12 a13 a14 a15 a16) : ∃ n, W n a1 a2 a3 a4 a5 a6 a7 a8 a9 a10 a11 a12 a13 a14 a15 a16 :=
  loop_m (σ := A1 × A2 × A3 × A4 × A5 × A6 × A7 × A8 × A9 × A10 × A11 × A12 × A13 × A14 × A15 × A16) (fun n s => W n s.1 s.2.1 s.2.2.1 s.2.2.2.1 s.2.2.2.2.1 s.2.2.2.2.2.1 s.2.2.2.2.2.2.1 s.2.2.2.2.2.2.2.1 s.2.2.2.2.2.2.2.2.1 s.2.2.2.2.2.2.2.2.2.1 s.2.2.2.2.2.2.2.2.2.2.1 s.2.2.2.2.2.2.2.2.2.2.2.1 s.2.2.2.2.2.2.2.2.2.2.2.2.1 s.2.2.2.2.2.2.2.2.2.2.2.2.2.1 s.2.2.2.2.2.2.2.2.2.2.2.2.2.2.1 s.2.2.2.2.2.2.2.2.2.2.2.2.2.2.2) (fun s => I s.1 s.2.1 s.2.2.1 s.2.2.2.1 s.2.2.2.2.1 s.2.2.2.2.2.1 s.2.2.2.2.2.2.1 s.2.2.2.2.2.2.2.1 s.2.2.2.2.2.2.2.2.1 s.2.2.2.2.2.2.2.2.2.1 s.2.2.2.2.2.2.2.2.2.2.1 s.2.2.2.2.2.2.2.2.2.2.2.1 s.2.2.2.2.2.2.2.2.2.2.2.2.1 s.2.2.2.2.2.2.2.2.2.2.2.2.2.1 s.2.2.2.2.2.2.2.2.2.2.2.2.2.2.1 s.2.2.2.2.2.2.2.2.2.2.2.2.2.2.2) (fun s => μ s.1 s.2.1 s.2.2.1 s.2.2.2.1 s.2.2.2.2.1 s.2.2.2.2.2.1 s.2.2.2.2.2.2.1 s.2.2.2.2.2.2.2.1 s.2.2.2.2.2.2.2.2.1 s.2.2.2.2.2.2.2.2.2.1 s.2.2.2.2.2.2.2.2.2.2.1 s.2.2.2.2.2.2.2.2.2.2.2.1 s.2.2.2.2.2.2.2.2.2.2.2.2.1 s.2.2.2.2.2.2.2.2.2.2.2.2.2.1 s.2.2.2.2.2.2.2.2.2.2.2.2.2.2.1 s.2.2.2.2.2.2.2.2.2.2.2.2.2.2.2) (fun n s hI hk => hs n s.1 s.2.1 s.2.2.1 s.2.2.2.1 s.2.2.2.2.1 s.2.2.2.2.2.1 s.2.2.2.2.2.2.1 s.2.2.2.2.2.2.2.1 s.2.2.2.2.2.2.2.2.1 s.2.2.2.2.2.2.2.2.2.1 s.2.2.2.2.2.2.2.2.2.2.1 s.2.2.2.2.2.2.2.2.2.2.2.1 s.2.2.2.2.2.2.2.2.2.2.2.2.1 s.2.2.2.2.2.2.2.2.2.2.2.2.2.1 s.2.2.2.2.2.2.2.2.2.2.2.2.2.2.1 s.2.2.2.2.2.2.2.2.2.2.2.2.2.2.2 hI (fun b1 b2 b3 b4 b5 b6 b7 b8 b9 b10 b11 b12 b13 b14 b15 b16 h9 hm => hk (b1, b2, b3, b4, b5, b6, b7, b8, b9, b10, b11, b12, b13, b14, b15, b16) h9 hm)) (a1, a2, a3, a4, a5, a6, a7, a8, a9, a10, a11, a12, a13, a14, a15, a16) h
theorem pk_least (P : Nat → Prop) (h : ∃ k, P k) : ∃ k, P k ∧ ∀ j, j < k → ¬ P j := by
  obtain ⟨k, hk⟩ := h
  induction k using Nat.strongRecOn with
  | ind k ih =>
    by_cases e : ∃ j, j < k ∧ P j
    · obtain ⟨j, hj, pj⟩ := e
      exact ih j hj pj
    · exact ⟨k, hk, fun j hj pj => e ⟨j, hj, pj⟩⟩
theorem rp1 {ρ A1 : Type} (W : Nat → (ρ → Prop) → A1 → Prop) (ok : A1 → Prop) (μ : A1 → Nat) (val : A1 → ρ)
    (hs : ∀ (d : Nat) (post : ρ → Prop) (a1 : A1), ok a1 → post (val a1) → (∀ (post' : ρ → Prop) (b1 : A1), ok b1 → μ b1 < μ a1 → post' (val b1) → W d post' b1) → W (d + 1) post a1) :
    ∀ (d : Nat) (post : ρ → Prop) (a1 : A1), ok a1 → μ a1 < d → post (val a1) → W d post a1 := by
  intro d
  induction d with
  | zero => intro post a1 _ h; omega
  | succ d ih =>
    intro post a1 ho hm hp
    exact hs d post a1 ho hp (fun post' b1 ho' hm' hp' => ih post' b1 ho' (by omega) hp')
theorem rp2 {ρ A1 A2 : Type} (W : Nat → (ρ → Prop) → A1 → A2 → Prop) (ok : A1 → A2 → Prop) (μ : A1 → A2 → Nat) (val : A1 → A2 → ρ)
    (hs : ∀ (d : Nat) (post : ρ → Prop) (a1 : A1) (a2 : A2), ok a1 a2 → post (val a1 a2) → (∀ (post' : ρ → Prop) (b1 : A1) (b2 : A2), ok b1 b2 → μ b1 b2 < μ a1 a2 → post' (val b1 b2) → W d post' b1 b2) → W (d + 1) post a1 a2) :
    ∀ (d : Nat) (post : ρ → Prop) (a1 : A1) (a2 : A2), ok a1 a2 → μ a1 a2 < d → post (val a1 a2) → W d post a1 a2 := by
  intro d
  induction d with
  | zero => intro post a1 a2 _ h; omega
  | succ d ih =>
    intro post a1 a2 ho hm hp
    exact hs d post a1 a2 ho hp (fun post' b1 b2 ho' hm' hp' => ih post' b1 b2 ho' (by omega) hp')
theorem rp3 {ρ A1 A2 A3 : Type} (W : Nat → (ρ → Prop) → A1 → A2 → A3 → Prop) (ok : A1 → A2 → A3 → Prop) (μ : A1 → A2 → A3 → Nat) (val : A1 → A2 → A3 → ρ)
    (hs : ∀ (d : Nat) (post : ρ → Prop) (a1 : A1) (a2 : A2) (a3 : A3), ok a1 a2 a3 → post (val a1 a2 a3) → (∀ (post' : ρ → Prop) (b1 : A1) (b2 : A2) (b3 : A3), ok b1 b2 b3 → μ b1 b2 b3 < μ a1 a2 a3 → post' (val b1 b2 b3) → W d post' b1 b2 b3) → W (d + 1) post a1 a2 a3) :
    ∀ (d : Nat) (post : ρ → Prop) (a1 : A1) (a2 : A2) (a3 : A3), ok a1 a2 a3 → μ a1 a2 a3 < d → post (val a1 a2 a3) → W d post a1 a2 a3 := by
  intro d
  induction d with
  | zero => intro post a1 a2 a3 _ h; omega
  | succ d ih =>
    intro post a1 a2 a3 ho hm hp
    exact hs d post a1 a2 a3 ho hp (fun post' b1 b2 b3 ho' hm' hp' => ih post' b1 b2 b3 ho' (by omega) hp')
theorem rp4 {ρ A1 A2 A3 A4 : Type} (W : Nat → (ρ → Prop) → A1 → A2 → A3 → A4 → Prop) (ok : A1 → A2 → A3 → A4 → Prop) (μ : A1 → A2 → A3 → A4 → Nat) (val : A1 → A2 → A3 → A4 → ρ)
    (hs : ∀ (d : Nat) (post : ρ → Prop) (a1 : A1) (a2 : A2) (a3 : A3) (a4 : A4), ok a1 a2 a3 a4 → post (val a1 a2 a3 a4) → (∀ (post' : ρ → Prop) (b1 : A1) (b2 : A2) (b3 : A3) (b4 : A4), ok b1 b2 b3 b4 → μ b1 b2 b3 b4 < μ a1 a2 a3 a4 → post' (val b1 b2 b3 b4) → W d post' b1 b2 b3 b4) → W (d + 1) post a1 a2 a3 a4) :
    ∀ (d : Nat) (post : ρ → Prop) (a1 : A1) (a2 : A2) (a3 : A3) (a4 : A4), ok a1 a2 a3 a4 → μ a1 a2 a3 a4 < d → post (val a1 a2 a3 a4) → W d post a1 a2 a3 a4 := by
  intro d
  induction d with
  | zero => intro post a1 a2 a3 a4 _ h; omega
  | succ d ih =>
    intro post a1 a2 a3 a4 ho hm hp
    exact hs d post a1 a2 a3 a4 ho hp (fun post' b1 b2 b3 b4 ho' hm' hp' => ih post' b1 b2 b3 b4 ho' (by omega) hp')
theorem rp5 {ρ A1 A2 A3 A4 A5 : Type} (W : Nat → (ρ → Prop) → A1 → A2 → A3 → A4 → A5 → Prop) (ok : A1 → A2 → A3 → A4 → A5 → Prop) (μ : A1 → A2 → A3 → A4 → A5 → Nat) (val : A1 → A2 → A3 → A4 → A5 → ρ)
    (hs : ∀ (d : Nat) (post : ρ → Prop) (a1 : A1) (a2 : A2) (a3 : A3) (a4 : A4) (a5 : A5), ok a1 a2 a3 a4 a5 → post (val a1 a2 a3 a4 a5) → (∀ (post' : ρ → Prop) (b1 : A1) (b2 : A2) (b3 : A3) (b4 : A4) (b5 : A5), ok b1 b2 b3 b4 b5 → μ b1 b2 b3 b4 b5 < μ a1 a2 a3 a4 a5 → post' (val b1 b2 b3 b4 b5) → W d post' b1 b2 b3 b4 b5) → W (d + 1) post a1 a2 a3 a4 a5) :
    ∀ (d : Nat) (post : ρ → Prop) (a1 : A1) (a2 : A2) (a3 : A3) (a4 : A4) (a5 : A5), ok a1 a2 a3 a4 a5 → μ a1 a2 a3 a4 a5 < d → post (val a1 a2 a3 a4 a5) → W d post a1 a2 a3 a4 a5 := by
  intro d
  induction d with
  | zero => intro post a1 a2 a3 a4 a5 _ h; omega
  | succ d ih =>
    intro post a1 a2 a3 a4 a5 ho hm hp
    exact hs d post a1 a2 a3 a4 a5 ho hp (fun post' b1 b2 b3 b4 b5 ho' hm' hp' => ih post' b1 b2 b3 b4 b5 ho' (by omega) hp')
theorem rp6 {ρ A1 A2 A3 A4 A5 A6 : Type} (W : Nat → (ρ → Prop) → A1 → A2 → A3 → A4 → A5 → A6 → Prop) (ok : A1 → A2 → A3 → A4 → A5 → A6 → Prop) (μ : A1 → A2 → A3 → A4 → A5 → A6 → Nat) (val : A1 → A2 → A3 → A4 → A5 → A6 → ρ)
    (hs : ∀ (d : Nat) (post : ρ → Prop) (a1 : A1) (a2 : A2) (a3 : A3) (a4 : A4) (a5 : A5) (a6 : A6), ok a1 a2 a3 a4 a5 a6 → post (val a1 a2 a3 a4 a5 a6) → (∀ (post' : ρ → Prop) (b1 : A1) (b2 : A2) (b3 : A3) (b4 : A4) (b5 : A5) (b6 : A6), ok b1 b2 b3 b4 b5 b6 → μ b1 b2 b3 b4 b5 b6 < μ a1 a2 a3 a4 a5 a6 → post' (val b1 b2 b3 b4 b5 b6) → W d post' b1 b2 b3 b4 b5 b6) → W (d + 1) post a1 a2 a3 a4 a5 a6) :
    ∀ (d : Nat) (post : ρ → Prop) (a1 : A1) (a2 : A2) (a3 : A3) (a4 : A4) (a5 : A5) (a6 : A6), ok a1 a2 a3 a4 a5 a6 → μ a1 a2 a3 a4 a5 a6 < d → post (val a1 a2 a3 a4 a5 a6) → W d post a1 a2 a3 a4 a5 a6 := by
  intro d
  induction d with
  | zero => intro post a1 a2 a3 a4 a5 a6 _ h; omega
  | succ d ih =>
    intro post a1 a2 a3 a4 a5 a6 ho hm hp
    exact hs d post a1 a2 a3 a4 a5 a6 ho hp (fun post' b1 b2 b3 b4 b5 b6 ho' hm' hp' => ih post' b1 b2 b3 b4 b5 b6 ho' (by omega) hp')
theorem rec_p {σ ρ : Type} (W : Nat → (ρ → Prop) → σ → Prop) (ok : σ → Prop) (μ : σ → Nat) (val : σ → ρ)
    (hs : ∀ d s post, ok s → post (val s) → (∀ s' post', ok s' → μ s' < μ s → post' (val s') → W d post' s') → W (d + 1) post s) :
    ∀ d s post, ok s → μ s < d → post (val s) → W d post s := by
  intro d
  induction d with
  | zero => intro s post _ h; omega
  | succ d ih =>
    intro s post ho hm hp
    exact hs d s post ho hp (fun s' post' ho' hm' hp' => ih s' post' ho' (by omega) hp')
theorem rec_q {σ ρ : Type} (W : Nat → (ρ → Prop) → σ → Prop) (ok : σ → Prop) (μ : σ → Nat) (Q : σ → ρ → Prop)
    (hs : ∀ d s post, ok s → (∀ r, Q s r → post r) → (∀ s' post', ok s' → μ s' < μ s → (∀ r, Q s' r → post' r) → W d post' s') → W (d + 1) post s) :
    ∀ d s post, ok s → μ s < d → (∀ r, Q s r → post r) → W d post s := by
  intro d
  induction d with
  | zero => intro s post _ h; omega
  | succ d ih =>
    intro s post ho hm hp
    exact hs d s post ho hp (fun s' post' ho' hm' hp' => ih s' post' ho' (by omega) hp')
def bx_sum (f : Nat → Int32) : Nat → Int32
  | 0 => 0
  | n + 1 => bx_sum f n + f n
theorem ek_u {A : Prop} {B : Nat → Prop} {k N : Nat} (hk : k < N) (h : B k) : (some k = none → A) ∧ (∀ y : Nat, some k = some y → (y < N ∧ B y)) :=
  ⟨fun z => absurd z (Option.some_ne_none k), fun _ e => (by cases e; exact ⟨hk, h⟩)⟩
theorem ek_nu {A : Prop} {B : Nat → Prop} (h : A) : ((none : Option Nat) = none → A) ∧ (∀ y : Nat, (none : Option Nat) = some y → B y) :=
  ⟨fun _ => h, fun _ e => (by cases e)⟩
theorem ek_if {c d A B : Prop} (e : c ↔ d) (f : d → A) (g : ¬ d → B) : (c → A) ∧ (¬ c → B) :=
  ⟨fun z => f (e.mp z), fun z => g (fun y => z (e.mpr y))⟩
theorem ek_v {α : Sort _} {P : α → Prop} {a b : α} (e : a = b) (h : P b) : P a := e ▸ h
theorem co_some {x : Option Nat} {A : Prop} {B : Nat → Prop} (i : Nat) (h : B i) (hx : x = some i := by rfl) : (x = none → A) ∧ (∀ y : Nat, x = some y → B y) := by
  subst hx
  exact ⟨fun e => (nomatch e), fun y e => Option.some.inj e ▸ h⟩
theorem co_none {x : Option Nat} {A : Prop} {B : Nat → Prop} (h : A) (hx : x = none := by rfl) : (x = none → A) ∧ (∀ y : Nat, x = some y → B y) := by
  subst hx
  exact ⟨fun _ => h, fun y e => (nomatch e)⟩
theorem co_any {x : Option Nat} {A : Prop} {B : Nat → Prop} (hn : x = none → A) (hs : ∀ i : Nat, x = some i → B i) : (x = none → A) ∧ (∀ y : Nat, x = some y → B y) := ⟨hn, hs⟩
theorem co_2 {P : Nat → Prop} (h0 : P 0) (h1 : P 1) {i : Nat} (hi : i < 2) : P i :=
  match i, hi with
  | 0, _ => h0
  | 1, _ => h1
theorem co_3 {P : Nat → Prop} (h0 : P 0) (h1 : P 1) (h2 : P 2) {i : Nat} (hi : i < 3) : P i :=
  match i, hi with
  | 0, _ => h0
  | 1, _ => h1
  | 2, _ => h2
theorem co_4 {P : Nat → Prop} (h0 : P 0) (h1 : P 1) (h2 : P 2) (h3 : P 3) {i : Nat} (hi : i < 4) : P i :=
  match i, hi with
  | 0, _ => h0
  | 1, _ => h1
  | 2, _ => h2
  | 3, _ => h3
theorem co_dec {N : Nat} {P : Nat → Prop} [DecidablePred P] (h : (List.range N).all (fun i => decide (P i)) = true) {i : Nat} (hi : i < N) : P i := by
  have := List.all_eq_true.mp h i (List.mem_range.mpr hi)
  exact of_decide_eq_true this
theorem co_tab {α : Type} {l : List α} {d : α} {P : α → Prop} (h : ∀ a, a ∈ l → P a) {i : Nat} (hi : i < l.length) : P (l.getD i d) := by
  rw [List.getD_eq_getElem?_getD, List.getElem?_eq_getElem hi]
  exact h _ (List.getElem_mem hi)
theorem pk_mu {x : Int32} {L : Nat} (h0 : ¬ x < 0) (h : ¬ nI L ≤ x) (hL : L < 2 ^ 31) : ∃ j : Nat, j < L ∧ x = nI j ∧ x + 1 = nI (j + 1) ∧ x.toNatClampNeg = j ∧ L - (x + 1).toNatClampNeg < L - x.toNatClampNeg := by
  obtain ⟨j, hj, rfl⟩ := nI_of h0
  have hl : j < L := Nat.not_le.mp fun q => h (nI_le q hj)
  refine ⟨j, hl, rfl, nI_1 j, nI_clamp hj, ?_⟩
  rw [nI_1, nI_clamp (by omega), nI_clamp hj]
  omega
theorem op_s {α : Type} {r : Option α} {A : Prop} {B : α → Prop} {y : α} (h : r = some y) (b : B y) : (r = none → A) ∧ ∀ z, r = some z → B z :=
  ⟨fun e => (by rw [h] at e; cases e), fun z e => (by rw [h] at e; cases e; exact b)⟩
def l_holds {α : Type} (a : Nat → Option Nat) (LP : List Nat) (p : Nat → α) (c : Nat) (b : Nat → α) : Prop :=
  ∀ j, j < c → ∃ y, a j = some y ∧ y ∈ LP ∧ p y = b j
theorem l_holds_0 {α : Type} {a : Nat → Option Nat} {LP : List Nat} {p b : Nat → α} : l_holds a LP p 0 b := fun j h => absurd h (Nat.not_lt_zero j)
theorem l_in_new (LP : List Nat) (q : Nat) : q ∈ LP ++ [q] := List.mem_append.mpr (Or.inr (List.mem_singleton.mpr rfl))
def l_sum (b : Nat → Int32) : Nat → Int32
  | 0 => 0
  | k + 1 => l_sum b k + b k
theorem sb_shr0 (x : Int32) : x >>> ((0 : Int32) &&& 31) = x := by
  rw [show ((0 : Int32) &&& 31) = 0 by decide]
  simp
theorem sb_shl0 (x : Int32) : x <<< ((0 : Int32) &&& 31) = x := by
  rw [show ((0 : Int32) &&& 31) = 0 by decide]
  simp
theorem sb_cl0 : (0 : Int32).toNatClampNeg = 0 := by decide
theorem sb_m1 {p : Nat} (h : 0 < p) : nI p + (-1) = nI (p - 1) := by
  obtain ⟨q, rfl⟩ : ∃ q, p = q + 1 := ⟨p - 1, by omega⟩
  exact pk_m1 q
def sb_b (c : Nat) : Int32 := (nI c).toInt8.toInt32
theorem sb_byte : ∀ c, c < 256 → sb_b c &&& 255 = nI c ∧ ((nI c).toUInt32 % 65536).toInt32 = nI c ∧ nI c ≤ 255 := by decide +kernel
def sb_Fit (a : Nat → Int32) : Prop := ∀ j, fits .byte (.int (a j)) = true
def sb_Lat (t : Nat → Nat) (n : Nat) (a : Nat → Int32) : Prop := ∀ j, j < n → t j < 256 ∧ a j = sb_b (t j)
theorem sb_fitB (c : Nat) : fits .byte (.int (sb_b c)) = true := pk_fb _
theorem sb_fit0 : sb_Fit (fun _ => 0) := fun _ => by
  show fits .byte (.int 0) = true
  decide
theorem sb_fitU {a : Nat → Int32} {k : Nat} {x : Int32} (h : sb_Fit a) (hx : fits .byte (.int x) = true) : sb_Fit (upd a k x) := by
  intro j
  by_cases e : j = k
  · subst e
    rw [pk_us]
    exact hx
  · rw [pk_un e]
    exact h j
def sb_cat (t : Nat → Nat) (n : Nat) (s : Nat → Nat) : Nat → Nat := fun j => if j < n then t j else s (j - n)
theorem sb_cat_lo {t s : Nat → Nat} {n j : Nat} (h : j < n) : sb_cat t n s j = t j := if_pos h
theorem sb_cat_hi {t s : Nat → Nat} {n j : Nat} : sb_cat t n s (n + j) = s j := by
  show (if n + j < n then t (n + j) else s (n + j - n)) = s j
  rw [if_neg (by omega), Nat.add_sub_cancel_left]
theorem sb_latPut {t s : Nat → Nat} {n w : Nat} {a a' : Nat → Int32} (h : sb_Lat t n a) (hk : ∀ j, j < n → a' j = a j) (hs : ∀ i, i < w → s i < 256 ∧ a' (n + i) = sb_b (s i)) : sb_Lat (sb_cat t n s) (n + w) a' := by
  intro j hj
  by_cases e : j < n
  · rw [sb_cat_lo e, hk j e]
    exact h j e
  · obtain ⟨i, rfl⟩ : ∃ i, j = n + i := ⟨j - n, by omega⟩
    rw [sb_cat_hi]
    exact hs i (by omega)
theorem sb_latKeep {t : Nat → Nat} {n : Nat} {a a' : Nat → Int32} (h : sb_Lat t n a) (hk : ∀ j, j < n → a' j = a j) : sb_Lat t n a' := fun j hj => by
  rw [hk j hj]
  exact h j hj
def sb_cap (q m : Nat) : Nat := if q ≤ m then m else if 2 * m + 2 < q then q else 2 * m + 2
def sb_Room (q m mc ms : Nat) : Prop := q ≤ m ∨ (1 ≤ mc ∧ sb_cap q m ≤ ms ∧ sb_cap q m ≤ 65536)
theorem sb_cap_ge (q m : Nat) : q ≤ sb_cap q m := by
  unfold sb_cap
  split
  · omega
  · split <;> omega
theorem sb_cap_gem (q m : Nat) : m ≤ sb_cap q m := by
  unfold sb_cap
  split
  · omega
  · split <;> omega
theorem sb_cap_le {q m mc ms : Nat} (hm : m ≤ 65536) (hr : sb_Room q m mc ms) : sb_cap q m ≤ 65536 := by
  rcases hr with h | h
  · rw [sb_cap, if_pos h]
    exact hm
  · exact h.2.2
theorem sb_at {P : Int32 → Prop} {x y : Int32} (e : x = y) (h : P y) : P x := e ▸ h
def sb_dg (w : Nat) : Nat := if w < 10 then 1 else if w < 100 then 2 else if w < 1000 then 3 else if w < 10000 then 4 else if w < 100000 then 5 else if w < 1000000 then 6 else if w < 10000000 then 7 else if w < 100000000 then 8 else if w < 1000000000 then 9 else 10
def sb_dec (v : Nat) : Nat → Nat := fun i => 48 + v / 10 ^ (sb_dg v - 1 - i) % 10
theorem sb_dg_in (w : Nat) : 1 ≤ sb_dg w ∧ sb_dg w ≤ 10 := by
  unfold sb_dg
  constructor <;> (repeat' split) <;> omega
theorem sb_dg100 {w : Nat} (h : 100 ≤ w) (hw : w < 2 ^ 31) : sb_dg w = sb_dg (w / 100) + 2 := by
  rw [sb_dg, sb_dg, if_neg (show ¬ w < 10 by omega), if_neg (show ¬ w < 100 by omega)]
  by_cases h3 : w < 1000
  · rw [if_pos h3, if_pos (show w / 100 < 10 by omega)]
  rw [if_neg h3, if_neg (show ¬ w / 100 < 10 by omega)]
  by_cases h4 : w < 10000
  · rw [if_pos h4, if_pos (show w / 100 < 100 by omega)]
  rw [if_neg h4, if_neg (show ¬ w / 100 < 100 by omega)]
  by_cases h5 : w < 100000
  · rw [if_pos h5, if_pos (show w / 100 < 1000 by omega)]
  rw [if_neg h5, if_neg (show ¬ w / 100 < 1000 by omega)]
  by_cases h6 : w < 1000000
  · rw [if_pos h6, if_pos (show w / 100 < 10000 by omega)]
  rw [if_neg h6, if_neg (show ¬ w / 100 < 10000 by omega)]
  by_cases h7 : w < 10000000
  · rw [if_pos h7, if_pos (show w / 100 < 100000 by omega)]
  rw [if_neg h7, if_neg (show ¬ w / 100 < 100000 by omega)]
  by_cases h8 : w < 100000000
  · rw [if_pos h8, if_pos (show w / 100 < 1000000 by omega)]
  rw [if_neg h8, if_neg (show ¬ w / 100 < 1000000 by omega)]
  by_cases h9 : w < 1000000000
  · rw [if_pos h9, if_pos (show w / 100 < 10000000 by omega)]
  rw [if_neg h9, if_neg (show ¬ w / 100 < 10000000 by omega)]
  rw [if_pos (show w / 100 < 100000000 by omega)]
theorem sb_negT {w : Nat} (h : w < 2 ^ 31) : (-nI w).toInt = -(w : Int) := by
  rw [Int32.toInt_neg, nI_toInt h]
  exact Int.bmod_eq_of_le (by omega) (by omega)
theorem sb_nle {a b : Nat} (ha : a < 2 ^ 31) (hb : b < 2 ^ 31) : -nI a ≤ -nI b ↔ b ≤ a := by
  rw [Int32.le_iff_toInt_le, sb_negT ha, sb_negT hb]
  omega
theorem sb_nlt {a b : Nat} (ha : a < 2 ^ 31) (hb : b < 2 ^ 31) : -nI a < -nI b ↔ b < a := by
  rw [Int32.lt_iff_toInt_lt, sb_negT ha, sb_negT hb]
  omega
theorem sb_cmp {A B : Prop} {x : Int32} (v c : Nat) (f : c ≤ v → A) (g : v < c → B) (hv : v < 2 ^ 31) (hx : x = -nI c := by rfl) (hc : c < 2 ^ 31 := by omega) : (-nI v ≤ x → A) ∧ (¬ -nI v ≤ x → B) := by
  subst hx
  rw [sb_nle hv hc]
  exact ⟨f, fun z => g (by omega)⟩
theorem sb_ndiv {w : Nat} (hw : w < 2 ^ 31) : (-nI w) / 100 = -nI (w / 100) := by
  apply Int32.toInt_inj.mp
  have h100 : (100 : Int32).toInt = 100 := by decide
  rw [Int32.toInt_div, sb_negT hw, h100, sb_negT (by omega), Int.neg_tdiv, Int.tdiv_eq_ediv_of_nonneg (by omega), Int.bmod_eq_of_le (by omega) (by omega)]
  omega
theorem sb_nrem {w : Nat} (hw : w < 2 ^ 31) : (-nI (w / 100)) * 100 - (-nI w) = nI (w % 100) := by
  have h := pk_rem (a := w) (d := 100) hw (by decide) (by decide)
  rw [pk_div hw (by decide) (by decide)] at h
  rw [← h]
  show (-nI (w / 100)) * nI 100 - (-nI w) = nI w - nI (w / 100) * nI 100
  rw [Int32.neg_mul, Int32.sub_neg, Int32.add_comm, ← Int32.sub_eq_add_neg]
end
section
/-! lists of facts: keys, items, links -/
def ak_it (F : List (Nat × Nat)) (k : Nat) : List Nat := (F.filter (fun e => decide (e.1 = k))).map (fun e => e.2)
theorem ak_it_nil (k : Nat) : ak_it [] k = [] := rfl
theorem ak_it_cons (k i k' : Nat) (F : List (Nat × Nat)) : ak_it ((k, i) :: F) k' = if k = k' then i :: ak_it F k' else ak_it F k' := by
  unfold ak_it
  by_cases h : k = k'
  · rw [if_pos h, List.filter_cons_of_pos (by simpa using h)]; rfl
  · rw [if_neg h, List.filter_cons_of_neg (by simpa using h)]
theorem ak_it_app (F G : List (Nat × Nat)) (k : Nat) : ak_it (F ++ G) k = ak_it F k ++ ak_it G k := by
  unfold ak_it
  rw [List.filter_append, List.map_append]
theorem ak_it_app_s (F : List (Nat × Nat)) (k i : Nat) : ak_it (F ++ [(k, i)]) k = ak_it F k ++ [i] := by
  rw [ak_it_app, ak_it_cons, if_pos rfl, ak_it_nil]
theorem ak_it_app_n {F : List (Nat × Nat)} {k i k' : Nat} (h : k ≠ k') : ak_it (F ++ [(k, i)]) k' = ak_it F k' := by
  rw [ak_it_app, ak_it_cons, if_neg h, ak_it_nil, List.append_nil]
theorem ak_it_mem {F : List (Nat × Nat)} {k i : Nat} : i ∈ ak_it F k ↔ (k, i) ∈ F := by
  unfold ak_it
  rw [List.mem_map]
  constructor
  · rintro ⟨⟨a, b⟩, h, rfl⟩
    rw [List.mem_filter] at h
    have : a = k := by simpa using h.2
    subst this
    exact h.1
  · intro h
    exact ⟨(k, i), List.mem_filter.mpr ⟨h, by simp⟩, rfl⟩
theorem ak_it_er_n {k i k' : Nat} (h : k ≠ k') : ∀ F : List (Nat × Nat), ak_it (F.erase (k, i)) k' = ak_it F k' := by
  intro F
  induction F with
  | nil => rfl
  | cons e F ih =>
    obtain ⟨a, b⟩ := e
    by_cases hh : (a, b) = (k, i)
    · rw [hh, List.erase_cons_head, ak_it_cons, if_neg h]
    · rw [List.erase_cons_tail (by simpa using hh), ak_it_cons, ak_it_cons, ih]
theorem ak_it_er_s {k i : Nat} : ∀ F : List (Nat × Nat), ak_it (F.erase (k, i)) k = (ak_it F k).erase i := by
  intro F
  induction F with
  | nil => rfl
  | cons e F ih =>
    obtain ⟨a, b⟩ := e
    by_cases hh : (a, b) = (k, i)
    · rw [hh, List.erase_cons_head, ak_it_cons, if_pos rfl, List.erase_cons_head]
    · rw [List.erase_cons_tail (by simpa using hh), ak_it_cons, ak_it_cons, ih]
      by_cases hk : a = k
      · subst hk
        rw [if_pos rfl, if_pos rfl]
        have hb : b ≠ i := fun z => hh (by rw [z])
        rw [List.erase_cons_tail (by simpa using hb)]
      · rw [if_neg hk, if_neg hk]
/-- the code of a fact: no two facts share one -/
def ak_cd (e : Nat × Nat) : Nat := if e.1 < 20 then e.2 + 16 else e.2
def ak_ok (e : Nat × Nat) : Prop := (e.1 < 20 ∧ e.2 < 16) ∨ (20 ≤ e.1 ∧ e.1 < 24 ∧ e.2 < 64 ∧ (e.2 < 6 ∨ 16 ≤ e.2))
def ak_W (F : List (Nat × Nat)) : Prop := (∀ e ∈ F, ak_ok e) ∧ (F.map ak_cd).Nodup
theorem ak_W_nil : ak_W [] := ⟨fun e h => absurd h (List.not_mem_nil), List.nodup_nil⟩
theorem ak_W_app {F : List (Nat × Nat)} {e : Nat × Nat} (h : ak_W F) (ho : ak_ok e) (hn : ∀ f ∈ F, ak_cd f ≠ ak_cd e) : ak_W (F ++ [e]) := by
  refine ⟨fun f hf => ?_, ?_⟩
  · rcases List.mem_append.mp hf with z | z
    · exact h.1 f z
    · rw [List.mem_singleton.mp z]; exact ho
  · rw [List.map_append, List.nodup_append]
    refine ⟨h.2, by simp, fun a ha b hb => ?_⟩
    obtain ⟨f, hf, rfl⟩ := List.mem_map.mp ha
    have : b = ak_cd e := by simpa using hb
    rw [this]
    exact hn f hf
theorem ak_W_er {F : List (Nat × Nat)} (e : Nat × Nat) (h : ak_W F) : ak_W (F.erase e) :=
  ⟨fun f hf => h.1 f (List.mem_of_mem_erase hf), List.Nodup.sublist (List.Sublist.map _ (List.erase_sublist)) h.2⟩
theorem ak_inj {α : Type} {f : α → Nat} : ∀ {F : List α}, (F.map f).Nodup → ∀ {a b : α}, a ∈ F → b ∈ F → f a = f b → a = b := by
  intro F
  induction F with
  | nil => intro _ a b ha; exact absurd ha (List.not_mem_nil)
  | cons x F ih =>
    intro h a b ha hb he
    rw [List.map_cons, List.nodup_cons] at h
    rcases List.mem_cons.mp ha with ha1 | ha1
    · rcases List.mem_cons.mp hb with hb1 | hb1
      · rw [ha1, hb1]
      · subst ha1
        exact (h.1 (List.mem_map.mpr ⟨b, hb1, he.symm⟩)).elim
    · rcases List.mem_cons.mp hb with hb1 | hb1
      · subst hb1
        exact (h.1 (List.mem_map.mpr ⟨a, ha1, he⟩)).elim
      · exact ih h.2 ha1 hb1 he
theorem ak_W_len {F : List (Nat × Nat)} (h : ak_W F) : F.length < 64 := by
  have hs : (F.map ak_cd) ⊆ ((List.range 64).erase 6) := by
    intro x hx
    obtain ⟨e, he, rfl⟩ := List.mem_map.mp hx
    have ho := h.1 e he
    unfold ak_ok at ho
    have hr : ak_cd e < 64 ∧ ak_cd e ≠ 6 := by
      unfold ak_cd
      split <;> omega
    exact (List.mem_erase_of_ne hr.2).mpr (List.mem_range.mpr hr.1)
  have := List.Nodup.length_le_of_subset h.2 hs
  rw [List.length_map] at this
  have e : ((List.range 64).erase 6).length = 63 := by decide +kernel
  omega
theorem ak_W_nd {F : List (Nat × Nat)} (h : ak_W F) : F.Nodup := by
  have := h.2
  unfold List.Nodup at this ⊢
  rw [List.pairwise_map] at this
  exact List.Pairwise.imp (fun {a b} z e => z (by rw [e])) this
theorem ak_W_itnd {F : List (Nat × Nat)} (h : ak_W F) (k : Nat) : (ak_it F k).Nodup := by
  unfold ak_it List.Nodup
  rw [List.pairwise_map]
  have h1 : List.Pairwise (fun a b => ak_cd a ≠ ak_cd b) F := by
    have := h.2
    unfold List.Nodup at this
    rw [List.pairwise_map] at this
    exact this
  have h2 := List.Pairwise.filter (fun e => decide (e.1 = k)) h1
  refine List.Pairwise.imp_of_mem (fun {a b} ha hb z e => z ?_) h2
  have ea : a.1 = k := by simpa using (List.mem_filter.mp ha).2
  have eb : b.1 = k := by simpa using (List.mem_filter.mp hb).2
  unfold ak_cd
  rw [ea, eb, e]
/-- one thread is in one queue alone -/
theorem ak_W_q1 {F : List (Nat × Nat)} (h : ak_W F) {q q' t : Nat} (hq : q < 20) (hq' : q' < 20) (a : t ∈ ak_it F q) (b : t ∈ ak_it F q') : q = q' := by
  have := ak_inj h.2 (ak_it_mem.mp a) (ak_it_mem.mp b) (by unfold ak_cd; rw [if_pos hq, if_pos hq'])
  exact congrArg Prod.fst this
theorem ak_W_n1 {F : List (Nat × Nat)} (h : ak_W F) {q q' t : Nat} (hq : 20 ≤ q) (hq' : 20 ≤ q') (a : t ∈ ak_it F q) (b : t ∈ ak_it F q') : q = q' := by
  have := ak_inj h.2 (ak_it_mem.mp a) (ak_it_mem.mp b) (by unfold ak_cd; rw [if_neg (Nat.not_lt.mpr hq), if_neg (Nat.not_lt.mpr hq')])
  exact congrArg Prod.fst this
theorem ak_W_i16 {F : List (Nat × Nat)} (h : ak_W F) {q t : Nat} (hq : q < 20) (a : t ∈ ak_it F q) : t < 16 := by
  have := h.1 _ (ak_it_mem.mp a)
  unfold ak_ok at this
  dsimp only at this
  omega
theorem ak_W_i64 {F : List (Nat × Nat)} (h : ak_W F) {q t : Nat} (hq : 20 ≤ q) (a : t ∈ ak_it F q) : t < 64 := by
  have := h.1 _ (ak_it_mem.mp a)
  unfold ak_ok at this
  dsimp only at this
  omega
/-! chains -/
def ak_hd (l : List Nat) (e : Int32) : Int32 := match l with
  | [] => e
  | a :: _ => nI a
def ak_Lk (nx : Nat → Int32) : List Nat → Int32 → Prop
  | [], _ => True
  | a :: r, e => nx a = ak_hd r e ∧ ak_Lk nx r e
theorem ak_hd_app (l m : List Nat) (e : Int32) : ak_hd (l ++ m) e = ak_hd l (ak_hd m e) := by
  cases l <;> rfl
theorem ak_Lk_app (nx : Nat → Int32) : ∀ (l m : List Nat) (e : Int32), ak_Lk nx (l ++ m) e ↔ ak_Lk nx l (ak_hd m e) ∧ ak_Lk nx m e := by
  intro l
  induction l with
  | nil => intro m e; exact ⟨fun h => ⟨trivial, h⟩, fun h => h.2⟩
  | cons a l ih =>
    intro m e
    show (nx a = ak_hd (l ++ m) e ∧ ak_Lk nx (l ++ m) e) ↔ (nx a = ak_hd l (ak_hd m e) ∧ ak_Lk nx l (ak_hd m e)) ∧ ak_Lk nx m e
    rw [ak_hd_app, ih, and_assoc]
theorem ak_Lk_upd {nx : Nat → Int32} {t : Nat} {x : Int32} : ∀ {l : List Nat} {e : Int32}, t ∉ l → ak_Lk nx l e → ak_Lk (upd nx t x) l e := by
  intro l
  induction l with
  | nil => intro e _ _; trivial
  | cons a l ih =>
    intro e hn h
    rw [List.mem_cons] at hn
    refine ⟨?_, ih (fun z => hn (Or.inr z)) h.2⟩
    rw [pk_un (fun z => hn (Or.inl z.symm))]
    exact h.1
/-- the last link is set anew -/
theorem ak_Lk_last {nx : Nat → Int32} {l : List Nat} {a : Nat} {e e' : Int32} (hn : a ∉ l) (h : ak_Lk nx (l ++ [a]) e) : ak_Lk (upd nx a e') (l ++ [a]) e' := by
  rw [ak_Lk_app] at h ⊢
  exact ⟨ak_Lk_upd hn h.1, pk_us, trivial⟩
theorem ak_rev_hd (l : List Nat) (a : Nat) (e : Int32) : ak_hd (l ++ [a]).reverse e = nI a := by
  rw [List.reverse_append]; rfl
/-- a list is empty or has a last one -/
theorem ak_snoc (l : List Nat) : l = [] ∨ ∃ m a, l = m ++ [a] := by
  rcases List.eq_nil_or_concat l with h | ⟨m, a, h⟩
  · exact Or.inl h
  · exact Or.inr ⟨m, a, by rw [h, List.concat_eq_append]⟩
theorem ak_nm1 {n : Nat} (h : n < 2 ^ 31) : ¬ nI n = -1 := by
  intro z
  have := congrArg Int32.toInt z
  rw [nI_toInt h, show (-1 : Int32).toInt = -1 from by decide] at this
  omega
/-- appending t: the old last one's link and t's own -/
theorem ak_Lk_enq {nx : Nat → Int32} {m : List Nat} {a t : Nat} (hn : a ∉ m) (ht : t ∉ m) (hat : t ≠ a) (h : ak_Lk nx (m ++ [a]) (-1)) : ak_Lk (upd (upd nx t (-1)) a (nI t)) ((m ++ [a]) ++ [t]) (-1) := by
  rw [ak_Lk_app]
  refine ⟨ak_Lk_last hn (e := -1) (ak_Lk_upd ?_ h), ?_, trivial⟩
  · intro z
    rcases List.mem_append.mp z with z | z
    · exact ht z
    · exact hat (List.mem_singleton.mp z)
  · rw [pk_un hat, pk_us]; rfl
/-- taking n out of the middle -/
theorem ak_Lk_del {nx : Nat → Int32} {l m : List Nat} {n : Nat} {e : Int32} (h : ak_Lk nx (l ++ n :: m) e) : nx n = ak_hd m e ∧ ak_Lk nx m e := by
  rw [ak_Lk_app] at h
  exact h.2
theorem ak_Lk_del1 {nx : Nat → Int32} {l m : List Nat} {n b : Nat} {e : Int32} (hnd : ((l ++ [b]) ++ n :: m).Nodup) (h : ak_Lk nx ((l ++ [b]) ++ n :: m) e) : ak_Lk (upd nx b (ak_hd m e)) ((l ++ [b]) ++ m) e := by
  rw [List.nodup_append] at hnd
  obtain ⟨h1, h2, h3⟩ := hnd
  rw [List.nodup_append] at h1
  rw [ak_Lk_app] at h
  rw [ak_Lk_app]
  refine ⟨ak_Lk_last (e := nI n) (fun z => h1.2.2 b z b (List.mem_singleton.mpr rfl) rfl) h.1, ak_Lk_upd (fun z => h3 b (by simp) b (List.mem_cons_of_mem _ z) rfl) h.2.2⟩
theorem ak_hd_ne {l : List Nat} {e : Int32} (h : l ≠ []) (e' : Int32) : ak_hd l e = ak_hd l e' := by
  cases l with
  | nil => exact absurd rfl h
  | cons a l => rfl
end
section
/-! sets of six processors in an int -/
def ak_g (b0 b1 b2 b3 b4 b5 : Bool) : Int32 := nI (b0.toNat + 2 * b1.toNat + 4 * b2.toNat + 8 * b3.toNat + 16 * b4.toNat + 32 * b5.toNat)
def ak_bt (b : Nat → Bool) : Int32 := ak_g (b 0) (b 1) (b 2) (b 3) (b 4) (b 5)
theorem ak_or0 : ∀ a b c d e f : Bool, ak_g a b c d e f ||| ((1 : Int32) <<< (nI 0 &&& 31)) = ak_g true b c d e f := by decide +kernel
theorem ak_or1 : ∀ a b c d e f : Bool, ak_g a b c d e f ||| ((1 : Int32) <<< (nI 1 &&& 31)) = ak_g a true c d e f := by decide +kernel
theorem ak_or2 : ∀ a b c d e f : Bool, ak_g a b c d e f ||| ((1 : Int32) <<< (nI 2 &&& 31)) = ak_g a b true d e f := by decide +kernel
theorem ak_or3 : ∀ a b c d e f : Bool, ak_g a b c d e f ||| ((1 : Int32) <<< (nI 3 &&& 31)) = ak_g a b c true e f := by decide +kernel
theorem ak_or4 : ∀ a b c d e f : Bool, ak_g a b c d e f ||| ((1 : Int32) <<< (nI 4 &&& 31)) = ak_g a b c d true f := by decide +kernel
theorem ak_or5 : ∀ a b c d e f : Bool, ak_g a b c d e f ||| ((1 : Int32) <<< (nI 5 &&& 31)) = ak_g a b c d e true := by decide +kernel
theorem ak_an0 : ∀ a b c d e f : Bool, ak_g a b c d e f &&& (((1 : Int32) <<< (nI 0 &&& 31)) ^^^ (-1)) = ak_g false b c d e f := by decide +kernel
theorem ak_an1 : ∀ a b c d e f : Bool, ak_g a b c d e f &&& (((1 : Int32) <<< (nI 1 &&& 31)) ^^^ (-1)) = ak_g a false c d e f := by decide +kernel
theorem ak_an2 : ∀ a b c d e f : Bool, ak_g a b c d e f &&& (((1 : Int32) <<< (nI 2 &&& 31)) ^^^ (-1)) = ak_g a b false d e f := by decide +kernel
theorem ak_an3 : ∀ a b c d e f : Bool, ak_g a b c d e f &&& (((1 : Int32) <<< (nI 3 &&& 31)) ^^^ (-1)) = ak_g a b c false e f := by decide +kernel
theorem ak_an4 : ∀ a b c d e f : Bool, ak_g a b c d e f &&& (((1 : Int32) <<< (nI 4 &&& 31)) ^^^ (-1)) = ak_g a b c d false f := by decide +kernel
theorem ak_an5 : ∀ a b c d e f : Bool, ak_g a b c d e f &&& (((1 : Int32) <<< (nI 5 &&& 31)) ^^^ (-1)) = ak_g a b c d e false := by decide +kernel
theorem ak_ts0 : ∀ a b c d e f : Bool, ((ak_g a b c d e f >>> (nI 0 &&& 31)) &&& 1) = 0 ↔ a = false := by decide +kernel
theorem ak_ts1 : ∀ a b c d e f : Bool, ((ak_g a b c d e f >>> (nI 1 &&& 31)) &&& 1) = 0 ↔ b = false := by decide +kernel
theorem ak_ts2 : ∀ a b c d e f : Bool, ((ak_g a b c d e f >>> (nI 2 &&& 31)) &&& 1) = 0 ↔ c = false := by decide +kernel
theorem ak_ts3 : ∀ a b c d e f : Bool, ((ak_g a b c d e f >>> (nI 3 &&& 31)) &&& 1) = 0 ↔ d = false := by decide +kernel
theorem ak_ts4 : ∀ a b c d e f : Bool, ((ak_g a b c d e f >>> (nI 4 &&& 31)) &&& 1) = 0 ↔ e = false := by decide +kernel
theorem ak_ts5 : ∀ a b c d e f : Bool, ((ak_g a b c d e f >>> (nI 5 &&& 31)) &&& 1) = 0 ↔ f = false := by decide +kernel
theorem ak_z : ∀ a b c d e f : Bool, ak_g a b c d e f = 0 ↔ (a = false ∧ b = false ∧ c = false ∧ d = false ∧ e = false ∧ f = false) := by decide +kernel
theorem ak_g_or : ∀ a b c d e f a' b' c' d' e' f' : Bool, ak_g a b c d e f ||| ak_g a' b' c' d' e' f' = ak_g (a || a') (b || b') (c || c') (d || d') (e || e') (f || f') := by decide +kernel
theorem ak_c6 {M : Nat → Prop} (h0 : M 0) (h1 : M 1) (h2 : M 2) (h3 : M 3) (h4 : M 4) (h5 : M 5) : ∀ p, p < 6 → M p := by
  intro p hp
  match p, hp with
  | 0, _ => exact h0
  | 1, _ => exact h1
  | 2, _ => exact h2
  | 3, _ => exact h3
  | 4, _ => exact h4
  | 5, _ => exact h5
theorem ak_bt_or (b : Nat → Bool) : ∀ p, p < 6 → ak_bt b ||| ((1 : Int32) <<< (nI p &&& 31)) = ak_bt (fun q => if q = p then true else b q) :=
  ak_c6 (ak_or0 _ _ _ _ _ _) (ak_or1 _ _ _ _ _ _) (ak_or2 _ _ _ _ _ _) (ak_or3 _ _ _ _ _ _) (ak_or4 _ _ _ _ _ _) (ak_or5 _ _ _ _ _ _)
theorem ak_bt_an (b : Nat → Bool) : ∀ p, p < 6 → ak_bt b &&& (((1 : Int32) <<< (nI p &&& 31)) ^^^ (-1)) = ak_bt (fun q => if q = p then false else b q) :=
  ak_c6 (ak_an0 _ _ _ _ _ _) (ak_an1 _ _ _ _ _ _) (ak_an2 _ _ _ _ _ _) (ak_an3 _ _ _ _ _ _) (ak_an4 _ _ _ _ _ _) (ak_an5 _ _ _ _ _ _)
theorem ak_bt_ts (b : Nat → Bool) : ∀ p, p < 6 → (((ak_bt b >>> (nI p &&& 31)) &&& 1) = 0 ↔ b p = false) :=
  ak_c6 (ak_ts0 _ _ _ _ _ _) (ak_ts1 _ _ _ _ _ _) (ak_ts2 _ _ _ _ _ _) (ak_ts3 _ _ _ _ _ _) (ak_ts4 _ _ _ _ _ _) (ak_ts5 _ _ _ _ _ _)
theorem ak_bt_ext {a b : Nat → Bool} (h : ∀ p, p < 6 → a p = b p) : ak_bt a = ak_bt b := by
  unfold ak_bt
  rw [h 0 (by omega), h 1 (by omega), h 2 (by omega), h 3 (by omega), h 4 (by omega), h 5 (by omega)]
theorem ak_bt_0 (b : Nat → Bool) : ak_bt b = 0 ↔ ∀ p, p < 6 → b p = false := by
  unfold ak_bt
  rw [ak_z]
  constructor
  · rintro ⟨a, b, c, d, e, f⟩
    exact ak_c6 a b c d e f
  · intro h
    exact ⟨h 0 (by omega), h 1 (by omega), h 2 (by omega), h 3 (by omega), h 4 (by omega), h 5 (by omega)⟩
theorem ak_bt_or0 (a b : Nat → Bool) : ak_bt a ||| ak_bt b = 0 ↔ ∀ p, p < 6 → a p = false ∧ b p = false := by
  have e : ak_bt a ||| ak_bt b = ak_bt (fun p => a p || b p) := ak_g_or _ _ _ _ _ _ _ _ _ _ _ _
  rw [e, ak_bt_0]
  constructor
  · intro h p hp
    have := h p hp
    simpa using this
  · intro h p hp
    have := h p hp
    simpa using this
/-- the lowest, the highest below N with b; -1 if there is none -/
def ak_LW (b : Nat → Prop) (N : Nat) (r : Int32) : Prop := (r = -1 ∧ ∀ q, q < N → ¬ b q) ∨ ∃ q, q < N ∧ r = nI q ∧ b q ∧ ∀ q', q' < q → ¬ b q'
def ak_HW (b : Nat → Prop) (N : Nat) (r : Int32) : Prop := (r = -1 ∧ ∀ q, q < N → ¬ b q) ∨ ∃ q, q < N ∧ r = nI q ∧ b q ∧ ∀ q', q < q' → q' < N → ¬ b q'
theorem ak_LW_ex (b : Nat → Prop) : ∀ N, ∃ r, ak_LW b N r := by
  intro N
  induction N with
  | zero => exact ⟨-1, Or.inl ⟨rfl, fun q hq => absurd hq (Nat.not_lt_zero q)⟩⟩
  | succ N ih =>
    obtain ⟨r, h | ⟨q, h1, h2, h3, h4⟩⟩ := ih
    · by_cases hb : b N
      · exact ⟨nI N, Or.inr ⟨N, Nat.lt_succ_self N, rfl, hb, h.2⟩⟩
      · refine ⟨-1, Or.inl ⟨rfl, fun q hq => ?_⟩⟩
        by_cases e : q = N
        · rw [e]; exact hb
        · exact h.2 q (by omega)
    · exact ⟨r, Or.inr ⟨q, by omega, h2, h3, h4⟩⟩
theorem ak_HW_ex (b : Nat → Prop) : ∀ N, ∃ r, ak_HW b N r := by
  intro N
  induction N with
  | zero => exact ⟨-1, Or.inl ⟨rfl, fun q hq => absurd hq (Nat.not_lt_zero q)⟩⟩
  | succ N ih =>
    by_cases hb : b N
    · exact ⟨nI N, Or.inr ⟨N, Nat.lt_succ_self N, rfl, hb, fun q' h1 h2 => by omega⟩⟩
    · obtain ⟨r, h | ⟨q, h1, h2, h3, h4⟩⟩ := ih
      · refine ⟨-1, Or.inl ⟨rfl, fun q hq => ?_⟩⟩
        by_cases e : q = N
        · rw [e]; exact hb
        · exact h.2 q (by omega)
      · refine ⟨r, Or.inr ⟨q, by omega, h2, h3, fun q' h5 h6 => ?_⟩⟩
        by_cases e : q' = N
        · rw [e]; exact hb
        · exact h4 q' h5 (by omega)
theorem ak_LW_imp {b b' : Nat → Prop} {N : Nat} {r : Int32} (e : ∀ q, q < N → (b q ↔ b' q)) (h : ak_LW b N r) : ak_LW b' N r := by
  rcases h with h | ⟨q, h1, h2, h3, h4⟩
  · exact Or.inl ⟨h.1, fun q hq z => h.2 q hq ((e q hq).mpr z)⟩
  · exact Or.inr ⟨q, h1, h2, (e q h1).mp h3, fun q' hq z => h4 q' hq ((e q' (by omega)).mpr z)⟩
/-- how many below N hold x -/
def ak_cn (f : Nat → Int32) (x : Int32) : Nat → Nat
  | 0 => 0
  | p + 1 => ak_cn f x p + if f p = x then 1 else 0
theorem ak_cn_le (f : Nat → Int32) (x : Int32) : ∀ N, ak_cn f x N ≤ N
  | 0 => Nat.le_refl _
  | N + 1 => by have := ak_cn_le f x N; simp only [ak_cn]; split <;> omega
theorem ak_cn_ext {f g : Nat → Int32} {x : Int32} : ∀ {N : Nat}, (∀ p, p < N → (f p = x ↔ g p = x)) → ak_cn f x N = ak_cn g x N
  | 0, _ => rfl
  | N + 1, h => by
    simp only [ak_cn]
    rw [ak_cn_ext (N := N) (fun p hp => h p (by omega))]
    by_cases e : f N = x
    · rw [if_pos e, if_pos ((h N (by omega)).mp e)]
    · rw [if_neg e, if_neg (fun z => e ((h N (by omega)).mpr z))]
theorem ak_cn_0 {f : Nat → Int32} {x : Int32} : ∀ {N : Nat}, (∀ p, p < N → ¬ f p = x) → ak_cn f x N = 0
  | 0, _ => rfl
  | N + 1, h => by
    simp only [ak_cn]
    rw [ak_cn_0 (N := N) (fun p hp => h p (by omega)), if_neg (h N (by omega))]
theorem ak_cn_pos {f : Nat → Int32} {x : Int32} : ∀ {N p : Nat}, p < N → f p = x → 0 < ak_cn f x N
  | 0, p, h, _ => by omega
  | N + 1, p, h, e => by
    simp only [ak_cn]
    by_cases z : p = N
    · subst z; rw [if_pos e]; omega
    · have := ak_cn_pos (N := N) (p := p) (by omega) e
      omega
/-- the count after a store that makes it one more -/
theorem ak_cn_up {f : Nat → Int32} {x : Int32} {p : Nat} (hf : ¬ f p = x) : ∀ {N : Nat}, p < N → ak_cn (upd f p x) x N = ak_cn f x N + 1
  | 0, h => by omega
  | N + 1, h => by
    simp only [ak_cn]
    by_cases z : p = N
    · subst z
      rw [ak_cn_ext (g := f) (N := p) (fun q hq => by rw [pk_un (by omega)]), pk_us, if_pos rfl, if_neg hf]
    · rw [ak_cn_up hf (N := N) (by omega), pk_un (fun e => z e.symm)]
      omega
/-- the count after a store that makes it one less -/
theorem ak_cn_dn {f : Nat → Int32} {x y : Int32} {p : Nat} (hf : f p = x) (hy : ¬ y = x) : ∀ {N : Nat}, p < N → ak_cn (upd f p y) x N + 1 = ak_cn f x N
  | 0, h => by omega
  | N + 1, h => by
    simp only [ak_cn]
    by_cases z : p = N
    · subst z
      rw [ak_cn_ext (g := f) (N := p) (fun q hq => by rw [pk_un (by omega)]), pk_us, if_neg hy, if_pos hf]
    · have := ak_cn_dn hf hy (N := N) (by omega)
      rw [pk_un (fun e => z e.symm)]
      omega
theorem ak_cn_no {f : Nat → Int32} {x y : Int32} {p : Nat} (hf : ¬ f p = x) (hy : ¬ y = x) (N : Nat) : ak_cn (upd f p y) x N = ak_cn f x N :=
  ak_cn_ext fun q _ => by
    by_cases z : q = p
    · subst z; rw [pk_us]; exact ⟨fun h => absurd h hy, fun h => absurd h hf⟩
    · rw [pk_un z]
end
section
/-! the abstract state: arrays c by number, facts F; how X and Y hold it -/
def ak_sa (c : Nat → Nat → Int32) (k : Nat) (a : Nat → Int32) : Nat → Nat → Int32 := fun j => if j = k then a else c j
def ak_Z (P S T : Nat) : Prop := 1 ≤ P ∧ P ≤ 6 ∧ 1 ≤ S ∧ S ≤ 4 ∧ 1 ≤ T ∧ T ≤ 16
def ak_QX (F : List (Nat × Nat)) (nx qh qt ql : Nat → Int32) : Prop :=
  ∀ q, q < 20 → ql q = nI (ak_it F q).length ∧ qh q = ak_hd (ak_it F q) (-1) ∧ qt q = ak_hd (ak_it F q).reverse (-1) ∧ ak_Lk nx (ak_it F q) (-1)
def ak_NX (F : List (Nat × Nat)) (pe nn np nh nt nl : Nat → Int32) : Prop :=
  (∀ s, s < 4 → nl s = nI (ak_it F (20 + s)).length ∧ nh s = ak_hd (ak_it F (20 + s)) (-1) ∧ nt s = ak_hd (ak_it F (20 + s)).reverse (-1) ∧ ak_Lk nn (ak_it F (20 + s)) (-1) ∧ ak_Lk np (ak_it F (20 + s)).reverse (-1)) ∧
  ∀ n, n < 64 → (pe n = 1 ∧ ∃ s, s < 4 ∧ n ∈ ak_it F (20 + s)) ∨ (pe n = 0 ∧ ∀ s, s < 4 → n ∉ ak_it F (20 + s))
def ak_BX (P : Nat) (pst own : Nat → Int32) (fs : Int32) (os oc ss : Nat → Int32) : Prop :=
  fs = ak_bt (fun p => decide (p < P ∧ own p = -1)) ∧
  ∀ s, s < 4 → os s = ak_bt (fun p => decide (p < P ∧ own p = nI s)) ∧ oc s = nI (ak_cn own (nI s) P) ∧
    ∀ k, k < 6 → ss (s * 6 + k) = ak_bt (fun p => decide (p < P ∧ own p = nI s ∧ pst p = nI k))
def ak_PX (P S T : Nat) (pst own : Nat → Int32) (F : List (Nat × Nat)) (fs : Int32) (nx qh qt ql pe nn np nh nt nl os oc ss : Nat → Int32) : Prop :=
  ak_Z P S T ∧ ak_W F ∧ ak_QX F nx qh qt ql ∧ ak_NX F pe nn np nh nt nl ∧ ak_BX P pst own fs os oc ss
def ak_RX (P S T : Nat) (c : Nat → Nat → Int32) (F : List (Nat × Nat)) (u : SX) : Prop :=
  ∃ (fs : Int32) (nx qh qt ql pe nn np nh nt nl os oc ss : Nat → Int32), u = (nI P, nI S, nI T, fs, c 0, c 1, c 2, c 3, c 4, c 5, c 6, c 7, c 15, c 8, nx, qh, qt, ql, pe, nn, np, nh, nt, nl, c 9, c 10, c 11, c 17, c 12, c 13, c 14, os, oc, ss) ∧ ak_PX P S T (c 2) (c 3) F fs nx qh qt ql pe nn np nh nt nl os oc ss
def ak_KX (P S T : Nat) (c : Nat → Nat → Int32) (F : List (Nat × Nat)) (post : SX → Prop) : Prop :=
  ∀ (fs : Int32) (nx qh qt ql pe nn np nh nt nl os oc ss : Nat → Int32), ak_PX P S T (c 2) (c 3) F fs nx qh qt ql pe nn np nh nt nl os oc ss → post (nI P, nI S, nI T, fs, c 0, c 1, c 2, c 3, c 4, c 5, c 6, c 7, c 15, c 8, nx, qh, qt, ql, pe, nn, np, nh, nt, nl, c 9, c 10, c 11, c 17, c 12, c 13, c 14, os, oc, ss)
theorem ak_mkX {P S T : Nat} {c : Nat → Nat → Int32} {F : List (Nat × Nat)} {fs : Int32} {nx qh qt ql pe nn np nh nt nl os oc ss : Nat → Int32} (R : ak_PX P S T (c 2) (c 3) F fs nx qh qt ql pe nn np nh nt nl os oc ss) : ak_RX P S T c F (nI P, nI S, nI T, fs, c 0, c 1, c 2, c 3, c 4, c 5, c 6, c 7, c 15, c 8, nx, qh, qt, ql, pe, nn, np, nh, nt, nl, c 9, c 10, c 11, c 17, c 12, c 13, c 14, os, oc, ss) :=
  ⟨fs, nx, qh, qt, ql, pe, nn, np, nh, nt, nl, os, oc, ss, rfl, R⟩
theorem ak_elX {P S T : Nat} {c : Nat → Nat → Int32} {F : List (Nat × Nat)} {u : SX} {M : SX → Prop} (R : ak_RX P S T c F u) (h : ∀ (fs : Int32) (nx qh qt ql pe nn np nh nt nl os oc ss : Nat → Int32), ak_PX P S T (c 2) (c 3) F fs nx qh qt ql pe nn np nh nt nl os oc ss → M (nI P, nI S, nI T, fs, c 0, c 1, c 2, c 3, c 4, c 5, c 6, c 7, c 15, c 8, nx, qh, qt, ql, pe, nn, np, nh, nt, nl, c 9, c 10, c 11, c 17, c 12, c 13, c 14, os, oc, ss)) : M u :=
  Exists.elim R fun fs R => Exists.elim R fun nx R => Exists.elim R fun qh R => Exists.elim R fun qt R => Exists.elim R fun ql R => Exists.elim R fun pe R => Exists.elim R fun nn R => Exists.elim R fun np R => Exists.elim R fun nh R => Exists.elim R fun nt R => Exists.elim R fun nl R => Exists.elim R fun os R => Exists.elim R fun oc R => Exists.elim R fun ss R =>
    Eq.subst (motive := M) R.1.symm (h fs nx qh qt ql pe nn np nh nt nl os oc ss R.2)
/-! Y -/
def ak_sp (k : Nat) : Nat := if k < 20 then k / 5 else k - 20
def ak_ls (k : Nat) : Nat := if k < 20 then (if k % 5 < 3 then 2 else k % 5 - 3) else 3
def ak_FA (F : List (Nat × Nat)) (fa fb fi : Nat → Int32) : Prop :=
  ∀ i e, F[i]? = some e → fa i = nI (ak_sp e.1) ∧ fb i = nI (ak_ls e.1) ∧ fi i = nI e.2
def ak_PY (P S T : Nat) (F : List (Nat × Nat)) (fa fb fi : Nat → Int32) : Prop := ak_Z P S T ∧ ak_W F ∧ ak_FA F fa fb fi
def ak_RY (P S T : Nat) (c : Nat → Nat → Int32) (F : List (Nat × Nat)) (v : SY) : Prop :=
  ∃ (fa fb fi : Nat → Int32), v = (nI P, nI S, nI T, nI F.length, c 2, c 3, c 4, c 5, c 6, c 7, c 16, c 8, c 0, c 1, c 10, c 11, c 17, c 14, c 12, c 9, c 13, fa, fb, fi) ∧ ak_PY P S T F fa fb fi
def ak_KY (P S T : Nat) (c : Nat → Nat → Int32) (F : List (Nat × Nat)) (post : SY → Prop) : Prop :=
  ∀ (fa fb fi : Nat → Int32), ak_PY P S T F fa fb fi → post (nI P, nI S, nI T, nI F.length, c 2, c 3, c 4, c 5, c 6, c 7, c 16, c 8, c 0, c 1, c 10, c 11, c 17, c 14, c 12, c 9, c 13, fa, fb, fi)
theorem ak_mkY {P S T : Nat} {c : Nat → Nat → Int32} {F : List (Nat × Nat)} {fa fb fi : Nat → Int32} (R : ak_PY P S T F fa fb fi) : ak_RY P S T c F (nI P, nI S, nI T, nI F.length, c 2, c 3, c 4, c 5, c 6, c 7, c 16, c 8, c 0, c 1, c 10, c 11, c 17, c 14, c 12, c 9, c 13, fa, fb, fi) :=
  ⟨fa, fb, fi, rfl, R⟩
theorem ak_elY {P S T : Nat} {c : Nat → Nat → Int32} {F : List (Nat × Nat)} {v : SY} {M : SY → Prop} (R : ak_RY P S T c F v) (h : ∀ (fa fb fi : Nat → Int32), ak_PY P S T F fa fb fi → M (nI P, nI S, nI T, nI F.length, c 2, c 3, c 4, c 5, c 6, c 7, c 16, c 8, c 0, c 1, c 10, c 11, c 17, c 14, c 12, c 9, c 13, fa, fb, fi)) : M v :=
  Exists.elim R fun fa R => Exists.elim R fun fb R => Exists.elim R fun fi R => Eq.subst (motive := M) R.1.symm (h fa fb fi R.2)
/-! small numbers -/
theorem ak_cl {n : Nat} (h : n < 100) : (nI n).toNatClampNeg = n := nI_clamp (by omega)
theorem ak_in {n N : Nat} (h : n < N) (hN : N < 100) : vp_in (nI n) N := vp_in_nI h (by omega)
theorem ak_ni {a b : Nat} (ha : a < 100) (hb : b < 100) : nI a = nI b ↔ a = b := nI_eq (by omega) (by omega)
theorem ak_n1 {a : Nat} (ha : a < 100) : ¬ nI a = -1 := ak_nm1 (by omega)
theorem ak_1n {a : Nat} (ha : a < 100) : ¬ -1 = nI a := fun z => ak_n1 ha z.symm
theorem ak_m6 (s k : Nat) : nI s * 6 + nI k = nI (s * 6 + k) := by rw [show (6 : Int32) = nI 6 from rfl, pk_mul, nI_add]
theorem ak_m5 (s k : Nat) : nI s * 5 + nI k = nI (s * 5 + k) := by rw [show (5 : Int32) = nI 5 from rfl, pk_mul, nI_add]
theorem ak_m4 (s k : Nat) : nI s * 4 + nI k = nI (s * 4 + k) := by rw [show (4 : Int32) = nI 4 from rfl, pk_mul, nI_add]
theorem ak_m2 (s k : Nat) : nI s * 2 + nI k = nI (s * 2 + k) := by rw [show (2 : Int32) = nI 2 from rfl, pk_mul, nI_add]
theorem ak_m53 (s k : Nat) : nI s * 5 + 3 + nI k = nI (s * 5 + 3 + k) := by rw [show (3 : Int32) = nI 3 from rfl, ak_m5, nI_add]
theorem ak_m20 (s : Nat) : nI s * 2 = nI (s * 2) := by rw [show (2 : Int32) = nI 2 from rfl, pk_mul]
theorem ak_lit {n : Nat} (k : Nat) : nI k + nI n = nI (k + n) := nI_add k n
end
section
/-! X's thread queues -/
theorem ak_NX_cg {F F' : List (Nat × Nat)} {pe nn np nh nt nl : Nat → Int32} (h : ∀ s, s < 4 → ak_it F' (20 + s) = ak_it F (20 + s)) (hN : ak_NX F pe nn np nh nt nl) : ak_NX F' pe nn np nh nt nl := by
  refine ⟨fun s hs => ?_, fun n hn => ?_⟩
  · rw [h s hs]; exact hN.1 s hs
  · rcases hN.2 n hn with ⟨a, s, hs, b⟩ | ⟨a, b⟩
    · exact Or.inl ⟨a, s, hs, by rw [h s hs]; exact b⟩
    · exact Or.inr ⟨a, fun s hs => by rw [h s hs]; exact b s hs⟩
theorem ak_QX_cg {F F' : List (Nat × Nat)} {nx qh qt ql : Nat → Int32} (h : ∀ q, q < 20 → ak_it F' q = ak_it F q) (hQ : ak_QX F nx qh qt ql) : ak_QX F' nx qh qt ql := by
  intro q hq
  rw [h q hq]; exact hQ q hq
theorem ak_QX_e1 {F : List (Nat × Nat)} {nx qh qt ql : Nat → Int32} {q t : Nat} (hQ : ak_QX F nx qh qt ql) (hq : q < 20) (hn : ∀ k, k < 20 → t ∉ ak_it F k) (e : ak_it F q = []) : ak_QX (F ++ [(q, t)]) (upd nx t (-1)) (upd qh q (nI t)) (upd qt q (nI t)) (upd ql q (ql q + 1)) := by
  intro k hk
  obtain ⟨h1, h2, h3, h4⟩ := hQ k hk
  by_cases z : k = q
  · subst z
    rw [ak_it_app_s, pk_us, pk_us, pk_us, h1, e]
    exact ⟨rfl, rfl, rfl, pk_us, trivial⟩
  · rw [ak_it_app_n (fun y => z y.symm), pk_un z, pk_un z, pk_un z]
    exact ⟨h1, h2, h3, ak_Lk_upd (hn k hk) h4⟩
theorem ak_QX_e2 {F : List (Nat × Nat)} {nx qh qt ql : Nat → Int32} {q t a : Nat} {m : List Nat} (hW : ak_W F) (hQ : ak_QX F nx qh qt ql) (hq : q < 20) (hn : ∀ k, k < 20 → t ∉ ak_it F k) (e : ak_it F q = m ++ [a]) : ak_QX (F ++ [(q, t)]) (upd (upd nx t (-1)) a (nI t)) qh (upd qt q (nI t)) (upd ql q (ql q + 1)) := by
  have ha : a ∈ ak_it F q := by rw [e]; simp
  intro k hk
  obtain ⟨h1, h2, h3, h4⟩ := hQ k hk
  by_cases z : k = q
  · subst z
    have hnd := ak_W_itnd hW k
    have ht := hn k hk
    rw [e] at hnd h1 h2 h4 ht
    rw [List.nodup_append] at hnd
    have ham : a ∉ m := fun y => hnd.2.2 a y a (List.mem_singleton.mpr rfl) rfl
    rw [ak_it_app_s, pk_us, pk_us, h1, e]
    refine ⟨?_, ?_, ?_, ak_Lk_enq ham (fun y => ht (List.mem_append.mpr (Or.inl y))) (fun y => ht (List.mem_append.mpr (Or.inr (by rw [y]; exact List.mem_singleton.mpr rfl)))) h4⟩
    · rw [nI_1, List.length_append (bs := [t])]; rfl
    · rw [h2, ak_hd_app (m ++ [a]) [t]]; exact ak_hd_ne (by simp) _
    · rw [ak_rev_hd]
  · rw [ak_it_app_n (fun y => z y.symm), pk_un z, pk_un z]
    exact ⟨h1, h2, h3, ak_Lk_upd (fun y => z (ak_W_q1 hW hk hq y ha)) (ak_Lk_upd (hn k hk) h4)⟩
/-- the head of a queue leaves -/
theorem ak_QX_d {F : List (Nat × Nat)} {nx qh qt ql : Nat → Int32} {q t : Nat} {r : List Nat} (hW : ak_W F) (hQ : ak_QX F nx qh qt ql) (hq : q < 20) (e : ak_it F q = t :: r) (qt' : Nat → Int32) (hr : r = [] → qt' = upd qt q (-1)) (hr' : r ≠ [] → qt' = qt) : ak_QX (F.erase (q, t)) (upd nx t (-1)) (upd qh q (nx t)) qt' (upd ql q (ql q - 1)) := by
  have ht : t ∈ ak_it F q := by rw [e]; exact List.mem_cons_self ..
  intro k hk
  obtain ⟨h1, h2, h3, h4⟩ := hQ k hk
  by_cases z : k = q
  · subst z
    have hnd := ak_W_itnd hW k
    rw [e] at hnd h1 h2 h3 h4
    rw [List.nodup_cons] at hnd
    rw [ak_it_er_s, e, List.erase_cons_head, pk_us, pk_us, h1, h4.1]
    refine ⟨?_, rfl, ?_, ak_Lk_upd hnd.1 h4.2⟩
    · rw [List.length_cons, nI_pred]
    · by_cases er : r = []
      · rw [hr er, pk_us, er]; rfl
      · rw [hr' er, h3, List.reverse_cons, ak_hd_app]
        exact ak_hd_ne (fun y => er (List.reverse_eq_nil_iff.mp y)) _
  · have ek : qt' k = qt k := by
      by_cases er : r = []
      · rw [hr er, pk_un z]
      · rw [hr' er]
    rw [ak_it_er_n (fun y => z y.symm), pk_un z, pk_un z, ek]
    exact ⟨h1, h2, h3, ak_Lk_upd (fun y => z (ak_W_q1 hW hk hq y ht)) h4⟩
section
variable {P S T : Nat} {c : Nat → Nat → Int32} {F : List (Nat × Nat)} {u : SX}
theorem ax_enq {post : SX → Prop} {q t : Nat} (R : ak_RX P S T c F u) (hq : q < 20) (ht : t < 16) (hn : ∀ f ∈ F, ak_cd f ≠ t + 16) (K : ak_KX P S T c (F ++ [(q, t)]) post) : wpX_enqueue post u (nI q) (nI t) := by
  refine ak_elX (M := fun u => wpX_enqueue post u (nI q) (nI t)) R ?_
  intro fs nx qh qt ql pe nn np nh nt nl os oc ss ⟨hZ, hW, hQ, hN, hB⟩
  have hnk : ∀ k, k < 20 → t ∉ ak_it F k := fun k hk y => hn _ (ak_it_mem.mp y) (by unfold ak_cd; rw [if_pos hk])
  have hW' : ak_W (F ++ [(q, t)]) := ak_W_app hW (Or.inl ⟨hq, ht⟩) (fun f hf => by
    have e : ak_cd (q, t) = t + 16 := by unfold ak_cd; rw [if_pos hq]
    rw [e]; exact hn f hf)
  have hN' : ak_NX (F ++ [(q, t)]) pe nn np nh nt nl := ak_NX_cg (fun s hs => ak_it_app_n (by omega)) hN
  have iq : vp_in (nI q) 20 := ak_in hq (by omega)
  have eq : (nI q).toNatClampNeg = q := ak_cl (by omega)
  have it : vp_in (nI t) 16 := ak_in ht (by omega)
  have et : (nI t).toNatClampNeg = t := ak_cl (by omega)
  obtain ⟨h1, h2, h3, h4⟩ := hQ q hq
  unfold wpX_enqueue
  refine And.intro it (nm_r (e' := upd nx t (-1)) (by rw [et]) (And.intro iq (nm_r (e' := qt q) (by rw [eq]) ?_)))
  rcases ak_snoc (ak_it F q) with e | ⟨m, a, e⟩
  · refine br_t (by rw [h3, e]; rfl) (And.intro iq (nm_r (e' := upd qh q (nI t)) (by rw [eq]) ?_))
    unfold wX_enqueue_36
    refine And.intro iq (nm_r (e' := upd qt q (nI t)) (by rw [eq]) (And.intro iq (And.intro iq (nm_r (e' := upd ql q (ql q + 1)) (by rw [eq]) ?_))))
    exact K _ _ _ _ _ _ _ _ _ _ _ _ _ _ ⟨hZ, hW', ak_QX_e1 hQ hq hnk e, hN', hB⟩
  · have ea : qt q = nI a := by rw [h3, e, ak_rev_hd]
    have ha : a < 16 := ak_W_i16 hW hq (by rw [e]; simp)
    refine br_f (by rw [ea]; exact ak_n1 (by omega)) (And.intro (by rw [ea]; exact ak_in ha (by omega)) (nm_r (e' := upd (upd nx t (-1)) a (nI t)) (by rw [ea, ak_cl (by omega)]) ?_))
    unfold wX_enqueue_36
    refine And.intro iq (nm_r (e' := upd qt q (nI t)) (by rw [eq]) (And.intro iq (And.intro iq (nm_r (e' := upd ql q (ql q + 1)) (by rw [eq]) ?_))))
    exact K _ _ _ _ _ _ _ _ _ _ _ _ _ _ ⟨hZ, hW', ak_QX_e2 hW hQ hq hnk e, hN', hB⟩
theorem ax_deq0 {post : Int32 → SX → Prop} {q : Nat} (R : ak_RX P S T c F u) (hq : q < 20) (e : ak_it F q = []) (K : ak_KX P S T c F (post (-1))) : wpX_dequeue post u (nI q) := by
  refine ak_elX (M := fun u => wpX_dequeue post u (nI q)) R ?_
  intro fs nx qh qt ql pe nn np nh nt nl os oc ss R
  obtain ⟨hZ, hW, hQ, hN, hB⟩ := R
  have iq : vp_in (nI q) 20 := ak_in hq (by omega)
  have eq : (nI q).toNatClampNeg = q := ak_cl (by omega)
  obtain ⟨h1, h2, h3, h4⟩ := hQ q hq
  unfold wpX_dequeue
  refine And.intro iq (nm_r (e' := -1) (by rw [eq, h2, e]; rfl) (br_t rfl ?_))
  exact K _ _ _ _ _ _ _ _ _ _ _ _ _ _ ⟨hZ, hW, hQ, hN, hB⟩
theorem ax_deq {post : Int32 → SX → Prop} {q t : Nat} {r : List Nat} (R : ak_RX P S T c F u) (hq : q < 20) (e : ak_it F q = t :: r) (K : ak_KX P S T c (F.erase (q, t)) (post (nI t))) : wpX_dequeue post u (nI q) := by
  refine ak_elX (M := fun u => wpX_dequeue post u (nI q)) R ?_
  intro fs nx qh qt ql pe nn np nh nt nl os oc ss ⟨hZ, hW, hQ, hN, hB⟩
  have iq : vp_in (nI q) 20 := ak_in hq (by omega)
  have eq : (nI q).toNatClampNeg = q := ak_cl (by omega)
  have ht : t < 16 := ak_W_i16 hW hq (by rw [e]; exact List.mem_cons_self ..)
  have it : vp_in (nI t) 16 := ak_in ht (by omega)
  have et : (nI t).toNatClampNeg = t := ak_cl (by omega)
  have hN' : ak_NX (F.erase (q, t)) pe nn np nh nt nl := ak_NX_cg (fun s hs => ak_it_er_n (by omega) F) hN
  obtain ⟨h1, h2, h3, h4⟩ := hQ q hq
  rw [e] at h4
  unfold wpX_dequeue
  refine And.intro iq (nm_r (e' := nI t) (by rw [eq, h2, e]; rfl) (br_f (ak_n1 (by omega)) (And.intro it (And.intro iq (nm_r (e' := upd qh q (nx t)) (by rw [eq, et]) (And.intro it ?_))))))
  rw [et]
  cases r with
  | nil =>
    refine br_t h4.1 (And.intro iq (nm_r (e' := upd qt q (-1)) (by rw [eq]) ?_))
    unfold wX_dequeue_43
    refine And.intro it (nm_r (e' := upd nx t (-1)) (by rw [et]) (And.intro iq (And.intro iq (nm_r (e' := upd ql q (ql q - 1)) (by rw [eq]) ?_))))
    exact K _ _ _ _ _ _ _ _ _ _ _ _ _ _ ⟨hZ, ak_W_er _ hW, ak_QX_d hW hQ hq e _ (fun _ => rfl) (fun y => absurd rfl y), hN', hB⟩
  | cons b r =>
    have hb : b < 16 := ak_W_i16 hW hq (by rw [e]; exact List.mem_cons_of_mem _ (List.mem_cons_self ..))
    refine br_f (by rw [h4.1]; exact ak_n1 (by omega)) ?_
    unfold wX_dequeue_43
    refine And.intro it (nm_r (e' := upd nx t (-1)) (by rw [et]) (And.intro iq (And.intro iq (nm_r (e' := upd ql q (ql q - 1)) (by rw [eq]) ?_))))
    exact K _ _ _ _ _ _ _ _ _ _ _ _ _ _ ⟨hZ, ak_W_er _ hW, ak_QX_d hW hQ hq e _ (fun y => nomatch y) (fun _ => rfl), hN', hB⟩
end
end
section
/-! X's notices -/
theorem ak_NX_a {F : List (Nat × Nat)} {pe nn np nh nt nl : Nat → Int32} {s n : Nat} (hW : ak_W F) (hN : ak_NX F pe nn np nh nt nl) (hs : s < 4) (hnk : ∀ k, k < 4 → n ∉ ak_it F (20 + k)) (nn' nh' : Nat → Int32) (h0 : ak_it F (20 + s) = [] → nn' = upd nn n (-1) ∧ nh' = upd nh s (nI n)) (h1 : ∀ m a, ak_it F (20 + s) = m ++ [a] → nn' = upd (upd nn n (-1)) a (nI n) ∧ nh' = nh) : ak_NX (F ++ [(20 + s, n)]) (upd pe n 1) nn' (upd np n (nt s)) nh' (upd nt s (nI n)) (upd nl s (nl s + 1)) := by
  refine ⟨fun k hk => ?_, fun j hj => ?_⟩
  · obtain ⟨g1, g2, g3, g4, g5⟩ := hN.1 k hk
    by_cases z : k = s
    · subst z
      have hnd := ak_W_itnd hW (20 + k)
      have hnn := hnk k hk
      rw [ak_it_app_s, pk_us, pk_us, g1]
      have e5 : ak_Lk (upd np n (nt k)) (ak_it F (20 + k) ++ [n]).reverse (-1) := by
        rw [List.reverse_append]
        exact ⟨pk_us.trans g3, ak_Lk_upd (fun y => hnn (List.mem_reverse.mp y)) g5⟩
      rcases ak_snoc (ak_it F (20 + k)) with e | ⟨m, a, e⟩
      · obtain ⟨rfl, rfl⟩ := h0 e
        rw [e] at e5 ⊢
        exact ⟨rfl, pk_us, rfl, ⟨pk_us, trivial⟩, e5⟩
      · obtain ⟨rfl, rfl⟩ := h1 m a e
        rw [e] at g2 g4 e5 hnd hnn ⊢
        rw [List.nodup_append] at hnd
        have ham : a ∉ m := fun y => hnd.2.2 a y a (List.mem_singleton.mpr rfl) rfl
        refine ⟨?_, ?_, ?_, ak_Lk_enq ham (fun y => hnn (List.mem_append.mpr (Or.inl y))) (fun y => hnn (List.mem_append.mpr (Or.inr (by rw [y]; exact List.mem_singleton.mpr rfl)))) g4, e5⟩
        · rw [nI_1, List.length_append (bs := [n])]; rfl
        · rw [g2, ak_hd_app (m ++ [a]) [n]]; exact ak_hd_ne (by simp) _
        · rw [ak_rev_hd]
    · have e1 : ak_it (F ++ [(20 + s, n)]) (20 + k) = ak_it F (20 + k) := ak_it_app_n (by omega)
      have e5 : ak_Lk (upd np n (nt s)) (ak_it F (20 + k)).reverse (-1) := ak_Lk_upd (fun y => hnk k hk (List.mem_reverse.mp y)) g5
      rw [e1, pk_un z, pk_un z]
      rcases ak_snoc (ak_it F (20 + s)) with e | ⟨m, a, e⟩
      · obtain ⟨rfl, rfl⟩ := h0 e
        rw [pk_un z]
        exact ⟨g1, g2, g3, ak_Lk_upd (hnk k hk) g4, e5⟩
      · obtain ⟨rfl, rfl⟩ := h1 m a e
        have ha : a ∈ ak_it F (20 + s) := by rw [e]; simp
        exact ⟨g1, g2, g3, ak_Lk_upd (fun y => z (by have := ak_W_n1 hW (by omega) (by omega) y ha; omega)) (ak_Lk_upd (hnk k hk) g4), e5⟩
  · by_cases z : j = n
    · subst z
      exact Or.inl ⟨pk_us, s, hs, by rw [ak_it_app_s]; simp⟩
    · rw [pk_un z]
      have e : ∀ k, j ∈ ak_it (F ++ [(20 + s, n)]) k ↔ j ∈ ak_it F k := by
        intro k
        by_cases y : 20 + s = k
        · subst y
          rw [ak_it_app_s, List.mem_append, List.mem_singleton]
          exact ⟨fun h => h.elim id (fun x => absurd x z), Or.inl⟩
        · rw [ak_it_app_n y]
      rcases hN.2 j hj with ⟨a, k, hk, b⟩ | ⟨a, b⟩
      · exact Or.inl ⟨a, k, hk, (e _).mpr b⟩
      · exact Or.inr ⟨a, fun k hk y => b k hk ((e _).mp y)⟩
theorem ak_NX_r {F : List (Nat × Nat)} {pe nn np nh nt nl : Nat → Int32} {s n : Nat} {a b : List Nat} (hW : ak_W F) (hN : ak_NX F pe nn np nh nt nl) (hs : s < 4) (hl : ak_it F (20 + s) = a ++ n :: b) (nn' nh' np' nt' : Nat → Int32)
    (ha0 : a = [] → nn' = nn ∧ nh' = upd nh s (ak_hd b (-1))) (ha1 : ∀ m x, a = m ++ [x] → nn' = upd nn x (ak_hd b (-1)) ∧ nh' = nh)
    (hb0 : b = [] → np' = np ∧ nt' = upd nt s (ak_hd a.reverse (-1))) (hb1 : ∀ y m, b = y :: m → np' = upd np y (ak_hd a.reverse (-1)) ∧ nt' = nt) :
    ak_NX (F.erase (20 + s, n)) (upd pe n 0) nn' np' nh' nt' (upd nl s (nl s - 1)) := by
  have hnd := ak_W_itnd hW (20 + s)
  have hnm : n ∈ ak_it F (20 + s) := by rw [hl]; simp
  rw [hl] at hnd
  have hnd' := hnd
  rw [List.nodup_append] at hnd'
  obtain ⟨d1, d2, d3⟩ := hnd'
  rw [List.nodup_cons] at d2
  have hna : n ∉ a := fun y => d3 n y n (List.mem_cons_self ..) rfl
  have hle : (ak_it F (20 + s)).erase n = a ++ b := by
    rw [hl, List.erase_append_right _ hna, List.erase_cons_head]
  refine ⟨fun k hk => ?_, fun j hj => ?_⟩
  · obtain ⟨g1, g2, g3, g4, g5⟩ := hN.1 k hk
    by_cases z : k = s
    · subst z
      rw [ak_it_er_s, hle, pk_us, g1]
      rw [hl] at g2 g3 g4 g5 ⊢
      rw [List.reverse_append, List.reverse_cons, List.append_assoc] at g3 g5
      have g5' : ak_Lk np (b.reverse ++ n :: a.reverse) (-1) := g5
      have hndr : (b.reverse ++ n :: a.reverse).Nodup := by
        have : (a ++ n :: b).reverse.Nodup := by unfold List.Nodup; rw [List.pairwise_reverse]; exact List.Pairwise.imp (fun h => Ne.symm h) hnd
        rw [List.reverse_append, List.reverse_cons, List.append_assoc] at this
        exact this
      refine ⟨?_, ?_, ?_, ?_, ?_⟩
      · rw [List.length_append, List.length_cons, List.length_append, ← Nat.add_assoc, nI_pred]
      · rcases ak_snoc a with e | ⟨m, x, e⟩
        · rw [(ha0 e).2, pk_us, e]; rfl
        · rw [(ha1 m x e).2, g2, ak_hd_app, ak_hd_app]
          exact ak_hd_ne (by rw [e]; simp) _
      · rw [List.reverse_append]
        cases b with
        | nil => rw [(hb0 rfl).2, pk_us]; rfl
        | cons y m =>
          rw [(hb1 y m rfl).2, g3, ak_hd_app (y :: m).reverse ([n] ++ a.reverse), ak_hd_app (y :: m).reverse a.reverse]
          exact ak_hd_ne (by simp) _
      · rcases ak_snoc a with e | ⟨m, x, e⟩
        · rw [(ha0 e).1, e]
          rw [e] at g4
          exact g4.2
        · rw [(ha1 m x e).1, e]
          rw [e] at g4 hnd
          exact ak_Lk_del1 hnd g4
      · rw [List.reverse_append]
        cases b with
        | nil => rw [(hb0 rfl).1]; exact g5'.2
        | cons y m =>
          rw [(hb1 y m rfl).1, List.reverse_cons]
          rw [List.reverse_cons] at g5' hndr
          exact ak_Lk_del1 hndr g5'
    · have e1 : ak_it (F.erase (20 + s, n)) (20 + k) = ak_it F (20 + k) := ak_it_er_n (by omega) F
      rw [e1, pk_un z]
      have no : ∀ x, x ∈ a ++ n :: b → x ∉ ak_it F (20 + k) := fun x hx y => z (by
        rw [← hl] at hx
        have := ak_W_n1 hW (by omega) (by omega) y hx
        omega)
      have e2 : nh' k = nh k ∧ ak_Lk nn' (ak_it F (20 + k)) (-1) := by
        rcases ak_snoc a with e | ⟨m, x, e⟩
        · rw [(ha0 e).1, (ha0 e).2, pk_un z]; exact ⟨rfl, g4⟩
        · rw [(ha1 m x e).1, (ha1 m x e).2]
          exact ⟨rfl, ak_Lk_upd (no x (by rw [e]; simp)) g4⟩
      have e3 : nt' k = nt k ∧ ak_Lk np' (ak_it F (20 + k)).reverse (-1) := by
        cases b with
        | nil => rw [(hb0 rfl).1, (hb0 rfl).2, pk_un z]; exact ⟨rfl, g5⟩
        | cons y m =>
          rw [(hb1 y m rfl).1, (hb1 y m rfl).2]
          exact ⟨rfl, ak_Lk_upd (fun w => no y (by simp) (List.mem_reverse.mp w)) g5⟩
      rw [e2.1, e3.1]
      exact ⟨g1, g2, g3, e2.2, e3.2⟩
  · by_cases z : j = n
    · subst z
      refine Or.inr ⟨pk_us, fun k hk y => ?_⟩
      by_cases w : k = s
      · subst w
        rw [ak_it_er_s, hle] at y
        rcases List.mem_append.mp y with y | y
        · exact hna y
        · exact d2.1 y
      · rw [ak_it_er_n (by omega)] at y
        have := ak_W_n1 hW (by omega) (by omega) y hnm
        omega
    · rw [pk_un z]
      have e : ∀ k, j ∈ ak_it (F.erase (20 + s, n)) k ↔ j ∈ ak_it F k := by
        intro k
        by_cases y : 20 + s = k
        · subst y
          rw [ak_it_er_s]
          exact List.mem_erase_of_ne z
        · rw [ak_it_er_n y]
      rcases hN.2 j hj with ⟨a, k, hk, b⟩ | ⟨a, b⟩
      · exact Or.inl ⟨a, k, hk, (e _).mpr b⟩
      · exact Or.inr ⟨a, fun k hk y => b k hk ((e _).mp y)⟩
section
variable {P S T : Nat} {c : Nat → Nat → Int32} {F : List (Nat × Nat)} {u : SX}
theorem ax_app {post : SX → Prop} {s n : Nat} (R : ak_RX P S T c F u) (hs : s < 4) (hn : n < 64) (ho : n < 6 ∨ 16 ≤ n) (hc : ∀ f ∈ F, ak_cd f ≠ n) (K : ak_KX P S T c (F ++ [(20 + s, n)]) post) : wpX_appendNotice post u (nI s) (nI n) := by
  refine ak_elX (M := fun u => wpX_appendNotice post u (nI s) (nI n)) R ?_
  intro fs nx qh qt ql pe nn np nh nt nl os oc ss ⟨hZ, hW, hQ, hN, hB⟩
  have ecd : ∀ k, ak_cd (20 + k, n) = n := fun k => by unfold ak_cd; rw [if_neg (by simp)]
  have hnk : ∀ k, k < 4 → n ∉ ak_it F (20 + k) := fun k hk y => hc _ (ak_it_mem.mp y) (ecd k)
  have hW' : ak_W (F ++ [(20 + s, n)]) := ak_W_app hW (Or.inr ⟨by simp, by simp; omega, hn, ho⟩) (fun f hf => by
    rw [ecd s]; exact hc f hf)
  have hQ' : ak_QX (F ++ [(20 + s, n)]) nx qh qt ql := ak_QX_cg (fun q hq => ak_it_app_n (by omega)) hQ
  have is : vp_in (nI s) 4 := ak_in hs (by omega)
  have es : (nI s).toNatClampNeg = s := ak_cl (by omega)
  have iN : vp_in (nI n) 64 := ak_in hn (by omega)
  have eN : (nI n).toNatClampNeg = n := ak_cl (by omega)
  obtain ⟨h1, h2, h3, h4, h5⟩ := hN.1 s hs
  unfold wpX_appendNotice
  refine And.intro is (nm_r (e' := nt s) (by rw [es]) (And.intro iN (nm_r (e' := upd pe n 1) (by rw [eN]; rfl) (And.intro iN (nm_r (e' := upd np n (nt s)) (by rw [eN]) (And.intro iN (nm_r (e' := upd nn n (-1)) (by rw [eN]) ?_)))))))
  rcases ak_snoc (ak_it F (20 + s)) with e | ⟨m, a, e⟩
  · refine br_t (by rw [h3, e]; rfl) (And.intro is (nm_r (e' := upd nh s (nI n)) (by rw [es]) ?_))
    unfold wX_appendNotice_50
    refine And.intro is (nm_r (e' := upd nt s (nI n)) (by rw [es]) (And.intro is (And.intro is (nm_r (e' := upd nl s (nl s + 1)) (by rw [es]) ?_))))
    exact K _ _ _ _ _ _ _ _ _ _ _ _ _ _ ⟨hZ, hW', hQ', ak_NX_a hW hN hs hnk _ _ (fun _ => ⟨rfl, rfl⟩) (fun m a y => by rw [e] at y; simp at y), hB⟩
  · have ea : nt s = nI a := by rw [h3, e, ak_rev_hd]
    have ha : a < 64 := ak_W_i64 hW (q := 20 + s) (by omega) (by rw [e]; simp)
    refine br_f (by rw [ea]; exact ak_n1 (by omega)) (And.intro (by rw [ea]; exact ak_in ha (by omega)) (nm_r (e' := upd (upd nn n (-1)) a (nI n)) (by rw [ea, ak_cl (by omega)]) ?_))
    unfold wX_appendNotice_50
    refine And.intro is (nm_r (e' := upd nt s (nI n)) (by rw [es]) (And.intro is (And.intro is (nm_r (e' := upd nl s (nl s + 1)) (by rw [es]) ?_))))
    refine K _ _ _ _ _ _ _ _ _ _ _ _ _ _ ⟨hZ, hW', hQ', ak_NX_a hW hN hs hnk _ _ (fun y => by rw [e] at y; simp at y) (fun m' a' y => ?_), hB⟩
    have y2 : m = m' ∧ a = a' := by
      have := List.append_inj' (e.symm.trans y) rfl
      exact ⟨this.1, by simpa using this.2⟩
    rw [y2.2]
    exact ⟨rfl, rfl⟩
theorem ax_rem {post : SX → Prop} {s n : Nat} (R : ak_RX P S T c F u) (hs : s < 4) (hm : (20 + s, n) ∈ F) (K : ak_KX P S T c (F.erase (20 + s, n)) post) : wpX_removeNotice post u (nI s) (nI n) := by
  refine ak_elX (M := fun u => wpX_removeNotice post u (nI s) (nI n)) R ?_
  intro fs nx qh qt ql pe nn np nh nt nl os oc ss ⟨hZ, hW, hQ, hN, hB⟩
  have hm' : n ∈ ak_it F (20 + s) := ak_it_mem.mpr hm
  have hn : n < 64 := ak_W_i64 hW (q := 20 + s) (by omega) hm'
  obtain ⟨a, b, hl⟩ := List.append_of_mem hm'
  have hQ' : ak_QX (F.erase (20 + s, n)) nx qh qt ql := ak_QX_cg (fun q hq => ak_it_er_n (by omega) F) hQ
  have is : vp_in (nI s) 4 := ak_in hs (by omega)
  have es : (nI s).toNatClampNeg = s := ak_cl (by omega)
  have iN : vp_in (nI n) 64 := ak_in hn (by omega)
  have eN : (nI n).toNatClampNeg = n := ak_cl (by omega)
  obtain ⟨h1, h2, h3, h4, h5⟩ := hN.1 s hs
  rw [hl] at h4 h5
  have en : nn n = ak_hd b (-1) := (ak_Lk_del h4).1
  have ep : np n = ak_hd a.reverse (-1) := by
    rw [List.reverse_append, List.reverse_cons, List.append_assoc] at h5
    exact (ak_Lk_del (l := b.reverse) (m := a.reverse) h5).1
  have tail : ∀ nn' nh' : Nat → Int32, (a = [] → nn' = nn ∧ nh' = upd nh s (ak_hd b (-1))) → (∀ m x, a = m ++ [x] → nn' = upd nn x (ak_hd b (-1)) ∧ nh' = nh) → wX_removeNotice_39 post (nI s) (nI n) (ak_hd a.reverse (-1)) (ak_hd b (-1)) (nI P) (nI S) (nI T) fs (c 0) (c 1) (c 2) (c 3) (c 4) (c 5) (c 6) (c 7) (c 15) (c 8) nx qh qt ql pe nn' np nh' nt nl (c 9) (c 10) (c 11) (c 17) (c 12) (c 13) (c 14) os oc ss := by
    intro nn' nh' ha0 ha1
    unfold wX_removeNotice_39
    cases b with
    | nil =>
      refine br_t rfl (And.intro is (nm_r (e' := upd nt s (ak_hd a.reverse (-1))) (by rw [es]) ?_))
      unfold wX_removeNotice_63
      refine And.intro iN (nm_r (e' := upd pe n 0) (by rw [eN]; rfl) (And.intro is (And.intro is (nm_r (e' := upd nl s (nl s - 1)) (by rw [es]) ?_))))
      exact K _ _ _ _ _ _ _ _ _ _ _ _ _ _ ⟨hZ, ak_W_er _ hW, hQ', ak_NX_r hW hN hs hl _ _ _ _ ha0 ha1 (fun _ => ⟨rfl, rfl⟩) (fun y m w => nomatch w), hB⟩
    | cons y m =>
      have hy : y < 64 := ak_W_i64 hW (q := 20 + s) (by omega) (by rw [hl]; simp)
      refine br_f (ak_n1 (a := y) (by omega)) (And.intro (ak_in (n := y) hy (by omega)) (nm_r (e' := upd np y (ak_hd a.reverse (-1))) (by rw [show ak_hd (y :: m) (-1) = nI y from rfl, ak_cl (by omega)]) ?_))
      unfold wX_removeNotice_63
      refine And.intro iN (nm_r (e' := upd pe n 0) (by rw [eN]; rfl) (And.intro is (And.intro is (nm_r (e' := upd nl s (nl s - 1)) (by rw [es]) ?_))))
      exact K _ _ _ _ _ _ _ _ _ _ _ _ _ _ ⟨hZ, ak_W_er _ hW, hQ', ak_NX_r hW hN hs hl _ _ _ _ ha0 ha1 (fun w => nomatch w) (fun y' m' w => by
        have w' := List.cons.inj w
        rw [← w'.1]; exact ⟨rfl, rfl⟩), hB⟩
  unfold wpX_removeNotice
  refine And.intro iN (nm_r (e' := ak_hd a.reverse (-1)) (by rw [eN, ep]) (And.intro iN (nm_r (e' := ak_hd b (-1)) (by rw [eN, en]) ?_)))
  rcases ak_snoc a with e | ⟨m, x, e⟩
  · refine br_t (by rw [e]; rfl) (And.intro is (nm_r (e' := upd nh s (ak_hd b (-1))) (by rw [es]) ?_))
    exact tail _ _ (fun _ => ⟨rfl, rfl⟩) (fun m x y => by rw [e] at y; simp at y)
  · have hx : x < 64 := ak_W_i64 hW (q := 20 + s) (by omega) (by rw [hl, e]; simp)
    have ex : ak_hd a.reverse (-1) = nI x := by rw [e, ak_rev_hd]
    refine br_f (by rw [ex]; exact ak_n1 (by omega)) (And.intro (by rw [ex]; exact ak_in hx (by omega)) (nm_r (e' := upd nn x (ak_hd b (-1))) (by rw [ex, ak_cl (by omega)]) ?_))
    refine tail _ _ (fun y => by rw [e] at y; simp at y) (fun m' x' y => ?_)
    have y2 : x = x' := by
      have := List.append_inj' (e.symm.trans y) rfl
      simpa using this.2
    rw [y2]
    exact ⟨rfl, rfl⟩
end
end
section
/-! X's bit sets -/
def ak_dn (d : Nat) : Int32 := match d with
  | 0 => -1
  | p + 1 => nI p
theorem ak_dn_s (d : Nat) : ak_dn (d + 1) + (-1) = ak_dn d := by
  cases d with
  | zero => rfl
  | succ p => exact pk_m1 p
theorem ak_dn_n {d : Nat} (h : d < 100) : ¬ ak_dn (d + 1) < 0 := nI_pos (by omega)
section
variable {P S T : Nat} {c : Nat → Nat → Int32} {F : List (Nat × Nat)} {u : SX} {fs : Int32} {nx qh qt ql pe nn np nh nt nl os oc ss : Nat → Int32}
theorem ax_low2 {post : Int32 → Prop} {b : Nat → Bool} {r : Int32} (h : ak_LW (fun p => b p = true) 6 r) (K : post r) : ∀ d n p, p + d = 6 → d < n → (∀ q, q < p → b q = false) → wX_lowest_2 post (ak_bt b) (nI P) (nI S) (nI T) fs (c 0) (c 1) (c 2) (c 3) (c 4) (c 5) (c 6) (c 7) (c 15) (c 8) nx qh qt ql pe nn np nh nt nl (c 9) (c 10) (c 11) (c 17) (c 12) (c 13) (c 14) os oc ss n (nI p) := by
  intro d
  induction d with
  | zero =>
    intro n p hp hn hq
    obtain ⟨n, rfl⟩ : ∃ m, n = m + 1 := ⟨n - 1, by omega⟩
    have e : p = 6 := by omega
    subst e
    have hr : r = -1 := by
      rcases h with h | ⟨q, h1, h2, h3, h4⟩
      · exact h.1
      · rw [hq q h1] at h3; exact absurd h3 (by decide)
    rw [hr] at K
    exact br_t (by decide) K
  | succ d ih =>
    intro n p hp hn hq
    obtain ⟨n, rfl⟩ : ∃ m, n = m + 1 := ⟨n - 1, by omega⟩
    have h6 : ¬ (6 : Int32) ≤ nI p := nI_ge (b := 6) (by omega) (by decide)
    cases e : b p with
    | false =>
      refine br_f h6 (br_t ((ak_bt_ts b p (by omega)).mpr e) (nm_r (nI_1 p) (ih n (p + 1) (by omega) (by omega) (fun q hq' => ?_))))
      by_cases z : q = p
      · rw [z]; exact e
      · exact hq q (by omega)
    | true =>
      have hr : r = nI p := by
        rcases h with h | ⟨q, h1, h2, h3, h4⟩
        · exact absurd e (h.2 p (by omega))
        · rcases Nat.lt_trichotomy q p with z | z | z
          · rw [hq q z] at h3; exact absurd h3 (by decide)
          · rw [h2, z]
          · exact absurd e (h4 p z)
      rw [hr] at K
      exact br_f h6 (br_f (fun z => by rw [ak_bt_ts b p (by omega), e] at z; exact absurd z (by decide)) K)
theorem ax_high2 {post : Int32 → Prop} {b : Nat → Bool} {r : Int32} (h : ak_HW (fun p => b p = true) 6 r) (K : post r) : ∀ d n, d ≤ 6 → d < n → (∀ q, d ≤ q → q < 6 → b q = false) → wX_highest_2 post (ak_bt b) (nI P) (nI S) (nI T) fs (c 0) (c 1) (c 2) (c 3) (c 4) (c 5) (c 6) (c 7) (c 15) (c 8) nx qh qt ql pe nn np nh nt nl (c 9) (c 10) (c 11) (c 17) (c 12) (c 13) (c 14) os oc ss n (ak_dn d) := by
  intro d
  induction d with
  | zero =>
    intro n hd hn hq
    obtain ⟨n, rfl⟩ : ∃ m, n = m + 1 := ⟨n - 1, by omega⟩
    have hr : r = -1 := by
      rcases h with h | ⟨q, h1, h2, h3, h4⟩
      · exact h.1
      · rw [hq q (by omega) h1] at h3; exact absurd h3 (by decide)
    rw [hr] at K
    exact br_t (by decide) K
  | succ p ih =>
    intro n hd hn hq
    obtain ⟨n, rfl⟩ : ∃ m, n = m + 1 := ⟨n - 1, by omega⟩
    have h6 : ¬ ak_dn (p + 1) < 0 := ak_dn_n (by omega)
    cases e : b p with
    | false =>
      refine br_f h6 (br_t ((ak_bt_ts b p (by omega)).mpr e) (nm_r (ak_dn_s p) (ih n (by omega) (by omega) (fun q hq' hq6 => ?_))))
      by_cases z : q = p
      · rw [z]; exact e
      · exact hq q (by omega) hq6
    | true =>
      have hr : r = nI p := by
        rcases h with h | ⟨q, h1, h2, h3, h4⟩
        · exact absurd e (h.2 p (by omega))
        · rcases Nat.lt_trichotomy q p with z | z | z
          · exact absurd e (h4 p z (by omega))
          · rw [h2, z]
          · rw [hq q z h1] at h3; exact absurd h3 (by decide)
      rw [hr] at K
      exact br_f h6 (br_f (fun z => by have z' := (ak_bt_ts b p (by omega)).mp z; rw [e] at z'; exact absurd z' (by decide)) K)
theorem ak_LW6 {b : Nat → Prop} {b' : Nat → Bool} {r : Int32} {P : Nat} (hP : P ≤ 6) (hb : ∀ p, p < 6 → (b' p = true ↔ p < P ∧ b p)) (h : ak_LW b P r) : ak_LW (fun p => b' p = true) 6 r := by
  rcases h with h | ⟨q, h1, h2, h3, h4⟩
  · exact Or.inl ⟨h.1, fun q hq z => by have := (hb q hq).mp z; exact h.2 q this.1 this.2⟩
  · exact Or.inr ⟨q, by omega, h2, (hb q (by omega)).mpr ⟨h1, h3⟩, fun q' hq z => h4 q' hq ((hb q' (by omega)).mp z).2⟩
theorem ak_HW6 {b : Nat → Prop} {b' : Nat → Bool} {r : Int32} {P : Nat} (hP : P ≤ 6) (hb : ∀ p, p < 6 → (b' p = true ↔ p < P ∧ b p)) (h : ak_HW b P r) : ak_HW (fun p => b' p = true) 6 r := by
  rcases h with h | ⟨q, h1, h2, h3, h4⟩
  · exact Or.inl ⟨h.1, fun q hq z => by have := (hb q hq).mp z; exact h.2 q this.1 this.2⟩
  · exact Or.inr ⟨q, by omega, h2, (hb q (by omega)).mpr ⟨h1, h3⟩, fun q' hq hq6 z => by have := (hb q' hq6).mp z; exact h4 q' hq this.1 this.2⟩
theorem ax_low {post : Int32 → Prop} {b : Nat → Prop} {b' : Nat → Bool} {x r : Int32} (hx : x = ak_bt b') (hP : P ≤ 6) (hb : ∀ p, p < 6 → (b' p = true ↔ p < P ∧ b p)) (h : ak_LW b P r) (K : post r) : wpX_lowest post (nI P, nI S, nI T, fs, c 0, c 1, c 2, c 3, c 4, c 5, c 6, c 7, c 15, c 8, nx, qh, qt, ql, pe, nn, np, nh, nt, nl, c 9, c 10, c 11, c 17, c 12, c 13, c 14, os, oc, ss) x := by
  subst hx
  exact Exists.intro 7 (ax_low2 (ak_LW6 hP hb h) K 6 7 0 rfl (by omega) (fun q hq => absurd hq (Nat.not_lt_zero q)))
theorem ax_high {post : Int32 → Prop} {b : Nat → Prop} {b' : Nat → Bool} {x r : Int32} (hx : x = ak_bt b') (hP : P ≤ 6) (hb : ∀ p, p < 6 → (b' p = true ↔ p < P ∧ b p)) (h : ak_HW b P r) (K : post r) : wpX_highest post (nI P, nI S, nI T, fs, c 0, c 1, c 2, c 3, c 4, c 5, c 6, c 7, c 15, c 8, nx, qh, qt, ql, pe, nn, np, nh, nt, nl, c 9, c 10, c 11, c 17, c 12, c 13, c 14, os, oc, ss) x := by
  subst hx
  exact Exists.intro 7 (ax_high2 (ak_HW6 hP hb h) K 6 7 (by omega) (by omega) (fun q hq hq6 => by omega))
/-! how stores change the sets -/
theorem ak_BX_set {pst own : Nat → Int32} {p s k j : Nat} (hP : P ≤ 6) (hB : ak_BX P pst own fs os oc ss) (hp : p < P) (hs : s < 4) (ho : own p = nI s) (hk : k < 6) (hpk : pst p = nI k) (hj : j < 6) :
    ak_BX P (upd pst p (nI j)) own fs os oc (upd (upd ss (s * 6 + k) (ss (s * 6 + k) &&& (((1 : Int32) <<< (nI p &&& 31)) ^^^ (-1)))) (s * 6 + j) ((upd ss (s * 6 + k) (ss (s * 6 + k) &&& (((1 : Int32) <<< (nI p &&& 31)) ^^^ (-1)))) (s * 6 + j) ||| ((1 : Int32) <<< (nI p &&& 31)))) := by
  refine ⟨hB.1, fun s' hs' => ⟨(hB.2 s' hs').1, (hB.2 s' hs').2.1, fun k' hk' => ?_⟩⟩
  have g := (hB.2 s' hs').2.2 k' hk'
  have gk := (hB.2 s hs).2.2 k hk
  by_cases zj : s' * 6 + k' = s * 6 + j
  · have e1 : s' = s := by omega
    have e2 : k' = j := by omega
    subst e1 e2
    rw [pk_us]
    by_cases zk : k' = k
    · subst zk
      rw [pk_us, g, ak_bt_an _ p (by omega), ak_bt_or _ p (by omega)]
      refine ak_bt_ext fun q hq => ?_
      by_cases y : q = p
      · subst y
        simp [pk_us, hp, ho]
      · simp only [if_neg y, pk_un y]
    · rw [pk_un (by omega), g, ak_bt_or _ p (by omega)]
      refine ak_bt_ext fun q hq => ?_
      by_cases y : q = p
      · subst y
        simp [pk_us, hp, ho]
      · simp only [if_neg y, pk_un y]
  · rw [pk_un zj]
    by_cases zk : s' * 6 + k' = s * 6 + k
    · have e1 : s' = s := by omega
      have e2 : k' = k := by omega
      subst e1 e2
      rw [pk_us, g, ak_bt_an _ p (by omega)]
      refine ak_bt_ext fun q hq => ?_
      by_cases y : q = p
      · subst y
        have hne : ¬ nI j = nI k' := fun w => by rw [ak_ni (by omega) (by omega)] at w; omega
        simp [pk_us, hne]
      · simp only [if_neg y, pk_un y]
    · rw [pk_un zk, g]
      refine ak_bt_ext fun q hq => ?_
      by_cases y : q = p
      · subst y
        rw [pk_us, hpk, ho]
        refine decide_eq_decide.mpr ⟨fun ⟨a, b, d⟩ => ?_, fun ⟨a, b, d⟩ => ?_⟩
        · rw [ak_ni (by omega) (by omega)] at b d; omega
        · rw [ak_ni (by omega) (by omega)] at b d; omega
      · rw [pk_un y]
theorem ak_BX_take {pst own : Nat → Int32} {p s k : Nat} (hP : P ≤ 6) (hB : ak_BX P pst own fs os oc ss) (hp : p < P) (hs : s < 4) (ho : own p = nI s) (hk : 0 < k) (hk6 : k < 6) (hpk : pst p = nI k) :
    ak_BX P (upd pst p 0) (upd own p (-1)) (fs ||| ((1 : Int32) <<< (nI p &&& 31))) (upd os s (os s &&& (((1 : Int32) <<< (nI p &&& 31)) ^^^ (-1)))) (upd oc s (oc s - 1)) (upd ss (s * 6 + k) (ss (s * 6 + k) &&& (((1 : Int32) <<< (nI p &&& 31)) ^^^ (-1)))) := by
  refine ⟨?_, fun s' hs' => ?_⟩
  · rw [hB.1, ak_bt_or _ p (by omega)]
    refine ak_bt_ext fun q hq => ?_
    by_cases y : q = p
    · subst y; simp [pk_us, hp]
    · simp only [if_neg y, pk_un y]
  obtain ⟨g1, g2, g3⟩ := hB.2 s' hs'
  have n1 : ¬ (-1 : Int32) = nI s' := ak_1n (by omega)
  refine ⟨?_, ?_, fun k' hk' => ?_⟩
  · by_cases z : s' = s
    · subst z
      rw [pk_us, g1, ak_bt_an _ p (by omega)]
      refine ak_bt_ext fun q hq => ?_
      by_cases y : q = p
      · subst y; simp [pk_us, n1]
      · simp only [if_neg y, pk_un y]
    · rw [pk_un z, g1]
      refine ak_bt_ext fun q hq => ?_
      by_cases y : q = p
      · subst y
        rw [pk_us, ho]
        refine decide_eq_decide.mpr ⟨fun ⟨a, b⟩ => ?_, fun ⟨a, b⟩ => absurd b n1⟩
        rw [ak_ni (by omega) (by omega)] at b; omega
      · rw [pk_un y]
  · by_cases z : s' = s
    · subst z
      have := ak_cn_dn ho n1 hp
      rw [pk_us, g2, ← this, nI_pred]
    · rw [pk_un z, g2, ak_cn_no (fun w => by rw [ho, ak_ni (by omega) (by omega)] at w; omega) n1]
  · have gk := g3 k' hk'
    by_cases z : s' * 6 + k' = s * 6 + k
    · have e1 : s' = s := by omega
      have e2 : k' = k := by omega
      subst e1 e2
      rw [pk_us, gk, ak_bt_an _ p (by omega)]
      refine ak_bt_ext fun q hq => ?_
      by_cases y : q = p
      · subst y; simp [pk_us, n1]
      · simp only [if_neg y, pk_un y]
    · rw [pk_un z, gk]
      refine ak_bt_ext fun q hq => ?_
      by_cases y : q = p
      · subst y
        rw [pk_us, pk_us, ho, hpk]
        refine decide_eq_decide.mpr ⟨fun ⟨a, b, d⟩ => ?_, fun ⟨a, b, d⟩ => absurd b n1⟩
        rw [ak_ni (by omega) (by omega)] at b d; omega
      · rw [pk_un y, pk_un y]
theorem ak_BX_give {pst own : Nat → Int32} {p s : Nat} (hP : P ≤ 6) (hB : ak_BX P pst own fs os oc ss) (hp : p < P) (hs : s < 4) (ho : own p = -1) :
    ak_BX P (upd pst p 1) (upd own p (nI s)) (fs &&& (((1 : Int32) <<< (nI p &&& 31)) ^^^ (-1))) (upd os s (os s ||| ((1 : Int32) <<< (nI p &&& 31)))) (upd oc s (oc s + 1)) (upd ss (s * 6 + 1) (ss (s * 6 + 1) ||| ((1 : Int32) <<< (nI p &&& 31)))) := by
  refine ⟨?_, fun s' hs' => ?_⟩
  · rw [hB.1, ak_bt_an _ p (by omega)]
    refine ak_bt_ext fun q hq => ?_
    by_cases y : q = p
    · subst y; simp [pk_us, ak_n1 (a := s) (by omega)]
    · simp only [if_neg y, pk_un y]
  obtain ⟨g1, g2, g3⟩ := hB.2 s' hs'
  have n1 : ¬ (-1 : Int32) = nI s' := ak_1n (by omega)
  refine ⟨?_, ?_, fun k' hk' => ?_⟩
  · by_cases z : s' = s
    · subst z
      rw [pk_us, g1, ak_bt_or _ p (by omega)]
      refine ak_bt_ext fun q hq => ?_
      by_cases y : q = p
      · subst y; simp [pk_us, hp]
      · simp only [if_neg y, pk_un y]
    · rw [pk_un z, g1]
      refine ak_bt_ext fun q hq => ?_
      by_cases y : q = p
      · subst y
        rw [pk_us, ho]
        refine decide_eq_decide.mpr ⟨fun ⟨a, b⟩ => absurd b n1, fun ⟨a, b⟩ => ?_⟩
        rw [ak_ni (by omega) (by omega)] at b; omega
      · rw [pk_un y]
  · by_cases z : s' = s
    · subst z
      rw [pk_us, g2, ak_cn_up (fun w => n1 (ho.symm.trans w)) hp, nI_1]
    · rw [pk_un z, g2, ak_cn_no (fun w => n1 (ho.symm.trans w)) (fun w => by rw [ak_ni (by omega) (by omega)] at w; omega)]
  · have gk := g3 k' hk'
    have one : (1 : Int32) = nI 1 := rfl
    by_cases z : s' * 6 + k' = s * 6 + 1
    · have e1 : s' = s := by omega
      have e2 : k' = 1 := by omega
      subst e1 e2
      rw [pk_us, gk, ak_bt_or _ p (by omega)]
      refine ak_bt_ext fun q hq => ?_
      by_cases y : q = p
      · subst y; simp [pk_us, hp, one]
      · simp only [if_neg y, pk_un y]
    · rw [pk_un z, gk]
      refine ak_bt_ext fun q hq => ?_
      by_cases y : q = p
      · subst y
        rw [pk_us, pk_us, ho, one]
        refine decide_eq_decide.mpr ⟨fun ⟨a, b, d⟩ => absurd b n1, fun ⟨a, b, d⟩ => ?_⟩
        rw [ak_ni (by omega) (by omega)] at b d; omega
      · rw [pk_un y, pk_un y]
end
end
section
/-! X's small methods -/
section
variable {P S T : Nat} {c : Nat → Nat → Int32} {F : List (Nat × Nat)} {u : SX}
theorem ax_set {post : SX → Prop} {p s k j : Nat} (R : ak_RX P S T c F u) (hp : p < P) (ho : (c 3) p = nI s) (hs : s < 4) (hk : (c 2) p = nI k) (hk6 : k < 6) (hj : j < 6) (K : ak_KX P S T (ak_sa c 2 (upd (c 2) p (nI j))) F post) : wpX_setState post u (nI p) (nI j) := by
  refine ak_elX (M := fun u => wpX_setState post u (nI p) (nI j)) R ?_
  intro fs nx qh qt ql pe nn np nh nt nl os oc ss ⟨hZ, hW, hQ, hN, hB⟩
  have hp6 : p < 6 := Nat.lt_of_lt_of_le hp hZ.2.1
  have ip : vp_in (nI p) 6 := ak_in hp6 (by omega)
  have ep : (nI p).toNatClampNeg = p := ak_cl (by omega)
  have ik : vp_in (nI s * 6 + (c 2) (nI p).toNatClampNeg) 24 := by rw [ep, hk, ak_m6]; exact ak_in (by omega) (by omega)
  have ek : (nI s * 6 + (c 2) (nI p).toNatClampNeg).toNatClampNeg = s * 6 + k := by rw [ep, hk, ak_m6]; exact ak_cl (by omega)
  have ij : vp_in (nI s * 6 + nI j) 24 := by rw [ak_m6]; exact ak_in (by omega) (by omega)
  have ej : (nI s * 6 + nI j).toNatClampNeg = s * 6 + j := by rw [ak_m6]; exact ak_cl (by omega)
  refine And.intro ip (nm_r (e' := nI s * 6) (by rw [ep, ho]) (nm_e (And.intro ip (And.intro ik (And.intro ik (nm_r (e' := upd ss (s * 6 + k) (ss (s * 6 + k) &&& (((1 : Int32) <<< (nI p &&& 31)) ^^^ (-1)))) (by rw [ek]) (And.intro ij (And.intro ij (nm_r (e' := upd (upd ss (s * 6 + k) (ss (s * 6 + k) &&& (((1 : Int32) <<< (nI p &&& 31)) ^^^ (-1)))) (s * 6 + j) ((upd ss (s * 6 + k) (ss (s * 6 + k) &&& (((1 : Int32) <<< (nI p &&& 31)) ^^^ (-1)))) (s * 6 + j) ||| ((1 : Int32) <<< (nI p &&& 31)))) (by rw [ej]) (And.intro ip (nm_r (e' := upd (c 2) p (nI j)) (by rw [ep]) ?_)))))))))))
  exact K _ _ _ _ _ _ _ _ _ _ _ _ _ _ ⟨hZ, hW, hQ, hN, ak_BX_set hZ.2.1 hB hp hs ho hk6 hk hj⟩
theorem ax_save {post : SX → Prop} {t s k : Nat} (R : ak_RX P S T c F u) (ht : t < 16) (hh : (c 6) t = nI s) (hs : s < 4) (hk : k < 4) (hk0 : 0 < k) (hc : ∀ f ∈ F, ak_cd f ≠ k * 16 + t) (K : ak_KX P S T (ak_sa c 5 (upd (c 5) t 5)) (F ++ [(20 + s, k * 16 + t)]) post) : wpX_save post u (nI t) (nI k) := by
  refine ak_elX (M := fun u => wpX_save post u (nI t) (nI k)) R ?_
  intro fs nx qh qt ql pe nn np nh nt nl os oc ss R
  have it : vp_in (nI t) 16 := ak_in ht (by omega)
  have et : (nI t).toNatClampNeg = t := ak_cl (by omega)
  refine And.intro it (nm_r (e' := upd (c 5) t 5) (by rw [et]) (And.intro it ?_))
  rw [et, hh, show (nI k * 16 + nI t) = nI (k * 16 + t) from by rw [show (16 : Int32) = nI 16 from rfl, pk_mul, nI_add]]
  refine ax_app (c := (ak_sa c 5 (upd (c 5) t 5))) (ak_mkX (c := (ak_sa c 5 (upd (c 5) t 5))) R) hs (by omega) (by omega) hc ?_
  intro fs nx qh qt ql pe nn np nh nt nl os oc ss R
  exact K _ _ _ _ _ _ _ _ _ _ _ _ _ _ R
theorem ax_pre0 {post : SX → Prop} {p : Nat} (R : ak_RX P S T c F u) (hp : p < P) (ht : (c 4) p = -1) (K : ak_KX P S T c F post) : wpX_preempt post u (nI p) := by
  refine ak_elX (M := fun u => wpX_preempt post u (nI p)) R ?_
  intro fs nx qh qt ql pe nn np nh nt nl os oc ss R
  have hp6 : p < 6 := Nat.lt_of_lt_of_le hp R.1.2.1
  have ip : vp_in (nI p) 6 := ak_in hp6 (by omega)
  have ep : (nI p).toNatClampNeg = p := ak_cl (by omega)
  exact And.intro ip (nm_r (e' := -1) (by rw [ep, ht]) (br_t rfl (K _ _ _ _ _ _ _ _ _ _ _ _ _ _ R)))
theorem ax_pre {post : SX → Prop} {p t s : Nat} (R : ak_RX P S T c F u) (hp : p < P) (ht : (c 4) p = nI t) (ht16 : t < 16) (hh : (c 6) t = nI s) (hs : s < 4) (hc : ∀ f ∈ F, ak_cd f ≠ 16 + t) (K : ak_KX P S T (ak_sa (ak_sa c 4 (upd (c 4) p (-1))) 5 (upd (c 5) t 5)) (F ++ [(20 + s, 16 + t)]) post) : wpX_preempt post u (nI p) := by
  refine ak_elX (M := fun u => wpX_preempt post u (nI p)) R ?_
  intro fs nx qh qt ql pe nn np nh nt nl os oc ss R
  have hp6 : p < 6 := Nat.lt_of_lt_of_le hp R.1.2.1
  have ip : vp_in (nI p) 6 := ak_in hp6 (by omega)
  have ep : (nI p).toNatClampNeg = p := ak_cl (by omega)
  refine And.intro ip (nm_r (e' := nI t) (by rw [ep, ht]) (br_f (ak_n1 (by omega)) (And.intro ip (nm_r (e' := upd (c 4) p (-1)) (by rw [ep]) ?_))))
  refine ax_save (k := 1) (c := (ak_sa c 4 (upd (c 4) p (-1)))) (ak_mkX (c := (ak_sa c 4 (upd (c 4) p (-1)))) R) ht16 hh hs (by omega) (by omega) hc ?_
  intro fs nx qh qt ql pe nn np nh nt nl os oc ss R
  exact K _ _ _ _ _ _ _ _ _ _ _ _ _ _ R
theorem ax_gup {post : SX → Prop} {p s k j : Nat} (R : ak_RX P S T c F u) (hp : p < P) (ho : (c 3) p = nI s) (hs : s < 4) (hk : (c 2) p = nI k) (hkj : (k = 4 ∧ j = 2) ∨ (k = 5 ∧ j = 3)) (K : ak_KX P S T (ak_sa (ak_sa c 4 (upd (c 4) p (-1))) 2 (upd (c 2) p (nI j))) F post) : wpX_giveUp post u (nI p) := by
  refine ak_elX (M := fun u => wpX_giveUp post u (nI p)) R ?_
  intro fs nx qh qt ql pe nn np nh nt nl os oc ss R
  have hp6 : p < 6 := Nat.lt_of_lt_of_le hp R.1.2.1
  have ip : vp_in (nI p) 6 := ak_in hp6 (by omega)
  have ep : (nI p).toNatClampNeg = p := ak_cl (by omega)
  refine And.intro ip (nm_r (e' := upd (c 4) p (-1)) (by rw [ep]) (And.intro ip ?_))
  rw [ep, hk]
  rcases hkj with ⟨rfl, rfl⟩ | ⟨rfl, rfl⟩
  · refine br_t rfl ?_
    refine ax_set (s := s) (k := 4) (j := 2) (c := (ak_sa c 4 (upd (c 4) p (-1)))) (ak_mkX (c := (ak_sa c 4 (upd (c 4) p (-1)))) R) hp ho hs hk (by omega) (by omega) ?_
    intro fs nx qh qt ql pe nn np nh nt nl os oc ss R
    exact K _ _ _ _ _ _ _ _ _ _ _ _ _ _ R
  · refine br_f (by decide) (And.intro ip (br_t rfl ?_))
    refine ax_set (s := s) (k := 5) (j := 3) (c := (ak_sa c 4 (upd (c 4) p (-1)))) (ak_mkX (c := (ak_sa c 4 (upd (c 4) p (-1)))) R) hp ho hs hk (by omega) (by omega) ?_
    intro fs nx qh qt ql pe nn np nh nt nl os oc ss R
    exact K _ _ _ _ _ _ _ _ _ _ _ _ _ _ R
theorem ax_asg {post : SX → Prop} {p t s k j : Nat} (R : ak_RX P S T c F u) (hp : p < P) (ht : t < 16) (ho : (c 3) p = nI s) (hs : s < 4) (hk : (c 2) p = nI k) (hk6 : k < 6) (hj : j < 6) (K : ak_KX P S T (ak_sa (ak_sa (ak_sa c 4 (upd (c 4) p (nI t))) 5 (upd (c 5) t 1)) 2 (upd (c 2) p (nI j))) F post) : wpX_assign post u (nI p) (nI t) (nI j) := by
  refine ak_elX (M := fun u => wpX_assign post u (nI p) (nI t) (nI j)) R ?_
  intro fs nx qh qt ql pe nn np nh nt nl os oc ss R
  have hp6 : p < 6 := Nat.lt_of_lt_of_le hp R.1.2.1
  have ip : vp_in (nI p) 6 := ak_in hp6 (by omega)
  have ep : (nI p).toNatClampNeg = p := ak_cl (by omega)
  have it : vp_in (nI t) 16 := ak_in ht (by omega)
  have et : (nI t).toNatClampNeg = t := ak_cl (by omega)
  refine And.intro ip (nm_r (e' := upd (c 4) p (nI t)) (by rw [ep]) (And.intro it (nm_r (e' := upd (c 5) t 1) (by rw [et]) ?_)))
  refine ax_set (s := s) (k := k) (j := j) (c := (ak_sa (ak_sa c 4 (upd (c 4) p (nI t))) 5 (upd (c 5) t 1))) (ak_mkX (c := (ak_sa (ak_sa c 4 (upd (c 4) p (nI t))) 5 (upd (c 5) t 1))) R) hp ho hs hk hk6 hj ?_
  intro fs nx qh qt ql pe nn np nh nt nl os oc ss R
  exact K _ _ _ _ _ _ _ _ _ _ _ _ _ _ R
theorem ax_rdy {post : SX → Prop} {t s l : Nat} (R : ak_RX P S T c F u) (ht : t < 16) (hh : (c 6) t = nI s) (hs : s < 4) (hl : (c 7) t = nI l) (hl3 : l < 3) (hc : ∀ f ∈ F, ak_cd f ≠ t + 16) (K : ak_KX P S T (ak_sa c 5 (upd (c 5) t 2)) (F ++ [(s * 5 + l, t)]) post) : wpX_makeReady post u (nI t) := by
  refine ak_elX (M := fun u => wpX_makeReady post u (nI t)) R ?_
  intro fs nx qh qt ql pe nn np nh nt nl os oc ss R
  have it : vp_in (nI t) 16 := ak_in ht (by omega)
  have et : (nI t).toNatClampNeg = t := ak_cl (by omega)
  refine And.intro it (nm_r (e' := upd (c 5) t 2) (by rw [et]) (And.intro it (And.intro it ?_)))
  rw [et, hh, hl, ak_m5]
  refine ax_enq (c := (ak_sa c 5 (upd (c 5) t 2))) (ak_mkX (c := (ak_sa c 5 (upd (c 5) t 2))) R) (by omega) ht hc ?_
  intro fs nx qh qt ql pe nn np nh nt nl os oc ss R
  exact K _ _ _ _ _ _ _ _ _ _ _ _ _ _ R
theorem ax_pass0 {post : SX → Prop} {s l : Nat} (R : ak_RX P S T c F u) (hs : s < 4) (hl : l < 2) (e : ak_it F (s * 5 + 3 + l) = []) (K : ak_KX P S T (ak_sa c 13 (upd (c 13) (s * 2 + l) (-1))) F post) : wpX_passOn post u (nI s) (nI l) := by
  refine ak_elX (M := fun u => wpX_passOn post u (nI s) (nI l)) R ?_
  intro fs nx qh qt ql pe nn np nh nt nl os oc ss R
  have il : vp_in (nI s * 2 + nI l) 8 := by rw [ak_m2]; exact ak_in (by omega) (by omega)
  have el : (nI s * 2 + nI l).toNatClampNeg = s * 2 + l := by rw [ak_m2]; exact ak_cl (by omega)
  unfold wpX_passOn
  rw [ak_m53]
  refine ax_deq0 (ak_mkX R) (by omega) e ?_
  intro fs nx qh qt ql pe nn np nh nt nl os oc ss R
  exact And.intro il (nm_r (e' := upd (c 13) (s * 2 + l) (-1)) (by rw [el]) (br_t rfl (K _ _ _ _ _ _ _ _ _ _ _ _ _ _ R)))
theorem ax_pass {post : SX → Prop} {s l w j : Nat} {r : List Nat} (R : ak_RX P S T c F u) (hs : s < 4) (hl : l < 2) (e : ak_it F (s * 5 + 3 + l) = w :: r) (hh : (c 6) w = nI s) (hj : (c 7) w = nI j) (hj3 : j < 3) (hc : ∀ f ∈ F.erase (s * 5 + 3 + l, w), ak_cd f ≠ w + 16) (K : ak_KX P S T (ak_sa (ak_sa c 13 (upd (c 13) (s * 2 + l) (nI w))) 5 (upd (c 5) w 2)) (F.erase (s * 5 + 3 + l, w) ++ [(s * 5 + j, w)]) post) : wpX_passOn post u (nI s) (nI l) := by
  refine ak_elX (M := fun u => wpX_passOn post u (nI s) (nI l)) R ?_
  intro fs nx qh qt ql pe nn np nh nt nl os oc ss R
  have il : vp_in (nI s * 2 + nI l) 8 := by rw [ak_m2]; exact ak_in (by omega) (by omega)
  have el : (nI s * 2 + nI l).toNatClampNeg = s * 2 + l := by rw [ak_m2]; exact ak_cl (by omega)
  have hw : w < 16 := ak_W_i16 R.2.1 (q := s * 5 + 3 + l) (by omega) (by rw [e]; exact List.mem_cons_self ..)
  unfold wpX_passOn
  rw [ak_m53]
  refine ax_deq (ak_mkX R) (by omega) e ?_
  intro fs nx qh qt ql pe nn np nh nt nl os oc ss R
  refine And.intro il (nm_r (e' := upd (c 13) (s * 2 + l) (nI w)) (by rw [el]) (br_f (ak_n1 (by omega)) ?_))
  refine ax_rdy (s := s) (l := j) (c := (ak_sa c 13 (upd (c 13) (s * 2 + l) (nI w)))) (ak_mkX (c := (ak_sa c 13 (upd (c 13) (s * 2 + l) (nI w)))) R) hw hh hs hj hj3 hc ?_
  intro fs nx qh qt ql pe nn np nh nt nl os oc ss R
  exact K _ _ _ _ _ _ _ _ _ _ _ _ _ _ R
end
section
variable {P S T : Nat} {c c1 : Nat → Nat → Int32} {F F1 : List (Nat × Nat)} {u : SX} {fs : Int32} {nx qh qt ql pe nn np nh nt nl os oc ss : Nat → Int32}
theorem ax_tk39 {post : SX → Prop} {p s k : Nat} (hpre : ∀ post' : SX → Prop, ak_KX P S T c1 F1 post' → wpX_preempt post' (nI P, nI S, nI T, fs, c 0, c 1, c 2, c 3, c 4, c 5, c 6, c 7, c 15, c 8, nx, qh, qt, ql, pe, nn, np, nh, nt, nl, c 9, c 10, c 11, c 17, c 12, c 13, c 14, os, oc, ss) (nI p)) (hp : p < P) (ho : (c1 3) p = nI s) (hs : s < 4) (hk : (c1 2) p = nI k) (hk0 : 0 < k) (hk6 : k < 6) (K : ak_KX P S T (ak_sa (ak_sa c1 3 (upd (c1 3) p (-1))) 2 (upd (c1 2) p 0)) F1 post) : wX_take_39 post (nI p) (nI s) ((1 : Int32) <<< (nI p &&& 31)) (nI P) (nI S) (nI T) fs (c 0) (c 1) (c 2) (c 3) (c 4) (c 5) (c 6) (c 7) (c 15) (c 8) nx qh qt ql pe nn np nh nt nl (c 9) (c 10) (c 11) (c 17) (c 12) (c 13) (c 14) os oc ss := by
  refine hpre _ ?_
  intro fs nx qh qt ql pe nn np nh nt nl os oc ss ⟨hZ, hW, hQ, hN, hB⟩
  have hp6 : p < 6 := Nat.lt_of_lt_of_le hp hZ.2.1
  have ip : vp_in (nI p) 6 := ak_in hp6 (by omega)
  have ep : (nI p).toNatClampNeg = p := ak_cl (by omega)
  have is : vp_in (nI s) 4 := ak_in hs (by omega)
  have es : (nI s).toNatClampNeg = s := ak_cl (by omega)
  have ik : vp_in (nI s * 6 + (c1 2) (nI p).toNatClampNeg) 24 := by rw [ep, hk, ak_m6]; exact ak_in (by omega) (by omega)
  have ek : (nI s * 6 + (c1 2) (nI p).toNatClampNeg).toNatClampNeg = s * 6 + k := by rw [ep, hk, ak_m6]; exact ak_cl (by omega)
  refine And.intro ip (And.intro ik (And.intro ik (nm_r (e' := upd ss (s * 6 + k) (ss (s * 6 + k) &&& (((1 : Int32) <<< (nI p &&& 31)) ^^^ (-1)))) (by rw [ek]) (And.intro is (And.intro is (nm_r (e' := upd os s (os s &&& (((1 : Int32) <<< (nI p &&& 31)) ^^^ (-1)))) (by rw [es]) (And.intro is (And.intro is (nm_r (e' := upd oc s (oc s - 1)) (by rw [es]) (And.intro ip (nm_r (e' := upd (c1 3) p (-1)) (by rw [ep]) (And.intro ip (nm_r (e' := upd (c1 2) p 0) (by rw [ep]) (nm_e ?_))))))))))))))
  exact K _ _ _ _ _ _ _ _ _ _ _ _ _ _ ⟨hZ, hW, hQ, hN, ak_BX_take hZ.2.1 hB hp hs ho hk0 hk6 hk⟩
theorem ax_take {post : SX → Prop} {p s k : Nat} (R : ak_RX P S T c F u) (hp : p < P) (ho : (c 3) p = nI s) (hs : s < 4) (hA : ∀ j, j < 4 → p ∈ ak_it F (20 + j) → j = s)
    (hpre : ∀ u', ak_RX P S T c (F.erase (20 + s, p)) u' → ∀ post' : SX → Prop, ak_KX P S T c1 F1 post' → wpX_preempt post' u' (nI p))
    (ho1 : (c1 3) p = nI s) (hk : (c1 2) p = nI k) (hk0 : 0 < k) (hk6 : k < 6) (K : ak_KX P S T (ak_sa (ak_sa c1 3 (upd (c1 3) p (-1))) 2 (upd (c1 2) p 0)) F1 post) : wpX_take post u (nI p) := by
  refine ak_elX (M := fun u => wpX_take post u (nI p)) R ?_
  intro fs nx qh qt ql pe nn np nh nt nl os oc ss R
  have hp6 : p < 6 := Nat.lt_of_lt_of_le hp R.1.2.1
  have ip : vp_in (nI p) 6 := ak_in hp6 (by omega)
  have ep : (nI p).toNatClampNeg = p := ak_cl (by omega)
  have ip' : vp_in (nI p) 64 := ak_in (by omega) (by omega)
  refine And.intro ip (nm_r (e' := nI s) (by rw [ep, ho]) (br_f (ak_n1 (by omega)) (nm_e (nm_r (e' := nI p) (Int32.zero_add _) (And.intro ip' ?_)))))
  rw [ep]
  rcases R.2.2.2.1.2 p (by omega) with ⟨h1, j, hj, h2⟩ | ⟨h1, h2⟩
  · refine br_f (by rw [h1]; decide) ?_
    have := hA j hj h2
    subst this
    refine ax_rem (ak_mkX R) hj (ak_it_mem.mp h2) ?_
    intro fs nx qh qt ql pe nn np nh nt nl os oc ss R
    exact ax_tk39 (fun post' K' => hpre _ (ak_mkX R) post' K') hp ho1 hs hk hk0 hk6 K
  · refine br_t h1 ?_
    have e : F.erase (20 + s, p) = F := List.erase_of_not_mem (fun y => h2 s hs (ak_it_mem.mpr y))
    rw [e] at hpre
    exact ax_tk39 (fun post' K' => hpre _ (ak_mkX R) post' K') hp ho1 hs hk hk0 hk6 K
theorem ax_giv {post : SX → Prop} {p s : Nat} (R : ak_RX P S T c F u) (hp : p < P) (ho : (c 3) p = -1) (hs : s < 4) (hc : ∀ f ∈ F, ak_cd f ≠ p) (K : ak_KX P S T (ak_sa (ak_sa c 3 (upd (c 3) p (nI s))) 2 (upd (c 2) p 1)) (F ++ [(20 + s, p)]) post) : wpX_give post u (nI p) (nI s) := by
  refine ak_elX (M := fun u => wpX_give post u (nI p) (nI s)) R ?_
  intro fs nx qh qt ql pe nn np nh nt nl os oc ss ⟨hZ, hW, hQ, hN, hB⟩
  have hp6 : p < 6 := Nat.lt_of_lt_of_le hp hZ.2.1
  have ip : vp_in (nI p) 6 := ak_in hp6 (by omega)
  have ep : (nI p).toNatClampNeg = p := ak_cl (by omega)
  have is : vp_in (nI s) 4 := ak_in hs (by omega)
  have es : (nI s).toNatClampNeg = s := ak_cl (by omega)
  have ik : vp_in (nI s * 6 + 1) 24 := by rw [show (1 : Int32) = nI 1 from rfl, ak_m6]; exact ak_in (by omega) (by omega)
  have ek : (nI s * 6 + 1).toNatClampNeg = s * 6 + 1 := by rw [show (1 : Int32) = nI 1 from rfl, ak_m6]; exact ak_cl (by omega)
  refine nm_e (nm_e (And.intro ip (nm_r (e' := upd (c 3) p (nI s)) (by rw [ep]) (And.intro ip (nm_r (e' := upd (c 2) p 1) (by rw [ep]) (And.intro ik (And.intro ik (nm_r (e' := upd ss (s * 6 + 1) (ss (s * 6 + 1) ||| ((1 : Int32) <<< (nI p &&& 31)))) (by rw [ek]) (And.intro is (And.intro is (nm_r (e' := upd os s (os s ||| ((1 : Int32) <<< (nI p &&& 31)))) (by rw [es]) (And.intro is (And.intro is (nm_r (e' := upd oc s (oc s + 1)) (by rw [es]) ?_))))))))))))))
  rw [Int32.zero_add]
  refine ax_app (c := (ak_sa (ak_sa c 3 (upd (c 3) p (nI s))) 2 (upd (c 2) p 1))) (ak_mkX (c := (ak_sa (ak_sa c 3 (upd (c 3) p (nI s))) 2 (upd (c 2) p 1))) ⟨hZ, hW, hQ, hN, ak_BX_give hZ.2.1 hB hp hs ho⟩) hs (by omega) (by omega) hc ?_
  intro fs nx qh qt ql pe nn np nh nt nl os oc ss R
  exact K _ _ _ _ _ _ _ _ _ _ _ _ _ _ R
end
end
section
/-! Y: append, remove -/
theorem ak_FA_app {F : List (Nat × Nat)} {fa fb fi : Nat → Int32} (h : ak_FA F fa fb fi) (k i : Nat) : ak_FA (F ++ [(k, i)]) (upd fa F.length (nI (ak_sp k))) (upd fb F.length (nI (ak_ls k))) (upd fi F.length (nI i)) := by
  intro j e he
  by_cases z : j < F.length
  · rw [List.getElem?_append_left z] at he
    rw [pk_un (by omega), pk_un (by omega), pk_un (by omega)]
    exact h j e he
  · have zl : j < (F ++ [(k, i)]).length := (List.getElem?_eq_some_iff.mp he).1
    rw [List.length_append, List.length_singleton] at zl
    have ej : j = F.length := by omega
    subst ej
    rw [List.getElem?_append_right (Nat.le_refl _), Nat.sub_self] at he
    have : e = (k, i) := by simpa using he.symm
    subst this
    exact ⟨pk_us, pk_us, pk_us⟩
theorem ak_sp_lt {k : Nat} (h : k < 24) : ak_sp k < 4 := by unfold ak_sp; split <;> omega
theorem ak_ls_lt (k : Nat) : ak_ls k < 4 := by unfold ak_ls; split <;> (try split) <;> omega
section
variable {P S T : Nat} {c : Nat → Nat → Int32} {F : List (Nat × Nat)} {v : SY}
theorem ay_app {post : SY → Prop} {k i a b : Nat} (R : ak_RY P S T c F v) (hk : ak_ok (k, i)) (hc : ∀ f ∈ F, ak_cd f ≠ ak_cd (k, i)) (ha : ak_sp k = a) (hb : ak_ls k = b) (K : ak_KY P S T c (F ++ [(k, i)]) post) : wpY_append post v (nI a) (nI b) (nI i) := by
  refine ak_elY (M := fun v => wpY_append post v (nI a) (nI b) (nI i)) R ?_
  intro fa fb fi ⟨hZ, hW, hA⟩
  subst ha hb
  have hl := ak_W_len hW
  have il : vp_in (nI F.length) 64 := ak_in hl (by omega)
  have el : (nI F.length).toNatClampNeg = F.length := ak_cl (by omega)
  refine br_t (nI_lt (b := 64) hl (by omega)) (And.intro il (nm_r (e' := upd fa F.length (nI (ak_sp k))) (by rw [el]) (And.intro il (nm_r (e' := upd fb F.length (nI (ak_ls k))) (by rw [el]) (And.intro il (nm_r (e' := upd fi F.length (nI i)) (by rw [el]) (nm_r (e' := nI (F ++ [(k, i)]).length) (by rw [nI_1, List.length_append, List.length_singleton]) ?_)))))))
  exact K _ _ _ ⟨hZ, ak_W_app hW hk hc, ak_FA_app hA k i⟩
end
/-- positions below A' hold A', those from |A| on hold B -/
def ak_FC (A' A B : List (Nat × Nat)) (fa fb fi : Nat → Int32) : Prop :=
  ak_FA A' fa fb fi ∧ ∀ j e, B[j]? = some e → fa (A.length + j) = nI (ak_sp e.1) ∧ fb (A.length + j) = nI (ak_ls e.1) ∧ fi (A.length + j) = nI e.2
theorem ak_FC_cp {A' A B : List (Nat × Nat)} {e : Nat × Nat} {fa fb fi : Nat → Int32} (h : ak_FC A' A (e :: B) fa fb fi) (hl : A'.length ≤ A.length) : ak_FC (A' ++ [e]) (A ++ [e]) B (upd fa A'.length (fa A.length)) (upd fb A'.length (fb A.length)) (upd fi A'.length (fi A.length)) := by
  have h0 := h.2 0 e rfl
  rw [Nat.add_zero] at h0
  refine ⟨?_, fun j f hf => ?_⟩
  · rw [h0.1, h0.2.1, h0.2.2]
    exact ak_FA_app h.1 e.1 e.2
  · rw [List.length_append, List.length_singleton, pk_un (by omega), pk_un (by omega), pk_un (by omega), show A.length + 1 + j = A.length + (j + 1) from by omega]
    exact h.2 (j + 1) f hf
theorem ak_FC_sk {A' A B : List (Nat × Nat)} {e : Nat × Nat} {fa fb fi : Nat → Int32} (h : ak_FC A' A (e :: B) fa fb fi) : ak_FC A' (A ++ [e]) B fa fb fi := by
  refine ⟨h.1, fun j f hf => ?_⟩
  rw [List.length_append, List.length_singleton, show A.length + 1 + j = A.length + (j + 1) from by omega]
  exact h.2 (j + 1) f hf
theorem ak_ndec {a b : Nat} (ha : a < 100) (hb : b < 100) {A B : Prop} (f : a = b → A) (g : a ≠ b → B) : (nI a = nI b → A) ∧ (¬ nI a = nI b → B) :=
  ⟨fun z => f ((ak_ni ha hb).mp z), fun z => g (fun y => z ((ak_ni ha hb).mpr y))⟩
section
variable {P S T : Nat} {c : Nat → Nat → Int32} {F : List (Nat × Nat)} {v : SY}
theorem ay_rem9 {post : SY → Prop} {k i a b : Nat} (hW : ak_W F) (ha : a < 4) (hb : b < 4) (hi : i < 64) (hu : ∀ e ∈ F, ak_sp e.1 = a → ak_ls e.1 = b → e.2 = i → e = (k, i)) (hk : ak_sp k = a ∧ ak_ls k = b)
    (K : ∀ fa fb fi : Nat → Int32, ak_FA (F.erase (k, i)) fa fb fi → post (nI P, nI S, nI T, nI (F.erase (k, i)).length, c 2, c 3, c 4, c 5, c 6, c 7, c 16, c 8, c 0, c 1, c 10, c 11, c 17, c 14, c 12, c 9, c 13, fa, fb, fi)) :
    ∀ (B A : List (Nat × Nat)) (g : Int32) (fa fb fi : Nat → Int32) (n : Nat), F = A ++ B → ((g = 0 ∧ (k, i) ∉ A) ∨ (g = 1 ∧ (k, i) ∈ A)) → ak_FC (A.erase (k, i)) A B fa fb fi → B.length < n →
      wY_remove_9 post (nI a) (nI b) (nI i) (nI P) (nI S) (nI T) (nI F.length) n (nI (A.erase (k, i)).length) g (nI A.length) (c 2) (c 3) (c 4) (c 5) (c 6) (c 7) (c 16) (c 8) (c 0) (c 1) (c 10) (c 11) (c 17) (c 14) (c 12) (c 9) (c 13) fa fb fi := by
  have hl := ak_W_len hW
  intro B
  induction B with
  | nil =>
    intro A g fa fb fi n hF hg hC hn
    obtain ⟨n, rfl⟩ : ∃ m, n = m + 1 := ⟨n - 1, by omega⟩
    rw [List.append_nil] at hF
    subst hF
    exact br_t (nI_le (Nat.le_refl _) (by omega)) (K fa fb fi hC.1)
  | cons e B ih =>
    intro A g fa fb fi n hF hg hC hn
    obtain ⟨n, rfl⟩ : ∃ m, n = m + 1 := ⟨n - 1, by omega⟩
    have hlen : F.length = A.length + (B.length + 1) := by rw [hF, List.length_append, List.length_cons]
    have hF2 : F = (A ++ [e]) ++ B := by rw [hF]; simp
    have heF : e ∈ F := by rw [hF]; simp
    have heo := hW.1 e heF
    have hle : (A.erase (k, i)).length ≤ A.length := List.length_erase_le
    have ix : vp_in (nI A.length) 64 := ak_in (by omega) (by omega)
    have ex : (nI A.length).toNatClampNeg = A.length := ak_cl (by omega)
    have i4 : vp_in (nI (A.erase (k, i)).length) 64 := ak_in (by omega) (by omega)
    have e4 : (nI (A.erase (k, i)).length).toNatClampNeg = (A.erase (k, i)).length := ak_cl (by omega)
    have h0 := hC.2 0 e rfl
    rw [Nat.add_zero] at h0
    have hsp : ak_sp e.1 < 4 := ak_sp_lt (by unfold ak_ok at heo; omega)
    have hls := ak_ls_lt e.1
    have he64 : e.2 < 64 := by unfold ak_ok at heo; omega
    refine br_f (nI_ge (by omega) (by omega)) ?_
    -- the entry stays
    have stay : (A ++ [e]).erase (k, i) = A.erase (k, i) ++ [e] → ((g = 0 ∧ (k, i) ∉ A ++ [e]) ∨ (g = 1 ∧ (k, i) ∈ A ++ [e])) → wY_remove_62 post (wY_remove_9 post (nI a) (nI b) (nI i) (nI P) (nI S) (nI T) (nI F.length) n) (nI a) (nI b) (nI i) (nI (A.erase (k, i)).length) g (nI A.length) (nI P) (nI S) (nI T) (nI F.length) (c 2) (c 3) (c 4) (c 5) (c 6) (c 7) (c 16) (c 8) (c 0) (c 1) (c 10) (c 11) (c 17) (c 14) (c 12) (c 9) (c 13) fa fb fi := by
      intro h1 h2
      refine And.intro ix (And.intro i4 (nm_r (e' := upd fa (A.erase (k, i)).length (fa A.length)) (by rw [ex, e4]) (And.intro ix (And.intro i4 (nm_r (e' := upd fb (A.erase (k, i)).length (fb A.length)) (by rw [ex, e4]) (And.intro ix (And.intro i4 (nm_r (e' := upd fi (A.erase (k, i)).length (fi A.length)) (by rw [ex, e4]) (nm_r (e' := nI ((A ++ [e]).erase (k, i)).length) (by rw [nI_1, h1, List.length_append, List.length_singleton]) (nm_r (e' := nI (A ++ [e]).length) (by rw [nI_1, List.length_append, List.length_singleton]) ?_))))))))))
      refine ih (A ++ [e]) g _ _ _ n hF2 h2 ?_ (by rw [List.length_cons] at hn; omega)
      rw [h1]
      exact ak_FC_cp hC hle
    rcases hg with ⟨hg, hnA⟩ | ⟨hg, hiA⟩
    · subst hg
      have stay' : e ≠ (k, i) → wY_remove_62 post (wY_remove_9 post (nI a) (nI b) (nI i) (nI P) (nI S) (nI T) (nI F.length) n) (nI a) (nI b) (nI i) (nI (A.erase (k, i)).length) 0 (nI A.length) (nI P) (nI S) (nI T) (nI F.length) (c 2) (c 3) (c 4) (c 5) (c 6) (c 7) (c 16) (c 8) (c 0) (c 1) (c 10) (c 11) (c 17) (c 14) (c 12) (c 9) (c 13) fa fb fi := by
        intro hne
        have hn2 : (k, i) ∉ A ++ [e] := by
          intro y
          rcases List.mem_append.mp y with y | y
          · exact hnA y
          · exact hne (List.mem_singleton.mp y).symm
        exact stay (by rw [List.erase_of_not_mem hn2, List.erase_of_not_mem hnA]) (Or.inl ⟨rfl, hn2⟩)
      refine br_t rfl (And.intro ix ?_)
      rw [ex, h0.1, h0.2.1, h0.2.2]
      refine ak_ndec (by omega) (by omega) (fun z1 => And.intro ix (ak_ndec (by omega) (by omega) (fun z2 => And.intro ix (ak_ndec (by omega) (by omega) (fun z3 => ?_) (fun z3 => stay' (fun y => z3 (by rw [y]))))) (fun z2 => stay' (fun y => z2 (by rw [y]; exact hk.2))))) (fun z1 => stay' (fun y => z1 (by rw [y]; exact hk.1)))
      have hek := hu e heF z1 z2 z3
      have her : (A ++ [e]).erase (k, i) = A.erase (k, i) := by
        rw [hek, List.erase_append_right _ hnA, List.erase_cons_head, List.append_nil, List.erase_of_not_mem hnA]
      refine nm_r (e' := nI (A ++ [e]).length) (by rw [nI_1, List.length_append, List.length_singleton]) ?_
      have := ih (A ++ [e]) 1 fa fb fi n hF2 (Or.inr ⟨rfl, by rw [hek]; simp⟩) (by rw [her]; exact ak_FC_sk hC) (by rw [List.length_cons] at hn; omega)
      rw [her] at this
      exact this
    · subst hg
      exact br_f (by decide) (stay (List.erase_append_left _ hiA) (Or.inr ⟨rfl, List.mem_append.mpr (Or.inl hiA)⟩))
theorem ay_rem {post : SY → Prop} {k i a b : Nat} (R : ak_RY P S T c F v) (ha : ak_sp k = a) (hb : ak_ls k = b) (hk : k < 24) (hi : i < 64) (hu : ∀ e ∈ F, ak_sp e.1 = a → ak_ls e.1 = b → e.2 = i → e = (k, i)) (K : ak_KY P S T c (F.erase (k, i)) post) : wpY_remove post v (nI a) (nI b) (nI i) := by
  refine ak_elY (M := fun v => wpY_remove post v (nI a) (nI b) (nI i)) R ?_
  intro fa fb fi ⟨hZ, hW, hA⟩
  refine Exists.intro (F.length + 1) ?_
  exact ay_rem9 hW (by rw [← ha]; exact ak_sp_lt hk) (by rw [← hb]; exact ak_ls_lt k) hi hu ⟨ha, hb⟩ (fun fa fb fi h => K _ _ _ ⟨hZ, ak_W_er _ hW, h⟩) F [] 0 fa fb fi (F.length + 1) rfl (Or.inl ⟨rfl, List.not_mem_nil⟩) ⟨(fun j e h => by simp at h), fun j e h => by rw [List.length_nil, Nat.zero_add]; exact hA j e h⟩ (Nat.lt_succ_self _)
end
end
section
/-! Y: lowest, owned, listed -/
section
variable {P S T : Nat} {c : Nat → Nat → Int32} {F : List (Nat × Nat)} {v : SY} {fa fb fi : Nat → Int32}
theorem ay_low2 {post : Int32 → Prop} {s k : Nat} {r : Int32} (hP : P ≤ 6) (h : ak_LW (fun p => (c 3) p = nI s ∧ (c 2) p = nI k) P r) (K : post r) : ∀ d n p, p + d = P → d < n → (∀ q, q < p → ¬ ((c 3) q = nI s ∧ (c 2) q = nI k)) → wY_lowest_2 post (nI s) (nI k) (nI P) (nI S) (nI T) (nI F.length) (c 2) (c 3) (c 4) (c 5) (c 6) (c 7) (c 16) (c 8) (c 0) (c 1) (c 10) (c 11) (c 17) (c 14) (c 12) (c 9) (c 13) fa fb fi n (nI p) := by
  intro d
  induction d with
  | zero =>
    intro n p hp hn hq
    obtain ⟨n, rfl⟩ : ∃ m, n = m + 1 := ⟨n - 1, by omega⟩
    have e : p = P := by omega
    subst e
    have hr : r = -1 := by
      rcases h with h | ⟨q, h1, h2, h3, h4⟩
      · exact h.1
      · exact absurd h3 (hq q h1)
    rw [hr] at K
    exact br_t (nI_le (Nat.le_refl _) (by omega)) K
  | succ d ih =>
    intro n p hp hn hq
    obtain ⟨n, rfl⟩ : ∃ m, n = m + 1 := ⟨n - 1, by omega⟩
    have h6 : ¬ nI P ≤ nI p := nI_ge (by omega) (by omega)
    have ip : vp_in (nI p) 6 := ak_in (by omega) (by omega)
    have ep : (nI p).toNatClampNeg = p := ak_cl (by omega)
    have next : ¬ ((c 3) p = nI s ∧ (c 2) p = nI k) → wY_lowest_2 post (nI s) (nI k) (nI P) (nI S) (nI T) (nI F.length) (c 2) (c 3) (c 4) (c 5) (c 6) (c 7) (c 16) (c 8) (c 0) (c 1) (c 10) (c 11) (c 17) (c 14) (c 12) (c 9) (c 13) fa fb fi n (nI (p + 1)) := fun hne => ih n (p + 1) (by omega) (by omega) (fun q hq' => by
      by_cases z : q = p
      · rw [z]; exact hne
      · exact hq q (by omega))
    refine br_f h6 (And.intro ip ?_)
    rw [ep]
    refine br_c (fun e1 => And.intro ip (br_c (fun e2 => ?_) (fun e2 => nm_r (nI_1 p) (next (fun y => e2 y.2))))) (fun e1 => nm_r (nI_1 p) (next (fun y => e1 y.1)))
    have hr : r = nI p := by
      rcases h with h | ⟨q, h1, h2, h3, h4⟩
      · exact absurd ⟨e1, e2⟩ (h.2 p (by omega))
      · rcases Nat.lt_trichotomy q p with z | z | z
        · exact absurd h3 (hq q z)
        · rw [h2, z]
        · exact absurd ⟨e1, e2⟩ (h4 p z)
    rw [hr] at K
    exact K
theorem ay_low {post : Int32 → Prop} {s k : Nat} {r : Int32} (R : ak_RY P S T c F v) (h : ak_LW (fun p => (c 3) p = nI s ∧ (c 2) p = nI k) P r) (K : post r) : wpY_lowest post v (nI s) (nI k) := by
  refine ak_elY (M := fun v => wpY_lowest post v (nI s) (nI k)) R ?_
  intro fa fb fi R
  exact Exists.intro (P + 1) (ay_low2 R.1.2.1 h K P (P + 1) 0 (Nat.zero_add P) (by omega) (fun q hq => absurd hq (Nat.not_lt_zero q)))
theorem ay_own4 {post : Int32 → Prop} {s : Nat} (hP : P ≤ 6) (K : post (nI (ak_cn (c 3) (nI s) P))) : ∀ d n p, p + d = P → d < n → wY_owned_4 post (nI s) (nI P) (nI S) (nI T) (nI F.length) (c 2) (c 3) (c 4) (c 5) (c 6) (c 7) (c 16) (c 8) (c 0) (c 1) (c 10) (c 11) (c 17) (c 14) (c 12) (c 9) (c 13) fa fb fi n (nI (ak_cn (c 3) (nI s) p)) (nI p) := by
  intro d
  induction d with
  | zero =>
    intro n p hp hn
    obtain ⟨n, rfl⟩ : ∃ m, n = m + 1 := ⟨n - 1, by omega⟩
    have e : p = P := by omega
    subst e
    exact br_t (nI_le (Nat.le_refl _) (by omega)) K
  | succ d ih =>
    intro n p hp hn
    obtain ⟨n, rfl⟩ : ∃ m, n = m + 1 := ⟨n - 1, by omega⟩
    have h6 : ¬ nI P ≤ nI p := nI_ge (by omega) (by omega)
    have ip : vp_in (nI p) 6 := ak_in (by omega) (by omega)
    have ep : (nI p).toNatClampNeg = p := ak_cl (by omega)
    have hi := ih n (p + 1) (by omega) (by omega)
    simp only [ak_cn] at hi
    refine br_f h6 (And.intro ip ?_)
    rw [ep]
    refine br_c (fun e1 => ?_) (fun e1 => ?_)
    · rw [if_pos e1] at hi
      exact nm_r (nI_1 _) (nm_r (nI_1 p) hi)
    · rw [if_neg e1] at hi
      exact nm_r (nI_1 p) hi
theorem ay_own {post : Int32 → Prop} {s : Nat} (R : ak_RY P S T c F v) (K : post (nI (ak_cn (c 3) (nI s) P))) : wpY_owned post v (nI s) := by
  refine ak_elY (M := fun v => wpY_owned post v (nI s)) R ?_
  intro fa fb fi R
  exact Exists.intro (P + 1) (ay_own4 R.1.2.1 K P (P + 1) 0 (Nat.zero_add P) (by omega))
/-! listed -/
theorem ay_l94 {post : Int32 → Prop} {J33 J41 : Int32 → Int32 → Prop} {s l k x key : Nat} {e : Nat × Nat} {x5 z0 : Int32} {i : Nat} (hi : i < 64) (hs : s < 4) (hl : l < 4) (he : e.1 < 24) (h0 : fa i = nI (ak_sp e.1) ∧ fb i = nI (ak_ls e.1) ∧ fi i = nI e.2)
    (hz : (z0 = 0 ∧ e.1 ≠ key) ∨ (z0 = 1 ∧ (ak_sp e.1 = s ∧ ak_ls e.1 = l ↔ e.1 = key))) (hx : x < 2 ^ 31) (hk : k < 2 ^ 31)
    (K1 : e.1 = key → x = k → post (nI e.2)) (K2 : e.1 = key → x ≠ k → J41 (nI (x + 1)) (nI (i + 1))) (K3 : e.1 ≠ key → J41 (nI x) (nI (i + 1))) :
    wY_listed_94 post J33 J41 (nI s) (nI l) (nI k) (nI x) x5 (nI i) z0 (nI P) (nI S) (nI T) (nI F.length) (c 2) (c 3) (c 4) (c 5) (c 6) (c 7) (c 16) (c 8) (c 0) (c 1) (c 10) (c 11) (c 17) (c 14) (c 12) (c 9) (c 13) fa fb fi := by
  have ix : vp_in (nI i) 64 := ak_in hi (by omega)
  have ex : (nI i).toNatClampNeg = i := ak_cl (by omega)
  have hsp : ak_sp e.1 < 4 := ak_sp_lt he
  have hls := ak_ls_lt e.1
  rcases hz with ⟨rfl, hz⟩ | ⟨rfl, hz⟩
  · exact br_t rfl (nm_r (nI_1 i) (K3 hz))
  · refine br_f (by decide) (And.intro ix ?_)
    rw [ex, h0.1, h0.2.1, h0.2.2]
    refine ak_ndec (by omega) (by omega) (fun z1 => And.intro ix (ak_ndec (by omega) (by omega) (fun z2 => ?_) (fun z2 => nm_r (nI_1 i) (K3 (fun y => z2 (hz.mpr y).2))))) (fun z1 => nm_r (nI_1 i) (K3 (fun y => z1 (hz.mpr y).1)))
    have hkey := hz.mp ⟨z1, z2⟩
    by_cases hxk : x = k
    · exact br_t (by rw [hxk]) (And.intro ix (K1 hkey hxk))
    · exact br_f (fun y => hxk ((nI_eq hx hk).mp y)) (nm_r (nI_1 x) (nm_r (nI_1 i) (K2 hkey hxk)))
/-- what one pass through the facts counts: those under 'key' -/
def ak_pass (lev : Nat → Int32) (s l key : Nat) (x5 : Int32) (e : Nat × Nat) : Prop :=
  (l = 2 → (lev (e.2 % 16) = x5 ∧ (ak_sp e.1 = s ∧ ak_ls e.1 = l ↔ e.1 = key)) ∨ (lev (e.2 % 16) ≠ x5 ∧ e.1 ≠ key)) ∧
  (l ≠ 2 → (x5 = 2 ∧ (ak_sp e.1 = s ∧ ak_ls e.1 = l ↔ e.1 = key)) ∨ (x5 ≠ 2 ∧ e.1 ≠ key))
theorem ay_l41 {post : Int32 → Prop} {J33 : Int32 → Int32 → Prop} {s l k key : Nat} {x5 : Int32} (hW : ak_W F) (hA : ak_FA F fa fb fi) (hs : s < 4) (hl : l < 4) (hk : k < 2 ^ 31) (hp : ∀ e ∈ F, ak_pass (c 7) s l key x5 e) :
    ∀ (B A : List (Nat × Nat)) (n x : Nat), F = A ++ B → x ≤ k → B.length < n →
      (k < x + (ak_it B key).length → post (ak_hd ((ak_it B key).drop (k - x)) (-1))) → (x + (ak_it B key).length ≤ k → J33 (nI (x + (ak_it B key).length)) (x5 + (-1))) →
      wY_listed_41 post J33 (nI s) (nI l) (nI k) x5 (nI P) (nI S) (nI T) (nI F.length) (c 2) (c 3) (c 4) (c 5) (c 6) (c 7) (c 16) (c 8) (c 0) (c 1) (c 10) (c 11) (c 17) (c 14) (c 12) (c 9) (c 13) fa fb fi n (nI x) (nI A.length) := by
  have hlen := ak_W_len hW
  intro B
  induction B with
  | nil =>
    intro A n x hF hx hn K1 K2
    obtain ⟨n, rfl⟩ : ∃ m, n = m + 1 := ⟨n - 1, by omega⟩
    rw [List.append_nil] at hF
    subst hF
    exact br_t (nI_le (Nat.le_refl _) (by omega)) (nm_e (K2 hx))
  | cons e B ih =>
    intro A n x hF hx hn K1 K2
    obtain ⟨n, rfl⟩ : ∃ m, n = m + 1 := ⟨n - 1, by omega⟩
    have hlF : F.length = A.length + (B.length + 1) := by rw [hF, List.length_append, List.length_cons]
    have hF2 : F = (A ++ [e]) ++ B := by rw [hF]; simp
    have heF : e ∈ F := by rw [hF]; simp
    have heo := hW.1 e heF
    have hl2 : (A ++ [e]).length = A.length + 1 := by rw [List.length_append, List.length_singleton]
    have h0 : fa A.length = nI (ak_sp e.1) ∧ fb A.length = nI (ak_ls e.1) ∧ fi A.length = nI e.2 := hA A.length e (by rw [hF]; simp)
    have he : e.1 < 24 := by unfold ak_ok at heo; omega
    have he2 : e.2 < 64 := by unfold ak_ok at heo; omega
    have ix : vp_in (nI A.length) 64 := ak_in (by omega) (by omega)
    have ex : (nI A.length).toNatClampNeg = A.length := ak_cl (by omega)
    have hpe := hp e heF
    obtain ⟨ek, ei⟩ := e
    rw [ak_it_cons] at K1 K2
    have fin : ∀ z0 : Int32, ((z0 = 0 ∧ ek ≠ key) ∨ (z0 = 1 ∧ (ak_sp ek = s ∧ ak_ls ek = l ↔ ek = key))) → wY_listed_94 post J33 (wY_listed_41 post J33 (nI s) (nI l) (nI k) x5 (nI P) (nI S) (nI T) (nI F.length) (c 2) (c 3) (c 4) (c 5) (c 6) (c 7) (c 16) (c 8) (c 0) (c 1) (c 10) (c 11) (c 17) (c 14) (c 12) (c 9) (c 13) fa fb fi n) (nI s) (nI l) (nI k) (nI x) x5 (nI A.length) z0 (nI P) (nI S) (nI T) (nI F.length) (c 2) (c 3) (c 4) (c 5) (c 6) (c 7) (c 16) (c 8) (c 0) (c 1) (c 10) (c 11) (c 17) (c 14) (c 12) (c 9) (c 13) fa fb fi := by
      intro z0 hz
      refine ay_l94 (e := (ek, ei)) (key := key) (by omega) hs hl he h0 hz (by omega) hk (fun hkey hxk => ?_) (fun hkey hxk => ?_) (fun hkey => ?_)
      · rw [if_pos hkey] at K1
        have := K1 (by rw [List.length_cons]; omega)
        rw [hxk, Nat.sub_self] at this
        exact this
      · rw [if_pos hkey] at K1 K2
        have := ih (A ++ [(ek, ei)]) n (x + 1) hF2 (by omega) (by rw [List.length_cons] at hn; omega) (fun h => by
          have := K1 (by rw [List.length_cons]; omega)
          rw [show k - x = (k - (x + 1)) + 1 from by omega, List.drop_succ_cons] at this
          exact this) (fun h => by
          have := K2 (by rw [List.length_cons]; omega)
          rw [List.length_cons, show x + ((ak_it B key).length + 1) = x + 1 + (ak_it B key).length from by omega] at this
          exact this)
        rw [hl2] at this
        exact this
      · rw [if_neg hkey] at K1 K2
        have := ih (A ++ [(ek, ei)]) n x hF2 hx (by rw [List.length_cons] at hn; omega) K1 K2
        rw [hl2] at this
        exact this
    refine br_f (nI_ge (by omega) (by omega)) ?_
    by_cases z : l = 2
    · refine br_t (by rw [z]; rfl) (And.intro ix ?_)
      have e15 : nI ei &&& 15 = nI (ei % 16) := pk_andN (by omega) 4 (by decide)
      rw [ex, h0.2.2, e15]
      refine And.intro (ak_in (by omega) (by omega)) ?_
      rw [ak_cl (show ei % 16 < 100 by omega)]
      rcases hpe.1 z with ⟨h1, h2⟩ | ⟨h1, h2⟩
      · exact br_t h1 (fin 1 (Or.inr ⟨rfl, h2⟩))
      · exact br_f h1 (fin 0 (Or.inl ⟨rfl, h2⟩))
    · refine br_f (fun y => z ((ak_ni (b := 2) (by omega) (by omega)).mp y)) ?_
      rcases hpe.2 z with ⟨h1, h2⟩ | ⟨h1, h2⟩
      · exact br_t h1 (fin 1 (Or.inr ⟨rfl, h2⟩))
      · exact br_f h1 (fin 0 (Or.inl ⟨rfl, h2⟩))
/-- the list number l of space s -/
def ak_li (F : List (Nat × Nat)) (s l : Nat) : List Nat :=
  if l = 2 then ak_it F (s * 5 + 2) ++ (ak_it F (s * 5 + 1) ++ ak_it F (s * 5)) else if l = 3 then ak_it F (20 + s) else ak_it F (s * 5 + 3 + l)
/-- each ready thread lies under its level -/
def ak_LV (lev : Nat → Int32) (F : List (Nat × Nat)) : Prop := ∀ e ∈ F, e.1 < 20 → e.1 % 5 < 3 → lev e.2 = nI (e.1 % 5)
theorem ak_it_99 {F : List (Nat × Nat)} (h : ak_W F) : ak_it F 99 = [] := by
  rcases hl : ak_it F 99 with _ | ⟨a, r⟩
  · rfl
  · have := h.1 _ (ak_it_mem.mp (show a ∈ ak_it F 99 by rw [hl]; exact List.mem_cons_self ..))
    unfold ak_ok at this
    dsimp only at this
    omega
theorem ak_pass2 {lev : Nat → Int32} (hW : ak_W F) (hL : ak_LV lev F) {s j : Nat} (hs : s < 4) (hj : j < 3) : ∀ e ∈ F, ak_pass lev s 2 (s * 5 + j) (nI j) e := by
  intro e he
  refine ⟨fun _ => ?_, fun h => absurd rfl h⟩
  have ho := hW.1 e he
  have hl := hL e he
  unfold ak_ok at ho
  by_cases z : lev (e.2 % 16) = nI j
  · refine Or.inl ⟨z, ?_, fun h => ?_⟩
    · rintro ⟨h1, h2⟩
      unfold ak_ls at h2
      unfold ak_sp at h1
      by_cases h20 : e.1 < 20
      · rw [if_pos h20] at h1 h2
        by_cases h3 : e.1 % 5 < 3
        · have := hl h20 h3
          rw [Nat.mod_eq_of_lt (by omega), this, ak_ni (by omega) (by omega)] at z
          omega
        · rw [if_neg h3] at h2
          omega
      · rw [if_neg h20] at h2
        omega
    · unfold ak_ls ak_sp
      rw [if_pos (by omega), if_pos (by omega), if_pos (by omega)]
      exact ⟨by omega, rfl⟩
  · refine Or.inr ⟨z, fun h => z ?_⟩
    have h20 : e.1 < 20 := by omega
    have := hl h20 (by omega)
    rw [Nat.mod_eq_of_lt (by omega), this, show e.1 % 5 = j from by omega]
theorem ak_passN {lev : Nat → Int32} (hW : ak_W F) {s l : Nat} (hs : s < 4) (hl : l < 4) (hl2 : l ≠ 2) : ∀ e ∈ F, ak_pass lev s l (if l = 3 then 20 + s else s * 5 + 3 + l) 2 e := by
  intro e he
  refine ⟨fun h => absurd h hl2, fun _ => Or.inl ⟨rfl, ?_⟩⟩
  have ho := hW.1 e he
  unfold ak_ok at ho
  unfold ak_ls ak_sp
  by_cases h20 : e.1 < 20
  · rw [if_pos h20, if_pos h20]
    by_cases h3 : e.1 % 5 < 3
    · rw [if_pos h3]
      constructor
      · intro h; omega
      · intro h; split at h <;> omega
    · rw [if_neg h3]
      constructor
      · intro h; split <;> omega
      · intro h; split at h <;> omega
  · rw [if_neg h20, if_neg h20]
    constructor
    · intro h; split <;> omega
    · intro h; split at h <;> omega
theorem ak_pass0 {lev : Nat → Int32} (hW : ak_W F) {s l : Nat} {x5 : Int32} (hl2 : l ≠ 2) (hx : x5 ≠ 2) : ∀ e ∈ F, ak_pass lev s l 99 x5 e := by
  intro e he
  refine ⟨fun h => absurd h hl2, fun _ => Or.inr ⟨hx, ?_⟩⟩
  have ho := hW.1 e he
  unfold ak_ok at ho
  omega
/-- three passes -/
theorem ay_l33 {post : Int32 → Prop} {s l k k2 k1 k0 : Nat} (hW : ak_W F) (hA : ak_FA F fa fb fi) (hs : s < 4) (hl : l < 4) (hk : k < 2 ^ 31)
    (h2 : ∀ e ∈ F, ak_pass (c 7) s l k2 2 e) (h1 : ∀ e ∈ F, ak_pass (c 7) s l k1 1 e) (h0 : ∀ e ∈ F, ak_pass (c 7) s l k0 0 e)
    (K : post (ak_hd ((ak_it F k2 ++ (ak_it F k1 ++ ak_it F k0)).drop k) (-1))) : ∃ n, wY_listed_33 post (nI s) (nI l) (nI k) (nI P) (nI S) (nI T) (nI F.length) (c 2) (c 3) (c 4) (c 5) (c 6) (c 7) (c 16) (c 8) (c 0) (c 1) (c 10) (c 11) (c 17) (c 14) (c 12) (c 9) (c 13) fa fb fi n 0 2 := by
  have hlen := ak_W_len hW
  have dr : ∀ (L M : List Nat) (j : Nat), j < L.length → ak_hd ((L ++ M).drop j) (-1) = ak_hd (L.drop j) (-1) := by
    intro L M j hj
    rw [List.drop_append_of_le_length (by omega), ak_hd_app]
    exact ak_hd_ne (fun y => by rw [List.drop_eq_nil_iff] at y; omega) _
  have dr2 : ∀ (L M : List Nat) (j : Nat), L.length ≤ j → (L ++ M).drop j = M.drop (j - L.length) := by
    intro L M j hj
    rw [List.drop_append, List.drop_eq_nil_of_le hj, List.nil_append]
  refine Exists.intro 4 (br_f (by decide) (Exists.intro (F.length + 1) (ay_l41 (x5 := 2) hW hA hs hl hk h2 F [] (F.length + 1) 0 rfl (by omega) (by omega) (fun h => ?_) (fun h => ?_))))
  · rw [Nat.zero_add] at h
    rw [dr _ _ _ h] at K
    exact K
  · rw [Nat.zero_add] at h ⊢
    rw [dr2 _ _ _ h] at K
    rw [show (2 : Int32) + (-1) = 1 from by decide]
    refine br_f (by decide) (Exists.intro (F.length + 1) (ay_l41 (x5 := 1) hW hA hs hl hk h1 F [] (F.length + 1) (ak_it F k2).length rfl h (by omega) (fun g => ?_) (fun g => ?_)))
    · rw [dr _ _ _ (by omega)] at K
      exact K
    · rw [dr2 _ _ _ (by omega)] at K
      rw [show (1 : Int32) + (-1) = 0 from by decide]
      refine br_f (by decide) (Exists.intro (F.length + 1) (ay_l41 (x5 := 0) hW hA hs hl hk h0 F [] (F.length + 1) ((ak_it F k2).length + (ak_it F k1).length) rfl g (by omega) (fun f => ?_) (fun f => ?_)))
      · rw [Nat.sub_add_eq]
        exact K
      · rw [List.drop_eq_nil_of_le (by omega)] at K
        exact br_t (by decide) K
theorem ay_lis {post : Int32 → Prop} {s l k : Nat} (R : ak_RY P S T c F v) (hL : ak_LV (c 7) F) (hs : s < S) (hl : l < 4) (hk : k < 2 ^ 31) (K : post (ak_hd ((ak_li F s l).drop k) (-1))) : wpY_listed post v (nI s) (nI l) (nI k) := by
  refine ak_elY (M := fun v => wpY_listed post v (nI s) (nI l) (nI k)) R ?_
  intro fa fb fi ⟨hZ, hW, hA⟩
  have hs4 : s < 4 := Nat.lt_of_lt_of_le hs hZ.2.2.2.1
  have hS4 : S ≤ 4 := hZ.2.2.2.1
  refine br_f (nI_pos (by omega)) (br_f (nI_ge hs (by omega)) (br_f (nI_pos (by omega)) (br_f (nI_nlt (a := 3) (by omega) (by omega)) (br_t (nI_pos' hk) ?_))))
  unfold ak_li at K
  by_cases z : l = 2
  · rw [if_pos z] at K
    subst z
    exact ay_l33 hW hA hs4 (by omega) hk (ak_pass2 hW hL hs4 (j := 2) (by omega)) (ak_pass2 hW hL hs4 (j := 1) (by omega)) (ak_pass2 hW hL hs4 (j := 0) (by omega)) K
  · rw [if_neg z] at K
    refine ay_l33 hW hA hs4 hl hk (ak_passN hW hs4 hl z) (ak_pass0 hW z (by decide)) (ak_pass0 hW z (by decide)) ?_
    rw [ak_it_99 hW, List.append_nil, List.append_nil]
    by_cases y : l = 3
    · rw [if_pos y] at K ⊢; exact K
    · rw [if_neg y] at K ⊢; exact K
end
end
section
/-! Y's small methods -/
theorem ak_sp5 {s l : Nat} (hs : s < 4) (hl : l < 5) : ak_sp (s * 5 + l) = s := by unfold ak_sp; rw [if_pos (by omega)]; omega
theorem ak_ls5 {s l : Nat} (hs : s < 4) (hl : l < 3) : ak_ls (s * 5 + l) = 2 := by unfold ak_ls; rw [if_pos (by omega), if_pos (by omega)]
theorem ak_lsw {s l : Nat} (hs : s < 4) (hl : l < 2) : ak_ls (s * 5 + 3 + l) = l := by unfold ak_ls; rw [if_pos (by omega), if_neg (by omega)]; omega
theorem ak_sp20 (s : Nat) : ak_sp (20 + s) = s := by unfold ak_sp; rw [if_neg (by omega)]; omega
theorem ak_ls20 (s : Nat) : ak_ls (20 + s) = 3 := by unfold ak_ls; rw [if_neg (by omega)]
theorem ak_cd5 {q t : Nat} (hq : q < 20) : ak_cd (q, t) = t + 16 := by unfold ak_cd; rw [if_pos hq]
theorem ak_cd20 (s n : Nat) : ak_cd (20 + s, n) = n := by unfold ak_cd; rw [if_neg (by simp)]
section
variable {P S T : Nat} {c : Nat → Nat → Int32} {F : List (Nat × Nat)} {v : SY}
theorem ay_rdy {post : SY → Prop} {t s l : Nat} (R : ak_RY P S T c F v) (ht : t < 16) (hh : (c 6) t = nI s) (hs : s < 4) (hl3 : l < 3) (hc : ∀ f ∈ F, ak_cd f ≠ t + 16) (K : ak_KY P S T (ak_sa c 5 (upd (c 5) t 2)) (F ++ [(s * 5 + l, t)]) post) : wpY_makeReady post v (nI t) := by
  refine ak_elY (M := fun v => wpY_makeReady post v (nI t)) R ?_
  intro fa fb fi R
  have it : vp_in (nI t) 16 := ak_in ht (by omega)
  have et : (nI t).toNatClampNeg = t := ak_cl (by omega)
  refine And.intro it (nm_r (e' := upd (c 5) t 2) (by rw [et]) (And.intro it ?_))
  rw [et, hh]
  refine ay_app (k := s * 5 + l) (b := 2) (c := (ak_sa c 5 (upd (c 5) t 2))) (ak_mkY (c := (ak_sa c 5 (upd (c 5) t 2))) R) (Or.inl ⟨by omega, ht⟩) (by rw [ak_cd5 (by omega)]; exact hc) (ak_sp5 hs (by omega)) (ak_ls5 hs hl3) ?_
  intro fa fb fi R
  exact K _ _ _ R
theorem ay_gup {post : SY → Prop} {p k j : Nat} (R : ak_RY P S T c F v) (hp : p < P) (hk : (c 2) p = nI k) (hkj : (k = 4 ∧ j = 2) ∨ (k = 5 ∧ j = 3)) (K : ak_KY P S T (ak_sa (ak_sa c 4 (upd (c 4) p (-1))) 2 (upd (c 2) p (nI j))) F post) : wpY_giveUp post v (nI p) := by
  refine ak_elY (M := fun v => wpY_giveUp post v (nI p)) R ?_
  intro fa fb fi R
  have hp6 : p < 6 := Nat.lt_of_lt_of_le hp R.1.2.1
  have ip : vp_in (nI p) 6 := ak_in hp6 (by omega)
  have ep : (nI p).toNatClampNeg = p := ak_cl (by omega)
  refine And.intro ip (nm_r (e' := upd (c 4) p (-1)) (by rw [ep]) (And.intro ip ?_))
  rw [ep, hk]
  rcases hkj with ⟨rfl, rfl⟩ | ⟨rfl, rfl⟩
  · exact br_f (by decide) (And.intro ip (nm_e (K _ _ _ R)))
  · exact br_t rfl (And.intro ip (nm_e (K _ _ _ R)))
theorem ay_pre0 {post : SY → Prop} {p : Nat} (R : ak_RY P S T c F v) (hp : p < P) (ht : (c 4) p = -1) (K : ak_KY P S T c F post) : wpY_preempt post v (nI p) := by
  refine ak_elY (M := fun v => wpY_preempt post v (nI p)) R ?_
  intro fa fb fi R
  have hp6 : p < 6 := Nat.lt_of_lt_of_le hp R.1.2.1
  have ip : vp_in (nI p) 6 := ak_in hp6 (by omega)
  have ep : (nI p).toNatClampNeg = p := ak_cl (by omega)
  exact And.intro ip (nm_r (e' := -1) (by rw [ep, ht]) (br_t rfl (K _ _ _ R)))
theorem ay_pre {post : SY → Prop} {p t s : Nat} (R : ak_RY P S T c F v) (hp : p < P) (ht : (c 4) p = nI t) (ht16 : t < 16) (ho : (c 3) p = nI s) (hs : s < 4) (hc : ∀ f ∈ F, ak_cd f ≠ 16 + t) (K : ak_KY P S T (ak_sa (ak_sa c 4 (upd (c 4) p (-1))) 5 (upd (c 5) t 5)) (F ++ [(20 + s, 16 + t)]) post) : wpY_preempt post v (nI p) := by
  refine ak_elY (M := fun v => wpY_preempt post v (nI p)) R ?_
  intro fa fb fi R
  have hp6 : p < 6 := Nat.lt_of_lt_of_le hp R.1.2.1
  have ip : vp_in (nI p) 6 := ak_in hp6 (by omega)
  have ep : (nI p).toNatClampNeg = p := ak_cl (by omega)
  have it : vp_in (nI t) 16 := ak_in ht16 (by omega)
  have et : (nI t).toNatClampNeg = t := ak_cl (by omega)
  refine And.intro ip (nm_r (e' := nI t) (by rw [ep, ht]) (br_f (ak_n1 (by omega)) (And.intro it (nm_r (e' := upd (c 5) t 5) (by rw [et]) (And.intro ip ?_)))))
  rw [ep, ho, show (16 : Int32) + nI t = nI (16 + t) from nI_add 16 t]
  refine ay_app (k := 20 + s) (b := 3) (c := (ak_sa c 5 (upd (c 5) t 5))) (ak_mkY (c := (ak_sa c 5 (upd (c 5) t 5))) R) (Or.inr ⟨by simp, by simp; omega, by simp; omega, by simp⟩) (by rw [ak_cd20]; exact hc) (ak_sp20 s) (ak_ls20 s) ?_
  intro fa fb fi R
  exact And.intro ip (nm_r (e' := upd (c 4) p (-1)) rfl (K _ _ _ R))
theorem ay_take {post : SY → Prop} {c1 : Nat → Nat → Int32} {F1 : List (Nat × Nat)} {p s : Nat} (R : ak_RY P S T c F v) (hp : p < P) (ho : (c 3) p = nI s) (hs : s < 4)
    (hpre : ∀ v', ak_RY P S T c (F.erase (20 + s, p)) v' → ∀ post' : SY → Prop, ak_KY P S T c1 F1 post' → wpY_preempt post' v' (nI p))
    (K : ak_KY P S T (ak_sa (ak_sa c1 3 (upd (c1 3) p (-1))) 2 (upd (c1 2) p 0)) F1 post) : wpY_take post v (nI p) := by
  refine ak_elY (M := fun v => wpY_take post v (nI p)) R ?_
  intro fa fb fi R
  have hp6 : p < 6 := Nat.lt_of_lt_of_le hp R.1.2.1
  have ip : vp_in (nI p) 6 := ak_in hp6 (by omega)
  have ep : (nI p).toNatClampNeg = p := ak_cl (by omega)
  refine And.intro ip ?_
  rw [ep, ho, Int32.zero_add]
  refine ay_rem (k := 20 + s) (b := 3) (ak_mkY R) (ak_sp20 s) (ak_ls20 s) (by omega) (by omega) (fun e he h1 h2 h3 => ?_) ?_
  · have ho := R.2.1.1 e he
    unfold ak_ok at ho
    unfold ak_sp at h1
    unfold ak_ls at h2
    obtain ⟨a, b⟩ := e
    dsimp only at *
    by_cases z : a < 20
    · rw [if_pos z] at h2
      split at h2 <;> omega
    · rw [if_neg z] at h1
      rw [h3, show a = 20 + s from by omega]
  · intro fa fb fi R
    refine hpre _ (ak_mkY R) _ ?_
    intro fa fb fi R
    exact And.intro ip (nm_e (And.intro ip (nm_e (K _ _ _ R))))
theorem ay_pas1 {post : SY → Prop} {s l : Nat} {t : Int32} (R : ak_RY P S T c F v) (hs : s < 4) (hl : l < 2) (hh : ¬ (c 13) (s * 2 + l) = t) (K : ak_KY P S T c F post) : wpY_passOn post v (nI s) (nI l) t := by
  refine ak_elY (M := fun v => wpY_passOn post v (nI s) (nI l) t) R ?_
  intro fa fb fi R
  have il : vp_in (nI s * 2 + nI l) 8 := by rw [ak_m2]; exact ak_in (by omega) (by omega)
  have el : (nI s * 2 + nI l).toNatClampNeg = s * 2 + l := by rw [ak_m2]; exact ak_cl (by omega)
  exact And.intro il (br_f (by rw [el]; exact hh) (K _ _ _ R))
theorem ak_liw {s l : Nat} (hl : l < 2) : ak_li F s l = ak_it F (s * 5 + 3 + l) := by unfold ak_li; rw [if_neg (by omega), if_neg (by omega)]
theorem ay_pas0 {post : SY → Prop} {s l : Nat} {t : Int32} (R : ak_RY P S T c F v) (hL : ak_LV (c 7) F) (hs : s < S) (hs4 : s < 4) (hl : l < 2) (hh : (c 13) (s * 2 + l) = t) (e : ak_it F (s * 5 + 3 + l) = []) (K : ak_KY P S T (ak_sa c 13 (upd (c 13) (s * 2 + l) (-1))) F post) : wpY_passOn post v (nI s) (nI l) t := by
  refine ak_elY (M := fun v => wpY_passOn post v (nI s) (nI l) t) R ?_
  intro fa fb fi R
  have il : vp_in (nI s * 2 + nI l) 8 := by rw [ak_m2]; exact ak_in (by omega) (by omega)
  have el : (nI s * 2 + nI l).toNatClampNeg = s * 2 + l := by rw [ak_m2]; exact ak_cl (by omega)
  refine And.intro il (br_t (by rw [el]; exact hh) ?_)
  refine ay_lis (k := 0) (ak_mkY R) hL hs (by omega) (by omega) ?_
  rw [ak_liw hl, e]
  exact And.intro il (nm_r (e' := upd (c 13) (s * 2 + l) (-1)) (by rw [el]; rfl) (br_t rfl (K _ _ _ R)))
theorem ay_pas {post : SY → Prop} {s l w j : Nat} {r : List Nat} {t : Int32} (R : ak_RY P S T c F v) (hL : ak_LV (c 7) F) (hs : s < S) (hs4 : s < 4) (hl : l < 2) (hh : (c 13) (s * 2 + l) = t) (e : ak_it F (s * 5 + 3 + l) = w :: r) (hw : (c 6) w = nI s) (hj3 : j < 3) (hc : ∀ f ∈ F.erase (s * 5 + 3 + l, w), ak_cd f ≠ w + 16) (K : ak_KY P S T (ak_sa (ak_sa c 13 (upd (c 13) (s * 2 + l) (nI w))) 5 (upd (c 5) w 2)) (F.erase (s * 5 + 3 + l, w) ++ [(s * 5 + j, w)]) post) : wpY_passOn post v (nI s) (nI l) t := by
  refine ak_elY (M := fun v => wpY_passOn post v (nI s) (nI l) t) R ?_
  intro fa fb fi R
  have il : vp_in (nI s * 2 + nI l) 8 := by rw [ak_m2]; exact ak_in (by omega) (by omega)
  have el : (nI s * 2 + nI l).toNatClampNeg = s * 2 + l := by rw [ak_m2]; exact ak_cl (by omega)
  have hw16 : w < 16 := ak_W_i16 R.2.1 (q := s * 5 + 3 + l) (by omega) (by rw [e]; exact List.mem_cons_self ..)
  have hwF : (s * 5 + 3 + l, w) ∈ F := ak_it_mem.mp (by rw [e]; exact List.mem_cons_self ..)
  refine And.intro il (br_t (by rw [el]; exact hh) ?_)
  refine ay_lis (k := 0) (ak_mkY R) hL hs (by omega) (by omega) ?_
  rw [ak_liw hl, e]
  refine And.intro il (nm_r (e' := upd (c 13) (s * 2 + l) (nI w)) (by rw [el]; rfl) (br_f (ak_n1 (a := w) (by omega)) ?_))
  refine ay_rem (k := s * 5 + 3 + l) (c := (ak_sa c 13 (upd (c 13) (s * 2 + l) (nI w)))) (ak_mkY (c := (ak_sa c 13 (upd (c 13) (s * 2 + l) (nI w)))) R) (by rw [Nat.add_assoc]; exact ak_sp5 hs4 (by omega)) (ak_lsw hs4 hl) (by omega) (by omega) (fun f hf h1 h2 h3 => ?_) ?_
  · refine ak_inj R.2.1.2 hf hwF ?_
    have ho := R.2.1.1 f hf
    obtain ⟨a, b⟩ := f
    unfold ak_ls at h2
    dsimp only at *
    have : a < 20 := by
      rcases Nat.lt_or_ge a 20 with z | z
      · exact z
      · rw [if_neg (by omega)] at h2; omega
    rw [ak_cd5 this, ak_cd5 (by omega), h3]
  · intro fa fb fi R
    refine ay_rdy (s := s) (l := j) (c := (ak_sa c 13 (upd (c 13) (s * 2 + l) (nI w)))) (ak_mkY (c := (ak_sa c 13 (upd (c 13) (s * 2 + l) (nI w)))) R) hw16 hw hs4 hj3 hc ?_
    intro fa fb fi R
    exact K _ _ _ R
end
end
section
/-! X's reads of its lists -/
section
variable {P S T : Nat} {c : Nat → Nat → Int32} {F : List (Nat × Nat)} {u : SX} {fs : Int32} {nx qh qt ql pe nn np nh nt nl os oc ss : Nat → Int32}
theorem ax_mem22 {post : Int32 → Prop} {k : Nat} {L : List Nat} (hL : ∀ a ∈ L, a < 16) (hk : k < L.length) (hl : L.length < 100) (hx : ak_Lk nx L (-1)) (K : post (ak_hd (L.drop k) (-1))) : ∀ d n i, i + d = k → d < n → wX_memberAt_22 post (nI k) (nI P) (nI S) (nI T) fs (c 0) (c 1) (c 2) (c 3) (c 4) (c 5) (c 6) (c 7) (c 15) (c 8) nx qh qt ql pe nn np nh nt nl (c 9) (c 10) (c 11) (c 17) (c 12) (c 13) (c 14) os oc ss n (ak_hd (L.drop i) (-1)) (nI i) := by
  intro d
  induction d with
  | zero =>
    intro n i hi hn
    obtain ⟨n, rfl⟩ : ∃ m, n = m + 1 := ⟨n - 1, by omega⟩
    have e : i = k := by omega
    subst e
    exact br_t (nI_le (Nat.le_refl _) (by omega)) K
  | succ d ih =>
    intro n i hi hn
    obtain ⟨n, rfl⟩ : ∃ m, n = m + 1 := ⟨n - 1, by omega⟩
    have hiL : i < L.length := by omega
    have ed : L.drop i = L[i] :: L.drop (i + 1) := List.drop_eq_getElem_cons hiL
    have ha : L[i] < 16 := hL _ (List.getElem_mem hiL)
    have hx2 : nx L[i] = ak_hd (L.drop (i + 1)) (-1) := by
      rw [← List.take_append_drop i L, ak_Lk_app, ed] at hx
      exact hx.2.1
    rw [ed]
    refine br_f (nI_ge (by omega) (by omega)) (br_f (ak_n1 (a := L[i]) (by omega)) (And.intro (ak_in (n := L[i]) ha (by omega)) (nm_r (e' := ak_hd (L.drop (i + 1)) (-1)) ?_ (nm_r (nI_1 i) (ih n (i + 1) (by omega) (by omega))))))
    show nx (nI L[i]).toNatClampNeg = _
    rw [ak_cl (by omega), hx2]
theorem ax_not22 {post : Int32 → Prop} {k : Nat} {L : List Nat} (hL : ∀ a ∈ L, a < 64) (hk : k < L.length) (hl : L.length < 100) (hx : ak_Lk nn L (-1)) (K : post (ak_hd (L.drop k) (-1))) : ∀ d n i, i + d = k → d < n → wX_noticeAt_22 post (nI k) (nI P) (nI S) (nI T) fs (c 0) (c 1) (c 2) (c 3) (c 4) (c 5) (c 6) (c 7) (c 15) (c 8) nx qh qt ql pe nn np nh nt nl (c 9) (c 10) (c 11) (c 17) (c 12) (c 13) (c 14) os oc ss n (ak_hd (L.drop i) (-1)) (nI i) := by
  intro d
  induction d with
  | zero =>
    intro n i hi hn
    obtain ⟨n, rfl⟩ : ∃ m, n = m + 1 := ⟨n - 1, by omega⟩
    have e : i = k := by omega
    subst e
    exact br_t (nI_le (Nat.le_refl _) (by omega)) K
  | succ d ih =>
    intro n i hi hn
    obtain ⟨n, rfl⟩ : ∃ m, n = m + 1 := ⟨n - 1, by omega⟩
    have hiL : i < L.length := by omega
    have ed : L.drop i = L[i] :: L.drop (i + 1) := List.drop_eq_getElem_cons hiL
    have ha : L[i] < 64 := hL _ (List.getElem_mem hiL)
    have hx2 : nn L[i] = ak_hd (L.drop (i + 1)) (-1) := by
      rw [← List.take_append_drop i L, ak_Lk_app, ed] at hx
      exact hx.2.1
    rw [ed]
    refine br_f (nI_ge (by omega) (by omega)) (br_f (ak_n1 (a := L[i]) (by omega)) (And.intro (ak_in (n := L[i]) ha (by omega)) (nm_r (e' := ak_hd (L.drop (i + 1)) (-1)) ?_ (nm_r (nI_1 i) (ih n (i + 1) (by omega) (by omega))))))
    show nn (nI L[i]).toNatClampNeg = _
    rw [ak_cl (by omega), hx2]
theorem ak_it_len (F : List (Nat × Nat)) (k : Nat) : (ak_it F k).length ≤ F.length := by
  unfold ak_it
  rw [List.length_map]
  exact List.length_filter_le _ _
theorem ax_mem {post : Int32 → Prop} {q k : Nat} (R : ak_PX P S T (c 2) (c 3) F fs nx qh qt ql pe nn np nh nt nl os oc ss) (hq : q < 20) (hk : k < 2 ^ 31) (K : post (ak_hd ((ak_it F q).drop k) (-1))) : wpX_memberAt post (nI P, nI S, nI T, fs, c 0, c 1, c 2, c 3, c 4, c 5, c 6, c 7, c 15, c 8, nx, qh, qt, ql, pe, nn, np, nh, nt, nl, c 9, c 10, c 11, c 17, c 12, c 13, c 14, os, oc, ss) (nI q) (nI k) := by
  obtain ⟨hZ, hW, hQ, hN, hB⟩ := R
  have iq : vp_in (nI q) 20 := ak_in hq (by omega)
  have eq : (nI q).toNatClampNeg = q := ak_cl (by omega)
  obtain ⟨h1, h2, h3, h4⟩ := hQ q hq
  have hl := ak_it_len F q
  have hlF := ak_W_len hW
  refine And.intro iq ?_
  rw [eq, h1]
  by_cases z : k < (ak_it F q).length
  · exact br_t (nI_lt z (by omega)) (And.intro iq (nm_r (e' := ak_hd ((ak_it F q).drop 0) (-1)) (by rw [h2, List.drop_zero]) (Exists.intro (k + 1) (ax_mem22 (fun a ha => ak_W_i16 hW hq ha) z (by omega) h4 K k (k + 1) 0 (Nat.zero_add k) (by omega)))))
  · rw [List.drop_eq_nil_of_le (by omega)] at K
    exact br_f (nI_nlt (by omega) hk) K
theorem ax_not {post : Int32 → Prop} {s k : Nat} (R : ak_PX P S T (c 2) (c 3) F fs nx qh qt ql pe nn np nh nt nl os oc ss) (hs : s < 4) (hk : k < 2 ^ 31) (K : post (ak_hd ((ak_it F (20 + s)).drop k) (-1))) : wpX_noticeAt post (nI P, nI S, nI T, fs, c 0, c 1, c 2, c 3, c 4, c 5, c 6, c 7, c 15, c 8, nx, qh, qt, ql, pe, nn, np, nh, nt, nl, c 9, c 10, c 11, c 17, c 12, c 13, c 14, os, oc, ss) (nI s) (nI k) := by
  obtain ⟨hZ, hW, hQ, hN, hB⟩ := R
  have iq : vp_in (nI s) 4 := ak_in hs (by omega)
  have eq : (nI s).toNatClampNeg = s := ak_cl (by omega)
  obtain ⟨h1, h2, h3, h4, h5⟩ := hN.1 s hs
  have hl := ak_it_len F (20 + s)
  have hlF := ak_W_len hW
  refine And.intro iq ?_
  rw [eq, h1]
  by_cases z : k < (ak_it F (20 + s)).length
  · exact br_t (nI_lt z (by omega)) (And.intro iq (nm_r (e' := ak_hd ((ak_it F (20 + s)).drop 0) (-1)) (by rw [h2, List.drop_zero]) (Exists.intro (k + 1) (ax_not22 (fun a ha => ak_W_i64 hW (by omega) ha) z (by omega) h4 K k (k + 1) 0 (Nat.zero_add k) (by omega)))))
  · rw [List.drop_eq_nil_of_le (by omega)] at K
    exact br_f (nI_nlt (by omega) hk) K
theorem ak_dr1 (L M : List Nat) (j : Nat) (hj : j < L.length) : ak_hd ((L ++ M).drop j) (-1) = ak_hd (L.drop j) (-1) := by
  rw [List.drop_append_of_le_length (by omega), ak_hd_app]
  exact ak_hd_ne (fun y => by rw [List.drop_eq_nil_iff] at y; omega) _
theorem ak_dr2 (L M : List Nat) (j : Nat) (hj : L.length ≤ j) : (L ++ M).drop j = M.drop (j - L.length) := by
  rw [List.drop_append, List.drop_eq_nil_of_le hj, List.nil_append]
/-- one level of readyAt -/
theorem ax_rat1 {post : Int32 → Prop} {s j k n : Nat} {x4 : Int32} (R : ak_PX P S T (c 2) (c 3) F fs nx qh qt ql pe nn np nh nt nl os oc ss) (hs : s < 4) (hj : j < 3) (hx : x4 = nI j) (hk : k < 2 ^ 31) (K1 : k < (ak_it F (s * 5 + j)).length → post (ak_hd ((ak_it F (s * 5 + j)).drop k) (-1))) (K2 : (ak_it F (s * 5 + j)).length ≤ k → wX_readyAt_5 post (nI s) (nI P) (nI S) (nI T) fs (c 0) (c 1) (c 2) (c 3) (c 4) (c 5) (c 6) (c 7) (c 15) (c 8) nx qh qt ql pe nn np nh nt nl (c 9) (c 10) (c 11) (c 17) (c 12) (c 13) (c 14) os oc ss n (nI (k - (ak_it F (s * 5 + j)).length)) (x4 + (-1))) : wX_readyAt_5 post (nI s) (nI P) (nI S) (nI T) fs (c 0) (c 1) (c 2) (c 3) (c 4) (c 5) (c 6) (c 7) (c 15) (c 8) nx qh qt ql pe nn np nh nt nl (c 9) (c 10) (c 11) (c 17) (c 12) (c 13) (c 14) os oc ss (n + 1) (nI k) x4 := by
  subst hx
  have iq : vp_in (nI (s * 5 + j)) 20 := ak_in (by omega) (by omega)
  have eq : (nI (s * 5 + j)).toNatClampNeg = s * 5 + j := ak_cl (by omega)
  have hl := ak_it_len F (s * 5 + j)
  have hlF := ak_W_len R.2.1
  obtain ⟨h1, h2, h3, h4⟩ := R.2.2.1 (s * 5 + j) (by omega)
  refine br_f (nI_pos (by omega)) (nm_r (ak_m5 s j) (And.intro iq ?_))
  rw [eq, h1]
  by_cases z : k < (ak_it F (s * 5 + j)).length
  · exact br_f (nI_ge z (by omega)) (ax_mem R (by omega) hk (K1 z))
  · exact br_t (nI_le (by omega) hk) (And.intro iq (nm_r (pk_sub (by omega)) (nm_e (K2 (by omega)))))
theorem ax_rat {post : Int32 → Prop} {s k : Nat} (R : ak_PX P S T (c 2) (c 3) F fs nx qh qt ql pe nn np nh nt nl os oc ss) (hs : s < 4) (hk : k < 2 ^ 31) (K : post (ak_hd ((ak_it F (s * 5 + 2) ++ (ak_it F (s * 5 + 1) ++ ak_it F (s * 5))).drop k) (-1))) : wpX_readyAt post (nI P, nI S, nI T, fs, c 0, c 1, c 2, c 3, c 4, c 5, c 6, c 7, c 15, c 8, nx, qh, qt, ql, pe, nn, np, nh, nt, nl, c 9, c 10, c 11, c 17, c 12, c 13, c 14, os, oc, ss) (nI s) (nI k) := by
  refine Exists.intro 4 (ax_rat1 (j := 2) R hs (by omega) rfl hk (fun z => by rw [ak_dr1 _ _ _ z] at K; exact K) (fun z => ?_))
  rw [ak_dr2 _ _ _ z] at K
  refine ax_rat1 (j := 1) R hs (by omega) (by decide) (by omega) (fun z => by rw [ak_dr1 _ _ _ z] at K; exact K) (fun z => ?_)
  rw [ak_dr2 _ _ _ z] at K
  refine ax_rat1 (j := 0) R hs (by omega) (by decide) (by omega) (fun z => K) (fun z => ?_)
  rw [Nat.add_zero] at z
  rw [List.drop_eq_nil_of_le z] at K
  exact br_t (by decide) K
theorem ax_lis {post : Int32 → Prop} {s l k : Nat} (R : ak_PX P S T (c 2) (c 3) F fs nx qh qt ql pe nn np nh nt nl os oc ss) (hs : s < S) (hl : l < 4) (hk : k < 2 ^ 31) (K : post (ak_hd ((ak_li F s l).drop k) (-1))) : wpX_listed post (nI P, nI S, nI T, fs, c 0, c 1, c 2, c 3, c 4, c 5, c 6, c 7, c 15, c 8, nx, qh, qt, ql, pe, nn, np, nh, nt, nl, c 9, c 10, c 11, c 17, c 12, c 13, c 14, os, oc, ss) (nI s) (nI l) (nI k) := by
  have hS4 : S ≤ 4 := R.1.2.2.2.1
  refine br_f (nI_pos (by omega)) (br_f (nI_ge hs (by omega)) (br_f (nI_pos (by omega)) (br_f (nI_nlt (a := 3) (by omega) (by omega)) (br_t (nI_pos' hk) ?_))))
  unfold ak_li at K
  by_cases z2 : l = 2
  · rw [if_pos z2] at K
    subst z2
    exact br_f (by decide) (br_t rfl (ax_rat R (by omega) hk K))
  · rw [if_neg z2] at K
    by_cases z3 : l = 3
    · rw [if_pos z3] at K
      subst z3
      exact br_t rfl (ax_not R (by omega) hk K)
    · rw [if_neg z3] at K
      refine br_f (fun y => z3 ((ak_ni (b := 3) (by omega) (by omega)).mp y)) (br_f (fun y => z2 ((ak_ni (b := 2) (by omega) (by omega)).mp y)) ?_)
      rw [ak_m53]
      exact ax_mem R (by omega) hk K
/-- nextReady -/
theorem ax_nr0 {post : Int32 → SX → Prop} {s : Nat} (R : ak_PX P S T (c 2) (c 3) F fs nx qh qt ql pe nn np nh nt nl os oc ss) (hs : s < 4) (h : ∀ j, j < 3 → ak_it F (s * 5 + j) = []) (K : ak_KX P S T c F (post (-1))) : wpX_nextReady post (nI P, nI S, nI T, fs, c 0, c 1, c 2, c 3, c 4, c 5, c 6, c 7, c 15, c 8, nx, qh, qt, ql, pe, nn, np, nh, nt, nl, c 9, c 10, c 11, c 17, c 12, c 13, c 14, os, oc, ss) (nI s) := by
  have st : ∀ n j, j < 3 → wX_nextReady_2 post (nI s) (nI P) (nI S) (nI T) fs (c 0) (c 1) (c 2) (c 3) (c 4) (c 5) (c 6) (c 7) (c 15) (c 8) nx qh qt ql pe nn np nh nt nl (c 9) (c 10) (c 11) (c 17) (c 12) (c 13) (c 14) os oc ss n (ak_dn j) → wX_nextReady_2 post (nI s) (nI P) (nI S) (nI T) fs (c 0) (c 1) (c 2) (c 3) (c 4) (c 5) (c 6) (c 7) (c 15) (c 8) nx qh qt ql pe nn np nh nt nl (c 9) (c 10) (c 11) (c 17) (c 12) (c 13) (c 14) os oc ss (n + 1) (ak_dn (j + 1)) := by
    intro n j hj H
    have iq : vp_in (nI (s * 5 + j)) 20 := ak_in (by omega) (by omega)
    have eq : (nI (s * 5 + j)).toNatClampNeg = s * 5 + j := ak_cl (by omega)
    obtain ⟨h1, h2, h3, h4⟩ := R.2.2.1 (s * 5 + j) (by omega)
    rw [h j hj] at h1
    refine br_f (ak_dn_n (by omega)) (nm_r (ak_m5 s j) (And.intro iq (br_t (by rw [eq, h1]; decide) (nm_r (ak_dn_s j) H))))
  exact Exists.intro 4 (st 3 2 (by omega) (st 2 1 (by omega) (st 1 0 (by omega) (br_t (by decide) (K _ _ _ _ _ _ _ _ _ _ _ _ _ _ R)))))
theorem ax_nr {post : Int32 → SX → Prop} {s j t : Nat} {r : List Nat} (R : ak_PX P S T (c 2) (c 3) F fs nx qh qt ql pe nn np nh nt nl os oc ss) (hs : s < 4) (hj : j < 3) (h : ∀ i, j < i → i < 3 → ak_it F (s * 5 + i) = []) (e : ak_it F (s * 5 + j) = t :: r) (K : ak_KX P S T c (F.erase (s * 5 + j, t)) (post (nI t))) : wpX_nextReady post (nI P, nI S, nI T, fs, c 0, c 1, c 2, c 3, c 4, c 5, c 6, c 7, c 15, c 8, nx, qh, qt, ql, pe, nn, np, nh, nt, nl, c 9, c 10, c 11, c 17, c 12, c 13, c 14, os, oc, ss) (nI s) := by
  have hlF := ak_W_len R.2.1
  have st : ∀ n i, i < 3 → j < i → wX_nextReady_2 post (nI s) (nI P) (nI S) (nI T) fs (c 0) (c 1) (c 2) (c 3) (c 4) (c 5) (c 6) (c 7) (c 15) (c 8) nx qh qt ql pe nn np nh nt nl (c 9) (c 10) (c 11) (c 17) (c 12) (c 13) (c 14) os oc ss n (ak_dn i) → wX_nextReady_2 post (nI s) (nI P) (nI S) (nI T) fs (c 0) (c 1) (c 2) (c 3) (c 4) (c 5) (c 6) (c 7) (c 15) (c 8) nx qh qt ql pe nn np nh nt nl (c 9) (c 10) (c 11) (c 17) (c 12) (c 13) (c 14) os oc ss (n + 1) (ak_dn (i + 1)) := by
    intro n i hi hji H
    have iq : vp_in (nI (s * 5 + i)) 20 := ak_in (by omega) (by omega)
    have eq : (nI (s * 5 + i)).toNatClampNeg = s * 5 + i := ak_cl (by omega)
    obtain ⟨h1, h2, h3, h4⟩ := R.2.2.1 (s * 5 + i) (by omega)
    rw [h i hji hi] at h1
    refine br_f (ak_dn_n (by omega)) (nm_r (ak_m5 s i) (And.intro iq (br_t (by rw [eq, h1]; decide) (nm_r (ak_dn_s i) H))))
  have go : ∀ n, wX_nextReady_2 post (nI s) (nI P) (nI S) (nI T) fs (c 0) (c 1) (c 2) (c 3) (c 4) (c 5) (c 6) (c 7) (c 15) (c 8) nx qh qt ql pe nn np nh nt nl (c 9) (c 10) (c 11) (c 17) (c 12) (c 13) (c 14) os oc ss (n + 1) (ak_dn (j + 1)) := by
    intro n
    have iq : vp_in (nI (s * 5 + j)) 20 := ak_in (by omega) (by omega)
    have eq : (nI (s * 5 + j)).toNatClampNeg = s * 5 + j := ak_cl (by omega)
    have hl := ak_it_len F (s * 5 + j)
    obtain ⟨h1, h2, h3, h4⟩ := R.2.2.1 (s * 5 + j) (by omega)
    have hpos : 0 < (ak_it F (s * 5 + j)).length := by rw [e]; simp
    refine br_f (ak_dn_n (by omega)) (nm_r (ak_m5 s j) (And.intro iq (br_f (by rw [eq, h1]; exact nI_nle hpos (by omega)) ?_)))
    refine ax_deq (ak_mkX R) (by omega) e ?_
    intro fs nx qh qt ql pe nn np nh nt nl os oc ss R
    exact K _ _ _ _ _ _ _ _ _ _ _ _ _ _ R
  have hj' : j = 0 ∨ j = 1 ∨ j = 2 := by omega
  rcases hj' with rfl | rfl | rfl
  · exact Exists.intro 3 (st 2 2 (by omega) (by omega) (st 1 1 (by omega) (by omega) (go 0)))
  · exact Exists.intro 3 (st 2 2 (by omega) (by omega) (go 1))
  · exact Exists.intro 3 (go 2)
end
end
section
/-! the invariant -/
def ak_sj (e : Nat × Nat) : Nat := if e.1 < 20 then e.2 else if e.2 < 16 then 16 + e.2 else e.2 % 16
def ak_V (F : List (Nat × Nat)) (x : Nat) : List (Nat × Nat) := F.filter (fun e => decide (ak_sj e = x))
theorem ak_V_mem {F : List (Nat × Nat)} {x : Nat} {e : Nat × Nat} : e ∈ ak_V F x ↔ e ∈ F ∧ ak_sj e = x := by
  unfold ak_V
  rw [List.mem_filter, decide_eq_true_eq]
theorem ak_V_as {F : List (Nat × Nat)} {e : Nat × Nat} {x : Nat} (h : ak_sj e = x) : ak_V (F ++ [e]) x = ak_V F x ++ [e] := by
  unfold ak_V
  rw [List.filter_append, List.filter_cons_of_pos (by simpa using h)]
  rfl
theorem ak_V_an {F : List (Nat × Nat)} {e : Nat × Nat} {x : Nat} (h : ¬ ak_sj e = x) : ak_V (F ++ [e]) x = ak_V F x := by
  unfold ak_V
  rw [List.filter_append, List.filter_cons_of_neg (by simpa using h)]
  simp
theorem ak_V_er (F : List (Nat × Nat)) (e : Nat × Nat) (x : Nat) : ak_V (F.erase e) x = (ak_V F x).erase e := by
  unfold ak_V
  rw [List.erase_filter]
theorem ak_V_en {F : List (Nat × Nat)} {e : Nat × Nat} {x : Nat} (h : ¬ ak_sj e = x) : ak_V (F.erase e) x = ak_V F x := by
  rw [ak_V_er, List.erase_of_not_mem (fun y => h (ak_V_mem.mp y).2)]
theorem ak_sjq {q t : Nat} (h : q < 20) : ak_sj (q, t) = t := by unfold ak_sj; rw [if_pos h]
theorem ak_sjp {s p : Nat} (h : p < 16) : ak_sj (20 + s, p) = 16 + p := by unfold ak_sj; rw [if_neg (by simp), if_pos h]
theorem ak_sjn {s n t : Nat} (h : 16 ≤ n) (ht : n % 16 = t) : ak_sj (20 + s, n) = t := by unfold ak_sj; rw [if_neg (by simp), if_neg (Nat.not_lt.mpr h)]; exact ht
/-- thread t of space s and level j at place k, with the facts V about it -/
def ak_TS (t s j : Nat) (k : Int32) (V : List (Nat × Nat)) : Prop :=
  (k = 1 ∧ V = []) ∨ (k = 2 ∧ V = [(s * 5 + j, t)]) ∨ (k = 3 ∧ ∃ l, l < 2 ∧ V = [(s * 5 + 3 + l, t)]) ∨ (k = 4 ∧ (V = [] ∨ V = [(20 + s, 32 + t)])) ∨
  (k = 5 ∧ (V = [(20 + s, 16 + t)] ∨ V = [(20 + s, 48 + t)] ∨ V = [(20 + s, 32 + t), (20 + s, 48 + t)]))
def ak_TV (S t : Nat) (k h l x y : Int32) (V : List (Nat × Nat)) : Prop :=
  (k = 0 ∧ V = []) ∨ ∃ s, s < S ∧ ∃ j, j < 3 ∧ ∃ a, a < 64 ∧ h = nI s ∧ l = nI j ∧ x = nI a ∧ y = nI a ∧ ak_TS t s j k V
def ak_PR (S T : Nat) (o st th : Int32) (plc hom : Nat → Int32) : Prop :=
  (o = -1 ∧ st = 0 ∧ th = -1) ∨ ∃ s, s < S ∧ o = nI s ∧
    ((∃ k, 1 ≤ k ∧ k ≤ 3 ∧ st = nI k ∧ th = -1) ∨ ∃ k t, (k = 4 ∨ k = 5) ∧ st = nI k ∧ t < T ∧ th = nI t ∧ plc t = 1 ∧ hom t = nI s)
def ak_PV (S : Nat) (o : Int32) (p : Nat) (V : List (Nat × Nat)) : Prop := V = [] ∨ ∃ s, s < S ∧ o = nI s ∧ V = [(20 + s, p)]
def ak_LH (S T : Nat) (lh hom plc : Nat → Int32) : Prop := ∀ s, s < S → lh s = -1 ∨ ∃ t, t < T ∧ lh s = nI t ∧ hom t = nI s ∧ ¬ plc t = 0
def ak_IV (P S T : Nat) (cop pst own pth plc hom lev px py pri dem lh : Nat → Int32) (F : List (Nat × Nat)) : Prop :=
  ak_Z P S T ∧
  (∀ a, a < 64 → ∃ o, o < 13 ∧ cop a = nI o) ∧
  (∀ s, s < S → (∃ r, r < 4 ∧ pri s = nI r) ∧ ∃ d, d < 7 ∧ dem s = nI d) ∧
  (∀ p, p < P → ak_PR S T (own p) (pst p) (pth p) plc hom) ∧
  (∀ p q, p < P → q < P → ¬ pth p = -1 → pth p = pth q → p = q) ∧
  (∀ t, t < T → ak_TV S t (plc t) (hom t) (lev t) (px t) (py t) (ak_V F t)) ∧
  (∀ p, p < P → ak_PV S (own p) p (ak_V F (16 + p))) ∧
  (∀ e ∈ F, ak_sj e < T ∨ (16 ≤ ak_sj e ∧ ak_sj e < 16 + P)) ∧
  ak_LH S T lh hom plc
def ak_I (P S T : Nat) (c : Nat → Nat → Int32) (F : List (Nat × Nat)) : Prop :=
  ak_IV P S T (c 0) (c 2) (c 3) (c 4) (c 5) (c 6) (c 7) (c 15) (c 16) (c 10) (c 11) (c 14) F
section
variable {P S T : Nat} {cop pst own pth plc hom lev px py pri dem lh : Nat → Int32} {F F' : List (Nat × Nat)}
theorem ak_TV_pw {S t : Nat} {k h l x y : Int32} {V : List (Nat × Nat)} (hT : ak_TV S t k h l x y V) : List.Pairwise (fun a b => ak_cd a ≠ ak_cd b) V := by
  rcases hT with ⟨_, rfl⟩ | ⟨s, _, j, _, a, _, _, _, _, _, h⟩
  · exact List.Pairwise.nil
  · rcases h with ⟨_, rfl⟩ | ⟨_, rfl⟩ | ⟨_, l, _, rfl⟩ | ⟨_, rfl | rfl⟩ | ⟨_, rfl | rfl | rfl⟩
    all_goals first | exact List.Pairwise.nil | exact List.pairwise_singleton _ _ | skip
    refine List.Pairwise.cons (fun b hb => ?_) (List.pairwise_singleton _ _)
    rw [List.mem_singleton.mp hb, ak_cd20, ak_cd20]
    omega
/-- the shape of a fact -/
theorem ak_sh (I : ak_IV P S T cop pst own pth plc hom lev px py pri dem lh F) {e : Nat × Nat} (he : e ∈ F) :
    (∃ s t j, s < S ∧ t < T ∧ j < 3 ∧ e = (s * 5 + j, t) ∧ plc t = 2 ∧ hom t = nI s ∧ lev t = nI j) ∨
    (∃ s t l, s < S ∧ t < T ∧ l < 2 ∧ e = (s * 5 + 3 + l, t) ∧ plc t = 3 ∧ hom t = nI s) ∨
    (∃ s t, s < S ∧ t < T ∧ e = (20 + s, 32 + t) ∧ (plc t = 4 ∨ plc t = 5) ∧ hom t = nI s) ∨
    (∃ s t, s < S ∧ t < T ∧ (e = (20 + s, 16 + t) ∨ e = (20 + s, 48 + t)) ∧ plc t = 5 ∧ hom t = nI s) ∨
    (∃ s p, s < S ∧ p < P ∧ e = (20 + s, p) ∧ own p = nI s) := by
  obtain ⟨hZ, h1, h2, h3, h4, h5, h6, h7, h8⟩ := I
  rcases h7 e he with hx | ⟨hx, hy⟩
  · have hm : e ∈ ak_V F (ak_sj e) := ak_V_mem.mpr ⟨he, rfl⟩
    generalize ak_sj e = t at hx hm
    rcases h5 t hx with ⟨_, g⟩ | ⟨s, hs, j, hj, a, _, gh, gl, _, _, g⟩
    · rw [g] at hm; exact absurd hm List.not_mem_nil
    · rcases g with ⟨_, g⟩ | ⟨k, g⟩ | ⟨k, l, hl, g⟩ | ⟨k, g | g⟩ | ⟨k, g | g | g⟩
      all_goals rw [g] at hm
      · exact absurd hm List.not_mem_nil
      · exact Or.inl ⟨s, t, j, hs, hx, hj, List.mem_singleton.mp hm, k, gh, gl⟩
      · exact Or.inr (Or.inl ⟨s, t, l, hs, hx, hl, List.mem_singleton.mp hm, k, gh⟩)
      · exact absurd hm List.not_mem_nil
      · exact Or.inr (Or.inr (Or.inl ⟨s, t, hs, hx, List.mem_singleton.mp hm, Or.inl k, gh⟩))
      · exact Or.inr (Or.inr (Or.inr (Or.inl ⟨s, t, hs, hx, Or.inl (List.mem_singleton.mp hm), k, gh⟩)))
      · exact Or.inr (Or.inr (Or.inr (Or.inl ⟨s, t, hs, hx, Or.inr (List.mem_singleton.mp hm), k, gh⟩)))
      · rcases List.mem_cons.mp hm with hm | hm
        · exact Or.inr (Or.inr (Or.inl ⟨s, t, hs, hx, hm, Or.inr k, gh⟩))
        · exact Or.inr (Or.inr (Or.inr (Or.inl ⟨s, t, hs, hx, Or.inr (List.mem_singleton.mp hm), k, gh⟩)))
  · obtain ⟨p, hp⟩ : ∃ p, ak_sj e = 16 + p := ⟨ak_sj e - 16, by omega⟩
    have hm : e ∈ ak_V F (16 + p) := ak_V_mem.mpr ⟨he, hp⟩
    rcases h6 p (by omega) with g | ⟨s, hs, ho, g⟩
    · rw [g] at hm; exact absurd hm List.not_mem_nil
    · rw [g] at hm
      exact Or.inr (Or.inr (Or.inr (Or.inr ⟨s, p, hs, by omega, List.mem_singleton.mp hm, ho⟩)))
theorem ak_pw {R : Nat × Nat → Nat × Nat → Prop} : ∀ {F : List (Nat × Nat)}, (∀ x, List.Pairwise R (ak_V F x)) → (∀ a ∈ F, ∀ b ∈ F, ¬ R a b → ak_sj a = ak_sj b) → List.Pairwise R F := by
  intro F
  induction F with
  | nil => intro _ _; exact List.Pairwise.nil
  | cons a F ih =>
    intro h1 h2
    refine List.Pairwise.cons (fun b hb => ?_) (ih (fun x => ?_) (fun a' ha b' hb => h2 a' (List.mem_cons_of_mem _ ha) b' (List.mem_cons_of_mem _ hb)))
    · refine Classical.byContradiction fun hn => ?_
      have e := h2 a (List.mem_cons_self ..) b (List.mem_cons_of_mem _ hb) hn
      have h := h1 (ak_sj a)
      have ev : ak_V (a :: F) (ak_sj a) = a :: ak_V F (ak_sj a) := by
        unfold ak_V
        rw [List.filter_cons_of_pos (by simp)]
      rw [ev] at h
      exact hn ((List.pairwise_cons.mp h).1 b (ak_V_mem.mpr ⟨hb, e.symm⟩))
    · refine List.Pairwise.sublist ?_ (h1 x)
      unfold ak_V
      exact List.Sublist.filter _ (List.sublist_cons_self a F)
theorem ak_IW (I : ak_IV P S T cop pst own pth plc hom lev px py pri dem lh F) : ak_W F := by
  have hZ := I.1
  unfold ak_Z at hZ
  have sh := fun e (he : e ∈ F) => ak_sh I he
  refine ⟨fun e he => ?_, ?_⟩
  · unfold ak_ok
    rcases sh e he with ⟨s, t, j, a, b, d, rfl, _⟩ | ⟨s, t, l, a, b, d, rfl, _⟩ | ⟨s, t, a, b, rfl, _⟩ | ⟨s, t, a, b, rfl | rfl, _⟩ | ⟨s, p, a, b, rfl, _⟩
    all_goals dsimp only
    all_goals omega
  · unfold List.Nodup
    rw [List.pairwise_map]
    refine ak_pw (fun x => ?_) (fun a ha b hb hn => ?_)
    · obtain ⟨_, h1, h2, h3, h4, h5, h6, h7, h8⟩ := I
      by_cases z : x < T
      · exact ak_TV_pw (h5 x z)
      · by_cases y : 16 ≤ x ∧ x < 16 + P
        · obtain ⟨p, rfl⟩ : ∃ p, x = 16 + p := ⟨x - 16, by omega⟩
          rcases h6 p (by omega) with g | ⟨s, hs, ho, g⟩
          · rw [g]; exact List.Pairwise.nil
          · rw [g]; exact List.pairwise_singleton _ _
        · have : ak_V F x = [] := by
            rcases hv : ak_V F x with _ | ⟨e, r⟩
            · rfl
            · have hm : e ∈ ak_V F x := by rw [hv]; exact List.mem_cons_self ..
              have hm := ak_V_mem.mp hm
              have := h7 e hm.1
              omega
          rw [this]; exact List.Pairwise.nil
    · have hn' : ak_cd a = ak_cd b := Classical.byContradiction hn
      have key : ∀ e ∈ F, ak_sj e = if ak_cd e < 16 then 16 + ak_cd e else ak_cd e % 16 := by
        intro e he
        rcases sh e he with ⟨s, t, j, h1, h2, h3, rfl, _⟩ | ⟨s, t, l, h1, h2, h3, rfl, _⟩ | ⟨s, t, h1, h2, rfl, _⟩ | ⟨s, t, h1, h2, rfl | rfl, _⟩ | ⟨s, p, h1, h2, rfl, _⟩
        · rw [ak_cd5 (by omega), ak_sjq (by omega), if_neg (by omega)]; omega
        · rw [ak_cd5 (by omega), ak_sjq (by omega), if_neg (by omega)]; omega
        · rw [ak_cd20, ak_sjn (by omega) rfl, if_neg (by omega)]
        · rw [ak_cd20, ak_sjn (by omega) rfl, if_neg (by omega)]
        · rw [ak_cd20, ak_sjn (by omega) rfl, if_neg (by omega)]
        · rw [ak_cd20, ak_sjp (by omega), if_pos (by omega)]
      rw [key a ha, key b hb, hn']
theorem ak_ILV (I : ak_IV P S T cop pst own pth plc hom lev px py pri dem lh F) : ak_LV lev F := by
  intro e he h1 h2
  rcases ak_sh I he with ⟨s, t, j, a, b, d, rfl, _, _, g⟩ | ⟨s, t, l, a, b, d, rfl, _⟩ | ⟨s, t, a, b, rfl, _⟩ | ⟨s, t, a, b, rfl | rfl, _⟩ | ⟨s, p, a, b, rfl, _⟩
  all_goals dsimp only at *
  · rw [g, show (s * 5 + j) % 5 = j from by omega]
  all_goals omega
theorem ak_up {pst' own' pth' plc' lh' : Nat → Int32} {p t : Nat} (I : ak_IV P S T cop pst own pth plc hom lev px py pri dem lh F)
    (htn : ∀ q, q < P → 16 + q ≠ t)
    (hp : ∀ q, q < P → q ≠ p → pst' q = pst q ∧ own' q = own q ∧ pth' q = pth q)
    (ht : ∀ x, x ≠ t → plc' x = plc x)
    (hV : ∀ x, x ≠ t → x ≠ 16 + p → ak_V F' x = ak_V F x)
    (hP : p < P → ak_PR S T (own' p) (pst' p) (pth' p) plc' hom)
    (hO : ∀ q, q < P → q ≠ p → ¬ pth q = nI t)
    (hJ : p < P → ¬ pth' p = -1 → ∀ q, q < P → q ≠ p → ¬ pth q = pth' p)
    (hT : t < T → ak_TV S t (plc' t) (hom t) (lev t) (px t) (py t) (ak_V F' t))
    (hQ : p < P → ak_PV S (own' p) p (ak_V F' (16 + p)))
    (hF : ∀ e ∈ F', e ∈ F ∨ ak_sj e < T ∨ (16 ≤ ak_sj e ∧ ak_sj e < 16 + P))
    (hL : ak_LH S T lh' hom plc') : ak_IV P S T cop pst' own' pth' plc' hom lev px py pri dem lh' F' := by
  obtain ⟨hZ, h1, h2, h3, h4, h5, h6, h7, h8⟩ := I
  refine ⟨hZ, h1, h2, fun q hq => ?_, fun a b ha hb hn he => ?_, fun x hx => ?_, fun q hq => ?_, fun e he => ?_, hL⟩
  · by_cases z : q = p
    · subst z; exact hP hq
    · obtain ⟨e1, e2, e3⟩ := hp q hq z
      rw [e1, e2, e3]
      rcases h3 q hq with g | ⟨s, hs, ho, g | ⟨k, x, g1, g2, g3, g4, g5, g6⟩⟩
      · exact Or.inl g
      · exact Or.inr ⟨s, hs, ho, Or.inl g⟩
      · have : x ≠ t := fun y => hO q hq z (by rw [g4, y])
        exact Or.inr ⟨s, hs, ho, Or.inr ⟨k, x, g1, g2, g3, g4, by rw [ht x this]; exact g5, g6⟩⟩
  · by_cases za : a = p
    · by_cases zb : b = p
      · rw [za, zb]
      · subst za
        rw [(hp b hb zb).2.2] at he
        exact absurd he.symm (hJ ha hn b hb zb)
    · by_cases zb : b = p
      · subst zb
        rw [(hp a ha za).2.2] at he hn
        exact absurd he (hJ hb (fun y => hn (he.trans y)) a ha za)
      · rw [(hp a ha za).2.2] at he hn
        rw [(hp b hb zb).2.2] at he
        exact h4 a b ha hb hn he
  · by_cases z : x = t
    · subst z; exact hT hx
    · unfold ak_Z at hZ
      rw [ht x z, hV x z (by omega)]
      exact h5 x hx
  · by_cases z : q = p
    · subst z; exact hQ hq
    · rw [(hp q hq z).2.1, hV (16 + q) (htn q hq) (by omega)]
      exact h6 q hq
  · rcases hF e he with g | g
    · exact h7 e g
    · exact g
/-! reading it -/
/-- a processor with a thread -/
theorem ak_run (I : ak_IV P S T cop pst own pth plc hom lev px py pri dem lh F) {p : Nat} (hp : p < P) (h : ¬ pth p = -1) : ∃ s k t, s < S ∧ own p = nI s ∧ (k = 4 ∨ k = 5) ∧ pst p = nI k ∧ t < T ∧ pth p = nI t ∧ plc t = 1 ∧ hom t = nI s := by
  rcases I.2.2.2.1 p hp with g | ⟨s, hs, ho, ⟨k, _, _, _, g⟩ | ⟨k, x, g1, g2, g3, g4, g5, g6⟩⟩
  · exact absurd g.2.2 h
  · exact absurd g h
  · exact ⟨s, k, x, hs, ho, g1, g2, g3, g4, g5, g6⟩
/-- a thread that is not dead -/
theorem ak_thr (I : ak_IV P S T cop pst own pth plc hom lev px py pri dem lh F) {t : Nat} (ht : t < T) (h : ¬ plc t = 0) : ∃ s j a, s < S ∧ j < 3 ∧ a < 64 ∧ hom t = nI s ∧ lev t = nI j ∧ px t = nI a ∧ py t = nI a ∧ ak_TS t s j (plc t) (ak_V F t) := by
  rcases I.2.2.2.2.2.1 t ht with g | ⟨s, hs, j, hj, a, ha, g⟩
  · exact absurd g.1 h
  · exact ⟨s, j, a, hs, hj, ha, g⟩
/-- no processor runs a thread that is not running -/
theorem ak_nrun (I : ak_IV P S T cop pst own pth plc hom lev px py pri dem lh F) {t : Nat} (ht : t < 100) (h : ¬ plc t = 1) : ∀ q, q < P → ¬ pth q = nI t := by
  intro q hq hn
  obtain ⟨s, k, x, _, _, _, _, hx, e, g, _⟩ := ak_run I hq (by rw [hn]; exact ak_n1 ht)
  have hZ := I.1
  unfold ak_Z at hZ
  rw [hn, ak_ni (by omega) (by omega)] at e
  subst e
  exact h g
/-- nor does another one the same thread -/
theorem ak_nrun2 (I : ak_IV P S T cop pst own pth plc hom lev px py pri dem lh F) {p t : Nat} (hp : p < P) (ht : t < 100) (h : pth p = nI t) : ∀ q, q < P → q ≠ p → ¬ pth q = nI t := by
  intro q hq hne hn
  exact hne (I.2.2.2.2.1 q p hq hp (by rw [hn]; exact ak_n1 ht) (by rw [hn, h]))
/-- no fact about thread t: its codes are free -/
theorem ak_free (I : ak_IV P S T cop pst own pth plc hom lev px py pri dem lh F) {t k : Nat} (hV : ak_V F t = []) (ht : t < 16) (hk : k = 1 ∨ k = 2 ∨ k = 3) : ∀ f ∈ F, ak_cd f ≠ k * 16 + t := by
  intro f hf hc
  have hZ := I.1
  unfold ak_Z at hZ
  have : f ∈ ak_V F t := ak_V_mem.mpr ⟨hf, by
    rcases ak_sh I hf with ⟨s, x, j, h1, h2, h3, rfl, _⟩ | ⟨s, x, l, h1, h2, h3, rfl, _⟩ | ⟨s, x, h1, h2, rfl, _⟩ | ⟨s, x, h1, h2, rfl | rfl, _⟩ | ⟨s, p, h1, h2, rfl, _⟩
    · rw [ak_cd5 (by omega)] at hc; rw [ak_sjq (by omega)]; omega
    · rw [ak_cd5 (by omega)] at hc; rw [ak_sjq (by omega)]; omega
    · rw [ak_cd20] at hc; rw [ak_sjn (by omega) rfl]; omega
    · rw [ak_cd20] at hc; rw [ak_sjn (by omega) rfl]; omega
    · rw [ak_cd20] at hc; rw [ak_sjn (by omega) rfl]; omega
    · rw [ak_cd20] at hc; omega⟩
  rw [hV] at this
  exact absurd this List.not_mem_nil
end
end
section
/-! the invariant is kept -/
theorem ak_LH_up {S T : Nat} {lh hom plc plc' : Nat → Int32} (h : ak_LH S T lh hom plc) (hp : ∀ t, t < T → ¬ plc t = 0 → ¬ plc' t = 0) : ak_LH S T lh hom plc' := by
  intro s hs
  rcases h s hs with g | ⟨t, g1, g2, g3, g4⟩
  · exact Or.inl g
  · exact Or.inr ⟨t, g1, g2, g3, hp t g1 g4⟩
theorem ak_u0 {plc : Nat → Int32} {t : Nat} {x : Int32} (hx : ¬ x = 0) : ∀ y, ¬ plc y = 0 → ¬ upd plc t x y = 0 := by
  intro y hy
  by_cases z : y = t
  · subst z; rw [pk_us]; exact hx
  · rw [pk_un z]; exact hy
theorem ak_app_in {P T : Nat} {F : List (Nat × Nat)} {e : Nat × Nat} (h : ak_sj e < T ∨ (16 ≤ ak_sj e ∧ ak_sj e < 16 + P)) : ∀ f ∈ F ++ [e], f ∈ F ∨ ak_sj f < T ∨ (16 ≤ ak_sj f ∧ ak_sj f < 16 + P) := by
  intro f hf
  rcases List.mem_append.mp hf with g | g
  · exact Or.inl g
  · rw [List.mem_singleton.mp g]; exact Or.inr h
theorem ak_era_in {P T : Nat} {F : List (Nat × Nat)} {d e : Nat × Nat} (h : ak_sj e < T ∨ (16 ≤ ak_sj e ∧ ak_sj e < 16 + P)) : ∀ f ∈ F.erase d ++ [e], f ∈ F ∨ ak_sj f < T ∨ (16 ≤ ak_sj f ∧ ak_sj f < 16 + P) := by
  intro f hf
  rcases List.mem_append.mp hf with g | g
  · exact Or.inl (List.mem_of_mem_erase g)
  · rw [List.mem_singleton.mp g]; exact Or.inr h
section
variable {P S T : Nat} {c : Nat → Nat → Int32} {F : List (Nat × Nat)}
theorem ai_Z (I : ak_I P S T c F) : 1 ≤ P ∧ P ≤ 6 ∧ 1 ≤ S ∧ S ≤ 4 ∧ 1 ≤ T ∧ T ≤ 16 := I.1
theorem ai_W (I : ak_I P S T c F) : ak_W F := ak_IW I
theorem ai_LV (I : ak_I P S T c F) : ak_LV (c 7) F := ak_ILV I
theorem ai_LH (I : ak_I P S T c F) : ak_LH S T (c 14) (c 6) (c 5) := I.2.2.2.2.2.2.2.2
theorem ai_PV (I : ak_I P S T c F) {p : Nat} (hp : p < P) : ak_PV S ((c 3) p) p (ak_V F (16 + p)) := I.2.2.2.2.2.2.1 p hp
theorem ai_TV (I : ak_I P S T c F) {t : Nat} (ht : t < T) : ak_TV S t ((c 5) t) ((c 6) t) ((c 7) t) ((c 15) t) ((c 16) t) (ak_V F t) := I.2.2.2.2.2.1 t ht
theorem ai_n99 (I : ak_I P S T c F) : ∀ q, q < P → ¬ (c 4) q = nI 99 := by
  intro q hq hn
  obtain ⟨s, k, x, _, _, _, _, hx, e, g, _⟩ := ak_run I hq (by rw [hn]; exact ak_n1 (by omega))
  have hZ := ai_Z I
  rw [hn, ak_ni (by omega) (by omega)] at e
  omega
/-- the state of an owned processor without a thread -/
theorem ai_st {p s j : Nat} (I : ak_I P S T c F) (hp : p < P) (hs : s < S) (ho : (c 3) p = nI s) (ht : (c 4) p = -1) (hj1 : 1 ≤ j) (hj3 : j ≤ 3) : ak_I P S T (ak_sa c 2 (upd (c 2) p (nI j))) F := by
  have hZ := ai_Z I
  have hLH := ai_LH I
  exact ak_up (p := p) (t := 99) I (fun q hq => by omega) (fun q hq z => ⟨pk_un z, rfl, rfl⟩) (fun x _ => rfl) (fun x _ _ => rfl)
    (fun _ => Or.inr ⟨s, hs, ho, Or.inl ⟨j, hj1, hj3, pk_us, ht⟩⟩) (fun q hq _ => ai_n99 I q hq) (fun _ hn => absurd ht hn) (fun h => by omega)
    (fun h => ai_PV I h) (fun e he => Or.inl he) hLH
/-- a thread leaves its processor -/
theorem ai_off {p t s j l k a : Nat} {e : Nat × Nat} (I : ak_I P S T c F) (hp : p < P) (hs : s < S) (ho : (c 3) p = nI s) (ht : (c 4) p = nI t) (htT : t < T) (hh : (c 6) t = nI s) (hl : l < 3) (hlv : (c 7) t = nI l) (ha : a < 64) (hx : (c 15) t = nI a) (hy : (c 16) t = nI a) (hV : ak_V F t = [])
    (hj1 : 1 ≤ j) (hj3 : j ≤ 3) (hk0 : k ≠ 0) (hk : k < 6) (hsj : ak_sj e = t) (hTS : ak_TS t s l (nI k) [e]) :
    ak_I P S T (ak_sa (ak_sa (ak_sa c 5 (upd (c 5) t (nI k))) 4 (upd (c 4) p (-1))) 2 (upd (c 2) p (nI j))) (F ++ [e]) := by
  have hZ := ai_Z I
  have hk' : ¬ nI k = 0 := fun z => hk0 ((ak_ni (b := 0) (by omega) (by omega)).mp z)
  have hLu : ak_LH S T (c 14) (c 6) (upd (c 5) t (nI k)) := ak_LH_up (ai_LH I) (fun y _ => ak_u0 hk' y)
  exact ak_up (p := p) (t := t) I (fun q hq => by omega) (fun q hq z => ⟨pk_un z, rfl, pk_un z⟩) (fun x z => pk_un z) (fun x z _ => ak_V_an (fun y => z (y.symm.trans hsj)))
    (fun _ => Or.inr ⟨s, hs, ho, Or.inl ⟨j, hj1, hj3, pk_us, pk_us⟩⟩) (ak_nrun2 I hp (by omega) ht) (fun _ hn => absurd pk_us hn)
    (fun _ => Or.inr ⟨s, hs, l, hl, a, ha, hh, hlv, hx, hy, by
      rw [ak_V_as hsj, hV]
      show ak_TS t s l (upd (c 5) t (nI k) t) _
      rw [pk_us]; exact hTS⟩)
    (fun h => by rw [ak_V_an (by omega)]; exact ai_PV I h) (ak_app_in (Or.inl (by omega))) hLu
/-- a thread ends -/
theorem ai_end {p t s j : Nat} (I : ak_I P S T c F) (hp : p < P) (hs : s < S) (ho : (c 3) p = nI s) (ht : (c 4) p = nI t) (htT : t < T) (hV : ak_V F t = []) (hj1 : 1 ≤ j) (hj3 : j ≤ 3) (hL : ∀ r, r < S → ¬ (c 14) r = nI t) :
    ak_I P S T (ak_sa (ak_sa (ak_sa c 5 (upd (c 5) t 0)) 4 (upd (c 4) p (-1))) 2 (upd (c 2) p (nI j))) F := by
  have hZ := ai_Z I
  refine ak_up (p := p) (t := t) I (fun q hq => by omega) (fun q hq z => ⟨pk_un z, rfl, pk_un z⟩) (fun x z => pk_un z) (fun x z _ => rfl)
    (fun _ => Or.inr ⟨s, hs, ho, Or.inl ⟨j, hj1, hj3, pk_us, pk_us⟩⟩) (ak_nrun2 I hp (by omega) ht) (fun _ hn => absurd pk_us hn)
    (fun _ => Or.inl ⟨pk_us, hV⟩)
    (fun h => ai_PV I h) (fun e he => Or.inl he) (fun r hr => ?_)
  rcases ai_LH I r hr with g | ⟨y, g1, g2, g3, g4⟩
  · exact Or.inl g
  · refine Or.inr ⟨y, g1, g2, g3, ?_⟩
    have : y ≠ t := fun z => hL r hr (by rw [g2, z])
    show ¬ upd (c 5) t 0 y = 0
    rw [pk_un this]; exact g4
/-- a thread with one fact gets a processor -/
theorem ai_on {p t s k : Nat} {e : Nat × Nat} (I : ak_I P S T c F) (hp : p < P) (hs : s < S) (ho : (c 3) p = nI s) (hth : (c 4) p = -1) (htT : t < T) (hh : (c 6) t = nI s) (h0 : ¬ (c 5) t = 0) (h1 : ¬ (c 5) t = 1) (hV : ak_V F t = [e]) (hsj : ak_sj e = t) (hk : k = 4 ∨ k = 5) :
    ak_I P S T (ak_sa (ak_sa (ak_sa c 4 (upd (c 4) p (nI t))) 5 (upd (c 5) t 1)) 2 (upd (c 2) p (nI k))) (F.erase e) := by
  have hZ := ai_Z I
  have hLu : ak_LH S T (c 14) (c 6) (upd (c 5) t 1) := ak_LH_up (ai_LH I) (fun y _ => ak_u0 (by decide) y)
  obtain ⟨s', j, a, q1, q2, q3, q4, q5, q6, q7, q8⟩ := ak_thr I htT h0
  exact ak_up (p := p) (t := t) I (fun q hq => by omega) (fun q hq z => ⟨pk_un z, rfl, pk_un z⟩) (fun x z => pk_un z) (fun x z _ => ak_V_en (fun y => z (y.symm.trans hsj)))
    (fun _ => Or.inr ⟨s, hs, ho, Or.inr ⟨k, t, hk, pk_us, htT, pk_us, pk_us, hh⟩⟩) (fun q hq _ => ak_nrun I (by omega) h1 q hq) (fun _ hn q hq z => by
      show ¬ (c 4) q = upd (c 4) p (nI t) p
      rw [pk_us]; exact ak_nrun I (by omega) h1 q hq)
    (fun _ => Or.inr ⟨s', q1, j, q2, a, q3, q4, q5, q6, q7, Or.inl ⟨pk_us, by rw [ak_V_er, hV, List.erase_cons_head]⟩⟩)
    (fun h => by rw [ak_V_en (by omega)]; exact ai_PV I h) (fun f hf => Or.inl (List.mem_of_mem_erase hf)) hLu
/-- a thread with one fact becomes ready -/
theorem ai_mv {t s j : Nat} {e : Nat × Nat} (I : ak_I P S T c F) (hs : s < S) (htT : t < T) (hh : (c 6) t = nI s) (hj : j < 3) (hl : (c 7) t = nI j) (h0 : ¬ (c 5) t = 0) (h1 : ¬ (c 5) t = 1) (hV : ak_V F t = [e]) (hsj : ak_sj e = t) :
    ak_I P S T (ak_sa c 5 (upd (c 5) t 2)) (F.erase e ++ [(s * 5 + j, t)]) := by
  have hZ := ai_Z I
  have hLu : ak_LH S T (c 14) (c 6) (upd (c 5) t 2) := ak_LH_up (ai_LH I) (fun y _ => ak_u0 (by decide) y)
  obtain ⟨s', j', a, q1, q2, q3, q4, q5, q6, q7, q8⟩ := ak_thr I htT h0
  have sj2 : ak_sj (s * 5 + j, t) = t := ak_sjq (by omega)
  exact ak_up (p := 50) (t := t) I (fun q hq => by omega) (fun q hq z => ⟨rfl, rfl, rfl⟩) (fun x z => pk_un z) (fun x z _ => by rw [ak_V_an (by omega), ak_V_en (by omega)])
    (fun h => by omega) (fun q hq _ => ak_nrun I (by omega) h1 q hq) (fun h => by omega)
    (fun _ => Or.inr ⟨s, hs, j, hj, a, q3, hh, hl, q6, q7, Or.inr (Or.inl ⟨pk_us, by rw [ak_V_as sj2, ak_V_er, hV, List.erase_cons_head]; rfl⟩)⟩)
    (fun h => by omega) (ak_era_in (Or.inl (by omega))) hLu
/-- a 'blocked' notice is told -/
theorem ai_blk {t s : Nat} (I : ak_I P S T c F) (hm : (20 + s, 32 + t) ∈ F) (ht : t < 16) : ak_I P S T c (F.erase (20 + s, 32 + t)) := by
  have hZ := ai_Z I
  have hLH := ai_LH I
  have sj : ak_sj (20 + s, 32 + t) = t := ak_sjn (by omega) (by omega)
  have hmv : (20 + s, 32 + t) ∈ ak_V F t := ak_V_mem.mpr ⟨hm, sj⟩
  refine ak_up (p := 50) (t := t) I (fun q hq => by omega) (fun q hq z => ⟨rfl, rfl, rfl⟩) (fun x z => rfl) (fun x z _ => ak_V_en (by omega))
    (fun h => by omega) (fun q hq _ hn => ?_) (fun h => by omega) (fun htT => ?_) (fun h => by omega) (fun f hf => Or.inl (List.mem_of_mem_erase hf)) hLH
  · obtain ⟨s1, k, x, _, _, _, _, hx, e, g, _⟩ := ak_run I hq (by rw [hn]; exact ak_n1 (by omega))
    rw [hn, ak_ni (by omega) (by omega)] at e
    subst e
    rcases ai_TV I hx with ⟨g1, g2⟩ | ⟨s', _, j, _, a, _, _, _, _, _, g5⟩
    · rw [g2] at hmv; exact absurd hmv List.not_mem_nil
    · rw [g] at g5
      rcases g5 with ⟨_, y⟩ | ⟨y, _⟩ | ⟨y, _⟩ | ⟨y, _⟩ | ⟨y, _⟩
      · rw [y] at hmv; exact absurd hmv List.not_mem_nil
      all_goals exact absurd y (by decide)
  · rw [ak_V_er]
    rcases ai_TV I htT with ⟨g1, g2⟩ | ⟨s', q1, j, q2, a, q3, q4, q5, q6, q7, g5⟩
    · rw [g2] at hmv; exact absurd hmv List.not_mem_nil
    · refine Or.inr ⟨s', q1, j, q2, a, q3, q4, q5, q6, q7, ?_⟩
      rcases g5 with ⟨_, y⟩ | ⟨_, y⟩ | ⟨_, l, hl, y⟩ | ⟨z, y | y⟩ | ⟨z, y | y | y⟩
      all_goals rw [y] at hmv ⊢
      · exact absurd hmv List.not_mem_nil
      · have := List.mem_singleton.mp hmv; have := congrArg Prod.snd this; dsimp only at this; omega
      · have := List.mem_singleton.mp hmv; have := congrArg Prod.snd this; dsimp only at this; omega
      · exact absurd hmv List.not_mem_nil
      · have := congrArg Prod.fst (List.mem_singleton.mp hmv)
        dsimp only at this
        have e : s' = s := by omega
        subst e
        rw [List.erase_cons_head]
        exact Or.inr (Or.inr (Or.inr (Or.inl ⟨z, Or.inl rfl⟩)))
      · have := List.mem_singleton.mp hmv; have := congrArg Prod.snd this; dsimp only at this; omega
      · have := List.mem_singleton.mp hmv; have := congrArg Prod.snd this; dsimp only at this; omega
      · have e : s' = s := by
          rcases List.mem_cons.mp hmv with w | w
          · have := congrArg Prod.fst w; dsimp only at this; omega
          · have := congrArg Prod.fst (List.mem_singleton.mp w); dsimp only at this; omega
        subst e
        rw [List.erase_cons_head]
        exact Or.inr (Or.inr (Or.inr (Or.inr ⟨z, Or.inr (Or.inl rfl)⟩)))
/-- an 'added' notice is told, or taken back -/
theorem ai_add {p s : Nat} (I : ak_I P S T c F) (hp : p < P) : ak_I P S T c (F.erase (20 + s, p)) := by
  have hZ := ai_Z I
  have hLH := ai_LH I
  have sj : ak_sj (20 + s, p) = 16 + p := ak_sjp (by omega)
  refine ak_up (p := p) (t := 99) I (fun q hq => by omega) (fun q hq z => ⟨rfl, rfl, rfl⟩) (fun x z => rfl) (fun x _ z => ak_V_en (by omega))
    (fun h => I.2.2.2.1 p h) (fun q hq _ => ai_n99 I q hq) (fun _ hn q hq z y => z (I.2.2.2.2.1 q p hq hp (by rw [y]; exact hn) y)) (fun h => by omega) (fun h => ?_) (fun f hf => Or.inl (List.mem_of_mem_erase hf)) hLH
  rw [ak_V_er]
  rcases ai_PV I hp with g | ⟨s', q1, q2, g⟩
  · rw [g]; exact Or.inl rfl
  · rw [g]
    by_cases z : s' = s
    · subst z; rw [List.erase_cons_head]; exact Or.inl rfl
    · rw [List.erase_of_not_mem (fun y => z (by have := congrArg Prod.fst (List.mem_singleton.mp y); dsimp only at this; omega))]
      exact Or.inr ⟨s', q1, q2, rfl⟩
/-- a processor is given -/
theorem ai_giv {p s : Nat} (I : ak_I P S T c F) (hp : p < P) (hs : s < S) (ho : (c 3) p = -1) : ak_I P S T (ak_sa (ak_sa c 3 (upd (c 3) p (nI s))) 2 (upd (c 2) p 1)) (F ++ [(20 + s, p)]) := by
  have hZ := ai_Z I
  have hLH := ai_LH I
  have sj : ak_sj (20 + s, p) = 16 + p := ak_sjp (by omega)
  have hth : (c 4) p = -1 := by
    rcases I.2.2.2.1 p hp with g | ⟨s', hs', g, _⟩
    · exact g.2.2
    · exact absurd (ho.symm.trans g) (ak_1n (by omega))
  have hV : ak_V F (16 + p) = [] := by
    rcases ai_PV I hp with g | ⟨s', q1, q2, g⟩
    · exact g
    · exact absurd (ho.symm.trans q2) (ak_1n (by omega))
  exact ak_up (p := p) (t := 99) I (fun q hq => by omega) (fun q hq z => ⟨pk_un z, pk_un z, rfl⟩) (fun x z => rfl) (fun x _ z => ak_V_an (by omega))
    (fun h => Or.inr ⟨s, hs, pk_us, Or.inl ⟨1, by omega, by omega, pk_us, hth⟩⟩) (fun q hq _ => ai_n99 I q hq) (fun _ hn => absurd hth hn) (fun h => by omega)
    (fun h => Or.inr ⟨s, hs, pk_us, by rw [ak_V_as sj, hV]; rfl⟩) (ak_app_in (Or.inr (by omega))) hLH
theorem ai_PV0 {p s : Nat} (I : ak_I P S T c F) (hp : p < P) (hs : s < S) (ho : (c 3) p = nI s) : ak_V (F.erase (20 + s, p)) (16 + p) = [] := by
  have hZ := ai_Z I
  rw [ak_V_er]
  rcases ai_PV I hp with g' | ⟨s', q1, q2, g'⟩
  · rw [g']; rfl
  · have e : nI s' = nI s := q2.symm.trans ho
    rw [g', (ak_ni (by omega) (by omega)).mp e, List.erase_cons_head]
/-- a processor without a thread is taken -/
theorem ai_tk0 {p s : Nat} (I : ak_I P S T c F) (hp : p < P) (hs : s < S) (ho : (c 3) p = nI s) (hth : (c 4) p = -1) : ak_I P S T (ak_sa (ak_sa c 3 (upd (c 3) p (-1))) 2 (upd (c 2) p 0)) (F.erase (20 + s, p)) := by
  have hZ := ai_Z I
  have hLH := ai_LH I
  have sj : ak_sj (20 + s, p) = 16 + p := ak_sjp (by omega)
  exact ak_up (p := p) (t := 99) I (fun q hq => by omega) (fun q hq z => ⟨pk_un z, pk_un z, rfl⟩) (fun x z => rfl) (fun x _ z => ak_V_en (by omega))
    (fun h => Or.inl ⟨pk_us, pk_us, hth⟩) (fun q hq _ => ai_n99 I q hq) (fun _ hn => absurd hth hn) (fun h => by omega)
    (fun h => Or.inl (ai_PV0 I hp hs ho)) (fun f hf => Or.inl (List.mem_of_mem_erase hf)) hLH
/-- a processor with a thread is taken -/
theorem ai_tk {p t s : Nat} (I : ak_I P S T c F) (hp : p < P) (hs : s < S) (ho : (c 3) p = nI s) (hth : (c 4) p = nI t) (htT : t < T) : ak_I P S T (ak_sa (ak_sa (ak_sa (ak_sa c 4 (upd (c 4) p (-1))) 5 (upd (c 5) t 5)) 3 (upd (c 3) p (-1))) 2 (upd (c 2) p 0)) (F.erase (20 + s, p) ++ [(20 + s, 16 + t)]) := by
  have hZ := ai_Z I
  have hLu : ak_LH S T (c 14) (c 6) (upd (c 5) t 5) := ak_LH_up (ai_LH I) (fun y _ => ak_u0 (by decide) y)
  obtain ⟨s', k, t', q1, q2, q3, q4, q5, q6, q7, q8⟩ := ak_run I hp (by rw [hth]; exact ak_n1 (by omega))
  have e1 : t = t' := (ak_ni (by omega) (by omega)).mp (hth.symm.trans q6)
  have e2 : s = s' := (ak_ni (by omega) (by omega)).mp (ho.symm.trans q2)
  subst e1 e2
  obtain ⟨s1, j, a, r1, r2, r3, r4, r5, r6, r7, r8⟩ := ak_thr I htT (by rw [q7]; decide)
  have hV : ak_V F t = [] := by
    rw [q7] at r8
    rcases r8 with ⟨_, y⟩ | ⟨y, _⟩ | ⟨y, _⟩ | ⟨y, _⟩ | ⟨y, _⟩
    · exact y
    all_goals exact absurd y (by decide)
  have sj : ak_sj (20 + s, p) = 16 + p := ak_sjp (by omega)
  have sj2 : ak_sj (20 + s, 16 + t) = t := ak_sjn (by omega) (by omega)
  exact ak_up (p := p) (t := t) I (fun q hq => by omega) (fun q hq z => ⟨pk_un z, pk_un z, pk_un z⟩) (fun x z => pk_un z) (fun x z1 z2 => by rw [ak_V_an (by omega), ak_V_en (by omega)])
    (fun h => Or.inl ⟨pk_us, pk_us, pk_us⟩) (ak_nrun2 I hp (by omega) hth) (fun _ hn => absurd pk_us hn)
    (fun _ => Or.inr ⟨s, hs, j, r2, a, r3, q8, r5, r6, r7, Or.inr (Or.inr (Or.inr (Or.inr ⟨pk_us, Or.inl (by rw [ak_V_as sj2, ak_V_en (by omega), hV]; rfl)⟩)))⟩)
    (fun h => Or.inl (by rw [ak_V_an (by omega)]; exact ai_PV0 I hp hs ho)) (ak_era_in (Or.inl (by omega))) hLu
/-- a running thread has no fact -/
theorem ai_run {p t : Nat} (I : ak_I P S T c F) (hp : p < P) (hth : (c 4) p = nI t) (ht : t < 100) : ∃ s j a k, s < S ∧ j < 3 ∧ a < 64 ∧ (k = 4 ∨ k = 5) ∧ t < T ∧ (c 3) p = nI s ∧ (c 2) p = nI k ∧ (c 5) t = 1 ∧ (c 6) t = nI s ∧ (c 7) t = nI j ∧ (c 15) t = nI a ∧ (c 16) t = nI a ∧ ak_V F t = [] := by
  have hZ := ai_Z I
  obtain ⟨s', k, t', q1, q2, q3, q4, q5, q6, q7, q8⟩ := ak_run I hp (by rw [hth]; exact ak_n1 (by omega))
  have e1 : t = t' := (ak_ni (by omega) (by omega)).mp (hth.symm.trans q6)
  subst e1
  obtain ⟨s1, j, a, r1, r2, r3, r4, r5, r6, r7, r8⟩ := ak_thr I q5 (by rw [q7]; decide)
  have hV : ak_V F t = [] := by
    rw [q7] at r8
    rcases r8 with ⟨_, y⟩ | ⟨y, _⟩ | ⟨y, _⟩ | ⟨y, _⟩ | ⟨y, _⟩
    · exact y
    all_goals exact absurd y (by decide)
  exact ⟨s', j, a, k, q1, r2, r3, q3, q5, q2, q4, q7, q8, r5, r6, r7, hV⟩
/-- raise: the thread is saved, its processor delivers -/
theorem ai_rai {p t s : Nat} (I : ak_I P S T c F) (hp : p < P) (hs : s < S) (ho : (c 3) p = nI s) (hth : (c 4) p = nI t) (htT : t < T) : ak_I P S T (ak_sa (ak_sa (ak_sa c 4 (upd (c 4) p (-1))) 5 (upd (c 5) t 5)) 2 (upd (c 2) p 3)) (F ++ [(20 + s, 16 + t)]) := by
  have hZ := ai_Z I
  obtain ⟨s', j, a, k, q1, q2, q3, q4, q5, q6, q7, q8, q9, r1, r2, r3, hV⟩ := ai_run I hp hth (by omega)
  have e2 : s = s' := (ak_ni (by omega) (by omega)).mp (ho.symm.trans q6)
  subst e2
  have sj2 : ak_sj (20 + s, 16 + t) = t := ak_sjn (by omega) (by omega)
  have := ai_off (k := 5) (j := 3) (e := (20 + s, 16 + t)) I hp hs ho hth htT q9 q2 r1 q3 r2 r3 hV (by omega) (by omega) (by omega) (by omega) sj2 (Or.inr (Or.inr (Or.inr (Or.inr ⟨rfl, Or.inl rfl⟩))))
  exact this
/-- a thread is woken -/
theorem ai_wak {t s : Nat} (I : ak_I P S T c F) (htT : t < T) (hs : s < S) (hh : (c 6) t = nI s) (h4 : (c 5) t = 4) : ak_I P S T (ak_sa c 5 (upd (c 5) t 5)) (F ++ [(20 + s, 48 + t)]) := by
  have hZ := ai_Z I
  have hLu : ak_LH S T (c 14) (c 6) (upd (c 5) t 5) := ak_LH_up (ai_LH I) (fun y _ => ak_u0 (by decide) y)
  have sj2 : ak_sj (20 + s, 48 + t) = t := ak_sjn (by omega) (by omega)
  obtain ⟨s', j, a, q1, q2, q3, q4, q5, q6, q7, q8⟩ := ak_thr I htT (by rw [h4]; decide)
  have e2 : s = s' := (ak_ni (by omega) (by omega)).mp (hh.symm.trans q4)
  subst e2
  refine ak_up (p := 50) (t := t) I (fun q hq => by omega) (fun q hq z => ⟨rfl, rfl, rfl⟩) (fun x z => pk_un z) (fun x z _ => ak_V_an (by omega))
    (fun h => by omega) (fun q hq _ => ak_nrun I (by omega) (by rw [h4]; decide) q hq) (fun h => by omega)
    (fun _ => Or.inr ⟨s, hs, j, q2, a, q3, q4, q5, q6, q7, Or.inr (Or.inr (Or.inr (Or.inr ⟨pk_us, ?_⟩)))⟩)
    (fun h => by omega) (ak_app_in (Or.inl (by omega))) hLu
  rw [ak_V_as sj2]
  rw [h4] at q8
  rcases q8 with ⟨y, _⟩ | ⟨y, _⟩ | ⟨y, _⟩ | ⟨_, y | y⟩ | ⟨y, _⟩
  · exact absurd y (by decide)
  · exact absurd y (by decide)
  · exact absurd y (by decide)
  · rw [y]; exact Or.inr (Or.inl rfl)
  · rw [y]; exact Or.inr (Or.inr rfl)
  · exact absurd y (by decide)
/-- the list holder changes -/
theorem ai_lh {lh' : Nat → Int32} (I : ak_I P S T c F) (h : ak_LH S T lh' (c 6) (c 5)) : ak_I P S T (ak_sa c 14 (lh')) F := by
  obtain ⟨h0, h1, h2, h3, h4, h5, h6, h7, h8⟩ := I
  exact ⟨h0, h1, h2, h3, h4, h5, h6, h7, h⟩
theorem ak_LH_st {lh : Nat → Int32} {hom plc : Nat → Int32} {s : Nat} {x : Int32} (h : ak_LH S T lh hom plc) (hx : x = -1 ∨ ∃ t, t < T ∧ x = nI t ∧ hom t = nI s ∧ ¬ plc t = 0) : ak_LH S T (upd lh s x) hom plc := by
  intro r hr
  by_cases z : r = s
  · subst z; rw [pk_us]; exact hx
  · rw [pk_un z]; exact h r hr
/-- a thread is spawned -/
theorem ai_spn {t s j a : Nat} {val : Nat → Int32} (I : ak_I P S T c F) (htT : t < T) (h0 : (c 5) t = 0) (hs : s < S) (hj : j < 3) (ha : a < 64) : ak_I P S T (ak_sa (ak_sa (ak_sa (ak_sa (ak_sa (ak_sa c 6 (upd (c 6) t (nI s))) 7 (upd (c 7) t (nI j))) 15 (upd (c 15) t (nI a))) 16 (upd (c 16) t (nI a))) 8 (val)) 5 (upd (c 5) t 5)) (F ++ [(20 + s, 48 + t)]) := by
  have hZ := ai_Z I
  have sj2 : ak_sj (20 + s, 48 + t) = t := ak_sjn (by omega) (by omega)
  have hV : ak_V F t = [] := by
    rcases ai_TV I htT with g | ⟨s', q1, j, q2, a, q3, q4, q5, q6, q7, g5⟩
    · exact g.2
    · rw [h0] at g5
      rcases g5 with ⟨y, _⟩ | ⟨y, _⟩ | ⟨y, _⟩ | ⟨y, _⟩ | ⟨y, _⟩
      all_goals exact absurd y (by decide)
  have hnr := ak_nrun I (t := t) (by omega) (by rw [h0]; decide)
  obtain ⟨g0, g1, g2, g3, g4, g5, g6, g7, g8⟩ := I
  refine ⟨g0, g1, g2, fun p hp => ?_, g4, fun y hy => ?_, fun p hp => ?_, fun e he => ?_, fun r hr => ?_⟩
  · rcases g3 p hp with y | ⟨r, y1, y2, y3 | ⟨k, x, z1, z2, z3, z4, z5, z6⟩⟩
    · exact Or.inl y
    · exact Or.inr ⟨r, y1, y2, Or.inl y3⟩
    · have ne : x ≠ t := fun w => hnr p hp (by rw [z4, w])
      exact Or.inr ⟨r, y1, y2, Or.inr ⟨k, x, z1, z2, z3, z4, (pk_un ne).trans z5, (pk_un ne).trans z6⟩⟩
  · by_cases z : y = t
    · subst z
      exact Or.inr ⟨s, hs, j, hj, a, ha, pk_us, pk_us, pk_us, pk_us, Or.inr (Or.inr (Or.inr (Or.inr ⟨pk_us, Or.inr (Or.inl (by rw [ak_V_as sj2, hV]; rfl))⟩)))⟩
    · have := g5 y hy
      show ak_TV S y (upd (c 5) t 5 y) (upd (c 6) t (nI s) y) (upd (c 7) t (nI j) y) (upd (c 15) t (nI a) y) (upd (c 16) t (nI a) y) (ak_V (F ++ [(20 + s, 48 + t)]) y)
      rw [pk_un z, pk_un z, pk_un z, pk_un z, pk_un z, ak_V_an (by omega)]
      exact this
  · rw [ak_V_an (by omega)]; exact g6 p hp
  · rcases ak_app_in (P := P) (T := T) (Or.inl (by omega)) e he with y | y
    · exact g7 e y
    · exact y
  · rcases g8 r hr with y | ⟨x, z1, z2, z3, z4⟩
    · exact Or.inl y
    · have ne : x ≠ t := fun w => z4 (by rw [w]; exact h0)
      exact Or.inr ⟨x, z1, z2, (pk_un ne).trans z3, fun w => z4 ((pk_un ne).symm.trans w)⟩
/-- a live thread's pc changes -/
theorem ai_pc {t a : Nat} (I : ak_I P S T c F) (htT : t < T) (ha : a < 64) : ak_I P S T (ak_sa (ak_sa c 15 (upd (c 15) t (nI a))) 16 (upd (c 16) t (nI a))) F := by
  obtain ⟨g0, g1, g2, g3, g4, g5, g6, g7, g8⟩ := I
  refine ⟨g0, g1, g2, g3, g4, fun y hy => ?_, g6, g7, g8⟩
  by_cases z : y = t
  · subst z
    rcases g5 y hy with w | ⟨s, hs, j, hj, b, hb, r1, r2, r3, r4, r5⟩
    · exact Or.inl w
    · exact Or.inr ⟨s, hs, j, hj, a, ha, r1, r2, pk_us, pk_us, r5⟩
  · have := g5 y hy
    show ak_TV S y ((c 5) y) ((c 6) y) ((c 7) y) (upd (c 15) t (nI a) y) (upd (c 16) t (nI a) y) (ak_V F y)
    rw [pk_un z, pk_un z]
    exact this
/-- X alone stores a pc: the thread ends -/
theorem ai_px {px' : Nat → Int32} (I : ak_I P S T c F) (h : ∀ y, y < T → ¬ (c 5) y = 0 → px' y = (c 15) y) : ak_I P S T (ak_sa c 15 (px')) F := by
  obtain ⟨g0, g1, g2, g3, g4, g5, g6, g7, g8⟩ := I
  refine ⟨g0, g1, g2, g3, g4, fun y hy => ?_, g6, g7, g8⟩
  rcases g5 y hy with w | ⟨s, hs, j, hj, b, hb, r1, r2, r3, r4, r5⟩
  · exact Or.inl w
  · refine Or.inr ⟨s, hs, j, hj, b, hb, r1, r2, (h y hy (fun z => ?_)).trans r3, r4, r5⟩
    rw [z] at r5
    rcases r5 with ⟨y, _⟩ | ⟨y, _⟩ | ⟨y, _⟩ | ⟨y, _⟩ | ⟨y, _⟩
    all_goals exact absurd y (by decide)
/-- priorities, demands -/
theorem ai_dem {pri' dem' : Nat → Int32} (I : ak_I P S T c F) (h : ∀ s, s < S → (∃ r, r < 4 ∧ pri' s = nI r) ∧ ∃ d, d < 7 ∧ dem' s = nI d) : ak_I P S T (ak_sa (ak_sa c 10 (pri')) 11 (dem')) F := by
  obtain ⟨g0, g1, g2, g3, g4, g5, g6, g7, g8⟩ := I
  exact ⟨g0, g1, h, g3, g4, g5, g6, g7, g8⟩
theorem ai_cop {cop' : Nat → Int32} {x : Nat → Int32} (I : ak_I P S T c F) (h : ∀ a, a < 64 → ∃ o, o < 13 ∧ cop' a = nI o) : ak_I P S T (ak_sa (ak_sa c 0 (cop')) 1 (x)) F := by
  obtain ⟨g0, g1, g2, g3, g4, g5, g6, g7, g8⟩ := I
  exact ⟨g0, h, g2, g3, g4, g5, g6, g7, g8⟩
end
end
section
/-! settle, first and second stage -/
def ak_SX (P S T : Nat) (c : Nat → Nat → Int32) (F : List (Nat × Nat)) (c' : Nat → Nat → Int32) (F' : List (Nat × Nat)) (W : (SX → Prop) → SX → Prop) : Prop :=
  ∀ (post : SX → Prop) (u : SX), ak_RX P S T c F u → ak_KX P S T c' F' post → W post u
def ak_SY (P S T : Nat) (c : Nat → Nat → Int32) (F : List (Nat × Nat)) (c' : Nat → Nat → Int32) (F' : List (Nat × Nat)) (W : (SY → Prop) → SY → Prop) : Prop :=
  ∀ (post : SY → Prop) (v : SY), ak_RY P S T c F v → ak_KY P S T c' F' post → W post v
section
variable {P S T : Nat} {c : Nat → Nat → Int32} {F : List (Nat × Nat)} {fs : Int32} {nx qh qt ql pe nn np nh nt nl os oc ss : Nat → Int32}
/-- the set of the processors of s in state k -/
theorem ax_lows {post : Int32 → Prop} {s k : Nat} {r : Int32} (R : ak_PX P S T (c 2) (c 3) F fs nx qh qt ql pe nn np nh nt nl os oc ss) (hs : s < 4) (hk : k < 6) (h : ak_LW (fun p => (c 3) p = nI s ∧ (c 2) p = nI k) P r) (K : post r) : wpX_lowest post (nI P, nI S, nI T, fs, c 0, c 1, c 2, c 3, c 4, c 5, c 6, c 7, c 15, c 8, nx, qh, qt, ql, pe, nn, np, nh, nt, nl, c 9, c 10, c 11, c 17, c 12, c 13, c 14, os, oc, ss) (ss (s * 6 + k)) :=
  ax_low ((R.2.2.2.2.2 s hs).2.2 k hk) R.1.2.1 (fun p _ => decide_eq_true_iff) h K
theorem ax_higs {post : Int32 → Prop} {s k : Nat} {r : Int32} (R : ak_PX P S T (c 2) (c 3) F fs nx qh qt ql pe nn np nh nt nl os oc ss) (hs : s < 4) (hk : k < 6) (h : ak_HW (fun p => (c 3) p = nI s ∧ (c 2) p = nI k) P r) (K : post r) : wpX_highest post (nI P, nI S, nI T, fs, c 0, c 1, c 2, c 3, c 4, c 5, c 6, c 7, c 15, c 8, nx, qh, qt, ql, pe, nn, np, nh, nt, nl, c 9, c 10, c 11, c 17, c 12, c 13, c 14, os, oc, ss) (ss (s * 6 + k)) :=
  ax_high ((R.2.2.2.2.2 s hs).2.2 k hk) R.1.2.1 (fun p _ => decide_eq_true_iff) h K
theorem ak_nl0 {s : Nat} (R : ak_PX P S T (c 2) (c 3) F fs nx qh qt ql pe nn np nh nt nl os oc ss) (hs : s < 4) : nl s = 0 ↔ ak_it F (20 + s) = [] := by
  have h1 := (R.2.2.2.1.1 s hs).1
  have hl := ak_it_len F (20 + s)
  have hlF := ak_W_len R.2.1
  rw [h1]
  constructor
  · intro z
    exact List.length_eq_zero_iff.mp ((ak_ni (b := 0) (by omega) (by omega)).mp z)
  · intro z
    rw [z]; rfl
theorem ak_own_s (I : ak_I P S T c F) {p s : Nat} (hp : p < P) (hs : s < S) (ho : (c 3) p = nI s) : (∃ k, 1 ≤ k ∧ k ≤ 3 ∧ (c 2) p = nI k ∧ (c 4) p = -1) ∨ ∃ k t, (k = 4 ∨ k = 5) ∧ (c 2) p = nI k ∧ t < T ∧ (c 4) p = nI t ∧ (c 5) t = 1 ∧ (c 6) t = nI s := by
  have hZ := ai_Z I
  rcases I.2.2.2.1 p hp with g | ⟨s', hs', ho', g⟩
  · exact absurd (g.1.symm.trans ho) (ak_1n (by omega))
  · have e := (ak_ni (by omega) (by omega)).mp (ho'.symm.trans ho)
    subst e
    exact g
/-- state 1, 2 or 3: no thread -/
theorem ak_noth (I : ak_I P S T c F) {p s k : Nat} (hp : p < P) (hs : s < S) (ho : (c 3) p = nI s) (hk : (c 2) p = nI k) (hk3 : k ≤ 3) : (c 4) p = -1 := by
  rcases ak_own_s I hp hs ho with ⟨k', _, _, _, g⟩ | ⟨k', t, g1, g2, _⟩
  · exact g
  · have := (ak_ni (by omega) (by omega)).mp (hk.symm.trans g2)
    omega
theorem ak_th (I : ak_I P S T c F) {p s k : Nat} (hp : p < P) (hs : s < S) (ho : (c 3) p = nI s) (hk : (c 2) p = nI k) (hk3 : k = 4 ∨ k = 5) : ∃ t, t < T ∧ (c 4) p = nI t ∧ (c 5) t = 1 ∧ (c 6) t = nI s := by
  rcases ak_own_s I hp hs ho with ⟨k', g1, g2, g3, g⟩ | ⟨k', t, g1, g2, g3, g4, g5, g6⟩
  · have := (ak_ni (by omega) (by omega)).mp (hk.symm.trans g3)
    omega
  · exact ⟨t, g3, g4, g5, g6⟩
theorem as_ret {s : Nat} (I : ak_I P S T c F) (hs : s < S) : ∃ c1, ak_I P S T c1 F ∧ (c1 14) = (c 14) ∧
    ak_SX P S T c F c1 F (fun post u => wpX_retireUpcall post u (nI s)) ∧
    ∀ (post : SY → Prop) (n : Nat), (∀ (fa fb fi : Nat → Int32), ak_PY P S T F fa fb fi → wY_settle_40 post (wY_settle_2 post n) (nI s) (nI P) (nI S) (nI T) (nI F.length) (c1 2) (c1 3) (c1 4) (c1 5) (c1 6) (c1 7) (c1 16) (c1 8) (c1 0) (c1 1) (c1 10) (c1 11) (c1 17) (c1 14) (c1 12) (c1 9) (c1 13) fa fb fi) → ∀ (fa fb fi : Nat → Int32), ak_PY P S T F fa fb fi → wY_settle_2 post (n + 1) (nI s) (nI P) (nI S) (nI T) (nI F.length) (c 2) (c 3) (c 4) (c 5) (c 6) (c 7) (c 16) (c 8) (c 0) (c 1) (c 10) (c 11) (c 17) (c 14) (c 12) (c 9) (c 13) fa fb fi := by
  have hZ := ai_Z I
  have hs4 : s < 4 := by omega
  have is : vp_in (nI s) 4 := ak_in hs4 (by omega)
  have es : (nI s).toNatClampNeg = s := ak_cl (by omega)
  have i3 : vp_in (nI s * 6 + 3) 24 := by rw [show (3 : Int32) = nI 3 from rfl, ak_m6]; exact ak_in (by omega) (by omega)
  have e3 : (nI s * 6 + 3).toNatClampNeg = s * 6 + 3 := by rw [show (3 : Int32) = nI 3 from rfl, ak_m6]; exact ak_cl (by omega)
  have hsS : ¬ nI S ≤ nI s := nI_ge hs (by omega)
  obtain ⟨r, hr⟩ := ak_LW_ex (fun p => (c 3) p = nI s ∧ (c 2) p = nI 3) P
  have hli : ak_li F s 3 = ak_it F (20 + s) := by unfold ak_li; rw [if_neg (by omega), if_pos rfl]
  have hLV := ai_LV I
  by_cases hL : ak_it F (20 + s) = []
  · rcases hr' : hr with ⟨h1, h2⟩ | ⟨p, h1, h2, h3, h4⟩
    · refine ⟨c, I, rfl, ?_, ?_⟩
      · intro post u R K
        refine ak_elX (M := fun u => wpX_retireUpcall post u (nI s)) R ?_
        intro fs nx qh qt ql pe nn np nh nt nl os oc ss R
        refine And.intro is ?_
        rw [es]
        refine br_t ((ak_nl0 R hs4).mpr hL) (And.intro i3 ?_)
        rw [e3]
        refine ax_lows R hs4 (by omega) hr ?_
        exact br_t h1 (K _ _ _ _ _ _ _ _ _ _ _ _ _ _ R)
      · intro post n K fa fb fi R
        refine br_f hsS ?_
        refine ay_low (k := 3) (ak_mkY R) hr ?_
        exact br_t h1 (K _ _ _ R)
    · refine ⟨(ak_sa c 2 (upd (c 2) p 2)), ai_st (j := 2) I h1 hs h3.1 (ak_noth I h1 hs h3.1 h3.2 (by omega)) (by omega) (by omega), rfl, ?_, ?_⟩
      · intro post u R K
        refine ak_elX (M := fun u => wpX_retireUpcall post u (nI s)) R ?_
        intro fs nx qh qt ql pe nn np nh nt nl os oc ss R
        refine And.intro is ?_
        rw [es]
        refine br_t ((ak_nl0 R hs4).mpr hL) (And.intro i3 ?_)
        rw [e3]
        refine ax_lows R hs4 (by omega) hr ?_
        subst h2
        refine br_f (ak_n1 (by omega)) ?_
        refine ax_set (j := 2) (ak_mkX R) h1 h3.1 hs4 h3.2 (by omega) (by omega) ?_
        intro fs nx qh qt ql pe nn np nh nt nl os oc ss R
        exact K _ _ _ _ _ _ _ _ _ _ _ _ _ _ R
      · intro post n K fa fb fi R
        refine br_f hsS ?_
        refine ay_low (k := 3) (ak_mkY R) hr ?_
        subst h2
        refine br_f (ak_n1 (by omega)) ?_
        refine ay_lis (l := 3) (k := 0) (ak_mkY R) hLV hs (by omega) (by omega) ?_
        rw [hli, hL]
        exact br_t rfl (And.intro (ak_in (show p < 6 by omega) (by omega)) (nm_r (e' := upd (c 2) p 2) (by rw [ak_cl (by omega)]) (K _ _ _ R)))
  · refine ⟨c, I, rfl, ?_, ?_⟩
    · intro post u R K
      refine ak_elX (M := fun u => wpX_retireUpcall post u (nI s)) R ?_
      intro fs nx qh qt ql pe nn np nh nt nl os oc ss R
      refine And.intro is ?_
      rw [es]
      exact br_f (fun z => hL ((ak_nl0 R hs4).mp z)) (K _ _ _ _ _ _ _ _ _ _ _ _ _ _ R)
    · intro post n K fa fb fi R
      refine br_f hsS ?_
      refine ay_low (k := 3) (ak_mkY R) hr ?_
      refine br_c (fun _ => K _ _ _ R) (fun _ => ?_)
      refine ay_lis (l := 3) (k := 0) (ak_mkY R) hLV hs (by omega) (by omega) ?_
      rw [hli, List.drop_zero]
      refine br_f ?_ (K _ _ _ R)
      rcases hh : ak_it F (20 + s) with _ | ⟨a, m⟩
      · exact absurd hh hL
      · exact ak_n1 (a := a) (by have := ak_W_i64 (ai_W I) (q := 20 + s) (by omega) (show a ∈ ak_it F (20 + s) by rw [hh]; exact List.mem_cons_self ..); omega)
/-! who delivers -/
theorem ak_HW_u {b : Nat → Prop} {N : Nat} {r r' : Int32} (h : ak_HW b N r) (h' : ak_HW b N r') : r = r' := by
  rcases h with ⟨h1, h2⟩ | ⟨q, h1, h2, h3, h4⟩
  · rcases h' with ⟨g1, g2⟩ | ⟨q', g1, g2, g3, g4⟩
    · rw [h1, g1]
    · exact absurd g3 (h2 q' g1)
  · rcases h' with ⟨g1, g2⟩ | ⟨q', g1, g2, g3, g4⟩
    · exact absurd h3 (g2 q h1)
    · rcases Nat.lt_trichotomy q q' with z | z | z
      · exact absurd g3 (h4 q' z g1)
      · rw [h2, g2, z]
      · exact absurd h3 (g4 q z h1)
theorem ay_58 {post : SY → Prop} {s : Nat} {r : Int32} {fa fb fi : Nat → Int32} (hP : P ≤ 6) (h : ak_HW (fun p => (c 3) p = nI s ∧ (c 2) p = nI 4) P r) (K : wY_appoint_94 post r (nI P) (nI S) (nI T) (nI F.length) (c 2) (c 3) (c 4) (c 5) (c 6) (c 7) (c 16) (c 8) (c 0) (c 1) (c 10) (c 11) (c 17) (c 14) (c 12) (c 9) (c 13) fa fb fi) : ∀ d n p x, p + d = P → d < n → ak_HW (fun p => (c 3) p = nI s ∧ (c 2) p = nI 4) p x → wY_appoint_58 post (nI s) (nI P) (nI S) (nI T) (nI F.length) (c 2) (c 3) (c 4) (c 5) (c 6) (c 7) (c 16) (c 8) (c 0) (c 1) (c 10) (c 11) (c 17) (c 14) (c 12) (c 9) (c 13) fa fb fi n x (nI p) := by
  intro d
  induction d with
  | zero =>
    intro n p x hp hn hx
    obtain ⟨n, rfl⟩ : ∃ m, n = m + 1 := ⟨n - 1, by omega⟩
    have e : p = P := by omega
    subst e
    rw [ak_HW_u hx h]
    exact br_t (nI_le (Nat.le_refl _) (by omega)) K
  | succ d ih =>
    intro n p x hp hn hx
    obtain ⟨n, rfl⟩ : ∃ m, n = m + 1 := ⟨n - 1, by omega⟩
    have ip : vp_in (nI p) 6 := ak_in (by omega) (by omega)
    have ep : (nI p).toNatClampNeg = p := ak_cl (by omega)
    have keep : ¬ ((c 3) p = nI s ∧ (c 2) p = nI 4) → ak_HW (fun p => (c 3) p = nI s ∧ (c 2) p = nI 4) (p + 1) x := by
      intro hb
      rcases hx with ⟨g1, g2⟩ | ⟨q, g1, g2, g3, g4⟩
      · refine Or.inl ⟨g1, fun q hq => ?_⟩
        by_cases z : q = p
        · rw [z]; exact hb
        · exact g2 q (by omega)
      · refine Or.inr ⟨q, by omega, g2, g3, fun q' h1 h2 => ?_⟩
        by_cases z : q' = p
        · rw [z]; exact hb
        · exact g4 q' h1 (by omega)
    refine br_f (nI_ge (by omega) (by omega)) (And.intro ip ?_)
    rw [ep]
    refine br_c (fun e1 => And.intro ip (br_c (fun e2 => nm_r (nI_1 p) ?_) (fun e2 => nm_r (nI_1 p) (ih n (p + 1) x (by omega) (by omega) (keep (fun y => e2 y.2)))))) (fun e1 => nm_r (nI_1 p) (ih n (p + 1) x (by omega) (by omega) (keep (fun y => e1 y.1))))
    exact ih n (p + 1) (nI p) (by omega) (by omega) (Or.inr ⟨p, by omega, rfl, ⟨e1, e2⟩, fun q' h1 h2 => by omega⟩)
/-- r is chosen to deliver -/
def ak_CH (P : Nat) (c : Nat → Nat → Int32) (s : Nat) (r2 r1 r : Int32) : Prop :=
  ak_LW (fun p => (c 3) p = nI s ∧ (c 2) p = nI 2) P r2 ∧ ak_LW (fun p => (c 3) p = nI s ∧ (c 2) p = nI 1) P r1 ∧ ((¬ r2 = -1 ∧ r = r2) ∨ (r2 = -1 ∧ ((¬ r1 = -1 ∧ r = r1) ∨ (r1 = -1 ∧ ak_HW (fun p => (c 3) p = nI s ∧ (c 2) p = nI 4) P r))))
theorem ak_CH_ex (P : Nat) (c : Nat → Nat → Int32) (s : Nat) : ∃ r2 r1 r, ak_CH P c s r2 r1 r := by
  obtain ⟨r2, h2⟩ := ak_LW_ex (fun p => (c 3) p = nI s ∧ (c 2) p = nI 2) P
  obtain ⟨r1, h1⟩ := ak_LW_ex (fun p => (c 3) p = nI s ∧ (c 2) p = nI 1) P
  obtain ⟨r, h⟩ := ak_HW_ex (fun p => (c 3) p = nI s ∧ (c 2) p = nI 4) P
  by_cases z2 : r2 = -1
  · by_cases z1 : r1 = -1
    · exact ⟨r2, r1, r, h2, h1, Or.inr ⟨z2, Or.inr ⟨z1, h⟩⟩⟩
    · exact ⟨r2, r1, r1, h2, h1, Or.inr ⟨z2, Or.inl ⟨z1, rfl⟩⟩⟩
  · exact ⟨r2, r1, r2, h2, h1, Or.inl ⟨z2, rfl⟩⟩
theorem ak_CH_r {s : Nat} {r2 r1 r : Int32} (h : ak_CH P c s r2 r1 r) : r = -1 ∨ ∃ p k, p < P ∧ r = nI p ∧ (c 3) p = nI s ∧ (c 2) p = nI k ∧ (k = 2 ∨ k = 1 ∨ k = 4) := by
  obtain ⟨h2, h1, h⟩ := h
  rcases h with ⟨z, rfl⟩ | ⟨z, ⟨y, rfl⟩ | ⟨y, h⟩⟩
  · rcases h2 with g | ⟨q, g1, g2, g3, g4⟩
    · exact absurd g.1 z
    · exact Or.inr ⟨q, 2, g1, g2, g3.1, g3.2, Or.inl rfl⟩
  · rcases h1 with g | ⟨q, g1, g2, g3, g4⟩
    · exact absurd g.1 y
    · exact Or.inr ⟨q, 1, g1, g2, g3.1, g3.2, Or.inr (Or.inl rfl)⟩
  · rcases h with g | ⟨q, g1, g2, g3, g4⟩
    · exact Or.inl g.1
    · exact Or.inr ⟨q, 4, g1, g2, g3.1, g3.2, Or.inr (Or.inr rfl)⟩
theorem ax_ch {post : Int32 → Prop} {s : Nat} {r2 r1 r : Int32} (R : ak_PX P S T (c 2) (c 3) F fs nx qh qt ql pe nn np nh nt nl os oc ss) (hs : s < 4) (h : ak_CH P c s r2 r1 r) (K : post r) : wpX_chooseForUpcall post (nI P, nI S, nI T, fs, c 0, c 1, c 2, c 3, c 4, c 5, c 6, c 7, c 15, c 8, nx, qh, qt, ql, pe, nn, np, nh, nt, nl, c 9, c 10, c 11, c 17, c 12, c 13, c 14, os, oc, ss) (nI s) := by
  have idx : ∀ k, k < 6 → vp_in (nI s * 6 + nI k) 24 ∧ (nI s * 6 + nI k).toNatClampNeg = s * 6 + k := fun k hk => by
    rw [ak_m6]; exact ⟨ak_in (by omega) (by omega), ak_cl (by omega)⟩
  obtain ⟨h2, h1, h⟩ := h
  refine And.intro (idx 2 (by omega)).1 ?_
  rw [show (nI s * 6 + 2).toNatClampNeg = s * 6 + 2 from (idx 2 (by omega)).2]
  refine ax_lows R hs (by omega) h2 ?_
  rcases h with ⟨z, rfl⟩ | ⟨z, h⟩
  · exact br_f z (br_f z K)
  · refine br_t z (And.intro (idx 1 (by omega)).1 ?_)
    rw [show (nI s * 6 + 1).toNatClampNeg = s * 6 + 1 from (idx 1 (by omega)).2]
    refine ax_lows R hs (by omega) h1 ?_
    rcases h with ⟨y, rfl⟩ | ⟨y, h⟩
    · exact br_f y K
    · refine br_t y (And.intro (idx 4 (by omega)).1 ?_)
      rw [show (nI s * 6 + 4).toNatClampNeg = s * 6 + 4 from (idx 4 (by omega)).2]
      exact ax_higs R hs (by omega) h K
theorem ay_ch {post : SY → Prop} {s : Nat} {r2 r1 r r3 r5 : Int32} {fa fb fi : Nat → Int32} (R : ak_PY P S T F fa fb fi) (hLV : ak_LV (c 7) F) (hs : s < S) (hs4 : s < 4) (hL : ¬ ak_it F (20 + s) = []) (h3 : ak_LW (fun p => (c 3) p = nI s ∧ (c 2) p = nI 3) P r3) (h5 : ak_LW (fun p => (c 3) p = nI s ∧ (c 2) p = nI 5) P r5) (h : ak_CH P c s r2 r1 r)
    (K0 : ¬ (r3 = -1 ∧ r5 = -1) → post (nI P, nI S, nI T, nI F.length, c 2, c 3, c 4, c 5, c 6, c 7, c 16, c 8, c 0, c 1, c 10, c 11, c 17, c 14, c 12, c 9, c 13, fa, fb, fi)) (K : r3 = -1 → r5 = -1 → wY_appoint_94 post r (nI P) (nI S) (nI T) (nI F.length) (c 2) (c 3) (c 4) (c 5) (c 6) (c 7) (c 16) (c 8) (c 0) (c 1) (c 10) (c 11) (c 17) (c 14) (c 12) (c 9) (c 13) fa fb fi) : wpY_appoint post (nI P, nI S, nI T, nI F.length, c 2, c 3, c 4, c 5, c 6, c 7, c 16, c 8, c 0, c 1, c 10, c 11, c 17, c 14, c 12, c 9, c 13, fa, fb, fi) (nI s) := by
  have hli : ak_li F s 3 = ak_it F (20 + s) := by unfold ak_li; rw [if_neg (by omega), if_pos rfl]
  unfold wpY_appoint
  refine ay_lis (l := 3) (k := 0) (ak_mkY R) hLV hs (by omega) (by omega) ?_
  rw [hli, List.drop_zero]
  refine br_f ?_ ?_
  · rcases hh : ak_it F (20 + s) with _ | ⟨a, m⟩
    · exact absurd hh hL
    · exact ak_n1 (a := a) (by have := ak_W_i64 R.2.1 (q := 20 + s) (by omega) (show a ∈ ak_it F (20 + s) by rw [hh]; exact List.mem_cons_self ..); omega)
  refine ay_low (k := 3) (ak_mkY R) h3 ?_
  refine br_c (fun z3 => ?_) (fun z3 => K0 (fun y => z3 y.1))
  refine ay_low (k := 5) (ak_mkY R) h5 ?_
  refine br_c (fun z5 => ?_) (fun z5 => K0 (fun y => z5 y.2))
  have K := K z3 z5
  obtain ⟨h2, h1, h⟩ := h
  refine ay_low (k := 2) (ak_mkY R) h2 ?_
  rcases h with ⟨z, rfl⟩ | ⟨z, h⟩
  · exact br_f z (br_f z K)
  · refine br_t z ?_
    refine ay_low (k := 1) (ak_mkY R) h1 ?_
    rcases h with ⟨y, rfl⟩ | ⟨y, h⟩
    · exact br_f y K
    · refine br_t y (Exists.intro (P + 1) ?_)
      rw [y]
      exact ay_58 R.1.2.1 h K P (P + 1) 0 (-1) (Nat.zero_add P) (by omega) (Or.inl ⟨rfl, fun q hq => absurd hq (Nat.not_lt_zero q)⟩)
theorem as_rai {s : Nat} (I : ak_I P S T c F) (hs : s < S) : ∃ c1 F1, ak_I P S T c1 F1 ∧ (c1 14) = (c 14) ∧
    ak_SX P S T c F c1 F1 (fun post u => wpX_raiseUpcall post u (nI s)) ∧ ak_SY P S T c F c1 F1 (fun post v => wpY_appoint post v (nI s)) := by
  have hZ := ai_Z I
  have hs4 : s < 4 := by omega
  have is : vp_in (nI s) 4 := ak_in hs4 (by omega)
  have es : (nI s).toNatClampNeg = s := ak_cl (by omega)
  have i3 : vp_in (nI s * 6 + 3) 24 := by rw [show (3 : Int32) = nI 3 from rfl, ak_m6]; exact ak_in (by omega) (by omega)
  have e3 : (nI s * 6 + 3).toNatClampNeg = s * 6 + 3 := by rw [show (3 : Int32) = nI 3 from rfl, ak_m6]; exact ak_cl (by omega)
  have i5 : vp_in (nI s * 6 + 5) 24 := by rw [show (5 : Int32) = nI 5 from rfl, ak_m6]; exact ak_in (by omega) (by omega)
  have e5 : (nI s * 6 + 5).toNatClampNeg = s * 6 + 5 := by rw [show (5 : Int32) = nI 5 from rfl, ak_m6]; exact ak_cl (by omega)
  obtain ⟨r3, h3⟩ := ak_LW_ex (fun p => (c 3) p = nI s ∧ (c 2) p = nI 3) P
  obtain ⟨r5, h5⟩ := ak_LW_ex (fun p => (c 3) p = nI s ∧ (c 2) p = nI 5) P
  obtain ⟨r2, r1, r, hc⟩ := ak_CH_ex P c s
  have hLV := ai_LV I
  have hli : ak_li F s 3 = ak_it F (20 + s) := by unfold ak_li; rw [if_neg (by omega), if_pos rfl]
  by_cases hL : ak_it F (20 + s) = []
  · refine ⟨c, F, I, rfl, ?_, ?_⟩
    · intro post u R K
      refine ak_elX (M := fun u => wpX_raiseUpcall post u (nI s)) R ?_
      intro fs nx qh qt ql pe nn np nh nt nl os oc ss R
      refine And.intro is ?_
      rw [es]
      exact br_t ((ak_nl0 R hs4).mpr hL) (K _ _ _ _ _ _ _ _ _ _ _ _ _ _ R)
    · intro post v R K
      refine ak_elY (M := fun v => wpY_appoint post v (nI s)) R ?_
      intro fa fb fi R
      unfold wpY_appoint
      refine ay_lis (l := 3) (k := 0) (ak_mkY R) hLV hs (by omega) (by omega) ?_
      rw [hli, hL]
      exact br_t rfl (K _ _ _ R)
  -- X's test on the two sets
  have test : ∀ (fs : Int32) (nx qh qt ql pe nn np nh nt nl os oc ss : Nat → Int32), ak_PX P S T (c 2) (c 3) F fs nx qh qt ql pe nn np nh nt nl os oc ss → ((ss (s * 6 + 3) ||| ss (s * 6 + 5)) = 0 ↔ (r3 = -1 ∧ r5 = -1)) := by
    intro fs nx qh qt ql pe nn np nh nt nl os oc ss R
    rw [(R.2.2.2.2.2 s hs4).2.2 3 (by omega), (R.2.2.2.2.2 s hs4).2.2 5 (by omega), ak_bt_or0]
    constructor
    · intro h
      constructor
      · rcases h3 with g | ⟨q, g1, g2, g3, g4⟩
        · exact g.1
        · have := (h q (by omega)).1
          rw [decide_eq_false_iff_not] at this
          exact absurd ⟨g1, g3⟩ this
      · rcases h5 with g | ⟨q, g1, g2, g3, g4⟩
        · exact g.1
        · have := (h q (by omega)).2
          rw [decide_eq_false_iff_not] at this
          exact absurd ⟨g1, g3⟩ this
    · rintro ⟨z3, z5⟩ p hp
      rw [decide_eq_false_iff_not, decide_eq_false_iff_not]
      constructor
      · rcases h3 with g | ⟨q, g1, g2, g3, g4⟩
        · exact fun y => g.2 p y.1 y.2
        · rw [g2] at z3; exact absurd z3 (ak_n1 (by omega))
      · rcases h5 with g | ⟨q, g1, g2, g3, g4⟩
        · exact fun y => g.2 p y.1 y.2
        · rw [g2] at z5; exact absurd z5 (ak_n1 (by omega))
  by_cases hu : r3 = -1 ∧ r5 = -1
  · rcases ak_CH_r hc with rfl | ⟨p, k, g1, rfl, g3, g4, g5⟩
    · refine ⟨c, F, I, rfl, ?_, ?_⟩
      · intro post u R K
        refine ak_elX (M := fun u => wpX_raiseUpcall post u (nI s)) R ?_
        intro fs nx qh qt ql pe nn np nh nt nl os oc ss R
        refine And.intro is ?_
        rw [es]
        refine br_f (fun z => hL ((ak_nl0 R hs4).mp z)) (And.intro i3 (And.intro i5 ?_))
        rw [e3, e5]
        exact br_t ((test fs nx qh qt ql pe nn np nh nt nl os oc ss R).mpr hu) (ax_ch R hs4 hc (br_t rfl (K _ _ _ _ _ _ _ _ _ _ _ _ _ _ R)))
      · intro post v R K
        refine ak_elY (M := fun v => wpY_appoint post v (nI s)) R ?_
        intro fa fb fi R
        exact ay_ch R hLV hs hs4 hL h3 h5 hc (fun z => absurd hu z) (fun _ _ => br_t rfl (K _ _ _ R))
    · by_cases z4 : k = 4
      · subst z4
        obtain ⟨t, t1, t2, t3, t4⟩ := ak_th I g1 hs g3 g4 (Or.inl rfl)
        obtain ⟨s', j, a, k', q1, q2, q3, q4, q5, q6, q7, q8, q9, w1, w2, w3, hV⟩ := ai_run I g1 t2 (by omega)
        have hcd := ak_free I hV (k := 1) (by omega) (Or.inl rfl)
        rw [Nat.one_mul] at hcd
        refine ⟨(ak_sa (ak_sa (ak_sa c 4 (upd (c 4) p (-1))) 5 (upd (c 5) t 5)) 2 (upd (c 2) p 3)), F ++ [(20 + s, 16 + t)], ai_rai I g1 hs g3 t2 t1, rfl, ?_, ?_⟩
        · intro post u R K
          refine ak_elX (M := fun u => wpX_raiseUpcall post u (nI s)) R ?_
          intro fs nx qh qt ql pe nn np nh nt nl os oc ss R
          refine And.intro is ?_
          rw [es]
          refine br_f (fun z => hL ((ak_nl0 R hs4).mp z)) (And.intro i3 (And.intro i5 ?_))
          rw [e3, e5]
          refine br_t ((test fs nx qh qt ql pe nn np nh nt nl os oc ss R).mpr hu) (ax_ch R hs4 hc (br_f (ak_n1 (by omega)) ?_))
          refine ax_pre (ak_mkX R) g1 t2 (by omega) t4 hs4 hcd ?_
          intro fs nx qh qt ql pe nn np nh nt nl os oc ss R
          refine ax_set (s := s) (k := 4) (j := 3) (ak_mkX (c := (ak_sa (ak_sa c 4 (upd (c 4) p (-1))) 5 (upd (c 5) t 5))) R) g1 g3 hs4 g4 (by omega) (by omega) ?_
          intro fs nx qh qt ql pe nn np nh nt nl os oc ss R
          exact K _ _ _ _ _ _ _ _ _ _ _ _ _ _ R
        · intro post v R K
          refine ak_elY (M := fun v => wpY_appoint post v (nI s)) R ?_
          intro fa fb fi R
          refine ay_ch R hLV hs hs4 hL h3 h5 hc (fun z => absurd hu z) (fun _ _ => br_f (ak_n1 (by omega)) ?_)
          refine ay_pre (ak_mkY R) g1 t2 (by omega) g3 hs4 hcd ?_
          intro fa fb fi R
          exact And.intro (ak_in (show p < 6 by omega) (by omega)) (nm_r (e' := upd (c 2) p 3) (by rw [ak_cl (by omega)]; rfl) (K _ _ _ R))
      · have hth := ak_noth I g1 hs g3 g4 (by omega)
        refine ⟨(ak_sa c 2 (upd (c 2) p 3)), F, ai_st (j := 3) I g1 hs g3 hth (by omega) (by omega), rfl, ?_, ?_⟩
        · intro post u R K
          refine ak_elX (M := fun u => wpX_raiseUpcall post u (nI s)) R ?_
          intro fs nx qh qt ql pe nn np nh nt nl os oc ss R
          refine And.intro is ?_
          rw [es]
          refine br_f (fun z => hL ((ak_nl0 R hs4).mp z)) (And.intro i3 (And.intro i5 ?_))
          rw [e3, e5]
          refine br_t ((test fs nx qh qt ql pe nn np nh nt nl os oc ss R).mpr hu) (ax_ch R hs4 hc (br_f (ak_n1 (by omega)) ?_))
          refine ax_pre0 (ak_mkX R) g1 hth ?_
          intro fs nx qh qt ql pe nn np nh nt nl os oc ss R
          refine ax_set (s := s) (k := k) (j := 3) (ak_mkX R) g1 g3 hs4 g4 (by omega) (by omega) ?_
          intro fs nx qh qt ql pe nn np nh nt nl os oc ss R
          exact K _ _ _ _ _ _ _ _ _ _ _ _ _ _ R
        · intro post v R K
          refine ak_elY (M := fun v => wpY_appoint post v (nI s)) R ?_
          intro fa fb fi R
          refine ay_ch R hLV hs hs4 hL h3 h5 hc (fun z => absurd hu z) (fun _ _ => br_f (ak_n1 (by omega)) ?_)
          refine ay_pre0 (ak_mkY R) g1 hth ?_
          intro fa fb fi R
          exact And.intro (ak_in (show p < 6 by omega) (by omega)) (nm_r (e' := upd (c 2) p 3) (by rw [ak_cl (by omega)]) (K _ _ _ R))
  · refine ⟨c, F, I, rfl, ?_, ?_⟩
    · intro post u R K
      refine ak_elX (M := fun u => wpX_raiseUpcall post u (nI s)) R ?_
      intro fs nx qh qt ql pe nn np nh nt nl os oc ss R
      refine And.intro is ?_
      rw [es]
      refine br_f (fun z => hL ((ak_nl0 R hs4).mp z)) (And.intro i3 (And.intro i5 ?_))
      rw [e3, e5]
      exact br_f (fun z => hu ((test fs nx qh qt ql pe nn np nh nt nl os oc ss R).mp z)) (K _ _ _ _ _ _ _ _ _ _ _ _ _ _ R)
    · intro post v R K
      refine ak_elY (M := fun v => wpY_appoint post v (nI s)) R ?_
      intro fa fb fi R
      exact ay_ch R hLV hs hs4 hL h3 h5 hc (fun _ => K _ _ _ R) (fun z3 z5 => absurd ⟨z3, z5⟩ hu)
end
end
section
/-! settle, third stage, and the whole -/
theorem ak_rd (F : List (Nat × Nat)) (s : Nat) : (ak_li F s 2 = [] ∧ ∀ j, j < 3 → ak_it F (s * 5 + j) = []) ∨ ∃ j t r m, j < 3 ∧ ak_it F (s * 5 + j) = t :: r ∧ (∀ i, j < i → i < 3 → ak_it F (s * 5 + i) = []) ∧ ak_li F s 2 = t :: m := by
  have e : ak_li F s 2 = ak_it F (s * 5 + 2) ++ (ak_it F (s * 5 + 1) ++ ak_it F (s * 5)) := by unfold ak_li; rw [if_pos rfl]
  rw [e]
  rcases h2 : ak_it F (s * 5 + 2) with _ | ⟨t, r⟩
  · rcases h1 : ak_it F (s * 5 + 1) with _ | ⟨t, r⟩
    · rcases h0 : ak_it F (s * 5) with _ | ⟨t, r⟩
      · refine Or.inl ⟨rfl, fun j hj => ?_⟩
        have : j = 0 ∨ j = 1 ∨ j = 2 := by omega
        rcases this with rfl | rfl | rfl
        · exact h0
        · exact h1
        · exact h2
      · refine Or.inr ⟨0, t, r, r, by omega, h0, fun i h3 h4 => ?_, rfl⟩
        have : i = 1 ∨ i = 2 := by omega
        rcases this with rfl | rfl
        · exact h1
        · exact h2
    · refine Or.inr ⟨1, t, r, _, by omega, h1, fun i h3 h4 => ?_, rfl⟩
      have : i = 2 := by omega
      subst this
      exact h2
  · exact Or.inr ⟨2, t, r, _, by omega, h2, fun i h3 h4 => by omega, rfl⟩
section
variable {P S T : Nat} {c : Nat → Nat → Int32} {F : List (Nat × Nat)}
/-- a ready thread -/
theorem ai_q2 {s j t : Nat} (I : ak_I P S T c F) (hm : (s * 5 + j, t) ∈ F) (hs : s < 4) (hj : j < 3) : t < T ∧ (c 5) t = 2 ∧ (c 6) t = nI s ∧ (c 7) t = nI j ∧ ak_V F t = [(s * 5 + j, t)] := by
  have hZ := ai_Z I
  have key : t < T ∧ (c 5) t = 2 ∧ (c 6) t = nI s ∧ (c 7) t = nI j := by
    rcases ak_sh I hm with ⟨s', t', j', h1, h2, h3, h4, h5, h6, h7⟩ | ⟨s', t', l, h1, h2, h3, h4, _⟩ | ⟨s', t', h1, h2, h4, _⟩ | ⟨s', t', h1, h2, h4 | h4, _⟩ | ⟨s', p, h1, h2, h4, _⟩
    · have e1 := congrArg Prod.fst h4
      have e2 := congrArg Prod.snd h4
      dsimp only at e1 e2
      subst e2
      have e3 : s = s' := by omega
      have e4 : j = j' := by omega
      subst e3 e4
      exact ⟨h2, h5, h6, h7⟩
    all_goals
      have e1 := congrArg Prod.fst h4
      dsimp only at e1
      omega
  refine ⟨key.1, key.2.1, key.2.2.1, key.2.2.2, ?_⟩
  obtain ⟨s', j', a, q1, q2, q3, q4, q5, q6, q7, q8⟩ := ak_thr I key.1 (by rw [key.2.1]; decide)
  rw [key.2.1] at q8
  have e1 := (ak_ni (by omega) (by omega)).mp (q4.symm.trans key.2.2.1)
  have e2 := (ak_ni (by omega) (by omega)).mp (q5.symm.trans key.2.2.2)
  subst e1 e2
  rcases q8 with ⟨y, _⟩ | ⟨_, y⟩ | ⟨y, _⟩ | ⟨y, _⟩ | ⟨y, _⟩
  · exact absurd y (by decide)
  · exact y
  all_goals exact absurd y (by decide)
/-- the codes are free behind an erasure -/
theorem ak_free_e {t k : Nat} {e : Nat × Nat} (I : ak_I P S T c F) (hV : ak_V F t = [e]) (ht : t < 16) (hk : k = 1 ∨ k = 2 ∨ k = 3) : ∀ f ∈ F.erase e, ak_cd f ≠ k * 16 + t := by
  intro f hf hc
  have hZ := ai_Z I
  have hfF := List.mem_of_mem_erase hf
  have : f ∈ ak_V (F.erase e) t := ak_V_mem.mpr ⟨hf, by
    rcases ak_sh I hfF with ⟨s, x, j, h1, h2, h3, rfl, _⟩ | ⟨s, x, l, h1, h2, h3, rfl, _⟩ | ⟨s, x, h1, h2, rfl, _⟩ | ⟨s, x, h1, h2, rfl | rfl, _⟩ | ⟨s, p, h1, h2, rfl, _⟩
    · rw [ak_cd5 (by omega)] at hc; rw [ak_sjq (by omega)]; omega
    · rw [ak_cd5 (by omega)] at hc; rw [ak_sjq (by omega)]; omega
    · rw [ak_cd20] at hc; rw [ak_sjn (by omega) rfl]; omega
    · rw [ak_cd20] at hc; rw [ak_sjn (by omega) rfl]; omega
    · rw [ak_cd20] at hc; rw [ak_sjn (by omega) rfl]; omega
    · rw [ak_cd20] at hc; omega⟩
  rw [ak_V_er, hV, List.erase_cons_head] at this
  exact absurd this List.not_mem_nil
/-- X's dispatch ends: no idle processor, or nothing ready -/
theorem ax_dz {s i n : Nat} {post : SX → Prop} {fs : Int32} {nx qh qt ql pe nn np nh nt nl os oc ss : Nat → Int32} (I : ak_I P S T c F) (hs : s < S) (hi : i ≤ P) (h : (∀ q, q < P → ¬ ((c 3) q = nI s ∧ (c 2) q = nI 2)) ∨ ak_li F s 2 = []) (K : ak_KX P S T c F post) (R : ak_PX P S T (c 2) (c 3) F fs nx qh qt ql pe nn np nh nt nl os oc ss) : wX_dispatch_13 post (nI s) (n + 1) (nI i) (nI P) (nI S) (nI T) fs (c 0) (c 1) (c 2) (c 3) (c 4) (c 5) (c 6) (c 7) (c 15) (c 8) nx qh qt ql pe nn np nh nt nl (c 9) (c 10) (c 11) (c 17) (c 12) (c 13) (c 14) os oc ss := by
  have hZ := ai_Z I
  have i2 : vp_in (nI s * 6 + 2) 24 := by rw [show (2 : Int32) = nI 2 from rfl, ak_m6]; exact ak_in (by omega) (by omega)
  have e2 : (nI s * 6 + 2).toNatClampNeg = s * 6 + 2 := by rw [show (2 : Int32) = nI 2 from rfl, ak_m6]; exact ak_cl (by omega)
  obtain ⟨r, hr⟩ := ak_LW_ex (fun p => (c 3) p = nI s ∧ (c 2) p = nI 2) P
  refine br_c (fun _ => K _ _ _ _ _ _ _ _ _ _ _ _ _ _ R) (fun _ => And.intro i2 ?_)
  rw [e2]
  refine ax_lows R (by omega) (by omega) hr ?_
  rcases h with h | h
  · have hr' : r = -1 := by
      rcases hr with g | ⟨q, g1, g2, g3, g4⟩
      · exact g.1
      · exact absurd g3 (h q g1)
    exact br_t hr' (K _ _ _ _ _ _ _ _ _ _ _ _ _ _ R)
  · refine br_c (fun _ => K _ _ _ _ _ _ _ _ _ _ _ _ _ _ R) (fun _ => ?_)
    have h0 : ∀ j, j < 3 → ak_it F (s * 5 + j) = [] := by
      rcases ak_rd F s with g | ⟨j, t, r, m, _, _, _, g⟩
      · exact g.2
      · rw [h] at g; exact nomatch g
    refine ax_nr0 R (by omega) h0 ?_
    intro fs nx qh qt ql pe nn np nh nt nl os oc ss R
    exact br_t rfl (K _ _ _ _ _ _ _ _ _ _ _ _ _ _ R)
theorem as_dl {s : Nat} (hs : s < S) : ∀ (d : Nat) (c : Nat → Nat → Int32) (F : List (Nat × Nat)) (p i : Nat), p + d = P → ak_I P S T c F → (c 14) s = -1 → i ≤ p → ((∀ q, q < p → ¬ ((c 3) q = nI s ∧ (c 2) q = nI 2)) ∨ ak_li F s 2 = []) →
    ∃ c' F', ak_I P S T c' F' ∧
      (∀ (post : SX → Prop) (n : Nat), P - i < n → ak_KX P S T c' F' post → ∀ (fs : Int32) (nx qh qt ql pe nn np nh nt nl os oc ss : Nat → Int32), ak_PX P S T (c 2) (c 3) F fs nx qh qt ql pe nn np nh nt nl os oc ss → wX_dispatch_13 post (nI s) n (nI i) (nI P) (nI S) (nI T) fs (c 0) (c 1) (c 2) (c 3) (c 4) (c 5) (c 6) (c 7) (c 15) (c 8) nx qh qt ql pe nn np nh nt nl (c 9) (c 10) (c 11) (c 17) (c 12) (c 13) (c 14) os oc ss) ∧
      (∀ (post : SY → Prop) (J : Int32 → Int32 → Int32 → Int32 → Int32 → (Nat → Int32) → (Nat → Int32) → (Nat → Int32) → (Nat → Int32) → (Nat → Int32) → (Nat → Int32) → (Nat → Int32) → (Nat → Int32) → (Nat → Int32) → (Nat → Int32) → (Nat → Int32) → (Nat → Int32) → (Nat → Int32) → (Nat → Int32) → (Nat → Int32) → (Nat → Int32) → (Nat → Int32) → (Nat → Int32) → (Nat → Int32) → (Nat → Int32) → Prop) (n : Nat), d < n → (∀ (fa fb fi : Nat → Int32), ak_PY P S T F' fa fb fi → J (nI (s + 1)) (nI P) (nI S) (nI T) (nI F'.length) (c' 2) (c' 3) (c' 4) (c' 5) (c' 6) (c' 7) (c' 16) (c' 8) (c' 0) (c' 1) (c' 10) (c' 11) (c' 17) (c' 14) (c' 12) (c' 9) (c' 13) fa fb fi) → ∀ (fa fb fi : Nat → Int32), ak_PY P S T F fa fb fi → wY_settle_47 post J (nI s) n (nI p) (nI P) (nI S) (nI T) (nI F.length) (c 2) (c 3) (c 4) (c 5) (c 6) (c 7) (c 16) (c 8) (c 0) (c 1) (c 10) (c 11) (c 17) (c 14) (c 12) (c 9) (c 13) fa fb fi) := by
  intro d
  induction d with
  | zero =>
    intro c F p i hp I hlh hi hinv
    have hZ := ai_Z I
    have hpP : p = P := by omega
    subst hpP
    refine ⟨c, F, I, ?_, ?_⟩
    · intro post n hn K fs nx qh qt ql pe nn np nh nt nl os oc ss R
      obtain ⟨n, rfl⟩ : ∃ m, n = m + 1 := ⟨n - 1, by omega⟩
      exact ax_dz I hs hi hinv K R
    · intro post J n hn K fa fb fi R
      obtain ⟨n, rfl⟩ : ∃ m, n = m + 1 := ⟨n - 1, by omega⟩
      exact br_t (nI_le (Nat.le_refl _) (by omega)) (nm_r (nI_1 s) (K _ _ _ R))
  | succ d ih =>
    intro c F p i hp I hlh hi hinv
    have hZ := ai_Z I
    have is : vp_in (nI s) 4 := ak_in (by omega) (by omega)
    have es : (nI s).toNatClampNeg = s := ak_cl (by omega)
    have ip : vp_in (nI p) 6 := ak_in (by omega) (by omega)
    have ep : (nI p).toNatClampNeg = p := ak_cl (by omega)
    have hLV := ai_LV I
    -- Y goes on with nothing done
    have skip : ¬ ((c 3) p = nI s ∧ (c 2) p = nI 2 ∧ ak_li F s 2 ≠ []) → ((∀ q, q < p + 1 → ¬ ((c 3) q = nI s ∧ (c 2) q = nI 2)) ∨ ak_li F s 2 = []) → ∃ c' F', ak_I P S T c' F' ∧
      (∀ (post : SX → Prop) (n : Nat), P - i < n → ak_KX P S T c' F' post → ∀ (fs : Int32) (nx qh qt ql pe nn np nh nt nl os oc ss : Nat → Int32), ak_PX P S T (c 2) (c 3) F fs nx qh qt ql pe nn np nh nt nl os oc ss → wX_dispatch_13 post (nI s) n (nI i) (nI P) (nI S) (nI T) fs (c 0) (c 1) (c 2) (c 3) (c 4) (c 5) (c 6) (c 7) (c 15) (c 8) nx qh qt ql pe nn np nh nt nl (c 9) (c 10) (c 11) (c 17) (c 12) (c 13) (c 14) os oc ss) ∧
      (∀ (post : SY → Prop) (J : Int32 → Int32 → Int32 → Int32 → Int32 → (Nat → Int32) → (Nat → Int32) → (Nat → Int32) → (Nat → Int32) → (Nat → Int32) → (Nat → Int32) → (Nat → Int32) → (Nat → Int32) → (Nat → Int32) → (Nat → Int32) → (Nat → Int32) → (Nat → Int32) → (Nat → Int32) → (Nat → Int32) → (Nat → Int32) → (Nat → Int32) → (Nat → Int32) → (Nat → Int32) → (Nat → Int32) → (Nat → Int32) → Prop) (n : Nat), d + 1 < n → (∀ (fa fb fi : Nat → Int32), ak_PY P S T F' fa fb fi → J (nI (s + 1)) (nI P) (nI S) (nI T) (nI F'.length) (c' 2) (c' 3) (c' 4) (c' 5) (c' 6) (c' 7) (c' 16) (c' 8) (c' 0) (c' 1) (c' 10) (c' 11) (c' 17) (c' 14) (c' 12) (c' 9) (c' 13) fa fb fi) → ∀ (fa fb fi : Nat → Int32), ak_PY P S T F fa fb fi → wY_settle_47 post J (nI s) n (nI p) (nI P) (nI S) (nI T) (nI F.length) (c 2) (c 3) (c 4) (c 5) (c 6) (c 7) (c 16) (c 8) (c 0) (c 1) (c 10) (c 11) (c 17) (c 14) (c 12) (c 9) (c 13) fa fb fi) := by
      intro hn hinv'
      obtain ⟨c', F', I', hX, hY⟩ := ih c F (p + 1) i (by omega) I hlh (by omega) hinv'
      refine ⟨c', F', I', hX, ?_⟩
      intro post J n hn' K fa fb fi R
      obtain ⟨n, rfl⟩ : ∃ m, n = m + 1 := ⟨n - 1, by omega⟩
      have go := hY post J n (by omega) K fa fb fi R
      refine br_f (nI_ge (by omega) (by omega)) ?_
      refine ay_lis (l := 2) (k := 0) (ak_mkY R) hLV hs (by omega) (by omega) ?_
      rw [List.drop_zero, ep, es]
      refine And.intro ip (br_c (fun e1 => And.intro ip (br_c (fun e2 => And.intro is (br_t hlh ?_)) (fun _ => nm_r (nI_1 p) go))) (fun _ => nm_r (nI_1 p) go))
      have : ak_li F s 2 = [] := Classical.byContradiction fun z => hn ⟨e1, e2, z⟩
      rw [this]
      exact br_t rfl (nm_r (nI_1 p) go)
    by_cases hr : ak_li F s 2 = []
    · exact skip (fun z => z.2.2 hr) (Or.inr hr)
    have hno : ∀ q, q < p → ¬ ((c 3) q = nI s ∧ (c 2) q = nI 2) := by
      rcases hinv with g | g
      · exact g
      · exact absurd g hr
    by_cases hidle : (c 3) p = nI s ∧ (c 2) p = nI 2
    · rcases ak_rd F s with ⟨g, _⟩ | ⟨j, t, r, m, g1, g2, g3, g4⟩
      · exact absurd g hr
      have hmF : (s * 5 + j, t) ∈ F := ak_it_mem.mp (by rw [g2]; exact List.mem_cons_self ..)
      obtain ⟨t1, t2, t3, t4, t5⟩ := ai_q2 I hmF (by omega) g1
      have hth := ak_noth I (show p < P by omega) hs hidle.1 hidle.2 (by omega)
      have sj : ak_sj (s * 5 + j, t) = t := ak_sjq (by omega)
      have I1 := ai_on (k := 4) I (show p < P by omega) hs hidle.1 hth t1 t3 (by rw [t2]; decide) (by rw [t2]; decide) t5 sj (Or.inl rfl)
      obtain ⟨c', F', I', hX, hY⟩ := ih (ak_sa (ak_sa (ak_sa c 4 (upd (c 4) p (nI t))) 5 (upd (c 5) t 1)) 2 (upd (c 2) p (nI 4))) (F.erase (s * 5 + j, t)) (p + 1) (i + 1) (by omega) I1 hlh (by omega) (Or.inl fun q hq z => by
        by_cases y : q = p
        · subst y
          have z2 : upd (c 2) q (nI 4) q = nI 2 := z.2
          rw [pk_us] at z2
          exact absurd z2 (by decide)
        · have z2 : upd (c 2) p (nI 4) q = nI 2 := z.2
          rw [pk_un y] at z2
          exact hno q (by omega) ⟨z.1, z2⟩)
      refine ⟨c', F', I', ?_, ?_⟩
      · intro post n hn K fs nx qh qt ql pe nn np nh nt nl os oc ss R
        obtain ⟨n, rfl⟩ : ∃ m, n = m + 1 := ⟨n - 1, by omega⟩
        have i2 : vp_in (nI s * 6 + 2) 24 := by rw [show (2 : Int32) = nI 2 from rfl, ak_m6]; exact ak_in (by omega) (by omega)
        have e2 : (nI s * 6 + 2).toNatClampNeg = s * 6 + 2 := by rw [show (2 : Int32) = nI 2 from rfl, ak_m6]; exact ak_cl (by omega)
        refine br_f (nI_ge (by omega) (by omega)) (And.intro i2 ?_)
        rw [e2]
        refine ax_lows (r := nI p) R (by omega) (by omega) (Or.inr ⟨p, by omega, rfl, hidle, hno⟩) ?_
        refine br_f (ak_n1 (by omega)) ?_
        refine ax_nr R (by omega) g1 g3 g2 ?_
        intro fs nx qh qt ql pe nn np nh nt nl os oc ss R
        refine br_f (ak_n1 (by omega)) ?_
        refine ax_asg (j := 4) (ak_mkX R) (by omega) (by omega) hidle.1 (by omega) hidle.2 (by omega) (by omega) ?_
        intro fs nx qh qt ql pe nn np nh nt nl os oc ss R
        exact nm_r (nI_1 i) (hX post n (by omega) K fs nx qh qt ql pe nn np nh nt nl os oc ss R)
      · intro post J n hn K fa fb fi R
        obtain ⟨n, rfl⟩ : ∃ m, n = m + 1 := ⟨n - 1, by omega⟩
        refine br_f (nI_ge (by omega) (by omega)) ?_
        refine ay_lis (l := 2) (k := 0) (ak_mkY R) hLV hs (by omega) (by omega) ?_
        rw [List.drop_zero, ep, es, g4]
        refine And.intro ip (br_t hidle.1 (And.intro ip (br_t hidle.2 (And.intro is (br_t hlh (br_f (ak_n1 (a := t) (by omega)) ?_))))))
        refine ay_rem (k := s * 5 + j) (b := 2) (ak_mkY R) (ak_sp5 (by omega) (by omega)) (ak_ls5 (by omega) g1) (by omega) (by omega) (fun f hf h1 h2 h3 => ?_) ?_
        · refine ak_inj R.2.1.2 hf hmF ?_
          obtain ⟨a, b⟩ := f
          unfold ak_ls at h2
          dsimp only at *
          have : a < 20 := by
            rcases Nat.lt_or_ge a 20 with z | z
            · exact z
            · rw [if_neg (by omega)] at h2; omega
          rw [ak_cd5 this, ak_cd5 (by omega), h3]
        · intro fa fb fi R
          refine And.intro (ak_in (n := t) (by omega) (by omega)) (nm_r (e' := upd (c 5) t 1) (by rw [show ak_hd (t :: m) (-1) = nI t from rfl, ak_cl (by omega)]) (And.intro ip (nm_e (And.intro ip (nm_e (nm_r (nI_1 p) ?_))))))
          exact hY post J n (by omega) K fa fb fi R
    · refine skip (fun z => hidle ⟨z.1, z.2.1⟩) (Or.inl fun q hq => ?_)
      by_cases y : q = p
      · rw [y]; exact hidle
      · exact hno q (by omega)
/-- the list is held: nothing is dispatched -/
theorem ay_dh {post : SY → Prop} {J : Int32 → Int32 → Int32 → Int32 → Int32 → (Nat → Int32) → (Nat → Int32) → (Nat → Int32) → (Nat → Int32) → (Nat → Int32) → (Nat → Int32) → (Nat → Int32) → (Nat → Int32) → (Nat → Int32) → (Nat → Int32) → (Nat → Int32) → (Nat → Int32) → (Nat → Int32) → (Nat → Int32) → (Nat → Int32) → (Nat → Int32) → (Nat → Int32) → (Nat → Int32) → (Nat → Int32) → (Nat → Int32) → Prop} {s : Nat} {fa fb fi : Nat → Int32} (I : ak_I P S T c F) (hs : s < S) (hlh : ¬ (c 14) s = -1) (R : ak_PY P S T F fa fb fi) (K : J (nI (s + 1)) (nI P) (nI S) (nI T) (nI F.length) (c 2) (c 3) (c 4) (c 5) (c 6) (c 7) (c 16) (c 8) (c 0) (c 1) (c 10) (c 11) (c 17) (c 14) (c 12) (c 9) (c 13) fa fb fi) : ∀ d n p, p + d = P → d < n → wY_settle_47 post J (nI s) n (nI p) (nI P) (nI S) (nI T) (nI F.length) (c 2) (c 3) (c 4) (c 5) (c 6) (c 7) (c 16) (c 8) (c 0) (c 1) (c 10) (c 11) (c 17) (c 14) (c 12) (c 9) (c 13) fa fb fi := by
  have hZ := ai_Z I
  have is : vp_in (nI s) 4 := ak_in (by omega) (by omega)
  have es : (nI s).toNatClampNeg = s := ak_cl (by omega)
  have hLV := ai_LV I
  intro d
  induction d with
  | zero =>
    intro n p hp hn
    obtain ⟨n, rfl⟩ : ∃ m, n = m + 1 := ⟨n - 1, by omega⟩
    have hpP : p = P := by omega
    subst hpP
    exact br_t (nI_le (Nat.le_refl _) (by omega)) (nm_r (nI_1 s) K)
  | succ d ih =>
    intro n p hp hn
    obtain ⟨n, rfl⟩ : ∃ m, n = m + 1 := ⟨n - 1, by omega⟩
    have ip : vp_in (nI p) 6 := ak_in (by omega) (by omega)
    have go := ih n (p + 1) (by omega) (by omega)
    refine br_f (nI_ge (by omega) (by omega)) ?_
    refine ay_lis (l := 2) (k := 0) (ak_mkY R) hLV hs (by omega) (by omega) ?_
    refine And.intro ip (br_c (fun _ => And.intro ip (br_c (fun _ => And.intro is (br_f (by rw [es]; exact hlh) (nm_r (nI_1 p) go))) (fun _ => nm_r (nI_1 p) go))) (fun _ => nm_r (nI_1 p) go))
theorem as_dis {s : Nat} (I : ak_I P S T c F) (hs : s < S) : ∃ c' F', ak_I P S T c' F' ∧ ak_SX P S T c F c' F' (fun post u => wpX_dispatch post u (nI s)) ∧
    (∀ (post : SY → Prop) (J : Int32 → Int32 → Int32 → Int32 → Int32 → (Nat → Int32) → (Nat → Int32) → (Nat → Int32) → (Nat → Int32) → (Nat → Int32) → (Nat → Int32) → (Nat → Int32) → (Nat → Int32) → (Nat → Int32) → (Nat → Int32) → (Nat → Int32) → (Nat → Int32) → (Nat → Int32) → (Nat → Int32) → (Nat → Int32) → (Nat → Int32) → (Nat → Int32) → (Nat → Int32) → (Nat → Int32) → (Nat → Int32) → Prop), (∀ (fa fb fi : Nat → Int32), ak_PY P S T F' fa fb fi → J (nI (s + 1)) (nI P) (nI S) (nI T) (nI F'.length) (c' 2) (c' 3) (c' 4) (c' 5) (c' 6) (c' 7) (c' 16) (c' 8) (c' 0) (c' 1) (c' 10) (c' 11) (c' 17) (c' 14) (c' 12) (c' 9) (c' 13) fa fb fi) → ∀ (fa fb fi : Nat → Int32), ak_PY P S T F fa fb fi → ∃ n, wY_settle_47 post J (nI s) n 0 (nI P) (nI S) (nI T) (nI F.length) (c 2) (c 3) (c 4) (c 5) (c 6) (c 7) (c 16) (c 8) (c 0) (c 1) (c 10) (c 11) (c 17) (c 14) (c 12) (c 9) (c 13) fa fb fi) := by
  have hZ := ai_Z I
  have is : vp_in (nI s) 4 := ak_in (by omega) (by omega)
  have es : (nI s).toNatClampNeg = s := ak_cl (by omega)
  by_cases hlh : (c 14) s = -1
  · obtain ⟨c', F', I', hX, hY⟩ := as_dl hs P c F 0 0 (Nat.zero_add P) I hlh (Nat.le_refl _) (Or.inl fun q hq => absurd hq (Nat.not_lt_zero q))
    refine ⟨c', F', I', ?_, ?_⟩
    · intro post u R K
      refine ak_elX (M := fun u => wpX_dispatch post u (nI s)) R ?_
      intro fs nx qh qt ql pe nn np nh nt nl os oc ss R
      exact And.intro is (br_t (by rw [es]; exact hlh) (Exists.intro (P + 1) (hX post (P + 1) (by omega) K fs nx qh qt ql pe nn np nh nt nl os oc ss R)))
    · intro post J K fa fb fi R
      exact Exists.intro (P + 1) (hY post J (P + 1) (by omega) K fa fb fi R)
  · refine ⟨c, F, I, ?_, ?_⟩
    · intro post u R K
      refine ak_elX (M := fun u => wpX_dispatch post u (nI s)) R ?_
      intro fs nx qh qt ql pe nn np nh nt nl os oc ss R
      exact And.intro is (br_f (by rw [es]; exact hlh) (K _ _ _ _ _ _ _ _ _ _ _ _ _ _ R))
    · intro post J K fa fb fi R
      exact Exists.intro (P + 1) (ay_dh I hs hlh R (K _ _ _ R) P (P + 1) 0 (Nat.zero_add P) (by omega))
theorem as_sl : ∀ (d : Nat) (c : Nat → Nat → Int32) (F : List (Nat × Nat)) (s : Nat), s + d = S → ak_I P S T c F → ∃ c' F', ak_I P S T c' F' ∧
    (∀ (post : SX → Prop) (n : Nat), d < n → ak_KX P S T c' F' post → ∀ (fs : Int32) (nx qh qt ql pe nn np nh nt nl os oc ss : Nat → Int32), ak_PX P S T (c 2) (c 3) F fs nx qh qt ql pe nn np nh nt nl os oc ss → wX_settle_2 post n (nI s) (nI P) (nI S) (nI T) fs (c 0) (c 1) (c 2) (c 3) (c 4) (c 5) (c 6) (c 7) (c 15) (c 8) nx qh qt ql pe nn np nh nt nl (c 9) (c 10) (c 11) (c 17) (c 12) (c 13) (c 14) os oc ss) ∧
    (∀ (post : SY → Prop) (n : Nat), d < n → ak_KY P S T c' F' post → ∀ (fa fb fi : Nat → Int32), ak_PY P S T F fa fb fi → wY_settle_2 post n (nI s) (nI P) (nI S) (nI T) (nI F.length) (c 2) (c 3) (c 4) (c 5) (c 6) (c 7) (c 16) (c 8) (c 0) (c 1) (c 10) (c 11) (c 17) (c 14) (c 12) (c 9) (c 13) fa fb fi) := by
  intro d
  induction d with
  | zero =>
    intro c F s hs I
    have hZ := ai_Z I
    have hsS : s = S := by omega
    subst hsS
    refine ⟨c, F, I, ?_, ?_⟩
    · intro post n hn K fs nx qh qt ql pe nn np nh nt nl os oc ss R
      obtain ⟨n, rfl⟩ : ∃ m, n = m + 1 := ⟨n - 1, by omega⟩
      exact br_t (nI_le (Nat.le_refl _) (by omega)) (K _ _ _ _ _ _ _ _ _ _ _ _ _ _ R)
    · intro post n hn K fa fb fi R
      obtain ⟨n, rfl⟩ : ∃ m, n = m + 1 := ⟨n - 1, by omega⟩
      exact br_t (nI_le (Nat.le_refl _) (by omega)) (K _ _ _ R)
  | succ d ih =>
    intro c F s hs I
    have hZ := ai_Z I
    have hsS : s < S := by omega
    obtain ⟨c1, I1, _, hX1, hY1⟩ := as_ret I hsS
    obtain ⟨c2, F2, I2, _, hX2, hY2⟩ := as_rai I1 hsS
    obtain ⟨c3, F3, I3, hX3, hY3⟩ := as_dis I2 hsS
    obtain ⟨c4, F4, I4, hX4, hY4⟩ := ih c3 F3 (s + 1) (by omega) I3
    refine ⟨c4, F4, I4, ?_, ?_⟩
    · intro post n hn K fs nx qh qt ql pe nn np nh nt nl os oc ss R
      obtain ⟨n, rfl⟩ : ∃ m, n = m + 1 := ⟨n - 1, by omega⟩
      refine br_f (nI_ge hsS (by omega)) ?_
      refine hX1 _ _ (ak_mkX R) ?_
      intro fs nx qh qt ql pe nn np nh nt nl os oc ss R
      refine hX2 _ _ (ak_mkX R) ?_
      intro fs nx qh qt ql pe nn np nh nt nl os oc ss R
      refine hX3 _ _ (ak_mkX R) ?_
      intro fs nx qh qt ql pe nn np nh nt nl os oc ss R
      exact nm_r (nI_1 s) (hX4 post n (by omega) K fs nx qh qt ql pe nn np nh nt nl os oc ss R)
    · intro post n hn K fa fb fi R
      obtain ⟨n, rfl⟩ : ∃ m, n = m + 1 := ⟨n - 1, by omega⟩
      refine hY1 post n ?_ fa fb fi R
      intro fa fb fi R
      refine hY2 _ _ (ak_mkY R) ?_
      intro fa fb fi R
      refine hY3 post _ ?_ fa fb fi R
      intro fa fb fi R
      exact hY4 post n (by omega) K fa fb fi R
theorem as_set (I : ak_I P S T c F) : ∃ c' F', ak_I P S T c' F' ∧ ak_SX P S T c F c' F' (fun post u => wpX_settle post u) ∧ ak_SY P S T c F c' F' (fun post v => wpY_settle post v) := by
  obtain ⟨c', F', I', hX, hY⟩ := as_sl S c F 0 (Nat.zero_add S) I
  refine ⟨c', F', I', ?_, ?_⟩
  · intro post u R K
    refine ak_elX (M := fun u => wpX_settle post u) R ?_
    intro fs nx qh qt ql pe nn np nh nt nl os oc ss R
    exact Exists.intro (S + 1) (hX post (S + 1) (by omega) K fs nx qh qt ql pe nn np nh nt nl os oc ss R)
  · intro post v R K
    refine ak_elY (M := fun v => wpY_settle post v) R ?_
    intro fa fb fi R
    exact Exists.intro (S + 1) (hY post (S + 1) (by omega) K fa fb fi R)
end
end
section
/-! the targets: dealt in rounds, or one by one to the best -/
def ak_gup (g : Nat → Nat) (s : Nat) : Nat → Nat := fun j => if j = s then g s + 1 else g j
def ak_nb (pr g : Nat → Nat) (n : Nat) (o : Option Nat) : Option Nat := match o with
  | none => some n
  | some b => if pr b < pr n then some n else if pr n = pr b then (if g b ≤ g n then some b else some n) else some b
def ak_bs (pr d g : Nat → Nat) : Nat → Option Nat
  | 0 => none
  | n + 1 => if d n ≤ g n then ak_bs pr d g n else ak_nb pr g n (ak_bs pr d g n)
def ak_ap (g : Nat → Nat) (o : Option Nat) : Nat → Nat := match o with
  | none => g
  | some b => ak_gup g b
def ak_y (S : Nat) (pr d g : Nat → Nat) : Nat → Nat := ak_ap g (ak_bs pr d g S)
def ak_itr (S : Nat) (pr d : Nat → Nat) : Nat → (Nat → Nat) → Nat → Nat
  | 0, g => g
  | n + 1, g => ak_itr S pr d n (ak_y S pr d g)
def ak_BE (pr d g : Nat → Nat) (n b : Nat) : Prop := b < n ∧ g b < d b ∧ ∀ i, i < n → g i < d i → pr i < pr b ∨ (pr i = pr b ∧ (g b < g i ∨ (g b = g i ∧ b ≤ i)))
theorem ak_bs_sp (pr d g : Nat → Nat) : ∀ n, (ak_bs pr d g n = none ∧ ∀ i, i < n → d i ≤ g i) ∨ ∃ b, ak_bs pr d g n = some b ∧ ak_BE pr d g n b := by
  intro n
  induction n with
  | zero => exact Or.inl ⟨rfl, fun i hi => absurd hi (Nat.not_lt_zero i)⟩
  | succ n ih =>
    simp only [ak_bs]
    by_cases z : d n ≤ g n
    · rw [if_pos z]
      rcases ih with ⟨h1, h2⟩ | ⟨b, h1, h2, h3, h4⟩
      · refine Or.inl ⟨h1, fun i hi => ?_⟩
        by_cases y : i = n
        · rw [y]; exact z
        · exact h2 i (by omega)
      · refine Or.inr ⟨b, h1, by omega, h3, fun i hi hg => ?_⟩
        by_cases y : i = n
        · subst y; omega
        · exact h4 i (by omega) hg
    · rw [if_neg z]
      rcases ih with ⟨h1, h2⟩ | ⟨b, h1, h2, h3, h4⟩
      · refine Or.inr ⟨n, by rw [h1]; rfl, by omega, by omega, fun i hi hg => ?_⟩
        by_cases y : i = n
        · subst y; exact Or.inr ⟨rfl, Or.inr ⟨rfl, Nat.le_refl _⟩⟩
        · have := h2 i (by omega); omega
      · rw [h1]
        unfold ak_nb
        dsimp only
        have H : ∀ x, (x = n ∨ x = b) → (x = n → pr b < pr n ∨ (pr n = pr b ∧ g n < g b)) → (x = b → ¬ pr b < pr n ∧ (pr n = pr b → g b ≤ g n)) → ak_BE pr d g (n + 1) x := by
          intro x hx hn hb
          rcases hx with rfl | rfl
          · have hn := hn rfl
            refine ⟨by omega, by omega, fun i hi hg => ?_⟩
            by_cases y : i = x
            · subst y; exact Or.inr ⟨rfl, Or.inr ⟨rfl, Nat.le_refl _⟩⟩
            · have := h4 i (by omega) hg; omega
          · have hb := hb rfl
            refine ⟨by omega, by omega, fun i hi hg => ?_⟩
            by_cases y : i = n
            · subst y; omega
            · exact h4 i (by omega) hg
        by_cases y1 : pr b < pr n
        · rw [if_pos y1]; exact Or.inr ⟨n, rfl, H n (Or.inl rfl) (fun _ => Or.inl y1) (fun w => by subst w; omega)⟩
        · rw [if_neg y1]
          by_cases y2 : pr n = pr b
          · rw [if_pos y2]
            by_cases y3 : g b ≤ g n
            · rw [if_pos y3]; exact Or.inr ⟨b, rfl, H b (Or.inr rfl) (fun w => by omega) (fun _ => ⟨y1, fun _ => y3⟩)⟩
            · rw [if_neg y3]; exact Or.inr ⟨n, rfl, H n (Or.inl rfl) (fun _ => Or.inr ⟨y2, by omega⟩) (fun w => by omega)⟩
          · rw [if_neg y2]; exact Or.inr ⟨b, rfl, H b (Or.inr rfl) (fun w => by omega) (fun _ => ⟨y1, fun w => absurd w y2⟩)⟩
theorem ak_bs_is {pr d g : Nat → Nat} {n b : Nat} (h : ak_BE pr d g n b) : ak_bs pr d g n = some b := by
  rcases ak_bs_sp pr d g n with ⟨_, h2⟩ | ⟨x, h1, h2, h3, h4⟩
  · have := h2 b h.1; have := h.2.1; omega
  · have e1 := h4 b h.1 h.2.1
    have e2 := h.2.2 x h2 h3
    have : x = b := by omega
    rw [h1, this]
/-- X at rank ρ, round r, space s -/
def ak_CO (S : Nat) (pr d g : Nat → Nat) (ρ r s : Nat) : Prop :=
  ∀ i, i < S → (ρ < pr i → g i = d i) ∧ (pr i < ρ → g i = 0) ∧ (pr i = ρ → (i < s → g i = if d i ≤ r then d i else r + 1) ∧ (s ≤ i → g i = if d i ≤ r then d i else r))
def ak_JN (S : Nat) (pr d G g : Nat → Nat) (ρ r s left : Nat) : Prop :=
  ak_itr S pr d left g = G ∧ (∀ i, i < S → g i ≤ d i) ∧ (0 < left → ak_CO S pr d g ρ r s)
theorem ak_JN_0 {S : Nat} {pr d G g : Nat → Nat} {ρ r s ρ' r' s' : Nat} (h : ak_JN S pr d G g ρ r s 0) : ak_JN S pr d G g ρ' r' s' 0 := ⟨h.1, h.2.1, fun z => absurd z (Nat.lt_irrefl 0)⟩
theorem ak_JN_sk {S : Nat} {pr d G g : Nat → Nat} {ρ r s left : Nat} (h : ak_JN S pr d G g ρ r s left) (hs : s < S) (hn : ¬ (pr s = ρ ∧ r < d s)) : ak_JN S pr d G g ρ r (s + 1) left := by
  refine ⟨h.1, h.2.1, fun z i hi => ?_⟩
  have g0 := h.2.2 z i hi
  refine ⟨g0.1, g0.2.1, fun e => ⟨fun y => ?_, fun y => (g0.2.2 e).2 (by omega)⟩⟩
  by_cases w : i = s
  · subst w
    have := (g0.2.2 e).2 (Nat.le_refl _)
    rw [if_pos (by omega)] at this ⊢
    exact this
  · exact (g0.2.2 e).1 (by omega)
theorem ak_JN_up {S : Nat} {pr d G g : Nat → Nat} {ρ r s left : Nat} (h : ak_JN S pr d G g ρ r s (left + 1)) (hs : s < S) (h1 : pr s = ρ) (h2 : r < d s) : g s < d s ∧ ak_JN S pr d G (ak_gup g s) ρ r (s + 1) left := by
  have co := h.2.2 (by omega)
  have gs : g s = r := by
    have := ((co s hs).2.2 h1).2 (Nat.le_refl _)
    rw [if_neg (by omega)] at this
    exact this
  have be : ak_BE pr d g S s := by
    refine ⟨hs, by omega, fun i hi hg => ?_⟩
    obtain ⟨c1, c2, c3⟩ := co i hi
    rcases Nat.lt_trichotomy (pr i) ρ with z | z | z
    · exact Or.inl (by omega)
    · refine Or.inr ⟨by omega, ?_⟩
      have c3 := c3 z
      by_cases y : i < s
      · have := c3.1 y
        by_cases w : d i ≤ r
        · rw [if_pos w] at this; omega
        · rw [if_neg w] at this; omega
      · have := c3.2 (by omega)
        by_cases w : d i ≤ r
        · rw [if_pos w] at this; omega
        · rw [if_neg w] at this; omega
    · have := c1 z; omega
  refine ⟨by omega, ?_, fun i hi => ?_, fun z i hi => ?_⟩
  · have := h.1
    simp only [ak_itr] at this
    unfold ak_y at this
    rw [ak_bs_is be] at this
    exact this
  · have := h.2.1 i hi
    unfold ak_gup
    by_cases w : i = s
    · rw [if_pos w, w]; omega
    · rw [if_neg w]; exact this
  · obtain ⟨c1, c2, c3⟩ := co i hi
    unfold ak_gup
    by_cases w : i = s
    · subst w
      rw [if_pos rfl]
      refine ⟨fun y => by omega, fun y => by omega, fun _ => ⟨fun _ => ?_, fun y => by omega⟩⟩
      rw [if_neg (by omega), gs]
    · rw [if_neg w]
      exact ⟨c1, c2, fun e => ⟨fun y => (c3 e).1 (by omega), fun y => (c3 e).2 (by omega)⟩⟩
theorem ak_JN_rd {S : Nat} {pr d G g : Nat → Nat} {ρ r left : Nat} (h : ak_JN S pr d G g ρ r S left) : ak_JN S pr d G g ρ (r + 1) 0 left := by
  refine ⟨h.1, h.2.1, fun z i hi => ?_⟩
  obtain ⟨c1, c2, c3⟩ := h.2.2 z i hi
  refine ⟨c1, c2, fun e => ⟨fun y => absurd y (Nat.not_lt_zero i), fun _ => ?_⟩⟩
  have := (c3 e).1 hi
  by_cases w : d i ≤ r
  · rw [if_pos w] at this; rw [if_pos (by omega)]; exact this
  · rw [if_neg w] at this
    by_cases y : d i ≤ r + 1
    · rw [if_pos y]; omega
    · rw [if_neg y]; exact this
theorem ak_JN_rk {S : Nat} {pr d G g : Nat → Nat} {ρ left : Nat} (hd : ∀ i, i < S → d i < 7) (h : ak_JN S pr d G g (ρ + 1) 6 0 left) : ak_JN S pr d G g ρ 0 0 left := by
  refine ⟨h.1, h.2.1, fun z i hi => ?_⟩
  obtain ⟨c1, c2, c3⟩ := h.2.2 z i hi
  have hdi := hd i hi
  refine ⟨fun y => ?_, fun y => c2 (by omega), fun e => ⟨fun y => absurd y (Nat.not_lt_zero i), fun _ => ?_⟩⟩
  · by_cases w : pr i = ρ + 1
    · have := (c3 w).2 (Nat.zero_le _)
      rw [if_pos (by omega)] at this
      exact this
    · exact c1 (by omega)
  · rw [c2 (by omega)]
    split <;> omega
theorem ak_itr_fix {S : Nat} {pr d g : Nat → Nat} (h : ak_y S pr d g = g) : ∀ n, ak_itr S pr d n g = g := by
  intro n
  induction n with
  | zero => rfl
  | succ n ih => simp only [ak_itr]; rw [h]; exact ih
theorem ak_y_fix {S : Nat} {pr d g : Nat → Nat} (h : ∀ i, i < S → g i = d i) : ak_y S pr d g = g := by
  unfold ak_y
  rcases ak_bs_sp pr d g S with ⟨h1, _⟩ | ⟨b, h1, h2, h3, _⟩
  · rw [h1]; rfl
  · have := h b h2; omega
theorem ak_JN_end {S : Nat} {pr d G g : Nat → Nat} {left : Nat} (hd : ∀ i, i < S → d i < 7) (h : left = 0 ∨ ak_JN S pr d G g 0 6 0 left) (h1 : ak_itr S pr d left g = G) : g = G := by
  by_cases z : left = 0
  · subst z; exact h1
  · rcases h with h | h
    · exact absurd h z
    · rw [← h1]
      refine (ak_itr_fix (ak_y_fix fun i hi => ?_) left).symm
      obtain ⟨c1, c2, c3⟩ := h.2.2 (by omega) i hi
      have hdi := hd i hi
      by_cases w : pr i = 0
      · have := (c3 w).2 (Nat.zero_le _)
        rw [if_pos (by omega)] at this
        exact this
      · exact c1 (by omega)
/-- the target arrays -/
def ak_tg (S : Nat) (t0 : Nat → Int32) (g : Nat → Nat) : Nat → Int32 := fun s => if s < S then nI (g s) else t0 s
theorem ak_tg_s {S : Nat} {t0 : Nat → Int32} {g : Nat → Nat} {s : Nat} (h : s < S) : ak_tg S t0 g s = nI (g s) := if_pos h
theorem ak_tg_up {S : Nat} {t0 : Nat → Int32} {g : Nat → Nat} {s : Nat} (h : s < S) : upd (ak_tg S t0 g) s (ak_tg S t0 g s + 1) = ak_tg S t0 (ak_gup g s) := by
  funext j
  by_cases z : j = s
  · subst z
    rw [pk_us, ak_tg_s h, ak_tg_s h, nI_1]
    unfold ak_gup
    rw [if_pos rfl]
  · rw [pk_un z]
    unfold ak_tg ak_gup
    rw [if_neg z]
def ak_t0 (i : Nat) (t0 : Nat → Int32) : Nat → Int32 := fun s => if s < i then 0 else t0 s
theorem ak_t0_up (i : Nat) (t0 : Nat → Int32) : upd (ak_t0 i t0) i 0 = ak_t0 (i + 1) t0 := by
  funext j
  by_cases z : j = i
  · subst z; rw [pk_us]; unfold ak_t0; rw [if_pos (by omega)]
  · rw [pk_un z]
    unfold ak_t0
    by_cases y : j < i
    · rw [if_pos y, if_pos (by omega)]
    · rw [if_neg y, if_neg (by omega)]
theorem ak_t0_0 (t0 : Nat → Int32) : ak_t0 0 t0 = t0 := by
  funext j; unfold ak_t0; rw [if_neg (Nat.not_lt_zero j)]
theorem ak_t0_S (S : Nat) (t0 : Nat → Int32) : ak_t0 S t0 = ak_tg S t0 (fun _ => 0) := rfl
section
variable {P S T : Nat} {c : Nat → Nat → Int32} {F : List (Nat × Nat)} {fs : Int32} {nx qh qt ql pe nn np nh nt nl os oc ss fa fb fi t0 : Nat → Int32} {pr d G : Nat → Nat}
theorem ax_sh19 {post : Int32 → SX → Prop} {J : Int32 → Int32 → (Nat → Int32) → (Nat → Int32) → (Nat → Int32) → (Nat → Int32) → (Nat → Int32) → (Nat → Int32) → (Nat → Int32) → (Nat → Int32) → (Nat → Int32) → (Nat → Int32) → (Nat → Int32) → (Nat → Int32) → (Nat → Int32) → (Nat → Int32) → (Nat → Int32) → (Nat → Int32) → (Nat → Int32) → (Nat → Int32) → (Nat → Int32) → (Nat → Int32) → (Nat → Int32) → (Nat → Int32) → (Nat → Int32) → (Nat → Int32) → (Nat → Int32) → (Nat → Int32) → (Nat → Int32) → (Nat → Int32) → (Nat → Int32) → (Nat → Int32) → Prop} {ρ r : Nat} (hS : S ≤ 4) (hpr : ∀ s, s < S → (c 10) s = nI (pr s) ∧ pr s < 4) (hde : ∀ s, s < S → (c 11) s = nI (d s) ∧ d s < 7) (hρ : ρ < 4) (hr : r < 6)
    (K : ∀ g left, left < 7 → ak_JN S pr d G g ρ (r + 1) 0 left → J (nI left) (nI (r + 1)) (c 0) (c 1) (c 2) (c 3) (c 4) (c 5) (c 6) (c 7) (c 15) (c 8) nx qh qt ql pe nn np nh nt nl (c 9) (c 10) (c 11) (ak_tg S t0 g) (c 12) (c 13) (c 14) os oc ss) :
    ∀ k n s g left, s + k = S → k < n → left < 7 → ak_JN S pr d G g ρ r s left → wX_share_19 post J (nI ρ) (nI r) (nI P) (nI S) (nI T) fs n (nI left) (nI s) (c 0) (c 1) (c 2) (c 3) (c 4) (c 5) (c 6) (c 7) (c 15) (c 8) nx qh qt ql pe nn np nh nt nl (c 9) (c 10) (c 11) (ak_tg S t0 g) (c 12) (c 13) (c 14) os oc ss := by
  intro k
  induction k with
  | zero =>
    intro n s g left hk hn hl hj
    obtain ⟨n, rfl⟩ : ∃ m, n = m + 1 := ⟨n - 1, by omega⟩
    have e : s = S := by omega
    subst e
    exact br_t (nI_le (Nat.le_refl _) (by omega)) (nm_r (nI_1 r) (K g left hl (ak_JN_rd hj)))
  | succ k ih =>
    intro n s g left hk hn hl hj
    obtain ⟨n, rfl⟩ : ∃ m, n = m + 1 := ⟨n - 1, by omega⟩
    have hs : s < S := by omega
    have is : vp_in (nI s) 4 := ak_in (by omega) (by omega)
    have es : (nI s).toNatClampNeg = s := ak_cl (by omega)
    refine br_f (nI_ge hs (by omega)) ?_
    rcases left with _ | left
    · exact br_t (by decide) (nm_r (nI_1 s) (ih n (s + 1) g 0 (by omega) (by omega) (by omega) (ak_JN_0 hj)))
    · refine br_f (nI_nle (by omega) (by omega)) (And.intro is ?_)
      rw [es, (hpr s hs).1, (hde s hs).1]
      have hp4 := (hpr s hs).2
      have hd7 := (hde s hs).2
      refine ak_ndec (by omega) (by omega) (fun z => And.intro is ?_) (fun z => nm_r (nI_1 s) (ih n (s + 1) g (left + 1) (by omega) (by omega) hl (ak_JN_sk hj hs (fun y => z y.1))))
      by_cases y : d s ≤ r
      · exact br_t (nI_le y (by omega)) (nm_r (nI_1 s) (ih n (s + 1) g (left + 1) (by omega) (by omega) hl (ak_JN_sk hj hs (fun w => by omega))))
      · obtain ⟨h1, h2⟩ := ak_JN_up hj hs z (by omega)
        exact br_f (nI_ge (by omega) (by omega)) (And.intro is (And.intro is (nm_r (ak_tg_up hs) (nm_r (pk_m1 left) (nm_r (nI_1 s) (ih n (s + 1) _ left (by omega) (by omega) (by omega) h2))))))
theorem ax_sh5 {post : Int32 → SX → Prop} {ρ : Nat} (hS : S ≤ 4) (hpr : ∀ s, s < S → (c 10) s = nI (pr s) ∧ pr s < 4) (hde : ∀ s, s < S → (c 11) s = nI (d s) ∧ d s < 7) (hρ : ρ < 4)
    (K : ∀ g left, left < 7 → (left = 0 ∨ ak_JN S pr d G g ρ 6 0 left) → ak_itr S pr d left g = G → (∀ i, i < S → g i ≤ d i) → post (nI left) (nI P, nI S, nI T, fs, c 0, c 1, c 2, c 3, c 4, c 5, c 6, c 7, c 15, c 8, nx, qh, qt, ql, pe, nn, np, nh, nt, nl, c 9, c 10, c 11, ak_tg S t0 g, c 12, c 13, c 14, os, oc, ss)) :
    ∀ k n r g left, r + k = 6 → k < n → left < 7 → ak_JN S pr d G g ρ r 0 left → wX_share_5 post (nI ρ) (nI P) (nI S) (nI T) fs n (nI left) (nI r) (c 0) (c 1) (c 2) (c 3) (c 4) (c 5) (c 6) (c 7) (c 15) (c 8) nx qh qt ql pe nn np nh nt nl (c 9) (c 10) (c 11) (ak_tg S t0 g) (c 12) (c 13) (c 14) os oc ss := by
  intro k
  induction k with
  | zero =>
    intro n r g left hk hn hl hj
    obtain ⟨n, rfl⟩ : ∃ m, n = m + 1 := ⟨n - 1, by omega⟩
    have e : r = 6 := by omega
    subst e
    exact br_t (by decide) (K g left hl (Or.inr hj) hj.1 hj.2.1)
  | succ k ih =>
    intro n r g left hk hn hl hj
    obtain ⟨n, rfl⟩ : ∃ m, n = m + 1 := ⟨n - 1, by omega⟩
    refine br_f (nI_ge (b := 6) (by omega) (by omega)) ?_
    rcases left with _ | left
    · exact br_t (by decide) (K g 0 hl (Or.inl rfl) hj.1 hj.2.1)
    · refine br_f (nI_nle (by omega) (by omega)) (Exists.intro (S + 1) ?_)
      exact ax_sh19 hS hpr hde hρ (by omega) (fun g' left' hl' hj' => ih n (r + 1) g' left' (by omega) (by omega) hl' hj') S (S + 1) 0 g (left + 1) (Nat.zero_add S) (by omega) hl hj
theorem ax_ct30 {post : SX → Prop} (hS : S ≤ 4) (hpr : ∀ s, s < S → (c 10) s = nI (pr s) ∧ pr s < 4) (hde : ∀ s, s < S → (c 11) s = nI (d s) ∧ d s < 7)
    (K : (∀ i, i < S → G i ≤ d i) → post (nI P, nI S, nI T, fs, c 0, c 1, c 2, c 3, c 4, c 5, c 6, c 7, c 15, c 8, nx, qh, qt, ql, pe, nn, np, nh, nt, nl, c 9, c 10, c 11, ak_tg S t0 G, c 12, c 13, c 14, os, oc, ss)) :
    ∀ k n g left, k ≤ 4 → k < n → left < 7 → ak_itr S pr d left g = G → (∀ i, i < S → g i ≤ d i) → (left = 0 ∨ (0 < k ∧ ak_JN S pr d G g (k - 1) 0 0 left) ∨ (k = 0 ∧ ak_JN S pr d G g 0 6 0 left)) → wX_computeTargets_30 post n (nI left) (ak_dn k) (nI P) (nI S) (nI T) fs (c 0) (c 1) (c 2) (c 3) (c 4) (c 5) (c 6) (c 7) (c 15) (c 8) nx qh qt ql pe nn np nh nt nl (c 9) (c 10) (c 11) (ak_tg S t0 g) (c 12) (c 13) (c 14) os oc ss := by
  have hd7 : ∀ i, i < S → d i < 7 := fun i hi => (hde i hi).2
  intro k
  induction k with
  | zero =>
    intro n g left hk hn hl h1 h2 hj
    obtain ⟨n, rfl⟩ : ∃ m, n = m + 1 := ⟨n - 1, by omega⟩
    have e : g = G := ak_JN_end hd7 (by
      rcases hj with z | ⟨z, _⟩ | ⟨_, z⟩
      · exact Or.inl z
      · omega
      · exact Or.inr z) h1
    subst e
    exact br_t (by decide) (K h2)
  | succ k ih =>
    intro n g left hk hn hl h1 h2 hj
    obtain ⟨n, rfl⟩ : ∃ m, n = m + 1 := ⟨n - 1, by omega⟩
    refine br_f (ak_dn_n (by omega)) ?_
    refine Exists.intro 7 (ax_sh5 (ρ := k) (G := G) hS hpr hde (by omega) (fun g' left' hl' hj' h1' h2' => ?_) 6 7 0 g left rfl (by omega) hl ?_)
    · refine nm_r (ak_dn_s k) (ih n g' left' (by omega) (by omega) hl' h1' h2' ?_)
      rcases hj' with z | z
      · exact Or.inl z
      · rcases k with _ | k
        · exact Or.inr (Or.inr ⟨rfl, z⟩)
        · exact Or.inr (Or.inl ⟨by omega, ak_JN_rk hd7 z⟩)
    · rcases hj with z | ⟨_, z⟩ | ⟨z, _⟩
      · subst z; exact ⟨h1, h2, fun y => absurd y (Nat.lt_irrefl 0)⟩
      · exact z
      · omega
theorem ax_ct7 {post : SX → Prop} (hZ : ak_Z P S T) (hpr : ∀ s, s < S → (c 10) s = nI (pr s) ∧ pr s < 4) (hde : ∀ s, s < S → (c 11) s = nI (d s) ∧ d s < 7) (hG : G = ak_itr S pr d P (fun _ => 0))
    (K : (∀ i, i < S → G i ≤ d i) → post (nI P, nI S, nI T, fs, c 0, c 1, c 2, c 3, c 4, c 5, c 6, c 7, c 15, c 8, nx, qh, qt, ql, pe, nn, np, nh, nt, nl, c 9, c 10, c 11, ak_tg S t0 G, c 12, c 13, c 14, os, oc, ss)) :
    ∀ k n s, s + k = S → k < n → wX_computeTargets_7 post (nI P) (nI P) (nI S) (nI T) fs n (nI s) (c 0) (c 1) (c 2) (c 3) (c 4) (c 5) (c 6) (c 7) (c 15) (c 8) nx qh qt ql pe nn np nh nt nl (c 9) (c 10) (c 11) (ak_t0 s t0) (c 12) (c 13) (c 14) os oc ss := by
  unfold ak_Z at hZ
  intro k
  induction k with
  | zero =>
    intro n s hk hn
    obtain ⟨n, rfl⟩ : ∃ m, n = m + 1 := ⟨n - 1, by omega⟩
    have e : s = S := by omega
    subst e
    refine br_t (nI_le (Nat.le_refl _) (by omega)) (Exists.intro 5 ?_)
    refine ax_ct30 (t0 := t0) (G := G) (by omega) hpr hde K 4 5 (fun _ => 0) P (by omega) (by omega) (by omega) hG.symm (fun i hi => Nat.zero_le _) (Or.inr (Or.inl ⟨by omega, hG.symm, fun i hi => Nat.zero_le _, fun _ i hi => ?_⟩))
    have := (hpr i hi).2
    refine ⟨fun y => by omega, fun _ => rfl, fun y => ⟨fun w => absurd w (Nat.not_lt_zero i), fun _ => ?_⟩⟩
    show (0 : Nat) = _
    split <;> omega
  | succ k ih =>
    intro n s hk hn
    obtain ⟨n, rfl⟩ : ∃ m, n = m + 1 := ⟨n - 1, by omega⟩
    have is : vp_in (nI s) 4 := ak_in (by omega) (by omega)
    have es : (nI s).toNatClampNeg = s := ak_cl (by omega)
    exact br_f (nI_ge (by omega) (by omega)) (And.intro is (nm_r (by rw [es]; exact ak_t0_up s t0) (nm_r (nI_1 s) (ih n (s + 1) (by omega) (by omega)))))
/-! Y -/
def ak_ob (o : Option Nat) : Int32 := match o with
  | none => -1
  | some b => nI b
theorem ay_37 {post : SY → Prop} {J : Int32 → (Nat → Int32) → (Nat → Int32) → (Nat → Int32) → (Nat → Int32) → (Nat → Int32) → (Nat → Int32) → (Nat → Int32) → (Nat → Int32) → (Nat → Int32) → (Nat → Int32) → (Nat → Int32) → (Nat → Int32) → (Nat → Int32) → (Nat → Int32) → (Nat → Int32) → (Nat → Int32) → (Nat → Int32) → (Nat → Int32) → (Nat → Int32) → (Nat → Int32) → Prop} {i : Nat} {g : Nat → Nat} (hS : S ≤ 4) (hpr : ∀ s, s < S → (c 10) s = nI (pr s) ∧ pr s < 4) (hde : ∀ s, s < S → (c 11) s = nI (d s) ∧ d s < 7) (hg : ∀ i, i < S → g i ≤ d i)
    (K : J (nI (i + 1)) (c 2) (c 3) (c 4) (c 5) (c 6) (c 7) (c 16) (c 8) (c 0) (c 1) (c 10) (c 11) (ak_tg S t0 (ak_y S pr d g)) (c 14) (c 12) (c 9) (c 13) fa fb fi) :
    ∀ k n s, s + k = S → k < n → wY_reallocate_37 post J (nI i) (nI P) (nI S) (nI T) (nI F.length) (c 2) (c 3) (c 4) (c 5) (c 6) (c 7) (c 16) (c 8) (c 0) (c 1) (c 10) (c 11) (ak_tg S t0 g) (c 14) (c 12) (c 9) (c 13) fa fb fi n (ak_ob (ak_bs pr d g s)) (nI s) := by
  intro k
  induction k with
  | zero =>
    intro n s hk hn
    obtain ⟨n, rfl⟩ : ∃ m, n = m + 1 := ⟨n - 1, by omega⟩
    have e : s = S := by omega
    subst e
    refine br_t (nI_le (Nat.le_refl _) (by omega)) ?_
    unfold ak_y at K
    rcases ak_bs_sp pr d g s with ⟨h1, h2⟩ | ⟨b, h1, h2, h3, h4⟩
    · rw [h1] at K ⊢
      exact br_t rfl (nm_r (nI_1 i) K)
    · rw [h1] at K ⊢
      have ib : vp_in (nI b) 4 := ak_in (by omega) (by omega)
      have eb : (nI b).toNatClampNeg = b := ak_cl (by omega)
      refine br_f (ak_n1 (a := b) (by omega)) (And.intro ib (And.intro ib (nm_r (e' := ak_tg s t0 (ak_gup g b)) ?_ (nm_r (nI_1 i) K))))
      show upd (ak_tg s t0 g) (nI b).toNatClampNeg (ak_tg s t0 g (nI b).toNatClampNeg + 1) = _
      rw [eb]; exact ak_tg_up h2
  | succ k ih =>
    intro n s hk hn
    obtain ⟨n, rfl⟩ : ∃ m, n = m + 1 := ⟨n - 1, by omega⟩
    have hs : s < S := by omega
    have is : vp_in (nI s) 4 := ak_in (by omega) (by omega)
    have es : (nI s).toNatClampNeg = s := ak_cl (by omega)
    have hi := ih n (s + 1) (by omega) (by omega)
    simp only [ak_bs] at hi
    have hgs := hg s hs
    have hd7 := (hde s hs).2
    have hp4 := (hpr s hs).2
    refine br_f (nI_ge hs (by omega)) (And.intro is (And.intro is ?_))
    rw [es, (hde s hs).1, ak_tg_s hs]
    by_cases z : d s ≤ g s
    · rw [if_pos z] at hi
      exact br_t (nI_le z (by omega)) (nm_r (nI_1 s) hi)
    · rw [if_neg z] at hi
      refine br_f (nI_ge (by omega) (by omega)) ?_
      rcases ak_bs_sp pr d g s with ⟨h1, h2⟩ | ⟨b, h1, h2, h3, h4⟩
      · rw [h1] at hi ⊢
        exact br_t rfl (nm_r (nI_1 s) hi)
      · rw [h1] at hi ⊢
        unfold ak_nb at hi
        dsimp only at hi
        have ib : vp_in (nI b) 4 := ak_in (by omega) (by omega)
        have eb : (nI b).toNatClampNeg = b := ak_cl (by omega)
        have hgb := hg b (by omega)
        have hd7b := (hde b (by omega)).2
        have hp4b := (hpr b (by omega)).2
        show (nI b = -1 → _) ∧ (¬ nI b = -1 → _)
        refine br_f (ak_n1 (a := b) (by omega)) (And.intro is (And.intro ib ?_))
        show ((c 10) (nI b).toNatClampNeg < (c 10) s → _) ∧ (¬ (c 10) (nI b).toNatClampNeg < (c 10) s → _)
        rw [eb, (hpr s hs).1, (hpr b (by omega)).1]
        by_cases y1 : pr b < pr s
        · rw [if_pos y1] at hi
          exact br_t (nI_lt y1 (by omega)) (nm_r (nI_1 s) hi)
        · rw [if_neg y1] at hi
          refine br_f (nI_nlt (by omega) (by omega)) (And.intro is (And.intro ib ?_))
          show (nI (pr s) = (c 10) (nI b).toNatClampNeg → _) ∧ (¬ nI (pr s) = (c 10) (nI b).toNatClampNeg → _)
          rw [eb, (hpr b (by omega)).1]
          by_cases y2 : pr s = pr b
          · rw [if_pos y2] at hi
            refine br_t (by rw [y2]) (And.intro is (And.intro ib ?_))
            show (ak_tg S t0 g (nI b).toNatClampNeg ≤ nI (g s) → _) ∧ (¬ ak_tg S t0 g (nI b).toNatClampNeg ≤ nI (g s) → _)
            rw [eb, ak_tg_s (by omega)]
            by_cases y3 : g b ≤ g s
            · rw [if_pos y3] at hi
              exact br_t (nI_le y3 (by omega)) (nm_r (nI_1 s) hi)
            · rw [if_neg y3] at hi
              exact br_f (nI_ge (by omega) (by omega)) (nm_r (nI_1 s) hi)
          · rw [if_neg y2] at hi
            exact br_f (fun w => y2 ((ak_ni (by omega) (by omega)).mp w)) (nm_r (nI_1 s) hi)
theorem ak_y_le {g : Nat → Nat} (hg : ∀ i, i < S → g i ≤ d i) : ∀ i, i < S → ak_y S pr d g i ≤ d i := by
  intro i hi
  unfold ak_y
  rcases ak_bs_sp pr d g S with ⟨h1, h2⟩ | ⟨b, h1, h2, h3, h4⟩
  · rw [h1]; exact hg i hi
  · rw [h1]
    show ak_gup g b i ≤ d i
    unfold ak_gup
    by_cases z : i = b
    · rw [if_pos z, z]; omega
    · rw [if_neg z]; exact hg i hi
theorem ay_25 {post : SY → Prop} (hZ : ak_Z P S T) (hpr : ∀ s, s < S → (c 10) s = nI (pr s) ∧ pr s < 4) (hde : ∀ s, s < S → (c 11) s = nI (d s) ∧ d s < 7)
    (K : (∀ i, i < S → G i ≤ d i) → ∃ n, wY_reallocate_141 post n 0 (nI P) (nI S) (nI T) (nI F.length) (c 2) (c 3) (c 4) (c 5) (c 6) (c 7) (c 16) (c 8) (c 0) (c 1) (c 10) (c 11) (ak_tg S t0 G) (c 14) (c 12) (c 9) (c 13) fa fb fi) :
    ∀ k n i g, i + k = P → k < n → ak_itr S pr d k g = G → (∀ i, i < S → g i ≤ d i) → wY_reallocate_25 post (nI P) (nI S) (nI T) (nI F.length) n (nI i) (c 2) (c 3) (c 4) (c 5) (c 6) (c 7) (c 16) (c 8) (c 0) (c 1) (c 10) (c 11) (ak_tg S t0 g) (c 14) (c 12) (c 9) (c 13) fa fb fi := by
  unfold ak_Z at hZ
  intro k
  induction k with
  | zero =>
    intro n i g hk hn h1 h2
    obtain ⟨n, rfl⟩ : ∃ m, n = m + 1 := ⟨n - 1, by omega⟩
    have e : i = P := by omega
    subst e
    have e : g = G := h1
    subst e
    exact br_t (nI_le (Nat.le_refl _) (by omega)) (K h2)
  | succ k ih =>
    intro n i g hk hn h1 h2
    obtain ⟨n, rfl⟩ : ∃ m, n = m + 1 := ⟨n - 1, by omega⟩
    refine br_f (nI_ge (by omega) (by omega)) (Exists.intro (S + 1) ?_)
    exact ay_37 (by omega) hpr hde h2 (ih n (i + 1) _ (by omega) (by omega) h1 (ak_y_le h2)) S (S + 1) 0 (Nat.zero_add S) (by omega)
theorem ay_r2 {post : SY → Prop} (hZ : ak_Z P S T) (hpr : ∀ s, s < S → (c 10) s = nI (pr s) ∧ pr s < 4) (hde : ∀ s, s < S → (c 11) s = nI (d s) ∧ d s < 7) (hG : G = ak_itr S pr d P (fun _ => 0))
    (K : (∀ i, i < S → G i ≤ d i) → ∃ n, wY_reallocate_141 post n 0 (nI P) (nI S) (nI T) (nI F.length) (c 2) (c 3) (c 4) (c 5) (c 6) (c 7) (c 16) (c 8) (c 0) (c 1) (c 10) (c 11) (ak_tg S t0 G) (c 14) (c 12) (c 9) (c 13) fa fb fi) :
    ∀ k n s, s + k = S → k < n → wY_reallocate_2 post (nI P) (nI S) (nI T) (nI F.length) n (nI s) (c 2) (c 3) (c 4) (c 5) (c 6) (c 7) (c 16) (c 8) (c 0) (c 1) (c 10) (c 11) (ak_t0 s t0) (c 14) (c 12) (c 9) (c 13) fa fb fi := by
  have hZ' := hZ
  unfold ak_Z at hZ'
  intro k
  induction k with
  | zero =>
    intro n s hk hn
    obtain ⟨n, rfl⟩ : ∃ m, n = m + 1 := ⟨n - 1, by omega⟩
    have e : s = S := by omega
    subst e
    refine br_t (nI_le (Nat.le_refl _) (by omega)) (Exists.intro (P + 1) ?_)
    exact ay_25 (t0 := t0) hZ hpr hde K P (P + 1) 0 (fun _ => 0) (Nat.zero_add P) (by omega) hG.symm (fun i hi => Nat.zero_le _)
  | succ k ih =>
    intro n s hk hn
    obtain ⟨n, rfl⟩ : ∃ m, n = m + 1 := ⟨n - 1, by omega⟩
    have is : vp_in (nI s) 4 := ak_in (by omega) (by omega)
    have es : (nI s).toNatClampNeg = s := ak_cl (by omega)
    exact br_f (nI_ge (by omega) (by omega)) (And.intro is (nm_r (by rw [es]; exact ak_t0_up s t0) (nm_r (nI_1 s) (ih n (s + 1) (by omega) (by omega)))))
end
end
section
/-! reallocate -/
section
variable {P S T : Nat} {c : Nat → Nat → Int32} {F : List (Nat × Nat)}
theorem ai_freep {p : Nat} (I : ak_I P S T c F) (hp : p < P) (hV : ak_V F (16 + p) = []) : ∀ f ∈ F, ak_cd f ≠ p := by
  intro f hf hc
  have hZ := ai_Z I
  have : f ∈ ak_V F (16 + p) := ak_V_mem.mpr ⟨hf, by
    rcases ak_sh I hf with ⟨s, x, j, h1, h2, h3, rfl, _⟩ | ⟨s, x, l, h1, h2, h3, rfl, _⟩ | ⟨s, x, h1, h2, rfl, _⟩ | ⟨s, x, h1, h2, rfl | rfl, _⟩ | ⟨s, q, h1, h2, rfl, _⟩
    · rw [ak_cd5 (by omega)] at hc; omega
    · rw [ak_cd5 (by omega)] at hc; omega
    · rw [ak_cd20] at hc; omega
    · rw [ak_cd20] at hc; omega
    · rw [ak_cd20] at hc; omega
    · rw [ak_cd20] at hc; rw [ak_sjp (by omega)]; omega⟩
  rw [hV] at this
  exact absurd this List.not_mem_nil
theorem as_take {p s : Nat} (I : ak_I P S T c F) (hp : p < P) (hs : s < S) (ho : (c 3) p = nI s) : ∃ c1 F1, ak_I P S T c1 F1 ∧ (c1 3) = upd (c 3) p (-1) ∧ (c1 17) = (c 17) ∧
    ak_SX P S T c F c1 F1 (fun post u => wpX_take post u (nI p)) ∧ ak_SY P S T c F c1 F1 (fun post v => wpY_take post v (nI p)) := by
  have hZ := ai_Z I
  have hA : ∀ j, j < 4 → p ∈ ak_it F (20 + j) → j = s := by
    intro j hj hm
    have : (20 + j, p) ∈ ak_V F (16 + p) := ak_V_mem.mpr ⟨ak_it_mem.mp hm, ak_sjp (by omega)⟩
    rcases ai_PV I hp with g | ⟨s', q1, q2, g⟩
    · rw [g] at this; exact absurd this List.not_mem_nil
    · rw [g] at this
      have e := congrArg Prod.fst (List.mem_singleton.mp this)
      dsimp only at e
      have := (ak_ni (by omega) (by omega)).mp (q2.symm.trans ho)
      omega
  rcases ak_own_s I hp hs ho with ⟨k, k1, k3, hk, hth⟩ | ⟨k, t, k45, hk, t1, hth, t3, t4⟩
  · refine ⟨_, _, ai_tk0 I hp hs ho hth, rfl, rfl, ?_, ?_⟩
    · intro post u R K
      exact ax_take (k := k) R hp ho (by omega) hA (fun u' R' post' K' => ax_pre0 R' hp hth K') ho hk (by omega) (by omega) K
    · intro post v R K
      exact ay_take R hp ho (by omega) (fun v' R' post' K' => ay_pre0 R' hp hth K') K
  · obtain ⟨s', j, a, k', q1, q2, q3, q4, q5, q6, q7, q8, q9, w1, w2, w3, hV⟩ := ai_run I hp hth (by omega)
    have hcd := ak_free I hV (k := 1) (by omega) (Or.inl rfl)
    rw [Nat.one_mul] at hcd
    have hcd' : ∀ f ∈ F.erase (20 + s, p), ak_cd f ≠ 16 + t := fun f hf => hcd f (List.mem_of_mem_erase hf)
    refine ⟨_, _, ai_tk I hp hs ho hth t1, rfl, rfl, ?_, ?_⟩
    · intro post u R K
      exact ax_take (k := k) (c1 := (ak_sa (ak_sa c 4 (upd (c 4) p (-1))) 5 (upd (c 5) t 5))) R hp ho (by omega) hA (fun u' R' post' K' => ax_pre R' hp hth (by omega) t4 (by omega) hcd' K') ho hk (by omega) (by omega) K
    · intro post v R K
      exact ay_take (c1 := (ak_sa (ak_sa c 4 (upd (c 4) p (-1))) 5 (upd (c 5) t 5))) R hp ho (by omega) (fun v' R' post' K' => ay_pre R' hp hth (by omega) ho (by omega) hcd' K') K
theorem as_wl {s g : Nat} (hs : s < S) (hg : g < 7) : ∀ (m : Nat) (c : Nat → Nat → Int32) (F : List (Nat × Nat)), m ≤ P → ak_I P S T c F → (c 17) s = nI g → (ak_cn (c 3) (nI s) P ≤ g ∨ ∀ q, m ≤ q → q < P → ¬ (c 3) q = nI s) →
    ∃ c' F', ak_I P S T c' F' ∧ (c' 17) = (c 17) ∧
      (∀ (post : SX → Prop) (n : Nat), ak_cn (c 3) (nI s) P < n → ak_KX P S T c' F' post → ∀ (fs : Int32) (nx qh qt ql pe nn np nh nt nl os oc ss : Nat → Int32), ak_PX P S T (c 2) (c 3) F fs nx qh qt ql pe nn np nh nt nl os oc ss → wX_withdraw_7 post (nI s) n (nI (ak_cn (c 3) (nI s) P)) (nI P) (nI S) (nI T) fs (c 0) (c 1) (c 2) (c 3) (c 4) (c 5) (c 6) (c 7) (c 15) (c 8) nx qh qt ql pe nn np nh nt nl (c 9) (c 10) (c 11) (c 17) (c 12) (c 13) (c 14) os oc ss) ∧
      (∀ (post : SY → Prop) (J : Int32 → Int32 → Int32 → Int32 → Int32 → (Nat → Int32) → (Nat → Int32) → (Nat → Int32) → (Nat → Int32) → (Nat → Int32) → (Nat → Int32) → (Nat → Int32) → (Nat → Int32) → (Nat → Int32) → (Nat → Int32) → (Nat → Int32) → (Nat → Int32) → (Nat → Int32) → (Nat → Int32) → (Nat → Int32) → (Nat → Int32) → (Nat → Int32) → (Nat → Int32) → (Nat → Int32) → (Nat → Int32) → Prop) (n : Nat), m < n → (∀ (fa fb fi : Nat → Int32), ak_PY P S T F' fa fb fi → J (nI (s + 1)) (nI P) (nI S) (nI T) (nI F'.length) (c' 2) (c' 3) (c' 4) (c' 5) (c' 6) (c' 7) (c' 16) (c' 8) (c' 0) (c' 1) (c' 10) (c' 11) (c' 17) (c' 14) (c' 12) (c' 9) (c' 13) fa fb fi) → ∀ (fa fb fi : Nat → Int32), ak_PY P S T F fa fb fi → wY_reallocate_156 post J (nI s) n (ak_dn m) (nI P) (nI S) (nI T) (nI F.length) (c 2) (c 3) (c 4) (c 5) (c 6) (c 7) (c 16) (c 8) (c 0) (c 1) (c 10) (c 11) (c 17) (c 14) (c 12) (c 9) (c 13) fa fb fi) := by
  intro m
  induction m with
  | zero =>
    intro c F hm I ht hinv
    have hZ := ai_Z I
    have is : vp_in (nI s) 4 := ak_in (by omega) (by omega)
    have es : (nI s).toNatClampNeg = s := ak_cl (by omega)
    have hcn : ak_cn (c 3) (nI s) P ≤ g := by
      rcases hinv with h | h
      · exact h
      · rw [ak_cn_0 (fun q hq => h q (Nat.zero_le _) hq)]; omega
    refine ⟨c, F, I, rfl, ?_, ?_⟩
    · intro post n hn K fs nx qh qt ql pe nn np nh nt nl os oc ss R
      obtain ⟨n, rfl⟩ : ∃ m, n = m + 1 := ⟨n - 1, by omega⟩
      exact And.intro is (br_t (by rw [es, ht]; exact nI_le hcn (by omega)) (K _ _ _ _ _ _ _ _ _ _ _ _ _ _ R))
    · intro post J n hn K fa fb fi R
      obtain ⟨n, rfl⟩ : ∃ m, n = m + 1 := ⟨n - 1, by omega⟩
      exact br_t (by decide) (nm_r (nI_1 s) (K _ _ _ R))
  | succ p ih =>
    intro c F hm I ht hinv
    have hZ := ai_Z I
    have hcP := ak_cn_le (c 3) (nI s) P
    have is : vp_in (nI s) 4 := ak_in (by omega) (by omega)
    have es : (nI s).toNatClampNeg = s := ak_cl (by omega)
    have ip : vp_in (ak_dn (p + 1)) 6 := ak_in (n := p) (by omega) (by omega)
    have ep : (ak_dn (p + 1)).toNatClampNeg = p := ak_cl (n := p) (by omega)
    have skip : ¬ ((c 3) p = nI s ∧ g < ak_cn (c 3) (nI s) P) → (ak_cn (c 3) (nI s) P ≤ g ∨ ∀ q, p ≤ q → q < P → ¬ (c 3) q = nI s) → ∃ c' F', ak_I P S T c' F' ∧ (c' 17) = (c 17) ∧
      (∀ (post : SX → Prop) (n : Nat), ak_cn (c 3) (nI s) P < n → ak_KX P S T c' F' post → ∀ (fs : Int32) (nx qh qt ql pe nn np nh nt nl os oc ss : Nat → Int32), ak_PX P S T (c 2) (c 3) F fs nx qh qt ql pe nn np nh nt nl os oc ss → wX_withdraw_7 post (nI s) n (nI (ak_cn (c 3) (nI s) P)) (nI P) (nI S) (nI T) fs (c 0) (c 1) (c 2) (c 3) (c 4) (c 5) (c 6) (c 7) (c 15) (c 8) nx qh qt ql pe nn np nh nt nl (c 9) (c 10) (c 11) (c 17) (c 12) (c 13) (c 14) os oc ss) ∧
      (∀ (post : SY → Prop) (J : Int32 → Int32 → Int32 → Int32 → Int32 → (Nat → Int32) → (Nat → Int32) → (Nat → Int32) → (Nat → Int32) → (Nat → Int32) → (Nat → Int32) → (Nat → Int32) → (Nat → Int32) → (Nat → Int32) → (Nat → Int32) → (Nat → Int32) → (Nat → Int32) → (Nat → Int32) → (Nat → Int32) → (Nat → Int32) → (Nat → Int32) → (Nat → Int32) → (Nat → Int32) → (Nat → Int32) → (Nat → Int32) → Prop) (n : Nat), p + 1 < n → (∀ (fa fb fi : Nat → Int32), ak_PY P S T F' fa fb fi → J (nI (s + 1)) (nI P) (nI S) (nI T) (nI F'.length) (c' 2) (c' 3) (c' 4) (c' 5) (c' 6) (c' 7) (c' 16) (c' 8) (c' 0) (c' 1) (c' 10) (c' 11) (c' 17) (c' 14) (c' 12) (c' 9) (c' 13) fa fb fi) → ∀ (fa fb fi : Nat → Int32), ak_PY P S T F fa fb fi → wY_reallocate_156 post J (nI s) n (ak_dn (p + 1)) (nI P) (nI S) (nI T) (nI F.length) (c 2) (c 3) (c 4) (c 5) (c 6) (c 7) (c 16) (c 8) (c 0) (c 1) (c 10) (c 11) (c 17) (c 14) (c 12) (c 9) (c 13) fa fb fi) := by
      intro hn hinv'
      obtain ⟨c', F', I', ht', hX, hY⟩ := ih c F (by omega) I ht hinv'
      refine ⟨c', F', I', ht', hX, ?_⟩
      intro post J n hn' K fa fb fi R
      obtain ⟨n, rfl⟩ : ∃ m, n = m + 1 := ⟨n - 1, by omega⟩
      have go := hY post J n (by omega) K fa fb fi R
      refine br_f (ak_dn_n (by omega)) (And.intro ip ?_)
      rw [ep]
      refine br_c (fun e1 => ?_) (fun _ => nm_r (ak_dn_s p) go)
      refine ay_own (ak_mkY R) (And.intro is (br_t ?_ (nm_r (ak_dn_s p) go)))
      rw [es, ht]
      exact nI_le (by
        rcases Nat.lt_or_ge g (ak_cn (c 3) (nI s) P) with z | z
        · exact absurd ⟨e1, z⟩ hn
        · exact z) (by omega)
    by_cases hgc : ak_cn (c 3) (nI s) P ≤ g
    · exact skip (fun z => by omega) (Or.inl hgc)
    have hno : ∀ q, p + 1 ≤ q → q < P → ¬ (c 3) q = nI s := by
      rcases hinv with h | h
      · exact absurd h hgc
      · exact h
    by_cases hown : (c 3) p = nI s
    · obtain ⟨c1, F1, I1, ho1, ht1, hX1, hY1⟩ := as_take I (show p < P by omega) hs hown
      have hcn := ak_cn_dn (y := -1) hown (ak_1n (by omega)) (show p < P by omega)
      rw [← ho1] at hcn
      obtain ⟨c', F', I', ht', hX, hY⟩ := ih c1 F1 (by omega) I1 (by rw [ht1]; exact ht) (Or.inr fun q hq hqP => by
        rw [ho1]
        by_cases y : q = p
        · subst y; rw [pk_us]; exact ak_1n (by omega)
        · rw [pk_un y]; exact hno q (by omega) hqP)
      refine ⟨c', F', I', ht'.trans ht1, ?_, ?_⟩
      · intro post n hn K fs nx qh qt ql pe nn np nh nt nl os oc ss R
        obtain ⟨n, rfl⟩ : ∃ m, n = m + 1 := ⟨n - 1, by omega⟩
        refine And.intro is (br_f (by rw [es, ht]; exact nI_ge (by omega) (by omega)) (And.intro is ?_))
        rw [es]
        refine ax_high (r := nI p) (b := fun q => (c 3) q = nI s) (R.2.2.2.2.2 s (by omega)).1 R.1.2.1 (fun q _ => decide_eq_true_iff) (Or.inr ⟨p, by omega, rfl, hown, fun q h1 h2 => hno q (by omega) h2⟩) ?_
        refine br_f (ak_n1 (by omega)) ?_
        refine hX1 _ _ (ak_mkX R) ?_
        intro fs nx qh qt ql pe nn np nh nt nl os oc ss R
        refine nm_r (e' := nI (ak_cn (c1 3) (nI s) P)) (by rw [← hcn]; exact pk_m1 _) ?_
        exact hX post n (by omega) K fs nx qh qt ql pe nn np nh nt nl os oc ss R
      · intro post J n hn K fa fb fi R
        obtain ⟨n, rfl⟩ : ∃ m, n = m + 1 := ⟨n - 1, by omega⟩
        refine br_f (ak_dn_n (by omega)) (And.intro ip ?_)
        rw [ep]
        refine br_t hown ?_
        refine ay_own (ak_mkY R) (And.intro is (br_f (by rw [es, ht]; exact nI_ge (by omega) (by omega)) ?_))
        refine hY1 _ _ (ak_mkY R) ?_
        intro fa fb fi R
        exact nm_r (ak_dn_s p) (hY post J n (by omega) K fa fb fi R)
    · refine skip (fun z => hown z.1) (Or.inr fun q hq hqP => ?_)
      by_cases y : q = p
      · rw [y]; exact hown
      · exact hno q (by omega) hqP
theorem as_wd {s g : Nat} (I : ak_I P S T c F) (hs : s < S) (hg : g < 7) (ht : (c 17) s = nI g) : ∃ c' F', ak_I P S T c' F' ∧ (c' 17) = (c 17) ∧ ak_SX P S T c F c' F' (fun post u => wpX_withdraw post u (nI s)) ∧
    (∀ (post : SY → Prop) (J : Int32 → Int32 → Int32 → Int32 → Int32 → (Nat → Int32) → (Nat → Int32) → (Nat → Int32) → (Nat → Int32) → (Nat → Int32) → (Nat → Int32) → (Nat → Int32) → (Nat → Int32) → (Nat → Int32) → (Nat → Int32) → (Nat → Int32) → (Nat → Int32) → (Nat → Int32) → (Nat → Int32) → (Nat → Int32) → (Nat → Int32) → (Nat → Int32) → (Nat → Int32) → (Nat → Int32) → (Nat → Int32) → Prop) , (∀ (fa fb fi : Nat → Int32), ak_PY P S T F' fa fb fi → J (nI (s + 1)) (nI P) (nI S) (nI T) (nI F'.length) (c' 2) (c' 3) (c' 4) (c' 5) (c' 6) (c' 7) (c' 16) (c' 8) (c' 0) (c' 1) (c' 10) (c' 11) (c' 17) (c' 14) (c' 12) (c' 9) (c' 13) fa fb fi) → ∀ (fa fb fi : Nat → Int32), ak_PY P S T F fa fb fi → ∃ n, wY_reallocate_156 post J (nI s) n (ak_dn P) (nI P) (nI S) (nI T) (nI F.length) (c 2) (c 3) (c 4) (c 5) (c 6) (c 7) (c 16) (c 8) (c 0) (c 1) (c 10) (c 11) (c 17) (c 14) (c 12) (c 9) (c 13) fa fb fi) := by
  have hZ := ai_Z I
  have is : vp_in (nI s) 4 := ak_in (by omega) (by omega)
  have es : (nI s).toNatClampNeg = s := ak_cl (by omega)
  obtain ⟨c', F', I', ht', hX, hY⟩ := as_wl hs hg P c F (Nat.le_refl _) I ht (Or.inr fun q h1 h2 => by omega)
  refine ⟨c', F', I', ht', ?_, ?_⟩
  · intro post u R K
    refine ak_elX (M := fun u => wpX_withdraw post u (nI s)) R ?_
    intro fs nx qh qt ql pe nn np nh nt nl os oc ss R
    exact And.intro is (nm_r (e' := nI (ak_cn (c 3) (nI s) P)) (by rw [es]; exact (R.2.2.2.2.2 s (by omega)).2.1) (Exists.intro (ak_cn (c 3) (nI s) P + 1) (hX post _ (Nat.lt_succ_self _) K fs nx qh qt ql pe nn np nh nt nl os oc ss R)))
  · intro post J K fa fb fi R
    exact Exists.intro (P + 1) (hY post J (P + 1) (by omega) K fa fb fi R)
/-- nothing is free: X counts on without effect -/
theorem ax_spin {post : SX → Prop} {s g : Nat} {fs : Int32} {nx qh qt ql pe nn np nh nt nl os oc ss : Nat → Int32} (I : ak_I P S T c F) (hs : s < S) (hg : g < 7) (ht : (c 17) s = nI g) (h : ∀ q, q < P → ¬ (c 3) q = -1) (K : ak_KX P S T c F post) (R : ak_PX P S T (c 2) (c 3) F fs nx qh qt ql pe nn np nh nt nl os oc ss) : ∀ k n x, x + k = g → k < n → wX_supply_7 post (nI s) n (nI x) (nI P) (nI S) (nI T) fs (c 0) (c 1) (c 2) (c 3) (c 4) (c 5) (c 6) (c 7) (c 15) (c 8) nx qh qt ql pe nn np nh nt nl (c 9) (c 10) (c 11) (c 17) (c 12) (c 13) (c 14) os oc ss := by
  have hZ := ai_Z I
  have is : vp_in (nI s) 4 := ak_in (by omega) (by omega)
  have es : (nI s).toNatClampNeg = s := ak_cl (by omega)
  intro k
  induction k with
  | zero =>
    intro n x hx hn
    obtain ⟨n, rfl⟩ : ∃ m, n = m + 1 := ⟨n - 1, by omega⟩
    exact And.intro is (br_t (by rw [es, ht]; exact nI_le (by omega) (by omega)) (K _ _ _ _ _ _ _ _ _ _ _ _ _ _ R))
  | succ k ih =>
    intro n x hx hn
    obtain ⟨n, rfl⟩ : ∃ m, n = m + 1 := ⟨n - 1, by omega⟩
    refine And.intro is (br_f (by rw [es, ht]; exact nI_ge (by omega) (by omega)) ?_)
    refine ax_low (r := -1) (b := fun q => (c 3) q = -1) R.2.2.2.2.1 R.1.2.1 (fun q _ => decide_eq_true_iff) (Or.inl ⟨rfl, h⟩) ?_
    exact br_t rfl (nm_r (nI_1 x) (ih n (x + 1) (by omega) (by omega)))
theorem ak_free0 (I : ak_I P S T c F) {p : Nat} (hp : p < P) : (c 2) p = 0 ↔ (c 3) p = -1 := by
  have hZ := ai_Z I
  rcases I.2.2.2.1 p hp with g | ⟨s, hs, ho, ⟨k, k1, k3, g, _⟩ | ⟨k, t, k45, g, _⟩⟩
  · exact ⟨fun _ => g.1, fun _ => g.2.1⟩
  · rw [g, ho]
    exact ⟨fun z => by have := (ak_ni (b := 0) (by omega) (by omega)).mp z; omega, fun z => absurd z (ak_n1 (by omega))⟩
  · rw [g, ho]
    exact ⟨fun z => by have := (ak_ni (b := 0) (by omega) (by omega)).mp z; omega, fun z => absurd z (ak_n1 (by omega))⟩
theorem as_ul {s g : Nat} (hs : s < S) (hg : g < 7) : ∀ (d : Nat) (c : Nat → Nat → Int32) (F : List (Nat × Nat)) (p : Nat), p + d = P → ak_I P S T c F → (c 17) s = nI g → (g ≤ ak_cn (c 3) (nI s) P ∨ ∀ q, q < p → ¬ (c 3) q = -1) →
    ∃ c' F', ak_I P S T c' F' ∧ (c' 17) = (c 17) ∧
      (∀ (post : SX → Prop) (n : Nat), g - ak_cn (c 3) (nI s) P < n → ak_KX P S T c' F' post → ∀ (fs : Int32) (nx qh qt ql pe nn np nh nt nl os oc ss : Nat → Int32), ak_PX P S T (c 2) (c 3) F fs nx qh qt ql pe nn np nh nt nl os oc ss → wX_supply_7 post (nI s) n (nI (ak_cn (c 3) (nI s) P)) (nI P) (nI S) (nI T) fs (c 0) (c 1) (c 2) (c 3) (c 4) (c 5) (c 6) (c 7) (c 15) (c 8) nx qh qt ql pe nn np nh nt nl (c 9) (c 10) (c 11) (c 17) (c 12) (c 13) (c 14) os oc ss) ∧
      (∀ (post : SY → Prop) (J : Int32 → Int32 → Int32 → Int32 → Int32 → (Nat → Int32) → (Nat → Int32) → (Nat → Int32) → (Nat → Int32) → (Nat → Int32) → (Nat → Int32) → (Nat → Int32) → (Nat → Int32) → (Nat → Int32) → (Nat → Int32) → (Nat → Int32) → (Nat → Int32) → (Nat → Int32) → (Nat → Int32) → (Nat → Int32) → (Nat → Int32) → (Nat → Int32) → (Nat → Int32) → (Nat → Int32) → (Nat → Int32) → Prop) (n : Nat), d < n → (∀ (fa fb fi : Nat → Int32), ak_PY P S T F' fa fb fi → J (nI (s + 1)) (nI P) (nI S) (nI T) (nI F'.length) (c' 2) (c' 3) (c' 4) (c' 5) (c' 6) (c' 7) (c' 16) (c' 8) (c' 0) (c' 1) (c' 10) (c' 11) (c' 17) (c' 14) (c' 12) (c' 9) (c' 13) fa fb fi) → ∀ (fa fb fi : Nat → Int32), ak_PY P S T F fa fb fi → wY_reallocate_213 post J (nI s) n (nI p) (nI P) (nI S) (nI T) (nI F.length) (c 2) (c 3) (c 4) (c 5) (c 6) (c 7) (c 16) (c 8) (c 0) (c 1) (c 10) (c 11) (c 17) (c 14) (c 12) (c 9) (c 13) fa fb fi) := by
  intro d
  induction d with
  | zero =>
    intro c F p hp I ht hinv
    have hZ := ai_Z I
    have hcP := ak_cn_le (c 3) (nI s) P
    have is : vp_in (nI s) 4 := ak_in (by omega) (by omega)
    have es : (nI s).toNatClampNeg = s := ak_cl (by omega)
    have hpP : p = P := by omega
    subst hpP
    refine ⟨c, F, I, rfl, ?_, ?_⟩
    · intro post n hn K fs nx qh qt ql pe nn np nh nt nl os oc ss R
      by_cases z : g ≤ ak_cn (c 3) (nI s) p
      · obtain ⟨n, rfl⟩ : ∃ m, n = m + 1 := ⟨n - 1, by omega⟩
        exact And.intro is (br_t (by rw [es, ht]; exact nI_le z (by omega)) (K _ _ _ _ _ _ _ _ _ _ _ _ _ _ R))
      · have hno : ∀ q, q < p → ¬ (c 3) q = -1 := by
          rcases hinv with h | h
          · exact absurd h z
          · exact h
        exact ax_spin I hs hg ht hno K R (g - ak_cn (c 3) (nI s) p) n _ (by omega) hn
    · intro post J n hn K fa fb fi R
      obtain ⟨n, rfl⟩ : ∃ m, n = m + 1 := ⟨n - 1, by omega⟩
      exact br_t (nI_le (Nat.le_refl _) (by omega)) (nm_r (nI_1 s) (K _ _ _ R))
  | succ d ih =>
    intro c F p hp I ht hinv
    have hZ := ai_Z I
    have hpP : p < P := by omega
    have hcP := ak_cn_le (c 3) (nI s) P
    have is : vp_in (nI s) 4 := ak_in (by omega) (by omega)
    have es : (nI s).toNatClampNeg = s := ak_cl (by omega)
    have ip : vp_in (nI p) 6 := ak_in (by omega) (by omega)
    have ep : (nI p).toNatClampNeg = p := ak_cl (by omega)
    have skip : ¬ ((c 3) p = -1 ∧ ak_cn (c 3) (nI s) P < g) → (g ≤ ak_cn (c 3) (nI s) P ∨ ∀ q, q < p + 1 → ¬ (c 3) q = -1) → ∃ c' F', ak_I P S T c' F' ∧ (c' 17) = (c 17) ∧
      (∀ (post : SX → Prop) (n : Nat), g - ak_cn (c 3) (nI s) P < n → ak_KX P S T c' F' post → ∀ (fs : Int32) (nx qh qt ql pe nn np nh nt nl os oc ss : Nat → Int32), ak_PX P S T (c 2) (c 3) F fs nx qh qt ql pe nn np nh nt nl os oc ss → wX_supply_7 post (nI s) n (nI (ak_cn (c 3) (nI s) P)) (nI P) (nI S) (nI T) fs (c 0) (c 1) (c 2) (c 3) (c 4) (c 5) (c 6) (c 7) (c 15) (c 8) nx qh qt ql pe nn np nh nt nl (c 9) (c 10) (c 11) (c 17) (c 12) (c 13) (c 14) os oc ss) ∧
      (∀ (post : SY → Prop) (J : Int32 → Int32 → Int32 → Int32 → Int32 → (Nat → Int32) → (Nat → Int32) → (Nat → Int32) → (Nat → Int32) → (Nat → Int32) → (Nat → Int32) → (Nat → Int32) → (Nat → Int32) → (Nat → Int32) → (Nat → Int32) → (Nat → Int32) → (Nat → Int32) → (Nat → Int32) → (Nat → Int32) → (Nat → Int32) → (Nat → Int32) → (Nat → Int32) → (Nat → Int32) → (Nat → Int32) → (Nat → Int32) → Prop) (n : Nat), d + 1 < n → (∀ (fa fb fi : Nat → Int32), ak_PY P S T F' fa fb fi → J (nI (s + 1)) (nI P) (nI S) (nI T) (nI F'.length) (c' 2) (c' 3) (c' 4) (c' 5) (c' 6) (c' 7) (c' 16) (c' 8) (c' 0) (c' 1) (c' 10) (c' 11) (c' 17) (c' 14) (c' 12) (c' 9) (c' 13) fa fb fi) → ∀ (fa fb fi : Nat → Int32), ak_PY P S T F fa fb fi → wY_reallocate_213 post J (nI s) n (nI p) (nI P) (nI S) (nI T) (nI F.length) (c 2) (c 3) (c 4) (c 5) (c 6) (c 7) (c 16) (c 8) (c 0) (c 1) (c 10) (c 11) (c 17) (c 14) (c 12) (c 9) (c 13) fa fb fi) := by
      intro hn hinv'
      obtain ⟨c', F', I', ht', hX, hY⟩ := ih c F (p + 1) (by omega) I ht hinv'
      refine ⟨c', F', I', ht', hX, ?_⟩
      intro post J n hn' K fa fb fi R
      obtain ⟨n, rfl⟩ : ∃ m, n = m + 1 := ⟨n - 1, by omega⟩
      have go := hY post J n (by omega) K fa fb fi R
      refine br_f (nI_ge (by omega) (by omega)) (And.intro ip ?_)
      rw [ep]
      refine br_c (fun e1 => ?_) (fun _ => nm_r (nI_1 p) go)
      refine ay_own (ak_mkY R) (And.intro is (br_t ?_ (nm_r (nI_1 p) go)))
      rw [es, ht]
      exact nI_le (by
        rcases Nat.lt_or_ge (ak_cn (c 3) (nI s) P) g with z | z
        · exact absurd ⟨(ak_free0 I hpP).mp e1, z⟩ hn
        · exact z) (by omega)
    by_cases hgc : g ≤ ak_cn (c 3) (nI s) P
    · exact skip (fun z => by omega) (Or.inl hgc)
    have hno : ∀ q, q < p → ¬ (c 3) q = -1 := by
      rcases hinv with h | h
      · exact absurd h hgc
      · exact h
    by_cases hown : (c 3) p = -1
    · have hV : ak_V F (16 + p) = [] := by
        rcases ai_PV I hpP with g | ⟨s', q1, q2, g⟩
        · exact g
        · exact absurd (hown.symm.trans q2) (ak_1n (by omega))
      have hcd := ai_freep I hpP hV
      have I1 := ai_giv I hpP hs hown
      have hcn : ak_cn (upd (c 3) p (nI s)) (nI s) P = ak_cn (c 3) (nI s) P + 1 := ak_cn_up (fun w => ak_1n (a := s) (by omega) (hown.symm.trans w)) hpP
      obtain ⟨c', F', I', ht', hX, hY⟩ := ih _ _ (p + 1) (by omega) I1 ht (Or.inr fun q hq => by
        show ¬ upd (c 3) p (nI s) q = -1
        by_cases y : q = p
        · subst y; rw [pk_us]; exact ak_n1 (by omega)
        · rw [pk_un y]; exact hno q (by omega))
      refine ⟨c', F', I', ht', ?_, ?_⟩
      · intro post n hn K fs nx qh qt ql pe nn np nh nt nl os oc ss R
        obtain ⟨n, rfl⟩ : ∃ m, n = m + 1 := ⟨n - 1, by omega⟩
        refine And.intro is (br_f (by rw [es, ht]; exact nI_ge (by omega) (by omega)) ?_)
        refine ax_low (r := nI p) (b := fun q => (c 3) q = -1) R.2.2.2.2.1 R.1.2.1 (fun q _ => decide_eq_true_iff) (Or.inr ⟨p, hpP, rfl, hown, hno⟩) ?_
        refine br_f (ak_n1 (by omega)) ?_
        refine ax_giv (ak_mkX R) hpP hown (by omega) hcd ?_
        intro fs nx qh qt ql pe nn np nh nt nl os oc ss R
        refine nm_r (e' := nI (ak_cn (upd (c 3) p (nI s)) (nI s) P)) (by rw [hcn]; exact nI_1 _) ?_
        exact hX post n (by show g - ak_cn (upd (c 3) p (nI s)) (nI s) P < n; omega) K fs nx qh qt ql pe nn np nh nt nl os oc ss R
      · intro post J n hn K fa fb fi R
        obtain ⟨n, rfl⟩ : ∃ m, n = m + 1 := ⟨n - 1, by omega⟩
        refine br_f (nI_ge (by omega) (by omega)) (And.intro ip ?_)
        rw [ep]
        refine br_t ((ak_free0 I hpP).mpr hown) ?_
        refine ay_own (ak_mkY R) (And.intro is (br_f (by rw [es, ht]; exact nI_ge (by omega) (by omega)) (And.intro ip (nm_e (And.intro ip (nm_e ?_))))))
        rw [Int32.zero_add]
        refine ay_app (k := 20 + s) (b := 3) (c := (ak_sa (ak_sa c 3 (upd (c 3) p (nI s))) 2 (upd (c 2) p 1))) (ak_mkY (c := (ak_sa (ak_sa c 3 (upd (c 3) p (nI s))) 2 (upd (c 2) p 1))) R) (Or.inr ⟨by simp, by simp; omega, by simp; omega, by simp; omega⟩) (by rw [ak_cd20]; exact hcd) (ak_sp20 s) (ak_ls20 s) ?_
        intro fa fb fi R
        exact nm_r (nI_1 p) (hY post J n (by omega) K fa fb fi R)
    · refine skip (fun z => hown z.1) (Or.inr fun q hq => ?_)
      by_cases y : q = p
      · rw [y]; exact hown
      · exact hno q (by omega)
theorem as_sp {s g : Nat} (I : ak_I P S T c F) (hs : s < S) (hg : g < 7) (ht : (c 17) s = nI g) : ∃ c' F', ak_I P S T c' F' ∧ (c' 17) = (c 17) ∧ ak_SX P S T c F c' F' (fun post u => wpX_supply post u (nI s)) ∧
    (∀ (post : SY → Prop) (J : Int32 → Int32 → Int32 → Int32 → Int32 → (Nat → Int32) → (Nat → Int32) → (Nat → Int32) → (Nat → Int32) → (Nat → Int32) → (Nat → Int32) → (Nat → Int32) → (Nat → Int32) → (Nat → Int32) → (Nat → Int32) → (Nat → Int32) → (Nat → Int32) → (Nat → Int32) → (Nat → Int32) → (Nat → Int32) → (Nat → Int32) → (Nat → Int32) → (Nat → Int32) → (Nat → Int32) → (Nat → Int32) → Prop) , (∀ (fa fb fi : Nat → Int32), ak_PY P S T F' fa fb fi → J (nI (s + 1)) (nI P) (nI S) (nI T) (nI F'.length) (c' 2) (c' 3) (c' 4) (c' 5) (c' 6) (c' 7) (c' 16) (c' 8) (c' 0) (c' 1) (c' 10) (c' 11) (c' 17) (c' 14) (c' 12) (c' 9) (c' 13) fa fb fi) → ∀ (fa fb fi : Nat → Int32), ak_PY P S T F fa fb fi → ∃ n, wY_reallocate_213 post J (nI s) n 0 (nI P) (nI S) (nI T) (nI F.length) (c 2) (c 3) (c 4) (c 5) (c 6) (c 7) (c 16) (c 8) (c 0) (c 1) (c 10) (c 11) (c 17) (c 14) (c 12) (c 9) (c 13) fa fb fi) := by
  have hZ := ai_Z I
  have is : vp_in (nI s) 4 := ak_in (by omega) (by omega)
  have es : (nI s).toNatClampNeg = s := ak_cl (by omega)
  obtain ⟨c', F', I', ht', hX, hY⟩ := as_ul hs hg P c F 0 (Nat.zero_add P) I ht (Or.inr fun q h1 => absurd h1 (Nat.not_lt_zero q))
  refine ⟨c', F', I', ht', ?_, ?_⟩
  · intro post u R K
    refine ak_elX (M := fun u => wpX_supply post u (nI s)) R ?_
    intro fs nx qh qt ql pe nn np nh nt nl os oc ss R
    exact And.intro is (nm_r (e' := nI (ak_cn (c 3) (nI s) P)) (by rw [es]; exact (R.2.2.2.2.2 s (by omega)).2.1) (Exists.intro 8 (hX post 8 (by omega) K fs nx qh qt ql pe nn np nh nt nl os oc ss R)))
  · intro post J K fa fb fi R
    exact Exists.intro (P + 1) (hY post J (P + 1) (by omega) K fa fb fi R)
/-- the loop of the supplies -/
theorem as_l27 {G : Nat → Nat} (hG : ∀ i, i < S → G i < 7) : ∀ (d : Nat) (c : Nat → Nat → Int32) (F : List (Nat × Nat)) (s : Nat), s + d = S → ak_I P S T c F → (∀ i, i < S → (c 17) i = nI (G i)) → ∃ c' F', ak_I P S T c' F' ∧
    (∀ (post : SX → Prop) (n : Nat), d < n → ak_KX P S T c' F' post → ∀ (fs : Int32) (nx qh qt ql pe nn np nh nt nl os oc ss : Nat → Int32), ak_PX P S T (c 2) (c 3) F fs nx qh qt ql pe nn np nh nt nl os oc ss → wX_reallocate_27 post n (nI s) (nI P) (nI S) (nI T) fs (c 0) (c 1) (c 2) (c 3) (c 4) (c 5) (c 6) (c 7) (c 15) (c 8) nx qh qt ql pe nn np nh nt nl (c 9) (c 10) (c 11) (c 17) (c 12) (c 13) (c 14) os oc ss) ∧
    (∀ (post : SY → Prop) (n : Nat), d < n → ak_KY P S T c' F' post → ∀ (fa fb fi : Nat → Int32), ak_PY P S T F fa fb fi → wY_reallocate_203 post n (nI s) (nI P) (nI S) (nI T) (nI F.length) (c 2) (c 3) (c 4) (c 5) (c 6) (c 7) (c 16) (c 8) (c 0) (c 1) (c 10) (c 11) (c 17) (c 14) (c 12) (c 9) (c 13) fa fb fi) := by
  intro d
  induction d with
  | zero =>
    intro c F s hs I ht
    have hZ := ai_Z I
    have hsS : s = S := by omega
    subst hsS
    refine ⟨c, F, I, ?_, ?_⟩
    · intro post n hn K fs nx qh qt ql pe nn np nh nt nl os oc ss R
      obtain ⟨n, rfl⟩ : ∃ m, n = m + 1 := ⟨n - 1, by omega⟩
      exact br_t (nI_le (Nat.le_refl _) (by omega)) (K _ _ _ _ _ _ _ _ _ _ _ _ _ _ R)
    · intro post n hn K fa fb fi R
      obtain ⟨n, rfl⟩ : ∃ m, n = m + 1 := ⟨n - 1, by omega⟩
      exact br_t (nI_le (Nat.le_refl _) (by omega)) (K _ _ _ R)
  | succ d ih =>
    intro c F s hs I ht
    have hZ := ai_Z I
    have hsS : s < S := by omega
    obtain ⟨c1, F1, I1, ht1, hX1, hY1⟩ := as_sp I hsS (hG s hsS) (ht s hsS)
    obtain ⟨c2, F2, I2, hX2, hY2⟩ := ih c1 F1 (s + 1) (by omega) I1 (by rw [ht1]; exact ht)
    refine ⟨c2, F2, I2, ?_, ?_⟩
    · intro post n hn K fs nx qh qt ql pe nn np nh nt nl os oc ss R
      obtain ⟨n, rfl⟩ : ∃ m, n = m + 1 := ⟨n - 1, by omega⟩
      refine br_f (nI_ge hsS (by omega)) ?_
      refine hX1 _ _ (ak_mkX R) ?_
      intro fs nx qh qt ql pe nn np nh nt nl os oc ss R
      exact nm_r (nI_1 s) (hX2 post n (by omega) K fs nx qh qt ql pe nn np nh nt nl os oc ss R)
    · intro post n hn K fa fb fi R
      obtain ⟨n, rfl⟩ : ∃ m, n = m + 1 := ⟨n - 1, by omega⟩
      refine br_f (nI_ge hsS (by omega)) ?_
      refine hY1 post _ ?_ fa fb fi R
      intro fa fb fi R
      exact hY2 post n (by omega) K fa fb fi R
theorem as_l6 {G : Nat → Nat} (hG : ∀ i, i < S → G i < 7) : ∀ (d : Nat) (c : Nat → Nat → Int32) (F : List (Nat × Nat)) (s : Nat), s + d = S → ak_I P S T c F → (∀ i, i < S → (c 17) i = nI (G i)) → ∃ c' F', ak_I P S T c' F' ∧
    (∀ (post : SX → Prop) (n : Nat), d < n → ak_KX P S T c' F' post → ∀ (fs : Int32) (nx qh qt ql pe nn np nh nt nl os oc ss : Nat → Int32), ak_PX P S T (c 2) (c 3) F fs nx qh qt ql pe nn np nh nt nl os oc ss → wX_reallocate_6 post n (nI s) (nI P) (nI S) (nI T) fs (c 0) (c 1) (c 2) (c 3) (c 4) (c 5) (c 6) (c 7) (c 15) (c 8) nx qh qt ql pe nn np nh nt nl (c 9) (c 10) (c 11) (c 17) (c 12) (c 13) (c 14) os oc ss) ∧
    (∀ (post : SY → Prop) (n : Nat), d < n → ak_KY P S T c' F' post → ∀ (fa fb fi : Nat → Int32), ak_PY P S T F fa fb fi → wY_reallocate_141 post n (nI s) (nI P) (nI S) (nI T) (nI F.length) (c 2) (c 3) (c 4) (c 5) (c 6) (c 7) (c 16) (c 8) (c 0) (c 1) (c 10) (c 11) (c 17) (c 14) (c 12) (c 9) (c 13) fa fb fi) := by
  intro d
  induction d with
  | zero =>
    intro c F s hs I ht
    have hZ := ai_Z I
    have hsS : s = S := by omega
    subst hsS
    obtain ⟨c', F', I', hX, hY⟩ := as_l27 hG s c F 0 (Nat.zero_add s) I ht
    refine ⟨c', F', I', ?_, ?_⟩
    · intro post n hn K fs nx qh qt ql pe nn np nh nt nl os oc ss R
      obtain ⟨n, rfl⟩ : ∃ m, n = m + 1 := ⟨n - 1, by omega⟩
      exact br_t (nI_le (Nat.le_refl _) (by omega)) (Exists.intro (s + 1) (hX post (s + 1) (by omega) K fs nx qh qt ql pe nn np nh nt nl os oc ss R))
    · intro post n hn K fa fb fi R
      obtain ⟨n, rfl⟩ : ∃ m, n = m + 1 := ⟨n - 1, by omega⟩
      exact br_t (nI_le (Nat.le_refl _) (by omega)) (Exists.intro (s + 1) (hY post (s + 1) (by omega) K fa fb fi R))
  | succ d ih =>
    intro c F s hs I ht
    have hZ := ai_Z I
    have hsS : s < S := by omega
    obtain ⟨c1, F1, I1, ht1, hX1, hY1⟩ := as_wd I hsS (hG s hsS) (ht s hsS)
    obtain ⟨c2, F2, I2, hX2, hY2⟩ := ih c1 F1 (s + 1) (by omega) I1 (by rw [ht1]; exact ht)
    refine ⟨c2, F2, I2, ?_, ?_⟩
    · intro post n hn K fs nx qh qt ql pe nn np nh nt nl os oc ss R
      obtain ⟨n, rfl⟩ : ∃ m, n = m + 1 := ⟨n - 1, by omega⟩
      refine br_f (nI_ge hsS (by omega)) ?_
      refine hX1 _ _ (ak_mkX R) ?_
      intro fs nx qh qt ql pe nn np nh nt nl os oc ss R
      exact nm_r (nI_1 s) (hX2 post n (by omega) K fs nx qh qt ql pe nn np nh nt nl os oc ss R)
    · intro post n hn K fa fb fi R
      obtain ⟨n, rfl⟩ : ∃ m, n = m + 1 := ⟨n - 1, by omega⟩
      have eP : nI P - 1 = ak_dn P := by
        obtain ⟨q, rfl⟩ : ∃ q, P = q + 1 := ⟨P - 1, by omega⟩
        exact nI_pred q
      refine br_f (nI_ge hsS (by omega)) (nm_r eP ?_)
      refine hY1 post _ ?_ fa fb fi R
      intro fa fb fi R
      exact hY2 post n (by omega) K fa fb fi R
theorem as_rea (I : ak_I P S T c F) : ∃ c' F', ak_I P S T c' F' ∧ ak_SX P S T c F c' F' (fun post u => wpX_reallocate post u) ∧ ak_SY P S T c F c' F' (fun post v => wpY_reallocate post v) := by
  have hZ := I.1
  have hZ' := ai_Z I
  have hpr : ∀ s, s < S → (c 10) s = nI ((c 10) s).toNatClampNeg ∧ ((c 10) s).toNatClampNeg < 4 := by
    intro s hs
    obtain ⟨⟨r, h1, h2⟩, _⟩ := I.2.2.1 s hs
    rw [h2, ak_cl (by omega)]
    exact ⟨rfl, h1⟩
  have hde : ∀ s, s < S → (c 11) s = nI ((c 11) s).toNatClampNeg ∧ ((c 11) s).toNatClampNeg < 7 := by
    intro s hs
    obtain ⟨_, r, h1, h2⟩ := I.2.2.1 s hs
    rw [h2, ak_cl (by omega)]
    exact ⟨rfl, h1⟩
  generalize hpe : (fun s => ((c 10) s).toNatClampNeg) = pr
  generalize hdd : (fun s => ((c 11) s).toNatClampNeg) = d
  have hpr : ∀ s, s < S → (c 10) s = nI (pr s) ∧ pr s < 4 := by rw [← hpe]; exact hpr
  have hde : ∀ s, s < S → (c 11) s = nI (d s) ∧ d s < 7 := by rw [← hdd]; exact hde
  generalize hG : ak_itr S pr d P (fun _ => 0) = G
  by_cases hGd : ∀ i, i < S → G i ≤ d i
  · have I1 : ak_I P S T (ak_sa c 17 (ak_tg S (c 17) G)) F := I
    obtain ⟨c', F', I', hX, hY⟩ := as_l6 (G := G) (fun i hi => by have := hGd i hi; have := (hde i hi).2; omega) S (ak_sa c 17 (ak_tg S (c 17) G)) F 0 (Nat.zero_add S) I1 (fun i hi => ak_tg_s hi)
    refine ⟨c', F', I', ?_, ?_⟩
    · intro post u R K
      refine ak_elX (M := fun u => wpX_reallocate post u) R ?_
      intro fs nx qh qt ql pe nn np nh nt nl os oc ss R
      refine Exists.intro (S + 1) ?_
      have := ax_ct7 (c := c) (fs := fs) (nx := nx) (qh := qh) (qt := qt) (ql := ql) (pe := pe) (nn := nn) (np := np) (nh := nh) (nt := nt) (nl := nl) (os := os) (oc := oc) (ss := ss) (t0 := (c 17)) (post := fun u => match u with | (f_procCount_2, f_spaceCount_3, f_threadCount_4, f_freeSet_5, a_cellOp_6, a_cellArg_7, a_procState_8, a_procOwner_9, a_procThread_10, a_place_11, a_home_12, a_level_13, a_pc_14, a_value_15, a_next_16, a_queueHead_17, a_queueTail_18, a_queueLen_19, a_pending_20, a_noticeNext_21, a_noticePrev_22, a_noticeHead_23, a_noticeTail_24, a_noticeLen_25, a_deliveredCount_26, a_priorityOf_27, a_demandOf_28, a_target_29, a_memoryCells_30, a_userHolder_31, a_listHolder_32, a_ownedSet_33, a_ownedCount_34, a_stateSet_35) => (∃ n6 : Nat, wX_reallocate_6 post n6 0 f_procCount_2 f_spaceCount_3 f_threadCount_4 f_freeSet_5 a_cellOp_6 a_cellArg_7 a_procState_8 a_procOwner_9 a_procThread_10 a_place_11 a_home_12 a_level_13 a_pc_14 a_value_15 a_next_16 a_queueHead_17 a_queueTail_18 a_queueLen_19 a_pending_20 a_noticeNext_21 a_noticePrev_22 a_noticeHead_23 a_noticeTail_24 a_noticeLen_25 a_deliveredCount_26 a_priorityOf_27 a_demandOf_28 a_target_29 a_memoryCells_30 a_userHolder_31 a_listHolder_32 a_ownedSet_33 a_ownedCount_34 a_stateSet_35)) hZ hpr hde hG.symm (fun _ => Exists.intro (S + 1) (hX post (S + 1) (by omega) K fs nx qh qt ql pe nn np nh nt nl os oc ss R)) S (S + 1) 0 (Nat.zero_add S) (by omega)
      rw [ak_t0_0] at this
      exact this
    · intro post v R K
      refine ak_elY (M := fun v => wpY_reallocate post v) R ?_
      intro fa fb fi R
      refine Exists.intro (S + 1) ?_
      have := ay_r2 (c := c) (F := F) (fa := fa) (fb := fb) (fi := fi) (t0 := (c 17)) (post := post) hZ hpr hde hG.symm (fun _ => Exists.intro (S + 1) (hY post (S + 1) (by omega) K fa fb fi R)) S (S + 1) 0 (Nat.zero_add S) (by omega)
      rw [ak_t0_0] at this
      exact this
  · exfalso
    apply hGd
    have : ∀ n g, (∀ i, i < S → g i ≤ d i) → ∀ i, i < S → ak_itr S pr d n g i ≤ d i := by
      intro n
      induction n with
      | zero => intro g h; exact h
      | succ n ih => intro g h; exact ih _ (ak_y_le h)
    rw [← hG]
    exact this P _ (fun i hi => Nat.zero_le _)
end
end
section
/-! deliver -/
theorem ak_shr4 {n : Nat} (h : n < 100) : nI n >>> ((4 : Int32) &&& 31) = nI (n / 16) := pk_shrN (by omega) _ 4 (by decide)
theorem ak_and15 {n : Nat} (h : n < 100) : nI n &&& 15 = nI (n % 16) := pk_andN (by omega) 4 (by decide)
/-- the notices that may be told -/
def ak_m (s : Nat) (h : Int32) (e : Nat × Nat) : Bool := decide (e.1 = 20 + s ∧ (h = -1 ∨ (¬ e.2 / 16 = 0 ∧ nI (e.2 % 16) = h)))
section
variable {P S T : Nat} {c : Nat → Nat → Int32} {F : List (Nat × Nat)} {fs : Int32} {nx qh qt ql pe nn np nh nt nl os oc ss fa fb fi : Nat → Int32}
theorem ay_d64 {post : SY → Prop} {J : Int32 → Int32 → Prop} {s i : Nat} {x1 x3 z0 : Int32} {e : Nat × Nat} (hi : i < 64) (hs : s < 4) (he : e.1 < 24) (h0 : fa i = nI (ak_sp e.1) ∧ fb i = nI (ak_ls e.1) ∧ fi i = nI e.2)
    (K1 : ¬ z0 = 0 → e.1 = 20 + s → J (nI e.2) (nI (i + 1))) (K2 : (z0 = 0 ∨ ¬ e.1 = 20 + s) → J (-1) (nI (i + 1))) : wY_deliver_64 post J x1 (nI s) x3 (-1) (nI i) z0 (nI P) (nI S) (nI T) (nI F.length) (c 2) (c 3) (c 4) (c 5) (c 6) (c 7) (c 16) (c 8) (c 0) (c 1) (c 10) (c 11) (c 17) (c 14) (c 12) (c 9) (c 13) fa fb fi := by
  have ix : vp_in (nI i) 64 := ak_in hi (by omega)
  have ex : (nI i).toNatClampNeg = i := ak_cl (by omega)
  have hsp : ak_sp e.1 < 4 := ak_sp_lt he
  have hls := ak_ls_lt e.1
  refine br_c (fun z => nm_r (nI_1 i) (K2 (Or.inl z))) (fun z => And.intro ix ?_)
  rw [ex, h0.1, h0.2.1, h0.2.2]
  refine ak_ndec (by omega) (by omega) (fun z1 => And.intro ix (ak_ndec (b := 3) (by omega) (by omega) (fun z2 => And.intro ix (nm_e (nm_r (nI_1 i) (K1 z ?_)))) (fun z2 => nm_r (nI_1 i) (K2 (Or.inr fun y => z2 (by rw [y]; exact ak_ls20 s)))))) (fun z1 => nm_r (nI_1 i) (K2 (Or.inr fun y => z1 (by rw [y]; exact ak_sp20 s))))
  unfold ak_ls at z2
  unfold ak_sp at z1
  by_cases h20 : e.1 < 20
  · rw [if_pos h20] at z2
    by_cases h3 : e.1 % 5 < 3
    · rw [if_pos h3] at z2; omega
    · rw [if_neg h3] at z2; omega
  · rw [if_neg h20] at z1; omega
theorem ay_d13 {post : SY → Prop} {s : Nat} {x1 x3 : Int32} (hW : ak_W F) (hA : ak_FA F fa fb fi) (hs : s < 4) :
    ∀ (B A : List (Nat × Nat)) (n : Nat), F = A ++ B → B.length + 1 < n → wY_deliver_108 post x1 (nI s) x3 (ak_hd ((B.filter (ak_m s x3)).map (fun e => e.2)) (-1)) (nI P) (nI S) (nI T) (nI F.length) (c 2) (c 3) (c 4) (c 5) (c 6) (c 7) (c 16) (c 8) (c 0) (c 1) (c 10) (c 11) (c 17) (c 14) (c 12) (c 9) (c 13) fa fb fi → wY_deliver_13 post x1 (nI s) x3 (nI P) (nI S) (nI T) (nI F.length) (c 2) (c 3) (c 4) (c 5) (c 6) (c 7) (c 16) (c 8) (c 0) (c 1) (c 10) (c 11) (c 17) (c 14) (c 12) (c 9) (c 13) fa fb fi n (-1) (nI A.length) := by
  have hlen := ak_W_len hW
  intro B
  induction B with
  | nil =>
    intro A n hF hn K
    obtain ⟨n, rfl⟩ : ∃ m, n = m + 1 := ⟨n - 1, by omega⟩
    rw [List.append_nil] at hF
    subst hF
    exact br_t (nI_le (Nat.le_refl _) (by omega)) K
  | cons e B ih =>
    intro A n hF hn K
    rw [List.length_cons] at hn
    obtain ⟨n, rfl⟩ : ∃ m, n = m + 1 := ⟨n - 1, by omega⟩
    have hlF : F.length = A.length + (B.length + 1) := by rw [hF, List.length_append, List.length_cons]
    have hF2 : F = (A ++ [e]) ++ B := by rw [hF]; simp
    have heF : e ∈ F := by rw [hF]; simp
    have heo := hW.1 e heF
    have hl2 : (A ++ [e]).length = A.length + 1 := by rw [List.length_append, List.length_singleton]
    have h0 : fa A.length = nI (ak_sp e.1) ∧ fb A.length = nI (ak_ls e.1) ∧ fi A.length = nI e.2 := hA A.length e (by rw [hF]; simp)
    have he : e.1 < 24 := by unfold ak_ok at heo; omega
    have he2 : e.2 < 64 := by unfold ak_ok at heo; omega
    have ix : vp_in (nI A.length) 64 := ak_in (by omega) (by omega)
    have ex : (nI A.length).toNatClampNeg = A.length := ak_cl (by omega)
    have hit : ak_m s x3 e = true → wY_deliver_13 post x1 (nI s) x3 (nI P) (nI S) (nI T) (nI F.length) (c 2) (c 3) (c 4) (c 5) (c 6) (c 7) (c 16) (c 8) (c 0) (c 1) (c 10) (c 11) (c 17) (c 14) (c 12) (c 9) (c 13) fa fb fi n (nI e.2) (nI (A.length + 1)) := by
      intro hm
      rw [List.filter_cons_of_pos hm] at K
      obtain ⟨n, rfl⟩ : ∃ m, n = m + 1 := ⟨n - 1, by omega⟩
      exact br_c (fun _ => K) (fun _ => br_f (ak_n1 (by omega)) K)
    have miss : ¬ ak_m s x3 e = true → wY_deliver_13 post x1 (nI s) x3 (nI P) (nI S) (nI T) (nI F.length) (c 2) (c 3) (c 4) (c 5) (c 6) (c 7) (c 16) (c 8) (c 0) (c 1) (c 10) (c 11) (c 17) (c 14) (c 12) (c 9) (c 13) fa fb fi n (-1) (nI (A.length + 1)) := by
      intro hm
      rw [List.filter_cons_of_neg hm] at K
      have := ih (A ++ [e]) n hF2 (by omega) K
      rw [hl2] at this
      exact this
    refine br_f (nI_ge (by omega) (by omega)) (br_t rfl (br_c (fun z => ?_) (fun z => And.intro ix ?_)))
    · exact ay_d64 (z0 := 1) (e := e) (by omega) hs he h0 (fun _ y => hit (decide_eq_true ⟨y, Or.inl z⟩)) (fun y => miss (fun w => by
        have w := (of_decide_eq_true w).1
        rcases y with y | y
        · exact absurd y (by decide)
        · exact y w))
    · rw [ex, h0.2.2, ak_shr4 (by omega), ak_and15 (by omega)]
      refine br_c (fun y => ?_) (fun y => And.intro ix (br_c (fun w => ?_) (fun w => ?_)))
      · exact ay_d64 (z0 := 0) (e := e) (by omega) hs he h0 (fun w => absurd rfl w) (fun _ => miss (fun w => by
          have w := (of_decide_eq_true w).2
          rcases w with w | w
          · exact z w
          · exact w.1 ((ak_ni (b := 0) (by omega) (by omega)).mp y)))
      · exact ay_d64 (z0 := 1) (e := e) (by omega) hs he h0 (fun _ v => hit (decide_eq_true ⟨v, Or.inr ⟨fun k => y (by rw [k]; rfl), w⟩⟩)) (fun v => miss (fun k => by
          have k := (of_decide_eq_true k).1
          rcases v with v | v
          · exact absurd v (by decide)
          · exact v k))
      · exact ay_d64 (z0 := 0) (e := e) (by omega) hs he h0 (fun w => absurd rfl w) (fun _ => miss (fun v => by
          have v := (of_decide_eq_true v).2
          rcases v with v | v
          · exact z v
          · exact w v.2))
theorem ak_pe1 {n t : Nat} (R : ak_PX P S T (c 2) (c 3) F fs nx qh qt ql pe nn np nh nt nl os oc ss) (hn : n < 64) (hm : ∃ s, s < 4 ∧ (20 + s, n) ∈ ak_V F t) : ¬ pe n = 0 := by
  obtain ⟨s, hs, hm⟩ := hm
  rcases R.2.2.2.1.2 n hn with g | g
  · rw [g.1]; decide
  · exact absurd (ak_it_mem.mpr (ak_V_mem.mp hm).1) (g.2 s hs)
theorem ak_pe0 {n t : Nat} (R : ak_PX P S T (c 2) (c 3) F fs nx qh qt ql pe nn np nh nt nl os oc ss) (hn : n < 64) (h16 : 16 ≤ n) (ht : n % 16 = t) (hm : ∀ s, (20 + s, n) ∉ ak_V F t) : pe n = 0 := by
  rcases R.2.2.2.1.2 n hn with ⟨_, s, hs, g⟩ | g
  · exact absurd (ak_V_mem.mpr ⟨ak_it_mem.mp g, ak_sjn h16 ht⟩) (hm s)
  · exact g.1
/-- X's pick with a holder, by which of its notices are there -/
theorem ax_pkh {post : Int32 → Prop} {s t : Nat} (hs : s < 4) (ht : t < 16) (hlh : (c 14) s = nI t) (K2 : ¬ pe (32 + t) = 0 → post (nI (32 + t))) (K1 : pe (32 + t) = 0 → ¬ pe (16 + t) = 0 → post (nI (16 + t))) (K3 : pe (32 + t) = 0 → pe (16 + t) = 0 → ¬ pe (48 + t) = 0 → post (nI (48 + t))) (K0 : pe (32 + t) = 0 → pe (16 + t) = 0 → pe (48 + t) = 0 → post (-1)) : wpX_pick post (nI P, nI S, nI T, fs, c 0, c 1, c 2, c 3, c 4, c 5, c 6, c 7, c 15, c 8, nx, qh, qt, ql, pe, nn, np, nh, nt, nl, c 9, c 10, c 11, c 17, c 12, c 13, c 14, os, oc, ss) (nI s) := by
  have is : vp_in (nI s) 4 := ak_in hs (by omega)
  have es : (nI s).toNatClampNeg = s := ak_cl (by omega)
  have a1 : (16 : Int32) + nI t = nI (16 + t) := nI_add 16 t
  have a2 : (32 : Int32) + nI t = nI (32 + t) := nI_add 32 t
  have a3 : (48 : Int32) + nI t = nI (48 + t) := nI_add 48 t
  refine And.intro is (nm_r (e' := nI t) (by rw [es]; exact hlh) (br_f (ak_n1 (by omega)) ?_))
  rw [a1, a2, a3, ak_cl (n := 32 + t) (by omega), ak_cl (n := 16 + t) (by omega), ak_cl (n := 48 + t) (by omega)]
  exact And.intro (ak_in (by omega) (by omega)) (br_c (fun z2 => And.intro (ak_in (by omega) (by omega)) (br_c (fun z1 => And.intro (ak_in (by omega) (by omega)) (br_c (fun z3 => K0 z2 z1 z3) (fun z3 => K3 z2 z1 z3))) (fun z1 => K1 z2 z1))) (fun z2 => K2 z2))
end
section
variable {P S T : Nat} {c : Nat → Nat → Int32} {F : List (Nat × Nat)}
theorem ak_m_n (s : Nat) (F : List (Nat × Nat)) : (F.filter (ak_m s (-1))).map (fun e => e.2) = ak_it F (20 + s) := by
  unfold ak_it
  congr 1
  refine List.filter_congr fun e _ => ?_
  unfold ak_m
  refine decide_eq_decide.mpr ⟨fun h => h.1, fun h => ⟨h, Or.inl rfl⟩⟩
theorem ak_m_t (s : Nat) {t : Nat} (ht : t < 16) (F : List (Nat × Nat)) : F.filter (ak_m s (nI t)) = (ak_V F t).filter (ak_m s (nI t)) := by
  unfold ak_V
  rw [List.filter_filter]
  refine List.filter_congr fun e _ => ?_
  cases h : ak_m s (nI t) e with
  | false => rfl
  | true =>
    have h := of_decide_eq_true h
    rcases h.2 with z | ⟨z1, z2⟩
    · exact absurd z (ak_n1 (by omega))
    · have : e.2 % 16 = t := (ak_ni (by omega) (by omega)).mp z2
      have e2 : ak_sj e = t := by
        unfold ak_sj
        rw [if_neg (by omega), if_neg (by omega), this]
      simp [e2]
/-- the head of the notices of s is the first of its own thread's -/
theorem ak_first {s n x : Nat} {r : List Nat} (h : ak_it F (20 + s) = n :: r) (hx : ak_sj (20 + s, n) = x) : ∃ m, (ak_V F x).filter (fun e => decide (e.1 = 20 + s)) = (20 + s, n) :: m := by
  have h1 : ∃ m, F.filter (fun e => decide (e.1 = 20 + s)) = (20 + s, n) :: m := by
    unfold ak_it at h
    rcases hf : F.filter (fun e => decide (e.1 = 20 + s)) with _ | ⟨⟨a, b⟩, m⟩
    · rw [hf] at h; exact nomatch h
    · rw [hf] at h
      have e1 : b = n := (List.cons.inj h).1
      have hm : (a, b) ∈ F.filter (fun e => decide (e.1 = 20 + s)) := by rw [hf]; exact List.mem_cons_self ..
      have e2 : a = 20 + s := of_decide_eq_true (List.mem_filter.mp hm).2
      exact ⟨m, by rw [hf, e1, e2]⟩
  obtain ⟨m, hm⟩ := h1
  refine ⟨m.filter (fun e => decide (ak_sj e = x)), ?_⟩
  have : (ak_V F x).filter (fun e => decide (e.1 = 20 + s)) = (F.filter (fun e => decide (e.1 = 20 + s))).filter (fun e => decide (ak_sj e = x)) := by
    unfold ak_V
    rw [List.filter_filter, List.filter_filter]
    refine List.filter_congr fun e _ => ?_
    rw [Bool.and_comm]
  rw [this, hm, List.filter_cons_of_pos (by simpa using hx)]
def ak_PKX (P S T : Nat) (c : Nat → Nat → Int32) (F : List (Nat × Nat)) (s : Nat) (r : Int32) : Prop := ∀ (fs : Int32) (nx qh qt ql pe nn np nh nt nl os oc ss : Nat → Int32), ak_PX P S T (c 2) (c 3) F fs nx qh qt ql pe nn np nh nt nl os oc ss → ∀ post : Int32 → Prop, post r → wpX_pick post (nI P, nI S, nI T, fs, c 0, c 1, c 2, c 3, c 4, c 5, c 6, c 7, c 15, c 8, nx, qh, qt, ql, pe, nn, np, nh, nt, nl, c 9, c 10, c 11, c 17, c 12, c 13, c 14, os, oc, ss) (nI s)
def ak_PKY (P S T : Nat) (c : Nat → Nat → Int32) (F : List (Nat × Nat)) (s : Nat) (r : Int32) : Prop := ∀ (fa fb fi : Nat → Int32), ak_PY P S T F fa fb fi → ∀ (post : SY → Prop) (x1 : Int32), wY_deliver_108 post x1 (nI s) ((c 14) s) r (nI P) (nI S) (nI T) (nI F.length) (c 2) (c 3) (c 4) (c 5) (c 6) (c 7) (c 16) (c 8) (c 0) (c 1) (c 10) (c 11) (c 17) (c 14) (c 12) (c 9) (c 13) fa fb fi → ∃ n, wY_deliver_13 post x1 (nI s) ((c 14) s) (nI P) (nI S) (nI T) (nI F.length) (c 2) (c 3) (c 4) (c 5) (c 6) (c 7) (c 16) (c 8) (c 0) (c 1) (c 10) (c 11) (c 17) (c 14) (c 12) (c 9) (c 13) fa fb fi n (-1) 0
def ak_PKR (P T : Nat) (c : Nat → Nat → Int32) (F : List (Nat × Nat)) (s : Nat) (r : Int32) : Prop :=
  r = -1 ∨ ∃ n, r = nI n ∧ (20 + s, n) ∈ F ∧ ((n < P ∧ (c 3) n = nI s) ∨ (∃ t, t < T ∧ n = 32 + t) ∨
    ∃ t, t < T ∧ (n = 16 + t ∨ n = 48 + t) ∧ (c 5) t = 5 ∧ (c 6) t = nI s ∧ ak_V F t = [(20 + s, n)] ∧ ((c 14) s = -1 ∨ (c 14) s = nI t))
theorem ay_pk {s : Nat} {r : Int32} (hs : s < 4) (h : ak_hd ((F.filter (ak_m s ((c 14) s))).map (fun e => e.2)) (-1) = r) : ak_PKY P S T c F s r := by
  intro fa fb fi R post x1 K
  rw [← h] at K
  exact Exists.intro (F.length + 2) (ay_d13 R.2.1 R.2.2 hs F [] (F.length + 2) rfl (by omega) K)
theorem as_pick {s : Nat} (I : ak_I P S T c F) (hs : s < S) : ∃ r, ak_PKX P S T c F s r ∧ ak_PKY P S T c F s r ∧ ak_PKR P T c F s r := by
  have hZ := ai_Z I
  have is : vp_in (nI s) 4 := ak_in (by omega) (by omega)
  have es : (nI s).toNatClampNeg = s := ak_cl (by omega)
  rcases ai_LH I s hs with hlh | ⟨t, ht, hlh, hh, hpl⟩
  · refine ⟨ak_hd (ak_it F (20 + s)) (-1), ?_, ay_pk (by omega) (by rw [hlh, ak_m_n]), ?_⟩
    · intro fs nx qh qt ql pe nn np nh nt nl os oc ss R post K
      refine And.intro is (nm_r (e' := -1) (by rw [es]; exact hlh) (br_t rfl (And.intro is ?_)))
      rw [es, (R.2.2.2.1.1 s (by omega)).2.1]
      exact K
    · rcases hl : ak_it F (20 + s) with _ | ⟨n, r⟩
      · exact Or.inl rfl
      · have hmF : (20 + s, n) ∈ F := ak_it_mem.mp (by rw [hl]; exact List.mem_cons_self ..)
        refine Or.inr ⟨n, rfl, hmF, ?_⟩
        rcases ak_sh I hmF with ⟨s', t', j', h1, h2, h3, h4, h5, h6, h7⟩ | ⟨s', t', l, h1, h2, h3, h4, _⟩ | ⟨s', t', h1, h2, h4, _⟩ | ⟨s', t', h1, h2, h4, h5, h6⟩ | ⟨s', p, h1, h2, h4, h5⟩
        · have e1 := congrArg Prod.fst h4; dsimp only at e1; omega
        · have e1 := congrArg Prod.fst h4; dsimp only at e1; omega
        · exact Or.inr (Or.inl ⟨t', h2, congrArg Prod.snd h4⟩)
        · refine Or.inr (Or.inr ⟨t', h2, ?_⟩)
          have hn : n = 16 + t' ∨ n = 48 + t' := by
            rcases h4 with h4 | h4
            · exact Or.inl (congrArg Prod.snd h4)
            · exact Or.inr (congrArg Prod.snd h4)
          have e1 : s = s' := by
            rcases h4 with h4 | h4
            · have := congrArg Prod.fst h4; dsimp only at this; omega
            · have := congrArg Prod.fst h4; dsimp only at this; omega
          subst e1
          refine ⟨hn, h5, h6, ?_, Or.inl hlh⟩
          have hsj : ak_sj (20 + s, n) = t' := ak_sjn (by omega) (by omega)
          obtain ⟨m, hm⟩ := ak_first hl hsj
          obtain ⟨s1, j, a, q1, q2, q3, q4, q5, q6, q7, q8⟩ := ak_thr I h2 (by rw [h5]; decide)
          have e2 := (ak_ni (by omega) (by omega)).mp (q4.symm.trans h6)
          subst e2
          rw [h5] at q8
          rcases q8 with ⟨y, _⟩ | ⟨y, _⟩ | ⟨y, _⟩ | ⟨y, _⟩ | ⟨_, y⟩
          · exact absurd y (by decide)
          · exact absurd y (by decide)
          · exact absurd y (by decide)
          · exact absurd y (by decide)
          · rcases y with y | y | y
            all_goals rw [y] at hm ⊢
            · rw [List.filter_cons_of_pos (by simp)] at hm
              have := congrArg Prod.snd (List.cons.inj hm).1
              dsimp only at this
              rw [this]
            · rw [List.filter_cons_of_pos (by simp)] at hm
              have := congrArg Prod.snd (List.cons.inj hm).1
              dsimp only at this
              rw [this]
            · rw [List.filter_cons_of_pos (by simp)] at hm
              have := congrArg Prod.snd (List.cons.inj hm).1
              dsimp only at this
              omega
        · have e1 := congrArg Prod.fst h4
          have e2 := congrArg Prod.snd h4
          dsimp only at e1 e2
          have e3 : s = s' := by omega
          subst e2 e3
          exact Or.inl ⟨h2, h5⟩
  · obtain ⟨s1, j, a, q1, q2, q3, q4, q5, q6, q7, q8⟩ := ak_thr I ht hpl
    have e2 := (ak_ni (by omega) (by omega)).mp (q4.symm.trans hh)
    subst e2
    have ht16 : t < 16 := by omega
    -- the filter of the view
    have mt : ∀ n, ak_m s1 (nI t) (20 + s1, n) = decide (¬ n / 16 = 0 ∧ nI (n % 16) = nI t) := by
      intro n
      unfold ak_m
      refine decide_eq_decide.mpr ⟨fun h => ?_, fun h => ⟨rfl, Or.inr h⟩⟩
      rcases h.2 with z | z
      · exact absurd z (ak_n1 (by omega))
      · exact z
    have m1 : ak_m s1 (nI t) (20 + s1, 16 + t) = true := by rw [mt]; exact decide_eq_true ⟨by omega, by rw [show (16 + t) % 16 = t from by omega]⟩
    have m2 : ak_m s1 (nI t) (20 + s1, 32 + t) = true := by rw [mt]; exact decide_eq_true ⟨by omega, by rw [show (32 + t) % 16 = t from by omega]⟩
    have m3 : ak_m s1 (nI t) (20 + s1, 48 + t) = true := by rw [mt]; exact decide_eq_true ⟨by omega, by rw [show (48 + t) % 16 = t from by omega]⟩
    have mq : ∀ q, q < 20 → ak_m s1 (nI t) (q, t) = false := fun q hq => decide_eq_false (fun h => by have := h.1; dsimp only at this; omega)
    have none : (∀ e ∈ ak_V F t, e.1 < 20) → ak_hd ((F.filter (ak_m s1 (nI t))).map (fun e => e.2)) (-1) = -1 → ∃ r, ak_PKX P S T c F s1 r ∧ ak_PKY P S T c F s1 r ∧ ak_PKR P T c F s1 r := by
      intro hv hy
      refine ⟨-1, ?_, ay_pk (by omega) (by rw [hlh]; exact hy), Or.inl rfl⟩
      intro fs nx qh qt ql pe nn np nh nt nl os oc ss R post K
      have z : ∀ n, n < 64 → 16 ≤ n → n % 16 = t → pe n = 0 := fun n h1 h2 h3 => ak_pe0 R h1 h2 h3 (fun s' hm => by have := hv _ hm; dsimp only at this; omega)
      have z2 := z (32 + t) (by omega) (by omega) (by omega)
      have z1 := z (16 + t) (by omega) (by omega) (by omega)
      have z3 := z (48 + t) (by omega) (by omega) (by omega)
      exact ax_pkh (by omega) ht16 hlh (fun y => absurd z2 y) (fun _ y => absurd z1 y) (fun _ _ y => absurd z3 y) (fun _ _ _ => K)
    rcases q8 with ⟨k, y⟩ | ⟨k, y⟩ | ⟨k, l, hl, y⟩ | ⟨k, y | y⟩ | ⟨k, y | y | y⟩
    · refine none (by rw [y]; exact fun e he => absurd he List.not_mem_nil) ?_
      rw [ak_m_t s1 ht16, y]; rfl
    · refine none (by rw [y]; intro e he; rw [List.mem_singleton.mp he]; show s1 * 5 + j < 20; omega) ?_
      rw [ak_m_t s1 ht16, y, List.filter_cons_of_neg (by rw [mq _ (by omega)]; decide)]; rfl
    · refine none (by rw [y]; intro e he; rw [List.mem_singleton.mp he]; show s1 * 5 + 3 + l < 20; omega) ?_
      rw [ak_m_t s1 ht16, y, List.filter_cons_of_neg (by rw [mq _ (by omega)]; decide)]; rfl
    · refine none (by rw [y]; exact fun e he => absurd he List.not_mem_nil) ?_
      rw [ak_m_t s1 ht16, y]; rfl
    · refine ⟨nI (32 + t), ?_, ay_pk (by omega) (by rw [hlh, ak_m_t s1 ht16, y, List.filter_cons_of_pos m2]; rfl), Or.inr ⟨32 + t, rfl, (ak_V_mem.mp (show (20 + s1, 32 + t) ∈ ak_V F t by rw [y]; exact List.mem_cons_self ..)).1, Or.inr (Or.inl ⟨t, ht, rfl⟩)⟩⟩
      intro fs nx qh qt ql pe nn np nh nt nl os oc ss R post K
      have z2 := ak_pe1 (n := 32 + t) (t := t) R (by omega) ⟨s1, by omega, by rw [y]; exact List.mem_cons_self ..⟩
      exact ax_pkh (by omega) ht16 hlh (fun _ => K) (fun w => absurd w z2) (fun w => absurd w z2) (fun w => absurd w z2)
    · refine ⟨nI (16 + t), ?_, ay_pk (by omega) (by rw [hlh, ak_m_t s1 ht16, y, List.filter_cons_of_pos m1]; rfl), Or.inr ⟨16 + t, rfl, (ak_V_mem.mp (show (20 + s1, 16 + t) ∈ ak_V F t by rw [y]; exact List.mem_cons_self ..)).1, Or.inr (Or.inr ⟨t, ht, Or.inl rfl, k, hh, y, Or.inr hlh⟩)⟩⟩
      intro fs nx qh qt ql pe nn np nh nt nl os oc ss R post K
      have z1 := ak_pe1 (n := 16 + t) (t := t) R (by omega) ⟨s1, by omega, by rw [y]; exact List.mem_cons_self ..⟩
      have z2 : pe (32 + t) = 0 := ak_pe0 (t := t) R (by omega) (by omega) (by omega) (fun s' hm => by rw [y] at hm; have := congrArg Prod.snd (List.mem_singleton.mp hm); dsimp only at this; omega)
      exact ax_pkh (by omega) ht16 hlh (fun w => absurd z2 w) (fun _ _ => K) (fun _ w => absurd w z1) (fun _ w => absurd w z1)
    · refine ⟨nI (48 + t), ?_, ay_pk (by omega) (by rw [hlh, ak_m_t s1 ht16, y, List.filter_cons_of_pos m3]; rfl), Or.inr ⟨48 + t, rfl, (ak_V_mem.mp (show (20 + s1, 48 + t) ∈ ak_V F t by rw [y]; exact List.mem_cons_self ..)).1, Or.inr (Or.inr ⟨t, ht, Or.inr rfl, k, hh, y, Or.inr hlh⟩)⟩⟩
      intro fs nx qh qt ql pe nn np nh nt nl os oc ss R post K
      have z3 := ak_pe1 (n := 48 + t) (t := t) R (by omega) ⟨s1, by omega, by rw [y]; exact List.mem_cons_self ..⟩
      have z2 : pe (32 + t) = 0 := ak_pe0 (t := t) R (by omega) (by omega) (by omega) (fun s' hm => by rw [y] at hm; have := congrArg Prod.snd (List.mem_singleton.mp hm); dsimp only at this; omega)
      have z1 : pe (16 + t) = 0 := ak_pe0 (t := t) R (by omega) (by omega) (by omega) (fun s' hm => by rw [y] at hm; have := congrArg Prod.snd (List.mem_singleton.mp hm); dsimp only at this; omega)
      exact ax_pkh (by omega) ht16 hlh (fun w => absurd z2 w) (fun _ w => absurd z1 w) (fun _ _ _ => K) (fun _ _ w => absurd w z3)
    · refine ⟨nI (32 + t), ?_, ay_pk (by omega) (by rw [hlh, ak_m_t s1 ht16, y, List.filter_cons_of_pos m2]; rfl), Or.inr ⟨32 + t, rfl, (ak_V_mem.mp (show (20 + s1, 32 + t) ∈ ak_V F t by rw [y]; exact List.mem_cons_self ..)).1, Or.inr (Or.inl ⟨t, ht, rfl⟩)⟩⟩
      intro fs nx qh qt ql pe nn np nh nt nl os oc ss R post K
      have z2 := ak_pe1 (n := 32 + t) (t := t) R (by omega) ⟨s1, by omega, by rw [y]; exact List.mem_cons_self ..⟩
      exact ax_pkh (by omega) ht16 hlh (fun _ => K) (fun w => absurd w z2) (fun w => absurd w z2) (fun w => absurd w z2)
end
end
section
/-! deliver, the whole -/
section
variable {P S T : Nat} {c : Nat → Nat → Int32} {F : List (Nat × Nat)}
/-- Y's removal of a notice that is there -/
theorem ak_hu {s n : Nat} (hW : ak_W F) : ∀ e ∈ F, ak_sp e.1 = s → ak_ls e.1 = 3 → e.2 = n → e = (20 + s, n) := by
  intro e he h1 h2 h3
  obtain ⟨a, b⟩ := e
  unfold ak_ls at h2
  unfold ak_sp at h1
  dsimp only at *
  by_cases z : a < 20
  · rw [if_pos z] at h2
    by_cases y : a % 5 < 3
    · rw [if_pos y] at h2; omega
    · rw [if_neg y] at h2; omega
  · rw [if_neg z] at h1
    rw [h3, show a = 20 + s from by omega]
/-- told: the part of X behind the removal -/
theorem ax_dr {post : SX → Prop} {p s n : Nat} (I : ak_I P S T c F) (hp : p < P) (hs : s < S) (ho : (c 3) p = nI s) (hpk : ak_PKX P S T c F s (nI n)) (hm : (20 + s, n) ∈ F) (hn : n < 64)
    (K : ∀ (fs : Int32) (nx qh qt ql pe nn np nh nt nl os oc ss : Nat → Int32), ak_PX P S T (c 2) (c 3) (F.erase (20 + s, n)) fs nx qh qt ql pe nn np nh nt nl os oc ss → ∀ td, td = upd (c 9) (s * 4 + n / 16) ((c 9) (s * 4 + n / 16) + 1) →
      ((nI (n / 16) = 0 → ((nI P ≤ nI (n % 16) → post (nI P, nI S, nI T, fs, c 0, c 1, c 2, c 3, c 4, c 5, c 6, c 7, c 15, c 8, nx, qh, qt, ql, pe, nn, np, nh, nt, nl, td, c 10, c 11, c 17, c 12, c 13, c 14, os, oc, ss)) ∧ (¬ nI P ≤ nI (n % 16) → (vp_in (nI (n % 16)) 6 ∧ (((c 2) (nI (n % 16)).toNatClampNeg = 1 → wpX_setState post (nI P, nI S, nI T, fs, c 0, c 1, c 2, c 3, c 4, c 5, c 6, c 7, c 15, c 8, nx, qh, qt, ql, pe, nn, np, nh, nt, nl, td, c 10, c 11, c 17, c 12, c 13, c 14, os, oc, ss) (nI (n % 16)) 2) ∧ (¬ (c 2) (nI (n % 16)).toNatClampNeg = 1 → post (nI P, nI S, nI T, fs, c 0, c 1, c 2, c 3, c 4, c 5, c 6, c 7, c 15, c 8, nx, qh, qt, ql, pe, nn, np, nh, nt, nl, td, c 10, c 11, c 17, c 12, c 13, c 14, os, oc, ss))))))) ∧
       (¬ nI (n / 16) = 0 → ((nI (n / 16) = 2 → post (nI P, nI S, nI T, fs, c 0, c 1, c 2, c 3, c 4, c 5, c 6, c 7, c 15, c 8, nx, qh, qt, ql, pe, nn, np, nh, nt, nl, td, c 10, c 11, c 17, c 12, c 13, c 14, os, oc, ss)) ∧ (¬ nI (n / 16) = 2 → (vp_in (nI s) 4 ∧ (((c 14) (nI s).toNatClampNeg = nI (n % 16) → wpX_assign post (nI P, nI S, nI T, fs, c 0, c 1, c 2, c 3, c 4, c 5, c 6, c 7, c 15, c 8, nx, qh, qt, ql, pe, nn, np, nh, nt, nl, td, c 10, c 11, c 17, c 12, c 13, c 14, os, oc, ss) (nI p) (nI (n % 16)) 5) ∧ (¬ (c 14) (nI s).toNatClampNeg = nI (n % 16) → wpX_makeReady post (nI P, nI S, nI T, fs, c 0, c 1, c 2, c 3, c 4, c 5, c 6, c 7, c 15, c 8, nx, qh, qt, ql, pe, nn, np, nh, nt, nl, td, c 10, c 11, c 17, c 12, c 13, c 14, os, oc, ss) (nI (n % 16))))))))))
    {u : SX} (R : ak_RX P S T c F u) : wpX_deliver post u (nI p) := by
  have hZ := ai_Z I
  have ip : vp_in (nI p) 6 := ak_in (by omega) (by omega)
  have ep : (nI p).toNatClampNeg = p := ak_cl (by omega)
  refine ak_elX (M := fun u => wpX_deliver post u (nI p)) R ?_
  intro fs nx qh qt ql pe nn np nh nt nl os oc ss R
  refine And.intro ip (nm_r (e' := nI s) (by rw [ep]; exact ho) ?_)
  refine hpk fs nx qh qt ql pe nn np nh nt nl os oc ss R _ ?_
  refine br_f (ak_n1 (by omega)) (nm_r (ak_shr4 (by omega)) (nm_r (ak_and15 (by omega)) ?_))
  refine ax_rem (ak_mkX R) (by omega) hm ?_
  intro fs nx qh qt ql pe nn np nh nt nl os oc ss R
  have i4 : vp_in (nI s * 4 + nI (n / 16)) 16 := by rw [ak_m4]; exact ak_in (by omega) (by omega)
  have e4 : (nI s * 4 + nI (n / 16)).toNatClampNeg = s * 4 + n / 16 := by rw [ak_m4]; exact ak_cl (by omega)
  refine And.intro i4 (And.intro i4 (nm_r (e' := upd (c 9) (s * 4 + n / 16) ((c 9) (s * 4 + n / 16) + 1)) (by rw [e4]) ?_))
  exact K fs nx qh qt ql pe nn np nh nt nl os oc ss R _ rfl
theorem ay_dr {post : SY → Prop} {p s n : Nat} (I : ak_I P S T c F) (hp : p < P) (hs : s < S) (hpk : ak_PKY P S T c F s (nI n)) (hm : (20 + s, n) ∈ F) (hn : n < 64)
    (K : ∀ (fa fb fi : Nat → Int32), ak_PY P S T (F.erase (20 + s, n)) fa fb fi → ∀ td, td = upd (c 9) (s * 4 + n / 16) ((c 9) (s * 4 + n / 16) + 1) →
      ((nI (n / 16) = 0 → ((nI P ≤ nI (n % 16) → post (nI P, nI S, nI T, nI (F.erase (20 + s, n)).length, c 2, c 3, c 4, c 5, c 6, c 7, c 16, c 8, c 0, c 1, c 10, c 11, c 17, c 14, c 12, td, c 13, fa, fb, fi)) ∧ (¬ nI P ≤ nI (n % 16) → (vp_in (nI (n % 16)) 6 ∧ (((c 2) (nI (n % 16)).toNatClampNeg = 1 → (vp_in (nI (n % 16)) 6 ∧ ∀ y : Nat → Int32, y = upd (c 2) (nI (n % 16)).toNatClampNeg 2 → post (nI P, nI S, nI T, nI (F.erase (20 + s, n)).length, y, c 3, c 4, c 5, c 6, c 7, c 16, c 8, c 0, c 1, c 10, c 11, c 17, c 14, c 12, td, c 13, fa, fb, fi))) ∧ (¬ (c 2) (nI (n % 16)).toNatClampNeg = 1 → post (nI P, nI S, nI T, nI (F.erase (20 + s, n)).length, c 2, c 3, c 4, c 5, c 6, c 7, c 16, c 8, c 0, c 1, c 10, c 11, c 17, c 14, c 12, td, c 13, fa, fb, fi))))))) ∧
       (¬ nI (n / 16) = 0 → ((nI (n / 16) = 2 → post (nI P, nI S, nI T, nI (F.erase (20 + s, n)).length, c 2, c 3, c 4, c 5, c 6, c 7, c 16, c 8, c 0, c 1, c 10, c 11, c 17, c 14, c 12, td, c 13, fa, fb, fi)) ∧ (¬ nI (n / 16) = 2 → (((c 14) s = nI (n % 16) → (vp_in (nI p) 6 ∧ ∀ y : Nat → Int32, y = upd (c 2) (nI p).toNatClampNeg 5 → (vp_in (nI p) 6 ∧ ∀ z : Nat → Int32, z = upd (c 4) (nI p).toNatClampNeg (nI (n % 16)) → (vp_in (nI (n % 16)) 16 ∧ ∀ w : Nat → Int32, w = upd (c 5) (nI (n % 16)).toNatClampNeg 1 → post (nI P, nI S, nI T, nI (F.erase (20 + s, n)).length, y, c 3, z, w, c 6, c 7, c 16, c 8, c 0, c 1, c 10, c 11, c 17, c 14, c 12, td, c 13, fa, fb, fi))))) ∧ (¬ (c 14) s = nI (n % 16) → wpY_makeReady post (nI P, nI S, nI T, nI (F.erase (20 + s, n)).length, c 2, c 3, c 4, c 5, c 6, c 7, c 16, c 8, c 0, c 1, c 10, c 11, c 17, c 14, c 12, td, c 13, fa, fb, fi) (nI (n % 16)))))))))
    {v : SY} (R : ak_RY P S T c F v) : wpY_deliver post v (nI p) (nI s) := by
  have hZ := ai_Z I
  have is : vp_in (nI s) 4 := ak_in (by omega) (by omega)
  have es : (nI s).toNatClampNeg = s := ak_cl (by omega)
  refine ak_elY (M := fun v => wpY_deliver post v (nI p) (nI s)) R ?_
  intro fa fb fi R
  refine And.intro is (nm_r (e' := (c 14) s) (by rw [es]) ?_)
  refine hpk fa fb fi R _ _ ?_
  refine br_f (ak_n1 (by omega)) ?_
  refine ay_rem (k := 20 + s) (b := 3) (ak_mkY R) (ak_sp20 s) (ak_ls20 s) (by omega) hn (ak_hu R.2.1) ?_
  intro fa fb fi R
  have i4 : vp_in (nI s * 4 + nI (n / 16)) 16 := by rw [ak_m4]; exact ak_in (by omega) (by omega)
  have e4 : (nI s * 4 + nI (n / 16)).toNatClampNeg = s * 4 + n / 16 := by rw [ak_m4]; exact ak_cl (by omega)
  refine nm_r (ak_shr4 (by omega)) (nm_r (ak_and15 (by omega)) (And.intro i4 (And.intro i4 (nm_r (e' := upd (c 9) (s * 4 + n / 16) ((c 9) (s * 4 + n / 16) + 1)) (by rw [e4]) ?_))))
  exact K fa fb fi R _ rfl
theorem as_del {p s : Nat} (I : ak_I P S T c F) (hp : p < P) (hs : s < S) (ho : (c 3) p = nI s) (hk : (c 2) p = nI 3) : ∃ c' F', ak_I P S T c' F' ∧
    ak_SX P S T c F c' F' (fun post u => wpX_deliver post u (nI p)) ∧ ak_SY P S T c F c' F' (fun post v => wpY_deliver post v (nI p) (nI s)) := by
  have hZ := ai_Z I
  have hth := ak_noth I hp hs ho hk (by omega)
  have ip : vp_in (nI p) 6 := ak_in (by omega) (by omega)
  have ep : (nI p).toNatClampNeg = p := ak_cl (by omega)
  have is : vp_in (nI s) 4 := ak_in (by omega) (by omega)
  have es : (nI s).toNatClampNeg = s := ak_cl (by omega)
  obtain ⟨r, hX, hY, hR⟩ := as_pick I hs
  rcases hR with rfl | ⟨n, rfl, hm, hR⟩
  · refine ⟨c, F, I, ?_, ?_⟩
    · intro post u R K
      refine ak_elX (M := fun u => wpX_deliver post u (nI p)) R ?_
      intro fs nx qh qt ql pe nn np nh nt nl os oc ss R
      refine And.intro ip (nm_r (e' := nI s) (by rw [ep]; exact ho) ?_)
      refine hX fs nx qh qt ql pe nn np nh nt nl os oc ss R _ ?_
      exact br_t rfl (K _ _ _ _ _ _ _ _ _ _ _ _ _ _ R)
    · intro post v R K
      refine ak_elY (M := fun v => wpY_deliver post v (nI p) (nI s)) R ?_
      intro fa fb fi R
      refine And.intro is (nm_r (e' := (c 14) s) (by rw [es]) ?_)
      refine hY fa fb fi R _ _ ?_
      exact br_t rfl (K _ _ _ R)
  have hn : n < 64 := ak_W_i64 (ai_W I) (q := 20 + s) (by omega) (ak_it_mem.mpr hm)
  generalize htd : upd (c 9) (s * 4 + n / 16) ((c 9) (s * 4 + n / 16) + 1) = td0
  rcases hR with ⟨h1, h2⟩ | ⟨t, h1, rfl⟩ | ⟨t, h1, h2, h3, h4, h5, h6⟩
  · -- added
    have d0 : n / 16 = 0 := by omega
    have m0 : n % 16 = n := by omega
    have i6 : vp_in (nI n) 6 := ak_in (by omega) (by omega)
    have e6 : (nI n).toNatClampNeg = n := ak_cl (by omega)
    have I1 := ai_add (s := s) I h1
    by_cases z : (c 2) n = 1
    · have I2 := ai_st (j := 2) I1 h1 hs h2 (ak_noth I h1 hs h2 (k := 1) z (by omega)) (by omega) (by omega)
      refine ⟨(ak_sa (ak_sa c 9 (td0)) 2 (upd (c 2) n (nI 2))), F.erase (20 + s, n), I2, ?_, ?_⟩
      · intro post u R K
        refine ax_dr I hp hs ho hX hm hn ?_ R
        intro fs nx qh qt ql pe nn np nh nt nl os oc ss R td etd
        rw [htd] at etd
        subst etd
        rw [d0, m0]
        refine br_t rfl (br_f (nI_ge h1 (by omega)) (And.intro i6 (br_t (by rw [e6]; exact z) ?_)))
        refine ax_set (k := 1) (j := 2) (c := (ak_sa c 9 (td))) (ak_mkX (c := (ak_sa c 9 (td))) R) h1 h2 (by omega) z (by omega) (by omega) ?_
        intro fs nx qh qt ql pe nn np nh nt nl os oc ss R
        exact K _ _ _ _ _ _ _ _ _ _ _ _ _ _ R
      · intro post v R K
        refine ay_dr I hp hs hY hm hn ?_ R
        intro fa fb fi R td etd
        rw [htd] at etd
        subst etd
        rw [d0, m0]
        exact br_t rfl (br_f (nI_ge h1 (by omega)) (And.intro i6 (br_t (by rw [e6]; exact z) (And.intro i6 (nm_r (e' := upd (c 2) n (nI 2)) (by rw [e6]; rfl) (K _ _ _ R))))))
    · refine ⟨(ak_sa c 9 (td0)), F.erase (20 + s, n), I1, ?_, ?_⟩
      · intro post u R K
        refine ax_dr I hp hs ho hX hm hn ?_ R
        intro fs nx qh qt ql pe nn np nh nt nl os oc ss R td etd
        rw [htd] at etd
        subst etd
        rw [d0, m0]
        exact br_t rfl (br_f (nI_ge h1 (by omega)) (And.intro i6 (br_f (by rw [e6]; exact z) (K _ _ _ _ _ _ _ _ _ _ _ _ _ _ R))))
      · intro post v R K
        refine ay_dr I hp hs hY hm hn ?_ R
        intro fa fb fi R td etd
        rw [htd] at etd
        subst etd
        rw [d0, m0]
        exact br_t rfl (br_f (nI_ge h1 (by omega)) (And.intro i6 (br_f (by rw [e6]; exact z) (K _ _ _ R))))
  · -- blocked
    have d0 : (32 + t) / 16 = 2 := by omega
    have I1 := ai_blk I hm (by omega)
    refine ⟨(ak_sa c 9 (td0)), F.erase (20 + s, 32 + t), I1, ?_, ?_⟩
    · intro post u R K
      refine ax_dr I hp hs ho hX hm hn ?_ R
      intro fs nx qh qt ql pe nn np nh nt nl os oc ss R td etd
      rw [htd] at etd
      subst etd
      rw [d0]
      exact br_f (by decide) (br_t rfl (K _ _ _ _ _ _ _ _ _ _ _ _ _ _ R))
    · intro post v R K
      refine ay_dr I hp hs hY hm hn ?_ R
      intro fa fb fi R td etd
      rw [htd] at etd
      subst etd
      rw [d0]
      exact br_f (by decide) (br_t rfl (K _ _ _ R))
  · -- preempted, unblocked
    have d0 : n / 16 = 1 ∨ n / 16 = 3 := by omega
    have m0 : n % 16 = t := by omega
    have d1 : ¬ nI (n / 16) = 0 ∧ ¬ nI (n / 16) = 2 := by
      rcases d0 with d0 | d0
      · rw [d0]; decide
      · rw [d0]; decide
    have i16 : vp_in (nI t) 16 := ak_in (by omega) (by omega)
    have e16 : (nI t).toNatClampNeg = t := ak_cl (by omega)
    have sj : ak_sj (20 + s, n) = t := ak_sjn (by omega) m0
    have p0 : ¬ (c 5) t = 0 := by rw [h3]; decide
    have p1 : ¬ (c 5) t = 1 := by rw [h3]; decide
    rcases h6 with h6 | h6
    · obtain ⟨s', j, a, q1, q2, q3, q4, q5, q6, q7, q8⟩ := ak_thr I h1 p0
      have I1 := ai_mv I hs h1 h4 q2 q5 p0 p1 h5 sj
      have hcd := ak_free_e I h5 (k := 1) (by omega) (Or.inl rfl)
      rw [Nat.one_mul] at hcd
      have hcd : ∀ f ∈ F.erase (20 + s, n), ak_cd f ≠ t + 16 := fun f hf => by rw [Nat.add_comm]; exact hcd f hf
      have hnl : ¬ (c 14) s = nI t := by rw [h6]; exact ak_1n (by omega)
      refine ⟨(ak_sa (ak_sa c 9 (td0)) 5 (upd (c 5) t 2)), F.erase (20 + s, n) ++ [(s * 5 + j, t)], I1, ?_, ?_⟩
      · intro post u R K
        refine ax_dr I hp hs ho hX hm hn ?_ R
        intro fs nx qh qt ql pe nn np nh nt nl os oc ss R td etd
        rw [htd] at etd
        subst etd
        rw [m0]
        refine br_f d1.1 (br_f d1.2 (And.intro is (br_f (by rw [es]; exact hnl) ?_)))
        refine ax_rdy (s := s) (l := j) (c := (ak_sa c 9 (td))) (ak_mkX (c := (ak_sa c 9 (td))) R) (by omega) h4 (by omega) q5 q2 hcd ?_
        intro fs nx qh qt ql pe nn np nh nt nl os oc ss R
        exact K _ _ _ _ _ _ _ _ _ _ _ _ _ _ R
      · intro post v R K
        refine ay_dr I hp hs hY hm hn ?_ R
        intro fa fb fi R td etd
        rw [htd] at etd
        subst etd
        rw [m0]
        refine br_f d1.1 (br_f d1.2 (br_f hnl ?_))
        refine ay_rdy (s := s) (l := j) (c := (ak_sa c 9 (td))) (ak_mkY (c := (ak_sa c 9 (td))) R) (by omega) h4 (by omega) q2 hcd ?_
        intro fa fb fi R
        exact K _ _ _ R
    · have I1 := ai_on (k := 5) I hp hs ho hth h1 h4 p0 p1 h5 sj (Or.inr rfl)
      refine ⟨(ak_sa (ak_sa (ak_sa (ak_sa c 9 (td0)) 4 (upd (c 4) p (nI t))) 5 (upd (c 5) t 1)) 2 (upd (c 2) p (nI 5))), F.erase (20 + s, n), I1, ?_, ?_⟩
      · intro post u R K
        refine ax_dr I hp hs ho hX hm hn ?_ R
        intro fs nx qh qt ql pe nn np nh nt nl os oc ss R td etd
        rw [htd] at etd
        subst etd
        rw [m0]
        refine br_f d1.1 (br_f d1.2 (And.intro is (br_t (by rw [es]; exact h6) ?_)))
        refine ax_asg (s := s) (k := 3) (j := 5) (c := (ak_sa c 9 (td))) (ak_mkX (c := (ak_sa c 9 (td))) R) hp (by omega) ho (by omega) hk (by omega) (by omega) ?_
        intro fs nx qh qt ql pe nn np nh nt nl os oc ss R
        exact K _ _ _ _ _ _ _ _ _ _ _ _ _ _ R
      · intro post v R K
        refine ay_dr I hp hs hY hm hn ?_ R
        intro fa fb fi R td etd
        rw [htd] at etd
        subst etd
        rw [m0]
        exact br_f d1.1 (br_f d1.2 (br_t h6 (And.intro ip (nm_r (e' := upd (c 2) p (nI 5)) (by rw [ep]; rfl) (And.intro ip (nm_r (e' := upd (c 4) p (nI t)) (by rw [ep]) (And.intro i16 (nm_r (e' := upd (c 5) t 1) (by rw [e16]) (K _ _ _ R)))))))))
end
end
section
/-! execute and instruct: up to the operation -/
/-- a thread's facts while it runs on p -/
def ak_RN (P S T : Nat) (c : Nat → Nat → Int32) (F : List (Nat × Nat)) (p t s j a k : Nat) : Prop :=
  p < P ∧ s < S ∧ j < 3 ∧ a < 64 ∧ (k = 4 ∨ k = 5) ∧ t < T ∧ (c 3) p = nI s ∧ (c 2) p = nI k ∧ (c 4) p = nI t ∧ (c 5) t = 1 ∧ (c 6) t = nI s ∧ (c 7) t = nI j ∧ (c 15) t = nI a ∧ (c 16) t = nI a ∧ ak_V F t = []
/-- it spins -/
def ak_SPN (h : Int32) (t o : Nat) : Prop := ¬ h = -1 ∧ ¬ h = nI t ∧ (o = 0 ∨ (6 ≤ o ∧ o ≤ 9))
theorem ak_c13 {M : Nat → Prop} (h0 : M 0) (h1 : M 1) (h2 : M 2) (h3 : M 3) (h4 : M 4) (h5 : M 5) (h6 : M 6) (h7 : M 7) (h8 : M 8) (h9 : M 9) (h10 : M 10) (h11 : M 11) (h12 : M 12) : ∀ o, o < 13 → M o := by
  intro o ho
  match o, ho with
  | 0, _ => exact h0
  | 1, _ => exact h1
  | 2, _ => exact h2
  | 3, _ => exact h3
  | 4, _ => exact h4
  | 5, _ => exact h5
  | 6, _ => exact h6
  | 7, _ => exact h7
  | 8, _ => exact h8
  | 9, _ => exact h9
  | 10, _ => exact h10
  | 11, _ => exact h11
  | 12, _ => exact h12
section
variable {P S T : Nat} {c : Nat → Nat → Int32} {F : List (Nat × Nat)} {fs : Int32} {nx qh qt ql pe nn np nh nt nl os oc ss fa fb fi : Nat → Int32}
theorem ax_spn {post : Int32 → Prop} {t s o : Nat} (ht : t < 16) (hs : s < 4) (hh : (c 6) t = nI s) (ho : o < 13) (K1 : ak_SPN ((c 14) s) t o → post 1) (K0 : ¬ ak_SPN ((c 14) s) t o → post 0) : wpX_spins post (nI P, nI S, nI T, fs, c 0, c 1, c 2, c 3, c 4, c 5, c 6, c 7, c 15, c 8, nx, qh, qt, ql, pe, nn, np, nh, nt, nl, c 9, c 10, c 11, c 17, c 12, c 13, c 14, os, oc, ss) (nI t) (nI o) := by
  have it : vp_in (nI t) 16 := ak_in ht (by omega)
  have et : (nI t).toNatClampNeg = t := ak_cl (by omega)
  have is : vp_in (nI s) 4 := ak_in hs (by omega)
  have es : (nI s).toNatClampNeg = s := ak_cl (by omega)
  refine And.intro it ?_
  rw [et, hh]
  refine And.intro is (nm_r (e' := (c 14) s) (by rw [es]) (br_c (fun z => K0 (fun y => y.1 z)) (fun z => br_c (fun z2 => K0 (fun y => y.2.1 z2)) (fun z2 => ?_))))
  refine br_c (fun z3 => K1 ⟨z, z2, Or.inl ((ak_ni (b := 0) (by omega) (by omega)).mp z3)⟩) (fun z3 => ?_)
  have n0 : ¬ o = 0 := fun y => z3 (by rw [y]; rfl)
  refine pk_lt o 6 (fun y => K0 (fun w => ?_)) (fun y => pk_lt 9 o (fun y2 => K0 (fun w => ?_)) (fun y2 => K1 ⟨z, z2, Or.inr ⟨y, y2⟩⟩))
  · have := w.2.2; omega
  · have := w.2.2; omega
theorem ak_a63 {a : Nat} (h : a < 64) : (nI a + 1) &&& 63 = nI ((a + 1) % 64) := by
  rw [nI_1]; exact pk_andN (by omega) 6 (by decide)
theorem ax_exe {post : SX → Prop} {p t s j a k o : Nat} {u : SX} (hZ : ak_Z P S T) (N : ak_RN P S T c F p t s j a k) (ho : (c 0) a = nI o) (ho13 : o < 13) (R : ak_RX P S T c F u)
    (K1 : ak_SPN ((c 14) s) t o → ak_KX P S T c F post)
    (K2 : ¬ ak_SPN ((c 14) s) t o → (1 ≤ o ∧ o ≤ 5) → ∀ (fs : Int32) (nx qh qt ql pe nn np nh nt nl os oc ss : Nat → Int32), ak_PX P S T (c 2) (c 3) F fs nx qh qt ql pe nn np nh nt nl os oc ss → wpX_compute post (nI P, nI S, nI T, fs, c 0, c 1, c 2, c 3, c 4, c 5, c 6, c 7, upd (c 15) t (nI ((a + 1) % 64)), c 8, nx, qh, qt, ql, pe, nn, np, nh, nt, nl, c 9, c 10, c 11, c 17, c 12, c 13, c 14, os, oc, ss) (nI t) (nI o) ((c 1) a))
    (K3 : ¬ ak_SPN ((c 14) s) t o → ¬ (1 ≤ o ∧ o ≤ 5) → ∀ (fs : Int32) (nx qh qt ql pe nn np nh nt nl os oc ss : Nat → Int32), ak_PX P S T (c 2) (c 3) F fs nx qh qt ql pe nn np nh nt nl os oc ss → wpX_schedule post (nI P, nI S, nI T, fs, c 0, c 1, c 2, c 3, c 4, c 5, c 6, c 7, upd (c 15) t (nI ((a + 1) % 64)), c 8, nx, qh, qt, ql, pe, nn, np, nh, nt, nl, c 9, c 10, c 11, c 17, c 12, c 13, c 14, os, oc, ss) (nI p) (nI t) (nI o) ((c 1) a)) : wpX_execute post u (nI p) := by
  obtain ⟨n1, n2, n3, n4, n5, n6, n7, n8, n9, n10, n11, n12, n13, n14, n15⟩ := N
  unfold ak_Z at hZ
  have ip : vp_in (nI p) 6 := ak_in (by omega) (by omega)
  have ep : (nI p).toNatClampNeg = p := ak_cl (by omega)
  have it : vp_in (nI t) 16 := ak_in (by omega) (by omega)
  have et : (nI t).toNatClampNeg = t := ak_cl (by omega)
  have ia : vp_in (nI a) 64 := ak_in (by omega) (by omega)
  have ea : (nI a).toNatClampNeg = a := ak_cl (by omega)
  refine ak_elX (M := fun u => wpX_execute post u (nI p)) R ?_
  intro fs nx qh qt ql pe nn np nh nt nl os oc ss R
  refine And.intro ip (nm_r (e' := nI t) (by rw [ep]; exact n9) (br_f (ak_n1 (by omega)) (And.intro it (nm_r (e' := nI a) (by rw [et]; exact n13) (And.intro ia (nm_r (e' := nI o) (by rw [ea]; exact ho) (And.intro ia (nm_r (e' := (c 1) a) (by rw [ea]) ?_))))))))
  refine ax_spn (s := s) (by omega) (by omega) n11 ho13 (fun z => br_f (by decide) (K1 z _ _ _ _ _ _ _ _ _ _ _ _ _ _ R)) (fun z => br_t rfl (And.intro it (nm_r (e' := upd (c 15) t (nI ((a + 1) % 64))) (by rw [et, ak_a63 n4]) ?_)))
  refine pk_lt o 1 (fun y => K3 z (by omega) fs nx qh qt ql pe nn np nh nt nl os oc ss R) (fun y => pk_lt 5 o (fun y2 => K3 z (by omega) fs nx qh qt ql pe nn np nh nt nl os oc ss R) (fun y2 => K2 z ⟨y, y2⟩ fs nx qh qt ql pe nn np nh nt nl os oc ss R))
/-- Y's two flags -/
def ak_FL (h : Int32) (t : Nat) (mi oi : Int32) : Prop := ((mi = 1 ∧ h = nI t) ∨ (mi = 0 ∧ ¬ h = nI t)) ∧ ((oi = 1 ∧ h = -1) ∨ (oi = 0 ∧ ¬ h = -1))
theorem ay_i98 {post : SY → Prop} {x1 x2 x3 x4 x5 mi oi z0 : Int32} {t : Nat} {h : Int32} {M : Prop} (hf : ak_FL h t mi oi) (hz : (z0 = 1 ∧ M) ∨ (z0 = 0 ∧ ¬ M)) (K1 : (¬ h = -1 ∧ ¬ h = nI t ∧ M) → post (nI P, nI S, nI T, nI F.length, c 2, c 3, c 4, c 5, c 6, c 7, c 16, c 8, c 0, c 1, c 10, c 11, c 17, c 14, c 12, c 9, c 13, fa, fb, fi)) (K2 : ¬ (¬ h = -1 ∧ ¬ h = nI t ∧ M) → wY_instruct_116 post x1 x2 x3 x4 x5 mi oi (nI P) (nI S) (nI T) (nI F.length) (c 2) (c 3) (c 4) (c 5) (c 6) (c 7) (c 16) (c 8) (c 0) (c 1) (c 10) (c 11) (c 17) (c 14) (c 12) (c 9) (c 13) fa fb fi) : wY_instruct_98 post x1 x2 x3 x4 x5 mi oi z0 (nI P) (nI S) (nI T) (nI F.length) (c 2) (c 3) (c 4) (c 5) (c 6) (c 7) (c 16) (c 8) (c 0) (c 1) (c 10) (c 11) (c 17) (c 14) (c 12) (c 9) (c 13) fa fb fi := by
  rcases hz with ⟨rfl, hM⟩ | ⟨rfl, hM⟩
  · refine br_f (by decide) ?_
    rcases hf with ⟨⟨rfl, h1⟩ | ⟨rfl, h1⟩, h2⟩
    · exact br_f (by decide) (K2 (fun y => y.2.1 h1))
    · refine br_t rfl ?_
      rcases h2 with ⟨rfl, h2⟩ | ⟨rfl, h2⟩
      · exact br_f (by decide) (K2 (fun y => y.1 h2))
      · exact br_t rfl (K1 ⟨h2, h1, hM⟩)
  · exact br_t rfl (K2 (fun y => hM y.2.2))
theorem ay_i58 {post : SY → Prop} {x1 x2 x3 x5 mi oi : Int32} {t o : Nat} {h : Int32} (ho : o < 13) (hf : ak_FL h t mi oi) (K1 : ak_SPN h t o → post (nI P, nI S, nI T, nI F.length, c 2, c 3, c 4, c 5, c 6, c 7, c 16, c 8, c 0, c 1, c 10, c 11, c 17, c 14, c 12, c 9, c 13, fa, fb, fi)) (K2 : ¬ ak_SPN h t o → wY_instruct_116 post x1 x2 x3 (nI o) x5 mi oi (nI P) (nI S) (nI T) (nI F.length) (c 2) (c 3) (c 4) (c 5) (c 6) (c 7) (c 16) (c 8) (c 0) (c 1) (c 10) (c 11) (c 17) (c 14) (c 12) (c 9) (c 13) fa fb fi) : wY_instruct_58 post x1 x2 x3 (nI o) x5 mi oi (nI P) (nI S) (nI T) (nI F.length) (c 2) (c 3) (c 4) (c 5) (c 6) (c 7) (c 16) (c 8) (c 0) (c 1) (c 10) (c 11) (c 17) (c 14) (c 12) (c 9) (c 13) fa fb fi := by
  have one : (o = 0 ∨ (6 ≤ o ∧ o ≤ 9)) → wY_instruct_98 post x1 x2 x3 (nI o) x5 mi oi 1 (nI P) (nI S) (nI T) (nI F.length) (c 2) (c 3) (c 4) (c 5) (c 6) (c 7) (c 16) (c 8) (c 0) (c 1) (c 10) (c 11) (c 17) (c 14) (c 12) (c 9) (c 13) fa fb fi := fun z => ay_i98 hf (Or.inl ⟨rfl, z⟩) K1 K2
  refine pk_eq o 0 (fun z => one (by omega)) (fun z0 => pk_eq o 6 (fun z => one (by omega)) (fun z6 => pk_eq o 7 (fun z => one (by omega)) (fun z7 => pk_eq o 8 (fun z => one (by omega)) (fun z8 => pk_eq o 9 (fun z => one (by omega)) (fun z9 => ?_)))))
  exact ay_i98 hf (Or.inr ⟨rfl, by omega⟩) K1 K2
theorem ay_ins {post : SY → Prop} {p t s j a k o : Nat} {v : SY} (hZ : ak_Z P S T) (N : ak_RN P S T c F p t s j a k) (ho : (c 0) a = nI o) (ho13 : o < 13) (R : ak_RY P S T c F v)
    (K1 : ak_SPN ((c 14) s) t o → ak_KY P S T c F post)
    (K2 : ¬ ak_SPN ((c 14) s) t o → o = 0 → ∀ mi oi, ak_FL ((c 14) s) t mi oi → ∀ (fa fb fi : Nat → Int32), ak_PY P S T F fa fb fi → wY_instruct_138 post (nI p) (nI s) (nI t) (nI o) ((c 1) a) mi oi (nI P) (nI S) (nI T) (nI F.length) (c 2) (c 3) (c 4) (c 5) (c 6) (c 7) (c 16) (c 8) (c 0) (c 1) (c 10) (c 11) (c 17) (c 14) (c 12) (c 9) (c 13) fa fb fi)
    (K3 : ¬ ak_SPN ((c 14) s) t o → ¬ o = 0 → ∀ mi oi, ak_FL ((c 14) s) t mi oi → ∀ (fa fb fi : Nat → Int32), ak_PY P S T F fa fb fi → wY_instruct_138 post (nI p) (nI s) (nI t) (nI o) ((c 1) a) mi oi (nI P) (nI S) (nI T) (nI F.length) (c 2) (c 3) (c 4) (c 5) (c 6) (c 7) (upd (c 16) t (nI ((a + 1) % 64))) (c 8) (c 0) (c 1) (c 10) (c 11) (c 17) (c 14) (c 12) (c 9) (c 13) fa fb fi) : wpY_instruct post v (nI p) (nI s) (nI t) := by
  obtain ⟨n1, n2, n3, n4, n5, n6, n7, n8, n9, n10, n11, n12, n13, n14, n15⟩ := N
  unfold ak_Z at hZ
  have it : vp_in (nI t) 16 := ak_in (by omega) (by omega)
  have et : (nI t).toNatClampNeg = t := ak_cl (by omega)
  have ia : vp_in (nI a) 64 := ak_in (by omega) (by omega)
  have ea : (nI a).toNatClampNeg = a := ak_cl (by omega)
  have is : vp_in (nI s) 4 := ak_in (by omega) (by omega)
  have es : (nI s).toNatClampNeg = s := ak_cl (by omega)
  refine ak_elY (M := fun v => wpY_instruct post v (nI p) (nI s) (nI t)) R ?_
  intro fa fb fi R
  have go : ∀ mi oi, ak_FL ((c 14) s) t mi oi → wY_instruct_58 post (nI p) (nI s) (nI t) (nI o) ((c 1) a) mi oi (nI P) (nI S) (nI T) (nI F.length) (c 2) (c 3) (c 4) (c 5) (c 6) (c 7) (c 16) (c 8) (c 0) (c 1) (c 10) (c 11) (c 17) (c 14) (c 12) (c 9) (c 13) fa fb fi := by
    intro mi oi hf
    refine ay_i58 ho13 hf (fun z => K1 z _ _ _ R) (fun z => pk_eq o 0 (fun y => K2 z y mi oi hf fa fb fi R) (fun y => And.intro it (And.intro it (nm_r (e' := upd (c 16) t (nI ((a + 1) % 64))) (by rw [et, n14, ak_a63 n4]) (K3 z y mi oi hf fa fb fi R)))))
  refine And.intro it ?_
  rw [et, n14]
  refine And.intro ia (nm_r (e' := nI o) (by rw [ea]; exact ho) (And.intro it (And.intro ia (nm_r (e' := (c 1) a) (by rw [ea]) (And.intro is ?_)))))
  rw [es]
  refine br_c (fun z => And.intro is ?_) (fun z => And.intro is ?_)
  · rw [es]
    exact br_c (fun y => go 1 1 ⟨Or.inl ⟨rfl, z⟩, Or.inl ⟨rfl, y⟩⟩) (fun y => go 1 0 ⟨Or.inl ⟨rfl, z⟩, Or.inr ⟨rfl, y⟩⟩)
  · rw [es]
    exact br_c (fun y => go 0 1 ⟨Or.inr ⟨rfl, z⟩, Or.inl ⟨rfl, y⟩⟩) (fun y => go 0 0 ⟨Or.inr ⟨rfl, z⟩, Or.inr ⟨rfl, y⟩⟩)
end
end
section
/-! the operations -/
def ak_OPC (P S T : Nat) (c : Nat → Nat → Int32) (F : List (Nat × Nat)) (c' : Nat → Nat → Int32) (F' : List (Nat × Nat)) (t o : Nat) (x : Int32) : Prop :=
  ∀ post : SX → Prop, ak_KX P S T c' F' post → ∀ (fs : Int32) (nx qh qt ql pe nn np nh nt nl os oc ss : Nat → Int32), ak_PX P S T (c 2) (c 3) F fs nx qh qt ql pe nn np nh nt nl os oc ss → wpX_compute post (nI P, nI S, nI T, fs, c 0, c 1, c 2, c 3, c 4, c 5, c 6, c 7, c 15, c 8, nx, qh, qt, ql, pe, nn, np, nh, nt, nl, c 9, c 10, c 11, c 17, c 12, c 13, c 14, os, oc, ss) (nI t) (nI o) x
def ak_OPS (P S T : Nat) (c : Nat → Nat → Int32) (F : List (Nat × Nat)) (c' : Nat → Nat → Int32) (F' : List (Nat × Nat)) (p t o : Nat) (x : Int32) : Prop :=
  ∀ post : SX → Prop, ak_KX P S T c' F' post → ∀ (fs : Int32) (nx qh qt ql pe nn np nh nt nl os oc ss : Nat → Int32), ak_PX P S T (c 2) (c 3) F fs nx qh qt ql pe nn np nh nt nl os oc ss → wpX_schedule post (nI P, nI S, nI T, fs, c 0, c 1, c 2, c 3, c 4, c 5, c 6, c 7, c 15, c 8, nx, qh, qt, ql, pe, nn, np, nh, nt, nl, c 9, c 10, c 11, c 17, c 12, c 13, c 14, os, oc, ss) (nI p) (nI t) (nI o) x
def ak_OPY (P S T : Nat) (c : Nat → Nat → Int32) (F : List (Nat × Nat)) (c' : Nat → Nat → Int32) (F' : List (Nat × Nat)) (p s t o : Nat) (x : Int32) : Prop :=
  ∀ mi oi, ak_FL ((c 14) s) t mi oi → ∀ post : SY → Prop, ak_KY P S T c' F' post → ∀ (fa fb fi : Nat → Int32), ak_PY P S T F fa fb fi → wY_instruct_138 post (nI p) (nI s) (nI t) (nI o) x mi oi (nI P) (nI S) (nI T) (nI F.length) (c 2) (c 3) (c 4) (c 5) (c 6) (c 7) (c 16) (c 8) (c 0) (c 1) (c 10) (c 11) (c 17) (c 14) (c 12) (c 9) (c 13) fa fb fi
section
variable {P S T : Nat} {c : Nat → Nat → Int32} {F : List (Nat × Nat)} {p t s j a k : Nat} {x : Int32}
theorem ao_1 (I : ak_I P S T c F) (N : ak_RN P S T c F p t s j a k) : ∃ c' F', ak_I P S T c' F' ∧ ak_OPC P S T c F c' F' t 1 x ∧ ak_OPY P S T c F c' F' p s t 1 x := by
  obtain ⟨n1, n2, n3, n4, n5, n6, n7, n8, n9, n10, n11, n12, n13, n14, n15⟩ := N
  have hZ := ai_Z I
  have it : vp_in (nI t) 16 := ak_in (by omega) (by omega)
  have et : (nI t).toNatClampNeg = t := ak_cl (by omega)
  refine ⟨(ak_sa c 8 (upd (c 8) t ((c 8) t + x))), F, I, ?_, ?_⟩
  · intro post K fs nx qh qt ql pe nn np nh nt nl os oc ss R
    exact And.intro it (nm_e (br_f (by decide) (br_f (by decide) (br_t rfl (And.intro it (And.intro it (nm_r (e' := upd (c 8) t ((c 8) t + x)) (by rw [et]) (K _ _ _ _ _ _ _ _ _ _ _ _ _ _ R))))))))
  · intro mi oi hf post K fa fb fi R
    exact (br_f (by decide) (br_t rfl (And.intro it (And.intro it (nm_r (e' := upd (c 8) t ((c 8) t + x)) (by rw [et]) (K _ _ _ R))))))
theorem ao_2 (I : ak_I P S T c F) (N : ak_RN P S T c F p t s j a k) : ∃ c' F', ak_I P S T c' F' ∧ ak_OPC P S T c F c' F' t 2 x ∧ ak_OPY P S T c F c' F' p s t 2 x := by
  obtain ⟨n1, n2, n3, n4, n5, n6, n7, n8, n9, n10, n11, n12, n13, n14, n15⟩ := N
  have hZ := ai_Z I
  have it : vp_in (nI t) 16 := ak_in (by omega) (by omega)
  have et : (nI t).toNatClampNeg = t := ak_cl (by omega)
  obtain ⟨b, hb, eb⟩ := pk_andE x (m := 3) 2 (by decide)
  have i4 : vp_in (nI s * 4 + (x &&& 3)) 16 := by rw [eb, ak_m4]; exact ak_in (by omega) (by omega)
  have e4 : (nI s * 4 + (x &&& 3)).toNatClampNeg = s * 4 + b := by rw [eb, ak_m4]; exact ak_cl (by omega)
  refine ⟨(ak_sa c 8 (upd (c 8) t ((c 12) (s * 4 + b)))), F, I, ?_, ?_⟩
  · intro post K fs nx qh qt ql pe nn np nh nt nl os oc ss R
    exact And.intro it (nm_r (e' := nI s * 4 + (x &&& 3)) (by rw [et, n11]) (br_f (by decide) (br_f (by decide) (br_f (by decide) (br_t rfl (And.intro i4 (And.intro it (nm_r (e' := upd (c 8) t ((c 12) (s * 4 + b))) (by rw [et, e4]) (K _ _ _ _ _ _ _ _ _ _ _ _ _ _ R)))))))))
  · intro mi oi hf post K fa fb fi R
    exact (br_f (by decide) (br_f (by decide) (br_t rfl (And.intro i4 (And.intro it (nm_r (e' := upd (c 8) t ((c 12) (s * 4 + b))) (by rw [et, e4]) (K _ _ _ R)))))))
theorem ao_3 (I : ak_I P S T c F) (N : ak_RN P S T c F p t s j a k) : ∃ c' F', ak_I P S T c' F' ∧ ak_OPC P S T c F c' F' t 3 x ∧ ak_OPY P S T c F c' F' p s t 3 x := by
  obtain ⟨n1, n2, n3, n4, n5, n6, n7, n8, n9, n10, n11, n12, n13, n14, n15⟩ := N
  have hZ := ai_Z I
  have it : vp_in (nI t) 16 := ak_in (by omega) (by omega)
  have et : (nI t).toNatClampNeg = t := ak_cl (by omega)
  obtain ⟨b, hb, eb⟩ := pk_andE x (m := 3) 2 (by decide)
  have i4 : vp_in (nI s * 4 + (x &&& 3)) 16 := by rw [eb, ak_m4]; exact ak_in (by omega) (by omega)
  have e4 : (nI s * 4 + (x &&& 3)).toNatClampNeg = s * 4 + b := by rw [eb, ak_m4]; exact ak_cl (by omega)
  refine ⟨(ak_sa c 12 (upd (c 12) (s * 4 + b) ((c 8) t))), F, I, ?_, ?_⟩
  · intro post K fs nx qh qt ql pe nn np nh nt nl os oc ss R
    exact And.intro it (nm_r (e' := nI s * 4 + (x &&& 3)) (by rw [et, n11]) (br_f (by decide) (br_f (by decide) (br_f (by decide) (br_f (by decide) (br_t rfl (And.intro it (And.intro i4 (nm_r (e' := upd (c 12) (s * 4 + b) ((c 8) t)) (by rw [et, e4]) (K _ _ _ _ _ _ _ _ _ _ _ _ _ _ R))))))))))
  · intro mi oi hf post K fa fb fi R
    exact (br_f (by decide) (br_f (by decide) (br_f (by decide) (br_t rfl (And.intro it (And.intro i4 (nm_r (e' := upd (c 12) (s * 4 + b) ((c 8) t)) (by rw [et, e4]) (K _ _ _ R))))))))
theorem ao_4 (I : ak_I P S T c F) (N : ak_RN P S T c F p t s j a k) : ∃ c' F', ak_I P S T c' F' ∧ ak_OPC P S T c F c' F' t 4 x ∧ ak_OPY P S T c F c' F' p s t 4 x := by
  obtain ⟨n1, n2, n3, n4, n5, n6, n7, n8, n9, n10, n11, n12, n13, n14, n15⟩ := N
  have hZ := ai_Z I
  have it : vp_in (nI t) 16 := ak_in (by omega) (by omega)
  have et : (nI t).toNatClampNeg = t := ak_cl (by omega)
  obtain ⟨b, hb, eb⟩ := pk_andE x (m := 63) 6 (by decide)
  refine ⟨(ak_sa (ak_sa c 15 (upd (c 15) t (nI b))) 16 (upd (c 16) t (nI b))), F, ai_pc I n6 (by omega), ?_, ?_⟩
  · intro post K fs nx qh qt ql pe nn np nh nt nl os oc ss R
    exact And.intro it (nm_e (br_f (by decide) (br_f (by decide) (br_f (by decide) (br_f (by decide) (br_f (by decide) (br_t rfl (And.intro it (nm_r (e' := upd (c 15) t (nI b)) (by rw [et, eb]) (K _ _ _ _ _ _ _ _ _ _ _ _ _ _ R))))))))))
  · intro mi oi hf post K fa fb fi R
    exact (br_f (by decide) (br_f (by decide) (br_f (by decide) (br_f (by decide) (br_t rfl (And.intro it (nm_r (e' := upd (c 16) t (nI b)) (by rw [et, eb]) (K _ _ _ R))))))))
theorem ao_5 (I : ak_I P S T c F) (N : ak_RN P S T c F p t s j a k) : ∃ c' F', ak_I P S T c' F' ∧ ak_OPC P S T c F c' F' t 5 x ∧ ak_OPY P S T c F c' F' p s t 5 x := by
  obtain ⟨n1, n2, n3, n4, n5, n6, n7, n8, n9, n10, n11, n12, n13, n14, n15⟩ := N
  have hZ := ai_Z I
  have it : vp_in (nI t) 16 := ak_in (by omega) (by omega)
  have et : (nI t).toNatClampNeg = t := ak_cl (by omega)
  obtain ⟨b, hb, eb⟩ := pk_andE x (m := 63) 6 (by decide)
  by_cases z : (c 8) t ≤ 0
  · refine ⟨c, F, I, ?_, ?_⟩
    · intro post K fs nx qh qt ql pe nn np nh nt nl os oc ss R
      exact And.intro it (nm_e (br_f (by decide) (br_f (by decide) (br_f (by decide) (br_f (by decide) (br_f (by decide) (br_f (by decide) (br_t rfl (And.intro it (br_t (by rw [et]; exact z) (K _ _ _ _ _ _ _ _ _ _ _ _ _ _ R)))))))))))
    · intro mi oi hf post K fa fb fi R
      exact (br_f (by decide) (br_f (by decide) (br_f (by decide) (br_f (by decide) (br_f (by decide) (br_t rfl (And.intro it (br_t (by rw [et]; exact z) (br_f (by decide) (br_f (by decide) (br_f (by decide) (br_f (by decide) (br_f (by decide) (br_f (by decide) (br_f (by decide) (K _ _ _ R))))))))))))))))
  · refine ⟨(ak_sa (ak_sa c 15 (upd (c 15) t (nI b))) 16 (upd (c 16) t (nI b))), F, ai_pc I n6 (by omega), ?_, ?_⟩
    · intro post K fs nx qh qt ql pe nn np nh nt nl os oc ss R
      exact And.intro it (nm_e (br_f (by decide) (br_f (by decide) (br_f (by decide) (br_f (by decide) (br_f (by decide) (br_f (by decide) (br_t rfl (And.intro it (br_f (by rw [et]; exact z) (And.intro it (nm_r (e' := upd (c 15) t (nI b)) (by rw [et, eb]) (K _ _ _ _ _ _ _ _ _ _ _ _ _ _ R)))))))))))))
    · intro mi oi hf post K fa fb fi R
      exact (br_f (by decide) (br_f (by decide) (br_f (by decide) (br_f (by decide) (br_f (by decide) (br_t rfl (And.intro it (br_f (by rw [et]; exact z) (And.intro it (nm_r (e' := upd (c 16) t (nI b)) (by rw [et, eb]) (K _ _ _ R)))))))))))
theorem ak_g2 (h : k = 4 ∨ k = 5) : ∃ g, ((k = 4 ∧ g = 2) ∨ (k = 5 ∧ g = 3)) ∧ 1 ≤ g ∧ g ≤ 3 := by
  rcases h with rfl | rfl
  · exact ⟨2, Or.inl ⟨rfl, rfl⟩, by omega, by omega⟩
  · exact ⟨3, Or.inr ⟨rfl, rfl⟩, by omega, by omega⟩
theorem ak_rfree (I : ak_I P S T c F) (N : ak_RN P S T c F p t s j a k) : ∀ f ∈ F, ak_cd f ≠ t + 16 := by
  have hZ := ai_Z I
  have h := ak_free I (k := 1) N.2.2.2.2.2.2.2.2.2.2.2.2.2.2 (by have := N.2.2.2.2.2.1; omega) (Or.inl rfl)
  intro f hf
  rw [Nat.add_comm]
  have := h f hf
  rw [Nat.one_mul] at this
  exact this
theorem ao_6 (I : ak_I P S T c F) (N : ak_RN P S T c F p t s j a k) : ∃ c' F', ak_I P S T c' F' ∧ ak_OPS P S T c F c' F' p t 6 x ∧ ak_OPY P S T c F c' F' p s t 6 x := by
  have hcd := ak_rfree I N
  obtain ⟨n1, n2, n3, n4, n5, n6, n7, n8, n9, n10, n11, n12, n13, n14, n15⟩ := N
  have hZ := ai_Z I
  have it : vp_in (nI t) 16 := ak_in (by omega) (by omega)
  have et : (nI t).toNatClampNeg = t := ak_cl (by omega)
  have is : vp_in (nI s) 4 := ak_in (by omega) (by omega)
  have es : (nI s).toNatClampNeg = s := ak_cl (by omega)
  by_cases z : (c 14) s = -1
  · obtain ⟨g, hkg, g1, g3⟩ := ak_g2 n5
    have sj : ak_sj (s * 5 + j, t) = t := ak_sjq (by omega)
    have I1 := ai_off (k := 2) (j := g) I n1 n2 n7 n9 n6 n11 n3 n12 n4 n13 n14 n15 g1 g3 (by omega) (by omega) sj (Or.inr (Or.inl ⟨rfl, rfl⟩))
    refine ⟨_, _, I1, ?_, ?_⟩
    · intro post K fs nx qh qt ql pe nn np nh nt nl os oc ss R
      refine (br_f (by decide) (br_f (by decide) (br_f (by decide) (br_f (by decide) (br_f (by decide) (br_f (by decide) (br_f (by decide) (br_f (by decide) (br_t rfl (?_))))))))))
      refine And.intro it ?_
      rw [et, n11]
      refine And.intro is (br_t (by rw [es]; exact z) ?_)
      refine ax_rdy (s := s) (l := j) (ak_mkX R) (by omega) n11 (by omega) n12 n3 hcd ?_
      intro fs nx qh qt ql pe nn np nh nt nl os oc ss R
      refine ax_gup (s := s) (k := k) (j := g) (ak_mkX (c := (ak_sa c 5 (upd (c 5) t 2))) R) n1 n7 (by omega) n8 hkg ?_
      intro fs nx qh qt ql pe nn np nh nt nl os oc ss R
      exact K _ _ _ _ _ _ _ _ _ _ _ _ _ _ R
    · intro mi oi hf post K fa fb fi R
      have ho : oi = 1 := by
        rcases hf.2 with w | w
        · exact w.1
        · exact absurd z w.2
      subst ho
      refine (br_f (by decide) (br_f (by decide) (br_f (by decide) (br_f (by decide) (br_f (by decide) (br_f (by decide) (br_t rfl (br_f (by decide) ?_))))))))
      refine ay_rdy (s := s) (l := j) (ak_mkY R) (by omega) n11 (by omega) n3 hcd ?_
      intro fa fb fi R
      refine ay_gup (k := k) (j := g) (ak_mkY (c := (ak_sa c 5 (upd (c 5) t 2))) R) n1 n8 hkg ?_
      intro fa fb fi R
      exact K _ _ _ R
  · refine ⟨c, F, I, ?_, ?_⟩
    · intro post K fs nx qh qt ql pe nn np nh nt nl os oc ss R
      refine (br_f (by decide) (br_f (by decide) (br_f (by decide) (br_f (by decide) (br_f (by decide) (br_f (by decide) (br_f (by decide) (br_f (by decide) (br_t rfl (?_))))))))))
      refine And.intro it ?_
      rw [et, n11]
      exact And.intro is (br_f (by rw [es]; exact z) (K _ _ _ _ _ _ _ _ _ _ _ _ _ _ R))
    · intro mi oi hf post K fa fb fi R
      have ho : oi = 0 := by
        rcases hf.2 with w | w
        · exact absurd w.2 z
        · exact w.1
      subst ho
      exact (br_f (by decide) (br_f (by decide) (br_f (by decide) (br_f (by decide) (br_f (by decide) (br_f (by decide) (br_t rfl (br_t rfl (br_f (by decide) (br_f (by decide) (br_f (by decide) (br_f (by decide) (br_f (by decide) (br_f (by decide) (K _ _ _ R)))))))))))))))
theorem ao_7 (I : ak_I P S T c F) (N : ak_RN P S T c F p t s j a k) : ∃ c' F', ak_I P S T c' F' ∧ ak_OPS P S T c F c' F' p t 7 x ∧ ak_OPY P S T c F c' F' p s t 7 x := by
  have hcd := ak_rfree I N
  obtain ⟨n1, n2, n3, n4, n5, n6, n7, n8, n9, n10, n11, n12, n13, n14, n15⟩ := N
  have hZ := ai_Z I
  have it : vp_in (nI t) 16 := ak_in (by omega) (by omega)
  have et : (nI t).toNatClampNeg = t := ak_cl (by omega)
  have is : vp_in (nI s) 4 := ak_in (by omega) (by omega)
  have es : (nI s).toNatClampNeg = s := ak_cl (by omega)
  obtain ⟨l, hl, el⟩ := pk_andE x (m := 1) 1 (by decide)
  have i2 : vp_in (nI s * 2 + nI l) 8 := by rw [ak_m2]; exact ak_in (by omega) (by omega)
  have e2 : (nI s * 2 + nI l).toNatClampNeg = s * 2 + l := by rw [ak_m2]; exact ak_cl (by omega)
  by_cases z : (c 14) s = -1
  · have hoi : ∀ mi oi, ak_FL ((c 14) s) t mi oi → oi = 1 := by
      intro mi oi hf
      rcases hf.2 with w | w
      · exact w.1
      · exact absurd z w.2
    by_cases y1 : (c 13) (s * 2 + l) = -1
    · refine ⟨(ak_sa c 13 (upd (c 13) (s * 2 + l) (nI t))), F, I, ?_, ?_⟩
      · intro post K fs nx qh qt ql pe nn np nh nt nl os oc ss R
        refine (br_f (by decide) (br_f (by decide) (br_f (by decide) (br_f (by decide) (br_f (by decide) (br_f (by decide) (br_f (by decide) (br_f (by decide) (br_f (by decide) (br_t rfl (?_)))))))))))
        rw [el]
        refine And.intro it (nm_r (e' := nI s) (by rw [et]; exact n11) (And.intro is (br_t (by rw [es]; exact z) (And.intro i2 (nm_r (e' := -1) (by rw [e2]; exact y1) (br_f (ak_1n (by omega)) (br_t rfl (And.intro i2 (nm_r (e' := upd (c 13) (s * 2 + l) (nI t)) (by rw [e2]) (K _ _ _ _ _ _ _ _ _ _ _ _ _ _ R))))))))))
      · intro mi oi hf post K fa fb fi R
        have ho := hoi mi oi hf
        subst ho
        refine (br_f (by decide) (br_f (by decide) (br_f (by decide) (br_f (by decide) (br_f (by decide) (br_f (by decide) (br_f (by decide) (br_t rfl (br_f (by decide) ?_)))))))))
        rw [el]
        exact And.intro i2 (br_t (by rw [e2]; exact y1) (And.intro i2 (nm_r (e' := upd (c 13) (s * 2 + l) (nI t)) (by rw [e2]) (K _ _ _ R))))
    · by_cases y2 : (c 13) (s * 2 + l) = nI t
      · refine ⟨c, F, I, ?_, ?_⟩
        · intro post K fs nx qh qt ql pe nn np nh nt nl os oc ss R
          refine (br_f (by decide) (br_f (by decide) (br_f (by decide) (br_f (by decide) (br_f (by decide) (br_f (by decide) (br_f (by decide) (br_f (by decide) (br_f (by decide) (br_t rfl (?_)))))))))))
          rw [el]
          exact And.intro it (nm_r (e' := nI s) (by rw [et]; exact n11) (And.intro is (br_t (by rw [es]; exact z) (And.intro i2 (nm_r (e' := nI t) (by rw [e2]; exact y2) (br_t rfl (K _ _ _ _ _ _ _ _ _ _ _ _ _ _ R)))))))
        · intro mi oi hf post K fa fb fi R
          have ho := hoi mi oi hf
          subst ho
          refine (br_f (by decide) (br_f (by decide) (br_f (by decide) (br_f (by decide) (br_f (by decide) (br_f (by decide) (br_f (by decide) (br_t rfl (br_f (by decide) ?_)))))))))
          rw [el]
          exact And.intro i2 (br_f (by rw [e2]; exact y1) (And.intro i2 (br_t (by rw [e2]; exact y2) (K _ _ _ R))))
      · obtain ⟨g, hkg, g1, g3⟩ := ak_g2 n5
        have sj : ak_sj (s * 5 + 3 + l, t) = t := ak_sjq (by omega)
        have I1 := ai_off (k := 3) (j := g) I n1 n2 n7 n9 n6 n11 n3 n12 n4 n13 n14 n15 g1 g3 (by omega) (by omega) sj (Or.inr (Or.inr (Or.inl ⟨rfl, l, by omega, rfl⟩)))
        refine ⟨_, _, I1, ?_, ?_⟩
        · intro post K fs nx qh qt ql pe nn np nh nt nl os oc ss R
          refine (br_f (by decide) (br_f (by decide) (br_f (by decide) (br_f (by decide) (br_f (by decide) (br_f (by decide) (br_f (by decide) (br_f (by decide) (br_f (by decide) (br_t rfl (?_)))))))))))
          rw [el]
          refine And.intro it (nm_r (e' := nI s) (by rw [et]; exact n11) (And.intro is (br_t (by rw [es]; exact z) (And.intro i2 (nm_r (e' := (c 13) (s * 2 + l)) (by rw [e2]) (br_f y2 (br_f y1 (And.intro it (nm_r (e' := upd (c 5) t 3) (by rw [et]) ?_)))))))))
          rw [ak_m53]
          refine ax_enq (c := (ak_sa c 5 (upd (c 5) t 3))) (ak_mkX (c := (ak_sa c 5 (upd (c 5) t 3))) R) (by omega) (by omega) hcd ?_
          intro fs nx qh qt ql pe nn np nh nt nl os oc ss R
          refine ax_gup (s := s) (k := k) (j := g) (ak_mkX (c := (ak_sa c 5 (upd (c 5) t 3))) R) n1 n7 (by omega) n8 hkg ?_
          intro fs nx qh qt ql pe nn np nh nt nl os oc ss R
          exact K _ _ _ _ _ _ _ _ _ _ _ _ _ _ R
        · intro mi oi hf post K fa fb fi R
          have ho := hoi mi oi hf
          subst ho
          refine (br_f (by decide) (br_f (by decide) (br_f (by decide) (br_f (by decide) (br_f (by decide) (br_f (by decide) (br_f (by decide) (br_t rfl (br_f (by decide) ?_)))))))))
          rw [el]
          refine And.intro i2 (br_f (by rw [e2]; exact y1) (And.intro i2 (br_f (by rw [e2]; exact y2) (And.intro it (nm_r (e' := upd (c 5) t 3) (by rw [et]) ?_)))))
          refine ay_app (k := s * 5 + 3 + l) (c := (ak_sa c 5 (upd (c 5) t 3))) (ak_mkY (c := (ak_sa c 5 (upd (c 5) t 3))) R) (Or.inl ⟨by simp only []; omega, by simp only []; omega⟩) (by rw [ak_cd5 (by omega)]; exact hcd) (by rw [Nat.add_assoc]; exact ak_sp5 (by omega) (by omega)) (ak_lsw (by omega) (by omega)) ?_
          intro fa fb fi R
          refine ay_gup (k := k) (j := g) (ak_mkY (c := (ak_sa c 5 (upd (c 5) t 3))) R) n1 n8 hkg ?_
          intro fa fb fi R
          exact K _ _ _ R
  · refine ⟨c, F, I, ?_, ?_⟩
    · intro post K fs nx qh qt ql pe nn np nh nt nl os oc ss R
      refine (br_f (by decide) (br_f (by decide) (br_f (by decide) (br_f (by decide) (br_f (by decide) (br_f (by decide) (br_f (by decide) (br_f (by decide) (br_f (by decide) (br_t rfl (?_)))))))))))
      exact And.intro it (nm_r (e' := nI s) (by rw [et]; exact n11) (And.intro is (br_f (by rw [es]; exact z) (K _ _ _ _ _ _ _ _ _ _ _ _ _ _ R))))
    · intro mi oi hf post K fa fb fi R
      have ho : oi = 0 := by
        rcases hf.2 with w | w
        · exact absurd w.2 z
        · exact w.1
      subst ho
      exact (br_f (by decide) (br_f (by decide) (br_f (by decide) (br_f (by decide) (br_f (by decide) (br_f (by decide) (br_f (by decide) (br_t rfl (br_t rfl (br_f (by decide) (br_f (by decide) (br_f (by decide) (br_f (by decide) (br_f (by decide) (K _ _ _ R)))))))))))))))
theorem ao_9 (I : ak_I P S T c F) (N : ak_RN P S T c F p t s j a k) : ∃ c' F', ak_I P S T c' F' ∧ ak_OPS P S T c F c' F' p t 9 x ∧ ak_OPY P S T c F c' F' p s t 9 x := by
  obtain ⟨n1, n2, n3, n4, n5, n6, n7, n8, n9, n10, n11, n12, n13, n14, n15⟩ := N
  have hZ := ai_Z I
  have it : vp_in (nI t) 16 := ak_in (by omega) (by omega)
  have et : (nI t).toNatClampNeg = t := ak_cl (by omega)
  have is : vp_in (nI s) 4 := ak_in (by omega) (by omega)
  have es : (nI s).toNatClampNeg = s := ak_cl (by omega)
  refine ⟨_, F, ai_lh I (ak_LH_st (s := s) (x := nI t) (ai_LH I) (Or.inr ⟨t, n6, rfl, n11, by rw [n10]; decide⟩)), ?_, ?_⟩
  · intro post K fs nx qh qt ql pe nn np nh nt nl os oc ss R
    refine (br_f (by decide) (br_f (by decide) (br_f (by decide) (br_f (by decide) (br_f (by decide) (br_f (by decide) (br_f (by decide) (br_f (by decide) (br_f (by decide) (br_f (by decide) (br_f (by decide) (br_t rfl (?_)))))))))))))
    refine And.intro it ?_
    rw [et, n11]
    exact And.intro is (nm_r (e' := upd (c 14) s (nI t)) (by rw [es]) (K _ _ _ _ _ _ _ _ _ _ _ _ _ _ R))
  · intro mi oi hf post K fa fb fi R
    exact (br_f (by decide) (br_f (by decide) (br_f (by decide) (br_f (by decide) (br_f (by decide) (br_f (by decide) (br_f (by decide) (br_f (by decide) (br_f (by decide) (br_t rfl (And.intro is (nm_r (e' := upd (c 14) s (nI t)) (by rw [es]) (K _ _ _ R)))))))))))))
theorem ao_10 (I : ak_I P S T c F) (N : ak_RN P S T c F p t s j a k) : ∃ c' F', ak_I P S T c' F' ∧ ak_OPS P S T c F c' F' p t 10 x ∧ ak_OPY P S T c F c' F' p s t 10 x := by
  have hcd := ak_rfree I N
  obtain ⟨n1, n2, n3, n4, n5, n6, n7, n8, n9, n10, n11, n12, n13, n14, n15⟩ := N
  have hZ := ai_Z I
  have it : vp_in (nI t) 16 := ak_in (by omega) (by omega)
  have et : (nI t).toNatClampNeg = t := ak_cl (by omega)
  have is : vp_in (nI s) 4 := ak_in (by omega) (by omega)
  have es : (nI s).toNatClampNeg = s := ak_cl (by omega)
  have ip : vp_in (nI p) 6 := ak_in (by omega) (by omega)
  have ep : (nI p).toNatClampNeg = p := ak_cl (by omega)
  by_cases z : (c 14) s = nI t
  · have hmi : ∀ mi oi, ak_FL ((c 14) s) t mi oi → mi = 1 := by
      intro mi oi hf
      rcases hf.1 with w | w
      · exact w.1
      · exact absurd z w.2
    have I0 : ak_I P S T (ak_sa c 14 (upd (c 14) s (-1))) F := ai_lh I (ak_LH_st (s := s) (x := -1) (ai_LH I) (Or.inl rfl))
    by_cases k5 : k = 5
    · subst k5
      have sj : ak_sj (s * 5 + j, t) = t := ak_sjq (by omega)
      have I1 := ai_off (k := 2) (j := 3) I0 n1 n2 n7 n9 n6 n11 n3 n12 n4 n13 n14 n15 (by omega) (by omega) (by omega) (by omega) sj (Or.inr (Or.inl ⟨rfl, rfl⟩))
      refine ⟨_, _, I1, ?_, ?_⟩
      · intro post K fs nx qh qt ql pe nn np nh nt nl os oc ss R
        refine (br_f (by decide) (br_f (by decide) (br_f (by decide) (br_f (by decide) (br_f (by decide) (br_f (by decide) (br_f (by decide) (br_f (by decide) (br_f (by decide) (br_f (by decide) (br_f (by decide) (br_f (by decide) (br_t rfl (?_))))))))))))))
        refine And.intro it (nm_r (e' := nI s) (by rw [et]; exact n11) (And.intro is (br_t (by rw [es]; exact z) (And.intro is (nm_r (e' := upd (c 14) s (-1)) (by rw [es]) (And.intro ip (br_t (by rw [ep]; exact n8) ?_)))))))
        refine ax_rdy (s := s) (l := j) (c := (ak_sa c 14 (upd (c 14) s (-1)))) (ak_mkX (c := (ak_sa c 14 (upd (c 14) s (-1)))) R) (by omega) n11 (by omega) n12 n3 hcd ?_
        intro fs nx qh qt ql pe nn np nh nt nl os oc ss R
        refine ax_gup (s := s) (k := 5) (j := 3) (ak_mkX (c := (ak_sa (ak_sa c 14 (upd (c 14) s (-1))) 5 (upd (c 5) t 2))) R) n1 n7 (by omega) n8 (Or.inr ⟨rfl, rfl⟩) ?_
        intro fs nx qh qt ql pe nn np nh nt nl os oc ss R
        exact K _ _ _ _ _ _ _ _ _ _ _ _ _ _ R
      · intro mi oi hf post K fa fb fi R
        have ho := hmi mi oi hf
        subst ho
        refine (br_f (by decide) (br_f (by decide) (br_f (by decide) (br_f (by decide) (br_f (by decide) (br_f (by decide) (br_f (by decide) (br_f (by decide) (br_f (by decide) (br_f (by decide) (br_t rfl (br_f (by decide) (And.intro is (nm_r (e' := upd (c 14) s (-1)) (by rw [es]) (And.intro ip (br_t (by rw [ep]; exact n8) ?_))))))))))))))))
        refine ay_rdy (s := s) (l := j) (c := (ak_sa c 14 (upd (c 14) s (-1)))) (ak_mkY (c := (ak_sa c 14 (upd (c 14) s (-1)))) R) (by omega) n11 (by omega) n3 hcd ?_
        intro fa fb fi R
        refine ay_gup (k := 5) (j := 3) (ak_mkY (c := (ak_sa (ak_sa c 14 (upd (c 14) s (-1))) 5 (upd (c 5) t 2))) R) n1 n8 (Or.inr ⟨rfl, rfl⟩) ?_
        intro fa fb fi R
        exact K _ _ _ R
    · have hk4 : ¬ nI k = 5 := fun w => k5 ((ak_ni (b := 5) (by omega) (by omega)).mp w)
      refine ⟨_, F, I0, ?_, ?_⟩
      · intro post K fs nx qh qt ql pe nn np nh nt nl os oc ss R
        refine (br_f (by decide) (br_f (by decide) (br_f (by decide) (br_f (by decide) (br_f (by decide) (br_f (by decide) (br_f (by decide) (br_f (by decide) (br_f (by decide) (br_f (by decide) (br_f (by decide) (br_f (by decide) (br_t rfl (?_))))))))))))))
        exact And.intro it (nm_r (e' := nI s) (by rw [et]; exact n11) (And.intro is (br_t (by rw [es]; exact z) (And.intro is (nm_r (e' := upd (c 14) s (-1)) (by rw [es]) (And.intro ip (br_f (by rw [ep, n8]; exact hk4) (K _ _ _ _ _ _ _ _ _ _ _ _ _ _ R))))))))
      · intro mi oi hf post K fa fb fi R
        have ho := hmi mi oi hf
        subst ho
        exact (br_f (by decide) (br_f (by decide) (br_f (by decide) (br_f (by decide) (br_f (by decide) (br_f (by decide) (br_f (by decide) (br_f (by decide) (br_f (by decide) (br_f (by decide) (br_t rfl (br_f (by decide) (And.intro is (nm_r (e' := upd (c 14) s (-1)) (by rw [es]) (And.intro ip (br_f (by rw [ep, n8]; exact hk4) (K _ _ _ R)))))))))))))))))
  · refine ⟨c, F, I, ?_, ?_⟩
    · intro post K fs nx qh qt ql pe nn np nh nt nl os oc ss R
      refine (br_f (by decide) (br_f (by decide) (br_f (by decide) (br_f (by decide) (br_f (by decide) (br_f (by decide) (br_f (by decide) (br_f (by decide) (br_f (by decide) (br_f (by decide) (br_f (by decide) (br_f (by decide) (br_t rfl (?_))))))))))))))
      exact And.intro it (nm_r (e' := nI s) (by rw [et]; exact n11) (And.intro is (br_f (by rw [es]; exact z) (K _ _ _ _ _ _ _ _ _ _ _ _ _ _ R))))
    · intro mi oi hf post K fa fb fi R
      have ho : mi = 0 := by
        rcases hf.1 with w | w
        · exact absurd w.2 z
        · exact w.1
      subst ho
      exact (br_f (by decide) (br_f (by decide) (br_f (by decide) (br_f (by decide) (br_f (by decide) (br_f (by decide) (br_f (by decide) (br_f (by decide) (br_f (by decide) (br_f (by decide) (br_t rfl (br_t rfl (br_f (by decide) (br_f (by decide) (K _ _ _ R)))))))))))))))
theorem ao_11 (I : ak_I P S T c F) (N : ak_RN P S T c F p t s j a k) : ∃ c' F', ak_I P S T c' F' ∧ ak_OPS P S T c F c' F' p t 11 x ∧ ak_OPY P S T c F c' F' p s t 11 x := by
  have hcd : ∀ f ∈ F, ak_cd f ≠ 2 * 16 + t := ak_free I N.2.2.2.2.2.2.2.2.2.2.2.2.2.2 (by have := N.2.2.2.2.2.1; have := ai_Z I; omega) (Or.inr (Or.inl rfl))
  obtain ⟨n1, n2, n3, n4, n5, n6, n7, n8, n9, n10, n11, n12, n13, n14, n15⟩ := N
  have hZ := ai_Z I
  have it : vp_in (nI t) 16 := ak_in (by omega) (by omega)
  have et : (nI t).toNatClampNeg = t := ak_cl (by omega)
  have a2 : (32 : Int32) + nI t = nI (32 + t) := nI_add 32 t
  obtain ⟨g, hkg, g1, g3⟩ := ak_g2 n5
  have sj : ak_sj (20 + s, 32 + t) = t := ak_sjn (by omega) (by omega)
  have I1 := ai_off (k := 4) (j := g) I n1 n2 n7 n9 n6 n11 n3 n12 n4 n13 n14 n15 g1 g3 (by omega) (by omega) sj (Or.inr (Or.inr (Or.inr (Or.inl ⟨rfl, Or.inr rfl⟩))))
  refine ⟨_, _, I1, ?_, ?_⟩
  · intro post K fs nx qh qt ql pe nn np nh nt nl os oc ss R
    refine (br_f (by decide) (br_f (by decide) (br_f (by decide) (br_f (by decide) (br_f (by decide) (br_f (by decide) (br_f (by decide) (br_f (by decide) (br_f (by decide) (br_f (by decide) (br_f (by decide) (br_f (by decide) (br_f (by decide) (br_t rfl (?_)))))))))))))))
    refine And.intro it (nm_r (e' := upd (c 5) t 4) (by rw [et]) (And.intro it ?_))
    rw [et, n11, a2]
    refine ax_app (c := (ak_sa c 5 (upd (c 5) t 4))) (ak_mkX (c := (ak_sa c 5 (upd (c 5) t 4))) R) (by omega) (by omega) (by omega) hcd ?_
    intro fs nx qh qt ql pe nn np nh nt nl os oc ss R
    refine ax_gup (s := s) (k := k) (j := g) (ak_mkX (c := (ak_sa c 5 (upd (c 5) t 4))) R) n1 n7 (by omega) n8 hkg ?_
    intro fs nx qh qt ql pe nn np nh nt nl os oc ss R
    exact K _ _ _ _ _ _ _ _ _ _ _ _ _ _ R
  · intro mi oi hf post K fa fb fi R
    refine (br_f (by decide) (br_f (by decide) (br_f (by decide) (br_f (by decide) (br_f (by decide) (br_f (by decide) (br_f (by decide) (br_f (by decide) (br_f (by decide) (br_f (by decide) (br_f (by decide) (br_t rfl (And.intro it (nm_r (e' := upd (c 5) t 4) (by rw [et]) ?_))))))))))))))
    rw [a2]
    refine ay_app (k := 20 + s) (b := 3) (c := (ak_sa c 5 (upd (c 5) t 4))) (ak_mkY (c := (ak_sa c 5 (upd (c 5) t 4))) R) (Or.inr ⟨by simp, by simp; omega, by simp; omega, by simp; omega⟩) (by rw [ak_cd20]; exact hcd) (ak_sp20 s) (ak_ls20 s) ?_
    intro fa fb fi R
    refine ay_gup (k := k) (j := g) (ak_mkY (c := (ak_sa c 5 (upd (c 5) t 4))) R) n1 n8 hkg ?_
    intro fa fb fi R
    exact K _ _ _ R
theorem ao_12 (I : ak_I P S T c F) (N : ak_RN P S T c F p t s j a k) : ∃ c' F', ak_I P S T c' F' ∧ ak_OPS P S T c F c' F' p t 12 x ∧ ak_OPY P S T c F c' F' p s t 12 x := by
  obtain ⟨n1, n2, n3, n4, n5, n6, n7, n8, n9, n10, n11, n12, n13, n14, n15⟩ := N
  have hZ := ai_Z I
  have it : vp_in (nI t) 16 := ak_in (by omega) (by omega)
  have et : (nI t).toNatClampNeg = t := ak_cl (by omega)
  have is : vp_in (nI s) 4 := ak_in (by omega) (by omega)
  have es : (nI s).toNatClampNeg = s := ak_cl (by omega)
  -- the clamped demand
  have hd : ∃ d, d < 7 ∧ (¬ 0 ≤ x ∧ d = 0 ∨ 0 ≤ x ∧ (x ≤ 6 ∧ x = nI d ∨ ¬ x ≤ 6 ∧ d = 6)) := by
    by_cases z : 0 ≤ x
    · by_cases y : x ≤ 6
      · obtain ⟨d, h1, h2⟩ := nI_of2 (x := x) (M := 6) (n := 6) (by decide) (Int32.not_lt.mpr z) y
        exact ⟨d, by omega, Or.inr ⟨z, Or.inl ⟨y, h2⟩⟩⟩
      · exact ⟨6, by omega, Or.inr ⟨z, Or.inr ⟨y, rfl⟩⟩⟩
    · exact ⟨0, by omega, Or.inl ⟨z, rfl⟩⟩
  obtain ⟨d, hd7, hd⟩ := hd
  have I1 : ak_I P S T (ak_sa c 11 (upd (c 11) s (nI d))) F := ai_dem (pri' := (c 10)) I (fun r hr => ⟨(I.2.2.1 r hr).1, by
    by_cases w : r = s
    · subst w; exact ⟨d, hd7, pk_us⟩
    · rw [pk_un w]; exact (I.2.2.1 r hr).2⟩)
  obtain ⟨c', F', I', hX, hY⟩ := as_rea I1
  refine ⟨c', F', I', ?_, ?_⟩
  · intro post K fs nx qh qt ql pe nn np nh nt nl os oc ss R
    refine (br_f (by decide) (br_f (by decide) (br_f (by decide) (br_f (by decide) (br_f (by decide) (br_f (by decide) (br_f (by decide) (br_f (by decide) (br_f (by decide) (br_f (by decide) (br_f (by decide) (br_f (by decide) (br_f (by decide) (br_f (by decide) (br_t rfl (?_))))))))))))))))
    refine And.intro it ?_
    rw [et, n11]
    have fin : vp_in (nI s) 4 ∧ ∀ y : Nat → Int32, y = upd (c 11) (nI s).toNatClampNeg (nI d) → wpX_reallocate post (nI P, nI S, nI T, fs, c 0, c 1, c 2, c 3, c 4, c 5, c 6, c 7, c 15, c 8, nx, qh, qt, ql, pe, nn, np, nh, nt, nl, c 9, c 10, y, c 17, c 12, c 13, c 14, os, oc, ss) := And.intro is (nm_r (e' := upd (c 11) s (nI d)) (by rw [es]) (hX post _ (ak_mkX (c := (ak_sa c 11 (upd (c 11) s (nI d)))) R) K))
    rcases hd with ⟨z, rfl⟩ | ⟨z, ⟨y, rfl⟩ | ⟨y, rfl⟩⟩
    · exact br_f z fin
    · exact br_t z (br_t y fin)
    · exact br_t z (br_f y fin)
  · intro mi oi hf post K fa fb fi R
    have fin : vp_in (nI s) 4 ∧ ∀ y : Nat → Int32, y = upd (c 11) (nI s).toNatClampNeg (nI d) → wpY_reallocate post (nI P, nI S, nI T, nI F.length, c 2, c 3, c 4, c 5, c 6, c 7, c 16, c 8, c 0, c 1, c 10, y, c 17, c 14, c 12, c 9, c 13, fa, fb, fi) := And.intro is (nm_r (e' := upd (c 11) s (nI d)) (by rw [es]) (hY post _ (ak_mkY (c := (ak_sa c 11 (upd (c 11) s (nI d)))) R) K))
    rcases hd with ⟨z, rfl⟩ | ⟨z, ⟨y, rfl⟩ | ⟨y, rfl⟩⟩
    · exact (br_f (by decide) (br_f (by decide) (br_f (by decide) (br_f (by decide) (br_f (by decide) (br_f (by decide) (br_f (by decide) (br_f (by decide) (br_f (by decide) (br_f (by decide) (br_f (by decide) (br_f (by decide) (br_t rfl (br_f z fin))))))))))))))
    · exact (br_f (by decide) (br_f (by decide) (br_f (by decide) (br_f (by decide) (br_f (by decide) (br_f (by decide) (br_f (by decide) (br_f (by decide) (br_f (by decide) (br_f (by decide) (br_f (by decide) (br_f (by decide) (br_t rfl (br_t z (br_t y fin)))))))))))))))
    · exact (br_f (by decide) (br_f (by decide) (br_f (by decide) (br_f (by decide) (br_f (by decide) (br_f (by decide) (br_f (by decide) (br_f (by decide) (br_f (by decide) (br_f (by decide) (br_f (by decide) (br_f (by decide) (br_t rfl (br_t z (br_f y fin)))))))))))))))
end
end
section
/-! release and end -/
section
variable {P S T : Nat} {c : Nat → Nat → Int32} {F : List (Nat × Nat)} {p t s j a k : Nat} {x : Int32}
/-- a waiter -/
theorem ai_q3 {s l t : Nat} (I : ak_I P S T c F) (hm : (s * 5 + 3 + l, t) ∈ F) (hs : s < 4) (hl : l < 2) : t < T ∧ (c 5) t = 3 ∧ (c 6) t = nI s ∧ ak_V F t = [(s * 5 + 3 + l, t)] := by
  have hZ := ai_Z I
  have key : t < T ∧ (c 5) t = 3 ∧ (c 6) t = nI s := by
    rcases ak_sh I hm with ⟨s', t', j', h1, h2, h3, h4, h5, h6, h7⟩ | ⟨s', t', l', h1, h2, h3, h4, h5, h6⟩ | ⟨s', t', h1, h2, h4, _⟩ | ⟨s', t', h1, h2, h4 | h4, _⟩ | ⟨s', p, h1, h2, h4, _⟩
    · have e1 := congrArg Prod.fst h4
      dsimp only at e1
      omega
    · have e1 := congrArg Prod.fst h4
      have e2 := congrArg Prod.snd h4
      dsimp only at e1 e2
      subst e2
      have e3 : s = s' := by omega
      subst e3
      exact ⟨h2, h5, h6⟩
    all_goals
      have e1 := congrArg Prod.fst h4
      dsimp only at e1
      omega
  refine ⟨key.1, key.2.1, key.2.2, ?_⟩
  have hmv : (s * 5 + 3 + l, t) ∈ ak_V F t := ak_V_mem.mpr ⟨hm, ak_sjq (by omega)⟩
  obtain ⟨s', j', a, q1, q2, q3, q4, q5, q6, q7, q8⟩ := ak_thr I key.1 (by rw [key.2.1]; decide)
  rw [key.2.1] at q8
  rcases q8 with ⟨y, _⟩ | ⟨y, _⟩ | ⟨_, l', hl', y⟩ | ⟨y, _⟩ | ⟨y, _⟩
  · exact absurd y (by decide)
  · exact absurd y (by decide)
  · rw [y] at hmv ⊢
    rw [List.mem_singleton.mp hmv]
  all_goals exact absurd y (by decide)
theorem as_pas {l : Nat} (I : ak_I P S T c F) (hs : s < S) (hl : l < 2) (t : Nat) : ∃ c' F', ak_I P S T c' F' ∧ (c' 4) = (c 4) ∧ (c' 3) = (c 3) ∧ (c' 2) = (c 2) ∧ (c' 14) = (c 14) ∧ (c' 6) = (c 6) ∧ (c' 15) = (c 15) ∧
    (∀ (px' : Nat → Int32) (post : SX → Prop), ak_KX P S T (ak_sa c' 15 (px')) F' post → ∀ (fs : Int32) (nx qh qt ql pe nn np nh nt nl os oc ss : Nat → Int32), ak_PX P S T (c 2) (c 3) F fs nx qh qt ql pe nn np nh nt nl os oc ss → (((c 13) (s * 2 + l) = nI t → wpX_passOn post (nI P, nI S, nI T, fs, c 0, c 1, c 2, c 3, c 4, c 5, c 6, c 7, px', c 8, nx, qh, qt, ql, pe, nn, np, nh, nt, nl, c 9, c 10, c 11, c 17, c 12, c 13, c 14, os, oc, ss) (nI s) (nI l)) ∧ (¬ (c 13) (s * 2 + l) = nI t → post (nI P, nI S, nI T, fs, c 0, c 1, c 2, c 3, c 4, c 5, c 6, c 7, px', c 8, nx, qh, qt, ql, pe, nn, np, nh, nt, nl, c 9, c 10, c 11, c 17, c 12, c 13, c 14, os, oc, ss)))) ∧
    ak_SY P S T c F c' F' (fun post v => wpY_passOn post v (nI s) (nI l) (nI t)) := by
  have hZ := ai_Z I
  have hLV := ai_LV I
  by_cases z : (c 13) (s * 2 + l) = nI t
  · rcases hq : ak_it F (s * 5 + 3 + l) with _ | ⟨w, r⟩
    · refine ⟨(ak_sa c 13 (upd (c 13) (s * 2 + l) (-1))), F, I, rfl, rfl, rfl, rfl, rfl, rfl, ?_, ?_⟩
      · intro px' post K fs nx qh qt ql pe nn np nh nt nl os oc ss R
        refine br_t z ?_
        refine ax_pass0 (c := (ak_sa c 15 (px'))) (ak_mkX (c := (ak_sa c 15 (px'))) R) (by omega) hl hq ?_
        intro fs nx qh qt ql pe nn np nh nt nl os oc ss R
        exact K _ _ _ _ _ _ _ _ _ _ _ _ _ _ R
      · intro post v R K
        exact ay_pas0 R hLV hs (by omega) hl z hq K
    · have hmF : (s * 5 + 3 + l, w) ∈ F := ak_it_mem.mp (by rw [hq]; exact List.mem_cons_self ..)
      obtain ⟨w1, w2, w3, w4⟩ := ai_q3 I hmF (by omega) hl
      obtain ⟨s', j', a', q1, q2, q3, q4, q5, q6, q7, q8⟩ := ak_thr I w1 (by rw [w2]; decide)
      have sj : ak_sj (s * 5 + 3 + l, w) = w := ak_sjq (by omega)
      have hcd := ak_free_e I w4 (k := 1) (by omega) (Or.inl rfl)
      rw [Nat.one_mul] at hcd
      have hcd : ∀ f ∈ F.erase (s * 5 + 3 + l, w), ak_cd f ≠ w + 16 := fun f hf => by rw [Nat.add_comm]; exact hcd f hf
      have I1 := ai_mv I hs w1 w3 q2 q5 (by rw [w2]; decide) (by rw [w2]; decide) w4 sj
      refine ⟨(ak_sa (ak_sa c 13 (upd (c 13) (s * 2 + l) (nI w))) 5 (upd (c 5) w 2)), _, I1, rfl, rfl, rfl, rfl, rfl, rfl, ?_, ?_⟩
      · intro px' post K fs nx qh qt ql pe nn np nh nt nl os oc ss R
        refine br_t z ?_
        refine ax_pass (c := (ak_sa c 15 (px'))) (ak_mkX (c := (ak_sa c 15 (px'))) R) (by omega) hl hq w3 q5 q2 hcd ?_
        intro fs nx qh qt ql pe nn np nh nt nl os oc ss R
        exact K _ _ _ _ _ _ _ _ _ _ _ _ _ _ R
      · intro post v R K
        exact ay_pas R hLV hs (by omega) hl z hq w3 q2 hcd K
  · refine ⟨c, F, I, rfl, rfl, rfl, rfl, rfl, rfl, ?_, ?_⟩
    · intro px' post K fs nx qh qt ql pe nn np nh nt nl os oc ss R
      exact br_f z (K _ _ _ _ _ _ _ _ _ _ _ _ _ _ R)
    · intro post v R K
      exact ay_pas1 R (by omega) hl z K
theorem ao_8 (I : ak_I P S T c F) (N : ak_RN P S T c F p t s j a k) : ∃ c' F', ak_I P S T c' F' ∧ ak_OPS P S T c F c' F' p t 8 x ∧ ak_OPY P S T c F c' F' p s t 8 x := by
  obtain ⟨n1, n2, n3, n4, n5, n6, n7, n8, n9, n10, n11, n12, n13, n14, n15⟩ := N
  have hZ := ai_Z I
  have it : vp_in (nI t) 16 := ak_in (by omega) (by omega)
  have et : (nI t).toNatClampNeg = t := ak_cl (by omega)
  have is : vp_in (nI s) 4 := ak_in (by omega) (by omega)
  have es : (nI s).toNatClampNeg = s := ak_cl (by omega)
  obtain ⟨l, hl, el⟩ := pk_andE x (m := 1) 1 (by decide)
  have i2 : vp_in (nI s * 2 + nI l) 8 := by rw [ak_m2]; exact ak_in (by omega) (by omega)
  have e2 : (nI s * 2 + nI l).toNatClampNeg = s * 2 + l := by rw [ak_m2]; exact ak_cl (by omega)
  by_cases z : (c 14) s = -1
  · obtain ⟨c', F', I', _, _, _, _, _, hpx, hX, hY⟩ := as_pas (l := l) I n2 (by omega) t
    refine ⟨c', F', I', ?_, ?_⟩
    · intro post K fs nx qh qt ql pe nn np nh nt nl os oc ss R
      refine (br_f (by decide) (br_f (by decide) (br_f (by decide) (br_f (by decide) (br_f (by decide) (br_f (by decide) (br_f (by decide) (br_f (by decide) (br_f (by decide) (br_f (by decide) (br_t rfl (?_))))))))))))
      rw [el]
      refine And.intro it (nm_r (e' := nI s) (by rw [et]; exact n11) (And.intro is (br_t (by rw [es]; exact z) (And.intro i2 ?_))))
      rw [e2, ← hpx]
      refine hX (c' 15) post ?_ fs nx qh qt ql pe nn np nh nt nl os oc ss R
      intro fs nx qh qt ql pe nn np nh nt nl os oc ss R
      exact K _ _ _ _ _ _ _ _ _ _ _ _ _ _ R
    · intro mi oi hf post K fa fb fi R
      have ho : oi = 1 := by
        rcases hf.2 with w | w
        · exact w.1
        · exact absurd z w.2
      subst ho
      refine (br_f (by decide) (br_f (by decide) (br_f (by decide) (br_f (by decide) (br_f (by decide) (br_f (by decide) (br_f (by decide) (br_f (by decide) (br_t rfl (br_f (by decide) ?_))))))))))
      rw [el]
      exact hY post _ (ak_mkY R) K
  · refine ⟨c, F, I, ?_, ?_⟩
    · intro post K fs nx qh qt ql pe nn np nh nt nl os oc ss R
      refine (br_f (by decide) (br_f (by decide) (br_f (by decide) (br_f (by decide) (br_f (by decide) (br_f (by decide) (br_f (by decide) (br_f (by decide) (br_f (by decide) (br_f (by decide) (br_t rfl (?_))))))))))))
      exact And.intro it (nm_r (e' := nI s) (by rw [et]; exact n11) (And.intro is (br_f (by rw [es]; exact z) (K _ _ _ _ _ _ _ _ _ _ _ _ _ _ R))))
    · intro mi oi hf post K fa fb fi R
      have ho : oi = 0 := by
        rcases hf.2 with w | w
        · exact absurd w.2 z
        · exact w.1
      subst ho
      exact (br_f (by decide) (br_f (by decide) (br_f (by decide) (br_f (by decide) (br_f (by decide) (br_f (by decide) (br_f (by decide) (br_f (by decide) (br_t rfl (br_t rfl (br_f (by decide) (br_f (by decide) (br_f (by decide) (br_f (by decide) (K _ _ _ R)))))))))))))))
theorem ao_0 {px' : Nat → Int32} (I : ak_I P S T c F) (N : ak_RN P S T c F p t s j a k) (hpx' : ∀ y, y ≠ t → px' y = (c 15) y) : ∃ c' F', ak_I P S T c' F' ∧
    (∀ post : SX → Prop, ak_KX P S T c' F' post → ∀ (fs : Int32) (nx qh qt ql pe nn np nh nt nl os oc ss : Nat → Int32), ak_PX P S T (c 2) (c 3) F fs nx qh qt ql pe nn np nh nt nl os oc ss → wpX_schedule post (nI P, nI S, nI T, fs, c 0, c 1, c 2, c 3, c 4, c 5, c 6, c 7, px', c 8, nx, qh, qt, ql, pe, nn, np, nh, nt, nl, c 9, c 10, c 11, c 17, c 12, c 13, c 14, os, oc, ss) (nI p) (nI t) (nI 0) x) ∧ ak_OPY P S T c F c' F' p s t 0 x := by
  obtain ⟨n1, n2, n3, n4, n5, n6, n7, n8, n9, n10, n11, n12, n13, n14, n15⟩ := N
  have hZ := ai_Z I
  have it : vp_in (nI t) 16 := ak_in (by omega) (by omega)
  have et : (nI t).toNatClampNeg = t := ak_cl (by omega)
  have is : vp_in (nI s) 4 := ak_in (by omega) (by omega)
  have es : (nI s).toNatClampNeg = s := ak_cl (by omega)
  have i0 : vp_in (nI s * 2 + 0) 8 := by
    show vp_in (nI s * 2 + nI 0) 8
    rw [ak_m2]; exact ak_in (by omega) (by omega)
  have e0 : (nI s * 2 + 0).toNatClampNeg = s * 2 + 0 := by
    show (nI s * 2 + nI 0).toNatClampNeg = s * 2 + 0
    rw [ak_m2]; exact ak_cl (by omega)
  have i1 : vp_in (nI s * 2 + nI 1) 8 := by rw [ak_m2]; exact ak_in (by omega) (by omega)
  have e1 : (nI s * 2 + nI 1).toNatClampNeg = s * 2 + 1 := by rw [ak_m2]; exact ak_cl (by omega)
  -- the list lock is left
  have hL : ∃ L : Nat → Int32, (((c 14) s = nI t ∧ L = upd (c 14) s (-1)) ∨ (¬ (c 14) s = nI t ∧ L = (c 14))) ∧ ak_LH S T L (c 6) (c 5) ∧ ∀ r, r < S → ¬ L r = nI t := by
    have other : ∀ r, r < S → r ≠ s → ¬ (c 14) r = nI t := by
      intro r hr hne hrt
      rcases ai_LH I r hr with g | ⟨y, g1, g2, g3, g4⟩
      · rw [g] at hrt; exact ak_1n (by omega) hrt
      · have ey := (ak_ni (by omega) (by omega)).mp (g2.symm.trans hrt)
        subst ey
        have := (ak_ni (by omega) (by omega)).mp (g3.symm.trans n11)
        exact hne this
    by_cases z : (c 14) s = nI t
    · refine ⟨upd (c 14) s (-1), Or.inl ⟨z, rfl⟩, ak_LH_st (ai_LH I) (Or.inl rfl), fun r hr => ?_⟩
      by_cases y : r = s
      · rw [y, pk_us]; exact ak_1n (by omega)
      · rw [pk_un y]; exact other r hr y
    · refine ⟨(c 14), Or.inr ⟨z, rfl⟩, ai_LH I, fun r hr => ?_⟩
      by_cases y : r = s
      · rw [y]; exact z
      · exact other r hr y
  obtain ⟨L, hL1, hL2, hL3⟩ := hL
  have I1 : ak_I P S T (ak_sa c 14 (L)) F := ai_lh I hL2
  obtain ⟨c2, F2, I2, a1, a2, a3, a4, a5, a6, hX2, hY2⟩ := as_pas (l := 0) I1 n2 (by omega) t
  obtain ⟨c3, F3, I3, b1, b2, b3, b4, b5, b6, hX3, hY3⟩ := as_pas (l := 1) I2 n2 (by omega) t
  have d1 : (c3 4) = (c 4) := b1.trans a1
  have d2 : (c3 3) = (c 3) := b2.trans a2
  have d3 : (c3 2) = (c 2) := b3.trans a3
  have d4 : (c3 14) = L := b4.trans a4
  have d6 : (c3 15) = (c 15) := b6.trans a6
  have o3 : (c3 3) p = nI s := by rw [d2]; exact n7
  have k3 : (c3 2) p = nI k := by rw [d3]; exact n8
  have t3 : (c3 4) p = nI t := by rw [d1]; exact n9
  obtain ⟨g, hkg, g1, g3⟩ := ak_g2 n5
  obtain ⟨_, _, _, _, _, _, _, _, _, _, _, _, _, _, _, _, hV⟩ := ai_run I3 n1 t3 (by omega)
  have I4 := ai_end (j := g) I3 n1 n2 o3 t3 n6 hV g1 g3 (by rw [d4]; exact hL3)
  have I5 := ai_px (px' := px') I4 (fun y hy hp => by
    have ne : y ≠ t := fun w => hp (by subst w; exact pk_us)
    exact (hpx' y ne).trans (congrFun d6 y).symm)
  refine ⟨_, F3, I5, ?_, ?_⟩
  · intro post K
    -- the loop
    have loop : ∀ (fs : Int32) (nx qh qt ql pe nn np nh nt nl os oc ss : Nat → Int32), ak_PX P S T (c 2) (c 3) F fs nx qh qt ql pe nn np nh nt nl os oc ss → wX_finish_27 post (nI p) (nI t) (nI s) 3 0 (nI P) (nI S) (nI T) fs (c 0) (c 1) (c 2) (c 3) (c 4) (c 5) (c 6) (c 7) px' (c 8) nx qh qt ql pe nn np nh nt nl (c 9) (c 10) (c 11) (c 17) (c 12) (c 13) L os oc ss := by
      intro fs nx qh qt ql pe nn np nh nt nl os oc ss R
      refine br_f (by decide) (And.intro i0 ?_)
      rw [e0]
      refine hX2 px' _ ?_ fs nx qh qt ql pe nn np nh nt nl os oc ss R
      intro fs nx qh qt ql pe nn np nh nt nl os oc ss R
      refine nm_r (e' := nI 1) (by decide) ?_
      refine br_f (by decide) (And.intro i1 ?_)
      rw [e1]
      refine hX3 px' _ ?_ fs nx qh qt ql pe nn np nh nt nl os oc ss R
      intro fs nx qh qt ql pe nn np nh nt nl os oc ss R
      refine nm_r (e' := nI 2) (by decide) (br_t (by decide) (And.intro it (nm_r (e' := upd (c3 5) t 0) (by rw [et]; rfl) ?_)))
      refine ax_gup (s := s) (k := k) (j := g) (c := (ak_sa (ak_sa c3 15 (px')) 5 (upd (c3 5) t 0))) (ak_mkX (c := (ak_sa (ak_sa c3 15 (px')) 5 (upd (c3 5) t 0))) R) n1 o3 (by omega) k3 hkg ?_
      intro fs nx qh qt ql pe nn np nh nt nl os oc ss R
      exact K _ _ _ _ _ _ _ _ _ _ _ _ _ _ R
    intro fs nx qh qt ql pe nn np nh nt nl os oc ss R
    refine (br_f (by decide) (br_f (by decide) (br_t rfl (?_))))
    refine And.intro it (nm_r (e' := nI s) (by rw [et]; exact n11) (And.intro is ?_))
    rw [es]
    rcases hL1 with ⟨z, rfl⟩ | ⟨z, rfl⟩
    · exact br_t z (And.intro is (nm_e (Exists.intro 3 (loop fs nx qh qt ql pe nn np nh nt nl os oc ss R))))
    · exact br_f z (Exists.intro 3 (loop fs nx qh qt ql pe nn np nh nt nl os oc ss R))
  · intro mi oi hf post K
    have go : ∀ (fa fb fi : Nat → Int32), ak_PY P S T F fa fb fi → wY_instruct_155 post (nI p) (nI s) (nI t) (nI P) (nI S) (nI T) (nI F.length) (c 2) (c 3) (c 4) (c 5) (c 6) (c 7) (c 16) (c 8) (c 0) (c 1) (c 10) (c 11) (c 17) L (c 12) (c 9) (c 13) fa fb fi := by
      intro fa fb fi R
      refine hY2 _ _ (ak_mkY (c := (ak_sa c 14 (L))) R) ?_
      intro fa fb fi R
      refine hY3 _ _ (ak_mkY R) ?_
      intro fa fb fi R
      refine And.intro it (nm_r (e' := upd (c3 5) t 0) (by rw [et]) ?_)
      refine ay_gup (k := k) (j := g) (c := (ak_sa c3 5 (upd (c3 5) t 0))) (ak_mkY (c := (ak_sa c3 5 (upd (c3 5) t 0))) R) n1 k3 hkg ?_
      intro fa fb fi R
      exact K _ _ _ R
    intro fa fb fi R
    refine (br_t rfl (?_))
    rcases hL1 with ⟨z, rfl⟩ | ⟨z, rfl⟩
    · have hmi : mi = 1 := by
        rcases hf.1 with w | w
        · exact w.1
        · exact absurd z w.2
      subst hmi
      exact br_f (by decide) (And.intro is (nm_r (e' := upd (c 14) s (-1)) (by rw [es]) (go fa fb fi R)))
    · have hmi : mi = 0 := by
        rcases hf.1 with w | w
        · exact absurd w.2 z
        · exact w.1
      subst hmi
      exact br_t rfl (go fa fb fi R)
end
end
section
/-! act and run -/
section
variable {P S T : Nat} {c : Nat → Nat → Int32} {F : List (Nat × Nat)} {p t s j a k : Nat} {x : Int32}
theorem ao_all (I : ak_I P S T c F) (N : ak_RN P S T c F p t s j a k) : ∀ o, o < 13 → o ≠ 0 → ∃ c' F', ak_I P S T c' F' ∧ ((1 ≤ o ∧ o ≤ 5) → ak_OPC P S T c F c' F' t o x) ∧ (¬ (1 ≤ o ∧ o ≤ 5) → ak_OPS P S T c F c' F' p t o x) ∧ ak_OPY P S T c F c' F' p s t o x := by
  have cc : ∀ o, (1 ≤ o ∧ o ≤ 5) → (∃ c' F', ak_I P S T c' F' ∧ ak_OPC P S T c F c' F' t o x ∧ ak_OPY P S T c F c' F' p s t o x) → (o ≠ 0 → ∃ c' F', ak_I P S T c' F' ∧ ((1 ≤ o ∧ o ≤ 5) → ak_OPC P S T c F c' F' t o x) ∧ (¬ (1 ≤ o ∧ o ≤ 5) → ak_OPS P S T c F c' F' p t o x) ∧ ak_OPY P S T c F c' F' p s t o x) := by
    rintro o ho ⟨c', F', h1, h2, h3⟩ _
    exact ⟨c', F', h1, fun _ => h2, fun z => absurd ho z, h3⟩
  have cs : ∀ o, ¬ (1 ≤ o ∧ o ≤ 5) → (∃ c' F', ak_I P S T c' F' ∧ ak_OPS P S T c F c' F' p t o x ∧ ak_OPY P S T c F c' F' p s t o x) → (o ≠ 0 → ∃ c' F', ak_I P S T c' F' ∧ ((1 ≤ o ∧ o ≤ 5) → ak_OPC P S T c F c' F' t o x) ∧ (¬ (1 ≤ o ∧ o ≤ 5) → ak_OPS P S T c F c' F' p t o x) ∧ ak_OPY P S T c F c' F' p s t o x) := by
    rintro o ho ⟨c', F', h1, h2, h3⟩ _
    exact ⟨c', F', h1, fun z => absurd z ho, fun _ => h2, h3⟩
  exact ak_c13 (fun z => absurd rfl z) (cc 1 (by omega) (ao_1 I N)) (cc 2 (by omega) (ao_2 I N)) (cc 3 (by omega) (ao_3 I N)) (cc 4 (by omega) (ao_4 I N)) (cc 5 (by omega) (ao_5 I N)) (cs 6 (by omega) (ao_6 I N)) (cs 7 (by omega) (ao_7 I N)) (cs 8 (by omega) (ao_8 I N)) (cs 9 (by omega) (ao_9 I N)) (cs 10 (by omega) (ao_10 I N)) (cs 11 (by omega) (ao_11 I N)) (cs 12 (by omega) (ao_12 I N))
theorem as_exe (I : ak_I P S T c F) (N : ak_RN P S T c F p t s j a k) : ∃ c' F', ak_I P S T c' F' ∧ ak_SX P S T c F c' F' (fun post u => wpX_execute post u (nI p)) ∧ ak_SY P S T c F c' F' (fun post v => wpY_instruct post v (nI p) (nI s) (nI t)) := by
  have hZ := I.1
  obtain ⟨o, ho13, ho⟩ := I.2.1 a N.2.2.2.1
  by_cases hsp : ak_SPN ((c 14) s) t o
  · refine ⟨c, F, I, ?_, ?_⟩
    · intro post u R K
      exact ax_exe hZ N ho ho13 R (fun _ => K) (fun z => absurd hsp z) (fun z => absurd hsp z)
    · intro post v R K
      exact ay_ins hZ N ho ho13 R (fun _ => K) (fun z => absurd hsp z) (fun z => absurd hsp z)
  by_cases h0 : o = 0
  · subst h0
    obtain ⟨c', F', I', hX, hY⟩ := ao_0 (px' := upd (c 15) t (nI ((a + 1) % 64))) (x := (c 1) a) I N (fun y hy => pk_un hy)
    refine ⟨c', F', I', ?_, ?_⟩
    · intro post u R K
      exact ax_exe hZ N ho ho13 R (fun z => absurd z hsp) (fun _ z => by omega) (fun _ _ => hX post K)
    · intro post v R K
      exact ay_ins hZ N ho ho13 R (fun z => absurd z hsp) (fun _ _ mi oi hf => hY mi oi hf post K) (fun _ z => absurd rfl z)
  · have N1 : ak_RN P S T (ak_sa (ak_sa c 15 (upd (c 15) t (nI ((a + 1) % 64)))) 16 (upd (c 16) t (nI ((a + 1) % 64)))) F p t s j ((a + 1) % 64) k := by
      obtain ⟨n1, n2, n3, n4, n5, n6, n7, n8, n9, n10, n11, n12, n13, n14, n15⟩ := N
      exact ⟨n1, n2, n3, Nat.mod_lt _ (by omega), n5, n6, n7, n8, n9, n10, n11, n12, pk_us, pk_us, n15⟩
    have I1 := ai_pc (a := (a + 1) % 64) I N.2.2.2.2.2.1 (Nat.mod_lt _ (by omega))
    obtain ⟨c', F', I', h1, h2, h3⟩ := ao_all (x := (c 1) a) I1 N1 o ho13 h0
    refine ⟨c', F', I', ?_, ?_⟩
    · intro post u R K
      exact ax_exe hZ N ho ho13 R (fun z => absurd z hsp) (fun _ z => h1 z post K) (fun _ z => h2 z post K)
    · intro post v R K
      exact ay_ins hZ N ho ho13 R (fun z => absurd z hsp) (fun _ z => absurd z h0) (fun _ _ mi oi hf => h3 mi oi hf post K)
theorem as_act (I : ak_I P S T c F) (hp : p < P) : ∃ c1 F1, ak_I P S T c1 F1 ∧ ak_SX P S T c F c1 F1 (fun post u => wpX_act post u (nI p)) ∧
    (∀ (post : Int32 → SY → Prop) (J15 : Int32 → Int32 → Int32 → Int32 → Int32 → (Nat → Int32) → (Nat → Int32) → (Nat → Int32) → (Nat → Int32) → (Nat → Int32) → (Nat → Int32) → (Nat → Int32) → (Nat → Int32) → (Nat → Int32) → (Nat → Int32) → (Nat → Int32) → (Nat → Int32) → (Nat → Int32) → (Nat → Int32) → (Nat → Int32) → (Nat → Int32) → (Nat → Int32) → (Nat → Int32) → (Nat → Int32) → (Nat → Int32) → Prop) (x1 x2 : Int32) (n : Nat), (∀ (fa fb fi : Nat → Int32), ak_PY P S T F1 fa fb fi → wY_run_91 post J15 (wY_run_22 post J15 x1 x2 n) x1 x2 (nI p) (nI P) (nI S) (nI T) (nI F1.length) (c1 2) (c1 3) (c1 4) (c1 5) (c1 6) (c1 7) (c1 16) (c1 8) (c1 0) (c1 1) (c1 10) (c1 11) (c1 17) (c1 14) (c1 12) (c1 9) (c1 13) fa fb fi) → ∀ (fa fb fi : Nat → Int32), ak_PY P S T F fa fb fi → wY_run_22 post J15 x1 x2 (n + 1) (nI p) (nI P) (nI S) (nI T) (nI F.length) (c 2) (c 3) (c 4) (c 5) (c 6) (c 7) (c 16) (c 8) (c 0) (c 1) (c 10) (c 11) (c 17) (c 14) (c 12) (c 9) (c 13) fa fb fi) := by
  have hZ := ai_Z I
  have ip : vp_in (nI p) 6 := ak_in (by omega) (by omega)
  have ep : (nI p).toNatClampNeg = p := ak_cl (by omega)
  have hpP : ¬ nI P ≤ nI p := nI_ge hp (by omega)
  -- nothing to do
  have idle : ¬ (c 2) p = 3 → ¬ (c 2) p = 4 → ¬ (c 2) p = 5 → ∃ c1 F1, ak_I P S T c1 F1 ∧ ak_SX P S T c F c1 F1 (fun post u => wpX_act post u (nI p)) ∧
    (∀ (post : Int32 → SY → Prop) (J15 : Int32 → Int32 → Int32 → Int32 → Int32 → (Nat → Int32) → (Nat → Int32) → (Nat → Int32) → (Nat → Int32) → (Nat → Int32) → (Nat → Int32) → (Nat → Int32) → (Nat → Int32) → (Nat → Int32) → (Nat → Int32) → (Nat → Int32) → (Nat → Int32) → (Nat → Int32) → (Nat → Int32) → (Nat → Int32) → (Nat → Int32) → (Nat → Int32) → (Nat → Int32) → (Nat → Int32) → (Nat → Int32) → Prop) (x1 x2 : Int32) (n : Nat), (∀ (fa fb fi : Nat → Int32), ak_PY P S T F1 fa fb fi → wY_run_91 post J15 (wY_run_22 post J15 x1 x2 n) x1 x2 (nI p) (nI P) (nI S) (nI T) (nI F1.length) (c1 2) (c1 3) (c1 4) (c1 5) (c1 6) (c1 7) (c1 16) (c1 8) (c1 0) (c1 1) (c1 10) (c1 11) (c1 17) (c1 14) (c1 12) (c1 9) (c1 13) fa fb fi) → ∀ (fa fb fi : Nat → Int32), ak_PY P S T F fa fb fi → wY_run_22 post J15 x1 x2 (n + 1) (nI p) (nI P) (nI S) (nI T) (nI F.length) (c 2) (c 3) (c 4) (c 5) (c 6) (c 7) (c 16) (c 8) (c 0) (c 1) (c 10) (c 11) (c 17) (c 14) (c 12) (c 9) (c 13) fa fb fi) := by
    intro z3 z4 z5
    refine ⟨c, F, I, ?_, ?_⟩
    · intro post u R K
      refine ak_elX (M := fun u => wpX_act post u (nI p)) R ?_
      intro fs nx qh qt ql pe nn np nh nt nl os oc ss R
      exact And.intro ip (nm_r (e' := (c 2) p) (by rw [ep]) (br_f z4 (br_f z5 (br_f z3 (K _ _ _ _ _ _ _ _ _ _ _ _ _ _ R)))))
    · intro post J15 x1 x2 n K fa fb fi R
      refine br_f hpP (And.intro ip ?_)
      rw [ep]
      exact br_f z3 (And.intro ip (br_f z4 (And.intro ip (br_f z5 (K _ _ _ R)))))
  rcases I.2.2.2.1 p hp with g | ⟨s, hs, ho, g⟩
  · refine idle ?_ ?_ ?_
    · rw [g.2.1]; decide
    · rw [g.2.1]; decide
    · rw [g.2.1]; decide
  · rcases g with ⟨k, k1, k3, hk, hth⟩ | ⟨k, t, k45, hk, ht, hth, h1, h2⟩
    · by_cases kk : k = 3
      · subst kk
        obtain ⟨c1, F1, I1, hX, hY⟩ := as_del I hp hs ho hk
        refine ⟨c1, F1, I1, ?_, ?_⟩
        · intro post u R K
          refine ak_elX (M := fun u => wpX_act post u (nI p)) R ?_
          intro fs nx qh qt ql pe nn np nh nt nl os oc ss R
          exact And.intro ip (nm_r (e' := nI 3) (by rw [ep]; exact hk) (br_f (by decide) (br_f (by decide) (br_t rfl (hX post _ (ak_mkX R) K)))))
        · intro post J15 x1 x2 n K fa fb fi R
          refine br_f hpP (And.intro ip ?_)
          rw [ep, ho]
          exact br_t hk (And.intro ip (hY _ _ (ak_mkY R) K))
      · refine idle ?_ ?_ ?_
        · rw [hk]; exact fun w => kk ((ak_ni (b := 3) (by omega) (by omega)).mp w)
        · rw [hk]; exact fun w => by have := (ak_ni (b := 4) (by omega) (by omega)).mp w; omega
        · rw [hk]; exact fun w => by have := (ak_ni (b := 5) (by omega) (by omega)).mp w; omega
    · obtain ⟨s', j, a, k', q1, q2, q3, q4, q5, q6, q7, q8, q9, r1, r2, r3, hV⟩ := ai_run I hp hth (by omega)
      have N : ak_RN P S T c F p t s j a k := ⟨hp, hs, q2, q3, k45, ht, ho, hk, hth, h1, h2, r1, r2, r3, hV⟩
      obtain ⟨c1, F1, I1, hX, hY⟩ := as_exe I N
      refine ⟨c1, F1, I1, ?_, ?_⟩
      · intro post u R K
        refine ak_elX (M := fun u => wpX_act post u (nI p)) R ?_
        intro fs nx qh qt ql pe nn np nh nt nl os oc ss R
        have go : wpX_execute post (nI P, nI S, nI T, fs, c 0, c 1, c 2, c 3, c 4, c 5, c 6, c 7, c 15, c 8, nx, qh, qt, ql, pe, nn, np, nh, nt, nl, c 9, c 10, c 11, c 17, c 12, c 13, c 14, os, oc, ss) (nI p) := hX post _ (ak_mkX R) K
        rcases k45 with rfl | rfl
        · exact And.intro ip (nm_r (e' := nI 4) (by rw [ep]; exact hk) (br_t rfl go))
        · exact And.intro ip (nm_r (e' := nI 5) (by rw [ep]; exact hk) (br_f (by decide) (br_t rfl go)))
      · intro post J15 x1 x2 n K fa fb fi R
        refine br_f hpP (And.intro ip ?_)
        have go := hY _ _ (ak_mkY R) K
        rcases k45 with rfl | rfl
        · refine br_f (by rw [ep, hk]; decide) (And.intro ip (br_t (by rw [ep]; exact hk) (And.intro ip (And.intro ip ?_))))
          rw [ep, ho, hth]
          exact go
        · refine br_f (by rw [ep, hk]; decide) (And.intro ip (br_f (by rw [ep, hk]; decide) (And.intro ip (br_t (by rw [ep]; exact hk) (And.intro ip (And.intro ip ?_))))))
          rw [ep, ho, hth]
          exact go
theorem as_rl {i : Nat} : ∀ (d : Nat) (c : Nat → Nat → Int32) (F : List (Nat × Nat)) (p : Nat), p + d = P → ak_I P S T c F → ∃ c' F', ak_I P S T c' F' ∧
    (∀ (post : Int32 → SX → Prop) (J : Int32 → Int32 → Int32 → Int32 → Int32 → (Nat → Int32) → (Nat → Int32) → (Nat → Int32) → (Nat → Int32) → (Nat → Int32) → (Nat → Int32) → (Nat → Int32) → (Nat → Int32) → (Nat → Int32) → (Nat → Int32) → (Nat → Int32) → (Nat → Int32) → (Nat → Int32) → (Nat → Int32) → (Nat → Int32) → (Nat → Int32) → (Nat → Int32) → (Nat → Int32) → (Nat → Int32) → (Nat → Int32) → (Nat → Int32) → (Nat → Int32) → (Nat → Int32) → (Nat → Int32) → (Nat → Int32) → (Nat → Int32) → (Nat → Int32) → (Nat → Int32) → (Nat → Int32) → (Nat → Int32) → Prop) (x1 : Int32) (n : Nat), d < n → (∀ (fs : Int32) (nx qh qt ql pe nn np nh nt nl os oc ss : Nat → Int32), ak_PX P S T (c' 2) (c' 3) F' fs nx qh qt ql pe nn np nh nt nl os oc ss → J (nI (i + 1)) (nI P) (nI S) (nI T) fs (c' 0) (c' 1) (c' 2) (c' 3) (c' 4) (c' 5) (c' 6) (c' 7) (c' 15) (c' 8) nx qh qt ql pe nn np nh nt nl (c' 9) (c' 10) (c' 11) (c' 17) (c' 12) (c' 13) (c' 14) os oc ss) → ∀ (fs : Int32) (nx qh qt ql pe nn np nh nt nl os oc ss : Nat → Int32), ak_PX P S T (c 2) (c 3) F fs nx qh qt ql pe nn np nh nt nl os oc ss → wX_run_22 post J x1 (nI i) n (nI p) (nI P) (nI S) (nI T) fs (c 0) (c 1) (c 2) (c 3) (c 4) (c 5) (c 6) (c 7) (c 15) (c 8) nx qh qt ql pe nn np nh nt nl (c 9) (c 10) (c 11) (c 17) (c 12) (c 13) (c 14) os oc ss) ∧
    (∀ (post : Int32 → SY → Prop) (J : Int32 → Int32 → Int32 → Int32 → Int32 → (Nat → Int32) → (Nat → Int32) → (Nat → Int32) → (Nat → Int32) → (Nat → Int32) → (Nat → Int32) → (Nat → Int32) → (Nat → Int32) → (Nat → Int32) → (Nat → Int32) → (Nat → Int32) → (Nat → Int32) → (Nat → Int32) → (Nat → Int32) → (Nat → Int32) → (Nat → Int32) → (Nat → Int32) → (Nat → Int32) → (Nat → Int32) → (Nat → Int32) → Prop) (x1 : Int32) (n : Nat), d < n → (∀ (fa fb fi : Nat → Int32), ak_PY P S T F' fa fb fi → J (nI (i + 1)) (nI P) (nI S) (nI T) (nI F'.length) (c' 2) (c' 3) (c' 4) (c' 5) (c' 6) (c' 7) (c' 16) (c' 8) (c' 0) (c' 1) (c' 10) (c' 11) (c' 17) (c' 14) (c' 12) (c' 9) (c' 13) fa fb fi) → ∀ (fa fb fi : Nat → Int32), ak_PY P S T F fa fb fi → wY_run_22 post J x1 (nI i) n (nI p) (nI P) (nI S) (nI T) (nI F.length) (c 2) (c 3) (c 4) (c 5) (c 6) (c 7) (c 16) (c 8) (c 0) (c 1) (c 10) (c 11) (c 17) (c 14) (c 12) (c 9) (c 13) fa fb fi) := by
  intro d
  induction d with
  | zero =>
    intro c F p hp I
    have hZ := ai_Z I
    have hpP : p = P := by omega
    subst hpP
    refine ⟨c, F, I, ?_, ?_⟩
    · intro post J x1 n hn K fs nx qh qt ql pe nn np nh nt nl os oc ss R
      obtain ⟨n, rfl⟩ : ∃ m, n = m + 1 := ⟨n - 1, by omega⟩
      exact br_t (nI_le (Nat.le_refl _) (by omega)) (nm_r (nI_1 i) (K _ _ _ _ _ _ _ _ _ _ _ _ _ _ R))
    · intro post J x1 n hn K fa fb fi R
      obtain ⟨n, rfl⟩ : ∃ m, n = m + 1 := ⟨n - 1, by omega⟩
      exact br_t (nI_le (Nat.le_refl _) (by omega)) (nm_r (nI_1 i) (K _ _ _ R))
  | succ d ih =>
    intro c F p hp I
    have hZ := ai_Z I
    have hpP : p < P := by omega
    obtain ⟨c1, F1, I1, hX1, hY1⟩ := as_act I hpP
    obtain ⟨c2, F2, I2, hX2, hY2⟩ := as_set I1
    obtain ⟨c3, F3, I3, hX3, hY3⟩ := ih c2 F2 (p + 1) (by omega) I2
    refine ⟨c3, F3, I3, ?_, ?_⟩
    · intro post J x1 n hn K fs nx qh qt ql pe nn np nh nt nl os oc ss R
      obtain ⟨n, rfl⟩ : ∃ m, n = m + 1 := ⟨n - 1, by omega⟩
      refine br_f (nI_ge hpP (by omega)) ?_
      refine hX1 _ _ (ak_mkX R) ?_
      intro fs nx qh qt ql pe nn np nh nt nl os oc ss R
      refine hX2 _ _ (ak_mkX R) ?_
      intro fs nx qh qt ql pe nn np nh nt nl os oc ss R
      exact nm_r (nI_1 p) (hX3 post J x1 n (by omega) K fs nx qh qt ql pe nn np nh nt nl os oc ss R)
    · intro post J x1 n hn K fa fb fi R
      obtain ⟨n, rfl⟩ : ∃ m, n = m + 1 := ⟨n - 1, by omega⟩
      refine hY1 post J x1 (nI i) n ?_ fa fb fi R
      intro fa fb fi R
      refine hY2 _ _ (ak_mkY R) ?_
      intro fa fb fi R
      exact nm_r (nI_1 p) (hY3 post J x1 n (by omega) K fa fb fi R)
theorem as_tl {k : Nat} (hk : k ≤ 32) : ∀ (d : Nat) (c : Nat → Nat → Int32) (F : List (Nat × Nat)) (i : Nat), i + d = k → ak_I P S T c F → ∃ c' F', ak_I P S T c' F' ∧
    (∀ (post : Int32 → SX → Prop) (n : Nat), d < n → ak_KX P S T c' F' (post 1) → ∀ (fs : Int32) (nx qh qt ql pe nn np nh nt nl os oc ss : Nat → Int32), ak_PX P S T (c 2) (c 3) F fs nx qh qt ql pe nn np nh nt nl os oc ss → wX_run_15 post (nI k) n (nI i) (nI P) (nI S) (nI T) fs (c 0) (c 1) (c 2) (c 3) (c 4) (c 5) (c 6) (c 7) (c 15) (c 8) nx qh qt ql pe nn np nh nt nl (c 9) (c 10) (c 11) (c 17) (c 12) (c 13) (c 14) os oc ss) ∧
    (∀ (post : Int32 → SY → Prop) (n : Nat), d < n → ak_KY P S T c' F' (post 1) → ∀ (fa fb fi : Nat → Int32), ak_PY P S T F fa fb fi → wY_run_15 post (nI k) n (nI i) (nI P) (nI S) (nI T) (nI F.length) (c 2) (c 3) (c 4) (c 5) (c 6) (c 7) (c 16) (c 8) (c 0) (c 1) (c 10) (c 11) (c 17) (c 14) (c 12) (c 9) (c 13) fa fb fi) := by
  intro d
  induction d with
  | zero =>
    intro c F i hi I
    have e : i = k := by omega
    subst e
    refine ⟨c, F, I, ?_, ?_⟩
    · intro post n hn K fs nx qh qt ql pe nn np nh nt nl os oc ss R
      obtain ⟨n, rfl⟩ : ∃ m, n = m + 1 := ⟨n - 1, by omega⟩
      exact br_t (nI_le (Nat.le_refl _) (by omega)) (K _ _ _ _ _ _ _ _ _ _ _ _ _ _ R)
    · intro post n hn K fa fb fi R
      obtain ⟨n, rfl⟩ : ∃ m, n = m + 1 := ⟨n - 1, by omega⟩
      exact br_t (nI_le (Nat.le_refl _) (by omega)) (K _ _ _ R)
  | succ d ih =>
    intro c F i hi I
    have hZ := ai_Z I
    obtain ⟨c1, F1, I1, hX1, hY1⟩ := as_rl (i := i) P c F 0 (Nat.zero_add P) I
    obtain ⟨c2, F2, I2, hX2, hY2⟩ := ih c1 F1 (i + 1) (by omega) I1
    refine ⟨c2, F2, I2, ?_, ?_⟩
    · intro post n hn K fs nx qh qt ql pe nn np nh nt nl os oc ss R
      obtain ⟨n, rfl⟩ : ∃ m, n = m + 1 := ⟨n - 1, by omega⟩
      refine br_f (nI_ge (by omega) (by omega)) (Exists.intro (P + 1) ?_)
      refine hX1 post _ (nI k) (P + 1) (by omega) ?_ fs nx qh qt ql pe nn np nh nt nl os oc ss R
      intro fs nx qh qt ql pe nn np nh nt nl os oc ss R
      exact hX2 post n (by omega) K fs nx qh qt ql pe nn np nh nt nl os oc ss R
    · intro post n hn K fa fb fi R
      obtain ⟨n, rfl⟩ : ∃ m, n = m + 1 := ⟨n - 1, by omega⟩
      refine br_f (nI_ge (by omega) (by omega)) (Exists.intro (P + 1) ?_)
      refine hY1 post _ (nI k) (P + 1) (by omega) ?_ fa fb fi R
      intro fa fb fi R
      exact hY2 post n (by omega) K fa fb fi R
end
end
section
/-! the constructors -/
def ak_CL (x : Int32) (M n : Nat) : Prop := 1 ≤ n ∧ n ≤ M ∧ ((1 ≤ x ∧ x ≤ nI M ∧ x = nI n) ∨ (1 ≤ x ∧ ¬ x ≤ nI M ∧ n = M) ∨ (¬ 1 ≤ x ∧ n = 1))
theorem ak_CL_ex (x : Int32) {M : Nat} (h1 : 1 ≤ M) (hM : M < 100) : ∃ n, ak_CL x M n := by
  by_cases z : 1 ≤ x
  · by_cases y : x ≤ nI M
    · have h0 : ¬ x < 0 := fun w => by
        have e1 := Int32.le_iff_toInt_le.mp z
        have e2 := Int32.lt_iff_toInt_lt.mp w
        rw [show (1 : Int32).toInt = 1 from by decide] at e1
        rw [show (0 : Int32).toInt = 0 from by decide] at e2
        omega
      obtain ⟨n, hn, rfl⟩ := nI_of h0
      have g1 : 1 ≤ n := (nI_leI (a := 1) (by omega) hn).mp z
      have g2 : n ≤ M := (nI_leI hn (by omega)).mp y
      exact ⟨n, g1, g2, Or.inl ⟨z, y, rfl⟩⟩
    · exact ⟨M, h1, Nat.le_refl _, Or.inr (Or.inl ⟨z, y, rfl⟩)⟩
  · exact ⟨1, Nat.le_refl _, h1, Or.inr (Or.inr ⟨z, rfl⟩)⟩
theorem ax_clm {post : Int32 → Prop} {x : Int32} {M n : Nat} (h : ak_CL x M n) (K : post (nI n)) {fs gs hs is : Int32} {a1 a2 a3 a4 a5 a6 a7 a8 a9 a10 a11 a12 a13 a14 a15 a16 a17 a18 a19 a20 a21 a22 a23 a24 a25 a26 a27 a28 a29 a30 : Nat → Int32} : wpX_clamp post (fs, gs, hs, is, a1, a2, a3, a4, a5, a6, a7, a8, a9, a10, a11, a12, a13, a14, a15, a16, a17, a18, a19, a20, a21, a22, a23, a24, a25, a26, a27, a28, a29, a30) x 1 (nI M) := by
  rcases h.2.2 with ⟨z, y, rfl⟩ | ⟨z, y, rfl⟩ | ⟨z, rfl⟩
  · exact br_t z (br_t y K)
  · exact br_t z (br_f y K)
  · exact br_f z K
def ak_z0 : Nat → Int32 := fun _ => 0
def ak_c00 : Nat → Nat → Int32 := fun _ _ => 0
def ak_mi (i : Nat) : Nat → Int32 := fun j => if j < i then -1 else 0
theorem ak_mi_0 : ak_mi 0 = ak_z0 := by
  funext j; unfold ak_mi; rw [if_neg (Nat.not_lt_zero j)]; rfl
theorem ak_mi_up (i : Nat) : upd (ak_mi i) i (-1) = ak_mi (i + 1) := by
  funext j
  by_cases z : j = i
  · subst z; rw [pk_us]; unfold ak_mi; rw [if_pos (by omega)]
  · rw [pk_un z]
    unfold ak_mi
    by_cases y : j < i
    · rw [if_pos y, if_pos (by omega)]
    · rw [if_neg y, if_neg (by omega)]
theorem ak_mi_lt {i j : Nat} (h : j < i) : ak_mi i j = -1 := if_pos h
def ak_c0 : Nat → Nat → Int32 := (ak_sa (ak_sa (ak_sa (ak_sa ak_c00 3 (ak_mi 6)) 4 (ak_mi 6)) 13 (ak_mi 8)) 14 (ak_mi 4))
theorem ak_I0 {P S T : Nat} (hZ : ak_Z P S T) : ak_I P S T ak_c0 [] := by
  have hZ' := hZ
  unfold ak_Z at hZ'
  refine ⟨hZ, fun a _ => ⟨0, by omega, rfl⟩, fun s _ => ⟨⟨0, by omega, rfl⟩, 0, by omega, rfl⟩, fun p hp => ?_, fun p q hp _ hn => ?_, fun t _ => Or.inl ⟨rfl, rfl⟩, fun p _ => Or.inl rfl, fun e he => absurd he List.not_mem_nil, fun s hs => ?_⟩
  · exact Or.inl ⟨ak_mi_lt (by omega), rfl, ak_mi_lt (by omega)⟩
  · exact absurd (ak_mi_lt (by omega)) hn
  · exact Or.inl (ak_mi_lt (by omega))
theorem ak_fs0 : ∀ P, P < 6 → ((1 : Int32) <<< (nI (P + 1) &&& 31)) - 1 = ak_bt (fun p => decide (p < P + 1)) := ak_c6 (by decide +kernel) (by decide +kernel) (by decide +kernel) (by decide +kernel) (by decide +kernel) (by decide +kernel)
theorem ak_PX0 {P S T : Nat} (hZ : ak_Z P S T) : ak_PX P S T (ak_c0 2) (ak_c0 3) [] (((1 : Int32) <<< (nI P &&& 31)) - 1) ak_z0 (ak_mi 20) (ak_mi 20) ak_z0 ak_z0 ak_z0 ak_z0 (ak_mi 4) (ak_mi 4) ak_z0 ak_z0 ak_z0 ak_z0 := by
  have hZ' := hZ
  unfold ak_Z at hZ'
  have hown : ∀ p, p < 6 → (ak_c0 3) p = -1 := fun p hp => ak_mi_lt hp
  refine ⟨hZ, ak_W_nil, fun q hq => ⟨rfl, ak_mi_lt hq, ak_mi_lt hq, trivial⟩, ⟨fun s hs => ⟨rfl, ak_mi_lt hs, ak_mi_lt hs, trivial, trivial⟩, fun n hn => Or.inr ⟨rfl, fun s _ => List.not_mem_nil⟩⟩, ?_, fun s hs => ⟨?_, ?_, fun k hk => ?_⟩⟩
  · obtain ⟨q, rfl⟩ : ∃ q, P = q + 1 := ⟨P - 1, by omega⟩
    rw [ak_fs0 q (by omega)]
    refine ak_bt_ext fun p hp => ?_
    refine decide_eq_decide.mpr ⟨fun h => ⟨h, hown p hp⟩, fun h => h.1⟩
  · refine ((ak_bt_0 _).mpr fun p hp => ?_).symm
    refine decide_eq_false (fun h => ?_)
    have h2 := h.2
    rw [hown p hp] at h2
    exact ak_1n (by omega) h2
  · rw [ak_cn_0 (fun p hp h => by rw [hown p (by omega)] at h; exact ak_1n (by omega) h)]
    rfl
  · refine ((ak_bt_0 _).mpr fun p hp => ?_).symm
    refine decide_eq_false (fun h => ?_)
    have h2 := h.2.1
    rw [hown p hp] at h2
    exact ak_1n (by omega) h2
section
variable {P S T : Nat} {fs : Int32}
theorem ak_uh2 (i : Nat) : upd (upd (ak_mi (i * 2)) (i * 2) (-1)) (i * 2 + 1) (-1) = ak_mi ((i + 1) * 2) := by
  rw [ak_mi_up, ak_mi_up, show i * 2 + 1 + 1 = (i + 1) * 2 from by omega]
theorem ax_i349 {post : SX → Prop} (K : post (nI P, nI S, nI T, fs, ak_c00 0, ak_c00 1, ak_c00 2, ak_mi 6, ak_mi 6, ak_c00 5, ak_c00 6, ak_c00 7, ak_c00 15, ak_c00 8, ak_z0, ak_mi 20, ak_mi 20, ak_z0, ak_z0, ak_z0, ak_z0, ak_mi 4, ak_mi 4, ak_z0, ak_c00 9, ak_c00 10, ak_c00 11, ak_c00 17, ak_c00 12, ak_mi 8, ak_mi 4, ak_z0, ak_z0, ak_z0)) : ∀ k n i, i + k = 4 → k < n → wX_init_349 post (nI P) (nI S) (nI T) fs n (nI i) (ak_c00 0) (ak_c00 1) (ak_c00 2) (ak_mi 6) (ak_mi 6) (ak_c00 5) (ak_c00 6) (ak_c00 7) (ak_c00 15) (ak_c00 8) ak_z0 (ak_mi 20) (ak_mi 20) ak_z0 ak_z0 ak_z0 ak_z0 (ak_mi i) (ak_mi i) ak_z0 (ak_c00 9) (ak_c00 10) (ak_c00 11) (ak_c00 17) (ak_c00 12) (ak_mi (i * 2)) (ak_mi i) ak_z0 ak_z0 ak_z0 := by
  intro k
  induction k with
  | zero =>
    intro n i hi hn
    obtain ⟨n, rfl⟩ : ∃ m, n = m + 1 := ⟨n - 1, by omega⟩
    have e : i = 4 := by omega
    subst e
    exact br_t (by decide) K
  | succ k ih =>
    intro n i hi hn
    obtain ⟨n, rfl⟩ : ∃ m, n = m + 1 := ⟨n - 1, by omega⟩
    have ii : vp_in (nI i) 4 := ak_in (by omega) (by omega)
    have ei : (nI i).toNatClampNeg = i := ak_cl (by omega)
    have i2 : vp_in (nI i * 2) 8 := by rw [ak_m20]; exact ak_in (by omega) (by omega)
    have e2 : (nI i * 2).toNatClampNeg = i * 2 := by rw [ak_m20]; exact ak_cl (by omega)
    have i3 : vp_in (nI i * 2 + 1) 8 := by
      show vp_in (nI i * 2 + nI 1) 8
      rw [ak_m2]; exact ak_in (by omega) (by omega)
    have e3 : (nI i * 2 + 1).toNatClampNeg = i * 2 + 1 := by
      show (nI i * 2 + nI 1).toNatClampNeg = i * 2 + 1
      rw [ak_m2]; exact ak_cl (by omega)
    refine br_f (nI_ge (b := 4) (by omega) (by omega)) (And.intro ii (nm_r (e' := ak_mi (i + 1)) (by rw [ei, ak_mi_up]) (And.intro ii (nm_r (e' := ak_mi (i + 1)) (by rw [ei, ak_mi_up]) (And.intro ii (nm_r (e' := ak_mi (i + 1)) (by rw [ei, ak_mi_up]) (And.intro i2 (nm_r (e' := upd (ak_mi (i * 2)) (i * 2) (-1)) (by rw [e2]) (And.intro i3 (nm_r (e' := ak_mi ((i + 1) * 2)) (by rw [e3, ak_uh2]) (nm_r (nI_1 i) ?_)))))))))))
    exact ih n (i + 1) (by omega) (by omega)
theorem ax_i317 {post : SX → Prop} (K : ∃ n, wX_init_349 post (nI P) (nI S) (nI T) fs n 0 (ak_c00 0) (ak_c00 1) (ak_c00 2) (ak_mi 6) (ak_mi 6) (ak_c00 5) (ak_c00 6) (ak_c00 7) (ak_c00 15) (ak_c00 8) ak_z0 (ak_mi 20) (ak_mi 20) ak_z0 ak_z0 ak_z0 ak_z0 ak_z0 ak_z0 ak_z0 (ak_c00 9) (ak_c00 10) (ak_c00 11) (ak_c00 17) (ak_c00 12) (ak_c00 13) (ak_c00 14) ak_z0 ak_z0 ak_z0) : ∀ k n i, i + k = 20 → k < n → wX_init_317 post (nI P) (nI S) (nI T) fs n (nI i) (ak_c00 0) (ak_c00 1) (ak_c00 2) (ak_mi 6) (ak_mi 6) (ak_c00 5) (ak_c00 6) (ak_c00 7) (ak_c00 15) (ak_c00 8) ak_z0 (ak_mi i) (ak_mi i) ak_z0 ak_z0 ak_z0 ak_z0 ak_z0 ak_z0 ak_z0 (ak_c00 9) (ak_c00 10) (ak_c00 11) (ak_c00 17) (ak_c00 12) (ak_c00 13) (ak_c00 14) ak_z0 ak_z0 ak_z0 := by
  intro k
  induction k with
  | zero =>
    intro n i hi hn
    obtain ⟨n, rfl⟩ : ∃ m, n = m + 1 := ⟨n - 1, by omega⟩
    have e : i = 20 := by omega
    subst e
    exact br_t (by decide) K
  | succ k ih =>
    intro n i hi hn
    obtain ⟨n, rfl⟩ : ∃ m, n = m + 1 := ⟨n - 1, by omega⟩
    have ii : vp_in (nI i) 20 := ak_in (by omega) (by omega)
    have ei : (nI i).toNatClampNeg = i := ak_cl (by omega)
    exact br_f (nI_ge (b := 20) (by omega) (by omega)) (And.intro ii (nm_r (e' := ak_mi (i + 1)) (by rw [ei, ak_mi_up]) (And.intro ii (nm_r (e' := ak_mi (i + 1)) (by rw [ei, ak_mi_up]) (nm_r (nI_1 i) (ih n (i + 1) (by omega) (by omega)))))))
theorem ax_i285 {post : SX → Prop} (K : ∃ n, wX_init_317 post (nI P) (nI S) (nI T) fs n 0 (ak_c00 0) (ak_c00 1) (ak_c00 2) (ak_mi 6) (ak_mi 6) (ak_c00 5) (ak_c00 6) (ak_c00 7) (ak_c00 15) (ak_c00 8) ak_z0 ak_z0 ak_z0 ak_z0 ak_z0 ak_z0 ak_z0 ak_z0 ak_z0 ak_z0 (ak_c00 9) (ak_c00 10) (ak_c00 11) (ak_c00 17) (ak_c00 12) (ak_c00 13) (ak_c00 14) ak_z0 ak_z0 ak_z0) : ∀ k n i, i + k = 6 → k < n → wX_init_285 post (nI P) (nI S) (nI T) fs n (nI i) (ak_c00 0) (ak_c00 1) (ak_c00 2) (ak_mi i) (ak_mi i) (ak_c00 5) (ak_c00 6) (ak_c00 7) (ak_c00 15) (ak_c00 8) ak_z0 ak_z0 ak_z0 ak_z0 ak_z0 ak_z0 ak_z0 ak_z0 ak_z0 ak_z0 (ak_c00 9) (ak_c00 10) (ak_c00 11) (ak_c00 17) (ak_c00 12) (ak_c00 13) (ak_c00 14) ak_z0 ak_z0 ak_z0 := by
  intro k
  induction k with
  | zero =>
    intro n i hi hn
    obtain ⟨n, rfl⟩ : ∃ m, n = m + 1 := ⟨n - 1, by omega⟩
    have e : i = 6 := by omega
    subst e
    exact br_t (by decide) K
  | succ k ih =>
    intro n i hi hn
    obtain ⟨n, rfl⟩ : ∃ m, n = m + 1 := ⟨n - 1, by omega⟩
    have ii : vp_in (nI i) 6 := ak_in (by omega) (by omega)
    have ei : (nI i).toNatClampNeg = i := ak_cl (by omega)
    exact br_f (nI_ge (b := 6) (by omega) (by omega)) (And.intro ii (nm_r (e' := ak_mi (i + 1)) (by rw [ei, ak_mi_up]) (And.intro ii (nm_r (e' := ak_mi (i + 1)) (by rw [ei, ak_mi_up]) (nm_r (nI_1 i) (ih n (i + 1) (by omega) (by omega)))))))
theorem ax_init {post : SX → Prop} {k0 k1 k2 : Int32} (hZ : ak_Z P S T) (hP : ak_CL k0 6 P) (hS : ak_CL k1 4 S) (hT : ak_CL k2 16 T) (K : ak_KX P S T ak_c0 [] post) : wpX_init post k0 k1 k2 := by
  unfold wpX_init
  refine ax_clm (M := 6) hP ?_
  refine ax_clm (M := 4) hS ?_
  refine ax_clm (M := 16) hT ?_
  refine nm_e ?_
  have h3 : ∃ n, wX_init_349 post (nI P) (nI S) (nI T) (((1 : Int32) <<< (nI P &&& 31)) - 1) n 0 (ak_c00 0) (ak_c00 1) (ak_c00 2) (ak_mi 6) (ak_mi 6) (ak_c00 5) (ak_c00 6) (ak_c00 7) (ak_c00 15) (ak_c00 8) ak_z0 (ak_mi 20) (ak_mi 20) ak_z0 ak_z0 ak_z0 ak_z0 ak_z0 ak_z0 ak_z0 (ak_c00 9) (ak_c00 10) (ak_c00 11) (ak_c00 17) (ak_c00 12) (ak_c00 13) (ak_c00 14) ak_z0 ak_z0 ak_z0 := by
    have := ax_i349 (P := P) (S := S) (T := T) (fs := ((1 : Int32) <<< (nI P &&& 31)) - 1) (post := post) (K _ _ _ _ _ _ _ _ _ _ _ _ _ _ (ak_PX0 hZ)) 4 5 0 rfl (by omega)
    rw [Nat.zero_mul, ak_mi_0] at this
    exact Exists.intro 5 this
  have h2 : ∃ n, wX_init_317 post (nI P) (nI S) (nI T) (((1 : Int32) <<< (nI P &&& 31)) - 1) n 0 (ak_c00 0) (ak_c00 1) (ak_c00 2) (ak_mi 6) (ak_mi 6) (ak_c00 5) (ak_c00 6) (ak_c00 7) (ak_c00 15) (ak_c00 8) ak_z0 ak_z0 ak_z0 ak_z0 ak_z0 ak_z0 ak_z0 ak_z0 ak_z0 ak_z0 (ak_c00 9) (ak_c00 10) (ak_c00 11) (ak_c00 17) (ak_c00 12) (ak_c00 13) (ak_c00 14) ak_z0 ak_z0 ak_z0 := by
    have := ax_i317 h3 20 21 0 rfl (by omega)
    rw [ak_mi_0] at this
    exact Exists.intro 21 this
  have h1 := ax_i285 h2 6 7 0 rfl (by omega)
  rw [ak_mi_0] at h1
  exact Exists.intro 7 h1
theorem ay_i268 {post : SY → Prop} (K : post (nI P, nI S, nI T, nI ([] : List (Nat × Nat)).length, ak_c00 2, ak_mi 6, ak_mi 6, ak_c00 5, ak_c00 6, ak_c00 7, ak_c00 16, ak_c00 8, ak_c00 0, ak_c00 1, ak_c00 10, ak_c00 11, ak_c00 17, ak_mi 4, ak_c00 12, ak_c00 9, ak_mi 8, ak_z0, ak_z0, ak_z0)) : ∀ k n i, i + k = 4 → k < n → wY_init_268 post (nI P) (nI S) (nI T) 0 n (nI i) (ak_c00 2) (ak_mi 6) (ak_mi 6) (ak_c00 5) (ak_c00 6) (ak_c00 7) (ak_c00 16) (ak_c00 8) (ak_c00 0) (ak_c00 1) (ak_c00 10) (ak_c00 11) (ak_c00 17) (ak_mi i) (ak_c00 12) (ak_c00 9) (ak_mi (i * 2)) ak_z0 ak_z0 ak_z0 := by
  intro k
  induction k with
  | zero =>
    intro n i hi hn
    obtain ⟨n, rfl⟩ : ∃ m, n = m + 1 := ⟨n - 1, by omega⟩
    have e : i = 4 := by omega
    subst e
    exact br_t (by decide) K
  | succ k ih =>
    intro n i hi hn
    obtain ⟨n, rfl⟩ : ∃ m, n = m + 1 := ⟨n - 1, by omega⟩
    have ii : vp_in (nI i) 4 := ak_in (by omega) (by omega)
    have ei : (nI i).toNatClampNeg = i := ak_cl (by omega)
    have i2 : vp_in (nI i * 2) 8 := by rw [ak_m20]; exact ak_in (by omega) (by omega)
    have e2 : (nI i * 2).toNatClampNeg = i * 2 := by rw [ak_m20]; exact ak_cl (by omega)
    have i3 : vp_in (nI i * 2 + 1) 8 := by
      show vp_in (nI i * 2 + nI 1) 8
      rw [ak_m2]; exact ak_in (by omega) (by omega)
    have e3 : (nI i * 2 + 1).toNatClampNeg = i * 2 + 1 := by
      show (nI i * 2 + nI 1).toNatClampNeg = i * 2 + 1
      rw [ak_m2]; exact ak_cl (by omega)
    refine br_f (nI_ge (b := 4) (by omega) (by omega)) (And.intro ii (nm_r (e' := ak_mi (i + 1)) (by rw [ei, ak_mi_up]) (And.intro i2 (nm_r (e' := upd (ak_mi (i * 2)) (i * 2) (-1)) (by rw [e2]) (And.intro i3 (nm_r (e' := ak_mi ((i + 1) * 2)) (by rw [e3, ak_uh2]) (nm_r (nI_1 i) ?_)))))))
    exact ih n (i + 1) (by omega) (by omega)
theorem ay_i236 {post : SY → Prop} (K : ∃ n, wY_init_268 post (nI P) (nI S) (nI T) 0 n 0 (ak_c00 2) (ak_mi 6) (ak_mi 6) (ak_c00 5) (ak_c00 6) (ak_c00 7) (ak_c00 16) (ak_c00 8) (ak_c00 0) (ak_c00 1) (ak_c00 10) (ak_c00 11) (ak_c00 17) (ak_c00 14) (ak_c00 12) (ak_c00 9) (ak_c00 13) ak_z0 ak_z0 ak_z0) : ∀ k n i, i + k = 6 → k < n → wY_init_236 post (nI P) (nI S) (nI T) 0 n (nI i) (ak_c00 2) (ak_mi i) (ak_mi i) (ak_c00 5) (ak_c00 6) (ak_c00 7) (ak_c00 16) (ak_c00 8) (ak_c00 0) (ak_c00 1) (ak_c00 10) (ak_c00 11) (ak_c00 17) (ak_c00 14) (ak_c00 12) (ak_c00 9) (ak_c00 13) ak_z0 ak_z0 ak_z0 := by
  intro k
  induction k with
  | zero =>
    intro n i hi hn
    obtain ⟨n, rfl⟩ : ∃ m, n = m + 1 := ⟨n - 1, by omega⟩
    have e : i = 6 := by omega
    subst e
    exact br_t (by decide) K
  | succ k ih =>
    intro n i hi hn
    obtain ⟨n, rfl⟩ : ∃ m, n = m + 1 := ⟨n - 1, by omega⟩
    have ii : vp_in (nI i) 6 := ak_in (by omega) (by omega)
    have ei : (nI i).toNatClampNeg = i := ak_cl (by omega)
    exact br_f (nI_ge (b := 6) (by omega) (by omega)) (And.intro ii (nm_r (e' := ak_mi (i + 1)) (by rw [ei, ak_mi_up]) (And.intro ii (nm_r (e' := ak_mi (i + 1)) (by rw [ei, ak_mi_up]) (nm_r (nI_1 i) (ih n (i + 1) (by omega) (by omega)))))))
theorem ay_init {post : SY → Prop} {k0 k1 k2 : Int32} (hZ : ak_Z P S T) (hP : ak_CL k0 6 P) (hS : ak_CL k1 4 S) (hT : ak_CL k2 16 T) (K : ak_KY P S T ak_c0 [] post) : wpY_init post k0 k1 k2 := by
  have h3 : ∃ n, wY_init_268 post (nI P) (nI S) (nI T) 0 n 0 (ak_c00 2) (ak_mi 6) (ak_mi 6) (ak_c00 5) (ak_c00 6) (ak_c00 7) (ak_c00 16) (ak_c00 8) (ak_c00 0) (ak_c00 1) (ak_c00 10) (ak_c00 11) (ak_c00 17) (ak_c00 14) (ak_c00 12) (ak_c00 9) (ak_c00 13) ak_z0 ak_z0 ak_z0 := by
    have := ay_i268 (P := P) (S := S) (T := T) (post := post) (K _ _ _ ⟨hZ, ak_W_nil, fun i e h => by simp at h⟩) 4 5 0 rfl (by omega)
    rw [Nat.zero_mul, ak_mi_0] at this
    exact Exists.intro 5 this
  have h2 : ∃ n, wY_init_236 post (nI P) (nI S) (nI T) 0 n 0 (ak_c00 2) (ak_c00 3) (ak_c00 4) (ak_c00 5) (ak_c00 6) (ak_c00 7) (ak_c00 16) (ak_c00 8) (ak_c00 0) (ak_c00 1) (ak_c00 10) (ak_c00 11) (ak_c00 17) (ak_c00 14) (ak_c00 12) (ak_c00 9) (ak_c00 13) ak_z0 ak_z0 ak_z0 := by
    have := ay_i236 h3 6 7 0 rfl (by omega)
    rw [ak_mi_0] at this
    exact Exists.intro 7 this
  have hT' : wY_init_205 post k2 (nI S) (nI P) 0 0 0 (ak_c00 2) (ak_c00 3) (ak_c00 4) (ak_c00 5) (ak_c00 6) (ak_c00 7) (ak_c00 16) (ak_c00 8) (ak_c00 0) (ak_c00 1) (ak_c00 10) (ak_c00 11) (ak_c00 17) (ak_c00 14) (ak_c00 12) (ak_c00 9) (ak_c00 13) ak_z0 ak_z0 ak_z0 := by
    rcases hT.2.2 with ⟨z, y, rfl⟩ | ⟨z, y, rfl⟩ | ⟨z, rfl⟩
    · exact br_t z (br_t y h2)
    · exact br_t z (br_f y h2)
    · exact br_f z h2
  have hS' : wY_init_182 post k1 k2 (nI P) 0 0 0 0 (ak_c00 2) (ak_c00 3) (ak_c00 4) (ak_c00 5) (ak_c00 6) (ak_c00 7) (ak_c00 16) (ak_c00 8) (ak_c00 0) (ak_c00 1) (ak_c00 10) (ak_c00 11) (ak_c00 17) (ak_c00 14) (ak_c00 12) (ak_c00 9) (ak_c00 13) ak_z0 ak_z0 ak_z0 := by
    rcases hS.2.2 with ⟨z, y, rfl⟩ | ⟨z, y, rfl⟩ | ⟨z, rfl⟩
    · exact br_t z (br_t y hT')
    · exact br_t z (br_f y hT')
    · exact br_f z hT'
  rcases hP.2.2 with ⟨z, y, rfl⟩ | ⟨z, y, rfl⟩ | ⟨z, rfl⟩
  · exact br_t z (br_t y hS')
  · exact br_t z (br_f y hS')
  · exact br_f z hS'
end
end
section
/-! the methods that only read -/
section
variable {P S T : Nat} {c : Nat → Nat → Int32} {F : List (Nat × Nat)} {u : SX} {v : SY}
theorem au_processor (I : ak_I P S T c F) (RX : ak_RX P S T c F u) (RY : ak_RY P S T c F v) (v1 v2 : Int32) : ∃ r, (∀ post : Int32 → Prop, post r → wpX_processor post u v1 v2) ∧ (∀ post : Int32 → Prop, post r → wpY_processor post v v1 v2) := by
  have hZ := ai_Z I
  -- each side on explicit states
  have H : ∀ r, (∀ post : Int32 → Prop, post r → ∀ (fs : Int32) (nx qh qt ql pe nn np nh nt nl os oc ss : Nat → Int32), ak_PX P S T (c 2) (c 3) F fs nx qh qt ql pe nn np nh nt nl os oc ss → wpX_processor post (nI P, nI S, nI T, fs, c 0, c 1, c 2, c 3, c 4, c 5, c 6, c 7, c 15, c 8, nx, qh, qt, ql, pe, nn, np, nh, nt, nl, c 9, c 10, c 11, c 17, c 12, c 13, c 14, os, oc, ss) v1 v2) → (∀ post : Int32 → Prop, post r → ∀ (fa fb fi : Nat → Int32), ak_PY P S T F fa fb fi → wpY_processor post (nI P, nI S, nI T, nI F.length, c 2, c 3, c 4, c 5, c 6, c 7, c 16, c 8, c 0, c 1, c 10, c 11, c 17, c 14, c 12, c 9, c 13, fa, fb, fi) v1 v2) → ∃ r, (∀ post : Int32 → Prop, post r → wpX_processor post u v1 v2) ∧ (∀ post : Int32 → Prop, post r → wpY_processor post v v1 v2) :=
    fun r h1 h2 => ⟨r, fun post K => ak_elX (M := fun u => wpX_processor post u v1 v2) RX (h1 post K), fun post K => ak_elY (M := fun v => wpY_processor post v v1 v2) RY (h2 post K)⟩
  rcases pk_ix v1 (n := P) (by omega) with z | z | ⟨p, hp, rfl⟩
  · exact H (-1) (fun post K fs nx qh qt ql pe nn np nh nt nl os oc ss R => br_t z K) (fun post K fa fb fi R => br_t z K)
  · have n0 : ¬ v1 < 0 := fun w => by
      have e1 := Int32.le_iff_toInt_le.mp z
      have e2 := Int32.lt_iff_toInt_lt.mp w
      rw [nI_toInt (by omega)] at e1
      rw [show (0 : Int32).toInt = 0 from by decide] at e2
      omega
    exact H (-1) (fun post K fs nx qh qt ql pe nn np nh nt nl os oc ss R => br_f n0 (br_f (Int32.not_lt.mpr z) K)) (fun post K fa fb fi R => br_f n0 (br_t z K))
  · have n0 : ¬ nI p < 0 := nI_pos (by omega)
    have n1 : nI p < nI P := nI_lt hp (by omega)
    have n2 : ¬ nI P ≤ nI p := nI_ge hp (by omega)
    have ip : vp_in (nI p) 6 := ak_in (by omega) (by omega)
    by_cases w0 : v2 < 0
    · exact H (-1) (fun post K fs nx qh qt ql pe nn np nh nt nl os oc ss R => br_f n0 (br_t n1 (br_t w0 K))) (fun post K fa fb fi R => br_f n0 (br_f n2 (br_t w0 K)))
    by_cases w1 : v2 ≤ 2
    · have w1' : ¬ 2 < v2 := Int32.not_lt.mpr w1
      obtain ⟨i, hi, rfl⟩ := nI_of2 (M := 2) (n := 2) (by decide) w0 w1
      have hi : i = 0 ∨ i = 1 ∨ i = 2 := by omega
      rcases hi with rfl | rfl | rfl
      · exact H ((c 2) (nI p).toNatClampNeg) (fun post K fs nx qh qt ql pe nn np nh nt nl os oc ss R => br_f n0 (br_t n1 (br_f w0 (br_f w1' (br_t rfl (And.intro ip K)))))) (fun post K fa fb fi R => br_f n0 (br_f n2 (br_f w0 (br_t w1 (br_t rfl (And.intro ip K))))))
      · exact H ((c 3) (nI p).toNatClampNeg) (fun post K fs nx qh qt ql pe nn np nh nt nl os oc ss R => br_f n0 (br_t n1 (br_f w0 (br_f w1' (br_f (by decide) (br_t rfl (And.intro ip K))))))) (fun post K fa fb fi R => br_f n0 (br_f n2 (br_f w0 (br_t w1 (br_f (by decide) (br_t rfl (And.intro ip K)))))))
      · exact H ((c 4) (nI p).toNatClampNeg) (fun post K fs nx qh qt ql pe nn np nh nt nl os oc ss R => br_f n0 (br_t n1 (br_f w0 (br_f w1' (br_f (by decide) (br_f (by decide) (br_t rfl (And.intro ip K)))))))) (fun post K fa fb fi R => br_f n0 (br_f n2 (br_f w0 (br_t w1 (br_f (by decide) (br_f (by decide) (And.intro ip K)))))))
    · have w1' : 2 < v2 := Int32.not_le.mp w1
      exact H (-1) (fun post K fs nx qh qt ql pe nn np nh nt nl os oc ss R => br_f n0 (br_t n1 (br_f w0 (br_t w1' K)))) (fun post K fa fb fi R => br_f n0 (br_f n2 (br_f w0 (br_f w1 K))))
theorem au_thread (I : ak_I P S T c F) (RX : ak_RX P S T c F u) (RY : ak_RY P S T c F v) (v1 v2 : Int32) : ∃ r, (∀ post : Int32 → Prop, post r → wpX_thread post u v1 v2) ∧ (∀ post : Int32 → Prop, post r → wpY_thread post v v1 v2) := by
  have hZ := ai_Z I
  have H : ∀ r, (∀ post : Int32 → Prop, post r → ∀ (fs : Int32) (nx qh qt ql pe nn np nh nt nl os oc ss : Nat → Int32), ak_PX P S T (c 2) (c 3) F fs nx qh qt ql pe nn np nh nt nl os oc ss → wpX_thread post (nI P, nI S, nI T, fs, c 0, c 1, c 2, c 3, c 4, c 5, c 6, c 7, c 15, c 8, nx, qh, qt, ql, pe, nn, np, nh, nt, nl, c 9, c 10, c 11, c 17, c 12, c 13, c 14, os, oc, ss) v1 v2) → (∀ post : Int32 → Prop, post r → ∀ (fa fb fi : Nat → Int32), ak_PY P S T F fa fb fi → wpY_thread post (nI P, nI S, nI T, nI F.length, c 2, c 3, c 4, c 5, c 6, c 7, c 16, c 8, c 0, c 1, c 10, c 11, c 17, c 14, c 12, c 9, c 13, fa, fb, fi) v1 v2) → ∃ r, (∀ post : Int32 → Prop, post r → wpX_thread post u v1 v2) ∧ (∀ post : Int32 → Prop, post r → wpY_thread post v v1 v2) :=
    fun r h1 h2 => ⟨r, fun post K => ak_elX (M := fun u => wpX_thread post u v1 v2) RX (h1 post K), fun post K => ak_elY (M := fun v => wpY_thread post v v1 v2) RY (h2 post K)⟩
  rcases pk_ix v1 (n := T) (by omega) with z | z | ⟨t, ht, rfl⟩
  · exact H (-1) (fun post K fs nx qh qt ql pe nn np nh nt nl os oc ss R => br_t z K) (fun post K fa fb fi R => br_t z K)
  · have n0 : ¬ v1 < 0 := fun w => by
      have e1 := Int32.le_iff_toInt_le.mp z
      have e2 := Int32.lt_iff_toInt_lt.mp w
      rw [nI_toInt (by omega)] at e1
      rw [show (0 : Int32).toInt = 0 from by decide] at e2
      omega
    exact H (-1) (fun post K fs nx qh qt ql pe nn np nh nt nl os oc ss R => br_f n0 (br_f (Int32.not_lt.mpr z) K)) (fun post K fa fb fi R => br_f n0 (br_t z K))
  · have n0 : ¬ nI t < 0 := nI_pos (by omega)
    have n1 : nI t < nI T := nI_lt ht (by omega)
    have n2 : ¬ nI T ≤ nI t := nI_ge ht (by omega)
    have it : vp_in (nI t) 16 := ak_in (by omega) (by omega)
    have et : (nI t).toNatClampNeg = t := ak_cl (by omega)
    -- X answers -1 for a wrong 'what'
    have bad : ¬ v2 = 0 → (v2 < 1 ∨ 4 < v2) → ∀ post : Int32 → Prop, post (-1) → ∀ (fs : Int32) (nx qh qt ql pe nn np nh nt nl os oc ss : Nat → Int32), ak_PX P S T (c 2) (c 3) F fs nx qh qt ql pe nn np nh nt nl os oc ss → wpX_thread post (nI P, nI S, nI T, fs, c 0, c 1, c 2, c 3, c 4, c 5, c 6, c 7, c 15, c 8, nx, qh, qt, ql, pe, nn, np, nh, nt, nl, c 9, c 10, c 11, c 17, c 12, c 13, c 14, os, oc, ss) (nI t) v2 := by
      intro h0 h14 post K fs nx qh qt ql pe nn np nh nt nl os oc ss R
      refine br_f n0 (br_t n1 (br_f h0 (And.intro it (br_c (fun _ => K) (fun _ => ?_)))))
      by_cases y : v2 < 1
      · exact br_t y K
      · exact br_f y (br_t (h14.resolve_left y) K)
    by_cases w0 : v2 < 0
    · have w00 : ¬ v2 = 0 := fun e => by rw [e] at w0; exact absurd w0 (by decide)
      have w01 : v2 < 1 := by
        have e2 := Int32.lt_iff_toInt_lt.mp w0
        rw [show (0 : Int32).toInt = 0 from by decide] at e2
        rw [Int32.lt_iff_toInt_lt, show (1 : Int32).toInt = 1 from by decide]
        omega
      exact H (-1) (bad w00 (Or.inl w01)) (fun post K fa fb fi R => br_f n0 (br_f n2 (br_t w0 K)))
    by_cases w1 : v2 ≤ 4
    · have w1' : ¬ 4 < v2 := Int32.not_lt.mpr w1
      obtain ⟨i, hi, rfl⟩ := nI_of2 (M := 4) (n := 4) (by decide) w0 w1
      by_cases i0 : i = 0
      · subst i0
        exact H ((c 5) (nI t).toNatClampNeg) (fun post K fs nx qh qt ql pe nn np nh nt nl os oc ss R => br_f n0 (br_t n1 (br_t rfl (And.intro it K)))) (fun post K fa fb fi R => br_f n0 (br_f n2 (br_f w0 (br_t w1 (br_t rfl (And.intro it K))))))
      · have nz : ¬ nI i = 0 := nI_ne0 (by omega) (by omega)
        by_cases hp : (c 5) (nI t).toNatClampNeg = 0
        · exact H (-1) (fun post K fs nx qh qt ql pe nn np nh nt nl os oc ss R => br_f n0 (br_t n1 (br_f nz (And.intro it (br_t hp K))))) (fun post K fa fb fi R => br_f n0 (br_f n2 (br_f w0 (br_t w1 (br_f nz (And.intro it (br_t hp K)))))))
        · have g1 : ¬ nI i < 1 := nI_nlt (b := 1) (by omega) (by omega)
          have hi : i = 1 ∨ i = 2 ∨ i = 3 ∨ i = 4 := by omega
          have hp' : ¬ (c 5) t = 0 := by rw [et] at hp; exact hp
          obtain ⟨s', j, a, q1, q2, q3, q4, q5, q6, q7, q8⟩ := ak_thr I ht hp'
          have epc : (c 15) (nI t).toNatClampNeg = (c 16) (nI t).toNatClampNeg := by rw [et, q6, q7]
          rcases hi with rfl | rfl | rfl | rfl
          · exact H ((c 6) (nI t).toNatClampNeg) (fun post K fs nx qh qt ql pe nn np nh nt nl os oc ss R => br_f n0 (br_t n1 (br_f nz (And.intro it (br_f hp (br_f g1 (br_f w1' (br_t rfl (And.intro it K))))))))) (fun post K fa fb fi R => br_f n0 (br_f n2 (br_f w0 (br_t w1 (br_f nz (And.intro it (br_f hp (br_t rfl (And.intro it K)))))))))
          · exact H ((c 7) (nI t).toNatClampNeg) (fun post K fs nx qh qt ql pe nn np nh nt nl os oc ss R => br_f n0 (br_t n1 (br_f nz (And.intro it (br_f hp (br_f g1 (br_f w1' (br_f (by decide) (br_t rfl (And.intro it K)))))))))) (fun post K fa fb fi R => br_f n0 (br_f n2 (br_f w0 (br_t w1 (br_f nz (And.intro it (br_f hp (br_f (by decide) (br_t rfl (And.intro it K))))))))))
          · refine H ((c 15) (nI t).toNatClampNeg) (fun post K fs nx qh qt ql pe nn np nh nt nl os oc ss R => br_f n0 (br_t n1 (br_f nz (And.intro it (br_f hp (br_f g1 (br_f w1' (br_f (by decide) (br_f (by decide) (br_t rfl (And.intro it K))))))))))) (fun post K fa fb fi R => br_f n0 (br_f n2 (br_f w0 (br_t w1 (br_f nz (And.intro it (br_f hp (br_f (by decide) (br_f (by decide) (br_t rfl (And.intro it ?_)))))))))))
            rw [← epc]; exact K
          · exact H ((c 8) (nI t).toNatClampNeg) (fun post K fs nx qh qt ql pe nn np nh nt nl os oc ss R => br_f n0 (br_t n1 (br_f nz (And.intro it (br_f hp (br_f g1 (br_f w1' (br_f (by decide) (br_f (by decide) (br_f (by decide) (br_t rfl (And.intro it K)))))))))))) (fun post K fa fb fi R => br_f n0 (br_f n2 (br_f w0 (br_t w1 (br_f nz (And.intro it (br_f hp (br_f (by decide) (br_f (by decide) (br_f (by decide) (And.intro it K)))))))))))
    · have w1' : 4 < v2 := Int32.not_le.mp w1
      have w00 : ¬ v2 = 0 := fun e => by rw [e] at w1'; exact absurd w1' (by decide)
      exact H (-1) (bad w00 (Or.inr w1')) (fun post K fa fb fi R => br_f n0 (br_f n2 (br_f w0 (br_f w1 K))))
theorem au_space (I : ak_I P S T c F) (RX : ak_RX P S T c F u) (RY : ak_RY P S T c F v) (v1 v2 : Int32) : ∃ r, (∀ post : Int32 → Prop, post r → wpX_space post u v1 v2) ∧ (∀ post : Int32 → Prop, post r → wpY_space post v v1 v2) := by
  have hZ := ai_Z I
  have H : ∀ r, (∀ post : Int32 → Prop, post r → ∀ (fs : Int32) (nx qh qt ql pe nn np nh nt nl os oc ss : Nat → Int32), ak_PX P S T (c 2) (c 3) F fs nx qh qt ql pe nn np nh nt nl os oc ss → wpX_space post (nI P, nI S, nI T, fs, c 0, c 1, c 2, c 3, c 4, c 5, c 6, c 7, c 15, c 8, nx, qh, qt, ql, pe, nn, np, nh, nt, nl, c 9, c 10, c 11, c 17, c 12, c 13, c 14, os, oc, ss) v1 v2) → (∀ post : Int32 → Prop, post r → ∀ (fa fb fi : Nat → Int32), ak_PY P S T F fa fb fi → wpY_space post (nI P, nI S, nI T, nI F.length, c 2, c 3, c 4, c 5, c 6, c 7, c 16, c 8, c 0, c 1, c 10, c 11, c 17, c 14, c 12, c 9, c 13, fa, fb, fi) v1 v2) → ∃ r, (∀ post : Int32 → Prop, post r → wpX_space post u v1 v2) ∧ (∀ post : Int32 → Prop, post r → wpY_space post v v1 v2) :=
    fun r h1 h2 => ⟨r, fun post K => ak_elX (M := fun u => wpX_space post u v1 v2) RX (h1 post K), fun post K => ak_elY (M := fun v => wpY_space post v v1 v2) RY (h2 post K)⟩
  rcases pk_ix v1 (n := S) (by omega) with z | z | ⟨s, hs, rfl⟩
  · exact H (-1) (fun post K fs nx qh qt ql pe nn np nh nt nl os oc ss R => br_t z K) (fun post K fa fb fi R => br_t z K)
  · have n0 : ¬ v1 < 0 := fun w => by
      have e1 := Int32.le_iff_toInt_le.mp z
      have e2 := Int32.lt_iff_toInt_lt.mp w
      rw [nI_toInt (by omega)] at e1
      rw [show (0 : Int32).toInt = 0 from by decide] at e2
      omega
    exact H (-1) (fun post K fs nx qh qt ql pe nn np nh nt nl os oc ss R => br_f n0 (br_f (Int32.not_lt.mpr z) K)) (fun post K fa fb fi R => br_f n0 (br_t z K))
  · have n0 : ¬ nI s < 0 := nI_pos (by omega)
    have n1 : nI s < nI S := nI_lt hs (by omega)
    have n2 : ¬ nI S ≤ nI s := nI_ge hs (by omega)
    have is : vp_in (nI s) 4 := ak_in (by omega) (by omega)
    have es : (nI s).toNatClampNeg = s := ak_cl (by omega)
    by_cases w0 : v2 < 0
    · exact H (-1) (fun post K fs nx qh qt ql pe nn np nh nt nl os oc ss R => br_f n0 (br_t n1 (br_t w0 K))) (fun post K fa fb fi R => br_f n0 (br_f n2 (br_t w0 K)))
    by_cases w1 : v2 ≤ 5
    · have w1' : ¬ 5 < v2 := Int32.not_lt.mpr w1
      obtain ⟨i, hi, rfl⟩ := nI_of2 (M := 5) (n := 5) (by decide) w0 w1
      have i20 : vp_in (nI s * 2) 8 := by rw [ak_m20]; exact ak_in (by omega) (by omega)
      have e20 : (nI s * 2).toNatClampNeg = s * 2 := by rw [ak_m20]; exact ak_cl (by omega)
      have i21 : vp_in (nI s * 2 + 1) 8 := by
        show vp_in (nI s * 2 + nI 1) 8
        rw [ak_m2]; exact ak_in (by omega) (by omega)
      have e21 : (nI s * 2 + 1).toNatClampNeg = s * 2 + 1 := by
        show (nI s * 2 + nI 1).toNatClampNeg = s * 2 + 1
        rw [ak_m2]; exact ak_cl (by omega)
      have y3 : nI s * 2 + nI 3 - 3 = nI (s * 2) := by
        rw [ak_m2]
        exact pk_sub (a := s * 2 + 3) (b := 3) (by omega)
      have y4 : nI s * 2 + nI 4 - 3 = nI (s * 2 + 1) := by
        rw [ak_m2]
        exact pk_sub (a := s * 2 + 4) (b := 3) (by omega)
      have hi : i = 0 ∨ i = 1 ∨ i = 2 ∨ i = 3 ∨ i = 4 ∨ i = 5 := by omega
      rcases hi with rfl | rfl | rfl | rfl | rfl | rfl
      · exact H ((c 10) (nI s).toNatClampNeg) (fun post K fs nx qh qt ql pe nn np nh nt nl os oc ss R => br_f n0 (br_t n1 (br_f w0 (br_f w1' (br_t rfl (And.intro is K)))))) (fun post K fa fb fi R => br_f n0 (br_f n2 (br_f w0 (br_t w1 (br_f (by decide) (br_f (by decide) (br_f (by decide) (br_t rfl (And.intro is K)))))))))
      · exact H ((c 11) (nI s).toNatClampNeg) (fun post K fs nx qh qt ql pe nn np nh nt nl os oc ss R => br_f n0 (br_t n1 (br_f w0 (br_f w1' (br_f (by decide) (br_t rfl (And.intro is K))))))) (fun post K fa fb fi R => br_f n0 (br_f n2 (br_f w0 (br_t w1 (br_f (by decide) (br_f (by decide) (br_f (by decide) (br_f (by decide) (br_t rfl (And.intro is K))))))))))
      · refine H (nI (ak_cn (c 3) (nI s) P)) (fun post K fs nx qh qt ql pe nn np nh nt nl os oc ss R => br_f n0 (br_t n1 (br_f w0 (br_f w1' (br_f (by decide) (br_f (by decide) (br_t rfl (And.intro is ?_)))))))) (fun post K fa fb fi R => br_f n0 (br_f n2 (br_f w0 (br_t w1 (br_t rfl (ay_own (ak_mkY R) K))))))
        rw [es, (R.2.2.2.2.2 s (by omega)).2.1]
        exact K
      · refine H ((c 13) (s * 2)) (fun post K fs nx qh qt ql pe nn np nh nt nl os oc ss R => br_f n0 (br_t n1 (br_f w0 (br_f w1' (br_f (by decide) (br_f (by decide) (br_f (by decide) (br_t rfl (And.intro i20 ?_))))))))) (fun post K fa fb fi R => br_f n0 (br_f n2 (br_f w0 (br_t w1 (br_f (by decide) (br_t rfl ?_))))))
        · rw [e20]; exact K
        · unfold wY_space_44
          rw [y3, ak_cl (by omega)]
          exact And.intro (ak_in (by omega) (by omega)) K
      · refine H ((c 13) (s * 2 + 1)) (fun post K fs nx qh qt ql pe nn np nh nt nl os oc ss R => br_f n0 (br_t n1 (br_f w0 (br_f w1' (br_f (by decide) (br_f (by decide) (br_f (by decide) (br_f (by decide) (br_t rfl (And.intro i21 ?_)))))))))) (fun post K fa fb fi R => br_f n0 (br_f n2 (br_f w0 (br_t w1 (br_f (by decide) (br_f (by decide) (br_t rfl ?_)))))))
        · rw [e21]; exact K
        · unfold wY_space_44
          rw [y4, ak_cl (by omega)]
          exact And.intro (ak_in (by omega) (by omega)) K
      · exact H ((c 14) (nI s).toNatClampNeg) (fun post K fs nx qh qt ql pe nn np nh nt nl os oc ss R => br_f n0 (br_t n1 (br_f w0 (br_f w1' (br_f (by decide) (br_f (by decide) (br_f (by decide) (br_f (by decide) (br_f (by decide) (br_t rfl (And.intro is K))))))))))) (fun post K fa fb fi R => br_f n0 (br_f n2 (br_f w0 (br_t w1 (br_f (by decide) (br_f (by decide) (br_f (by decide) (br_f (by decide) (br_f (by decide) (And.intro is K))))))))))
    · have w1' : 5 < v2 := Int32.not_le.mp w1
      exact H (-1) (fun post K fs nx qh qt ql pe nn np nh nt nl os oc ss R => br_f n0 (br_t n1 (br_f w0 (br_t w1' K)))) (fun post K fa fb fi R => br_f n0 (br_f n2 (br_f w0 (br_f w1 K))))
theorem au_memory (I : ak_I P S T c F) (RX : ak_RX P S T c F u) (RY : ak_RY P S T c F v) (v1 v2 : Int32) : ∃ r, (∀ post : Int32 → Prop, post r → wpX_memory post u v1 v2) ∧ (∀ post : Int32 → Prop, post r → wpY_memory post v v1 v2) := by
  have hZ := ai_Z I
  have H : ∀ r, (∀ post : Int32 → Prop, post r → ∀ (fs : Int32) (nx qh qt ql pe nn np nh nt nl os oc ss : Nat → Int32), ak_PX P S T (c 2) (c 3) F fs nx qh qt ql pe nn np nh nt nl os oc ss → wpX_memory post (nI P, nI S, nI T, fs, c 0, c 1, c 2, c 3, c 4, c 5, c 6, c 7, c 15, c 8, nx, qh, qt, ql, pe, nn, np, nh, nt, nl, c 9, c 10, c 11, c 17, c 12, c 13, c 14, os, oc, ss) v1 v2) → (∀ post : Int32 → Prop, post r → ∀ (fa fb fi : Nat → Int32), ak_PY P S T F fa fb fi → wpY_memory post (nI P, nI S, nI T, nI F.length, c 2, c 3, c 4, c 5, c 6, c 7, c 16, c 8, c 0, c 1, c 10, c 11, c 17, c 14, c 12, c 9, c 13, fa, fb, fi) v1 v2) → ∃ r, (∀ post : Int32 → Prop, post r → wpX_memory post u v1 v2) ∧ (∀ post : Int32 → Prop, post r → wpY_memory post v v1 v2) :=
    fun r h1 h2 => ⟨r, fun post K => ak_elX (M := fun u => wpX_memory post u v1 v2) RX (h1 post K), fun post K => ak_elY (M := fun v => wpY_memory post v v1 v2) RY (h2 post K)⟩
  by_cases z0 : v1 < 0
  · exact H (-1) (fun post K fs nx qh qt ql pe nn np nh nt nl os oc ss R => br_t z0 K) (fun post K fa fb fi R => br_t z0 K)
  by_cases z1 : nI S ≤ v1
  · exact H (-1) (fun post K fs nx qh qt ql pe nn np nh nt nl os oc ss R => br_f z0 (br_t z1 K)) (fun post K fa fb fi R => br_f z0 (br_t z1 K))
  by_cases w0 : v2 < 0
  · exact H (-1) (fun post K fs nx qh qt ql pe nn np nh nt nl os oc ss R => br_f z0 (br_f z1 (br_t w0 K))) (fun post K fa fb fi R => br_f z0 (br_f z1 (br_t w0 K)))
  by_cases w1 : v2 ≤ 3
  · obtain ⟨i, hi, rfl⟩ := nI_of2 (M := 3) (n := 3) (by decide) w0 w1
    rcases pk_ix v1 (n := S) (by omega) with z | z | ⟨s, hs, rfl⟩
    · exact absurd z z0
    · exact absurd z z1
    · have i4 : vp_in (nI s * 4 + nI i) 16 := by rw [ak_m4]; exact ak_in (by omega) (by omega)
      exact H ((c 12) (nI s * 4 + nI i).toNatClampNeg) (fun post K fs nx qh qt ql pe nn np nh nt nl os oc ss R => br_f z0 (br_f z1 (br_f w0 (br_t w1 (And.intro i4 K))))) (fun post K fa fb fi R => br_f z0 (br_f z1 (br_f w0 (br_t w1 (And.intro i4 K)))))
  · exact H (-1) (fun post K fs nx qh qt ql pe nn np nh nt nl os oc ss R => br_f z0 (br_f z1 (br_f w0 (br_f w1 K)))) (fun post K fa fb fi R => br_f z0 (br_f z1 (br_f w0 (br_f w1 K))))
theorem au_delivered (I : ak_I P S T c F) (RX : ak_RX P S T c F u) (RY : ak_RY P S T c F v) (v1 v2 : Int32) : ∃ r, (∀ post : Int32 → Prop, post r → wpX_delivered post u v1 v2) ∧ (∀ post : Int32 → Prop, post r → wpY_delivered post v v1 v2) := by
  have hZ := ai_Z I
  have H : ∀ r, (∀ post : Int32 → Prop, post r → ∀ (fs : Int32) (nx qh qt ql pe nn np nh nt nl os oc ss : Nat → Int32), ak_PX P S T (c 2) (c 3) F fs nx qh qt ql pe nn np nh nt nl os oc ss → wpX_delivered post (nI P, nI S, nI T, fs, c 0, c 1, c 2, c 3, c 4, c 5, c 6, c 7, c 15, c 8, nx, qh, qt, ql, pe, nn, np, nh, nt, nl, c 9, c 10, c 11, c 17, c 12, c 13, c 14, os, oc, ss) v1 v2) → (∀ post : Int32 → Prop, post r → ∀ (fa fb fi : Nat → Int32), ak_PY P S T F fa fb fi → wpY_delivered post (nI P, nI S, nI T, nI F.length, c 2, c 3, c 4, c 5, c 6, c 7, c 16, c 8, c 0, c 1, c 10, c 11, c 17, c 14, c 12, c 9, c 13, fa, fb, fi) v1 v2) → ∃ r, (∀ post : Int32 → Prop, post r → wpX_delivered post u v1 v2) ∧ (∀ post : Int32 → Prop, post r → wpY_delivered post v v1 v2) :=
    fun r h1 h2 => ⟨r, fun post K => ak_elX (M := fun u => wpX_delivered post u v1 v2) RX (h1 post K), fun post K => ak_elY (M := fun v => wpY_delivered post v v1 v2) RY (h2 post K)⟩
  by_cases z0 : v1 < 0
  · exact H (-1) (fun post K fs nx qh qt ql pe nn np nh nt nl os oc ss R => br_t z0 K) (fun post K fa fb fi R => br_t z0 K)
  by_cases z1 : nI S ≤ v1
  · exact H (-1) (fun post K fs nx qh qt ql pe nn np nh nt nl os oc ss R => br_f z0 (br_t z1 K)) (fun post K fa fb fi R => br_f z0 (br_t z1 K))
  by_cases w0 : v2 < 0
  · exact H (-1) (fun post K fs nx qh qt ql pe nn np nh nt nl os oc ss R => br_f z0 (br_f z1 (br_t w0 K))) (fun post K fa fb fi R => br_f z0 (br_f z1 (br_t w0 K)))
  by_cases w1 : v2 ≤ 3
  · obtain ⟨i, hi, rfl⟩ := nI_of2 (M := 3) (n := 3) (by decide) w0 w1
    rcases pk_ix v1 (n := S) (by omega) with z | z | ⟨s, hs, rfl⟩
    · exact absurd z z0
    · exact absurd z z1
    · have i4 : vp_in (nI s * 4 + nI i) 16 := by rw [ak_m4]; exact ak_in (by omega) (by omega)
      exact H ((c 9) (nI s * 4 + nI i).toNatClampNeg) (fun post K fs nx qh qt ql pe nn np nh nt nl os oc ss R => br_f z0 (br_f z1 (br_f w0 (br_t w1 (And.intro i4 K))))) (fun post K fa fb fi R => br_f z0 (br_f z1 (br_f w0 (br_t w1 (And.intro i4 K)))))
  · exact H (-1) (fun post K fs nx qh qt ql pe nn np nh nt nl os oc ss R => br_f z0 (br_f z1 (br_f w0 (br_f w1 K)))) (fun post K fa fb fi R => br_f z0 (br_f z1 (br_f w0 (br_f w1 K))))
theorem au_cell (RX : ak_RX P S T c F u) (RY : ak_RY P S T c F v) (v1 v2 : Int32) : ∃ r, (∀ post : Int32 → Prop, post r → wpX_cell post u v1 v2) ∧ (∀ post : Int32 → Prop, post r → wpY_cell post v v1 v2) := by
  have H : ∀ r, (∀ post : Int32 → Prop, post r → ∀ (fs : Int32) (nx qh qt ql pe nn np nh nt nl os oc ss : Nat → Int32), ak_PX P S T (c 2) (c 3) F fs nx qh qt ql pe nn np nh nt nl os oc ss → wpX_cell post (nI P, nI S, nI T, fs, c 0, c 1, c 2, c 3, c 4, c 5, c 6, c 7, c 15, c 8, nx, qh, qt, ql, pe, nn, np, nh, nt, nl, c 9, c 10, c 11, c 17, c 12, c 13, c 14, os, oc, ss) v1 v2) → (∀ post : Int32 → Prop, post r → ∀ (fa fb fi : Nat → Int32), ak_PY P S T F fa fb fi → wpY_cell post (nI P, nI S, nI T, nI F.length, c 2, c 3, c 4, c 5, c 6, c 7, c 16, c 8, c 0, c 1, c 10, c 11, c 17, c 14, c 12, c 9, c 13, fa, fb, fi) v1 v2) → ∃ r, (∀ post : Int32 → Prop, post r → wpX_cell post u v1 v2) ∧ (∀ post : Int32 → Prop, post r → wpY_cell post v v1 v2) :=
    fun r h1 h2 => ⟨r, fun post K => ak_elX (M := fun u => wpX_cell post u v1 v2) RX (h1 post K), fun post K => ak_elY (M := fun v => wpY_cell post v v1 v2) RY (h2 post K)⟩
  by_cases z0 : v1 < 0
  · exact H (-1) (fun post K fs nx qh qt ql pe nn np nh nt nl os oc ss R => br_t z0 K) (fun post K fa fb fi R => br_t z0 K)
  by_cases z1 : 63 < v1
  · exact H (-1) (fun post K fs nx qh qt ql pe nn np nh nt nl os oc ss R => br_f z0 (br_t z1 K)) (fun post K fa fb fi R => br_f z0 (br_t z1 K))
  by_cases w0 : v2 < 0
  · exact H (-1) (fun post K fs nx qh qt ql pe nn np nh nt nl os oc ss R => br_f z0 (br_f z1 (br_t w0 K))) (fun post K fa fb fi R => br_f z0 (br_f z1 (br_t w0 K)))
  by_cases w1 : v2 ≤ 1
  · obtain ⟨a, ha, rfl⟩ := nI_of2 (M := 63) (n := 63) (by decide) z0 (Int32.not_lt.mp z1)
    have ia : vp_in (nI a) 64 := ak_in (by omega) (by omega)
    by_cases y : v2 = 0
    · exact H ((c 0) (nI a).toNatClampNeg) (fun post K fs nx qh qt ql pe nn np nh nt nl os oc ss R => br_f z0 (br_f z1 (br_f w0 (br_t w1 (br_t y (And.intro ia K)))))) (fun post K fa fb fi R => br_f z0 (br_f z1 (br_f w0 (br_t w1 (br_t y (And.intro ia K))))))
    · exact H ((c 1) (nI a).toNatClampNeg) (fun post K fs nx qh qt ql pe nn np nh nt nl os oc ss R => br_f z0 (br_f z1 (br_f w0 (br_t w1 (br_f y (And.intro ia K)))))) (fun post K fa fb fi R => br_f z0 (br_f z1 (br_f w0 (br_t w1 (br_f y (And.intro ia K))))))
  · exact H (-1) (fun post K fs nx qh qt ql pe nn np nh nt nl os oc ss R => br_f z0 (br_f z1 (br_f w0 (br_f w1 K)))) (fun post K fa fb fi R => br_f z0 (br_f z1 (br_f w0 (br_f w1 K))))
theorem au_listed (I : ak_I P S T c F) (RX : ak_RX P S T c F u) (RY : ak_RY P S T c F v) (v1 v2 v3 : Int32) : ∃ r, (∀ post : Int32 → Prop, post r → wpX_listed post u v1 v2 v3) ∧ (∀ post : Int32 → Prop, post r → wpY_listed post v v1 v2 v3) := by
  have hZ := ai_Z I
  have H : ∀ r, (∀ post : Int32 → Prop, post r → ∀ (fs : Int32) (nx qh qt ql pe nn np nh nt nl os oc ss : Nat → Int32), ak_PX P S T (c 2) (c 3) F fs nx qh qt ql pe nn np nh nt nl os oc ss → wpX_listed post (nI P, nI S, nI T, fs, c 0, c 1, c 2, c 3, c 4, c 5, c 6, c 7, c 15, c 8, nx, qh, qt, ql, pe, nn, np, nh, nt, nl, c 9, c 10, c 11, c 17, c 12, c 13, c 14, os, oc, ss) v1 v2 v3) → (∀ post : Int32 → Prop, post r → ∀ (fa fb fi : Nat → Int32), ak_PY P S T F fa fb fi → wpY_listed post (nI P, nI S, nI T, nI F.length, c 2, c 3, c 4, c 5, c 6, c 7, c 16, c 8, c 0, c 1, c 10, c 11, c 17, c 14, c 12, c 9, c 13, fa, fb, fi) v1 v2 v3) → ∃ r, (∀ post : Int32 → Prop, post r → wpX_listed post u v1 v2 v3) ∧ (∀ post : Int32 → Prop, post r → wpY_listed post v v1 v2 v3) :=
    fun r h1 h2 => ⟨r, fun post K => ak_elX (M := fun u => wpX_listed post u v1 v2 v3) RX (h1 post K), fun post K => ak_elY (M := fun v => wpY_listed post v v1 v2 v3) RY (h2 post K)⟩
  by_cases z0 : v1 < 0
  · exact H (-1) (fun post K fs nx qh qt ql pe nn np nh nt nl os oc ss R => br_t z0 K) (fun post K fa fb fi R => br_t z0 K)
  by_cases z1 : nI S ≤ v1
  · exact H (-1) (fun post K fs nx qh qt ql pe nn np nh nt nl os oc ss R => br_f z0 (br_t z1 K)) (fun post K fa fb fi R => br_f z0 (br_t z1 K))
  by_cases w0 : v2 < 0
  · exact H (-1) (fun post K fs nx qh qt ql pe nn np nh nt nl os oc ss R => br_f z0 (br_f z1 (br_t w0 K))) (fun post K fa fb fi R => br_f z0 (br_f z1 (br_t w0 K)))
  by_cases w1 : 3 < v2
  · exact H (-1) (fun post K fs nx qh qt ql pe nn np nh nt nl os oc ss R => br_f z0 (br_f z1 (br_f w0 (br_t w1 K)))) (fun post K fa fb fi R => br_f z0 (br_f z1 (br_f w0 (br_t w1 K))))
  by_cases x0 : 0 ≤ v3
  · obtain ⟨l, hl, rfl⟩ := nI_of2 (M := 3) (n := 3) (by decide) w0 (Int32.not_lt.mp w1)
    obtain ⟨k, hk, rfl⟩ := nI_of (x := v3) (Int32.not_lt.mpr x0)
    rcases pk_ix v1 (n := S) (by omega) with z | z | ⟨s, hs, rfl⟩
    · exact absurd z z0
    · exact absurd z z1
    · exact H (ak_hd ((ak_li F s l).drop k) (-1)) (fun post K fs nx qh qt ql pe nn np nh nt nl os oc ss R => ax_lis R hs (by omega) hk K) (fun post K fa fb fi R => ay_lis (ak_mkY R) (ai_LV I) hs (by omega) hk K)
  · exact H (-1) (fun post K fs nx qh qt ql pe nn np nh nt nl os oc ss R => br_f z0 (br_f z1 (br_f w0 (br_f w1 (br_f x0 K))))) (fun post K fa fb fi R => br_f z0 (br_f z1 (br_f w0 (br_f w1 (br_f x0 K)))))
end
end
section
/-! the methods that store -/
def ak_OUT (P S T : Nat) (WX : (Int32 → SX → Prop) → Prop) (WY : (Int32 → SY → Prop) → Prop) : Prop :=
  ∃ (r : Int32) (c' : Nat → Nat → Int32) (F' : List (Nat × Nat)), ak_I P S T c' F' ∧ (∀ post : Int32 → SX → Prop, ak_KX P S T c' F' (post r) → WX post) ∧ (∀ post : Int32 → SY → Prop, ak_KY P S T c' F' (post r) → WY post)
section
variable {P S T : Nat} {c : Nat → Nat → Int32} {F : List (Nat × Nat)} {u : SX} {v : SY}
theorem au_code (I : ak_I P S T c F) (RX : ak_RX P S T c F u) (RY : ak_RY P S T c F v) (v1 v2 v3 : Int32) : ak_OUT P S T (fun post => wpX_code post u v1 v2 v3) (fun post => wpY_code post v v1 v2 v3) := by
  have hZ := ai_Z I
  have H : ∀ r c' F', ak_I P S T c' F' → (∀ post : Int32 → SX → Prop, ak_KX P S T c' F' (post r) → ∀ (fs : Int32) (nx qh qt ql pe nn np nh nt nl os oc ss : Nat → Int32), ak_PX P S T (c 2) (c 3) F fs nx qh qt ql pe nn np nh nt nl os oc ss → wpX_code post (nI P, nI S, nI T, fs, c 0, c 1, c 2, c 3, c 4, c 5, c 6, c 7, c 15, c 8, nx, qh, qt, ql, pe, nn, np, nh, nt, nl, c 9, c 10, c 11, c 17, c 12, c 13, c 14, os, oc, ss) v1 v2 v3) → (∀ post : Int32 → SY → Prop, ak_KY P S T c' F' (post r) → ∀ (fa fb fi : Nat → Int32), ak_PY P S T F fa fb fi → wpY_code post (nI P, nI S, nI T, nI F.length, c 2, c 3, c 4, c 5, c 6, c 7, c 16, c 8, c 0, c 1, c 10, c 11, c 17, c 14, c 12, c 9, c 13, fa, fb, fi) v1 v2 v3) → ak_OUT P S T (fun post => wpX_code post u v1 v2 v3) (fun post => wpY_code post v v1 v2 v3) :=
    fun r c' F' I' h1 h2 => ⟨r, c', F', I', fun post K => ak_elX (M := fun u => wpX_code post u v1 v2 v3) RX (h1 post K), fun post K => ak_elY (M := fun v => wpY_code post v v1 v2 v3) RY (h2 post K)⟩
  by_cases z0 : v1 < 0
  · exact H 0 c F I (fun post K fs nx qh qt ql pe nn np nh nt nl os oc ss R => br_t z0 (K _ _ _ _ _ _ _ _ _ _ _ _ _ _ R)) (fun post K fa fb fi R => br_t z0 (K _ _ _ R))
  by_cases z1 : 63 < v1
  · exact H 0 c F I (fun post K fs nx qh qt ql pe nn np nh nt nl os oc ss R => br_f z0 (br_t z1 (K _ _ _ _ _ _ _ _ _ _ _ _ _ _ R))) (fun post K fa fb fi R => br_f z0 (br_t z1 (K _ _ _ R)))
  by_cases w0 : v2 < 0
  · exact H 0 c F I (fun post K fs nx qh qt ql pe nn np nh nt nl os oc ss R => br_f z0 (br_f z1 (br_t w0 (K _ _ _ _ _ _ _ _ _ _ _ _ _ _ R)))) (fun post K fa fb fi R => br_f z0 (br_f z1 (br_t w0 (K _ _ _ R))))
  by_cases w1 : v2 ≤ 12
  · obtain ⟨a, ha, rfl⟩ := nI_of2 (M := 63) (n := 63) (by decide) z0 (Int32.not_lt.mp z1)
    obtain ⟨o, ho, rfl⟩ := nI_of2 (M := 12) (n := 12) (by decide) w0 w1
    have ia : vp_in (nI a) 64 := ak_in (by omega) (by omega)
    have ea : (nI a).toNatClampNeg = a := ak_cl (by omega)
    have I1 := ai_cop (x := upd (c 1) a v3) I (cop' := upd (c 0) a (nI o)) (fun b hb => by
      by_cases y : b = a
      · rw [y, pk_us]; exact ⟨o, by omega, rfl⟩
      · rw [pk_un y]; exact I.2.1 b hb)
    refine H 1 _ F I1 (fun post K fs nx qh qt ql pe nn np nh nt nl os oc ss R => br_f z0 (br_f z1 (br_f w0 (br_t w1 (And.intro ia (nm_r (e' := upd (c 0) a (nI o)) (by rw [ea]) (And.intro ia (nm_r (e' := upd (c 1) a v3) (by rw [ea]) (K _ _ _ _ _ _ _ _ _ _ _ _ _ _ R))))))))) (fun post K fa fb fi R => br_f z0 (br_f z1 (br_f w0 (br_t w1 (And.intro ia (nm_r (e' := upd (c 0) a (nI o)) (by rw [ea]) (And.intro ia (nm_r (e' := upd (c 1) a v3) (by rw [ea]) (K _ _ _ R)))))))))
  · exact H 0 c F I (fun post K fs nx qh qt ql pe nn np nh nt nl os oc ss R => br_f z0 (br_f z1 (br_f w0 (br_f w1 (K _ _ _ _ _ _ _ _ _ _ _ _ _ _ R))))) (fun post K fa fb fi R => br_f z0 (br_f z1 (br_f w0 (br_f w1 (K _ _ _ R)))))
theorem au_declare (I : ak_I P S T c F) (RX : ak_RX P S T c F u) (RY : ak_RY P S T c F v) (v1 v2 v3 : Int32) : ak_OUT P S T (fun post => wpX_declare post u v1 v2 v3) (fun post => wpY_declare post v v1 v2 v3) := by
  have hZ := ai_Z I
  have H : ∀ r c' F', ak_I P S T c' F' → (∀ post : Int32 → SX → Prop, ak_KX P S T c' F' (post r) → ∀ (fs : Int32) (nx qh qt ql pe nn np nh nt nl os oc ss : Nat → Int32), ak_PX P S T (c 2) (c 3) F fs nx qh qt ql pe nn np nh nt nl os oc ss → wpX_declare post (nI P, nI S, nI T, fs, c 0, c 1, c 2, c 3, c 4, c 5, c 6, c 7, c 15, c 8, nx, qh, qt, ql, pe, nn, np, nh, nt, nl, c 9, c 10, c 11, c 17, c 12, c 13, c 14, os, oc, ss) v1 v2 v3) → (∀ post : Int32 → SY → Prop, ak_KY P S T c' F' (post r) → ∀ (fa fb fi : Nat → Int32), ak_PY P S T F fa fb fi → wpY_declare post (nI P, nI S, nI T, nI F.length, c 2, c 3, c 4, c 5, c 6, c 7, c 16, c 8, c 0, c 1, c 10, c 11, c 17, c 14, c 12, c 9, c 13, fa, fb, fi) v1 v2 v3) → ak_OUT P S T (fun post => wpX_declare post u v1 v2 v3) (fun post => wpY_declare post v v1 v2 v3) :=
    fun r c' F' I' h1 h2 => ⟨r, c', F', I', fun post K => ak_elX (M := fun u => wpX_declare post u v1 v2 v3) RX (h1 post K), fun post K => ak_elY (M := fun v => wpY_declare post v v1 v2 v3) RY (h2 post K)⟩
  by_cases z0 : v1 < 0
  · exact H 0 c F I (fun post K fs nx qh qt ql pe nn np nh nt nl os oc ss R => br_t z0 (K _ _ _ _ _ _ _ _ _ _ _ _ _ _ R)) (fun post K fa fb fi R => br_t z0 (K _ _ _ R))
  by_cases z1 : nI S ≤ v1
  · exact H 0 c F I (fun post K fs nx qh qt ql pe nn np nh nt nl os oc ss R => br_f z0 (br_f (Int32.not_lt.mpr z1) (K _ _ _ _ _ _ _ _ _ _ _ _ _ _ R))) (fun post K fa fb fi R => br_f z0 (br_t z1 (K _ _ _ R)))
  have z1' : v1 < nI S := Int32.not_le.mp z1
  by_cases w0 : v2 < 0
  · exact H 0 c F I (fun post K fs nx qh qt ql pe nn np nh nt nl os oc ss R => br_f z0 (br_t z1' (br_t w0 (K _ _ _ _ _ _ _ _ _ _ _ _ _ _ R)))) (fun post K fa fb fi R => br_f z0 (br_f z1 (br_t w0 (K _ _ _ R))))
  by_cases w1 : 3 < v2
  · exact H 0 c F I (fun post K fs nx qh qt ql pe nn np nh nt nl os oc ss R => br_f z0 (br_t z1' (br_f w0 (br_t w1 (K _ _ _ _ _ _ _ _ _ _ _ _ _ _ R))))) (fun post K fa fb fi R => br_f z0 (br_f z1 (br_f w0 (br_t w1 (K _ _ _ R)))))
  by_cases x0 : v3 < 0
  · exact H 0 c F I (fun post K fs nx qh qt ql pe nn np nh nt nl os oc ss R => br_f z0 (br_t z1' (br_f w0 (br_f w1 (br_t x0 (K _ _ _ _ _ _ _ _ _ _ _ _ _ _ R)))))) (fun post K fa fb fi R => br_f z0 (br_f z1 (br_f w0 (br_f w1 (br_t x0 (K _ _ _ R))))))
  by_cases x1 : v3 ≤ 6
  · rcases pk_ix v1 (n := S) (by omega) with z | z | ⟨s, hs, rfl⟩
    · exact absurd z z0
    · exact absurd z z1
    obtain ⟨r, hr, rfl⟩ := nI_of2 (M := 3) (n := 3) (by decide) w0 (Int32.not_lt.mp w1)
    obtain ⟨d, hd, rfl⟩ := nI_of2 (M := 6) (n := 6) (by decide) x0 x1
    have is : vp_in (nI s) 4 := ak_in (by omega) (by omega)
    have es : (nI s).toNatClampNeg = s := ak_cl (by omega)
    have I1 := ai_dem (pri' := upd (c 10) s (nI r)) (dem' := upd (c 11) s (nI d)) I (fun q hq => by
      by_cases y : q = s
      · rw [y, pk_us, pk_us]; exact ⟨⟨r, by omega, rfl⟩, d, by omega, rfl⟩
      · rw [pk_un y, pk_un y]; exact I.2.2.1 q hq)
    obtain ⟨c2, F2, I2, hX2, hY2⟩ := as_rea I1
    obtain ⟨c3, F3, I3, hX3, hY3⟩ := as_set I2
    refine H 1 c3 F3 I3 (fun post K fs nx qh qt ql pe nn np nh nt nl os oc ss R => br_f z0 (br_t z1' (br_f w0 (br_f w1 (br_f x0 (br_t x1 (And.intro is (nm_r (e' := upd (c 10) s (nI r)) (by rw [es]) (And.intro is (nm_r (e' := upd (c 11) s (nI d)) (by rw [es]) ?_)))))))))) (fun post K fa fb fi R => br_f z0 (br_f z1 (br_f w0 (br_f w1 (br_f x0 (br_t x1 (And.intro is (nm_r (e' := upd (c 10) s (nI r)) (by rw [es]) (And.intro is (nm_r (e' := upd (c 11) s (nI d)) (by rw [es]) ?_))))))))))
    · refine hX2 _ _ (ak_mkX (c := (ak_sa (ak_sa c 10 (upd (c 10) s (nI r))) 11 (upd (c 11) s (nI d)))) R) ?_
      intro fs nx qh qt ql pe nn np nh nt nl os oc ss R
      refine hX3 _ _ (ak_mkX R) ?_
      intro fs nx qh qt ql pe nn np nh nt nl os oc ss R
      exact K _ _ _ _ _ _ _ _ _ _ _ _ _ _ R
    · refine hY2 _ _ (ak_mkY (c := (ak_sa (ak_sa c 10 (upd (c 10) s (nI r))) 11 (upd (c 11) s (nI d)))) R) ?_
      intro fa fb fi R
      refine hY3 _ _ (ak_mkY R) ?_
      intro fa fb fi R
      exact K _ _ _ R
  · exact H 0 c F I (fun post K fs nx qh qt ql pe nn np nh nt nl os oc ss R => br_f z0 (br_t z1' (br_f w0 (br_f w1 (br_f x0 (br_f x1 (K _ _ _ _ _ _ _ _ _ _ _ _ _ _ R))))))) (fun post K fa fb fi R => br_f z0 (br_f z1 (br_f w0 (br_f w1 (br_f x0 (br_f x1 (K _ _ _ R)))))))
theorem ax_fd {post : Int32 → Prop} {r : Int32} {fs : Int32} {nx qh qt ql pe nn np nh nt nl os oc ss : Nat → Int32} (hT : T ≤ 16) (h : ak_LW (fun q => (c 5) q = 0) T r) (K : post r) : ∀ d n i, i + d = T → d < n → (∀ q, q < i → ¬ (c 5) q = 0) → wX_firstDead_2 post (nI P) (nI S) (nI T) fs (c 0) (c 1) (c 2) (c 3) (c 4) (c 5) (c 6) (c 7) (c 15) (c 8) nx qh qt ql pe nn np nh nt nl (c 9) (c 10) (c 11) (c 17) (c 12) (c 13) (c 14) os oc ss n (nI i) := by
  intro d
  induction d with
  | zero =>
    intro n i hi hn hq
    obtain ⟨n, rfl⟩ : ∃ m, n = m + 1 := ⟨n - 1, by omega⟩
    have e : i = T := by omega
    subst e
    have hr : r = -1 := by
      rcases h with h | ⟨q, h1, h2, h3, h4⟩
      · exact h.1
      · exact absurd h3 (hq q h1)
    rw [hr] at K
    exact br_t (nI_le (Nat.le_refl _) (by omega)) K
  | succ d ih =>
    intro n i hi hn hq
    obtain ⟨n, rfl⟩ : ∃ m, n = m + 1 := ⟨n - 1, by omega⟩
    have ii : vp_in (nI i) 16 := ak_in (by omega) (by omega)
    have ei : (nI i).toNatClampNeg = i := ak_cl (by omega)
    refine br_f (nI_ge (by omega) (by omega)) (And.intro ii ?_)
    rw [ei]
    refine br_c (fun z => ?_) (fun z => nm_r (nI_1 i) (ih n (i + 1) (by omega) (by omega) (fun q hq' => by
      by_cases y : q = i
      · rw [y]; exact z
      · exact hq q (by omega))))
    have hr : r = nI i := by
      rcases h with h | ⟨q, h1, h2, h3, h4⟩
      · exact absurd z (h.2 i (by omega))
      · rcases Nat.lt_trichotomy q i with w | w | w
        · exact absurd h3 (hq q w)
        · rw [h2, w]
        · exact absurd z (h4 i w)
    rw [hr] at K
    exact K
theorem ay_fd {post : Int32 → SY → Prop} {x1 x2 x3 : Int32} {t : Nat} {fa fb fi : Nat → Int32} (hT : T ≤ 16) (ht : t ≤ T) (h1 : ∀ q, q < t → ¬ (c 5) q = 0) (h2 : t < T → (c 5) t = 0) (K : wY_spawn_61 post x1 x2 x3 (nI t) (nI P) (nI S) (nI T) (nI F.length) (c 2) (c 3) (c 4) (c 5) (c 6) (c 7) (c 16) (c 8) (c 0) (c 1) (c 10) (c 11) (c 17) (c 14) (c 12) (c 9) (c 13) fa fb fi) : ∀ d n i, i + d = t → d < n → wY_spawn_36 post x1 x2 x3 (nI P) (nI S) (nI T) (nI F.length) (c 2) (c 3) (c 4) (c 5) (c 6) (c 7) (c 16) (c 8) (c 0) (c 1) (c 10) (c 11) (c 17) (c 14) (c 12) (c 9) (c 13) fa fb fi n (nI i) := by
  intro d
  induction d with
  | zero =>
    intro n i hi hn
    obtain ⟨n, rfl⟩ : ∃ m, n = m + 1 := ⟨n - 1, by omega⟩
    have e : i = t := by omega
    subst e
    by_cases z : i < T
    · have ii : vp_in (nI i) 16 := ak_in (by omega) (by omega)
      exact br_f (nI_ge z (by omega)) (And.intro ii (br_t (by rw [ak_cl (by omega)]; exact h2 z) K))
    · exact br_t (nI_le (by omega) (by omega)) K
  | succ d ih =>
    intro n i hi hn
    obtain ⟨n, rfl⟩ : ∃ m, n = m + 1 := ⟨n - 1, by omega⟩
    have ii : vp_in (nI i) 16 := ak_in (by omega) (by omega)
    exact br_f (nI_ge (by omega) (by omega)) (And.intro ii (br_f (by rw [ak_cl (by omega)]; exact h1 i (by omega)) (nm_r (nI_1 i) (ih n (i + 1) (by omega) (by omega)))))
theorem au_spawn (I : ak_I P S T c F) (RX : ak_RX P S T c F u) (RY : ak_RY P S T c F v) (v1 v2 v3 : Int32) : ak_OUT P S T (fun post => wpX_spawn post u v1 v2 v3) (fun post => wpY_spawn post v v1 v2 v3) := by
  have hZ := ai_Z I
  have H : ∀ r c' F', ak_I P S T c' F' → (∀ post : Int32 → SX → Prop, ak_KX P S T c' F' (post r) → ∀ (fs : Int32) (nx qh qt ql pe nn np nh nt nl os oc ss : Nat → Int32), ak_PX P S T (c 2) (c 3) F fs nx qh qt ql pe nn np nh nt nl os oc ss → wpX_spawn post (nI P, nI S, nI T, fs, c 0, c 1, c 2, c 3, c 4, c 5, c 6, c 7, c 15, c 8, nx, qh, qt, ql, pe, nn, np, nh, nt, nl, c 9, c 10, c 11, c 17, c 12, c 13, c 14, os, oc, ss) v1 v2 v3) → (∀ post : Int32 → SY → Prop, ak_KY P S T c' F' (post r) → ∀ (fa fb fi : Nat → Int32), ak_PY P S T F fa fb fi → wpY_spawn post (nI P, nI S, nI T, nI F.length, c 2, c 3, c 4, c 5, c 6, c 7, c 16, c 8, c 0, c 1, c 10, c 11, c 17, c 14, c 12, c 9, c 13, fa, fb, fi) v1 v2 v3) → ak_OUT P S T (fun post => wpX_spawn post u v1 v2 v3) (fun post => wpY_spawn post v v1 v2 v3) :=
    fun r c' F' I' h1 h2 => ⟨r, c', F', I', fun post K => ak_elX (M := fun u => wpX_spawn post u v1 v2 v3) RX (h1 post K), fun post K => ak_elY (M := fun v => wpY_spawn post v v1 v2 v3) RY (h2 post K)⟩
  by_cases z0 : v1 < 0
  · exact H (-1) c F I (fun post K fs nx qh qt ql pe nn np nh nt nl os oc ss R => br_t z0 (K _ _ _ _ _ _ _ _ _ _ _ _ _ _ R)) (fun post K fa fb fi R => br_t z0 (K _ _ _ R))
  by_cases z1 : nI S ≤ v1
  · exact H (-1) c F I (fun post K fs nx qh qt ql pe nn np nh nt nl os oc ss R => br_f z0 (br_f (Int32.not_lt.mpr z1) (K _ _ _ _ _ _ _ _ _ _ _ _ _ _ R))) (fun post K fa fb fi R => br_f z0 (br_t z1 (K _ _ _ R)))
  have z1' : v1 < nI S := Int32.not_le.mp z1
  by_cases w0 : v2 < 0
  · exact H (-1) c F I (fun post K fs nx qh qt ql pe nn np nh nt nl os oc ss R => br_f z0 (br_t z1' (br_t w0 (K _ _ _ _ _ _ _ _ _ _ _ _ _ _ R)))) (fun post K fa fb fi R => br_f z0 (br_f z1 (br_t w0 (K _ _ _ R))))
  by_cases w1 : 63 < v2
  · exact H (-1) c F I (fun post K fs nx qh qt ql pe nn np nh nt nl os oc ss R => br_f z0 (br_t z1' (br_f w0 (br_t w1 (K _ _ _ _ _ _ _ _ _ _ _ _ _ _ R))))) (fun post K fa fb fi R => br_f z0 (br_f z1 (br_f w0 (br_t w1 (K _ _ _ R)))))
  by_cases x0 : v3 < 0
  · exact H (-1) c F I (fun post K fs nx qh qt ql pe nn np nh nt nl os oc ss R => br_f z0 (br_t z1' (br_f w0 (br_f w1 (br_t x0 (K _ _ _ _ _ _ _ _ _ _ _ _ _ _ R)))))) (fun post K fa fb fi R => br_f z0 (br_f z1 (br_f w0 (br_f w1 (br_t x0 (K _ _ _ R))))))
  by_cases x1 : v3 ≤ 2
  · rcases pk_ix v1 (n := S) (by omega) with z | z | ⟨s, hs, rfl⟩
    · exact absurd z z0
    · exact absurd z z1
    obtain ⟨a, ha, rfl⟩ := nI_of2 (M := 63) (n := 63) (by decide) w0 (Int32.not_lt.mp w1)
    obtain ⟨j, hj, rfl⟩ := nI_of2 (M := 2) (n := 2) (by decide) x0 x1
    obtain ⟨r, hr⟩ := ak_LW_ex (fun q => (c 5) q = 0) T
    rcases hr' : hr with ⟨h1, h2⟩ | ⟨t, h1, h2, h3, h4⟩
    · subst h1
      refine H (-1) c F I (fun post K fs nx qh qt ql pe nn np nh nt nl os oc ss R => br_f z0 (br_t z1' (br_f w0 (br_f w1 (br_f x0 (br_t x1 (Exists.intro (T + 1) (ax_fd (by omega) hr (br_t rfl (K _ _ _ _ _ _ _ _ _ _ _ _ _ _ R)) T (T + 1) 0 (Nat.zero_add T) (by omega) (fun q hq => absurd hq (Nat.not_lt_zero q)))))))))) (fun post K fa fb fi R => br_f z0 (br_f z1 (br_f w0 (br_f w1 (br_f x0 (br_t x1 (Exists.intro (T + 1) (ay_fd (t := T) (by omega) (Nat.le_refl _) h2 (fun y => absurd y (Nat.lt_irrefl T)) (br_f (nI_nlt (Nat.le_refl _) (by omega)) (K _ _ _ R)) T (T + 1) 0 (Nat.zero_add T) (by omega)))))))))
    · subst h2
      have it : vp_in (nI t) 16 := ak_in (by omega) (by omega)
      have et : (nI t).toNatClampNeg = t := ak_cl (by omega)
      have hV : ak_V F t = [] := by
        rcases ai_TV I h1 with g | ⟨s', q1, j, q2, a, q3, q4, q5, q6, q7, g5⟩
        · exact g.2
        · rw [h3] at g5
          rcases g5 with ⟨y, _⟩ | ⟨y, _⟩ | ⟨y, _⟩ | ⟨y, _⟩ | ⟨y, _⟩
          all_goals exact absurd y (by decide)
      have hcd : ∀ f ∈ F, ak_cd f ≠ 3 * 16 + t := ak_free I hV (by omega) (Or.inr (Or.inr rfl))
      have I1 := ai_spn (val := upd (c 8) t 0) I h1 h3 hs (show j < 3 by omega) (show a < 64 by omega)
      obtain ⟨c2, F2, I2, hX2, hY2⟩ := as_set I1
      refine H (nI t) c2 F2 I2 (fun post K fs nx qh qt ql pe nn np nh nt nl os oc ss R => br_f z0 (br_t z1' (br_f w0 (br_f w1 (br_f x0 (br_t x1 (Exists.intro (T + 1) (ax_fd (by omega) hr ?_ T (T + 1) 0 (Nat.zero_add T) (by omega) (fun q hq => absurd hq (Nat.not_lt_zero q)))))))))) (fun post K fa fb fi R => br_f z0 (br_f z1 (br_f w0 (br_f w1 (br_f x0 (br_t x1 (Exists.intro (t + 1) (ay_fd (t := t) (by omega) (by omega) h4 (fun _ => h3) ?_ t (t + 1) 0 (Nat.zero_add t) (by omega)))))))))
      · refine br_f (ak_n1 (by omega)) (And.intro it (nm_r (e' := upd (c 6) t (nI s)) (by rw [et]) (And.intro it (nm_r (e' := upd (c 7) t (nI j)) (by rw [et]) (And.intro it (nm_r (e' := upd (c 15) t (nI a)) (by rw [et]) (And.intro it (nm_r (e' := upd (c 8) t 0) (by rw [et]) ?_))))))))
        refine ax_save (k := 3) (s := s) (c := (ak_sa (ak_sa (ak_sa (ak_sa (ak_sa c 6 (upd (c 6) t (nI s))) 7 (upd (c 7) t (nI j))) 15 (upd (c 15) t (nI a))) 16 (upd (c 16) t (nI a))) 8 (upd (c 8) t 0))) (ak_mkX (c := (ak_sa (ak_sa (ak_sa (ak_sa (ak_sa c 6 (upd (c 6) t (nI s))) 7 (upd (c 7) t (nI j))) 15 (upd (c 15) t (nI a))) 16 (upd (c 16) t (nI a))) 8 (upd (c 8) t 0))) R) (by omega) pk_us (by omega) (by omega) (by omega) hcd ?_
        intro fs nx qh qt ql pe nn np nh nt nl os oc ss R
        refine hX2 _ _ (ak_mkX R) ?_
        intro fs nx qh qt ql pe nn np nh nt nl os oc ss R
        exact K _ _ _ _ _ _ _ _ _ _ _ _ _ _ R
      · refine br_t (nI_lt h1 (by omega)) (And.intro it (nm_r (e' := upd (c 5) t 5) (by rw [et]) (And.intro it (nm_r (e' := upd (c 6) t (nI s)) (by rw [et]) (And.intro it (nm_r (e' := upd (c 7) t (nI j)) (by rw [et]) (And.intro it (nm_r (e' := upd (c 16) t (nI a)) (by rw [et]) (And.intro it (nm_r (e' := upd (c 8) t 0) (by rw [et]) ?_))))))))))
        rw [show (48 : Int32) + nI t = nI (48 + t) from nI_add 48 t]
        refine ay_app (k := 20 + s) (b := 3) (c := (ak_sa (ak_sa (ak_sa (ak_sa (ak_sa (ak_sa c 6 (upd (c 6) t (nI s))) 7 (upd (c 7) t (nI j))) 15 (upd (c 15) t (nI a))) 16 (upd (c 16) t (nI a))) 8 (upd (c 8) t 0)) 5 (upd (c 5) t 5))) (ak_mkY (c := (ak_sa (ak_sa (ak_sa (ak_sa (ak_sa (ak_sa c 6 (upd (c 6) t (nI s))) 7 (upd (c 7) t (nI j))) 15 (upd (c 15) t (nI a))) 16 (upd (c 16) t (nI a))) 8 (upd (c 8) t 0)) 5 (upd (c 5) t 5))) R) (Or.inr ⟨by simp, by simp; omega, by simp; omega, by simp; omega⟩) (by rw [ak_cd20]; exact hcd) (ak_sp20 s) (ak_ls20 s) ?_
        intro fa fb fi R
        refine hY2 _ _ (ak_mkY R) ?_
        intro fa fb fi R
        exact K _ _ _ R
  · exact H (-1) c F I (fun post K fs nx qh qt ql pe nn np nh nt nl os oc ss R => br_f z0 (br_t z1' (br_f w0 (br_f w1 (br_f x0 (br_f x1 (K _ _ _ _ _ _ _ _ _ _ _ _ _ _ R))))))) (fun post K fa fb fi R => br_f z0 (br_f z1 (br_f w0 (br_f w1 (br_f x0 (br_f x1 (K _ _ _ R)))))))
theorem au_wake (I : ak_I P S T c F) (RX : ak_RX P S T c F u) (RY : ak_RY P S T c F v) (v1 : Int32) : ak_OUT P S T (fun post => wpX_wake post u v1) (fun post => wpY_wake post v v1) := by
  have hZ := ai_Z I
  have H : ∀ r c' F', ak_I P S T c' F' → (∀ post : Int32 → SX → Prop, ak_KX P S T c' F' (post r) → ∀ (fs : Int32) (nx qh qt ql pe nn np nh nt nl os oc ss : Nat → Int32), ak_PX P S T (c 2) (c 3) F fs nx qh qt ql pe nn np nh nt nl os oc ss → wpX_wake post (nI P, nI S, nI T, fs, c 0, c 1, c 2, c 3, c 4, c 5, c 6, c 7, c 15, c 8, nx, qh, qt, ql, pe, nn, np, nh, nt, nl, c 9, c 10, c 11, c 17, c 12, c 13, c 14, os, oc, ss) v1) → (∀ post : Int32 → SY → Prop, ak_KY P S T c' F' (post r) → ∀ (fa fb fi : Nat → Int32), ak_PY P S T F fa fb fi → wpY_wake post (nI P, nI S, nI T, nI F.length, c 2, c 3, c 4, c 5, c 6, c 7, c 16, c 8, c 0, c 1, c 10, c 11, c 17, c 14, c 12, c 9, c 13, fa, fb, fi) v1) → ak_OUT P S T (fun post => wpX_wake post u v1) (fun post => wpY_wake post v v1) :=
    fun r c' F' I' h1 h2 => ⟨r, c', F', I', fun post K => ak_elX (M := fun u => wpX_wake post u v1) RX (h1 post K), fun post K => ak_elY (M := fun v => wpY_wake post v v1) RY (h2 post K)⟩
  by_cases z0 : v1 < 0
  · exact H 0 c F I (fun post K fs nx qh qt ql pe nn np nh nt nl os oc ss R => br_t z0 (K _ _ _ _ _ _ _ _ _ _ _ _ _ _ R)) (fun post K fa fb fi R => br_t z0 (K _ _ _ R))
  by_cases z1 : nI T ≤ v1
  · exact H 0 c F I (fun post K fs nx qh qt ql pe nn np nh nt nl os oc ss R => br_f z0 (br_t z1 (K _ _ _ _ _ _ _ _ _ _ _ _ _ _ R))) (fun post K fa fb fi R => br_f z0 (br_t z1 (K _ _ _ R)))
  rcases pk_ix v1 (n := T) (by omega) with z | z | ⟨t, ht, rfl⟩
  · exact absurd z z0
  · exact absurd z z1
  have it : vp_in (nI t) 16 := ak_in (by omega) (by omega)
  have et : (nI t).toNatClampNeg = t := ak_cl (by omega)
  by_cases h4 : (c 5) t = 4
  · obtain ⟨s, j, a, q1, q2, q3, q4, q5, q6, q7, q8⟩ := ak_thr I ht (by rw [h4]; decide)
    have I1 := ai_wak I ht q1 q4 h4
    have hcd : ∀ f ∈ F, ak_cd f ≠ 3 * 16 + t := by
      intro f hf hc
      have : f ∈ ak_V F t := ak_V_mem.mpr ⟨hf, by
        rcases ak_sh I hf with ⟨s, x, j, h1, h2, h3, rfl, _⟩ | ⟨s, x, l, h1, h2, h3, rfl, _⟩ | ⟨s, x, h1, h2, rfl, _⟩ | ⟨s, x, h1, h2, rfl | rfl, _⟩ | ⟨s, p, h1, h2, rfl, _⟩
        · rw [ak_cd5 (by omega)] at hc; omega
        · rw [ak_cd5 (by omega)] at hc; omega
        · rw [ak_cd20] at hc; omega
        · rw [ak_cd20] at hc; omega
        · rw [ak_cd20] at hc; rw [ak_sjn (by omega) rfl]; omega
        · rw [ak_cd20] at hc; omega⟩
      rw [h4] at q8
      rcases q8 with ⟨y, _⟩ | ⟨y, _⟩ | ⟨y, _⟩ | ⟨_, y | y⟩ | ⟨y, _⟩
      · exact absurd y (by decide)
      · exact absurd y (by decide)
      · exact absurd y (by decide)
      · rw [y] at this; exact absurd this List.not_mem_nil
      · rw [y] at this
        rw [List.mem_singleton.mp this, ak_cd20] at hc
        omega
      · exact absurd y (by decide)
    obtain ⟨c2, F2, I2, hX2, hY2⟩ := as_set I1
    refine H 1 c2 F2 I2 (fun post K fs nx qh qt ql pe nn np nh nt nl os oc ss R => br_f z0 (br_f z1 (And.intro it (br_t (by rw [et]; exact h4) ?_)))) (fun post K fa fb fi R => br_f z0 (br_f z1 (And.intro it (br_t (by rw [et]; exact h4) (And.intro it (nm_r (e' := upd (c 5) t 5) (by rw [et]) (And.intro it ?_)))))))
    · refine ax_save (k := 3) (s := s) (ak_mkX R) (by omega) q4 (by omega) (by omega) (by omega) hcd ?_
      intro fs nx qh qt ql pe nn np nh nt nl os oc ss R
      refine hX2 _ _ (ak_mkX R) ?_
      intro fs nx qh qt ql pe nn np nh nt nl os oc ss R
      exact K _ _ _ _ _ _ _ _ _ _ _ _ _ _ R
    · rw [et, q4, show (48 : Int32) + nI t = nI (48 + t) from nI_add 48 t]
      refine ay_app (k := 20 + s) (b := 3) (c := (ak_sa c 5 (upd (c 5) t 5))) (ak_mkY (c := (ak_sa c 5 (upd (c 5) t 5))) R) (Or.inr ⟨by simp, by simp; omega, by simp; omega, by simp; omega⟩) (by rw [ak_cd20]; exact hcd) (ak_sp20 s) (ak_ls20 s) ?_
      intro fa fb fi R
      refine hY2 _ _ (ak_mkY R) ?_
      intro fa fb fi R
      exact K _ _ _ R
  · exact H 0 c F I (fun post K fs nx qh qt ql pe nn np nh nt nl os oc ss R => br_f z0 (br_f z1 (And.intro it (br_f (by rw [et]; exact h4) (K _ _ _ _ _ _ _ _ _ _ _ _ _ _ R))))) (fun post K fa fb fi R => br_f z0 (br_f z1 (And.intro it (br_f (by rw [et]; exact h4) (K _ _ _ R)))))
theorem au_run (I : ak_I P S T c F) (RX : ak_RX P S T c F u) (RY : ak_RY P S T c F v) (v1 : Int32) : ak_OUT P S T (fun post => wpX_run post u v1) (fun post => wpY_run post v v1) := by
  have H : ∀ r c' F', ak_I P S T c' F' → (∀ post : Int32 → SX → Prop, ak_KX P S T c' F' (post r) → ∀ (fs : Int32) (nx qh qt ql pe nn np nh nt nl os oc ss : Nat → Int32), ak_PX P S T (c 2) (c 3) F fs nx qh qt ql pe nn np nh nt nl os oc ss → wpX_run post (nI P, nI S, nI T, fs, c 0, c 1, c 2, c 3, c 4, c 5, c 6, c 7, c 15, c 8, nx, qh, qt, ql, pe, nn, np, nh, nt, nl, c 9, c 10, c 11, c 17, c 12, c 13, c 14, os, oc, ss) v1) → (∀ post : Int32 → SY → Prop, ak_KY P S T c' F' (post r) → ∀ (fa fb fi : Nat → Int32), ak_PY P S T F fa fb fi → wpY_run post (nI P, nI S, nI T, nI F.length, c 2, c 3, c 4, c 5, c 6, c 7, c 16, c 8, c 0, c 1, c 10, c 11, c 17, c 14, c 12, c 9, c 13, fa, fb, fi) v1) → ak_OUT P S T (fun post => wpX_run post u v1) (fun post => wpY_run post v v1) :=
    fun r c' F' I' h1 h2 => ⟨r, c', F', I', fun post K => ak_elX (M := fun u => wpX_run post u v1) RX (h1 post K), fun post K => ak_elY (M := fun v => wpY_run post v v1) RY (h2 post K)⟩
  by_cases z0 : v1 < 1
  · exact H 0 c F I (fun post K fs nx qh qt ql pe nn np nh nt nl os oc ss R => br_t z0 (K _ _ _ _ _ _ _ _ _ _ _ _ _ _ R)) (fun post K fa fb fi R => br_t z0 (K _ _ _ R))
  by_cases z1 : v1 ≤ 32
  · have n0 : ¬ v1 < 0 := fun w => z0 (by
      have e2 := Int32.lt_iff_toInt_lt.mp w
      rw [show (0 : Int32).toInt = 0 from by decide] at e2
      rw [Int32.lt_iff_toInt_lt, show (1 : Int32).toInt = 1 from by decide]
      omega)
    obtain ⟨k, hk, rfl⟩ := nI_of2 (M := 32) (n := 32) (by decide) n0 z1
    obtain ⟨c', F', I', hX, hY⟩ := as_tl hk k c F 0 (Nat.zero_add k) I
    exact H 1 c' F' I' (fun post K fs nx qh qt ql pe nn np nh nt nl os oc ss R => br_f z0 (br_t z1 (Exists.intro (k + 1) (hX post (k + 1) (by omega) K fs nx qh qt ql pe nn np nh nt nl os oc ss R)))) (fun post K fa fb fi R => br_f z0 (br_t z1 (Exists.intro (k + 1) (hY post (k + 1) (by omega) K fa fb fi R))))
  · exact H 0 c F I (fun post K fs nx qh qt ql pe nn np nh nt nl os oc ss R => br_f z0 (br_f z1 (K _ _ _ _ _ _ _ _ _ _ _ _ _ _ R))) (fun post K fa fb fi R => br_f z0 (br_f z1 (K _ _ _ R)))
end
end
section
/-! what is owed -/
def i_Rel (k : Nat) (u : SX) (v : SY) : Prop := ∃ (P S T : Nat) (c : Nat → Nat → Int32) (F : List (Nat × Nat)), ak_I P S T c F ∧ ak_RX P S T c F u ∧ ak_RY P S T c F v
theorem i_up {k : Nat} {u : SX} {v : SY} (h : i_Rel k u v) : i_Rel (k + 4) u v := h
theorem ak_fin {k P S T : Nat} {WX : (Int32 → SX → Prop) → Prop} {WY : (Int32 → SY → Prop) → Prop} (h : ak_OUT P S T WX WY) : WX (fun r u' => WY (fun r' v' => r' = r ∧ i_Rel k u' v')) := by
  obtain ⟨r, c, F, I, hX, hY⟩ := h
  refine hX _ ?_
  intro fs nx qh qt ql pe nn np nh nt nl os oc ss R
  refine hY _ ?_
  intro fa fb fi R'
  exact ⟨rfl, P, S, T, c, F, I, ak_mkX R, ak_mkY R'⟩
theorem i_vc0 (k0 : Int32) (k1 : Int32) (k2 : Int32) : wpX_init (fun u => wpY_init (fun v => i_Rel 3 u v) k0 k1 k2) k0 k1 k2 := by
  obtain ⟨P, hP⟩ := ak_CL_ex k0 (M := 6) (by omega) (by omega)
  obtain ⟨S, hS⟩ := ak_CL_ex k1 (M := 4) (by omega) (by omega)
  obtain ⟨T, hT⟩ := ak_CL_ex k2 (M := 16) (by omega) (by omega)
  have hZ : ak_Z P S T := ⟨hP.1, hP.2.1, hS.1, hS.2.1, hT.1, hT.2.1⟩
  refine ax_init hZ hP hS hT ?_
  intro fs nx qh qt ql pe nn np nh nt nl os oc ss R
  refine ay_init hZ hP hS hT ?_
  intro fa fb fi R'
  exact ⟨P, S, T, ak_c0, [], ak_I0 hZ, ak_mkX R, ak_mkY R'⟩
theorem i_vc_code {k : Nat} {u : SX} {v : SY} (I : i_Rel k u v) (hk : k + 4 ≤ 2051) (v1 : Int32) (v2 : Int32) (v3 : Int32) : wpX_code (fun r u' => wpY_code (fun r' v' => r' = r ∧ i_Rel (k + 4) u' v') v v1 v2 v3) u v1 v2 v3 := by
  obtain ⟨P, S, T, c, F, I, RX, RY⟩ := I
  exact ak_fin (au_code I RX RY v1 v2 v3)
theorem i_vc_declare {k : Nat} {u : SX} {v : SY} (I : i_Rel k u v) (hk : k + 4 ≤ 2051) (v1 : Int32) (v2 : Int32) (v3 : Int32) : wpX_declare (fun r u' => wpY_declare (fun r' v' => r' = r ∧ i_Rel (k + 4) u' v') v v1 v2 v3) u v1 v2 v3 := by
  obtain ⟨P, S, T, c, F, I, RX, RY⟩ := I
  exact ak_fin (au_declare I RX RY v1 v2 v3)
theorem i_vc_spawn {k : Nat} {u : SX} {v : SY} (I : i_Rel k u v) (hk : k + 4 ≤ 2051) (v1 : Int32) (v2 : Int32) (v3 : Int32) : wpX_spawn (fun r u' => wpY_spawn (fun r' v' => r' = r ∧ i_Rel (k + 4) u' v') v v1 v2 v3) u v1 v2 v3 := by
  obtain ⟨P, S, T, c, F, I, RX, RY⟩ := I
  exact ak_fin (au_spawn I RX RY v1 v2 v3)
theorem i_vc_wake {k : Nat} {u : SX} {v : SY} (I : i_Rel k u v) (hk : k + 4 ≤ 2051) (v1 : Int32) : wpX_wake (fun r u' => wpY_wake (fun r' v' => r' = r ∧ i_Rel (k + 4) u' v') v v1) u v1 := by
  obtain ⟨P, S, T, c, F, I, RX, RY⟩ := I
  exact ak_fin (au_wake I RX RY v1)
theorem i_vc_run {k : Nat} {u : SX} {v : SY} (I : i_Rel k u v) (hk : k + 4 ≤ 2051) (v1 : Int32) : wpX_run (fun r u' => wpY_run (fun r' v' => r' = r ∧ i_Rel (k + 4) u' v') v v1) u v1 := by
  obtain ⟨P, S, T, c, F, I, RX, RY⟩ := I
  exact ak_fin (au_run I RX RY v1)
theorem i_vc_processor {k : Nat} {u : SX} {v : SY} (I : i_Rel k u v) (hk : k + 4 ≤ 2051) (v1 : Int32) (v2 : Int32) : wpX_processor (fun r => wpY_processor (fun r' => r' = r ∧ i_Rel (k + 4) u v) v v1 v2) u v1 v2 := by
  have I0 := i_up I
  obtain ⟨P, S, T, c, F, I, RX, RY⟩ := I
  obtain ⟨r, hX, hY⟩ := au_processor I RX RY v1 v2
  exact hX _ (hY _ ⟨rfl, I0⟩)
theorem i_vc_thread {k : Nat} {u : SX} {v : SY} (I : i_Rel k u v) (hk : k + 4 ≤ 2051) (v1 : Int32) (v2 : Int32) : wpX_thread (fun r => wpY_thread (fun r' => r' = r ∧ i_Rel (k + 4) u v) v v1 v2) u v1 v2 := by
  have I0 := i_up I
  obtain ⟨P, S, T, c, F, I, RX, RY⟩ := I
  obtain ⟨r, hX, hY⟩ := au_thread I RX RY v1 v2
  exact hX _ (hY _ ⟨rfl, I0⟩)
theorem i_vc_space {k : Nat} {u : SX} {v : SY} (I : i_Rel k u v) (hk : k + 4 ≤ 2051) (v1 : Int32) (v2 : Int32) : wpX_space (fun r => wpY_space (fun r' => r' = r ∧ i_Rel (k + 4) u v) v v1 v2) u v1 v2 := by
  have I0 := i_up I
  obtain ⟨P, S, T, c, F, I, RX, RY⟩ := I
  obtain ⟨r, hX, hY⟩ := au_space I RX RY v1 v2
  exact hX _ (hY _ ⟨rfl, I0⟩)
theorem i_vc_memory {k : Nat} {u : SX} {v : SY} (I : i_Rel k u v) (hk : k + 4 ≤ 2051) (v1 : Int32) (v2 : Int32) : wpX_memory (fun r => wpY_memory (fun r' => r' = r ∧ i_Rel (k + 4) u v) v v1 v2) u v1 v2 := by
  have I0 := i_up I
  obtain ⟨P, S, T, c, F, I, RX, RY⟩ := I
  obtain ⟨r, hX, hY⟩ := au_memory I RX RY v1 v2
  exact hX _ (hY _ ⟨rfl, I0⟩)
theorem i_vc_listed {k : Nat} {u : SX} {v : SY} (I : i_Rel k u v) (hk : k + 4 ≤ 2051) (v1 : Int32) (v2 : Int32) (v3 : Int32) : wpX_listed (fun r => wpY_listed (fun r' => r' = r ∧ i_Rel (k + 4) u v) v v1 v2 v3) u v1 v2 v3 := by
  have I0 := i_up I
  obtain ⟨P, S, T, c, F, I, RX, RY⟩ := I
  obtain ⟨r, hX, hY⟩ := au_listed I RX RY v1 v2 v3
  exact hX _ (hY _ ⟨rfl, I0⟩)
theorem i_vc_delivered {k : Nat} {u : SX} {v : SY} (I : i_Rel k u v) (hk : k + 4 ≤ 2051) (v1 : Int32) (v2 : Int32) : wpX_delivered (fun r => wpY_delivered (fun r' => r' = r ∧ i_Rel (k + 4) u v) v v1 v2) u v1 v2 := by
  have I0 := i_up I
  obtain ⟨P, S, T, c, F, I, RX, RY⟩ := I
  obtain ⟨r, hX, hY⟩ := au_delivered I RX RY v1 v2
  exact hX _ (hY _ ⟨rfl, I0⟩)
theorem i_vc_cell {k : Nat} {u : SX} {v : SY} (I : i_Rel k u v) (hk : k + 4 ≤ 2051) (v1 : Int32) (v2 : Int32) : wpX_cell (fun r => wpY_cell (fun r' => r' = r ∧ i_Rel (k + 4) u v) v v1 v2) u v1 v2 := by
  have I0 := i_up I
  obtain ⟨P, S, T, c, F, I, RX, RY⟩ := I
  obtain ⟨r, hX, hY⟩ := au_cell RX RY v1 v2
  exact hX _ (hY _ ⟨rfl, I0⟩)
end
