section
/-! pure rows to paste: stores, nI and lN arithmetic, masks, shifts, narrowing, branches by naturals (pk_le, pk_lt, pk_eq), loops (lp1 .. lp16: the measure of the state; rp1 ..: recursion), negatives. Take what you need -/
theorem pk_us {f : Nat → Int32} {k : Nat} {x : Int32} : upd f k x k = x := if_pos rfl
theorem pk_un {f : Nat → Int32} {k j : Nat} {x : Int32} (h : j ≠ k) : upd f k x j = f j := if_neg h
theorem pk_uLs {f : Nat → Int64} {k : Nat} {x : Int64} : vp_updL f k x k = x := if_pos rfl
theorem pk_uLn {f : Nat → Int64} {k j : Nat} {x : Int64} (h : j ≠ k) : vp_updL f k x j = f j := if_neg h
theorem pk_sub {a b : Nat} (h : b ≤ a) : nI a - nI b = nI (a - b) := by
  obtain ⟨c, rfl⟩ : ∃ c, a = c + b := ⟨a - b, by omega⟩
  rw [← nI_add, Int32.add_sub_cancel, Nat.add_sub_cancel]
theorem pk_m1 (n : Nat) : nI (n + 1) + (-1) = nI n := by
  rw [← nI_1, Int32.add_assoc, show (1 : Int32) + (-1) = 0 from rfl, Int32.add_zero]
theorem pk_mul (a b : Nat) : nI a * nI b = nI (a * b) := (Int32.ofNat_mul a b).symm
theorem pk_div {a d : Nat} (ha : a < 2 ^ 31) (h0 : 0 < d) (hd : d < 2 ^ 31) : nI a / nI d = nI (a / d) := by
  apply Int32.toInt_inj.mp
  rw [lg_idiv_nonneg (by rw [nI_toInt ha]; omega) (by rw [nI_toInt hd]; omega), nI_toInt ha, nI_toInt hd, nI_toInt (Nat.lt_of_le_of_lt (Nat.div_le_self a d) ha)]
  first | rfl | exact (Int.natCast_ediv _ _).symm
theorem pk_rem {a d : Nat} (ha : a < 2 ^ 31) (h0 : 0 < d) (hd : d < 2 ^ 31) : nI a - nI a / nI d * nI d = nI (a % d) := by
  rw [pk_div ha h0 hd, pk_mul, pk_sub (Nat.div_mul_le_self a d)]
  exact congrArg nI (by have := Nat.div_add_mod' a d; omega)
theorem pk_sub_toInt {a b : Nat} (ha : a < 2 ^ 30) (hb : b < 2 ^ 30) : (nI a - nI b).toInt = (a : Int) - b := by
  rw [Int32.toInt_sub, nI_toInt (by omega), nI_toInt (by omega)]
  exact Int.bmod_eq_of_le (by omega) (by omega)
theorem pk_sneg {a b : Nat} (hb : b < 2 ^ 30) (h : a < b) : nI a - nI b < 0 := by
  rw [Int32.lt_iff_toInt_lt, pk_sub_toInt (by omega) hb, show (0 : Int32).toInt = 0 from by decide]
  omega
theorem pk_ix (x : Int32) {n : Nat} (hn : n < 2 ^ 31) : x < 0 ∨ nI n ≤ x ∨ ∃ j : Nat, j < n ∧ x = nI j := by
  by_cases h : x < 0
  · exact Or.inl h
  · obtain ⟨j, hj, rfl⟩ := nI_of h
    by_cases h2 : j < n
    · exact Or.inr (Or.inr ⟨j, h2, rfl⟩)
    · exact Or.inr (Or.inl (nI_le (by omega) hj))
theorem pk_le {x y : Int32} {A B : Prop} (a b : Nat) (f : a ≤ b → A) (g : b < a → B) (hx : x = nI a := by rfl) (hy : y = nI b := by rfl) (ha : a < 2 ^ 31 := by omega) (hb : b < 2 ^ 31 := by omega) : (x ≤ y → A) ∧ (¬ x ≤ y → B) := by
  subst hx hy
  rw [nI_leI ha hb]
  exact ⟨f, fun z => g (by omega)⟩
theorem pk_lt {x y : Int32} {A B : Prop} (a b : Nat) (f : a < b → A) (g : b ≤ a → B) (hx : x = nI a := by rfl) (hy : y = nI b := by rfl) (ha : a < 2 ^ 31 := by omega) (hb : b < 2 ^ 31 := by omega) : (x < y → A) ∧ (¬ x < y → B) := by
  subst hx hy
  rw [nI_ltI ha hb]
  exact ⟨f, fun z => g (by omega)⟩
theorem pk_eq {x y : Int32} {A B : Prop} (a b : Nat) (f : a = b → A) (g : a ≠ b → B) (hx : x = nI a := by rfl) (hy : y = nI b := by rfl) (ha : a < 2 ^ 31 := by omega) (hb : b < 2 ^ 31 := by omega) : (x = y → A) ∧ (¬ x = y → B) := by
  subst hx hy
  rw [nI_eq ha hb]
  exact ⟨f, g⟩
theorem pk_in {x : Int32} (n N : Nat) (h : n < N) (hx : x = nI n := by rfl) (hN : N < 2 ^ 31 := by omega) : vp_in x N := by
  subst hx
  exact vp_in_nI h hN
theorem pk_cl {x : Int32} (n : Nat) (hx : x = nI n := by rfl) (h : n < 2 ^ 31 := by omega) : x.toNatClampNeg = n := by
  subst hx
  exact nI_clamp h
theorem pk_tn {n : Nat} (h : n < 2 ^ 32) : (nI n).toBitVec.toNat = n := Nat.mod_eq_of_lt h
theorem pk_and (x : Int32) {m : Int32} (k : Nat) (hm : m.toBitVec.toNat = 2 ^ k - 1) : x &&& m = nI (x.toBitVec.toNat % 2 ^ k) := by
  apply Int32.toBitVec_inj.mp
  apply BitVec.eq_of_toNat_eq
  rw [Int32.toBitVec_and, BitVec.toNat_and, hm, Nat.and_two_pow_sub_one_eq_mod]
  show _ = (BitVec.ofNat 32 _).toNat
  rw [BitVec.toNat_ofNat]
  exact (Nat.mod_eq_of_lt (Nat.lt_of_le_of_lt (Nat.mod_le _ _) x.toBitVec.isLt)).symm
theorem pk_andN {n : Nat} (h : n < 2 ^ 32) {m : Int32} (k : Nat) (hm : m.toBitVec.toNat = 2 ^ k - 1) : nI n &&& m = nI (n % 2 ^ k) := by
  rw [pk_and _ k hm, pk_tn h]
theorem pk_andE (x : Int32) {m : Int32} (k : Nat) (hm : m.toBitVec.toNat = 2 ^ k - 1) : ∃ j : Nat, j < 2 ^ k ∧ x &&& m = nI j := ⟨_, Nat.mod_lt _ (Nat.two_pow_pos k), pk_and x k hm⟩
theorem pk_andIn (x : Int32) {m : Int32} (k : Nat) (hm : m.toBitVec.toNat = 2 ^ k - 1) (hk : k ≤ 30) : vp_in (x &&& m) (2 ^ k) := by
  obtain ⟨j, hj, e⟩ := pk_andE x k hm
  rw [e]
  exact vp_in_nI hj (Nat.lt_of_le_of_lt (Nat.pow_le_pow_right (by decide) hk) (by decide))
theorem pk_shl (a s : Int32) (k : Nat) (hs : (s.toBitVec.smod 32).toNat = k) : (a <<< s).toBitVec.toNat = a.toBitVec.toNat * 2 ^ k % 2 ^ 32 := by
  show (a.toBitVec <<< (s.toBitVec.smod 32).toNat).toNat = _
  rw [hs, BitVec.toNat_shiftLeft, Nat.shiftLeft_eq]
theorem pk_shlN {n : Nat} (s : Int32) (k : Nat) (hs : (s.toBitVec.smod 32).toNat = k) (h : n * 2 ^ k < 2 ^ 32) : nI n <<< s = nI (n * 2 ^ k) := by
  apply Int32.toBitVec_inj.mp
  apply BitVec.eq_of_toNat_eq
  have hn : n < 2 ^ 32 := Nat.lt_of_le_of_lt (Nat.le_mul_of_pos_right n (Nat.two_pow_pos k)) h
  rw [pk_shl _ _ k hs, pk_tn hn, pk_tn h, Nat.mod_eq_of_lt h]
theorem pk_shr (a s : Int32) (k : Nat) (hs : (s.toBitVec.smod 32).toNat = k) : (a >>> s).toInt = a.toInt >>> k := by
  show (a.toBitVec.sshiftRight (s.toBitVec.smod 32).toNat).toInt = _
  rw [hs, BitVec.toInt_sshiftRight]
  rfl
theorem pk_shrN {n : Nat} (h : n < 2 ^ 31) (s : Int32) (k : Nat) (hs : (s.toBitVec.smod 32).toNat = k) : nI n >>> s = nI (n / 2 ^ k) := by
  apply Int32.toInt_inj.mp
  have h2 : n / 2 ^ k ≤ n := Nat.div_le_self _ _
  rw [pk_shr _ _ k hs, nI_toInt h, nI_toInt (by omega), Int.shiftRight_eq_div_pow]
  rfl
theorem pk_ushr (x s : Int32) (k : Nat) (hs : ((s.toUInt32 &&& Int32.toUInt32 31).toBitVec % 32).toNat = k) : (x.toUInt32 >>> (s.toUInt32 &&& Int32.toUInt32 31)).toInt32.toBitVec.toNat = x.toBitVec.toNat / 2 ^ k := by
  have e : (x.toUInt32 >>> (s.toUInt32 &&& Int32.toUInt32 31)).toInt32.toBitVec = x.toBitVec >>> k := by
    rw [← hs]
    exact UInt32.toBitVec_shiftRight _ _
  rw [e, BitVec.toNat_ushiftRight, Nat.shiftRight_eq_div_pow]
theorem pk_ushrN {n : Nat} (hn : n < 2 ^ 32) (s : Int32) (k : Nat) (hs : ((s.toUInt32 &&& Int32.toUInt32 31).toBitVec % 32).toNat = k) : ((nI n).toUInt32 >>> (s.toUInt32 &&& Int32.toUInt32 31)).toInt32 = nI (n / 2 ^ k) := by
  apply Int32.toBitVec_inj.mp
  apply BitVec.eq_of_toNat_eq
  rw [pk_ushr _ s k hs, pk_tn hn, pk_tn (Nat.lt_of_le_of_lt (Nat.div_le_self _ _) hn)]
theorem pk_nb (z : Int32) : narrow .byte (.int z.toInt8.toInt32) = .int z.toInt8.toInt32 := congrArg Value.int (by simp)
theorem pk_ns (z : Int32) : narrow .short (.int z.toInt16.toInt32) = .int z.toInt16.toInt32 := congrArg Value.int (by simp)
theorem pk_fb (r : Int32) : fits .byte (.int r.toInt8.toInt32) = true := by
  have ⟨a, b⟩ := lg_i2b_range r
  have h1 : (-128 : Int32).toInt = -128 := by decide
  have h2 : (127 : Int32).toInt = 127 := by decide
  simp only [fits, Bool.and_eq_true, decide_eq_true_eq, Int32.le_iff_toInt_le, h1, h2]
  omega
theorem pk_fs (r : Int32) : fits .short (.int r.toInt16.toInt32) = true := by
  have ⟨a, b⟩ := lg_i2s_range r
  have h1 : (-32768 : Int32).toInt = -32768 := by decide
  have h2 : (32767 : Int32).toInt = 32767 := by decide
  simp only [fits, Bool.and_eq_true, decide_eq_true_eq, Int32.le_iff_toInt_le, h1, h2]
  omega
theorem pk_charN {q : Nat} (hq : q < 65536) : narrow .char (.int (nI q)) = .int (nI q) ∧ fits .char (.int (nI q)) = true := by
  constructor
  · have e : (nI q).toUInt32.toUInt16.toUInt32.toInt32 = nI q := by
      apply Int32.toBitVec_inj.mp
      apply BitVec.eq_of_toNat_eq
      show (nI q).toUInt32.toUInt16.toUInt32.toNat = q % 2 ^ 32
      rw [UInt16.toNat_toUInt32, UInt32.toNat_toUInt16, show (nI q).toUInt32.toNat = q % 2 ^ 32 from rfl]
      omega
    exact congrArg Value.int e
  · have a : (0 : Int32) ≤ nI q := nI_pos' (by omega)
    have b : nI q ≤ 65535 := nI_le (b := 65535) (by omega) (by decide)
    show (decide ((0 : Int32) ≤ nI q) && decide (nI q ≤ 65535)) = true
    rw [decide_eq_true a, decide_eq_true b]
    rfl
theorem pk_char (x : Int32) : (x.toUInt32 % 65536).toInt32 = nI (x.toBitVec.toNat % 65536) := by
  apply Int32.toBitVec_inj.mp
  apply BitVec.eq_of_toNat_eq
  rw [pk_tn (by omega)]
  show (x.toUInt32 % 65536).toNat = _
  rw [UInt32.toNat_mod]
  rfl
theorem pk_nc (x : Int32) : narrow .char (.int (x.toUInt32 % 65536).toInt32) = .int (x.toUInt32 % 65536).toInt32 := by
  rw [pk_char]
  exact (pk_charN (Nat.mod_lt _ (by decide))).1
theorem pk_fc (x : Int32) : fits .char (.int (x.toUInt32 % 65536).toInt32) = true := by
  rw [pk_char]
  exact (pk_charN (Nat.mod_lt _ (by decide))).2
theorem pk_vb (z : Int32) : vp_nar .byte z.toInt8.toInt32 = z.toInt8.toInt32 := by rw [vp_nar_byte]; simp
theorem pk_vs (z : Int32) : vp_nar .short z.toInt16.toInt32 = z.toInt16.toInt32 := by rw [vp_nar_short]; simp
theorem pk_vc (z : Int32) : vp_nar .char (z.toUInt32 % 65536).toInt32 = (z.toUInt32 % 65536).toInt32 := Value.int.inj (pk_nc z)
theorem pk_lT {n : Nat} (h : n < 2 ^ 63) : (lN n).toInt = (n : Int) := lg_ofNat_toInt h
theorem pk_lLT {a b : Nat} (ha : a < 2 ^ 63) (hb : b < 2 ^ 63) : lN a < lN b ↔ a < b := by
  rw [Int64.lt_iff_toInt_lt, pk_lT ha, pk_lT hb]; omega
theorem pk_lLE {a b : Nat} (ha : a < 2 ^ 63) (hb : b < 2 ^ 63) : lN a ≤ lN b ↔ a ≤ b := by
  rw [Int64.le_iff_toInt_le, pk_lT ha, pk_lT hb]; omega
theorem pk_lEQ {a b : Nat} (ha : a < 2 ^ 63) (hb : b < 2 ^ 63) : lN a = lN b ↔ a = b := by
  rw [← Int64.toInt_inj, pk_lT ha, pk_lT hb]; omega
theorem pk_lOf {x : Int64} (h : ¬ x < 0) : ∃ k : Nat, k < 2 ^ 63 ∧ x = lN k := by
  rw [Int64.lt_iff_toInt_lt] at h
  have h0 : (0 : Int64).toInt = 0 := by decide
  have hx := Int64.toInt_lt x
  refine ⟨x.toInt.toNat, by omega, Int64.toInt_inj.mp ?_⟩
  rw [pk_lT (by omega)]
  omega
theorem pk_lDiv {a b : Nat} (ha : a < 2 ^ 63) (h0 : 0 < b) (hb : b < 2 ^ 63) : lN a / lN b = lN (a / b) := by
  apply Int64.toInt_inj.mp
  rw [lg_ldiv_nonneg (by rw [pk_lT ha]; omega) (by rw [pk_lT hb]; omega), pk_lT ha, pk_lT hb, pk_lT (Nat.lt_of_le_of_lt (Nat.div_le_self a b) ha)]
  rfl
theorem pk_lRem {a b : Nat} (ha : a < 2 ^ 63) (h0 : 0 < b) (hb : b < 2 ^ 63) : lN a - lN a / lN b * lN b = lN (a % b) := by
  rw [pk_lDiv ha h0 hb, lN_mul, lN_sub (Nat.div_mul_le_self a b)]
  exact congrArg lN (by have := Nat.div_add_mod' a b; omega)
theorem pk_loop {σ : Type} (W : Nat → Nat → σ → Prop) (I : Nat → σ → Prop) (e i0 : Nat) (s : σ) (hi : i0 ≤ e) (h0 : I i0 s) (hx : ∀ n s, I e s → W (n + 1) e s)
    (hs : ∀ n i s, i < e → I i s → (∀ s', I (i + 1) s' → W n (i + 1) s') → W (n + 1) i s) : ∃ n, W n i0 s :=
  ⟨e + 1, loop_i W I e hx hs (e + 1) i0 s hi (by omega) h0⟩
theorem pk_loopD {σ : Type} (W : Nat → Nat → σ → Prop) (I : Nat → σ → Prop) (hx : ∀ n s, I 0 s → W (n + 1) 0 s)
    (hs : ∀ n i s, I (i + 1) s → (∀ s', I i s' → W n i s') → W (n + 1) (i + 1) s) : ∀ (e : Nat) (s : σ), I e s → W (e + 1) e s := by
  intro e
  induction e with
  | zero => exact fun s h => hx 0 s h
  | succ e ih => exact fun s h => hs (e + 1) e s h (fun s' h' => ih s' h')
theorem lp1 {A1 : Type} (W : Nat → A1 → Prop) (I : A1 → Prop) (μ : A1 → Nat) (hs : ∀ (n : Nat) (a1 : A1), I a1 → (∀ (b1 : A1), I b1 → μ b1 < μ a1 → W n b1) → W (n + 1) a1) (a1 : A1) (h : I a1) : ∃ n, W n a1 :=
  loop_m (σ := A1) (fun n s => W n s) (fun s => I s) (fun s => μ s) (fun n s hI hk => hs n s hI (fun b1 h9 hm => hk b1 h9 hm)) a1 h
theorem lp2 {A1 A2 : Type} (W : Nat → A1 → A2 → Prop) (I : A1 → A2 → Prop) (μ : A1 → A2 → Nat) (hs : ∀ (n : Nat) (a1 : A1) (a2 : A2), I a1 a2 → (∀ (b1 : A1) (b2 : A2), I b1 b2 → μ b1 b2 < μ a1 a2 → W n b1 b2) → W (n + 1) a1 a2) (a1 : A1) (a2 : A2) (h : I a1 a2) : ∃ n, W n a1 a2 :=
  loop_m (σ := A1 × A2) (fun n s => W n s.1 s.2) (fun s => I s.1 s.2) (fun s => μ s.1 s.2) (fun n s hI hk => hs n s.1 s.2 hI (fun b1 b2 h9 hm => hk (b1, b2) h9 hm)) (a1, a2) h
theorem lp3 {A1 A2 A3 : Type} (W : Nat → A1 → A2 → A3 → Prop) (I : A1 → A2 → A3 → Prop) (μ : A1 → A2 → A3 → Nat) (hs : ∀ (n : Nat) (a1 : A1) (a2 : A2) (a3 : A3), I a1 a2 a3 → (∀ (b1 : A1) (b2 : A2) (b3 : A3), I b1 b2 b3 → μ b1 b2 b3 < μ a1 a2 a3 → W n b1 b2 b3) → W (n + 1) a1 a2 a3) (a1 : A1) (a2 : A2) (a3 : A3) (h : I a1 a2 a3) : ∃ n, W n a1 a2 a3 :=
  loop_m (σ := A1 × A2 × A3) (fun n s => W n s.1 s.2.1 s.2.2) (fun s => I s.1 s.2.1 s.2.2) (fun s => μ s.1 s.2.1 s.2.2) (fun n s hI hk => hs n s.1 s.2.1 s.2.2 hI (fun b1 b2 b3 h9 hm => hk (b1, b2, b3) h9 hm)) (a1, a2, a3) h
theorem lp4 {A1 A2 A3 A4 : Type} (W : Nat → A1 → A2 → A3 → A4 → Prop) (I : A1 → A2 → A3 → A4 → Prop) (μ : A1 → A2 → A3 → A4 → Nat) (hs : ∀ (n : Nat) (a1 : A1) (a2 : A2) (a3 : A3) (a4 : A4), I a1 a2 a3 a4 → (∀ (b1 : A1) (b2 : A2) (b3 : A3) (b4 : A4), I b1 b2 b3 b4 → μ b1 b2 b3 b4 < μ a1 a2 a3 a4 → W n b1 b2 b3 b4) → W (n + 1) a1 a2 a3 a4) (a1 : A1) (a2 : A2) (a3 : A3) (a4 : A4) (h : I a1 a2 a3 a4) : ∃ n, W n a1 a2 a3 a4 :=
  loop_m (σ := A1 × A2 × A3 × A4) (fun n s => W n s.1 s.2.1 s.2.2.1 s.2.2.2) (fun s => I s.1 s.2.1 s.2.2.1 s.2.2.2) (fun s => μ s.1 s.2.1 s.2.2.1 s.2.2.2) (fun n s hI hk => hs n s.1 s.2.1 s.2.2.1 s.2.2.2 hI (fun b1 b2 b3 b4 h9 hm => hk (b1, b2, b3, b4) h9 hm)) (a1, a2, a3, a4) h
theorem lp5 {A1 A2 A3 A4 A5 : Type} (W : Nat → A1 → A2 → A3 → A4 → A5 → Prop) (I : A1 → A2 → A3 → A4 → A5 → Prop) (μ : A1 → A2 → A3 → A4 → A5 → Nat) (hs : ∀ (n : Nat) (a1 : A1) (a2 : A2) (a3 : A3) (a4 : A4) (a5 : A5), I a1 a2 a3 a4 a5 → (∀ (b1 : A1) (b2 : A2) (b3 : A3) (b4 : A4) (b5 : A5), I b1 b2 b3 b4 b5 → μ b1 b2 b3 b4 b5 < μ a1 a2 a3 a4 a5 → W n b1 b2 b3 b4 b5) → W (n + 1) a1 a2 a3 a4 a5) (a1 : A1) (a2 : A2) (a3 : A3) (a4 : A4) (a5 : A5) (h : I a1 a2 a3 a4 a5) : ∃ n, W n a1 a2 a3 a4 a5 :=
  loop_m (σ := A1 × A2 × A3 × A4 × A5) (fun n s => W n s.1 s.2.1 s.2.2.1 s.2.2.2.1 s.2.2.2.2) (fun s => I s.1 s.2.1 s.2.2.1 s.2.2.2.1 s.2.2.2.2) (fun s => μ s.1 s.2.1 s.2.2.1 s.2.2.2.1 s.2.2.2.2) (fun n s hI hk => hs n s.1 s.2.1 s.2.2.1 s.2.2.2.1 s.2.2.2.2 hI (fun b1 b2 b3 b4 b5 h9 hm => hk (b1, b2, b3, b4, b5) h9 hm)) (a1, a2, a3, a4, a5) h
theorem lp6 {A1 A2 A3 A4 A5 A6 : Type} (W : Nat → A1 → A2 → A3 → A4 → A5 → A6 → Prop) (I : A1 → A2 → A3 → A4 → A5 → A6 → Prop) (μ : A1 → A2 → A3 → A4 → A5 → A6 → Nat) (hs : ∀ (n : Nat) (a1 : A1) (a2 : A2) (a3 : A3) (a4 : A4) (a5 : A5) (a6 : A6), I a1 a2 a3 a4 a5 a6 → (∀ (b1 : A1) (b2 : A2) (b3 : A3) (b4 : A4) (b5 : A5) (b6 : A6), I b1 b2 b3 b4 b5 b6 → μ b1 b2 b3 b4 b5 b6 < μ a1 a2 a3 a4 a5 a6 → W n b1 b2 b3 b4 b5 b6) → W (n + 1) a1 a2 a3 a4 a5 a6) (a1 : A1) (a2 : A2) (a3 : A3) (a4 : A4) (a5 : A5) (a6 : A6) (h : I a1 a2 a3 a4 a5 a6) : ∃ n, W n a1 a2 a3 a4 a5 a6 :=
  loop_m (σ := A1 × A2 × A3 × A4 × A5 × A6) (fun n s => W n s.1 s.2.1 s.2.2.1 s.2.2.2.1 s.2.2.2.2.1 s.2.2.2.2.2) (fun s => I s.1 s.2.1 s.2.2.1 s.2.2.2.1 s.2.2.2.2.1 s.2.2.2.2.2) (fun s => μ s.1 s.2.1 s.2.2.1 s.2.2.2.1 s.2.2.2.2.1 s.2.2.2.2.2) (fun n s hI hk => hs n s.1 s.2.1 s.2.2.1 s.2.2.2.1 s.2.2.2.2.1 s.2.2.2.2.2 hI (fun b1 b2 b3 b4 b5 b6 h9 hm => hk (b1, b2, b3, b4, b5, b6) h9 hm)) (a1, a2, a3, a4, a5, a6) h
theorem lp7 {A1 A2 A3 A4 A5 A6 A7 : Type} (W : Nat → A1 → A2 → A3 → A4 → A5 → A6 → A7 → Prop) (I : A1 → A2 → A3 → A4 → A5 → A6 → A7 → Prop) (μ : A1 → A2 → A3 → A4 → A5 → A6 → A7 → Nat) (hs : ∀ (n : Nat) (a1 : A1) (a2 : A2) (a3 : A3) (a4 : A4) (a5 : A5) (a6 : A6) (a7 : A7), I a1 a2 a3 a4 a5 a6 a7 → (∀ (b1 : A1) (b2 : A2) (b3 : A3) (b4 : A4) (b5 : A5) (b6 : A6) (b7 : A7), I b1 b2 b3 b4 b5 b6 b7 → μ b1 b2 b3 b4 b5 b6 b7 < μ a1 a2 a3 a4 a5 a6 a7 → W n b1 b2 b3 b4 b5 b6 b7) → W (n + 1) a1 a2 a3 a4 a5 a6 a7) (a1 : A1) (a2 : A2) (a3 : A3) (a4 : A4) (a5 : A5) (a6 : A6) (a7 : A7) (h : I a1 a2 a3 a4 a5 a6 a7) : ∃ n, W n a1 a2 a3 a4 a5 a6 a7 :=
  loop_m (σ := A1 × A2 × A3 × A4 × A5 × A6 × A7) (fun n s => W n s.1 s.2.1 s.2.2.1 s.2.2.2.1 s.2.2.2.2.1 s.2.2.2.2.2.1 s.2.2.2.2.2.2) (fun s => I s.1 s.2.1 s.2.2.1 s.2.2.2.1 s.2.2.2.2.1 s.2.2.2.2.2.1 s.2.2.2.2.2.2) (fun s => μ s.1 s.2.1 s.2.2.1 s.2.2.2.1 s.2.2.2.2.1 s.2.2.2.2.2.1 s.2.2.2.2.2.2) (fun n s hI hk => hs n s.1 s.2.1 s.2.2.1 s.2.2.2.1 s.2.2.2.2.1 s.2.2.2.2.2.1 s.2.2.2.2.2.2 hI (fun b1 b2 b3 b4 b5 b6 b7 h9 hm => hk (b1, b2, b3, b4, b5, b6, b7) h9 hm)) (a1, a2, a3, a4, a5, a6, a7) h
theorem lp8 {A1 A2 A3 A4 A5 A6 A7 A8 : Type} (W : Nat → A1 → A2 → A3 → A4 → A5 → A6 → A7 → A8 → Prop) (I : A1 → A2 → A3 → A4 → A5 → A6 → A7 → A8 → Prop) (μ : A1 → A2 → A3 → A4 → A5 → A6 → A7 → A8 → Nat) (hs : ∀ (n : Nat) (a1 : A1) (a2 : A2) (a3 : A3) (a4 : A4) (a5 : A5) (a6 : A6) (a7 : A7) (a8 : A8), I a1 a2 a3 a4 a5 a6 a7 a8 → (∀ (b1 : A1) (b2 : A2) (b3 : A3) (b4 : A4) (b5 : A5) (b6 : A6) (b7 : A7) (b8 : A8), I b1 b2 b3 b4 b5 b6 b7 b8 → μ b1 b2 b3 b4 b5 b6 b7 b8 < μ a1 a2 a3 a4 a5 a6 a7 a8 → W n b1 b2 b3 b4 b5 b6 b7 b8) → W (n + 1) a1 a2 a3 a4 a5 a6 a7 a8) (a1 : A1) (a2 : A2) (a3 : A3) (a4 : A4) (a5 : A5) (a6 : A6) (a7 : A7) (a8 : A8) (h : I a1 a2 a3 a4 a5 a6 a7 a8) : ∃ n, W n a1 a2 a3 a4 a5 a6 a7 a8 :=
  loop_m (σ := A1 × A2 × A3 × A4 × A5 × A6 × A7 × A8) (fun n s => W n s.1 s.2.1 s.2.2.1 s.2.2.2.1 s.2.2.2.2.1 s.2.2.2.2.2.1 s.2.2.2.2.2.2.1 s.2.2.2.2.2.2.2) (fun s => I s.1 s.2.1 s.2.2.1 s.2.2.2.1 s.2.2.2.2.1 s.2.2.2.2.2.1 s.2.2.2.2.2.2.1 s.2.2.2.2.2.2.2) (fun s => μ s.1 s.2.1 s.2.2.1 s.2.2.2.1 s.2.2.2.2.1 s.2.2.2.2.2.1 s.2.2.2.2.2.2.1 s.2.2.2.2.2.2.2) (fun n s hI hk => hs n s.1 s.2.1 s.2.2.1 s.2.2.2.1 s.2.2.2.2.1 s.2.2.2.2.2.1 s.2.2.2.2.2.2.1 s.2.2.2.2.2.2.2 hI (fun b1 b2 b3 b4 b5 b6 b7 b8 h9 hm => hk (b1, b2, b3, b4, b5, b6, b7, b8) h9 hm)) (a1, a2, a3, a4, a5, a6, a7, a8) h
theorem lp9 {A1 A2 A3 A4 A5 A6 A7 A8 A9 : Type} (W : Nat → A1 → A2 → A3 → A4 → A5 → A6 → A7 → A8 → A9 → Prop) (I : A1 → A2 → A3 → A4 → A5 → A6 → A7 → A8 → A9 → Prop) (μ : A1 → A2 → A3 → A4 → A5 → A6 → A7 → A8 → A9 → Nat) (hs : ∀ (n : Nat) (a1 : A1) (a2 : A2) (a3 : A3) (a4 : A4) (a5 : A5) (a6 : A6) (a7 : A7) (a8 : A8) (a9 : A9), I a1 a2 a3 a4 a5 a6 a7 a8 a9 → (∀ (b1 : A1) (b2 : A2) (b3 : A3) (b4 : A4) (b5 : A5) (b6 : A6) (b7 : A7) (b8 : A8) (b9 : A9), I b1 b2 b3 b4 b5 b6 b7 b8 b9 → μ b1 b2 b3 b4 b5 b6 b7 b8 b9 < μ a1 a2 a3 a4 a5 a6 a7 a8 a9 → W n b1 b2 b3 b4 b5 b6 b7 b8 b9) → W (n + 1) a1 a2 a3 a4 a5 a6 a7 a8 a9) (a1 : A1) (a2 : A2) (a3 : A3) (a4 : A4) (a5 : A5) (a6 : A6) (a7 : A7) (a8 : A8) (a9 : A9) (h : I a1 a2 a3 a4 a5 a6 a7 a8 a9) : ∃ n, W n a1 a2 a3 a4 a5 a6 a7 a8 a9 :=
  loop_m (σ := A1 × A2 × A3 × A4 × A5 × A6 × A7 × A8 × A9) (fun n s => W n s.1 s.2.1 s.2.2.1 s.2.2.2.1 s.2.2.2.2.1 s.2.2.2.2.2.1 s.2.2.2.2.2.2.1 s.2.2.2.2.2.2.2.1 s.2.2.2.2.2.2.2.2) (fun s => I s.1 s.2.1 s.2.2.1 s.2.2.2.1 s.2.2.2.2.1 s.2.2.2.2.2.1 s.2.2.2.2.2.2.1 s.2.2.2.2.2.2.2.1 s.2.2.2.2.2.2.2.2) (fun s => μ s.1 s.2.1 s.2.2.1 s.2.2.2.1 s.2.2.2.2.1 s.2.2.2.2.2.1 s.2.2.2.2.2.2.1 s.2.2.2.2.2.2.2.1 s.2.2.2.2.2.2.2.2) (fun n s hI hk => hs n s.1 s.2.1 s.2.2.1 s.2.2.2.1 s.2.2.2.2.1 s.2.2.2.2.2.1 s.2.2.2.2.2.2.1 s.2.2.2.2.2.2.2.1 s.2.2.2.2.2.2.2.2 hI (fun b1 b2 b3 b4 b5 b6 b7 b8 b9 h9 hm => hk (b1, b2, b3, b4, b5, b6, b7, b8, b9) h9 hm)) (a1, a2, a3, a4, a5, a6, a7, a8, a9) h
theorem lp10 {A1 A2 A3 A4 A5 A6 A7 A8 A9 A10 : Type} (W : Nat → A1 → A2 → A3 → A4 → A5 → A6 → A7 → A8 → A9 → A10 → Prop) (I : A1 → A2 → A3 → A4 → A5 → A6 → A7 → A8 → A9 → A10 → Prop) (μ : A1 → A2 → A3 → A4 → A5 → A6 → A7 → A8 → A9 → A10 → Nat) (hs : ∀ (n : Nat) (a1 : A1) (a2 : A2) (a3 : A3) (a4 : A4) (a5 : A5) (a6 : A6) (a7 : A7) (a8 : A8) (a9 : A9) (a10 : A10), I a1 a2 a3 a4 a5 a6 a7 a8 a9 a10 → (∀ (b1 : A1) (b2 : A2) (b3 : A3) (b4 : A4) (b5 : A5) (b6 : A6) (b7 : A7) (b8 : A8) (b9 : A9) (b10 : A10), I b1 b2 b3 b4 b5 b6 b7 b8 b9 b10 → μ b1 b2 b3 b4 b5 b6 b7 b8 b9 b10 < μ a1 a2 a3 a4 a5 a6 a7 a8 a9 a10 → W n b1 b2 b3 b4 b5 b6 b7 b8 b9 b10) → W (n + 1) a1 a2 a3 a4 a5 a6 a7 a8 a9 a10) (a1 : A1) (a2 : A2) (a3 : A3) (a4 : A4) (a5 : A5) (a6 : A6) (a7 : A7) (a8 : A8) (a9 : A9) (a10 : A10) (h : I a1 a2 a3 a4 a5 a6 a7 a8 a9 a10) : ∃ n, W n a1 a2 a3 a4 a5 a6 a7 a8 a9 a10 :=
  loop_m (σ := A1 × A2 × A3 × A4 × A5 × A6 × A7 × A8 × A9 × A10) (fun n s => W n s.1 s.2.1 s.2.2.1 s.2.2.2.1 s.2.2.2.2.1 s.2.2.2.2.2.1 s.2.2.2.2.2.2.1 s.2.2.2.2.2.2.2.1 s.2.2.2.2.2.2.2.2.1 s.2.2.2.2.2.2.2.2.2) (fun s => I s.1 s.2.1 s.2.2.1 s.2.2.2.1 s.2.2.2.2.1 s.2.2.2.2.2.1 s.2.2.2.2.2.2.1 s.2.2.2.2.2.2.2.1 s.2.2.2.2.2.2.2.2.1 s.2.2.2.2.2.2.2.2.2) (fun s => μ s.1 s.2.1 s.2.2.1 s.2.2.2.1 s.2.2.2.2.1 s.2.2.2.2.2.1 s.2.2.2.2.2.2.1 s.2.2.2.2.2.2.2.1 s.2.2.2.2.2.2.2.2.1 s.2.2.2.2.2.2.2.2.2) (fun n s hI hk => hs n s.1 s.2.1 s.2.2.1 s.2.2.2.1 s.2.2.2.2.1 s.2.2.2.2.2.1 s.2.2.2.2.2.2.1 s.2.2.2.2.2.2.2.1 s.2.2.2.2.2.2.2.2.1 s.2.2.2.2.2.2.2.2.2 hI (fun b1 b2 b3 b4 b5 b6 b7 b8 b9 b10 h9 hm => hk (b1, b2, b3, b4, b5, b6, b7, b8, b9, b10) h9 hm)) (a1, a2, a3, a4, a5, a6, a7, a8, a9, a10) h
theorem lp11 {A1 A2 A3 A4 A5 A6 A7 A8 A9 A10 A11 : Type} (W : Nat → A1 → A2 → A3 → A4 → A5 → A6 → A7 → A8 → A9 → A10 → A11 → Prop) (I : A1 → A2 → A3 → A4 → A5 → A6 → A7 → A8 → A9 → A10 → A11 → Prop) (μ : A1 → A2 → A3 → A4 → A5 → A6 → A7 → A8 → A9 → A10 → A11 → Nat) (hs : ∀ (n : Nat) (a1 : A1) (a2 : A2) (a3 : A3) (a4 : A4) (a5 : A5) (a6 : A6) (a7 : A7) (a8 : A8) (a9 : A9) (a10 : A10) (a11 : A11), I a1 a2 a3 a4 a5 a6 a7 a8 a9 a10 a11 → (∀ (b1 : A1) (b2 : A2) (b3 : A3) (b4 : A4) (b5 : A5) (b6 : A6) (b7 : A7) (b8 : A8) (b9 : A9) (b10 : A10) (b11 : A11), I b1 b2 b3 b4 b5 b6 b7 b8 b9 b10 b11 → μ b1 b2 b3 b4 b5 b6 b7 b8 b9 b10 b11 < μ a1 a2 a3 a4 a5 a6 a7 a8 a9 a10 a11 → W n b1 b2 b3 b4 b5 b6 b7 b8 b9 b10 b11) → W (n + 1) a1 a2 a3 a4 a5 a6 a7 a8 a9 a10 a11) (a1 : A1) (a2 : A2) (a3 : A3) (a4 : A4) (a5 : A5) (a6 : A6) (a7 : A7) (a8 : A8) (a9 : A9) (a10 : A10) (a11 : A11) (h : I a1 a2 a3 a4 a5 a6 a7 a8 a9 a10 a11) : ∃ n, W n a1 a2 a3 a4 a5 a6 a7 a8 a9 a10 a11 :=
  loop_m (σ := A1 × A2 × A3 × A4 × A5 × A6 × A7 × A8 × A9 × A10 × A11) (fun n s => W n s.1 s.2.1 s.2.2.1 s.2.2.2.1 s.2.2.2.2.1 s.2.2.2.2.2.1 s.2.2.2.2.2.2.1 s.2.2.2.2.2.2.2.1 s.2.2.2.2.2.2.2.2.1 s.2.2.2.2.2.2.2.2.2.1 s.2.2.2.2.2.2.2.2.2.2) (fun s => I s.1 s.2.1 s.2.2.1 s.2.2.2.1 s.2.2.2.2.1 s.2.2.2.2.2.1 s.2.2.2.2.2.2.1 s.2.2.2.2.2.2.2.1 s.2.2.2.2.2.2.2.2.1 s.2.2.2.2.2.2.2.2.2.1 s.2.2.2.2.2.2.2.2.2.2) (fun s => μ s.1 s.2.1 s.2.2.1 s.2.2.2.1 s.2.2.2.2.1 s.2.2.2.2.2.1 s.2.2.2.2.2.2.1 s.2.2.2.2.2.2.2.1 s.2.2.2.2.2.2.2.2.1 s.2.2.2.2.2.2.2.2.2.1 s.2.2.2.2.2.2.2.2.2.2) (fun n s hI hk => hs n s.1 s.2.1 s.2.2.1 s.2.2.2.1 s.2.2.2.2.1 s.2.2.2.2.2.1 s.2.2.2.2.2.2.1 s.2.2.2.2.2.2.2.1 s.2.2.2.2.2.2.2.2.1 s.2.2.2.2.2.2.2.2.2.1 s.2.2.2.2.2.2.2.2.2.2 hI (fun b1 b2 b3 b4 b5 b6 b7 b8 b9 b10 b11 h9 hm => hk (b1, b2, b3, b4, b5, b6, b7, b8, b9, b10, b11) h9 hm)) (a1, a2, a3, a4, a5, a6, a7, a8, a9, a10, a11) h
theorem lp12 {A1 A2 A3 A4 A5 A6 A7 A8 A9 A10 A11 A12 : Type} (W : Nat → A1 → A2 → A3 → A4 → A5 → A6 → A7 → A8 → A9 → A10 → A11 → A12 → Prop) (I : A1 → A2 → A3 → A4 → A5 → A6 → A7 → A8 → A9 → A10 → A11 → A12 → Prop) (μ : A1 → A2 → A3 → A4 → A5 → A6 → A7 → A8 → A9 → A10 → A11 → A12 → Nat) (hs : ∀ (n : Nat) (a1 : A1) (a2 : A2) (a3 : A3) (a4 : A4) (a5 : A5) (a6 : A6) (a7 : A7) (a8 : A8) (a9 : A9) (a10 : A10) (a11 : A11) (a12 : A12), I a1 a2 a3 a4 a5 a6 a7 a8 a9 a10 a11 a12 → (∀ (b1 : A1) (b2 : A2) (b3 : A3) (b4 : A4) (b5 : A5) (b6 : A6) (b7 : A7) (b8 : A8) (b9 : A9) (b10 : A10) (b11 : A11) (b12 : A12), I b1 b2 b3 b4 b5 b6 b7 b8 b9 b10 b11 b12 → μ b1 b2 b3 b4 b5 b6 b7 b8 b9 b10 b11 b12 < μ a1 a2 a3 a4 a5 a6 a7 a8 a9 a10 a11 a12 → W n b1 b2 b3 b4 b5 b6 b7 b8 b9 b10 b11 b12) → W (n + 1) a1 a2 a3 a4 a5 a6 a7 a8 a9 a10 a11 a12) (a1 : A1) (a2 : A2) (a3 : A3) (a4 : A4) (a5 : A5) (a6 : A6) (a7 : A7) (a8 : A8) (a9 : A9) (a10 : A10) (a11 : A11) (a12 : A12) (h : I a1 a2 a3 a4 a5 a6 a7 a8 a9 a10 a11 a12) : ∃ n, W n a1 a2 a3 a4 a5 a6 a7 a8 a9 a10 a11 a12 :=
  loop_m (σ := A1 × A2 × A3 × A4 × A5 × A6 × A7 × A8 × A9 × A10 × A11 × A12) (fun n s => W n s.1 s.2.1 s.2.2.1 s.2.2.2.1 s.2.2.2.2.1 s.2.2.2.2.2.1 s.2.2.2.2.2.2.1 s.2.2.2.2.2.2.2.1 s.2.2.2.2.2.2.2.2.1 s.2.2.2.2.2.2.2.2.2.1 s.2.2.2.2.2.2.2.2.2.2.1 s.2.2.2.2.2.2.2.2.2.2.2) (fun s => I s.1 s.2.1 s.2.2.1 s.2.2.2.1 s.2.2.2.2.1 s.2.2.2.2.2.1 s.2.2.2.2.2.2.1 s.2.2.2.2.2.2.2.1 s.2.2.2.2.2.2.2.2.1 s.2.2.2.2.2.2.2.2.2.1 s.2.2.2.2.2.2.2.2.2.2.1 s.2.2.2.2.2.2.2.2.2.2.2) (fun s => μ s.1 s.2.1 s.2.2.1 s.2.2.2.1 s.2.2.2.2.1 s.2.2.2.2.2.1 s.2.2.2.2.2.2.1 s.2.2.2.2.2.2.2.1 s.2.2.2.2.2.2.2.2.1 s.2.2.2.2.2.2.2.2.2.1 s.2.2.2.2.2.2.2.2.2.2.1 s.2.2.2.2.2.2.2.2.2.2.2) (fun n s hI hk => hs n s.1 s.2.1 s.2.2.1 s.2.2.2.1 s.2.2.2.2.1 s.2.2.2.2.2.1 s.2.2.2.2.2.2.1 s.2.2.2.2.2.2.2.1 s.2.2.2.2.2.2.2.2.1 s.2.2.2.2.2.2.2.2.2.1 s.2.2.2.2.2.2.2.2.2.2.1 s.2.2.2.2.2.2.2.2.2.2.2 hI (fun b1 b2 b3 b4 b5 b6 b7 b8 b9 b10 b11 b12 h9 hm => hk (b1, b2, b3, b4, b5, b6, b7, b8, b9, b10, b11, b12) h9 hm)) (a1, a2, a3, a4, a5, a6, a7, a8, a9, a10, a11, a12) h
theorem lp13 {A1 A2 A3 A4 A5 A6 A7 A8 A9 A10 A11 A12 A13 : Type} (W : Nat → A1 → A2 → A3 → A4 → A5 → A6 → A7 → A8 → A9 → A10 → A11 → A12 → A13 → Prop) (I : A1 → A2 → A3 → A4 → A5 → A6 → A7 → A8 → A9 → A10 → A11 → A12 → A13 → Prop) (μ : A1 → A2 → A3 → A4 → A5 → A6 → A7 → A8 → A9 → A10 → A11 → A12 → A13 → Nat) (hs : ∀ (n : Nat) (a1 : A1) (a2 : A2) (a3 : A3) (a4 : A4) (a5 : A5) (a6 : A6) (a7 : A7) (a8 : A8) (a9 : A9) (a10 : A10) (a11 : A11) (a12 : A12) (a13 : A13), I a1 a2 a3 a4 a5 a6 a7 a8 a9 a10 a11 a12 a13 → (∀ (b1 : A1) (b2 : A2) (b3 : A3) (b4 : A4) (b5 : A5) (b6 : A6) (b7 : A7) (b8 : A8) (b9 : A9) (b10 : A10) (b11 : A11) (b12 : A12) (b13 : A13), I b1 b2 b3 b4 b5 b6 b7 b8 b9 b10 b11 b12 b13 → μ b1 b2 b3 b4 b5 b6 b7 b8 b9 b10 b11 b12 b13 < μ a1 a2 a3 a4 a5 a6 a7 a8 a9 a10 a11 a12 a13 → W n b1 b2 b3 b4 b5 b6 b7 b8 b9 b10 b11 b12 b13) → W (n + 1) a1 a2 a3 a4 a5 a6 a7 a8 a9 a10 a11 a12 a13) (a1 : A1) (a2 : A2) (a3 : A3) (a4 : A4) (a5 : A5) (a6 : A6) (a7 : A7) (a8 : A8) (a9 : A9) (a10 : A10) (a11 : A11) (a12 : A12) (a13 : A13) (h : I a1 a2 a3 a4 a5 a6 a7 a8 a9 a10 a11 a12 a13) : ∃ n, W n a1 a2 a3 a4 a5 a6 a7 a8 a9 a10 a11 a12 a13 :=
  loop_m (σ := A1 × A2 × A3 × A4 × A5 × A6 × A7 × A8 × A9 × A10 × A11 × A12 × A13) (fun n s => W n s.1 s.2.1 s.2.2.1 s.2.2.2.1 s.2.2.2.2.1 s.2.2.2.2.2.1 s.2.2.2.2.2.2.1 s.2.2.2.2.2.2.2.1 s.2.2.2.2.2.2.2.2.1 s.2.2.2.2.2.2.2.2.2.1 s.2.2.2.2.2.2.2.2.2.2.1 s.2.2.2.2.2.2.2.2.2.2.2.1 s.2.2.2.2.2.2.2.2.2.2.2.2) (fun s => I s.1 s.2.1 s.2.2.1 s.2.2.2.1 s.2.2.2.2.1 s.2.2.2.2.2.1 s.2.2.2.2.2.2.1 s.2.2.2.2.2.2.2.1 s.2.2.2.2.2.2.2.2.1 s.2.2.2.2.2.2.2.2.2.1 s.2.2.2.2.2.2.2.2.2.2.1 s.2.2.2.2.2.2.2.2.2.2.2.1 s.2.2.2.2.2.2.2.2.2.2.2.2) (fun s => μ s.1 s.2.1 s.2.2.1 s.2.2.2.1 s.2.2.2.2.1 s.2.2.2.2.2.1 s.2.2.2.2.2.2.1 s.2.2.2.2.2.2.2.1 s.2.2.2.2.2.2.2.2.1 s.2.2.2.2.2.2.2.2.2.1 s.2.2.2.2.2.2.2.2.2.2.1 s.2.2.2.2.2.2.2.2.2.2.2.1 s.2.2.2.2.2.2.2.2.2.2.2.2) (fun n s hI hk => hs n s.1 s.2.1 s.2.2.1 s.2.2.2.1 s.2.2.2.2.1 s.2.2.2.2.2.1 s.2.2.2.2.2.2.1 s.2.2.2.2.2.2.2.1 s.2.2.2.2.2.2.2.2.1 s.2.2.2.2.2.2.2.2.2.1 s.2.2.2.2.2.2.2.2.2.2.1 s.2.2.2.2.2.2.2.2.2.2.2.1 s.2.2.2.2.2.2.2.2.2.2.2.2 hI (fun b1 b2 b3 b4 b5 b6 b7 b8 b9 b10 b11 b12 b13 h9 hm => hk (b1, b2, b3, b4, b5, b6, b7, b8, b9, b10, b11, b12, b13) h9 hm)) (a1, a2, a3, a4, a5, a6, a7, a8, a9, a10, a11, a12, a13) h
theorem lp14 {A1 A2 A3 A4 A5 A6 A7 A8 A9 A10 A11 A12 A13 A14 : Type} (W : Nat → A1 → A2 → A3 → A4 → A5 → A6 → A7 → A8 → A9 → A10 → A11 → A12 → A13 → A14 → Prop) (I : A1 → A2 → A3 → A4 → A5 → A6 → A7 → A8 → A9 → A10 → A11 → A12 → A13 → A14 → Prop) (μ : A1 → A2 → A3 → A4 → A5 → A6 → A7 → A8 → A9 → A10 → A11 → A12 → A13 → A14 → Nat) (hs : ∀ (n : Nat) (a1 : A1) (a2 : A2) (a3 : A3) (a4 : A4) (a5 : A5) (a6 : A6) (a7 : A7) (a8 : A8) (a9 : A9) (a10 : A10) (a11 : A11) (a12 : A12) (a13 : A13) (a14 : A14), I a1 a2 a3 a4 a5 a6 a7 a8 a9 a10 a11 a12 a13 a14 → (∀ (b1 : A1) (b2 : A2) (b3 : A3) (b4 : A4) (b5 : A5) (b6 : A6) (b7 : A7) (b8 : A8) (b9 : A9) (b10 : A10) (b11 : A11) (b12 : A12) (b13 : A13) (b14 : A14), I b1 b2 b3 b4 b5 b6 b7 b8 b9 b10 b11 b12 b13 b14 → μ b1 b2 b3 b4 b5 b6 b7 b8 b9 b10 b11 b12 b13 b14 < μ a1 a2 a3 a4 a5 a6 a7 a8 a9 a10 a11 a12 a13 a14 → W n b1 b2 b3 b4 b5 b6 b7 b8 b9 b10 b11 b12 b13 b14) → W (n + 1) a1 a2 a3 a4 a5 a6 a7 a8 a9 a10 a11 a12 a13 a14) (a1 : A1) (a2 : A2) (a3 : A3) (a4 : A4) (a5 : A5) (a6 : A6) (a7 : A7) (a8 : A8) (a9 : A9) (a10 : A10) (a11 : A11) (a12 : A12) (a13 : A13) (a14 : A14) (h : I a1 a2 a3 a4 a5 a6 a7 a8 a9 a10 a11 a12 a13 a14) : ∃ n, W n a1 a2 a3 a4 a5 a6 a7 a8 a9 a10 a11 a12 a13 a14 :=
  loop_m (σ := A1 × A2 × A3 × A4 × A5 × A6 × A7 × A8 × A9 × A10 × A11 × A12 × A13 × A14) (fun n s => W n s.1 s.2.1 s.2.2.1 s.2.2.2.1 s.2.2.2.2.1 s.2.2.2.2.2.1 s.2.2.2.2.2.2.1 s.2.2.2.2.2.2.2.1 s.2.2.2.2.2.2.2.2.1 s.2.2.2.2.2.2.2.2.2.1 s.2.2.2.2.2.2.2.2.2.2.1 s.2.2.2.2.2.2.2.2.2.2.2.1 s.2.2.2.2.2.2.2.2.2.2.2.2.1 s.2.2.2.2.2.2.2.2.2.2.2.2.2) (fun s => I s.1 s.2.1 s.2.2.1 s.2.2.2.1 s.2.2.2.2.1 s.2.2.2.2.2.1 s.2.2.2.2.2.2.1 s.2.2.2.2.2.2.2.1 s.2.2.2.2.2.2.2.2.1 s.2.2.2.2.2.2.2.2.2.1 s.2.2.2.2.2.2.2.2.2.2.1 s.2.2.2.2.2.2.2.2.2.2.2.1 s.2.2.2.2.2.2.2.2.2.2.2.2.1 s.2.2.2.2.2.2.2.2.2.2.2.2.2) (fun s => μ s.1 s.2.1 s.2.2.1 s.2.2.2.1 s.2.2.2.2.1 s.2.2.2.2.2.1 s.2.2.2.2.2.2.1 s.2.2.2.2.2.2.2.1 s.2.2.2.2.2.2.2.2.1 s.2.2.2.2.2.2.2.2.2.1 s.2.2.2.2.2.2.2.2.2.2.1 s.2.2.2.2.2.2.2.2.2.2.2.1 s.2.2.2.2.2.2.2.2.2.2.2.2.1 s.2.2.2.2.2.2.2.2.2.2.2.2.2) (fun n s hI hk => hs n s.1 s.2.1 s.2.2.1 s.2.2.2.1 s.2.2.2.2.1 s.2.2.2.2.2.1 s.2.2.2.2.2.2.1 s.2.2.2.2.2.2.2.1 s.2.2.2.2.2.2.2.2.1 s.2.2.2.2.2.2.2.2.2.1 s.2.2.2.2.2.2.2.2.2.2.1 s.2.2.2.2.2.2.2.2.2.2.2.1 s.2.2.2.2.2.2.2.2.2.2.2.2.1 s.2.2.2.2.2.2.2.2.2.2.2.2.2 hI (fun b1 b2 b3 b4 b5 b6 b7 b8 b9 b10 b11 b12 b13 b14 h9 hm => hk (b1, b2, b3, b4, b5, b6, b7, b8, b9, b10, b11, b12, b13, b14) h9 hm)) (a1, a2, a3, a4, a5, a6, a7, a8, a9, a10, a11, a12, a13, a14) h
theorem lp15 {A1 A2 A3 A4 A5 A6 A7 A8 A9 A10 A11 A12 A13 A14 A15 : Type} (W : Nat → A1 → A2 → A3 → A4 → A5 → A6 → A7 → A8 → A9 → A10 → A11 → A12 → A13 → A14 → A15 → Prop) (I : A1 → A2 → A3 → A4 → A5 → A6 → A7 → A8 → A9 → A10 → A11 → A12 → A13 → A14 → A15 → Prop) (μ : A1 → A2 → A3 → A4 → A5 → A6 → A7 → A8 → A9 → A10 → A11 → A12 → A13 → A14 → A15 → Nat) (hs : ∀ (n : Nat) (a1 : A1) (a2 : A2) (a3 : A3) (a4 : A4) (a5 : A5) (a6 : A6) (a7 : A7) (a8 : A8) (a9 : A9) (a10 : A10) (a11 : A11) (a12 : A12) (a13 : A13) (a14 : A14) (a15 : A15), I a1 a2 a3 a4 a5 a6 a7 a8 a9 a10 a11 a12 a13 a14 a15 → (∀ (b1 : A1) (b2 : A2) (b3 : A3) (b4 : A4) (b5 : A5) (b6 : A6) (b7 : A7) (b8 : A8) (b9 : A9) (b10 : A10) (b11 : A11) (b12 : A12) (b13 : A13) (b14 : A14) (b15 : A15), I b1 b2 b3 b4 b5 b6 b7 b8 b9 b10 b11 b12 b13 b14 b15 → μ b1 b2 b3 b4 b5 b6 b7 b8 b9 b10 b11 b12 b13 b14 b15 < μ a1 a2 a3 a4 a5 a6 a7 a8 a9 a10 a11 a12 a13 a14 a15 → W n b1 b2 b3 b4 b5 b6 b7 b8 b9 b10 b11 b12 b13 b14 b15) → W (n + 1) a1 a2 a3 a4 a5 a6 a7 a8 a9 a10 a11 a12 a13 a14 a15) (a1 : A1) (a2 : A2) (a3 : A3) (a4 : A4) (a5 : A5) (a6 : A6) (a7 : A7) (a8 : A8) (a9 : A9) (a10 : A10) (a11 : A11) (a12 : A12) (a13 : A13) (a14 : A14) (a15 : A15) (h : I a1 a2 a3 a4 a5 a6 a7 a8 a9 a10 a11 a12 a13 a14 a15) : ∃ n, W n a1 a2 a3 a4 a5 a6 a7 a8 a9 a10 a11 a12 a13 a14 a15 :=
  loop_m (σ := A1 × A2 × A3 × A4 × A5 × A6 × A7 × A8 × A9 × A10 × A11 × A12 × A13 × A14 × A15) (fun n s => W n s.1 s.2.1 s.2.2.1 s.2.2.2.1 s.2.2.2.2.1 s.2.2.2.2.2.1 s.2.2.2.2.2.2.1 s.2.2.2.2.2.2.2.1 s.2.2.2.2.2.2.2.2.1 s.2.2.2.2.2.2.2.2.2.1 s.2.2.2.2.2.2.2.2.2.2.1 s.2.2.2.2.2.2.2.2.2.2.2.1 s.2.2.2.2.2.2.2.2.2.2.2.2.1 s.2.2.2.2.2.2.2.2.2.2.2.2.2.1 s.2.2.2.2.2.2.2.2.2.2.2.2.2.2) (fun s => I s.1 s.2.1 s.2.2.1 s.2.2.2.1 s.2.2.2.2.1 s.2.2.2.2.2.1 s.2.2.2.2.2.2.1 s.2.2.2.2.2.2.2.1 s.2.2.2.2.2.2.2.2.1 s.2.2.2.2.2.2.2.2.2.1 s.2.2.2.2.2.2.2.2.2.2.1 s.2.2.2.2.2.2.2.2.2.2.2.1 s.2.2.2.2.2.2.2.2.2.2.2.2.1 s.2.2.2.2.2.2.2.2.2.2.2.2.2.1 s.2.2.2.2.2.2.2.2.2.2.2.2.2.2) (fun s => μ s.1 s.2.1 s.2.2.1 s.2.2.2.1 s.2.2.2.2.1 s.2.2.2.2.2.1 s.2.2.2.2.2.2.1 s.2.2.2.2.2.2.2.1 s.2.2.2.2.2.2.2.2.1 s.2.2.2.2.2.2.2.2.2.1 s.2.2.2.2.2.2.2.2.2.2.1 s.2.2.2.2.2.2.2.2.2.2.2.1 s.2.2.2.2.2.2.2.2.2.2.2.2.1 s.2.2.2.2.2.2.2.2.2.2.2.2.2.1 s.2.2.2.2.2.2.2.2.2.2.2.2.2.2) (fun n s hI hk => hs n s.1 s.2.1 s.2.2.1 s.2.2.2.1 s.2.2.2.2.1 s.2.2.2.2.2.1 s.2.2.2.2.2.2.1 s.2.2.2.2.2.2.2.1 s.2.2.2.2.2.2.2.2.1 s.2.2.2.2.2.2.2.2.2.1 s.2.2.2.2.2.2.2.2.2.2.1 s.2.2.2.2.2.2.2.2.2.2.2.1 s.2.2.2.2.2.2.2.2.2.2.2.2.1 s.2.2.2.2.2.2.2.2.2.2.2.2.2.1 s.2.2.2.2.2.2.2.2.2.2.2.2.2.2 hI (fun b1 b2 b3 b4 b5 b6 b7 b8 b9 b10 b11 b12 b13 b14 b15 h9 hm => hk (b1, b2, b3, b4, b5, b6, b7, b8, b9, b10, b11, b12, b13, b14, b15) h9 hm)) (a1, a2, a3, a4, a5, a6, a7, a8, a9, a10, a11, a12, a13, a14, a15) h
theorem lp16 {A1 A2 A3 A4 A5 A6 A7 A8 A9 A10 A11 A12 A13 A14 A15 A16 : Type} (W : Nat → A1 → A2 → A3 → A4 → A5 → A6 → A7 → A8 → A9 → A10 → A11 → A12 → A13 → A14 → A15 → A16 → Prop) (I : A1 → A2 → A3 → A4 → A5 → A6 → A7 → A8 → A9 → A10 → A11 → A12 → A13 → A14 → A15 → A16 → Prop) (μ : A1 → A2 → A3 → A4 → A5 → A6 → A7 → A8 → A9 → A10 → A11 → A12 → A13 → A14 → A15 → A16 → Nat) (hs : ∀ (n : Nat) (a1 : A1) (a2 : A2) (a3 : A3) (a4 : A4) (a5 : A5) (a6 : A6) (a7 : A7) (a8 : A8) (a9 : A9) (a10 : A10) (a11 : A11) (a12 : A12) (a13 : A13) (a14 : A14) (a15 : A15) (a16 : A16), I a1 a2 a3 a4 a5 a6 a7 a8 a9 a10 a11 a12 a13 a14 a15 a16 → (∀ (b1 : A1) (b2 : A2) (b3 : A3) (b4 : A4) (b5 : A5) (b6 : A6) (b7 : A7) (b8 : A8) (b9 : A9) (b10 : A10) (b11 : A11) (b12 : A12) (b13 : A13) (b14 : A14) (b15 : A15) (b16 : A16), I b1 b2 b3 b4 b5 b6 b7 b8 b9 b10 b11 b12 b13 b14 b15 b16 → μ b1 b2 b3 b4 b5 b6 b7 b8 b9 b10 b11 b12 b13 b14 b15 b16 < μ a1 a2 a3 a4 a5 a6 a7 a8 a9 a10 a11 a12 a13 a14 a15 a16 → W n b1 b2 b3 b4 b5 b6 b7 b8 b9 b10 b11 b12 b13 b14 b15 b16) → W (n + 1) a1 a2 a3 a4 a5 a6 a7 a8 a9 a10 a11 a12 a13 a14 a15 a16) (a1 : A1) (a2 : A2) (a3 : A3) (a4 : A4) (a5 : A5) (a6 : A6) (a7 : A7) (a8 : A8) (a9 : A9) (a10 : A10) (a11 : A11) (a12 : A12) (a13 : A13) (a14 : A14) (a15 : A15) (a16 : A16) (h : I a1 a2 a3 a4 a5 a6 a7 a8 a9 a10 a11 a12 a13 a14 a15 a16) : ∃ n, W n a1 a2 a3 a4 a5 a6 a7 a8 a9 a10 a11 a12 a13 a14 a15 a16 :=
  loop_m (σ := A1 × A2 × A3 × A4 × A5 × A6 × A7 × A8 × A9 × A10 × A11 × A12 × A13 × A14 × A15 × A16) (fun n s => W n s.1 s.2.1 s.2.2.1 s.2.2.2.1 s.2.2.2.2.1 s.2.2.2.2.2.1 s.2.2.2.2.2.2.1 s.2.2.2.2.2.2.2.1 s.2.2.2.2.2.2.2.2.1 s.2.2.2.2.2.2.2.2.2.1 s.2.2.2.2.2.2.2.2.2.2.1 s.2.2.2.2.2.2.2.2.2.2.2.1 s.2.2.2.2.2.2.2.2.2.2.2.2.1 s.2.2.2.2.2.2.2.2.2.2.2.2.2.1 s.2.2.2.2.2.2.2.2.2.2.2.2.2.2.1 s.2.2.2.2.2.2.2.2.2.2.2.2.2.2.2) (fun s => I s.1 s.2.1 s.2.2.1 s.2.2.2.1 s.2.2.2.2.1 s.2.2.2.2.2.1 s.2.2.2.2.2.2.1 s.2.2.2.2.2.2.2.1 s.2.2.2.2.2.2.2.2.1 s.2.2.2.2.2.2.2.2.2.1 s.2.2.2.2.2.2.2.2.2.2.1 s.2.2.2.2.2.2.2.2.2.2.2.1 s.2.2.2.2.2.2.2.2.2.2.2.2.1 s.2.2.2.2.2.2.2.2.2.2.2.2.2.1 s.2.2.2.2.2.2.2.2.2.2.2.2.2.2.1 s.2.2.2.2.2.2.2.2.2.2.2.2.2.2.2) (fun s => μ s.1 s.2.1 s.2.2.1 s.2.2.2.1 s.2.2.2.2.1 s.2.2.2.2.2.1 s.2.2.2.2.2.2.1 s.2.2.2.2.2.2.2.1 s.2.2.2.2.2.2.2.2.1 s.2.2.2.2.2.2.2.2.2.1 s.2.2.2.2.2.2.2.2.2.2.1 s.2.2.2.2.2.2.2.2.2.2.2.1 s.2.2.2.2.2.2.2.2.2.2.2.2.1 s.2.2.2.2.2.2.2.2.2.2.2.2.2.1 s.2.2.2.2.2.2.2.2.2.2.2.2.2.2.1 s.2.2.2.2.2.2.2.2.2.2.2.2.2.2.2) (fun n s hI hk => hs n s.1 s.2.1 s.2.2.1 s.2.2.2.1 s.2.2.2.2.1 s.2.2.2.2.2.1 s.2.2.2.2.2.2.1 s.2.2.2.2.2.2.2.1 s.2.2.2.2.2.2.2.2.1 s.2.2.2.2.2.2.2.2.2.1 s.2.2.2.2.2.2.2.2.2.2.1 s.2.2.2.2.2.2.2.2.2.2.2.1 s.2.2.2.2.2.2.2.2.2.2.2.2.1 s.2.2.2.2.2.2.2.2.2.2.2.2.2.1 s.2.2.2.2.2.2.2.2.2.2.2.2.2.2.1 s.2.2.2.2.2.2.2.2.2.2.2.2.2.2.2 hI (fun b1 b2 b3 b4 b5 b6 b7 b8 b9 b10 b11 b12 b13 b14 b15 b16 h9 hm => hk (b1, b2, b3, b4, b5, b6, b7, b8, b9, b10, b11, b12, b13, b14, b15, b16) h9 hm)) (a1, a2, a3, a4, a5, a6, a7, a8, a9, a10, a11, a12, a13, a14, a15, a16) h
theorem pk_least (P : Nat → Prop) (h : ∃ k, P k) : ∃ k, P k ∧ ∀ j, j < k → ¬ P j := by
  obtain ⟨k, hk⟩ := h
  induction k using Nat.strongRecOn with
  | ind k ih =>
    by_cases e : ∃ j, j < k ∧ P j
    · obtain ⟨j, hj, pj⟩ := e
      exact ih j hj pj
    · exact ⟨k, hk, fun j hj pj => e ⟨j, hj, pj⟩⟩
theorem rp1 {ρ A1 : Type} (W : Nat → (ρ → Prop) → A1 → Prop) (ok : A1 → Prop) (μ : A1 → Nat) (val : A1 → ρ)
    (hs : ∀ (d : Nat) (post : ρ → Prop) (a1 : A1), ok a1 → post (val a1) → (∀ (post' : ρ → Prop) (b1 : A1), ok b1 → μ b1 < μ a1 → post' (val b1) → W d post' b1) → W (d + 1) post a1) :
    ∀ (d : Nat) (post : ρ → Prop) (a1 : A1), ok a1 → μ a1 < d → post (val a1) → W d post a1 := by
  intro d
  induction d with
  | zero => intro post a1 _ h; omega
  | succ d ih =>
    intro post a1 ho hm hp
    exact hs d post a1 ho hp (fun post' b1 ho' hm' hp' => ih post' b1 ho' (by omega) hp')
theorem rp2 {ρ A1 A2 : Type} (W : Nat → (ρ → Prop) → A1 → A2 → Prop) (ok : A1 → A2 → Prop) (μ : A1 → A2 → Nat) (val : A1 → A2 → ρ)
    (hs : ∀ (d : Nat) (post : ρ → Prop) (a1 : A1) (a2 : A2), ok a1 a2 → post (val a1 a2) → (∀ (post' : ρ → Prop) (b1 : A1) (b2 : A2), ok b1 b2 → μ b1 b2 < μ a1 a2 → post' (val b1 b2) → W d post' b1 b2) → W (d + 1) post a1 a2) :
    ∀ (d : Nat) (post : ρ → Prop) (a1 : A1) (a2 : A2), ok a1 a2 → μ a1 a2 < d → post (val a1 a2) → W d post a1 a2 := by
  intro d
  induction d with
  | zero => intro post a1 a2 _ h; omega
  | succ d ih =>
    intro post a1 a2 ho hm hp
    exact hs d post a1 a2 ho hp (fun post' b1 b2 ho' hm' hp' => ih post' b1 b2 ho' (by omega) hp')
theorem rp3 {ρ A1 A2 A3 : Type} (W : Nat → (ρ → Prop) → A1 → A2 → A3 → Prop) (ok : A1 → A2 → A3 → Prop) (μ : A1 → A2 → A3 → Nat) (val : A1 → A2 → A3 → ρ)
    (hs : ∀ (d : Nat) (post : ρ → Prop) (a1 : A1) (a2 : A2) (a3 : A3), ok a1 a2 a3 → post (val a1 a2 a3) → (∀ (post' : ρ → Prop) (b1 : A1) (b2 : A2) (b3 : A3), ok b1 b2 b3 → μ b1 b2 b3 < μ a1 a2 a3 → post' (val b1 b2 b3) → W d post' b1 b2 b3) → W (d + 1) post a1 a2 a3) :
    ∀ (d : Nat) (post : ρ → Prop) (a1 : A1) (a2 : A2) (a3 : A3), ok a1 a2 a3 → μ a1 a2 a3 < d → post (val a1 a2 a3) → W d post a1 a2 a3 := by
  intro d
  induction d with
  | zero => intro post a1 a2 a3 _ h; omega
  | succ d ih =>
    intro post a1 a2 a3 ho hm hp
    exact hs d post a1 a2 a3 ho hp (fun post' b1 b2 b3 ho' hm' hp' => ih post' b1 b2 b3 ho' (by omega) hp')
theorem rp4 {ρ A1 A2 A3 A4 : Type} (W : Nat → (ρ → Prop) → A1 → A2 → A3 → A4 → Prop) (ok : A1 → A2 → A3 → A4 → Prop) (μ : A1 → A2 → A3 → A4 → Nat) (val : A1 → A2 → A3 → A4 → ρ)
    (hs : ∀ (d : Nat) (post : ρ → Prop) (a1 : A1) (a2 : A2) (a3 : A3) (a4 : A4), ok a1 a2 a3 a4 → post (val a1 a2 a3 a4) → (∀ (post' : ρ → Prop) (b1 : A1) (b2 : A2) (b3 : A3) (b4 : A4), ok b1 b2 b3 b4 → μ b1 b2 b3 b4 < μ a1 a2 a3 a4 → post' (val b1 b2 b3 b4) → W d post' b1 b2 b3 b4) → W (d + 1) post a1 a2 a3 a4) :
    ∀ (d : Nat) (post : ρ → Prop) (a1 : A1) (a2 : A2) (a3 : A3) (a4 : A4), ok a1 a2 a3 a4 → μ a1 a2 a3 a4 < d → post (val a1 a2 a3 a4) → W d post a1 a2 a3 a4 := by
  intro d
  induction d with
  | zero => intro post a1 a2 a3 a4 _ h; omega
  | succ d ih =>
    intro post a1 a2 a3 a4 ho hm hp
    exact hs d post a1 a2 a3 a4 ho hp (fun post' b1 b2 b3 b4 ho' hm' hp' => ih post' b1 b2 b3 b4 ho' (by omega) hp')
theorem rp5 {ρ A1 A2 A3 A4 A5 : Type} (W : Nat → (ρ → Prop) → A1 → A2 → A3 → A4 → A5 → Prop) (ok : A1 → A2 → A3 → A4 → A5 → Prop) (μ : A1 → A2 → A3 → A4 → A5 → Nat) (val : A1 → A2 → A3 → A4 → A5 → ρ)
    (hs : ∀ (d : Nat) (post : ρ → Prop) (a1 : A1) (a2 : A2) (a3 : A3) (a4 : A4) (a5 : A5), ok a1 a2 a3 a4 a5 → post (val a1 a2 a3 a4 a5) → (∀ (post' : ρ → Prop) (b1 : A1) (b2 : A2) (b3 : A3) (b4 : A4) (b5 : A5), ok b1 b2 b3 b4 b5 → μ b1 b2 b3 b4 b5 < μ a1 a2 a3 a4 a5 → post' (val b1 b2 b3 b4 b5) → W d post' b1 b2 b3 b4 b5) → W (d + 1) post a1 a2 a3 a4 a5) :
    ∀ (d : Nat) (post : ρ → Prop) (a1 : A1) (a2 : A2) (a3 : A3) (a4 : A4) (a5 : A5), ok a1 a2 a3 a4 a5 → μ a1 a2 a3 a4 a5 < d → post (val a1 a2 a3 a4 a5) → W d post a1 a2 a3 a4 a5 := by
  intro d
  induction d with
  | zero => intro post a1 a2 a3 a4 a5 _ h; omega
  | succ d ih =>
    intro post a1 a2 a3 a4 a5 ho hm hp
    exact hs d post a1 a2 a3 a4 a5 ho hp (fun post' b1 b2 b3 b4 b5 ho' hm' hp' => ih post' b1 b2 b3 b4 b5 ho' (by omega) hp')
theorem rp6 {ρ A1 A2 A3 A4 A5 A6 : Type} (W : Nat → (ρ → Prop) → A1 → A2 → A3 → A4 → A5 → A6 → Prop) (ok : A1 → A2 → A3 → A4 → A5 → A6 → Prop) (μ : A1 → A2 → A3 → A4 → A5 → A6 → Nat) (val : A1 → A2 → A3 → A4 → A5 → A6 → ρ)
    (hs : ∀ (d : Nat) (post : ρ → Prop) (a1 : A1) (a2 : A2) (a3 : A3) (a4 : A4) (a5 : A5) (a6 : A6), ok a1 a2 a3 a4 a5 a6 → post (val a1 a2 a3 a4 a5 a6) → (∀ (post' : ρ → Prop) (b1 : A1) (b2 : A2) (b3 : A3) (b4 : A4) (b5 : A5) (b6 : A6), ok b1 b2 b3 b4 b5 b6 → μ b1 b2 b3 b4 b5 b6 < μ a1 a2 a3 a4 a5 a6 → post' (val b1 b2 b3 b4 b5 b6) → W d post' b1 b2 b3 b4 b5 b6) → W (d + 1) post a1 a2 a3 a4 a5 a6) :
    ∀ (d : Nat) (post : ρ → Prop) (a1 : A1) (a2 : A2) (a3 : A3) (a4 : A4) (a5 : A5) (a6 : A6), ok a1 a2 a3 a4 a5 a6 → μ a1 a2 a3 a4 a5 a6 < d → post (val a1 a2 a3 a4 a5 a6) → W d post a1 a2 a3 a4 a5 a6 := by
  intro d
  induction d with
  | zero => intro post a1 a2 a3 a4 a5 a6 _ h; omega
  | succ d ih =>
    intro post a1 a2 a3 a4 a5 a6 ho hm hp
    exact hs d post a1 a2 a3 a4 a5 a6 ho hp (fun post' b1 b2 b3 b4 b5 b6 ho' hm' hp' => ih post' b1 b2 b3 b4 b5 b6 ho' (by omega) hp')
theorem rec_p {σ ρ : Type} (W : Nat → (ρ → Prop) → σ → Prop) (ok : σ → Prop) (μ : σ → Nat) (val : σ → ρ)
    (hs : ∀ d s post, ok s → post (val s) → (∀ s' post', ok s' → μ s' < μ s → post' (val s') → W d post' s') → W (d + 1) post s) :
    ∀ d s post, ok s → μ s < d → post (val s) → W d post s := by
  intro d
  induction d with
  | zero => intro s post _ h; omega
  | succ d ih =>
    intro s post ho hm hp
    exact hs d s post ho hp (fun s' post' ho' hm' hp' => ih s' post' ho' (by omega) hp')
theorem rec_q {σ ρ : Type} (W : Nat → (ρ → Prop) → σ → Prop) (ok : σ → Prop) (μ : σ → Nat) (Q : σ → ρ → Prop)
    (hs : ∀ d s post, ok s → (∀ r, Q s r → post r) → (∀ s' post', ok s' → μ s' < μ s → (∀ r, Q s' r → post' r) → W d post' s') → W (d + 1) post s) :
    ∀ d s post, ok s → μ s < d → (∀ r, Q s r → post r) → W d post s := by
  intro d
  induction d with
  | zero => intro s post _ h; omega
  | succ d ih =>
    intro s post ho hm hp
    exact hs d s post ho hp (fun s' post' ho' hm' hp' => ih s' post' ho' (by omega) hp')
def bx_sum (f : Nat → Int32) : Nat → Int32
  | 0 => 0
  | n + 1 => bx_sum f n + f n
theorem ek_u {A : Prop} {B : Nat → Prop} {k N : Nat} (hk : k < N) (h : B k) : (some k = none → A) ∧ (∀ y : Nat, some k = some y → (y < N ∧ B y)) :=
  ⟨fun z => absurd z (Option.some_ne_none k), fun _ e => (by cases e; exact ⟨hk, h⟩)⟩
theorem ek_nu {A : Prop} {B : Nat → Prop} (h : A) : ((none : Option Nat) = none → A) ∧ (∀ y : Nat, (none : Option Nat) = some y → B y) :=
  ⟨fun _ => h, fun _ e => (by cases e)⟩
theorem ek_if {c d A B : Prop} (e : c ↔ d) (f : d → A) (g : ¬ d → B) : (c → A) ∧ (¬ c → B) :=
  ⟨fun z => f (e.mp z), fun z => g (fun y => z (e.mpr y))⟩
theorem ek_v {α : Sort _} {P : α → Prop} {a b : α} (e : a = b) (h : P b) : P a := e ▸ h
theorem co_some {x : Option Nat} {A : Prop} {B : Nat → Prop} (i : Nat) (h : B i) (hx : x = some i := by rfl) : (x = none → A) ∧ (∀ y : Nat, x = some y → B y) := by
  subst hx
  exact ⟨fun e => (nomatch e), fun y e => Option.some.inj e ▸ h⟩
theorem co_none {x : Option Nat} {A : Prop} {B : Nat → Prop} (h : A) (hx : x = none := by rfl) : (x = none → A) ∧ (∀ y : Nat, x = some y → B y) := by
  subst hx
  exact ⟨fun _ => h, fun y e => (nomatch e)⟩
theorem co_any {x : Option Nat} {A : Prop} {B : Nat → Prop} (hn : x = none → A) (hs : ∀ i : Nat, x = some i → B i) : (x = none → A) ∧ (∀ y : Nat, x = some y → B y) := ⟨hn, hs⟩
theorem co_2 {P : Nat → Prop} (h0 : P 0) (h1 : P 1) {i : Nat} (hi : i < 2) : P i :=
  match i, hi with
  | 0, _ => h0
  | 1, _ => h1
theorem co_3 {P : Nat → Prop} (h0 : P 0) (h1 : P 1) (h2 : P 2) {i : Nat} (hi : i < 3) : P i :=
  match i, hi with
  | 0, _ => h0
  | 1, _ => h1
  | 2, _ => h2
theorem co_4 {P : Nat → Prop} (h0 : P 0) (h1 : P 1) (h2 : P 2) (h3 : P 3) {i : Nat} (hi : i < 4) : P i :=
  match i, hi with
  | 0, _ => h0
  | 1, _ => h1
  | 2, _ => h2
  | 3, _ => h3
theorem co_dec {N : Nat} {P : Nat → Prop} [DecidablePred P] (h : (List.range N).all (fun i => decide (P i)) = true) {i : Nat} (hi : i < N) : P i := by
  have := List.all_eq_true.mp h i (List.mem_range.mpr hi)
  exact of_decide_eq_true this
theorem co_tab {α : Type} {l : List α} {d : α} {P : α → Prop} (h : ∀ a, a ∈ l → P a) {i : Nat} (hi : i < l.length) : P (l.getD i d) := by
  rw [List.getD_eq_getElem?_getD, List.getElem?_eq_getElem hi]
  exact h _ (List.getElem_mem hi)
theorem pk_mu {x : Int32} {L : Nat} (h0 : ¬ x < 0) (h : ¬ nI L ≤ x) (hL : L < 2 ^ 31) : ∃ j : Nat, j < L ∧ x = nI j ∧ x + 1 = nI (j + 1) ∧ x.toNatClampNeg = j ∧ L - (x + 1).toNatClampNeg < L - x.toNatClampNeg := by
  obtain ⟨j, hj, rfl⟩ := nI_of h0
  have hl : j < L := Nat.not_le.mp fun q => h (nI_le q hj)
  refine ⟨j, hl, rfl, nI_1 j, nI_clamp hj, ?_⟩
  rw [nI_1, nI_clamp (by omega), nI_clamp hj]
  omega
theorem op_s {α : Type} {r : Option α} {A : Prop} {B : α → Prop} {y : α} (h : r = some y) (b : B y) : (r = none → A) ∧ ∀ z, r = some z → B z :=
  ⟨fun e => (by rw [h] at e; cases e), fun z e => (by rw [h] at e; cases e; exact b)⟩
def l_holds {α : Type} (a : Nat → Option Nat) (LP : List Nat) (p : Nat → α) (c : Nat) (b : Nat → α) : Prop :=
  ∀ j, j < c → ∃ y, a j = some y ∧ y ∈ LP ∧ p y = b j
theorem l_holds_0 {α : Type} {a : Nat → Option Nat} {LP : List Nat} {p b : Nat → α} : l_holds a LP p 0 b := fun j h => absurd h (Nat.not_lt_zero j)
theorem l_in_new (LP : List Nat) (q : Nat) : q ∈ LP ++ [q] := List.mem_append.mpr (Or.inr (List.mem_singleton.mpr rfl))
def l_sum (b : Nat → Int32) : Nat → Int32
  | 0 => 0
  | k + 1 => l_sum b k + b k
theorem sb_shr0 (x : Int32) : x >>> ((0 : Int32) &&& 31) = x := by
  rw [show ((0 : Int32) &&& 31) = 0 by decide]
  simp
theorem sb_shl0 (x : Int32) : x <<< ((0 : Int32) &&& 31) = x := by
  rw [show ((0 : Int32) &&& 31) = 0 by decide]
  simp
theorem sb_cl0 : (0 : Int32).toNatClampNeg = 0 := by decide
theorem sb_m1 {p : Nat} (h : 0 < p) : nI p + (-1) = nI (p - 1) := by
  obtain ⟨q, rfl⟩ : ∃ q, p = q + 1 := ⟨p - 1, by omega⟩
  exact pk_m1 q
def sb_b (c : Nat) : Int32 := (nI c).toInt8.toInt32
theorem sb_byte : ∀ c, c < 256 → sb_b c &&& 255 = nI c ∧ ((nI c).toUInt32 % 65536).toInt32 = nI c ∧ nI c ≤ 255 := by decide +kernel
def sb_Fit (a : Nat → Int32) : Prop := ∀ j, fits .byte (.int (a j)) = true
def sb_Lat (t : Nat → Nat) (n : Nat) (a : Nat → Int32) : Prop := ∀ j, j < n → t j < 256 ∧ a j = sb_b (t j)
theorem sb_fitB (c : Nat) : fits .byte (.int (sb_b c)) = true := pk_fb _
theorem sb_fit0 : sb_Fit (fun _ => 0) := fun _ => by
  show fits .byte (.int 0) = true
  decide
theorem sb_fitU {a : Nat → Int32} {k : Nat} {x : Int32} (h : sb_Fit a) (hx : fits .byte (.int x) = true) : sb_Fit (upd a k x) := by
  intro j
  by_cases e : j = k
  · subst e
    rw [pk_us]
    exact hx
  · rw [pk_un e]
    exact h j
def sb_cat (t : Nat → Nat) (n : Nat) (s : Nat → Nat) : Nat → Nat := fun j => if j < n then t j else s (j - n)
theorem sb_cat_lo {t s : Nat → Nat} {n j : Nat} (h : j < n) : sb_cat t n s j = t j := if_pos h
theorem sb_cat_hi {t s : Nat → Nat} {n j : Nat} : sb_cat t n s (n + j) = s j := by
  show (if n + j < n then t (n + j) else s (n + j - n)) = s j
  rw [if_neg (by omega), Nat.add_sub_cancel_left]
theorem sb_latPut {t s : Nat → Nat} {n w : Nat} {a a' : Nat → Int32} (h : sb_Lat t n a) (hk : ∀ j, j < n → a' j = a j) (hs : ∀ i, i < w → s i < 256 ∧ a' (n + i) = sb_b (s i)) : sb_Lat (sb_cat t n s) (n + w) a' := by
  intro j hj
  by_cases e : j < n
  · rw [sb_cat_lo e, hk j e]
    exact h j e
  · obtain ⟨i, rfl⟩ : ∃ i, j = n + i := ⟨j - n, by omega⟩
    rw [sb_cat_hi]
    exact hs i (by omega)
theorem sb_latKeep {t : Nat → Nat} {n : Nat} {a a' : Nat → Int32} (h : sb_Lat t n a) (hk : ∀ j, j < n → a' j = a j) : sb_Lat t n a' := fun j hj => by
  rw [hk j hj]
  exact h j hj
def sb_cap (q m : Nat) : Nat := if q ≤ m then m else if 2 * m + 2 < q then q else 2 * m + 2
def sb_Room (q m mc ms : Nat) : Prop := q ≤ m ∨ (1 ≤ mc ∧ sb_cap q m ≤ ms ∧ sb_cap q m ≤ 65536)
theorem sb_cap_ge (q m : Nat) : q ≤ sb_cap q m := by
  unfold sb_cap
  split
  · omega
  · split <;> omega
theorem sb_cap_gem (q m : Nat) : m ≤ sb_cap q m := by
  unfold sb_cap
  split
  · omega
  · split <;> omega
theorem sb_cap_le {q m mc ms : Nat} (hm : m ≤ 65536) (hr : sb_Room q m mc ms) : sb_cap q m ≤ 65536 := by
  rcases hr with h | h
  · rw [sb_cap, if_pos h]
    exact hm
  · exact h.2.2
theorem sb_at {P : Int32 → Prop} {x y : Int32} (e : x = y) (h : P y) : P x := e ▸ h
def sb_dg (w : Nat) : Nat := if w < 10 then 1 else if w < 100 then 2 else if w < 1000 then 3 else if w < 10000 then 4 else if w < 100000 then 5 else if w < 1000000 then 6 else if w < 10000000 then 7 else if w < 100000000 then 8 else if w < 1000000000 then 9 else 10
def sb_dec (v : Nat) : Nat → Nat := fun i => 48 + v / 10 ^ (sb_dg v - 1 - i) % 10
theorem sb_dg_in (w : Nat) : 1 ≤ sb_dg w ∧ sb_dg w ≤ 10 := by
  unfold sb_dg
  constructor <;> (repeat' split) <;> omega
theorem sb_dg100 {w : Nat} (h : 100 ≤ w) (hw : w < 2 ^ 31) : sb_dg w = sb_dg (w / 100) + 2 := by
  rw [sb_dg, sb_dg, if_neg (show ¬ w < 10 by omega), if_neg (show ¬ w < 100 by omega)]
  by_cases h3 : w < 1000
  · rw [if_pos h3, if_pos (show w / 100 < 10 by omega)]
  rw [if_neg h3, if_neg (show ¬ w / 100 < 10 by omega)]
  by_cases h4 : w < 10000
  · rw [if_pos h4, if_pos (show w / 100 < 100 by omega)]
  rw [if_neg h4, if_neg (show ¬ w / 100 < 100 by omega)]
  by_cases h5 : w < 100000
  · rw [if_pos h5, if_pos (show w / 100 < 1000 by omega)]
  rw [if_neg h5, if_neg (show ¬ w / 100 < 1000 by omega)]
  by_cases h6 : w < 1000000
  · rw [if_pos h6, if_pos (show w / 100 < 10000 by omega)]
  rw [if_neg h6, if_neg (show ¬ w / 100 < 10000 by omega)]
  by_cases h7 : w < 10000000
  · rw [if_pos h7, if_pos (show w / 100 < 100000 by omega)]
  rw [if_neg h7, if_neg (show ¬ w / 100 < 100000 by omega)]
  by_cases h8 : w < 100000000
  · rw [if_pos h8, if_pos (show w / 100 < 1000000 by omega)]
  rw [if_neg h8, if_neg (show ¬ w / 100 < 1000000 by omega)]
  by_cases h9 : w < 1000000000
  · rw [if_pos h9, if_pos (show w / 100 < 10000000 by omega)]
  rw [if_neg h9, if_neg (show ¬ w / 100 < 10000000 by omega)]
  rw [if_pos (show w / 100 < 100000000 by omega)]
theorem sb_negT {w : Nat} (h : w < 2 ^ 31) : (-nI w).toInt = -(w : Int) := by
  rw [Int32.toInt_neg, nI_toInt h]
  exact Int.bmod_eq_of_le (by omega) (by omega)
theorem sb_nle {a b : Nat} (ha : a < 2 ^ 31) (hb : b < 2 ^ 31) : -nI a ≤ -nI b ↔ b ≤ a := by
  rw [Int32.le_iff_toInt_le, sb_negT ha, sb_negT hb]
  omega
theorem sb_nlt {a b : Nat} (ha : a < 2 ^ 31) (hb : b < 2 ^ 31) : -nI a < -nI b ↔ b < a := by
  rw [Int32.lt_iff_toInt_lt, sb_negT ha, sb_negT hb]
  omega
theorem sb_cmp {A B : Prop} {x : Int32} (v c : Nat) (f : c ≤ v → A) (g : v < c → B) (hv : v < 2 ^ 31) (hx : x = -nI c := by rfl) (hc : c < 2 ^ 31 := by omega) : (-nI v ≤ x → A) ∧ (¬ -nI v ≤ x → B) := by
  subst hx
  rw [sb_nle hv hc]
  exact ⟨f, fun z => g (by omega)⟩
theorem sb_ndiv {w : Nat} (hw : w < 2 ^ 31) : (-nI w) / 100 = -nI (w / 100) := by
  apply Int32.toInt_inj.mp
  have h100 : (100 : Int32).toInt = 100 := by decide
  rw [Int32.toInt_div, sb_negT hw, h100, sb_negT (by omega), Int.neg_tdiv, Int.tdiv_eq_ediv_of_nonneg (by omega), Int.bmod_eq_of_le (by omega) (by omega)]
  omega
theorem sb_nrem {w : Nat} (hw : w < 2 ^ 31) : (-nI (w / 100)) * 100 - (-nI w) = nI (w % 100) := by
  have h := pk_rem (a := w) (d := 100) hw (by decide) (by decide)
  rw [pk_div hw (by decide) (by decide)] at h
  rw [← h]
  show (-nI (w / 100)) * nI 100 - (-nI w) = nI w - nI (w / 100) * nI 100
  rw [Int32.neg_mul, Int32.sub_neg, Int32.add_comm, ← Int32.sub_eq_add_neg]
end
section
/-! base: ranges, narrowing, masks, bits, stores -/
def za_rg (x : Int32) (lo hi : Nat) : Prop := ∃ n, lo ≤ n ∧ n ≤ hi ∧ x = nI n
theorem za_bn {n : Nat} (h : n < 128) : (nI n).toInt8.toInt32 = nI n :=
  lg_i2b_small (by rw [nI_toInt (by omega)]; omega) (by rw [nI_toInt (by omega)]; omega)
theorem za_sn {n : Nat} (h : n < 32768) : (nI n).toInt16.toInt32 = nI n :=
  lg_i2s_small (by rw [nI_toInt (by omega)]; omega) (by rw [nI_toInt (by omega)]; omega)
theorem za_vb {n : Nat} (h : n < 128) : vp_nar .byte (nI n) = nI n := by rw [vp_nar_byte, za_bn h]
theorem za_vb2 {n : Nat} (h : n < 128) : vp_nar .byte (nI n).toInt8.toInt32 = nI n := by rw [za_bn h, za_vb h]
theorem za_vs {n : Nat} (h : n < 32768) : vp_nar .short (nI n) = nI n := by rw [vp_nar_short, za_sn h]
theorem za_vs2 {n : Nat} (h : n < 32768) : vp_nar .short (nI n).toInt16.toInt32 = nI n := by rw [za_sn h, za_vs h]
theorem za_z0 : vp_nar .boolean 0 = 0 := rfl
theorem za_z1 : vp_nar .boolean 1 = 1 := rfl
theorem za_b0 : vp_nar .byte 0 = 0 := by rw [vp_nar_byte]; decide
theorem za_b1 : vp_nar .byte 1 = 1 := by rw [vp_nar_byte]; decide
theorem za_b5 : vp_nar .byte 5 = 5 := by rw [vp_nar_byte]; decide
theorem za_b10 : vp_nar .byte 10 = 10 := by rw [vp_nar_byte]; decide
theorem za_bm : vp_nar .byte (-1) = -1 := by rw [vp_nar_byte]; decide
theorem za_m31 {m : Nat} (h : m < 2 ^ 31) : nI m &&& 31 = nI (m % 32) := pk_andN (by omega) 5 (by decide)
theorem za_m63 {m : Nat} (h : m < 2 ^ 31) : nI m &&& 63 = nI (m % 64) := pk_andN (by omega) 6 (by decide)
theorem za_m7 {m : Nat} (h : m < 2 ^ 31) : nI m &&& 7 = nI (m % 8) := pk_andN (by omega) 3 (by decide)
theorem za_m255 {m : Nat} (h : m < 2 ^ 31) : nI m &&& 255 = nI (m % 256) := pk_andN (by omega) 8 (by decide)
theorem za_r32 {m : Nat} (h : m < 2 ^ 31) : nI m - nI m / 32 * 32 = nI (m % 32) := pk_rem (d := 32) h (by decide) (by decide)
theorem za_r64 {m : Nat} (h : m < 2 ^ 31) : nI m - nI m / 64 * 64 = nI (m % 64) := pk_rem (d := 64) h (by decide) (by decide)
theorem za_r8 {m : Nat} (h : m < 2 ^ 31) : nI m - nI m / 8 * 8 = nI (m % 8) := pk_rem (d := 8) h (by decide) (by decide)
theorem za_r256 {m : Nat} (h : m < 2 ^ 31) : nI m - nI m / 256 * 256 = nI (m % 256) := pk_rem (d := 256) h (by decide) (by decide)
theorem za_d8 {m : Nat} (h : m < 2 ^ 31) : nI m / 8 = nI (m / 8) := pk_div (d := 8) h (by decide) (by decide)
theorem za_d2 {m : Nat} (h : m < 2 ^ 31) : nI m / 2 = nI (m / 2) := pk_div (d := 2) h (by decide) (by decide)
theorem za_s3 {m : Nat} (h : m < 2 ^ 31) : nI m >>> ((3 : Int32) &&& 31) = nI (m / 8) := pk_shrN h _ 3 (by decide)
theorem za_s1 {m : Nat} (h : m < 2 ^ 31) : nI m >>> ((1 : Int32) &&& 31) = nI (m / 2) := pk_shrN h _ 1 (by decide)
theorem za_sl : ∀ n, n < 32 → ((nI n &&& 31).toBitVec.smod 32).toNat = n := by decide +kernel
theorem za_sr {m s : Nat} (h : m < 2 ^ 31) (hs : s < 32) : nI m >>> (nI s &&& 31) = nI (m / 2 ^ s) := pk_shrN h _ s (za_sl s hs)
theorem za_n31 {a : Nat} (h : a ≤ 2147483647) : a < 2 ^ 31 := by omega
/-- the bit s of x is set -/
def za_tb (x : Int32) (s : Nat) : Bool := ! decide ((x >>> (nI s &&& 31)) &&& 1 = 0)
theorem za_tb0 {x : Int32} {s : Nat} : ((x >>> (nI s &&& 31)) &&& 1) = 0 ↔ za_tb x s = false := by
  unfold za_tb; simp
theorem za_a1 (y : Int32) : y &&& 1 = 0 ∨ y &&& 1 = 1 := by
  obtain ⟨j, hj, e⟩ := pk_andE y (m := 1) 1 (by decide)
  rw [e]
  have : j = 0 ∨ j = 1 := by omega
  rcases this with rfl | rfl
  · exact Or.inl rfl
  · exact Or.inr rfl
theorem za_tb1 {x : Int32} {s : Nat} : ((x >>> (nI s &&& 31)) &&& 1) = 1 ↔ za_tb x s = true := by
  have h1 : ¬ (1 : Int32) = 0 := by decide
  have h2 : ¬ (0 : Int32) = 1 := by decide
  unfold za_tb
  rcases za_a1 (x >>> (nI s &&& 31)) with h | h
  · rw [h]; simp [h2]
  · rw [h]; simp
theorem za_tbN {m s : Nat} (h : m < 2 ^ 31) (hs : s < 32) : za_tb (nI m) s = m.testBit s := by
  have e : ((nI m >>> (nI s &&& 31)) &&& 1) = nI (m / 2 ^ s % 2) := by
    rw [za_sr h hs]
    exact pk_andN (n := m / 2 ^ s) (by have := Nat.div_le_self m (2 ^ s); omega) 1 (by decide)
  unfold za_tb
  rw [e, Nat.testBit_eq_decide_div_mod_eq]
  have : m / 2 ^ s % 2 = 0 ∨ m / 2 ^ s % 2 = 1 := by omega
  rcases this with z | z <;> rw [z] <;> decide
theorem za_or : ∀ m, m < 64 → ∀ s, s < 6 → nI m ||| ((1 : Int32) <<< (nI s &&& 31)) = nI (m ||| 2 ^ s) := by decide +kernel
theorem za_or64 : ∀ m, m < 64 → ∀ s, s < 6 → (m ||| 2 ^ s) < 64 := by decide +kernel
/-- a set of numbers below n as a number -/
def za_set (P : Nat → Bool) : Nat → Nat
  | 0 => 0
  | n + 1 => if P n = true then za_set P n ||| 2 ^ n else za_set P n
theorem za_set_lt (P : Nat → Bool) : ∀ n, za_set P n < 2 ^ n
  | 0 => by show 0 < 1; omega
  | n + 1 => by
    have ih := za_set_lt P n
    have h1 : 2 ^ n < 2 ^ (n + 1) := Nat.pow_lt_pow_right (by decide) (by omega)
    unfold za_set
    split
    · exact Nat.or_lt_two_pow (by omega) h1
    · omega
theorem za_set_tb (P : Nat → Bool) : ∀ n s, (za_set P n).testBit s = (decide (s < n) && P s)
  | 0, s => by simp [za_set]
  | n + 1, s => by
    have ih := za_set_tb P n s
    have hd : decide (s < n + 1) = (decide (s < n) || decide (s = n)) := by
      rw [← Bool.decide_or]; exact decide_eq_decide.mpr (by omega)
    unfold za_set
    split
    · rename_i h
      rw [Nat.testBit_or, ih, Nat.testBit_two_pow, hd]
      by_cases e : s = n
      · subst e; simp [h]
      · have e' : ¬ n = s := fun z => e z.symm
        simp [e, e']
    · rename_i h
      rw [ih, hd]
      by_cases e : s = n
      · subst e; simp [h]
      · simp [e]
theorem za_set_0 {P : Nat → Bool} {n : Nat} : za_set P n = 0 ↔ ∀ s, s < n → P s = false := by
  constructor
  · intro h s hs
    have := za_set_tb P n s
    rw [h, Nat.zero_testBit] at this
    simpa [hs] using this.symm
  · intro h
    apply Nat.eq_of_testBit_eq
    intro s
    rw [za_set_tb, Nat.zero_testBit]
    by_cases e : s < n
    · rw [h s e]; simp
    · simp [e]
theorem za_set_congr {P Q : Nat → Bool} : ∀ n, (∀ s, s < n → P s = Q s) → za_set P n = za_set Q n
  | 0, _ => rfl
  | n + 1, h => by
    unfold za_set
    rw [za_set_congr n (fun s hs => h s (by omega)), h n (by omega)]
theorem za_uu {f : Nat → Int32} {k : Nat} {x y : Int32} : upd (upd f k x) k y = upd f k y := by
  funext j; unfold upd; split <;> rfl
theorem za_us {f : Nat → Int32} {k : Nat} : upd f k (f k) = f := by
  funext j; unfold upd; split
  · rename_i h; rw [h]
  · rfl
theorem za_us' {f : Nat → Int32} {k : Nat} {x : Int32} (h : x = f k) : upd f k x = f := by rw [h, za_us]
theorem za_ap (f : Nat → Int32) (k : Nat) (x : Int32) (j : Nat) : upd f k x j = if j = k then x else f j := rfl
theorem za_apL (f : Nat → Int64) (k : Nat) (x : Int64) (j : Nat) : vp_updL f k x j = if j = k then x else f j := rfl
theorem za_lt {x y : Int32} : x < y ↔ x.toInt < y.toInt := Int32.lt_iff_toInt_lt
theorem za_le {x y : Int32} : x ≤ y ↔ x.toInt ≤ y.toInt := Int32.le_iff_toInt_le
theorem za_inj {x y : Int32} (h : x.toInt = y.toInt) : x = y := Int32.toInt_inj.mp h
theorem za_m1lt : ((-1 : Int32) < 0) := by decide
theorem za_m1le : ¬ (0 : Int32) ≤ -1 := by decide
theorem za_nIne {n : Nat} (h : n < 2 ^ 31) : ¬ nI n = -1 := by
  intro e
  have := congrArg Int32.toInt e
  rw [nI_toInt h, show (-1 : Int32).toInt = -1 from by decide] at this
  omega
end
section
/-! counting, insertion, deletion, sorted rows -/
def zc_c (P : Nat → Bool) : Nat → Nat
  | 0 => 0
  | n + 1 => zc_c P n + (if P n = true then 1 else 0)
theorem zc_congr {P Q : Nat → Bool} : ∀ n, (∀ i, i < n → P i = Q i) → zc_c P n = zc_c Q n
  | 0, _ => rfl
  | n + 1, h => by
    unfold zc_c
    rw [zc_congr n (fun i hi => h i (by omega)), h n (by omega)]
theorem zc_le (P : Nat → Bool) : ∀ n, zc_c P n ≤ n
  | 0 => by simp [zc_c]
  | n + 1 => by
    have := zc_le P n
    unfold zc_c
    split <;> omega
theorem zc_pos {P : Nat → Bool} : ∀ {n}, 0 < zc_c P n → ∃ i, i < n ∧ P i = true
  | 0, h => by simp [zc_c] at h
  | n + 1, h => by
    unfold zc_c at h
    by_cases e : P n = true
    · exact ⟨n, by omega, e⟩
    · rw [if_neg e] at h
      obtain ⟨i, hi, hp⟩ := zc_pos (n := n) (by omega)
      exact ⟨i, by omega, hp⟩
theorem zc_mem {P : Nat → Bool} {i : Nat} (hp : P i = true) : ∀ {n}, i < n → 0 < zc_c P n
  | 0, h => by omega
  | n + 1, h => by
    unfold zc_c
    by_cases e : i = n
    · subst e; rw [if_pos hp]; omega
    · have := zc_mem hp (n := n) (by omega)
      omega
/-- one place changes -/
theorem zc_chg {P Q : Nat → Bool} {k : Nat} : ∀ n, k < n → (∀ i, i < n → i ≠ k → P i = Q i) →
    zc_c P n + (if Q k = true then 1 else 0) = zc_c Q n + (if P k = true then 1 else 0)
  | 0, h, _ => by omega
  | n + 1, h, he => by
    unfold zc_c
    by_cases e : k = n
    · subst e
      rw [zc_congr k (fun i hi => he i (by omega) (by omega))]
      omega
    · have := zc_chg n (by omega) (fun i hi hk => he i (by omega) hk)
      rw [he n (by omega) (fun z => e z.symm)]
      omega
/-- how often v is among the first n of f -/
def zc_n (f : Nat → Int32) (v : Int32) (n : Nat) : Nat := zc_c (fun i => decide (f i = v)) n
theorem zc_n_congr {f g : Nat → Int32} {v : Int32} {n : Nat} (h : ∀ i, i < n → f i = g i) : zc_n f v n = zc_n g v n :=
  zc_congr n (fun i hi => by simp only [h i hi])
theorem zc_n_s (f : Nat → Int32) (v : Int32) (n : Nat) : zc_n f v (n + 1) = zc_n f v n + (if f n = v then 1 else 0) := by
  unfold zc_n
  rw [zc_c]
  simp only [decide_eq_true_eq]
theorem zc_n_pos {f : Nat → Int32} {v : Int32} {n : Nat} (h : 0 < zc_n f v n) : ∃ i, i < n ∧ f i = v := by
  obtain ⟨i, hi, hp⟩ := zc_pos h
  exact ⟨i, hi, of_decide_eq_true hp⟩
theorem zc_n_mem {f : Nat → Int32} {i n : Nat} (h : i < n) : 0 < zc_n f (f i) n :=
  zc_mem (P := fun j => decide (f j = f i)) (i := i) (by simp) h
theorem zc_n_upd {f : Nat → Int32} {k n : Nat} (v x : Int32) (h : k < n) :
    zc_n (upd f k x) v n + (if f k = v then 1 else 0) = zc_n f v n + (if x = v then 1 else 0) := by
  have := zc_chg (P := fun i => decide (upd f k x i = v)) (Q := fun i => decide (f i = v)) (k := k) n h
    (fun i _ hi => by simp only [pk_un hi])
  unfold zc_n
  simpa only [decide_eq_true_eq, pk_us] using this
/-- insertion of d at k into the first n; deletion of the place k out of the first n -/
def zs_ins (s : Nat → Int32) (n k : Nat) (d : Int32) : Nat → Int32 :=
  fun j => if j < k then s j else if j = k then d else if j ≤ n then s (j - 1) else s j
def zs_del (s : Nat → Int32) (n k : Nat) : Nat → Int32 :=
  fun j => if k ≤ j ∧ j + 1 < n then s (j + 1) else s j
theorem zs_ins_lt {s : Nat → Int32} {n k j : Nat} {d : Int32} (h : j < k) : zs_ins s n k d j = s j := if_pos h
theorem zs_ins_eq {s : Nat → Int32} {n k : Nat} {d : Int32} : zs_ins s n k d k = d := by
  unfold zs_ins; rw [if_neg (by omega), if_pos rfl]
theorem zs_ins_gt {s : Nat → Int32} {n k j : Nat} {d : Int32} (h : k < j) (hj : j ≤ n) : zs_ins s n k d j = s (j - 1) := by
  unfold zs_ins; rw [if_neg (by omega), if_neg (by omega), if_pos hj]
theorem zs_ins_out {s : Nat → Int32} {n k j : Nat} {d : Int32} (h : k < j) (hj : n < j) : zs_ins s n k d j = s j := by
  unfold zs_ins; rw [if_neg (by omega), if_neg (by omega), if_neg (by omega)]
theorem zs_del_lt {s : Nat → Int32} {n k j : Nat} (h : j < k) : zs_del s n k j = s j := if_neg (by omega)
theorem zs_del_ge {s : Nat → Int32} {n k j : Nat} (h : k ≤ j) (hj : j + 1 < n) : zs_del s n k j = s (j + 1) := if_pos ⟨h, hj⟩
theorem zs_ins_cnt {s : Nat → Int32} {k : Nat} {d v : Int32} : ∀ n, k ≤ n →
    zc_n (zs_ins s n k d) v (n + 1) = zc_n s v n + (if d = v then 1 else 0)
  | 0, h => by
    have e : k = 0 := by omega
    subst e
    rw [zc_n_s, zs_ins_eq]; rfl
  | n + 1, h => by
    rw [zc_n_s]
    by_cases e : k = n + 1
    · subst e
      rw [zs_ins_eq, zc_n_congr (g := s) (fun i hi => zs_ins_lt hi)]
    · have ih := zs_ins_cnt (s := s) (k := k) (d := d) (v := v) n (by omega)
      rw [zs_ins_gt (by omega) (by omega), Nat.add_sub_cancel, zc_n_s s v n]
      rw [zc_n_congr (g := zs_ins s n k d) (fun i hi => ?_), ih]
      · omega
      · unfold zs_ins
        by_cases h1 : i < k
        · rw [if_pos h1, if_pos h1]
        · rw [if_neg h1, if_neg h1]
          by_cases h2 : i = k
          · rw [if_pos h2, if_pos h2]
          · rw [if_neg h2, if_neg h2, if_pos (by omega), if_pos (by omega)]
theorem zs_del_cnt {s : Nat → Int32} {k : Nat} {v : Int32} : ∀ n, k ≤ n →
    zc_n s v (n + 1) = zc_n (zs_del s (n + 1) k) v n + (if s k = v then 1 else 0)
  | 0, h => by
    have e : k = 0 := by omega
    subst e
    rw [zc_n_s]; rfl
  | n + 1, h => by
    rw [zc_n_s]
    by_cases e : k = n + 1
    · subst e
      rw [zc_n_congr (g := zs_del s (n + 1 + 1) (n + 1)) (fun i hi => (zs_del_lt hi).symm)]
    · have ih := zs_del_cnt (s := s) (k := k) (v := v) n (by omega)
      rw [ih, zc_n_s (zs_del s (n + 1 + 1) k) v n, zs_del_ge (by omega) (by omega)]
      rw [zc_n_congr (f := zs_del s (n + 1) k) (g := zs_del s (n + 1 + 1) k) (fun i hi => ?_)]
      · omega
      · unfold zs_del
        by_cases h1 : k ≤ i
        · rw [if_pos ⟨h1, by omega⟩, if_pos ⟨h1, by omega⟩]
        · rw [if_neg (by omega), if_neg (by omega)]
def zs_so (s : Nat → Int32) (n : Nat) : Prop := ∀ i j, i ≤ j → j < n → s i ≤ s j
theorem zs_so_ins {s : Nat → Int32} {n k : Nat} {d : Int32} (hs : zs_so s n) (hk : k ≤ n)
    (h1 : ∀ j, k ≤ j → j < n → d ≤ s j) (h2 : ∀ j, j < k → s j ≤ d) : zs_so (zs_ins s n k d) (n + 1) := by
  intro i j hij hj
  rcases Nat.lt_trichotomy i k with hi | hi | hi
  · rw [zs_ins_lt hi]
    rcases Nat.lt_trichotomy j k with hjk | hjk | hjk
    · rw [zs_ins_lt hjk]; exact hs i j hij (by omega)
    · subst hjk; rw [zs_ins_eq]; exact h2 i hi
    · rw [zs_ins_gt hjk (by omega)]; exact hs i (j - 1) (by omega) (by omega)
  · subst hi
    rw [zs_ins_eq]
    by_cases e : j = i
    · subst e; rw [zs_ins_eq]; exact Int32.le_refl _
    · rw [zs_ins_gt (by omega) (by omega)]; exact h1 (j - 1) (by omega) (by omega)
  · rw [zs_ins_gt hi (by omega), zs_ins_gt (by omega) (by omega)]
    exact hs (i - 1) (j - 1) (by omega) (by omega)
theorem zs_so_del {s : Nat → Int32} {n k : Nat} (hs : zs_so s (n + 1)) : zs_so (zs_del s (n + 1) k) n := by
  intro i j hij hj
  unfold zs_del
  by_cases hi : k ≤ i
  · rw [if_pos ⟨hi, by omega⟩, if_pos ⟨by omega, by omega⟩]
    exact hs _ _ (by omega) (by omega)
  · rw [if_neg (by omega)]
    by_cases hk : k ≤ j
    · rw [if_pos ⟨hk, by omega⟩]; exact hs _ _ (by omega) (by omega)
    · rw [if_neg (by omega)]; exact hs _ _ hij (by omega)
/-- two sorted rows with the same counts are the same -/
theorem zs_uniq {f g : Nat → Int32} : ∀ n, zs_so f n → zs_so g n → (∀ v, zc_n f v n = zc_n g v n) → ∀ i, i < n → f i = g i
  | 0, _, _, _ => fun i h => by omega
  | n + 1, hf, hg, hc => by
    have key : ∀ {a b : Nat → Int32}, zs_so b (n + 1) → (∀ v, zc_n a v (n + 1) = zc_n b v (n + 1)) → a n ≤ b n := by
      intro a b hb h
      have p := zc_n_mem (f := a) (i := n) (n := n + 1) (by omega)
      rw [h] at p
      obtain ⟨j, hj, e⟩ := zc_n_pos p
      rw [← e]
      exact hb j n (by omega) (by omega)
    have e : f n = g n := Int32.le_antisymm (key hg hc) (key hf (fun v => (hc v).symm))
    have ih := zs_uniq n (fun i j h h' => hf i j h (by omega)) (fun i j h h' => hg i j h (by omega)) (fun v => by
      have := hc v
      rw [zc_n_s, zc_n_s, e] at this
      omega)
    intro i hi
    by_cases h : i = n
    · subst h; exact e
    · exact ih i (by omega)
/-- injective rows of numbers below N are at most N long -/
theorem zc_pig {f : Nat → Int32} {N : Nat} : ∀ n, (∀ v, zc_n f v n ≤ 1) → (∀ i, i < n → ∃ m, m < N ∧ f i = nI m) → N < 2 ^ 31 → n ≤ N := by
  induction N generalizing f with
  | zero =>
    intro n _ h _
    rcases Nat.eq_zero_or_pos n with e | e
    · omega
    · obtain ⟨m, hm, _⟩ := h 0 e; omega
  | succ N ih =>
    intro n hu h hN
    rcases Nat.eq_zero_or_pos (zc_n f (nI N) n) with e | e
    · have := ih n hu (fun i hi => by
        obtain ⟨m, hm, em⟩ := h i hi
        refine ⟨m, ?_, em⟩
        rcases Nat.lt_or_ge m N with z | z
        · exact z
        · have : m = N := by omega
          subst this
          have := zc_n_mem (f := f) hi
          rw [em] at this; omega) (by omega)
      omega
    · obtain ⟨k, hk, ek⟩ := zc_n_pos e
      obtain ⟨n', rfl⟩ : ∃ n', n = n' + 1 := ⟨n - 1, by omega⟩
      have hd := fun v => zs_del_cnt (s := f) (k := k) (v := v) n' (by omega)
      have := ih (f := zs_del f (n' + 1) k) n' (fun v => by have := hd v; have := hu v; omega) (fun i hi => by
        have hi2 : ∃ j, j < n' + 1 ∧ zs_del f (n' + 1) k i = f j := by
          by_cases z : k ≤ i
          · exact ⟨i + 1, by omega, zs_del_ge z (by omega)⟩
          · exact ⟨i, by omega, zs_del_lt (by omega)⟩
        obtain ⟨j, hj, ej⟩ := hi2
        obtain ⟨m, hm, em⟩ := h j hj
        refine ⟨m, ?_, by rw [ej, em]⟩
        rcases Nat.lt_or_ge m N with z | z
        · exact z
        · have : m = N := by omega
          subst this
          have h1 := zc_n_mem (f := zs_del f (n' + 1) k) hi
          rw [ej, em] at h1
          have h2 := hd (nI m)
          rw [ek, if_pos rfl] at h2
          have h3 := hu (nI m)
          omega) (by omega)
      omega
end
section
/-! the heap, by a key; the place that is being filled is a hole -/
section
variable {ky : Int32 → Nat}
def zh_o (ky : Int32 → Nat) (a : Nat → Int32) (h : Nat) : Prop := ∀ i, 0 < i → i < h → ky (a ((i - 1) / 2)) ≤ ky (a i)
/-- first is least -/
theorem zh_min {a : Nat → Int32} {h : Nat} (H : zh_o ky a h) : ∀ i, i < h → ky (a 0) ≤ ky (a i) := by
  intro i
  induction i using Nat.strongRecOn with
  | ind i ih =>
    intro hi
    rcases Nat.eq_zero_or_pos i with e | e
    · subst e; exact Nat.le_refl _
    · exact Nat.le_trans (ih ((i - 1) / 2) (by omega) (by omega)) (H i e hi)
/-- rising: m shall lie at k, order holds but for k and its parent -/
def zh_u (ky : Int32 → Nat) (a : Nat → Int32) (m : Int32) (h k : Nat) : Prop :=
  k ≤ h ∧ (∀ i, 0 < i → i ≤ h → i ≠ k → ky (upd a k m ((i - 1) / 2)) ≤ ky (upd a k m i)) ∧
  (∀ i, 0 < i → i ≤ h → (i - 1) / 2 = k → 0 < k → ky (upd a k m ((k - 1) / 2)) ≤ ky (upd a k m i))
theorem zh_u0 {a : Nat → Int32} {m : Int32} {h : Nat} (H : zh_o ky a h) : zh_u ky a m h h := by
  refine ⟨Nat.le_refl h, ?_, ?_⟩
  · intro i h0 hi hne
    rw [pk_un (show (i - 1) / 2 ≠ h by omega), pk_un hne]
    exact H i h0 (by omega)
  · intro i h0 hi he; omega
theorem zh_u_end {a : Nat → Int32} {m : Int32} {h k : Nat} (H : zh_u ky a m h k) (hs : k = 0 ∨ ky (a ((k - 1) / 2)) ≤ ky m) :
    zh_o ky (upd a k m) (h + 1) := by
  intro i h0 hi
  by_cases e : i = k
  · subst e
    rcases hs with z | z
    · omega
    · rw [pk_us, pk_un (show (i - 1) / 2 ≠ i by omega)]; exact z
  · exact H.2.1 i h0 (by omega) e
theorem zh_u_step {a : Nat → Int32} {m : Int32} {h k : Nat} (H : zh_u ky a m h k) (h0 : 0 < k) (hs : ky m < ky (a ((k - 1) / 2))) :
    zh_u ky (upd a k (a ((k - 1) / 2))) m h ((k - 1) / 2) := by
  obtain ⟨hk, H1, H2⟩ := H
  have hp : (k - 1) / 2 < k := by omega
  generalize hpe : (k - 1) / 2 = p at *
  have hpk : p ≠ k := by omega
  have A : ∀ j, j ≠ p → j ≠ k → upd (upd a k (a p)) p m j = a j := fun j h1 h2 => by rw [pk_un h1, pk_un h2]
  have Ak : upd (upd a k (a p)) p m k = a p := by rw [pk_un (Ne.symm hpk), pk_us]
  have Ap : upd (upd a k (a p)) p m p = m := pk_us
  have B : ∀ j, j ≠ k → upd a k m j = a j := fun j h1 => pk_un h1
  refine ⟨by omega, ?_, ?_⟩
  · intro i hi0 hi hne
    by_cases e : i = k
    · subst e
      rw [hpe, Ap, Ak]; exact Nat.le_of_lt hs
    · rw [A i hne e]
      by_cases e2 : (i - 1) / 2 = k
      · rw [e2, Ak]
        have := H2 i hi0 hi e2 h0
        rw [B p hpk, B i e] at this; exact this
      · have h1 := H1 i hi0 hi e
        rw [B _ e2, B i e] at h1
        by_cases e3 : (i - 1) / 2 = p
        · rw [e3, Ap]; rw [e3] at h1; omega
        · rw [A _ e3 e2]; exact h1
  · intro i hi0 hi hip hp0
    have hpp : (p - 1) / 2 ≠ p := by omega
    have hpp' : (p - 1) / 2 ≠ k := by omega
    have h1 := H1 p hp0 (by omega) hpk
    rw [B _ hpp', B p hpk] at h1
    rw [A _ hpp hpp']
    by_cases e : i = k
    · subst e; rw [Ak]; exact h1
    · have h2 := H1 i hi0 hi e
      rw [hip, B p hpk, B i e] at h2
      rw [A i (by omega) e]; omega
/-- swapped places: counts stay -/
theorem zh_sw {a : Nat → Int32} {m v : Int32} {n k p : Nat} (hk : k < n) (hp : p < n) (hkp : k ≠ p) :
    zc_n (upd (upd a k (a p)) p m) v n = zc_n (upd a k m) v n := by
  have h1 := zc_n_upd (f := upd a k (a p)) (k := p) v m hp
  have h2 := zc_n_upd (f := a) (k := k) v (a p) hk
  have h3 := zc_n_upd (f := a) (k := k) v m hk
  rw [pk_un (Ne.symm hkp)] at h1
  omega
/-- sinking: m shall lie at k, order holds but for k and its children -/
def zh_d (ky : Int32 → Nat) (a : Nat → Int32) (m : Int32) (g k : Nat) : Prop :=
  (∀ i, 0 < i → i < g → (i - 1) / 2 ≠ k → ky (upd a k m ((i - 1) / 2)) ≤ ky (upd a k m i)) ∧
  (∀ i, 0 < i → i < g → (i - 1) / 2 = k → 0 < k → ky (upd a k m ((k - 1) / 2)) ≤ ky (upd a k m i))
theorem zh_d0 {a : Nat → Int32} {m : Int32} {g : Nat} (H : zh_o ky a (g + 1)) : zh_d ky a m g 0 := by
  refine ⟨?_, fun i _ _ _ h => by omega⟩
  intro i h0 hi hne
  rw [pk_un hne, pk_un (by omega)]
  exact H i h0 (by omega)
theorem zh_d_end {a : Nat → Int32} {m : Int32} {g k : Nat} (H : zh_d ky a m g k)
    (hs : ∀ i, 0 < i → i < g → (i - 1) / 2 = k → ky m ≤ ky (a i)) : zh_o ky (upd a k m) g := by
  intro i h0 hi
  by_cases e : (i - 1) / 2 = k
  · rw [e, pk_us, pk_un (by omega)]; exact hs i h0 hi e
  · exact H.1 i h0 hi e
theorem zh_d_step {a : Nat → Int32} {m : Int32} {g k c : Nat} (H : zh_d ky a m g k) (hc : c < g) (hck : (c - 1) / 2 = k) (hc0 : 0 < c)
    (hs : ky (a c) < ky m) (hl : ∀ i, 0 < i → i < g → (i - 1) / 2 = k → ky (a c) ≤ ky (a i)) :
    zh_d ky (upd a k (a c)) m g c := by
  obtain ⟨H1, H2⟩ := H
  have hkc : k ≠ c := by omega
  have A : ∀ j, j ≠ c → j ≠ k → upd (upd a k (a c)) c m j = a j := fun j h1 h2 => by rw [pk_un h1, pk_un h2]
  have Ak : upd (upd a k (a c)) c m k = a c := by rw [pk_un hkc, pk_us]
  have Ac : upd (upd a k (a c)) c m c = m := pk_us
  have B : ∀ j, j ≠ k → upd a k m j = a j := fun j h1 => pk_un h1
  constructor
  · intro i h0 hi hne
    by_cases e : (i - 1) / 2 = k
    · rw [e, Ak]
      by_cases e2 : i = c
      · subst e2; rw [Ac]; omega
      · rw [A i e2 (by omega)]; exact hl i h0 hi e
    · have h1 := H1 i h0 hi e
      rw [B _ e] at h1
      rw [A _ hne e]
      by_cases e2 : i = k
      · subst e2
        have h2 := H2 c hc0 hc hck h0
        rw [B _ e, B c (Ne.symm hkc)] at h2
        rw [Ak]; exact h2
      · rw [B i e2] at h1
        by_cases e3 : i = c
        · exact absurd (e3 ▸ hck) e
        · rw [A i e3 e2]; exact h1
  · intro i h0 hi hic _
    have h1 := H1 i h0 hi (by omega)
    rw [hic, B c (Ne.symm hkc), B i (by omega)] at h1
    rw [hck, Ak, A i (by omega) (by omega)]; exact h1
/-- taking the first: counts -/
theorem zh_tk {a : Nat → Int32} {v : Int32} {g : Nat} :
    zc_n (upd a 0 (a g)) v g + (if a 0 = v then 1 else 0) = zc_n a v (g + 1) := by
  rw [zc_n_s]
  rcases Nat.eq_zero_or_pos g with e | e
  · subst e; rfl
  · have := zc_n_upd (f := a) (k := 0) v (a g) e
    omega
end
end
section
/-! the ring -/
def zr_pl (s j : Nat) : Nat := (s * 37 + j * 101 + 17) * 59 % 256
theorem zr_pl_lt (s j : Nat) : zr_pl s j < 256 := Nat.mod_lt _ (by decide)
def zr_R (np : Nat) (ra rs : Nat → Int32) (D : Nat → Nat → Prop) : Prop :=
  (∀ i, i < np → ∃ s j, s < 6 ∧ D s j ∧ rs i = nI s ∧ ra i = nI (zr_pl s j)) ∧
  (∀ s j, s < 6 → D s j → ∃ i, i < np ∧ rs i = nI s ∧ ra i = nI (zr_pl s j)) ∧
  (∀ i j, i < j → j < np → ra i < ra j ∨ (ra i = ra j ∧ rs i ≤ rs j))
theorem zr_0 {ra rs : Nat → Int32} {D : Nat → Nat → Prop} (h : ∀ s j, s < 6 → ¬ D s j) : zr_R 0 ra rs D :=
  ⟨fun i h => by omega, fun s j hs hd => absurd hd (h s j hs), fun i j _ h => by omega⟩
theorem zr_iff {np : Nat} {ra rs : Nat → Int32} {D E : Nat → Nat → Prop} (h : ∀ s j, s < 6 → (D s j ↔ E s j)) (H : zr_R np ra rs D) : zr_R np ra rs E := by
  refine ⟨fun i hi => ?_, fun s j hs he => H.2.1 s j hs ((h s j hs).mpr he), H.2.2⟩
  obtain ⟨s, j, hs, hd, r⟩ := H.1 i hi
  exact ⟨s, j, hs, (h s j hs).mp hd, r⟩
theorem zr_le {np : Nat} {ra rs : Nat → Int32} {D : Nat → Nat → Prop} (H : zr_R np ra rs D) {i j : Nat} (h : i ≤ j) (hj : j < np) : ra i ≤ ra j := by
  by_cases e : i = j
  · subst e; exact Int32.le_refl _
  · rcases H.2.2 i j (by omega) hj with z | z
    · exact Int32.le_of_lt z
    · rw [z.1]; exact Int32.le_refl _
theorem zr_ins {np k t j0 : Nat} {ra rs : Nat → Int32} {D E : Nat → Nat → Prop} (H : zr_R np ra rs D) (ht : t < 6)
    (hD : ∀ s j, s < 6 → D s j → s ≤ t) (hE : ∀ s j, E s j ↔ (D s j ∨ (s = t ∧ j = j0))) (hk : k ≤ np)
    (h1 : ∀ i, k ≤ i → i < np → nI (zr_pl t j0) < ra i) (h2 : ∀ i, i < k → ra i ≤ nI (zr_pl t j0)) :
    zr_R (np + 1) (zs_ins ra np k (nI (zr_pl t j0))) (zs_ins rs np k (nI t)) E := by
  refine ⟨?_, ?_, ?_⟩
  · intro i hi
    rcases Nat.lt_trichotomy i k with z | z | z
    · obtain ⟨s, j, hs, hd, e1, e2⟩ := H.1 i (by omega)
      exact ⟨s, j, hs, (hE s j).mpr (Or.inl hd), by rw [zs_ins_lt z, e1], by rw [zs_ins_lt z, e2]⟩
    · subst z
      exact ⟨t, j0, ht, (hE t j0).mpr (Or.inr ⟨rfl, rfl⟩), zs_ins_eq, zs_ins_eq⟩
    · obtain ⟨s, j, hs, hd, e1, e2⟩ := H.1 (i - 1) (by omega)
      exact ⟨s, j, hs, (hE s j).mpr (Or.inl hd), by rw [zs_ins_gt z (by omega), e1], by rw [zs_ins_gt z (by omega), e2]⟩
  · intro s j hs he
    rcases (hE s j).mp he with z | ⟨rfl, rfl⟩
    · obtain ⟨i, hi, e1, e2⟩ := H.2.1 s j hs z
      by_cases hik : i < k
      · exact ⟨i, by omega, by rw [zs_ins_lt hik, e1], by rw [zs_ins_lt hik, e2]⟩
      · exact ⟨i + 1, by omega, by rw [zs_ins_gt (by omega) (by omega), Nat.add_sub_cancel, e1], by rw [zs_ins_gt (by omega) (by omega), Nat.add_sub_cancel, e2]⟩
    · exact ⟨k, by omega, zs_ins_eq, zs_ins_eq⟩
  · intro i j hij hj
    rcases Nat.lt_trichotomy j k with z | z | z
    · rw [zs_ins_lt z, zs_ins_lt (by omega), zs_ins_lt z, zs_ins_lt (by omega)]
      exact H.2.2 i j hij (by omega)
    · subst z
      rw [zs_ins_eq, zs_ins_eq, zs_ins_lt hij, zs_ins_lt hij]
      rcases Int32.lt_or_eq_of_le (h2 i hij) with y | y
      · exact Or.inl y
      · refine Or.inr ⟨y, ?_⟩
        obtain ⟨s, q, hs, hd, e1, _⟩ := H.1 i (by omega)
        rw [e1]
        exact nI_le (hD s q hs hd) (by omega)
    · rw [zs_ins_gt z (by omega), zs_ins_gt z (by omega)]
      rcases Nat.lt_trichotomy i k with y | y | y
      · rw [zs_ins_lt y, zs_ins_lt y]; exact H.2.2 i (j - 1) (by omega) (by omega)
      · subst y
        rw [zs_ins_eq, zs_ins_eq]; exact Or.inl (h1 (j - 1) (by omega) (by omega))
      · rw [zs_ins_gt y (by omega), zs_ins_gt y (by omega)]; exact H.2.2 (i - 1) (j - 1) (by omega) (by omega)
def zr_d (p key : Nat) : Nat := (p + 256 - key) % 256
/-- s is the server that the ring gives for a key among the ready ones -/
def zr_b (D : Nat → Nat → Prop) (P : Nat → Bool) (key s d : Nat) : Prop :=
  s < 6 ∧ P s = true ∧ (∃ j, D s j ∧ zr_d (zr_pl s j) key = d) ∧
  ∀ s' j', s' < 6 → P s' = true → D s' j' → d < zr_d (zr_pl s' j') key ∨ (d = zr_d (zr_pl s' j') key ∧ s ≤ s')
theorem zr_fin {np low st k s key : Nat} {ra rs : Nat → Int32} {D : Nat → Nat → Prop} {P : Nat → Bool} (H : zr_R np ra rs D)
    (hkey : key < 256) (hl1 : ∀ i, i < low → i < np → ra i < nI key) (hl2 : ∀ i, low ≤ i → i < np → nI key ≤ ra i)
    (hst : (low < np ∧ st = low) ∨ (low = np ∧ st = 0)) (hk : k < np) (hs : rs k = nI s) (hs6 : s < 6) (hP : P s = true)
    (hph : (st ≤ k ∧ ∀ i t, st ≤ i → i < k → t < 6 → rs i = nI t → P t = false) ∨
      (k < st ∧ (∀ i t, st ≤ i → i < np → t < 6 → rs i = nI t → P t = false) ∧ (∀ i t, i < k → t < 6 → rs i = nI t → P t = false))) :
    ∃ d, zr_b D P key s d := by
  obtain ⟨s0, j, hs0, hd, e1, e2⟩ := H.1 k hk
  have es : s0 = s := (nI_eq (by omega) (by omega)).mp (e1.symm.trans hs)
  subst es
  refine ⟨zr_d (zr_pl s0 j) key, hs6, hP, ⟨j, hd, rfl⟩, ?_⟩
  intro s' j' hs' hP' hd'
  obtain ⟨i, hi, f1, f2⟩ := H.2.1 s' j' hs' hd'
  have b1 := zr_pl_lt s0 j
  have b2 := zr_pl_lt s' j'
  have srt : k ≤ i → zr_pl s0 j < zr_pl s' j' ∨ (zr_pl s0 j = zr_pl s' j' ∧ s0 ≤ s') := by
    intro hki
    by_cases e : k = i
    · subst e
      have h1 : s0 = s' := (nI_eq (by omega) (by omega)).mp (e1.symm.trans f1)
      have h2 : zr_pl s0 j = zr_pl s' j' := (nI_eq (by omega) (by omega)).mp (e2.symm.trans f2)
      exact Or.inr ⟨h2, by omega⟩
    · rcases H.2.2 k i (by omega) hi with z | ⟨z, y⟩
      · rw [e2, f2, nI_ltI (by omega) (by omega)] at z; exact Or.inl z
      · rw [e2, f2, nI_eq (by omega) (by omega)] at z
        rw [e1, f1, nI_leI (by omega) (by omega)] at y
        exact Or.inr ⟨z, y⟩
  have lo : ∀ {q : Nat}, q < low → q < np → ∀ {w : Nat}, w < 256 → ra q = nI w → w < key := by
    intro q h1 h2 w hw ew
    have := hl1 q h1 h2
    rwa [ew, nI_ltI (by omega) (by omega)] at this
  have hi' : ∀ {q : Nat}, low ≤ q → q < np → ∀ {w : Nat}, w < 256 → ra q = nI w → key ≤ w := by
    intro q h1 h2 w hw ew
    have := hl2 q h1 h2
    rwa [ew, nI_leI (by omega) (by omega)] at this
  generalize zr_pl s0 j = p at *
  generalize zr_pl s' j' = p' at *
  unfold zr_d
  rcases hph with ⟨ha, hb⟩ | ⟨ha, hb, hc⟩
  · have hik : ¬ (st ≤ i ∧ i < k) := fun z => by
      have := hb i s' z.1 z.2 hs' f1
      rw [this] at hP'; cases hP'
    rcases hst with ⟨z1, z2⟩ | ⟨z1, z2⟩
    · have k1 := hi' (q := k) (by omega) hk b1 e2
      by_cases z : i < low
      · have k2 := lo z hi b2 f2
        left; omega
      · have k2 := hi' (q := i) (by omega) hi b2 f2
        have := srt (by omega)
        omega
    · have k1 := lo (q := k) (by omega) hk b1 e2
      have k2 := lo (q := i) (by omega) hi b2 f2
      have := srt (by omega)
      omega
  · have hik : ¬ st ≤ i := fun z => by
      have := hb i s' z hi hs' f1
      rw [this] at hP'; cases hP'
    have hik2 : ¬ i < k := fun z => by
      have := hc i s' z hs' f1
      rw [this] at hP'; cases hP'
    have k1 := lo (q := k) (by omega) hk b1 e2
    have k2 := lo (q := i) (by omega) hi b2 f2
    have := srt (by omega)
    omega
theorem zr_hit {p key k : Nat} (h1 : p < 256) (h2 : key < 256) (h3 : k < 256) : p = (key + k) % 256 ↔ zr_d p key = k := by
  unfold zr_d; omega
end
section
/-! routes and the tree of labels -/
def zt_val (pa se : Nat → Int32) (x : Int32) : Nat → Int32
  | 0 => -1
  | n + 1 => if pa n = x then se n else zt_val pa se x n
theorem zt_miss {pa se : Nat → Int32} {x : Int32} : ∀ n, (∀ r, r < n → ¬ pa r = x) → zt_val pa se x n = -1
  | 0, _ => rfl
  | n + 1, h => by
    unfold zt_val
    rw [if_neg (h n (by omega)), zt_miss n (fun r hr => h r (by omega))]
def zt_ds (pa : Nat → Int32) (n : Nat) : Prop := ∀ i j, i < n → j < n → pa i = pa j → i = j
theorem zt_hit {pa se : Nat → Int32} {x : Int32} {r : Nat} : ∀ n, zt_ds pa n → r < n → pa r = x → zt_val pa se x n = se r
  | 0, _, h, _ => by omega
  | n + 1, hd, h, e => by
    unfold zt_val
    by_cases z : pa n = x
    · rw [if_pos z]
      have : n = r := hd n r (by omega) h (z.trans e.symm)
      rw [this]
    · rw [if_neg z]
      have : r ≠ n := fun y => z (y ▸ e)
      exact zt_hit n (fun i j hi hj => hd i j (by omega) (by omega)) (by omega) e
theorem zt_cases {pa se : Nat → Int32} {x : Int32} : ∀ n, zt_ds pa n → (zt_val pa se x n = -1 ∧ ∀ r, r < n → ¬ pa r = x) ∨ ∃ r, r < n ∧ pa r = x ∧ zt_val pa se x n = se r := by
  intro n hd
  by_cases h : ∃ r, r < n ∧ pa r = x
  · obtain ⟨r, hr, e⟩ := h
    exact Or.inr ⟨r, hr, e, zt_hit n hd hr e⟩
  · have h' : ∀ r, r < n → ¬ pa r = x := fun r hr e => h ⟨r, hr, e⟩
    exact Or.inl ⟨zt_miss n h', h'⟩
/-- the servers of the longest beginning of p, a path of d labels, that is a route -/
def zt_so (pa se : Nat → Int32) (n : Nat) : Nat → Nat → Int32
  | 0, p => zt_val pa se (nI p) n
  | d + 1, p => if zt_val pa se (nI p) n = -1 then zt_so pa se n d (p / 8) else zt_val pa se (nI p) n
theorem zt_so0 {pa se : Nat → Int32} {n : Nat} : ∀ d, zt_so pa se n d 0 = zt_val pa se (nI 0) n
  | 0 => rfl
  | d + 1 => by
    unfold zt_so
    have := zt_so0 (pa := pa) (se := se) (n := n) d
    by_cases h : zt_val pa se (nI 0) n = -1
    · rw [if_pos h, Nat.zero_div, this]
    · rw [if_neg h]
/-- nothing found at the longer ones -/
theorem zt_so_skip {pa se : Nat → Int32} {n d : Nat} : ∀ e p, (∀ j, j < e → zt_val pa se (nI (p / 8 ^ j)) n = -1) →
    zt_so pa se n (d + e) p = zt_so pa se n d (p / 8 ^ e)
  | 0, p, _ => by simp
  | e + 1, p, h => by
    have h0 := h 0 (by omega)
    simp at h0
    rw [show d + (e + 1) = (d + e) + 1 by omega]
    rw [zt_so, if_pos h0, zt_so_skip e (p / 8) (fun j hj => by
      have := h (j + 1) (by omega)
      rwa [Nat.pow_succ, Nat.mul_comm, ← Nat.div_div_eq_div_mul] at this)]
    rw [Nat.div_div_eq_div_mul, Nat.pow_succ, Nat.mul_comm]
/-- a path: at most four labels, none of them 0 -/
def zt_ok (p : Nat) : Prop := p < 4096 ∧ ∀ i, i < 4 → p / 8 ^ i ≠ 0 → p / 8 ^ i % 8 ≠ 0
/-- the tree: pre is the path of a node -/
def zt_T (nd : Nat) (nx sv pa se : Nat → Int32) (K : Nat) (pre : Nat → Nat) : Prop :=
  1 ≤ nd ∧ pre 0 = 0 ∧
  (∀ a, a < nd → pre a < 4096) ∧
  (∀ a l, a < nd → 1 ≤ l → l < 8 → ∃ c, c < nd ∧ nx (8 * a + l) = nI c ∧ (c ≠ 0 → pre c = 8 * pre a + l)) ∧
  (∀ a b, a < nd → b < nd → pre a = pre b → a = b) ∧
  (∀ c, 0 < c → c < nd → ∃ a l, a < nd ∧ 1 ≤ l ∧ l < 8 ∧ nx (8 * a + l) = nI c) ∧
  (∀ a, a < nd → sv a = zt_val pa se (nI (pre a)) K + 1) ∧
  (∀ k, k < K → ∃ a, a < nd ∧ pa k = nI (pre a))
/-- no child, no node -/
theorem zt_none {nd K : Nat} {nx sv pa se : Nat → Int32} {pre : Nat → Nat} (T : zt_T nd nx sv pa se K pre) (hnd : nd ≤ 49)
    {a l : Nat} (ha : a < nd) (hl : 1 ≤ l) (hl8 : l < 8) (h0 : nx (8 * a + l) = nI 0) : ∀ c, c < nd → pre c ≠ 8 * pre a + l := by
  obtain ⟨t1, t2, t3, t4, t5, t6, t7, t8⟩ := T
  intro c hc e
  rcases Nat.eq_zero_or_pos c with z | z
  · subst z; rw [t2] at e; omega
  · obtain ⟨b, m, hb, hm, hm8, en⟩ := t6 c z hc
    obtain ⟨c', hc', en', ep⟩ := t4 b m hb hm hm8
    have : c' = c := (nI_eq (by omega) (by omega)).mp (en'.symm.trans en)
    subst this
    have ep := ep (by omega)
    have hab : a = b := t5 a b ha hb (by omega)
    have hlm : l = m := by omega
    subst hab hlm
    rw [h0] at en
    have := (nI_eq (by omega) (by omega)).mp en
    omega
/-- a node has its ancestors -/
theorem zt_anc {nd K : Nat} {nx sv pa se : Nat → Int32} {pre : Nat → Nat} (T : zt_T nd nx sv pa se K pre) (hnd : nd ≤ 49)
    {p : Nat} : ∀ i, (∃ c, c < nd ∧ pre c = p) → ∃ c, c < nd ∧ pre c = p / 8 ^ i
  | 0, h => by simpa using h
  | i + 1, h => by
    obtain ⟨c, hc, e⟩ := zt_anc T hnd i h
    obtain ⟨t1, t2, t3, t4, t5, t6, t7, t8⟩ := T
    rw [Nat.pow_succ, ← Nat.div_div_eq_div_mul, ← e]
    rcases Nat.eq_zero_or_pos c with z | z
    · subst z; exact ⟨0, hc, by rw [t2]⟩
    · obtain ⟨b, m, hb, hm, hm8, en⟩ := t6 c z hc
      obtain ⟨c', hc', en', ep⟩ := t4 b m hb hm hm8
      have : c' = c := (nI_eq (by omega) (by omega)).mp (en'.symm.trans en)
      subst this
      have ep := ep (by omega)
      exact ⟨b, hb, by omega⟩
theorem zt_noval {nd K : Nat} {nx sv pa se : Nat → Int32} {pre : Nat → Nat} (T : zt_T nd nx sv pa se K pre) 
    {p : Nat} (hp : p < 4096) (h : ∀ c, c < nd → pre c ≠ p) : zt_val pa se (nI p) K = -1 := by
  apply zt_miss
  intro r hr e
  obtain ⟨a, ha, ea⟩ := T.2.2.2.2.2.2.2 r hr
  have h3 := T.2.2.1 a ha
  rw [e] at ea
  exact h a ha ((nI_eq (by omega) (by omega)).mp ea).symm
/-- the walk ends where no child is: the answer is that of the labels so far -/
theorem zt_stop {nd K : Nat} {nx sv pa se : Nat → Int32} {pre : Nat → Nat} (T : zt_T nd nx sv pa se K pre) (hnd : nd ≤ 49)
    {a p i d : Nat} (ha : a < nd) (hp : p < 4096) (hpre : pre a = p / 8 ^ (i + 1)) (hl : 1 ≤ p / 8 ^ i % 8)
    (h0 : nx (8 * a + p / 8 ^ i % 8) = nI 0) : zt_so pa se K (d + (i + 1)) p = zt_so pa se K d (pre a) := by
  rw [hpre]
  apply zt_so_skip
  intro j hj
  have hlt : p / 8 ^ j < 4096 := Nat.lt_of_le_of_lt (Nat.div_le_self _ _) hp
  apply zt_noval T hlt
  intro c hc e
  obtain ⟨c', hc', e'⟩ := zt_anc T hnd (i - j) ⟨c, hc, e⟩
  rw [Nat.div_div_eq_div_mul, ← Nat.pow_add, show j + (i - j) = i by omega] at e'
  refine zt_none T hnd ha hl (Nat.mod_lt _ (by decide)) h0 c' hc' ?_
  rw [e', hpre, Nat.pow_succ, ← Nat.div_div_eq_div_mul]
  omega
/-- one label on -/
theorem zt_down {nd K : Nat} {nx sv pa se : Nat → Int32} {pre : Nat → Nat} (T : zt_T nd nx sv pa se K pre)
    {a l c d : Nat} (hc : c < nd) (hl8 : l < 8) (e : pre c = 8 * pre a + l) :
    zt_so pa se K (d + 1) (pre c) = if sv c = 0 then zt_so pa se K d (pre a) else sv c - 1 := by
  have h7 := T.2.2.2.2.2.2.1 c hc
  have hdv : pre c / 8 = pre a := by omega
  have h0 : sv c = 0 ↔ zt_val pa se (nI (pre c)) K = -1 := by
    rw [h7]
    constructor
    · intro z
      have : zt_val pa se (nI (pre c)) K + 1 - 1 = 0 - 1 := by rw [z]
      rw [Int32.add_sub_cancel] at this
      rw [this]; decide
    · intro z; rw [z]; decide
  rw [zt_so, hdv]
  by_cases z : sv c = 0
  · rw [if_pos z, if_pos (h0.mp z)]
  · rw [if_neg z, if_neg (fun y => z (h0.mpr y)), h7, Int32.add_sub_cancel]
/-- a new node -/
theorem zt_new {nd K : Nat} {nx sv pa se nx' sv' : Nat → Int32} {pre : Nat → Nat} (T : zt_T nd nx sv pa se K pre) (hnd : nd < 49)
    {a l : Nat} (ha : a < nd) (hl : 1 ≤ l) (hl8 : l < 8) (h0 : nx (8 * a + l) = nI 0) (hp : 8 * pre a + l < 4096)
    (hn1 : nx' (8 * a + l) = nI nd) (hn2 : ∀ j, 8 * nd ≤ j → j < 8 * nd + 8 → nx' j = 0)
    (hn3 : ∀ j, j ≠ 8 * a + l → j < 8 * nd → nx' j = nx j) (hs1 : sv' nd = 0) (hs2 : ∀ j, j ≠ nd → sv' j = sv j) :
    ∃ pre', zt_T (nd + 1) nx' sv' pa se K pre' ∧ pre' nd = 8 * pre a + l ∧ (∀ b, b < nd → pre' b = pre b) := by
  have hno := zt_none T (by omega) ha hl hl8 h0
  have hnv : zt_val pa se (nI (8 * pre a + l)) K = -1 := zt_noval T hp (fun c hc e => hno c hc e)
  obtain ⟨t1, t2, t3, t4, t5, t6, t7, t8⟩ := T
  obtain ⟨pre', Q, P⟩ : ∃ pre' : Nat → Nat, pre' nd = 8 * pre a + l ∧ ∀ b, b < nd → pre' b = pre b :=
    ⟨fun b => if b = nd then 8 * pre a + l else pre b, if_pos rfl, fun b hb => if_neg (by omega)⟩
  refine ⟨pre', ?_, Q, P⟩
  refine ⟨by omega, by rw [P 0 (by omega), t2], ?_, ?_, ?_, ?_, ?_, ?_⟩
  · intro b hb
    by_cases e : b = nd
    · subst e; rw [Q]; exact hp
    · rw [P b (by omega)]; exact t3 b (by omega)
  · intro b m hb hm hm8
    by_cases e : b = nd
    · subst e
      exact ⟨0, by omega, hn2 _ (by omega) (by omega), fun z => absurd rfl z⟩
    · rw [P b (by omega)]
      by_cases e2 : 8 * b + m = 8 * a + l
      · have e3 : b = a := by omega
        have e4 : m = l := by omega
        subst e3 e4
        exact ⟨nd, by omega, hn1, fun _ => Q⟩
      · obtain ⟨c, hc, e3, e4⟩ := t4 b m (by omega) hm hm8
        exact ⟨c, by omega, by rw [hn3 _ e2 (by omega), e3], fun z => by rw [P c hc]; exact e4 z⟩
  · intro b c hb hc e
    by_cases e1 : b = nd
    · subst e1
      by_cases e2 : c = b
      · exact e2.symm
      · rw [Q, P c (by omega)] at e
        exact absurd e.symm (hno c (by omega))
    · by_cases e2 : c = nd
      · subst e2
        rw [Q, P b (by omega)] at e
        exact absurd e (hno b (by omega))
      · rw [P b (by omega), P c (by omega)] at e
        exact t5 b c (by omega) (by omega) e
  · intro c h0c hc
    by_cases e : c = nd
    · subst e; exact ⟨a, l, by omega, hl, hl8, hn1⟩
    · obtain ⟨b, m, hb, hm, hm8, en⟩ := t6 c h0c (by omega)
      refine ⟨b, m, by omega, hm, hm8, ?_⟩
      rw [hn3 _ (fun z => ?_) (by omega), en]
      rw [z, h0] at en
      have := (nI_eq (by omega) (by omega)).mp en
      omega
  · intro b hb
    by_cases e : b = nd
    · subst e; rw [Q, hs1, hnv]; decide
    · rw [P b (by omega), hs2 b e]; exact t7 b (by omega)
  · intro k hk
    obtain ⟨b, hb, e⟩ := t8 k hk
    exact ⟨b, by omega, by rw [P b hb, e]⟩
/-- a route's last node -/
theorem zt_put {nd K : Nat} {nx sv pa se : Nat → Int32} {pre : Nat → Nat} (T : zt_T nd nx sv pa se K pre)
    {a : Nat} (ha : a < nd) (he : pa K = nI (pre a)) : zt_T nd nx (upd sv a (se K + 1)) pa se (K + 1) pre := by
  obtain ⟨t1, t2, t3, t4, t5, t6, t7, t8⟩ := T
  refine ⟨t1, t2, t3, t4, t5, t6, ?_, ?_⟩
  · intro b hb
    unfold zt_val
    by_cases e : b = a
    · subst e; rw [pk_us, if_pos he]
    · have h1 := t3 a ha
      have h2 := t3 b hb
      rw [pk_un e, if_neg (fun z => e (t5 b a hb ha ((nI_eq (by omega) (by omega)).mp (z.symm.trans he)))), t7 b hb]
  · intro k hk
    by_cases e : k = K
    · subst e; exact ⟨a, ha, he⟩
    · exact t8 k (by omega)
theorem zt_T0 {nx sv pa se : Nat → Int32} (h1 : sv 0 = 0) (h2 : ∀ j, j < 8 → nx j = 0) : zt_T 1 nx sv pa se 0 (fun _ => 0) := by
  refine ⟨by omega, rfl, fun a _ => by show 0 < 4096; omega, ?_, fun a b ha hb _ => by omega, fun c h0 hc => by omega, ?_, fun k hk => by omega⟩
  · intro a l ha hl hl8
    have : a = 0 := by omega
    subst this
    exact ⟨0, by omega, h2 _ (by omega), fun z => absurd rfl z⟩
  · intro a ha
    have : a = 0 := by omega
    subst this
    rw [h1]
    show (0 : Int32) = -1 + 1
    decide
end
section
/-! the queue as a list; tokens; keys; windows -/
def zq_S (q : Nat → Int32) : Nat → List Nat → Prop
  | _, [] => True
  | o, m :: r => q o = nI m ∧ zq_S q (o + 1) r
theorem zq_app {q : Nat → Int32} {R : List Nat} : ∀ {K : List Nat} {o : Nat}, zq_S q o (K ++ R) ↔ (zq_S q o K ∧ zq_S q (o + K.length) R)
  | [], o => by simp [zq_S]
  | m :: K, o => by
    rw [List.cons_append, zq_S, zq_S, zq_app (K := K) (o := o + 1), List.length_cons, and_assoc]
    rw [show o + 1 + K.length = o + (K.length + 1) by omega]
theorem zq_congr {q q' : Nat → Int32} : ∀ {L : List Nat} {o : Nat}, (∀ i, o ≤ i → i < o + L.length → q' i = q i) → zq_S q o L → zq_S q' o L
  | [], _, _, _ => trivial
  | m :: L, o, h, H => by
    rw [List.length_cons] at h
    exact ⟨(h o (by omega) (by omega)).trans H.1, zq_congr (fun i h1 h2 => h i (by omega) (by omega)) H.2⟩
theorem zq_sh {q q' : Nat → Int32} {e : Nat} : ∀ {L : List Nat} {o : Nat}, (∀ i, o ≤ i → i < o + L.length → q' i = q (i + e)) → zq_S q (o + e) L → zq_S q' o L
  | [], _, _, _ => trivial
  | m :: L, o, h, H => by
    rw [List.length_cons] at h
    refine ⟨(h o (by omega) (by omega)).trans H.1, zq_sh (e := e) (fun i h1 h2 => h i (by omega) (by omega)) ?_⟩
    have := H.2
    rwa [show o + e + 1 = o + 1 + e by omega] at this
theorem zq_shr {q q' : Nat → Int32} {e : Nat} : ∀ {L : List Nat} {o : Nat}, (∀ i, o ≤ i → i < o + L.length → q' (i + e) = q i) → zq_S q o L → zq_S q' (o + e) L
  | [], _, _, _ => trivial
  | m :: L, o, h, H => by
    rw [List.length_cons] at h
    refine ⟨(h o (by omega) (by omega)).trans H.1, ?_⟩
    have := zq_shr (q := q) (q' := q') (e := e) (L := L) (o := o + 1) (fun i h1 h2 => h i (by omega) (by omega)) H.2
    rwa [show o + 1 + e = o + e + 1 by omega] at this
theorem zq_get {q : Nat → Int32} : ∀ {L : List Nat} {o i : Nat}, zq_S q o L → i < L.length → ∃ m, m ∈ L ∧ q (o + i) = nI m
  | [], _, _, _, h => by simp at h
  | m :: L, o, 0, H, _ => ⟨m, by simp, H.1⟩
  | m :: L, o, i + 1, H, h => by
    obtain ⟨m', h1, h2⟩ := zq_get (L := L) (o := o + 1) (i := i) H.2 (by simpa using h)
    exact ⟨m', by simp [h1], by rw [show o + (i + 1) = o + 1 + i by omega]; exact h2⟩
theorem zq_split {q : Nat → Int32} {L : List Nat} {k : Nat} (h : k < L.length) (H : zq_S q 0 L) :
    ∃ K m R, L = K ++ m :: R ∧ K.length = k ∧ q k = nI m := by
  refine ⟨L.take k, L[k], L.drop (k + 1), ?_, by rw [List.length_take]; omega, ?_⟩
  · rw [List.getElem_cons_drop, List.take_append_drop]
  · have e : L = L.take k ++ L[k] :: L.drop (k + 1) := by rw [List.getElem_cons_drop, List.take_append_drop]
    rw [e] at H
    have := (zq_app.mp H).2.1
    rwa [List.length_take, Nat.min_eq_left (by omega), Nat.zero_add] at this
theorem zq_del {q : Nat → Int32} {K R : List Nat} {m n : Nat} (hn : n = K.length + 1 + R.length) (H : zq_S q 0 (K ++ m :: R)) :
    zq_S (zs_del q n K.length) 0 (K ++ R) := by
  obtain ⟨h1, h2⟩ := zq_app.mp H
  rw [Nat.zero_add] at h2
  refine zq_app.mpr ⟨zq_congr (fun i _ hi => zs_del_lt (by omega)) h1, ?_⟩
  rw [Nat.zero_add]
  exact zq_sh (e := 1) (fun i hi hi2 => zs_del_ge hi (by omega)) h2.2
theorem zq_ins {q : Nat → Int32} {K R : List Nat} {m n : Nat} (hn : n = K.length + R.length) (H : zq_S q 0 (K ++ R)) :
    zq_S (zs_ins q n K.length (nI m)) 0 (K ++ m :: R) := by
  obtain ⟨h1, h2⟩ := zq_app.mp H
  rw [Nat.zero_add] at h2
  refine zq_app.mpr ⟨zq_congr (fun i _ hi => zs_ins_lt (by omega)) h1, ?_⟩
  rw [Nat.zero_add]
  exact ⟨zs_ins_eq, zq_shr (e := 1) (fun i hi hi2 => by rw [zs_ins_gt (by omega) (by omega), Nat.add_sub_cancel]) h2⟩
/-! tokens -/
def zk_tk (t r cap tok : Nat) : Nat := if t % r = 0 ∧ tok < cap then tok + 1 else tok
def zk_F (b c r cap t : Nat) : Nat := min cap (b + (t / r - c / r))
theorem zk_step {b c r cap t : Nat} (hc : c ≤ t) (hb : b ≤ cap) : zk_tk (t + 1) r cap (zk_F b c r cap t) = zk_F b c r cap (t + 1) := by
  have h1 := Nat.succ_div (a := t) (b := r)
  have h2 : c / r ≤ t / r := Nat.div_le_div_right hc
  have h3 : r ∣ t + 1 ↔ (t + 1) % r = 0 := Nat.dvd_iff_mod_eq_zero
  unfold zk_tk zk_F
  rw [h1]
  by_cases h : (t + 1) % r = 0
  · rw [if_pos (h3.mpr h)]
    simp only [h, true_and]
    split <;> omega
  · rw [if_neg (fun z => h (h3.mp z))]
    simp only [h, false_and]
    simp
theorem zk_F0 {b c r cap : Nat} (hb : b ≤ cap) : zk_F b c r cap c = b := by unfold zk_F; omega
theorem zk_F_le {b c r cap t : Nat} : zk_F b c r cap t ≤ cap := by unfold zk_F; omega
/-! the window of the latest 32 requests; keys of the heap -/
def zw_W (N m : Nat) : Prop := m < N ∧ N ≤ m + 32
theorem zw_inj {N m m' : Nat} (h : zw_W N m) (h' : zw_W N m') (e : m % 32 = m' % 32) : m = m' := by
  unfold zw_W at *; omega
theorem zw_q {N m : Nat} (h : zw_W N m) : m % 32 < N := by
  unfold zw_W at h; omega
def zh_k (en : Nat → Int32) (x : Int32) : Nat := (en (x.toNatClampNeg % 32)).toNatClampNeg * 4096 + x.toNatClampNeg
theorem zh_kN {en : Nat → Int32} {m : Nat} (h : m < 4096) : zh_k en (nI m) = (en (m % 32)).toNatClampNeg * 4096 + m := by
  unfold zh_k; rw [nI_clamp (by omega)]
theorem zh_kc {en en' : Nat → Int32} {x : Int32} (h : en (x.toNatClampNeg % 32) = en' (x.toNatClampNeg % 32)) : zh_k en x = zh_k en' x := by
  unfold zh_k; rw [h]
theorem zh_o_congr {ky ky' : Int32 → Nat} {a : Nat → Int32} {h : Nat} (e : ∀ i, i < h → ky (a i) = ky' (a i)) (H : zh_o ky a h) : zh_o ky' a h := by
  intro i h0 hi
  rw [← e i hi, ← e _ (by omega)]
  exact H i h0 hi
end
section
/-! X's walks of the tree: clear, childOf, grow, routed -/
section
variable {f_points f_routes f_nodes f_durations f_requests f_heaped f_waiting f_now f_finished f_touched g_time g_waiting : Int32}
variable {a_weight a_slots a_pace a_running a_broken a_down a_good a_bad a_shut a_till a_failures a_successes a_credit a_settings a_ringAt a_ringServer a_paths a_sets a_next a_servers a_homes a_homeSince a_latest a_sorted a_capacity a_refill a_bucket a_countedAt a_states a_clients a_path a_ranks a_keys a_works a_tried a_attempts a_server a_late a_came a_ends a_heap a_queue b_till b_sick b_well b_up b_tokens b_state b_ended b_ends b_queue b_sorted : Nat → Int32}
variable {a_totals b_total : Nat → Int64}
def zt_clr (nx : Nat → Int32) (i e : Nat) : Nat → Int32 := fun j => if i ≤ j ∧ j < e then 0 else nx j
theorem zt_clr_e {nx : Nat → Int32} {e : Nat} : zt_clr nx e e = nx := by
  funext j; unfold zt_clr; rw [if_neg (by omega)]
theorem zt_clr_s {nx : Nat → Int32} {i e : Nat} (h : i < e) : zt_clr (upd nx i 0) (i + 1) e = zt_clr nx i e := by
  funext j; unfold zt_clr
  by_cases z : i + 1 ≤ j ∧ j < e
  · rw [if_pos z, if_pos ⟨by omega, z.2⟩]
  · rw [if_neg z]
    by_cases y : j = i
    · subst y; rw [pk_us, if_pos ⟨by omega, h⟩]
    · rw [pk_un y, if_neg (by omega)]
theorem zx_m8 (n : Nat) : (8 : Int32) * nI n = nI (8 * n) := pk_mul 8 n
theorem zx_clear12 {n : Nat} (hn : n < 49) : ∀ (d i N : Nat) (nx : Nat → Int32) (post : SX → Prop), i + d = 8 * n + 8 → 8 * n ≤ i → d < N →
    post (f_points, f_routes, f_nodes, f_durations, f_requests, f_heaped, f_waiting, f_now, f_finished, f_touched, a_weight, a_slots, a_pace, a_running, a_broken, a_down, a_good, a_bad, a_shut, a_till, a_failures, a_successes, a_credit, a_settings, a_ringAt, a_ringServer, a_paths, a_sets, zt_clr nx i (8 * n + 8), a_servers, a_homes, a_homeSince, a_latest, a_sorted, a_capacity, a_refill, a_bucket, a_countedAt, a_states, a_clients, a_path, a_ranks, a_keys, a_works, a_tried, a_attempts, a_server, a_late, a_came, a_ends, a_heap, a_queue, a_totals) → wX_clear_12 post (nI n) f_points f_routes f_nodes f_durations f_requests f_heaped f_waiting f_now f_finished f_touched N (nI i) a_weight a_slots a_pace a_running a_broken a_down a_good a_bad a_shut a_till a_failures a_successes a_credit a_settings a_ringAt a_ringServer a_paths a_sets nx a_servers a_homes a_homeSince a_latest a_sorted a_capacity a_refill a_bucket a_countedAt a_states a_clients a_path a_ranks a_keys a_works a_tried a_attempts a_server a_late a_came a_ends a_heap a_queue a_totals := by
  have e8 : (8 : Int32) * nI n + 8 = nI (8 * n + 8) := by rw [zx_m8]; exact nI_add (8 * n) 8
  intro d
  induction d with
  | zero =>
    intro i N nx post hi h8 hN hp
    obtain ⟨M, rfl⟩ : ∃ M, N = M + 1 := ⟨N - 1, by omega⟩
    have ei : i = 8 * n + 8 := by omega
    subst ei
    rw [zt_clr_e] at hp
    exact br_t (by rw [e8]; exact Int32.le_refl _) hp
  | succ d ih =>
    intro i N nx post hi h8 hN hp
    obtain ⟨M, rfl⟩ : ∃ M, N = M + 1 := ⟨N - 1, by omega⟩
    refine br_f (by rw [e8]; exact nI_ge (by omega) (by omega)) ⟨vp_in_nI (by omega) (by omega), nm_r (e' := upd nx i 0) (by rw [nI_clamp (by omega), za_b0]) (nm_r (nI_1 i) ?_)⟩
    refine ih (i + 1) M (upd nx i 0) post (by omega) (by omega) (by omega) ?_
    rw [zt_clr_s (by omega)]
    exact hp
theorem zx_clear {n : Nat} (hn : n < 49) {post : SX → Prop} (hp : post (f_points, f_routes, f_nodes, f_durations, f_requests, f_heaped, f_waiting, f_now, f_finished, f_touched, a_weight, a_slots, a_pace, a_running, a_broken, a_down, a_good, a_bad, a_shut, a_till, a_failures, a_successes, a_credit, a_settings, a_ringAt, a_ringServer, a_paths, a_sets, zt_clr a_next (8 * n) (8 * n + 8), upd a_servers n 0, a_homes, a_homeSince, a_latest, a_sorted, a_capacity, a_refill, a_bucket, a_countedAt, a_states, a_clients, a_path, a_ranks, a_keys, a_works, a_tried, a_attempts, a_server, a_late, a_came, a_ends, a_heap, a_queue, a_totals)) :
    wpX_clear post (f_points, f_routes, f_nodes, f_durations, f_requests, f_heaped, f_waiting, f_now, f_finished, f_touched, a_weight, a_slots, a_pace, a_running, a_broken, a_down, a_good, a_bad, a_shut, a_till, a_failures, a_successes, a_credit, a_settings, a_ringAt, a_ringServer, a_paths, a_sets, a_next, a_servers, a_homes, a_homeSince, a_latest, a_sorted, a_capacity, a_refill, a_bucket, a_countedAt, a_states, a_clients, a_path, a_ranks, a_keys, a_works, a_tried, a_attempts, a_server, a_late, a_came, a_ends, a_heap, a_queue, a_totals) (nI n) :=
  And.intro (vp_in_nI hn (by omega)) (nm_r (e' := upd a_servers n 0) (by rw [nI_clamp (by omega), za_b0]) (nm_r (zx_m8 n)
    ⟨9, zx_clear12 hn 8 (8 * n) 9 a_next post (by omega) (by omega) (by omega) hp⟩))
theorem zx_child1 {a l c : Nat} (ha : a < 49) (hl : l < 8) (hc : c < 49) (h0 : c ≠ 0) (e : a_next (8 * a + l) = nI c)
    {post : Int32 → SX → Prop} (hp : post (nI c) (f_points, f_routes, f_nodes, f_durations, f_requests, f_heaped, f_waiting, f_now, f_finished, f_touched, a_weight, a_slots, a_pace, a_running, a_broken, a_down, a_good, a_bad, a_shut, a_till, a_failures, a_successes, a_credit, a_settings, a_ringAt, a_ringServer, a_paths, a_sets, a_next, a_servers, a_homes, a_homeSince, a_latest, a_sorted, a_capacity, a_refill, a_bucket, a_countedAt, a_states, a_clients, a_path, a_ranks, a_keys, a_works, a_tried, a_attempts, a_server, a_late, a_came, a_ends, a_heap, a_queue, a_totals)) : wpX_childOf post (f_points, f_routes, f_nodes, f_durations, f_requests, f_heaped, f_waiting, f_now, f_finished, f_touched, a_weight, a_slots, a_pace, a_running, a_broken, a_down, a_good, a_bad, a_shut, a_till, a_failures, a_successes, a_credit, a_settings, a_ringAt, a_ringServer, a_paths, a_sets, a_next, a_servers, a_homes, a_homeSince, a_latest, a_sorted, a_capacity, a_refill, a_bucket, a_countedAt, a_states, a_clients, a_path, a_ranks, a_keys, a_works, a_tried, a_attempts, a_server, a_late, a_came, a_ends, a_heap, a_queue, a_totals) (nI a) (nI l) := by
  have ei : (8 : Int32) * nI a + nI l = nI (8 * a + l) := by rw [zx_m8, nI_add]
  have hin : vp_in (nI (8 * a + l)) 392 := vp_in_nI (by omega) (by omega)
  have ec : (nI (8 * a + l)).toNatClampNeg = 8 * a + l := nI_clamp (by omega)
  refine nm_r ei (And.intro hin ?_)
  rw [ec, e]
  exact br_f (nI_ne0 (by omega) (by omega)) ⟨hin, hp⟩
theorem zx_child0 {a l nd : Nat} (ha : a < 49) (hl : l < 8) (hnd : nd < 49) (e : a_next (8 * a + l) = nI 0)
    {post : Int32 → SX → Prop} (hp : post (nI nd) (f_points, f_routes, nI (nd + 1), f_durations, f_requests, f_heaped, f_waiting, f_now, f_finished, f_touched, a_weight, a_slots, a_pace, a_running, a_broken, a_down, a_good, a_bad, a_shut, a_till, a_failures, a_successes, a_credit, a_settings, a_ringAt, a_ringServer, a_paths, a_sets, upd (zt_clr a_next (8 * nd) (8 * nd + 8)) (8 * a + l) (nI nd), upd a_servers nd 0, a_homes, a_homeSince, a_latest, a_sorted, a_capacity, a_refill, a_bucket, a_countedAt, a_states, a_clients, a_path, a_ranks, a_keys, a_works, a_tried, a_attempts, a_server, a_late, a_came, a_ends, a_heap, a_queue, a_totals)) :
    wpX_childOf post (f_points, f_routes, nI nd, f_durations, f_requests, f_heaped, f_waiting, f_now, f_finished, f_touched, a_weight, a_slots, a_pace, a_running, a_broken, a_down, a_good, a_bad, a_shut, a_till, a_failures, a_successes, a_credit, a_settings, a_ringAt, a_ringServer, a_paths, a_sets, a_next, a_servers, a_homes, a_homeSince, a_latest, a_sorted, a_capacity, a_refill, a_bucket, a_countedAt, a_states, a_clients, a_path, a_ranks, a_keys, a_works, a_tried, a_attempts, a_server, a_late, a_came, a_ends, a_heap, a_queue, a_totals) (nI a) (nI l) := by
  have ei : (8 : Int32) * nI a + nI l = nI (8 * a + l) := by rw [zx_m8, nI_add]
  have hin : vp_in (nI (8 * a + l)) 392 := vp_in_nI (by omega) (by omega)
  have ec : (nI (8 * a + l)).toNatClampNeg = 8 * a + l := nI_clamp (by omega)
  refine nm_r ei (And.intro hin ?_)
  rw [ec, e]
  refine br_t nI_0 (zx_clear hnd ?_)
  refine nm_r (nI_1 nd) ⟨hin, nm_r (e' := upd (zt_clr a_next (8 * nd) (8 * nd + 8)) (8 * a + l) (nI nd)) (by rw [za_vb2 (by omega)]) ⟨hin, ?_⟩⟩
  rw [pk_us]
  exact hp
/-- the shift ahead of the r last labels -/
def zx_sh : Nat → Int32
  | 0 => -3
  | r + 1 => nI (3 * r)
theorem zx_shs : ∀ r, r < 4 → zx_sh (r + 1) + (-3) = zx_sh r := by decide +kernel
theorem zx_shn : ∀ r, r < 4 → ¬ zx_sh (r + 1) < 0 := by decide +kernel
theorem zx_lab {p r : Nat} (hp : p < 4096) (hr : r < 4) : (nI p >>> (zx_sh (r + 1) &&& 31)) &&& 7 = nI (p / 8 ^ r % 8) := by
  have h1 : nI p >>> (nI (3 * r) &&& 31) = nI (p / 2 ^ (3 * r)) := za_sr (by omega) (by omega)
  have h2 : (2 : Nat) ^ (3 * r) = 8 ^ r := by rw [Nat.pow_mul]
  have h3 : p / 8 ^ r ≤ p := Nat.div_le_self _ _
  show (nI p >>> (nI (3 * r) &&& 31)) &&& 7 = _
  rw [h1, h2, za_m7 (by omega)]
/-- one route is laid into the tree -/
theorem zx_grow25 {pa se : Nat → Int32} {K p m : Nat} (hK : K < 12) (hpa : pa K = nI p) (hp : zt_ok p) (hse : se K = nI m) (hm : m < 64) :
    ∀ (r a nd : Nat) (nx sv : Nat → Int32) (pre : Nat → Nat), r ≤ 4 → zt_T nd nx sv pa se K pre → nd + r ≤ 49 → a < nd → pre a = p / 8 ^ r →
    ∃ (nd' a' : Nat) (nx' sv' : Nat → Int32) (pre' : Nat → Nat), zt_T nd' nx' sv' pa se K pre' ∧ nd' ≤ nd + r ∧ a' < nd' ∧ pre' a' = p ∧
    ∀ {f_points f_routes f_durations f_requests f_heaped f_waiting f_now f_finished f_touched : Int32} {a_weight a_slots a_pace a_running a_broken a_down a_good a_bad a_shut a_till a_failures a_successes a_credit a_settings a_ringAt a_ringServer a_homes a_homeSince a_latest a_sorted a_capacity a_refill a_bucket a_countedAt a_states a_clients a_path a_ranks a_keys a_works a_tried a_attempts a_server a_late a_came a_ends a_heap a_queue : Nat → Int32} {a_totals : Nat → Int64} (post : SX → Prop) (J12 : Int32 → Int32 → Int32 → Int32 → Int32 → Int32 → Int32 → Int32 → Int32 → Int32 → Int32 → (Nat → Int32) → (Nat → Int32) → (Nat → Int32) → (Nat → Int32) → (Nat → Int32) → (Nat → Int32) → (Nat → Int32) → (Nat → Int32) → (Nat → Int32) → (Nat → Int32) → (Nat → Int32) → (Nat → Int32) → (Nat → Int32) → (Nat → Int32) → (Nat → Int32) → (Nat → Int32) → (Nat → Int32) → (Nat → Int32) → (Nat → Int32) → (Nat → Int32) → (Nat → Int32) → (Nat → Int32) → (Nat → Int32) → (Nat → Int32) → (Nat → Int32) → (Nat → Int32) → (Nat → Int32) → (Nat → Int32) → (Nat → Int32) → (Nat → Int32) → (Nat → Int32) → (Nat → Int32) → (Nat → Int32) → (Nat → Int32) → (Nat → Int32) → (Nat → Int32) → (Nat → Int32) → (Nat → Int32) → (Nat → Int32) → (Nat → Int32) → (Nat → Int32) → (Nat → Int32) → (Nat → Int64) → Prop) (N : Nat), r < N →
      J12 (nI (K + 1)) f_points f_routes (nI nd') f_durations f_requests f_heaped f_waiting f_now f_finished f_touched a_weight a_slots a_pace a_running a_broken a_down a_good a_bad a_shut a_till a_failures a_successes a_credit a_settings a_ringAt a_ringServer pa se nx' (upd sv' a' (se K + 1)) a_homes a_homeSince a_latest a_sorted a_capacity a_refill a_bucket a_countedAt a_states a_clients a_path a_ranks a_keys a_works a_tried a_attempts a_server a_late a_came a_ends a_heap a_queue a_totals →
      wX_grow_25 post J12 (nI K) N (nI a) (zx_sh r) f_points f_routes (nI nd) f_durations f_requests f_heaped f_waiting f_now f_finished f_touched a_weight a_slots a_pace a_running a_broken a_down a_good a_bad a_shut a_till a_failures a_successes a_credit a_settings a_ringAt a_ringServer pa se nx sv a_homes a_homeSince a_latest a_sorted a_capacity a_refill a_bucket a_countedAt a_states a_clients a_path a_ranks a_keys a_works a_tried a_attempts a_server a_late a_came a_ends a_heap a_queue a_totals := by
  have cK : (nI K).toNatClampNeg = K := nI_clamp (by omega)
  have iK : vp_in (nI K) 12 := vp_in_nI hK (by omega)
  intro r
  induction r with
  | zero =>
    intro a nd nx sv pre _ T hnd ha hpre
    refine ⟨nd, a, nx, sv, pre, T, by omega, ha, by simpa using hpre, ?_⟩
    intros
    rename_i post J12 N hN hJ
    obtain ⟨M, rfl⟩ : ∃ M, N = M + 1 := ⟨N - 1, by omega⟩
    refine br_t (show zx_sh 0 < 0 by decide) ⟨iK, vp_in_nI (by omega) (by omega), nm_r (e' := upd sv a (se K + 1)) ?_ (nm_r (nI_1 K) hJ)⟩
    have : nI m + 1 = nI (m + 1) := nI_1 m
    rw [nI_clamp (by omega), cK, hse, this, za_vb2 (by omega)]
  | succ r ih =>
    intro a nd nx sv pre hr T hnd ha hpre
    have hlab := zx_lab hp.1 (show r < 4 by omega)
    have hdv : p / 8 ^ (r + 1) = p / 8 ^ r / 8 := by rw [Nat.pow_succ, ← Nat.div_div_eq_div_mul]
    by_cases hl : p / 8 ^ r % 8 = 0
    · have h0 : p / 8 ^ r = 0 := by
        rcases Nat.eq_zero_or_pos (p / 8 ^ r) with z | z
        · exact z
        · exact absurd hl (hp.2 r (by omega) (by omega))
      obtain ⟨nd', a', nx', sv', pre', T', q1, q2, q3, H⟩ := ih a nd nx sv pre (by omega) T (by omega) ha (by rw [hpre, hdv, h0])
      refine ⟨nd', a', nx', sv', pre', T', by omega, q2, q3, ?_⟩
      intros
      rename_i post J12 N hN hJ
      obtain ⟨M, rfl⟩ : ∃ M, N = M + 1 := ⟨N - 1, by omega⟩
      refine br_f (zx_shn r (by omega)) ⟨iK, nm_r (e' := nI (p / 8 ^ r % 8)) (by rw [cK, hpa, hlab]) ?_⟩
      refine br_t (by rw [hl, nI_0]; exact Int32.le_refl _) (nm_r (zx_shs r (by omega)) ?_)
      exact H post J12 M (by omega) hJ
    · have hl1 : 1 ≤ p / 8 ^ r % 8 := by omega
      have hl8 : p / 8 ^ r % 8 < 8 := Nat.mod_lt _ (by decide)
      have hlt : p / 8 ^ r ≤ p := Nat.div_le_self _ _
      have hp1 := hp.1
      have hchild : p / 8 ^ r = 8 * pre a + p / 8 ^ r % 8 := by rw [hpre, hdv]; omega
      obtain ⟨c, hc, ec, hpc⟩ := T.2.2.2.1 a _ ha hl1 hl8
      by_cases h0 : c = 0
      · subst h0
        obtain ⟨pre2, T2, hp2, hp3⟩ := zt_new (nx' := upd (zt_clr nx (8 * nd) (8 * nd + 8)) (8 * a + p / 8 ^ r % 8) (nI nd)) (sv' := upd sv nd 0) T (by omega) ha hl1 hl8 ec (by omega) pk_us
          (fun j h1 h2 => by rw [pk_un (by omega)]; unfold zt_clr; rw [if_pos ⟨h1, h2⟩])
          (fun j h1 h2 => by rw [pk_un h1]; unfold zt_clr; rw [if_neg (by omega)]) pk_us (fun j h1 => pk_un h1)
        obtain ⟨nd', a', nx', sv', pre', T', q1, q2, q3, H⟩ := ih nd (nd + 1) _ _ pre2 (by omega) T2 (by omega) (by omega) (by rw [hp2, ← hchild])
        refine ⟨nd', a', nx', sv', pre', T', by omega, q2, q3, ?_⟩
        intros
        rename_i post J12 N hN hJ
        obtain ⟨M, rfl⟩ : ∃ M, N = M + 1 := ⟨N - 1, by omega⟩
        refine br_f (zx_shn r (by omega)) ⟨iK, nm_r (e' := nI (p / 8 ^ r % 8)) (by rw [cK, hpa, hlab]) ?_⟩
        refine br_f (nI_nle (by omega) (by omega)) (zx_child0 (by omega) hl8 (by omega) ec (nm_r (zx_shs r (by omega)) ?_))
        exact H post J12 M (by omega) hJ
      · obtain ⟨nd', a', nx', sv', pre', T', q1, q2, q3, H⟩ := ih c nd nx sv pre (by omega) T (by omega) hc (by rw [hpc h0, ← hchild])
        refine ⟨nd', a', nx', sv', pre', T', by omega, q2, q3, ?_⟩
        intros
        rename_i post J12 N hN hJ
        obtain ⟨M, rfl⟩ : ∃ M, N = M + 1 := ⟨N - 1, by omega⟩
        refine br_f (zx_shn r (by omega)) ⟨iK, nm_r (e' := nI (p / 8 ^ r % 8)) (by rw [cK, hpa, hlab]) ?_⟩
        refine br_f (nI_nle (by omega) (by omega)) (zx_child1 (by omega) hl8 (by omega) h0 ec (nm_r (zx_shs r (by omega)) ?_))
        exact H post J12 M (by omega) hJ
/-- what the routes are -/
def zt_P (n : Nat) (pa se : Nat → Int32) : Prop := n ≤ 12 ∧ (∀ k, k < n → ∃ p m, zt_ok p ∧ m < 64 ∧ pa k = nI p ∧ se k = nI m) ∧ zt_ds pa n
theorem zx_grow12 {pa se : Nat → Int32} {n : Nat} (P : zt_P n pa se) :
    ∀ (d K nd : Nat) (nx sv : Nat → Int32) (pre : Nat → Nat), K + d = n → zt_T nd nx sv pa se K pre → nd ≤ 4 * K + 1 →
    ∃ (nd' : Nat) (nx' sv' : Nat → Int32) (pre' : Nat → Nat), zt_T nd' nx' sv' pa se n pre' ∧ nd' ≤ 49 ∧
    ∀ {f_points f_durations f_requests f_heaped f_waiting f_now f_finished f_touched : Int32} {a_weight a_slots a_pace a_running a_broken a_down a_good a_bad a_shut a_till a_failures a_successes a_credit a_settings a_ringAt a_ringServer a_homes a_homeSince a_latest a_sorted a_capacity a_refill a_bucket a_countedAt a_states a_clients a_path a_ranks a_keys a_works a_tried a_attempts a_server a_late a_came a_ends a_heap a_queue : Nat → Int32} {a_totals : Nat → Int64} (post : SX → Prop) (N : Nat), d < N →
      post (f_points, nI n, nI nd', f_durations, f_requests, f_heaped, f_waiting, f_now, f_finished, 1, a_weight, a_slots, a_pace, a_running, a_broken, a_down, a_good, a_bad, a_shut, a_till, a_failures, a_successes, a_credit, a_settings, a_ringAt, a_ringServer, pa, se, nx', sv', a_homes, a_homeSince, a_latest, a_sorted, a_capacity, a_refill, a_bucket, a_countedAt, a_states, a_clients, a_path, a_ranks, a_keys, a_works, a_tried, a_attempts, a_server, a_late, a_came, a_ends, a_heap, a_queue, a_totals) →
      wX_grow_12 post N (nI K) f_points (nI n) (nI nd) f_durations f_requests f_heaped f_waiting f_now f_finished f_touched a_weight a_slots a_pace a_running a_broken a_down a_good a_bad a_shut a_till a_failures a_successes a_credit a_settings a_ringAt a_ringServer pa se nx sv a_homes a_homeSince a_latest a_sorted a_capacity a_refill a_bucket a_countedAt a_states a_clients a_path a_ranks a_keys a_works a_tried a_attempts a_server a_late a_came a_ends a_heap a_queue a_totals := by
  obtain ⟨hn, hP, hds⟩ := P
  intro d
  induction d with
  | zero =>
    intro K nd nx sv pre hK T hnd
    have : K = n := by omega
    subst this
    refine ⟨nd, nx, sv, pre, T, by omega, ?_⟩
    intros
    rename_i post N hN hp
    obtain ⟨M, rfl⟩ : ∃ M, N = M + 1 := ⟨N - 1, by omega⟩
    exact br_t (Int32.le_refl _) hp
  | succ d ih =>
    intro K nd nx sv pre hK T hnd
    obtain ⟨p, m, hp, hm, e1, e2⟩ := hP K (by omega)
    have hp0 : p / 8 ^ 4 = 0 := Nat.div_eq_of_lt hp.1
    obtain ⟨nd1, a1, nx1, sv1, pre1, T1, q1, q2, q3, H1⟩ := zx_grow25 (by omega) e1 hp e2 hm 4 0 nd nx sv pre (by omega) T (by omega) T.1 (by rw [T.2.1, hp0])
    have T2 := zt_put T1 q2 (by rw [e1, q3])
    obtain ⟨nd', nx', sv', pre', T', r1, H⟩ := ih (K + 1) nd1 nx1 _ pre1 (by omega) T2 (by omega)
    refine ⟨nd', nx', sv', pre', T', r1, ?_⟩
    intros
    rename_i post N hN hp
    obtain ⟨M, rfl⟩ : ∃ M, N = M + 1 := ⟨N - 1, by omega⟩
    refine br_f (nI_ge (by omega) (by omega)) ⟨5, H1 post (wX_grow_12 post M) 5 (by omega) ?_⟩
    exact H post M (by omega) hp
theorem zx_grow {pa se : Nat → Int32} {n : Nat} (P : zt_P n pa se) (nx sv : Nat → Int32) :
    ∃ (nd' : Nat) (nx' sv' : Nat → Int32) (pre' : Nat → Nat), zt_T nd' nx' sv' pa se n pre' ∧ nd' ≤ 49 ∧
    ∀ {f_points f_nodes f_durations f_requests f_heaped f_waiting f_now f_finished f_touched : Int32} {a_weight a_slots a_pace a_running a_broken a_down a_good a_bad a_shut a_till a_failures a_successes a_credit a_settings a_ringAt a_ringServer a_homes a_homeSince a_latest a_sorted a_capacity a_refill a_bucket a_countedAt a_states a_clients a_path a_ranks a_keys a_works a_tried a_attempts a_server a_late a_came a_ends a_heap a_queue : Nat → Int32} {a_totals : Nat → Int64} (post : SX → Prop),
      post (f_points, nI n, nI nd', f_durations, f_requests, f_heaped, f_waiting, f_now, f_finished, 1, a_weight, a_slots, a_pace, a_running, a_broken, a_down, a_good, a_bad, a_shut, a_till, a_failures, a_successes, a_credit, a_settings, a_ringAt, a_ringServer, pa, se, nx', sv', a_homes, a_homeSince, a_latest, a_sorted, a_capacity, a_refill, a_bucket, a_countedAt, a_states, a_clients, a_path, a_ranks, a_keys, a_works, a_tried, a_attempts, a_server, a_late, a_came, a_ends, a_heap, a_queue, a_totals) →
      wpX_grow post (f_points, nI n, f_nodes, f_durations, f_requests, f_heaped, f_waiting, f_now, f_finished, f_touched, a_weight, a_slots, a_pace, a_running, a_broken, a_down, a_good, a_bad, a_shut, a_till, a_failures, a_successes, a_credit, a_settings, a_ringAt, a_ringServer, pa, se, nx, sv, a_homes, a_homeSince, a_latest, a_sorted, a_capacity, a_refill, a_bucket, a_countedAt, a_states, a_clients, a_path, a_ranks, a_keys, a_works, a_tried, a_attempts, a_server, a_late, a_came, a_ends, a_heap, a_queue, a_totals) := by
  have T0 : zt_T 1 (zt_clr nx (8 * 0) (8 * 0 + 8)) (upd sv 0 0) pa se 0 (fun _ => 0) :=
    zt_T0 pk_us (fun j hj => by unfold zt_clr; rw [if_pos ⟨by omega, by omega⟩])
  obtain ⟨nd', nx', sv', pre', T', r1, H⟩ := zx_grow12 P n 0 1 _ _ _ (by omega) T0 (by omega)
  refine ⟨nd', nx', sv', pre', T', r1, ?_⟩
  intros
  rename_i post hp
  refine zx_clear (n := 0) (by omega) ⟨n + 1, ?_⟩
  exact H post (n + 1) (by omega) hp
/-- the look-up -/
theorem zx_routed13 {pa se nx sv : Nat → Int32} {n nd p : Nat} {pre : Nat → Nat} (P : zt_P n pa se) (T : zt_T nd nx sv pa se n pre) (hnd : nd ≤ 49) (hp : zt_ok p) :
    ∀ (r a N : Nat) (f : Int32) (post : Int32 → Prop), r ≤ 4 → a < nd → pre a = p / 8 ^ r → f - 1 = zt_so pa se n (4 - r) (pre a) → r < N → post (zt_so pa se n 4 p) →
    wX_routed_13 post (nI p) f_points f_routes f_nodes f_durations f_requests f_heaped f_waiting f_now f_finished f_touched a_weight a_slots a_pace a_running a_broken a_down a_good a_bad a_shut a_till a_failures a_successes a_credit a_settings a_ringAt a_ringServer a_paths a_sets nx sv a_homes a_homeSince a_latest a_sorted a_capacity a_refill a_bucket a_countedAt a_states a_clients a_path a_ranks a_keys a_works a_tried a_attempts a_server a_late a_came a_ends a_heap a_queue a_totals N (nI a) f (zx_sh r) := by
  intro r
  induction r with
  | zero =>
    intro a N f post _ ha hpre hf hN hpost
    obtain ⟨M, rfl⟩ : ∃ M, N = M + 1 := ⟨N - 1, by omega⟩
    refine br_t (show zx_sh 0 < 0 by decide) ?_
    rw [hf, hpre, Nat.pow_zero, Nat.div_one]
    exact hpost
  | succ r ih =>
    intro a N f post hr ha hpre hf hN hpost
    obtain ⟨M, rfl⟩ : ∃ M, N = M + 1 := ⟨N - 1, by omega⟩
    have hlab := zx_lab hp.1 (show r < 4 by omega)
    have hdv : p / 8 ^ (r + 1) = p / 8 ^ r / 8 := by rw [Nat.pow_succ, ← Nat.div_div_eq_div_mul]
    refine br_f (zx_shn r (by omega)) (nm_r hlab ?_)
    by_cases hl : p / 8 ^ r % 8 = 0
    · have h0 : p / 8 ^ r = 0 := by
        rcases Nat.eq_zero_or_pos (p / 8 ^ r) with z | z
        · exact z
        · exact absurd hl (hp.2 r (by omega) (by omega))
      have hpa : pre a = p / 8 ^ r := by rw [hpre, hdv, h0]
      refine br_t (by rw [hl]; exact nI_0) (nm_r (zx_shs r (by omega)) (ih a M f post (by omega) ha hpa ?_ (by omega) hpost))
      rw [hf, hpa, h0, zt_so0, zt_so0]
    · have hl1 : 1 ≤ p / 8 ^ r % 8 := by omega
      have hl8 : p / 8 ^ r % 8 < 8 := Nat.mod_lt _ (by decide)
      have hchild : p / 8 ^ r = 8 * pre a + p / 8 ^ r % 8 := by rw [hpre, hdv]; omega
      obtain ⟨c, hc, ec, hpc⟩ := T.2.2.2.1 a _ ha hl1 hl8
      have ei : (8 : Int32) * nI a + nI (p / 8 ^ r % 8) = nI (8 * a + p / 8 ^ r % 8) := by rw [zx_m8, nI_add]
      have cc : (nI (8 * a + p / 8 ^ r % 8)).toNatClampNeg = 8 * a + p / 8 ^ r % 8 := nI_clamp (by omega)
      refine br_f (nI_ne0 (by omega) (by omega)) ⟨by rw [ei]; exact vp_in_nI (by omega) (by omega), nm_r (e' := nI c) (by rw [ei, cc, ec]) ?_⟩
      by_cases h0 : c = 0
      · subst h0
        refine br_t nI_0 ?_
        have := zt_stop T hnd (d := 4 - (r + 1)) ha hp.1 hpre hl1 ec
        rw [hf, ← this, show 4 - (r + 1) + (r + 1) = 4 by omega]
        exact hpost
      · have e1 : pre c = p / 8 ^ r := by rw [hpc h0, ← hchild]
        have hd := zt_down (d := 4 - (r + 1)) T hc hl8 (hpc h0)
        rw [show 4 - (r + 1) + 1 = 4 - r by omega] at hd
        have hsv : sv c = 0 ∨ ∃ w, w < 64 ∧ sv c = nI (w + 1) := by
          have h7 := T.2.2.2.2.2.2.1 c hc
          rcases zt_cases (pa := pa) (se := se) (x := nI (pre c)) n P.2.2 with ⟨z, _⟩ | ⟨k, hk, _, z⟩
          · left; rw [h7, z]; decide
          · right
            obtain ⟨_, m, _, hm, _, em⟩ := P.2.1 k hk
            exact ⟨m, hm, by rw [h7, z, em, nI_1]⟩
        have cl : (nI c).toNatClampNeg = c := nI_clamp (by omega)
        have hin : vp_in (nI c) 49 := vp_in_nI (by omega) (by omega)
        refine br_f (nI_ne0 (by omega) (by omega)) ⟨hin, ?_⟩
        rw [cl]
        rcases hsv with z | ⟨w, hw, z⟩
        · rw [z, if_pos rfl] at hd
          refine br_t (by rw [z]; exact Int32.le_refl _) (nm_r (zx_shs r (by omega)) (ih c M f post (by omega) hc e1 ?_ (by omega) hpost))
          rw [hf, hd]
        · rw [if_neg (by rw [z]; exact nI_ne0 (by omega) (by omega))] at hd
          refine br_f (by rw [z]; exact nI_nle (by omega) (by omega)) ⟨hin, nm_e (nm_r (zx_shs r (by omega)) (ih c M (sv c) post (by omega) hc e1 ?_ (by omega) hpost))⟩
          rw [hd]
theorem zx_routed {pa se nx sv : Nat → Int32} {n nd p : Nat} {pre : Nat → Nat} (P : zt_P n pa se) (T : zt_T nd nx sv pa se n pre) (hnd : nd ≤ 49) (hp : zt_ok p)
    {post : Int32 → Prop} (h : post (zt_so pa se n 4 p)) : wpX_routed post (f_points, f_routes, f_nodes, f_durations, f_requests, f_heaped, f_waiting, f_now, f_finished, f_touched, a_weight, a_slots, a_pace, a_running, a_broken, a_down, a_good, a_bad, a_shut, a_till, a_failures, a_successes, a_credit, a_settings, a_ringAt, a_ringServer, a_paths, a_sets, nx, sv, a_homes, a_homeSince, a_latest, a_sorted, a_capacity, a_refill, a_bucket, a_countedAt, a_states, a_clients, a_path, a_ranks, a_keys, a_works, a_tried, a_attempts, a_server, a_late, a_came, a_ends, a_heap, a_queue, a_totals) (nI p) := by
  have hp0 : p / 8 ^ 4 = 0 := Nat.div_eq_of_lt hp.1
  have e : sv 0 - 1 = zt_so pa se n (4 - 4) (pre 0) := by
    rw [T.2.2.2.2.2.2.1 0 T.1, Int32.add_sub_cancel]; rfl
  exact nm_e ⟨5, zx_routed13 P T hnd hp 4 0 5 _ post (by omega) T.1 (by rw [T.2.1, hp0]) e (by omega) h⟩
end
end
section
/-! ranges; paths and routes on both sides -/
section
variable {f_points f_routes f_nodes f_durations f_requests f_heaped f_waiting f_now f_finished f_touched g_time g_waiting : Int32}
variable {a_weight a_slots a_pace a_running a_broken a_down a_good a_bad a_shut a_till a_failures a_successes a_credit a_settings a_ringAt a_ringServer a_paths a_sets a_next a_servers a_homes a_homeSince a_latest a_sorted a_capacity a_refill a_bucket a_countedAt a_states a_clients a_path a_ranks a_keys a_works a_tried a_attempts a_server a_late a_came a_ends a_heap a_queue b_till b_sick b_well b_up b_tokens b_state b_ended b_ends b_queue b_sorted : Nat → Int32}
variable {a_totals b_total : Nat → Int64}
theorem za_rg_iff {x : Int32} {lo hi : Nat} (hl : lo < 2 ^ 31) (hh : hi < 2 ^ 31) : za_rg x lo hi ↔ (¬ x < nI lo ∧ ¬ nI hi < x) := by
  rw [za_lt, za_lt, nI_toInt hl, nI_toInt hh]
  constructor
  · rintro ⟨n, h1, h2, rfl⟩
    rw [nI_toInt (by omega)]
    omega
  · intro h
    obtain ⟨n, hn, rfl⟩ := nI_of (x := x) (by rw [za_lt, show (0 : Int32).toInt = 0 from by decide]; omega)
    rw [nI_toInt hn] at h
    exact ⟨n, by omega, by omega, rfl⟩
theorem zx_w1 (lo hi : Nat) {x : Int32} {post : Int32 → Prop} (h : za_rg x lo hi) (hl : lo < 2 ^ 31) (hh : hi < 2 ^ 31) (hp : post 1) : wpX_within post x (nI lo) (nI hi) :=
  br_f ((za_rg_iff hl hh).mp h).1 (br_f ((za_rg_iff hl hh).mp h).2 hp)
theorem zx_w0 (lo hi : Nat) {x : Int32} {post : Int32 → Prop} (h : ¬ za_rg x lo hi) (hl : lo < 2 ^ 31) (hh : hi < 2 ^ 31) (hp : post 0) : wpX_within post x (nI lo) (nI hi) := by
  rw [za_rg_iff hl hh] at h
  by_cases h1 : x < nI lo
  · exact br_t h1 hp
  · exact br_f h1 (br_t (Classical.byContradiction fun z => h ⟨h1, z⟩) hp)
theorem zy_w1 (lo hi : Nat) {x : Int32} {post : Int32 → Prop} (h : za_rg x lo hi) (hl : lo < 2 ^ 31) (hh : hi < 2 ^ 31) (hp : post 1) : wpY_in post x (nI lo) (nI hi) :=
  br_f ((za_rg_iff hl hh).mp h).1 (br_f ((za_rg_iff hl hh).mp h).2 hp)
theorem zy_w0 (lo hi : Nat) {x : Int32} {post : Int32 → Prop} (h : ¬ za_rg x lo hi) (hl : lo < 2 ^ 31) (hh : hi < 2 ^ 31) (hp : post 0) : wpY_in post x (nI lo) (nI hi) := by
  rw [za_rg_iff hl hh] at h
  by_cases h1 : x < nI lo
  · exact br_t h1 hp
  · exact br_f h1 (br_t (Classical.byContradiction fun z => h ⟨h1, z⟩) hp)
theorem zx_s1 {x : Int32} {post : Int32 → Prop} (h : za_rg x 0 5) (hp : post 1) : wpX_isSix post x := by
  obtain ⟨n, _, h2, rfl⟩ := h
  exact br_f (nI_pos (by omega)) (br_f (nI_ge (b := 6) (by omega) (by decide)) hp)
theorem zx_s0 {x : Int32} {post : Int32 → Prop} (h : ¬ za_rg x 0 5) (hp : post 0) : wpX_isSix post x := by
  by_cases h1 : x < 0
  · exact br_t h1 hp
  · obtain ⟨n, hn, rfl⟩ := nI_of h1
    exact br_f h1 (br_t (nI_le (a := 6) (by
      rcases Nat.lt_or_ge n 6 with z | z
      · exact absurd ⟨n, by omega, by omega, rfl⟩ h
      · exact z) hn) hp)
theorem zj_isPath15 : ∀ d p, p < 8 ^ d → p < 4096 → ∃ r : Int32, (r = 0 ∨ (r = 1 ∧ ∀ i, i < d → p / 8 ^ i ≠ 0 → p / 8 ^ i % 8 ≠ 0)) ∧
    (∀ (post : Int32 → Prop) N, d < N → post r → wX_isPath_15 post N (nI p)) ∧ (∀ (post : Int32 → Prop) N, d < N → post r → wY_isPath_15 post N (nI p)) := by
  have z8 : ¬ (8 : Int32) = 0 := by decide
  have zero : ∀ d, ∃ r : Int32, (r = 0 ∨ (r = 1 ∧ ∀ i, i < d → 0 / 8 ^ i ≠ 0 → 0 / 8 ^ i % 8 ≠ 0)) ∧
    (∀ (post : Int32 → Prop) N, d < N → post r → wX_isPath_15 post N (nI 0)) ∧ (∀ (post : Int32 → Prop) N, d < N → post r → wY_isPath_15 post N (nI 0)) := by
    intro d
    refine ⟨1, Or.inr ⟨rfl, fun i _ h => absurd (Nat.zero_div _) h⟩, ?_, ?_⟩
    · intro post N hN hp
      obtain ⟨M, rfl⟩ : ∃ M, N = M + 1 := ⟨N - 1, by omega⟩
      exact br_t (by rw [nI_0]; exact Int32.le_refl _) hp
    · intro post N hN hp
      obtain ⟨M, rfl⟩ : ∃ M, N = M + 1 := ⟨N - 1, by omega⟩
      exact br_t (by rw [nI_0]; exact Int32.le_refl _) hp
  intro d
  induction d with
  | zero =>
    intro p hp _
    have : p = 0 := by omega
    subst this
    exact zero 0
  | succ d ih =>
    intro p hp h4
    rcases Nat.eq_zero_or_pos p with z | z
    · subst z; exact zero (d + 1)
    · have m7 : nI p &&& 7 = nI (p % 8) := za_m7 (by omega)
      have r8 : nI p - nI p / 8 * 8 = nI (p % 8) := za_r8 (by omega)
      have h0 : ¬ nI p ≤ 0 := nI_nle z (by omega)
      by_cases y : p % 8 = 0
      · refine ⟨0, Or.inl rfl, ?_, ?_⟩
        · intro post N hN hp
          obtain ⟨M, rfl⟩ : ∃ M, N = M + 1 := ⟨N - 1, by omega⟩
          exact br_f h0 (br_t (by rw [m7, y]; exact nI_0) hp)
        · intro post N hN hp
          obtain ⟨M, rfl⟩ : ∃ M, N = M + 1 := ⟨N - 1, by omega⟩
          exact br_f h0 ⟨z8, br_t (by rw [r8, y]; exact nI_0) hp⟩
      · have hne : ¬ nI (p % 8) = 0 := nI_ne0 (by omega) (by omega)
        obtain ⟨r, h1, h2, h3⟩ := ih (p / 8) (by rw [Nat.pow_succ] at hp; omega) (by omega)
        refine ⟨r, ?_, ?_, ?_⟩
        · rcases h1 with e | ⟨e, h⟩
          · exact Or.inl e
          · refine Or.inr ⟨e, ?_⟩
            intro i hi hne'
            cases i with
            | zero => simpa using y
            | succ i =>
              rw [Nat.pow_succ, Nat.mul_comm, ← Nat.div_div_eq_div_mul] at hne' ⊢
              exact h i (by omega) hne'
        · intro post N hN hp
          obtain ⟨M, rfl⟩ : ∃ M, N = M + 1 := ⟨N - 1, by omega⟩
          exact br_f h0 (br_f (by rw [m7]; exact hne) (nm_r (za_s3 (by omega)) (h2 post M (by omega) hp)))
        · intro post N hN hp
          obtain ⟨M, rfl⟩ : ∃ M, N = M + 1 := ⟨N - 1, by omega⟩
          exact br_f h0 ⟨z8, br_f (by rw [r8]; exact hne) ⟨z8, nm_r (za_d8 (by omega)) (h3 post M (by omega) hp)⟩⟩
theorem zj_isPath (x : Int32) : ∃ r : Int32, (r = 0 ∨ (r = 1 ∧ ∃ p, zt_ok p ∧ x = nI p)) ∧
    (∀ post : Int32 → Prop, post r → wpX_isPath post x) ∧ (∀ post : Int32 → Prop, post r → wpY_isPath post x) := by
  by_cases h : za_rg x 0 4095
  · obtain ⟨p, _, hp, rfl⟩ := id h
    obtain ⟨r, h1, h2, h3⟩ := zj_isPath15 4 p (by omega) (by omega)
    refine ⟨r, ?_, ?_, ?_⟩
    · rcases h1 with e | ⟨e, h1⟩
      · exact Or.inl e
      · exact Or.inr ⟨e, p, ⟨by omega, h1⟩, rfl⟩
    · intro post hpo
      exact br_f (nI_pos (by omega)) (br_t (nI_le (b := 4095) (by omega) (by decide)) ⟨5, h2 post 5 (by omega) hpo⟩)
    · intro post hpo
      exact zy_w1 0 4095 h (by decide) (by decide) (br_f (by decide) ⟨5, h3 post 5 (by omega) hpo⟩)
  · refine ⟨0, Or.inl rfl, ?_, ?_⟩
    · intro post hpo
      by_cases h1 : x < 0
      · exact br_t h1 hpo
      · refine br_f h1 (br_f ?_ hpo)
        intro h2
        exact h ((za_rg_iff (by decide) (by decide)).mpr ⟨h1, Int32.not_lt.mpr h2⟩)
    · intro post hpo
      exact zy_w0 0 4095 h (by decide) (by decide) (br_t rfl hpo)
/-- finding a route -/
theorem zj_find2 {pa : Nat → Int32} {n : Nat} (hn : n ≤ 12) (x : Int32) : ∀ d i, i + d = n → (∀ j, j < i → ¬ pa j = x) →
    ∃ r, r ≤ n ∧ (∀ j, j < r → ¬ pa j = x) ∧ (r < n → pa r = x) ∧
    (∀ {f_points f_nodes f_durations f_requests f_heaped f_waiting f_now f_finished f_touched : Int32} {a_weight a_slots a_pace a_running a_broken a_down a_good a_bad a_shut a_till a_failures a_successes a_credit a_settings a_ringAt a_ringServer a_sets a_next a_servers a_homes a_homeSince a_latest a_sorted a_capacity a_refill a_bucket a_countedAt a_states a_clients a_path a_ranks a_keys a_works a_tried a_attempts a_server a_late a_came a_ends a_heap a_queue : Nat → Int32} {a_totals : Nat → Int64} (post : Int32 → Prop) (N : Nat), d < N → post (nI r) → wX_routeOf_2 post x f_points (nI n) f_nodes f_durations f_requests f_heaped f_waiting f_now f_finished f_touched a_weight a_slots a_pace a_running a_broken a_down a_good a_bad a_shut a_till a_failures a_successes a_credit a_settings a_ringAt a_ringServer pa a_sets a_next a_servers a_homes a_homeSince a_latest a_sorted a_capacity a_refill a_bucket a_countedAt a_states a_clients a_path a_ranks a_keys a_works a_tried a_attempts a_server a_late a_came a_ends a_heap a_queue a_totals N (nI i)) ∧
    (∀ {g_time f_requests g_waiting : Int32} {a_weight a_slots a_pace b_till a_failures a_credit a_successes b_sick b_well a_broken b_up a_sets a_settings a_capacity a_refill b_tokens a_homes a_homeSince a_clients a_path a_keys a_works a_ranks b_state a_server a_attempts a_tried a_came b_ended b_ends a_late b_queue a_latest b_sorted : Nat → Int32} {b_total : Nat → Int64} (post : Int32 → Prop) (N : Nat), d < N → post (if r < n then nI r else -1) → wY_findRoute_2 post x g_time (nI n) f_requests g_waiting a_weight a_slots a_pace b_till a_failures a_credit a_successes b_sick b_well a_broken b_up pa a_sets a_settings a_capacity a_refill b_tokens a_homes a_homeSince a_clients a_path a_keys a_works a_ranks b_state a_server a_attempts a_tried a_came b_ended b_ends a_late b_queue b_total a_latest b_sorted N (nI i)) := by
  intro d
  induction d with
  | zero =>
    intro i hi h
    have : i = n := by omega
    subst this
    refine ⟨i, by omega, h, fun z => by omega, ?_, ?_⟩
    · intros
      rename_i post N hN hp
      obtain ⟨M, rfl⟩ : ∃ M, N = M + 1 := ⟨N - 1, by omega⟩
      exact br_t (Int32.le_refl _) hp
    · intros
      rename_i post N hN hp
      obtain ⟨M, rfl⟩ : ∃ M, N = M + 1 := ⟨N - 1, by omega⟩
      rw [if_neg (by omega)] at hp
      exact br_t (Int32.le_refl _) hp
  | succ d ih =>
    intro i hi h
    have ci : (nI i).toNatClampNeg = i := nI_clamp (by omega)
    have hin : vp_in (nI i) 12 := vp_in_nI (by omega) (by omega)
    have hge : ¬ nI n ≤ nI i := nI_ge (by omega) (by omega)
    by_cases e : pa i = x
    · refine ⟨i, by omega, h, fun _ => e, ?_, ?_⟩
      · intros
        rename_i post N hN hp
        obtain ⟨M, rfl⟩ : ∃ M, N = M + 1 := ⟨N - 1, by omega⟩
        exact br_f hge ⟨hin, br_t (by rw [ci, e]) hp⟩
      · intros
        rename_i post N hN hp
        obtain ⟨M, rfl⟩ : ∃ M, N = M + 1 := ⟨N - 1, by omega⟩
        rw [if_pos (by omega)] at hp
        exact br_f hge ⟨hin, br_t (by rw [ci, e]) hp⟩
    · obtain ⟨r, h1, h2, h3, h4, h5⟩ := ih (i + 1) (by omega) (fun j hj => by
        by_cases y : j = i
        · subst y; exact e
        · exact h j (by omega))
      refine ⟨r, h1, h2, h3, ?_, ?_⟩
      · intros
        rename_i post N hN hp
        obtain ⟨M, rfl⟩ : ∃ M, N = M + 1 := ⟨N - 1, by omega⟩
        exact br_f hge ⟨hin, br_f (by rw [ci]; exact e) (nm_r (nI_1 i) (h4 post M (by omega) hp))⟩
      · intros
        rename_i post N hN hp
        obtain ⟨M, rfl⟩ : ∃ M, N = M + 1 := ⟨N - 1, by omega⟩
        exact br_f hge ⟨hin, br_f (by rw [ci]; exact e) (nm_r (nI_1 i) (h5 post M (by omega) hp))⟩
theorem zj_find {pa : Nat → Int32} {n : Nat} (hn : n ≤ 12) (x : Int32) :
    ∃ r, r ≤ n ∧ (∀ j, j < r → ¬ pa j = x) ∧ (r < n → pa r = x) ∧
    (∀ {f_points f_nodes f_durations f_requests f_heaped f_waiting f_now f_finished f_touched : Int32} {a_weight a_slots a_pace a_running a_broken a_down a_good a_bad a_shut a_till a_failures a_successes a_credit a_settings a_ringAt a_ringServer a_sets a_next a_servers a_homes a_homeSince a_latest a_sorted a_capacity a_refill a_bucket a_countedAt a_states a_clients a_path a_ranks a_keys a_works a_tried a_attempts a_server a_late a_came a_ends a_heap a_queue : Nat → Int32} {a_totals : Nat → Int64} (post : Int32 → Prop), post (nI r) → wpX_routeOf post (f_points, nI n, f_nodes, f_durations, f_requests, f_heaped, f_waiting, f_now, f_finished, f_touched, a_weight, a_slots, a_pace, a_running, a_broken, a_down, a_good, a_bad, a_shut, a_till, a_failures, a_successes, a_credit, a_settings, a_ringAt, a_ringServer, pa, a_sets, a_next, a_servers, a_homes, a_homeSince, a_latest, a_sorted, a_capacity, a_refill, a_bucket, a_countedAt, a_states, a_clients, a_path, a_ranks, a_keys, a_works, a_tried, a_attempts, a_server, a_late, a_came, a_ends, a_heap, a_queue, a_totals) x) ∧
    (∀ {g_time f_requests g_waiting : Int32} {a_weight a_slots a_pace b_till a_failures a_credit a_successes b_sick b_well a_broken b_up a_sets a_settings a_capacity a_refill b_tokens a_homes a_homeSince a_clients a_path a_keys a_works a_ranks b_state a_server a_attempts a_tried a_came b_ended b_ends a_late b_queue a_latest b_sorted : Nat → Int32} {b_total : Nat → Int64} (post : Int32 → Prop), post (if r < n then nI r else -1) → wpY_findRoute post (g_time, nI n, f_requests, g_waiting, a_weight, a_slots, a_pace, b_till, a_failures, a_credit, a_successes, b_sick, b_well, a_broken, b_up, pa, a_sets, a_settings, a_capacity, a_refill, b_tokens, a_homes, a_homeSince, a_clients, a_path, a_keys, a_works, a_ranks, b_state, a_server, a_attempts, a_tried, a_came, b_ended, b_ends, a_late, b_queue, b_total, a_latest, b_sorted) x) := by
  obtain ⟨r, h1, h2, h3, h4, h5⟩ := zj_find2 (pa := pa) hn x n 0 (by omega) (fun j hj => by omega)
  refine ⟨r, h1, h2, h3, ?_, ?_⟩
  · intros
    rename_i post hp
    exact ⟨n + 1, h4 post (n + 1) (by omega) hp⟩
  · intros
    rename_i post hp
    exact ⟨n + 1, h5 post (n + 1) (by omega) hp⟩
theorem zy_so2 {pa se : Nat → Int32} {n : Nat} (P : zt_P n pa se) {post : Int32 → Prop} : ∀ d p N, p < 8 ^ d → p < 4096 → d < N → post (zt_so pa se n d p) →
    wY_serversOf_2 post g_time (nI n) f_requests g_waiting a_weight a_slots a_pace b_till a_failures a_credit a_successes b_sick b_well a_broken b_up pa se a_settings a_capacity a_refill b_tokens a_homes a_homeSince a_clients a_path a_keys a_works a_ranks b_state a_server a_attempts a_tried a_came b_ended b_ends a_late b_queue b_total a_latest b_sorted N (nI p) := by
  intro d
  induction d with
  | zero =>
    intro p N hp h4 hN hpo
    obtain ⟨M, rfl⟩ : ∃ M, N = M + 1 := ⟨N - 1, by omega⟩
    have : p = 0 := by omega
    subst this
    obtain ⟨r, h1, h2, h3, _, h5⟩ := zj_find (pa := pa) P.1 (nI 0)
    refine h5 _ ?_
    by_cases hr : r < n
    · rw [if_pos hr]
      refine br_f (nI_pos (by have := P.1; omega)) ⟨vp_in_nI (by have := P.1; omega) (by omega), ?_⟩
      rw [nI_clamp (by have := P.1; omega), ← zt_hit (se := se) n P.2.2 hr (h3 hr)]
      exact hpo
    · rw [if_neg hr]
      refine br_t (by decide) (br_t nI_0 ?_)
      have : r = n := by omega
      subst this
      rw [← zt_miss (se := se) r h2]
      exact hpo
  | succ d ih =>
    intro p N hp h4 hN hpo
    obtain ⟨M, rfl⟩ : ∃ M, N = M + 1 := ⟨N - 1, by omega⟩
    obtain ⟨r, h1, h2, h3, _, h5⟩ := zj_find (pa := pa) P.1 (nI p)
    refine h5 _ ?_
    by_cases hr : r < n
    · rw [if_pos hr]
      obtain ⟨_, m, _, hm, _, em⟩ := P.2.1 r hr
      have hv := zt_hit (se := se) n P.2.2 hr (h3 hr)
      refine br_f (nI_pos (by have := P.1; omega)) ⟨vp_in_nI (by have := P.1; omega) (by omega), ?_⟩
      rw [zt_so, hv, if_neg (by rw [em]; exact za_nIne (by omega))] at hpo
      rw [nI_clamp (by have := P.1; omega)]
      exact hpo
    · rw [if_neg hr]
      have : r = n := by omega
      subst this
      have hv := zt_miss (se := se) r h2
      refine br_t (by decide) ?_
      rcases Nat.eq_zero_or_pos p with z | z
      · subst z
        rw [zt_so0, hv] at hpo
        exact br_t nI_0 hpo
      · rw [zt_so, hv, if_pos rfl] at hpo
        exact br_f (nI_ne0 z (by omega)) ⟨by decide, nm_r (za_d8 (by omega)) (ih (p / 8) M (by rw [Nat.pow_succ] at hp; omega) (by omega) (by omega) hpo)⟩
theorem zy_so {pa se : Nat → Int32} {n p : Nat} (P : zt_P n pa se) (hp : p < 4096) {post : Int32 → Prop} (h : post (zt_so pa se n 4 p)) :
    wpY_serversOf post (g_time, nI n, f_requests, g_waiting, a_weight, a_slots, a_pace, b_till, a_failures, a_credit, a_successes, b_sick, b_well, a_broken, b_up, pa, se, a_settings, a_capacity, a_refill, b_tokens, a_homes, a_homeSince, a_clients, a_path, a_keys, a_works, a_ranks, b_state, a_server, a_attempts, a_tried, a_came, b_ended, b_ends, a_late, b_queue, b_total, a_latest, b_sorted) (nI p) :=
  ⟨5, zy_so2 P 4 p 5 (by omega) hp (by omega) h⟩
/-- what a path is routed to: -1, or a set of servers -/
theorem zt_so_rg {pa se : Nat → Int32} {n : Nat} (P : zt_P n pa se) : ∀ d p, zt_so pa se n d p = -1 ∨ ∃ m, m < 64 ∧ zt_so pa se n d p = nI m := by
  have hv : ∀ x, zt_val pa se x n = -1 ∨ ∃ m, m < 64 ∧ zt_val pa se x n = nI m := by
    intro x
    rcases zt_cases (pa := pa) (se := se) (x := x) n P.2.2 with ⟨z, _⟩ | ⟨k, hk, _, z⟩
    · exact Or.inl z
    · obtain ⟨_, m, _, hm, _, em⟩ := P.2.1 k hk
      exact Or.inr ⟨m, hm, by rw [z, em]⟩
  intro d
  induction d with
  | zero => exact fun p => hv _
  | succ d ih =>
    intro p
    unfold zt_so
    split
    · exact ih _
    · exact hv _
end
end
section
/-! walks of the ring: addPoint, server's loops, onRing; Y's ring -/
section
variable {f_points f_routes f_nodes f_durations f_requests f_heaped f_waiting f_now f_finished f_touched g_time g_waiting : Int32}
variable {a_weight a_slots a_pace a_running a_broken a_down a_good a_bad a_shut a_till a_failures a_successes a_credit a_settings a_ringAt a_ringServer a_paths a_sets a_next a_servers a_homes a_homeSince a_latest a_sorted a_capacity a_refill a_bucket a_countedAt a_states a_clients a_path a_ranks a_keys a_works a_tried a_attempts a_server a_late a_came a_ends a_heap a_queue b_till b_sick b_well b_up b_tokens b_state b_ended b_ends b_queue b_sorted : Nat → Int32}
variable {a_totals b_total : Nat → Int64}
/-- insertion under way: the places above i hold what lay one below -/
def zs_ps (s : Nat → Int32) (n i : Nat) : Nat → Int32 := fun j => if i < j ∧ j ≤ n then s (j - 1) else s j
theorem zs_ps0 {s : Nat → Int32} {n : Nat} : zs_ps s n n = s := by
  funext j; unfold zs_ps; rw [if_neg (by omega)]
theorem zs_ps_lo {s : Nat → Int32} {n i j : Nat} (h : j ≤ i) : zs_ps s n i j = s j := if_neg (by omega)
theorem zs_ps_st {s : Nat → Int32} {n i : Nat} (h0 : 0 < i) (hn : i ≤ n) : upd (zs_ps s n i) i (s (i - 1)) = zs_ps s n (i - 1) := by
  funext j
  by_cases e : j = i
  · subst e; rw [pk_us]; unfold zs_ps; rw [if_pos ⟨by omega, hn⟩]
  · rw [pk_un e]; unfold zs_ps
    by_cases z : i < j ∧ j ≤ n
    · rw [if_pos z, if_pos ⟨by omega, z.2⟩]
    · rw [if_neg z, if_neg (by omega)]
theorem zs_ps_end {s : Nat → Int32} {n k : Nat} {d : Int32} (h : k ≤ n) : upd (zs_ps s n k) k d = zs_ins s n k d := by
  funext j
  rcases Nat.lt_trichotomy j k with e | e | e
  · rw [pk_un (by omega), zs_ps_lo (by omega), zs_ins_lt e]
  · subst e; rw [pk_us, zs_ins_eq]
  · rw [pk_un (by omega)]
    unfold zs_ps
    by_cases z : j ≤ n
    · rw [if_pos ⟨e, z⟩, zs_ins_gt e z]
    · rw [if_neg (by omega), zs_ins_out e (by omega)]
/-- deletion under way -/
def zs_pd (s : Nat → Int32) (k i : Nat) : Nat → Int32 := fun j => if k ≤ j ∧ j < i then s (j + 1) else s j
theorem zs_pd0 {s : Nat → Int32} {k : Nat} : zs_pd s k k = s := by
  funext j; unfold zs_pd; rw [if_neg (by omega)]
theorem zs_pd_hi {s : Nat → Int32} {k i j : Nat} (h : i ≤ j) : zs_pd s k i j = s j := if_neg (by omega)
theorem zs_pd_st {s : Nat → Int32} {k i : Nat} (h : k ≤ i) : upd (zs_pd s k i) i (s (i + 1)) = zs_pd s k (i + 1) := by
  funext j
  by_cases e : j = i
  · subst e; rw [pk_us]; unfold zs_pd; rw [if_pos ⟨h, by omega⟩]
  · rw [pk_un e]; unfold zs_pd
    by_cases z : k ≤ j ∧ j < i
    · rw [if_pos z, if_pos ⟨z.1, by omega⟩]
    · rw [if_neg z, if_neg (by omega)]
theorem zs_pd_end {s : Nat → Int32} {n k i : Nat} (h : i + 1 = n) : zs_pd s k i = zs_del s n k := by
  funext j; unfold zs_pd zs_del
  by_cases z : k ≤ j ∧ j < i
  · rw [if_pos z, if_pos ⟨z.1, by omega⟩]
  · rw [if_neg z, if_neg (by omega)]
theorem za_p1 {i : Nat} (h : 0 < i) : nI i - 1 = nI (i - 1) := by
  obtain ⟨j, rfl⟩ : ∃ j, i = j + 1 := ⟨i - 1, by omega⟩
  exact nI_pred j
theorem zx_add62 {np k p t : Nat} {ra rs : Nat → Int32} (hk : k ≤ np) (hn : np < 54) (hp : p < 256) (ht : t < 6) {post : SX → Prop}
    (h : post (f_points, f_routes, f_nodes, f_durations, f_requests, f_heaped, f_waiting, f_now, f_finished, f_touched, a_weight, a_slots, a_pace, a_running, a_broken, a_down, a_good, a_bad, a_shut, a_till, a_failures, a_successes, a_credit, a_settings, zs_ins ra np k (nI p), zs_ins rs np k (nI t), a_paths, a_sets, a_next, a_servers, a_homes, a_homeSince, a_latest, a_sorted, a_capacity, a_refill, a_bucket, a_countedAt, a_states, a_clients, a_path, a_ranks, a_keys, a_works, a_tried, a_attempts, a_server, a_late, a_came, a_ends, a_heap, a_queue, a_totals)) :
    wX_addPoint_62 post (nI p) (nI t) (nI k) f_points f_routes f_nodes f_durations f_requests f_heaped f_waiting f_now f_finished f_touched a_weight a_slots a_pace a_running a_broken a_down a_good a_bad a_shut a_till a_failures a_successes a_credit a_settings (zs_ps ra np k) (zs_ps rs np k) a_paths a_sets a_next a_servers a_homes a_homeSince a_latest a_sorted a_capacity a_refill a_bucket a_countedAt a_states a_clients a_path a_ranks a_keys a_works a_tried a_attempts a_server a_late a_came a_ends a_heap a_queue a_totals := by
  have hin : vp_in (nI k) 54 := vp_in_nI (by omega) (by omega)
  have c : (nI k).toNatClampNeg = k := nI_clamp (by omega)
  refine And.intro hin (nm_r (e' := zs_ins ra np k (nI p)) (by rw [c, za_vs2 (by omega), zs_ps_end hk]) ⟨hin, nm_r (e' := zs_ins rs np k (nI t)) (by rw [c, za_vb2 (by omega), zs_ps_end hk]) h⟩)
theorem zx_add12 {np p t : Nat} {ra rs : Nat → Int32} (hn : np < 54) (hp : p < 256) (ht : t < 6)
    (hv : ∀ j, j < np → ∃ s w, s < 6 ∧ w < 256 ∧ rs j = nI s ∧ ra j = nI w) : ∀ i, i ≤ np → (∀ j, i ≤ j → j < np → nI p < ra j) →
    ∃ k, k ≤ np ∧ (∀ j, k ≤ j → j < np → nI p < ra j) ∧ (k = 0 ∨ ra (k - 1) ≤ nI p) ∧
    ∀ {f_points f_routes f_nodes f_durations f_requests f_heaped f_waiting f_now f_finished f_touched : Int32} {a_weight a_slots a_pace a_running a_broken a_down a_good a_bad a_shut a_till a_failures a_successes a_credit a_settings a_paths a_sets a_next a_servers a_homes a_homeSince a_latest a_sorted a_capacity a_refill a_bucket a_countedAt a_states a_clients a_path a_ranks a_keys a_works a_tried a_attempts a_server a_late a_came a_ends a_heap a_queue : Nat → Int32} {a_totals : Nat → Int64} (post : SX → Prop) (N : Nat), i < N →
      post (f_points, f_routes, f_nodes, f_durations, f_requests, f_heaped, f_waiting, f_now, f_finished, f_touched, a_weight, a_slots, a_pace, a_running, a_broken, a_down, a_good, a_bad, a_shut, a_till, a_failures, a_successes, a_credit, a_settings, zs_ins ra np k (nI p), zs_ins rs np k (nI t), a_paths, a_sets, a_next, a_servers, a_homes, a_homeSince, a_latest, a_sorted, a_capacity, a_refill, a_bucket, a_countedAt, a_states, a_clients, a_path, a_ranks, a_keys, a_works, a_tried, a_attempts, a_server, a_late, a_came, a_ends, a_heap, a_queue, a_totals) →
      wX_addPoint_12 post (nI p) (nI t) f_points f_routes f_nodes f_durations f_requests f_heaped f_waiting f_now f_finished f_touched N (nI i) a_weight a_slots a_pace a_running a_broken a_down a_good a_bad a_shut a_till a_failures a_successes a_credit a_settings (zs_ps ra np i) (zs_ps rs np i) a_paths a_sets a_next a_servers a_homes a_homeSince a_latest a_sorted a_capacity a_refill a_bucket a_countedAt a_states a_clients a_path a_ranks a_keys a_works a_tried a_attempts a_server a_late a_came a_ends a_heap a_queue a_totals := by
  intro i
  induction i with
  | zero =>
    intro _ h
    refine ⟨0, by omega, h, Or.inl rfl, ?_⟩
    intros
    rename_i post N hN hpo
    obtain ⟨M, rfl⟩ : ∃ M, N = M + 1 := ⟨N - 1, by omega⟩
    exact br_t (by rw [nI_0]; exact Int32.le_refl _) (zx_add62 (by omega) hn hp ht hpo)
  | succ i ih =>
    intro hi h
    obtain ⟨s, w, hs, hw, e1, e2⟩ := hv i (by omega)
    have hpos : ¬ nI (i + 1) ≤ 0 := nI_nle (by omega) (by omega)
    have epr : nI (i + 1) - 1 = nI i := nI_pred i
    have hin : vp_in (nI (i + 1) - 1) 54 := by rw [epr]; exact vp_in_nI (by omega) (by omega)
    have hin' : vp_in (nI (i + 1)) 54 := vp_in_nI (by omega) (by omega)
    have c : (nI (i + 1) - 1).toNatClampNeg = i := by rw [epr]; exact nI_clamp (by omega)
    have c' : (nI (i + 1)).toNatClampNeg = i + 1 := nI_clamp (by omega)
    have lo : zs_ps ra np (i + 1) i = ra i := zs_ps_lo (by omega)
    have lo' : zs_ps rs np (i + 1) i = rs i := zs_ps_lo (by omega)
    by_cases hc : ra i ≤ nI p
    · refine ⟨i + 1, hi, h, Or.inr hc, ?_⟩
      intros
      rename_i post N hN hpo
      obtain ⟨M, rfl⟩ : ∃ M, N = M + 1 := ⟨N - 1, by omega⟩
      exact br_f hpos ⟨hin, br_t (by rw [c, lo]; exact hc) (zx_add62 hi hn hp ht hpo)⟩
    · obtain ⟨k, h1, h2, h3, H⟩ := ih (by omega) (fun j hj hj2 => by
        by_cases e : j = i
        · subst e; exact Int32.not_le.mp hc
        · exact h j (by omega) hj2)
      refine ⟨k, h1, h2, h3, ?_⟩
      intros
      rename_i post N hN hpo
      obtain ⟨M, rfl⟩ : ∃ M, N = M + 1 := ⟨N - 1, by omega⟩
      refine br_f hpos ⟨hin, br_f (by rw [c, lo]; exact hc) ⟨hin, hin', nm_r (e' := zs_ps ra np i) ?_ ⟨hin, hin', nm_r (e' := zs_ps rs np i) ?_ (nm_r (pk_m1 i) (H post M (by omega) hpo))⟩⟩⟩
      · rw [c, c', lo, e2, za_vs (by omega), ← e2]
        exact zs_ps_st (i := i + 1) (by omega) hi
      · rw [c, c', lo', e1, za_vb (by omega), ← e1]
        exact zs_ps_st (i := i + 1) (by omega) hi
theorem zx_addPoint {np p t : Nat} {ra rs : Nat → Int32} (hn : np < 54) (hp : p < 256) (ht : t < 6)
    (hv : ∀ j, j < np → ∃ s w, s < 6 ∧ w < 256 ∧ rs j = nI s ∧ ra j = nI w) :
    ∃ k, k ≤ np ∧ (∀ j, k ≤ j → j < np → nI p < ra j) ∧ (k = 0 ∨ ra (k - 1) ≤ nI p) ∧
    ∀ {f_routes f_nodes f_durations f_requests f_heaped f_waiting f_now f_finished f_touched : Int32} {a_weight a_slots a_pace a_running a_broken a_down a_good a_bad a_shut a_till a_failures a_successes a_credit a_settings a_paths a_sets a_next a_servers a_homes a_homeSince a_latest a_sorted a_capacity a_refill a_bucket a_countedAt a_states a_clients a_path a_ranks a_keys a_works a_tried a_attempts a_server a_late a_came a_ends a_heap a_queue : Nat → Int32} {a_totals : Nat → Int64} (post : SX → Prop),
      post (nI (np + 1), f_routes, f_nodes, f_durations, f_requests, f_heaped, f_waiting, f_now, f_finished, f_touched, a_weight, a_slots, a_pace, a_running, a_broken, a_down, a_good, a_bad, a_shut, a_till, a_failures, a_successes, a_credit, a_settings, zs_ins ra np k (nI p), zs_ins rs np k (nI t), a_paths, a_sets, a_next, a_servers, a_homes, a_homeSince, a_latest, a_sorted, a_capacity, a_refill, a_bucket, a_countedAt, a_states, a_clients, a_path, a_ranks, a_keys, a_works, a_tried, a_attempts, a_server, a_late, a_came, a_ends, a_heap, a_queue, a_totals) →
      wpX_addPoint post (nI np, f_routes, f_nodes, f_durations, f_requests, f_heaped, f_waiting, f_now, f_finished, f_touched, a_weight, a_slots, a_pace, a_running, a_broken, a_down, a_good, a_bad, a_shut, a_till, a_failures, a_successes, a_credit, a_settings, ra, rs, a_paths, a_sets, a_next, a_servers, a_homes, a_homeSince, a_latest, a_sorted, a_capacity, a_refill, a_bucket, a_countedAt, a_states, a_clients, a_path, a_ranks, a_keys, a_works, a_tried, a_attempts, a_server, a_late, a_came, a_ends, a_heap, a_queue, a_totals) (nI p) (nI t) := by
  obtain ⟨k, h1, h2, h3, H⟩ := zx_add12 hn hp ht hv np (by omega) (fun j h1 h2 => by omega)
  rw [zs_ps0, zs_ps0] at H
  refine ⟨k, h1, h2, h3, ?_⟩
  intros
  rename_i post hpo
  exact nm_r (nI_1 np) ⟨np + 1, H post (np + 1) (by omega) hpo⟩
/-- weights -/
def zr_W (w : Nat → Int32) : Prop := ∀ s, s < 6 → za_rg (w s) 0 9
/-- points so far: all of servers below t, and of t those below j -/
def zr_D (w : Nat → Int32) (t j : Nat) : Nat → Nat → Prop := fun s q => (s < t ∧ q < (w s).toNatClampNeg) ∨ (s = t ∧ q < j)
theorem zr_place {t j : Nat} (ht : t < 6) (hj : j < 9) : (((nI t * 37 + nI j * 101) + 17) * 59) &&& 255 = nI (zr_pl t j) := by
  have e1 : nI t * 37 = nI (t * 37) := pk_mul t 37
  have e2 : nI j * 101 = nI (j * 101) := pk_mul j 101
  have e3 : nI (t * 37 + j * 101) + 17 = nI (t * 37 + j * 101 + 17) := nI_add _ 17
  have e4 : nI (t * 37 + j * 101 + 17) * 59 = nI ((t * 37 + j * 101 + 17) * 59) := pk_mul _ 59
  rw [e1, e2, nI_add, e3, e4, za_m255 (by omega)]
  rfl
theorem zx_srv83 {w : Nat → Int32} {t v : Nat} (ht : t < 6) (hv : v ≤ 9) (ew : w t = nI v) :
    ∀ (d j np : Nat) (ra rs : Nat → Int32), j + d = v → zr_R np ra rs (zr_D w t j) → np ≤ 9 * t + j →
    ∃ (np' : Nat) (ra' rs' : Nat → Int32), zr_R np' ra' rs' (zr_D w t v) ∧ np' ≤ 9 * t + v ∧
    ∀ {f_routes f_nodes f_durations f_requests f_heaped f_waiting f_now f_finished f_touched : Int32} {a_slots a_pace a_running a_broken a_down a_good a_bad a_shut a_till a_failures a_successes a_credit a_settings a_paths a_sets a_next a_servers a_homes a_homeSince a_latest a_sorted a_capacity a_refill a_bucket a_countedAt a_states a_clients a_path a_ranks a_keys a_works a_tried a_attempts a_server a_late a_came a_ends a_heap a_queue : Nat → Int32} {a_totals : Nat → Int64} (post : Int32 → SX → Prop) (J73 : Int32 → Int32 → Int32 → Int32 → Int32 → Int32 → Int32 → Int32 → Int32 → Int32 → Int32 → (Nat → Int32) → (Nat → Int32) → (Nat → Int32) → (Nat → Int32) → (Nat → Int32) → (Nat → Int32) → (Nat → Int32) → (Nat → Int32) → (Nat → Int32) → (Nat → Int32) → (Nat → Int32) → (Nat → Int32) → (Nat → Int32) → (Nat → Int32) → (Nat → Int32) → (Nat → Int32) → (Nat → Int32) → (Nat → Int32) → (Nat → Int32) → (Nat → Int32) → (Nat → Int32) → (Nat → Int32) → (Nat → Int32) → (Nat → Int32) → (Nat → Int32) → (Nat → Int32) → (Nat → Int32) → (Nat → Int32) → (Nat → Int32) → (Nat → Int32) → (Nat → Int32) → (Nat → Int32) → (Nat → Int32) → (Nat → Int32) → (Nat → Int32) → (Nat → Int32) → (Nat → Int32) → (Nat → Int32) → (Nat → Int32) → (Nat → Int32) → (Nat → Int32) → (Nat → Int32) → (Nat → Int64) → Prop) (N : Nat), d < N →
      J73 (nI (t + 1)) (nI np') f_routes f_nodes f_durations f_requests f_heaped f_waiting f_now f_finished f_touched w a_slots a_pace a_running a_broken a_down a_good a_bad a_shut a_till a_failures a_successes a_credit a_settings ra' rs' a_paths a_sets a_next a_servers a_homes a_homeSince a_latest a_sorted a_capacity a_refill a_bucket a_countedAt a_states a_clients a_path a_ranks a_keys a_works a_tried a_attempts a_server a_late a_came a_ends a_heap a_queue a_totals →
      wX_server_83 post J73 (nI t) N (nI j) (nI np) f_routes f_nodes f_durations f_requests f_heaped f_waiting f_now f_finished f_touched w a_slots a_pace a_running a_broken a_down a_good a_bad a_shut a_till a_failures a_successes a_credit a_settings ra rs a_paths a_sets a_next a_servers a_homes a_homeSince a_latest a_sorted a_capacity a_refill a_bucket a_countedAt a_states a_clients a_path a_ranks a_keys a_works a_tried a_attempts a_server a_late a_came a_ends a_heap a_queue a_totals := by
  have ct : (nI t).toNatClampNeg = t := nI_clamp (by omega)
  have it : vp_in (nI t) 6 := vp_in_nI ht (by omega)
  intro d
  induction d with
  | zero =>
    intro j np ra rs hj R hnp
    have : j = v := by omega
    subst this
    refine ⟨np, ra, rs, R, hnp, ?_⟩
    intros
    rename_i post J73 N hN hJ
    obtain ⟨M, rfl⟩ : ∃ M, N = M + 1 := ⟨N - 1, by omega⟩
    exact And.intro it (br_t (by rw [ct, ew]; exact Int32.le_refl _) (nm_r (nI_1 t) hJ))
  | succ d ih =>
    intro j np ra rs hj R hnp
    obtain ⟨k, h1, h2, h3, H1⟩ := zx_addPoint (np := np) (p := zr_pl t j) (t := t) (ra := ra) (rs := rs) (by omega) (zr_pl_lt _ _) ht (fun i hi => by
      obtain ⟨s, q, hs, _, e1, e2⟩ := R.1 i hi
      exact ⟨s, _, hs, zr_pl_lt _ _, e1, e2⟩)
    have R2 := zr_ins (k := k) (t := t) (j0 := j) (E := zr_D w t (j + 1)) R ht (fun s q hs hd => by
        rcases hd with z | z
        · exact Nat.le_of_lt z.1
        · omega) (fun s q => by unfold zr_D; omega) h1 h2 (fun i hi => by
        rcases h3 with z | z
        · omega
        · exact Int32.le_trans (zr_le R (by omega) (by omega)) z)
    obtain ⟨np', ra', rs', R', hn', H⟩ := ih (j + 1) (np + 1) _ _ (by omega) R2 (by omega)
    refine ⟨np', ra', rs', R', hn', ?_⟩
    intros
    rename_i post J73 N hN hJ
    obtain ⟨M, rfl⟩ : ∃ M, N = M + 1 := ⟨N - 1, by omega⟩
    refine And.intro it (br_f (by rw [ct, ew]; exact nI_ge (by omega) (by omega)) ?_)
    rw [zr_place ht (by omega)]
    exact H1 _ (nm_r (nI_1 j) (H post J73 M (by omega) hJ))
theorem zx_srv73 {w : Nat → Int32} (hw : zr_W w) :
    ∀ (d t np : Nat) (ra rs : Nat → Int32), t + d = 6 → zr_R np ra rs (zr_D w t 0) → np ≤ 9 * t →
    ∃ (np' : Nat) (ra' rs' : Nat → Int32), zr_R np' ra' rs' (zr_D w 6 0) ∧ np' ≤ 54 ∧
    ∀ {f_routes f_nodes f_durations f_requests f_heaped f_waiting f_now f_finished f_touched : Int32} {a_slots a_pace a_running a_broken a_down a_good a_bad a_shut a_till a_failures a_successes a_credit a_settings a_paths a_sets a_next a_servers a_homes a_homeSince a_latest a_sorted a_capacity a_refill a_bucket a_countedAt a_states a_clients a_path a_ranks a_keys a_works a_tried a_attempts a_server a_late a_came a_ends a_heap a_queue : Nat → Int32} {a_totals : Nat → Int64} (post : Int32 → SX → Prop) (N : Nat), d < N →
      post 1 (nI np', f_routes, f_nodes, f_durations, f_requests, f_heaped, f_waiting, f_now, f_finished, 1, w, a_slots, a_pace, a_running, a_broken, a_down, a_good, a_bad, a_shut, a_till, a_failures, a_successes, a_credit, a_settings, ra', rs', a_paths, a_sets, a_next, a_servers, a_homes, a_homeSince, a_latest, a_sorted, a_capacity, a_refill, a_bucket, a_countedAt, a_states, a_clients, a_path, a_ranks, a_keys, a_works, a_tried, a_attempts, a_server, a_late, a_came, a_ends, a_heap, a_queue, a_totals) →
      wX_server_73 post N (nI t) (nI np) f_routes f_nodes f_durations f_requests f_heaped f_waiting f_now f_finished f_touched w a_slots a_pace a_running a_broken a_down a_good a_bad a_shut a_till a_failures a_successes a_credit a_settings ra rs a_paths a_sets a_next a_servers a_homes a_homeSince a_latest a_sorted a_capacity a_refill a_bucket a_countedAt a_states a_clients a_path a_ranks a_keys a_works a_tried a_attempts a_server a_late a_came a_ends a_heap a_queue a_totals := by
  intro d
  induction d with
  | zero =>
    intro t np ra rs ht R hnp
    have : t = 6 := by omega
    subst this
    refine ⟨np, ra, rs, R, by omega, ?_⟩
    intros
    rename_i post N hN hp
    obtain ⟨M, rfl⟩ : ∃ M, N = M + 1 := ⟨N - 1, by omega⟩
    exact br_t (Int32.le_refl _) hp
  | succ d ih =>
    intro t np ra rs ht R hnp
    obtain ⟨v, _, hv, ev⟩ := hw t (by omega)
    obtain ⟨np1, ra1, rs1, R1, hn1, H1⟩ := zx_srv83 (by omega) hv ev v 0 np ra rs (by omega) R (by omega)
    have R2 : zr_R np1 ra1 rs1 (zr_D w (t + 1) 0) := zr_iff (fun s q _ => by
      unfold zr_D
      constructor
      · rintro (z | ⟨z, y⟩)
        · exact Or.inl ⟨by omega, z.2⟩
        · subst z
          refine Or.inl ⟨by omega, ?_⟩
          rw [ev, nI_clamp (by omega)]; exact y
      · rintro (⟨z, y⟩ | ⟨_, y⟩)
        · by_cases e : s = t
          · subst e
            rw [ev, nI_clamp (by omega)] at y
            exact Or.inr ⟨rfl, y⟩
          · exact Or.inl ⟨by omega, y⟩
        · omega) R1
    obtain ⟨np', ra', rs', R', hn', H⟩ := ih (t + 1) np1 ra1 rs1 (by omega) R2 (by omega)
    refine ⟨np', ra', rs', R', hn', ?_⟩
    intros
    rename_i post N hN hp
    obtain ⟨M, rfl⟩ : ∃ M, N = M + 1 := ⟨N - 1, by omega⟩
    refine br_f (nI_ge (b := 6) (by omega) (by decide)) ⟨v + 1, H1 post (wX_server_73 post M) (v + 1) (by omega) ?_⟩
    exact H post M (by omega) hp
/-- the whole ring's points -/
def zr_E (w : Nat → Int32) : Nat → Nat → Prop := fun s q => q < (w s).toNatClampNeg
theorem zr_DE {w : Nat → Int32} {np : Nat} {ra rs : Nat → Int32} (R : zr_R np ra rs (zr_D w 6 0)) : zr_R np ra rs (zr_E w) :=
  zr_iff (fun s q hs => by unfold zr_D zr_E; constructor <;> intro h <;> omega) R
theorem zr_u {D : Nat → Nat → Prop} {P : Nat → Bool} {key s d s' d' : Nat} (B : zr_b D P key s d) (B' : zr_b D P key s' d') : s = s' := by
  obtain ⟨h1, h2, ⟨j, h3, h4⟩, h5⟩ := B
  obtain ⟨g1, g2, ⟨q, g3, g4⟩, g5⟩ := B'
  have a := h5 s' q g1 g2 g3
  have b := g5 s j h1 h2 h3
  omega
theorem zr_ex {D : Nat → Nat → Prop} {P : Nat → Bool} {key : Nat} (h : ∃ s j, s < 6 ∧ P s = true ∧ D s j) : ∃ s d, zr_b D P key s d := by
  obtain ⟨s0, j0, a, b, c⟩ := h
  obtain ⟨d, ⟨s1, j1, q1, q2, q3, q4⟩, hd⟩ := pk_least (fun d => ∃ s j, s < 6 ∧ P s = true ∧ D s j ∧ zr_d (zr_pl s j) key = d) ⟨_, s0, j0, a, b, c, rfl⟩
  obtain ⟨s, ⟨r1, r2, j, r3, r4⟩, hs⟩ := pk_least (fun s => s < 6 ∧ P s = true ∧ ∃ j, D s j ∧ zr_d (zr_pl s j) key = d) ⟨s1, q1, q2, j1, q3, q4⟩
  refine ⟨s, d, r1, r2, ⟨j, r3, r4⟩, ?_⟩
  intro s' j' h1 h2 h3
  rcases Nat.lt_trichotomy d (zr_d (zr_pl s' j') key) with z | z | z
  · exact Or.inl z
  · refine Or.inr ⟨z, ?_⟩
    rcases Nat.lt_or_ge s' s with y | y
    · exact absurd ⟨h1, h2, j', h3, z.symm⟩ (hs s' y)
    · exact y
  · exact absurd ⟨s', j', h1, h2, h3, rfl⟩ (hd _ z)
theorem zx_ring63 {np low st key s d : Nat} {ra rs : Nat → Int32} {D : Nat → Nat → Prop} {x : Int32} (R : zr_R np ra rs D) (hn : np ≤ 54)
    (hkey : key < 256) (hl1 : ∀ i, i < low → i < np → ra i < nI key) (hl2 : ∀ i, low ≤ i → i < np → nI key ≤ ra i)
    (hst : (low < np ∧ st = low) ∨ (low = np ∧ st = 0)) (B : zr_b D (za_tb x) key s d) {post : Int32 → Prop} (hpo : post (nI s)) :
    ∀ (e k N : Nat), k < np → (if st ≤ k then np - k + st else st - k) ≤ e →
      ((st ≤ k ∧ ∀ i t, st ≤ i → i < k → t < 6 → rs i = nI t → za_tb x t = false) ∨
      (k < st ∧ (∀ i t, st ≤ i → i < np → t < 6 → rs i = nI t → za_tb x t = false) ∧ (∀ i t, i < k → t < 6 → rs i = nI t → za_tb x t = false))) → e < N →
      wX_onRing_63 post x (nI np) f_routes f_nodes f_durations f_requests f_heaped f_waiting f_now f_finished f_touched a_weight a_slots a_pace a_running a_broken a_down a_good a_bad a_shut a_till a_failures a_successes a_credit a_settings ra rs a_paths a_sets a_next a_servers a_homes a_homeSince a_latest a_sorted a_capacity a_refill a_bucket a_countedAt a_states a_clients a_path a_ranks a_keys a_works a_tried a_attempts a_server a_late a_came a_ends a_heap a_queue a_totals N (nI k) := by
  intro e
  induction e with
  | zero => intro k N hk he _; split at he <;> omega
  | succ e ih =>
    intro k N hk he hph hN
    obtain ⟨M, rfl⟩ : ∃ M, N = M + 1 := ⟨N - 1, by omega⟩
    have hin : vp_in (nI k) 54 := vp_in_nI (by omega) (by omega)
    have c : (nI k).toNatClampNeg = k := nI_clamp (by omega)
    obtain ⟨s1, j1, g1, g2, g3, g4⟩ := R.1 k hk
    refine And.intro hin ?_
    rw [c, g3]
    by_cases hb : za_tb x s1 = true
    · refine br_f (fun z => by rw [za_tb0.mp z] at hb; cases hb) ⟨hin, ?_⟩
      obtain ⟨d1, B1⟩ := zr_fin R hkey hl1 hl2 hst hk g3 g1 hb hph
      rw [← zr_u B B1]
      exact hpo
    · have hb' : za_tb x s1 = false := by simpa using hb
      have rdy : ∃ i, i < np ∧ rs i = nI s := by
        obtain ⟨h1, h2, ⟨j, h3, h4⟩, h5⟩ := B
        obtain ⟨i, hi, e1, e2⟩ := R.2.1 s j h1 h3
        exact ⟨i, hi, e1⟩
      obtain ⟨i, hi, ei⟩ := rdy
      have bs : za_tb x s = true := B.2.1
      have s6 : s < 6 := B.1
      have notk : ∀ t, t < 6 → rs k = nI t → za_tb x t = false := by
        intro t ht et
        have : s1 = t := (nI_eq (by omega) (by omega)).mp (g3.symm.trans et)
        subst this; exact hb'
      refine br_t (za_tb0.mpr hb') ?_
      rw [nI_1]
      by_cases hk1 : k + 1 = np
      · refine br_t (by rw [hk1]) ?_
        have h0 : ∀ p, p = nI 0 → p = (0 : Int32) := fun p z => z.trans nI_0
        rw [← nI_0]
        rcases hph with ⟨ha, hb1⟩ | ⟨ha, hb1, hc1⟩
        · rw [if_pos ha] at he
          have no : ∀ i t, st ≤ i → i < np → t < 6 → rs i = nI t → za_tb x t = false := by
            intro i t h1 h2 h3 h4
            by_cases y : i = k
            · subst y; exact notk t h3 h4
            · exact hb1 i t h1 (by omega) h3 h4
          have hst0 : i < st := by
            rcases Nat.lt_or_ge i st with y | y
            · exact y
            · have := no i s y hi s6 ei
              rw [this] at bs; cases bs
          refine ih 0 M (by omega) (by rw [if_neg (by omega)]; omega) (Or.inr ⟨by omega, no, fun i t h => by omega⟩) (by omega)
        · omega
      · refine br_f (fun z => hk1 ((nI_eq (by omega) (by omega)).mp z)) (nm_e ?_)
        rcases hph with ⟨ha, hb1⟩ | ⟨ha, hb1, hc1⟩
        · rw [if_pos ha] at he
          refine ih (k + 1) M (by omega) (by rw [if_pos (by omega)]; omega) (Or.inl ⟨by omega, ?_⟩) (by omega)
          intro i t h1 h2 h3 h4
          by_cases y : i = k
          · subst y; exact notk t h3 h4
          · exact hb1 i t h1 (by omega) h3 h4
        · rw [if_neg (by omega)] at he
          have no : ∀ i t, i < k + 1 → t < 6 → rs i = nI t → za_tb x t = false := by
            intro i t h2 h3 h4
            by_cases y : i = k
            · subst y; exact notk t h3 h4
            · exact hc1 i t (by omega) h3 h4
          have hks : k + 1 < st := by
            rcases Nat.lt_or_ge (k + 1) st with y | y
            · exact y
            · have : za_tb x s = false := by
                by_cases z : st ≤ i
                · exact hb1 i s z hi s6 ei
                · exact no i s (by omega) s6 ei
              rw [this] at bs; cases bs
          exact ih (k + 1) M (by omega) (by rw [if_neg (by omega)]; omega) (Or.inr ⟨hks, hb1, no⟩) (by omega)
theorem zx_ring8 {np key s d : Nat} {ra rs : Nat → Int32} {D : Nat → Nat → Prop} {x : Int32} (R : zr_R np ra rs D) (hn : np ≤ 54)
    (hkey : key < 256) (B : zr_b D (za_tb x) key s d) {post : Int32 → Prop} (hpo : post (nI s)) :
    ∀ (e lo hi N : Nat), hi - lo ≤ e → lo ≤ hi → hi ≤ np → (∀ i, i < lo → i < np → ra i < nI key) → (∀ i, hi ≤ i → i < np → nI key ≤ ra i) → e < N →
      wX_onRing_8 post x (nI key) (nI np) f_routes f_nodes f_durations f_requests f_heaped f_waiting f_now f_finished f_touched a_weight a_slots a_pace a_running a_broken a_down a_good a_bad a_shut a_till a_failures a_successes a_credit a_settings ra rs a_paths a_sets a_next a_servers a_homes a_homeSince a_latest a_sorted a_capacity a_refill a_bucket a_countedAt a_states a_clients a_path a_ranks a_keys a_works a_tried a_attempts a_server a_late a_came a_ends a_heap a_queue a_totals N (nI lo) (nI hi) := by
  intro e
  induction e with
  | zero =>
    intro lo hi N h1 h2 h3 h4 h5 hN
    obtain ⟨M, rfl⟩ : ∃ M, N = M + 1 := ⟨N - 1, by omega⟩
    have : hi = lo := by omega
    subst this
    have hnp : 0 < np := by
      obtain ⟨q1, _, ⟨j, q3, _⟩, _⟩ := B
      obtain ⟨i, hi, _, _⟩ := R.2.1 s j q1 q3
      omega
    refine br_t (Int32.le_refl _) ?_
    by_cases e : hi = np
    · refine br_t (by rw [e]) ⟨np + np + 1, ?_⟩
      exact zx_ring63 (low := hi) (st := 0) R hn hkey h4 h5 (Or.inr ⟨e, rfl⟩) B hpo (np + np) 0 (np + np + 1) hnp (by rw [if_pos (by omega)]; omega) (Or.inl ⟨by omega, fun i t _ h => by omega⟩) (by omega)
    · refine br_f (fun z => e ((nI_eq (by omega) (by omega)).mp z)) ⟨np + np + 1, ?_⟩
      exact zx_ring63 (low := hi) (st := hi) R hn hkey h4 h5 (Or.inl ⟨by omega, rfl⟩) B hpo (np + np) hi (np + np + 1) (by omega) (by rw [if_pos (by omega)]; omega) (Or.inl ⟨by omega, fun i t _ h => by omega⟩) (by omega)
  | succ e ih =>
    intro lo hi N h1 h2 h3 h4 h5 hN
    by_cases hlh : hi - lo ≤ e
    · exact ih lo hi N hlh h2 h3 h4 h5 (by omega)
    · obtain ⟨M, rfl⟩ : ∃ M, N = M + 1 := ⟨N - 1, by omega⟩
      have c : (nI ((lo + hi) / 2)).toNatClampNeg = (lo + hi) / 2 := nI_clamp (by omega)
      refine br_f (nI_ge (by omega) (by omega)) (nm_r (e' := nI ((lo + hi) / 2)) (by rw [nI_add, za_s1 (by omega)]) ⟨vp_in_nI (by omega) (by omega), ?_⟩)
      rw [c]
      refine br_c (fun z => ?_) (fun z => nm_r (nI_1 _) ?_)
      · refine ih lo ((lo + hi) / 2) M (by omega) (by omega) (by omega) h4 (fun i hi1 hi2 => ?_) (by omega)
        exact Int32.le_trans z (zr_le R hi1 hi2)
      · refine ih ((lo + hi) / 2 + 1) hi M (by omega) (by omega) (by omega) (fun i hi1 hi2 => ?_) h5 (by omega)
        exact Int32.lt_of_le_of_lt (zr_le R (by omega) (by omega)) (Int32.not_le.mp z)
theorem zx_onRing {np key s d : Nat} {ra rs : Nat → Int32} {D : Nat → Nat → Prop} {x : Int32} (R : zr_R np ra rs D) (hn : np ≤ 54)
    (hkey : key < 256) (B : zr_b D (za_tb x) key s d) {post : Int32 → Prop} (hpo : post (nI s)) :
    wpX_onRing post (nI np, f_routes, f_nodes, f_durations, f_requests, f_heaped, f_waiting, f_now, f_finished, f_touched, a_weight, a_slots, a_pace, a_running, a_broken, a_down, a_good, a_bad, a_shut, a_till, a_failures, a_successes, a_credit, a_settings, ra, rs, a_paths, a_sets, a_next, a_servers, a_homes, a_homeSince, a_latest, a_sorted, a_capacity, a_refill, a_bucket, a_countedAt, a_states, a_clients, a_path, a_ranks, a_keys, a_works, a_tried, a_attempts, a_server, a_late, a_came, a_ends, a_heap, a_queue, a_totals) x (nI key) := by
  refine ⟨np + 1, ?_⟩
  exact zx_ring8 R hn hkey B hpo np 0 np (np + 1) (by omega) (by omega) (by omega) (fun i h => by omega) (fun i h1 h2 => by omega) (by omega)
end
end
section
/-! Y's ring; who runs, who is ready, on both sides -/
section
variable {f_points f_routes f_nodes f_durations f_requests f_heaped f_waiting f_now f_finished f_touched g_time g_waiting : Int32}
variable {a_weight a_slots a_pace a_running a_broken a_down a_good a_bad a_shut a_till a_failures a_successes a_credit a_settings a_ringAt a_ringServer a_paths a_sets a_next a_servers a_homes a_homeSince a_latest a_sorted a_capacity a_refill a_bucket a_countedAt a_states a_clients a_path a_ranks a_keys a_works a_tried a_attempts a_server a_late a_came a_ends a_heap a_queue b_till b_sick b_well b_up b_tokens b_state b_ended b_ends b_queue b_sorted : Nat → Int32}
variable {a_totals b_total : Nat → Int64}
theorem zr_place2 {t j : Nat} (ht : t < 6) (hj : j < 9) :
    (((nI t * 37 + nI j * 101) + 17) * 59) - (((nI t * 37 + nI j * 101) + 17) * 59) / 256 * 256 = nI (zr_pl t j) := by
  have e1 : nI t * 37 = nI (t * 37) := pk_mul t 37
  have e2 : nI j * 101 = nI (j * 101) := pk_mul j 101
  have e3 : nI (t * 37 + j * 101) + 17 = nI (t * 37 + j * 101 + 17) := nI_add _ 17
  have e4 : nI (t * 37 + j * 101 + 17) * 59 = nI ((t * 37 + j * 101 + 17) * 59) := pk_mul _ 59
  rw [e1, e2, nI_add, e3, e4, za_r256 (by omega)]
  rfl
/-- a point of s lies at pt and s is ready -/
def zr_m (w : Nat → Int32) (x : Int32) (pt s : Nat) : Prop := ∃ q, q < (w s).toNatClampNeg ∧ za_tb x s = true ∧ zr_pl s q = pt
theorem zy_r31 {x x2 x3 : Int32} {pt s v : Nat} {J2 J21 : Int32 → Prop} {post : Int32 → Prop} (hs : s < 6) (hv : v ≤ 9) (ew : a_weight s = nI v) (hpt : pt < 256)
    (hp : (∃ q, q < v ∧ za_tb x s = true ∧ zr_pl s q = pt) → post (nI s)) :
    ∀ d j N, j + d = v → d < N → ((∀ q, j ≤ q → q < v → ¬ (za_tb x s = true ∧ zr_pl s q = pt)) → J21 (nI (s + 1))) →
      wY_ring_31 post J2 J21 x x2 x3 (nI pt) (nI s) g_time f_routes f_requests g_waiting a_weight a_slots a_pace b_till a_failures a_credit a_successes b_sick b_well a_broken b_up a_paths a_sets a_settings a_capacity a_refill b_tokens a_homes a_homeSince a_clients a_path a_keys a_works a_ranks b_state a_server a_attempts a_tried a_came b_ended b_ends a_late b_queue b_total a_latest b_sorted N (nI j) := by
  have ct : (nI s).toNatClampNeg = s := nI_clamp (by omega)
  have it : vp_in (nI s) 6 := vp_in_nI hs (by omega)
  intro d
  induction d with
  | zero =>
    intro j N hj hN hJ
    obtain ⟨M, rfl⟩ : ∃ M, N = M + 1 := ⟨N - 1, by omega⟩
    exact And.intro it (br_t (by rw [ct, ew]; exact nI_le (by omega) (by omega)) (nm_r (nI_1 s) (hJ (fun q h1 h2 => by omega))))
  | succ d ih =>
    intro j N hj hN hJ
    obtain ⟨M, rfl⟩ : ∃ M, N = M + 1 := ⟨N - 1, by omega⟩
    refine And.intro it (br_f (by rw [ct, ew]; exact nI_ge (by omega) (by omega)) ?_)
    have hlt := zr_pl_lt s j
    by_cases hb : za_tb x s = true
    · refine br_t (za_tb1.mpr hb) ⟨by decide, ?_⟩
      rw [zr_place2 hs (by omega)]
      by_cases he : zr_pl s j = pt
      · exact br_t (by rw [he]) (hp ⟨j, by omega, hb, he⟩)
      · refine br_f (fun z => he ((nI_eq (by omega) (by omega)).mp z)) (nm_r (nI_1 j) (ih (j + 1) M (by omega) (by omega) (fun h => hJ (fun q h1 h2 => ?_))))
        by_cases y : q = j
        · subst y; exact fun z => he z.2
        · exact h q (by omega) h2
    · exact br_f (fun z => hb (za_tb1.mp z)) (nm_r (nI_1 j) (ih (j + 1) M (by omega) (by omega) (fun _ => hJ (fun q _ _ z => hb z.1))))
theorem zy_r21 {x x2 x3 : Int32} {pt : Nat} {J2 : Int32 → Prop} {post : Int32 → Prop} (hw : zr_W a_weight) (hpt : pt < 256) :
    ∀ d s N, s + d = 6 → d < N → (∀ s', s ≤ s' → s' < 6 → zr_m a_weight x pt s' → (∀ t, s ≤ t → t < s' → ¬ zr_m a_weight x pt t) → post (nI s')) →
      ((∀ s', s ≤ s' → s' < 6 → ¬ zr_m a_weight x pt s') → J2 (x3 + 1)) → wY_ring_21 post J2 x x2 x3 (nI pt) g_time f_routes f_requests g_waiting a_weight a_slots a_pace b_till a_failures a_credit a_successes b_sick b_well a_broken b_up a_paths a_sets a_settings a_capacity a_refill b_tokens a_homes a_homeSince a_clients a_path a_keys a_works a_ranks b_state a_server a_attempts a_tried a_came b_ended b_ends a_late b_queue b_total a_latest b_sorted N (nI s) := by
  intro d
  induction d with
  | zero =>
    intro s N hs hN _ hJ
    obtain ⟨M, rfl⟩ : ∃ M, N = M + 1 := ⟨N - 1, by omega⟩
    exact br_t (nI_le (a := 6) (by omega) (by omega)) (nm_e (hJ (fun s' h1 h2 => by omega)))
  | succ d ih =>
    intro s N hs hN hp hJ
    obtain ⟨M, rfl⟩ : ∃ M, N = M + 1 := ⟨N - 1, by omega⟩
    obtain ⟨v, _, hv, ev⟩ := hw s (by omega)
    have cv : (a_weight s).toNatClampNeg = v := by rw [ev, nI_clamp (by omega)]
    refine br_f (nI_ge (b := 6) (by omega) (by decide)) ⟨v + 1, zy_r31 (by omega) hv ev hpt (fun h => ?_) v 0 (v + 1) (by omega) (by omega) (fun h => ?_)⟩
    · obtain ⟨q, h1, h2, h3⟩ := h
      exact hp s (by omega) (by omega) ⟨q, by rw [cv]; exact h1, h2, h3⟩ (fun t h1 h2 => by omega)
    · have hno : ¬ zr_m a_weight x pt s := by
        rintro ⟨q, h1, h2, h3⟩
        rw [cv] at h1
        exact h q (by omega) h1 ⟨h2, h3⟩
      refine ih (s + 1) M (by omega) (by omega) (fun s' h1 h2 h3 h4 => hp s' (by omega) h2 h3 (fun t ht1 ht2 => ?_)) (fun h2 => hJ (fun s' h3 h4 => ?_))
      · by_cases y : t = s
        · subst y; exact hno
        · exact h4 t (by omega) ht2
      · by_cases y : s' = s
        · subst y; exact hno
        · exact h2 s' (by omega) h4
theorem zy_r2 {x : Int32} {key s d : Nat} {post : Int32 → Prop} (hw : zr_W a_weight) (hkey : key < 256) (B : zr_b (zr_E a_weight) (za_tb x) key s d) (hpo : post (nI s)) :
    ∀ e k N, k + e = d → e < N → wY_ring_2 post x (nI key) g_time f_routes f_requests g_waiting a_weight a_slots a_pace b_till a_failures a_credit a_successes b_sick b_well a_broken b_up a_paths a_sets a_settings a_capacity a_refill b_tokens a_homes a_homeSince a_clients a_path a_keys a_works a_ranks b_state a_server a_attempts a_tried a_came b_ended b_ends a_late b_queue b_total a_latest b_sorted N (nI k) := by
  have hd : d < 256 := by
    obtain ⟨_, _, ⟨j, _, h⟩, _⟩ := B
    rw [← h]; exact Nat.mod_lt _ (by decide)
  have mt : ∀ s' k, s' < 6 → k < 256 → (zr_m a_weight x ((key + k) % 256) s' ↔ za_tb x s' = true ∧ ∃ q, zr_E a_weight s' q ∧ zr_d (zr_pl s' q) key = k) := by
    intro s' k _ hk
    constructor
    · rintro ⟨q, h1, h2, h3⟩
      exact ⟨h2, q, h1, (zr_hit (zr_pl_lt _ _) hkey hk).mp h3⟩
    · rintro ⟨h2, q, h1, h3⟩
      exact ⟨q, h1, h2, (zr_hit (zr_pl_lt _ _) hkey hk).mpr h3⟩
  obtain ⟨b1, b2, b3, b4⟩ := B
  intro e
  induction e with
  | zero =>
    intro k N hk hN
    obtain ⟨M, rfl⟩ : ∃ M, N = M + 1 := ⟨N - 1, by omega⟩
    have : k = d := by omega
    subst this
    refine br_f (nI_ge (b := 256) hd (by decide)) ⟨by decide, nm_r (e' := nI ((key + k) % 256)) (by rw [nI_add, za_r256 (by omega)]) ⟨7, ?_⟩⟩
    refine zy_r21 hw (Nat.mod_lt _ (by decide)) 6 0 7 (by omega) (by omega) (fun s' _ h2 h3 h4 => ?_) (fun h => ?_)
    · have m' := (mt s' k h2 hd).mp h3
      obtain ⟨m1, q, m2, m3⟩ := m'
      have := b4 s' q h2 m1 m2
      have hss : s ≤ s' := by omega
      by_cases y : s = s'
      · subst y; exact hpo
      · exact absurd ((mt s k b1 hd).mpr ⟨b2, b3⟩) (h4 s (by omega) (by omega))
    · exact absurd ((mt s k b1 hd).mpr ⟨b2, b3⟩) (h s (by omega) b1)
  | succ e ih =>
    intro k N hk hN
    obtain ⟨M, rfl⟩ : ∃ M, N = M + 1 := ⟨N - 1, by omega⟩
    have hno : ∀ s', s' < 6 → ¬ zr_m a_weight x ((key + k) % 256) s' := by
      intro s' h1 h2
      obtain ⟨m1, q, m2, m3⟩ := (mt s' k h1 (by omega)).mp h2
      have := b4 s' q h1 m1 m2
      omega
    refine br_f (nI_ge (b := 256) (by omega) (by decide)) ⟨by decide, nm_r (e' := nI ((key + k) % 256)) (by rw [nI_add, za_r256 (by omega)]) ⟨7, ?_⟩⟩
    refine zy_r21 hw (Nat.mod_lt _ (by decide)) 6 0 7 (by omega) (by omega) (fun s' _ h2 h3 _ => absurd h3 (hno s' h2)) (fun _ => ?_)
    rw [nI_1]
    exact ih (k + 1) M (by omega) (by omega)
theorem zy_ring {x : Int32} {key s d : Nat} {post : Int32 → Prop} (hw : zr_W a_weight) (hkey : key < 256) (B : zr_b (zr_E a_weight) (za_tb x) key s d) (hpo : post (nI s)) :
    wpY_ring post (g_time, f_routes, f_requests, g_waiting, a_weight, a_slots, a_pace, b_till, a_failures, a_credit, a_successes, b_sick, b_well, a_broken, b_up, a_paths, a_sets, a_settings, a_capacity, a_refill, b_tokens, a_homes, a_homeSince, a_clients, a_path, a_keys, a_works, a_ranks, b_state, a_server, a_attempts, a_tried, a_came, b_ended, b_ends, a_late, b_queue, b_total, a_latest, b_sorted) x (nI key) :=
  ⟨d + 1, zy_r2 hw hkey B hpo d 0 (d + 1) (by omega) (by omega)⟩
/-- how many of the slots run at s -/
def zj_run (st sv : Nat → Int32) (N s : Nat) : Nat := zc_c (fun q => decide (q < N) && (decide (st q = 1) && decide (sv q = nI s))) 32
theorem zy_run4 {n s : Nat} {post : Int32 → Prop} (hn : n < 2 ^ 31) (hpo : post (nI (zj_run b_state a_server n s))) :
    ∀ d q N, q + d = 32 → d < N → wY_running_4 post (nI s) g_time f_routes (nI n) g_waiting a_weight a_slots a_pace b_till a_failures a_credit a_successes b_sick b_well a_broken b_up a_paths a_sets a_settings a_capacity a_refill b_tokens a_homes a_homeSince a_clients a_path a_keys a_works a_ranks b_state a_server a_attempts a_tried a_came b_ended b_ends a_late b_queue b_total a_latest b_sorted N (nI (zc_c (fun q => decide (q < n) && (decide (b_state q = 1) && decide (a_server q = nI s))) q)) (nI q) := by
  intro d
  induction d with
  | zero =>
    intro q N hq hN
    obtain ⟨M, rfl⟩ : ∃ M, N = M + 1 := ⟨N - 1, by omega⟩
    have : q = 32 := by omega
    subst this
    exact br_t (Int32.le_refl _) hpo
  | succ d ih =>
    intro q N hq hN
    obtain ⟨M, rfl⟩ : ∃ M, N = M + 1 := ⟨N - 1, by omega⟩
    have hin : vp_in (nI q) 32 := vp_in_nI (by omega) (by omega)
    have c : (nI q).toNatClampNeg = q := nI_clamp (by omega)
    have ih := ih (q + 1) M (by omega) (by omega)
    rw [zc_c] at ih
    refine br_f (nI_ge (b := 32) (by omega) (by decide)) ?_
    by_cases h1 : q < n
    · refine br_f (nI_ge h1 hn) ⟨hin, ?_⟩
      rw [c]
      by_cases h2 : b_state q = 1
      · refine br_t h2 ⟨hin, ?_⟩
        by_cases h3 : a_server q = nI s
        · rw [if_pos (by simp [h1, h2, h3])] at ih
          exact br_t h3 (nm_r (nI_1 _) (nm_r (nI_1 q) ih))
        · rw [if_neg (by simp [h3])] at ih
          exact br_f h3 (nm_r (nI_1 q) ih)
      · rw [if_neg (by simp [h2])] at ih
        exact br_f h2 (nm_r (nI_1 q) ih)
    · rw [if_neg (by simp [h1])] at ih
      exact br_t (nI_le (by omega) (by omega)) (nm_r (nI_1 q) ih)
theorem zy_running {n s : Nat} {post : Int32 → Prop} (hn : n < 2 ^ 31) (hpo : post (nI (zj_run b_state a_server n s))) :
    wpY_running post (g_time, f_routes, nI n, g_waiting, a_weight, a_slots, a_pace, b_till, a_failures, a_credit, a_successes, b_sick, b_well, a_broken, b_up, a_paths, a_sets, a_settings, a_capacity, a_refill, b_tokens, a_homes, a_homeSince, a_clients, a_path, a_keys, a_works, a_ranks, b_state, a_server, a_attempts, a_tried, a_came, b_ended, b_ends, a_late, b_queue, b_total, a_latest, b_sorted) (nI s) :=
  ⟨33, zy_run4 hn hpo 32 0 33 (by omega) (by omega)⟩
/-- ready by all but the route -/
def zj_r0 (wt dn ru sl sh ti : Nat → Int32) (now tr : Int32) (s : Nat) : Bool :=
  !decide (wt s = 0) && (decide (dn s = 0) && (decide (ru s < sl s) && (!za_tb tr s && (decide (sh s = 0) || (decide (ti s ≤ now) && decide (ru s = 0))))))
def zj_rb (mm : Int32) (wt dn ru sl sh ti : Nat → Int32) (now tr : Int32) (s : Nat) : Bool :=
  decide (0 ≤ mm) && (za_tb mm s && zj_r0 wt dn ru sl sh ti now tr s)
theorem zx_isReady {s : Nat} {tr : Int32} {post : Int32 → Prop} (hs : s < 6)
    (hp : post (if zj_r0 a_weight a_down a_running a_slots a_shut a_till f_now tr s = true then 1 else 0)) : wpX_isReady post (f_points, f_routes, f_nodes, f_durations, f_requests, f_heaped, f_waiting, f_now, f_finished, f_touched, a_weight, a_slots, a_pace, a_running, a_broken, a_down, a_good, a_bad, a_shut, a_till, a_failures, a_successes, a_credit, a_settings, a_ringAt, a_ringServer, a_paths, a_sets, a_next, a_servers, a_homes, a_homeSince, a_latest, a_sorted, a_capacity, a_refill, a_bucket, a_countedAt, a_states, a_clients, a_path, a_ranks, a_keys, a_works, a_tried, a_attempts, a_server, a_late, a_came, a_ends, a_heap, a_queue, a_totals) (nI s) tr := by
  have hin : vp_in (nI s) 6 := vp_in_nI (by omega) (by omega)
  have c : (nI s).toNatClampNeg = s := nI_clamp (by omega)
  unfold zj_r0 at hp
  refine And.intro hin ?_
  rw [c]
  by_cases h1 : a_weight s = 0
  · exact br_t h1 (by simpa [h1] using hp)
  refine br_f h1 ⟨hin, ?_⟩
  by_cases h2 : a_down s = 0
  rotate_left
  · exact br_f h2 (by simpa [h2] using hp)
  refine br_t h2 ⟨hin, hin, ?_⟩
  by_cases h3 : a_slots s ≤ a_running s
  · refine br_t h3 ?_
    have h3' : ¬ a_running s < a_slots s := Int32.not_lt.mpr h3
    rw [decide_eq_false h3'] at hp
    simpa using hp
  have h3' : a_running s < a_slots s := Int32.not_le.mp h3
  refine br_f h3 ?_
  by_cases h4 : za_tb tr s = true
  · exact br_f (fun z => by rw [za_tb0.mp z] at h4; cases h4) (by simpa [h4] using hp)
  have h4 : za_tb tr s = false := by simpa using h4
  refine br_t (za_tb0.mpr h4) ⟨hin, ?_⟩
  rw [decide_eq_false h1, decide_eq_true h2, decide_eq_true h3', h4] at hp
  by_cases h5 : a_shut s = 0
  · exact br_t h5 (by simpa [h5] using hp)
  refine br_f h5 ⟨hin, ?_⟩
  rw [decide_eq_false h5] at hp
  by_cases h6 : f_now < a_till s
  · refine br_t h6 ?_
    rw [decide_eq_false (Int32.not_le.mpr h6)] at hp
    simpa using hp
  refine br_f h6 ⟨hin, ?_⟩
  rw [decide_eq_true (Int32.not_lt.mp h6)] at hp
  by_cases h7 : a_running s = 0
  · exact br_t h7 (by simpa [h7] using hp)
  · exact br_f h7 (by simpa [h7] using hp)
/-- the breaker and the check on both sides -/
def zj_bk (sh ti tj : Nat → Int32) : Prop := ∀ s, s < 6 → (sh s = 0 ∧ tj s = -1) ∨ (sh s = 1 ∧ tj s = ti s ∧ ∃ t, t < 2 ^ 30 ∧ ti s = nI t)
def zj_ud (dn up : Nat → Int32) : Prop := ∀ s, s < 6 → (dn s = 0 ∧ up s = 1) ∨ (dn s = 1 ∧ up s = 0)
def zj_ru (ru st sv : Nat → Int32) (n : Nat) : Prop := ∀ s, s < 6 → ru s = nI (zj_run st sv n s)
theorem zy_isReady {s q n p rn : Nat} {post : Int32 → Prop} (hs : s < 6) (hq : q < 32) (hn : n < 2 ^ 31) (P : zt_P rn a_paths a_sets) (hp4 : p < 4096) (ep : a_path q = nI p)
    (hbk : zj_bk a_shut a_till b_till) (hud : zj_ud a_down b_up) (hru : zj_ru a_running b_state a_server n)
    (hp : post (if zj_rb (zt_so a_paths a_sets rn 4 p) a_weight a_down a_running a_slots a_shut a_till g_time (a_tried q) s = true then 1 else 0)) :
    wpY_isReady post (g_time, nI rn, nI n, g_waiting, a_weight, a_slots, a_pace, b_till, a_failures, a_credit, a_successes, b_sick, b_well, a_broken, b_up, a_paths, a_sets, a_settings, a_capacity, a_refill, b_tokens, a_homes, a_homeSince, a_clients, a_path, a_keys, a_works, a_ranks, b_state, a_server, a_attempts, a_tried, a_came, b_ended, b_ends, a_late, b_queue, b_total, a_latest, b_sorted) (nI s) (nI q) := by
  have hin : vp_in (nI s) 6 := vp_in_nI (by omega) (by omega)
  have c : (nI s).toNatClampNeg = s := nI_clamp (by omega)
  have hiq : vp_in (nI q) 32 := vp_in_nI (by omega) (by omega)
  have cq : (nI q).toNatClampNeg = q := nI_clamp (by omega)
  refine And.intro hiq ?_
  rw [cq, ep]
  refine zy_so P hp4 (zy_running hn ?_)
  rw [← hru s hs]
  unfold zj_rb zj_r0 at hp
  generalize zt_so a_paths a_sets rn 4 p = mm at *
  rw [c]
  by_cases h0 : mm < 0
  · refine br_t h0 ?_
    rw [decide_eq_false (Int32.not_le.mpr h0)] at hp
    simpa using hp
  refine br_f h0 ?_
  rw [decide_eq_true (Int32.not_lt.mp h0)] at hp
  by_cases hm : za_tb mm s = true
  rotate_left
  · exact br_t (za_tb0.mpr (by simpa using hm)) (by simpa [hm] using hp)
  refine br_f (fun z => by rw [za_tb0.mp z] at hm; cases hm) ⟨hin, ?_⟩
  rw [hm] at hp
  by_cases h1 : a_weight s = 0
  · exact br_t h1 (by simpa [h1] using hp)
  refine br_f h1 ⟨hin, ?_⟩
  rw [decide_eq_false h1] at hp
  rcases hud s hs with ⟨d1, d2⟩ | ⟨d1, d2⟩
  rotate_left
  · refine br_t d2 ?_
    rw [d1, decide_eq_false (show ¬ (1 : Int32) = 0 by decide)] at hp
    simpa using hp
  refine br_f (by rw [d2]; decide) ⟨hin, ?_⟩
  rw [decide_eq_true d1] at hp
  by_cases h3 : a_slots s ≤ a_running s
  · refine br_t h3 ?_
    have h3' : ¬ a_running s < a_slots s := Int32.not_lt.mpr h3
    rw [decide_eq_false h3'] at hp
    simpa using hp
  have h3' : a_running s < a_slots s := Int32.not_le.mp h3
  refine br_f h3 ⟨hiq, ?_⟩
  rw [decide_eq_true h3'] at hp
  by_cases h4 : za_tb (a_tried q) s = true
  · exact br_t (za_tb1.mpr h4) (by simpa [h4] using hp)
  refine br_f (fun z => h4 (za_tb1.mp z)) ⟨hin, ?_⟩
  have h4 : za_tb (a_tried q) s = false := by simpa using h4
  rw [h4] at hp
  rcases hbk s hs with ⟨e1, e2⟩ | ⟨e1, e2, t, ht, e3⟩
  · refine br_t (by rw [e2]; decide) ?_
    rw [decide_eq_true e1] at hp
    simpa using hp
  refine br_f (by rw [e2, e3]; exact nI_pos (by omega)) ⟨hin, ?_⟩
  rw [e2]
  rw [e1, decide_eq_false (show ¬ (1 : Int32) = 0 by decide)] at hp
  by_cases h6 : g_time < a_till s
  · refine br_t h6 ?_
    rw [decide_eq_false (Int32.not_le.mpr h6)] at hp
    simpa using hp
  refine br_f h6 ?_
  rw [decide_eq_true (Int32.not_lt.mp h6)] at hp
  by_cases h7 : a_running s = 0
  · exact br_t h7 (by simpa [h7] using hp)
  · exact br_f h7 (by simpa [h7] using hp)
/-- the ready set -/
theorem zx_rf16 {q : Nat} {mm : Int32} {post : Int32 → Prop} (hq : q < 32) (hm : mm = -1 ∨ ∃ k, k < 64 ∧ mm = nI k)
    (hp : post (nI (za_set (zj_rb mm a_weight a_down a_running a_slots a_shut a_till f_now (a_tried q)) 6))) :
    ∀ d s N, s + d = 6 → d < N → wX_readyFor_16 post (nI q) mm f_points f_routes f_nodes f_durations f_requests f_heaped f_waiting f_now f_finished f_touched a_weight a_slots a_pace a_running a_broken a_down a_good a_bad a_shut a_till a_failures a_successes a_credit a_settings a_ringAt a_ringServer a_paths a_sets a_next a_servers a_homes a_homeSince a_latest a_sorted a_capacity a_refill a_bucket a_countedAt a_states a_clients a_path a_ranks a_keys a_works a_tried a_attempts a_server a_late a_came a_ends a_heap a_queue a_totals N (nI (za_set (zj_rb mm a_weight a_down a_running a_slots a_shut a_till f_now (a_tried q)) s)) (nI s) := by
  have hiq : vp_in (nI q) 32 := vp_in_nI (by omega) (by omega)
  have cq : (nI q).toNatClampNeg = q := nI_clamp (by omega)
  intro d
  induction d with
  | zero =>
    intro s N hs hN
    obtain ⟨M, rfl⟩ : ∃ M, N = M + 1 := ⟨N - 1, by omega⟩
    have : s = 6 := by omega
    subst this
    exact br_t (Int32.le_refl _) hp
  | succ d ih =>
    intro s N hs hN
    obtain ⟨M, rfl⟩ : ∃ M, N = M + 1 := ⟨N - 1, by omega⟩
    have ih := ih (s + 1) M (by omega) (by omega)
    have hlt : za_set (zj_rb mm a_weight a_down a_running a_slots a_shut a_till f_now (a_tried q)) s < 64 :=
      Nat.lt_of_lt_of_le (za_set_lt _ s) (Nat.pow_le_pow_right (n := 2) (by decide) (show s ≤ 6 by omega))
    refine br_f (nI_ge (b := 6) (by omega) (by decide)) ?_
    by_cases h0 : mm ≤ 0
    · refine br_t h0 ?_
      have hz : ∀ t, t < 6 → zj_rb mm a_weight a_down a_running a_slots a_shut a_till f_now (a_tried q) t = false := by
        intro t ht
        unfold zj_rb
        rcases hm with rfl | ⟨k, hk, rfl⟩
        · rw [decide_eq_false za_m1le]; rfl
        · have : k = 0 := by
            rcases Nat.eq_zero_or_pos k with z | z
            · exact z
            · exact absurd h0 (nI_nle z (by omega))
          subst this
          rw [za_tbN (by omega) (by omega), Nat.zero_testBit]; simp
      rw [za_set_0.mpr (fun t ht => hz t (by omega))]
      rw [za_set_0.mpr hz] at hp
      exact hp
    · refine br_f h0 ?_
      have h0' : (0 : Int32) ≤ mm := Int32.le_of_lt (Int32.not_le.mp h0)
      rw [za_set] at ih
      by_cases hb : za_tb mm s = true
      · refine br_f (fun z => by rw [za_tb0.mp z] at hb; cases hb) ⟨hiq, zx_isReady (by omega) ?_⟩
        rw [cq]
        by_cases hr : zj_r0 a_weight a_down a_running a_slots a_shut a_till f_now (a_tried q) s = true
        · rw [if_pos hr]
          rw [if_pos (by unfold zj_rb; rw [decide_eq_true h0', hb, hr]; rfl)] at ih
          exact br_f (by decide) (nm_r (za_or _ hlt s (by omega)) (nm_r (nI_1 s) ih))
        · rw [if_neg hr]
          rw [if_neg (by unfold zj_rb; simp [hr])] at ih
          exact br_t rfl (nm_r (nI_1 s) ih)
      · rw [if_neg (by unfold zj_rb; simp [hb])] at ih
        exact br_t (za_tb0.mpr (by simpa using hb)) (nm_r (nI_1 s) ih)
theorem zx_readyFor {q p rn nd : Nat} {pre : Nat → Nat} {post : Int32 → Prop} (hq : q < 32) (P : zt_P rn a_paths a_sets) (T : zt_T nd a_next a_servers a_paths a_sets rn pre) (hnd : nd ≤ 49)
    (hok : zt_ok p) (ep : a_path q = nI p)
    (hp : post (nI (za_set (zj_rb (zt_so a_paths a_sets rn 4 p) a_weight a_down a_running a_slots a_shut a_till f_now (a_tried q)) 6))) :
    wpX_readyFor post (f_points, f_routes, f_nodes, f_durations, f_requests, f_heaped, f_waiting, f_now, f_finished, f_touched, a_weight, a_slots, a_pace, a_running, a_broken, a_down, a_good, a_bad, a_shut, a_till, a_failures, a_successes, a_credit, a_settings, a_ringAt, a_ringServer, a_paths, a_sets, a_next, a_servers, a_homes, a_homeSince, a_latest, a_sorted, a_capacity, a_refill, a_bucket, a_countedAt, a_states, a_clients, a_path, a_ranks, a_keys, a_works, a_tried, a_attempts, a_server, a_late, a_came, a_ends, a_heap, a_queue, a_totals) (nI q) := by
  have hiq : vp_in (nI q) 32 := vp_in_nI (by omega) (by omega)
  have cq : (nI q).toNatClampNeg = q := nI_clamp (by omega)
  refine And.intro hiq ?_
  rw [cq, ep]
  refine zx_routed P T hnd hok ⟨7, ?_⟩
  exact zx_rf16 hq (zt_so_rg P 4 p) hp 6 0 7 (by omega) (by omega)
theorem zy_ch4 {q n p rn : Nat} {post : Int32 → SY → Prop} (hq : q < 32) (hn : n < 2 ^ 31) (P : zt_P rn a_paths a_sets) (hp4 : p < 4096) (ep : a_path q = nI p)
    (hbk : zj_bk a_shut a_till b_till) (hud : zj_ud a_down b_up) (hru : zj_ru a_running b_state a_server n)
    (hp : ∀ M, wY_choose_4 post (nI q) g_time (nI rn) (nI n) g_waiting a_weight a_slots a_pace b_till a_failures a_credit a_successes b_sick b_well a_broken b_up a_paths a_sets a_settings a_capacity a_refill b_tokens a_homes a_homeSince a_clients a_path a_keys a_works a_ranks b_state a_server a_attempts a_tried a_came b_ended b_ends a_late b_queue b_total a_latest b_sorted (M + 1) (nI (za_set (zj_rb (zt_so a_paths a_sets rn 4 p) a_weight a_down a_running a_slots a_shut a_till g_time (a_tried q)) 6)) 6) :
    ∀ d s N, s + d = 6 → d < N → wY_choose_4 post (nI q) g_time (nI rn) (nI n) g_waiting a_weight a_slots a_pace b_till a_failures a_credit a_successes b_sick b_well a_broken b_up a_paths a_sets a_settings a_capacity a_refill b_tokens a_homes a_homeSince a_clients a_path a_keys a_works a_ranks b_state a_server a_attempts a_tried a_came b_ended b_ends a_late b_queue b_total a_latest b_sorted N (nI (za_set (zj_rb (zt_so a_paths a_sets rn 4 p) a_weight a_down a_running a_slots a_shut a_till g_time (a_tried q)) s)) (nI s) := by
  intro d
  induction d with
  | zero =>
    intro s N hs hN
    obtain ⟨M, rfl⟩ : ∃ M, N = M + 1 := ⟨N - 1, by omega⟩
    have : s = 6 := by omega
    subst this
    exact hp M
  | succ d ih =>
    intro s N hs hN
    obtain ⟨M, rfl⟩ : ∃ M, N = M + 1 := ⟨N - 1, by omega⟩
    have ih := ih (s + 1) M (by omega) (by omega)
    have hlt : za_set (zj_rb (zt_so a_paths a_sets rn 4 p) a_weight a_down a_running a_slots a_shut a_till g_time (a_tried q)) s < 64 :=
      Nat.lt_of_lt_of_le (za_set_lt _ s) (Nat.pow_le_pow_right (n := 2) (by decide) (show s ≤ 6 by omega))
    rw [za_set] at ih
    refine br_f (nI_ge (b := 6) (by omega) (by decide)) (zy_isReady (by omega) hq hn P hp4 ep hbk hud hru ?_)
    by_cases hr : zj_rb (zt_so a_paths a_sets rn 4 p) a_weight a_down a_running a_slots a_shut a_till g_time (a_tried q) s = true
    · rw [if_pos hr]
      rw [if_pos hr] at ih
      exact br_f (by decide) (nm_r (za_or _ hlt s (by omega)) (nm_r (nI_1 s) ih))
    · rw [if_neg hr]
      rw [if_neg hr] at ih
      exact br_t rfl (nm_r (nI_1 s) ih)
end
end
section
/-! choosing, in lockstep -/
section
variable {f_points f_routes f_nodes f_durations f_requests f_heaped f_waiting f_now f_finished f_touched g_time g_waiting : Int32}
variable {a_weight a_slots a_pace a_running a_broken a_down a_good a_bad a_shut a_till a_failures a_successes a_credit a_settings a_ringAt a_ringServer a_paths a_sets a_next a_servers a_homes a_homeSince a_latest a_sorted a_capacity a_refill a_bucket a_countedAt a_states a_clients a_path a_ranks a_keys a_works a_tried a_attempts a_server a_late a_came a_ends a_heap a_queue b_till b_sick b_well b_up b_tokens b_state b_ended b_ends b_queue b_sorted : Nat → Int32}
variable {a_totals b_total : Nat → Int64}
/-- the best so far -/
def zj_bs (m s : Nat) (best : Int32) : Prop :=
  (best = -1 ∧ ∃ t, s ≤ t ∧ t < 6 ∧ m.testBit t = true) ∨ ∃ b, b < 6 ∧ best = nI b ∧ m.testBit b = true
theorem zj_ch0 {m : Nat} {wt se : Nat → Int32} (hm : m < 64) (h0 : se 0 = 0) :
    ∀ (d s : Nat) (best sum : Int32) (cr : Nat → Int32), s + d = 6 → zj_bs m s best →
    ∃ (b : Nat) (cr' : Nat → Int32), b < 6 ∧ m.testBit b = true ∧
    (∀ {f_points f_routes f_nodes f_durations f_requests f_heaped f_waiting f_now f_finished f_touched : Int32} {a_slots a_pace a_running a_broken a_down a_good a_bad a_shut a_till a_failures a_successes a_ringAt a_ringServer a_paths a_sets a_next a_servers a_homes a_homeSince a_latest a_sorted a_capacity a_refill a_bucket a_countedAt a_states a_clients a_path a_ranks a_keys a_works a_tried a_attempts a_server a_late a_came a_ends a_heap a_queue : Nat → Int32} {a_totals : Nat → Int64} (post : Int32 → SX → Prop) (N : Nat), d < N → post (nI b) (f_points, f_routes, f_nodes, f_durations, f_requests, f_heaped, f_waiting, f_now, f_finished, f_touched, wt, a_slots, a_pace, a_running, a_broken, a_down, a_good, a_bad, a_shut, a_till, a_failures, a_successes, cr', se, a_ringAt, a_ringServer, a_paths, a_sets, a_next, a_servers, a_homes, a_homeSince, a_latest, a_sorted, a_capacity, a_refill, a_bucket, a_countedAt, a_states, a_clients, a_path, a_ranks, a_keys, a_works, a_tried, a_attempts, a_server, a_late, a_came, a_ends, a_heap, a_queue, a_totals) →
      wX_choose_25 post (nI m) f_points f_routes f_nodes f_durations f_requests f_heaped f_waiting f_now f_finished f_touched N best sum (nI s) wt a_slots a_pace a_running a_broken a_down a_good a_bad a_shut a_till a_failures a_successes cr se a_ringAt a_ringServer a_paths a_sets a_next a_servers a_homes a_homeSince a_latest a_sorted a_capacity a_refill a_bucket a_countedAt a_states a_clients a_path a_ranks a_keys a_works a_tried a_attempts a_server a_late a_came a_ends a_heap a_queue a_totals) ∧
    (∀ {g_time f_routes f_requests g_waiting : Int32} {a_slots a_pace b_till a_failures a_successes b_sick b_well a_broken b_up a_paths a_sets a_settings a_capacity a_refill b_tokens a_homes a_homeSince a_clients a_path a_keys a_works a_ranks b_state a_server a_attempts a_tried a_came b_ended b_ends a_late b_queue a_latest b_sorted : Nat → Int32} {b_total : Nat → Int64} (post : Int32 → SY → Prop) (N : Nat), d < N → post (nI b) (g_time, f_routes, f_requests, g_waiting, wt, a_slots, a_pace, b_till, a_failures, cr', a_successes, b_sick, b_well, a_broken, b_up, a_paths, a_sets, a_settings, a_capacity, a_refill, b_tokens, a_homes, a_homeSince, a_clients, a_path, a_keys, a_works, a_ranks, b_state, a_server, a_attempts, a_tried, a_came, b_ended, b_ends, a_late, b_queue, b_total, a_latest, b_sorted) →
      wY_turns_7 post (nI m) g_time f_routes f_requests g_waiting N sum best (nI s) wt a_slots a_pace b_till a_failures cr a_successes b_sick b_well a_broken b_up a_paths a_sets a_settings a_capacity a_refill b_tokens a_homes a_homeSince a_clients a_path a_keys a_works a_ranks b_state a_server a_attempts a_tried a_came b_ended b_ends a_late b_queue b_total a_latest b_sorted) := by
  intro d
  induction d with
  | zero =>
    intro s best sum cr hs hb
    have : s = 6 := by omega
    subst this
    rcases hb with ⟨_, t, h1, h2, _⟩ | ⟨b, hb6, rfl, hbt⟩
    · omega
    have hin : vp_in (nI b) 6 := vp_in_nI (by omega) (by omega)
    have c : (nI b).toNatClampNeg = b := nI_clamp (by omega)
    refine ⟨b, upd cr b (cr b - sum), hb6, hbt, ?_, ?_⟩
    · intros
      rename_i post N hN hp
      obtain ⟨M, rfl⟩ : ∃ M, N = M + 1 := ⟨N - 1, by omega⟩
      exact br_t (Int32.le_refl _) (br_t h0 ⟨hin, hin, nm_r (e' := upd cr b (cr b - sum)) (by rw [c]) hp⟩)
    · intros
      rename_i post N hN hp
      obtain ⟨M, rfl⟩ : ∃ M, N = M + 1 := ⟨N - 1, by omega⟩
      exact br_t (Int32.le_refl _) ⟨hin, hin, nm_r (e' := upd cr b (cr b - sum)) (by rw [c]) hp⟩
  | succ d ih =>
    intro s best sum cr hs hb
    have h6 : ¬ (6 : Int32) ≤ nI s := nI_ge (b := 6) (by omega) (by decide)
    have hin : vp_in (nI s) 6 := vp_in_nI (by omega) (by omega)
    have c : (nI s).toNatClampNeg = s := nI_clamp (by omega)
    have tb : za_tb (nI m) s = m.testBit s := za_tbN (by omega) (by omega)
    by_cases ht : m.testBit s = true
    · have hbit : ¬ ((nI m >>> (nI s &&& 31)) &&& 1) = 0 := fun z => by rw [za_tb0, tb, ht] at z; cases z
      have key : ∃ best', zj_bs m (s + 1) best' ∧
          ((best < 0 ∧ best' = nI s) ∨ (¬ best < 0 ∧ vp_in best 6 ∧
            ((upd cr s (cr s + wt s) s ≤ upd cr s (cr s + wt s) best.toNatClampNeg ∧ best' = best) ∨ (¬ upd cr s (cr s + wt s) s ≤ upd cr s (cr s + wt s) best.toNatClampNeg ∧ best' = nI s)))) := by
        rcases hb with ⟨rfl, _⟩ | ⟨b, hb6, rfl, hbt⟩
        · exact ⟨nI s, Or.inr ⟨s, by omega, rfl, ht⟩, Or.inl ⟨by decide, rfl⟩⟩
        · by_cases h : upd cr s (cr s + wt s) s ≤ upd cr s (cr s + wt s) (nI b).toNatClampNeg
          · exact ⟨nI b, Or.inr ⟨b, hb6, rfl, hbt⟩, Or.inr ⟨nI_pos (by omega), vp_in_nI hb6 (by omega), Or.inl ⟨h, rfl⟩⟩⟩
          · exact ⟨nI s, Or.inr ⟨s, by omega, rfl, ht⟩, Or.inr ⟨nI_pos (by omega), vp_in_nI hb6 (by omega), Or.inr ⟨h, rfl⟩⟩⟩
      obtain ⟨best', hb', hk⟩ := key
      obtain ⟨b, cr', q1, q2, HX, HY⟩ := ih (s + 1) best' (sum + wt s) (upd cr s (cr s + wt s)) (by omega) hb'
      refine ⟨b, cr', q1, q2, ?_, ?_⟩
      · intros
        rename_i post N hN hp
        obtain ⟨M, rfl⟩ : ∃ M, N = M + 1 := ⟨N - 1, by omega⟩
        refine br_f h6 (br_f hbit ⟨hin, nm_r (e' := sum + wt s) (by rw [c]) (br_t h0 ⟨hin, hin, hin, nm_r (e' := upd cr s (cr s + wt s)) (by rw [c]) ?_⟩)⟩)
        have H := HX post M (by omega) hp
        rcases hk with ⟨k1, rfl⟩ | ⟨k1, k2, ⟨k3, rfl⟩ | ⟨k3, rfl⟩⟩
        · exact br_t k1 (nm_r (nI_1 s) H)
        · exact br_f k1 (br_t h0 ⟨hin, k2, br_t (by rw [c]; exact k3) (nm_r (nI_1 s) H)⟩)
        · exact br_f k1 (br_t h0 ⟨hin, k2, br_f (by rw [c]; exact k3) (nm_r (nI_1 s) H)⟩)
      · intros
        rename_i post N hN hp
        obtain ⟨M, rfl⟩ : ∃ M, N = M + 1 := ⟨N - 1, by omega⟩
        refine br_f h6 (br_f hbit ⟨hin, hin, hin, nm_r (e' := upd cr s (cr s + wt s)) (by rw [c]) ⟨hin, nm_r (e' := sum + wt s) (by rw [c]) ?_⟩⟩)
        have H := HY post M (by omega) hp
        rcases hk with ⟨k1, rfl⟩ | ⟨k1, k2, ⟨k3, rfl⟩ | ⟨k3, rfl⟩⟩
        · exact br_t k1 (nm_r (nI_1 s) H)
        · exact br_f k1 ⟨hin, k2, br_t (by rw [c]; exact k3) (nm_r (nI_1 s) H)⟩
        · exact br_f k1 ⟨hin, k2, br_f (by rw [c]; exact k3) (nm_r (nI_1 s) H)⟩
    · have hbit : ((nI m >>> (nI s &&& 31)) &&& 1) = 0 := by rw [za_tb0, tb]; simpa using ht
      obtain ⟨b, cr', q1, q2, HX, HY⟩ := ih (s + 1) best sum cr (by omega) (by
        rcases hb with ⟨e, t, h1, h2, h3⟩ | z
        · refine Or.inl ⟨e, t, ?_, h2, h3⟩
          by_cases y : t = s
          · subst y; exact absurd h3 ht
          · omega
        · exact Or.inr z)
      refine ⟨b, cr', q1, q2, ?_, ?_⟩
      · intros
        rename_i post N hN hp
        obtain ⟨M, rfl⟩ : ∃ M, N = M + 1 := ⟨N - 1, by omega⟩
        exact br_f h6 (br_t hbit (nm_r (nI_1 s) (HX post M (by omega) hp)))
      · intros
        rename_i post N hN hp
        obtain ⟨M, rfl⟩ : ∃ M, N = M + 1 := ⟨N - 1, by omega⟩
        exact br_f h6 (br_t hbit (nm_r (nI_1 s) (HY post M (by omega) hp)))
theorem zj_ch1 {m n : Nat} {wt se ru st sv : Nat → Int32} (hm : m < 64) (h0 : ¬ se 0 = 0) (hn : n < 2 ^ 31) (hru : zj_ru ru st sv n) :
    ∀ (d s : Nat) (best : Int32), s + d = 6 → zj_bs m s best →
    ∃ (b : Nat), b < 6 ∧ m.testBit b = true ∧
    (∀ {f_points f_routes f_nodes f_durations f_requests f_heaped f_waiting f_now f_finished f_touched : Int32} {a_slots a_pace a_broken a_down a_good a_bad a_shut a_till a_failures a_successes a_credit a_ringAt a_ringServer a_paths a_sets a_next a_servers a_homes a_homeSince a_latest a_sorted a_capacity a_refill a_bucket a_countedAt a_states a_clients a_path a_ranks a_keys a_works a_tried a_attempts a_server a_late a_came a_ends a_heap a_queue : Nat → Int32} {a_totals : Nat → Int64} (post : Int32 → SX → Prop) (N : Nat) (sum : Int32), d < N → post (nI b) (f_points, f_routes, f_nodes, f_durations, f_requests, f_heaped, f_waiting, f_now, f_finished, f_touched, wt, a_slots, a_pace, ru, a_broken, a_down, a_good, a_bad, a_shut, a_till, a_failures, a_successes, a_credit, se, a_ringAt, a_ringServer, a_paths, a_sets, a_next, a_servers, a_homes, a_homeSince, a_latest, a_sorted, a_capacity, a_refill, a_bucket, a_countedAt, a_states, a_clients, a_path, a_ranks, a_keys, a_works, a_tried, a_attempts, a_server, a_late, a_came, a_ends, a_heap, a_queue, a_totals) →
      wX_choose_25 post (nI m) f_points f_routes f_nodes f_durations f_requests f_heaped f_waiting f_now f_finished f_touched N best sum (nI s) wt a_slots a_pace ru a_broken a_down a_good a_bad a_shut a_till a_failures a_successes a_credit se a_ringAt a_ringServer a_paths a_sets a_next a_servers a_homes a_homeSince a_latest a_sorted a_capacity a_refill a_bucket a_countedAt a_states a_clients a_path a_ranks a_keys a_works a_tried a_attempts a_server a_late a_came a_ends a_heap a_queue a_totals) ∧
    (∀ {g_time f_routes g_waiting : Int32} {a_slots a_pace b_till a_failures a_credit a_successes b_sick b_well a_broken b_up a_paths a_sets a_settings a_capacity a_refill b_tokens a_homes a_homeSince a_clients a_path a_keys a_works a_ranks a_attempts a_tried a_came b_ended b_ends a_late b_queue a_latest b_sorted : Nat → Int32} {b_total : Nat → Int64} (post : Int32 → Prop) (N : Nat), d < N → post (nI b) →
      wY_least_4 post (nI m) g_time f_routes (nI n) g_waiting wt a_slots a_pace b_till a_failures a_credit a_successes b_sick b_well a_broken b_up a_paths a_sets a_settings a_capacity a_refill b_tokens a_homes a_homeSince a_clients a_path a_keys a_works a_ranks st sv a_attempts a_tried a_came b_ended b_ends a_late b_queue b_total a_latest b_sorted N best (nI s)) := by
  intro d
  induction d with
  | zero =>
    intro s best hs hb
    have : s = 6 := by omega
    subst this
    rcases hb with ⟨_, t, h1, h2, _⟩ | ⟨b, hb6, rfl, hbt⟩
    · omega
    refine ⟨b, hb6, hbt, ?_, ?_⟩
    · intros
      rename_i post N sum hN hp
      obtain ⟨M, rfl⟩ : ∃ M, N = M + 1 := ⟨N - 1, by omega⟩
      exact br_t (Int32.le_refl _) (br_f h0 hp)
    · intros
      rename_i post N hN hp
      obtain ⟨M, rfl⟩ : ∃ M, N = M + 1 := ⟨N - 1, by omega⟩
      exact br_t (Int32.le_refl _) hp
  | succ d ih =>
    intro s best hs hb
    have h6 : ¬ (6 : Int32) ≤ nI s := nI_ge (b := 6) (by omega) (by decide)
    have hin : vp_in (nI s) 6 := vp_in_nI (by omega) (by omega)
    have c : (nI s).toNatClampNeg = s := nI_clamp (by omega)
    have tb : za_tb (nI m) s = m.testBit s := za_tbN (by omega) (by omega)
    by_cases ht : m.testBit s = true
    · have hbit : ¬ ((nI m >>> (nI s &&& 31)) &&& 1) = 0 := fun z => by rw [za_tb0, tb, ht] at z; cases z
      have key : ∃ best', zj_bs m (s + 1) best' ∧
          ((best < 0 ∧ best' = nI s) ∨ (∃ b, b < 6 ∧ best = nI b ∧
            ((ru b * wt s ≤ ru s * wt b ∧ best' = best) ∨ (¬ ru b * wt s ≤ ru s * wt b ∧ best' = nI s)))) := by
        rcases hb with ⟨rfl, _⟩ | ⟨b, hb6, rfl, hbt⟩
        · exact ⟨nI s, Or.inr ⟨s, by omega, rfl, ht⟩, Or.inl ⟨by decide, rfl⟩⟩
        · by_cases h : ru b * wt s ≤ ru s * wt b
          · exact ⟨nI b, Or.inr ⟨b, hb6, rfl, hbt⟩, Or.inr ⟨b, hb6, rfl, Or.inl ⟨h, rfl⟩⟩⟩
          · exact ⟨nI s, Or.inr ⟨s, by omega, rfl, ht⟩, Or.inr ⟨b, hb6, rfl, Or.inr ⟨h, rfl⟩⟩⟩
      obtain ⟨best', hb', hk⟩ := key
      obtain ⟨b', q1, q2, HX, HY⟩ := ih (s + 1) best' (by omega) hb'
      refine ⟨b', q1, q2, ?_, ?_⟩
      · intros
        rename_i post N sum hN hp
        obtain ⟨M, rfl⟩ : ∃ M, N = M + 1 := ⟨N - 1, by omega⟩
        refine br_f h6 (br_f hbit ⟨hin, nm_e (br_f h0 ?_)⟩)
        have H := HX post M (sum + wt (nI s).toNatClampNeg) (by omega) hp
        rcases hk with ⟨k1, rfl⟩ | ⟨b, hb6, rfl, hk⟩
        · exact br_t k1 (nm_r (nI_1 s) H)
        · have ib : vp_in (nI b) 6 := vp_in_nI (by omega) (by omega)
          have cb : (nI b).toNatClampNeg = b := nI_clamp (by omega)
          have k1 : ¬ nI b < 0 := nI_pos (by omega)
          rcases hk with ⟨k3, rfl⟩ | ⟨k3, rfl⟩
          · exact br_f k1 (br_f h0 ⟨hin, ib, ib, hin, br_t (by rw [c, cb]; exact k3) (nm_r (nI_1 s) H)⟩)
          · exact br_f k1 (br_f h0 ⟨hin, ib, ib, hin, br_f (by rw [c, cb]; exact k3) (nm_r (nI_1 s) H)⟩)
      · intros
        rename_i post N hN hp
        obtain ⟨M, rfl⟩ : ∃ M, N = M + 1 := ⟨N - 1, by omega⟩
        refine br_f h6 (br_f hbit ?_)
        rcases hk with ⟨k1, rfl⟩ | ⟨b, hb6, rfl, hk⟩
        · exact br_t k1 (nm_r (nI_1 s) (HY post M (by omega) hp))
        · have ib : vp_in (nI b) 6 := vp_in_nI (by omega) (by omega)
          have cb : (nI b).toNatClampNeg = b := nI_clamp (by omega)
          have k1 : ¬ nI b < 0 := nI_pos (by omega)
          refine br_f k1 (zy_running hn ⟨ib, zy_running hn ⟨hin, ?_⟩⟩)
          rw [← hru b hb6, ← hru s (by omega), c, cb]
          rcases hk with ⟨k3, rfl⟩ | ⟨k3, rfl⟩
          · exact br_t k3 (nm_r (nI_1 s) (HY post M (by omega) hp))
          · exact br_f k3 (nm_r (nI_1 s) (HY post M (by omega) hp))
    · have hbit : ((nI m >>> (nI s &&& 31)) &&& 1) = 0 := by rw [za_tb0, tb]; simpa using ht
      obtain ⟨b', q1, q2, HX, HY⟩ := ih (s + 1) best (by omega) (by
        rcases hb with ⟨e, t, h1, h2, h3⟩ | z
        · refine Or.inl ⟨e, t, ?_, h2, h3⟩
          by_cases y : t = s
          · subst y; exact absurd h3 ht
          · omega
        · exact Or.inr z)
      refine ⟨b', q1, q2, ?_, ?_⟩
      · intros
        rename_i post N sum hN hp
        obtain ⟨M, rfl⟩ : ∃ M, N = M + 1 := ⟨N - 1, by omega⟩
        exact br_f h6 (br_t hbit (nm_r (nI_1 s) (HX post M sum (by omega) hp)))
      · intros
        rename_i post N hN hp
        obtain ⟨M, rfl⟩ : ∃ M, N = M + 1 := ⟨N - 1, by omega⟩
        exact br_f h6 (br_t hbit (nm_r (nI_1 s) (HY post M (by omega) hp)))
/-- one of the ready ones; what is not 0 is ready at some s -/
theorem zj_ne {m : Nat} (hm : m < 64) (h : m ≠ 0) : ∃ t, 0 ≤ t ∧ t < 6 ∧ m.testBit t = true := by
  apply Classical.byContradiction
  intro hc
  apply h
  apply Nat.eq_of_testBit_eq
  intro i
  rw [Nat.zero_testBit]
  by_cases hi : i < 6
  · cases e : m.testBit i with
    | false => rfl
    | true => exact absurd ⟨i, by omega, hi, e⟩ hc
  · exact Nat.testBit_lt_two_pow (Nat.lt_of_lt_of_le hm (Nat.pow_le_pow_right (n := 2) (by decide) (show 6 ≤ i by omega)))
end
end
section
/-! walks of the heap: earlier, rise, takeFirst -/
section
variable {f_points f_routes f_nodes f_durations f_requests f_heaped f_waiting f_now f_finished f_touched g_time g_waiting : Int32}
variable {a_weight a_slots a_pace a_running a_broken a_down a_good a_bad a_shut a_till a_failures a_successes a_credit a_settings a_ringAt a_ringServer a_paths a_sets a_next a_servers a_homes a_homeSince a_latest a_sorted a_capacity a_refill a_bucket a_countedAt a_states a_clients a_path a_ranks a_keys a_works a_tried a_attempts a_server a_late a_came a_ends a_heap a_queue b_till b_sick b_well b_up b_tokens b_state b_ended b_ends b_queue b_sorted : Nat → Int32}
variable {a_totals b_total : Nat → Int64}
/-- x is a request's number, and it stops at a time -/
def zh_e (en : Nat → Int32) (x : Int32) : Prop := ∃ m e, m < 4096 ∧ e < 2 ^ 31 ∧ x = nI m ∧ en (m % 32) = nI e
theorem zx_earlier {x y : Int32} {post : Int32 → Prop} (hx : zh_e a_ends x) (hy : zh_e a_ends y)
    (hp : post (if zh_k a_ends x < zh_k a_ends y then 1 else 0)) : wpX_earlier post (f_points, f_routes, f_nodes, f_durations, f_requests, f_heaped, f_waiting, f_now, f_finished, f_touched, a_weight, a_slots, a_pace, a_running, a_broken, a_down, a_good, a_bad, a_shut, a_till, a_failures, a_successes, a_credit, a_settings, a_ringAt, a_ringServer, a_paths, a_sets, a_next, a_servers, a_homes, a_homeSince, a_latest, a_sorted, a_capacity, a_refill, a_bucket, a_countedAt, a_states, a_clients, a_path, a_ranks, a_keys, a_works, a_tried, a_attempts, a_server, a_late, a_came, a_ends, a_heap, a_queue, a_totals) x y := by
  obtain ⟨a, ea, ha, hea, rfl, ea2⟩ := hx
  obtain ⟨b, eb, hb, heb, rfl, eb2⟩ := hy
  have ma : nI a &&& 31 = nI (a % 32) := za_m31 (by omega)
  have mb : nI b &&& 31 = nI (b % 32) := za_m31 (by omega)
  have ia : vp_in (nI a &&& 31) 32 := by rw [ma]; exact vp_in_nI (by omega) (by omega)
  have ib : vp_in (nI b &&& 31) 32 := by rw [mb]; exact vp_in_nI (by omega) (by omega)
  have ca : (nI a &&& 31).toNatClampNeg = a % 32 := by rw [ma]; exact nI_clamp (by omega)
  have cb : (nI b &&& 31).toNatClampNeg = b % 32 := by rw [mb]; exact nI_clamp (by omega)
  rw [zh_kN ha, zh_kN hb, ea2, eb2, nI_clamp hea, nI_clamp heb] at hp
  refine And.intro ia ⟨ib, ?_⟩
  rw [ca, cb, ea2, eb2]
  refine pk_lt ea eb (fun h => ?_) (fun h => ⟨ia, ib, pk_eq ea eb (fun h2 => pk_le b a (fun h3 => ?_) (fun h3 => ?_)) (fun h2 => ?_)⟩) rfl rfl hea heb
  · rwa [if_pos (by omega)] at hp
  · rwa [if_neg (by omega)] at hp
  · rwa [if_pos (by omega)] at hp
  · rwa [if_neg (by omega)] at hp
theorem zx_rise12 {h m : Nat} {en : Nat → Int32} (hh : h < 32) (hm : zh_e en (nI m)) :
    ∀ (k : Nat) (A : Nat → Int32), k ≤ h → zh_u (zh_k en) A (nI m) h k → (∀ i, i ≤ h → i ≠ k → zh_e en (A i)) →
    ∃ A', zh_o (zh_k en) A' (h + 1) ∧ (∀ v, zc_n A' v (h + 1) = zc_n (upd A k (nI m)) v (h + 1)) ∧
    ∀ {f_points f_routes f_nodes f_durations f_requests f_heaped f_waiting f_now f_finished f_touched : Int32} {a_weight a_slots a_pace a_running a_broken a_down a_good a_bad a_shut a_till a_failures a_successes a_credit a_settings a_ringAt a_ringServer a_paths a_sets a_next a_servers a_homes a_homeSince a_latest a_sorted a_capacity a_refill a_bucket a_countedAt a_states a_clients a_path a_ranks a_keys a_works a_tried a_attempts a_server a_late a_came a_queue : Nat → Int32} {a_totals : Nat → Int64} (post : SX → Prop) (N : Nat), k < N → post (f_points, f_routes, f_nodes, f_durations, f_requests, f_heaped, f_waiting, f_now, f_finished, f_touched, a_weight, a_slots, a_pace, a_running, a_broken, a_down, a_good, a_bad, a_shut, a_till, a_failures, a_successes, a_credit, a_settings, a_ringAt, a_ringServer, a_paths, a_sets, a_next, a_servers, a_homes, a_homeSince, a_latest, a_sorted, a_capacity, a_refill, a_bucket, a_countedAt, a_states, a_clients, a_path, a_ranks, a_keys, a_works, a_tried, a_attempts, a_server, a_late, a_came, en, A', a_queue, a_totals) →
      wX_rise_12 post (nI m) f_points f_routes f_nodes f_durations f_requests f_heaped f_waiting f_now f_finished f_touched N (nI k) a_weight a_slots a_pace a_running a_broken a_down a_good a_bad a_shut a_till a_failures a_successes a_credit a_settings a_ringAt a_ringServer a_paths a_sets a_next a_servers a_homes a_homeSince a_latest a_sorted a_capacity a_refill a_bucket a_countedAt a_states a_clients a_path a_ranks a_keys a_works a_tried a_attempts a_server a_late a_came en A a_queue a_totals := by
  intro k
  induction k using Nat.strongRecOn with
  | ind k ih =>
    intro A hk U hE
    have hin : vp_in (nI k) 32 := vp_in_nI (by omega) (by omega)
    have c : (nI k).toNatClampNeg = k := nI_clamp (by omega)
    rcases Nat.eq_zero_or_pos k with e | e
    · subst e
      refine ⟨upd A 0 (nI m), zh_u_end U (Or.inl rfl), fun v => rfl, ?_⟩
      intros
      rename_i post N hN hp
      obtain ⟨M, rfl⟩ : ∃ M, N = M + 1 := ⟨N - 1, by omega⟩
      exact br_t (by rw [nI_0]; exact Int32.le_refl _) ⟨hin, nm_r (e' := upd A 0 (nI m)) (by rw [c]) hp⟩
    · have hpos : ¬ nI k ≤ 0 := nI_nle e (by omega)
      have ep : (nI k - 1) / 2 = nI ((k - 1) / 2) := by rw [za_p1 e, za_d2 (by omega)]
      have hip : vp_in ((nI k - 1) / 2) 32 := by rw [ep]; exact vp_in_nI (by omega) (by omega)
      have cp : ((nI k - 1) / 2).toNatClampNeg = (k - 1) / 2 := by rw [ep]; exact nI_clamp (by omega)
      have hEp : zh_e en (A ((k - 1) / 2)) := hE _ (by omega) (by omega)
      have h2 : ¬ (2 : Int32) = 0 := by decide
      by_cases hs : zh_k en (nI m) < zh_k en (A ((k - 1) / 2))
      · obtain ⟨A', q1, q2, H⟩ := ih ((k - 1) / 2) (by omega) (upd A k (A ((k - 1) / 2))) (by omega) (zh_u_step U e hs) (fun i hi hne => by
          by_cases y : i = k
          · subst y; rw [pk_us]; exact hEp
          · rw [pk_un y]; exact hE i hi y)
        refine ⟨A', q1, fun v => by rw [q2, zh_sw (by omega) (by omega) (by omega)], ?_⟩
        intros
        rename_i post N hN hp
        obtain ⟨M, rfl⟩ : ∃ M, N = M + 1 := ⟨N - 1, by omega⟩
        refine br_f hpos ⟨h2, hip, zx_earlier hm (by rw [cp]; exact hEp) ?_⟩
        rw [cp, if_pos hs]
        refine br_f (by decide) ⟨h2, hip, hin, nm_r (e' := upd A k (A ((k - 1) / 2))) (by rw [c]) ⟨h2, nm_r ep ?_⟩⟩
        exact H post M (by omega) hp
      · refine ⟨upd A k (nI m), zh_u_end U (Or.inr (by omega)), fun v => rfl, ?_⟩
        intros
        rename_i post N hN hp
        obtain ⟨M, rfl⟩ : ∃ M, N = M + 1 := ⟨N - 1, by omega⟩
        refine br_f hpos ⟨h2, hip, zx_earlier hm (by rw [cp]; exact hEp) ?_⟩
        rw [cp, if_neg hs]
        exact br_t rfl ⟨hin, nm_r (e' := upd A k (nI m)) (by rw [c]) hp⟩
theorem zx_rise {h m : Nat} {en A : Nat → Int32} (hh : h < 32) (hm : zh_e en (nI m)) (O : zh_o (zh_k en) A h) (hE : ∀ i, i < h → zh_e en (A i)) :
    ∃ A', zh_o (zh_k en) A' (h + 1) ∧ (∀ v, zc_n A' v (h + 1) = zc_n A v h + (if nI m = v then 1 else 0)) ∧
    ∀ {f_points f_routes f_nodes f_durations f_requests f_waiting f_now f_finished f_touched : Int32} {a_weight a_slots a_pace a_running a_broken a_down a_good a_bad a_shut a_till a_failures a_successes a_credit a_settings a_ringAt a_ringServer a_paths a_sets a_next a_servers a_homes a_homeSince a_latest a_sorted a_capacity a_refill a_bucket a_countedAt a_states a_clients a_path a_ranks a_keys a_works a_tried a_attempts a_server a_late a_came a_queue : Nat → Int32} {a_totals : Nat → Int64} (post : SX → Prop), post (f_points, f_routes, f_nodes, f_durations, f_requests, nI (h + 1), f_waiting, f_now, f_finished, f_touched, a_weight, a_slots, a_pace, a_running, a_broken, a_down, a_good, a_bad, a_shut, a_till, a_failures, a_successes, a_credit, a_settings, a_ringAt, a_ringServer, a_paths, a_sets, a_next, a_servers, a_homes, a_homeSince, a_latest, a_sorted, a_capacity, a_refill, a_bucket, a_countedAt, a_states, a_clients, a_path, a_ranks, a_keys, a_works, a_tried, a_attempts, a_server, a_late, a_came, en, A', a_queue, a_totals) →
      wpX_rise post (f_points, f_routes, f_nodes, f_durations, f_requests, nI h, f_waiting, f_now, f_finished, f_touched, a_weight, a_slots, a_pace, a_running, a_broken, a_down, a_good, a_bad, a_shut, a_till, a_failures, a_successes, a_credit, a_settings, a_ringAt, a_ringServer, a_paths, a_sets, a_next, a_servers, a_homes, a_homeSince, a_latest, a_sorted, a_capacity, a_refill, a_bucket, a_countedAt, a_states, a_clients, a_path, a_ranks, a_keys, a_works, a_tried, a_attempts, a_server, a_late, a_came, en, A, a_queue, a_totals) (nI m) := by
  obtain ⟨A', q1, q2, H⟩ := zx_rise12 hh hm h A (by omega) (zh_u0 O) (fun i hi hne => hE i (by omega))
  refine ⟨A', q1, fun v => ?_, ?_⟩
  · rw [q2, zc_n_s, pk_us]
    rw [zc_n_congr (g := A) (fun i hi => pk_un (by omega))]
  · intros
    rename_i post hp
    exact nm_r (nI_1 h) ⟨h + 1, H post (h + 1) (by omega) hp⟩
theorem zx_tf78 {g k c : Nat} {en A : Nat → Int32} {x1 last : Int32} (hg : g < 32) (hk : k < 32) (hc : c < 128) (hl : zh_e en last) (hE : c < g → zh_e en (A c))
    {post : Int32 → SX → Prop} {J29 : Int32 → Int32 → (Nat → Int32) → (Nat → Int32) → (Nat → Int32) → (Nat → Int32) → (Nat → Int32) → (Nat → Int32) → (Nat → Int32) → (Nat → Int32) → (Nat → Int32) → (Nat → Int32) → (Nat → Int32) → (Nat → Int32) → (Nat → Int32) → (Nat → Int32) → (Nat → Int32) → (Nat → Int32) → (Nat → Int32) → (Nat → Int32) → (Nat → Int32) → (Nat → Int32) → (Nat → Int32) → (Nat → Int32) → (Nat → Int32) → (Nat → Int32) → (Nat → Int32) → (Nat → Int32) → (Nat → Int32) → (Nat → Int32) → (Nat → Int32) → (Nat → Int32) → (Nat → Int32) → (Nat → Int32) → (Nat → Int32) → (Nat → Int32) → (Nat → Int32) → (Nat → Int32) → (Nat → Int32) → (Nat → Int32) → (Nat → Int32) → (Nat → Int32) → (Nat → Int32) → (Nat → Int32) → (Nat → Int64) → Prop}
    (hst : (g ≤ c ∨ ¬ zh_k en (A c) < zh_k en last) → J29 (nI k) 0 a_weight a_slots a_pace a_running a_broken a_down a_good a_bad a_shut a_till a_failures a_successes a_credit a_settings a_ringAt a_ringServer a_paths a_sets a_next a_servers a_homes a_homeSince a_latest a_sorted a_capacity a_refill a_bucket a_countedAt a_states a_clients a_path a_ranks a_keys a_works a_tried a_attempts a_server a_late a_came en A a_queue a_totals)
    (hmv : c < g → zh_k en (A c) < zh_k en last → J29 (nI c) 1 a_weight a_slots a_pace a_running a_broken a_down a_good a_bad a_shut a_till a_failures a_successes a_credit a_settings a_ringAt a_ringServer a_paths a_sets a_next a_servers a_homes a_homeSince a_latest a_sorted a_capacity a_refill a_bucket a_countedAt a_states a_clients a_path a_ranks a_keys a_works a_tried a_attempts a_server a_late a_came en (upd A k (A c)) a_queue a_totals) :
    wX_takeFirst_78 post J29 x1 last (nI k) (nI c) f_points f_routes f_nodes f_durations f_requests (nI g) f_waiting f_now f_finished f_touched a_weight a_slots a_pace a_running a_broken a_down a_good a_bad a_shut a_till a_failures a_successes a_credit a_settings a_ringAt a_ringServer a_paths a_sets a_next a_servers a_homes a_homeSince a_latest a_sorted a_capacity a_refill a_bucket a_countedAt a_states a_clients a_path a_ranks a_keys a_works a_tried a_attempts a_server a_late a_came en A a_queue a_totals := by
  by_cases h1 : g ≤ c
  · exact br_t (nI_le h1 (by omega)) (br_t rfl (hst (Or.inl h1)))
  · have h1 : c < g := by omega
    have ic : vp_in (nI c) 32 := vp_in_nI (by omega) (by omega)
    have ik : vp_in (nI k) 32 := vp_in_nI (by omega) (by omega)
    have cc : (nI c).toNatClampNeg = c := nI_clamp (by omega)
    have ck : (nI k).toNatClampNeg = k := nI_clamp (by omega)
    refine br_f (nI_ge h1 (by omega)) ⟨ic, zx_earlier (by rw [cc]; exact hE h1) hl ?_⟩
    rw [cc]
    by_cases h2 : zh_k en (A c) < zh_k en last
    · rw [if_pos h2]
      exact br_f (by decide) (br_f (by decide) ⟨ic, ik, nm_r (e' := upd A k (A c)) (by rw [cc, ck]) (hmv h1 h2)⟩)
    · rw [if_neg h2]
      exact br_t rfl (br_t rfl (hst (Or.inr h2)))
theorem zx_tf29 {g : Nat} {en : Nat → Int32} {x1 last : Int32} (hg : g < 32) (hl : zh_e en last) :
    ∀ (d k : Nat) (A : Nat → Int32), g - k ≤ d → (k = 0 ∨ k < g) → zh_d (zh_k en) A last g k → (∀ i, i < g → zh_e en (A i)) →
    ∃ A', zh_o (zh_k en) A' g ∧ (∀ v, zc_n A' v g = zc_n (upd A k last) v g) ∧
    ∀ {f_points f_routes f_nodes f_durations f_requests f_waiting f_now f_finished f_touched : Int32} {a_weight a_slots a_pace a_running a_broken a_down a_good a_bad a_shut a_till a_failures a_successes a_credit a_settings a_ringAt a_ringServer a_paths a_sets a_next a_servers a_homes a_homeSince a_latest a_sorted a_capacity a_refill a_bucket a_countedAt a_states a_clients a_path a_ranks a_keys a_works a_tried a_attempts a_server a_late a_came a_queue : Nat → Int32} {a_totals : Nat → Int64} (post : Int32 → SX → Prop) (N : Nat), d + 1 < N → post x1 (f_points, f_routes, f_nodes, f_durations, f_requests, nI g, f_waiting, f_now, f_finished, f_touched, a_weight, a_slots, a_pace, a_running, a_broken, a_down, a_good, a_bad, a_shut, a_till, a_failures, a_successes, a_credit, a_settings, a_ringAt, a_ringServer, a_paths, a_sets, a_next, a_servers, a_homes, a_homeSince, a_latest, a_sorted, a_capacity, a_refill, a_bucket, a_countedAt, a_states, a_clients, a_path, a_ranks, a_keys, a_works, a_tried, a_attempts, a_server, a_late, a_came, en, A', a_queue, a_totals) →
      wX_takeFirst_29 post x1 last f_points f_routes f_nodes f_durations f_requests (nI g) f_waiting f_now f_finished f_touched N (nI k) 1 a_weight a_slots a_pace a_running a_broken a_down a_good a_bad a_shut a_till a_failures a_successes a_credit a_settings a_ringAt a_ringServer a_paths a_sets a_next a_servers a_homes a_homeSince a_latest a_sorted a_capacity a_refill a_bucket a_countedAt a_states a_clients a_path a_ranks a_keys a_works a_tried a_attempts a_server a_late a_came en A a_queue a_totals := by
  intro d
  induction d with
  | zero =>
    intro k A hd hk D hE
    have hk0 : k = 0 := by omega
    have hg0 : g = 0 := by omega
    subst hk0 hg0
    refine ⟨upd A 0 last, fun i h0 hi => by omega, fun v => rfl, ?_⟩
    intros
    rename_i post N hN hp
    obtain ⟨M, rfl⟩ : ∃ M, N = M + 1 + 1 := ⟨N - 2, by omega⟩
    refine br_f (by decide) (nm_r (e' := nI 1) (by decide) (br_t (by decide) ?_))
    refine zx_tf78 (by omega) (by omega) (by omega) hl (fun z => by omega) (fun _ => ?_) (fun z => by omega)
    exact br_t rfl ⟨vp_in_nI (by omega) (by omega), nm_r (e' := upd A 0 last) (by rw [nI_clamp (by omega)]) hp⟩
  | succ d ih =>
    intro k A hd hk D hE
    have hk32 : k < 32 := by omega
    have e5 : (2 : Int32) * nI k + 1 = nI (2 * k + 1) := by
      have : (2 : Int32) * nI k = nI (2 * k) := pk_mul 2 k
      rw [this, nI_1]
    -- the lesser child
    have hch : ∃ c, (c = 2 * k + 1 ∨ c = 2 * k + 2) ∧ (c = 2 * k + 2 → c < g) ∧ (c < g → ∀ i, 0 < i → i < g → (i - 1) / 2 = k → zh_k en (A c) ≤ zh_k en (A i)) ∧ (g ≤ c → g ≤ 2 * k + 1) ∧
        ∀ {f_points f_routes f_nodes f_durations f_requests f_waiting f_now f_finished f_touched : Int32} {a_weight a_slots a_pace a_running a_broken a_down a_good a_bad a_shut a_till a_failures a_successes a_credit a_settings a_ringAt a_ringServer a_paths a_sets a_next a_servers a_homes a_homeSince a_latest a_sorted a_capacity a_refill a_bucket a_countedAt a_states a_clients a_path a_ranks a_keys a_works a_tried a_attempts a_server a_late a_came a_queue : Nat → Int32} {a_totals : Nat → Int64} (post : Int32 → SX → Prop) (N : Nat),
          wX_takeFirst_78 post (wX_takeFirst_29 post x1 last f_points f_routes f_nodes f_durations f_requests (nI g) f_waiting f_now f_finished f_touched N) x1 last (nI k) (nI c) f_points f_routes f_nodes f_durations f_requests (nI g) f_waiting f_now f_finished f_touched a_weight a_slots a_pace a_running a_broken a_down a_good a_bad a_shut a_till a_failures a_successes a_credit a_settings a_ringAt a_ringServer a_paths a_sets a_next a_servers a_homes a_homeSince a_latest a_sorted a_capacity a_refill a_bucket a_countedAt a_states a_clients a_path a_ranks a_keys a_works a_tried a_attempts a_server a_late a_came en A a_queue a_totals →
          wX_takeFirst_29 post x1 last f_points f_routes f_nodes f_durations f_requests (nI g) f_waiting f_now f_finished f_touched (N + 1) (nI k) 1 a_weight a_slots a_pace a_running a_broken a_down a_good a_bad a_shut a_till a_failures a_successes a_credit a_settings a_ringAt a_ringServer a_paths a_sets a_next a_servers a_homes a_homeSince a_latest a_sorted a_capacity a_refill a_bucket a_countedAt a_states a_clients a_path a_ranks a_keys a_works a_tried a_attempts a_server a_late a_came en A a_queue a_totals := by
      by_cases h2 : g ≤ 2 * k + 2
      · refine ⟨2 * k + 1, Or.inl rfl, fun z => by omega, fun hc i h0 hi hik => ?_, fun z => z, ?_⟩
        · have : i = 2 * k + 1 := by omega
          subst this; exact Nat.le_refl _
        · intros
          rename_i post N hp
          exact br_f (by decide) (nm_r e5 (br_t (by rw [nI_1]; exact nI_le h2 (by omega)) hp))
      · have c1 : (nI (2 * k + 1)).toNatClampNeg = 2 * k + 1 := nI_clamp (by omega)
        have c2 : (nI (2 * k + 1) + 1).toNatClampNeg = 2 * k + 2 := by rw [nI_1]; exact nI_clamp (by omega)
        have i1 : vp_in (nI (2 * k + 1)) 32 := vp_in_nI (by omega) (by omega)
        have i2 : vp_in (nI (2 * k + 1) + 1) 32 := by rw [nI_1]; exact vp_in_nI (by omega) (by omega)
        by_cases h3 : zh_k en (A (2 * k + 2)) < zh_k en (A (2 * k + 1))
        · refine ⟨2 * k + 2, Or.inr rfl, fun z => by omega, fun hc i h0 hi hik => ?_, fun z => by omega, ?_⟩
          · have : i = 2 * k + 1 ∨ i = 2 * k + 2 := by omega
            rcases this with rfl | rfl <;> omega
          · intros
            rename_i post N hp
            refine br_f (by decide) (nm_r e5 (br_f (by rw [nI_1]; exact nI_ge (by omega) (by omega)) ⟨i2, i1, zx_earlier (by rw [c2]; exact hE _ (by omega)) (by rw [c1]; exact hE _ (by omega)) ?_⟩))
            rw [c1, c2, if_pos h3]
            exact br_f (by decide) (nm_r (nI_1 _) hp)
        · refine ⟨2 * k + 1, Or.inl rfl, fun z => by omega, fun hc i h0 hi hik => ?_, fun z => z, ?_⟩
          · have : i = 2 * k + 1 ∨ i = 2 * k + 2 := by omega
            rcases this with rfl | rfl <;> omega
          · intros
            rename_i post N hp
            refine br_f (by decide) (nm_r e5 (br_f (by rw [nI_1]; exact nI_ge (by omega) (by omega)) ⟨i2, i1, zx_earlier (by rw [c2]; exact hE _ (by omega)) (by rw [c1]; exact hE _ (by omega)) ?_⟩))
            rw [c1, c2, if_neg h3]
            exact br_t rfl hp
    obtain ⟨c, hc1, hc2, hc3, hc4, HC⟩ := hch
    by_cases hm : c < g ∧ zh_k en (A c) < zh_k en last
    · have hkg : k < g := by omega
      obtain ⟨A', q1, q2, H⟩ := ih c (upd A k (A c)) (by omega) (Or.inr hm.1) (zh_d_step D hm.1 (by omega) (by omega) hm.2 (hc3 hm.1)) (fun i hi => by
        by_cases y : i = k
        · subst y; rw [pk_us]; exact hE c hm.1
        · rw [pk_un y]; exact hE i hi)
      refine ⟨A', q1, fun v => by rw [q2, zh_sw hkg hm.1 (by omega)], ?_⟩
      intros
      rename_i post N hN hp
      obtain ⟨M, rfl⟩ : ∃ M, N = M + 1 := ⟨N - 1, by omega⟩
      refine HC post M (zx_tf78 hg hk32 (by omega) hl (hE c) (fun z => ?_) (fun _ _ => ?_))
      · omega
      · exact H post M (by omega) hp
    · refine ⟨upd A k last, zh_d_end D (fun i h0 hi hik => ?_), fun v => rfl, ?_⟩
      · by_cases y : c < g
        · have := hc3 y i h0 hi hik
          have : ¬ zh_k en (A c) < zh_k en last := fun z => hm ⟨y, z⟩
          omega
        · have := hc4 (by omega); omega
      · intros
        rename_i post N hN hp
        obtain ⟨M, rfl⟩ : ∃ M, N = M + 1 + 1 := ⟨N - 2, by omega⟩
        refine HC post (M + 1) (zx_tf78 hg hk32 (by omega) hl (hE c) (fun _ => ?_) (fun y1 y2 => absurd ⟨y1, y2⟩ hm))
        exact br_t rfl ⟨vp_in_nI hk32 (by omega), nm_r (e' := upd A k last) (by rw [nI_clamp (by omega)]) hp⟩
theorem zx_takeFirst {g : Nat} {en A : Nat → Int32} (hg : g < 32) (O : zh_o (zh_k en) A (g + 1)) (hE : ∀ i, i < g + 1 → zh_e en (A i)) :
    ∃ A', zh_o (zh_k en) A' g ∧ (∀ v, zc_n A' v g + (if A 0 = v then 1 else 0) = zc_n A v (g + 1)) ∧
    ∀ {f_points f_routes f_nodes f_durations f_requests f_waiting f_now f_finished f_touched : Int32} {a_weight a_slots a_pace a_running a_broken a_down a_good a_bad a_shut a_till a_failures a_successes a_credit a_settings a_ringAt a_ringServer a_paths a_sets a_next a_servers a_homes a_homeSince a_latest a_sorted a_capacity a_refill a_bucket a_countedAt a_states a_clients a_path a_ranks a_keys a_works a_tried a_attempts a_server a_late a_came a_queue : Nat → Int32} {a_totals : Nat → Int64} (post : Int32 → SX → Prop), post (A 0) (f_points, f_routes, f_nodes, f_durations, f_requests, nI g, f_waiting, f_now, f_finished, f_touched, a_weight, a_slots, a_pace, a_running, a_broken, a_down, a_good, a_bad, a_shut, a_till, a_failures, a_successes, a_credit, a_settings, a_ringAt, a_ringServer, a_paths, a_sets, a_next, a_servers, a_homes, a_homeSince, a_latest, a_sorted, a_capacity, a_refill, a_bucket, a_countedAt, a_states, a_clients, a_path, a_ranks, a_keys, a_works, a_tried, a_attempts, a_server, a_late, a_came, en, A', a_queue, a_totals) →
      wpX_takeFirst post (f_points, f_routes, f_nodes, f_durations, f_requests, nI (g + 1), f_waiting, f_now, f_finished, f_touched, a_weight, a_slots, a_pace, a_running, a_broken, a_down, a_good, a_bad, a_shut, a_till, a_failures, a_successes, a_credit, a_settings, a_ringAt, a_ringServer, a_paths, a_sets, a_next, a_servers, a_homes, a_homeSince, a_latest, a_sorted, a_capacity, a_refill, a_bucket, a_countedAt, a_states, a_clients, a_path, a_ranks, a_keys, a_works, a_tried, a_attempts, a_server, a_late, a_came, en, A, a_queue, a_totals) := by
  obtain ⟨A', q1, q2, H⟩ := zx_tf29 (x1 := A 0) hg (hE g (by omega)) g 0 A (by omega) (Or.inl rfl) (zh_d0 O) (fun i hi => hE i (by omega))
  refine ⟨A', q1, fun v => by rw [q2, zh_tk], ?_⟩
  intros
  rename_i post hp
  refine nm_e (nm_r (nI_pred g) ⟨by rw [nI_pred]; exact vp_in_nI hg (by omega), nm_r (e' := A g) (by rw [nI_pred, nI_clamp (by omega)]) ⟨g + 2, ?_⟩⟩)
  exact H post (g + 2) (by omega) hp
end
end
section
/-! an attempt, in lockstep up to the server that is chosen; then what it stores -/
section
variable {f_points f_routes f_nodes f_durations f_requests f_heaped f_waiting f_now f_finished f_touched g_time g_waiting : Int32}
variable {a_weight a_slots a_pace a_running a_broken a_down a_good a_bad a_shut a_till a_failures a_successes a_credit a_settings a_ringAt a_ringServer a_paths a_sets a_next a_servers a_homes a_homeSince a_latest a_sorted a_capacity a_refill a_bucket a_countedAt a_states a_clients a_path a_ranks a_keys a_works a_tried a_attempts a_server a_late a_came a_ends a_heap a_queue b_till b_sick b_well b_up b_tokens b_state b_ended b_ends b_queue b_sorted : Nat → Int32}
variable {a_totals b_total : Nat → Int64}
theorem zj_pick {m n np key q : Nat} (hm : m < 64) (hm0 : m ≠ 0) (hn : n < 2 ^ 31) (hw : zr_W a_weight) (hs0 : a_settings 0 = 0 ∨ a_settings 0 = 1 ∨ a_settings 0 = 2)
    (hru : zj_ru a_running b_state a_server n) (R : zr_R np a_ringAt a_ringServer (zr_E a_weight)) (hnp : np ≤ 54) (hkey : key < 256) (ek : a_keys q = nI key) (hq : q < 32)
    (hwm : ∀ s, m.testBit s = true → s < 6 → a_weight s ≠ 0) (a_credit : Nat → Int32) :
    ∃ (s : Nat) (cr' : Nat → Int32), s < 6 ∧ m.testBit s = true ∧
    (∀ {f_routes f_nodes f_durations f_requests f_heaped f_waiting f_now f_finished f_touched : Int32} {a_slots a_pace a_broken a_down a_good a_bad a_shut a_till a_failures a_successes a_paths a_sets a_next a_servers a_homes a_homeSince a_latest a_sorted a_capacity a_refill a_bucket a_countedAt a_states a_clients a_path a_ranks a_keys a_works a_tried a_attempts a_server a_late a_came a_ends a_heap a_queue : Nat → Int32} {a_totals : Nat → Int64} (post : Int32 → SX → Prop), post (nI s) (nI np, f_routes, f_nodes, f_durations, f_requests, f_heaped, f_waiting, f_now, f_finished, f_touched, a_weight, a_slots, a_pace, a_running, a_broken, a_down, a_good, a_bad, a_shut, a_till, a_failures, a_successes, cr', a_settings, a_ringAt, a_ringServer, a_paths, a_sets, a_next, a_servers, a_homes, a_homeSince, a_latest, a_sorted, a_capacity, a_refill, a_bucket, a_countedAt, a_states, a_clients, a_path, a_ranks, a_keys, a_works, a_tried, a_attempts, a_server, a_late, a_came, a_ends, a_heap, a_queue, a_totals) → wpX_choose post (nI np, f_routes, f_nodes, f_durations, f_requests, f_heaped, f_waiting, f_now, f_finished, f_touched, a_weight, a_slots, a_pace, a_running, a_broken, a_down, a_good, a_bad, a_shut, a_till, a_failures, a_successes, a_credit, a_settings, a_ringAt, a_ringServer, a_paths, a_sets, a_next, a_servers, a_homes, a_homeSince, a_latest, a_sorted, a_capacity, a_refill, a_bucket, a_countedAt, a_states, a_clients, a_path, a_ranks, a_keys, a_works, a_tried, a_attempts, a_server, a_late, a_came, a_ends, a_heap, a_queue, a_totals) (nI m) (nI key)) ∧
    (∀ {g_time f_routes g_waiting : Int32} {a_slots a_pace b_till a_failures a_successes b_sick b_well a_broken b_up a_paths a_sets a_capacity a_refill b_tokens a_homes a_homeSince a_clients a_path a_works a_ranks a_attempts a_tried a_came b_ended b_ends a_late b_queue a_latest b_sorted : Nat → Int32} {b_total : Nat → Int64} (post : Int32 → SY → Prop), post (nI s) (g_time, f_routes, nI n, g_waiting, a_weight, a_slots, a_pace, b_till, a_failures, cr', a_successes, b_sick, b_well, a_broken, b_up, a_paths, a_sets, a_settings, a_capacity, a_refill, b_tokens, a_homes, a_homeSince, a_clients, a_path, a_keys, a_works, a_ranks, b_state, a_server, a_attempts, a_tried, a_came, b_ended, b_ends, a_late, b_queue, b_total, a_latest, b_sorted) → wY_choose_100 post (nI q) (nI m) g_time f_routes (nI n) g_waiting a_weight a_slots a_pace b_till a_failures a_credit a_successes b_sick b_well a_broken b_up a_paths a_sets a_settings a_capacity a_refill b_tokens a_homes a_homeSince a_clients a_path a_keys a_works a_ranks b_state a_server a_attempts a_tried a_came b_ended b_ends a_late b_queue b_total a_latest b_sorted) := by
  have n20 : ¬ (0 : Int32) = 2 := by decide
  have n12 : ¬ (1 : Int32) = 2 := by decide
  have n10 : ¬ (1 : Int32) = 0 := by decide
  have n02 : ¬ (2 : Int32) = 0 := by decide
  have n21 : ¬ (2 : Int32) = 1 := by decide
  have hbs : zj_bs m 0 (-1) := Or.inl ⟨rfl, zj_ne hm hm0⟩
  rcases hs0 with e | e | e
  · obtain ⟨b, cr', h1, h2, HX, HY⟩ := zj_ch0 (m := m) (wt := a_weight) (se := a_settings) hm e 6 0 (-1) 0 a_credit (by omega) hbs
    refine ⟨b, cr', h1, h2, ?_, ?_⟩
    · intros
      rename_i post hp
      exact br_f (by rw [e]; exact n20) ⟨7, HX post 7 (by omega) hp⟩
    · intros
      rename_i post hp
      exact br_t e ⟨7, HY _ 7 (by omega) hp⟩
  · obtain ⟨b, h1, h2, HX, HY⟩ := zj_ch1 (m := m) (wt := a_weight) (se := a_settings) hm (by rw [e]; exact n10) hn hru 6 0 (-1) (by omega) hbs
    refine ⟨b, a_credit, h1, h2, ?_, ?_⟩
    · intros
      rename_i post hp
      exact br_f (by rw [e]; exact n12) ⟨7, HX post 7 0 (by omega) hp⟩
    · intros
      rename_i post hp
      exact br_f (by rw [e]; exact n10) (br_t e ⟨7, HY _ 7 (by omega) hp⟩)
  · have tb : ∀ t, t < 6 → za_tb (nI m) t = m.testBit t := fun t ht => za_tbN (by omega) (by omega)
    have hx : ∃ s j, s < 6 ∧ za_tb (nI m) s = true ∧ zr_E a_weight s j := by
      obtain ⟨t, _, ht, h⟩ := zj_ne hm hm0
      refine ⟨t, 0, ht, by rw [tb t ht]; exact h, ?_⟩
      obtain ⟨v, _, hv, ev⟩ := hw t ht
      have hne := hwm t h ht
      unfold zr_E
      rw [ev] at hne ⊢
      rw [nI_clamp (by omega)]
      rcases Nat.eq_zero_or_pos v with z | z
      · subst z; exact absurd nI_0 hne
      · exact z
    obtain ⟨s, d, B⟩ := zr_ex (key := key) hx
    refine ⟨s, a_credit, B.1, by rw [← tb s B.1]; exact B.2.1, ?_, ?_⟩
    · intros
      rename_i post hp
      exact br_t e (zx_onRing R hnp hkey B hp)
    · intros
      rename_i post hp
      refine br_f (by rw [e]; exact n02) (br_f (by rw [e]; exact n21) ⟨vp_in_nI hq (by omega), ?_⟩)
      rw [nI_clamp (by omega), ek]
      exact zy_ring hw hkey B hp
/-- ready: by the route of the path p -/
abbrev zj_rp (rn : Nat) (pa se wt dn ru sl sh ti : Nat → Int32) (now tr : Int32) (p : Nat) : Nat → Bool := zj_rb (zt_so pa se rn 4 p) wt dn ru sl sh ti now tr
theorem zj_att {m n rn np nd q p cl key : Nat} {pre : Nat → Nat} (hm : m < 2 ^ 31) (hqm : m % 32 = q) (hn : n < 2 ^ 31) (hw : zr_W a_weight)
    (hs0 : a_settings 0 = 0 ∨ a_settings 0 = 1 ∨ a_settings 0 = 2) (R : zr_R np a_ringAt a_ringServer (zr_E a_weight)) (hnp : np ≤ 54)
    (P : zt_P rn a_paths a_sets) (T : zt_T nd a_next a_servers a_paths a_sets rn pre) (hnd : nd ≤ 49) (hok : zt_ok p) (ep : a_path q = nI p)
    (hcl : cl < 6) (ec : a_clients q = nI cl) (hho : a_homes cl = -1 ∨ ∃ s, s < 6 ∧ a_homes cl = nI s) (hkey : key < 256) (ek : a_keys q = nI key)
    (hbk : zj_bk a_shut a_till b_till) (hud : zj_ud a_down b_up) (hru : zj_ru a_running b_state a_server n) (f_now : Int32) (a_slots a_tried a_credit a_homeSince : Nat → Int32) :
    ((∀ s, s < 6 → zj_rp rn a_paths a_sets a_weight a_down a_running a_slots a_shut a_till f_now (a_tried q) p s = false) ∧
      (∀ {f_nodes f_durations f_heaped f_waiting f_finished f_touched : Int32} {a_pace a_broken a_good a_bad a_failures a_successes a_latest a_sorted a_capacity a_refill a_bucket a_countedAt a_states a_ranks a_works a_attempts a_late a_came a_ends a_heap a_queue : Nat → Int32} {a_totals : Nat → Int64} (post : Int32 → SX → Prop), post 0 (nI np, nI rn, f_nodes, f_durations, nI n, f_heaped, f_waiting, f_now, f_finished, f_touched, a_weight, a_slots, a_pace, a_running, a_broken, a_down, a_good, a_bad, a_shut, a_till, a_failures, a_successes, a_credit, a_settings, a_ringAt, a_ringServer, a_paths, a_sets, a_next, a_servers, a_homes, a_homeSince, a_latest, a_sorted, a_capacity, a_refill, a_bucket, a_countedAt, a_states, a_clients, a_path, a_ranks, a_keys, a_works, a_tried, a_attempts, a_server, a_late, a_came, a_ends, a_heap, a_queue, a_totals) → wpX_attempt post (nI np, nI rn, f_nodes, f_durations, nI n, f_heaped, f_waiting, f_now, f_finished, f_touched, a_weight, a_slots, a_pace, a_running, a_broken, a_down, a_good, a_bad, a_shut, a_till, a_failures, a_successes, a_credit, a_settings, a_ringAt, a_ringServer, a_paths, a_sets, a_next, a_servers, a_homes, a_homeSince, a_latest, a_sorted, a_capacity, a_refill, a_bucket, a_countedAt, a_states, a_clients, a_path, a_ranks, a_keys, a_works, a_tried, a_attempts, a_server, a_late, a_came, a_ends, a_heap, a_queue, a_totals) (nI m)) ∧
      (∀ {g_waiting : Int32} {a_pace a_failures a_successes b_sick b_well a_broken a_capacity a_refill b_tokens a_works a_ranks a_attempts a_came b_ended b_ends a_late b_queue a_latest b_sorted : Nat → Int32} {b_total : Nat → Int64} (post : Int32 → SY → Prop), post 0 (f_now, nI rn, nI n, g_waiting, a_weight, a_slots, a_pace, b_till, a_failures, a_credit, a_successes, b_sick, b_well, a_broken, b_up, a_paths, a_sets, a_settings, a_capacity, a_refill, b_tokens, a_homes, a_homeSince, a_clients, a_path, a_keys, a_works, a_ranks, b_state, a_server, a_attempts, a_tried, a_came, b_ended, b_ends, a_late, b_queue, b_total, a_latest, b_sorted) → wpY_attempt post (f_now, nI rn, nI n, g_waiting, a_weight, a_slots, a_pace, b_till, a_failures, a_credit, a_successes, b_sick, b_well, a_broken, b_up, a_paths, a_sets, a_settings, a_capacity, a_refill, b_tokens, a_homes, a_homeSince, a_clients, a_path, a_keys, a_works, a_ranks, b_state, a_server, a_attempts, a_tried, a_came, b_ended, b_ends, a_late, b_queue, b_total, a_latest, b_sorted) (nI q))) ∨
    (∃ (s : Nat) (cr' : Nat → Int32), s < 6 ∧ zj_rp rn a_paths a_sets a_weight a_down a_running a_slots a_shut a_till f_now (a_tried q) p s = true ∧
      (∀ {f_nodes f_durations f_heaped f_waiting f_finished f_touched : Int32} {a_pace a_broken a_good a_bad a_failures a_successes a_latest a_sorted a_capacity a_refill a_bucket a_countedAt a_states a_ranks a_works a_attempts a_late a_came a_ends a_heap a_queue : Nat → Int32} {a_totals : Nat → Int64} (post : Int32 → SX → Prop), wX_attempt_105 post (nI m) (nI q) (nI s) (nI np) (nI rn) f_nodes f_durations (nI n) f_heaped f_waiting f_now f_finished f_touched a_weight a_slots a_pace a_running a_broken a_down a_good a_bad a_shut a_till a_failures a_successes cr' a_settings a_ringAt a_ringServer a_paths a_sets a_next a_servers a_homes a_homeSince a_latest a_sorted a_capacity a_refill a_bucket a_countedAt a_states a_clients a_path a_ranks a_keys a_works a_tried a_attempts a_server a_late a_came a_ends a_heap a_queue a_totals → wpX_attempt post (nI np, nI rn, f_nodes, f_durations, nI n, f_heaped, f_waiting, f_now, f_finished, f_touched, a_weight, a_slots, a_pace, a_running, a_broken, a_down, a_good, a_bad, a_shut, a_till, a_failures, a_successes, a_credit, a_settings, a_ringAt, a_ringServer, a_paths, a_sets, a_next, a_servers, a_homes, a_homeSince, a_latest, a_sorted, a_capacity, a_refill, a_bucket, a_countedAt, a_states, a_clients, a_path, a_ranks, a_keys, a_works, a_tried, a_attempts, a_server, a_late, a_came, a_ends, a_heap, a_queue, a_totals) (nI m)) ∧
      (∀ {g_waiting : Int32} {a_pace a_failures a_successes b_sick b_well a_broken a_capacity a_refill b_tokens a_works a_ranks a_attempts a_came b_ended b_ends a_late b_queue a_latest b_sorted : Nat → Int32} {b_total : Nat → Int64} (post : Int32 → SY → Prop), post (nI s) (f_now, nI rn, nI n, g_waiting, a_weight, a_slots, a_pace, b_till, a_failures, cr', a_successes, b_sick, b_well, a_broken, b_up, a_paths, a_sets, a_settings, a_capacity, a_refill, b_tokens, a_homes, a_homeSince, a_clients, a_path, a_keys, a_works, a_ranks, b_state, a_server, a_attempts, a_tried, a_came, b_ended, b_ends, a_late, b_queue, b_total, a_latest, b_sorted) → wpY_choose post (f_now, nI rn, nI n, g_waiting, a_weight, a_slots, a_pace, b_till, a_failures, a_credit, a_successes, b_sick, b_well, a_broken, b_up, a_paths, a_sets, a_settings, a_capacity, a_refill, b_tokens, a_homes, a_homeSince, a_clients, a_path, a_keys, a_works, a_ranks, b_state, a_server, a_attempts, a_tried, a_came, b_ended, b_ends, a_late, b_queue, b_total, a_latest, b_sorted) (nI q))) := by
  have hq : q < 32 := by omega
  have m31 : nI m &&& 31 = nI q := by rw [za_m31 hm, hqm]
  have iq : vp_in (nI q) 32 := vp_in_nI hq (by omega)
  have cq : (nI q).toNatClampNeg = q := nI_clamp (by omega)
  have icl : vp_in (nI cl) 6 := vp_in_nI hcl (by omega)
  have ccl : (nI cl).toNatClampNeg = cl := nI_clamp (by omega)
  obtain ⟨ms, ems⟩ : ∃ ms, ms = za_set (zj_rp rn a_paths a_sets a_weight a_down a_running a_slots a_shut a_till f_now (a_tried q) p) 6 := ⟨_, rfl⟩
  have hms : ms < 64 := by rw [ems]; exact za_set_lt _ 6
  have tbs : ∀ s, s < 6 → ms.testBit s = zj_rp rn a_paths a_sets a_weight a_down a_running a_slots a_shut a_till f_now (a_tried q) p s := by
    intro s hs
    rw [ems, za_set_tb, decide_eq_true hs, Bool.true_and]
  by_cases h0 : ms = 0
  · left
    refine ⟨fun s hs => za_set_0.mp (ems.symm.trans h0) s hs, ?_, ?_⟩
    · intros
      rename_i post hp
      refine nm_r m31 (zx_readyFor hq P T hnd hok ep ?_)
      rw [← ems, h0]
      exact br_t nI_0 hp
    · intros
      rename_i post hp
      refine ⟨7, zy_ch4 hq hn P hok.1 ep hbk hud hru (fun M => ?_) 6 0 7 (by omega) (by omega)⟩
      rw [← ems, h0]
      exact br_t (Int32.le_refl _) (br_t nI_0 (br_f za_m1le hp))
  · right
    have hnz : ¬ nI ms = 0 := nI_ne0 (by omega) (by omega)
    by_cases hstay : ∃ s, s < 6 ∧ a_homes cl = nI s ∧ ¬ a_settings 6 ≤ 0 ∧ ¬ a_settings 6 < f_now - a_homeSince cl ∧ ms.testBit s = true
    · obtain ⟨s, hs, eh, h1, h2, h3⟩ := hstay
      have tb : za_tb (nI ms) s = true := by rw [za_tbN (by omega) (by omega)]; exact h3
      refine ⟨s, a_credit, hs, by rw [← tbs s hs]; exact h3, ?_, ?_⟩
      · intros
        rename_i post hp
        refine nm_r m31 (zx_readyFor hq P T hnd hok ep ?_)
        rw [← ems]
        refine br_f hnz ⟨iq, ?_⟩
        rw [cq, ec]
        refine ⟨icl, ?_⟩
        rw [ccl]
        refine nm_r eh (br_f (nI_pos (by omega)) (br_f h1 ⟨iq, icl, br_f h2 (br_f (fun z => ?_) (br_f (by decide) hp))⟩))
        rw [za_tb0.mp z] at tb; cases tb
      · intros
        rename_i post hp
        refine ⟨7, zy_ch4 hq hn P hok.1 ep hbk hud hru (fun M => ?_) 6 0 7 (by omega) (by omega)⟩
        rw [← ems]
        refine br_t (Int32.le_refl _) (br_f hnz ⟨iq, ?_⟩)
        rw [cq, ec]
        refine ⟨icl, ?_⟩
        rw [ccl]
        exact nm_r eh (br_f (nI_pos (by omega)) (br_t (za_tb1.mpr tb) (br_f h1 ⟨iq, icl, br_f h2 hp⟩)))
    · have hwm : ∀ s, ms.testBit s = true → s < 6 → a_weight s ≠ 0 := by
        intro s h1 h2 h3
        rw [tbs s h2] at h1
        unfold zj_rp zj_rb zj_r0 at h1
        rw [decide_eq_true h3] at h1
        simp at h1
      obtain ⟨s, cr', hs, hb, HX, HY⟩ := zj_pick hms h0 hn hw hs0 hru R hnp hkey ek hq hwm a_credit
      refine ⟨s, cr', hs, by rw [← tbs s hs]; exact hb, ?_, ?_⟩
      · intro f_nodes f_durations f_heaped f_waiting f_finished f_touched a_pace a_broken a_good a_bad a_failures a_successes a_latest a_sorted a_capacity a_refill a_bucket a_countedAt a_states a_ranks a_works a_attempts a_late a_came a_ends a_heap a_queue a_totals post hp
        refine nm_r m31 (zx_readyFor hq P T hnd hok ep ?_)
        rw [← ems]
        refine br_f hnz ⟨iq, ?_⟩
        rw [cq, ec]
        refine ⟨icl, ?_⟩
        rw [ccl]
        have hgo : wpX_choose (fun r u => match u with | (f_points, f_routes, f_nodes, f_durations, f_requests, f_heaped, f_waiting, f_now, f_finished, f_touched, a_weight, a_slots, a_pace, a_running, a_broken, a_down, a_good, a_bad, a_shut, a_till, a_failures, a_successes, a_credit, a_settings, a_ringAt, a_ringServer, a_paths, a_sets, a_next, a_servers, a_homes, a_homeSince, a_latest, a_sorted, a_capacity, a_refill, a_bucket, a_countedAt, a_states, a_clients, a_path, a_ranks, a_keys, a_works, a_tried, a_attempts, a_server, a_late, a_came, a_ends, a_heap, a_queue, a_totals) => wX_attempt_105 post (nI m) (nI q) r f_points f_routes f_nodes f_durations f_requests f_heaped f_waiting f_now f_finished f_touched a_weight a_slots a_pace a_running a_broken a_down a_good a_bad a_shut a_till a_failures a_successes a_credit a_settings a_ringAt a_ringServer a_paths a_sets a_next a_servers a_homes a_homeSince a_latest a_sorted a_capacity a_refill a_bucket a_countedAt a_states a_clients a_path a_ranks a_keys a_works a_tried a_attempts a_server a_late a_came a_ends a_heap a_queue a_totals) (nI np, nI rn, f_nodes, f_durations, nI n, f_heaped, f_waiting, f_now, f_finished, f_touched, a_weight, a_slots, a_pace, a_running, a_broken, a_down, a_good, a_bad, a_shut, a_till, a_failures, a_successes, a_credit, a_settings, a_ringAt, a_ringServer, a_paths, a_sets, a_next, a_servers, a_homes, a_homeSince, a_latest, a_sorted, a_capacity, a_refill, a_bucket, a_countedAt, a_states, a_clients, a_path, a_ranks, a_keys, a_works, a_tried, a_attempts, a_server, a_late, a_came, a_ends, a_heap, a_queue, a_totals) (nI ms) (a_keys (nI q).toNatClampNeg) := by
          rw [cq, ek]; exact HX _ hp
        rcases hho with eh | ⟨t, ht, eh⟩
        · exact nm_r eh (br_t (by decide) (br_t rfl ⟨iq, hgo⟩))
        · refine nm_r eh (br_f (nI_pos (by omega)) ?_)
          refine br_c (fun _ => br_t rfl ⟨iq, hgo⟩) (fun h1 => ⟨iq, icl, ?_⟩)
          refine br_c (fun _ => br_t rfl ⟨iq, hgo⟩) (fun h2 => ?_)
          refine br_c (fun _ => br_t rfl ⟨iq, hgo⟩) (fun h3 => ?_)
          refine absurd ⟨t, ht, eh, h1, h2, ?_⟩ hstay
          rw [← za_tbN (m := ms) (s := t) (by omega) (by omega)]
          cases z : za_tb (nI ms) t with
          | true => rfl
          | false => exact absurd (za_tb0.mpr z) h3
      · intros
        rename_i post hp
        refine ⟨7, zy_ch4 hq hn P hok.1 ep hbk hud hru (fun M => ?_) 6 0 7 (by omega) (by omega)⟩
        rw [← ems]
        refine br_t (Int32.le_refl _) (br_f hnz ⟨iq, ?_⟩)
        rw [cq, ec]
        refine ⟨icl, ?_⟩
        rw [ccl]
        have hgo := HY post hp
        rcases hho with eh | ⟨t, ht, eh⟩
        · exact nm_r eh (br_t (by decide) hgo)
        · refine nm_r eh (br_f (nI_pos (by omega)) ?_)
          refine br_c (fun h3 => ?_) (fun _ => hgo)
          refine br_c (fun _ => hgo) (fun h1 => ⟨iq, icl, ?_⟩)
          refine br_c (fun _ => hgo) (fun h2 => ?_)
          refine absurd ⟨t, ht, eh, h1, h2, ?_⟩ hstay
          rw [← za_tbN (m := ms) (s := t) (by omega) (by omega)]
          exact za_tb1.mp h3
/-- late, and how long -/
def zj_lt (w p t : Int32) : Int32 := if w * p ≤ t then 0 else 1
def zj_du (w p t : Int32) : Int32 := if w * p ≤ t then w * p else t
theorem zx_105 {s q r t a : Nat} {x1 : Int32} {post : Int32 → SX → Prop} (hs : s < 6) (hq : q < 32) (hr : r < 127) (er : a_running s = nI r) (ht : t < 64) (et : a_tried q = nI t)
    (ha : a < 127) (ea : a_attempts q = nI a) (h : wpX_rise (fun u => match u with | (f_points, f_routes, f_nodes, f_durations, f_requests, f_heaped, f_waiting, f_now, f_finished, f_touched, a_weight, a_slots, a_pace, a_running, a_broken, a_down, a_good, a_bad, a_shut, a_till, a_failures, a_successes, a_credit, a_settings, a_ringAt, a_ringServer, a_paths, a_sets, a_next, a_servers, a_homes, a_homeSince, a_latest, a_sorted, a_capacity, a_refill, a_bucket, a_countedAt, a_states, a_clients, a_path, a_ranks, a_keys, a_works, a_tried, a_attempts, a_server, a_late, a_came, a_ends, a_heap, a_queue, a_totals) => post 1 (f_points, f_routes, f_nodes, f_durations, f_requests, f_heaped, f_waiting, f_now, f_finished, f_touched, a_weight, a_slots, a_pace, a_running, a_broken, a_down, a_good, a_bad, a_shut, a_till, a_failures, a_successes, a_credit, a_settings, a_ringAt, a_ringServer, a_paths, a_sets, a_next, a_servers, a_homes, a_homeSince, a_latest, a_sorted, a_capacity, a_refill, a_bucket, a_countedAt, a_states, a_clients, a_path, a_ranks, a_keys, a_works, a_tried, a_attempts, a_server, a_late, a_came, a_ends, a_heap, a_queue, a_totals)) (f_points, f_routes, f_nodes, f_durations, f_requests, f_heaped, f_waiting, f_now, f_finished, f_touched, a_weight, a_slots, a_pace, upd a_running s (a_running s + 1), a_broken, a_down, a_good, a_bad, a_shut, a_till, a_failures, a_successes, a_credit, a_settings, a_ringAt, a_ringServer, a_paths, a_sets, a_next, a_servers, a_homes, a_homeSince, a_latest, a_sorted, a_capacity, a_refill, a_bucket, a_countedAt, upd a_states q 1, a_clients, a_path, a_ranks, a_keys, a_works, upd a_tried q (a_tried q ||| ((1 : Int32) <<< (nI s &&& 31))), upd a_attempts q (a_attempts q + 1), upd a_server q (nI s), upd a_late q (zj_lt (a_works q) (a_pace s) (a_settings 1)), a_came, upd a_ends q (f_now + zj_du (a_works q) (a_pace s) (a_settings 1)), a_heap, a_queue, a_totals) x1) :
    wX_attempt_105 post x1 (nI q) (nI s) f_points f_routes f_nodes f_durations f_requests f_heaped f_waiting f_now f_finished f_touched a_weight a_slots a_pace a_running a_broken a_down a_good a_bad a_shut a_till a_failures a_successes a_credit a_settings a_ringAt a_ringServer a_paths a_sets a_next a_servers a_homes a_homeSince a_latest a_sorted a_capacity a_refill a_bucket a_countedAt a_states a_clients a_path a_ranks a_keys a_works a_tried a_attempts a_server a_late a_came a_ends a_heap a_queue a_totals := by
  have is : vp_in (nI s) 6 := vp_in_nI hs (by omega)
  have iq : vp_in (nI q) 32 := vp_in_nI hq (by omega)
  have cs : (nI s).toNatClampNeg = s := nI_clamp (by omega)
  have cq : (nI q).toNatClampNeg = q := nI_clamp (by omega)
  have e1 : upd a_running (nI s).toNatClampNeg (vp_nar .byte ((a_running (nI s).toNatClampNeg + 1).toInt8.toInt32)) = upd a_running s (a_running s + 1) := by
    rw [cs, er, nI_1, za_vb2 (by omega)]
  have e2 : upd a_server (nI q).toNatClampNeg (vp_nar .byte (nI s).toInt8.toInt32) = upd a_server q (nI s) := by
    rw [cq, za_vb2 (by omega)]
  have e3 : upd a_tried (nI q).toNatClampNeg (vp_nar .byte ((a_tried (nI q).toNatClampNeg ||| ((1 : Int32) <<< (nI s &&& 31))).toInt8.toInt32)) = upd a_tried q (a_tried q ||| ((1 : Int32) <<< (nI s &&& 31))) := by
    rw [cq, et, za_or t ht s hs, za_vb2 (by have := za_or64 t ht s hs; omega)]
  have e4 : upd a_attempts (nI q).toNatClampNeg (vp_nar .byte ((a_attempts (nI q).toNatClampNeg + 1).toInt8.toInt32)) = upd a_attempts q (a_attempts q + 1) := by
    rw [cq, ea, nI_1, za_vb2 (by omega)]
  have e5 : upd a_states (nI q).toNatClampNeg (vp_nar .byte 1) = upd a_states q 1 := by rw [cq, za_b1]
  refine And.intro is ⟨is, nm_r e1 ⟨iq, nm_r e2 ⟨iq, iq, nm_r e3 ⟨iq, iq, nm_r e4 ⟨iq, nm_r e5 ⟨iq, is, nm_r (e' := a_works q * a_pace s) (by rw [cs, cq]) ?_⟩⟩⟩⟩⟩⟩
  by_cases hle : a_works q * a_pace s ≤ a_settings 1
  · unfold zj_lt zj_du at h
    rw [if_pos hle, if_pos hle] at h
    refine br_t hle (And.intro iq (nm_r (e' := upd a_late q 0) (by rw [cq, za_z0]) ⟨iq, br_t (by rw [cq, pk_us]) ?_⟩))
    exact And.intro iq (nm_r (e' := upd a_ends q (f_now + a_works q * a_pace s)) (by rw [cq]) h)
  · unfold zj_lt zj_du at h
    rw [if_neg hle, if_neg hle] at h
    refine br_f hle (And.intro iq (nm_r (e' := upd a_late q 1) (by rw [cq, za_z1]) ⟨iq, br_f (by rw [cq, pk_us]; decide) ?_⟩))
    exact And.intro iq (nm_r (e' := upd a_ends q (f_now + a_settings 1)) (by rw [cq]) h)
theorem zy_att {s q : Nat} {post : Int32 → SY → Prop} (hs : s < 6) (hq : q < 32) (cr' : Nat → Int32)
    (hc : ∀ post : Int32 → SY → Prop, post (nI s) (g_time, f_routes, f_requests, g_waiting, a_weight, a_slots, a_pace, b_till, a_failures, cr', a_successes, b_sick, b_well, a_broken, b_up, a_paths, a_sets, a_settings, a_capacity, a_refill, b_tokens, a_homes, a_homeSince, a_clients, a_path, a_keys, a_works, a_ranks, b_state, a_server, a_attempts, a_tried, a_came, b_ended, b_ends, a_late, b_queue, b_total, a_latest, b_sorted) → wpY_choose post (g_time, f_routes, f_requests, g_waiting, a_weight, a_slots, a_pace, b_till, a_failures, a_credit, a_successes, b_sick, b_well, a_broken, b_up, a_paths, a_sets, a_settings, a_capacity, a_refill, b_tokens, a_homes, a_homeSince, a_clients, a_path, a_keys, a_works, a_ranks, b_state, a_server, a_attempts, a_tried, a_came, b_ended, b_ends, a_late, b_queue, b_total, a_latest, b_sorted) (nI q)) (hp : post 1 (g_time, f_routes, f_requests, g_waiting, a_weight, a_slots, a_pace, b_till, a_failures, cr', a_successes, b_sick, b_well, a_broken, b_up, a_paths, a_sets, a_settings, a_capacity, a_refill, b_tokens, a_homes, a_homeSince, a_clients, a_path, a_keys, a_works, a_ranks, upd b_state q 1, upd a_server q (nI s), upd a_attempts q (a_attempts q + 1), upd a_tried q (a_tried q ||| ((1 : Int32) <<< (nI s &&& 31))), a_came, b_ended, upd b_ends q (g_time + zj_du (a_works q) (a_pace s) (a_settings 1)), upd a_late q (zj_lt (a_works q) (a_pace s) (a_settings 1)), b_queue, b_total, a_latest, b_sorted)) : wpY_attempt post (g_time, f_routes, f_requests, g_waiting, a_weight, a_slots, a_pace, b_till, a_failures, a_credit, a_successes, b_sick, b_well, a_broken, b_up, a_paths, a_sets, a_settings, a_capacity, a_refill, b_tokens, a_homes, a_homeSince, a_clients, a_path, a_keys, a_works, a_ranks, b_state, a_server, a_attempts, a_tried, a_came, b_ended, b_ends, a_late, b_queue, b_total, a_latest, b_sorted) (nI q) := by
  have is : vp_in (nI s) 6 := vp_in_nI hs (by omega)
  have iq : vp_in (nI q) 32 := vp_in_nI hq (by omega)
  have cs : (nI s).toNatClampNeg = s := nI_clamp (by omega)
  have cq : (nI q).toNatClampNeg = q := nI_clamp (by omega)
  refine hc _ (br_t (nI_pos' (by omega)) ⟨iq, is, nm_r (e' := a_works q * a_pace s) (by rw [cs, cq]) ?_⟩)
  by_cases hle : a_works q * a_pace s ≤ a_settings 1
  · unfold zj_lt zj_du at hp
    rw [if_pos hle, if_pos hle] at hp
    refine br_t hle (And.intro iq (nm_r (e' := upd a_late q 0) (by rw [cq, za_z0]) ⟨iq, br_t (by rw [cq, pk_us]) ?_⟩))
    exact And.intro iq (nm_r (e' := upd b_ends q (g_time + a_works q * a_pace s)) (by rw [cq]) ⟨iq, nm_r (e' := upd b_state q 1) (by rw [cq]) ⟨iq, nm_r (e' := upd a_server q (nI s)) (by rw [cq])
      ⟨iq, iq, nm_r (e' := upd a_attempts q (a_attempts q + 1)) (by rw [cq]) ⟨iq, iq, nm_r (e' := upd a_tried q (a_tried q ||| ((1 : Int32) <<< (nI s &&& 31)))) (by rw [cq]) hp⟩⟩⟩⟩)
  · unfold zj_lt zj_du at hp
    rw [if_neg hle, if_neg hle] at hp
    refine br_f hle (And.intro iq (nm_r (e' := upd a_late q 1) (by rw [cq, za_z1]) ⟨iq, br_f (by rw [cq, pk_us]; decide) ?_⟩))
    exact And.intro iq (nm_r (e' := upd b_ends q (g_time + a_settings 1)) (by rw [cq]) ⟨iq, nm_r (e' := upd b_state q 1) (by rw [cq]) ⟨iq, nm_r (e' := upd a_server q (nI s)) (by rw [cq])
      ⟨iq, iq, nm_r (e' := upd a_attempts q (a_attempts q + 1)) (by rw [cq]) ⟨iq, iq, nm_r (e' := upd a_tried q (a_tried q ||| ((1 : Int32) <<< (nI s &&& 31)))) (by rw [cq]) hp⟩⟩⟩⟩)
end
end
section
/-! conclude and over; count; remember; the queue's moves -/
section
variable {f_points f_routes f_nodes f_durations f_requests f_heaped f_waiting f_now f_finished f_touched g_time g_waiting : Int32}
variable {a_weight a_slots a_pace a_running a_broken a_down a_good a_bad a_shut a_till a_failures a_successes a_credit a_settings a_ringAt a_ringServer a_paths a_sets a_next a_servers a_homes a_homeSince a_latest a_sorted a_capacity a_refill a_bucket a_countedAt a_states a_clients a_path a_ranks a_keys a_works a_tried a_attempts a_server a_late a_came a_ends a_heap a_queue b_till b_sick b_well b_up b_tokens b_state b_ended b_ends b_queue b_sorted : Nat → Int32}
variable {a_totals b_total : Nat → Int64}
theorem zx_conc {q k : Nat} {x : Int32} {post : SX → Prop} (hx : x = nI k) (hq : q < 32) (hk : k < 5)
    (hp : post (f_points, f_routes, f_nodes, f_durations, f_requests, f_heaped, f_waiting, f_now, f_finished + 1, f_touched, a_weight, a_slots, a_pace, a_running, a_broken, a_down, a_good, a_bad, a_shut, a_till, a_failures, a_successes, a_credit, a_settings, a_ringAt, a_ringServer, a_paths, a_sets, a_next, a_servers, a_homes, a_homeSince, a_latest, a_sorted, a_capacity, a_refill, a_bucket, a_countedAt, upd a_states q x, a_clients, a_path, a_ranks, a_keys, a_works, a_tried, a_attempts, a_server, a_late, a_came, upd a_ends q f_now, a_heap, a_queue, vp_updL a_totals k (a_totals k + 1))) :
    wpX_conclude post (f_points, f_routes, f_nodes, f_durations, f_requests, f_heaped, f_waiting, f_now, f_finished, f_touched, a_weight, a_slots, a_pace, a_running, a_broken, a_down, a_good, a_bad, a_shut, a_till, a_failures, a_successes, a_credit, a_settings, a_ringAt, a_ringServer, a_paths, a_sets, a_next, a_servers, a_homes, a_homeSince, a_latest, a_sorted, a_capacity, a_refill, a_bucket, a_countedAt, a_states, a_clients, a_path, a_ranks, a_keys, a_works, a_tried, a_attempts, a_server, a_late, a_came, a_ends, a_heap, a_queue, a_totals) (nI q) x := by
  subst hx
  have iq : vp_in (nI q) 32 := vp_in_nI hq (by omega)
  have ik : vp_in (nI k) 7 := vp_in_nI (by omega) (by omega)
  have cq : (nI q).toNatClampNeg = q := nI_clamp (by omega)
  have ck : (nI k).toNatClampNeg = k := nI_clamp (by omega)
  refine And.intro iq (nm_r (e' := upd a_states q (nI k)) (by rw [cq, za_vb2 (by omega)]) ⟨iq, nm_r (e' := upd a_ends q f_now) (by rw [cq]) ⟨ik, ik, nm_r (e' := vp_updL a_totals k (a_totals k + 1)) (by rw [ck]) ?_⟩⟩)
  exact br_f (fun z => by have := (nI_eq (a := k) (b := 5) (by omega) (by omega)).mp z; omega) (nm_e hp)
theorem zx_conc5 {q : Nat} {post : SX → Prop} (hq : q < 32)
    (hp : post (f_points, f_routes, f_nodes, f_durations, f_requests, f_heaped, f_waiting, f_now, f_finished, f_touched, a_weight, a_slots, a_pace, a_running, a_broken, a_down, a_good, a_bad, a_shut, a_till, a_failures, a_successes, a_credit, a_settings, a_ringAt, a_ringServer, a_paths, a_sets, a_next, a_servers, a_homes, a_homeSince, a_latest, a_sorted, a_capacity, a_refill, a_bucket, a_countedAt, upd a_states q 5, a_clients, a_path, a_ranks, a_keys, a_works, a_tried, a_attempts, a_server, a_late, a_came, upd a_ends q f_now, a_heap, a_queue, vp_updL a_totals 5 (a_totals 5 + 1))) :
    wpX_conclude post (f_points, f_routes, f_nodes, f_durations, f_requests, f_heaped, f_waiting, f_now, f_finished, f_touched, a_weight, a_slots, a_pace, a_running, a_broken, a_down, a_good, a_bad, a_shut, a_till, a_failures, a_successes, a_credit, a_settings, a_ringAt, a_ringServer, a_paths, a_sets, a_next, a_servers, a_homes, a_homeSince, a_latest, a_sorted, a_capacity, a_refill, a_bucket, a_countedAt, a_states, a_clients, a_path, a_ranks, a_keys, a_works, a_tried, a_attempts, a_server, a_late, a_came, a_ends, a_heap, a_queue, a_totals) (nI q) 5 := by
  have iq : vp_in (nI q) 32 := vp_in_nI hq (by omega)
  have ik : vp_in 5 7 := vp_in_nI (n := 5) (by omega) (by omega)
  have cq : (nI q).toNatClampNeg = q := nI_clamp (by omega)
  have ck : (5 : Int32).toNatClampNeg = 5 := by decide
  have e5 : vp_nar .byte (5 : Int32).toInt8.toInt32 = 5 := za_vb2 (n := 5) (by omega)
  refine And.intro iq (nm_r (e' := upd a_states q 5) (by rw [cq, e5]) ⟨iq, nm_r (e' := upd a_ends q f_now) (by rw [cq]) ⟨ik, ik, nm_r (e' := vp_updL a_totals 5 (a_totals 5 + 1)) (by rw [ck]) ?_⟩⟩)
  exact br_t rfl hp
theorem zy_over {q k : Nat} {x : Int32} {post : SY → Prop} (hx : x = nI k) (hq : q < 32) (hk : k < 7)
    (hp : post (g_time, f_routes, f_requests, g_waiting, a_weight, a_slots, a_pace, b_till, a_failures, a_credit, a_successes, b_sick, b_well, a_broken, b_up, a_paths, a_sets, a_settings, a_capacity, a_refill, b_tokens, a_homes, a_homeSince, a_clients, a_path, a_keys, a_works, a_ranks, upd b_state q x, a_server, a_attempts, a_tried, a_came, upd b_ended q g_time, b_ends, a_late, b_queue, vp_updL b_total k (b_total k + 1), a_latest, b_sorted)) : wpY_over post (g_time, f_routes, f_requests, g_waiting, a_weight, a_slots, a_pace, b_till, a_failures, a_credit, a_successes, b_sick, b_well, a_broken, b_up, a_paths, a_sets, a_settings, a_capacity, a_refill, b_tokens, a_homes, a_homeSince, a_clients, a_path, a_keys, a_works, a_ranks, b_state, a_server, a_attempts, a_tried, a_came, b_ended, b_ends, a_late, b_queue, b_total, a_latest, b_sorted) (nI q) x := by
  subst hx
  have iq : vp_in (nI q) 32 := vp_in_nI hq (by omega)
  have ik : vp_in (nI k) 7 := vp_in_nI (by omega) (by omega)
  have cq : (nI q).toNatClampNeg = q := nI_clamp (by omega)
  have ck : (nI k).toNatClampNeg = k := nI_clamp (by omega)
  exact And.intro iq (nm_r (e' := upd b_state q (nI k)) (by rw [cq]) ⟨iq, nm_r (e' := upd b_ended q g_time) (by rw [cq]) ⟨ik, ik, nm_r (e' := vp_updL b_total k (b_total k + 1)) (by rw [ck]) hp⟩⟩)
theorem zx_count {c b ca r cap T : Nat} {post : SX → Prop} (hc : c < 6) (e1 : a_capacity c = nI cap) (hcap : cap ≤ 20) (e2 : a_refill c = nI r) (hr1 : 1 ≤ r) (hr2 : r ≤ 100)
    (e3 : a_bucket c = nI b) (hb : b ≤ cap) (e4 : a_countedAt c = nI ca) (hca : ca ≤ T) (hT : T < 2 ^ 31)
    (hp : post (f_points, f_routes, f_nodes, f_durations, f_requests, f_heaped, f_waiting, nI T, f_finished, f_touched, a_weight, a_slots, a_pace, a_running, a_broken, a_down, a_good, a_bad, a_shut, a_till, a_failures, a_successes, a_credit, a_settings, a_ringAt, a_ringServer, a_paths, a_sets, a_next, a_servers, a_homes, a_homeSince, a_latest, a_sorted, a_capacity, a_refill, upd a_bucket c (nI (zk_F b ca r cap T)), upd a_countedAt c (nI T), a_states, a_clients, a_path, a_ranks, a_keys, a_works, a_tried, a_attempts, a_server, a_late, a_came, a_ends, a_heap, a_queue, a_totals)) : wpX_count post (f_points, f_routes, f_nodes, f_durations, f_requests, f_heaped, f_waiting, nI T, f_finished, f_touched, a_weight, a_slots, a_pace, a_running, a_broken, a_down, a_good, a_bad, a_shut, a_till, a_failures, a_successes, a_credit, a_settings, a_ringAt, a_ringServer, a_paths, a_sets, a_next, a_servers, a_homes, a_homeSince, a_latest, a_sorted, a_capacity, a_refill, a_bucket, a_countedAt, a_states, a_clients, a_path, a_ranks, a_keys, a_works, a_tried, a_attempts, a_server, a_late, a_came, a_ends, a_heap, a_queue, a_totals) (nI c) := by
  have ic : vp_in (nI c) 6 := vp_in_nI hc (by omega)
  have cc : (nI c).toNatClampNeg = c := nI_clamp (by omega)
  have h0 : ¬ nI r = 0 := nI_ne0 (by omega) (by omega)
  have hdv : ca / r ≤ T / r := Nat.div_le_div_right hca
  have hdl : T / r ≤ T := Nat.div_le_self _ _
  have em : nI T / nI r - nI ca / nI r = nI (T / r - ca / r) := by
    rw [pk_div hT (by omega) (by omega), pk_div (by omega) (by omega) (by omega), pk_sub hdv]
  have er : nI cap - nI b = nI (cap - b) := pk_sub hb
  have fin : ∀ z : Nat, zk_F b ca r cap T = b + z → wX_count_57 post (nI c) (nI z) (nI b) (nI c) f_points f_routes f_nodes f_durations f_requests f_heaped f_waiting (nI T) f_finished f_touched a_weight a_slots a_pace a_running a_broken a_down a_good a_bad a_shut a_till a_failures a_successes a_credit a_settings a_ringAt a_ringServer a_paths a_sets a_next a_servers a_homes a_homeSince a_latest a_sorted a_capacity a_refill a_bucket a_countedAt a_states a_clients a_path a_ranks a_keys a_works a_tried a_attempts a_server a_late a_came a_ends a_heap a_queue a_totals := by
    intro z hz
    have hle := zk_F_le (b := b) (c := ca) (r := r) (cap := cap) (t := T)
    exact And.intro ic (nm_r (e' := upd a_bucket c (nI (zk_F b ca r cap T))) (by rw [cc, nI_add, ← hz, za_vb2 (by omega)]) ⟨ic, nm_r (e' := upd a_countedAt c (nI T)) (by rw [cc]) hp⟩)
  refine And.intro ic ?_
  rw [cc, e2]
  refine ⟨h0, ic, ic, h0, ?_⟩
  rw [e4]
  refine nm_r em ⟨ic, ic, ?_⟩
  rw [e1, e3]
  have hml : T / r - ca / r < 2 ^ 31 := Nat.lt_of_le_of_lt (Nat.sub_le _ _) (Nat.lt_of_le_of_lt hdl hT)
  refine nm_r er ⟨ic, pk_le (cap - b) (T / r - ca / r) (fun h => fin _ ?_) (fun h => fin _ ?_) rfl rfl (by omega) hml⟩
  · unfold zk_F; omega
  · unfold zk_F; omega
/-! remember -/
def zj_dn (D : Nat) : Nat := if D < 64 then D else 64 + D % 64
def zj_rm (D : Nat) (la so : Nat → Int32) : Prop := zs_so so (min D 64) ∧ ∀ v, zc_n so v (min D 64) = zc_n la v (min D 64)
theorem zx_rem131 {D n k : Nat} {d : Int32} {so : Nat → Int32} {post : SX → Prop} (hk : k ≤ n) (hn : n < 64)
    (hp : post (f_points, f_routes, f_nodes, nI (zj_dn (D + 1)), f_requests, f_heaped, f_waiting, f_now, f_finished, f_touched, a_weight, a_slots, a_pace, a_running, a_broken, a_down, a_good, a_bad, a_shut, a_till, a_failures, a_successes, a_credit, a_settings, a_ringAt, a_ringServer, a_paths, a_sets, a_next, a_servers, a_homes, a_homeSince, upd a_latest (D % 64) d, zs_ins so n k d, a_capacity, a_refill, a_bucket, a_countedAt, a_states, a_clients, a_path, a_ranks, a_keys, a_works, a_tried, a_attempts, a_server, a_late, a_came, a_ends, a_heap, a_queue, a_totals)) :
    wX_remember_131 post d (nI k) f_points f_routes f_nodes (nI (zj_dn D)) f_requests f_heaped f_waiting f_now f_finished f_touched a_weight a_slots a_pace a_running a_broken a_down a_good a_bad a_shut a_till a_failures a_successes a_credit a_settings a_ringAt a_ringServer a_paths a_sets a_next a_servers a_homes a_homeSince a_latest (zs_ps so n k) a_capacity a_refill a_bucket a_countedAt a_states a_clients a_path a_ranks a_keys a_works a_tried a_attempts a_server a_late a_came a_ends a_heap a_queue a_totals := by
  have hlt : zj_dn D < 128 := by unfold zj_dn; split <;> omega
  have hmod : zj_dn D % 64 = D % 64 := by unfold zj_dn; split <;> omega
  have em : nI (zj_dn D) &&& 63 = nI (D % 64) := by rw [za_m63 (by omega), hmod]
  refine And.intro (vp_in_nI (by omega) (by omega)) (nm_r (e' := zs_ins so n k d) (by rw [nI_clamp (by omega), zs_ps_end hk]) ⟨by rw [em]; exact vp_in_nI (by omega) (by omega), nm_r (e' := upd a_latest (D % 64) d) (by rw [em, nI_clamp (by omega)]) (nm_r (nI_1 _) ?_)⟩)
  refine pk_eq (zj_dn D + 1) 128 (fun h => ?_) (fun h => ?_)
  · have e : zj_dn (D + 1) = 64 := by unfold zj_dn at h ⊢; split at h <;> split <;> omega
    rw [e] at hp; exact hp
  · have e : zj_dn (D + 1) = zj_dn D + 1 := by unfold zj_dn at h ⊢; split at h <;> split <;> omega
    rw [e] at hp; exact hp
theorem zx_rem95 {n : Nat} {d : Int32} {so : Nat → Int32} (hn : n < 64) : ∀ i, i ≤ n → (∀ j, i ≤ j → j < n → d < so j) →
    ∃ k, k ≤ n ∧ (∀ j, k ≤ j → j < n → d < so j) ∧ (k = 0 ∨ so (k - 1) ≤ d) ∧
    ∀ {f_points f_routes f_nodes f_durations f_requests f_heaped f_waiting f_now f_finished f_touched : Int32} {a_weight a_slots a_pace a_running a_broken a_down a_good a_bad a_shut a_till a_failures a_successes a_credit a_settings a_ringAt a_ringServer a_paths a_sets a_next a_servers a_homes a_homeSince a_latest a_capacity a_refill a_bucket a_countedAt a_states a_clients a_path a_ranks a_keys a_works a_tried a_attempts a_server a_late a_came a_ends a_heap a_queue : Nat → Int32} {a_totals : Nat → Int64} (post : SX → Prop) (N : Nat) (x : Int32), x = nI i → i < N → wX_remember_131 post d (nI k) f_points f_routes f_nodes f_durations f_requests f_heaped f_waiting f_now f_finished f_touched a_weight a_slots a_pace a_running a_broken a_down a_good a_bad a_shut a_till a_failures a_successes a_credit a_settings a_ringAt a_ringServer a_paths a_sets a_next a_servers a_homes a_homeSince a_latest (zs_ps so n k) a_capacity a_refill a_bucket a_countedAt a_states a_clients a_path a_ranks a_keys a_works a_tried a_attempts a_server a_late a_came a_ends a_heap a_queue a_totals →
      wX_remember_95 post d f_points f_routes f_nodes f_durations f_requests f_heaped f_waiting f_now f_finished f_touched N x a_weight a_slots a_pace a_running a_broken a_down a_good a_bad a_shut a_till a_failures a_successes a_credit a_settings a_ringAt a_ringServer a_paths a_sets a_next a_servers a_homes a_homeSince a_latest (zs_ps so n i) a_capacity a_refill a_bucket a_countedAt a_states a_clients a_path a_ranks a_keys a_works a_tried a_attempts a_server a_late a_came a_ends a_heap a_queue a_totals := by
  intro i
  induction i with
  | zero =>
    intro _ h
    refine ⟨0, by omega, h, Or.inl rfl, ?_⟩
    intros
    rename_i post N x hx hN hpo
    subst hx
    obtain ⟨M, rfl⟩ : ∃ M, N = M + 1 := ⟨N - 1, by omega⟩
    exact br_t (by rw [nI_0]; exact Int32.le_refl _) hpo
  | succ i ih =>
    intro hi h
    have hpos : ¬ nI (i + 1) ≤ 0 := nI_nle (by omega) (by omega)
    have epr : nI (i + 1) - 1 = nI i := nI_pred i
    have hin : vp_in (nI (i + 1) - 1) 64 := by rw [epr]; exact vp_in_nI (by omega) (by omega)
    have hin' : vp_in (nI (i + 1)) 64 := vp_in_nI (by omega) (by omega)
    have c : (nI (i + 1) - 1).toNatClampNeg = i := by rw [epr]; exact nI_clamp (by omega)
    have c' : (nI (i + 1)).toNatClampNeg = i + 1 := nI_clamp (by omega)
    have lo : zs_ps so n (i + 1) i = so i := zs_ps_lo (by omega)
    by_cases hc : so i ≤ d
    · refine ⟨i + 1, hi, h, Or.inr hc, ?_⟩
      intros
      rename_i post N x hx hN hpo
      subst hx
      obtain ⟨M, rfl⟩ : ∃ M, N = M + 1 := ⟨N - 1, by omega⟩
      exact br_f hpos ⟨hin, br_t (by rw [c, lo]; exact hc) hpo⟩
    · obtain ⟨k, h1, h2, h3, H⟩ := ih (by omega) (fun j hj hj2 => by
        by_cases e : j = i
        · subst e; exact Int32.not_le.mp hc
        · exact h j (by omega) hj2)
      refine ⟨k, h1, h2, h3, ?_⟩
      intros
      rename_i post N x hx hN hpo
      subst hx
      obtain ⟨M, rfl⟩ : ∃ M, N = M + 1 := ⟨N - 1, by omega⟩
      refine br_f hpos ⟨hin, br_f (by rw [c, lo]; exact hc) ⟨hin, hin', nm_r (e' := zs_ps so n i) ?_ (nm_r (pk_m1 i) (H post M _ rfl (by omega) hpo))⟩⟩
      rw [c, c', lo]
      exact zs_ps_st (i := i + 1) (by omega) hi
theorem zx_rem65 {at0 : Nat} {d : Int32} {so : Nat → Int32} (ha : at0 < 64) {post : SX → Prop}
    (hp : ∃ n95, wX_remember_95 post d f_points f_routes f_nodes f_durations f_requests f_heaped f_waiting f_now f_finished f_touched n95 (nI 63) a_weight a_slots a_pace a_running a_broken a_down a_good a_bad a_shut a_till a_failures a_successes a_credit a_settings a_ringAt a_ringServer a_paths a_sets a_next a_servers a_homes a_homeSince a_latest (zs_del so 64 at0) a_capacity a_refill a_bucket a_countedAt a_states a_clients a_path a_ranks a_keys a_works a_tried a_attempts a_server a_late a_came a_ends a_heap a_queue a_totals) : ∀ e i N, i + e = 63 → at0 ≤ i → e < N →
    wX_remember_65 post d (nI 63) f_points f_routes f_nodes f_durations f_requests f_heaped f_waiting f_now f_finished f_touched N (nI i) a_weight a_slots a_pace a_running a_broken a_down a_good a_bad a_shut a_till a_failures a_successes a_credit a_settings a_ringAt a_ringServer a_paths a_sets a_next a_servers a_homes a_homeSince a_latest (zs_pd so at0 i) a_capacity a_refill a_bucket a_countedAt a_states a_clients a_path a_ranks a_keys a_works a_tried a_attempts a_server a_late a_came a_ends a_heap a_queue a_totals := by
  intro e
  induction e with
  | zero =>
    intro i N hi h1 hN
    obtain ⟨M, rfl⟩ : ∃ M, N = M + 1 := ⟨N - 1, by omega⟩
    have : i = 63 := by omega
    subst this
    rw [zs_pd_end (n := 64) (by omega)]
    exact br_t (Int32.le_refl _) hp
  | succ e ih =>
    intro i N hi h1 hN
    obtain ⟨M, rfl⟩ : ∃ M, N = M + 1 := ⟨N - 1, by omega⟩
    have c : (nI i).toNatClampNeg = i := nI_clamp (by omega)
    have c' : (nI i + 1).toNatClampNeg = i + 1 := by rw [nI_1]; exact nI_clamp (by omega)
    refine br_f (nI_ge (by omega) (by omega)) ⟨by rw [nI_1]; exact vp_in_nI (by omega) (by omega), vp_in_nI (by omega) (by omega), nm_r (e' := zs_pd so at0 (i + 1)) ?_ (nm_r (nI_1 i) (ih (i + 1) M (by omega) (by omega) (by omega)))⟩
    rw [c, c', zs_pd_hi (by omega), zs_pd_st h1]
theorem zx_rem41 {at0 : Nat} {d x3 : Int32} {so : Nat → Int32} (ha : at0 < 64) (hat : so at0 = x3) (hno : ∀ j, j < at0 → ¬ so j = x3) {post : SX → Prop}
    (hp : ∃ n65, wX_remember_65 post d (nI 63) f_points f_routes f_nodes f_durations f_requests f_heaped f_waiting f_now f_finished f_touched n65 (nI at0) a_weight a_slots a_pace a_running a_broken a_down a_good a_bad a_shut a_till a_failures a_successes a_credit a_settings a_ringAt a_ringServer a_paths a_sets a_next a_servers a_homes a_homeSince a_latest so a_capacity a_refill a_bucket a_countedAt a_states a_clients a_path a_ranks a_keys a_works a_tried a_attempts a_server a_late a_came a_ends a_heap a_queue a_totals) : ∀ e i N, i + e = at0 → e < N →
    wX_remember_41 post d (nI 64) x3 f_points f_routes f_nodes f_durations f_requests f_heaped f_waiting f_now f_finished f_touched a_weight a_slots a_pace a_running a_broken a_down a_good a_bad a_shut a_till a_failures a_successes a_credit a_settings a_ringAt a_ringServer a_paths a_sets a_next a_servers a_homes a_homeSince a_latest so a_capacity a_refill a_bucket a_countedAt a_states a_clients a_path a_ranks a_keys a_works a_tried a_attempts a_server a_late a_came a_ends a_heap a_queue a_totals N (nI i) := by
  intro e
  induction e with
  | zero =>
    intro i N hi hN
    obtain ⟨M, rfl⟩ : ∃ M, N = M + 1 := ⟨N - 1, by omega⟩
    have : i = at0 := by omega
    subst this
    exact And.intro (vp_in_nI ha (by omega)) (br_t (by rw [nI_clamp (by omega)]; exact hat) (nm_r (pk_m1 63) hp))
  | succ e ih =>
    intro i N hi hN
    obtain ⟨M, rfl⟩ : ∃ M, N = M + 1 := ⟨N - 1, by omega⟩
    exact And.intro (vp_in_nI (by omega) (by omega)) (br_f (by rw [nI_clamp (by omega)]; exact hno i (by omega)) (nm_r (nI_1 i) (ih (i + 1) M (by omega) (by omega))))
theorem zx_remember {D : Nat} {la so : Nat → Int32} (I : zj_rm D la so) (d : Int32) : ∃ so', zj_rm (D + 1) (upd la (D % 64) d) so' ∧
    ∀ {f_points f_routes f_nodes f_requests f_heaped f_waiting f_now f_finished f_touched : Int32} {a_weight a_slots a_pace a_running a_broken a_down a_good a_bad a_shut a_till a_failures a_successes a_credit a_settings a_ringAt a_ringServer a_paths a_sets a_next a_servers a_homes a_homeSince a_capacity a_refill a_bucket a_countedAt a_states a_clients a_path a_ranks a_keys a_works a_tried a_attempts a_server a_late a_came a_ends a_heap a_queue : Nat → Int32} {a_totals : Nat → Int64} (post : SX → Prop), post (f_points, f_routes, f_nodes, nI (zj_dn (D + 1)), f_requests, f_heaped, f_waiting, f_now, f_finished, f_touched, a_weight, a_slots, a_pace, a_running, a_broken, a_down, a_good, a_bad, a_shut, a_till, a_failures, a_successes, a_credit, a_settings, a_ringAt, a_ringServer, a_paths, a_sets, a_next, a_servers, a_homes, a_homeSince, upd la (D % 64) d, so', a_capacity, a_refill, a_bucket, a_countedAt, a_states, a_clients, a_path, a_ranks, a_keys, a_works, a_tried, a_attempts, a_server, a_late, a_came, a_ends, a_heap, a_queue, a_totals) →
      wpX_remember post (f_points, f_routes, f_nodes, nI (zj_dn D), f_requests, f_heaped, f_waiting, f_now, f_finished, f_touched, a_weight, a_slots, a_pace, a_running, a_broken, a_down, a_good, a_bad, a_shut, a_till, a_failures, a_successes, a_credit, a_settings, a_ringAt, a_ringServer, a_paths, a_sets, a_next, a_servers, a_homes, a_homeSince, la, so, a_capacity, a_refill, a_bucket, a_countedAt, a_states, a_clients, a_path, a_ranks, a_keys, a_works, a_tried, a_attempts, a_server, a_late, a_came, a_ends, a_heap, a_queue, a_totals) d := by
  obtain ⟨I1, I2⟩ := I
  by_cases hD : D < 64
  · have em : min D 64 = D := by omega
    have em' : min (D + 1) 64 = D + 1 := by omega
    have ed : zj_dn D = D := by unfold zj_dn; rw [if_pos hD]
    rw [em] at I1 I2
    obtain ⟨k, h1, h2, h3, H⟩ := zx_rem95 (n := D) (d := d) (so := so) hD D (by omega) (fun j h h' => by omega)
    rw [zs_ps0] at H
    refine ⟨zs_ins so D k d, ⟨?_, ?_⟩, ?_⟩
    · rw [em']
      refine zs_so_ins I1 h1 (fun j hj hj2 => Int32.le_of_lt (h2 j hj hj2)) (fun j hj => ?_)
      rcases h3 with z | z
      · omega
      · exact Int32.le_trans (I1 j (k - 1) (by omega) (by omega)) z
    · intro v
      rw [em', zs_ins_cnt D h1, I2, Nat.mod_eq_of_lt hD, zc_n_s, pk_us]
      rw [zc_n_congr (f := upd la D d) (g := la) (fun i hi => pk_un (by omega))]
    · intros
      rename_i post hp
      refine br_f (by rw [ed]; exact nI_ge (b := 64) hD (by decide)) (br_f (fun z => ?_) ⟨D + 1, H post (D + 1) _ (by rw [ed]) (by omega) (zx_rem131 h1 hD hp)⟩)
      rw [ed] at z
      have := (nI_eq (a := D) (b := 64) (by omega) (by omega)).mp z
      omega
  · have em : min D 64 = 64 := by omega
    have em' : min (D + 1) 64 = 64 := by omega
    have ed : zj_dn D = 64 + D % 64 := by unfold zj_dn; rw [if_neg hD]
    rw [em] at I1 I2
    have hex : ∃ i, i < 64 ∧ so i = la (D % 64) := by
      apply zc_n_pos
      rw [I2]
      exact zc_n_mem (by omega)
    obtain ⟨at0, ⟨ha, hat⟩, hmin⟩ := pk_least (fun i => i < 64 ∧ so i = la (D % 64)) hex
    have hno : ∀ j, j < at0 → ¬ so j = la (D % 64) := fun j hj e => hmin j hj ⟨by omega, e⟩
    have S1 : zs_so (zs_del so 64 at0) 63 := zs_so_del (n := 63) I1
    obtain ⟨k, h1, h2, h3, H⟩ := zx_rem95 (n := 63) (d := d) (so := zs_del so 64 at0) (by omega) 63 (by omega) (fun j h h' => by omega)
    rw [zs_ps0] at H
    refine ⟨zs_ins (zs_del so 64 at0) 63 k d, ⟨?_, ?_⟩, ?_⟩
    · rw [em']
      refine zs_so_ins S1 h1 (fun j hj hj2 => Int32.le_of_lt (h2 j hj hj2)) (fun j hj => ?_)
      rcases h3 with z | z
      · omega
      · exact Int32.le_trans (S1 j (k - 1) (by omega) (by omega)) z
    · intro v
      have a1 : zc_n (zs_ins (zs_del so 64 at0) 63 k d) v 64 = _ := zs_ins_cnt (s := zs_del so 64 at0) (k := k) (d := d) (v := v) 63 h1
      have a2 : zc_n so v 64 = zc_n (zs_del so 64 at0) v 63 + _ := zs_del_cnt (s := so) (k := at0) (v := v) 63 (by omega)
      have a3 := zc_n_upd (f := la) (k := D % 64) (n := 64) v d (by omega)
      have a4 := I2 v
      rw [hat] at a2
      rw [em']
      omega
    · intros
      rename_i post hp
      have hle : (64 : Int32) ≤ nI (zj_dn D) := by rw [ed]; exact nI_le (a := 64) (by omega) (by omega)
      have emm : nI (zj_dn D) &&& 63 = nI (D % 64) := by rw [ed, za_m63 (by omega), Nat.add_mod_left, Nat.mod_mod]
      refine br_t hle (br_t rfl ⟨by rw [emm]; exact vp_in_nI (by omega) (by omega), nm_r (e' := la (D % 64)) (by rw [emm, nI_clamp (by omega)]) ⟨at0 + 1, ?_⟩⟩)
      refine zx_rem41 ha hat hno ⟨64, ?_⟩ at0 0 (at0 + 1) (by omega) (by omega)
      have h65 := zx_rem65 (so := so) (d := d) ha (post := post) ⟨64, H post 64 _ rfl (by omega) (zx_rem131 (D := D) h1 (by omega) hp)⟩ (63 - at0) at0 64 (by omega) (by omega) (by omega)
      rw [zs_pd0] at h65
      exact h65
/-! the queue's moves -/
theorem zx_leave12 {w k : Nat} {qu : Nat → Int32} {post : SX → Prop} (hw : w < 8) (hp : post (f_points, f_routes, f_nodes, f_durations, f_requests, f_heaped, nI w, f_now, f_finished, f_touched, a_weight, a_slots, a_pace, a_running, a_broken, a_down, a_good, a_bad, a_shut, a_till, a_failures, a_successes, a_credit, a_settings, a_ringAt, a_ringServer, a_paths, a_sets, a_next, a_servers, a_homes, a_homeSince, a_latest, a_sorted, a_capacity, a_refill, a_bucket, a_countedAt, a_states, a_clients, a_path, a_ranks, a_keys, a_works, a_tried, a_attempts, a_server, a_late, a_came, a_ends, a_heap, zs_del qu (w + 1) k, a_totals)) :
    ∀ e i N, i + e = w → k ≤ i → e < N → wX_leaveQueue_12 post f_points f_routes f_nodes f_durations f_requests f_heaped (nI w) f_now f_finished f_touched N (nI i) a_weight a_slots a_pace a_running a_broken a_down a_good a_bad a_shut a_till a_failures a_successes a_credit a_settings a_ringAt a_ringServer a_paths a_sets a_next a_servers a_homes a_homeSince a_latest a_sorted a_capacity a_refill a_bucket a_countedAt a_states a_clients a_path a_ranks a_keys a_works a_tried a_attempts a_server a_late a_came a_ends a_heap (zs_pd qu k i) a_totals := by
  intro e
  induction e with
  | zero =>
    intro i N hi h1 hN
    obtain ⟨M, rfl⟩ : ∃ M, N = M + 1 := ⟨N - 1, by omega⟩
    have : i = w := by omega
    subst this
    rw [zs_pd_end (n := i + 1) rfl]
    exact br_t (Int32.le_refl _) hp
  | succ e ih =>
    intro i N hi h1 hN
    obtain ⟨M, rfl⟩ : ∃ M, N = M + 1 := ⟨N - 1, by omega⟩
    have c : (nI i).toNatClampNeg = i := nI_clamp (by omega)
    have c' : (nI i + 1).toNatClampNeg = i + 1 := by rw [nI_1]; exact nI_clamp (by omega)
    refine br_f (nI_ge (by omega) (by omega)) ⟨by rw [nI_1]; exact vp_in_nI (by omega) (by omega), vp_in_nI (by omega) (by omega), nm_r (e' := zs_pd qu k (i + 1)) ?_ (nm_r (nI_1 i) (ih (i + 1) M (by omega) (by omega) (by omega)))⟩
    rw [c, c', zs_pd_hi (by omega), zs_pd_st h1]
theorem zx_leave {w k : Nat} {post : SX → Prop} (hw : w < 8) (hk : k ≤ w) (hp : post (f_points, f_routes, f_nodes, f_durations, f_requests, f_heaped, nI w, f_now, f_finished, f_touched, a_weight, a_slots, a_pace, a_running, a_broken, a_down, a_good, a_bad, a_shut, a_till, a_failures, a_successes, a_credit, a_settings, a_ringAt, a_ringServer, a_paths, a_sets, a_next, a_servers, a_homes, a_homeSince, a_latest, a_sorted, a_capacity, a_refill, a_bucket, a_countedAt, a_states, a_clients, a_path, a_ranks, a_keys, a_works, a_tried, a_attempts, a_server, a_late, a_came, a_ends, a_heap, zs_del a_queue (w + 1) k, a_totals)) :
    wpX_leaveQueue post (f_points, f_routes, f_nodes, f_durations, f_requests, f_heaped, nI (w + 1), f_now, f_finished, f_touched, a_weight, a_slots, a_pace, a_running, a_broken, a_down, a_good, a_bad, a_shut, a_till, a_failures, a_successes, a_credit, a_settings, a_ringAt, a_ringServer, a_paths, a_sets, a_next, a_servers, a_homes, a_homeSince, a_latest, a_sorted, a_capacity, a_refill, a_bucket, a_countedAt, a_states, a_clients, a_path, a_ranks, a_keys, a_works, a_tried, a_attempts, a_server, a_late, a_came, a_ends, a_heap, a_queue, a_totals) (nI k) := by
  have := zx_leave12 (qu := a_queue) (k := k) hw hp (w - k) k (w - k + 1) (by omega) (by omega) (by omega)
  rw [zs_pd0] at this
  exact nm_r (nI_pred w) ⟨w - k + 1, this⟩
theorem zj_join {m q : Nat} {qa qb rk : Nat → Int32} (hm : m < 2 ^ 31) (hq : m % 32 = q) : ∀ i, i ≤ 8 → (∀ j, j < i → ∃ a, a < 2 ^ 31 ∧ qa j = nI a ∧ qb j = nI a) →
    ∃ k, k ≤ i ∧
    (∀ {f_points f_routes f_nodes f_durations f_requests f_heaped f_waiting f_now f_finished f_touched : Int32} {a_weight a_slots a_pace a_running a_broken a_down a_good a_bad a_shut a_till a_failures a_successes a_credit a_settings a_ringAt a_ringServer a_paths a_sets a_next a_servers a_homes a_homeSince a_latest a_sorted a_capacity a_refill a_bucket a_countedAt a_states a_clients a_path a_keys a_works a_tried a_attempts a_server a_late a_came a_ends a_heap : Nat → Int32} {a_totals : Nat → Int64} (post : SX → Prop) (n N : Nat), i ≤ n → n < 8 → i < N → post (f_points, f_routes, f_nodes, f_durations, f_requests, f_heaped, f_waiting, f_now, f_finished, f_touched, a_weight, a_slots, a_pace, a_running, a_broken, a_down, a_good, a_bad, a_shut, a_till, a_failures, a_successes, a_credit, a_settings, a_ringAt, a_ringServer, a_paths, a_sets, a_next, a_servers, a_homes, a_homeSince, a_latest, a_sorted, a_capacity, a_refill, a_bucket, a_countedAt, a_states, a_clients, a_path, rk, a_keys, a_works, a_tried, a_attempts, a_server, a_late, a_came, a_ends, a_heap, zs_ins qa n k (nI m), a_totals) →
      wX_joinQueue_12 post (nI m) f_points f_routes f_nodes f_durations f_requests f_heaped f_waiting f_now f_finished f_touched N (nI i) a_weight a_slots a_pace a_running a_broken a_down a_good a_bad a_shut a_till a_failures a_successes a_credit a_settings a_ringAt a_ringServer a_paths a_sets a_next a_servers a_homes a_homeSince a_latest a_sorted a_capacity a_refill a_bucket a_countedAt a_states a_clients a_path rk a_keys a_works a_tried a_attempts a_server a_late a_came a_ends a_heap (zs_ps qa n i) a_totals) ∧
    (∀ {g_time f_routes f_requests g_waiting : Int32} {a_weight a_slots a_pace b_till a_failures a_credit a_successes b_sick b_well a_broken b_up a_paths a_sets a_settings a_capacity a_refill b_tokens a_homes a_homeSince a_clients a_path a_keys a_works b_state a_server a_attempts a_tried a_came b_ended b_ends a_late a_latest b_sorted : Nat → Int32} {b_total : Nat → Int64} (post : SY → Prop) (n N : Nat), i ≤ n → n ≤ 8 → i < N → wY_place_65 post (nI k) g_time f_routes f_requests g_waiting a_weight a_slots a_pace b_till a_failures a_credit a_successes b_sick b_well a_broken b_up a_paths a_sets a_settings a_capacity a_refill b_tokens a_homes a_homeSince a_clients a_path a_keys a_works rk b_state a_server a_attempts a_tried a_came b_ended b_ends a_late (zs_ps qb n k) b_total a_latest b_sorted →
      wY_place_16 post (nI q) g_time f_routes f_requests g_waiting N (nI i) a_weight a_slots a_pace b_till a_failures a_credit a_successes b_sick b_well a_broken b_up a_paths a_sets a_settings a_capacity a_refill b_tokens a_homes a_homeSince a_clients a_path a_keys a_works rk b_state a_server a_attempts a_tried a_came b_ended b_ends a_late (zs_ps qb n i) b_total a_latest b_sorted) := by
  have m31 : nI m &&& 31 = nI q := by rw [za_m31 hm, hq]
  have cm : (nI m &&& 31).toNatClampNeg = q := by rw [m31]; exact nI_clamp (by omega)
  have im : vp_in (nI m &&& 31) 32 := by rw [m31]; exact vp_in_nI (by omega) (by omega)
  have iq : vp_in (nI q) 32 := vp_in_nI (by omega) (by omega)
  have cq : (nI q).toNatClampNeg = q := nI_clamp (by omega)
  intro i
  induction i with
  | zero =>
    intro _ _
    refine ⟨0, by omega, ?_, ?_⟩
    · intros
      rename_i post n N h1 h2 hN hp
      obtain ⟨M, rfl⟩ : ∃ M, N = M + 1 := ⟨N - 1, by omega⟩
      exact br_t (by rw [nI_0]; exact Int32.le_refl _) ⟨vp_in_nI (by omega) (by omega), nm_r (e' := zs_ins qa n 0 (nI m)) (by rw [nI_clamp (by omega), zs_ps_end (by omega)]) hp⟩
    · intros
      rename_i post n N h1 h2 hN hp
      obtain ⟨M, rfl⟩ : ∃ M, N = M + 1 := ⟨N - 1, by omega⟩
      exact br_t (by rw [nI_0]; exact Int32.le_refl _) hp
  | succ i ih =>
    intro hi hq1
    obtain ⟨a, ha, ea, eb⟩ := hq1 i (by omega)
    have hpos : ¬ nI (i + 1) ≤ 0 := nI_nle (by omega) (by omega)
    have epr : nI (i + 1) - 1 = nI i := nI_pred i
    have c : (nI (i + 1) - 1).toNatClampNeg = i := by rw [epr]; exact nI_clamp (by omega)
    have c' : (nI (i + 1)).toNatClampNeg = i + 1 := nI_clamp (by omega)
    have a31 : nI a &&& 31 = nI (a % 32) := za_m31 ha
    have r32 : nI a - nI a / 32 * 32 = nI (a % 32) := za_r32 ha
    have ca : (nI (a % 32)).toNatClampNeg = a % 32 := nI_clamp (by omega)
    have ia : vp_in (nI (a % 32)) 32 := vp_in_nI (by omega) (by omega)
    have hin8 : vp_in (nI (i + 1) - 1) 8 := by rw [epr]; exact vp_in_nI (by omega) (by omega)
    have hin9 : vp_in (nI (i + 1) - 1) 9 := by rw [epr]; exact vp_in_nI (by omega) (by omega)
    have hin9' : vp_in (nI (i + 1)) 9 := vp_in_nI (by omega) (by omega)
    have n32 : ¬ (32 : Int32) = 0 := by decide
    have loa : ∀ n, zs_ps qa n (i + 1) (nI (i + 1) - 1).toNatClampNeg = nI a := fun n => by rw [c, zs_ps_lo (by omega), ea]
    have lob : ∀ n, zs_ps qb n (i + 1) (nI (i + 1) - 1).toNatClampNeg = nI a := fun n => by rw [c, zs_ps_lo (by omega), eb]
    by_cases hc : rk q ≤ rk (a % 32)
    · refine ⟨i + 1, by omega, ?_, ?_⟩
      · intros
        rename_i post n N h1 h2 hN hp
        obtain ⟨M, rfl⟩ : ∃ M, N = M + 1 := ⟨N - 1, by omega⟩
        refine br_f hpos ⟨hin8, by rw [loa, a31]; exact ia, im, br_t (by rw [loa, a31, ca, cm]; exact hc) ⟨vp_in_nI (by omega) (by omega), nm_r (e' := zs_ins qa n (i + 1) (nI m)) (by rw [c', zs_ps_end (by omega)]) hp⟩⟩
      · intros
        rename_i post n N h1 h2 hN hp
        obtain ⟨M, rfl⟩ : ∃ M, N = M + 1 := ⟨N - 1, by omega⟩
        exact br_f hpos ⟨hin9, n32, by rw [lob, r32]; exact ia, iq, br_t (by rw [lob, r32, ca, cq]; exact hc) hp⟩
    · obtain ⟨k, hk, HX, HY⟩ := ih (by omega) (fun j hj => hq1 j (by omega))
      refine ⟨k, by omega, ?_, ?_⟩
      · intros
        rename_i post n N h1 h2 hN hp
        obtain ⟨M, rfl⟩ : ∃ M, N = M + 1 := ⟨N - 1, by omega⟩
        refine br_f hpos ⟨hin8, by rw [loa, a31]; exact ia, im, br_f (by rw [loa, a31, ca, cm]; exact hc) ⟨hin8, vp_in_nI (by omega) (by omega), nm_r (e' := zs_ps qa n i) ?_ (nm_r (pk_m1 i) (HX post n M (by omega) h2 (by omega) hp))⟩⟩
        rw [loa, c', ← ea]
        exact zs_ps_st (i := i + 1) (by omega) h1
      · intros
        rename_i post n N h1 h2 hN hp
        obtain ⟨M, rfl⟩ : ∃ M, N = M + 1 := ⟨N - 1, by omega⟩
        refine br_f hpos ⟨hin9, n32, by rw [lob, r32]; exact ia, iq, br_f (by rw [lob, r32, ca, cq]; exact hc) ⟨hin9, hin9', nm_r (e' := zs_ps qb n i) ?_ (nm_r (pk_m1 i) (HY post n M (by omega) h2 (by omega) hp))⟩⟩
        rw [lob, c', ← eb]
        exact zs_ps_st (i := i + 1) (by omega) h1
end
end
section
/-! checks on both sides; whether one would change something; the next event -/
section
variable {f_points f_routes f_nodes f_durations f_requests f_heaped f_waiting f_now f_finished f_touched g_time g_waiting : Int32}
variable {a_weight a_slots a_pace a_running a_broken a_down a_good a_bad a_shut a_till a_failures a_successes a_credit a_settings a_ringAt a_ringServer a_paths a_sets a_next a_servers a_homes a_homeSince a_latest a_sorted a_capacity a_refill a_bucket a_countedAt a_states a_clients a_path a_ranks a_keys a_works a_tried a_attempts a_server a_late a_came a_ends a_heap a_queue b_till b_sick b_well b_up b_tokens b_state b_ended b_ends b_queue b_sorted : Nat → Int32}
variable {a_totals b_total : Nat → Int64}
def zj_c1 (Tm : Nat) (dn go ba si we up : Nat → Int32) (s : Nat) : Prop :=
  ∃ sk wl, sk ≤ Tm ∧ wl ≤ Tm ∧ si s = nI sk ∧ we s = nI wl ∧ ba s = nI (min sk 2) ∧ go s = nI (min wl 2) ∧ (2 ≤ sk → dn s = 1) ∧ (2 ≤ wl → dn s = 0) ∧
    ((dn s = 0 ∧ up s = 1) ∨ (dn s = 1 ∧ up s = 0))
theorem zj_c1_mono {Tm Tm' s : Nat} {dn go ba si we up : Nat → Int32} (h : Tm ≤ Tm') (H : zj_c1 Tm dn go ba si we up s) : zj_c1 Tm' dn go ba si we up s := by
  obtain ⟨sk, wl, h1, h2, r⟩ := H
  exact ⟨sk, wl, by omega, by omega, r⟩
theorem zj_c1_congr {Tm s : Nat} {dn go ba si we up dn' go' ba' si' we' up' : Nat → Int32} (h1 : dn' s = dn s) (h2 : go' s = go s) (h3 : ba' s = ba s) (h4 : si' s = si s) (h5 : we' s = we s) (h6 : up' s = up s)
    (H : zj_c1 Tm dn go ba si we up s) : zj_c1 Tm dn' go' ba' si' we' up' s := by
  unfold zj_c1
  rw [h1, h2, h3, h4, h5, h6]
  exact H
/-- Y's check, a good server -/
theorem zy_chk0 {s wl : Nat} {post : SY → Prop} (hs : s < 6) (hb : a_broken s = 0) (hw : wl < 2 ^ 30) (ew : b_well s = nI wl)
    (hp : post (g_time, f_routes, f_requests, g_waiting, a_weight, a_slots, a_pace, b_till, a_failures, a_credit, a_successes, upd b_sick s 0, upd b_well s (nI (wl + 1)), a_broken, if 1 ≤ wl then upd b_up s 1 else b_up, a_paths, a_sets, a_settings, a_capacity, a_refill, b_tokens, a_homes, a_homeSince, a_clients, a_path, a_keys, a_works, a_ranks, b_state, a_server, a_attempts, a_tried, a_came, b_ended, b_ends, a_late, b_queue, b_total, a_latest, b_sorted)) : wpY_check post (g_time, f_routes, f_requests, g_waiting, a_weight, a_slots, a_pace, b_till, a_failures, a_credit, a_successes, b_sick, b_well, a_broken, b_up, a_paths, a_sets, a_settings, a_capacity, a_refill, b_tokens, a_homes, a_homeSince, a_clients, a_path, a_keys, a_works, a_ranks, b_state, a_server, a_attempts, a_tried, a_came, b_ended, b_ends, a_late, b_queue, b_total, a_latest, b_sorted) (nI s) := by
  have is : vp_in (nI s) 6 := vp_in_nI hs (by omega)
  have cs : (nI s).toNatClampNeg = s := nI_clamp (by omega)
  refine And.intro is (br_t (by rw [cs]; exact hb) (And.intro is (nm_r (e' := upd b_sick s 0) (by rw [cs]) ⟨is, br_t (by rw [cs]; exact hb) ⟨is, And.intro is (nm_r (e' := upd b_well s (nI (wl + 1))) (by rw [cs, ew, nI_1]) ⟨is, br_t (by rw [cs, pk_us]; decide) (And.intro is ?_)⟩)⟩⟩)))
  rw [cs, pk_us]
  refine pk_le (wl + 1) 1 (fun h => ?_) (fun h => ?_)
  · rw [if_neg (by omega)] at hp; exact hp
  · rw [if_pos (by omega)] at hp
    exact ⟨is, nm_r (e' := upd b_up s 1) (by rw [za_z1]) hp⟩
/-- Y's check, a broken server -/
theorem zy_chk1 {s sk : Nat} {post : SY → Prop} (hs : s < 6) (hb : a_broken s = 1) (hk : sk < 2 ^ 30) (ek : b_sick s = nI sk)
    (hp : post (g_time, f_routes, f_requests, g_waiting, a_weight, a_slots, a_pace, b_till, a_failures, a_credit, a_successes, upd b_sick s (nI (sk + 1)), upd b_well s 0, a_broken, if 1 ≤ sk then upd b_up s 0 else b_up, a_paths, a_sets, a_settings, a_capacity, a_refill, b_tokens, a_homes, a_homeSince, a_clients, a_path, a_keys, a_works, a_ranks, b_state, a_server, a_attempts, a_tried, a_came, b_ended, b_ends, a_late, b_queue, b_total, a_latest, b_sorted)) : wpY_check post (g_time, f_routes, f_requests, g_waiting, a_weight, a_slots, a_pace, b_till, a_failures, a_credit, a_successes, b_sick, b_well, a_broken, b_up, a_paths, a_sets, a_settings, a_capacity, a_refill, b_tokens, a_homes, a_homeSince, a_clients, a_path, a_keys, a_works, a_ranks, b_state, a_server, a_attempts, a_tried, a_came, b_ended, b_ends, a_late, b_queue, b_total, a_latest, b_sorted) (nI s) := by
  have is : vp_in (nI s) 6 := vp_in_nI hs (by omega)
  have cs : (nI s).toNatClampNeg = s := nI_clamp (by omega)
  have hne : ¬ a_broken s = 0 := by rw [hb]; decide
  refine And.intro is (br_f (by rw [cs]; exact hne) ⟨is, And.intro is (nm_r (e' := upd b_sick s (nI (sk + 1))) (by rw [cs, ek, nI_1]) ⟨is, br_f (by rw [cs]; exact hne) (And.intro is (nm_r (e' := upd b_well s 0) (by rw [cs]) ⟨is, ?_⟩))⟩)⟩)
  rw [cs, pk_us]
  refine pk_le (sk + 1) 1 (fun h => ?_) (fun h => ?_)
  · rw [if_neg (by omega)] at hp
    refine And.intro is ?_
    rw [cs, pk_us]
    exact br_t (by decide) hp
  · rw [if_pos (by omega)] at hp
    refine ⟨is, nm_r (e' := upd b_up s 0) (by rw [za_z0]) (And.intro is ?_)⟩
    rw [cs, pk_us]
    exact br_t (by decide) hp
/-- X's check -/
theorem zx_chk0 {s g : Nat} {post : SX → Prop} (hs : s < 6) (hb : a_broken s = 0) (hg : g ≤ 2) (eg : a_good s = nI g)
    (hp : post (f_points, f_routes, f_nodes, f_durations, f_requests, f_heaped, f_waiting, f_now, f_finished, f_touched, a_weight, a_slots, a_pace, a_running, a_broken, if 1 ≤ g then upd a_down s 0 else a_down, upd a_good s (nI (min (g + 1) 2)), upd a_bad s 0, a_shut, a_till, a_failures, a_successes, a_credit, a_settings, a_ringAt, a_ringServer, a_paths, a_sets, a_next, a_servers, a_homes, a_homeSince, a_latest, a_sorted, a_capacity, a_refill, a_bucket, a_countedAt, a_states, a_clients, a_path, a_ranks, a_keys, a_works, a_tried, a_attempts, a_server, a_late, a_came, a_ends, a_heap, a_queue, a_totals)) : wpX_check post (f_points, f_routes, f_nodes, f_durations, f_requests, f_heaped, f_waiting, f_now, f_finished, f_touched, a_weight, a_slots, a_pace, a_running, a_broken, a_down, a_good, a_bad, a_shut, a_till, a_failures, a_successes, a_credit, a_settings, a_ringAt, a_ringServer, a_paths, a_sets, a_next, a_servers, a_homes, a_homeSince, a_latest, a_sorted, a_capacity, a_refill, a_bucket, a_countedAt, a_states, a_clients, a_path, a_ranks, a_keys, a_works, a_tried, a_attempts, a_server, a_late, a_came, a_ends, a_heap, a_queue, a_totals) (nI s) := by
  have is : vp_in (nI s) 6 := vp_in_nI hs (by omega)
  have cs : (nI s).toNatClampNeg = s := nI_clamp (by omega)
  refine And.intro is (br_t (by rw [cs]; exact hb) ⟨is, nm_r (e' := upd a_bad s 0) (by rw [cs, za_b0]) ⟨is, ?_⟩⟩)
  rw [cs, eg]
  refine pk_le 2 g (fun h => ?_) (fun h => ?_)
  · have : g = 2 := by omega
    subst this
    rw [if_pos (by omega), show min (2 + 1) 2 = 2 from rfl, ← eg, za_us] at hp
    exact And.intro is (by rw [cs, eg]; exact br_t rfl ⟨is, nm_r (e' := upd a_down s 0) (by rw [za_z0]) hp⟩)
  · rw [show min (g + 1) 2 = g + 1 by omega] at hp
    refine ⟨is, is, nm_r (e' := upd a_good s (nI (g + 1))) (by rw [nI_1, za_vb2 (by omega)]) (And.intro is ?_)⟩
    rw [cs, pk_us]
    refine pk_eq (g + 1) 2 (fun h => ?_) (fun h => ?_)
    · rw [if_pos (by omega)] at hp
      exact ⟨is, nm_r (e' := upd a_down s 0) (by rw [za_z0]) hp⟩
    · rw [if_neg (by omega)] at hp
      exact hp
theorem zx_chk1 {s g : Nat} {post : SX → Prop} (hs : s < 6) (hb : a_broken s = 1) (hg : g ≤ 2) (eg : a_bad s = nI g)
    (hp : post (f_points, f_routes, f_nodes, f_durations, f_requests, f_heaped, f_waiting, f_now, f_finished, f_touched, a_weight, a_slots, a_pace, a_running, a_broken, if 1 ≤ g then upd a_down s 1 else a_down, upd a_good s 0, upd a_bad s (nI (min (g + 1) 2)), a_shut, a_till, a_failures, a_successes, a_credit, a_settings, a_ringAt, a_ringServer, a_paths, a_sets, a_next, a_servers, a_homes, a_homeSince, a_latest, a_sorted, a_capacity, a_refill, a_bucket, a_countedAt, a_states, a_clients, a_path, a_ranks, a_keys, a_works, a_tried, a_attempts, a_server, a_late, a_came, a_ends, a_heap, a_queue, a_totals)) : wpX_check post (f_points, f_routes, f_nodes, f_durations, f_requests, f_heaped, f_waiting, f_now, f_finished, f_touched, a_weight, a_slots, a_pace, a_running, a_broken, a_down, a_good, a_bad, a_shut, a_till, a_failures, a_successes, a_credit, a_settings, a_ringAt, a_ringServer, a_paths, a_sets, a_next, a_servers, a_homes, a_homeSince, a_latest, a_sorted, a_capacity, a_refill, a_bucket, a_countedAt, a_states, a_clients, a_path, a_ranks, a_keys, a_works, a_tried, a_attempts, a_server, a_late, a_came, a_ends, a_heap, a_queue, a_totals) (nI s) := by
  have is : vp_in (nI s) 6 := vp_in_nI hs (by omega)
  have cs : (nI s).toNatClampNeg = s := nI_clamp (by omega)
  have hne : ¬ a_broken s = 0 := by rw [hb]; decide
  refine And.intro is (br_f (by rw [cs]; exact hne) ⟨is, nm_r (e' := upd a_good s 0) (by rw [cs, za_b0]) ⟨is, ?_⟩⟩)
  rw [cs, eg]
  refine pk_le 2 g (fun h => ?_) (fun h => ?_)
  · have : g = 2 := by omega
    subst this
    rw [if_pos (by omega), show min (2 + 1) 2 = 2 from rfl, ← eg, za_us] at hp
    exact And.intro is (by rw [cs, eg]; exact br_t rfl ⟨is, nm_r (e' := upd a_down s 1) (by rw [za_z1]) hp⟩)
  · rw [show min (g + 1) 2 = g + 1 by omega] at hp
    refine ⟨is, is, nm_r (e' := upd a_bad s (nI (g + 1))) (by rw [nI_1, za_vb2 (by omega)]) (And.intro is ?_)⟩
    rw [cs, pk_us]
    refine pk_eq (g + 1) 2 (fun h => ?_) (fun h => ?_)
    · rw [if_pos (by omega)] at hp
      exact ⟨is, nm_r (e' := upd a_down s 1) (by rw [za_z1]) hp⟩
    · rw [if_neg (by omega)] at hp
      exact hp
theorem zc_if {p : Prop} [Decidable p] {f : Nat → Int32} {s t : Nat} {x : Int32} (h : t ≠ s) : (if p then upd f s x else f) t = f t := by
  split
  · exact pk_un h
  · rfl
/-- one check on both sides -/
theorem zj_chk {s Tm : Nat} {br dn go ba si we up : Nat → Int32} (hs : s < 6) (hT : Tm < 2 ^ 30) (hb : br s = 0 ∨ br s = 1) (C : zj_c1 Tm dn go ba si we up s) :
    ∃ dn' go' ba' si' we' up', zj_c1 (Tm + 1) dn' go' ba' si' we' up' s ∧
    (∀ t, t ≠ s → dn' t = dn t ∧ go' t = go t ∧ ba' t = ba t ∧ si' t = si t ∧ we' t = we t ∧ up' t = up t) ∧
    (∀ {f_points f_routes f_nodes f_durations f_requests f_heaped f_waiting f_now f_finished f_touched : Int32} {a_weight a_slots a_pace a_running a_shut a_till a_failures a_successes a_credit a_settings a_ringAt a_ringServer a_paths a_sets a_next a_servers a_homes a_homeSince a_latest a_sorted a_capacity a_refill a_bucket a_countedAt a_states a_clients a_path a_ranks a_keys a_works a_tried a_attempts a_server a_late a_came a_ends a_heap a_queue : Nat → Int32} {a_totals : Nat → Int64} (post : SX → Prop), post (f_points, f_routes, f_nodes, f_durations, f_requests, f_heaped, f_waiting, f_now, f_finished, f_touched, a_weight, a_slots, a_pace, a_running, br, dn', go', ba', a_shut, a_till, a_failures, a_successes, a_credit, a_settings, a_ringAt, a_ringServer, a_paths, a_sets, a_next, a_servers, a_homes, a_homeSince, a_latest, a_sorted, a_capacity, a_refill, a_bucket, a_countedAt, a_states, a_clients, a_path, a_ranks, a_keys, a_works, a_tried, a_attempts, a_server, a_late, a_came, a_ends, a_heap, a_queue, a_totals) → wpX_check post (f_points, f_routes, f_nodes, f_durations, f_requests, f_heaped, f_waiting, f_now, f_finished, f_touched, a_weight, a_slots, a_pace, a_running, br, dn, go, ba, a_shut, a_till, a_failures, a_successes, a_credit, a_settings, a_ringAt, a_ringServer, a_paths, a_sets, a_next, a_servers, a_homes, a_homeSince, a_latest, a_sorted, a_capacity, a_refill, a_bucket, a_countedAt, a_states, a_clients, a_path, a_ranks, a_keys, a_works, a_tried, a_attempts, a_server, a_late, a_came, a_ends, a_heap, a_queue, a_totals) (nI s)) ∧
    (∀ {g_time f_routes f_requests g_waiting : Int32} {a_weight a_slots a_pace b_till a_failures a_credit a_successes a_paths a_sets a_settings a_capacity a_refill b_tokens a_homes a_homeSince a_clients a_path a_keys a_works a_ranks b_state a_server a_attempts a_tried a_came b_ended b_ends a_late b_queue a_latest b_sorted : Nat → Int32} {b_total : Nat → Int64} (post : SY → Prop), post (g_time, f_routes, f_requests, g_waiting, a_weight, a_slots, a_pace, b_till, a_failures, a_credit, a_successes, si', we', br, up', a_paths, a_sets, a_settings, a_capacity, a_refill, b_tokens, a_homes, a_homeSince, a_clients, a_path, a_keys, a_works, a_ranks, b_state, a_server, a_attempts, a_tried, a_came, b_ended, b_ends, a_late, b_queue, b_total, a_latest, b_sorted) → wpY_check post (g_time, f_routes, f_requests, g_waiting, a_weight, a_slots, a_pace, b_till, a_failures, a_credit, a_successes, si, we, br, up, a_paths, a_sets, a_settings, a_capacity, a_refill, b_tokens, a_homes, a_homeSince, a_clients, a_path, a_keys, a_works, a_ranks, b_state, a_server, a_attempts, a_tried, a_came, b_ended, b_ends, a_late, b_queue, b_total, a_latest, b_sorted) (nI s)) := by
  obtain ⟨sk, wl, h1, h2, e1, e2, e3, e4, h3, h4, h5⟩ := C
  rcases hb with hb | hb
  · refine ⟨if 1 ≤ min wl 2 then upd dn s 0 else dn, upd go s (nI (min (min wl 2 + 1) 2)), upd ba s 0, upd si s 0, upd we s (nI (wl + 1)), if 1 ≤ wl then upd up s 1 else up, ?_, ?_, ?_, ?_⟩
    · refine ⟨0, wl + 1, by omega, by omega, pk_us, pk_us, by rw [pk_us]; rfl, by rw [pk_us]; congr 1; omega, fun h => by omega, fun h => ?_, ?_⟩
      · rw [if_pos (by omega), pk_us]
      · by_cases z : 1 ≤ wl
        · rw [if_pos (by omega), if_pos z, pk_us, pk_us]; exact Or.inl ⟨rfl, rfl⟩
        · rw [if_neg (by omega), if_neg z]; exact h5
    · intro t ht
      exact ⟨zc_if ht, pk_un ht, pk_un ht, pk_un ht, pk_un ht, zc_if ht⟩
    · intros
      rename_i post hp
      exact zx_chk0 hs hb (by omega) e4 hp
    · intros
      rename_i post hp
      exact zy_chk0 hs hb (by omega) e2 hp
  · refine ⟨if 1 ≤ min sk 2 then upd dn s 1 else dn, upd go s 0, upd ba s (nI (min (min sk 2 + 1) 2)), upd si s (nI (sk + 1)), upd we s 0, if 1 ≤ sk then upd up s 0 else up, ?_, ?_, ?_, ?_⟩
    · refine ⟨sk + 1, 0, by omega, by omega, pk_us, pk_us, by rw [pk_us]; congr 1; omega, by rw [pk_us]; rfl, fun h => ?_, fun h => by omega, ?_⟩
      · rw [if_pos (by omega), pk_us]
      · by_cases z : 1 ≤ sk
        · rw [if_pos (by omega), if_pos z, pk_us, pk_us]; exact Or.inr ⟨rfl, rfl⟩
        · rw [if_neg (by omega), if_neg z]; exact h5
    · intro t ht
      exact ⟨zc_if ht, pk_un ht, pk_un ht, pk_un ht, pk_un ht, zc_if ht⟩
    · intros
      rename_i post hp
      exact zx_chk1 hs hb (by omega) e3 hp
    · intros
      rename_i post hp
      exact zy_chk1 hs hb (by omega) e1 hp
/-- a check changes nothing that is seen -/
def zj_st (br go ba : Nat → Int32) (s : Nat) : Prop := (br s = 0 ∧ ¬ go s < 2 ∧ ba s ≤ 0) ∨ (¬ br s = 0 ∧ ¬ ba s < 2 ∧ go s ≤ 0)
theorem zy_chkq {s Tm : Nat} {br dn go ba si we up : Nat → Int32} (hs : s < 6) (hT : Tm < 2 ^ 30) (hb : br s = 0 ∨ br s = 1) (S : zj_st br go ba s) (C : zj_c1 Tm dn go ba si we up s) :
    ∃ si' we' up', zj_c1 (Tm + 1) dn go ba si' we' up' s ∧ (∀ t, t ≠ s → si' t = si t ∧ we' t = we t ∧ up' t = up t) ∧
    (∀ {g_time f_routes f_requests g_waiting : Int32} {a_weight a_slots a_pace b_till a_failures a_credit a_successes a_paths a_sets a_settings a_capacity a_refill b_tokens a_homes a_homeSince a_clients a_path a_keys a_works a_ranks b_state a_server a_attempts a_tried a_came b_ended b_ends a_late b_queue a_latest b_sorted : Nat → Int32} {b_total : Nat → Int64} (post : SY → Prop), post (g_time, f_routes, f_requests, g_waiting, a_weight, a_slots, a_pace, b_till, a_failures, a_credit, a_successes, si', we', br, up', a_paths, a_sets, a_settings, a_capacity, a_refill, b_tokens, a_homes, a_homeSince, a_clients, a_path, a_keys, a_works, a_ranks, b_state, a_server, a_attempts, a_tried, a_came, b_ended, b_ends, a_late, b_queue, b_total, a_latest, b_sorted) → wpY_check post (g_time, f_routes, f_requests, g_waiting, a_weight, a_slots, a_pace, b_till, a_failures, a_credit, a_successes, si, we, br, up, a_paths, a_sets, a_settings, a_capacity, a_refill, b_tokens, a_homes, a_homeSince, a_clients, a_path, a_keys, a_works, a_ranks, b_state, a_server, a_attempts, a_tried, a_came, b_ended, b_ends, a_late, b_queue, b_total, a_latest, b_sorted) (nI s)) := by
  obtain ⟨sk, wl, h1, h2, e1, e2, e3, e4, h3, h4, h5⟩ := C
  unfold zj_st at S
  rw [e3, e4] at S
  have l2 : ∀ k, k ≤ 2 → ¬ nI k < 2 → k = 2 := fun k hk h => by
    have := mt (nI_ltI (a := k) (b := 2) (by omega) (by omega)).mpr h
    omega
  have l0 : ∀ k, k ≤ 2 → nI k ≤ 0 → k = 0 := fun k hk h => by
    have := (nI_leI (a := k) (b := 0) (by omega) (by omega)).mp h
    omega
  rcases hb with hb | hb
  · rcases S with ⟨_, s1, s2⟩ | ⟨s0, _, _⟩
    · have a1 := l2 _ (by omega) s1
      have a2 := l0 _ (by omega) s2
      refine ⟨upd si s 0, upd we s (nI (wl + 1)), if 1 ≤ wl then upd up s 1 else up, ?_, ?_, ?_⟩
      · refine ⟨0, wl + 1, by omega, by omega, pk_us, pk_us, by rw [e3, a2]; rfl, by rw [e4]; congr 1; omega, fun h => by omega, fun _ => h4 (by omega), ?_⟩
        rw [if_pos (by omega), pk_us]
        exact Or.inl ⟨h4 (by omega), rfl⟩
      · intro t ht
        exact ⟨pk_un ht, pk_un ht, zc_if ht⟩
      · intros
        rename_i post hp
        exact zy_chk0 hs hb (by omega) e2 hp
    · exact absurd hb s0
  · rcases S with ⟨s0, _, _⟩ | ⟨_, s1, s2⟩
    · rw [hb] at s0; exact absurd s0 (by decide)
    · have a1 := l2 _ (by omega) s1
      have a2 := l0 _ (by omega) s2
      refine ⟨upd si s (nI (sk + 1)), upd we s 0, if 1 ≤ sk then upd up s 0 else up, ?_, ?_, ?_⟩
      · refine ⟨sk + 1, 0, by omega, by omega, pk_us, pk_us, by rw [e3]; congr 1; omega, by rw [e4, a2]; rfl, fun _ => h3 (by omega), fun h => by omega, ?_⟩
        rw [if_pos (by omega), pk_us]
        exact Or.inr ⟨h3 (by omega), rfl⟩
      · intro t ht
        exact ⟨pk_un ht, pk_un ht, zc_if ht⟩
      · intros
        rename_i post hp
        exact zy_chk1 hs hb (by omega) e1 hp
theorem zx_unset {br go ba : Nat → Int32} : ∃ r : Int32, (r = 0 → ∀ s, s < 6 → zj_st br go ba s) ∧
    (∀ {f_points f_routes f_nodes f_durations f_requests f_heaped f_waiting f_now f_finished f_touched : Int32} {a_weight a_slots a_pace a_running a_down a_shut a_till a_failures a_successes a_credit a_settings a_ringAt a_ringServer a_paths a_sets a_next a_servers a_homes a_homeSince a_latest a_sorted a_capacity a_refill a_bucket a_countedAt a_states a_clients a_path a_ranks a_keys a_works a_tried a_attempts a_server a_late a_came a_ends a_heap a_queue : Nat → Int32} {a_totals : Nat → Int64} (post : Int32 → Prop), post r → wpX_isUnsettled post (f_points, f_routes, f_nodes, f_durations, f_requests, f_heaped, f_waiting, f_now, f_finished, f_touched, a_weight, a_slots, a_pace, a_running, br, a_down, go, ba, a_shut, a_till, a_failures, a_successes, a_credit, a_settings, a_ringAt, a_ringServer, a_paths, a_sets, a_next, a_servers, a_homes, a_homeSince, a_latest, a_sorted, a_capacity, a_refill, a_bucket, a_countedAt, a_states, a_clients, a_path, a_ranks, a_keys, a_works, a_tried, a_attempts, a_server, a_late, a_came, a_ends, a_heap, a_queue, a_totals)) := by
  have : ∀ d s, s + d = 6 → (∀ t, t < s → zj_st br go ba t) → ∃ r : Int32, (r = 0 → ∀ s, s < 6 → zj_st br go ba s) ∧
    (∀ {f_points f_routes f_nodes f_durations f_requests f_heaped f_waiting f_now f_finished f_touched : Int32} {a_weight a_slots a_pace a_running a_down a_shut a_till a_failures a_successes a_credit a_settings a_ringAt a_ringServer a_paths a_sets a_next a_servers a_homes a_homeSince a_latest a_sorted a_capacity a_refill a_bucket a_countedAt a_states a_clients a_path a_ranks a_keys a_works a_tried a_attempts a_server a_late a_came a_ends a_heap a_queue : Nat → Int32} {a_totals : Nat → Int64} (post : Int32 → Prop) (N : Nat), d < N → post r → wX_isUnsettled_2 post f_points f_routes f_nodes f_durations f_requests f_heaped f_waiting f_now f_finished f_touched a_weight a_slots a_pace a_running br a_down go ba a_shut a_till a_failures a_successes a_credit a_settings a_ringAt a_ringServer a_paths a_sets a_next a_servers a_homes a_homeSince a_latest a_sorted a_capacity a_refill a_bucket a_countedAt a_states a_clients a_path a_ranks a_keys a_works a_tried a_attempts a_server a_late a_came a_ends a_heap a_queue a_totals N (nI s)) := by
    intro d
    induction d with
    | zero =>
      intro s hs h
      have : s = 6 := by omega
      subst this
      refine ⟨0, fun _ => h, ?_⟩
      intros
      rename_i post N hN hp
      obtain ⟨M, rfl⟩ : ∃ M, N = M + 1 := ⟨N - 1, by omega⟩
      exact br_t (Int32.le_refl _) hp
    | succ d ih =>
      intro s hs h
      have h6 : ¬ (6 : Int32) ≤ nI s := nI_ge (b := 6) (by omega) (by decide)
      have is : vp_in (nI s) 6 := vp_in_nI (by omega) (by omega)
      have cs : (nI s).toNatClampNeg = s := nI_clamp (by omega)
      by_cases hS : zj_st br go ba s
      · obtain ⟨r, h1, H⟩ := ih (s + 1) (by omega) (fun t ht => by
          by_cases e : t = s
          · subst e; exact hS
          · exact h t (by omega))
        refine ⟨r, h1, ?_⟩
        intros
        rename_i post N hN hp
        obtain ⟨M, rfl⟩ : ∃ M, N = M + 1 := ⟨N - 1, by omega⟩
        rcases hS with ⟨s0, s1, s2⟩ | ⟨s0, s1, s2⟩
        · exact br_f h6 ⟨is, br_t (by rw [cs]; exact s0) ⟨is, br_f (by rw [cs]; exact s1) ⟨is, br_t (by rw [cs]; exact s2) (nm_r (nI_1 s) (H post M (by omega) hp))⟩⟩⟩
        · exact br_f h6 ⟨is, br_f (by rw [cs]; exact s0) ⟨is, br_f (by rw [cs]; exact s1) ⟨is, br_t (by rw [cs]; exact s2) (nm_r (nI_1 s) (H post M (by omega) hp))⟩⟩⟩
      · refine ⟨1, fun z => absurd z (by decide), ?_⟩
        intros
        rename_i post N hN hp
        obtain ⟨M, rfl⟩ : ∃ M, N = M + 1 := ⟨N - 1, by omega⟩
        refine br_f h6 ⟨is, ?_⟩
        rw [cs]
        refine br_c (fun s0 => ⟨is, br_c (fun _ => hp) (fun s1 => ⟨is, br_c (fun s2 => absurd (Or.inl ⟨s0, s1, s2⟩) hS) (fun _ => hp)⟩)⟩)
          (fun s0 => ⟨is, br_c (fun _ => hp) (fun s1 => ⟨is, br_c (fun s2 => absurd (Or.inr ⟨s0, s1, s2⟩) hS) (fun _ => hp)⟩)⟩)
  obtain ⟨r, h1, H⟩ := this 6 0 (by omega) (fun t ht => by omega)
  refine ⟨r, h1, ?_⟩
  intros
  rename_i post hp
  exact ⟨7, H post 7 (by omega) hp⟩
/-! the next event -/
theorem zx_ne145 {T : Nat} {to : Int32} {sh ti : Nat → Int32} (hT : T < 2 ^ 30) (hti : ∀ s, s < 6 → ¬ sh s = 0 → ∃ t, t < 2 ^ 30 ∧ ti s = nI t) :
    ∀ (d s b : Nat), s + d = 6 → b < 2 ^ 30 → ∃ b' e, b' ≤ b ∧ (∀ t, s ≤ t → t < 6 → ¬ sh t = 0 → ∀ k, k < 2 ^ 30 → ti t = nI k → k ≤ T ∨ b' ≤ k) ∧ (e = T + 1 ∨ (e = b' ∧ to = 0 ∧ T < b')) ∧
    (∀ {f_points f_routes f_nodes f_durations f_requests f_heaped f_waiting f_finished : Int32} {a_weight a_slots a_pace a_running a_broken a_down a_good a_bad a_failures a_successes a_credit a_settings a_ringAt a_ringServer a_paths a_sets a_next a_servers a_homes a_homeSince a_latest a_sorted a_capacity a_refill a_bucket a_countedAt a_states a_clients a_path a_ranks a_keys a_works a_tried a_attempts a_server a_late a_came a_ends a_heap a_queue : Nat → Int32} {a_totals : Nat → Int64} (post : Int32 → Prop) (N : Nat), d < N → post (nI e) → wX_nextEvent_145 post f_points f_routes f_nodes f_durations f_requests f_heaped f_waiting (nI T) f_finished to a_weight a_slots a_pace a_running a_broken a_down a_good a_bad sh ti a_failures a_successes a_credit a_settings a_ringAt a_ringServer a_paths a_sets a_next a_servers a_homes a_homeSince a_latest a_sorted a_capacity a_refill a_bucket a_countedAt a_states a_clients a_path a_ranks a_keys a_works a_tried a_attempts a_server a_late a_came a_ends a_heap a_queue a_totals N (nI b) (nI s)) := by
  intro d
  induction d with
  | zero =>
    intro s b hs hb
    have : s = 6 := by omega
    subst this
    by_cases h : to = 0 ∧ T < b
    · refine ⟨b, b, by omega, fun t h1 h2 => by omega, Or.inr ⟨rfl, h.1, h.2⟩, ?_⟩
      intros
      rename_i post N hN hp
      obtain ⟨M, rfl⟩ : ∃ M, N = M + 1 := ⟨N - 1, by omega⟩
      exact br_t (Int32.le_refl _) (br_t h.1 (br_t (nI_lt h.2 (by omega)) hp))
    · refine ⟨b, T + 1, by omega, fun t h1 h2 => by omega, Or.inl rfl, ?_⟩
      intros
      rename_i post N hN hp
      obtain ⟨M, rfl⟩ : ∃ M, N = M + 1 := ⟨N - 1, by omega⟩
      refine br_t (Int32.le_refl _) (br_c (fun h1 => br_f (fun z => h ⟨h1, (nI_ltI (by omega) (by omega)).mp z⟩) ?_) (fun _ => ?_))
      · rw [nI_1]; exact hp
      · rw [nI_1]; exact hp
  | succ d ih =>
    intro s b hs hb
    have h6 : ¬ (6 : Int32) ≤ nI s := nI_ge (b := 6) (by omega) (by decide)
    have is : vp_in (nI s) 6 := vp_in_nI (by omega) (by omega)
    have cs : (nI s).toNatClampNeg = s := nI_clamp (by omega)
    have key : ∃ b1, b1 ≤ b ∧ (¬ sh s = 0 → ∀ k, k < 2 ^ 30 → ti s = nI k → k ≤ T ∨ b1 ≤ k) ∧
        (∀ {f_points f_routes f_nodes f_durations f_requests f_heaped f_waiting f_finished : Int32} {a_weight a_slots a_pace a_running a_broken a_down a_good a_bad a_failures a_successes a_credit a_settings a_ringAt a_ringServer a_paths a_sets a_next a_servers a_homes a_homeSince a_latest a_sorted a_capacity a_refill a_bucket a_countedAt a_states a_clients a_path a_ranks a_keys a_works a_tried a_attempts a_server a_late a_came a_ends a_heap a_queue : Nat → Int32} {a_totals : Nat → Int64} (post : Int32 → Prop) (N : Nat), wX_nextEvent_145 post f_points f_routes f_nodes f_durations f_requests f_heaped f_waiting (nI T) f_finished to a_weight a_slots a_pace a_running a_broken a_down a_good a_bad sh ti a_failures a_successes a_credit a_settings a_ringAt a_ringServer a_paths a_sets a_next a_servers a_homes a_homeSince a_latest a_sorted a_capacity a_refill a_bucket a_countedAt a_states a_clients a_path a_ranks a_keys a_works a_tried a_attempts a_server a_late a_came a_ends a_heap a_queue a_totals N (nI b1) (nI (s + 1)) →
          wX_nextEvent_145 post f_points f_routes f_nodes f_durations f_requests f_heaped f_waiting (nI T) f_finished to a_weight a_slots a_pace a_running a_broken a_down a_good a_bad sh ti a_failures a_successes a_credit a_settings a_ringAt a_ringServer a_paths a_sets a_next a_servers a_homes a_homeSince a_latest a_sorted a_capacity a_refill a_bucket a_countedAt a_states a_clients a_path a_ranks a_keys a_works a_tried a_attempts a_server a_late a_came a_ends a_heap a_queue a_totals (N + 1) (nI b) (nI s)) := by
      by_cases h0 : sh s = 0
      · refine ⟨b, by omega, fun z => absurd h0 z, ?_⟩
        intros
        rename_i post N hp
        exact br_f h6 ⟨is, br_t (by rw [cs]; exact h0) (nm_r (nI_1 s) hp)⟩
      · obtain ⟨t, ht, et⟩ := hti s (by omega) h0
        have ku : ∀ k, k < 2 ^ 30 → ti s = nI k → k = t := fun k hk ek => (nI_eq (by omega) (by omega)).mp (ek.symm.trans et)
        by_cases h1 : t ≤ T
        · refine ⟨b, by omega, fun _ k hk ek => by rw [ku k hk ek]; exact Or.inl h1, ?_⟩
          intros
          rename_i post N hp
          exact br_f h6 ⟨is, br_f (by rw [cs]; exact h0) ⟨is, br_t (by rw [cs, et]; exact nI_le h1 (by omega)) (nm_r (nI_1 s) hp)⟩⟩
        · by_cases h2 : b ≤ t
          · refine ⟨b, by omega, fun _ k hk ek => by rw [ku k hk ek]; exact Or.inr h2, ?_⟩
            intros
            rename_i post N hp
            exact br_f h6 ⟨is, br_f (by rw [cs]; exact h0) ⟨is, br_f (by rw [cs, et]; exact nI_ge (by omega) (by omega)) ⟨is, br_t (by rw [cs, et]; exact nI_le h2 (by omega)) (nm_r (nI_1 s) hp)⟩⟩⟩
          · refine ⟨t, by omega, fun _ k hk ek => by rw [ku k hk ek]; exact Or.inr (Nat.le_refl _), ?_⟩
            intros
            rename_i post N hp
            exact br_f h6 ⟨is, br_f (by rw [cs]; exact h0) ⟨is, br_f (by rw [cs, et]; exact nI_ge (by omega) (by omega)) ⟨is, br_f (by rw [cs, et]; exact nI_ge (by omega) (by omega)) ⟨is, nm_r (e' := nI t) (by rw [cs, et]) (nm_r (nI_1 s) hp)⟩⟩⟩⟩
    obtain ⟨b1, hb1, hk1, H1⟩ := key
    obtain ⟨b', e, q1, q2, q3, H⟩ := ih (s + 1) b1 (by omega) (by omega)
    refine ⟨b', e, by omega, ?_, q3, ?_⟩
    · intro t h1 h2 h3 k hk ek
      by_cases y : t = s
      · subst y
        rcases hk1 h3 k hk ek with z | z
        · exact Or.inl z
        · exact Or.inr (by omega)
      · exact q2 t (by omega) h2 h3 k hk ek
    · intros
      rename_i post N hN hp
      obtain ⟨M, rfl⟩ : ∃ M, N = M + 1 := ⟨N - 1, by omega⟩
      exact H1 post M (H post M (by omega) hp)
theorem zx_ne94 {T w wa : Nat} {to : Int32} {sh ti qu ca se : Nat → Int32} (hT : T < 2 ^ 30) (hti : ∀ s, s < 6 → ¬ sh s = 0 → ∃ t, t < 2 ^ 30 ∧ ti s = nI t)
    (hw : w ≤ 8) (hq : ∀ j, j < w → ∃ m c, m < 2 ^ 31 ∧ c < 2 ^ 29 ∧ qu j = nI m ∧ ca (m % 32) = nI c) (hwa : wa < 2 ^ 29) (ewa : se 5 = nI wa) :
    ∀ (d k b : Nat), k + d = w → b < 2 ^ 30 → ∃ b' e, b' ≤ b ∧
    (∀ j m c, k ≤ j → j < w → m < 2 ^ 31 → c < 2 ^ 29 → qu j = nI m → ca (m % 32) = nI c → b' ≤ c + wa) ∧
    (∀ t, t < 6 → ¬ sh t = 0 → ∀ k, k < 2 ^ 30 → ti t = nI k → k ≤ T ∨ b' ≤ k) ∧ (e = T + 1 ∨ (e = b' ∧ to = 0 ∧ T < b')) ∧
    (∀ {f_points f_routes f_nodes f_durations f_requests f_heaped f_finished : Int32} {a_weight a_slots a_pace a_running a_broken a_down a_good a_bad a_failures a_successes a_credit a_ringAt a_ringServer a_paths a_sets a_next a_servers a_homes a_homeSince a_latest a_sorted a_capacity a_refill a_bucket a_countedAt a_states a_clients a_path a_ranks a_keys a_works a_tried a_attempts a_server a_late a_ends a_heap : Nat → Int32} {a_totals : Nat → Int64} (post : Int32 → Prop) (N : Nat), d < N → post (nI e) →
      wX_nextEvent_94 post f_points f_routes f_nodes f_durations f_requests f_heaped (nI w) (nI T) f_finished to a_weight a_slots a_pace a_running a_broken a_down a_good a_bad sh ti a_failures a_successes a_credit se a_ringAt a_ringServer a_paths a_sets a_next a_servers a_homes a_homeSince a_latest a_sorted a_capacity a_refill a_bucket a_countedAt a_states a_clients a_path a_ranks a_keys a_works a_tried a_attempts a_server a_late ca a_ends a_heap qu a_totals N (nI b) (nI k)) := by
  intro d
  induction d with
  | zero =>
    intro k b hk hb
    have : k = w := by omega
    subst this
    obtain ⟨b', e, q1, q2, q3, H⟩ := zx_ne145 (to := to) (sh := sh) (ti := ti) hT hti 6 0 b (by omega) hb
    refine ⟨b', e, q1, fun j m c h1 h2 => by omega, fun t h1 => q2 t (by omega) h1, q3, ?_⟩
    intros
    rename_i post N hN hp
    obtain ⟨M, rfl⟩ : ∃ M, N = M + 1 := ⟨N - 1, by omega⟩
    exact br_t (Int32.le_refl _) ⟨7, H post 7 (by omega) hp⟩
  | succ d ih =>
    intro k b hk hb
    obtain ⟨m, c, hm, hc, e1, e2⟩ := hq k (by omega)
    have ik : vp_in (nI k) 8 := vp_in_nI (by omega) (by omega)
    have ck : (nI k).toNatClampNeg = k := nI_clamp (by omega)
    have m31 : nI m &&& 31 = nI (m % 32) := za_m31 hm
    have iq : vp_in (qu (nI k).toNatClampNeg &&& 31) 32 := by rw [ck, e1, m31]; exact vp_in_nI (by omega) (by omega)
    have ex : ca (qu (nI k).toNatClampNeg &&& 31).toNatClampNeg + se 5 = nI (c + wa) := by
      rw [ck, e1, m31, nI_clamp (by omega), e2, ewa, nI_add]
    have hge : ¬ nI w ≤ nI k := nI_ge (by omega) (by omega)
    have uq : ∀ m' c', m' < 2 ^ 31 → c' < 2 ^ 29 → qu k = nI m' → ca (m' % 32) = nI c' → c' = c := by
      intro m' c' h1 h2 h3 h4
      have : m' = m := (nI_eq h1 hm).mp (h3.symm.trans e1)
      subst this
      exact (nI_eq (by omega) (by omega)).mp (h4.symm.trans e2)
    by_cases hle : b ≤ c + wa
    · obtain ⟨b', e, q1, q2, q3, q4, H⟩ := ih (k + 1) b (by omega) hb
      refine ⟨b', e, q1, ?_, q3, q4, ?_⟩
      · intro j m' c' h1 h2 h3 h4 h5 h6
        by_cases y : j = k
        · subst y; rw [uq m' c' h3 h4 h5 h6]; omega
        · exact q2 j m' c' (by omega) h2 h3 h4 h5 h6
      · intros
        rename_i post N hN hp
        obtain ⟨M, rfl⟩ : ∃ M, N = M + 1 := ⟨N - 1, by omega⟩
        exact br_f hge ⟨ik, iq, nm_r ex (br_t (nI_le hle (by omega)) (nm_r (nI_1 k) (H post M (by omega) hp)))⟩
    · obtain ⟨b', e, q1, q2, q3, q4, H⟩ := ih (k + 1) (c + wa) (by omega) (by omega)
      refine ⟨b', e, by omega, ?_, q3, q4, ?_⟩
      · intro j m' c' h1 h2 h3 h4 h5 h6
        by_cases y : j = k
        · subst y; rw [uq m' c' h3 h4 h5 h6]; omega
        · exact q2 j m' c' (by omega) h2 h3 h4 h5 h6
      · intros
        rename_i post N hN hp
        obtain ⟨M, rfl⟩ : ∃ M, N = M + 1 := ⟨N - 1, by omega⟩
        exact br_f hge ⟨ik, iq, nm_r ex (br_f (nI_ge (by omega) (by omega)) (nm_r (nI_1 k) (H post M (by omega) hp)))⟩
/-- the next unit in which something may happen -/
theorem zx_next {T w wa ck h last : Nat} {to : Int32} {sh ti qu ca se br go ba hp en : Nat → Int32} (hT : T < 2 ^ 28) (hti : ∀ s, s < 6 → ¬ sh s = 0 → ∃ t, t < 2 ^ 30 ∧ ti s = nI t)
    (hw : w ≤ 8) (hq : ∀ j, j < w → ∃ m c, m < 2 ^ 31 ∧ c < 2 ^ 29 ∧ qu j = nI m ∧ ca (m % 32) = nI c) (hwa : wa < 2 ^ 29) (ewa : se 5 = nI wa)
    (hck : 1 ≤ ck) (hck2 : ck ≤ 100) (eck : se 4 = nI ck) (hl : T < last) (hl2 : last < 2 ^ 29) (hh : h ≤ 32)
    (hhp : 0 < h → ∃ m e, m < 2 ^ 31 ∧ hp 0 = nI m ∧ en (m % 32) = nI e ∧ T < e ∧ e < 2 ^ 29) :
    ∃ e, T < e ∧ e ≤ last ∧ (0 < h → ∀ m k, m < 2 ^ 31 → hp 0 = nI m → k < 2 ^ 29 → en (m % 32) = nI k → e ≤ k) ∧
    (e = T + 1 ∨ (((∀ s, s < 6 → zj_st br go ba s) ∨ e ≤ (T / ck + 1) * ck) ∧
      (0 < w → to = 0 ∧ (∀ j m c, j < w → m < 2 ^ 31 → c < 2 ^ 29 → qu j = nI m → ca (m % 32) = nI c → e ≤ c + wa) ∧
        (∀ t, t < 6 → ¬ sh t = 0 → ∀ k, k < 2 ^ 30 → ti t = nI k → k ≤ T ∨ e ≤ k)))) ∧
    (∀ {f_points f_routes f_nodes f_durations f_requests f_finished : Int32} {a_weight a_slots a_pace a_running a_down a_failures a_successes a_credit a_ringAt a_ringServer a_paths a_sets a_next a_servers a_homes a_homeSince a_latest a_sorted a_capacity a_refill a_bucket a_countedAt a_states a_clients a_path a_ranks a_keys a_works a_tried a_attempts a_server a_late : Nat → Int32} {a_totals : Nat → Int64} (post : Int32 → Prop), post (nI e) →
      wpX_nextEvent post (f_points, f_routes, f_nodes, f_durations, f_requests, nI h, nI w, nI T, f_finished, to, a_weight, a_slots, a_pace, a_running, br, a_down, go, ba, sh, ti, a_failures, a_successes, a_credit, se, a_ringAt, a_ringServer, a_paths, a_sets, a_next, a_servers, a_homes, a_homeSince, a_latest, a_sorted, a_capacity, a_refill, a_bucket, a_countedAt, a_states, a_clients, a_path, a_ranks, a_keys, a_works, a_tried, a_attempts, a_server, a_late, ca, en, hp, qu, a_totals) (nI last)) := by
  have hdm : T / ck * ck ≤ T := Nat.div_mul_le_self T ck
  have hdm2 : T < (T / ck + 1) * ck := by
    have h1 := Nat.div_add_mod T ck
    have h2 := Nat.mod_lt T (show 0 < ck by omega)
    rw [Nat.add_mul, Nat.one_mul, Nat.mul_comm]; omega
  have hdm3 : (T / ck + 1) * ck ≤ T + 100 := by rw [Nat.add_mul, Nat.one_mul]; omega
  have hck0 : ¬ nI ck = 0 := nI_ne0 (by omega) (by omega)
  have hTc : T / ck ≤ T := Nat.div_le_self _ _
  have ex : (nI T / nI ck + 1) * nI ck = nI ((T / ck + 1) * ck) := by
    rw [pk_div (by omega) (by omega) (by omega), nI_1, pk_mul]
  -- behind the heap and the check
  have K2 : ∀ b, T < b → b ≤ last → ∃ e, T < e ∧ e ≤ b ∧
      (e = T + 1 ∨ ((0 < w → to = 0 ∧ (∀ j m c, j < w → m < 2 ^ 31 → c < 2 ^ 29 → qu j = nI m → ca (m % 32) = nI c → e ≤ c + wa) ∧
        (∀ t, t < 6 → ¬ sh t = 0 → ∀ k, k < 2 ^ 30 → ti t = nI k → k ≤ T ∨ e ≤ k)))) ∧
      (∀ {f_points f_routes f_nodes f_durations f_requests f_finished : Int32} {a_weight a_slots a_pace a_running a_down a_failures a_successes a_credit a_ringAt a_ringServer a_paths a_sets a_next a_servers a_homes a_homeSince a_latest a_sorted a_capacity a_refill a_bucket a_countedAt a_states a_clients a_path a_ranks a_keys a_works a_tried a_attempts a_server a_late : Nat → Int32} {a_totals : Nat → Int64} (post : Int32 → Prop), post (nI e) →
        wX_nextEvent_82 post (nI b) f_points f_routes f_nodes f_durations f_requests (nI h) (nI w) (nI T) f_finished to a_weight a_slots a_pace a_running br a_down go ba sh ti a_failures a_successes a_credit se a_ringAt a_ringServer a_paths a_sets a_next a_servers a_homes a_homeSince a_latest a_sorted a_capacity a_refill a_bucket a_countedAt a_states a_clients a_path a_ranks a_keys a_works a_tried a_attempts a_server a_late ca en hp qu a_totals) := by
    intro b hb hb2
    rcases Nat.eq_zero_or_pos w with z | z
    · subst z
      refine ⟨b, hb, by omega, Or.inr (fun h => by omega), ?_⟩
      intros
      rename_i post hp
      exact br_t nI_0 hp
    · obtain ⟨b', e, q1, q2, q3, q4, H⟩ := zx_ne94 (T := T) (to := to) (by omega) hti hw hq hwa ewa w 0 b (by omega) (by omega)
      refine ⟨e, by omega, by omega, ?_, ?_⟩
      · rcases q4 with y | ⟨y1, y2, y3⟩
        · exact Or.inl y
        · subst y1
          exact Or.inr (fun _ => ⟨y2, fun j m c h1 => q2 j m c (by omega) h1, q3⟩)
      · intros
        rename_i post hp
        exact br_f (nI_ne0 z (by omega)) ⟨w + 1, H post (w + 1) (by omega) hp⟩
  have K1 : ∀ b, T < b → b ≤ last → ∃ e, T < e ∧ e ≤ b ∧
      (e = T + 1 ∨ (((∀ s, s < 6 → zj_st br go ba s) ∨ e ≤ (T / ck + 1) * ck) ∧ (0 < w → to = 0 ∧ (∀ j m c, j < w → m < 2 ^ 31 → c < 2 ^ 29 → qu j = nI m → ca (m % 32) = nI c → e ≤ c + wa) ∧
        (∀ t, t < 6 → ¬ sh t = 0 → ∀ k, k < 2 ^ 30 → ti t = nI k → k ≤ T ∨ e ≤ k)))) ∧
      (∀ {f_points f_routes f_nodes f_durations f_requests f_finished : Int32} {a_weight a_slots a_pace a_running a_down a_failures a_successes a_credit a_ringAt a_ringServer a_paths a_sets a_next a_servers a_homes a_homeSince a_latest a_sorted a_capacity a_refill a_bucket a_countedAt a_states a_clients a_path a_ranks a_keys a_works a_tried a_attempts a_server a_late : Nat → Int32} {a_totals : Nat → Int64} (post : Int32 → Prop), post (nI e) →
        wX_nextEvent_42 post (nI b) f_points f_routes f_nodes f_durations f_requests (nI h) (nI w) (nI T) f_finished to a_weight a_slots a_pace a_running br a_down go ba sh ti a_failures a_successes a_credit se a_ringAt a_ringServer a_paths a_sets a_next a_servers a_homes a_homeSince a_latest a_sorted a_capacity a_refill a_bucket a_countedAt a_states a_clients a_path a_ranks a_keys a_works a_tried a_attempts a_server a_late ca en hp qu a_totals) := by
    intro b hb hb2
    obtain ⟨r, hr, HU⟩ := zx_unset (br := br) (go := go) (ba := ba)
    by_cases h0 : r = 0
    · obtain ⟨e, q1, q2, q3, H⟩ := K2 b hb hb2
      refine ⟨e, q1, q2, ?_, ?_⟩
      · rcases q3 with y | y
        · exact Or.inl y
        · exact Or.inr ⟨Or.inl (hr h0), y⟩
      · intros
        rename_i post hp
        refine HU _ ⟨by rw [eck]; exact hck0, ?_⟩
        exact nm_r (e' := nI ((T / ck + 1) * ck)) (by rw [eck, ex]) (br_t h0 (H post hp))
    · by_cases h1 : b ≤ (T / ck + 1) * ck
      · obtain ⟨e, q1, q2, q3, H⟩ := K2 b hb hb2
        refine ⟨e, q1, q2, ?_, ?_⟩
        · rcases q3 with y | y
          · exact Or.inl y
          · exact Or.inr ⟨Or.inr (by omega), y⟩
        · intros
          rename_i post hp
          refine HU _ ⟨by rw [eck]; exact hck0, ?_⟩
          exact nm_r (e' := nI ((T / ck + 1) * ck)) (by rw [eck, ex]) (br_f h0 (br_t (nI_le h1 (by omega)) (H post hp)))
      · obtain ⟨e, q1, q2, q3, H⟩ := K2 ((T / ck + 1) * ck) hdm2 (by omega)
        refine ⟨e, q1, by omega, ?_, ?_⟩
        · rcases q3 with y | y
          · exact Or.inl y
          · exact Or.inr ⟨Or.inr q2, y⟩
        · intros
          rename_i post hp
          refine HU _ ⟨by rw [eck]; exact hck0, ?_⟩
          exact nm_r (e' := nI ((T / ck + 1) * ck)) (by rw [eck, ex]) (br_f h0 (br_f (nI_ge (by omega) (by omega)) (H post hp)))
  rcases Nat.eq_zero_or_pos h with z | z
  · subst z
    obtain ⟨e, q1, q2, q3, H⟩ := K1 last hl (by omega)
    refine ⟨e, q1, q2, fun y => by omega, q3, ?_⟩
    intros
    rename_i post hp
    exact br_t (by rw [nI_0]; exact Int32.le_refl _) (H post hp)
  · obtain ⟨m, e0, hm, em, ee, he1, he2⟩ := hhp z
    have m31 : nI m &&& 31 = nI (m % 32) := za_m31 hm
    have iq : vp_in (hp 0 &&& 31) 32 := by rw [em, m31]; exact vp_in_nI (by omega) (by omega)
    have cq : en (hp 0 &&& 31).toNatClampNeg = nI e0 := by rw [em, m31, nI_clamp (by omega), ee]
    have hpos : ¬ nI h ≤ 0 := nI_nle z (by omega)
    have uq : ∀ m' k, m' < 2 ^ 31 → hp 0 = nI m' → k < 2 ^ 29 → en (m' % 32) = nI k → k = e0 := by
      intro m' k h1 h2 h3 h4
      have : m' = m := (nI_eq h1 hm).mp (h2.symm.trans em)
      subst this
      exact (nI_eq (by omega) (by omega)).mp (h4.symm.trans ee)
    by_cases h1 : last ≤ e0
    · obtain ⟨e, q1, q2, q3, H⟩ := K1 last hl (by omega)
      refine ⟨e, q1, q2, fun _ m' k a1 a2 a3 a4 => by rw [uq m' k a1 a2 a3 a4]; omega, q3, ?_⟩
      intros
      rename_i post hp
      exact br_f hpos ⟨iq, br_t (by rw [cq]; exact nI_le h1 (by omega)) (H post hp)⟩
    · obtain ⟨e, q1, q2, q3, H⟩ := K1 e0 he1 (by omega)
      refine ⟨e, q1, by omega, fun _ m' k a1 a2 a3 a4 => by rw [uq m' k a1 a2 a3 a4]; exact q2, q3, ?_⟩
      intros
      rename_i post hp
      exact br_f hpos ⟨iq, br_f (by rw [cq]; exact nI_ge (by omega) (by omega)) ⟨iq, nm_r cq (H post hp)⟩⟩
end
end
section
/-! the parts of the invariant, and how they change -/
def zj_cf (np rn nd : Nat) (pre : Nat → Nat) (wt pc br se ra rs pa ss nx sv : Nat → Int32) : Prop :=
  zr_W wt ∧ (∀ s, s < 6 → za_rg (pc s) 1 10) ∧ (∀ s, s < 6 → br s = 0 ∨ br s = 1) ∧
  (za_rg (se 0) 0 2 ∧ za_rg (se 1) 1 1000 ∧ za_rg (se 2) 0 3 ∧ za_rg (se 3) 1 1000 ∧ za_rg (se 4) 1 100 ∧ za_rg (se 5) 1 1000) ∧
  zr_R np ra rs (zr_E wt) ∧ np ≤ 54 ∧ zt_P rn pa ss ∧ zt_T nd nx sv pa ss rn pre ∧ nd ≤ 49
def zj_hm (ho : Nat → Int32) : Prop := ∀ c, c < 6 → ho c = -1 ∨ ∃ s, s < 6 ∧ ho c = nI s
def zj_tk (T : Nat) (cp rf bu ct tk : Nat → Int32) : Prop := ∀ c, c < 6 → ∃ cap r b ca, cap ≤ 20 ∧ 1 ≤ r ∧ r ≤ 100 ∧ b ≤ cap ∧ ca ≤ T ∧
  cp c = nI cap ∧ rf c = nI r ∧ bu c = nI b ∧ ct c = nI ca ∧ tk c = nI (zk_F b ca r cap T)
/-- a slot that is used -/
def zj_s1 (T : Nat) (st cl pt ke wo tr am sv ca : Nat → Int32) (q : Nat) : Prop :=
  (∃ c, c < 6 ∧ cl q = nI c) ∧ (∃ p, zt_ok p ∧ pt q = nI p) ∧ (∃ k, k < 256 ∧ ke q = nI k) ∧ (∃ w, 1 ≤ w ∧ w ≤ 100 ∧ wo q = nI w) ∧
  (∃ t, t < 64 ∧ tr q = nI t) ∧ (∃ a, a ≤ 4 ∧ am q = nI a) ∧ (∃ c, c ≤ T ∧ ca q = nI c) ∧ (∃ s, s ≤ 5 ∧ st q = nI s) ∧ (st q = 1 → ∃ s, s < 6 ∧ sv q = nI s)
def zj_sl (N T : Nat) (st cl pt ke wo tr am sv ca : Nat → Int32) : Prop := ∀ q, q < 32 → q < N → zj_s1 T st cl pt ke wo tr am sv ca q
/-- ends -/
def zj_e1 (T Te : Nat) (st en ye yd : Nat → Int32) (q : Nat) : Prop :=
  (st q = 1 → en q = ye q ∧ ∃ e, Te ≤ e ∧ e ≤ T + 1000 ∧ en q = nI e) ∧ (1 < st q → en q = yd q) ∧ (¬ 1 < st q → yd q = -1)
def zj_en (N T Te : Nat) (st en ye yd : Nat → Int32) : Prop := ∀ q, q < 32 → q < N → zj_e1 T Te st en ye yd q
def zj_ck (Tc : Nat) (dn go ba si we up : Nat → Int32) : Prop := ∀ s, s < 6 → zj_c1 Tc dn go ba si we up s
def zj_to (N D : Nat) (bf : Int64) (fi : Int32) (xt yt : Nat → Int64) : Prop :=
  yt 0 = lN N ∧ yt 2 = lN D ∧ (∀ j, 1 ≤ j → j ≤ 6 → xt j = yt j) ∧ fi = (yt 2 + yt 3 + yt 4 - bf).toInt32
/-- the heap holds the running ones -/
def zj_hq (N h : Nat) (Rn : Nat → Prop) (hp en : Nat → Int32) : Prop :=
  h ≤ 32 ∧ zh_o (zh_k en) hp h ∧ (∀ v, zc_n hp v h ≤ 1) ∧
  (∀ i, i < h → ∃ m e, zw_W N m ∧ Rn m ∧ hp i = nI m ∧ e < 2 ^ 31 ∧ en (m % 32) = nI e) ∧ (∀ m, zw_W N m → Rn m → 0 < zc_n hp (nI m) h)
theorem zj_hq_congr {N h : Nat} {Rn Rn' : Nat → Prop} {hp en en' : Nat → Int32} (hN : N < 4096) (h1 : ∀ m, zw_W N m → (Rn m ↔ Rn' m)) (h2 : ∀ m, zw_W N m → Rn m → en' (m % 32) = en (m % 32))
    (H : zj_hq N h Rn hp en) : zj_hq N h Rn' hp en' := by
  obtain ⟨a, b, c, d, e⟩ := H
  refine ⟨a, ?_, c, ?_, fun m hm hr => e m hm ((h1 m hm).mpr hr)⟩
  · refine zh_o_congr (fun i hi => ?_) b
    obtain ⟨m, k, q1, q2, q3, q4, q5⟩ := d i hi
    have : m < 4096 := by unfold zw_W at q1; omega
    rw [q3, zh_kN this, zh_kN this, h2 m q1 q2]
  · intro i hi
    obtain ⟨m, k, q1, q2, q3, q4, q5⟩ := d i hi
    exact ⟨m, k, q1, (h1 m q1).mp q2, q3, q4, by rw [h2 m q1 q2, q5]⟩
theorem zj_hq_e {N h : Nat} {Rn : Nat → Prop} {hp en : Nat → Int32} (hN : N < 4096) (H : zj_hq N h Rn hp en) : ∀ i, i < h → zh_e en (hp i) := by
  intro i hi
  obtain ⟨m, k, q1, q2, q3, q4, q5⟩ := H.2.2.2.1 i hi
  exact ⟨m, k, by unfold zw_W at q1; omega, q4, q3, q5⟩
theorem zc_one {f : Nat → Int32} {v : Int32} : ∀ {n i j : Nat}, zc_n f v n ≤ 1 → i < n → j < n → f i = v → f j = v → i = j := by
  intro n
  induction n with
  | zero => intro i j _ hi; omega
  | succ n ih =>
    intro i j h hi hj ei ej
    rw [zc_n_s] at h
    by_cases e1 : i = n
    · by_cases e2 : j = n
      · omega
      · have := zc_n_mem (f := f) (i := j) (n := n) (by omega)
        subst e1
        rw [ej] at this; rw [if_pos ei] at h; omega
    · by_cases e2 : j = n
      · have := zc_n_mem (f := f) (i := i) (n := n) (by omega)
        subst e2
        rw [ei] at this; rw [if_pos ej] at h; omega
      · exact ih (by omega) (by omega) (by omega) ei ej
theorem zc_inj {f : Nat → Int32} {v : Int32} : ∀ n, (∀ i j, i < j → j < n → f i ≠ f j) → zc_n f v n ≤ 1 := by
  intro n
  induction n with
  | zero => intro _; show 0 ≤ 1; omega
  | succ n ih =>
    intro h
    rw [zc_n_s]
    have ih := ih (fun i j h1 h2 => h i j h1 (by omega))
    by_cases e : f n = v
    · rw [if_pos e]
      rcases Nat.eq_zero_or_pos (zc_n f v n) with z | z
      · omega
      · obtain ⟨i, hi, ei⟩ := zc_n_pos z
        exact absurd (ei.trans e.symm) (h i n hi (by omega))
    · rw [if_neg e]; omega
/-- there is room for one more -/
theorem zj_hq_room {N h m : Nat} {Rn : Nat → Prop} {hp en : Nat → Int32} (hN : N < 4096) (H : zj_hq N h Rn hp en) (hm : zw_W N m) (hr : ¬ Rn m) : h < 32 := by
  obtain ⟨a, b, c, d, e⟩ := H
  have lt4 : ∀ {m'}, zw_W N m' → m' < 4096 := fun q => by unfold zw_W at q; omega
  have hne : ∀ i, i < h → ∀ m', zw_W N m' → hp i = nI m' → m' ≠ m := by
    intro i hi m' hw' e' z
    subst z
    obtain ⟨m2, k, q1, q2, q3, q4, q5⟩ := d i hi
    have l1 := lt4 q1
    have l2 := lt4 hw'
    have : m2 = m' := (nI_eq (by omega) (by omega)).mp (q3.symm.trans e')
    subst this
    exact hr q2
  have key : h + 1 ≤ 32 := by
    refine zc_pig (f := fun i => if i < h then hp i &&& 31 else nI (m % 32)) (N := 32) (h + 1) (fun v => zc_inj (h + 1) ?_) ?_ (by omega)
    · intro i j hij hj
      obtain ⟨m1, k1, q1, q2, q3, q4, q5⟩ := d i (by omega)
      have l1 := lt4 q1
      have l0 := lt4 hm
      show (if i < h then hp i &&& 31 else nI (m % 32)) ≠ (if j < h then hp j &&& 31 else nI (m % 32))
      rw [if_pos (show i < h by omega), q3, za_m31 (by omega)]
      by_cases hjh : j < h
      · obtain ⟨m2, k2, r1, r2, r3, r4, r5⟩ := d j hjh
        have l2 := lt4 r1
        rw [if_pos hjh, r3, za_m31 (by omega)]
        intro z
        have z := (nI_eq (by omega) (by omega)).mp z
        have : m1 = m2 := zw_inj q1 r1 z
        subst this
        have := zc_one (c (nI m1)) (show i < h by omega) hjh q3 r3
        omega
      · rw [if_neg hjh]
        intro z
        have z := (nI_eq (by omega) (by omega)).mp z
        exact hne i (by omega) m1 q1 q3 (zw_inj q1 hm z)
    · intro i hi
      show ∃ m', m' < 32 ∧ (if i < h then hp i &&& 31 else nI (m % 32)) = nI m'
      by_cases hih : i < h
      · obtain ⟨m1, k1, q1, q2, q3, q4, q5⟩ := d i hih
        have l1 := lt4 q1
        rw [if_pos hih, q3, za_m31 (by omega)]
        exact ⟨m1 % 32, by omega, rfl⟩
      · rw [if_neg hih]
        exact ⟨m % 32, by omega, rfl⟩
  omega
/-- a new time of a request that isn't in the heap, and the request goes in: what the new heap must show -/
theorem zj_hq_push {N h m e : Nat} {Rn : Nat → Prop} {hp en hp' : Nat → Int32} (hN : N < 4096) (H : zj_hq N h Rn hp en) (hm : zw_W N m) (hr : ¬ Rn m) (he : e < 2 ^ 31)
    (O : zh_o (zh_k (upd en (m % 32) (nI e))) hp' (h + 1)) (hc : ∀ v, zc_n hp' v (h + 1) = zc_n hp v h + (if nI m = v then 1 else 0)) :
    zj_hq N (h + 1) (fun m' => Rn m' ∨ m' = m) hp' (upd en (m % 32) (nI e)) := by
  have hroom := zj_hq_room hN H hm hr
  obtain ⟨a, b, c, d, f⟩ := H
  have lt4 : ∀ {m'}, zw_W N m' → m' < 4096 := fun q => by unfold zw_W at q; omega
  have l0 := lt4 hm
  have hz : zc_n hp (nI m) h = 0 := by
    rcases Nat.eq_zero_or_pos (zc_n hp (nI m) h) with z | z
    · exact z
    · obtain ⟨i, hi, ei⟩ := zc_n_pos z
      obtain ⟨m2, k, q1, q2, q3, q4, q5⟩ := d i hi
      have l1 := lt4 q1
      have : m2 = m := (nI_eq (by omega) (by omega)).mp (q3.symm.trans ei)
      subst this
      exact absurd q2 hr
  refine ⟨by omega, O, ?_, ?_, ?_⟩
  · intro v
    rw [hc]
    by_cases z : nI m = v
    · rw [if_pos z, ← z, hz]; omega
    · rw [if_neg z]; exact c v
  · intro i hi
    have hp0 := zc_n_mem (f := hp') hi
    rw [hc] at hp0
    by_cases z : nI m = hp' i
    · exact ⟨m, e, hm, Or.inr rfl, z.symm, he, pk_us⟩
    · rw [if_neg z, Nat.add_zero] at hp0
      obtain ⟨j, hj, ej⟩ := zc_n_pos hp0
      obtain ⟨m2, k, q1, q2, q3, q4, q5⟩ := d j hj
      refine ⟨m2, k, q1, Or.inl q2, by rw [← ej, q3], q4, ?_⟩
      rw [pk_un, q5]
      intro y
      have : m2 = m := zw_inj q1 hm y
      subst this
      exact hr q2
  · intro m' hw' hr'
    rw [hc]
    by_cases z : m' = m
    · subst z; rw [if_pos rfl]; omega
    · rcases hr' with y | y
      · have := f m' hw' y; omega
      · exact absurd y z
/-- the first goes out -/
theorem zj_hq_pop {N g m : Nat} {Rn : Nat → Prop} {hp en hp' : Nat → Int32} (hN : N < 4096) (H : zj_hq N (g + 1) Rn hp en) (h0 : hp 0 = nI m) (hm4 : m < 4096)
    (O : zh_o (zh_k en) hp' g) (hc : ∀ v, zc_n hp' v g + (if hp 0 = v then 1 else 0) = zc_n hp v (g + 1)) :
    zj_hq N g (fun m' => Rn m' ∧ m' ≠ m) hp' en := by
  obtain ⟨a, b, c, d, f⟩ := H
  have lt4 : ∀ {m'}, zw_W N m' → m' < 4096 := fun q => by unfold zw_W at q; omega
  refine ⟨by omega, O, fun v => by have := hc v; have := c v; omega, ?_, ?_⟩
  · intro i hi
    have hp0 := zc_n_mem (f := hp') hi
    have hcv := hc (hp' i)
    have c1 := c (hp' i)
    obtain ⟨j, hj, ej⟩ := zc_n_pos (f := hp) (v := hp' i) (n := g + 1) (by omega)
    obtain ⟨m2, k, q1, q2, q3, q4, q5⟩ := d j hj
    refine ⟨m2, k, q1, ⟨q2, fun z => ?_⟩, by rw [← ej, q3], q4, q5⟩
    subst z
    rw [h0, ← ej, q3, if_pos rfl] at hcv
    rw [← ej, q3] at hp0 c1
    omega
  · intro m' hw' hr'
    have hcv := hc (nI m')
    have := f m' hw' hr'.1
    have l1 := lt4 hw'
    rw [h0, if_neg (fun z => hr'.2 ((nI_eq (by omega) (by omega)).mp z).symm)] at hcv
    omega
theorem zj_hq_mem {N h m : Nat} {Rn : Nat → Prop} {hp en : Nat → Int32} (H : zj_hq N h Rn hp en) (hm : zw_W N m) (hr : Rn m) : ∃ i, i < h ∧ hp i = nI m :=
  zc_n_pos (H.2.2.2.2 m hm hr)
/-! running -/
theorem zj_run_chg {st sv st' sv' : Nat → Int32} {N q s : Nat} (hq : q < 32) (h : ∀ i, i ≠ q → st' i = st i ∧ sv' i = sv i) :
    zj_run st' sv' N s + (if (decide (q < N) && (decide (st q = 1) && decide (sv q = nI s))) = true then 1 else 0) =
    zj_run st sv N s + (if (decide (q < N) && (decide (st' q = 1) && decide (sv' q = nI s))) = true then 1 else 0) := by
  unfold zj_run
  have := zc_chg (P := fun q => decide (q < N) && (decide (st' q = 1) && decide (sv' q = nI s))) (Q := fun q => decide (q < N) && (decide (st q = 1) && decide (sv q = nI s))) (k := q) 32 hq
    (fun i _ hi => by rw [(h i hi).1, (h i hi).2])
  exact this
theorem zj_run_le (st sv : Nat → Int32) (N s : Nat) : zj_run st sv N s ≤ 32 := zc_le _ 32
theorem zj_ru_add {ru st sv : Nat → Int32} {N q s : Nat} (H : zj_ru ru st sv N) (hq : q < 32) (hN : q < N) (hs : s < 6) (h1 : ¬ st q = 1) :
    zj_ru (upd ru s (ru s + 1)) (upd st q 1) (upd sv q (nI s)) N := by
  intro t ht
  have := zj_run_chg (st := st) (sv := sv) (st' := upd st q 1) (sv' := upd sv q (nI s)) (N := N) (s := t) hq (fun i hi => ⟨pk_un hi, pk_un hi⟩)
  rw [pk_us, pk_us, decide_eq_false h1, decide_eq_true hN, decide_eq_true (show (1 : Int32) = 1 from rfl)] at this
  simp only [Bool.true_and, Bool.false_and, Bool.false_eq_true, if_false, Nat.add_zero, decide_eq_true_eq] at this
  by_cases e : t = s
  · subst e
    rw [if_pos rfl] at this
    rw [pk_us, H t ht, this, nI_1]
  · rw [if_neg (fun z => e ((nI_eq (by omega) (by omega)).mp z).symm)] at this
    rw [pk_un e, H t ht, this, Nat.add_zero]
theorem zj_ru_sub {ru st sv : Nat → Int32} {N q s : Nat} {x : Int32} (H : zj_ru ru st sv N) (hq : q < 32) (hN : q < N) (hs : s < 6) (h1 : st q = 1) (h2 : sv q = nI s) (hx : ¬ x = 1) :
    zj_ru (upd ru s (ru s - 1)) (upd st q x) sv N := by
  intro t ht
  have := zj_run_chg (st := st) (sv := sv) (st' := upd st q x) (sv' := sv) (N := N) (s := t) hq (fun i hi => ⟨pk_un hi, rfl⟩)
  rw [pk_us, decide_eq_false hx, decide_eq_true h1, decide_eq_true hN, h2] at this
  simp only [Bool.true_and, Bool.false_and, Bool.false_eq_true, if_false, Nat.add_zero, decide_eq_true_eq] at this
  by_cases e : t = s
  · subst e
    rw [if_pos rfl] at this
    rw [pk_us, H t ht, ← this, nI_pred]
  · rw [if_neg (fun z => e ((nI_eq (by omega) (by omega)).mp z).symm)] at this
    rw [pk_un e, H t ht, ← this]; rfl
theorem zj_ru_none {ru st sv sv' : Nat → Int32} {N q : Nat} {x : Int32} (H : zj_ru ru st sv N) (hq : q < 32) (h1 : ¬ st q = 1) (hx : ¬ x = 1) (hs : ∀ i, i ≠ q → sv' i = sv i) :
    zj_ru ru (upd st q x) sv' N := by
  intro t ht
  have := zj_run_chg (st := st) (sv := sv) (st' := upd st q x) (sv' := sv') (N := N) (s := t) hq (fun i hi => ⟨pk_un hi, hs i hi⟩)
  rw [pk_us, decide_eq_false hx, decide_eq_false h1] at this
  simp only [Bool.false_and, Bool.and_false, Bool.false_eq_true, if_false, Nat.add_zero] at this
  rw [H t ht, this]
theorem zj_ru_next {ru st sv : Nat → Int32} {N : Nat} (H : zj_ru ru st sv N) (h : ¬ st (N % 32) = 1) : zj_ru ru st sv (N + 1) := by
  intro t ht
  rw [H t ht]
  unfold zj_run
  rw [zc_congr 32 (fun i hi => ?_)]
  show (decide (i < N) && (decide (st i = 1) && decide (sv i = nI t))) = (decide (i < N + 1) && (decide (st i = 1) && decide (sv i = nI t)))
  by_cases e : i = N % 32
  · subst e; rw [decide_eq_false h]; simp
  · have : (i < N) ↔ (i < N + 1) := by omega
    rw [decide_eq_decide.mpr this]
/-! slots, ends -/
theorem zj_sl_upd {N T q : Nat} {st cl pt ke wo tr am sv ca st' cl' pt' ke' wo' tr' am' sv' ca' : Nat → Int32} (H : zj_sl N T st cl pt ke wo tr am sv ca)
    (h : ∀ i, i ≠ q → st' i = st i ∧ cl' i = cl i ∧ pt' i = pt i ∧ ke' i = ke i ∧ wo' i = wo i ∧ tr' i = tr i ∧ am' i = am i ∧ sv' i = sv i ∧ ca' i = ca i)
    (hq : q < 32 → q < N → zj_s1 T st' cl' pt' ke' wo' tr' am' sv' ca' q) : zj_sl N T st' cl' pt' ke' wo' tr' am' sv' ca' := by
  intro i hi hN
  by_cases e : i = q
  · subst e; exact hq hi hN
  · obtain ⟨a1, a2, a3, a4, a5, a6, a7, a8, a9⟩ := h i e
    have := H i hi hN
    unfold zj_s1 at this ⊢
    rw [a1, a2, a3, a4, a5, a6, a7, a8, a9]
    exact this
theorem zj_sl_mono {N T T' : Nat} {st cl pt ke wo tr am sv ca : Nat → Int32} (h : T ≤ T') (H : zj_sl N T st cl pt ke wo tr am sv ca) : zj_sl N T' st cl pt ke wo tr am sv ca := by
  intro q hq hN
  obtain ⟨a1, a2, a3, a4, a5, a6, ⟨c, hc, ec⟩, a8, a9⟩ := H q hq hN
  exact ⟨a1, a2, a3, a4, a5, a6, ⟨c, by omega, ec⟩, a8, a9⟩
theorem zj_en_upd {N T Te q : Nat} {st en ye yd st' en' ye' yd' : Nat → Int32} (H : zj_en N T Te st en ye yd)
    (h : ∀ i, i ≠ q → st' i = st i ∧ en' i = en i ∧ ye' i = ye i ∧ yd' i = yd i) (hq : q < 32 → q < N → zj_e1 T Te st' en' ye' yd' q) : zj_en N T Te st' en' ye' yd' := by
  intro i hi hN
  by_cases e : i = q
  · subst e; exact hq hi hN
  · obtain ⟨a1, a2, a3, a4⟩ := h i e
    have := H i hi hN
    unfold zj_e1 at this ⊢
    rw [a1, a2, a3, a4]
    exact this
theorem za_fin {a b c d : Int64} : (a + 1 + b + c - d).toInt32 = (a + b + c - d).toInt32 + 1 := by
  rw [Int64.toInt32_sub, Int64.toInt32_add, Int64.toInt32_add, Int64.toInt32_add, Int64.toInt32_sub, Int64.toInt32_add, Int64.toInt32_add]
  rw [show (1 : Int64).toInt32 = 1 from by decide]
  grind
theorem za_fin3 {a b c d : Int64} : (a + (b + 1) + c - d).toInt32 = (a + b + c - d).toInt32 + 1 := by
  rw [Int64.toInt32_sub, Int64.toInt32_add, Int64.toInt32_add, Int64.toInt32_add, Int64.toInt32_sub, Int64.toInt32_add, Int64.toInt32_add]
  rw [show (1 : Int64).toInt32 = 1 from by decide]
  grind
theorem za_fin4 {a b c d : Int64} : (a + b + (c + 1) - d).toInt32 = (a + b + c - d).toInt32 + 1 := by
  rw [Int64.toInt32_sub, Int64.toInt32_add, Int64.toInt32_add, Int64.toInt32_add, Int64.toInt32_sub, Int64.toInt32_add, Int64.toInt32_add]
  rw [show (1 : Int64).toInt32 = 1 from by decide]
  grind
end
section
/-! the invariant over both states -/
section
def zj_C (N T Tc Te D h : Nat) (bf : Int64) (np rn nd : Nat) (pre : Nat → Nat) (f_points f_routes f_nodes f_durations f_requests f_heaped f_waiting f_now f_finished f_touched : Int32) (a_weight a_slots a_pace a_running a_broken a_down a_good a_bad a_shut a_till a_failures a_successes a_credit a_settings a_ringAt a_ringServer a_paths a_sets a_next a_servers a_homes a_homeSince a_latest a_sorted a_capacity a_refill a_bucket a_countedAt a_states a_clients a_path a_ranks a_keys a_works a_tried a_attempts a_server a_late a_came a_ends a_heap a_queue : Nat → Int32) (a_totals : Nat → Int64) (g_time g_waiting : Int32) (b_till b_sick b_well b_up b_tokens b_state b_ended b_ends b_queue b_sorted : Nat → Int32) (b_total : Nat → Int64) : Prop :=
  (f_requests = nI N ∧ f_now = nI T ∧ g_time = nI T ∧ a_states = b_state ∧ f_points = nI np ∧ f_routes = nI rn ∧ f_durations = nI (zj_dn D) ∧ f_heaped = nI h) ∧
  (N < 4096 ∧ T < 2 ^ 22 ∧ Tc < 2 ^ 22 ∧ Te ≤ T + 1 ∧ D < 2 ^ 30) ∧
  zj_cf np rn nd pre a_weight a_pace a_broken a_settings a_ringAt a_ringServer a_paths a_sets a_next a_servers ∧
  zj_hm a_homes ∧
  zj_tk T a_capacity a_refill a_bucket a_countedAt b_tokens ∧
  zj_sl N T a_states a_clients a_path a_keys a_works a_tried a_attempts a_server a_came ∧
  zj_en N T Te a_states a_ends b_ends b_ended ∧
  zj_hq N h (fun m => a_states (m % 32) = 1) a_heap a_ends ∧
  zj_ru a_running a_states a_server N ∧
  zj_ck Tc a_down a_good a_bad b_sick b_well b_up ∧
  zj_bk a_shut a_till b_till ∧
  zj_to N D bf f_finished a_totals b_total ∧
  zj_rm D a_latest a_sorted
def zj_QL (N : Nat) (L : List Nat) (st am : Nat → Int32) : Prop := L.Nodup ∧ ∀ m, m ∈ L → zw_W N m ∧ st (m % 32) = 0 ∧ am (m % 32) = 0
def zj_Q (N : Nat) (L : List Nat) (wx wy : Int32) (qx qy st am : Nat → Int32) : Prop :=
  zj_QL N L st am ∧ L.length ≤ 8 ∧ wx = nI L.length ∧ wy = nI L.length ∧ zq_S qx 0 L ∧ zq_S qy 0 L
def zj_S (N T Tc Te Dm : Nat) (bf : Int64) (L : List Nat) (u : SX) (v : SY) : Prop := match u with
  | (f_points, f_routes, f_nodes, f_durations, f_requests, f_heaped, f_waiting, f_now, f_finished, f_touched, a_weight, a_slots, a_pace, a_running, a_broken, a_down, a_good, a_bad, a_shut, a_till, a_failures, a_successes, a_credit, a_settings, a_ringAt, a_ringServer, a_paths, a_sets, a_next, a_servers, a_homes, a_homeSince, a_latest, a_sorted, a_capacity, a_refill, a_bucket, a_countedAt, a_states, a_clients, a_path, a_ranks, a_keys, a_works, a_tried, a_attempts, a_server, a_late, a_came, a_ends, a_heap, a_queue, a_totals) => match v with
  | (g_time, y_routes, y_requests, g_waiting, y_weight, y_slots, y_pace, b_till, y_failures, y_credit, y_successes, b_sick, b_well, y_broken, b_up, y_paths, y_sets, y_settings, y_capacity, y_refill, b_tokens, y_homes, y_homeSince, y_clients, y_path, y_keys, y_works, y_ranks, b_state, y_server, y_attempts, y_tried, y_came, b_ended, b_ends, y_late, b_queue, b_total, y_latest, b_sorted) => (y_routes = f_routes ∧ y_requests = f_requests ∧ y_weight = a_weight ∧ y_slots = a_slots ∧ y_pace = a_pace ∧ y_failures = a_failures ∧ y_credit = a_credit ∧ y_successes = a_successes ∧ y_broken = a_broken ∧ y_paths = a_paths ∧ y_sets = a_sets ∧ y_settings = a_settings ∧ y_capacity = a_capacity ∧ y_refill = a_refill ∧ y_homes = a_homes ∧ y_homeSince = a_homeSince ∧ y_clients = a_clients ∧ y_path = a_path ∧ y_keys = a_keys ∧ y_works = a_works ∧ y_ranks = a_ranks ∧ y_server = a_server ∧ y_attempts = a_attempts ∧ y_tried = a_tried ∧ y_came = a_came ∧ y_late = a_late ∧ y_latest = a_latest) ∧ ∃ (D h np rn nd : Nat) (pre : Nat → Nat), D ≤ Dm ∧ zj_C N T Tc Te D h bf np rn nd pre f_points f_routes f_nodes f_durations f_requests f_heaped f_waiting f_now f_finished f_touched a_weight a_slots a_pace a_running a_broken a_down a_good a_bad a_shut a_till a_failures a_successes a_credit a_settings a_ringAt a_ringServer a_paths a_sets a_next a_servers a_homes a_homeSince a_latest a_sorted a_capacity a_refill a_bucket a_countedAt a_states a_clients a_path a_ranks a_keys a_works a_tried a_attempts a_server a_late a_came a_ends a_heap a_queue a_totals g_time g_waiting b_till b_sick b_well b_up b_tokens b_state b_ended b_ends b_queue b_sorted b_total ∧ zj_Q N L f_waiting g_waiting a_queue b_queue a_states a_attempts
variable {f_points f_routes f_nodes f_durations f_requests f_heaped f_waiting f_now f_finished f_touched g_time g_waiting : Int32}
variable {a_weight a_slots a_pace a_running a_broken a_down a_good a_bad a_shut a_till a_failures a_successes a_credit a_settings a_ringAt a_ringServer a_paths a_sets a_next a_servers a_homes a_homeSince a_latest a_sorted a_capacity a_refill a_bucket a_countedAt a_states a_clients a_path a_ranks a_keys a_works a_tried a_attempts a_server a_late a_came a_ends a_heap a_queue b_till b_sick b_well b_up b_tokens b_state b_ended b_ends b_queue b_sorted : Nat → Int32}
variable {a_totals b_total : Nat → Int64}
theorem zj_S_in {N T Tc Te Dm D h np rn nd : Nat} {bf : Int64} {pre : Nat → Nat} {L : List Nat} (hD : D ≤ Dm) (C : zj_C N T Tc Te D h bf np rn nd pre f_points f_routes f_nodes f_durations f_requests f_heaped f_waiting f_now f_finished f_touched a_weight a_slots a_pace a_running a_broken a_down a_good a_bad a_shut a_till a_failures a_successes a_credit a_settings a_ringAt a_ringServer a_paths a_sets a_next a_servers a_homes a_homeSince a_latest a_sorted a_capacity a_refill a_bucket a_countedAt a_states a_clients a_path a_ranks a_keys a_works a_tried a_attempts a_server a_late a_came a_ends a_heap a_queue a_totals g_time g_waiting b_till b_sick b_well b_up b_tokens b_state b_ended b_ends b_queue b_sorted b_total)
    (Q : zj_Q N L f_waiting g_waiting a_queue b_queue a_states a_attempts) : zj_S N T Tc Te Dm bf L (f_points, f_routes, f_nodes, f_durations, f_requests, f_heaped, f_waiting, f_now, f_finished, f_touched, a_weight, a_slots, a_pace, a_running, a_broken, a_down, a_good, a_bad, a_shut, a_till, a_failures, a_successes, a_credit, a_settings, a_ringAt, a_ringServer, a_paths, a_sets, a_next, a_servers, a_homes, a_homeSince, a_latest, a_sorted, a_capacity, a_refill, a_bucket, a_countedAt, a_states, a_clients, a_path, a_ranks, a_keys, a_works, a_tried, a_attempts, a_server, a_late, a_came, a_ends, a_heap, a_queue, a_totals) (g_time, f_routes, f_requests, g_waiting, a_weight, a_slots, a_pace, b_till, a_failures, a_credit, a_successes, b_sick, b_well, a_broken, b_up, a_paths, a_sets, a_settings, a_capacity, a_refill, b_tokens, a_homes, a_homeSince, a_clients, a_path, a_keys, a_works, a_ranks, b_state, a_server, a_attempts, a_tried, a_came, b_ended, b_ends, a_late, b_queue, b_total, a_latest, b_sorted) :=
  And.intro ⟨rfl, rfl, rfl, rfl, rfl, rfl, rfl, rfl, rfl, rfl, rfl, rfl, rfl, rfl, rfl, rfl, rfl, rfl, rfl, rfl, rfl, rfl, rfl, rfl, rfl, rfl, rfl⟩ ⟨D, h, np, rn, nd, pre, hD, C, Q⟩
theorem zj_S_el {P : SX → SY → Prop} {N T Tc Te Dm : Nat} {bf : Int64} {L : List Nat} {u : SX} {v : SY}
    (H : ∀ {f_points f_routes f_nodes f_durations f_requests f_heaped f_waiting f_now f_finished f_touched g_time g_waiting : Int32} {a_weight a_slots a_pace a_running a_broken a_down a_good a_bad a_shut a_till a_failures a_successes a_credit a_settings a_ringAt a_ringServer a_paths a_sets a_next a_servers a_homes a_homeSince a_latest a_sorted a_capacity a_refill a_bucket a_countedAt a_states a_clients a_path a_ranks a_keys a_works a_tried a_attempts a_server a_late a_came a_ends a_heap a_queue b_till b_sick b_well b_up b_tokens b_state b_ended b_ends b_queue b_sorted : Nat → Int32} {a_totals b_total : Nat → Int64} (D h np rn nd : Nat) (pre : Nat → Nat), D ≤ Dm → zj_C N T Tc Te D h bf np rn nd pre f_points f_routes f_nodes f_durations f_requests f_heaped f_waiting f_now f_finished f_touched a_weight a_slots a_pace a_running a_broken a_down a_good a_bad a_shut a_till a_failures a_successes a_credit a_settings a_ringAt a_ringServer a_paths a_sets a_next a_servers a_homes a_homeSince a_latest a_sorted a_capacity a_refill a_bucket a_countedAt a_states a_clients a_path a_ranks a_keys a_works a_tried a_attempts a_server a_late a_came a_ends a_heap a_queue a_totals g_time g_waiting b_till b_sick b_well b_up b_tokens b_state b_ended b_ends b_queue b_sorted b_total →
      zj_Q N L f_waiting g_waiting a_queue b_queue a_states a_attempts → P (f_points, f_routes, f_nodes, f_durations, f_requests, f_heaped, f_waiting, f_now, f_finished, f_touched, a_weight, a_slots, a_pace, a_running, a_broken, a_down, a_good, a_bad, a_shut, a_till, a_failures, a_successes, a_credit, a_settings, a_ringAt, a_ringServer, a_paths, a_sets, a_next, a_servers, a_homes, a_homeSince, a_latest, a_sorted, a_capacity, a_refill, a_bucket, a_countedAt, a_states, a_clients, a_path, a_ranks, a_keys, a_works, a_tried, a_attempts, a_server, a_late, a_came, a_ends, a_heap, a_queue, a_totals) (g_time, f_routes, f_requests, g_waiting, a_weight, a_slots, a_pace, b_till, a_failures, a_credit, a_successes, b_sick, b_well, a_broken, b_up, a_paths, a_sets, a_settings, a_capacity, a_refill, b_tokens, a_homes, a_homeSince, a_clients, a_path, a_keys, a_works, a_ranks, b_state, a_server, a_attempts, a_tried, a_came, b_ended, b_ends, a_late, b_queue, b_total, a_latest, b_sorted)) (S : zj_S N T Tc Te Dm bf L u v) : P u v := by
  obtain ⟨f_points, f_routes, f_nodes, f_durations, f_requests, f_heaped, f_waiting, f_now, f_finished, f_touched, a_weight, a_slots, a_pace, a_running, a_broken, a_down, a_good, a_bad, a_shut, a_till, a_failures, a_successes, a_credit, a_settings, a_ringAt, a_ringServer, a_paths, a_sets, a_next, a_servers, a_homes, a_homeSince, a_latest, a_sorted, a_capacity, a_refill, a_bucket, a_countedAt, a_states, a_clients, a_path, a_ranks, a_keys, a_works, a_tried, a_attempts, a_server, a_late, a_came, a_ends, a_heap, a_queue, a_totals⟩ := u
  obtain ⟨g_time, y_routes, y_requests, g_waiting, y_weight, y_slots, y_pace, b_till, y_failures, y_credit, y_successes, b_sick, b_well, y_broken, b_up, y_paths, y_sets, y_settings, y_capacity, y_refill, b_tokens, y_homes, y_homeSince, y_clients, y_path, y_keys, y_works, y_ranks, b_state, y_server, y_attempts, y_tried, y_came, b_ended, b_ends, y_late, b_queue, b_total, y_latest, b_sorted⟩ := v
  obtain ⟨E, D, h, np, rn, nd, pre, hD, C, Q⟩ := S
  obtain ⟨rfl, rfl, rfl, rfl, rfl, rfl, rfl, rfl, rfl, rfl, rfl, rfl, rfl, rfl, rfl, rfl, rfl, rfl, rfl, rfl, rfl, rfl, rfl, rfl, rfl, rfl, rfl⟩ := E
  exact H D h np rn nd pre hD C Q
/-- what isn't ready stays so when more runs -/
theorem zj_r0_mono {wt dn ru sl sh ti : Nat → Int32} {now tr : Int32} {s t r : Nat} (hr : r < 2 ^ 30) (er : ru s = nI r)
    (h : zj_r0 wt dn ru sl sh ti now tr t = false) : zj_r0 wt dn (upd ru s (ru s + 1)) sl sh ti now tr t = false := by
  by_cases e : t = s
  · subst e
    unfold zj_r0 at h ⊢
    rw [pk_us]
    cases hc : (!decide (wt t = 0) && (decide (dn t = 0) && (decide (ru t + 1 < sl t) && (!za_tb tr t && (decide (sh t = 0) || decide (ti t ≤ now) && decide (ru t + 1 = 0)))))) with
    | false => rfl
    | true =>
      exfalso
      simp only [Bool.and_eq_true, Bool.or_eq_true, decide_eq_true_eq, Bool.not_eq_true', decide_eq_false_iff_not] at hc
      obtain ⟨c1, c2, c3, c4, c5⟩ := hc
      rw [er, nI_1] at c3 c5
      have c3' : ru t < sl t := by rw [er]; exact Int32.lt_trans (nI_lt (by omega) (by omega)) c3
      have c5' : sh t = 0 := by
        rcases c5 with z | ⟨_, z⟩
        · exact z
        · exact absurd z (nI_ne0 (by omega) (by omega))
      rw [decide_eq_false c1, decide_eq_true c2, decide_eq_true c3', c4, decide_eq_true c5'] at h
      simp at h
  · unfold zj_r0 at h ⊢
    rw [pk_un e]
    exact h
theorem zj_rb_mono {mm : Int32} {wt dn ru sl sh ti : Nat → Int32} {now tr : Int32} {s t r : Nat} (hr : r < 2 ^ 30) (er : ru s = nI r)
    (h : zj_rb mm wt dn ru sl sh ti now tr t = false) : zj_rb mm wt dn (upd ru s (ru s + 1)) sl sh ti now tr t = false := by
  unfold zj_rb at h ⊢
  cases h1 : (decide (0 ≤ mm)) with
  | false => rfl
  | true =>
    cases h2 : za_tb mm t with
    | false => rfl
    | true =>
      rw [h1, h2] at h
      rw [zj_r0_mono hr er (by simpa using h)]; rfl
theorem zj_ck_ud {Tc : Nat} {dn go ba si we up : Nat → Int32} (H : zj_ck Tc dn go ba si we up) : zj_ud dn up := by
  intro s hs
  obtain ⟨_, _, _, _, _, _, _, _, _, _, h⟩ := H s hs
  exact h
/-- an attempt of a request that is not in the heap -/
theorem zj_tryG {N T Tc g m q np rn nd p a : Nat} {pre : Nat → Nat} {Rn : Nat → Prop} (hN : N < 4096) (hT : T < 2 ^ 22) (hm : zw_W N m) (hq : m % 32 = q) (hr : ¬ Rn m)
    (cf : zj_cf np rn nd pre a_weight a_pace a_broken a_settings a_ringAt a_ringServer a_paths a_sets a_next a_servers) (hm0 : zj_hm a_homes)
    (S1 : zj_s1 T a_states a_clients a_path a_keys a_works a_tried a_attempts a_server a_came q) (ha : a ≤ 3) (ea : a_attempts q = nI a) (hok : zt_ok p) (ep : a_path q = nI p)
    (ru : zj_ru a_running b_state a_server N) (ck : zj_ck Tc a_down a_good a_bad b_sick b_well b_up) (bk : zj_bk a_shut a_till b_till) (hp : zj_hq N g Rn a_heap a_ends)
    (a_slots a_credit a_homeSince a_late b_ends : Nat → Int32) :
    ((∀ s, s < 6 → zj_rp rn a_paths a_sets a_weight a_down a_running a_slots a_shut a_till (nI T) (a_tried q) p s = false) ∧
      (∀ {f_nodes f_durations f_waiting f_finished f_touched : Int32} {a_broken a_failures a_successes a_latest a_sorted a_capacity a_refill a_bucket a_countedAt a_ranks a_queue : Nat → Int32} {a_totals : Nat → Int64} (post : Int32 → SX → Prop), post 0 (nI np, nI rn, f_nodes, f_durations, nI N, nI g, f_waiting, nI T, f_finished, f_touched, a_weight, a_slots, a_pace, a_running, a_broken, a_down, a_good, a_bad, a_shut, a_till, a_failures, a_successes, a_credit, a_settings, a_ringAt, a_ringServer, a_paths, a_sets, a_next, a_servers, a_homes, a_homeSince, a_latest, a_sorted, a_capacity, a_refill, a_bucket, a_countedAt, a_states, a_clients, a_path, a_ranks, a_keys, a_works, a_tried, a_attempts, a_server, a_late, a_came, a_ends, a_heap, a_queue, a_totals) → wpX_attempt post (nI np, nI rn, f_nodes, f_durations, nI N, nI g, f_waiting, nI T, f_finished, f_touched, a_weight, a_slots, a_pace, a_running, a_broken, a_down, a_good, a_bad, a_shut, a_till, a_failures, a_successes, a_credit, a_settings, a_ringAt, a_ringServer, a_paths, a_sets, a_next, a_servers, a_homes, a_homeSince, a_latest, a_sorted, a_capacity, a_refill, a_bucket, a_countedAt, a_states, a_clients, a_path, a_ranks, a_keys, a_works, a_tried, a_attempts, a_server, a_late, a_came, a_ends, a_heap, a_queue, a_totals) (nI m)) ∧
      (∀ {g_waiting : Int32} {a_broken a_failures a_successes a_latest b_sorted a_capacity a_refill b_tokens a_ranks b_queue b_ended : Nat → Int32} {b_total : Nat → Int64} (post : Int32 → SY → Prop), post 0 (nI T, nI rn, nI N, g_waiting, a_weight, a_slots, a_pace, b_till, a_failures, a_credit, a_successes, b_sick, b_well, a_broken, b_up, a_paths, a_sets, a_settings, a_capacity, a_refill, b_tokens, a_homes, a_homeSince, a_clients, a_path, a_keys, a_works, a_ranks, b_state, a_server, a_attempts, a_tried, a_came, b_ended, b_ends, a_late, b_queue, b_total, a_latest, b_sorted) → wpY_attempt post (nI T, nI rn, nI N, g_waiting, a_weight, a_slots, a_pace, b_till, a_failures, a_credit, a_successes, b_sick, b_well, a_broken, b_up, a_paths, a_sets, a_settings, a_capacity, a_refill, b_tokens, a_homes, a_homeSince, a_clients, a_path, a_keys, a_works, a_ranks, b_state, a_server, a_attempts, a_tried, a_came, b_ended, b_ends, a_late, b_queue, b_total, a_latest, b_sorted) (nI q))) ∨
    (∃ (s t' a' du r : Nat) (lt : Int32) (cr' A' : Nat → Int32), s < 6 ∧ t' < 64 ∧ a' = a + 1 ∧ 1 ≤ du ∧ du ≤ 1000 ∧ a_running s = nI r ∧ r ≤ 32 ∧
      zj_hq N (g + 1) (fun m' => Rn m' ∨ m' = m) A' (upd a_ends q (nI (T + du))) ∧
      (∀ {f_nodes f_durations f_waiting f_finished f_touched : Int32} {a_broken a_failures a_successes a_latest a_sorted a_capacity a_refill a_bucket a_countedAt a_ranks a_queue : Nat → Int32} {a_totals : Nat → Int64} (post : Int32 → SX → Prop), post 1 (nI np, nI rn, f_nodes, f_durations, nI N, nI (g + 1), f_waiting, nI T, f_finished, f_touched, a_weight, a_slots, a_pace, upd a_running s (a_running s + 1), a_broken, a_down, a_good, a_bad, a_shut, a_till, a_failures, a_successes, cr', a_settings, a_ringAt, a_ringServer, a_paths, a_sets, a_next, a_servers, a_homes, a_homeSince, a_latest, a_sorted, a_capacity, a_refill, a_bucket, a_countedAt, upd a_states q 1, a_clients, a_path, a_ranks, a_keys, a_works, upd a_tried q (nI t'), upd a_attempts q (nI a'), upd a_server q (nI s), upd a_late q lt, a_came, upd a_ends q (nI (T + du)), A', a_queue, a_totals) → wpX_attempt post (nI np, nI rn, f_nodes, f_durations, nI N, nI g, f_waiting, nI T, f_finished, f_touched, a_weight, a_slots, a_pace, a_running, a_broken, a_down, a_good, a_bad, a_shut, a_till, a_failures, a_successes, a_credit, a_settings, a_ringAt, a_ringServer, a_paths, a_sets, a_next, a_servers, a_homes, a_homeSince, a_latest, a_sorted, a_capacity, a_refill, a_bucket, a_countedAt, a_states, a_clients, a_path, a_ranks, a_keys, a_works, a_tried, a_attempts, a_server, a_late, a_came, a_ends, a_heap, a_queue, a_totals) (nI m)) ∧
      (∀ {g_waiting : Int32} {a_broken a_failures a_successes a_latest b_sorted a_capacity a_refill b_tokens a_ranks b_queue b_ended : Nat → Int32} {b_total : Nat → Int64} (post : Int32 → SY → Prop), post 1 (nI T, nI rn, nI N, g_waiting, a_weight, a_slots, a_pace, b_till, a_failures, cr', a_successes, b_sick, b_well, a_broken, b_up, a_paths, a_sets, a_settings, a_capacity, a_refill, b_tokens, a_homes, a_homeSince, a_clients, a_path, a_keys, a_works, a_ranks, upd b_state q 1, upd a_server q (nI s), upd a_attempts q (nI a'), upd a_tried q (nI t'), a_came, b_ended, upd b_ends q (nI (T + du)), upd a_late q lt, b_queue, b_total, a_latest, b_sorted) → wpY_attempt post (nI T, nI rn, nI N, g_waiting, a_weight, a_slots, a_pace, b_till, a_failures, a_credit, a_successes, b_sick, b_well, a_broken, b_up, a_paths, a_sets, a_settings, a_capacity, a_refill, b_tokens, a_homes, a_homeSince, a_clients, a_path, a_keys, a_works, a_ranks, b_state, a_server, a_attempts, a_tried, a_came, b_ended, b_ends, a_late, b_queue, b_total, a_latest, b_sorted) (nI q))) := by
  obtain ⟨c1, c2, c3, ⟨s0, s1, s2, s3, s4, s5⟩, c5, c6, c7, c8, c9⟩ := cf
  obtain ⟨⟨cl, hcl, ecl⟩, _, ⟨ky, hky, eky⟩, ⟨wo, hwo1, hwo2, ewo⟩, ⟨tr, htr, etr⟩, _, _, _, _⟩ := S1
  have hs0 : a_settings 0 = 0 ∨ a_settings 0 = 1 ∨ a_settings 0 = 2 := by
    obtain ⟨n, _, hn, e⟩ := s0
    have : n = 0 ∨ n = 1 ∨ n = 2 := by omega
    rcases this with rfl | rfl | rfl
    · exact Or.inl e
    · exact Or.inr (Or.inl e)
    · exact Or.inr (Or.inr e)
  have hmN : m < N := hm.1
  have hq32 : q < 32 := by omega
  have hA := zj_att (m := m) (n := N) (by omega) hq (by omega) c1 hs0 c5 c6 c7 c8 c9 hok ep hcl ecl (hm0 cl hcl) hky eky bk (zj_ck_ud ck) ru (nI T) a_slots a_tried a_credit a_homeSince
  rcases hA with ⟨h1, HX, HY⟩ | ⟨s, cr', hs, hrd, HX, HY⟩
  · refine Or.inl ⟨h1, ?_, ?_⟩
    · intros
      rename_i post hpo
      exact HX post hpo
    · intros
      rename_i post hpo
      exact HY post hpo
  · right
    obtain ⟨pc, hpc1, hpc2, epc⟩ := c2 s hs
    obtain ⟨tm, htm1, htm2, etm⟩ := s1
    -- how long
    have hdu : ∃ du, 1 ≤ du ∧ du ≤ 1000 ∧ zj_du (a_works q) (a_pace s) (a_settings 1) = nI du := by
      have hwp : wo * pc ≤ 1000 := by
        have := Nat.mul_le_mul hwo2 hpc2
        omega
      have hwp1 : 1 ≤ wo * pc := Nat.mul_pos hwo1 hpc1
      unfold zj_du
      rw [ewo, epc, etm, pk_mul]
      by_cases z : wo * pc ≤ tm
      · rw [if_pos (nI_le z (by omega))]; exact ⟨_, hwp1, hwp, rfl⟩
      · rw [if_neg (nI_ge (by omega) (by omega))]; exact ⟨_, htm1, htm2, rfl⟩
    obtain ⟨du, hdu1, hdu2, edu⟩ := hdu
    have eend : nI T + zj_du (a_works q) (a_pace s) (a_settings 1) = nI (T + du) := by rw [edu, nI_add]
    have er := ru s hs
    have hrl := zj_run_le b_state a_server N s
    have hroom := zj_hq_room hN hp hm hr
    -- the heap with the new time
    have hp2 : zj_hq N g Rn a_heap (upd a_ends q (nI (T + du))) := zj_hq_congr hN (fun _ _ => Iff.rfl) (fun m' hw' hr' => by
      rw [pk_un]
      intro z
      have : m' = m := zw_inj hw' hm (z.trans hq.symm)
      subst this; exact hr hr') hp
    obtain ⟨A', O', cnt', HR⟩ := zx_rise (h := g) (m := m) (en := upd a_ends q (nI (T + du))) (A := a_heap) hroom
      ⟨m, T + du, by omega, by omega, rfl, by rw [hq, pk_us]⟩ hp2.2.1 (zj_hq_e hN hp2)
    have hp3 := zj_hq_push (e := T + du) (hp' := A') hN hp hm hr (by omega) (by rw [hq]; exact O') cnt'
    rw [hq] at hp3
    refine ⟨s, tr ||| 2 ^ s, a + 1, du, zj_run b_state a_server N s, zj_lt (a_works q) (a_pace s) (a_settings 1), cr', A', hs, za_or64 tr htr s hs, rfl, hdu1, hdu2, er, hrl, hp3, ?_, ?_⟩
    · intros
      rename_i post hpo
      refine HX post (zx_105 hs hq32 (r := zj_run b_state a_server N s) (by omega) er htr etr (a := a) (by omega) ea ?_)
      rw [eend, etr, za_or tr htr s hs, ea, nI_1]
      exact HR _ hpo
    · intros
      rename_i post hpo
      refine zy_att hs hq32 cr' (fun post' hp' => HY post' hp') ?_
      rw [eend, etr, za_or tr htr s hs, ea, nI_1]
      exact hpo
end
end
section
/-! an attempt of a queued request; totals -/
section
variable {f_points f_routes f_nodes f_durations f_requests f_heaped f_waiting f_now f_finished f_touched g_time g_waiting : Int32}
variable {a_weight a_slots a_pace a_running a_broken a_down a_good a_bad a_shut a_till a_failures a_successes a_credit a_settings a_ringAt a_ringServer a_paths a_sets a_next a_servers a_homes a_homeSince a_latest a_sorted a_capacity a_refill a_bucket a_countedAt a_states a_clients a_path a_ranks a_keys a_works a_tried a_attempts a_server a_late a_came a_ends a_heap a_queue b_till b_sick b_well b_up b_tokens b_state b_ended b_ends b_queue b_sorted : Nat → Int32}
variable {a_totals b_total : Nat → Int64}
/-- ready at s, by what the state holds -/
def zj_rq (ro : Int32) (pa se wt dn ru sl sh ti tr pt : Nat → Int32) (now : Int32) (m s : Nat) : Bool :=
  zj_rp ro.toNatClampNeg pa se wt dn ru sl sh ti now (tr (m % 32)) (pt (m % 32)).toNatClampNeg s
theorem zj_to2 {N D : Nat} {bf d : Int64} {fi : Int32} {xt yt : Nat → Int64} (H : zj_to N D bf fi xt yt) :
    zj_to N (D + 1) bf (fi + 1) (vp_updL (vp_updL xt 1 (xt 1 + d)) 2 ((vp_updL xt 1 (xt 1 + d)) 2 + 1)) (vp_updL (vp_updL yt 2 (yt 2 + 1)) 1 ((vp_updL yt 2 (yt 2 + 1)) 1 + d)) := by
  obtain ⟨h1, h2, h3, h4⟩ := H
  refine ⟨?_, ?_, ?_, ?_⟩
  · rw [pk_uLn (by omega), pk_uLn (by omega), h1]
  · rw [pk_uLn (by omega), pk_uLs, h2, lN_1]
  · intro j hj1 hj2
    by_cases e1 : j = 1
    · subst e1
      rw [pk_uLn (by omega), pk_uLs, pk_uLs, pk_uLn (by omega), h3 1 (by omega) (by omega)]
    · by_cases e2 : j = 2
      · subst e2
        rw [pk_uLs, pk_uLn (by omega), pk_uLn (by omega), pk_uLs, h3 2 (by omega) (by omega)]
      · rw [pk_uLn e2, pk_uLn e1, pk_uLn e1, pk_uLn e2, h3 j hj1 hj2]
  · rw [pk_uLn (by omega), pk_uLs, pk_uLn (by omega), pk_uLn (by omega), pk_uLn (by omega), pk_uLn (by omega), za_fin, h4]
theorem zj_to3 {N D : Nat} {bf : Int64} {fi : Int32} {xt yt : Nat → Int64} (H : zj_to N D bf fi xt yt) :
    zj_to N D bf (fi + 1) (vp_updL xt 3 (xt 3 + 1)) (vp_updL yt 3 (yt 3 + 1)) := by
  obtain ⟨h1, h2, h3, h4⟩ := H
  refine ⟨by rw [pk_uLn (by omega), h1], by rw [pk_uLn (by omega), h2], fun j hj1 hj2 => ?_, ?_⟩
  · by_cases e : j = 3
    · subst e; rw [pk_uLs, pk_uLs, h3 3 (by omega) (by omega)]
    · rw [pk_uLn e, pk_uLn e, h3 j hj1 hj2]
  · rw [pk_uLn (by omega), pk_uLs, pk_uLn (by omega), za_fin3, h4]
theorem zj_to4 {N D : Nat} {bf : Int64} {fi : Int32} {xt yt : Nat → Int64} (H : zj_to N D bf fi xt yt) :
    zj_to N D bf (fi + 1) (vp_updL xt 4 (xt 4 + 1)) (vp_updL yt 4 (yt 4 + 1)) := by
  obtain ⟨h1, h2, h3, h4⟩ := H
  refine ⟨by rw [pk_uLn (by omega), h1], by rw [pk_uLn (by omega), h2], fun j hj1 hj2 => ?_, ?_⟩
  · by_cases e : j = 4
    · subst e; rw [pk_uLs, pk_uLs, h3 4 (by omega) (by omega)]
    · rw [pk_uLn e, pk_uLn e, h3 j hj1 hj2]
  · rw [pk_uLn (by omega), pk_uLn (by omega), pk_uLs, za_fin4, h4]
theorem zj_to56 {N D k : Nat} {bf : Int64} {fi : Int32} {xt yt : Nat → Int64} (hk : k = 5 ∨ k = 6) (H : zj_to N D bf fi xt yt) :
    zj_to N D bf fi (vp_updL xt k (xt k + 1)) (vp_updL yt k (yt k + 1)) := by
  obtain ⟨h1, h2, h3, h4⟩ := H
  refine ⟨by rw [pk_uLn (by omega), h1], by rw [pk_uLn (by omega), h2], fun j hj1 hj2 => ?_, ?_⟩
  · by_cases e : j = k
    · subst e; rw [pk_uLs, pk_uLs, h3 j hj1 hj2]
    · rw [pk_uLn e, pk_uLn e, h3 j hj1 hj2]
  · rw [pk_uLn (by omega), pk_uLn (by omega), pk_uLn (by omega), h4]
theorem zj_to0 {N D : Nat} {bf : Int64} {fi : Int32} {xt yt : Nat → Int64} (H : zj_to N D bf fi xt yt) :
    zj_to (N + 1) D bf fi xt (vp_updL yt 0 (yt 0 + 1)) := by
  obtain ⟨h1, h2, h3, h4⟩ := H
  refine ⟨by rw [pk_uLs, h1, lN_1], by rw [pk_uLn (by omega), h2], fun j hj1 hj2 => ?_, ?_⟩
  · rw [pk_uLn (by omega), h3 j hj1 hj2]
  · rw [pk_uLn (by omega), pk_uLn (by omega), pk_uLn (by omega), h4]
theorem zj_try {N T Tc Te D h m np rn nd : Nat} {bf : Int64} {pre : Nat → Nat} (C : zj_C N T Tc Te D h bf np rn nd pre f_points f_routes f_nodes f_durations f_requests f_heaped f_waiting f_now f_finished f_touched a_weight a_slots a_pace a_running a_broken a_down a_good a_bad a_shut a_till a_failures a_successes a_credit a_settings a_ringAt a_ringServer a_paths a_sets a_next a_servers a_homes a_homeSince a_latest a_sorted a_capacity a_refill a_bucket a_countedAt a_states a_clients a_path a_ranks a_keys a_works a_tried a_attempts a_server a_late a_came a_ends a_heap a_queue a_totals g_time g_waiting b_till b_sick b_well b_up b_tokens b_state b_ended b_ends b_queue b_sorted b_total) (hm : zw_W N m) (hst : a_states (m % 32) = 0) (hat : a_attempts (m % 32) = 0) :
    ((∀ s, s < 6 → zj_rq f_routes a_paths a_sets a_weight a_down a_running a_slots a_shut a_till a_tried a_path f_now m s = false) ∧
      (∀ post : Int32 → SX → Prop, post 0 (f_points, f_routes, f_nodes, f_durations, f_requests, f_heaped, f_waiting, f_now, f_finished, f_touched, a_weight, a_slots, a_pace, a_running, a_broken, a_down, a_good, a_bad, a_shut, a_till, a_failures, a_successes, a_credit, a_settings, a_ringAt, a_ringServer, a_paths, a_sets, a_next, a_servers, a_homes, a_homeSince, a_latest, a_sorted, a_capacity, a_refill, a_bucket, a_countedAt, a_states, a_clients, a_path, a_ranks, a_keys, a_works, a_tried, a_attempts, a_server, a_late, a_came, a_ends, a_heap, a_queue, a_totals) → wpX_attempt post (f_points, f_routes, f_nodes, f_durations, f_requests, f_heaped, f_waiting, f_now, f_finished, f_touched, a_weight, a_slots, a_pace, a_running, a_broken, a_down, a_good, a_bad, a_shut, a_till, a_failures, a_successes, a_credit, a_settings, a_ringAt, a_ringServer, a_paths, a_sets, a_next, a_servers, a_homes, a_homeSince, a_latest, a_sorted, a_capacity, a_refill, a_bucket, a_countedAt, a_states, a_clients, a_path, a_ranks, a_keys, a_works, a_tried, a_attempts, a_server, a_late, a_came, a_ends, a_heap, a_queue, a_totals) (nI m)) ∧ (∀ post : Int32 → SY → Prop, post 0 (g_time, f_routes, f_requests, g_waiting, a_weight, a_slots, a_pace, b_till, a_failures, a_credit, a_successes, b_sick, b_well, a_broken, b_up, a_paths, a_sets, a_settings, a_capacity, a_refill, b_tokens, a_homes, a_homeSince, a_clients, a_path, a_keys, a_works, a_ranks, b_state, a_server, a_attempts, a_tried, a_came, b_ended, b_ends, a_late, b_queue, b_total, a_latest, b_sorted) → wpY_attempt post (g_time, f_routes, f_requests, g_waiting, a_weight, a_slots, a_pace, b_till, a_failures, a_credit, a_successes, b_sick, b_well, a_broken, b_up, a_paths, a_sets, a_settings, a_capacity, a_refill, b_tokens, a_homes, a_homeSince, a_clients, a_path, a_keys, a_works, a_ranks, b_state, a_server, a_attempts, a_tried, a_came, b_ended, b_ends, a_late, b_queue, b_total, a_latest, b_sorted) (nI (m % 32)))) ∨
    (∃ (s t' a' du r : Nat) (lt : Int32) (cr' A' : Nat → Int32), s < 6 ∧ a_running s = nI r ∧ r ≤ 32 ∧ 1 ≤ du ∧ zj_C N T Tc Te D (h + 1) bf np rn nd pre f_points f_routes f_nodes f_durations f_requests (nI (h + 1)) f_waiting f_now f_finished f_touched a_weight a_slots a_pace (upd a_running s (a_running s + 1)) a_broken a_down a_good a_bad a_shut a_till a_failures a_successes cr' a_settings a_ringAt a_ringServer a_paths a_sets a_next a_servers a_homes a_homeSince a_latest a_sorted a_capacity a_refill a_bucket a_countedAt (upd a_states (m % 32) 1) a_clients a_path a_ranks a_keys a_works (upd a_tried (m % 32) (nI t')) (upd a_attempts (m % 32) (nI a')) (upd a_server (m % 32) (nI s)) (upd a_late (m % 32) lt) a_came (upd a_ends (m % 32) (nI (T + du))) A' a_queue a_totals g_time g_waiting b_till b_sick b_well b_up b_tokens (upd b_state (m % 32) 1) b_ended (upd b_ends (m % 32) (nI (T + du))) b_queue b_sorted b_total ∧
      (∀ post : Int32 → SX → Prop, post 1 (f_points, f_routes, f_nodes, f_durations, f_requests, nI (h + 1), f_waiting, f_now, f_finished, f_touched, a_weight, a_slots, a_pace, upd a_running s (a_running s + 1), a_broken, a_down, a_good, a_bad, a_shut, a_till, a_failures, a_successes, cr', a_settings, a_ringAt, a_ringServer, a_paths, a_sets, a_next, a_servers, a_homes, a_homeSince, a_latest, a_sorted, a_capacity, a_refill, a_bucket, a_countedAt, upd a_states (m % 32) 1, a_clients, a_path, a_ranks, a_keys, a_works, upd a_tried (m % 32) (nI t'), upd a_attempts (m % 32) (nI a'), upd a_server (m % 32) (nI s), upd a_late (m % 32) lt, a_came, upd a_ends (m % 32) (nI (T + du)), A', a_queue, a_totals) → wpX_attempt post (f_points, f_routes, f_nodes, f_durations, f_requests, f_heaped, f_waiting, f_now, f_finished, f_touched, a_weight, a_slots, a_pace, a_running, a_broken, a_down, a_good, a_bad, a_shut, a_till, a_failures, a_successes, a_credit, a_settings, a_ringAt, a_ringServer, a_paths, a_sets, a_next, a_servers, a_homes, a_homeSince, a_latest, a_sorted, a_capacity, a_refill, a_bucket, a_countedAt, a_states, a_clients, a_path, a_ranks, a_keys, a_works, a_tried, a_attempts, a_server, a_late, a_came, a_ends, a_heap, a_queue, a_totals) (nI m)) ∧ (∀ post : Int32 → SY → Prop, post 1 (g_time, f_routes, f_requests, g_waiting, a_weight, a_slots, a_pace, b_till, a_failures, cr', a_successes, b_sick, b_well, a_broken, b_up, a_paths, a_sets, a_settings, a_capacity, a_refill, b_tokens, a_homes, a_homeSince, a_clients, a_path, a_keys, a_works, a_ranks, upd b_state (m % 32) 1, upd a_server (m % 32) (nI s), upd a_attempts (m % 32) (nI a'), upd a_tried (m % 32) (nI t'), a_came, b_ended, upd b_ends (m % 32) (nI (T + du)), upd a_late (m % 32) lt, b_queue, b_total, a_latest, b_sorted) → wpY_attempt post (g_time, f_routes, f_requests, g_waiting, a_weight, a_slots, a_pace, b_till, a_failures, a_credit, a_successes, b_sick, b_well, a_broken, b_up, a_paths, a_sets, a_settings, a_capacity, a_refill, b_tokens, a_homes, a_homeSince, a_clients, a_path, a_keys, a_works, a_ranks, b_state, a_server, a_attempts, a_tried, a_came, b_ended, b_ends, a_late, b_queue, b_total, a_latest, b_sorted) (nI (m % 32)))) := by
  obtain ⟨⟨rfl, rfl, rfl, rfl, rfl, rfl, rfl, rfl⟩, ⟨hN, hT, hTc, hTe, hD⟩, cf, hmm, tk, sl, en, hp, ru, ck, bk, to, rm⟩ := C
  have hq32 : m % 32 < 32 := Nat.mod_lt _ (by decide)
  have hqN := zw_q hm
  have S1 := sl (m % 32) hq32 hqN
  obtain ⟨p, hok, ep⟩ := S1.2.1
  have n01 : ¬ (0 : Int32) = 1 := by decide
  have hrn : rn ≤ 12 := cf.2.2.2.2.2.2.1.1
  have hG := zj_tryG (Rn := fun m => a_states (m % 32) = 1) (a := 0) hN hT hm rfl (by rw [hst]; exact n01) cf hmm S1 (by omega) hat hok ep ru ck bk hp a_slots a_credit a_homeSince a_late b_ends
  rcases hG with ⟨h1, HX, HY⟩ | ⟨s, t', a', du, r, lt, cr', A', hs, ht', ea', hdu1, hdu2, er, hr, hp', HX, HY⟩
  · refine Or.inl ⟨?_, fun post hpo => HX post hpo, fun post hpo => HY post hpo⟩
    intro s hs
    unfold zj_rq
    rw [nI_clamp (by omega), ep, nI_clamp (by have := hok.1; omega)]
    exact h1 s hs
  · refine Or.inr ⟨s, t', a', du, r, lt, cr', A', hs, er, hr, hdu1, ?_, fun post hpo => HX post hpo, fun post hpo => HY post hpo⟩
    refine ⟨⟨rfl, rfl, rfl, rfl, rfl, rfl, rfl, rfl⟩, ⟨hN, hT, hTc, hTe, hD⟩, cf, hmm, tk, ?_, ?_, ?_, ?_, ck, bk, to, rm⟩
    · refine zj_sl_upd (q := m % 32) sl (fun i hi => ⟨pk_un hi, rfl, rfl, rfl, rfl, pk_un hi, pk_un hi, pk_un hi, rfl⟩) (fun _ _ => ?_)
      obtain ⟨a1, a2, a3, a4, a5, a6, a7, a8, a9⟩ := S1
      exact ⟨a1, a2, a3, a4, ⟨t', ht', pk_us⟩, ⟨a', by omega, pk_us⟩, a7, ⟨1, by omega, pk_us⟩, fun _ => ⟨s, hs, pk_us⟩⟩
    · refine zj_en_upd (q := m % 32) en (fun i hi => ⟨pk_un hi, pk_un hi, pk_un hi, rfl⟩) (fun h1 h2 => ?_)
      refine ⟨fun _ => ⟨by rw [pk_us, pk_us], T + du, by omega, by omega, pk_us⟩, fun z => ?_, fun _ => ?_⟩
      · rw [pk_us] at z; exact absurd z (by decide)
      · exact (en (m % 32) h1 h2).2.2 (by rw [hst]; decide)
    · refine zj_hq_congr hN (fun m' hw' => ?_) (fun _ _ _ => rfl) hp'
      constructor
      · rintro (z | z)
        · by_cases e : m' % 32 = m % 32
          · rw [e, pk_us]
          · rw [pk_un e]; exact z
        · rw [z, pk_us]
      · intro z
        by_cases e : m' % 32 = m % 32
        · exact Or.inr (zw_inj hw' hm e)
        · rw [pk_un e] at z; exact Or.inl z
    · exact zj_ru_add ru hq32 hqN hs (by rw [hst]; exact n01)
end
end
section
/-! an attempt ends -/
section
variable {f_points f_routes f_nodes f_durations f_requests f_heaped f_waiting f_now f_finished f_touched g_time g_waiting : Int32}
variable {a_weight a_slots a_pace a_running a_broken a_down a_good a_bad a_shut a_till a_failures a_successes a_credit a_settings a_ringAt a_ringServer a_paths a_sets a_next a_servers a_homes a_homeSince a_latest a_sorted a_capacity a_refill a_bucket a_countedAt a_states a_clients a_path a_ranks a_keys a_works a_tried a_attempts a_server a_late a_came a_ends a_heap a_queue b_till b_sick b_well b_up b_tokens b_state b_ended b_ends b_queue b_sorted : Nat → Int32}
variable {a_totals b_total : Nat → Int64}
def px_st (u : SX) : Nat → Int32 := match u with
  | (f_points, f_routes, f_nodes, f_durations, f_requests, f_heaped, f_waiting, f_now, f_finished, f_touched, a_weight, a_slots, a_pace, a_running, a_broken, a_down, a_good, a_bad, a_shut, a_till, a_failures, a_successes, a_credit, a_settings, a_ringAt, a_ringServer, a_paths, a_sets, a_next, a_servers, a_homes, a_homeSince, a_latest, a_sorted, a_capacity, a_refill, a_bucket, a_countedAt, a_states, a_clients, a_path, a_ranks, a_keys, a_works, a_tried, a_attempts, a_server, a_late, a_came, a_ends, a_heap, a_queue, a_totals) => a_states
def px_en (u : SX) : Nat → Int32 := match u with
  | (f_points, f_routes, f_nodes, f_durations, f_requests, f_heaped, f_waiting, f_now, f_finished, f_touched, a_weight, a_slots, a_pace, a_running, a_broken, a_down, a_good, a_bad, a_shut, a_till, a_failures, a_successes, a_credit, a_settings, a_ringAt, a_ringServer, a_paths, a_sets, a_next, a_servers, a_homes, a_homeSince, a_latest, a_sorted, a_capacity, a_refill, a_bucket, a_countedAt, a_states, a_clients, a_path, a_ranks, a_keys, a_works, a_tried, a_attempts, a_server, a_late, a_came, a_ends, a_heap, a_queue, a_totals) => a_ends
/-- but for the slot q nothing ends otherwise; at q nothing ends at T any more -/
def zj_fr (q T : Nat) (u u' : SX) : Prop := (∀ i, i ≠ q → px_st u' i = px_st u i ∧ px_en u' i = px_en u i) ∧ ¬ (px_st u' q = 1 ∧ px_en u' q = nI T)
/-- the breaker, on both sides -/
theorem zj_trip {T s rs : Nat} {sh ti tj fa se : Nat → Int32} (hT : T < 2 ^ 22) (hs : s < 6) (bk : zj_bk sh ti tj) (hrs : rs ≤ 1000) (ers : se 3 = nI rs) :
    ∃ (sh' ti' tj' : Nat → Int32), zj_bk sh' ti' tj' ∧
    (∀ {x1 x2 : Int32} {f_points f_routes f_nodes f_durations f_requests f_heaped f_waiting f_finished f_touched : Int32} {a_weight a_slots a_pace a_running a_broken a_down a_good a_bad a_successes a_credit a_ringAt a_ringServer a_paths a_sets a_next a_servers a_homes a_homeSince a_latest a_sorted a_capacity a_refill a_bucket a_countedAt a_states a_clients a_path a_ranks a_keys a_works a_tried a_attempts a_server a_late a_came a_ends a_heap a_queue : Nat → Int32} {a_totals : Nat → Int64} (post : SX → Prop), wX_finish_189 post x1 x2 f_points f_routes f_nodes f_durations f_requests f_heaped f_waiting (nI T) f_finished f_touched a_weight a_slots a_pace a_running a_broken a_down a_good a_bad sh' ti' (upd fa s (fa s + 1)) a_successes a_credit se a_ringAt a_ringServer a_paths a_sets a_next a_servers a_homes a_homeSince a_latest a_sorted a_capacity a_refill a_bucket a_countedAt a_states a_clients a_path a_ranks a_keys a_works a_tried a_attempts a_server a_late a_came a_ends a_heap a_queue a_totals →
      wX_finish_136 post x1 x2 (nI s) f_points f_routes f_nodes f_durations f_requests f_heaped f_waiting (nI T) f_finished f_touched a_weight a_slots a_pace a_running a_broken a_down a_good a_bad sh ti fa a_successes a_credit se a_ringAt a_ringServer a_paths a_sets a_next a_servers a_homes a_homeSince a_latest a_sorted a_capacity a_refill a_bucket a_countedAt a_states a_clients a_path a_ranks a_keys a_works a_tried a_attempts a_server a_late a_came a_ends a_heap a_queue a_totals) ∧
    (∀ {q : Nat} {f_routes f_requests g_waiting : Int32} {a_weight a_slots a_pace a_credit a_successes b_sick b_well a_broken b_up a_paths a_sets a_capacity a_refill b_tokens a_homes a_homeSince a_clients a_path a_keys a_works a_ranks b_state a_server a_attempts a_tried a_came b_ended b_ends a_late b_queue a_latest b_sorted : Nat → Int32} {b_total : Nat → Int64} (post : SY → Prop), q < 32 → wY_finish_185 post (nI q) (nI T) f_routes f_requests g_waiting a_weight a_slots a_pace tj' (upd fa s (fa s + 1)) a_credit a_successes b_sick b_well a_broken b_up a_paths a_sets se a_capacity a_refill b_tokens a_homes a_homeSince a_clients a_path a_keys a_works a_ranks (upd b_state q 3) a_server a_attempts a_tried a_came b_ended b_ends a_late b_queue b_total a_latest b_sorted →
      wY_finish_132 post (nI q) (nI s) (nI T) f_routes f_requests g_waiting a_weight a_slots a_pace tj fa a_credit a_successes b_sick b_well a_broken b_up a_paths a_sets se a_capacity a_refill b_tokens a_homes a_homeSince a_clients a_path a_keys a_works a_ranks b_state a_server a_attempts a_tried a_came b_ended b_ends a_late b_queue b_total a_latest b_sorted) := by
  have is : vp_in (nI s) 6 := vp_in_nI hs (by omega)
  have cs : (nI s).toNatClampNeg = s := nI_clamp (by omega)
  have ef : upd fa (nI s).toNatClampNeg (fa (nI s).toNatClampNeg + 1) = upd fa s (fa s + 1) := by rw [cs]
  have hYs : ∀ {q : Nat} (hq : q < 32), vp_in (nI q) 32 ∧ (nI q).toNatClampNeg = q := fun hq => ⟨vp_in_nI hq (by omega), nI_clamp (by omega)⟩
  have hne : ¬ (1 : Int32) = 0 := by decide
  by_cases hc : sh s = 0 ∧ upd fa s (fa s + 1) s < 3
  · have hbs : sh s = 0 ∧ tj s = -1 := by
      rcases bk s hs with z | z
      · exact z
      · rw [z.1] at hc; exact absurd hc.1 hne
    refine ⟨sh, ti, tj, bk, ?_, ?_⟩
    · intro x1 x2 f_points f_routes f_nodes f_durations f_requests f_heaped f_waiting f_finished f_touched a_weight a_slots a_pace a_running a_broken a_down a_good a_bad a_successes a_credit a_ringAt a_ringServer a_paths a_sets a_next a_servers a_homes a_homeSince a_latest a_sorted a_capacity a_refill a_bucket a_countedAt a_states a_clients a_path a_ranks a_keys a_works a_tried a_attempts a_server a_late a_came a_ends a_heap a_queue a_totals post hp
      exact And.intro is ⟨is, nm_r ef ⟨is, br_t (by rw [cs]; exact hc.1) ⟨is, br_t (by rw [cs]; exact hc.2) hp⟩⟩⟩
    · intro q f_routes f_requests g_waiting a_weight a_slots a_pace a_credit a_successes b_sick b_well a_broken b_up a_paths a_sets a_capacity a_refill b_tokens a_homes a_homeSince a_clients a_path a_keys a_works a_ranks b_state a_server a_attempts a_tried a_came b_ended b_ends a_late b_queue a_latest b_sorted b_total post hq hp
      obtain ⟨iq, cq⟩ := hYs hq
      exact And.intro iq (nm_r (e' := upd b_state q 3) (by rw [cq]) ⟨is, is, nm_r ef ⟨is, br_f (by rw [cs, hbs.2]; exact za_m1le) ⟨is, br_t (by rw [cs]; exact hc.2) hp⟩⟩⟩)
  · refine ⟨upd sh s 1, upd ti s (nI (T + rs)), upd tj s (nI (T + rs)), ?_, ?_, ?_⟩
    · intro t ht
      by_cases e : t = s
      · subst e
        rw [pk_us, pk_us, pk_us]
        exact Or.inr ⟨rfl, rfl, T + rs, by omega, rfl⟩
      · rw [pk_un e, pk_un e, pk_un e]; exact bk t ht
    · intro x1 x2 f_points f_routes f_nodes f_durations f_requests f_heaped f_waiting f_finished f_touched a_weight a_slots a_pace a_running a_broken a_down a_good a_bad a_successes a_credit a_ringAt a_ringServer a_paths a_sets a_next a_servers a_homes a_homeSince a_latest a_sorted a_capacity a_refill a_bucket a_countedAt a_states a_clients a_path a_ranks a_keys a_works a_tried a_attempts a_server a_late a_came a_ends a_heap a_queue a_totals post hp
      have H165 : wX_finish_165 post x1 x2 (nI s) f_points f_routes f_nodes f_durations f_requests f_heaped f_waiting (nI T) f_finished f_touched a_weight a_slots a_pace a_running a_broken a_down a_good a_bad sh ti (upd fa s (fa s + 1)) a_successes a_credit se a_ringAt a_ringServer a_paths a_sets a_next a_servers a_homes a_homeSince a_latest a_sorted a_capacity a_refill a_bucket a_countedAt a_states a_clients a_path a_ranks a_keys a_works a_tried a_attempts a_server a_late a_came a_ends a_heap a_queue a_totals :=
        And.intro is (nm_r (e' := upd sh s 1) (by rw [cs, za_z1]) ⟨is, nm_r (e' := upd ti s (nI (T + rs))) (by rw [cs, ers, nI_add]) hp⟩)
      refine And.intro is ⟨is, nm_r ef ⟨is, ?_⟩⟩
      rw [cs]
      exact br_c (fun z => ⟨is, br_f (fun y => hc ⟨z, y⟩) H165⟩) (fun _ => H165)
    · intro q f_routes f_requests g_waiting a_weight a_slots a_pace a_credit a_successes b_sick b_well a_broken b_up a_paths a_sets a_capacity a_refill b_tokens a_homes a_homeSince a_clients a_path a_keys a_works a_ranks b_state a_server a_attempts a_tried a_came b_ended b_ends a_late b_queue a_latest b_sorted b_total post hq hp
      obtain ⟨iq, cq⟩ := hYs hq
      have H168 : wY_finish_168 post (nI q) (nI s) (nI T) f_routes f_requests g_waiting a_weight a_slots a_pace tj (upd fa s (fa s + 1)) a_credit a_successes b_sick b_well a_broken b_up a_paths a_sets se a_capacity a_refill b_tokens a_homes a_homeSince a_clients a_path a_keys a_works a_ranks (upd b_state q 3) a_server a_attempts a_tried a_came b_ended b_ends a_late b_queue b_total a_latest b_sorted :=
        And.intro is (nm_r (e' := upd tj s (nI (T + rs))) (by rw [cs, ers, nI_add]) hp)
      refine And.intro iq (nm_r (e' := upd b_state q 3) (by rw [cq]) ⟨is, is, nm_r ef ⟨is, ?_⟩⟩)
      rw [cs]
      rcases bk s hs with ⟨z1, z2⟩ | ⟨z1, z2, t, ht, z3⟩
      · exact br_f (by rw [z2]; exact za_m1le) ⟨is, br_f (fun y => hc ⟨z1, y⟩) H168⟩
      · exact br_t (by rw [z2, z3]; exact nI_pos' (by omega)) H168
/-- X: an attempt ends well -/
theorem zx_ok {m q s c r D T : Nat} {d : Int32} {so' : Nat → Int32} {post : SX → Prop} (hd : d = nI T - a_came q) (hm : m < 2 ^ 31) (hq : m % 32 = q) (hs : s < 6) (hc : c < 6) (hr : r < 127) (es : a_server q = nI s) (ec : a_clients q = nI c)
    (er : a_running s = nI (r + 1)) (hl : a_late q = 0) (hb : a_broken s = 0)
    (HR : ∀ {f_points f_routes f_nodes f_requests f_heaped f_waiting f_now f_finished f_touched : Int32} {a_weight a_slots a_pace a_running a_broken a_down a_good a_bad a_shut a_till a_failures a_successes a_credit a_settings a_ringAt a_ringServer a_paths a_sets a_next a_servers a_homes a_homeSince a_capacity a_refill a_bucket a_countedAt a_states a_clients a_path a_ranks a_keys a_works a_tried a_attempts a_server a_late a_came a_ends a_heap a_queue : Nat → Int32} {a_totals : Nat → Int64} (post : SX → Prop), post (f_points, f_routes, f_nodes, nI (zj_dn (D + 1)), f_requests, f_heaped, f_waiting, f_now, f_finished, f_touched, a_weight, a_slots, a_pace, a_running, a_broken, a_down, a_good, a_bad, a_shut, a_till, a_failures, a_successes, a_credit, a_settings, a_ringAt, a_ringServer, a_paths, a_sets, a_next, a_servers, a_homes, a_homeSince, upd a_latest (D % 64) d, so', a_capacity, a_refill, a_bucket, a_countedAt, a_states, a_clients, a_path, a_ranks, a_keys, a_works, a_tried, a_attempts, a_server, a_late, a_came, a_ends, a_heap, a_queue, a_totals) →
      wpX_remember post (f_points, f_routes, f_nodes, nI (zj_dn D), f_requests, f_heaped, f_waiting, f_now, f_finished, f_touched, a_weight, a_slots, a_pace, a_running, a_broken, a_down, a_good, a_bad, a_shut, a_till, a_failures, a_successes, a_credit, a_settings, a_ringAt, a_ringServer, a_paths, a_sets, a_next, a_servers, a_homes, a_homeSince, a_latest, a_sorted, a_capacity, a_refill, a_bucket, a_countedAt, a_states, a_clients, a_path, a_ranks, a_keys, a_works, a_tried, a_attempts, a_server, a_late, a_came, a_ends, a_heap, a_queue, a_totals) d)
    (hp : post (f_points, f_routes, f_nodes, nI (zj_dn (D + 1)), f_requests, f_heaped, f_waiting, nI T, f_finished + 1, f_touched, a_weight, a_slots, a_pace, upd a_running s (nI r), a_broken, a_down, a_good, a_bad, upd a_shut s 0, a_till, upd a_failures s 0, upd a_successes s (a_successes s + 1), a_credit, a_settings, a_ringAt, a_ringServer, a_paths, a_sets, a_next, a_servers, upd a_homes c (nI s), upd a_homeSince c (nI T), upd a_latest (D % 64) (nI T - a_came q), so', a_capacity, a_refill, a_bucket, a_countedAt, upd a_states q 2, a_clients, a_path, a_ranks, a_keys, a_works, a_tried, a_attempts, a_server, a_late, a_came, upd a_ends q (nI T), a_heap, a_queue, vp_updL (vp_updL a_totals 1 (a_totals 1 + (nI T - a_came q).toInt64)) 2 ((vp_updL a_totals 1 (a_totals 1 + (nI T - a_came q).toInt64)) 2 + 1))) :
    wpX_finish post (f_points, f_routes, f_nodes, nI (zj_dn D), f_requests, f_heaped, f_waiting, nI T, f_finished, f_touched, a_weight, a_slots, a_pace, a_running, a_broken, a_down, a_good, a_bad, a_shut, a_till, a_failures, a_successes, a_credit, a_settings, a_ringAt, a_ringServer, a_paths, a_sets, a_next, a_servers, a_homes, a_homeSince, a_latest, a_sorted, a_capacity, a_refill, a_bucket, a_countedAt, a_states, a_clients, a_path, a_ranks, a_keys, a_works, a_tried, a_attempts, a_server, a_late, a_came, a_ends, a_heap, a_queue, a_totals) (nI m) := by
  subst hd
  have is : vp_in (nI s) 6 := vp_in_nI hs (by omega)
  have cs : (nI s).toNatClampNeg = s := nI_clamp (by omega)
  have ic : vp_in (nI c) 6 := vp_in_nI hc (by omega)
  have cc : (nI c).toNatClampNeg = c := nI_clamp (by omega)
  have iq : vp_in (nI q) 32 := vp_in_nI (by omega) (by omega)
  have cq : (nI q).toNatClampNeg = q := nI_clamp (by omega)
  have eru : upd a_running (nI s).toNatClampNeg (vp_nar .byte ((a_running (nI s).toNatClampNeg - 1).toInt8.toInt32)) = upd a_running s (nI r) := by
    rw [cs, er, nI_pred, za_vb2 (by omega)]
  refine nm_r (e' := nI q) (by rw [za_m31 hm, hq]) (And.intro iq (nm_r (e' := nI s) (by rw [cq, es]) ⟨is, is, nm_r eru ⟨iq, br_t (by rw [cq]; exact hl) ⟨is, br_t (by rw [cs]; exact hb) ?_⟩⟩⟩))
  refine ⟨is, nm_r (e' := upd a_failures s 0) (by rw [cs]) ⟨is, nm_r (e' := upd a_shut s 0) (by rw [cs, za_z0]) ⟨is, is, nm_r (e' := upd a_successes s (a_successes s + 1)) (by rw [cs]) ⟨iq, ?_⟩⟩⟩⟩
  rw [cq, ec]
  refine nm_e ⟨iq, ic, nm_r (e' := upd a_homes c (nI s)) (by rw [cc, za_vb2 (by omega)]) ⟨iq, ic, nm_r (e' := upd a_homeSince c (nI T)) (by rw [cc]) ⟨iq, ?_⟩⟩⟩
  refine HR _ (zx_conc (k := 2) rfl (by omega) (by omega) hp)
/-- Y: an attempt ends well -/
theorem zy_ok {q s c D T : Nat} {post : SY → Prop} (hq : q < 32) (hs : s < 6) (hc : c < 6) (hD : D < 2 ^ 30) (es : a_server q = nI s) (ec : a_clients q = nI c)
    (hl : a_late q = 0) (hb : a_broken s = 0) (ed : b_total 2 = lN D)
    (hp : post (nI T, f_routes, f_requests, g_waiting, a_weight, a_slots, a_pace, upd b_till s (-1), upd a_failures s 0, a_credit, upd a_successes s (a_successes s + 1), b_sick, b_well, a_broken, b_up, a_paths, a_sets, a_settings, a_capacity, a_refill, b_tokens, upd a_homes c (nI s), upd a_homeSince c (nI T), a_clients, a_path, a_keys, a_works, a_ranks, upd b_state q 2, a_server, a_attempts, a_tried, a_came, upd b_ended q (nI T), b_ends, a_late, b_queue, vp_updL (vp_updL b_total 2 (b_total 2 + 1)) 1 ((vp_updL b_total 2 (b_total 2 + 1)) 1 + (nI T - a_came q).toInt64), upd a_latest (D % 64) (nI T - a_came q), b_sorted)) :
    wpY_finish post (nI T, f_routes, f_requests, g_waiting, a_weight, a_slots, a_pace, b_till, a_failures, a_credit, a_successes, b_sick, b_well, a_broken, b_up, a_paths, a_sets, a_settings, a_capacity, a_refill, b_tokens, a_homes, a_homeSince, a_clients, a_path, a_keys, a_works, a_ranks, b_state, a_server, a_attempts, a_tried, a_came, b_ended, b_ends, a_late, b_queue, b_total, a_latest, b_sorted) (nI q) := by
  have is : vp_in (nI s) 6 := vp_in_nI hs (by omega)
  have cs : (nI s).toNatClampNeg = s := nI_clamp (by omega)
  have ic : vp_in (nI c) 6 := vp_in_nI hc (by omega)
  have cc : (nI c).toNatClampNeg = c := nI_clamp (by omega)
  have iq : vp_in (nI q) 32 := vp_in_nI (by omega) (by omega)
  have cq : (nI q).toNatClampNeg = q := nI_clamp (by omega)
  have eix : (vp_updL b_total 2 (b_total 2 + 1) 2 - 1).toInt32 - (vp_updL b_total 2 (b_total 2 + 1) 2 - 1).toInt32 / 64 * 64 = nI (D % 64) := by
    have e1 : vp_updL b_total 2 (b_total 2 + 1) 2 - 1 = lN D := by
      rw [pk_uLs, ed, Int64.add_sub_cancel]
    rw [e1, lN_i, za_r64 (by omega)]
  refine And.intro iq (nm_r (e' := nI s) (by rw [cq, es]) ⟨iq, br_t (by rw [cq]; exact hl) ⟨is, br_t (by rw [cs]; exact hb) (zy_over (k := 2) rfl hq (by omega) ?_)⟩⟩)
  refine ⟨is, nm_r (e' := upd b_till s (-1)) (by rw [cs]) ⟨is, nm_r (e' := upd a_failures s 0) (by rw [cs]) ⟨is, is, nm_r (e' := upd a_successes s (a_successes s + 1)) (by rw [cs]) ⟨iq, ?_⟩⟩⟩⟩
  rw [cq, ec]
  refine ⟨ic, nm_r (e' := upd a_homes c (nI s)) (by rw [cc]) ⟨iq, ic, nm_r (e' := upd a_homeSince c (nI T)) (by rw [cc]) ⟨by decide, iq, by rw [eix]; exact vp_in_nI (by omega) (by omega), nm_r (e' := upd a_latest (D % 64) (nI T - a_came q)) (by rw [eix, nI_clamp (by omega)]) ⟨iq, nm_e hp⟩⟩⟩⟩
/-- X: an attempt ends badly -/
theorem zx_bad {m q s r : Nat} {post : SX → Prop} (hm : m < 2 ^ 31) (hq : m % 32 = q) (hs : s < 6) (hr : r < 127) (es : a_server q = nI s)
    (er : a_running s = nI (r + 1)) (hl : ¬ (a_late q = 0 ∧ a_broken s = 0))
    (hp : wX_finish_136 post (nI m) (nI q) (nI s) f_points f_routes f_nodes f_durations f_requests f_heaped f_waiting f_now f_finished f_touched a_weight a_slots a_pace (upd a_running s (nI r)) a_broken a_down a_good a_bad a_shut a_till a_failures a_successes a_credit a_settings a_ringAt a_ringServer a_paths a_sets a_next a_servers a_homes a_homeSince a_latest a_sorted a_capacity a_refill a_bucket a_countedAt a_states a_clients a_path a_ranks a_keys a_works a_tried a_attempts a_server a_late a_came a_ends a_heap a_queue a_totals) :
    wpX_finish post (f_points, f_routes, f_nodes, f_durations, f_requests, f_heaped, f_waiting, f_now, f_finished, f_touched, a_weight, a_slots, a_pace, a_running, a_broken, a_down, a_good, a_bad, a_shut, a_till, a_failures, a_successes, a_credit, a_settings, a_ringAt, a_ringServer, a_paths, a_sets, a_next, a_servers, a_homes, a_homeSince, a_latest, a_sorted, a_capacity, a_refill, a_bucket, a_countedAt, a_states, a_clients, a_path, a_ranks, a_keys, a_works, a_tried, a_attempts, a_server, a_late, a_came, a_ends, a_heap, a_queue, a_totals) (nI m) := by
  have is : vp_in (nI s) 6 := vp_in_nI hs (by omega)
  have cs : (nI s).toNatClampNeg = s := nI_clamp (by omega)
  have iq : vp_in (nI q) 32 := vp_in_nI (by omega) (by omega)
  have cq : (nI q).toNatClampNeg = q := nI_clamp (by omega)
  have eru : upd a_running (nI s).toNatClampNeg (vp_nar .byte ((a_running (nI s).toNatClampNeg - 1).toInt8.toInt32)) = upd a_running s (nI r) := by
    rw [cs, er, nI_pred, za_vb2 (by omega)]
  refine nm_r (e' := nI q) (by rw [za_m31 hm, hq]) (And.intro iq (nm_r (e' := nI s) (by rw [cq, es]) ⟨is, is, nm_r eru ⟨iq, ?_⟩⟩))
  rw [cq]
  refine br_c (fun h1 => ⟨is, ?_⟩) (fun _ => hp)
  rw [cs]
  exact br_f (fun h2 => hl ⟨h1, h2⟩) hp
theorem zy_bad {q s : Nat} {post : SY → Prop} (hq : q < 32) (hs : s < 6) (es : a_server q = nI s) (hl : ¬ (a_late q = 0 ∧ a_broken s = 0))
    (hp : wY_finish_132 post (nI q) (nI s) g_time f_routes f_requests g_waiting a_weight a_slots a_pace b_till a_failures a_credit a_successes b_sick b_well a_broken b_up a_paths a_sets a_settings a_capacity a_refill b_tokens a_homes a_homeSince a_clients a_path a_keys a_works a_ranks b_state a_server a_attempts a_tried a_came b_ended b_ends a_late b_queue b_total a_latest b_sorted) : wpY_finish post (g_time, f_routes, f_requests, g_waiting, a_weight, a_slots, a_pace, b_till, a_failures, a_credit, a_successes, b_sick, b_well, a_broken, b_up, a_paths, a_sets, a_settings, a_capacity, a_refill, b_tokens, a_homes, a_homeSince, a_clients, a_path, a_keys, a_works, a_ranks, b_state, a_server, a_attempts, a_tried, a_came, b_ended, b_ends, a_late, b_queue, b_total, a_latest, b_sorted) (nI q) := by
  have is : vp_in (nI s) 6 := vp_in_nI hs (by omega)
  have cs : (nI s).toNatClampNeg = s := nI_clamp (by omega)
  have iq : vp_in (nI q) 32 := vp_in_nI (by omega) (by omega)
  have cq : (nI q).toNatClampNeg = q := nI_clamp (by omega)
  refine And.intro iq (nm_r (e' := nI s) (by rw [cq, es]) ⟨iq, ?_⟩)
  rw [cq]
  refine br_c (fun h1 => ⟨is, ?_⟩) (fun _ => hp)
  rw [cs]
  exact br_f (fun h2 => hl ⟨h1, h2⟩) hp
/-- behind the breaker: no further attempt -/
theorem zj_over3 {q : Nat} (hq : q < 32) {f_now : Int32} :
    (∀ {f_points f_routes f_nodes f_durations f_requests f_heaped f_waiting f_finished f_touched : Int32} {a_weight a_slots a_pace a_running a_broken a_down a_good a_bad a_shut a_till a_failures a_successes a_credit a_settings a_ringAt a_ringServer a_paths a_sets a_next a_servers a_homes a_homeSince a_latest a_sorted a_capacity a_refill a_bucket a_countedAt a_states a_clients a_path a_ranks a_keys a_works a_tried a_attempts a_server a_late a_came a_ends a_heap a_queue : Nat → Int32} {a_totals : Nat → Int64} (post : SX → Prop), post (f_points, f_routes, f_nodes, f_durations, f_requests, f_heaped, f_waiting, f_now, f_finished + 1, f_touched, a_weight, a_slots, a_pace, a_running, a_broken, a_down, a_good, a_bad, a_shut, a_till, a_failures, a_successes, a_credit, a_settings, a_ringAt, a_ringServer, a_paths, a_sets, a_next, a_servers, a_homes, a_homeSince, a_latest, a_sorted, a_capacity, a_refill, a_bucket, a_countedAt, upd a_states q 3, a_clients, a_path, a_ranks, a_keys, a_works, a_tried, a_attempts, a_server, a_late, a_came, upd a_ends q f_now, a_heap, a_queue, vp_updL a_totals 3 (a_totals 3 + 1)) → wX_finish_223 post (nI q) 0 f_points f_routes f_nodes f_durations f_requests f_heaped f_waiting f_now f_finished f_touched a_weight a_slots a_pace a_running a_broken a_down a_good a_bad a_shut a_till a_failures a_successes a_credit a_settings a_ringAt a_ringServer a_paths a_sets a_next a_servers a_homes a_homeSince a_latest a_sorted a_capacity a_refill a_bucket a_countedAt a_states a_clients a_path a_ranks a_keys a_works a_tried a_attempts a_server a_late a_came a_ends a_heap a_queue a_totals) ∧
    (∀ {g_time f_routes f_requests g_waiting : Int32} {a_weight a_slots a_pace b_till a_failures a_credit a_successes b_sick b_well a_broken b_up a_paths a_sets a_settings a_capacity a_refill b_tokens a_homes a_homeSince a_clients a_path a_keys a_works a_ranks b_state a_server a_attempts a_tried a_came b_ended b_ends a_late b_queue a_latest b_sorted : Nat → Int32} {b_total : Nat → Int64} (post : SY → Prop), post (g_time, f_routes, f_requests, g_waiting, a_weight, a_slots, a_pace, b_till, a_failures, a_credit, a_successes, b_sick, b_well, a_broken, b_up, a_paths, a_sets, a_settings, a_capacity, a_refill, b_tokens, a_homes, a_homeSince, a_clients, a_path, a_keys, a_works, a_ranks, upd b_state q 3, a_server, a_attempts, a_tried, a_came, upd b_ended q g_time, b_ends, a_late, b_queue, vp_updL b_total 3 (b_total 3 + 1), a_latest, b_sorted) → wY_finish_213 post (nI q) 0 g_time f_routes f_requests g_waiting a_weight a_slots a_pace b_till a_failures a_credit a_successes b_sick b_well a_broken b_up a_paths a_sets a_settings a_capacity a_refill b_tokens a_homes a_homeSince a_clients a_path a_keys a_works a_ranks b_state a_server a_attempts a_tried a_came b_ended b_ends a_late b_queue b_total a_latest b_sorted) := by
  refine ⟨?_, ?_⟩
  · intros
    rename_i post hp
    exact br_t rfl (zx_conc (k := 3) rfl hq (by omega) hp)
  · intros
    rename_i post hp
    exact br_t rfl (zy_over (k := 3) rfl hq (by omega) hp)
end
end
section
/-! an attempt is over, on both sides -/
section
variable {f_points f_routes f_nodes f_durations f_requests f_heaped f_waiting f_now f_finished f_touched g_time g_waiting : Int32}
variable {a_weight a_slots a_pace a_running a_broken a_down a_good a_bad a_shut a_till a_failures a_successes a_credit a_settings a_ringAt a_ringServer a_paths a_sets a_next a_servers a_homes a_homeSince a_latest a_sorted a_capacity a_refill a_bucket a_countedAt a_states a_clients a_path a_ranks a_keys a_works a_tried a_attempts a_server a_late a_came a_ends a_heap a_queue b_till b_sick b_well b_up b_tokens b_state b_ended b_ends b_queue b_sorted : Nat → Int32}
variable {a_totals b_total : Nat → Int64}
theorem zj_Q_upd {N q : Nat} {L : List Nat} {wx wy : Int32} {qx qy st am st' am' : Nat → Int32} (Q : zj_Q N L wx wy qx qy st am) (hq : ¬ st q = 0)
    (h : ∀ i, i ≠ q → st' i = st i ∧ am' i = am i) : zj_Q N L wx wy qx qy st' am' := by
  obtain ⟨⟨n1, n2⟩, r⟩ := Q
  refine ⟨⟨n1, fun m hm => ?_⟩, r⟩
  obtain ⟨a, b, c⟩ := n2 m hm
  obtain ⟨e1, e2⟩ := h (m % 32) (fun z => hq (z ▸ b))
  exact ⟨a, by rw [e1, b], by rw [e2, c]⟩
theorem zj_run_pos {st sv : Nat → Int32} {N q s : Nat} (hq : q < 32) (hN : q < N) (h1 : st q = 1) (h2 : sv q = nI s) : 0 < zj_run st sv N s :=
  zc_mem (P := fun q => decide (q < N) && (decide (st q = 1) && decide (sv q = nI s))) (i := q) (by simp [hN, h1, h2]) hq
theorem zj_fin {N T Tc D g m np rn nd Dm : Nat} {bf : Int64} {pre : Nat → Nat} {L : List Nat} (hDm : D ≤ Dm) (hDm2 : Dm + 1 < 2 ^ 30) (C : zj_C N T Tc T D (g + 1) bf np rn nd pre f_points f_routes f_nodes f_durations f_requests f_heaped f_waiting f_now f_finished f_touched a_weight a_slots a_pace a_running a_broken a_down a_good a_bad a_shut a_till a_failures a_successes a_credit a_settings a_ringAt a_ringServer a_paths a_sets a_next a_servers a_homes a_homeSince a_latest a_sorted a_capacity a_refill a_bucket a_countedAt a_states a_clients a_path a_ranks a_keys a_works a_tried a_attempts a_server a_late a_came a_ends a_heap a_queue a_totals g_time g_waiting b_till b_sick b_well b_up b_tokens b_state b_ended b_ends b_queue b_sorted b_total)
    (Q : zj_Q N L f_waiting g_waiting a_queue b_queue a_states a_attempts) (hm : zw_W N m) (h0 : a_heap 0 = nI m) (hst : a_states (m % 32) = 1) :
    ∃ u' v', zj_S N T Tc T (Dm + 1) bf L u' v' ∧ zj_fr (m % 32) T (f_points, f_routes, f_nodes, f_durations, f_requests, f_heaped, f_waiting, f_now, f_finished, f_touched, a_weight, a_slots, a_pace, a_running, a_broken, a_down, a_good, a_bad, a_shut, a_till, a_failures, a_successes, a_credit, a_settings, a_ringAt, a_ringServer, a_paths, a_sets, a_next, a_servers, a_homes, a_homeSince, a_latest, a_sorted, a_capacity, a_refill, a_bucket, a_countedAt, a_states, a_clients, a_path, a_ranks, a_keys, a_works, a_tried, a_attempts, a_server, a_late, a_came, a_ends, a_heap, a_queue, a_totals) u' ∧
    (∀ K : SX → Prop, K u' → wpX_takeFirst (fun r u => match u with | (f_points, f_routes, f_nodes, f_durations, f_requests, f_heaped, f_waiting, f_now, f_finished, f_touched, a_weight, a_slots, a_pace, a_running, a_broken, a_down, a_good, a_bad, a_shut, a_till, a_failures, a_successes, a_credit, a_settings, a_ringAt, a_ringServer, a_paths, a_sets, a_next, a_servers, a_homes, a_homeSince, a_latest, a_sorted, a_capacity, a_refill, a_bucket, a_countedAt, a_states, a_clients, a_path, a_ranks, a_keys, a_works, a_tried, a_attempts, a_server, a_late, a_came, a_ends, a_heap, a_queue, a_totals) => wpX_finish K (f_points, f_routes, f_nodes, f_durations, f_requests, f_heaped, f_waiting, f_now, f_finished, f_touched, a_weight, a_slots, a_pace, a_running, a_broken, a_down, a_good, a_bad, a_shut, a_till, a_failures, a_successes, a_credit, a_settings, a_ringAt, a_ringServer, a_paths, a_sets, a_next, a_servers, a_homes, a_homeSince, a_latest, a_sorted, a_capacity, a_refill, a_bucket, a_countedAt, a_states, a_clients, a_path, a_ranks, a_keys, a_works, a_tried, a_attempts, a_server, a_late, a_came, a_ends, a_heap, a_queue, a_totals) r) (f_points, f_routes, f_nodes, f_durations, f_requests, f_heaped, f_waiting, f_now, f_finished, f_touched, a_weight, a_slots, a_pace, a_running, a_broken, a_down, a_good, a_bad, a_shut, a_till, a_failures, a_successes, a_credit, a_settings, a_ringAt, a_ringServer, a_paths, a_sets, a_next, a_servers, a_homes, a_homeSince, a_latest, a_sorted, a_capacity, a_refill, a_bucket, a_countedAt, a_states, a_clients, a_path, a_ranks, a_keys, a_works, a_tried, a_attempts, a_server, a_late, a_came, a_ends, a_heap, a_queue, a_totals)) ∧ (∀ K : SY → Prop, K v' → wpY_finish K (g_time, f_routes, f_requests, g_waiting, a_weight, a_slots, a_pace, b_till, a_failures, a_credit, a_successes, b_sick, b_well, a_broken, b_up, a_paths, a_sets, a_settings, a_capacity, a_refill, b_tokens, a_homes, a_homeSince, a_clients, a_path, a_keys, a_works, a_ranks, b_state, a_server, a_attempts, a_tried, a_came, b_ended, b_ends, a_late, b_queue, b_total, a_latest, b_sorted) (nI (m % 32))) := by
  obtain ⟨⟨rfl, rfl, rfl, rfl, rfl, rfl, rfl, rfl⟩, ⟨hN, hT, hTc, hTe, hD⟩, cf, hmm, tk, sl, en, hp, ru, ck, bk, to, rm⟩ := C
  have hmN : m < N := hm.1
  have hq32 : m % 32 < 32 := Nat.mod_lt _ (by decide)
  have hqN := zw_q hm
  have S1 := sl (m % 32) hq32 hqN
  have E1 := en (m % 32) hq32 hqN
  obtain ⟨s, hs, es⟩ := S1.2.2.2.2.2.2.2.2 hst
  obtain ⟨c, hc, ec⟩ := S1.1
  obtain ⟨p, hok, ep⟩ := S1.2.1
  obtain ⟨a, ha, ea⟩ := S1.2.2.2.2.2.1
  have n01 : ¬ (1 : Int32) = 0 := by decide
  have n21 : ¬ (2 : Int32) = 1 := by decide
  have n31 : ¬ (3 : Int32) = 1 := by decide
  -- running
  have hrp := zj_run_pos hq32 hqN hst es
  have hrl := zj_run_le a_states a_server N s
  obtain ⟨r, hr⟩ : ∃ r, zj_run a_states a_server N s = r + 1 := ⟨zj_run a_states a_server N s - 1, by omega⟩
  have er : a_running s = nI (r + 1) := by rw [ru s hs, hr]
  have erp : a_running s - 1 = nI r := by rw [er, nI_pred]
  have ru2 : ∀ x : Int32, ¬ x = 1 → zj_ru (upd a_running s (nI r)) (upd a_states (m % 32) x) a_server N := by
    intro x hx
    have := zj_ru_sub ru hq32 hqN hs hst es hx
    rwa [erp] at this
  -- the heap without m
  have hg : g < 32 := by have := hp.1; omega
  obtain ⟨A', O', cnt', HT⟩ := zx_takeFirst (g := g) (en := a_ends) (A := a_heap) hg hp.2.1 (zj_hq_e hN hp)
  have hp1 := zj_hq_pop hN hp h0 (by omega) O' cnt'
  have hpx : ∀ x : Int32, ¬ x = 1 → zj_hq N g (fun m' => upd a_states (m % 32) x (m' % 32) = 1) A' (upd a_ends (m % 32) (nI T)) := by
    intro x hx
    refine zj_hq_congr hN (fun m' hw' => ?_) (fun m' hw' hr' => ?_) hp1
    · by_cases e : m' % 32 = m % 32
      · rw [e, pk_us]
        exact ⟨fun z => absurd (zw_inj hw' hm e) z.2, fun z => absurd z hx⟩
      · rw [pk_un e]
        exact ⟨fun z => z.1, fun z => ⟨z, fun y => e (by rw [y])⟩⟩
    · rw [pk_un (fun e => hr'.2 (zw_inj hw' hm e))]
  have slx : ∀ (x : Int32) (k : Nat), k ≤ 5 → x = nI k → ¬ x = 1 → zj_sl N T (upd a_states (m % 32) x) a_clients a_path a_keys a_works a_tried a_attempts a_server a_came := by
    intro x k hk ek hx
    refine zj_sl_upd (q := m % 32) sl (fun i hi => ⟨pk_un hi, rfl, rfl, rfl, rfl, rfl, rfl, rfl, rfl⟩) (fun _ _ => ?_)
    obtain ⟨a1, a2, a3, a4, a5, a6, a7, a8, a9⟩ := S1
    exact ⟨a1, a2, a3, a4, a5, a6, a7, ⟨k, hk, by rw [pk_us, ek]⟩, fun z => by rw [pk_us] at z; exact absurd z hx⟩
  have enx : ∀ (x : Int32), 1 < x → zj_en N T T (upd a_states (m % 32) x) (upd a_ends (m % 32) (nI T)) b_ends (upd b_ended (m % 32) (nI T)) := by
    intro x hx
    refine zj_en_upd (q := m % 32) en (fun i hi => ⟨pk_un hi, pk_un hi, rfl, pk_un hi⟩) (fun _ _ => ⟨fun z => ?_, fun _ => by rw [pk_us, pk_us], fun z => ?_⟩)
    · rw [pk_us] at z; rw [z] at hx; exact absurd hx (by decide)
    · rw [pk_us] at z; exact absurd hx z
  by_cases hl : a_late (m % 32) = 0 ∧ a_broken s = 0
  · obtain ⟨so', rm', HR⟩ := zx_remember rm (nI T - a_came (m % 32))
    refine ⟨(nI np, nI rn, f_nodes, nI (zj_dn (D + 1)), nI N, nI g, f_waiting, nI T, f_finished + 1, f_touched, a_weight, a_slots, a_pace, upd a_running s (nI r), a_broken, a_down, a_good, a_bad, upd a_shut s 0, a_till, upd a_failures s 0, upd a_successes s (a_successes s + 1), a_credit, a_settings, a_ringAt, a_ringServer, a_paths, a_sets, a_next, a_servers, upd a_homes c (nI s), upd a_homeSince c (nI T), upd a_latest (D % 64) (nI T - a_came (m % 32)), so', a_capacity, a_refill, a_bucket, a_countedAt, upd a_states (m % 32) 2, a_clients, a_path, a_ranks, a_keys, a_works, a_tried, a_attempts, a_server, a_late, a_came, upd a_ends (m % 32) (nI T), A', a_queue, vp_updL (vp_updL a_totals 1 (a_totals 1 + (nI T - a_came (m % 32)).toInt64)) 2 ((vp_updL a_totals 1 (a_totals 1 + (nI T - a_came (m % 32)).toInt64)) 2 + 1)), (nI T, nI rn, nI N, g_waiting, a_weight, a_slots, a_pace, upd b_till s (-1), upd a_failures s 0, a_credit, upd a_successes s (a_successes s + 1), b_sick, b_well, a_broken, b_up, a_paths, a_sets, a_settings, a_capacity, a_refill, b_tokens, upd a_homes c (nI s), upd a_homeSince c (nI T), a_clients, a_path, a_keys, a_works, a_ranks, upd a_states (m % 32) 2, a_server, a_attempts, a_tried, a_came, upd b_ended (m % 32) (nI T), b_ends, a_late, b_queue, vp_updL (vp_updL b_total 2 (b_total 2 + 1)) 1 ((vp_updL b_total 2 (b_total 2 + 1)) 1 + (nI T - a_came (m % 32)).toInt64), upd a_latest (D % 64) (nI T - a_came (m % 32)), b_sorted), zj_S_in (D := D + 1) (h := g) (np := np) (rn := rn) (nd := nd) (pre := pre) (by omega) ?_ (zj_Q_upd Q (by rw [hst]; exact n01) (fun i hi => ⟨pk_un hi, rfl⟩)), ⟨fun i hi => ⟨pk_un hi, pk_un hi⟩, fun z => ?_⟩, ?_, ?_⟩
    · refine ⟨⟨rfl, rfl, rfl, rfl, rfl, rfl, rfl, rfl⟩, ⟨hN, hT, hTc, hTe, by omega⟩, cf, ?_, tk, slx 2 2 (by omega) rfl n21, enx 2 (by decide), hpx 2 n21, ru2 2 n21, ck, ?_, zj_to2 to, rm'⟩
      · intro t ht
        by_cases e : t = c
        · subst e; rw [pk_us]; exact Or.inr ⟨s, hs, rfl⟩
        · rw [pk_un e]; exact hmm t ht
      · intro t ht
        by_cases e : t = s
        · subst e; rw [pk_us, pk_us]; exact Or.inl ⟨rfl, rfl⟩
        · rw [pk_un e, pk_un e]; exact bk t ht
    · have z1 : upd a_states (m % 32) 2 (m % 32) = 1 := z.1
      rw [pk_us] at z1; exact n21 z1
    · intro K hK
      refine HT _ ?_
      rw [h0]
      exact zx_ok rfl (by omega) rfl hs hc (r := r) (by omega) es ec er hl.1 hl.2 @HR hK
    · intro K hK
      exact zy_ok hq32 hs hc hD es ec hl.1 hl.2 to.2.1 hK
  · obtain ⟨rs0, hrs1, hrs2, ers⟩ := cf.2.2.2.1.2.2.2.1
    obtain ⟨rt, _, hrt, ert⟩ := cf.2.2.2.1.2.2.1
    obtain ⟨sh', ti', tj', bk', HXt, HYt⟩ := zj_trip (fa := a_failures) (se := a_settings) hT hs bk hrs2 ers
    have iq : vp_in (nI (m % 32)) 32 := vp_in_nI hq32 (by omega)
    have cq : (nI (m % 32)).toNatClampNeg = m % 32 := nI_clamp (by omega)
    -- over
    have S3 : zj_S N T Tc T (Dm + 1) bf L (nI np, nI rn, f_nodes, nI (zj_dn D), nI N, nI g, f_waiting, nI T, f_finished + 1, f_touched, a_weight, a_slots, a_pace, upd a_running s (nI r), a_broken, a_down, a_good, a_bad, sh', ti', upd a_failures s (a_failures s + 1), a_successes, a_credit, a_settings, a_ringAt, a_ringServer, a_paths, a_sets, a_next, a_servers, a_homes, a_homeSince, a_latest, a_sorted, a_capacity, a_refill, a_bucket, a_countedAt, upd a_states (m % 32) 3, a_clients, a_path, a_ranks, a_keys, a_works, a_tried, a_attempts, a_server, a_late, a_came, upd a_ends (m % 32) (nI T), A', a_queue, vp_updL a_totals 3 (a_totals 3 + 1)) (nI T, nI rn, nI N, g_waiting, a_weight, a_slots, a_pace, tj', upd a_failures s (a_failures s + 1), a_credit, a_successes, b_sick, b_well, a_broken, b_up, a_paths, a_sets, a_settings, a_capacity, a_refill, b_tokens, a_homes, a_homeSince, a_clients, a_path, a_keys, a_works, a_ranks, upd a_states (m % 32) 3, a_server, a_attempts, a_tried, a_came, upd b_ended (m % 32) (nI T), b_ends, a_late, b_queue, vp_updL b_total 3 (b_total 3 + 1), a_latest, b_sorted) := by
      refine zj_S_in (D := D) (h := g) (np := np) (rn := rn) (nd := nd) (pre := pre) (by omega) ?_ (zj_Q_upd Q (by rw [hst]; exact n01) (fun i hi => ⟨pk_un hi, rfl⟩))
      exact ⟨⟨rfl, rfl, rfl, rfl, rfl, rfl, rfl, rfl⟩, ⟨hN, hT, hTc, hTe, by omega⟩, cf, hmm, tk, slx 3 3 (by omega) rfl n31, enx 3 (by decide), hpx 3 n31, ru2 3 n31, ck, bk', zj_to3 to, rm⟩
    have F3 : zj_fr (m % 32) T (nI np, nI rn, f_nodes, nI (zj_dn D), nI N, nI (g + 1), f_waiting, nI T, f_finished, f_touched, a_weight, a_slots, a_pace, a_running, a_broken, a_down, a_good, a_bad, a_shut, a_till, a_failures, a_successes, a_credit, a_settings, a_ringAt, a_ringServer, a_paths, a_sets, a_next, a_servers, a_homes, a_homeSince, a_latest, a_sorted, a_capacity, a_refill, a_bucket, a_countedAt, a_states, a_clients, a_path, a_ranks, a_keys, a_works, a_tried, a_attempts, a_server, a_late, a_came, a_ends, a_heap, a_queue, a_totals) (nI np, nI rn, f_nodes, nI (zj_dn D), nI N, nI g, f_waiting, nI T, f_finished + 1, f_touched, a_weight, a_slots, a_pace, upd a_running s (nI r), a_broken, a_down, a_good, a_bad, sh', ti', upd a_failures s (a_failures s + 1), a_successes, a_credit, a_settings, a_ringAt, a_ringServer, a_paths, a_sets, a_next, a_servers, a_homes, a_homeSince, a_latest, a_sorted, a_capacity, a_refill, a_bucket, a_countedAt, upd a_states (m % 32) 3, a_clients, a_path, a_ranks, a_keys, a_works, a_tried, a_attempts, a_server, a_late, a_came, upd a_ends (m % 32) (nI T), A', a_queue, vp_updL a_totals 3 (a_totals 3 + 1)) := by
      refine ⟨fun i hi => ⟨pk_un hi, pk_un hi⟩, fun z => ?_⟩
      have z1 : upd a_states (m % 32) 3 (m % 32) = 1 := z.1
      rw [pk_us] at z1; exact n31 z1
    by_cases hag : a ≤ rt
    · have hG := zj_tryG (Rn := fun m' => a_states (m' % 32) = 1 ∧ m' ≠ m) (b_state := upd a_states (m % 32) 3) hN hT hm rfl (fun z => z.2 rfl) cf hmm S1 (a := a) (by omega) ea hok ep (ru2 3 n31) ck bk' hp1 a_slots a_credit a_homeSince a_late b_ends
      rcases hG with ⟨_, HX, HY⟩ | ⟨s2, t', a', du, r2, lt, cr', A2, hs2, ht', ea', hdu1, hdu2, er2, hr2, hp2, HX, HY⟩
      · refine ⟨_, _, S3, F3, ?_, ?_⟩
        · intro K hK
          refine HT _ ?_
          rw [h0]
          refine zx_bad (by omega) rfl hs (r := r) (by omega) es er hl (HXt _ (And.intro iq (br_f ?_ (br_f (by decide) (HX _ ((zj_over3 hq32).1 _ hK))))))
          rw [cq, ea, ert]; exact nI_nlt (by omega) (by omega)
        · intro K hK
          refine zy_bad hq32 hs es hl (HYt _ hq32 (And.intro iq (br_f ?_ (HY _ (br_t rfl ((zj_over3 (f_now := nI T) hq32).2 _ ?_))))))
          · rw [cq, ea, ert]; exact nI_nlt (by omega) (by omega)
          · rw [za_uu]; exact hK
      · refine ⟨(nI np, nI rn, f_nodes, nI (zj_dn D), nI N, nI (g + 1), f_waiting, nI T, f_finished, f_touched, a_weight, a_slots, a_pace, upd (upd a_running s (nI r)) s2 (upd a_running s (nI r) s2 + 1), a_broken, a_down, a_good, a_bad, sh', ti', upd a_failures s (a_failures s + 1), a_successes, cr', a_settings, a_ringAt, a_ringServer, a_paths, a_sets, a_next, a_servers, a_homes, a_homeSince, a_latest, a_sorted, a_capacity, a_refill, a_bucket, a_countedAt, upd a_states (m % 32) 1, a_clients, a_path, a_ranks, a_keys, a_works, upd a_tried (m % 32) (nI t'), upd a_attempts (m % 32) (nI a'), upd a_server (m % 32) (nI s2), upd a_late (m % 32) lt, a_came, upd a_ends (m % 32) (nI (T + du)), A2, a_queue, a_totals), (nI T, nI rn, nI N, g_waiting, a_weight, a_slots, a_pace, tj', upd a_failures s (a_failures s + 1), cr', a_successes, b_sick, b_well, a_broken, b_up, a_paths, a_sets, a_settings, a_capacity, a_refill, b_tokens, a_homes, a_homeSince, a_clients, a_path, a_keys, a_works, a_ranks, upd a_states (m % 32) 1, upd a_server (m % 32) (nI s2), upd a_attempts (m % 32) (nI a'), upd a_tried (m % 32) (nI t'), a_came, b_ended, upd b_ends (m % 32) (nI (T + du)), upd a_late (m % 32) lt, b_queue, b_total, a_latest, b_sorted), zj_S_in (D := D) (h := g + 1) (np := np) (rn := rn) (nd := nd) (pre := pre) (by omega) ?_ (zj_Q_upd Q (by rw [hst]; exact n01) (fun i hi => ⟨pk_un hi, pk_un hi⟩)), ⟨fun i hi => ⟨pk_un hi, pk_un hi⟩, fun z => ?_⟩, ?_, ?_⟩
        · refine ⟨⟨rfl, rfl, rfl, rfl, rfl, rfl, rfl, rfl⟩, ⟨hN, hT, hTc, hTe, by omega⟩, cf, hmm, tk, ?_, ?_, ?_, ?_, ck, bk', to, rm⟩
          · refine zj_sl_upd (q := m % 32) sl (fun i hi => ⟨pk_un hi, rfl, rfl, rfl, rfl, pk_un hi, pk_un hi, pk_un hi, rfl⟩) (fun _ _ => ?_)
            obtain ⟨a1, a2, a3, a4, a5, a6, a7, a8, a9⟩ := S1
            exact ⟨a1, a2, a3, a4, ⟨t', ht', pk_us⟩, ⟨a', by omega, pk_us⟩, a7, ⟨1, by omega, pk_us⟩, fun _ => ⟨s2, hs2, pk_us⟩⟩
          · refine zj_en_upd (q := m % 32) en (fun i hi => ⟨pk_un hi, pk_un hi, pk_un hi, rfl⟩) (fun h1 h2 => ?_)
            refine ⟨fun _ => ⟨by rw [pk_us, pk_us], T + du, by omega, by omega, pk_us⟩, fun z => ?_, fun _ => ?_⟩
            · rw [pk_us] at z; exact absurd z (by decide)
            · exact E1.2.2 (by rw [hst]; decide)
          · refine zj_hq_congr hN (fun m' hw' => ?_) (fun _ _ _ => rfl) hp2
            constructor
            · rintro (z | z)
              · rw [pk_un (fun e => z.2 (zw_inj hw' hm e))]; exact z.1
              · rw [z, pk_us]
            · intro z
              by_cases e : m' % 32 = m % 32
              · exact Or.inr (zw_inj hw' hm e)
              · rw [pk_un e] at z; exact Or.inl ⟨z, fun y => e (by rw [y])⟩
          · have := zj_ru_add (ru2 3 n31) hq32 hqN hs2 (by rw [pk_us]; exact n31)
            rwa [za_uu] at this
        · have z2 : upd a_ends (m % 32) (nI (T + du)) (m % 32) = nI T := z.2
          rw [pk_us] at z2
          have := (nI_eq (by omega) (by omega)).mp z2
          omega
        · intro K hK
          refine HT _ ?_
          rw [h0]
          refine zx_bad (by omega) rfl hs (r := r) (by omega) es er hl (HXt _ (And.intro iq (br_f ?_ (br_f (by decide) (HX _ (br_f (by decide) hK))))))
          rw [cq, ea, ert]; exact nI_nlt (by omega) (by omega)
        · intro K hK
          refine zy_bad hq32 hs es hl (HYt _ hq32 (And.intro iq (br_f ?_ (HY _ (br_f (by decide) (br_f (by decide) ?_))))))
          · rw [cq, ea, ert]; exact nI_nlt (by omega) (by omega)
          · rw [za_uu]; exact hK
    · refine ⟨_, _, S3, F3, ?_, ?_⟩
      · intro K hK
        refine HT _ ?_
        rw [h0]
        refine zx_bad (by omega) rfl hs (r := r) (by omega) es er hl (HXt _ (And.intro iq (br_t ?_ (br_t rfl ((zj_over3 hq32).1 _ hK)))))
        rw [cq, ea, ert]; exact nI_lt (by omega) (by omega)
      · intro K hK
        refine zy_bad hq32 hs es hl (HYt _ hq32 (And.intro iq (br_t ?_ ((zj_over3 (f_now := nI T) hq32).2 _ ?_))))
        · rw [cq, ea, ert]; exact nI_lt (by omega) (by omega)
        · rw [za_uu]; exact hK
end
end
section
/-! all that ends at T: X's heap against Y's scan -/
section
variable {f_points f_routes f_nodes f_durations f_requests f_heaped f_waiting f_now f_finished f_touched g_time g_waiting : Int32}
variable {a_weight a_slots a_pace a_running a_broken a_down a_good a_bad a_shut a_till a_failures a_successes a_credit a_settings a_ringAt a_ringServer a_paths a_sets a_next a_servers a_homes a_homeSince a_latest a_sorted a_capacity a_refill a_bucket a_countedAt a_states a_clients a_path a_ranks a_keys a_works a_tried a_attempts a_server a_late a_came a_ends a_heap a_queue b_till b_sick b_well b_up b_tokens b_state b_ended b_ends b_queue b_sorted : Nat → Int32}
variable {a_totals b_total : Nat → Int64}
def yU84 (post : SY → Prop) (x1 : Int32) (v : SY) : Prop := match v with
  | (g_time, f_routes, f_requests, g_waiting, a_weight, a_slots, a_pace, b_till, a_failures, a_credit, a_successes, b_sick, b_well, a_broken, b_up, a_paths, a_sets, a_settings, a_capacity, a_refill, b_tokens, a_homes, a_homeSince, a_clients, a_path, a_keys, a_works, a_ranks, b_state, a_server, a_attempts, a_tried, a_came, b_ended, b_ends, a_late, b_queue, b_total, a_latest, b_sorted) => ∃ n, wY_unit_84 post n x1 g_time f_routes f_requests g_waiting a_weight a_slots a_pace b_till a_failures a_credit a_successes b_sick b_well a_broken b_up a_paths a_sets a_settings a_capacity a_refill b_tokens a_homes a_homeSince a_clients a_path a_keys a_works a_ranks b_state a_server a_attempts a_tried a_came b_ended b_ends a_late b_queue b_total a_latest b_sorted
def yU133 (post : SY → Prop) (x1 : Int32) (v : SY) : Prop := match v with
  | (g_time, f_routes, f_requests, g_waiting, a_weight, a_slots, a_pace, b_till, a_failures, a_credit, a_successes, b_sick, b_well, a_broken, b_up, a_paths, a_sets, a_settings, a_capacity, a_refill, b_tokens, a_homes, a_homeSince, a_clients, a_path, a_keys, a_works, a_ranks, b_state, a_server, a_attempts, a_tried, a_came, b_ended, b_ends, a_late, b_queue, b_total, a_latest, b_sorted) => ∃ n, wY_unit_133 post n x1 g_time f_routes f_requests g_waiting a_weight a_slots a_pace b_till a_failures a_credit a_successes b_sick b_well a_broken b_up a_paths a_sets a_settings a_capacity a_refill b_tokens a_homes a_homeSince a_clients a_path a_keys a_works a_ranks b_state a_server a_attempts a_tried a_came b_ended b_ends a_late b_queue b_total a_latest b_sorted
def yU168 (post : SY → Prop) (x1 x2 : Int32) (v : SY) : Prop := match v with
  | (g_time, f_routes, f_requests, g_waiting, a_weight, a_slots, a_pace, b_till, a_failures, a_credit, a_successes, b_sick, b_well, a_broken, b_up, a_paths, a_sets, a_settings, a_capacity, a_refill, b_tokens, a_homes, a_homeSince, a_clients, a_path, a_keys, a_works, a_ranks, b_state, a_server, a_attempts, a_tried, a_came, b_ended, b_ends, a_late, b_queue, b_total, a_latest, b_sorted) => ∃ n, wY_unit_168 post n x1 x2 g_time f_routes f_requests g_waiting a_weight a_slots a_pace b_till a_failures a_credit a_successes b_sick b_well a_broken b_up a_paths a_sets a_settings a_capacity a_refill b_tokens a_homes a_homeSince a_clients a_path a_keys a_works a_ranks b_state a_server a_attempts a_tried a_came b_ended b_ends a_late b_queue b_total a_latest b_sorted
def yU245 (post : SY → Prop) (x1 x2 : Int32) (v : SY) : Prop := match v with
  | (g_time, f_routes, f_requests, g_waiting, a_weight, a_slots, a_pace, b_till, a_failures, a_credit, a_successes, b_sick, b_well, a_broken, b_up, a_paths, a_sets, a_settings, a_capacity, a_refill, b_tokens, a_homes, a_homeSince, a_clients, a_path, a_keys, a_works, a_ranks, b_state, a_server, a_attempts, a_tried, a_came, b_ended, b_ends, a_late, b_queue, b_total, a_latest, b_sorted) => ∃ n, wY_unit_245 post n x1 x2 g_time f_routes f_requests g_waiting a_weight a_slots a_pace b_till a_failures a_credit a_successes b_sick b_well a_broken b_up a_paths a_sets a_settings a_capacity a_refill b_tokens a_homes a_homeSince a_clients a_path a_keys a_works a_ranks b_state a_server a_attempts a_tried a_came b_ended b_ends a_late b_queue b_total a_latest b_sorted
def xH0 (post : SX → Prop) (n : Nat) (u : SX) : Prop := match u with
  | (f_points, f_routes, f_nodes, f_durations, f_requests, f_heaped, f_waiting, f_now, f_finished, f_touched, a_weight, a_slots, a_pace, a_running, a_broken, a_down, a_good, a_bad, a_shut, a_till, a_failures, a_successes, a_credit, a_settings, a_ringAt, a_ringServer, a_paths, a_sets, a_next, a_servers, a_homes, a_homeSince, a_latest, a_sorted, a_capacity, a_refill, a_bucket, a_countedAt, a_states, a_clients, a_path, a_ranks, a_keys, a_works, a_tried, a_attempts, a_server, a_late, a_came, a_ends, a_heap, a_queue, a_totals) => wX_happen_0 post n f_points f_routes f_nodes f_durations f_requests f_heaped f_waiting f_now f_finished f_touched a_weight a_slots a_pace a_running a_broken a_down a_good a_bad a_shut a_till a_failures a_successes a_credit a_settings a_ringAt a_ringServer a_paths a_sets a_next a_servers a_homes a_homeSince a_latest a_sorted a_capacity a_refill a_bucket a_countedAt a_states a_clients a_path a_ranks a_keys a_works a_tried a_attempts a_server a_late a_came a_ends a_heap a_queue a_totals
def xH41 (post : SX → Prop) (u : SX) : Prop := match u with
  | (f_points, f_routes, f_nodes, f_durations, f_requests, f_heaped, f_waiting, f_now, f_finished, f_touched, a_weight, a_slots, a_pace, a_running, a_broken, a_down, a_good, a_bad, a_shut, a_till, a_failures, a_successes, a_credit, a_settings, a_ringAt, a_ringServer, a_paths, a_sets, a_next, a_servers, a_homes, a_homeSince, a_latest, a_sorted, a_capacity, a_refill, a_bucket, a_countedAt, a_states, a_clients, a_path, a_ranks, a_keys, a_works, a_tried, a_attempts, a_server, a_late, a_came, a_ends, a_heap, a_queue, a_totals) => wX_happen_41 post f_points f_routes f_nodes f_durations f_requests f_heaped f_waiting f_now f_finished f_touched a_weight a_slots a_pace a_running a_broken a_down a_good a_bad a_shut a_till a_failures a_successes a_credit a_settings a_ringAt a_ringServer a_paths a_sets a_next a_servers a_homes a_homeSince a_latest a_sorted a_capacity a_refill a_bucket a_countedAt a_states a_clients a_path a_ranks a_keys a_works a_tried a_attempts a_server a_late a_came a_ends a_heap a_queue a_totals
def xH57 (post : SX → Prop) (x1 : Int32) (u : SX) : Prop := match u with
  | (f_points, f_routes, f_nodes, f_durations, f_requests, f_heaped, f_waiting, f_now, f_finished, f_touched, a_weight, a_slots, a_pace, a_running, a_broken, a_down, a_good, a_bad, a_shut, a_till, a_failures, a_successes, a_credit, a_settings, a_ringAt, a_ringServer, a_paths, a_sets, a_next, a_servers, a_homes, a_homeSince, a_latest, a_sorted, a_capacity, a_refill, a_bucket, a_countedAt, a_states, a_clients, a_path, a_ranks, a_keys, a_works, a_tried, a_attempts, a_server, a_late, a_came, a_ends, a_heap, a_queue, a_totals) => ∃ n, wX_happen_57 post n x1 f_points f_routes f_nodes f_durations f_requests f_heaped f_waiting f_now f_finished f_touched a_weight a_slots a_pace a_running a_broken a_down a_good a_bad a_shut a_till a_failures a_successes a_credit a_settings a_ringAt a_ringServer a_paths a_sets a_next a_servers a_homes a_homeSince a_latest a_sorted a_capacity a_refill a_bucket a_countedAt a_states a_clients a_path a_ranks a_keys a_works a_tried a_attempts a_server a_late a_came a_ends a_heap a_queue a_totals
def xH81 (post : SX → Prop) (x1 : Int32) (u : SX) : Prop := match u with
  | (f_points, f_routes, f_nodes, f_durations, f_requests, f_heaped, f_waiting, f_now, f_finished, f_touched, a_weight, a_slots, a_pace, a_running, a_broken, a_down, a_good, a_bad, a_shut, a_till, a_failures, a_successes, a_credit, a_settings, a_ringAt, a_ringServer, a_paths, a_sets, a_next, a_servers, a_homes, a_homeSince, a_latest, a_sorted, a_capacity, a_refill, a_bucket, a_countedAt, a_states, a_clients, a_path, a_ranks, a_keys, a_works, a_tried, a_attempts, a_server, a_late, a_came, a_ends, a_heap, a_queue, a_totals) => ∃ n, wX_happen_81 post n x1 f_points f_routes f_nodes f_durations f_requests f_heaped f_waiting f_now f_finished f_touched a_weight a_slots a_pace a_running a_broken a_down a_good a_bad a_shut a_till a_failures a_successes a_credit a_settings a_ringAt a_ringServer a_paths a_sets a_next a_servers a_homes a_homeSince a_latest a_sorted a_capacity a_refill a_bucket a_countedAt a_states a_clients a_path a_ranks a_keys a_works a_tried a_attempts a_server a_late a_came a_ends a_heap a_queue a_totals
def xH143 (post : SX → Prop) (x1 : Int32) (u : SX) : Prop := match u with
  | (f_points, f_routes, f_nodes, f_durations, f_requests, f_heaped, f_waiting, f_now, f_finished, f_touched, a_weight, a_slots, a_pace, a_running, a_broken, a_down, a_good, a_bad, a_shut, a_till, a_failures, a_successes, a_credit, a_settings, a_ringAt, a_ringServer, a_paths, a_sets, a_next, a_servers, a_homes, a_homeSince, a_latest, a_sorted, a_capacity, a_refill, a_bucket, a_countedAt, a_states, a_clients, a_path, a_ranks, a_keys, a_works, a_tried, a_attempts, a_server, a_late, a_came, a_ends, a_heap, a_queue, a_totals) => ∃ n, wX_happen_143 post n x1 f_points f_routes f_nodes f_durations f_requests f_heaped f_waiting f_now f_finished f_touched a_weight a_slots a_pace a_running a_broken a_down a_good a_bad a_shut a_till a_failures a_successes a_credit a_settings a_ringAt a_ringServer a_paths a_sets a_next a_servers a_homes a_homeSince a_latest a_sorted a_capacity a_refill a_bucket a_countedAt a_states a_clients a_path a_ranks a_keys a_works a_tried a_attempts a_server a_late a_came a_ends a_heap a_queue a_totals
theorem xH0_of {post : SX → Prop} {u : SX} (h : wpX_happen post u) : ∃ n, xH0 post n u := h
theorem zj_S_mono {N T Tc Te Dm Dm' : Nat} {bf : Int64} {L : List Nat} {u : SX} {v : SY} (h : Dm ≤ Dm') (S : zj_S N T Tc Te Dm bf L u v) : zj_S N T Tc Te Dm' bf L u v := by
  refine zj_S_el (P := fun u v => zj_S N T Tc Te Dm' bf L u v) ?_ S
  intro f_points f_routes f_nodes f_durations f_requests f_heaped f_waiting f_now f_finished f_touched g_time g_waiting a_weight a_slots a_pace a_running a_broken a_down a_good a_bad a_shut a_till a_failures a_successes a_credit a_settings a_ringAt a_ringServer a_paths a_sets a_next a_servers a_homes a_homeSince a_latest a_sorted a_capacity a_refill a_bucket a_countedAt a_states a_clients a_path a_ranks a_keys a_works a_tried a_attempts a_server a_late a_came a_ends a_heap a_queue b_till b_sick b_well b_up b_tokens b_state b_ended b_ends b_queue b_sorted a_totals b_total D h np rn nd pre hD C Q
  exact zj_S_in (by omega) C Q
theorem zw_ex {N q : Nat} (hq : q < 32) (hN : q < N) : ∃ m, zw_W N m ∧ m % 32 = q := by
  by_cases h : N ≤ 32
  · exact ⟨q, ⟨hN, by omega⟩, by omega⟩
  · refine ⟨N - 1 - (N - 1 - q) % 32, ⟨by omega, by omega⟩, by omega⟩
/-- nothing below p ends at T any more -/
def zj_Fi (N T p : Nat) (u : SX) : Prop := ∀ m, zw_W N m → m < p → ¬ (px_st u (m % 32) = 1 ∧ px_en u (m % 32) = nI T)
theorem zj_F1 {N T Tc Dm p : Nat} {bf : Int64} {L : List Nat} {u : SX} {v : SY} (hp : p < N) (hw : N ≤ p + 32) (hDm : Dm + 1 < 2 ^ 30) (S : zj_S N T Tc T Dm bf L u v) (hI : zj_Fi N T p u) :
    ∃ u' v', zj_S N T Tc T (Dm + 1) bf L u' v' ∧ zj_Fi N T (p + 1) u' ∧ (∀ post, wpX_happen post u' → wpX_happen post u) ∧ (∀ post, yU84 post (nI (p + 1)) v' → yU84 post (nI p) v) := by
  revert hI
  refine zj_S_el (P := fun u v => zj_Fi N T p u → ∃ u' v', zj_S N T Tc T (Dm + 1) bf L u' v' ∧ zj_Fi N T (p + 1) u' ∧ (∀ post, wpX_happen post u' → wpX_happen post u) ∧ (∀ post, yU84 post (nI (p + 1)) v' → yU84 post (nI p) v)) ?_ S
  intro f_points f_routes f_nodes f_durations f_requests f_heaped f_waiting f_now f_finished f_touched g_time g_waiting a_weight a_slots a_pace a_running a_broken a_down a_good a_bad a_shut a_till a_failures a_successes a_credit a_settings a_ringAt a_ringServer a_paths a_sets a_next a_servers a_homes a_homeSince a_latest a_sorted a_capacity a_refill a_bucket a_countedAt a_states a_clients a_path a_ranks a_keys a_works a_tried a_attempts a_server a_late a_came a_ends a_heap a_queue b_till b_sick b_well b_up b_tokens b_state b_ended b_ends b_queue b_sorted a_totals b_total D h np rn nd pre hD C Q hI
  have hm : zw_W N p := ⟨hp, hw⟩
  have hN : N < 4096 := C.2.1.1
  have hT : T < 2 ^ 22 := C.2.1.2.1
  have hq32 : p % 32 < 32 := Nat.mod_lt _ (by decide)
  have hqN := zw_q hm
  have iq : vp_in (nI (p % 32)) 32 := vp_in_nI hq32 (by omega)
  have cq : (nI (p % 32)).toNatClampNeg = p % 32 := nI_clamp (by omega)
  have n32 : ¬ (32 : Int32) = 0 := by decide
  have en := C.2.2.2.2.2.2.1
  have hpq := C.2.2.2.2.2.2.2.1
  have eN : f_requests = nI N := C.1.1
  have eT : g_time = nI T := C.1.2.2.1
  have eT' : f_now = nI T := C.1.2.1
  have eS : a_states = b_state := C.1.2.2.2.1
  have eh : f_heaped = nI h := C.1.2.2.2.2.2.2.2
  have hge : ¬ f_requests ≤ nI p := by rw [eN]; exact nI_ge hp (by omega)
  by_cases hrun : a_states (p % 32) = 1 ∧ a_ends (p % 32) = nI T
  · obtain ⟨i, hi, ei⟩ := zj_hq_mem hpq hm hrun.1
    obtain ⟨g, rfl⟩ : ∃ g, h = g + 1 := ⟨h - 1, by omega⟩
    have h0 : a_heap 0 = nI p := by
      obtain ⟨m0, e0, q1, q2, q3, q4, q5⟩ := hpq.2.2.2.1 0 (by omega)
      have hmin := zh_min hpq.2.1 i hi
      have hm0 : m0 < N := q1.1
      rw [q3, ei, zh_kN (by omega), zh_kN (by omega), q5, hrun.2, nI_clamp q4, nI_clamp (by omega)] at hmin
      obtain ⟨_, e1, r1, r2, r3⟩ := (en (m0 % 32) (Nat.mod_lt _ (by decide)) (zw_q q1)).1 q2
      have : e1 = e0 := (nI_eq (by omega) (by omega)).mp (r3.symm.trans q5)
      subst this
      have heT : e1 = T := by omega
      have hle : m0 ≤ p := by omega
      by_cases z : m0 = p
      · rw [q3, z]
      · exact absurd ⟨q2, by rw [← heT]; exact q5⟩ (hI m0 q1 (by omega))
    obtain ⟨u', v', S', F', HX, HY⟩ := zj_fin hD hDm C Q hm h0 hrun.1
    refine ⟨u', v', S', ?_, ?_, ?_⟩
    · intro m' hw' hlt
      by_cases e : m' % 32 = p % 32
      · rw [e]; exact F'.2
      · have := F'.1 _ e
        rw [this.1, this.2]
        have hne : m' ≠ p := fun y => e (by rw [y])
        exact hI m' hw' (by omega)
    · intro post hpo
      obtain ⟨n, hn⟩ := xH0_of hpo
      have m31 : nI p &&& 31 = nI (p % 32) := za_m31 (by omega)
      refine ⟨n + 1, br_f (by rw [eh]; exact nI_nle (by omega) (by have := hpq.1; omega)) ?_⟩
      refine ⟨by rw [h0, m31]; exact iq, br_t (by rw [h0, m31, cq, hrun.2, eT']) ?_⟩
      exact HX _ hn
    · intro post hpo
      have hbe := ((en (p % 32) hq32 hqN).1 hrun.1).1
      obtain ⟨y_time, y_routes, y_next, y_waiting, y_weight, y_slots, y_pace, y_till, y_failures, y_credit, y_successes, y_sick, y_well, y_broken, y_up, y_routePath, y_routeServers, y_setting, y_capacity, y_refill, y_tokens, y_home, y_homeTime, y_client, y_path, y_key, y_work, y_rank, y_state, y_at, y_attempts, y_tried, y_came, y_ended, y_ends, y_late, y_queue, y_total, y_took, y_sorted⟩ := v'
      obtain ⟨n, hn⟩ := hpo
      refine ⟨n + 1, br_f hge ⟨n32, nm_r (za_r32 (by omega)) ⟨iq, br_t (by rw [cq, ← eS]; exact hrun.1) ⟨iq, br_t (by rw [cq, ← hbe, hrun.2, eT]) (HY _ ?_)⟩⟩⟩⟩
      exact nm_r (nI_1 p) hn
  · refine ⟨_, _, zj_S_in (show D ≤ Dm + 1 by omega) C Q, ?_, fun post h => h, ?_⟩
    · intro m' hw' hlt
      by_cases e : m' = p
      · subst e; exact hrun
      · exact hI m' hw' (by omega)
    · intro post hpo
      obtain ⟨n, hn⟩ := hpo
      refine ⟨n + 1, br_f hge ⟨n32, nm_r (za_r32 (by omega)) ⟨iq, ?_⟩⟩⟩
      by_cases h1 : a_states (p % 32) = 1
      · have hbe := ((en (p % 32) hq32 hqN).1 h1).1
        refine br_t (by rw [cq, ← eS]; exact h1) ⟨iq, br_f (fun z => hrun ⟨h1, ?_⟩) (nm_r (nI_1 p) hn)⟩
        rw [cq, eT] at z
        rw [hbe, z]
      · exact br_f (by rw [cq, ← eS]; exact h1) (nm_r (nI_1 p) hn)
theorem zj_F0 {N T Tc Dm : Nat} {bf : Int64} {L : List Nat} {u : SX} {v : SY} (S : zj_S N T Tc T Dm bf L u v) (hI : zj_Fi N T N u) :
    zj_S N T Tc (T + 1) Dm bf L u v ∧ (∀ post, xH41 post u → wpX_happen post u) ∧ (∀ post, yU133 post 0 v → yU84 post (nI N) v) := by
  revert hI
  refine zj_S_el (P := fun u v => zj_Fi N T N u → zj_S N T Tc (T + 1) Dm bf L u v ∧ (∀ post, xH41 post u → wpX_happen post u) ∧ (∀ post, yU133 post 0 v → yU84 post (nI N) v)) ?_ S
  intro f_points f_routes f_nodes f_durations f_requests f_heaped f_waiting f_now f_finished f_touched g_time g_waiting a_weight a_slots a_pace a_running a_broken a_down a_good a_bad a_shut a_till a_failures a_successes a_credit a_settings a_ringAt a_ringServer a_paths a_sets a_next a_servers a_homes a_homeSince a_latest a_sorted a_capacity a_refill a_bucket a_countedAt a_states a_clients a_path a_ranks a_keys a_works a_tried a_attempts a_server a_late a_came a_ends a_heap a_queue b_till b_sick b_well b_up b_tokens b_state b_ended b_ends b_queue b_sorted a_totals b_total D h np rn nd pre hD C Q hI
  obtain ⟨e1, ⟨hN, hT, hTc, hTe, hD2⟩, cf, hmm, tk, sl, en, hp, ru, ck, bk, to, rm⟩ := C
  have eN : f_requests = nI N := e1.1
  have eT' : f_now = nI T := e1.2.1
  have eh : f_heaped = nI h := e1.2.2.2.2.2.2.2
  refine ⟨zj_S_in hD ⟨e1, ⟨hN, hT, hTc, by omega, hD2⟩, cf, hmm, tk, sl, ?_, hp, ru, ck, bk, to, rm⟩ Q, ?_, ?_⟩
  · intro q hq hqN
    obtain ⟨f1, f2, f3⟩ := en q hq hqN
    refine ⟨fun z => ?_, f2, f3⟩
    obtain ⟨g1, e, g2, g3, g4⟩ := f1 z
    refine ⟨g1, e, ?_, g3, g4⟩
    obtain ⟨m, hm, em⟩ := zw_ex hq hqN
    have hno := hI m hm hm.1
    rw [em] at hno
    have : e ≠ T := fun y => hno ⟨z, by rw [← y]; exact g4⟩
    omega
  · intro post hpo
    refine ⟨1, ?_⟩
    rcases Nat.eq_zero_or_pos h with z | z
    · exact br_t (by rw [eh, z, nI_0]; exact Int32.le_refl _) hpo
    · obtain ⟨m0, e0, q1, q2, q3, q4, q5⟩ := hp.2.2.2.1 0 z
      have hm0 : m0 < N := q1.1
      have m31 : nI m0 &&& 31 = nI (m0 % 32) := za_m31 (by omega)
      have cq : (nI (m0 % 32)).toNatClampNeg = m0 % 32 := nI_clamp (by omega)
      refine br_f (by rw [eh]; exact nI_nle z (by have := hp.1; omega)) ⟨by rw [q3, m31]; exact vp_in_nI (by omega) (by omega), br_f (fun y => ?_) hpo⟩
      rw [q3, m31, cq, eT'] at y
      exact hI m0 q1 hm0 ⟨q2, y⟩
  · intro post hpo
    exact ⟨1, br_t (by rw [eN]; exact Int32.le_refl _) hpo⟩
theorem zj_F {N T Tc : Nat} {bf : Int64} {L : List Nat} : ∀ (d p Dm : Nat) (u : SX) (v : SY), p + d = N → N ≤ p + 32 → zj_S N T Tc T Dm bf L u v → zj_Fi N T p u → Dm + d + 1 < 2 ^ 30 →
    ∃ u' v', zj_S N T Tc (T + 1) (Dm + d) bf L u' v' ∧ (∀ post, xH41 post u' → wpX_happen post u) ∧ (∀ post, yU133 post 0 v' → yU84 post (nI p) v) := by
  intro d
  induction d with
  | zero =>
    intro p Dm u v hp hw S hI _
    have : p = N := by omega
    subst this
    obtain ⟨h1, h2, h3⟩ := zj_F0 S hI
    exact ⟨u, v, h1, h2, h3⟩
  | succ d ih =>
    intro p Dm u v hp hw S hI hd
    obtain ⟨u1, v1, S1, I1, HX1, HY1⟩ := zj_F1 (by omega) hw (by omega) S hI
    obtain ⟨u2, v2, S2, HX2, HY2⟩ := ih (p + 1) (Dm + 1) u1 v1 (by omega) (by omega) S1 I1 (by omega)
    rw [show Dm + 1 + d = Dm + (d + 1) by omega] at S2
    exact ⟨u2, v2, S2, fun post h => HX1 post (HX2 post h), fun post h => HY1 post (HY2 post h)⟩
end
end
section
/-! the checks of a unit -/
section
variable {f_points f_routes f_nodes f_durations f_requests f_heaped f_waiting f_now f_finished f_touched g_time g_waiting : Int32}
variable {a_weight a_slots a_pace a_running a_broken a_down a_good a_bad a_shut a_till a_failures a_successes a_credit a_settings a_ringAt a_ringServer a_paths a_sets a_next a_servers a_homes a_homeSince a_latest a_sorted a_capacity a_refill a_bucket a_countedAt a_states a_clients a_path a_ranks a_keys a_works a_tried a_attempts a_server a_late a_came a_ends a_heap a_queue b_till b_sick b_well b_up b_tokens b_state b_ended b_ends b_queue b_sorted : Nat → Int32}
variable {a_totals b_total : Nat → Int64}
theorem zj_K6 {Tm T ck : Nat} {br se : Nat → Int32} (hTm : Tm < 2 ^ 30) (hbr : ∀ s, s < 6 → br s = 0 ∨ br s = 1) (hck1 : 1 ≤ ck) (hck2 : ck ≤ 100) (eck : se 4 = nI ck) (hT : T < 2 ^ 30) (hz : T % ck = 0) :
    ∀ (d s : Nat) (dn go ba si we up : Nat → Int32), s + d = 6 → (∀ t, t < s → zj_c1 (Tm + 1) dn go ba si we up t) → (∀ t, s ≤ t → t < 6 → zj_c1 Tm dn go ba si we up t) →
    ∃ (dn' go' ba' si' we' up' : Nat → Int32), zj_ck (Tm + 1) dn' go' ba' si' we' up' ∧
    (∀ {f_points f_routes f_nodes f_durations f_requests f_heaped f_waiting f_now f_finished f_touched : Int32} {a_weight a_slots a_pace a_running a_shut a_till a_failures a_successes a_credit a_settings a_ringAt a_ringServer a_paths a_sets a_next a_servers a_homes a_homeSince a_latest a_sorted a_capacity a_refill a_bucket a_countedAt a_states a_clients a_path a_ranks a_keys a_works a_tried a_attempts a_server a_late a_came a_ends a_heap a_queue : Nat → Int32} {a_totals : Nat → Int64} (post : SX → Prop), (∃ n, wX_happen_81 post n (f_waiting - 1) f_points f_routes f_nodes f_durations f_requests f_heaped f_waiting f_now f_finished f_touched a_weight a_slots a_pace a_running br dn' go' ba' a_shut a_till a_failures a_successes a_credit a_settings a_ringAt a_ringServer a_paths a_sets a_next a_servers a_homes a_homeSince a_latest a_sorted a_capacity a_refill a_bucket a_countedAt a_states a_clients a_path a_ranks a_keys a_works a_tried a_attempts a_server a_late a_came a_ends a_heap a_queue a_totals) →
      ∃ n, wX_happen_57 post n (nI s) f_points f_routes f_nodes f_durations f_requests f_heaped f_waiting f_now f_finished f_touched a_weight a_slots a_pace a_running br dn go ba a_shut a_till a_failures a_successes a_credit a_settings a_ringAt a_ringServer a_paths a_sets a_next a_servers a_homes a_homeSince a_latest a_sorted a_capacity a_refill a_bucket a_countedAt a_states a_clients a_path a_ranks a_keys a_works a_tried a_attempts a_server a_late a_came a_ends a_heap a_queue a_totals) ∧
    (∀ {f_routes f_requests g_waiting : Int32} {a_weight a_slots a_pace b_till a_failures a_credit a_successes a_paths a_sets a_capacity a_refill b_tokens a_homes a_homeSince a_clients a_path a_keys a_works a_ranks b_state a_server a_attempts a_tried a_came b_ended b_ends a_late b_queue a_latest b_sorted : Nat → Int32} {b_total : Nat → Int64} (post : SY → Prop), (∃ n, wY_unit_168 post n 0 0 (nI T) f_routes f_requests g_waiting a_weight a_slots a_pace b_till a_failures a_credit a_successes si' we' br up' a_paths a_sets se a_capacity a_refill b_tokens a_homes a_homeSince a_clients a_path a_keys a_works a_ranks b_state a_server a_attempts a_tried a_came b_ended b_ends a_late b_queue b_total a_latest b_sorted) →
      ∃ n, wY_unit_133 post n (nI s) (nI T) f_routes f_requests g_waiting a_weight a_slots a_pace b_till a_failures a_credit a_successes si we br up a_paths a_sets se a_capacity a_refill b_tokens a_homes a_homeSince a_clients a_path a_keys a_works a_ranks b_state a_server a_attempts a_tried a_came b_ended b_ends a_late b_queue b_total a_latest b_sorted) := by
  have hck0 : ¬ nI ck = 0 := nI_ne0 (by omega) (by omega)
  have hrem : nI T - nI T / nI ck * nI ck = 0 := by rw [pk_rem (by omega) (by omega) (by omega), hz]; exact nI_0
  intro d
  induction d with
  | zero =>
    intro s dn go ba si we up hs h1 h2
    have : s = 6 := by omega
    subst this
    refine ⟨dn, go, ba, si, we, up, h1, ?_, ?_⟩
    · intros
      rename_i post hp
      exact ⟨1, br_t (Int32.le_refl _) (nm_e hp)⟩
    · intros
      rename_i post hp
      exact ⟨1, br_t (Int32.le_refl _) hp⟩
  | succ d ih =>
    intro s dn go ba si we up hs h1 h2
    have h6 : ¬ (6 : Int32) ≤ nI s := nI_ge (b := 6) (by omega) (by decide)
    obtain ⟨dn1, go1, ba1, si1, we1, up1, c1, fr, HX, HY⟩ := zj_chk (by omega) hTm (hbr s (by omega)) (h2 s (by omega) (by omega))
    obtain ⟨dn', go', ba', si', we', up', C, HX2, HY2⟩ := ih (s + 1) dn1 go1 ba1 si1 we1 up1 (by omega) (fun t ht => by
        by_cases e : t = s
        · subst e; exact c1
        · obtain ⟨f1, f2, f3, f4, f5, f6⟩ := fr t e
          exact zj_c1_congr f1 f2 f3 f4 f5 f6 (h1 t (by omega))) (fun t ht1 ht2 => by
        obtain ⟨f1, f2, f3, f4, f5, f6⟩ := fr t (by omega)
        exact zj_c1_congr f1 f2 f3 f4 f5 f6 (h2 t (by omega) ht2))
    refine ⟨dn', go', ba', si', we', up', C, ?_, ?_⟩
    · intros
      rename_i post hp
      obtain ⟨n, hn⟩ := HX2 post hp
      exact ⟨n + 1, br_f h6 (HX _ (nm_r (nI_1 s) hn))⟩
    · intros
      rename_i post hp
      obtain ⟨n, hn⟩ := HY2 post hp
      refine ⟨n + 1, br_f h6 ⟨by rw [eck]; exact hck0, br_t (by rw [eck]; exact hrem) (HY _ (nm_r (nI_1 s) hn))⟩⟩
theorem zj_K {N T Tc Te Dm : Nat} {bf : Int64} {L : List Nat} {u : SX} {v : SY} (hTc : Tc + 1 < 2 ^ 22) (S : zj_S N T Tc Te Dm bf L u v) :
    ∃ u' v', zj_S N T (Tc + 1) Te Dm bf L u' v' ∧ (∀ post, xH81 post (nI L.length - 1) u' → xH41 post u) ∧ (∀ post, yU168 post 0 0 v' → yU133 post 0 v) := by
  refine zj_S_el (P := fun u v => ∃ u' v', zj_S N T (Tc + 1) Te Dm bf L u' v' ∧ (∀ post, xH81 post (nI L.length - 1) u' → xH41 post u) ∧ (∀ post, yU168 post 0 0 v' → yU133 post 0 v)) ?_ S
  intro f_points f_routes f_nodes f_durations f_requests f_heaped f_waiting f_now f_finished f_touched g_time g_waiting a_weight a_slots a_pace a_running a_broken a_down a_good a_bad a_shut a_till a_failures a_successes a_credit a_settings a_ringAt a_ringServer a_paths a_sets a_next a_servers a_homes a_homeSince a_latest a_sorted a_capacity a_refill a_bucket a_countedAt a_states a_clients a_path a_ranks a_keys a_works a_tried a_attempts a_server a_late a_came a_ends a_heap a_queue b_till b_sick b_well b_up b_tokens b_state b_ended b_ends b_queue b_sorted a_totals b_total D h np rn nd pre hD C Q
  obtain ⟨e1, ⟨hN, hT, hTc2, hTe, hD2⟩, cf, hmm, tk, sl, en, hp, ru, ck, bk, to, rm⟩ := C
  have eT : f_now = nI T := e1.2.1
  have eT2 : g_time = nI T := e1.2.2.1
  have ew : f_waiting = nI L.length := Q.2.2.1
  obtain ⟨ckk, hck1, hck2, eck⟩ := cf.2.2.2.1.2.2.2.2.1
  have hck0 : ¬ nI ckk = 0 := nI_ne0 (by omega) (by omega)
  have hrem : nI T - nI T / nI ckk * nI ckk = nI (T % ckk) := pk_rem (by omega) (by omega) (by omega)
  by_cases hz : T % ckk = 0
  · obtain ⟨dn', go', ba', si', we', up', CK, HX, HY⟩ := zj_K6 (Tm := Tc) (br := a_broken) (se := a_settings) (by omega) cf.2.2.1 hck1 hck2 eck (by omega) hz 6 0 a_down a_good a_bad b_sick b_well b_up (by omega) (fun t ht => by omega) (fun t _ ht => ck t ht)
    refine ⟨(f_points, f_routes, f_nodes, f_durations, f_requests, f_heaped, f_waiting, f_now, f_finished, f_touched, a_weight, a_slots, a_pace, a_running, a_broken, dn', go', ba', a_shut, a_till, a_failures, a_successes, a_credit, a_settings, a_ringAt, a_ringServer, a_paths, a_sets, a_next, a_servers, a_homes, a_homeSince, a_latest, a_sorted, a_capacity, a_refill, a_bucket, a_countedAt, a_states, a_clients, a_path, a_ranks, a_keys, a_works, a_tried, a_attempts, a_server, a_late, a_came, a_ends, a_heap, a_queue, a_totals), (g_time, f_routes, f_requests, g_waiting, a_weight, a_slots, a_pace, b_till, a_failures, a_credit, a_successes, si', we', a_broken, up', a_paths, a_sets, a_settings, a_capacity, a_refill, b_tokens, a_homes, a_homeSince, a_clients, a_path, a_keys, a_works, a_ranks, b_state, a_server, a_attempts, a_tried, a_came, b_ended, b_ends, a_late, b_queue, b_total, a_latest, b_sorted), zj_S_in (D := D) (h := h) (np := np) (rn := rn) (nd := nd) (pre := pre) hD ⟨e1, ⟨hN, hT, by omega, hTe, hD2⟩, cf, hmm, tk, sl, en, hp, ru, CK, bk, to, rm⟩ Q, ?_, ?_⟩
    · intro post hpo
      refine And.intro (by rw [eck]; exact hck0) (br_t (by rw [eck, eT, hrem, hz]; exact nI_0) (HX post ?_))
      rw [ew]; rw [ew] at hpo; exact hpo
    · intro post hpo
      subst eT2
      exact HY post hpo
  · refine ⟨(f_points, f_routes, f_nodes, f_durations, f_requests, f_heaped, f_waiting, f_now, f_finished, f_touched, a_weight, a_slots, a_pace, a_running, a_broken, a_down, a_good, a_bad, a_shut, a_till, a_failures, a_successes, a_credit, a_settings, a_ringAt, a_ringServer, a_paths, a_sets, a_next, a_servers, a_homes, a_homeSince, a_latest, a_sorted, a_capacity, a_refill, a_bucket, a_countedAt, a_states, a_clients, a_path, a_ranks, a_keys, a_works, a_tried, a_attempts, a_server, a_late, a_came, a_ends, a_heap, a_queue, a_totals), (g_time, f_routes, f_requests, g_waiting, a_weight, a_slots, a_pace, b_till, a_failures, a_credit, a_successes, b_sick, b_well, a_broken, b_up, a_paths, a_sets, a_settings, a_capacity, a_refill, b_tokens, a_homes, a_homeSince, a_clients, a_path, a_keys, a_works, a_ranks, b_state, a_server, a_attempts, a_tried, a_came, b_ended, b_ends, a_late, b_queue, b_total, a_latest, b_sorted), zj_S_in (D := D) (h := h) (np := np) (rn := rn) (nd := nd) (pre := pre) hD ⟨e1, ⟨hN, hT, by omega, hTe, hD2⟩, cf, hmm, tk, sl, en, hp, ru, fun s hs => zj_c1_mono (by omega) (ck s hs), bk, to, rm⟩ Q, ?_, ?_⟩
    · intro post hpo
      refine And.intro (by rw [eck]; exact hck0) (br_f (by rw [eck, eT, hrem]; exact nI_ne0 (by omega) (by have := Nat.mod_lt T (show 0 < ckk by omega); omega)) (nm_e ?_))
      rw [ew]; rw [ew] at hpo; exact hpo
    · intro post hpo
      refine ⟨1, br_f (by decide) ⟨by rw [eck]; exact hck0, br_f (by rw [eck, eT2, hrem]; exact nI_ne0 (by omega) (by have := Nat.mod_lt T (show 0 < ckk by omega); omega)) hpo⟩⟩
end
end
section
/-! those who waited too long -/
section
variable {f_points f_routes f_nodes f_durations f_requests f_heaped f_waiting f_now f_finished f_touched g_time g_waiting : Int32}
variable {a_weight a_slots a_pace a_running a_broken a_down a_good a_bad a_shut a_till a_failures a_successes a_credit a_settings a_ringAt a_ringServer a_paths a_sets a_next a_servers a_homes a_homeSince a_latest a_sorted a_capacity a_refill a_bucket a_countedAt a_states a_clients a_path a_ranks a_keys a_works a_tried a_attempts a_server a_late a_came a_ends a_heap a_queue b_till b_sick b_well b_up b_tokens b_state b_ended b_ends b_queue b_sorted : Nat → Int32}
variable {a_totals b_total : Nat → Int64}
def zl_s (x : Int32) (E : List Nat) (f : Nat → Int32) : Nat → Int32 := fun q => if q ∈ E.map (fun m => m % 32) then x else f q
theorem zl_nil {x : Int32} {f : Nat → Int32} : zl_s x [] f = f := by
  funext q; unfold zl_s; simp
theorem zl_cons {x : Int32} {m : Nat} {E : List Nat} {f : Nat → Int32} : zl_s x (m :: E) f = zl_s x E (upd f (m % 32) x) := by
  funext q
  unfold zl_s
  rw [List.map_cons]
  by_cases h : q ∈ E.map (fun m => m % 32)
  · rw [if_pos (List.mem_cons.mpr (Or.inr h)), if_pos h]
  · rw [if_neg h]
    by_cases e : q = m % 32
    · rw [if_pos (List.mem_cons.mpr (Or.inl e)), e, pk_us]
    · rw [pk_un e, if_neg (fun z => (List.mem_cons.mp z).elim e h)]
theorem zl_snoc {x : Int32} {m : Nat} {E : List Nat} {f : Nat → Int32} : zl_s x (E ++ [m]) f = zl_s x E (upd f (m % 32) x) := by
  funext q
  unfold zl_s
  rw [List.map_append]
  by_cases h : q ∈ E.map (fun m => m % 32)
  · rw [if_pos (List.mem_append.mpr (Or.inl h)), if_pos h]
  · rw [if_neg h]
    by_cases e : q = m % 32
    · rw [if_pos (List.mem_append.mpr (Or.inr (by simp [e]))), e, pk_us]
    · rw [pk_un e, if_neg (fun z => (List.mem_append.mp z).elim h (fun y => e (by simpa using y)))]
def zl_t (k : Nat) (t : Nat → Int64) : Nat → Int64 := vp_updL t 4 (t 4 + lN k)
theorem zl_t0 {t : Nat → Int64} : zl_t 0 t = t := by
  funext j; unfold zl_t vp_updL
  split
  · rename_i h; rw [h, show lN 0 = 0 from rfl, Int64.add_zero]
  · rfl
theorem zl_ts {k : Nat} {t : Nat → Int64} : zl_t k (vp_updL t 4 (t 4 + 1)) = zl_t (k + 1) t := by
  funext j; unfold zl_t
  by_cases h : j = 4
  · subst h
    rw [pk_uLs, pk_uLs, pk_uLs, ← lN_1]
    grind
  · rw [pk_uLn h, pk_uLn h, pk_uLn h]
theorem zl_f {k : Nat} {f : Int32} : f + 1 + nI k = f + nI (k + 1) := by rw [← nI_1]; grind
theorem zl_last {K : List Nat} {i : Nat} (h : K.length = i + 1) : ∃ K' m, K = K' ++ [m] := by
  rcases List.eq_nil_or_concat K with e | ⟨K', m, e⟩
  · rw [e] at h; simp at h
  · exact ⟨K', m, by rw [e, List.concat_eq_append]⟩
def zl_ex (T wa : Nat) (ca : Nat → Int32) (m : Nat) : Bool := decide (wa ≤ T - (ca (m % 32)).toNatClampNeg)
def zl_no (T wa : Nat) (ca : Nat → Int32) (m : Nat) : Bool := !zl_ex T wa ca m
theorem zx_ex81 {T wa : Nat} {ca se : Nat → Int32} (hT : T < 2 ^ 22) (hwa : wa ≤ 1000) (ewa : se 5 = nI wa) :
    ∀ (i : Nat) (K F : List Nat) (st en : Nat → Int32) (xt : Nat → Int64) (fi : Int32) (q : Nat → Int32), K.length = i → K.length + F.length ≤ 8 → zq_S q 0 (K ++ F) →
    (∀ m, m ∈ K → m < 4096 ∧ ∃ c, c ≤ T ∧ ca (m % 32) = nI c) →
    ∃ q', zq_S q' 0 (K.filter (zl_no T wa ca) ++ F) ∧ ∀ {f_points f_routes f_nodes f_durations f_requests f_heaped f_touched : Int32} {a_weight a_slots a_pace a_running a_broken a_down a_good a_bad a_shut a_till a_failures a_successes a_credit a_ringAt a_ringServer a_paths a_sets a_next a_servers a_homes a_homeSince a_latest a_sorted a_capacity a_refill a_bucket a_countedAt a_clients a_path a_ranks a_keys a_works a_tried a_attempts a_server a_late a_heap : Nat → Int32} (post : SX → Prop),
      (∃ n, wX_happen_143 post n 0 f_points f_routes f_nodes f_durations f_requests f_heaped (nI ((K.filter (zl_no T wa ca)).length + F.length)) (nI T) (fi + nI (K.filter (zl_ex T wa ca)).length) f_touched a_weight a_slots a_pace a_running a_broken a_down a_good a_bad a_shut a_till a_failures a_successes a_credit se a_ringAt a_ringServer a_paths a_sets a_next a_servers a_homes a_homeSince a_latest a_sorted a_capacity a_refill a_bucket a_countedAt (zl_s 4 (K.filter (zl_ex T wa ca)) st) a_clients a_path a_ranks a_keys a_works a_tried a_attempts a_server a_late ca (zl_s (nI T) (K.filter (zl_ex T wa ca)) en) a_heap q' (zl_t (K.filter (zl_ex T wa ca)).length xt)) → ∃ n, wX_happen_81 post n (nI i - 1) f_points f_routes f_nodes f_durations f_requests f_heaped (nI (K.length + F.length)) (nI T) fi f_touched a_weight a_slots a_pace a_running a_broken a_down a_good a_bad a_shut a_till a_failures a_successes a_credit se a_ringAt a_ringServer a_paths a_sets a_next a_servers a_homes a_homeSince a_latest a_sorted a_capacity a_refill a_bucket a_countedAt st a_clients a_path a_ranks a_keys a_works a_tried a_attempts a_server a_late ca en a_heap q xt := by
  intro i
  induction i with
  | zero =>
    intro K F st en xt fi q hK hl hq hm
    have : K = [] := List.eq_nil_of_length_eq_zero hK
    subst this
    refine ⟨q, hq, ?_⟩
    intros
    rename_i post hp
    simp only [List.filter_nil, List.length_nil, zl_nil, zl_t0, nI_0, Int32.add_zero] at hp
    exact ⟨1, br_t (by decide) hp⟩
  | succ i ih =>
    intro K F st en xt fi q hK hl hq hm
    obtain ⟨K', m, rfl⟩ := zl_last hK
    have hK' : K'.length = i := by simpa using hK
    have hlen : (K' ++ [m]).length + F.length = (K'.length + F.length) + 1 := by simp; omega
    have happ : (K' ++ [m]) ++ F = K' ++ m :: F := by simp
    rw [hlen] at hl
    rw [happ] at hq
    obtain ⟨hm4, c, hc, ec⟩ := hm m (by simp)
    have hmK : ∀ m', m' ∈ K' → m' < 4096 ∧ ∃ c, c ≤ T ∧ ca (m' % 32) = nI c := fun m' h' => hm m' (by simp [h'])
    have eq0 : q i = nI m := by
      have := (zq_app.mp hq).2.1
      rwa [Nat.zero_add, hK'] at this
    have ei : nI (i + 1) - 1 = nI i := nI_pred i
    have ci : (nI i).toNatClampNeg = i := nI_clamp (by omega)
    have i8 : vp_in (nI i) 8 := vp_in_nI (by omega) (by omega)
    have m31 : nI m &&& 31 = nI (m % 32) := za_m31 (by omega)
    have iq : vp_in (nI (m % 32)) 32 := vp_in_nI (by omega) (by omega)
    have cq : (nI (m % 32)).toNatClampNeg = m % 32 := nI_clamp (by omega)
    have hneg : ¬ nI i < 0 := nI_pos (by omega)
    have esub : nI T - nI c = nI (T - c) := pk_sub hc
    have edn : nI i + (-1) = nI i - 1 := (Int32.sub_eq_add_neg _ _).symm
    have ecl : (ca (m % 32)).toNatClampNeg = c := by rw [ec, nI_clamp (by omega)]
    by_cases hx : wa ≤ T - c
    · have fe : (K' ++ [m]).filter (zl_ex T wa ca) = K'.filter (zl_ex T wa ca) ++ [m] := by
        rw [List.filter_append]; congr 1; simp [zl_ex, ecl, hx]
      have fn : (K' ++ [m]).filter (zl_no T wa ca) = K'.filter (zl_no T wa ca) := by
        rw [List.filter_append]; simp [zl_no, zl_ex, ecl, hx]
      obtain ⟨q', h1, H⟩ := ih K' F (upd st (m % 32) 4) (upd en (m % 32) (nI T)) (vp_updL xt 4 (xt 4 + 1)) (fi + 1) (zs_del q (K'.length + F.length + 1) i) hK' (by omega)
        (by rw [← hK']; exact zq_del (by omega) hq) hmK
      refine ⟨q', by rw [fn]; exact h1, ?_⟩
      intros
      rename_i post hp
      rw [fe, fn, List.length_append, List.length_singleton, zl_snoc, zl_snoc, ← zl_ts, ← zl_f] at hp
      obtain ⟨n, hn⟩ := H post hp
      refine ⟨n + 1, ?_⟩
      rw [ei, hlen]
      refine br_f hneg ⟨i8, ?_⟩
      rw [ci, eq0, m31]
      refine ⟨iq, br_t (by rw [cq, ec, ewa, esub]; exact nI_le hx (by omega)) ⟨i8, ?_⟩⟩
      refine zx_conc (k := 4) rfl (by omega) (by omega) (zx_leave (by omega) (by omega) (nm_r edn hn))
    · have fe : (K' ++ [m]).filter (zl_ex T wa ca) = K'.filter (zl_ex T wa ca) := by
        rw [List.filter_append]; simp [zl_ex, ecl, hx]
      have fn : (K' ++ [m]).filter (zl_no T wa ca) = K'.filter (zl_no T wa ca) ++ [m] := by
        rw [List.filter_append]; congr 1; simp [zl_no, zl_ex, ecl, hx]
      obtain ⟨q', h1, H⟩ := ih K' (m :: F) st en xt fi q hK' (by rw [List.length_cons]; omega) hq hmK
      refine ⟨q', by rw [fn, List.append_assoc]; exact h1, ?_⟩
      intros
      rename_i post hp
      rw [fe, fn, List.length_append, List.length_singleton] at hp
      rw [List.length_cons] at H
      obtain ⟨n, hn⟩ := H post (by rw [show (K'.filter (zl_no T wa ca)).length + (F.length + 1) = (K'.filter (zl_no T wa ca)).length + 1 + F.length by omega]; exact hp)
      refine ⟨n + 1, ?_⟩
      rw [ei, hlen]
      refine br_f hneg ⟨i8, ?_⟩
      rw [ci, eq0, m31]
      refine ⟨iq, br_f (by rw [cq, ec, ewa, esub]; exact nI_ge (by omega) (by omega)) (nm_r edn ?_)⟩
      exact hn
theorem zy_ex168 {T wa : Nat} {ca se : Nat → Int32} (hT : T < 2 ^ 22) (hwa : wa ≤ 1000) (ewa : se 5 = nI wa) :
    ∀ (R K : List Nat) (x2 : Nat) (st yd : Nat → Int32) (yt : Nat → Int64) (q : Nat → Int32), K.length ≤ x2 → x2 + R.length ≤ 8 → zq_S q 0 K → zq_S q x2 R →
    (∀ m, m ∈ R → m < 4096 ∧ ∃ c, c ≤ T ∧ ca (m % 32) = nI c) →
    ∃ q', zq_S q' 0 (K ++ R.filter (zl_no T wa ca)) ∧ ∀ {f_routes f_requests : Int32} {a_weight a_slots a_pace b_till a_failures a_credit a_successes b_sick b_well a_broken b_up a_paths a_sets a_capacity a_refill b_tokens a_homes a_homeSince a_clients a_path a_keys a_works a_ranks a_server a_attempts a_tried b_ends a_late a_latest b_sorted : Nat → Int32} (post : SY → Prop),
      (∃ n, wY_unit_245 post n 0 0 (nI T) f_routes f_requests (nI (K.length + (R.filter (zl_no T wa ca)).length)) a_weight a_slots a_pace b_till a_failures a_credit a_successes b_sick b_well a_broken b_up a_paths a_sets se a_capacity a_refill b_tokens a_homes a_homeSince a_clients a_path a_keys a_works a_ranks (zl_s 4 (R.filter (zl_ex T wa ca)) st) a_server a_attempts a_tried ca (zl_s (nI T) (R.filter (zl_ex T wa ca)) yd) b_ends a_late q' (zl_t (R.filter (zl_ex T wa ca)).length yt) a_latest b_sorted) → ∃ n, wY_unit_168 post n (nI K.length) (nI x2) (nI T) f_routes f_requests (nI (x2 + R.length)) a_weight a_slots a_pace b_till a_failures a_credit a_successes b_sick b_well a_broken b_up a_paths a_sets se a_capacity a_refill b_tokens a_homes a_homeSince a_clients a_path a_keys a_works a_ranks st a_server a_attempts a_tried ca yd b_ends a_late q yt a_latest b_sorted := by
  intro R
  induction R with
  | nil =>
    intro K x2 st yd yt q hK hl hq1 hq2 hm
    refine ⟨q, by simpa using hq1, ?_⟩
    intros
    rename_i post hp
    simp only [List.filter_nil, List.length_nil, zl_nil, zl_t0, Nat.add_zero] at hp
    exact ⟨1, br_t (by rw [List.length_nil, Nat.add_zero]; exact Int32.le_refl _) hp⟩
  | cons m R ih =>
    intro K x2 st yd yt q hK hl hq1 hq2 hm
    rw [List.length_cons] at hl
    obtain ⟨hm4, c, hc, ec⟩ := hm m (by simp)
    have hmR : ∀ m', m' ∈ R → m' < 4096 ∧ ∃ c, c ≤ T ∧ ca (m' % 32) = nI c := fun m' h' => hm m' (by simp [h'])
    have eq0 : q x2 = nI m := hq2.1
    have cx : (nI x2).toNatClampNeg = x2 := nI_clamp (by omega)
    have ck : (nI K.length).toNatClampNeg = K.length := nI_clamp (by omega)
    have i9 : vp_in (nI x2) 9 := vp_in_nI (by omega) (by omega)
    have k9 : vp_in (nI K.length) 9 := vp_in_nI (by omega) (by omega)
    have r32 : nI m - nI m / 32 * 32 = nI (m % 32) := za_r32 (by omega)
    have iq : vp_in (nI (m % 32)) 32 := vp_in_nI (by omega) (by omega)
    have cq : (nI (m % 32)).toNatClampNeg = m % 32 := nI_clamp (by omega)
    have n32 : ¬ (32 : Int32) = 0 := by decide
    have esub : nI T - nI c = nI (T - c) := pk_sub hc
    have ecl : (ca (m % 32)).toNatClampNeg = c := by rw [ec, nI_clamp (by omega)]
    have hge : ¬ nI (x2 + (m :: R).length) ≤ nI x2 := nI_ge (by rw [List.length_cons]; omega) (by rw [List.length_cons]; omega)
    have elen : x2 + (m :: R).length = x2 + 1 + R.length := by rw [List.length_cons]; omega
    by_cases hx : wa ≤ T - c
    · have fe : (m :: R).filter (zl_ex T wa ca) = m :: R.filter (zl_ex T wa ca) := by simp [zl_ex, ecl, hx]
      have fn : (m :: R).filter (zl_no T wa ca) = R.filter (zl_no T wa ca) := by simp [zl_no, zl_ex, ecl, hx]
      obtain ⟨q', h1, H⟩ := ih K (x2 + 1) (upd st (m % 32) 4) (upd yd (m % 32) (nI T)) (vp_updL yt 4 (yt 4 + 1)) q (by omega) (by omega) hq1 hq2.2 hmR
      refine ⟨q', by rw [fn]; exact h1, ?_⟩
      intros
      rename_i post hp
      rw [fe, fn, List.length_cons, zl_cons, zl_cons, ← zl_ts] at hp
      obtain ⟨n, hn⟩ := H post hp
      refine ⟨n + 1, br_f hge ⟨i9, n32, nm_r (e' := nI (m % 32)) (by rw [cx, eq0, r32]) ⟨iq, br_f (by rw [cq, ec, ewa, esub]; exact nI_nlt hx (by omega)) (zy_over (k := 4) rfl (by omega) (by omega) (nm_r (nI_1 x2) ?_))⟩⟩⟩
      rw [elen]
      exact hn
    · have fe : (m :: R).filter (zl_ex T wa ca) = R.filter (zl_ex T wa ca) := by simp [zl_ex, ecl, hx]
      have fn : (m :: R).filter (zl_no T wa ca) = m :: R.filter (zl_no T wa ca) := by simp [zl_no, zl_ex, ecl, hx]
      have hq1' : zq_S (upd q K.length (nI m)) 0 (K ++ [m]) :=
        zq_app.mpr ⟨zq_congr (fun i _ hi => pk_un (by omega)) hq1, by rw [Nat.zero_add]; exact pk_us, trivial⟩
      have hq2' : zq_S (upd q K.length (nI m)) (x2 + 1) R := zq_congr (fun i hi _ => pk_un (by omega)) hq2.2
      obtain ⟨q', h1, H⟩ := ih (K ++ [m]) (x2 + 1) st yd yt (upd q K.length (nI m)) (by rw [List.length_append, List.length_singleton]; omega) (by omega) hq1' hq2' hmR
      refine ⟨q', by rw [fn]; rw [List.append_assoc] at h1; exact h1, ?_⟩
      intros
      rename_i post hp
      rw [fe, fn, List.length_cons] at hp
      rw [List.length_append, List.length_singleton] at H
      obtain ⟨n, hn⟩ := H post (by rw [show K.length + 1 + (R.filter (zl_no T wa ca)).length = K.length + ((R.filter (zl_no T wa ca)).length + 1) by omega]; exact hp)
      refine ⟨n + 1, br_f hge ⟨i9, n32, nm_r (e' := nI (m % 32)) (by rw [cx, eq0, r32]) ⟨iq, br_t (by rw [cq, ec, ewa, esub]; exact nI_lt (by omega) (by omega)) (nm_r (nI_1 _) ⟨i9, k9, nm_r (e' := upd q K.length (nI m)) (by rw [ck, cx, eq0]) (nm_r (nI_1 x2) ?_)⟩)⟩⟩⟩
      rw [elen]
      exact hn
end
end
section
/-! the queue in a unit: those expired leave it, then each one tries -/
section
variable {f_points f_routes f_nodes f_durations f_requests f_heaped f_waiting f_now f_finished f_touched g_time g_waiting : Int32}
variable {a_weight a_slots a_pace a_running a_broken a_down a_good a_bad a_shut a_till a_failures a_successes a_credit a_settings a_ringAt a_ringServer a_paths a_sets a_next a_servers a_homes a_homeSince a_latest a_sorted a_capacity a_refill a_bucket a_countedAt a_states a_clients a_path a_ranks a_keys a_works a_tried a_attempts a_server a_late a_came a_ends a_heap a_queue b_till b_sick b_well b_up b_tokens b_state b_ended b_ends b_queue b_sorted : Nat → Int32}
variable {a_totals b_total : Nat → Int64}
theorem zj_ex1 {N T Tc Te D h m np rn nd : Nat} {bf : Int64} {pre : Nat → Nat} (C : zj_C N T Tc Te D h bf np rn nd pre f_points f_routes f_nodes f_durations f_requests f_heaped f_waiting f_now f_finished f_touched a_weight a_slots a_pace a_running a_broken a_down a_good a_bad a_shut a_till a_failures a_successes a_credit a_settings a_ringAt a_ringServer a_paths a_sets a_next a_servers a_homes a_homeSince a_latest a_sorted a_capacity a_refill a_bucket a_countedAt a_states a_clients a_path a_ranks a_keys a_works a_tried a_attempts a_server a_late a_came a_ends a_heap a_queue a_totals g_time g_waiting b_till b_sick b_well b_up b_tokens b_state b_ended b_ends b_queue b_sorted b_total) (hm : zw_W N m) (hst : a_states (m % 32) = 0) :
    zj_C N T Tc Te D h bf np rn nd pre f_points f_routes f_nodes f_durations f_requests f_heaped f_waiting f_now (f_finished + 1) f_touched a_weight a_slots a_pace a_running a_broken a_down a_good a_bad a_shut a_till a_failures a_successes a_credit a_settings a_ringAt a_ringServer a_paths a_sets a_next a_servers a_homes a_homeSince a_latest a_sorted a_capacity a_refill a_bucket a_countedAt (upd a_states (m % 32) 4) a_clients a_path a_ranks a_keys a_works a_tried a_attempts a_server a_late a_came (upd a_ends (m % 32) (nI T)) a_heap a_queue (vp_updL a_totals 4 (a_totals 4 + 1)) g_time g_waiting b_till b_sick b_well b_up b_tokens (upd b_state (m % 32) 4) (upd b_ended (m % 32) (nI T)) b_ends b_queue b_sorted (vp_updL b_total 4 (b_total 4 + 1)) := by
  obtain ⟨⟨rfl, rfl, rfl, rfl, rfl, rfl, rfl, rfl⟩, ⟨hN, hT, hTc, hTe, hD⟩, cf, hmm, tk, sl, en, hp, ru, ck, bk, to, rm⟩ := C
  have hq32 : m % 32 < 32 := Nat.mod_lt _ (by decide)
  have n01 : ¬ (0 : Int32) = 1 := by decide
  have n41 : ¬ (4 : Int32) = 1 := by decide
  refine ⟨⟨rfl, rfl, rfl, rfl, rfl, rfl, rfl, rfl⟩, ⟨hN, hT, hTc, hTe, hD⟩, cf, hmm, tk, ?_, ?_, ?_, ?_, ck, bk, zj_to4 to, rm⟩
  · refine zj_sl_upd (q := m % 32) sl (fun i hi => ⟨pk_un hi, rfl, rfl, rfl, rfl, rfl, rfl, rfl, rfl⟩) (fun h1 h2 => ?_)
    obtain ⟨a1, a2, a3, a4, a5, a6, a7, a8, a9⟩ := sl (m % 32) h1 h2
    exact ⟨a1, a2, a3, a4, a5, a6, a7, ⟨4, by omega, pk_us⟩, fun z => by rw [pk_us] at z; exact absurd z n41⟩
  · refine zj_en_upd (q := m % 32) en (fun i hi => ⟨pk_un hi, pk_un hi, rfl, pk_un hi⟩) (fun _ _ => ⟨fun z => ?_, fun _ => by rw [pk_us, pk_us], fun z => ?_⟩)
    · rw [pk_us] at z; exact absurd z n41
    · rw [pk_us] at z; exact absurd (by decide) z
  · refine zj_hq_congr hN (fun m' hw' => ?_) (fun m' hw' hr' => ?_) hp
    · by_cases e : m' % 32 = m % 32
      · rw [e, pk_us, hst]
        exact ⟨fun z => absurd z n01, fun z => absurd z n41⟩
      · rw [pk_un e]
    · rw [pk_un (fun e => n01 (by rw [← hst, ← e]; exact hr'))]
  · exact zj_ru_none ru hq32 (by rw [hst]; exact n01) n41 (fun _ _ => rfl)
theorem zj_exC {N T Tc Te D h np rn nd : Nat} {bf : Int64} {pre : Nat → Nat} : ∀ (E : List Nat) {f_points f_routes f_nodes f_durations f_requests f_heaped f_waiting f_now f_finished f_touched g_time g_waiting : Int32} {a_weight a_slots a_pace a_running a_broken a_down a_good a_bad a_shut a_till a_failures a_successes a_credit a_settings a_ringAt a_ringServer a_paths a_sets a_next a_servers a_homes a_homeSince a_latest a_sorted a_capacity a_refill a_bucket a_countedAt a_states a_clients a_path a_ranks a_keys a_works a_tried a_attempts a_server a_late a_came a_ends a_heap a_queue b_till b_sick b_well b_up b_tokens b_state b_ended b_ends b_queue b_sorted : Nat → Int32} {a_totals b_total : Nat → Int64}, zj_C N T Tc Te D h bf np rn nd pre f_points f_routes f_nodes f_durations f_requests f_heaped f_waiting f_now f_finished f_touched a_weight a_slots a_pace a_running a_broken a_down a_good a_bad a_shut a_till a_failures a_successes a_credit a_settings a_ringAt a_ringServer a_paths a_sets a_next a_servers a_homes a_homeSince a_latest a_sorted a_capacity a_refill a_bucket a_countedAt a_states a_clients a_path a_ranks a_keys a_works a_tried a_attempts a_server a_late a_came a_ends a_heap a_queue a_totals g_time g_waiting b_till b_sick b_well b_up b_tokens b_state b_ended b_ends b_queue b_sorted b_total → E.Nodup → (∀ m, m ∈ E → zw_W N m ∧ a_states (m % 32) = 0) →
    zj_C N T Tc Te D h bf np rn nd pre f_points f_routes f_nodes f_durations f_requests f_heaped f_waiting f_now (f_finished + nI E.length) f_touched a_weight a_slots a_pace a_running a_broken a_down a_good a_bad a_shut a_till a_failures a_successes a_credit a_settings a_ringAt a_ringServer a_paths a_sets a_next a_servers a_homes a_homeSince a_latest a_sorted a_capacity a_refill a_bucket a_countedAt (zl_s 4 E a_states) a_clients a_path a_ranks a_keys a_works a_tried a_attempts a_server a_late a_came (zl_s (nI T) E a_ends) a_heap a_queue (zl_t E.length a_totals) g_time g_waiting b_till b_sick b_well b_up b_tokens (zl_s 4 E b_state) (zl_s (nI T) E b_ended) b_ends b_queue b_sorted (zl_t E.length b_total) := by
  intro E
  induction E with
  | nil =>
    intro f_points f_routes f_nodes f_durations f_requests f_heaped f_waiting f_now f_finished f_touched g_time g_waiting a_weight a_slots a_pace a_running a_broken a_down a_good a_bad a_shut a_till a_failures a_successes a_credit a_settings a_ringAt a_ringServer a_paths a_sets a_next a_servers a_homes a_homeSince a_latest a_sorted a_capacity a_refill a_bucket a_countedAt a_states a_clients a_path a_ranks a_keys a_works a_tried a_attempts a_server a_late a_came a_ends a_heap a_queue b_till b_sick b_well b_up b_tokens b_state b_ended b_ends b_queue b_sorted a_totals b_total C _ _
    rw [zl_nil, zl_nil, zl_nil, zl_nil, List.length_nil, zl_t0, zl_t0, nI_0, Int32.add_zero]
    exact C
  | cons m E ih =>
    intro f_points f_routes f_nodes f_durations f_requests f_heaped f_waiting f_now f_finished f_touched g_time g_waiting a_weight a_slots a_pace a_running a_broken a_down a_good a_bad a_shut a_till a_failures a_successes a_credit a_settings a_ringAt a_ringServer a_paths a_sets a_next a_servers a_homes a_homeSince a_latest a_sorted a_capacity a_refill a_bucket a_countedAt a_states a_clients a_path a_ranks a_keys a_works a_tried a_attempts a_server a_late a_came a_ends a_heap a_queue b_till b_sick b_well b_up b_tokens b_state b_ended b_ends b_queue b_sorted a_totals b_total C hnd hE
    obtain ⟨h1, h2⟩ := List.nodup_cons.mp hnd
    obtain ⟨hm, hst⟩ := hE m (by simp)
    have C1 := zj_ex1 C hm hst
    have C2 := ih C1 h2 (fun m' h' => by
      obtain ⟨g1, g2⟩ := hE m' (by simp [h'])
      refine ⟨g1, ?_⟩
      rw [pk_un, g2]
      intro z
      have : m' = m := zw_inj g1 hm z
      subst this; exact h1 h')
    rw [zl_cons, zl_cons, zl_cons, zl_cons, List.length_cons, ← zl_ts, ← zl_ts, ← zl_f]
    exact C2
theorem zj_ex {N T Tc Te Dm : Nat} {bf : Int64} {L : List Nat} {u : SX} {v : SY} (S : zj_S N T Tc Te Dm bf L u v) :
    ∃ L' u' v', zj_S N T Tc Te Dm bf L' u' v' ∧ (∀ post, xH143 post 0 u' → xH81 post (nI L.length - 1) u) ∧ (∀ post, yU245 post 0 0 v' → yU168 post 0 0 v) := by
  refine zj_S_el (P := fun u v => ∃ L' u' v', zj_S N T Tc Te Dm bf L' u' v' ∧ (∀ post, xH143 post 0 u' → xH81 post (nI L.length - 1) u) ∧ (∀ post, yU245 post 0 0 v' → yU168 post 0 0 v)) ?_ S
  intro f_points f_routes f_nodes f_durations f_requests f_heaped f_waiting f_now f_finished f_touched g_time g_waiting a_weight a_slots a_pace a_running a_broken a_down a_good a_bad a_shut a_till a_failures a_successes a_credit a_settings a_ringAt a_ringServer a_paths a_sets a_next a_servers a_homes a_homeSince a_latest a_sorted a_capacity a_refill a_bucket a_countedAt a_states a_clients a_path a_ranks a_keys a_works a_tried a_attempts a_server a_late a_came a_ends a_heap a_queue b_till b_sick b_well b_up b_tokens b_state b_ended b_ends b_queue b_sorted a_totals b_total D h np rn nd pre hD C Q
  obtain ⟨⟨qn, qm⟩, ql, qx, qy, q1, q2⟩ := Q
  have hT : T < 2 ^ 22 := C.2.1.2.1
  have hN : N < 4096 := C.2.1.1
  have eT : f_now = nI T := C.1.2.1
  have eT2 : g_time = nI T := C.1.2.2.1
  obtain ⟨wa, _, hwa, ewa⟩ := C.2.2.1.2.2.2.1.2.2.2.2.2
  have hmm : ∀ m, m ∈ L → m < 4096 ∧ ∃ c, c ≤ T ∧ a_came (m % 32) = nI c := by
    intro m hm
    obtain ⟨g1, _, _⟩ := qm m hm
    have hmN : m < N := g1.1
    have S1 := C.2.2.2.2.2.1 (m % 32) (Nat.mod_lt _ (by decide)) (zw_q g1)
    exact ⟨by omega, S1.2.2.2.2.2.2.1⟩
  obtain ⟨qx', hx1, HX⟩ := zx_ex81 (ca := a_came) (se := a_settings) hT hwa ewa L.length L [] a_states a_ends a_totals f_finished a_queue rfl (by simpa using ql) (by simpa using q1) hmm
  obtain ⟨qy', hy1, HY⟩ := zy_ex168 (ca := a_came) (se := a_settings) hT hwa ewa L [] 0 b_state b_ended b_total b_queue (by simp) (by simpa using ql) trivial q2 hmm
  have CE := zj_exC (L.filter (zl_ex T wa a_came)) C (List.Nodup.sublist List.filter_sublist qn) (fun m hm => by
    obtain ⟨g1, g2, _⟩ := qm m (List.mem_filter.mp hm).1
    exact ⟨g1, g2⟩)
  have hql : (L.filter (zl_no T wa a_came)).length ≤ 8 := Nat.le_trans (List.length_filter_le _ _) ql
  refine ⟨L.filter (zl_no T wa a_came), (f_points, f_routes, f_nodes, f_durations, f_requests, f_heaped, nI (L.filter (zl_no T wa a_came)).length, f_now, f_finished + nI (L.filter (zl_ex T wa a_came)).length, f_touched, a_weight, a_slots, a_pace, a_running, a_broken, a_down, a_good, a_bad, a_shut, a_till, a_failures, a_successes, a_credit, a_settings, a_ringAt, a_ringServer, a_paths, a_sets, a_next, a_servers, a_homes, a_homeSince, a_latest, a_sorted, a_capacity, a_refill, a_bucket, a_countedAt, zl_s 4 (L.filter (zl_ex T wa a_came)) a_states, a_clients, a_path, a_ranks, a_keys, a_works, a_tried, a_attempts, a_server, a_late, a_came, zl_s (nI T) (L.filter (zl_ex T wa a_came)) a_ends, a_heap, qx', zl_t (L.filter (zl_ex T wa a_came)).length a_totals),
    (g_time, f_routes, f_requests, nI (L.filter (zl_no T wa a_came)).length, a_weight, a_slots, a_pace, b_till, a_failures, a_credit, a_successes, b_sick, b_well, a_broken, b_up, a_paths, a_sets, a_settings, a_capacity, a_refill, b_tokens, a_homes, a_homeSince, a_clients, a_path, a_keys, a_works, a_ranks, zl_s 4 (L.filter (zl_ex T wa a_came)) b_state, a_server, a_attempts, a_tried, a_came, zl_s (nI T) (L.filter (zl_ex T wa a_came)) b_ended, b_ends, a_late, qy', zl_t (L.filter (zl_ex T wa a_came)).length b_total, a_latest, b_sorted),
    zj_S_in hD CE ⟨⟨List.Nodup.sublist List.filter_sublist qn, fun m hm => ?_⟩, hql, rfl, rfl, by simpa using hx1, by simpa using hy1⟩, ?_, ?_⟩
  · obtain ⟨hmL, hno⟩ := List.mem_filter.mp hm
    obtain ⟨g1, g2, g3⟩ := qm m hmL
    refine ⟨g1, ?_, g3⟩
    unfold zl_s
    rw [if_neg, g2]
    intro z
    obtain ⟨m', h1, h2⟩ := List.mem_map.mp z
    obtain ⟨k1, k2⟩ := List.mem_filter.mp h1
    have : m' = m := zw_inj (qm m' k1).1 g1 h2
    subst this
    unfold zl_no at hno
    rw [k2] at hno; simp at hno
  · intro post hpo
    subst eT
    rw [List.length_nil] at HX
    obtain ⟨n, hn⟩ := HX post hpo
    refine ⟨n, ?_⟩
    rw [qx]
    exact hn
  · intro post hpo
    subst eT2
    rw [List.length_nil] at HY
    rw [Nat.zero_add, Nat.zero_add] at HY
    obtain ⟨n, hn⟩ := HY post hpo
    refine ⟨n, ?_⟩
    rw [qy]
    exact hn
/-! the same with any fact of the queues -/
def zj_G (N T Tc Te Dm : Nat) (bf : Int64) (QP : Int32 → Int32 → (Nat → Int32) → (Nat → Int32) → (Nat → Int32) → (Nat → Int32) → Prop) (u : SX) (v : SY) : Prop := match u with
  | (f_points, f_routes, f_nodes, f_durations, f_requests, f_heaped, f_waiting, f_now, f_finished, f_touched, a_weight, a_slots, a_pace, a_running, a_broken, a_down, a_good, a_bad, a_shut, a_till, a_failures, a_successes, a_credit, a_settings, a_ringAt, a_ringServer, a_paths, a_sets, a_next, a_servers, a_homes, a_homeSince, a_latest, a_sorted, a_capacity, a_refill, a_bucket, a_countedAt, a_states, a_clients, a_path, a_ranks, a_keys, a_works, a_tried, a_attempts, a_server, a_late, a_came, a_ends, a_heap, a_queue, a_totals) => match v with
  | (g_time, y_routes, y_requests, g_waiting, y_weight, y_slots, y_pace, b_till, y_failures, y_credit, y_successes, b_sick, b_well, y_broken, b_up, y_paths, y_sets, y_settings, y_capacity, y_refill, b_tokens, y_homes, y_homeSince, y_clients, y_path, y_keys, y_works, y_ranks, b_state, y_server, y_attempts, y_tried, y_came, b_ended, b_ends, y_late, b_queue, b_total, y_latest, b_sorted) => (y_routes = f_routes ∧ y_requests = f_requests ∧ y_weight = a_weight ∧ y_slots = a_slots ∧ y_pace = a_pace ∧ y_failures = a_failures ∧ y_credit = a_credit ∧ y_successes = a_successes ∧ y_broken = a_broken ∧ y_paths = a_paths ∧ y_sets = a_sets ∧ y_settings = a_settings ∧ y_capacity = a_capacity ∧ y_refill = a_refill ∧ y_homes = a_homes ∧ y_homeSince = a_homeSince ∧ y_clients = a_clients ∧ y_path = a_path ∧ y_keys = a_keys ∧ y_works = a_works ∧ y_ranks = a_ranks ∧ y_server = a_server ∧ y_attempts = a_attempts ∧ y_tried = a_tried ∧ y_came = a_came ∧ y_late = a_late ∧ y_latest = a_latest) ∧ ∃ (D h np rn nd : Nat) (pre : Nat → Nat), D ≤ Dm ∧ zj_C N T Tc Te D h bf np rn nd pre f_points f_routes f_nodes f_durations f_requests f_heaped f_waiting f_now f_finished f_touched a_weight a_slots a_pace a_running a_broken a_down a_good a_bad a_shut a_till a_failures a_successes a_credit a_settings a_ringAt a_ringServer a_paths a_sets a_next a_servers a_homes a_homeSince a_latest a_sorted a_capacity a_refill a_bucket a_countedAt a_states a_clients a_path a_ranks a_keys a_works a_tried a_attempts a_server a_late a_came a_ends a_heap a_queue a_totals g_time g_waiting b_till b_sick b_well b_up b_tokens b_state b_ended b_ends b_queue b_sorted b_total ∧ QP f_waiting g_waiting a_queue b_queue a_states a_attempts
theorem zj_G_in {N T Tc Te Dm D h np rn nd : Nat} {bf : Int64} {pre : Nat → Nat} {QP : Int32 → Int32 → (Nat → Int32) → (Nat → Int32) → (Nat → Int32) → (Nat → Int32) → Prop} (hD : D ≤ Dm) (C : zj_C N T Tc Te D h bf np rn nd pre f_points f_routes f_nodes f_durations f_requests f_heaped f_waiting f_now f_finished f_touched a_weight a_slots a_pace a_running a_broken a_down a_good a_bad a_shut a_till a_failures a_successes a_credit a_settings a_ringAt a_ringServer a_paths a_sets a_next a_servers a_homes a_homeSince a_latest a_sorted a_capacity a_refill a_bucket a_countedAt a_states a_clients a_path a_ranks a_keys a_works a_tried a_attempts a_server a_late a_came a_ends a_heap a_queue a_totals g_time g_waiting b_till b_sick b_well b_up b_tokens b_state b_ended b_ends b_queue b_sorted b_total)
    (Q : QP f_waiting g_waiting a_queue b_queue a_states a_attempts) : zj_G N T Tc Te Dm bf QP (f_points, f_routes, f_nodes, f_durations, f_requests, f_heaped, f_waiting, f_now, f_finished, f_touched, a_weight, a_slots, a_pace, a_running, a_broken, a_down, a_good, a_bad, a_shut, a_till, a_failures, a_successes, a_credit, a_settings, a_ringAt, a_ringServer, a_paths, a_sets, a_next, a_servers, a_homes, a_homeSince, a_latest, a_sorted, a_capacity, a_refill, a_bucket, a_countedAt, a_states, a_clients, a_path, a_ranks, a_keys, a_works, a_tried, a_attempts, a_server, a_late, a_came, a_ends, a_heap, a_queue, a_totals) (g_time, f_routes, f_requests, g_waiting, a_weight, a_slots, a_pace, b_till, a_failures, a_credit, a_successes, b_sick, b_well, a_broken, b_up, a_paths, a_sets, a_settings, a_capacity, a_refill, b_tokens, a_homes, a_homeSince, a_clients, a_path, a_keys, a_works, a_ranks, b_state, a_server, a_attempts, a_tried, a_came, b_ended, b_ends, a_late, b_queue, b_total, a_latest, b_sorted) :=
  And.intro ⟨rfl, rfl, rfl, rfl, rfl, rfl, rfl, rfl, rfl, rfl, rfl, rfl, rfl, rfl, rfl, rfl, rfl, rfl, rfl, rfl, rfl, rfl, rfl, rfl, rfl, rfl, rfl⟩ ⟨D, h, np, rn, nd, pre, hD, C, Q⟩
theorem zj_G_el {P : SX → SY → Prop} {N T Tc Te Dm : Nat} {bf : Int64} {QP : Int32 → Int32 → (Nat → Int32) → (Nat → Int32) → (Nat → Int32) → (Nat → Int32) → Prop} {u : SX} {v : SY}
    (H : ∀ {f_points f_routes f_nodes f_durations f_requests f_heaped f_waiting f_now f_finished f_touched g_time g_waiting : Int32} {a_weight a_slots a_pace a_running a_broken a_down a_good a_bad a_shut a_till a_failures a_successes a_credit a_settings a_ringAt a_ringServer a_paths a_sets a_next a_servers a_homes a_homeSince a_latest a_sorted a_capacity a_refill a_bucket a_countedAt a_states a_clients a_path a_ranks a_keys a_works a_tried a_attempts a_server a_late a_came a_ends a_heap a_queue b_till b_sick b_well b_up b_tokens b_state b_ended b_ends b_queue b_sorted : Nat → Int32} {a_totals b_total : Nat → Int64} (D h np rn nd : Nat) (pre : Nat → Nat), D ≤ Dm → zj_C N T Tc Te D h bf np rn nd pre f_points f_routes f_nodes f_durations f_requests f_heaped f_waiting f_now f_finished f_touched a_weight a_slots a_pace a_running a_broken a_down a_good a_bad a_shut a_till a_failures a_successes a_credit a_settings a_ringAt a_ringServer a_paths a_sets a_next a_servers a_homes a_homeSince a_latest a_sorted a_capacity a_refill a_bucket a_countedAt a_states a_clients a_path a_ranks a_keys a_works a_tried a_attempts a_server a_late a_came a_ends a_heap a_queue a_totals g_time g_waiting b_till b_sick b_well b_up b_tokens b_state b_ended b_ends b_queue b_sorted b_total →
      QP f_waiting g_waiting a_queue b_queue a_states a_attempts → P (f_points, f_routes, f_nodes, f_durations, f_requests, f_heaped, f_waiting, f_now, f_finished, f_touched, a_weight, a_slots, a_pace, a_running, a_broken, a_down, a_good, a_bad, a_shut, a_till, a_failures, a_successes, a_credit, a_settings, a_ringAt, a_ringServer, a_paths, a_sets, a_next, a_servers, a_homes, a_homeSince, a_latest, a_sorted, a_capacity, a_refill, a_bucket, a_countedAt, a_states, a_clients, a_path, a_ranks, a_keys, a_works, a_tried, a_attempts, a_server, a_late, a_came, a_ends, a_heap, a_queue, a_totals) (g_time, f_routes, f_requests, g_waiting, a_weight, a_slots, a_pace, b_till, a_failures, a_credit, a_successes, b_sick, b_well, a_broken, b_up, a_paths, a_sets, a_settings, a_capacity, a_refill, b_tokens, a_homes, a_homeSince, a_clients, a_path, a_keys, a_works, a_ranks, b_state, a_server, a_attempts, a_tried, a_came, b_ended, b_ends, a_late, b_queue, b_total, a_latest, b_sorted)) (S : zj_G N T Tc Te Dm bf QP u v) : P u v := by
  obtain ⟨f_points, f_routes, f_nodes, f_durations, f_requests, f_heaped, f_waiting, f_now, f_finished, f_touched, a_weight, a_slots, a_pace, a_running, a_broken, a_down, a_good, a_bad, a_shut, a_till, a_failures, a_successes, a_credit, a_settings, a_ringAt, a_ringServer, a_paths, a_sets, a_next, a_servers, a_homes, a_homeSince, a_latest, a_sorted, a_capacity, a_refill, a_bucket, a_countedAt, a_states, a_clients, a_path, a_ranks, a_keys, a_works, a_tried, a_attempts, a_server, a_late, a_came, a_ends, a_heap, a_queue, a_totals⟩ := u
  obtain ⟨g_time, y_routes, y_requests, g_waiting, y_weight, y_slots, y_pace, b_till, y_failures, y_credit, y_successes, b_sick, b_well, y_broken, b_up, y_paths, y_sets, y_settings, y_capacity, y_refill, b_tokens, y_homes, y_homeSince, y_clients, y_path, y_keys, y_works, y_ranks, b_state, y_server, y_attempts, y_tried, y_came, b_ended, b_ends, y_late, b_queue, b_total, y_latest, b_sorted⟩ := v
  obtain ⟨E, D, h, np, rn, nd, pre, hD, C, Q⟩ := S
  obtain ⟨rfl, rfl, rfl, rfl, rfl, rfl, rfl, rfl, rfl, rfl, rfl, rfl, rfl, rfl, rfl, rfl, rfl, rfl, rfl, rfl, rfl, rfl, rfl, rfl, rfl, rfl, rfl⟩ := E
  exact H D h np rn nd pre hD C Q
/-- none of these is ready -/
def zj_nr (K : List Nat) (u : SX) : Prop := match u with
  | (f_points, f_routes, f_nodes, f_durations, f_requests, f_heaped, f_waiting, f_now, f_finished, f_touched, a_weight, a_slots, a_pace, a_running, a_broken, a_down, a_good, a_bad, a_shut, a_till, a_failures, a_successes, a_credit, a_settings, a_ringAt, a_ringServer, a_paths, a_sets, a_next, a_servers, a_homes, a_homeSince, a_latest, a_sorted, a_capacity, a_refill, a_bucket, a_countedAt, a_states, a_clients, a_path, a_ranks, a_keys, a_works, a_tried, a_attempts, a_server, a_late, a_came, a_ends, a_heap, a_queue, a_totals) => ∀ m, m ∈ K → ∀ s, s < 6 → zj_rq f_routes a_paths a_sets a_weight a_down a_running a_slots a_shut a_till a_tried a_path f_now m s = false
/-- queues while they are tried: K stays, R is still to try -/
def zj_KR (N : Nat) (K R : List Nat) (x2 : Nat) (wx wy : Int32) (qx qy st am : Nat → Int32) : Prop :=
  zj_QL N (K ++ R) st am ∧ wx = nI (K.length + R.length) ∧ wy = nI (x2 + R.length) ∧ zq_S qx 0 (K ++ R) ∧ zq_S qy 0 K ∧ zq_S qy x2 R ∧ K.length ≤ x2 ∧ x2 + R.length ≤ 8
theorem zj_W {N T Tc Te Dm : Nat} {bf : Int64} : ∀ (R K : List Nat) (x2 : Nat) (u : SX) (v : SY), zj_G N T Tc Te Dm bf (zj_KR N K R x2) u v → zj_nr K u →
    ∃ L u' v', zj_S N T Tc Te Dm bf L u' v' ∧ zj_nr L u' ∧ (∀ post : SX → Prop, post u' → xH143 post (nI K.length) u) ∧ (∀ post : SY → Prop, post v' → yU245 post (nI K.length) (nI x2) v) := by
  intro R
  induction R with
  | nil =>
    intro K x2 u v G hnr
    revert hnr
    refine zj_G_el (P := fun u v => zj_nr K u → ∃ L u' v', zj_S N T Tc Te Dm bf L u' v' ∧ zj_nr L u' ∧ (∀ post : SX → Prop, post u' → xH143 post (nI K.length) u) ∧ (∀ post : SY → Prop, post v' → yU245 post (nI K.length) (nI x2) v)) ?_ G
    intro f_points f_routes f_nodes f_durations f_requests f_heaped f_waiting f_now f_finished f_touched g_time g_waiting a_weight a_slots a_pace a_running a_broken a_down a_good a_bad a_shut a_till a_failures a_successes a_credit a_settings a_ringAt a_ringServer a_paths a_sets a_next a_servers a_homes a_homeSince a_latest a_sorted a_capacity a_refill a_bucket a_countedAt a_states a_clients a_path a_ranks a_keys a_works a_tried a_attempts a_server a_late a_came a_ends a_heap a_queue b_till b_sick b_well b_up b_tokens b_state b_ended b_ends b_queue b_sorted a_totals b_total D h np rn nd pre hD C Q hnr
    obtain ⟨k1, k2, k3, k4, k5, k6, k7, k8⟩ := Q
    simp only [List.append_nil, List.length_nil, Nat.add_zero] at k1 k2 k3 k4 k8
    refine ⟨K, (f_points, f_routes, f_nodes, f_durations, f_requests, f_heaped, f_waiting, f_now, f_finished, f_touched, a_weight, a_slots, a_pace, a_running, a_broken, a_down, a_good, a_bad, a_shut, a_till, a_failures, a_successes, a_credit, a_settings, a_ringAt, a_ringServer, a_paths, a_sets, a_next, a_servers, a_homes, a_homeSince, a_latest, a_sorted, a_capacity, a_refill, a_bucket, a_countedAt, a_states, a_clients, a_path, a_ranks, a_keys, a_works, a_tried, a_attempts, a_server, a_late, a_came, a_ends, a_heap, a_queue, a_totals), (g_time, f_routes, f_requests, nI K.length, a_weight, a_slots, a_pace, b_till, a_failures, a_credit, a_successes, b_sick, b_well, a_broken, b_up, a_paths, a_sets, a_settings, a_capacity, a_refill, b_tokens, a_homes, a_homeSince, a_clients, a_path, a_keys, a_works, a_ranks, b_state, a_server, a_attempts, a_tried, a_came, b_ended, b_ends, a_late, b_queue, b_total, a_latest, b_sorted), zj_S_in hD C ⟨k1, by omega, k2, rfl, k4, k5⟩, hnr, ?_, ?_⟩
    · intro post hpo
      exact ⟨1, br_t (by rw [k2]; exact Int32.le_refl _) hpo⟩
    · intro post hpo
      exact ⟨1, br_t (by rw [k3]; exact Int32.le_refl _) hpo⟩
  | cons m R ih =>
    intro K x2 u v G hnr
    revert hnr
    refine zj_G_el (P := fun u v => zj_nr K u → ∃ L u' v', zj_S N T Tc Te Dm bf L u' v' ∧ zj_nr L u' ∧ (∀ post : SX → Prop, post u' → xH143 post (nI K.length) u) ∧ (∀ post : SY → Prop, post v' → yU245 post (nI K.length) (nI x2) v)) ?_ G
    intro f_points f_routes f_nodes f_durations f_requests f_heaped f_waiting f_now f_finished f_touched g_time g_waiting a_weight a_slots a_pace a_running a_broken a_down a_good a_bad a_shut a_till a_failures a_successes a_credit a_settings a_ringAt a_ringServer a_paths a_sets a_next a_servers a_homes a_homeSince a_latest a_sorted a_capacity a_refill a_bucket a_countedAt a_states a_clients a_path a_ranks a_keys a_works a_tried a_attempts a_server a_late a_came a_ends a_heap a_queue b_till b_sick b_well b_up b_tokens b_state b_ended b_ends b_queue b_sorted a_totals b_total D h np rn nd pre hD C Q hnr
    obtain ⟨⟨kn, km⟩, k2, k3, k4, k5, k6, k7, k8⟩ := Q
    have hN : N < 4096 := C.2.1.1
    rw [List.length_cons] at k2 k3 k8
    obtain ⟨hm, hst, hat⟩ := km m (by simp)
    have hmN : m < N := hm.1
    have eqx : a_queue K.length = nI m := by
      have := (zq_app.mp k4).2.1
      rwa [Nat.zero_add] at this
    have eqy : b_queue x2 = nI m := k6.1
    have ck : (nI K.length).toNatClampNeg = K.length := nI_clamp (by omega)
    have cx : (nI x2).toNatClampNeg = x2 := nI_clamp (by omega)
    have i8 : vp_in (nI K.length) 8 := vp_in_nI (by omega) (by omega)
    have k9 : vp_in (nI K.length) 9 := vp_in_nI (by omega) (by omega)
    have x9 : vp_in (nI x2) 9 := vp_in_nI (by omega) (by omega)
    have n32 : ¬ (32 : Int32) = 0 := by decide
    have r32 : nI m - nI m / 32 * 32 = nI (m % 32) := za_r32 (by omega)
    have hgx : ¬ f_waiting ≤ nI K.length := by rw [k2]; exact nI_ge (by omega) (by omega)
    have hgy : ¬ g_waiting ≤ nI x2 := by rw [k3]; exact nI_ge (by omega) (by omega)
    have hoth : ∀ m', m' ∈ K ++ R → m' % 32 ≠ m % 32 := by
      intro m' h' z
      have hmem : m' ∈ K ++ m :: R := by
        rcases List.mem_append.mp h' with y | y
        · exact List.mem_append.mpr (Or.inl y)
        · exact List.mem_append.mpr (Or.inr (List.mem_cons.mpr (Or.inr y)))
      have : m' = m := zw_inj (km m' hmem).1 hm z
      subst this
      rw [List.nodup_append] at kn
      obtain ⟨n1, n2, n3⟩ := kn
      rcases List.mem_append.mp h' with y | y
      · exact n3 m' y m' (by simp) rfl
      · exact (List.nodup_cons.mp n2).1 y
    rcases zj_try C hm hst hat with ⟨hno, HX, HY⟩ | ⟨s, t', a', du, r, lt, cr', A', hs, er, hr, hdu, C', HX, HY⟩
    · -- it stays
      have e1 : (K ++ [m]) ++ R = K ++ m :: R := by simp
      have e2 : (K ++ [m]).length = K.length + 1 := by simp
      have G' : zj_G N T Tc Te Dm bf (zj_KR N (K ++ [m]) R (x2 + 1)) (f_points, f_routes, f_nodes, f_durations, f_requests, f_heaped, f_waiting, f_now, f_finished, f_touched, a_weight, a_slots, a_pace, a_running, a_broken, a_down, a_good, a_bad, a_shut, a_till, a_failures, a_successes, a_credit, a_settings, a_ringAt, a_ringServer, a_paths, a_sets, a_next, a_servers, a_homes, a_homeSince, a_latest, a_sorted, a_capacity, a_refill, a_bucket, a_countedAt, a_states, a_clients, a_path, a_ranks, a_keys, a_works, a_tried, a_attempts, a_server, a_late, a_came, a_ends, a_heap, a_queue, a_totals) (g_time, f_routes, f_requests, g_waiting, a_weight, a_slots, a_pace, b_till, a_failures, a_credit, a_successes, b_sick, b_well, a_broken, b_up, a_paths, a_sets, a_settings, a_capacity, a_refill, b_tokens, a_homes, a_homeSince, a_clients, a_path, a_keys, a_works, a_ranks, b_state, a_server, a_attempts, a_tried, a_came, b_ended, b_ends, a_late, upd b_queue K.length (nI m), b_total, a_latest, b_sorted) := by
        refine zj_G_in hD C ⟨⟨by rw [e1]; exact kn, fun m' h' => km m' (by rw [← e1]; exact h')⟩, by rw [e2, k2]; congr 1; omega, by rw [k3]; congr 1; omega, by rw [e1]; exact k4, ?_, ?_, by rw [e2]; omega, by omega⟩
        · exact zq_app.mpr ⟨zq_congr (fun i _ hi => pk_un (by omega)) k5, by rw [Nat.zero_add]; exact pk_us, trivial⟩
        · exact zq_congr (fun i hi _ => pk_un (by omega)) k6.2
      have nr' : zj_nr (K ++ [m]) (f_points, f_routes, f_nodes, f_durations, f_requests, f_heaped, f_waiting, f_now, f_finished, f_touched, a_weight, a_slots, a_pace, a_running, a_broken, a_down, a_good, a_bad, a_shut, a_till, a_failures, a_successes, a_credit, a_settings, a_ringAt, a_ringServer, a_paths, a_sets, a_next, a_servers, a_homes, a_homeSince, a_latest, a_sorted, a_capacity, a_refill, a_bucket, a_countedAt, a_states, a_clients, a_path, a_ranks, a_keys, a_works, a_tried, a_attempts, a_server, a_late, a_came, a_ends, a_heap, a_queue, a_totals) := by
        intro m' h' s hs
        rcases List.mem_append.mp h' with y | y
        · exact hnr m' y s hs
        · have : m' = m := by simpa using y
          subst this; exact hno s hs
      obtain ⟨L, u', v', S', N', HX2, HY2⟩ := ih (K ++ [m]) (x2 + 1) _ _ G' nr'
      rw [e2] at HX2 HY2
      refine ⟨L, u', v', S', N', ?_, ?_⟩
      · intro post hpo
        obtain ⟨n, hn⟩ := HX2 post hpo
        refine ⟨n + 1, br_f hgx ⟨i8, ?_⟩⟩
        rw [ck, eqx]
        exact HX _ (br_t rfl (nm_r (nI_1 _) hn))
      · intro post hpo
        obtain ⟨n, hn⟩ := HY2 post hpo
        refine ⟨n + 1, br_f hgy ⟨x9, n32, ?_⟩⟩
        rw [cx, eqy, r32]
        refine HY _ (br_t rfl (nm_r (nI_1 _) ⟨x9, k9, nm_r (e' := upd b_queue K.length (nI m)) (by rw [ck, eqy]) (nm_r (nI_1 _) hn)⟩))
    · -- it goes
      have e1 : K.length + (R.length + 1) = (K.length + R.length) + 1 := by omega
      have km' : ∀ m', m' ∈ K ++ R → m' ∈ K ++ m :: R := by
        intro m' h'
        rcases List.mem_append.mp h' with y | y
        · exact List.mem_append.mpr (Or.inl y)
        · exact List.mem_append.mpr (Or.inr (List.mem_cons.mpr (Or.inr y)))
      have kn' : (K ++ R).Nodup := by
        refine List.Nodup.sublist ?_ kn
        exact List.Sublist.append (List.Sublist.refl K) (List.sublist_cons_self m R)
      obtain ⟨L, u', v', S', N', HX2, HY2⟩ := ih K (x2 + 1) (f_points, f_routes, f_nodes, f_durations, f_requests, nI (h + 1), nI (K.length + R.length), f_now, f_finished, f_touched, a_weight, a_slots, a_pace, upd a_running s (a_running s + 1), a_broken, a_down, a_good, a_bad, a_shut, a_till, a_failures, a_successes, cr', a_settings, a_ringAt, a_ringServer, a_paths, a_sets, a_next, a_servers, a_homes, a_homeSince, a_latest, a_sorted, a_capacity, a_refill, a_bucket, a_countedAt, upd a_states (m % 32) 1, a_clients, a_path, a_ranks, a_keys, a_works, upd a_tried (m % 32) (nI t'), upd a_attempts (m % 32) (nI a'), upd a_server (m % 32) (nI s), upd a_late (m % 32) lt, a_came, upd a_ends (m % 32) (nI (T + du)), A', zs_del a_queue (K.length + R.length + 1) K.length, a_totals)
        (g_time, f_routes, f_requests, g_waiting, a_weight, a_slots, a_pace, b_till, a_failures, cr', a_successes, b_sick, b_well, a_broken, b_up, a_paths, a_sets, a_settings, a_capacity, a_refill, b_tokens, a_homes, a_homeSince, a_clients, a_path, a_keys, a_works, a_ranks, upd b_state (m % 32) 1, upd a_server (m % 32) (nI s), upd a_attempts (m % 32) (nI a'), upd a_tried (m % 32) (nI t'), a_came, b_ended, upd b_ends (m % 32) (nI (T + du)), upd a_late (m % 32) lt, b_queue, b_total, a_latest, b_sorted) (by
          refine zj_G_in (D := D) (h := h + 1) (np := np) (rn := rn) (nd := nd) (pre := pre) hD C' ⟨⟨kn', fun m' h' => ?_⟩, rfl, by rw [k3]; congr 1; omega, zq_del (by omega) k4, k5, k6.2, by omega, by omega⟩
          obtain ⟨g1, g2, g3⟩ := km m' (km' m' h')
          exact ⟨g1, by rw [pk_un (hoth m' h')]; exact g2, by rw [pk_un (hoth m' h')]; exact g3⟩) (by
          intro m' h' t ht
          have := hnr m' h' t ht
          unfold zj_rq zj_rp at this ⊢
          rw [pk_un (hoth m' (List.mem_append.mpr (Or.inl h')))]
          exact zj_rb_mono (by omega) er this)
      refine ⟨L, u', v', S', N', ?_, ?_⟩
      · intro post hpo
        obtain ⟨n, hn⟩ := HX2 post hpo
        refine ⟨n + 1, br_f hgx ⟨i8, ?_⟩⟩
        rw [ck, eqx]
        refine HX _ (br_f (by decide) ?_)
        rw [k2, e1]
        exact zx_leave (by omega) (by omega) hn
      · intro post hpo
        obtain ⟨n, hn⟩ := HY2 post hpo
        refine ⟨n + 1, br_f hgy ⟨x9, n32, ?_⟩⟩
        rw [cx, eqy, r32]
        exact HY _ (br_f (by decide) (nm_r (nI_1 _) hn))
end
end
section
/-! a unit in which something may happen; Y's tokens; a unit in which nothing happens -/
section
variable {f_points f_routes f_nodes f_durations f_requests f_heaped f_waiting f_now f_finished f_touched g_time g_waiting : Int32}
variable {a_weight a_slots a_pace a_running a_broken a_down a_good a_bad a_shut a_till a_failures a_successes a_credit a_settings a_ringAt a_ringServer a_paths a_sets a_next a_servers a_homes a_homeSince a_latest a_sorted a_capacity a_refill a_bucket a_countedAt a_states a_clients a_path a_ranks a_keys a_works a_tried a_attempts a_server a_late a_came a_ends a_heap a_queue b_till b_sick b_well b_up b_tokens b_state b_ended b_ends b_queue b_sorted : Nat → Int32}
variable {a_totals b_total : Nat → Int64}
theorem zj_happen {N T Tc Dm : Nat} {bf : Int64} {L : List Nat} {u : SX} {v : SY} (hTc : Tc + 1 < 2 ^ 22) (hDm : Dm + 40 < 2 ^ 30) (S : zj_S N T Tc T Dm bf L u v) :
    ∃ L' u' v', zj_S N T (Tc + 1) (T + 1) (Dm + 32) bf L' u' v' ∧ zj_nr L' u' ∧ (∀ post : SX → Prop, post u' → wpX_happen post u) ∧ (∀ post : SY → Prop, post v' → yU84 post (nI (N - 32)) v) := by
  obtain ⟨u1, v1, S1, HX1, HY1⟩ := zj_F (N - (N - 32)) (N - 32) Dm u v (by omega) (by omega) S (fun m hm hlt => by unfold zw_W at hm; omega) (by omega)
  obtain ⟨u2, v2, S2, HX2, HY2⟩ := zj_K hTc S1
  obtain ⟨L3, u3, v3, S3, HX3, HY3⟩ := zj_ex S2
  have G : zj_G N T (Tc + 1) (T + 1) (Dm + (N - (N - 32))) bf (zj_KR N [] L3 0) u3 v3 := by
    refine zj_S_el (P := fun u v => zj_G N T (Tc + 1) (T + 1) (Dm + (N - (N - 32))) bf (zj_KR N [] L3 0) u v) ?_ S3
    intro f_points f_routes f_nodes f_durations f_requests f_heaped f_waiting f_now f_finished f_touched g_time g_waiting a_weight a_slots a_pace a_running a_broken a_down a_good a_bad a_shut a_till a_failures a_successes a_credit a_settings a_ringAt a_ringServer a_paths a_sets a_next a_servers a_homes a_homeSince a_latest a_sorted a_capacity a_refill a_bucket a_countedAt a_states a_clients a_path a_ranks a_keys a_works a_tried a_attempts a_server a_late a_came a_ends a_heap a_queue b_till b_sick b_well b_up b_tokens b_state b_ended b_ends b_queue b_sorted a_totals b_total D h np rn nd pre hD C Q
    obtain ⟨q0, q1, q2, q3, q4, q5⟩ := Q
    exact zj_G_in hD C ⟨q0, by rw [q2, List.length_nil, Nat.zero_add], by rw [q3, Nat.zero_add], q4, trivial, q5, by simp, by omega⟩
  have nr0 : zj_nr [] u3 := by
    obtain ⟨f_points, f_routes, f_nodes, f_durations, f_requests, f_heaped, f_waiting, f_now, f_finished, f_touched, a_weight, a_slots, a_pace, a_running, a_broken, a_down, a_good, a_bad, a_shut, a_till, a_failures, a_successes, a_credit, a_settings, a_ringAt, a_ringServer, a_paths, a_sets, a_next, a_servers, a_homes, a_homeSince, a_latest, a_sorted, a_capacity, a_refill, a_bucket, a_countedAt, a_states, a_clients, a_path, a_ranks, a_keys, a_works, a_tried, a_attempts, a_server, a_late, a_came, a_ends, a_heap, a_queue, a_totals⟩ := u3
    intro m hm
    simp at hm
  obtain ⟨L4, u4, v4, S4, N4, HX4, HY4⟩ := zj_W L3 [] 0 u3 v3 G nr0
  refine ⟨L4, u4, v4, zj_S_mono (by omega) S4, N4, ?_, ?_⟩
  · intro post hpo
    exact HX1 post (HX2 post (HX3 post (HX4 post hpo)))
  · intro post hpo
    exact HY1 post (HY2 post (HY3 post (HY4 post hpo)))
def zj_k1 (T : Nat) (cp rf bu ct tk : Nat → Int32) (c : Nat) : Prop := ∃ cap r b ca, cap ≤ 20 ∧ 1 ≤ r ∧ r ≤ 100 ∧ b ≤ cap ∧ ca ≤ T ∧
  cp c = nI cap ∧ rf c = nI r ∧ bu c = nI b ∧ ct c = nI ca ∧ tk c = nI (zk_F b ca r cap T)
theorem zy_tok12 {t n : Nat} {cp rf bu ct : Nat → Int32} (ht : t + 1 < 2 ^ 30) (hn : n < 4096) : ∀ (d c : Nat) (tk : Nat → Int32), c + d = 6 → (∀ k, k < c → zj_k1 (t + 1) cp rf bu ct tk k) → (∀ k, c ≤ k → k < 6 → zj_k1 t cp rf bu ct tk k) →
    ∃ tk', zj_tk (t + 1) cp rf bu ct tk' ∧ ∀ {f_routes g_waiting : Int32} {a_weight a_slots a_pace b_till a_failures a_credit a_successes b_sick b_well a_broken b_up a_paths a_sets a_settings a_homes a_homeSince a_clients a_path a_keys a_works a_ranks b_state a_server a_attempts a_tried a_came b_ended b_ends a_late b_queue a_latest b_sorted : Nat → Int32} {b_total : Nat → Int64} (post : SY → Prop),
      yU84 post (nI (n - 32)) (nI (t + 1), f_routes, nI n, g_waiting, a_weight, a_slots, a_pace, b_till, a_failures, a_credit, a_successes, b_sick, b_well, a_broken, b_up, a_paths, a_sets, a_settings, cp, rf, tk', a_homes, a_homeSince, a_clients, a_path, a_keys, a_works, a_ranks, b_state, a_server, a_attempts, a_tried, a_came, b_ended, b_ends, a_late, b_queue, b_total, a_latest, b_sorted) →
      ∃ N, wY_unit_12 post (nI (t + 1)) f_routes (nI n) g_waiting N (nI c) a_weight a_slots a_pace b_till a_failures a_credit a_successes b_sick b_well a_broken b_up a_paths a_sets a_settings cp rf tk a_homes a_homeSince a_clients a_path a_keys a_works a_ranks b_state a_server a_attempts a_tried a_came b_ended b_ends a_late b_queue b_total a_latest b_sorted := by
  intro d
  induction d with
  | zero =>
    intro c tk hc h1 h2
    have : c = 6 := by omega
    subst this
    refine ⟨tk, h1, ?_⟩
    intros
    rename_i post hp
    refine ⟨1, br_t (Int32.le_refl _) (pk_le n 32 (fun h => ?_) (fun h => nm_r (e' := nI (n - 32)) (pk_sub (a := n) (b := 32) (by omega)) hp))⟩
    rw [show n - 32 = 0 by omega] at hp
    exact hp
  | succ d ih =>
    intro c tk hc h1 h2
    have h6 : ¬ (6 : Int32) ≤ nI c := nI_ge (b := 6) (by omega) (by decide)
    have ic : vp_in (nI c) 6 := vp_in_nI (by omega) (by omega)
    have cc : (nI c).toNatClampNeg = c := nI_clamp (by omega)
    obtain ⟨cap, r, b, ca, g1, g2, g3, g4, g5, g6, g7, g8, g9, g10⟩ := h2 c (by omega) (by omega)
    have hr0 : ¬ nI r = 0 := nI_ne0 (by omega) (by omega)
    have hrem : nI (t + 1) - nI (t + 1) / nI r * nI r = nI ((t + 1) % r) := pk_rem (by omega) (by omega) (by omega)
    have hstep := zk_step (b := b) (c := ca) (r := r) (cap := cap) (t := t) g5 g4
    have hFle := zk_F_le (b := b) (c := ca) (r := r) (cap := cap) (t := t)
    have hml := Nat.mod_lt (t + 1) (show 0 < r by omega)
    -- the new token row
    have key : ∃ x, x = nI (zk_F b ca r cap (t + 1)) ∧ ∀ {f_routes g_waiting : Int32} {a_weight a_slots a_pace b_till a_failures a_credit a_successes b_sick b_well a_broken b_up a_paths a_sets a_settings a_homes a_homeSince a_clients a_path a_keys a_works a_ranks b_state a_server a_attempts a_tried a_came b_ended b_ends a_late b_queue a_latest b_sorted : Nat → Int32} {b_total : Nat → Int64} (post : SY → Prop) (N : Nat),
        wY_unit_12 post (nI (t + 1)) f_routes (nI n) g_waiting N (nI (c + 1)) a_weight a_slots a_pace b_till a_failures a_credit a_successes b_sick b_well a_broken b_up a_paths a_sets a_settings cp rf (upd tk c x) a_homes a_homeSince a_clients a_path a_keys a_works a_ranks b_state a_server a_attempts a_tried a_came b_ended b_ends a_late b_queue b_total a_latest b_sorted →
        wY_unit_12 post (nI (t + 1)) f_routes (nI n) g_waiting (N + 1) (nI c) a_weight a_slots a_pace b_till a_failures a_credit a_successes b_sick b_well a_broken b_up a_paths a_sets a_settings cp rf tk a_homes a_homeSince a_clients a_path a_keys a_works a_ranks b_state a_server a_attempts a_tried a_came b_ended b_ends a_late b_queue b_total a_latest b_sorted := by
      unfold zk_tk at hstep
      by_cases hz : (t + 1) % r = 0
      · by_cases hlt : zk_F b ca r cap t < cap
        · rw [if_pos ⟨hz, hlt⟩] at hstep
          refine ⟨_, rfl, ?_⟩
          intros
          rename_i post N hp
          refine br_f h6 ⟨ic, ?_⟩
          rw [cc, g7]
          refine ⟨hr0, br_t (by rw [hrem, hz]; exact nI_0) ⟨ic, ic, ?_⟩⟩
          rw [g6, g10]
          refine br_f (nI_ge hlt (by omega)) ⟨ic, ic, nm_r (e' := upd tk c (nI (zk_F b ca r cap (t + 1)))) (by rw [nI_1, hstep]) (nm_r (nI_1 c) hp)⟩
        · rw [if_neg (fun z => hlt z.2)] at hstep
          refine ⟨_, rfl, ?_⟩
          intros
          rename_i post N hp
          rw [za_us' (by rw [g10, hstep])] at hp
          refine br_f h6 ⟨ic, ?_⟩
          rw [cc, g7]
          refine ⟨hr0, br_t (by rw [hrem, hz]; exact nI_0) ⟨ic, ic, ?_⟩⟩
          rw [g6, g10]
          exact br_t (nI_le (by omega) (by omega)) (nm_r (nI_1 c) hp)
      · rw [if_neg (fun z => hz z.1)] at hstep
        refine ⟨_, rfl, ?_⟩
        intros
        rename_i post N hp
        rw [za_us' (by rw [g10, hstep])] at hp
        refine br_f h6 ⟨ic, ?_⟩
        rw [cc, g7]
        exact ⟨hr0, br_f (by rw [hrem]; exact nI_ne0 (by omega) (by omega)) (nm_r (nI_1 c) hp)⟩
    obtain ⟨x, hx, HK⟩ := key
    obtain ⟨tk', T', H⟩ := ih (c + 1) (upd tk c x) (by omega) (fun k hk => by
        by_cases e : k = c
        · subst e
          exact ⟨cap, r, b, ca, g1, g2, g3, g4, by omega, g6, g7, g8, g9, by rw [pk_us, hx]⟩
        · obtain ⟨cap', r', b', ca', i1, i2, i3, i4, i5, i6, i7, i8, i9, i10⟩ := h1 k (by omega)
          exact ⟨cap', r', b', ca', i1, i2, i3, i4, i5, i6, i7, i8, i9, by rw [pk_un e]; exact i10⟩) (fun k hk1 hk2 => by
        obtain ⟨cap', r', b', ca', i1, i2, i3, i4, i5, i6, i7, i8, i9, i10⟩ := h2 k (by omega) hk2
        exact ⟨cap', r', b', ca', i1, i2, i3, i4, i5, i6, i7, i8, i9, by rw [pk_un (by omega)]; exact i10⟩)
    refine ⟨tk', T', ?_⟩
    intros
    rename_i post hp
    obtain ⟨N, hN⟩ := H post hp
    exact ⟨N + 1, HK post N hN⟩
theorem zy_tok {t n : Nat} {cp rf bu ct tk : Nat → Int32} (ht : t + 1 < 2 ^ 30) (hn : n < 4096) (K : zj_tk t cp rf bu ct tk) :
    ∃ tk', zj_tk (t + 1) cp rf bu ct tk' ∧ ∀ {f_routes g_waiting : Int32} {a_weight a_slots a_pace b_till a_failures a_credit a_successes b_sick b_well a_broken b_up a_paths a_sets a_settings a_homes a_homeSince a_clients a_path a_keys a_works a_ranks b_state a_server a_attempts a_tried a_came b_ended b_ends a_late b_queue a_latest b_sorted : Nat → Int32} {b_total : Nat → Int64} (post : SY → Prop),
      yU84 post (nI (n - 32)) (nI (t + 1), f_routes, nI n, g_waiting, a_weight, a_slots, a_pace, b_till, a_failures, a_credit, a_successes, b_sick, b_well, a_broken, b_up, a_paths, a_sets, a_settings, cp, rf, tk', a_homes, a_homeSince, a_clients, a_path, a_keys, a_works, a_ranks, b_state, a_server, a_attempts, a_tried, a_came, b_ended, b_ends, a_late, b_queue, b_total, a_latest, b_sorted) →
      wpY_unit post (nI t, f_routes, nI n, g_waiting, a_weight, a_slots, a_pace, b_till, a_failures, a_credit, a_successes, b_sick, b_well, a_broken, b_up, a_paths, a_sets, a_settings, cp, rf, tk, a_homes, a_homeSince, a_clients, a_path, a_keys, a_works, a_ranks, b_state, a_server, a_attempts, a_tried, a_came, b_ended, b_ends, a_late, b_queue, b_total, a_latest, b_sorted) := by
  obtain ⟨tk', T', H⟩ := zy_tok12 (bu := bu) (ct := ct) ht hn 6 0 tk (by omega) (fun k hk => by omega) (fun k _ hk => K k hk)
  refine ⟨tk', T', ?_⟩
  intros
  rename_i post hp
  exact nm_r (nI_1 t) (H post hp)
/-! nothing happens -/
theorem zy_noatt {q n p rn : Nat} {post : Int32 → SY → Prop} (hq : q < 32) (hn : n < 2 ^ 31) (P : zt_P rn a_paths a_sets) (hp4 : p < 4096) (ep : a_path q = nI p)
    (hbk : zj_bk a_shut a_till b_till) (hud : zj_ud a_down b_up) (hru : zj_ru a_running b_state a_server n)
    (hno : ∀ s, s < 6 → zj_rp rn a_paths a_sets a_weight a_down a_running a_slots a_shut a_till g_time (a_tried q) p s = false)
    (hp : post 0 (g_time, nI rn, nI n, g_waiting, a_weight, a_slots, a_pace, b_till, a_failures, a_credit, a_successes, b_sick, b_well, a_broken, b_up, a_paths, a_sets, a_settings, a_capacity, a_refill, b_tokens, a_homes, a_homeSince, a_clients, a_path, a_keys, a_works, a_ranks, b_state, a_server, a_attempts, a_tried, a_came, b_ended, b_ends, a_late, b_queue, b_total, a_latest, b_sorted)) : wpY_attempt post (g_time, nI rn, nI n, g_waiting, a_weight, a_slots, a_pace, b_till, a_failures, a_credit, a_successes, b_sick, b_well, a_broken, b_up, a_paths, a_sets, a_settings, a_capacity, a_refill, b_tokens, a_homes, a_homeSince, a_clients, a_path, a_keys, a_works, a_ranks, b_state, a_server, a_attempts, a_tried, a_came, b_ended, b_ends, a_late, b_queue, b_total, a_latest, b_sorted) (nI q) := by
  refine ⟨7, zy_ch4 hq hn P hp4 ep hbk hud hru (fun M => ?_) 6 0 7 (by omega) (by omega)⟩
  rw [za_set_0.mpr hno]
  exact br_t (Int32.le_refl _) (br_t nI_0 (br_f za_m1le hp))
theorem zy_q84 {n t : Nat} {post : SY → Prop} (hn : n < 4096) (ht : t < 2 ^ 30) (hno : ∀ q, q < 32 → q < n → b_state q = 1 → ∃ e, t < e ∧ e < 2 ^ 30 ∧ b_ends q = nI e)
    (hp : yU133 post 0 (nI t, f_routes, nI n, g_waiting, a_weight, a_slots, a_pace, b_till, a_failures, a_credit, a_successes, b_sick, b_well, a_broken, b_up, a_paths, a_sets, a_settings, a_capacity, a_refill, b_tokens, a_homes, a_homeSince, a_clients, a_path, a_keys, a_works, a_ranks, b_state, a_server, a_attempts, a_tried, a_came, b_ended, b_ends, a_late, b_queue, b_total, a_latest, b_sorted)) : ∀ d p, p + d = n → yU84 post (nI p) (nI t, f_routes, nI n, g_waiting, a_weight, a_slots, a_pace, b_till, a_failures, a_credit, a_successes, b_sick, b_well, a_broken, b_up, a_paths, a_sets, a_settings, a_capacity, a_refill, b_tokens, a_homes, a_homeSince, a_clients, a_path, a_keys, a_works, a_ranks, b_state, a_server, a_attempts, a_tried, a_came, b_ended, b_ends, a_late, b_queue, b_total, a_latest, b_sorted) := by
  intro d
  induction d with
  | zero =>
    intro p hpn
    have : p = n := by omega
    subst this
    exact ⟨1, br_t (Int32.le_refl _) hp⟩
  | succ d ih =>
    intro p hpn
    obtain ⟨N, hN⟩ := ih (p + 1) (by omega)
    have iq : vp_in (nI (p % 32)) 32 := vp_in_nI (by omega) (by omega)
    have cq : (nI (p % 32)).toNatClampNeg = p % 32 := nI_clamp (by omega)
    refine ⟨N + 1, br_f (nI_ge (by omega) (by omega)) ⟨by decide, nm_r (za_r32 (by omega)) ⟨iq, ?_⟩⟩⟩
    rw [cq]
    refine br_c (fun h1 => ⟨iq, br_f (fun z => ?_) (nm_r (nI_1 p) hN)⟩) (fun _ => nm_r (nI_1 p) hN)
    obtain ⟨e, he1, he2, he3⟩ := hno (p % 32) (by omega) (by omega) h1
    rw [he3] at z
    have := (nI_eq (by omega) (by omega)).mp z
    omega
theorem zy_q133 {Tm t ck : Nat} {br go ba dn se : Nat → Int32} (hTm : Tm < 2 ^ 29) (ht : t < 2 ^ 30) (hck1 : 1 ≤ ck) (hck2 : ck ≤ 100) (eck : se 4 = nI ck) (hbr : ∀ s, s < 6 → br s = 0 ∨ br s = 1)
    (hset : t % ck = 0 → ∀ s, s < 6 → zj_st br go ba s) {si we up : Nat → Int32} (CK : zj_ck Tm dn go ba si we up) :
    ∃ (si' we' up' : Nat → Int32), zj_ck (Tm + 1) dn go ba si' we' up' ∧ ∀ {f_routes f_requests g_waiting : Int32} {a_weight a_slots a_pace b_till a_failures a_credit a_successes a_paths a_sets a_capacity a_refill b_tokens a_homes a_homeSince a_clients a_path a_keys a_works a_ranks b_state a_server a_attempts a_tried a_came b_ended b_ends a_late b_queue a_latest b_sorted : Nat → Int32} {b_total : Nat → Int64} (post : SY → Prop),
      yU168 post 0 0 (nI t, f_routes, f_requests, g_waiting, a_weight, a_slots, a_pace, b_till, a_failures, a_credit, a_successes, si', we', br, up', a_paths, a_sets, se, a_capacity, a_refill, b_tokens, a_homes, a_homeSince, a_clients, a_path, a_keys, a_works, a_ranks, b_state, a_server, a_attempts, a_tried, a_came, b_ended, b_ends, a_late, b_queue, b_total, a_latest, b_sorted) → yU133 post 0 (nI t, f_routes, f_requests, g_waiting, a_weight, a_slots, a_pace, b_till, a_failures, a_credit, a_successes, si, we, br, up, a_paths, a_sets, se, a_capacity, a_refill, b_tokens, a_homes, a_homeSince, a_clients, a_path, a_keys, a_works, a_ranks, b_state, a_server, a_attempts, a_tried, a_came, b_ended, b_ends, a_late, b_queue, b_total, a_latest, b_sorted) := by
  have hck0 : ¬ nI ck = 0 := nI_ne0 (by omega) (by omega)
  have hrem : nI t - nI t / nI ck * nI ck = nI (t % ck) := pk_rem (by omega) (by omega) (by omega)
  have hml := Nat.mod_lt t (show 0 < ck by omega)
  by_cases hz : t % ck = 0
  · have S := hset hz
    have L6 : ∀ (d s : Nat) (si we up : Nat → Int32), s + d = 6 → (∀ k, k < s → zj_c1 (Tm + 1) dn go ba si we up k) → (∀ k, s ≤ k → k < 6 → zj_c1 Tm dn go ba si we up k) →
        ∃ (si' we' up' : Nat → Int32), zj_ck (Tm + 1) dn go ba si' we' up' ∧ ∀ {f_routes f_requests g_waiting : Int32} {a_weight a_slots a_pace b_till a_failures a_credit a_successes a_paths a_sets a_capacity a_refill b_tokens a_homes a_homeSince a_clients a_path a_keys a_works a_ranks b_state a_server a_attempts a_tried a_came b_ended b_ends a_late b_queue a_latest b_sorted : Nat → Int32} {b_total : Nat → Int64} (post : SY → Prop),
          yU168 post 0 0 (nI t, f_routes, f_requests, g_waiting, a_weight, a_slots, a_pace, b_till, a_failures, a_credit, a_successes, si', we', br, up', a_paths, a_sets, se, a_capacity, a_refill, b_tokens, a_homes, a_homeSince, a_clients, a_path, a_keys, a_works, a_ranks, b_state, a_server, a_attempts, a_tried, a_came, b_ended, b_ends, a_late, b_queue, b_total, a_latest, b_sorted) → yU133 post (nI s) (nI t, f_routes, f_requests, g_waiting, a_weight, a_slots, a_pace, b_till, a_failures, a_credit, a_successes, si, we, br, up, a_paths, a_sets, se, a_capacity, a_refill, b_tokens, a_homes, a_homeSince, a_clients, a_path, a_keys, a_works, a_ranks, b_state, a_server, a_attempts, a_tried, a_came, b_ended, b_ends, a_late, b_queue, b_total, a_latest, b_sorted) := by
      intro d
      induction d with
      | zero =>
        intro s si we up hs h1 h2
        have : s = 6 := by omega
        subst this
        refine ⟨si, we, up, h1, ?_⟩
        intros
        rename_i post hp
        exact ⟨1, br_t (Int32.le_refl _) hp⟩
      | succ d ih =>
        intro s si we up hs h1 h2
        obtain ⟨si1, we1, up1, c1, fr, HY⟩ := zy_chkq (by omega) (by omega) (hbr s (by omega)) (S s (by omega)) (h2 s (by omega) (by omega))
        obtain ⟨si', we', up', C, HY2⟩ := ih (s + 1) si1 we1 up1 (by omega) (fun k hk => by
            by_cases e : k = s
            · subst e; exact c1
            · obtain ⟨f4, f5, f6⟩ := fr k e
              exact zj_c1_congr rfl rfl rfl f4 f5 f6 (h1 k (by omega))) (fun k hk1 hk2 => by
            obtain ⟨f4, f5, f6⟩ := fr k (by omega)
            exact zj_c1_congr rfl rfl rfl f4 f5 f6 (h2 k (by omega) hk2))
        refine ⟨si', we', up', C, ?_⟩
        intros
        rename_i post hp
        obtain ⟨N, hN⟩ := HY2 post hp
        exact ⟨N + 1, br_f (nI_ge (b := 6) (by omega) (by decide)) ⟨by rw [eck]; exact hck0, br_t (by rw [eck, hrem, hz]; exact nI_0) (HY _ (nm_r (nI_1 s) hN))⟩⟩
    obtain ⟨si', we', up', C, H⟩ := L6 6 0 si we up (by omega) (fun k hk => by omega) (fun k _ hk => CK k hk)
    refine ⟨si', we', up', C, ?_⟩
    intros
    rename_i post hp
    exact H post hp
  · refine ⟨si, we, up, fun s hs => zj_c1_mono (by omega) (CK s hs), ?_⟩
    intros
    rename_i post hp
    exact ⟨1, br_f (by decide) ⟨by rw [eck]; exact hck0, br_f (by rw [eck, hrem]; exact nI_ne0 (by omega) (by omega)) hp⟩⟩
theorem zy_q245 {n rn : Nat} {post : SY → Prop} (hn : n < 4096) (P : zt_P rn a_paths a_sets) (hbk : zj_bk a_shut a_till b_till) (hud : zj_ud a_down b_up) (hru : zj_ru a_running b_state a_server n) :
    ∀ (R : List Nat) (x2 : Nat), x2 + R.length ≤ 8 → zq_S b_queue x2 R →
    (∀ m, m ∈ R → m < 4096 ∧ ∃ p, zt_ok p ∧ a_path (m % 32) = nI p ∧ ∀ s, s < 6 → zj_rp rn a_paths a_sets a_weight a_down a_running a_slots a_shut a_till g_time (a_tried (m % 32)) p s = false) →
    post (g_time, nI rn, nI n, nI (x2 + R.length), a_weight, a_slots, a_pace, b_till, a_failures, a_credit, a_successes, b_sick, b_well, a_broken, b_up, a_paths, a_sets, a_settings, a_capacity, a_refill, b_tokens, a_homes, a_homeSince, a_clients, a_path, a_keys, a_works, a_ranks, b_state, a_server, a_attempts, a_tried, a_came, b_ended, b_ends, a_late, b_queue, b_total, a_latest, b_sorted) →
    yU245 post (nI x2) (nI x2) (g_time, nI rn, nI n, nI (x2 + R.length), a_weight, a_slots, a_pace, b_till, a_failures, a_credit, a_successes, b_sick, b_well, a_broken, b_up, a_paths, a_sets, a_settings, a_capacity, a_refill, b_tokens, a_homes, a_homeSince, a_clients, a_path, a_keys, a_works, a_ranks, b_state, a_server, a_attempts, a_tried, a_came, b_ended, b_ends, a_late, b_queue, b_total, a_latest, b_sorted) := by
  intro R
  induction R with
  | nil =>
    intro x2 hl hq hm hp
    exact ⟨1, br_t (by rw [List.length_nil, Nat.add_zero]; exact Int32.le_refl _) hp⟩
  | cons m R ih =>
    intro x2 hl hq hm hp
    have elen : x2 + (m :: R).length = x2 + 1 + R.length := by rw [List.length_cons]; omega
    rw [elen] at hp hl ⊢
    obtain ⟨N, hN⟩ := ih (x2 + 1) hl hq.2 (fun m' h' => hm m' (by simp [h'])) hp
    obtain ⟨hm4, p, hok, ep, hno⟩ := hm m (by simp)
    have x9 : vp_in (nI x2) 9 := vp_in_nI (by omega) (by omega)
    have cx : (nI x2).toNatClampNeg = x2 := nI_clamp (by omega)
    refine ⟨N + 1, br_f (nI_ge (by omega) (by omega)) ⟨x9, by decide, ?_⟩⟩
    rw [cx, hq.1, za_r32 (by omega)]
    refine zy_noatt (by omega) (by omega) P hok.1 ep hbk hud hru hno (br_t rfl (nm_r (nI_1 x2) ⟨x9, x9, nm_r (e' := b_queue) ?_ (nm_r (nI_1 x2) hN)⟩))
    exact za_us
end
end
section
/-! units in which nothing happens -/
section
variable {f_points f_routes f_nodes f_durations f_requests f_heaped f_waiting f_now f_finished f_touched g_time g_waiting : Int32}
variable {a_weight a_slots a_pace a_running a_broken a_down a_good a_bad a_shut a_till a_failures a_successes a_credit a_settings a_ringAt a_ringServer a_paths a_sets a_next a_servers a_homes a_homeSince a_latest a_sorted a_capacity a_refill a_bucket a_countedAt a_states a_clients a_path a_ranks a_keys a_works a_tried a_attempts a_server a_late a_came a_ends a_heap a_queue b_till b_sick b_well b_up b_tokens b_state b_ended b_ends b_queue b_sorted : Nat → Int32}
variable {a_totals b_total : Nat → Int64}
def yA48 (post : Int32 → SY → Prop) (x1 : Int32) (x2 : Int64) (x4 : Int32) (v : SY) : Prop := match v with
  | (g_time, f_routes, f_requests, g_waiting, a_weight, a_slots, a_pace, b_till, a_failures, a_credit, a_successes, b_sick, b_well, a_broken, b_up, a_paths, a_sets, a_settings, a_capacity, a_refill, b_tokens, a_homes, a_homeSince, a_clients, a_path, a_keys, a_works, a_ranks, b_state, a_server, a_attempts, a_tried, a_came, b_ended, b_ends, a_late, b_queue, b_total, a_latest, b_sorted) => ∃ n, wY_advance_48 post x1 x2 n x4 g_time f_routes f_requests g_waiting a_weight a_slots a_pace b_till a_failures a_credit a_successes b_sick b_well a_broken b_up a_paths a_sets a_settings a_capacity a_refill b_tokens a_homes a_homeSince a_clients a_path a_keys a_works a_ranks b_state a_server a_attempts a_tried a_came b_ended b_ends a_late b_queue b_total a_latest b_sorted
def xA36 (post : Int32 → SX → Prop) (x2 : Int32) (u : SX) : Prop := match u with
  | (f_points, f_routes, f_nodes, f_durations, f_requests, f_heaped, f_waiting, f_now, f_finished, f_touched, a_weight, a_slots, a_pace, a_running, a_broken, a_down, a_good, a_bad, a_shut, a_till, a_failures, a_successes, a_credit, a_settings, a_ringAt, a_ringServer, a_paths, a_sets, a_next, a_servers, a_homes, a_homeSince, a_latest, a_sorted, a_capacity, a_refill, a_bucket, a_countedAt, a_states, a_clients, a_path, a_ranks, a_keys, a_works, a_tried, a_attempts, a_server, a_late, a_came, a_ends, a_heap, a_queue, a_totals) => ∃ n, wX_advance_36 post x2 n f_points f_routes f_nodes f_durations f_requests f_heaped f_waiting f_now f_finished f_touched a_weight a_slots a_pace a_running a_broken a_down a_good a_bad a_shut a_till a_failures a_successes a_credit a_settings a_ringAt a_ringServer a_paths a_sets a_next a_servers a_homes a_homeSince a_latest a_sorted a_capacity a_refill a_bucket a_countedAt a_states a_clients a_path a_ranks a_keys a_works a_tried a_attempts a_server a_late a_came a_ends a_heap a_queue a_totals
theorem zy_quiet {n t ck wa rn Tm : Nat} {L : List Nat} (hn : n < 4096) (ht : t + 1 < 2 ^ 22) (hTm : Tm < 2 ^ 29) (tk : zj_tk t a_capacity a_refill a_bucket a_countedAt b_tokens)
    (CK : zj_ck Tm a_down a_good a_bad b_sick b_well b_up) (hends : ∀ q, q < 32 → q < n → b_state q = 1 → ∃ e, t + 1 < e ∧ e < 2 ^ 30 ∧ b_ends q = nI e)
    (hck1 : 1 ≤ ck) (hck2 : ck ≤ 100) (eck : a_settings 4 = nI ck) (hbr : ∀ s, s < 6 → a_broken s = 0 ∨ a_broken s = 1) (hset : (t + 1) % ck = 0 → ∀ s, s < 6 → zj_st a_broken a_good a_bad s)
    (hwa : wa ≤ 1000) (ewa : a_settings 5 = nI wa) (hl8 : L.length ≤ 8) (hq : zq_S b_queue 0 L)
    (hL : ∀ m, m ∈ L → m < 4096 ∧ (∃ c, c ≤ t + 1 ∧ a_came (m % 32) = nI c ∧ t + 1 - c < wa) ∧ ∃ p, zt_ok p ∧ a_path (m % 32) = nI p ∧
      ∀ s, s < 6 → zj_rp rn a_paths a_sets a_weight a_down a_running a_slots a_shut a_till (nI (t + 1)) (a_tried (m % 32)) p s = false)
    (P : zt_P rn a_paths a_sets) (hbk : zj_bk a_shut a_till b_till) (hru : zj_ru a_running b_state a_server n) (b_ended : Nat → Int32) (b_total : Nat → Int64) :
    ∃ (tk' si' we' up' q' : Nat → Int32), zj_tk (t + 1) a_capacity a_refill a_bucket a_countedAt tk' ∧ zj_ck (Tm + 1) a_down a_good a_bad si' we' up' ∧ zq_S q' 0 L ∧
    ∀ {a_pace a_failures a_credit a_successes a_homes a_homeSince a_clients a_keys a_works a_ranks a_attempts a_late a_latest b_sorted : Nat → Int32} (post : SY → Prop),
      post (nI (t + 1), nI rn, nI n, nI L.length, a_weight, a_slots, a_pace, b_till, a_failures, a_credit, a_successes, si', we', a_broken, up', a_paths, a_sets, a_settings, a_capacity, a_refill, tk', a_homes, a_homeSince, a_clients, a_path, a_keys, a_works, a_ranks, b_state, a_server, a_attempts, a_tried, a_came, b_ended, b_ends, a_late, q', b_total, a_latest, b_sorted) → wpY_unit post (nI t, nI rn, nI n, nI L.length, a_weight, a_slots, a_pace, b_till, a_failures, a_credit, a_successes, b_sick, b_well, a_broken, b_up, a_paths, a_sets, a_settings, a_capacity, a_refill, b_tokens, a_homes, a_homeSince, a_clients, a_path, a_keys, a_works, a_ranks, b_state, a_server, a_attempts, a_tried, a_came, b_ended, b_ends, a_late, b_queue, b_total, a_latest, b_sorted) := by
  obtain ⟨tk', TK', H1⟩ := zy_tok (by omega) hn tk
  obtain ⟨si', we', up', CK', H3⟩ := zy_q133 (t := t + 1) (by omega) (by omega) hck1 hck2 eck hbr hset CK
  have hmm : ∀ m, m ∈ L → m < 4096 ∧ ∃ c, c ≤ t + 1 ∧ a_came (m % 32) = nI c := by
    intro m hm
    obtain ⟨h1, ⟨c, hc, ec, _⟩, _⟩ := hL m hm
    exact ⟨h1, c, hc, ec⟩
  obtain ⟨q', hq', H4⟩ := zy_ex168 (ca := a_came) (se := a_settings) ht hwa ewa L [] 0 b_state b_ended b_total b_queue (by simp) (by simpa using hl8) trivial hq hmm
  have fe : L.filter (zl_ex (t + 1) wa a_came) = [] := by
    rw [List.filter_eq_nil_iff]
    intro m hm
    obtain ⟨h1, ⟨c, hc, ec, hlt⟩, _⟩ := hL m hm
    unfold zl_ex
    rw [ec, nI_clamp (by omega)]
    simpa using hlt
  have fn : L.filter (zl_no (t + 1) wa a_came) = L := by
    rw [List.filter_eq_self]
    intro m hm
    obtain ⟨h1, ⟨c, hc, ec, hlt⟩, _⟩ := hL m hm
    unfold zl_no zl_ex
    rw [ec, nI_clamp (by omega)]
    simpa using hlt
  rw [fe, fn, zl_nil, zl_nil, List.length_nil, zl_t0, Nat.zero_add] at H4
  rw [fn, List.nil_append] at hq'
  refine ⟨tk', si', we', up', q', TK', CK', hq', ?_⟩
  intro a_pace a_failures a_credit a_successes a_homes a_homeSince a_clients a_keys a_works a_ranks a_attempts a_late a_latest b_sorted post hp
  refine H1 post (zy_q84 hn (t := t + 1) (by omega) hends (H3 post (H4 post ?_)) (n - (n - 32)) (n - 32) (by omega))
  have := zy_q245 (g_time := nI (t + 1)) (b_tokens := tk') (b_sick := si') (b_well := we') (b_up := up') (b_queue := q') (a_pace := a_pace) (a_failures := a_failures) (a_credit := a_credit) (a_successes := a_successes) (a_homes := a_homes) (a_homeSince := a_homeSince) (a_clients := a_clients) (a_keys := a_keys) (a_works := a_works) (a_ranks := a_ranks) (a_attempts := a_attempts) (a_late := a_late) (a_latest := a_latest) (b_sorted := b_sorted) (b_ended := b_ended) (b_total := b_total) (a_broken := a_broken) (a_settings := a_settings) (a_capacity := a_capacity) (a_refill := a_refill) (a_came := a_came) (b_ends := b_ends) (post := post) hn P hbk (zj_ck_ud CK') hru L 0 (by omega) hq' (fun m hm => by
    obtain ⟨h1, _, h3⟩ := hL m hm
    exact ⟨h1, h3⟩) (by rw [Nat.zero_add]; exact hp)
  rw [Nat.zero_add] at this
  exact this
theorem zj_r0_time {wt dn ru sl sh ti : Nat → Int32} {T t : Nat} {tr : Int32} {s : Nat} (hT : T ≤ t) (ht : t < 2 ^ 30) (h : ¬ sh s = 0 → ∃ k, k < 2 ^ 30 ∧ ti s = nI k ∧ (k ≤ T ∨ t < k))
    (H : zj_r0 wt dn ru sl sh ti (nI T) tr s = false) : zj_r0 wt dn ru sl sh ti (nI t) tr s = false := by
  have e : zj_r0 wt dn ru sl sh ti (nI t) tr s = zj_r0 wt dn ru sl sh ti (nI T) tr s := by
    unfold zj_r0
    by_cases z : sh s = 0
    · rw [decide_eq_true z]; simp
    · obtain ⟨k, hk, ek, ho⟩ := h z
      rw [ek]
      have : decide (nI k ≤ nI t) = decide (nI k ≤ nI T) := by
        rw [decide_eq_decide, nI_leI (by omega) (by omega), nI_leI (by omega) (by omega)]
        omega
      rw [this]
  rw [e, H]
theorem zj_nocheck {T t ck : Nat} (hck : 0 < ck) (h1 : T < t) (h2 : t < (T / ck + 1) * ck) : t % ck ≠ 0 := by
  intro h
  have a1 := Nat.div_add_mod t ck
  have a2 := Nat.div_add_mod T ck
  have a3 := Nat.mod_lt T hck
  rw [h, Nat.add_zero] at a1
  have b1 : t / ck < T / ck + 1 := by
    rw [← a1, Nat.mul_comm] at h2
    exact Nat.lt_of_mul_lt_mul_right h2
  have b2 : t / ck ≤ T / ck := by omega
  have b3 : ck * (t / ck) ≤ ck * (T / ck) := Nat.mul_le_mul_left ck b2
  omega
theorem zj_qrun {N T D h np rn nd e ck wa : Nat} {bf : Int64} {pre : Nat → Nat} {L : List Nat} (C : zj_C N T T (T + 1) D h bf np rn nd pre f_points f_routes f_nodes f_durations f_requests f_heaped f_waiting f_now f_finished f_touched a_weight a_slots a_pace a_running a_broken a_down a_good a_bad a_shut a_till a_failures a_successes a_credit a_settings a_ringAt a_ringServer a_paths a_sets a_next a_servers a_homes a_homeSince a_latest a_sorted a_capacity a_refill a_bucket a_countedAt a_states a_clients a_path a_ranks a_keys a_works a_tried a_attempts a_server a_late a_came a_ends a_heap a_queue a_totals g_time g_waiting b_till b_sick b_well b_up b_tokens b_state b_ended b_ends b_queue b_sorted b_total)
    (Q : zj_Q N L f_waiting g_waiting a_queue b_queue a_states a_attempts) (he : e < 2 ^ 22) (hends : ∀ q, q < 32 → q < N → a_states q = 1 → ∃ x, e ≤ x ∧ x < 2 ^ 30 ∧ b_ends q = nI x)
    (hck1 : 1 ≤ ck) (hck2 : ck ≤ 100) (eck : a_settings 4 = nI ck) (hset : (∀ s, s < 6 → zj_st a_broken a_good a_bad s) ∨ e ≤ (T / ck + 1) * ck)
    (hwa : wa ≤ 1000) (ewa : a_settings 5 = nI wa) (hcame : ∀ m, m ∈ L → ∀ c, c ≤ T → a_came (m % 32) = nI c → e ≤ c + wa)
    (htill : 0 < L.length → ∀ s, s < 6 → ¬ a_shut s = 0 → ∀ k, k < 2 ^ 30 → a_till s = nI k → k ≤ T ∨ e ≤ k)
    (hnr : ∀ m, m ∈ L → ∀ s, s < 6 → zj_rq f_routes a_paths a_sets a_weight a_down a_running a_slots a_shut a_till a_tried a_path f_now m s = false) :
    ∀ j, T + j < e → ∃ (tk' si' we' up' q' : Nat → Int32), zj_tk (T + j) a_capacity a_refill a_bucket a_countedAt tk' ∧ zj_ck (T + j) a_down a_good a_bad si' we' up' ∧ zq_S q' 0 L ∧
    ∀ (post : Int32 → SY → Prop) (nn i : Nat) (bf' : Int64), i + j ≤ nn → nn < 2 ^ 30 → yA48 post (nI nn) bf' (nI (i + j)) (nI (T + j), f_routes, f_requests, g_waiting, a_weight, a_slots, a_pace, b_till, a_failures, a_credit, a_successes, si', we', a_broken, up', a_paths, a_sets, a_settings, a_capacity, a_refill, tk', a_homes, a_homeSince, a_clients, a_path, a_keys, a_works, a_ranks, b_state, a_server, a_attempts, a_tried, a_came, b_ended, b_ends, a_late, q', b_total, a_latest, b_sorted) →
      yA48 post (nI nn) bf' (nI i) (g_time, f_routes, f_requests, g_waiting, a_weight, a_slots, a_pace, b_till, a_failures, a_credit, a_successes, b_sick, b_well, a_broken, b_up, a_paths, a_sets, a_settings, a_capacity, a_refill, b_tokens, a_homes, a_homeSince, a_clients, a_path, a_keys, a_works, a_ranks, b_state, a_server, a_attempts, a_tried, a_came, b_ended, b_ends, a_late, b_queue, b_total, a_latest, b_sorted) := by
  obtain ⟨⟨rfl, rfl, rfl, rfl, rfl, rfl, rfl, rfl⟩, ⟨hN, hT, hTc, hTe, hD⟩, cf, hmm, tk, sl, en, hp, ru, ck0, bk, to, rm⟩ := C
  obtain ⟨⟨qn, qm⟩, ql, qx, qy, q1, q2⟩ := Q
  subst qy
  have hrn : rn ≤ 12 := cf.2.2.2.2.2.2.1.1
  intro j
  induction j with
  | zero =>
    intro _
    refine ⟨b_tokens, b_sick, b_well, b_up, b_queue, tk, ck0, q2, ?_⟩
    intro post nn i bf' h1 h2 hp
    exact hp
  | succ j ih =>
    intro hlt
    obtain ⟨tk1, si1, we1, up1, qq1, TK1, CK1, ZQ1, H1⟩ := ih (by omega)
    obtain ⟨tk', si', we', up', q', TK', CK', ZQ', H2⟩ := zy_quiet (t := T + j) (Tm := T + j) (L := L) hN (by omega) (by omega) TK1 CK1 (b_state := a_states) (b_ends := b_ends) (fun q h1 h2 h3 => by
        obtain ⟨x, hx1, hx2, hx3⟩ := hends q h1 h2 h3
        exact ⟨x, by omega, hx2, hx3⟩) hck1 hck2 eck cf.2.2.1 (fun hz s hs => by
        rcases hset with z | z
        · exact z s hs
        · exact absurd hz (zj_nocheck (T := T) (by omega) (by omega) (by omega))) hwa ewa ql ZQ1 (a_came := a_came) (a_path := a_path) (rn := rn) (a_paths := a_paths) (a_sets := a_sets) (a_weight := a_weight) (a_running := a_running) (a_slots := a_slots) (a_shut := a_shut) (a_till := a_till) (a_tried := a_tried) (fun m hm => by
        obtain ⟨g1, g2, g3⟩ := qm m hm
        have hmN : m < N := g1.1
        have S1 := sl (m % 32) (Nat.mod_lt _ (by decide)) (zw_q g1)
        obtain ⟨c, hc, ec⟩ := S1.2.2.2.2.2.2.1
        obtain ⟨p, hok, ep⟩ := S1.2.1
        have hce := hcame m hm c hc ec
        refine ⟨by omega, ⟨c, by omega, ec, by omega⟩, p, hok, ep, ?_⟩
        intro s hs
        have h0 := hnr m hm s hs
        unfold zj_rq at h0
        rw [nI_clamp (by omega), ep, nI_clamp (by have := hok.1; omega)] at h0
        unfold zj_rp zj_rb at h0 ⊢
        cases z1 : decide (0 ≤ zt_so a_paths a_sets rn 4 p) with
        | false => rfl
        | true =>
          cases z2 : za_tb (zt_so a_paths a_sets rn 4 p) s with
          | false => rfl
          | true =>
            rw [z1, z2] at h0
            rw [zj_r0_time (T := T) (t := T + j + 1) (by omega) (by omega) (fun hsh => ?_) (by simpa using h0)]
            · rfl
            · rcases bk s hs with ⟨y, _⟩ | ⟨_, _, k, hk, ek⟩
              · exact absurd y hsh
              · have := htill (List.length_pos_of_mem hm) s hs hsh k hk ek
                exact ⟨k, hk, ek, by omega⟩) cf.2.2.2.2.2.2.1 bk ru b_ended b_total
    refine ⟨tk', si', we', up', q', TK', CK', ZQ', ?_⟩
    intro post nn i bf' h1 h2 hp
    refine H1 post nn i bf' (by omega) h2 ?_
    obtain ⟨n, hn⟩ := hp
    refine ⟨n + 1, br_f (nI_ge (by omega) (by omega)) (H2 _ (nm_r (nI_1 _) ?_))⟩
    exact hn
end
end
section
/-! advance -/
section
variable {f_points f_routes f_nodes f_durations f_requests f_heaped f_waiting f_now f_finished f_touched g_time g_waiting : Int32}
variable {a_weight a_slots a_pace a_running a_broken a_down a_good a_bad a_shut a_till a_failures a_successes a_credit a_settings a_ringAt a_ringServer a_paths a_sets a_next a_servers a_homes a_homeSince a_latest a_sorted a_capacity a_refill a_bucket a_countedAt a_states a_clients a_path a_ranks a_keys a_works a_tried a_attempts a_server a_late a_came a_ends a_heap a_queue b_till b_sick b_well b_up b_tokens b_state b_ended b_ends b_queue b_sorted : Nat → Int32}
variable {a_totals b_total : Nat → Int64}
def px_to (u : SX) : Int32 := match u with
  | (f_points, f_routes, f_nodes, f_durations, f_requests, f_heaped, f_waiting, f_now, f_finished, f_touched, a_weight, a_slots, a_pace, a_running, a_broken, a_down, a_good, a_bad, a_shut, a_till, a_failures, a_successes, a_credit, a_settings, a_ringAt, a_ringServer, a_paths, a_sets, a_next, a_servers, a_homes, a_homeSince, a_latest, a_sorted, a_capacity, a_refill, a_bucket, a_countedAt, a_states, a_clients, a_path, a_ranks, a_keys, a_works, a_tried, a_attempts, a_server, a_late, a_came, a_ends, a_heap, a_queue, a_totals) => f_touched
def xA36n (post : Int32 → SX → Prop) (x2 : Int32) (n : Nat) (u : SX) : Prop := match u with
  | (f_points, f_routes, f_nodes, f_durations, f_requests, f_heaped, f_waiting, f_now, f_finished, f_touched, a_weight, a_slots, a_pace, a_running, a_broken, a_down, a_good, a_bad, a_shut, a_till, a_failures, a_successes, a_credit, a_settings, a_ringAt, a_ringServer, a_paths, a_sets, a_next, a_servers, a_homes, a_homeSince, a_latest, a_sorted, a_capacity, a_refill, a_bucket, a_countedAt, a_states, a_clients, a_path, a_ranks, a_keys, a_works, a_tried, a_attempts, a_server, a_late, a_came, a_ends, a_heap, a_queue, a_totals) => wX_advance_36 post x2 n f_points f_routes f_nodes f_durations f_requests f_heaped f_waiting f_now f_finished f_touched a_weight a_slots a_pace a_running a_broken a_down a_good a_bad a_shut a_till a_failures a_successes a_credit a_settings a_ringAt a_ringServer a_paths a_sets a_next a_servers a_homes a_homeSince a_latest a_sorted a_capacity a_refill a_bucket a_countedAt a_states a_clients a_path a_ranks a_keys a_works a_tried a_attempts a_server a_late a_came a_ends a_heap a_queue a_totals
theorem xA36_of {post : Int32 → SX → Prop} {x2 : Int32} {u : SX} (h : xA36 post x2 u) : ∃ n, xA36n post x2 n u := h
theorem zj_adv0 {N T Tc Te Dm last : Nat} {bf : Int64} {L : List Nat} {u : SX} {v : SY} (hT : T = last) (S : zj_S N T Tc Te Dm bf L u v) :
    ∃ r, (∀ post : Int32 → SX → Prop, post r u → xA36 post (nI last) u) ∧ (∀ (post : Int32 → SY → Prop) (nn : Nat), post r v → yA48 post (nI nn) bf (nI nn) v) := by
  refine zj_S_el (P := fun u v => ∃ r, (∀ post : Int32 → SX → Prop, post r u → xA36 post (nI last) u) ∧ (∀ (post : Int32 → SY → Prop) (nn : Nat), post r v → yA48 post (nI nn) bf (nI nn) v)) ?_ S
  intro f_points f_routes f_nodes f_durations f_requests f_heaped f_waiting f_now f_finished f_touched g_time g_waiting a_weight a_slots a_pace a_running a_broken a_down a_good a_bad a_shut a_till a_failures a_successes a_credit a_settings a_ringAt a_ringServer a_paths a_sets a_next a_servers a_homes a_homeSince a_latest a_sorted a_capacity a_refill a_bucket a_countedAt a_states a_clients a_path a_ranks a_keys a_works a_tried a_attempts a_server a_late a_came a_ends a_heap a_queue b_till b_sick b_well b_up b_tokens b_state b_ended b_ends b_queue b_sorted a_totals b_total D h np rn nd pre hD C Q
  have eT : f_now = nI T := C.1.2.1
  have to := C.2.2.2.2.2.2.2.2.2.2.2.1
  refine ⟨f_finished, ?_, ?_⟩
  · intro post hp
    exact ⟨1, br_t (by rw [eT, hT]; exact Int32.le_refl _) hp⟩
  · intro post nn hp
    rw [to.2.2.2] at hp
    exact ⟨1, br_t (Int32.le_refl _) hp⟩
theorem zj_adv1 {N T last : Nat} {bf : Int64} {L : List Nat} {u : SX} {v : SY} (hlt : T < last) (hl : last < 2 ^ 22) (S : zj_S N T T (T + 1) (32 * T) bf L u v) (hnr : px_to u = 0 → zj_nr L u) :
    ∃ e L' u' v', T < e ∧ e ≤ last ∧ zj_S N e e (e + 1) (32 * e) bf L' u' v' ∧ zj_nr L' u' ∧ (∀ post, xA36 post (nI last) u' → xA36 post (nI last) u) ∧
    (∀ (post : Int32 → SY → Prop) (nn i : Nat), i + (e - T) ≤ nn → nn < 2 ^ 30 → yA48 post (nI nn) bf (nI (i + (e - T))) v' → yA48 post (nI nn) bf (nI i) v) := by
  revert hnr
  refine zj_S_el (P := fun u v => (px_to u = 0 → zj_nr L u) → ∃ e L' u' v', T < e ∧ e ≤ last ∧ zj_S N e e (e + 1) (32 * e) bf L' u' v' ∧ zj_nr L' u' ∧ (∀ post, xA36 post (nI last) u' → xA36 post (nI last) u) ∧
    (∀ (post : Int32 → SY → Prop) (nn i : Nat), i + (e - T) ≤ nn → nn < 2 ^ 30 → yA48 post (nI nn) bf (nI (i + (e - T))) v' → yA48 post (nI nn) bf (nI i) v)) ?_ S
  intro f_points f_routes f_nodes f_durations f_requests f_heaped f_waiting f_now f_finished f_touched g_time g_waiting a_weight a_slots a_pace a_running a_broken a_down a_good a_bad a_shut a_till a_failures a_successes a_credit a_settings a_ringAt a_ringServer a_paths a_sets a_next a_servers a_homes a_homeSince a_latest a_sorted a_capacity a_refill a_bucket a_countedAt a_states a_clients a_path a_ranks a_keys a_works a_tried a_attempts a_server a_late a_came a_ends a_heap a_queue b_till b_sick b_well b_up b_tokens b_state b_ended b_ends b_queue b_sorted a_totals b_total D h np rn nd pre hD C Q hnr
  have hnr : f_touched = 0 → ∀ m, m ∈ L → ∀ s, s < 6 → zj_rq f_routes a_paths a_sets a_weight a_down a_running a_slots a_shut a_till a_tried a_path f_now m s = false := hnr
  have C0 := C
  have Q0 := Q
  obtain ⟨⟨rfl, rfl, rfl, rfl, rfl, rfl, rfl, rfl⟩, ⟨hN, hT, hTc, hTe, hD2⟩, cf, hmm, tk, sl, en, hp, ru, ck, bk, to, rm⟩ := C
  obtain ⟨⟨qn, qm⟩, ql, qx, qy, q1, q2⟩ := Q
  obtain ⟨ckk, hck1, hck2, eck⟩ := cf.2.2.2.1.2.2.2.2.1
  obtain ⟨wa, _, hwa, ewa⟩ := cf.2.2.2.1.2.2.2.2.2
  have slm : ∀ m, m ∈ L → m < 4096 ∧ ∃ c, c ≤ T ∧ a_came (m % 32) = nI c := by
    intro m hm
    obtain ⟨g1, _, _⟩ := qm m hm
    have hmN : m < N := g1.1
    exact ⟨by omega, (sl (m % 32) (Nat.mod_lt _ (by decide)) (zw_q g1)).2.2.2.2.2.2.1⟩
  obtain ⟨e, he1, he2, he3, he4, HN⟩ := zx_next (T := T) (w := L.length) (h := h) (last := last) (to := f_touched) (sh := a_shut) (ti := a_till) (qu := a_queue) (ca := a_came) (se := a_settings) (br := a_broken) (go := a_good) (ba := a_bad) (hp := a_heap) (en := a_ends) (by omega)
    (fun s hs hsh => by
      rcases bk s hs with ⟨y, _⟩ | ⟨_, _, k, hk, ek⟩
      · exact absurd y hsh
      · exact ⟨k, hk, ek⟩) ql
    (fun j hj => by
      obtain ⟨m, hm, em⟩ := zq_get q1 hj
      rw [Nat.zero_add] at em
      obtain ⟨h1, c, hc, ec⟩ := slm m hm
      exact ⟨m, c, by omega, by omega, em, ec⟩) (by omega) ewa hck1 hck2 eck hlt (by omega) hp.1
    (fun h0 => by
      obtain ⟨m, k, w1, w2, w3, w4, w5⟩ := hp.2.2.2.1 0 h0
      obtain ⟨_, x, x1, x2, x3⟩ := (en (m % 32) (Nat.mod_lt _ (by decide)) (zw_q w1)).1 w2
      have hmN : m < N := w1.1
      exact ⟨m, x, by omega, w3, x3, by omega, by omega⟩)
  -- all that runs ends at e or later
  have hends : ∀ q, q < 32 → q < N → a_states q = 1 → ∃ x, e ≤ x ∧ x ≤ T + 1000 ∧ a_ends q = nI x ∧ b_ends q = nI x := by
    intro q hq hqN hst
    obtain ⟨m, hm, em⟩ := zw_ex hq hqN
    have hst' : a_states (m % 32) = 1 := by rw [em]; exact hst
    obtain ⟨i, hi, ei⟩ := zj_hq_mem hp hm hst'
    obtain ⟨m0, k0, w1, w2, w3, w4, w5⟩ := hp.2.2.2.1 0 (by omega)
    have hm0N : m0 < N := w1.1
    have hmN : m < N := hm.1
    have hmin := zh_min hp.2.1 i hi
    obtain ⟨g1, x, x1, x2, x3⟩ := (en q hq hqN).1 hst
    rw [w3, ei, zh_kN (by omega), zh_kN (by omega), w5, em, x3, nI_clamp w4, nI_clamp (by omega)] at hmin
    have k0b : k0 < 2 ^ 29 := by
      obtain ⟨_, y, y1, y2, y3⟩ := (en (m0 % 32) (Nat.mod_lt _ (by decide)) (zw_q w1)).1 w2
      have : y = k0 := (nI_eq (by omega) (by omega)).mp (y3.symm.trans w5)
      omega
    have := he3 (by omega) m0 k0 (by omega) w3 k0b w5
    exact ⟨x, by omega, x2, x3, by rw [← g1]; exact x3⟩
  -- Y's quiet units
  have hrun : ∃ (tk' si' we' up' q' : Nat → Int32), zj_tk (e - 1) a_capacity a_refill a_bucket a_countedAt tk' ∧ zj_ck (e - 1) a_down a_good a_bad si' we' up' ∧ zq_S q' 0 L ∧
      ∀ (post : Int32 → SY → Prop) (nn i : Nat) (bf' : Int64), i + (e - 1 - T) ≤ nn → nn < 2 ^ 30 →
        yA48 post (nI nn) bf' (nI (i + (e - 1 - T))) (nI (e - 1), nI rn, nI N, g_waiting, a_weight, a_slots, a_pace, b_till, a_failures, a_credit, a_successes, si', we', a_broken, up', a_paths, a_sets, a_settings, a_capacity, a_refill, tk', a_homes, a_homeSince, a_clients, a_path, a_keys, a_works, a_ranks, a_states, a_server, a_attempts, a_tried, a_came, b_ended, b_ends, a_late, q', b_total, a_latest, b_sorted) →
        yA48 post (nI nn) bf' (nI i) (nI T, nI rn, nI N, g_waiting, a_weight, a_slots, a_pace, b_till, a_failures, a_credit, a_successes, b_sick, b_well, a_broken, b_up, a_paths, a_sets, a_settings, a_capacity, a_refill, b_tokens, a_homes, a_homeSince, a_clients, a_path, a_keys, a_works, a_ranks, a_states, a_server, a_attempts, a_tried, a_came, b_ended, b_ends, a_late, b_queue, b_total, a_latest, b_sorted) := by
    rcases he4 with z | ⟨z1, z2⟩
    · subst z
      refine ⟨b_tokens, b_sick, b_well, b_up, b_queue, tk, ck, q2, ?_⟩
      intro post nn i bf' h1 h2 hp
      rw [show T + 1 - 1 = T by omega, show i + (T - T) = i by omega] at hp
      exact hp
    · have := zj_qrun (e := e) (ck := ckk) (wa := wa) C0 Q0 (by omega) (fun q h1 h2 h3 => by
          obtain ⟨x, hx1, hx2, _, hx3⟩ := hends q h1 h2 h3
          exact ⟨x, hx1, by omega, hx3⟩) hck1 hck2 eck z1 hwa ewa (fun m hm c hc ec => by
          have hpos := List.length_pos_of_mem hm
          obtain ⟨_, y2, _⟩ := z2 hpos
          obtain ⟨g1, _, _⟩ := qm m hm
          have hmN : m < N := g1.1
          obtain ⟨i, hi, ei⟩ := List.getElem_of_mem hm
          obtain ⟨K, m', R, eL, eK, eq⟩ := zq_split hi q1
          have : m' = m := by
            subst eL
            have : (K ++ m' :: R)[i] = m' := by
              subst eK; simp
            rw [← ei, this]
          subst this
          exact y2 i m' c hi (by omega) (by omega) eq ec) (fun hpos => (z2 hpos).2.2) (fun m hm => hnr (z2 (List.length_pos_of_mem hm)).1 m hm) (e - 1 - T) (by omega)
      rw [show T + (e - 1 - T) = e - 1 by omega] at this
      exact this
  obtain ⟨tk', si', we', up', q', TK', CK', ZQ', HR⟩ := hrun
  obtain ⟨tk2, TK2, HT⟩ := zy_tok (t := e - 1) (n := N) (by omega) hN TK'
  rw [show e - 1 + 1 = e by omega] at TK2 HT
  have SE : zj_S N e (e - 1) e (32 * T) bf L (nI np, nI rn, f_nodes, nI (zj_dn D), nI N, nI h, f_waiting, nI e, f_finished, 0, a_weight, a_slots, a_pace, a_running, a_broken, a_down, a_good, a_bad, a_shut, a_till, a_failures, a_successes, a_credit, a_settings, a_ringAt, a_ringServer, a_paths, a_sets, a_next, a_servers, a_homes, a_homeSince, a_latest, a_sorted, a_capacity, a_refill, a_bucket, a_countedAt, a_states, a_clients, a_path, a_ranks, a_keys, a_works, a_tried, a_attempts, a_server, a_late, a_came, a_ends, a_heap, a_queue, a_totals)
      (nI e, nI rn, nI N, g_waiting, a_weight, a_slots, a_pace, b_till, a_failures, a_credit, a_successes, si', we', a_broken, up', a_paths, a_sets, a_settings, a_capacity, a_refill, tk2, a_homes, a_homeSince, a_clients, a_path, a_keys, a_works, a_ranks, a_states, a_server, a_attempts, a_tried, a_came, b_ended, b_ends, a_late, q', b_total, a_latest, b_sorted) := by
    refine zj_S_in (D := D) (h := h) (np := np) (rn := rn) (nd := nd) (pre := pre) hD ⟨⟨rfl, rfl, rfl, rfl, rfl, rfl, rfl, rfl⟩, ⟨hN, by omega, by omega, by omega, hD2⟩, cf, hmm, TK2, zj_sl_mono (by omega) sl, ?_, hp, ru, CK', bk, to, rm⟩ ⟨⟨qn, qm⟩, ql, qx, qy, q1, ZQ'⟩
    intro q hq hqN
    obtain ⟨f1, f2, f3⟩ := en q hq hqN
    refine ⟨fun z => ⟨(f1 z).1, ?_⟩, f2, f3⟩
    obtain ⟨x, hx1, hx2, hx3, _⟩ := hends q hq hqN z
    exact ⟨x, hx1, by omega, hx3⟩
  obtain ⟨L1, u1, v1, S1, N1, HX1, HY1⟩ := zj_happen (by omega) (by omega) SE
  rw [show e - 1 + 1 = e by omega] at S1
  refine ⟨e, L1, u1, v1, he1, he2, zj_S_mono (by omega) S1, N1, ?_, ?_⟩
  · intro post hpo
    obtain ⟨n, hn⟩ := xA36_of hpo
    refine ⟨n + 1, br_f (nI_ge hlt (by omega)) ?_⟩
    subst qx
    exact HN _ (HX1 _ hn)
  · intro post nn i h1 h2 hpo
    refine HR post nn i bf (by omega) h2 ?_
    obtain ⟨y_time, y_routes, y_next, y_waiting, y_weight, y_slots, y_pace, y_till, y_failures, y_credit, y_successes, y_sick, y_well, y_broken, y_up, y_routePath, y_routeServers, y_setting, y_capacity, y_refill, y_tokens, y_home, y_homeTime, y_client, y_path, y_key, y_work, y_rank, y_state, y_at, y_attempts, y_tried, y_came, y_ended, y_ends, y_late, y_queue, y_total, y_took, y_sorted⟩ := v1
    obtain ⟨n, hn⟩ := hpo
    refine ⟨n + 1, br_f (nI_ge (by omega) (by omega)) (HT _ (HY1 _ ?_))⟩
    refine nm_r (e' := nI (i + (e - T))) (by rw [nI_1]; congr 1; omega) hn
theorem zj_adv {N last : Nat} {bf : Int64} (hl : last < 2 ^ 22) : ∀ (d T : Nat) (L : List Nat) (u : SX) (v : SY), T + d = last → zj_S N T T (T + 1) (32 * T) bf L u v → (px_to u = 0 → zj_nr L u) →
    ∃ L' u' v' r, zj_S N last last (last + 1) (32 * last) bf L' u' v' ∧ (px_to u' = 0 → zj_nr L' u') ∧ (∀ post : Int32 → SX → Prop, post r u' → xA36 post (nI last) u) ∧
    (∀ (post : Int32 → SY → Prop) (nn i : Nat), i + d = nn → nn < 2 ^ 30 → post r v' → yA48 post (nI nn) bf (nI i) v) := by
  intro d
  induction d using Nat.strongRecOn with
  | ind d ih =>
    intro T L u v hT S hnr
    rcases Nat.eq_zero_or_pos d with z | z
    · subst z
      have hT' : T = last := by omega
      obtain ⟨r, HX, HY⟩ := zj_adv0 hT' S
      subst hT'
      refine ⟨L, u, v, r, S, hnr, HX, ?_⟩
      intro post nn i h1 h2 hp
      have : i = nn := by omega
      subst this
      exact HY post i hp
    · obtain ⟨e, L1, u1, v1, he1, he2, S1, N1, HX1, HY1⟩ := zj_adv1 (by omega) hl S hnr
      obtain ⟨L2, u2, v2, r, S2, N2, HX2, HY2⟩ := ih (last - e) (by omega) e L1 u1 v1 (by omega) S1 (fun _ => N1)
      refine ⟨L2, u2, v2, r, S2, N2, fun post hp => HX1 post (HX2 post hp), ?_⟩
      intro post nn i h1 h2 hp
      exact HY1 post nn i (by omega) h2 (HY2 post nn (i + (e - T)) (by omega) h2 hp)
end
end
section
/-! the relation; the constructors -/
section
variable {f_points f_routes f_nodes f_durations f_requests f_heaped f_waiting f_now f_finished f_touched g_time g_waiting : Int32}
variable {a_weight a_slots a_pace a_running a_broken a_down a_good a_bad a_shut a_till a_failures a_successes a_credit a_settings a_ringAt a_ringServer a_paths a_sets a_next a_servers a_homes a_homeSince a_latest a_sorted a_capacity a_refill a_bucket a_countedAt a_states a_clients a_path a_ranks a_keys a_works a_tried a_attempts a_server a_late a_came a_ends a_heap a_queue b_till b_sick b_well b_up b_tokens b_state b_ended b_ends b_queue b_sorted : Nat → Int32}
variable {a_totals b_total : Nat → Int64}
/-- the two desks hold the same: zj_S says what; where nothing was touched, none of those waiting is ready -/
def i_Rel (k : Nat) (u : SX) (v : SY) : Prop := ∃ (N T : Nat) (bf : Int64) (L : List Nat), 6 * N ≤ k ∧ T ≤ 1000 * k ∧ zj_S N T T (T + 1) (32 * T) bf L u v ∧ (px_to u = 0 → zj_nr L u)
theorem i_up {k : Nat} {u : SX} {v : SY} (h : i_Rel k u v) : i_Rel (k + 6) u v := by
  obtain ⟨N, T, bf, L, h1, h2, h3, h4⟩ := h
  exact ⟨N, T, bf, L, by omega, by omega, h3, h4⟩
theorem zj_R_in {k N T D h np rn nd : Nat} {bf : Int64} {pre : Nat → Nat} {L : List Nat} (h1 : 6 * N ≤ k) (h2 : T ≤ 1000 * k) (hD : D ≤ 32 * T) (C : zj_C N T T (T + 1) D h bf np rn nd pre f_points f_routes f_nodes f_durations f_requests f_heaped f_waiting f_now f_finished f_touched a_weight a_slots a_pace a_running a_broken a_down a_good a_bad a_shut a_till a_failures a_successes a_credit a_settings a_ringAt a_ringServer a_paths a_sets a_next a_servers a_homes a_homeSince a_latest a_sorted a_capacity a_refill a_bucket a_countedAt a_states a_clients a_path a_ranks a_keys a_works a_tried a_attempts a_server a_late a_came a_ends a_heap a_queue a_totals g_time g_waiting b_till b_sick b_well b_up b_tokens b_state b_ended b_ends b_queue b_sorted b_total)
    (Q : zj_Q N L f_waiting g_waiting a_queue b_queue a_states a_attempts)
    (hnr : f_touched = 0 → ∀ m, m ∈ L → ∀ s, s < 6 → zj_rq f_routes a_paths a_sets a_weight a_down a_running a_slots a_shut a_till a_tried a_path f_now m s = false) : i_Rel k (f_points, f_routes, f_nodes, f_durations, f_requests, f_heaped, f_waiting, f_now, f_finished, f_touched, a_weight, a_slots, a_pace, a_running, a_broken, a_down, a_good, a_bad, a_shut, a_till, a_failures, a_successes, a_credit, a_settings, a_ringAt, a_ringServer, a_paths, a_sets, a_next, a_servers, a_homes, a_homeSince, a_latest, a_sorted, a_capacity, a_refill, a_bucket, a_countedAt, a_states, a_clients, a_path, a_ranks, a_keys, a_works, a_tried, a_attempts, a_server, a_late, a_came, a_ends, a_heap, a_queue, a_totals) (g_time, f_routes, f_requests, g_waiting, a_weight, a_slots, a_pace, b_till, a_failures, a_credit, a_successes, b_sick, b_well, a_broken, b_up, a_paths, a_sets, a_settings, a_capacity, a_refill, b_tokens, a_homes, a_homeSince, a_clients, a_path, a_keys, a_works, a_ranks, b_state, a_server, a_attempts, a_tried, a_came, b_ended, b_ends, a_late, b_queue, b_total, a_latest, b_sorted) :=
  ⟨N, T, bf, L, h1, h2, zj_S_in hD C Q, hnr⟩
theorem zj_R_el {P : SX → SY → Prop} {k : Nat} {u : SX} {v : SY}
    (H : ∀ {f_points f_routes f_nodes f_durations f_requests f_heaped f_waiting f_now f_finished f_touched g_time g_waiting : Int32} {a_weight a_slots a_pace a_running a_broken a_down a_good a_bad a_shut a_till a_failures a_successes a_credit a_settings a_ringAt a_ringServer a_paths a_sets a_next a_servers a_homes a_homeSince a_latest a_sorted a_capacity a_refill a_bucket a_countedAt a_states a_clients a_path a_ranks a_keys a_works a_tried a_attempts a_server a_late a_came a_ends a_heap a_queue b_till b_sick b_well b_up b_tokens b_state b_ended b_ends b_queue b_sorted : Nat → Int32} {a_totals b_total : Nat → Int64} (N T D h np rn nd : Nat) (bf : Int64) (pre : Nat → Nat) (L : List Nat), 6 * N ≤ k → T ≤ 1000 * k → D ≤ 32 * T → zj_C N T T (T + 1) D h bf np rn nd pre f_points f_routes f_nodes f_durations f_requests f_heaped f_waiting f_now f_finished f_touched a_weight a_slots a_pace a_running a_broken a_down a_good a_bad a_shut a_till a_failures a_successes a_credit a_settings a_ringAt a_ringServer a_paths a_sets a_next a_servers a_homes a_homeSince a_latest a_sorted a_capacity a_refill a_bucket a_countedAt a_states a_clients a_path a_ranks a_keys a_works a_tried a_attempts a_server a_late a_came a_ends a_heap a_queue a_totals g_time g_waiting b_till b_sick b_well b_up b_tokens b_state b_ended b_ends b_queue b_sorted b_total →
      zj_Q N L f_waiting g_waiting a_queue b_queue a_states a_attempts →
      (f_touched = 0 → ∀ m, m ∈ L → ∀ s, s < 6 → zj_rq f_routes a_paths a_sets a_weight a_down a_running a_slots a_shut a_till a_tried a_path f_now m s = false) → P (f_points, f_routes, f_nodes, f_durations, f_requests, f_heaped, f_waiting, f_now, f_finished, f_touched, a_weight, a_slots, a_pace, a_running, a_broken, a_down, a_good, a_bad, a_shut, a_till, a_failures, a_successes, a_credit, a_settings, a_ringAt, a_ringServer, a_paths, a_sets, a_next, a_servers, a_homes, a_homeSince, a_latest, a_sorted, a_capacity, a_refill, a_bucket, a_countedAt, a_states, a_clients, a_path, a_ranks, a_keys, a_works, a_tried, a_attempts, a_server, a_late, a_came, a_ends, a_heap, a_queue, a_totals) (g_time, f_routes, f_requests, g_waiting, a_weight, a_slots, a_pace, b_till, a_failures, a_credit, a_successes, b_sick, b_well, a_broken, b_up, a_paths, a_sets, a_settings, a_capacity, a_refill, b_tokens, a_homes, a_homeSince, a_clients, a_path, a_keys, a_works, a_ranks, b_state, a_server, a_attempts, a_tried, a_came, b_ended, b_ends, a_late, b_queue, b_total, a_latest, b_sorted))
    (I : i_Rel k u v) : P u v := by
  obtain ⟨N, T, bf, L, h1, h2, S, hnr⟩ := I
  revert hnr
  refine zj_S_el (P := fun u v => (px_to u = 0 → zj_nr L u) → P u v) ?_ S
  intro f_points f_routes f_nodes f_durations f_requests f_heaped f_waiting f_now f_finished f_touched g_time g_waiting a_weight a_slots a_pace a_running a_broken a_down a_good a_bad a_shut a_till a_failures a_successes a_credit a_settings a_ringAt a_ringServer a_paths a_sets a_next a_servers a_homes a_homeSince a_latest a_sorted a_capacity a_refill a_bucket a_countedAt a_states a_clients a_path a_ranks a_keys a_works a_tried a_attempts a_server a_late a_came a_ends a_heap a_queue b_till b_sick b_well b_up b_tokens b_state b_ended b_ends b_queue b_sorted a_totals b_total D h np rn nd pre hD C Q hnr
  exact H N T D h np rn nd bf pre L h1 h2 hD C Q hnr
/-! the constructors -/
def zi_f (x : Int32) (c : Nat) : Nat → Int32 := fun j => if j < c then x else 0
theorem zi_0 {x : Int32} : zi_f x 0 = fun _ => 0 := by funext j; unfold zi_f; rw [if_neg (by omega)]
theorem zi_s {x : Int32} {c : Nat} : upd (zi_f x c) c x = zi_f x (c + 1) := by
  funext j
  by_cases h : j = c
  · subst h; rw [pk_us]; unfold zi_f; rw [if_pos (by omega)]
  · rw [pk_un h]; unfold zi_f
    by_cases e : j < c
    · rw [if_pos e, if_pos (by omega)]
    · rw [if_neg e, if_neg (by omega)]
theorem zi_v {x : Int32} {c j : Nat} (h : j < c) : zi_f x c j = x := if_pos h
theorem zx_init384 {post : SX → Prop} (hp : wpX_grow (fun u => match u with | (f_points, f_routes, f_nodes, f_durations, f_requests, f_heaped, f_waiting, f_now, f_finished, f_touched, a_weight, a_slots, a_pace, a_running, a_broken, a_down, a_good, a_bad, a_shut, a_till, a_failures, a_successes, a_credit, a_settings, a_ringAt, a_ringServer, a_paths, a_sets, a_next, a_servers, a_homes, a_homeSince, a_latest, a_sorted, a_capacity, a_refill, a_bucket, a_countedAt, a_states, a_clients, a_path, a_ranks, a_keys, a_works, a_tried, a_attempts, a_server, a_late, a_came, a_ends, a_heap, a_queue, a_totals) => post (f_points, f_routes, f_nodes, f_durations, f_requests, f_heaped, f_waiting, f_now, f_finished, f_touched, a_weight, a_slots, a_pace, a_running, a_broken, a_down, a_good, a_bad, a_shut, a_till, a_failures, a_successes, a_credit, a_settings, a_ringAt, a_ringServer, a_paths, a_sets, a_next, a_servers, a_homes, a_homeSince, a_latest, a_sorted, a_capacity, a_refill, a_bucket, a_countedAt, a_states, a_clients, a_path, a_ranks, a_keys, a_works, a_tried, a_attempts, a_server, a_late, a_came, a_ends, a_heap, a_queue, a_totals)) (f_points, f_routes, f_nodes, f_durations, f_requests, f_heaped, f_waiting, f_now, f_finished, f_touched, a_weight, zi_f 1 6, zi_f 1 6, a_running, a_broken, a_down, a_good, a_bad, a_shut, a_till, a_failures, a_successes, a_credit, a_settings, a_ringAt, a_ringServer, a_paths, a_sets, a_next, a_servers, zi_f (-1) 6, a_homeSince, a_latest, a_sorted, zi_f 5 6, zi_f 10 6, zi_f 5 6, a_countedAt, a_states, a_clients, a_path, a_ranks, a_keys, a_works, a_tried, a_attempts, a_server, a_late, a_came, a_ends, a_heap, a_queue, a_totals)) :
    ∀ d c, c + d = 6 → ∃ n, wX_init_384 post f_points f_routes f_nodes f_durations f_requests f_heaped f_waiting f_now f_finished f_touched n (nI c) a_weight (zi_f 1 c) (zi_f 1 c) a_running a_broken a_down a_good a_bad a_shut a_till a_failures a_successes a_credit a_settings a_ringAt a_ringServer a_paths a_sets a_next a_servers (zi_f (-1) c) a_homeSince a_latest a_sorted (zi_f 5 c) (zi_f 10 c) (zi_f 5 c) a_countedAt a_states a_clients a_path a_ranks a_keys a_works a_tried a_attempts a_server a_late a_came a_ends a_heap a_queue a_totals := by
  intro d
  induction d with
  | zero =>
    intro c hc
    have : c = 6 := by omega
    subst this
    exact ⟨1, br_t (Int32.le_refl _) hp⟩
  | succ d ih =>
    intro c hc
    obtain ⟨n, hn⟩ := ih (c + 1) (by omega)
    have ic : vp_in (nI c) 6 := vp_in_nI (by omega) (by omega)
    have cc : (nI c).toNatClampNeg = c := nI_clamp (by omega)
    refine ⟨n + 1, br_f (nI_ge (b := 6) (by omega) (by decide)) ⟨ic, nm_r (e' := zi_f 1 (c + 1)) (by rw [cc, za_b1, zi_s]) ⟨ic, nm_r (e' := zi_f 1 (c + 1)) (by rw [cc, za_b1, zi_s]) ⟨ic, nm_r (e' := zi_f 5 (c + 1)) (by rw [cc, za_b5, zi_s])
      ⟨ic, nm_r (e' := zi_f 10 (c + 1)) (by rw [cc, za_b10, zi_s]) ⟨ic, nm_r (e' := zi_f 5 (c + 1)) (by rw [cc, za_b5, zi_s]) ⟨ic, nm_r (e' := zi_f (-1) (c + 1)) (by rw [cc, za_bm, zi_s]) (nm_r (nI_1 c) hn)⟩⟩⟩⟩⟩⟩⟩
def zi_se : Nat → Int32 := upd (upd (upd (upd (upd (fun _ => 0) 1 100) 2 1) 3 50) 4 10) 5 100
theorem zy_init294 {post : SY → Prop} (hp : post (g_time, f_routes, f_requests, g_waiting, a_weight, zi_f 1 6, zi_f 1 6, zi_f (-1) 6, a_failures, a_credit, a_successes, b_sick, b_well, a_broken, zi_f 1 6, a_paths, a_sets, zi_se, zi_f 5 6, zi_f 10 6, zi_f 5 6, zi_f (-1) 6, a_homeSince, a_clients, a_path, a_keys, a_works, a_ranks, b_state, a_server, a_attempts, a_tried, a_came, b_ended, b_ends, a_late, b_queue, b_total, a_latest, b_sorted)) :
    ∀ d c, c + d = 6 → ∃ n, wY_init_294 post g_time f_routes f_requests g_waiting n (nI c) a_weight (zi_f 1 c) (zi_f 1 c) (zi_f (-1) c) a_failures a_credit a_successes b_sick b_well a_broken (zi_f 1 c) a_paths a_sets (fun _ => 0) (zi_f 5 c) (zi_f 10 c) (zi_f 5 c) (zi_f (-1) c) a_homeSince a_clients a_path a_keys a_works a_ranks b_state a_server a_attempts a_tried a_came b_ended b_ends a_late b_queue b_total a_latest b_sorted := by
  intro d
  induction d with
  | zero =>
    intro c hc
    have : c = 6 := by omega
    subst this
    exact ⟨1, br_t (Int32.le_refl _) (nm_e (nm_e (nm_e (nm_e (nm_e hp)))))⟩
  | succ d ih =>
    intro c hc
    obtain ⟨n, hn⟩ := ih (c + 1) (by omega)
    have ic : vp_in (nI c) 6 := vp_in_nI (by omega) (by omega)
    have cc : (nI c).toNatClampNeg = c := nI_clamp (by omega)
    refine ⟨n + 1, br_f (nI_ge (b := 6) (by omega) (by decide)) ⟨ic, nm_r (e' := zi_f 1 (c + 1)) (by rw [cc, zi_s]) ⟨ic, nm_r (e' := zi_f 1 (c + 1)) (by rw [cc, zi_s]) ⟨ic, nm_r (e' := zi_f (-1) (c + 1)) (by rw [cc, zi_s])
      ⟨ic, nm_r (e' := zi_f 1 (c + 1)) (by rw [cc, za_z1, zi_s]) ⟨ic, nm_r (e' := zi_f 5 (c + 1)) (by rw [cc, zi_s]) ⟨ic, nm_r (e' := zi_f 5 (c + 1)) (by rw [cc, zi_s]) ⟨ic, nm_r (e' := zi_f 10 (c + 1)) (by rw [cc, zi_s]) ⟨ic, nm_r (e' := zi_f (-1) (c + 1)) (by rw [cc, zi_s]) (nm_r (nI_1 c) hn)⟩⟩⟩⟩⟩⟩⟩⟩⟩
theorem zi_seX : upd (upd (upd (upd (upd (upd (upd (fun _ => 0) 0 0) 1 100) 2 1) 3 50) 4 10) 5 100) 6 0 = zi_se := by
  funext j
  unfold zi_se
  by_cases h6 : j = 6
  · subst h6; rfl
  rw [pk_un h6]
  by_cases h5 : j = 5
  · subst h5; rfl
  rw [pk_un h5, pk_un h5]
  by_cases h4 : j = 4
  · subst h4; rfl
  rw [pk_un h4, pk_un h4]
  by_cases h3 : j = 3
  · subst h3; rfl
  rw [pk_un h3, pk_un h3]
  by_cases h2 : j = 2
  · subst h2; rfl
  rw [pk_un h2, pk_un h2]
  by_cases h1 : j = 1
  · subst h1; rfl
  rw [pk_un h1, pk_un h1]
  by_cases h0 : j = 0
  · subst h0; rfl
  rw [pk_un h0]
theorem zi_run0 (s : Nat) : zj_run (fun _ => 0) (fun _ => 0) 0 s = 0 := by
  have : ∀ n, zc_c (fun q => decide (q < 0) && (decide ((0 : Int32) = 1) && decide ((0 : Int32) = nI s))) n = 0 := by
    intro n
    induction n with
    | zero => rfl
    | succ n ih => rw [zc_c, ih]; simp
  exact this 32
theorem i_vc0 : wpX_init (fun u => wpY_init (fun v => i_Rel 0 u v)) := by
  have P0 : zt_P 0 (fun _ => 0) (fun _ => 0) := ⟨by omega, fun k hk => by omega, fun i j hi => by omega⟩
  obtain ⟨nd, nx, sv, pre, T0, hnd, HG⟩ := zx_grow P0 (fun _ => 0) (fun _ => 0)
  refine nm_e (nm_e (nm_e (nm_e (nm_e (nm_e (nm_r zi_seX ?_))))))
  have hX := fun (post : SX → Prop) hp => zx_init384 (post := post) (f_points := 0) (f_routes := 0) (f_nodes := 0) (f_durations := 0) (f_requests := 0) (f_heaped := 0) (f_waiting := 0) (f_now := 0) (f_finished := 0) (f_touched := 0)
    (a_weight := fun _ => 0) (a_running := fun _ => 0) (a_broken := fun _ => 0) (a_down := fun _ => 0) (a_good := fun _ => 0) (a_bad := fun _ => 0) (a_shut := fun _ => 0) (a_till := fun _ => 0) (a_failures := fun _ => 0) (a_successes := fun _ => 0) (a_credit := fun _ => 0) (a_settings := zi_se) (a_ringAt := fun _ => 0) (a_ringServer := fun _ => 0) (a_paths := fun _ => 0) (a_sets := fun _ => 0) (a_next := fun _ => 0) (a_servers := fun _ => 0) (a_homeSince := fun _ => 0) (a_latest := fun _ => 0) (a_sorted := fun _ => 0) (a_countedAt := fun _ => 0) (a_states := fun _ => 0) (a_clients := fun _ => 0) (a_path := fun _ => 0) (a_ranks := fun _ => 0) (a_keys := fun _ => 0) (a_works := fun _ => 0) (a_tried := fun _ => 0) (a_attempts := fun _ => 0) (a_server := fun _ => 0) (a_late := fun _ => 0) (a_came := fun _ => 0) (a_ends := fun _ => 0) (a_heap := fun _ => 0) (a_queue := fun _ => 0) (a_totals := fun _ => 0) hp 6 0 (by omega)
  simp only [zi_0] at hX
  refine hX _ (HG _ ?_)
  have hY := fun (post : SY → Prop) hp => zy_init294 (post := post) (g_time := 0) (f_routes := 0) (f_requests := 0) (g_waiting := 0) (a_weight := fun _ => 0) (a_failures := fun _ => 0) (a_credit := fun _ => 0) (a_successes := fun _ => 0) (b_sick := fun _ => 0) (b_well := fun _ => 0) (a_broken := fun _ => 0) (a_paths := fun _ => 0) (a_sets := fun _ => 0) (a_homeSince := fun _ => 0) (a_clients := fun _ => 0) (a_path := fun _ => 0) (a_keys := fun _ => 0) (a_works := fun _ => 0) (a_ranks := fun _ => 0) (b_state := fun _ => 0) (a_server := fun _ => 0) (a_attempts := fun _ => 0) (a_tried := fun _ => 0) (a_came := fun _ => 0) (b_ended := fun _ => 0) (b_ends := fun _ => 0) (a_late := fun _ => 0) (b_queue := fun _ => 0) (b_total := fun _ => 0) (a_latest := fun _ => 0) (b_sorted := fun _ => 0) hp 6 0 (by omega)
  simp only [zi_0] at hY
  refine hY _ ?_
  refine zj_R_in (N := 0) (T := 0) (D := 0) (h := 0) (np := 0) (rn := 0) (nd := nd) (pre := pre) (bf := 0) (L := []) (by omega) (by omega) (by omega) ?_ ⟨⟨List.nodup_nil, fun m hm => by simp at hm⟩, by simp, nI_0.symm, nI_0.symm, trivial, trivial⟩ (fun z => absurd z (show ¬ (1 : Int32) = 0 by decide))
  refine ⟨⟨rfl, rfl, rfl, rfl, rfl, rfl, rfl, rfl⟩, ⟨by omega, by omega, by omega, by omega, by omega⟩, ?_, ?_, ?_, ?_, ?_, ?_, ?_, ?_, ?_, ?_, ?_⟩
  · refine ⟨fun s hs => ⟨0, by omega, by omega, rfl⟩, fun s hs => ⟨1, by omega, by omega, zi_v hs⟩, fun s hs => Or.inl rfl, ⟨⟨0, by omega, by omega, rfl⟩, ⟨100, by omega, by omega, rfl⟩, ⟨1, by omega, by omega, rfl⟩, ⟨50, by omega, by omega, rfl⟩, ⟨10, by omega, by omega, rfl⟩, ⟨100, by omega, by omega, rfl⟩⟩,
      zr_0 (fun s j _ hj => ?_), by omega, P0, T0, hnd⟩
    have hj : j < (0 : Int32).toNatClampNeg := hj
    rw [sb_cl0] at hj
    omega
  · exact fun c hc => Or.inl (zi_v hc)
  · exact fun c hc => ⟨5, 10, 5, 0, by omega, by omega, by omega, by omega, by omega, zi_v hc, zi_v hc, zi_v hc, rfl, by rw [zi_v hc, zk_F0 (by omega)]; rfl⟩
  · exact fun q hq hN => by omega
  · exact fun q hq hN => by omega
  · exact ⟨by omega, fun i _ hi => by omega, fun v => by show 0 ≤ 1; omega, fun i hi => by omega, fun m hm => by unfold zw_W at hm; omega⟩
  · intro s hs
    rw [zi_run0]; rfl
  · exact fun s hs => ⟨0, 0, by omega, by omega, rfl, rfl, rfl, rfl, fun h => by omega, fun h => by omega, Or.inl ⟨rfl, zi_v hs⟩⟩
  · exact fun s hs => Or.inl ⟨rfl, zi_v hs⟩
  · exact ⟨rfl, rfl, fun j _ _ => rfl, show (0 : Int32) = ((0 : Int64) + 0 + 0 - 0).toInt32 by decide⟩
  · exact ⟨fun i j _ hj => by omega, fun v => rfl⟩
end
end
section
/-! questions -/
section
variable {f_points f_routes f_nodes f_durations f_requests f_heaped f_waiting f_now f_finished f_touched g_time g_waiting : Int32}
variable {a_weight a_slots a_pace a_running a_broken a_down a_good a_bad a_shut a_till a_failures a_successes a_credit a_settings a_ringAt a_ringServer a_paths a_sets a_next a_servers a_homes a_homeSince a_latest a_sorted a_capacity a_refill a_bucket a_countedAt a_states a_clients a_path a_ranks a_keys a_works a_tried a_attempts a_server a_late a_came a_ends a_heap a_queue b_till b_sick b_well b_up b_tokens b_state b_ended b_ends b_queue b_sorted : Nat → Int32}
variable {a_totals b_total : Nat → Int64}
theorem i_vc_time {k : Nat} {u : SX} {v : SY} (I : i_Rel k u v) (hk : k + 6 ≤ 3072) : wpX_time (fun r => wpY_time (fun r' => r' = r ∧ i_Rel (k + 6) u v) v) u := by
  refine zj_R_el (P := fun u v => wpX_time (fun r => wpY_time (fun r' => r' = r ∧ i_Rel (k + 6) u v) v) u) ?_ I
  intro f_points f_routes f_nodes f_durations f_requests f_heaped f_waiting f_now f_finished f_touched g_time g_waiting a_weight a_slots a_pace a_running a_broken a_down a_good a_bad a_shut a_till a_failures a_successes a_credit a_settings a_ringAt a_ringServer a_paths a_sets a_next a_servers a_homes a_homeSince a_latest a_sorted a_capacity a_refill a_bucket a_countedAt a_states a_clients a_path a_ranks a_keys a_works a_tried a_attempts a_server a_late a_came a_ends a_heap a_queue b_till b_sick b_well b_up b_tokens b_state b_ended b_ends b_queue b_sorted a_totals b_total N T D h np rn nd bf pre L h1 h2 hD C Q nr
  exact And.intro (C.1.2.2.1.trans C.1.2.1.symm) (zj_R_in (by omega) (by omega) hD C Q nr)
/-- one of the latest 32 -/
theorem zj_kept {N : Nat} (hN : N < 4096) (x : Int32) : ∃ r : Int32, (r = 0 ∨ (r = 1 ∧ ∃ m, zw_W N m ∧ x = nI m)) ∧
    (∀ {f_points f_routes f_nodes f_durations f_heaped f_waiting f_now f_finished f_touched : Int32} {a_weight a_slots a_pace a_running a_broken a_down a_good a_bad a_shut a_till a_failures a_successes a_credit a_settings a_ringAt a_ringServer a_paths a_sets a_next a_servers a_homes a_homeSince a_latest a_sorted a_capacity a_refill a_bucket a_countedAt a_states a_clients a_path a_ranks a_keys a_works a_tried a_attempts a_server a_late a_came a_ends a_heap a_queue : Nat → Int32} {a_totals : Nat → Int64} (post : Int32 → Prop), post r → wpX_isKept post (f_points, f_routes, f_nodes, f_durations, nI N, f_heaped, f_waiting, f_now, f_finished, f_touched, a_weight, a_slots, a_pace, a_running, a_broken, a_down, a_good, a_bad, a_shut, a_till, a_failures, a_successes, a_credit, a_settings, a_ringAt, a_ringServer, a_paths, a_sets, a_next, a_servers, a_homes, a_homeSince, a_latest, a_sorted, a_capacity, a_refill, a_bucket, a_countedAt, a_states, a_clients, a_path, a_ranks, a_keys, a_works, a_tried, a_attempts, a_server, a_late, a_came, a_ends, a_heap, a_queue, a_totals) x) ∧ (∀ {g_time f_routes g_waiting : Int32} {a_weight a_slots a_pace b_till a_failures a_credit a_successes b_sick b_well a_broken b_up a_paths a_sets a_settings a_capacity a_refill b_tokens a_homes a_homeSince a_clients a_path a_keys a_works a_ranks b_state a_server a_attempts a_tried a_came b_ended b_ends a_late b_queue a_latest b_sorted : Nat → Int32} {b_total : Nat → Int64} (post : Int32 → Prop), post r → wpY_isRequest post (g_time, f_routes, nI N, g_waiting, a_weight, a_slots, a_pace, b_till, a_failures, a_credit, a_successes, b_sick, b_well, a_broken, b_up, a_paths, a_sets, a_settings, a_capacity, a_refill, b_tokens, a_homes, a_homeSince, a_clients, a_path, a_keys, a_works, a_ranks, b_state, a_server, a_attempts, a_tried, a_came, b_ended, b_ends, a_late, b_queue, b_total, a_latest, b_sorted) x) := by
  by_cases h0 : x < 0
  · refine ⟨0, Or.inl rfl, ?_, ?_⟩
    · intros
      rename_i post hp
      exact br_t h0 hp
    · intros
      rename_i post hp
      exact br_t h0 hp
  obtain ⟨m, hm, rfl⟩ := nI_of h0
  by_cases h1 : N ≤ m
  · have h1' := nI_le h1 hm
    refine ⟨0, Or.inl rfl, ?_, ?_⟩
    · intros
      rename_i post hp
      exact br_f h0 (br_t h1' hp)
    · intros
      rename_i post hp
      exact br_f h0 (br_t h1' hp)
  have h1' : ¬ nI N ≤ nI m := nI_ge (by omega) (by omega)
  have hlt : nI m < nI N - 32 ↔ m + 32 < N := by
    have e : (nI N - 32).toInt = (N : Int) - 32 := pk_sub_toInt (a := N) (b := 32) (by omega) (by omega)
    rw [za_lt, e, nI_toInt hm]
    omega
  by_cases h2 : m + 32 < N
  · refine ⟨0, Or.inl rfl, ?_, ?_⟩
    · intros
      rename_i post hp
      exact br_f h0 (br_f h1' (br_t (hlt.mpr h2) hp))
    · intros
      rename_i post hp
      exact br_f h0 (br_f h1' (br_t (hlt.mpr h2) hp))
  · refine ⟨1, Or.inr ⟨rfl, m, ⟨by omega, by omega⟩, rfl⟩, ?_, ?_⟩
    · intros
      rename_i post hp
      exact br_f h0 (br_f h1' (br_f (fun z => h2 (hlt.mp z)) hp))
    · intros
      rename_i post hp
      exact br_f h0 (br_f h1' (br_f (fun z => h2 (hlt.mp z)) hp))
theorem i_vc_state {k : Nat} {u : SX} {v : SY} (I : i_Rel k u v) (hk : k + 6 ≤ 3072) (v1 : Int32) : wpX_state (fun r => wpY_state (fun r' => r' = r ∧ i_Rel (k + 6) u v) v v1) u v1 := by
  refine zj_R_el (P := fun u v => wpX_state (fun r => wpY_state (fun r' => r' = r ∧ i_Rel (k + 6) u v) v v1) u v1) ?_ I
  intro f_points f_routes f_nodes f_durations f_requests f_heaped f_waiting f_now f_finished f_touched g_time g_waiting a_weight a_slots a_pace a_running a_broken a_down a_good a_bad a_shut a_till a_failures a_successes a_credit a_settings a_ringAt a_ringServer a_paths a_sets a_next a_servers a_homes a_homeSince a_latest a_sorted a_capacity a_refill a_bucket a_countedAt a_states a_clients a_path a_ranks a_keys a_works a_tried a_attempts a_server a_late a_came a_ends a_heap a_queue b_till b_sick b_well b_up b_tokens b_state b_ended b_ends b_queue b_sorted a_totals b_total N T D h np rn nd bf pre L h1 h2 hD C Q nr
  have I' : i_Rel (k + 6) (f_points, f_routes, f_nodes, f_durations, f_requests, f_heaped, f_waiting, f_now, f_finished, f_touched, a_weight, a_slots, a_pace, a_running, a_broken, a_down, a_good, a_bad, a_shut, a_till, a_failures, a_successes, a_credit, a_settings, a_ringAt, a_ringServer, a_paths, a_sets, a_next, a_servers, a_homes, a_homeSince, a_latest, a_sorted, a_capacity, a_refill, a_bucket, a_countedAt, a_states, a_clients, a_path, a_ranks, a_keys, a_works, a_tried, a_attempts, a_server, a_late, a_came, a_ends, a_heap, a_queue, a_totals) (g_time, f_routes, f_requests, g_waiting, a_weight, a_slots, a_pace, b_till, a_failures, a_credit, a_successes, b_sick, b_well, a_broken, b_up, a_paths, a_sets, a_settings, a_capacity, a_refill, b_tokens, a_homes, a_homeSince, a_clients, a_path, a_keys, a_works, a_ranks, b_state, a_server, a_attempts, a_tried, a_came, b_ended, b_ends, a_late, b_queue, b_total, a_latest, b_sorted) := zj_R_in (by omega) (by omega) hD C Q nr
  obtain ⟨⟨rfl, rfl, rfl, rfl, rfl, rfl, rfl, rfl⟩, ⟨hN, hT, hTc, hTe, hD2⟩, cf, hmm, tk, sl, en, hp, ru, ck, bk, to, rm⟩ := C
  obtain ⟨r, hr, HX, HY⟩ := zj_kept hN v1
  unfold wpX_state
  refine HX _ ?_
  rcases hr with rfl | ⟨rfl, m, hm, rfl⟩
  · refine br_t rfl ?_
    unfold wpY_state
    exact HY _ (br_t rfl ⟨rfl, I'⟩)
  · have hmN : m < N := hm.1
    have m31 : nI m &&& 31 = nI (m % 32) := za_m31 (by omega)
    have r32 : nI m - nI m / 32 * 32 = nI (m % 32) := za_r32 (by omega)
    have iq : vp_in (nI (m % 32)) 32 := vp_in_nI (by omega) (by omega)
    refine br_f (by decide) ⟨by rw [m31]; exact iq, ?_⟩
    unfold wpY_state
    refine HY _ (br_f (by decide) ⟨by decide, by rw [r32]; exact iq, ?_, I'⟩)
    rw [m31, r32]
theorem i_vc_about {k : Nat} {u : SX} {v : SY} (I : i_Rel k u v) (hk : k + 6 ≤ 3072) (v1 : Int32) (v2 : Int32) : wpX_about (fun r => wpY_about (fun r' => r' = r ∧ i_Rel (k + 6) u v) v v1 v2) u v1 v2 := by
  refine zj_R_el (P := fun u v => wpX_about (fun r => wpY_about (fun r' => r' = r ∧ i_Rel (k + 6) u v) v v1 v2) u v1 v2) ?_ I
  intro f_points f_routes f_nodes f_durations f_requests f_heaped f_waiting f_now f_finished f_touched g_time g_waiting a_weight a_slots a_pace a_running a_broken a_down a_good a_bad a_shut a_till a_failures a_successes a_credit a_settings a_ringAt a_ringServer a_paths a_sets a_next a_servers a_homes a_homeSince a_latest a_sorted a_capacity a_refill a_bucket a_countedAt a_states a_clients a_path a_ranks a_keys a_works a_tried a_attempts a_server a_late a_came a_ends a_heap a_queue b_till b_sick b_well b_up b_tokens b_state b_ended b_ends b_queue b_sorted a_totals b_total N T D h np rn nd bf pre L h1 h2 hD C Q nr
  have I' : i_Rel (k + 6) (f_points, f_routes, f_nodes, f_durations, f_requests, f_heaped, f_waiting, f_now, f_finished, f_touched, a_weight, a_slots, a_pace, a_running, a_broken, a_down, a_good, a_bad, a_shut, a_till, a_failures, a_successes, a_credit, a_settings, a_ringAt, a_ringServer, a_paths, a_sets, a_next, a_servers, a_homes, a_homeSince, a_latest, a_sorted, a_capacity, a_refill, a_bucket, a_countedAt, a_states, a_clients, a_path, a_ranks, a_keys, a_works, a_tried, a_attempts, a_server, a_late, a_came, a_ends, a_heap, a_queue, a_totals) (g_time, f_routes, f_requests, g_waiting, a_weight, a_slots, a_pace, b_till, a_failures, a_credit, a_successes, b_sick, b_well, a_broken, b_up, a_paths, a_sets, a_settings, a_capacity, a_refill, b_tokens, a_homes, a_homeSince, a_clients, a_path, a_keys, a_works, a_ranks, b_state, a_server, a_attempts, a_tried, a_came, b_ended, b_ends, a_late, b_queue, b_total, a_latest, b_sorted) := zj_R_in (by omega) (by omega) hD C Q nr
  obtain ⟨⟨rfl, rfl, rfl, rfl, rfl, rfl, rfl, rfl⟩, ⟨hN, hT, hTc, hTe, hD2⟩, cf, hmm, tk, sl, en, hp, ru, ck, bk, to, rm⟩ := C
  obtain ⟨r, hr, HX, HY⟩ := zj_kept hN v1
  unfold wpX_about
  refine HX _ ?_
  rcases hr with rfl | ⟨rfl, m, hm, rfl⟩
  · refine br_t rfl ?_
    unfold wpY_about
    exact HY _ (br_t rfl ⟨rfl, I'⟩)
  · have hmN : m < N := hm.1
    have m31 : nI m &&& 31 = nI (m % 32) := za_m31 (by omega)
    have r32 : nI m - nI m / 32 * 32 = nI (m % 32) := za_r32 (by omega)
    have iq : vp_in (nI (m % 32)) 32 := vp_in_nI (by omega) (by omega)
    have cq : (nI (m % 32)).toNatClampNeg = m % 32 := nI_clamp (by omega)
    have n10 : ¬ (1 : Int32) = 0 := by decide
    have n32 : ¬ (32 : Int32) = 0 := by decide
    have out : ¬ za_rg v2 0 3 → wpY_about (fun r' => r' = -2 ∧ i_Rel (k + 6) (nI np, nI rn, f_nodes, nI (zj_dn D), nI N, nI h, f_waiting, nI T, f_finished, f_touched, a_weight, a_slots, a_pace, a_running, a_broken, a_down, a_good, a_bad, a_shut, a_till, a_failures, a_successes, a_credit, a_settings, a_ringAt, a_ringServer, a_paths, a_sets, a_next, a_servers, a_homes, a_homeSince, a_latest, a_sorted, a_capacity, a_refill, a_bucket, a_countedAt, a_states, a_clients, a_path, a_ranks, a_keys, a_works, a_tried, a_attempts, a_server, a_late, a_came, a_ends, a_heap, a_queue, a_totals) (nI T, nI rn, nI N, g_waiting, a_weight, a_slots, a_pace, b_till, a_failures, a_credit, a_successes, b_sick, b_well, a_broken, b_up, a_paths, a_sets, a_settings, a_capacity, a_refill, b_tokens, a_homes, a_homeSince, a_clients, a_path, a_keys, a_works, a_ranks, a_states, a_server, a_attempts, a_tried, a_came, b_ended, b_ends, a_late, b_queue, b_total, a_latest, b_sorted)) (nI T, nI rn, nI N, g_waiting, a_weight, a_slots, a_pace, b_till, a_failures, a_credit, a_successes, b_sick, b_well, a_broken, b_up, a_paths, a_sets, a_settings, a_capacity, a_refill, b_tokens, a_homes, a_homeSince, a_clients, a_path, a_keys, a_works, a_ranks, a_states, a_server, a_attempts, a_tried, a_came, b_ended, b_ends, a_late, b_queue, b_total, a_latest, b_sorted) (nI m) v2 := by
      intro hz
      unfold wpY_about
      exact HY _ (br_f n10 (zy_w0 0 3 hz (by decide) (by decide) (br_t rfl ⟨rfl, I'⟩)))
    refine br_f n10 (nm_r m31 ?_)
    by_cases h0 : v2 < 0
    · exact br_t h0 (out (fun z => ((za_rg_iff (by decide) (by decide)).mp z).1 h0))
    refine br_f h0 ?_
    by_cases h3 : (3 : Int32) < v2
    · exact br_t h3 (out (fun z => ((za_rg_iff (by decide) (by decide)).mp z).2 h3))
    refine br_f h3 ?_
    have hrg : za_rg v2 0 3 := (za_rg_iff (by decide) (by decide)).mpr ⟨h0, h3⟩
    have inn : ∀ {r : Int32}, ((v2 = 0 → (a_server (m % 32) = r)) ∧ (¬ v2 = 0 → ((v2 = 1 → a_attempts (m % 32) = r) ∧ (¬ v2 = 1 → ((v2 = 2 → a_came (m % 32) = r) ∧ (¬ v2 = 2 → b_ended (m % 32) = r)))))) →
        wpY_about (fun r' => r' = r ∧ i_Rel (k + 6) (nI np, nI rn, f_nodes, nI (zj_dn D), nI N, nI h, f_waiting, nI T, f_finished, f_touched, a_weight, a_slots, a_pace, a_running, a_broken, a_down, a_good, a_bad, a_shut, a_till, a_failures, a_successes, a_credit, a_settings, a_ringAt, a_ringServer, a_paths, a_sets, a_next, a_servers, a_homes, a_homeSince, a_latest, a_sorted, a_capacity, a_refill, a_bucket, a_countedAt, a_states, a_clients, a_path, a_ranks, a_keys, a_works, a_tried, a_attempts, a_server, a_late, a_came, a_ends, a_heap, a_queue, a_totals) (nI T, nI rn, nI N, g_waiting, a_weight, a_slots, a_pace, b_till, a_failures, a_credit, a_successes, b_sick, b_well, a_broken, b_up, a_paths, a_sets, a_settings, a_capacity, a_refill, b_tokens, a_homes, a_homeSince, a_clients, a_path, a_keys, a_works, a_ranks, a_states, a_server, a_attempts, a_tried, a_came, b_ended, b_ends, a_late, b_queue, b_total, a_latest, b_sorted)) (nI T, nI rn, nI N, g_waiting, a_weight, a_slots, a_pace, b_till, a_failures, a_credit, a_successes, b_sick, b_well, a_broken, b_up, a_paths, a_sets, a_settings, a_capacity, a_refill, b_tokens, a_homes, a_homeSince, a_clients, a_path, a_keys, a_works, a_ranks, a_states, a_server, a_attempts, a_tried, a_came, b_ended, b_ends, a_late, b_queue, b_total, a_latest, b_sorted) (nI m) v2 := by
      intro r hr
      unfold wpY_about
      refine HY _ (br_f n10 (zy_w1 0 3 hrg (by decide) (by decide) (br_f n10 ⟨n32, nm_r r32 ?_⟩)))
      rw [cq]
      exact br_c (fun a => ⟨iq, hr.1 a, I'⟩) (fun a => br_c (fun b => ⟨iq, (hr.2 a).1 b, I'⟩) (fun b => br_c (fun c => ⟨iq, ((hr.2 a).2 b).1 c, I'⟩) (fun c => ⟨iq, ((hr.2 a).2 b).2 c, I'⟩)))
    rw [cq]
    by_cases e0 : v2 = 0
    · exact br_t e0 ⟨iq, inn ⟨fun _ => rfl, fun z => absurd e0 z⟩⟩
    refine br_f e0 ?_
    by_cases e1 : v2 = 1
    · exact br_t e1 ⟨iq, inn ⟨fun z => absurd z e0, fun _ => ⟨fun _ => rfl, fun z => absurd e1 z⟩⟩⟩
    refine br_f e1 ?_
    by_cases e2 : v2 = 2
    · exact br_t e2 ⟨iq, inn ⟨fun z => absurd z e0, fun _ => ⟨fun z => absurd z e1, fun _ => ⟨fun _ => rfl, fun z => absurd e2 z⟩⟩⟩⟩
    refine br_f e2 (br_c (fun e3 => ⟨iq, ?_⟩) (fun _ => trivial))
    have E := en (m % 32) (Nat.mod_lt _ (by decide)) (zw_q hm)
    refine br_c (fun hle => ?_) (fun hle => ⟨iq, ?_⟩)
    · exact inn ⟨fun z => absurd z e0, fun _ => ⟨fun z => absurd z e1, fun _ => ⟨fun z => absurd z e2, fun _ => E.2.2 (Int32.not_lt.mpr hle)⟩⟩⟩
    · exact inn ⟨fun z => absurd z e0, fun _ => ⟨fun z => absurd z e1, fun _ => ⟨fun z => absurd z e2, fun _ => (E.2.1 (Int32.not_le.mp hle)).symm⟩⟩⟩
theorem i_vc_at {k : Nat} {u : SX} {v : SY} (I : i_Rel k u v) (hk : k + 6 ≤ 3072) (v1 : Int32) (v2 : Int32) : wpX_at (fun r => wpY_at (fun r' => r' = r ∧ i_Rel (k + 6) u v) v v1 v2) u v1 v2 := by
  refine zj_R_el (P := fun u v => wpX_at (fun r => wpY_at (fun r' => r' = r ∧ i_Rel (k + 6) u v) v v1 v2) u v1 v2) ?_ I
  intro f_points f_routes f_nodes f_durations f_requests f_heaped f_waiting f_now f_finished f_touched g_time g_waiting a_weight a_slots a_pace a_running a_broken a_down a_good a_bad a_shut a_till a_failures a_successes a_credit a_settings a_ringAt a_ringServer a_paths a_sets a_next a_servers a_homes a_homeSince a_latest a_sorted a_capacity a_refill a_bucket a_countedAt a_states a_clients a_path a_ranks a_keys a_works a_tried a_attempts a_server a_late a_came a_ends a_heap a_queue b_till b_sick b_well b_up b_tokens b_state b_ended b_ends b_queue b_sorted a_totals b_total N T D h np rn nd bf pre L h1 h2 hD C Q nr
  have I' : i_Rel (k + 6) (f_points, f_routes, f_nodes, f_durations, f_requests, f_heaped, f_waiting, f_now, f_finished, f_touched, a_weight, a_slots, a_pace, a_running, a_broken, a_down, a_good, a_bad, a_shut, a_till, a_failures, a_successes, a_credit, a_settings, a_ringAt, a_ringServer, a_paths, a_sets, a_next, a_servers, a_homes, a_homeSince, a_latest, a_sorted, a_capacity, a_refill, a_bucket, a_countedAt, a_states, a_clients, a_path, a_ranks, a_keys, a_works, a_tried, a_attempts, a_server, a_late, a_came, a_ends, a_heap, a_queue, a_totals) (g_time, f_routes, f_requests, g_waiting, a_weight, a_slots, a_pace, b_till, a_failures, a_credit, a_successes, b_sick, b_well, a_broken, b_up, a_paths, a_sets, a_settings, a_capacity, a_refill, b_tokens, a_homes, a_homeSince, a_clients, a_path, a_keys, a_works, a_ranks, b_state, a_server, a_attempts, a_tried, a_came, b_ended, b_ends, a_late, b_queue, b_total, a_latest, b_sorted) := zj_R_in (by omega) (by omega) hD C Q nr
  obtain ⟨⟨rfl, rfl, rfl, rfl, rfl, rfl, rfl, rfl⟩, ⟨hN, hT, hTc, hTe, hD2⟩, cf, hmm, tk, sl, en, hp, ru, ck, bk, to, rm⟩ := C
  by_cases hs : za_rg v1 0 5
  · have hs' := hs
    obtain ⟨s, _, hs5, rfl⟩ := hs'
    have is : vp_in (nI s) 6 := vp_in_nI (by omega) (by omega)
    have cs : (nI s).toNatClampNeg = s := nI_clamp (by omega)
    have n10 : ¬ (1 : Int32) = 0 := by decide
    unfold wpX_at
    refine zx_s1 hs (br_f n10 ?_)
    have inn : ∀ {post : Int32 → Prop}, ((v2 < 0 → post (-1)) ∧ (¬ v2 < 0 → ((5 < v2 → post (-1)) ∧ (¬ 5 < v2 → ((v2 = 0 → post (a_running s)) ∧ (¬ v2 = 0 → ((v2 = 1 → post (b_up s)) ∧ (¬ v2 = 1 → ((v2 = 2 → ((0 ≤ b_till s → ((b_till s ≤ nI T → post 2) ∧ (¬ b_till s ≤ nI T → post 1))) ∧ (¬ 0 ≤ b_till s → post 0))) ∧ (¬ v2 = 2 → ((v2 = 3 → post (a_failures s)) ∧ (¬ v2 = 3 → ((v2 = 4 → post (a_successes s)) ∧ (¬ v2 = 4 → (v2 = 5 → post (a_credit s + 1000)))))))))))))))) →
        wpY_at post (nI T, nI rn, nI N, g_waiting, a_weight, a_slots, a_pace, b_till, a_failures, a_credit, a_successes, b_sick, b_well, a_broken, b_up, a_paths, a_sets, a_settings, a_capacity, a_refill, b_tokens, a_homes, a_homeSince, a_clients, a_path, a_keys, a_works, a_ranks, a_states, a_server, a_attempts, a_tried, a_came, b_ended, b_ends, a_late, b_queue, b_total, a_latest, b_sorted) (nI s) v2 := by
      intro post hp
      unfold wpY_at
      refine zy_w1 0 5 hs (by decide) (by decide) (br_f n10 ?_)
      rw [cs]
      refine br_c (fun a => hp.1 a) (fun a => br_c (fun b => (hp.2 a).1 b) (fun b => ?_))
      have hp := (hp.2 a).2 b
      refine br_c (fun c => zy_running (by omega) ?_) (fun c => ?_)
      · rw [← ru s (by omega)]; exact hp.1 c
      have hp := hp.2 c
      refine br_c (fun d => ⟨is, ?_⟩) (fun d => ?_)
      · have hu := zj_ck_ud ck s (by omega)
        have hp := hp.1 d
        rcases hu with ⟨_, y⟩ | ⟨_, y⟩
        · rw [y] at hp
          exact br_f (by rw [y]; exact n10) hp
        · rw [y] at hp
          exact br_t y hp
      have hp := hp.2 d
      refine br_c (fun e => ⟨is, br_c (fun f => ⟨is, (hp.1 e).1 f⟩) (fun f => (hp.1 e).2 f)⟩) (fun e => ?_)
      have hp := hp.2 e
      refine br_c (fun f => ⟨is, hp.1 f⟩) (fun f => ?_)
      have hp := hp.2 f
      refine br_c (fun g => ⟨is, hp.1 g⟩) (fun g => ?_)
      exact br_c (fun h => ⟨is, hp.2 g h⟩) (fun _ => trivial)
    rw [cs]
    refine br_c (fun a => ?_) (fun a => ?_)
    · exact inn ⟨fun _ => ⟨rfl, I'⟩, fun z => absurd a z⟩
    refine br_c (fun b => ?_) (fun b => ?_)
    · exact inn ⟨fun z => absurd z a, fun _ => ⟨fun _ => ⟨rfl, I'⟩, fun z => absurd b z⟩⟩
    refine br_c (fun c => ⟨is, ?_⟩) (fun c => ?_)
    · exact inn ⟨fun z => absurd z a, fun _ => ⟨fun z => absurd z b, fun _ => ⟨fun _ => ⟨rfl, I'⟩, fun z => absurd c z⟩⟩⟩
    refine br_c (fun d => ⟨is, ?_⟩) (fun d => ?_)
    · rcases zj_ck_ud ck s (by omega) with ⟨y1, y2⟩ | ⟨y1, y2⟩
      · exact br_t y1 (inn ⟨fun z => absurd z a, fun _ => ⟨fun z => absurd z b, fun _ => ⟨fun z => absurd z c, fun _ => ⟨fun _ => ⟨y2, I'⟩, fun z => absurd d z⟩⟩⟩⟩)
      · exact br_f (by rw [y1]; exact n10) (inn ⟨fun z => absurd z a, fun _ => ⟨fun z => absurd z b, fun _ => ⟨fun z => absurd z c, fun _ => ⟨fun _ => ⟨y2, I'⟩, fun z => absurd d z⟩⟩⟩⟩)
    refine br_c (fun e => ⟨is, ?_⟩) (fun e => ?_)
    · rcases bk s (by omega) with ⟨y1, y2⟩ | ⟨y1, y2, t, ht, y3⟩
      · refine br_t y1 (inn ⟨fun z => absurd z a, fun _ => ⟨fun z => absurd z b, fun _ => ⟨fun z => absurd z c, fun _ => ⟨fun z => absurd z d, fun _ => ⟨fun _ => ?_, fun z => absurd e z⟩⟩⟩⟩⟩)
        rw [y2]
        exact br_f za_m1le ⟨rfl, I'⟩
      · refine br_f (by rw [y1]; exact n10) ⟨is, ?_⟩
        refine br_c (fun f => ?_) (fun f => ?_)
        · refine inn ⟨fun z => absurd z a, fun _ => ⟨fun z => absurd z b, fun _ => ⟨fun z => absurd z c, fun _ => ⟨fun z => absurd z d, fun _ => ⟨fun _ => ?_, fun z => absurd e z⟩⟩⟩⟩⟩
          rw [y2]
          exact br_t (by rw [y3]; exact nI_pos' (by omega)) (br_t f ⟨rfl, I'⟩)
        · refine inn ⟨fun z => absurd z a, fun _ => ⟨fun z => absurd z b, fun _ => ⟨fun z => absurd z c, fun _ => ⟨fun z => absurd z d, fun _ => ⟨fun _ => ?_, fun z => absurd e z⟩⟩⟩⟩⟩
          rw [y2]
          exact br_t (by rw [y3]; exact nI_pos' (by omega)) (br_f f ⟨rfl, I'⟩)
    refine br_c (fun f => ⟨is, ?_⟩) (fun f => ?_)
    · exact inn ⟨fun z => absurd z a, fun _ => ⟨fun z => absurd z b, fun _ => ⟨fun z => absurd z c, fun _ => ⟨fun z => absurd z d, fun _ => ⟨fun z => absurd z e, fun _ => ⟨fun _ => ⟨rfl, I'⟩, fun z => absurd f z⟩⟩⟩⟩⟩⟩
    refine br_c (fun g => ⟨is, ?_⟩) (fun g => ?_)
    · exact inn ⟨fun z => absurd z a, fun _ => ⟨fun z => absurd z b, fun _ => ⟨fun z => absurd z c, fun _ => ⟨fun z => absurd z d, fun _ => ⟨fun z => absurd z e, fun _ => ⟨fun z => absurd z f, fun _ => ⟨fun _ => ⟨rfl, I'⟩, fun z => absurd g z⟩⟩⟩⟩⟩⟩⟩
    refine br_c (fun hh => ⟨is, ?_⟩) (fun _ => trivial)
    exact inn ⟨fun z => absurd z a, fun _ => ⟨fun z => absurd z b, fun _ => ⟨fun z => absurd z c, fun _ => ⟨fun z => absurd z d, fun _ => ⟨fun z => absurd z e, fun _ => ⟨fun z => absurd z f, fun _ => ⟨fun z => absurd z g, fun _ _ => ⟨rfl, I'⟩⟩⟩⟩⟩⟩⟩⟩
  · unfold wpX_at
    refine zx_s0 hs (br_t rfl ?_)
    unfold wpY_at
    exact zy_w0 0 5 hs (by decide) (by decide) (br_t rfl ⟨rfl, I'⟩)
theorem zq_eq {q q' : Nat → Int32} : ∀ {L : List Nat} {o i : Nat}, zq_S q o L → zq_S q' o L → i < L.length → q (o + i) = q' (o + i)
  | [], _, _, _, _, h => by simp at h
  | m :: L, o, 0, H, H', _ => H.1.trans H'.1.symm
  | m :: L, o, i + 1, H, H', h => by
    have := zq_eq (L := L) (o := o + 1) (i := i) H.2 H'.2 (by simpa using h)
    rw [show o + (i + 1) = o + 1 + i by omega]; exact this
theorem i_vc_queued {k : Nat} {u : SX} {v : SY} (I : i_Rel k u v) (hk : k + 6 ≤ 3072) (v1 : Int32) : wpX_queued (fun r => wpY_queued (fun r' => r' = r ∧ i_Rel (k + 6) u v) v v1) u v1 := by
  refine zj_R_el (P := fun u v => wpX_queued (fun r => wpY_queued (fun r' => r' = r ∧ i_Rel (k + 6) u v) v v1) u v1) ?_ I
  intro f_points f_routes f_nodes f_durations f_requests f_heaped f_waiting f_now f_finished f_touched g_time g_waiting a_weight a_slots a_pace a_running a_broken a_down a_good a_bad a_shut a_till a_failures a_successes a_credit a_settings a_ringAt a_ringServer a_paths a_sets a_next a_servers a_homes a_homeSince a_latest a_sorted a_capacity a_refill a_bucket a_countedAt a_states a_clients a_path a_ranks a_keys a_works a_tried a_attempts a_server a_late a_came a_ends a_heap a_queue b_till b_sick b_well b_up b_tokens b_state b_ended b_ends b_queue b_sorted a_totals b_total N T D h np rn nd bf pre L h1 h2 hD C Q nr
  have I' : i_Rel (k + 6) (f_points, f_routes, f_nodes, f_durations, f_requests, f_heaped, f_waiting, f_now, f_finished, f_touched, a_weight, a_slots, a_pace, a_running, a_broken, a_down, a_good, a_bad, a_shut, a_till, a_failures, a_successes, a_credit, a_settings, a_ringAt, a_ringServer, a_paths, a_sets, a_next, a_servers, a_homes, a_homeSince, a_latest, a_sorted, a_capacity, a_refill, a_bucket, a_countedAt, a_states, a_clients, a_path, a_ranks, a_keys, a_works, a_tried, a_attempts, a_server, a_late, a_came, a_ends, a_heap, a_queue, a_totals) (g_time, f_routes, f_requests, g_waiting, a_weight, a_slots, a_pace, b_till, a_failures, a_credit, a_successes, b_sick, b_well, a_broken, b_up, a_paths, a_sets, a_settings, a_capacity, a_refill, b_tokens, a_homes, a_homeSince, a_clients, a_path, a_keys, a_works, a_ranks, b_state, a_server, a_attempts, a_tried, a_came, b_ended, b_ends, a_late, b_queue, b_total, a_latest, b_sorted) := zj_R_in (by omega) (by omega) hD C Q nr
  obtain ⟨qql, ql, qx, qy, q1, q2⟩ := Q
  subst qx qy
  by_cases hm : v1 = -1
  · exact br_t hm (br_t hm ⟨rfl, I'⟩)
  refine br_f hm ?_
  have n10 : ¬ (1 : Int32) = 0 := by decide
  by_cases h0 : v1 < 0
  · refine br_t h0 (br_f hm (br_t h0 (br_t rfl ⟨rfl, I'⟩)))
  obtain ⟨j, hj, rfl⟩ := nI_of h0
  refine br_f h0 ?_
  by_cases hw : L.length ≤ j
  · refine br_t (nI_le hw hj) (br_f hm (br_f h0 (br_t ?_ (br_t rfl ⟨rfl, I'⟩))))
    rcases Nat.eq_zero_or_pos L.length with z | z
    · rw [z, za_lt, nI_toInt hj, show (nI 0 - 1).toInt = -1 from by decide]; omega
    · rw [za_p1 z]; exact nI_lt (by omega) hj
  · refine br_f (nI_ge (by omega) (by omega)) ⟨vp_in_nI (by omega) (by omega), br_f hm (br_f h0 (br_f ?_ (br_f n10 ⟨vp_in_nI (by omega) (by omega), ?_, I'⟩)))⟩
    · rw [za_p1 (by omega)]; exact nI_nlt (by omega) (by omega)
    · rw [nI_clamp hj]
      have := zq_eq q2 q1 (i := j) (by omega)
      rwa [Nat.zero_add] at this
theorem i_vc_total {k : Nat} {u : SX} {v : SY} (I : i_Rel k u v) (hk : k + 6 ≤ 3072) (v1 : Int32) : wpX_total (fun r => wpY_total (fun r' => r' = r ∧ i_Rel (k + 6) u v) v v1) u v1 := by
  refine zj_R_el (P := fun u v => wpX_total (fun r => wpY_total (fun r' => r' = r ∧ i_Rel (k + 6) u v) v v1) u v1) ?_ I
  intro f_points f_routes f_nodes f_durations f_requests f_heaped f_waiting f_now f_finished f_touched g_time g_waiting a_weight a_slots a_pace a_running a_broken a_down a_good a_bad a_shut a_till a_failures a_successes a_credit a_settings a_ringAt a_ringServer a_paths a_sets a_next a_servers a_homes a_homeSince a_latest a_sorted a_capacity a_refill a_bucket a_countedAt a_states a_clients a_path a_ranks a_keys a_works a_tried a_attempts a_server a_late a_came a_ends a_heap a_queue b_till b_sick b_well b_up b_tokens b_state b_ended b_ends b_queue b_sorted a_totals b_total N T D h np rn nd bf pre L h1 h2 hD C Q nr
  have I' : i_Rel (k + 6) (f_points, f_routes, f_nodes, f_durations, f_requests, f_heaped, f_waiting, f_now, f_finished, f_touched, a_weight, a_slots, a_pace, a_running, a_broken, a_down, a_good, a_bad, a_shut, a_till, a_failures, a_successes, a_credit, a_settings, a_ringAt, a_ringServer, a_paths, a_sets, a_next, a_servers, a_homes, a_homeSince, a_latest, a_sorted, a_capacity, a_refill, a_bucket, a_countedAt, a_states, a_clients, a_path, a_ranks, a_keys, a_works, a_tried, a_attempts, a_server, a_late, a_came, a_ends, a_heap, a_queue, a_totals) (g_time, f_routes, f_requests, g_waiting, a_weight, a_slots, a_pace, b_till, a_failures, a_credit, a_successes, b_sick, b_well, a_broken, b_up, a_paths, a_sets, a_settings, a_capacity, a_refill, b_tokens, a_homes, a_homeSince, a_clients, a_path, a_keys, a_works, a_ranks, b_state, a_server, a_attempts, a_tried, a_came, b_ended, b_ends, a_late, b_queue, b_total, a_latest, b_sorted) := zj_R_in (by omega) (by omega) hD C Q nr
  obtain ⟨⟨rfl, rfl, rfl, rfl, rfl, rfl, rfl, rfl⟩, ⟨hN, hT, hTc, hTe, hD2⟩, cf, hmm, tk, sl, en, hp, ru, ck, bk, to, rm⟩ := C
  have n10 : ¬ (1 : Int32) = 0 := by decide
  by_cases hz : za_rg v1 0 6
  · have hz' := hz
    obtain ⟨j, _, hj, rfl⟩ := hz'
    have cj : (nI j).toNatClampNeg = j := nI_clamp (by omega)
    have ij : vp_in (nI j) 7 := vp_in_nI (by omega) (by omega)
    have hY : ∀ {post : Int64 → Prop}, post (b_total j) → wpY_total post (nI T, nI rn, nI N, g_waiting, a_weight, a_slots, a_pace, b_till, a_failures, a_credit, a_successes, b_sick, b_well, a_broken, b_up, a_paths, a_sets, a_settings, a_capacity, a_refill, b_tokens, a_homes, a_homeSince, a_clients, a_path, a_keys, a_works, a_ranks, a_states, a_server, a_attempts, a_tried, a_came, b_ended, b_ends, a_late, b_queue, b_total, a_latest, b_sorted) (nI j) := by
      intro post hp
      unfold wpY_total
      refine zy_w1 0 6 hz (by decide) (by decide) (br_f n10 ⟨ij, ?_⟩)
      rw [cj]; exact hp
    refine br_f (nI_pos (by omega)) (br_t (nI_le (b := 6) hj (by decide)) ?_)
    rcases Nat.eq_zero_or_pos j with z | z
    · subst z
      refine br_t nI_0 (hY ⟨?_, I'⟩)
      rw [to.1, nI_l (by omega)]
    · refine br_f (nI_ne0 z (by omega)) ⟨ij, hY ⟨?_, I'⟩⟩
      rw [cj, to.2.2.1 j (by omega) (by omega)]
  · have hY : ∀ {post : Int64 → Prop}, post (-1) → wpY_total post (nI T, nI rn, nI N, g_waiting, a_weight, a_slots, a_pace, b_till, a_failures, a_credit, a_successes, b_sick, b_well, a_broken, b_up, a_paths, a_sets, a_settings, a_capacity, a_refill, b_tokens, a_homes, a_homeSince, a_clients, a_path, a_keys, a_works, a_ranks, a_states, a_server, a_attempts, a_tried, a_came, b_ended, b_ends, a_late, b_queue, b_total, a_latest, b_sorted) v1 := by
      intro post hp
      unfold wpY_total
      exact zy_w0 0 6 hz (by decide) (by decide) (br_t rfl hp)
    by_cases h0 : v1 < 0
    · exact br_t h0 (hY ⟨rfl, I'⟩)
    · refine br_f h0 (br_f (fun z => hz ((za_rg_iff (by decide) (by decide)).mpr ⟨h0, Int32.not_lt.mpr z⟩)) (hY ⟨rfl, I'⟩))
theorem i_vc_home {k : Nat} {u : SX} {v : SY} (I : i_Rel k u v) (hk : k + 6 ≤ 3072) (v1 : Int32) : wpX_home (fun r => wpY_home (fun r' => r' = r ∧ i_Rel (k + 6) u v) v v1) u v1 := by
  refine zj_R_el (P := fun u v => wpX_home (fun r => wpY_home (fun r' => r' = r ∧ i_Rel (k + 6) u v) v v1) u v1) ?_ I
  intro f_points f_routes f_nodes f_durations f_requests f_heaped f_waiting f_now f_finished f_touched g_time g_waiting a_weight a_slots a_pace a_running a_broken a_down a_good a_bad a_shut a_till a_failures a_successes a_credit a_settings a_ringAt a_ringServer a_paths a_sets a_next a_servers a_homes a_homeSince a_latest a_sorted a_capacity a_refill a_bucket a_countedAt a_states a_clients a_path a_ranks a_keys a_works a_tried a_attempts a_server a_late a_came a_ends a_heap a_queue b_till b_sick b_well b_up b_tokens b_state b_ended b_ends b_queue b_sorted a_totals b_total N T D h np rn nd bf pre L h1 h2 hD C Q nr
  have I' : i_Rel (k + 6) (f_points, f_routes, f_nodes, f_durations, f_requests, f_heaped, f_waiting, f_now, f_finished, f_touched, a_weight, a_slots, a_pace, a_running, a_broken, a_down, a_good, a_bad, a_shut, a_till, a_failures, a_successes, a_credit, a_settings, a_ringAt, a_ringServer, a_paths, a_sets, a_next, a_servers, a_homes, a_homeSince, a_latest, a_sorted, a_capacity, a_refill, a_bucket, a_countedAt, a_states, a_clients, a_path, a_ranks, a_keys, a_works, a_tried, a_attempts, a_server, a_late, a_came, a_ends, a_heap, a_queue, a_totals) (g_time, f_routes, f_requests, g_waiting, a_weight, a_slots, a_pace, b_till, a_failures, a_credit, a_successes, b_sick, b_well, a_broken, b_up, a_paths, a_sets, a_settings, a_capacity, a_refill, b_tokens, a_homes, a_homeSince, a_clients, a_path, a_keys, a_works, a_ranks, b_state, a_server, a_attempts, a_tried, a_came, b_ended, b_ends, a_late, b_queue, b_total, a_latest, b_sorted) := zj_R_in (by omega) (by omega) hD C Q nr
  have n10 : ¬ (1 : Int32) = 0 := by decide
  by_cases hz : za_rg v1 0 5
  · have hz' := hz
    obtain ⟨j, _, hj, rfl⟩ := hz'
    have ij : vp_in (nI j) 6 := vp_in_nI (by omega) (by omega)
    unfold wpX_home
    refine zx_s1 hz (br_f n10 ⟨ij, ?_⟩)
    unfold wpY_home
    exact zy_w1 0 5 hz (by decide) (by decide) (br_f n10 ⟨ij, rfl, I'⟩)
  · unfold wpX_home
    refine zx_s0 hz (br_t rfl ?_)
    unfold wpY_home
    exact zy_w0 0 5 hz (by decide) (by decide) (br_t rfl ⟨rfl, I'⟩)
end
end
section
/-! damage, limit, tokens, set, advance -/
section
variable {f_points f_routes f_nodes f_durations f_requests f_heaped f_waiting f_now f_finished f_touched g_time g_waiting : Int32}
variable {a_weight a_slots a_pace a_running a_broken a_down a_good a_bad a_shut a_till a_failures a_successes a_credit a_settings a_ringAt a_ringServer a_paths a_sets a_next a_servers a_homes a_homeSince a_latest a_sorted a_capacity a_refill a_bucket a_countedAt a_states a_clients a_path a_ranks a_keys a_works a_tried a_attempts a_server a_late a_came a_ends a_heap a_queue b_till b_sick b_well b_up b_tokens b_state b_ended b_ends b_queue b_sorted : Nat → Int32}
variable {a_totals b_total : Nat → Int64}
theorem i_vc_damage {k : Nat} {u : SX} {v : SY} (I : i_Rel k u v) (hk : k + 6 ≤ 3072) (v1 : Int32) (v2 : Int32) : wpX_damage (fun r u' => wpY_damage (fun r' v' => r' = r ∧ i_Rel (k + 6) u' v') v v1 (lw_bz v2)) u v1 (lw_bz v2) := by
  refine zj_R_el (P := fun u v => wpX_damage (fun r u' => wpY_damage (fun r' v' => r' = r ∧ i_Rel (k + 6) u' v') v v1 (lw_bz v2)) u v1 (lw_bz v2)) ?_ I
  intro f_points f_routes f_nodes f_durations f_requests f_heaped f_waiting f_now f_finished f_touched g_time g_waiting a_weight a_slots a_pace a_running a_broken a_down a_good a_bad a_shut a_till a_failures a_successes a_credit a_settings a_ringAt a_ringServer a_paths a_sets a_next a_servers a_homes a_homeSince a_latest a_sorted a_capacity a_refill a_bucket a_countedAt a_states a_clients a_path a_ranks a_keys a_works a_tried a_attempts a_server a_late a_came a_ends a_heap a_queue b_till b_sick b_well b_up b_tokens b_state b_ended b_ends b_queue b_sorted a_totals b_total N T D h np rn nd bf pre L h1 h2 hD C Q nr
  have n10 : ¬ (1 : Int32) = 0 := by decide
  by_cases hz : za_rg v1 0 5
  · have hz' := hz
    obtain ⟨s, _, hs, rfl⟩ := hz'
    have is : vp_in (nI s) 6 := vp_in_nI (by omega) (by omega)
    have cs : (nI s).toNatClampNeg = s := nI_clamp (by omega)
    have hb := lw_bz_01 v2
    generalize lw_bz v2 = b at hb
    have en : vp_nar .boolean b = b := by rcases hb with rfl | rfl <;> rfl
    have e : upd a_broken (nI s).toNatClampNeg (vp_nar .boolean b) = upd a_broken s b := by rw [cs, en]
    unfold wpX_damage
    refine zx_s1 hz (br_f n10 ⟨is, nm_r e ?_⟩)
    unfold wpY_damage
    refine zy_w1 0 5 hz (by decide) (by decide) (br_f n10 ⟨is, nm_r e ⟨rfl, ?_⟩⟩)
    obtain ⟨e1, bnd, cf, rest⟩ := C
    obtain ⟨c1, c2, c3, c4⟩ := cf
    refine zj_R_in (by omega) (by omega) hD ⟨e1, bnd, ⟨c1, c2, fun t ht => ?_, c4⟩, rest⟩ Q nr
    by_cases y : t = s
    · subst y; rw [pk_us]; exact hb
    · rw [pk_un y]; exact c3 t ht
  · unfold wpX_damage
    refine zx_s0 hz (br_t rfl ?_)
    unfold wpY_damage
    exact zy_w0 0 5 hz (by decide) (by decide) (br_t rfl ⟨rfl, zj_R_in (by omega) (by omega) hD C Q nr⟩)
theorem i_vc_limit {k : Nat} {u : SX} {v : SY} (I : i_Rel k u v) (hk : k + 6 ≤ 3072) (v1 : Int32) (v2 : Int32) (v3 : Int32) : wpX_limit (fun r u' => wpY_limit (fun r' v' => r' = r ∧ i_Rel (k + 6) u' v') v v1 v2 v3) u v1 v2 v3 := by
  refine zj_R_el (P := fun u v => wpX_limit (fun r u' => wpY_limit (fun r' v' => r' = r ∧ i_Rel (k + 6) u' v') v v1 v2 v3) u v1 v2 v3) ?_ I
  intro f_points f_routes f_nodes f_durations f_requests f_heaped f_waiting f_now f_finished f_touched g_time g_waiting a_weight a_slots a_pace a_running a_broken a_down a_good a_bad a_shut a_till a_failures a_successes a_credit a_settings a_ringAt a_ringServer a_paths a_sets a_next a_servers a_homes a_homeSince a_latest a_sorted a_capacity a_refill a_bucket a_countedAt a_states a_clients a_path a_ranks a_keys a_works a_tried a_attempts a_server a_late a_came a_ends a_heap a_queue b_till b_sick b_well b_up b_tokens b_state b_ended b_ends b_queue b_sorted a_totals b_total N T D h np rn nd bf pre L h1 h2 hD C Q nr
  have n10 : ¬ (1 : Int32) = 0 := by decide
  have I' : i_Rel (k + 6) (f_points, f_routes, f_nodes, f_durations, f_requests, f_heaped, f_waiting, f_now, f_finished, f_touched, a_weight, a_slots, a_pace, a_running, a_broken, a_down, a_good, a_bad, a_shut, a_till, a_failures, a_successes, a_credit, a_settings, a_ringAt, a_ringServer, a_paths, a_sets, a_next, a_servers, a_homes, a_homeSince, a_latest, a_sorted, a_capacity, a_refill, a_bucket, a_countedAt, a_states, a_clients, a_path, a_ranks, a_keys, a_works, a_tried, a_attempts, a_server, a_late, a_came, a_ends, a_heap, a_queue, a_totals) (g_time, f_routes, f_requests, g_waiting, a_weight, a_slots, a_pace, b_till, a_failures, a_credit, a_successes, b_sick, b_well, a_broken, b_up, a_paths, a_sets, a_settings, a_capacity, a_refill, b_tokens, a_homes, a_homeSince, a_clients, a_path, a_keys, a_works, a_ranks, b_state, a_server, a_attempts, a_tried, a_came, b_ended, b_ends, a_late, b_queue, b_total, a_latest, b_sorted) := zj_R_in (by omega) (by omega) hD C Q nr
  unfold wpX_limit
  by_cases hz : za_rg v1 0 5
  rotate_left
  · refine zx_s0 hz (br_t rfl ?_)
    unfold wpY_limit
    exact zy_w0 0 5 hz (by decide) (by decide) (br_t rfl ⟨rfl, I'⟩)
  refine zx_s1 hz (br_f n10 ?_)
  by_cases hz2 : za_rg v2 0 20
  rotate_left
  · refine zx_w0 0 20 hz2 (by decide) (by decide) (br_t rfl ?_)
    unfold wpY_limit
    exact zy_w1 0 5 hz (by decide) (by decide) (br_f n10 (zy_w0 0 20 hz2 (by decide) (by decide) (br_t rfl ⟨rfl, I'⟩)))
  refine zx_w1 0 20 hz2 (by decide) (by decide) (br_f n10 ?_)
  by_cases hz3 : za_rg v3 1 100
  rotate_left
  · refine zx_w0 1 100 hz3 (by decide) (by decide) (br_t rfl ?_)
    unfold wpY_limit
    exact zy_w1 0 5 hz (by decide) (by decide) (br_f n10 (zy_w1 0 20 hz2 (by decide) (by decide) (br_f n10 (zy_w0 1 100 hz3 (by decide) (by decide) (br_t rfl ⟨rfl, I'⟩)))))
  refine zx_w1 1 100 hz3 (by decide) (by decide) (br_f n10 ?_)
  have hz' := hz
  have hz2' := hz2
  have hz3' := hz3
  obtain ⟨c, _, hc, rfl⟩ := hz'
  obtain ⟨cap, _, hcap, rfl⟩ := hz2'
  obtain ⟨r, hr1, hr2, rfl⟩ := hz3'
  have ic : vp_in (nI c) 6 := vp_in_nI (by omega) (by omega)
  have cc : (nI c).toNatClampNeg = c := nI_clamp (by omega)
  refine ⟨ic, nm_r (e' := upd a_capacity c (nI cap)) (by rw [cc, za_vb2 (by omega)]) ⟨ic, nm_r (e' := upd a_refill c (nI r)) (by rw [cc, za_vb2 (by omega)]) ⟨ic, nm_r (e' := upd a_bucket c (nI cap)) (by rw [cc, za_vb2 (by omega)]) ⟨ic, nm_r (e' := upd a_countedAt c f_now) (by rw [cc]) ?_⟩⟩⟩⟩
  unfold wpY_limit
  refine zy_w1 0 5 hz (by decide) (by decide) (br_f n10 (zy_w1 0 20 hz2 (by decide) (by decide) (br_f n10 (zy_w1 1 100 hz3 (by decide) (by decide) (br_f n10 ?_)))))
  refine ⟨ic, nm_r (e' := upd a_capacity c (nI cap)) (by rw [cc]) ⟨ic, nm_r (e' := upd a_refill c (nI r)) (by rw [cc]) ⟨ic, nm_r (e' := upd b_tokens c (nI cap)) (by rw [cc]) ⟨rfl, ?_⟩⟩⟩⟩
  obtain ⟨e1, bnd, cf, hmm, tk, rest⟩ := C
  refine zj_R_in (by omega) (by omega) hD ⟨e1, bnd, cf, hmm, ?_, rest⟩ Q nr
  intro t ht
  by_cases y : t = c
  · subst y
    exact ⟨cap, r, cap, T, hcap, hr1, hr2, by omega, by omega, pk_us, pk_us, pk_us, by rw [pk_us]; exact e1.2.1, by rw [pk_us, zk_F0 (by omega)]⟩
  · obtain ⟨cap', r', b', ca', i1, i2, i3, i4, i5, i6, i7, i8, i9, i10⟩ := tk t ht
    exact ⟨cap', r', b', ca', i1, i2, i3, i4, i5, by rw [pk_un y]; exact i6, by rw [pk_un y]; exact i7, by rw [pk_un y]; exact i8, by rw [pk_un y]; exact i9, by rw [pk_un y]; exact i10⟩
/-- the tokens are counted: nothing that is seen changes -/
theorem zj_tkc {T c b ca r cap : Nat} {cp rf bu ct tk : Nat → Int32} (K : zj_tk T cp rf bu ct tk) (hcap : cap ≤ 20) (hr1 : 1 ≤ r) (hr2 : r ≤ 100) 
    (e1 : cp c = nI cap) (e2 : rf c = nI r) (e5 : tk c = nI (zk_F b ca r cap T)) :
    zj_tk T cp rf (upd bu c (nI (zk_F b ca r cap T))) (upd ct c (nI T)) tk := by
  intro t ht
  by_cases y : t = c
  · subst y
    have hle := zk_F_le (b := b) (c := ca) (r := r) (cap := cap) (t := T)
    exact ⟨cap, r, zk_F b ca r cap T, T, hcap, hr1, hr2, hle, by omega, e1, e2, pk_us, pk_us, by rw [zk_F0 hle]; exact e5⟩
  · obtain ⟨cap', r', b', ca', i1, i2, i3, i4, i5, i6, i7, i8, i9, i10⟩ := K t ht
    exact ⟨cap', r', b', ca', i1, i2, i3, i4, i5, i6, i7, by rw [pk_un y]; exact i8, by rw [pk_un y]; exact i9, i10⟩
theorem i_vc_tokens {k : Nat} {u : SX} {v : SY} (I : i_Rel k u v) (hk : k + 6 ≤ 3072) (v1 : Int32) : wpX_tokens (fun r u' => wpY_tokens (fun r' => r' = r ∧ i_Rel (k + 6) u' v) v v1) u v1 := by
  refine zj_R_el (P := fun u v => wpX_tokens (fun r u' => wpY_tokens (fun r' => r' = r ∧ i_Rel (k + 6) u' v) v v1) u v1) ?_ I
  intro f_points f_routes f_nodes f_durations f_requests f_heaped f_waiting f_now f_finished f_touched g_time g_waiting a_weight a_slots a_pace a_running a_broken a_down a_good a_bad a_shut a_till a_failures a_successes a_credit a_settings a_ringAt a_ringServer a_paths a_sets a_next a_servers a_homes a_homeSince a_latest a_sorted a_capacity a_refill a_bucket a_countedAt a_states a_clients a_path a_ranks a_keys a_works a_tried a_attempts a_server a_late a_came a_ends a_heap a_queue b_till b_sick b_well b_up b_tokens b_state b_ended b_ends b_queue b_sorted a_totals b_total N T D h np rn nd bf pre L h1 h2 hD C Q nr
  have n10 : ¬ (1 : Int32) = 0 := by decide
  unfold wpX_tokens
  by_cases hz : za_rg v1 0 5
  · have hz' := hz
    obtain ⟨c, _, hc, rfl⟩ := hz'
    have ic : vp_in (nI c) 6 := vp_in_nI (by omega) (by omega)
    have cc : (nI c).toNatClampNeg = c := nI_clamp (by omega)
    obtain ⟨⟨e1, rfl, e3⟩, bnd, cf, hmm, tk, rest⟩ := C
    obtain ⟨cap, r, b, ca, i1, i2, i3, i4, i5, i6, i7, i8, i9, i10⟩ := tk c (by omega)
    refine zx_s1 hz (br_f n10 (zx_count (by omega) i6 i1 i7 i2 i3 i8 i4 i9 i5 (by omega) ⟨ic, ?_⟩))
    unfold wpY_tokens
    refine zy_w1 0 5 hz (by decide) (by decide) (br_f n10 ⟨ic, ?_, ?_⟩)
    · rw [cc, pk_us, i10]
    · exact zj_R_in (by omega) (by omega) hD ⟨⟨e1, rfl, e3⟩, bnd, cf, hmm, zj_tkc tk i1 i2 i3 i6 i7 i10, rest⟩ Q nr
  · refine zx_s0 hz (br_t rfl ?_)
    unfold wpY_tokens
    exact zy_w0 0 5 hz (by decide) (by decide) (br_t rfl ⟨rfl, zj_R_in (by omega) (by omega) hD C Q nr⟩)
/-- a setting of a range -/
theorem zj_setcf {j lo hi x np rn nd : Nat} {pre : Nat → Nat} {wt pc br se ra rs pa ss nx sv : Nat → Int32} (cf : zj_cf np rn nd pre wt pc br se ra rs pa ss nx sv)
    (hj : (j = 0 ∧ lo = 0 ∧ hi = 2) ∨ (j = 1 ∧ lo = 1 ∧ hi = 1000) ∨ (j = 2 ∧ lo = 0 ∧ hi = 3) ∨ (j = 3 ∧ lo = 1 ∧ hi = 1000) ∨ (j = 4 ∧ lo = 1 ∧ hi = 100) ∨ (j = 5 ∧ lo = 1 ∧ hi = 1000) ∨ j = 6) (h1 : lo ≤ x) (h2 : x ≤ hi) :
    zj_cf np rn nd pre wt pc br (upd se j (nI x)) ra rs pa ss nx sv := by
  obtain ⟨c1, c2, c3, ⟨s0, s1, s2, s3, s4, s5⟩, c5⟩ := cf
  have key : ∀ i lo' hi', za_rg (se i) lo' hi' → (i = j → lo' = lo ∧ hi' = hi) → za_rg (upd se j (nI x) i) lo' hi' := by
    intro i lo' hi' h e
    by_cases y : i = j
    · obtain ⟨e1, e2⟩ := e y
      subst y e1 e2
      rw [pk_us]; exact ⟨x, h1, h2, rfl⟩
    · rw [pk_un y]; exact h
  exact ⟨c1, c2, c3, ⟨key 0 0 2 s0 (by omega), key 1 1 1000 s1 (by omega), key 2 0 3 s2 (by omega), key 3 1 1000 s3 (by omega), key 4 1 100 s4 (by omega), key 5 1 1000 s5 (by omega)⟩, c5⟩
theorem zx_s63 {x1 x2 : Int32} {lo hi : Nat} {post : Int32 → SX → Prop} (hl : lo < 2 ^ 31) (hh : hi < 2 ^ 31) (h1 : za_rg x2 lo hi → vp_in x1 7 ∧ post 1 (f_points, f_routes, f_nodes, f_durations, f_requests, f_heaped, f_waiting, f_now, f_finished, 1, a_weight, a_slots, a_pace, a_running, a_broken, a_down, a_good, a_bad, a_shut, a_till, a_failures, a_successes, a_credit, upd a_settings x1.toNatClampNeg x2, a_ringAt, a_ringServer, a_paths, a_sets, a_next, a_servers, a_homes, a_homeSince, a_latest, a_sorted, a_capacity, a_refill, a_bucket, a_countedAt, a_states, a_clients, a_path, a_ranks, a_keys, a_works, a_tried, a_attempts, a_server, a_late, a_came, a_ends, a_heap, a_queue, a_totals)) (h0 : ¬ za_rg x2 lo hi → post 0 (f_points, f_routes, f_nodes, f_durations, f_requests, f_heaped, f_waiting, f_now, f_finished, f_touched, a_weight, a_slots, a_pace, a_running, a_broken, a_down, a_good, a_bad, a_shut, a_till, a_failures, a_successes, a_credit, a_settings, a_ringAt, a_ringServer, a_paths, a_sets, a_next, a_servers, a_homes, a_homeSince, a_latest, a_sorted, a_capacity, a_refill, a_bucket, a_countedAt, a_states, a_clients, a_path, a_ranks, a_keys, a_works, a_tried, a_attempts, a_server, a_late, a_came, a_ends, a_heap, a_queue, a_totals)) :
    wX_set_63 post x1 x2 (nI lo) (nI hi) f_points f_routes f_nodes f_durations f_requests f_heaped f_waiting f_now f_finished f_touched a_weight a_slots a_pace a_running a_broken a_down a_good a_bad a_shut a_till a_failures a_successes a_credit a_settings a_ringAt a_ringServer a_paths a_sets a_next a_servers a_homes a_homeSince a_latest a_sorted a_capacity a_refill a_bucket a_countedAt a_states a_clients a_path a_ranks a_keys a_works a_tried a_attempts a_server a_late a_came a_ends a_heap a_queue a_totals := by
  unfold wX_set_63
  by_cases hz : za_rg x2 lo hi
  · exact zx_w1 lo hi hz hl hh (br_f (by decide) ⟨(h1 hz).1, nm_e (h1 hz).2⟩)
  · exact zx_w0 lo hi hz hl hh (br_t rfl (h0 hz))
theorem zy_s67 {x1 x2 : Int32} {lo hi : Nat} {post : Int32 → SY → Prop} (hl : lo < 2 ^ 31) (hh : hi < 2 ^ 31) (hx : za_rg x1 0 6) (h1 : za_rg x2 lo hi → vp_in x1 7 ∧ post 1 (g_time, f_routes, f_requests, g_waiting, a_weight, a_slots, a_pace, b_till, a_failures, a_credit, a_successes, b_sick, b_well, a_broken, b_up, a_paths, a_sets, upd a_settings x1.toNatClampNeg x2, a_capacity, a_refill, b_tokens, a_homes, a_homeSince, a_clients, a_path, a_keys, a_works, a_ranks, b_state, a_server, a_attempts, a_tried, a_came, b_ended, b_ends, a_late, b_queue, b_total, a_latest, b_sorted)) (h0 : ¬ za_rg x2 lo hi → post 0 (g_time, f_routes, f_requests, g_waiting, a_weight, a_slots, a_pace, b_till, a_failures, a_credit, a_successes, b_sick, b_well, a_broken, b_up, a_paths, a_sets, a_settings, a_capacity, a_refill, b_tokens, a_homes, a_homeSince, a_clients, a_path, a_keys, a_works, a_ranks, b_state, a_server, a_attempts, a_tried, a_came, b_ended, b_ends, a_late, b_queue, b_total, a_latest, b_sorted)) :
    wpY_in (fun r => wY_set_67 post x1 x2 r g_time f_routes f_requests g_waiting a_weight a_slots a_pace b_till a_failures a_credit a_successes b_sick b_well a_broken b_up a_paths a_sets a_settings a_capacity a_refill b_tokens a_homes a_homeSince a_clients a_path a_keys a_works a_ranks b_state a_server a_attempts a_tried a_came b_ended b_ends a_late b_queue b_total a_latest b_sorted) x2 (nI lo) (nI hi) := by
  by_cases hz : za_rg x2 lo hi
  · refine zy_w1 lo hi hz hl hh ?_
    unfold wY_set_67
    exact zy_w1 0 6 hx (by decide) (by decide) (br_f (by decide) (br_f (by decide) ⟨(h1 hz).1, nm_e (h1 hz).2⟩))
  · refine zy_w0 lo hi hz hl hh ?_
    unfold wY_set_67
    exact zy_w1 0 6 hx (by decide) (by decide) (br_f (by decide) (br_t rfl (h0 hz)))
theorem zy_s67o {x1 x2 z0 : Int32} {post : Int32 → SY → Prop} (hx : ¬ za_rg x1 0 6) (h0 : post 0 (g_time, f_routes, f_requests, g_waiting, a_weight, a_slots, a_pace, b_till, a_failures, a_credit, a_successes, b_sick, b_well, a_broken, b_up, a_paths, a_sets, a_settings, a_capacity, a_refill, b_tokens, a_homes, a_homeSince, a_clients, a_path, a_keys, a_works, a_ranks, b_state, a_server, a_attempts, a_tried, a_came, b_ended, b_ends, a_late, b_queue, b_total, a_latest, b_sorted)) : wY_set_67 post x1 x2 z0 g_time f_routes f_requests g_waiting a_weight a_slots a_pace b_till a_failures a_credit a_successes b_sick b_well a_broken b_up a_paths a_sets a_settings a_capacity a_refill b_tokens a_homes a_homeSince a_clients a_path a_keys a_works a_ranks b_state a_server a_attempts a_tried a_came b_ended b_ends a_late b_queue b_total a_latest b_sorted := by
  unfold wY_set_67
  exact zy_w0 0 6 hx (by decide) (by decide) (br_t rfl h0)
theorem zy_any {x lo hi : Int32} {post : Int32 → Prop} (h : ∀ r, post r) : wpY_in post x lo hi :=
  br_c (fun _ => h 0) (fun _ => br_c (fun _ => h 0) (fun _ => h 1))
theorem i_vc_set {k : Nat} {u : SX} {v : SY} (I : i_Rel k u v) (hk : k + 6 ≤ 3072) (v1 : Int32) (v2 : Int32) : wpX_set (fun r u' => wpY_set (fun r' v' => r' = r ∧ i_Rel (k + 6) u' v') v v1 v2) u v1 v2 := by
  refine zj_R_el (P := fun u v => wpX_set (fun r u' => wpY_set (fun r' v' => r' = r ∧ i_Rel (k + 6) u' v') v v1 v2) u v1 v2) ?_ I
  intro f_points f_routes f_nodes f_durations f_requests f_heaped f_waiting f_now f_finished f_touched g_time g_waiting a_weight a_slots a_pace a_running a_broken a_down a_good a_bad a_shut a_till a_failures a_successes a_credit a_settings a_ringAt a_ringServer a_paths a_sets a_next a_servers a_homes a_homeSince a_latest a_sorted a_capacity a_refill a_bucket a_countedAt a_states a_clients a_path a_ranks a_keys a_works a_tried a_attempts a_server a_late a_came a_ends a_heap a_queue b_till b_sick b_well b_up b_tokens b_state b_ended b_ends b_queue b_sorted a_totals b_total N T D h np rn nd bf pre L h1 h2 hD C Q nr
  have n10 : ¬ (1 : Int32) = 0 := by decide
  have I' : i_Rel (k + 6) (f_points, f_routes, f_nodes, f_durations, f_requests, f_heaped, f_waiting, f_now, f_finished, f_touched, a_weight, a_slots, a_pace, a_running, a_broken, a_down, a_good, a_bad, a_shut, a_till, a_failures, a_successes, a_credit, a_settings, a_ringAt, a_ringServer, a_paths, a_sets, a_next, a_servers, a_homes, a_homeSince, a_latest, a_sorted, a_capacity, a_refill, a_bucket, a_countedAt, a_states, a_clients, a_path, a_ranks, a_keys, a_works, a_tried, a_attempts, a_server, a_late, a_came, a_ends, a_heap, a_queue, a_totals) (g_time, f_routes, f_requests, g_waiting, a_weight, a_slots, a_pace, b_till, a_failures, a_credit, a_successes, b_sick, b_well, a_broken, b_up, a_paths, a_sets, a_settings, a_capacity, a_refill, b_tokens, a_homes, a_homeSince, a_clients, a_path, a_keys, a_works, a_ranks, b_state, a_server, a_attempts, a_tried, a_came, b_ended, b_ends, a_late, b_queue, b_total, a_latest, b_sorted) := zj_R_in (by omega) (by omega) hD C Q nr
  unfold wpX_set
  by_cases hz : za_rg v1 0 6
  rotate_left
  · refine zx_w0 0 6 hz (by decide) (by decide) (br_t rfl ?_)
    unfold wpY_set
    exact br_c (fun _ => zy_any (fun r => zy_s67o hz ⟨rfl, I'⟩)) (fun _ => br_c (fun _ => zy_any (fun r => zy_s67o hz ⟨rfl, I'⟩)) (fun _ => br_c (fun _ => zy_any (fun r => zy_s67o hz ⟨rfl, I'⟩)) (fun _ => br_c (fun _ => zy_any (fun r => zy_s67o hz ⟨rfl, I'⟩)) (fun _ => zy_any (fun r => zy_s67o hz ⟨rfl, I'⟩)))))
  refine zx_w1 0 6 hz (by decide) (by decide) (br_f n10 ?_)
  have hz' := hz
  obtain ⟨j, _, hj, rfl⟩ := hz'
  have ij : vp_in (nI j) 7 := vp_in_nI (by omega) (by omega)
  have cj : (nI j).toNatClampNeg = j := nI_clamp (by omega)
  -- what is owed for a range
  have fin : ∀ lo hi, ((j = 0 ∧ lo = 0 ∧ hi = 2) ∨ (j = 1 ∧ lo = 1 ∧ hi = 1000) ∨ (j = 2 ∧ lo = 0 ∧ hi = 3) ∨ (j = 3 ∧ lo = 1 ∧ hi = 1000) ∨ (j = 4 ∧ lo = 1 ∧ hi = 100) ∨ (j = 5 ∧ lo = 1 ∧ hi = 1000) ∨ j = 6) →
      za_rg v2 lo hi → i_Rel (k + 6) (f_points, f_routes, f_nodes, f_durations, f_requests, f_heaped, f_waiting, f_now, f_finished, 1, a_weight, a_slots, a_pace, a_running, a_broken, a_down, a_good, a_bad, a_shut, a_till, a_failures, a_successes, a_credit, upd a_settings (nI j).toNatClampNeg v2, a_ringAt, a_ringServer, a_paths, a_sets, a_next, a_servers, a_homes, a_homeSince, a_latest, a_sorted, a_capacity, a_refill, a_bucket, a_countedAt, a_states, a_clients, a_path, a_ranks, a_keys, a_works, a_tried, a_attempts, a_server, a_late, a_came, a_ends, a_heap, a_queue, a_totals) (g_time, f_routes, f_requests, g_waiting, a_weight, a_slots, a_pace, b_till, a_failures, a_credit, a_successes, b_sick, b_well, a_broken, b_up, a_paths, a_sets, upd a_settings (nI j).toNatClampNeg v2, a_capacity, a_refill, b_tokens, a_homes, a_homeSince, a_clients, a_path, a_keys, a_works, a_ranks, b_state, a_server, a_attempts, a_tried, a_came, b_ended, b_ends, a_late, b_queue, b_total, a_latest, b_sorted) := by
    intro lo hi hjj hr
    obtain ⟨x, hx1, hx2, rfl⟩ := hr
    rw [cj]
    obtain ⟨e1, bnd, cf, rest⟩ := C
    exact zj_R_in (by omega) (by omega) hD ⟨e1, bnd, zj_setcf cf hjj hx1 hx2, rest⟩ Q (fun z => absurd z n10)
  have c7 : j = 0 ∨ j = 1 ∨ j = 2 ∨ j = 3 ∨ j = 4 ∨ j = 5 ∨ j = 6 := by omega
  have W : ∀ lo hi, lo < 2 ^ 31 → hi < 2 ^ 31 → ((j = 0 ∧ lo = 0 ∧ hi = 2) ∨ (j = 1 ∧ lo = 1 ∧ hi = 1000) ∨ (j = 2 ∧ lo = 0 ∧ hi = 3) ∨ (j = 3 ∧ lo = 1 ∧ hi = 1000) ∨ (j = 4 ∧ lo = 1 ∧ hi = 100) ∨ (j = 5 ∧ lo = 1 ∧ hi = 1000) ∨ j = 6) →
      (∀ post : Int32 → SY → Prop, wpY_in (fun r => wY_set_67 post (nI j) v2 r g_time f_routes f_requests g_waiting a_weight a_slots a_pace b_till a_failures a_credit a_successes b_sick b_well a_broken b_up a_paths a_sets a_settings a_capacity a_refill b_tokens a_homes a_homeSince a_clients a_path a_keys a_works a_ranks b_state a_server a_attempts a_tried a_came b_ended b_ends a_late b_queue b_total a_latest b_sorted) v2 (nI lo) (nI hi) → wpY_set post (g_time, f_routes, f_requests, g_waiting, a_weight, a_slots, a_pace, b_till, a_failures, a_credit, a_successes, b_sick, b_well, a_broken, b_up, a_paths, a_sets, a_settings, a_capacity, a_refill, b_tokens, a_homes, a_homeSince, a_clients, a_path, a_keys, a_works, a_ranks, b_state, a_server, a_attempts, a_tried, a_came, b_ended, b_ends, a_late, b_queue, b_total, a_latest, b_sorted) (nI j) v2) →
      wX_set_63 (fun r u' => wpY_set (fun r' v' => r' = r ∧ i_Rel (k + 6) u' v') (g_time, f_routes, f_requests, g_waiting, a_weight, a_slots, a_pace, b_till, a_failures, a_credit, a_successes, b_sick, b_well, a_broken, b_up, a_paths, a_sets, a_settings, a_capacity, a_refill, b_tokens, a_homes, a_homeSince, a_clients, a_path, a_keys, a_works, a_ranks, b_state, a_server, a_attempts, a_tried, a_came, b_ended, b_ends, a_late, b_queue, b_total, a_latest, b_sorted) (nI j) v2) (nI j) v2 (nI lo) (nI hi) f_points f_routes f_nodes f_durations f_requests f_heaped f_waiting f_now f_finished f_touched a_weight a_slots a_pace a_running a_broken a_down a_good a_bad a_shut a_till a_failures a_successes a_credit a_settings a_ringAt a_ringServer a_paths a_sets a_next a_servers a_homes a_homeSince a_latest a_sorted a_capacity a_refill a_bucket a_countedAt a_states a_clients a_path a_ranks a_keys a_works a_tried a_attempts a_server a_late a_came a_ends a_heap a_queue a_totals := by
    intro lo hi hl hh hjj HY
    refine zx_s63 hl hh (fun hr => ⟨ij, HY _ (zy_s67 hl hh hz (fun _ => ⟨ij, rfl, fin lo hi hjj hr⟩) (fun z => absurd hr z))⟩) (fun hr => HY _ (zy_s67 hl hh hz (fun z => absurd z hr) (fun _ => ⟨rfl, I'⟩)))
  rcases c7 with rfl | rfl | rfl | rfl | rfl | rfl | rfl
  · exact br_t (by decide) (br_t (by decide) (W 0 2 (by decide) (by decide) (by omega) (fun post h => br_t (by decide) h)))
  · exact br_f (by decide) (br_f (by decide) (br_f (by decide) (br_f (by decide) (br_f (by decide) (br_f (by decide) (W 1 1000 (by decide) (by decide) (by omega) (fun post h => br_f (by decide) (br_f (by decide) (br_f (by decide) (br_f (by decide) h))))))))))
  · exact br_f (by decide) (br_t (by decide) (br_f (by decide) (br_t (by decide) (W 0 3 (by decide) (by decide) (by omega) (fun post h => br_f (by decide) (br_t (by decide) h))))))
  · exact br_f (by decide) (br_f (by decide) (br_f (by decide) (br_f (by decide) (br_f (by decide) (br_f (by decide) (W 1 1000 (by decide) (by decide) (by omega) (fun post h => br_f (by decide) (br_f (by decide) (br_f (by decide) (br_f (by decide) h))))))))))
  · exact br_f (by decide) (br_f (by decide) (br_f (by decide) (br_f (by decide) (br_f (by decide) (br_t (by decide) (W 1 100 (by decide) (by decide) (by omega) (fun post h => br_f (by decide) (br_f (by decide) (br_t (by decide) h)))))))))
  · exact br_f (by decide) (br_f (by decide) (br_f (by decide) (br_f (by decide) (br_f (by decide) (br_f (by decide) (W 1 1000 (by decide) (by decide) (by omega) (fun post h => br_f (by decide) (br_f (by decide) (br_f (by decide) (br_f (by decide) h))))))))))
  · exact br_f (by decide) (br_f (by decide) (br_t (by decide) (br_f (by decide) (br_f (by decide) (br_f (by decide) (W 0 1000 (by decide) (by decide) (by omega) (fun post h => br_f (by decide) (br_f (by decide) (br_f (by decide) (br_t (by decide) h))))))))))
theorem i_vc_advance {k : Nat} {u : SX} {v : SY} (I : i_Rel k u v) (hk : k + 6 ≤ 3072) (v1 : Int32) : wpX_advance (fun r u' => wpY_advance (fun r' v' => r' = r ∧ i_Rel (k + 6) u' v') v v1) u v1 := by
  refine zj_R_el (P := fun u v => wpX_advance (fun r u' => wpY_advance (fun r' v' => r' = r ∧ i_Rel (k + 6) u' v') v v1) u v1) ?_ I
  intro f_points f_routes f_nodes f_durations f_requests f_heaped f_waiting f_now f_finished f_touched g_time g_waiting a_weight a_slots a_pace a_running a_broken a_down a_good a_bad a_shut a_till a_failures a_successes a_credit a_settings a_ringAt a_ringServer a_paths a_sets a_next a_servers a_homes a_homeSince a_latest a_sorted a_capacity a_refill a_bucket a_countedAt a_states a_clients a_path a_ranks a_keys a_works a_tried a_attempts a_server a_late a_came a_ends a_heap a_queue b_till b_sick b_well b_up b_tokens b_state b_ended b_ends b_queue b_sorted a_totals b_total N T D h np rn nd bf pre L h1 h2 hD C Q nr
  have n10 : ¬ (1 : Int32) = 0 := by decide
  unfold wpX_advance
  by_cases hz : za_rg v1 0 5000
  · have hz' := hz
    obtain ⟨n, _, hn, rfl⟩ := hz'
    obtain ⟨⟨e1, rfl, rfl, e4⟩, bnd, cf, hmm, tk, sl, en, hp, ru, ck, bk, to, rm⟩ := C
    have S : zj_S N T T (T + 1) (32 * T) (b_total 2 + b_total 3 + b_total 4) L (f_points, f_routes, f_nodes, f_durations, f_requests, f_heaped, f_waiting, nI T, 0, f_touched, a_weight, a_slots, a_pace, a_running, a_broken, a_down, a_good, a_bad, a_shut, a_till, a_failures, a_successes, a_credit, a_settings, a_ringAt, a_ringServer, a_paths, a_sets, a_next, a_servers, a_homes, a_homeSince, a_latest, a_sorted, a_capacity, a_refill, a_bucket, a_countedAt, a_states, a_clients, a_path, a_ranks, a_keys, a_works, a_tried, a_attempts, a_server, a_late, a_came, a_ends, a_heap, a_queue, a_totals) (nI T, f_routes, f_requests, g_waiting, a_weight, a_slots, a_pace, b_till, a_failures, a_credit, a_successes, b_sick, b_well, a_broken, b_up, a_paths, a_sets, a_settings, a_capacity, a_refill, b_tokens, a_homes, a_homeSince, a_clients, a_path, a_keys, a_works, a_ranks, b_state, a_server, a_attempts, a_tried, a_came, b_ended, b_ends, a_late, b_queue, b_total, a_latest, b_sorted) := by
      refine zj_S_in (D := D) (h := h) (np := np) (rn := rn) (nd := nd) (pre := pre) hD ⟨⟨e1, rfl, rfl, e4⟩, bnd, cf, hmm, tk, sl, en, hp, ru, ck, bk, ⟨to.1, to.2.1, to.2.2.1, ?_⟩, rm⟩ Q
      rw [Int64.sub_self]; decide
    obtain ⟨L', u', v', r, S', nr', HX, HY⟩ := zj_adv (last := T + n) (by omega) n T L _ _ (by omega) S nr
    have e9 : (1000000000 : Int32) - nI n = nI (1000000000 - n) := pk_sub (a := 1000000000) (b := n) (by omega)
    refine zx_w1 0 5000 hz (by decide) (by decide) (br_f n10 (br_t (by rw [e9]; exact nI_le (by omega) (by omega)) (nm_r (nI_add T n) (HX _ ?_))))
    show wpY_advance (fun r' v' => r' = r ∧ i_Rel (k + 6) u' v') (nI T, f_routes, f_requests, g_waiting, a_weight, a_slots, a_pace, b_till, a_failures, a_credit, a_successes, b_sick, b_well, a_broken, b_up, a_paths, a_sets, a_settings, a_capacity, a_refill, b_tokens, a_homes, a_homeSince, a_clients, a_path, a_keys, a_works, a_ranks, b_state, a_server, a_attempts, a_tried, a_came, b_ended, b_ends, a_late, b_queue, b_total, a_latest, b_sorted) (nI n)
    unfold wpY_advance
    refine zy_w1 0 5000 hz (by decide) (by decide) (br_f n10 (br_t ?_ (nm_e ?_)))
    · rw [nI_add]; exact nI_le (b := 1000000000) (by omega) (by decide)
    · exact HY _ n 0 (by omega) (by omega) ⟨rfl, N, T + n, _, L', by omega, by omega, S', nr'⟩
  · refine zx_w0 0 5000 hz (by decide) (by decide) (br_t rfl ?_)
    unfold wpY_advance
    exact zy_w0 0 5000 hz (by decide) (by decide) (br_t rfl ⟨rfl, zj_R_in (by omega) (by omega) hD C Q nr⟩)
end
end
section
/-! server, route, unroute, took -/
section
variable {f_points f_routes f_nodes f_durations f_requests f_heaped f_waiting f_now f_finished f_touched g_time g_waiting : Int32}
variable {a_weight a_slots a_pace a_running a_broken a_down a_good a_bad a_shut a_till a_failures a_successes a_credit a_settings a_ringAt a_ringServer a_paths a_sets a_next a_servers a_homes a_homeSince a_latest a_sorted a_capacity a_refill a_bucket a_countedAt a_states a_clients a_path a_ranks a_keys a_works a_tried a_attempts a_server a_late a_came a_ends a_heap a_queue b_till b_sick b_well b_up b_tokens b_state b_ended b_ends b_queue b_sorted : Nat → Int32}
variable {a_totals b_total : Nat → Int64}
theorem i_vc_server {k : Nat} {u : SX} {v : SY} (I : i_Rel k u v) (hk : k + 6 ≤ 3072) (v1 : Int32) (v2 : Int32) (v3 : Int32) (v4 : Int32) : wpX_server (fun r u' => wpY_server (fun r' v' => r' = r ∧ i_Rel (k + 6) u' v') v v1 v2 v3 v4) u v1 v2 v3 v4 := by
  refine zj_R_el (P := fun u v => wpX_server (fun r u' => wpY_server (fun r' v' => r' = r ∧ i_Rel (k + 6) u' v') v v1 v2 v3 v4) u v1 v2 v3 v4) ?_ I
  intro f_points f_routes f_nodes f_durations f_requests f_heaped f_waiting f_now f_finished f_touched g_time g_waiting a_weight a_slots a_pace a_running a_broken a_down a_good a_bad a_shut a_till a_failures a_successes a_credit a_settings a_ringAt a_ringServer a_paths a_sets a_next a_servers a_homes a_homeSince a_latest a_sorted a_capacity a_refill a_bucket a_countedAt a_states a_clients a_path a_ranks a_keys a_works a_tried a_attempts a_server a_late a_came a_ends a_heap a_queue b_till b_sick b_well b_up b_tokens b_state b_ended b_ends b_queue b_sorted a_totals b_total N T D h np rn nd bf pre L h1 h2 hD C Q nr
  have n10 : ¬ (1 : Int32) = 0 := by decide
  have I' : i_Rel (k + 6) (f_points, f_routes, f_nodes, f_durations, f_requests, f_heaped, f_waiting, f_now, f_finished, f_touched, a_weight, a_slots, a_pace, a_running, a_broken, a_down, a_good, a_bad, a_shut, a_till, a_failures, a_successes, a_credit, a_settings, a_ringAt, a_ringServer, a_paths, a_sets, a_next, a_servers, a_homes, a_homeSince, a_latest, a_sorted, a_capacity, a_refill, a_bucket, a_countedAt, a_states, a_clients, a_path, a_ranks, a_keys, a_works, a_tried, a_attempts, a_server, a_late, a_came, a_ends, a_heap, a_queue, a_totals) (g_time, f_routes, f_requests, g_waiting, a_weight, a_slots, a_pace, b_till, a_failures, a_credit, a_successes, b_sick, b_well, a_broken, b_up, a_paths, a_sets, a_settings, a_capacity, a_refill, b_tokens, a_homes, a_homeSince, a_clients, a_path, a_keys, a_works, a_ranks, b_state, a_server, a_attempts, a_tried, a_came, b_ended, b_ends, a_late, b_queue, b_total, a_latest, b_sorted) := zj_R_in (by omega) (by omega) hD C Q nr
  unfold wpX_server
  by_cases hz : za_rg v1 0 5
  rotate_left
  · refine zx_s0 hz (br_t rfl ?_)
    unfold wpY_server
    exact zy_w0 0 5 hz (by decide) (by decide) (br_t rfl ⟨rfl, I'⟩)
  refine zx_s1 hz (br_f n10 ?_)
  by_cases hz2 : za_rg v2 0 9
  rotate_left
  · refine zx_w0 0 9 hz2 (by decide) (by decide) (br_t rfl ?_)
    unfold wpY_server
    exact zy_w1 0 5 hz (by decide) (by decide) (br_f n10 (zy_w0 0 9 hz2 (by decide) (by decide) (br_t rfl ⟨rfl, I'⟩)))
  refine zx_w1 0 9 hz2 (by decide) (by decide) (br_f n10 ?_)
  by_cases hz3 : za_rg v3 1 8
  rotate_left
  · refine zx_w0 1 8 hz3 (by decide) (by decide) (br_t rfl ?_)
    unfold wpY_server
    exact zy_w1 0 5 hz (by decide) (by decide) (br_f n10 (zy_w1 0 9 hz2 (by decide) (by decide) (br_f n10 (zy_w0 1 8 hz3 (by decide) (by decide) (br_t rfl ⟨rfl, I'⟩)))))
  refine zx_w1 1 8 hz3 (by decide) (by decide) (br_f n10 ?_)
  by_cases hz4 : za_rg v4 1 10
  rotate_left
  · refine zx_w0 1 10 hz4 (by decide) (by decide) (br_t rfl ?_)
    unfold wpY_server
    exact zy_w1 0 5 hz (by decide) (by decide) (br_f n10 (zy_w1 0 9 hz2 (by decide) (by decide) (br_f n10 (zy_w1 1 8 hz3 (by decide) (by decide) (br_f n10 (zy_w0 1 10 hz4 (by decide) (by decide) (br_t rfl ⟨rfl, I'⟩)))))))
  refine zx_w1 1 10 hz4 (by decide) (by decide) (br_f n10 ?_)
  have hz' := hz
  have hz2' := hz2
  have hz3' := hz3
  have hz4' := hz4
  obtain ⟨s, _, hs, rfl⟩ := hz'
  obtain ⟨w, _, hw, rfl⟩ := hz2'
  obtain ⟨sl0, _, hsl, rfl⟩ := hz3'
  obtain ⟨pc, hpc1, hpc2, rfl⟩ := hz4'
  have is : vp_in (nI s) 6 := vp_in_nI (by omega) (by omega)
  have cs : (nI s).toNatClampNeg = s := nI_clamp (by omega)
  obtain ⟨⟨e1, e2, e3, e4, e5, e6⟩, bnd, ⟨c1, c2, c3, c4, c5, c6, c7⟩, rest⟩ := C
  have hw' : zr_W (upd a_weight s (nI w)) := by
    intro t ht
    by_cases y : t = s
    · subst y; rw [pk_us]; exact ⟨w, by omega, hw, rfl⟩
    · rw [pk_un y]; exact c1 t ht
  obtain ⟨np', ra', rs', R', hnp', H⟩ := zx_srv73 hw' 6 0 0 a_ringAt a_ringServer (by omega) (zr_0 (fun t j _ hd => by unfold zr_D at hd; omega)) (by omega)
  refine ⟨is, nm_r (e' := upd a_weight s (nI w)) (by rw [cs, za_vb2 (by omega)]) ⟨is, nm_r (e' := upd a_slots s (nI sl0)) (by rw [cs, za_vb2 (by omega)]) ⟨is, nm_r (e' := upd a_pace s (nI pc)) (by rw [cs, za_vb2 (by omega)]) ⟨7, H _ 7 (by omega) ?_⟩⟩⟩⟩
  show wpY_server (fun r' v' => r' = 1 ∧ i_Rel (k + 6) (nI np', f_routes, f_nodes, f_durations, f_requests, f_heaped, f_waiting, f_now, f_finished, 1, upd a_weight s (nI w), upd a_slots s (nI sl0), upd a_pace s (nI pc), a_running, a_broken, a_down, a_good, a_bad, a_shut, a_till, a_failures, a_successes, a_credit, a_settings, ra', rs', a_paths, a_sets, a_next, a_servers, a_homes, a_homeSince, a_latest, a_sorted, a_capacity, a_refill, a_bucket, a_countedAt, a_states, a_clients, a_path, a_ranks, a_keys, a_works, a_tried, a_attempts, a_server, a_late, a_came, a_ends, a_heap, a_queue, a_totals) v') (g_time, f_routes, f_requests, g_waiting, a_weight, a_slots, a_pace, b_till, a_failures, a_credit, a_successes, b_sick, b_well, a_broken, b_up, a_paths, a_sets, a_settings, a_capacity, a_refill, b_tokens, a_homes, a_homeSince, a_clients, a_path, a_keys, a_works, a_ranks, b_state, a_server, a_attempts, a_tried, a_came, b_ended, b_ends, a_late, b_queue, b_total, a_latest, b_sorted) (nI s) (nI w) (nI sl0) (nI pc)
  unfold wpY_server
  refine zy_w1 0 5 hz (by decide) (by decide) (br_f n10 (zy_w1 0 9 hz2 (by decide) (by decide) (br_f n10 (zy_w1 1 8 hz3 (by decide) (by decide) (br_f n10 (zy_w1 1 10 hz4 (by decide) (by decide) (br_f n10 ?_)))))))
  refine ⟨is, nm_r (e' := upd a_weight s (nI w)) (by rw [cs]) ⟨is, nm_r (e' := upd a_slots s (nI sl0)) (by rw [cs]) ⟨is, nm_r (e' := upd a_pace s (nI pc)) (by rw [cs]) ⟨rfl, ?_⟩⟩⟩⟩
  refine zj_R_in (N := N) (T := T) (D := D) (h := h) (np := np') (rn := rn) (nd := nd) (bf := bf) (pre := pre) (L := L) (by omega) (by omega) hD ⟨⟨e1, e2, e3, e4, rfl, e6⟩, bnd, ⟨hw', fun t ht => ?_, c3, c4, zr_DE R', hnp', c7⟩, rest⟩ Q (fun z => absurd z n10)
  by_cases y : t = s
  · subst y; rw [pk_us]; exact ⟨pc, hpc1, hpc2, rfl⟩
  · rw [pk_un y]; exact c2 t ht
/-- both sides: the tree is made anew -/
theorem i_vc_route {k : Nat} {u : SX} {v : SY} (I : i_Rel k u v) (hk : k + 6 ≤ 3072) (v1 : Int32) (v2 : Int32) : wpX_route (fun r u' => wpY_route (fun r' v' => r' = r ∧ i_Rel (k + 6) u' v') v v1 v2) u v1 v2 := by
  refine zj_R_el (P := fun u v => wpX_route (fun r u' => wpY_route (fun r' v' => r' = r ∧ i_Rel (k + 6) u' v') v v1 v2) u v1 v2) ?_ I
  intro f_points f_routes f_nodes f_durations f_requests f_heaped f_waiting f_now f_finished f_touched g_time g_waiting a_weight a_slots a_pace a_running a_broken a_down a_good a_bad a_shut a_till a_failures a_successes a_credit a_settings a_ringAt a_ringServer a_paths a_sets a_next a_servers a_homes a_homeSince a_latest a_sorted a_capacity a_refill a_bucket a_countedAt a_states a_clients a_path a_ranks a_keys a_works a_tried a_attempts a_server a_late a_came a_ends a_heap a_queue b_till b_sick b_well b_up b_tokens b_state b_ended b_ends b_queue b_sorted a_totals b_total N T D h np rn nd bf pre L h1 h2 hD C Q nr
  have n10 : ¬ (1 : Int32) = 0 := by decide
  have I' : i_Rel (k + 6) (f_points, f_routes, f_nodes, f_durations, f_requests, f_heaped, f_waiting, f_now, f_finished, f_touched, a_weight, a_slots, a_pace, a_running, a_broken, a_down, a_good, a_bad, a_shut, a_till, a_failures, a_successes, a_credit, a_settings, a_ringAt, a_ringServer, a_paths, a_sets, a_next, a_servers, a_homes, a_homeSince, a_latest, a_sorted, a_capacity, a_refill, a_bucket, a_countedAt, a_states, a_clients, a_path, a_ranks, a_keys, a_works, a_tried, a_attempts, a_server, a_late, a_came, a_ends, a_heap, a_queue, a_totals) (g_time, f_routes, f_requests, g_waiting, a_weight, a_slots, a_pace, b_till, a_failures, a_credit, a_successes, b_sick, b_well, a_broken, b_up, a_paths, a_sets, a_settings, a_capacity, a_refill, b_tokens, a_homes, a_homeSince, a_clients, a_path, a_keys, a_works, a_ranks, b_state, a_server, a_attempts, a_tried, a_came, b_ended, b_ends, a_late, b_queue, b_total, a_latest, b_sorted) := zj_R_in (by omega) (by omega) hD C Q nr
  obtain ⟨r0, hr0, HX0, HY0⟩ := zj_isPath v1
  unfold wpX_route
  refine HX0 _ ?_
  rcases hr0 with rfl | ⟨rfl, p, hok, rfl⟩
  · refine br_t rfl ?_
    unfold wpY_route
    exact HY0 _ (br_t rfl ⟨rfl, I'⟩)
  refine br_f n10 ?_
  by_cases hz2 : za_rg v2 0 63
  rotate_left
  · refine zx_w0 0 63 hz2 (by decide) (by decide) (br_t rfl ?_)
    unfold wpY_route
    exact HY0 _ (br_f n10 (zy_w0 0 63 hz2 (by decide) (by decide) (br_t rfl ⟨rfl, I'⟩)))
  refine zx_w1 0 63 hz2 (by decide) (by decide) (br_f n10 ?_)
  have hz2' := hz2
  obtain ⟨m, _, hm, rfl⟩ := hz2'
  obtain ⟨⟨e1, e2, e3, e4, e5, rfl, e7⟩, bnd, ⟨c1, c2, c3, c4, c5, c6, P, Tr, c9⟩, rest⟩ := C
  have P0 := P
  obtain ⟨hrn, hP, hds⟩ := P
  have hp1 := hok.1
  obtain ⟨r, hr1, hr2, hr3, HX, HY⟩ := zj_find (pa := a_paths) hrn (nI p)
  refine HX _ ?_
  have cr : (nI r).toNatClampNeg = r := nI_clamp (by omega)
  by_cases hr : r < rn
  · -- found
    have ir : vp_in (nI r) 12 := vp_in_nI (by omega) (by omega)
    have P' : zt_P rn a_paths (upd a_sets r (nI m)) := by
      refine ⟨hrn, fun j hj => ?_, hds⟩
      obtain ⟨p', m', g1, g2, g3, g4⟩ := hP j hj
      by_cases y : j = r
      · subst y; exact ⟨p', m, g1, by omega, g3, pk_us⟩
      · exact ⟨p', m', g1, g2, g3, by rw [pk_un y]; exact g4⟩
    obtain ⟨nd', nx', sv', pre', T', hnd', HG⟩ := zx_grow P' a_next a_servers
    refine br_f (fun z => by have := (nI_eq (a := r) (b := 12) (by omega) (by omega)).mp z; omega) (br_f (fun z => by have := (nI_eq (by omega) (by omega)).mp z; omega) ?_)
    refine And.intro ir (nm_r (e' := upd a_sets r (nI m)) (by rw [cr, za_vb2 (by omega)]) (HG _ ?_))
    show wpY_route (fun r' v' => r' = nI rn ∧ i_Rel (k + 6) (f_points, nI rn, nI nd', f_durations, f_requests, f_heaped, f_waiting, f_now, f_finished, 1, a_weight, a_slots, a_pace, a_running, a_broken, a_down, a_good, a_bad, a_shut, a_till, a_failures, a_successes, a_credit, a_settings, a_ringAt, a_ringServer, a_paths, upd a_sets r (nI m), nx', sv', a_homes, a_homeSince, a_latest, a_sorted, a_capacity, a_refill, a_bucket, a_countedAt, a_states, a_clients, a_path, a_ranks, a_keys, a_works, a_tried, a_attempts, a_server, a_late, a_came, a_ends, a_heap, a_queue, a_totals) v') (g_time, nI rn, f_requests, g_waiting, a_weight, a_slots, a_pace, b_till, a_failures, a_credit, a_successes, b_sick, b_well, a_broken, b_up, a_paths, a_sets, a_settings, a_capacity, a_refill, b_tokens, a_homes, a_homeSince, a_clients, a_path, a_keys, a_works, a_ranks, b_state, a_server, a_attempts, a_tried, a_came, b_ended, b_ends, a_late, b_queue, b_total, a_latest, b_sorted) (nI p) (nI m)
    unfold wpY_route
    refine HY0 _ (br_f n10 (zy_w1 0 63 hz2 (by decide) (by decide) (br_f n10 (HY _ ?_))))
    rw [if_pos hr]
    refine br_t (nI_pos' (by omega)) (br_t (nI_pos' (by omega)) (And.intro ir (nm_r (e' := a_paths) (by rw [cr]; exact za_us' (hr3 hr).symm) ⟨ir, nm_r (e' := upd a_sets r (nI m)) (by rw [cr]) ⟨rfl, ?_⟩⟩)))
    exact zj_R_in (N := N) (T := T) (D := D) (h := h) (np := np) (rn := rn) (nd := nd') (bf := bf) (pre := pre') (L := L) (by omega) (by omega) hD ⟨⟨e1, e2, e3, e4, e5, rfl, e7⟩, bnd, ⟨c1, c2, c3, c4, c5, c6, P', T', hnd'⟩, rest⟩ Q (fun z => absurd z n10)
  · have hrr : r = rn := by omega
    subst hrr
    by_cases h12 : r = 12
    · refine br_t (by rw [h12]; decide) ?_
      show wpY_route (fun r' v' => r' = -2 ∧ i_Rel (k + 6) (f_points, nI r, f_nodes, f_durations, f_requests, f_heaped, f_waiting, f_now, f_finished, f_touched, a_weight, a_slots, a_pace, a_running, a_broken, a_down, a_good, a_bad, a_shut, a_till, a_failures, a_successes, a_credit, a_settings, a_ringAt, a_ringServer, a_paths, a_sets, a_next, a_servers, a_homes, a_homeSince, a_latest, a_sorted, a_capacity, a_refill, a_bucket, a_countedAt, a_states, a_clients, a_path, a_ranks, a_keys, a_works, a_tried, a_attempts, a_server, a_late, a_came, a_ends, a_heap, a_queue, a_totals) v') (g_time, nI r, f_requests, g_waiting, a_weight, a_slots, a_pace, b_till, a_failures, a_credit, a_successes, b_sick, b_well, a_broken, b_up, a_paths, a_sets, a_settings, a_capacity, a_refill, b_tokens, a_homes, a_homeSince, a_clients, a_path, a_keys, a_works, a_ranks, b_state, a_server, a_attempts, a_tried, a_came, b_ended, b_ends, a_late, b_queue, b_total, a_latest, b_sorted) (nI p) (nI m)
      unfold wpY_route
      refine HY0 _ (br_f n10 (zy_w1 0 63 hz2 (by decide) (by decide) (br_f n10 (HY _ ?_))))
      rw [if_neg hr]
      exact br_f za_m1le (br_t (by rw [h12]; decide) ⟨rfl, I'⟩)
    · have ir : vp_in (nI r) 12 := vp_in_nI (by omega) (by omega)
      have P' : zt_P (r + 1) (upd a_paths r (nI p)) (upd a_sets r (nI m)) := by
        refine ⟨by omega, fun j hj => ?_, fun i j hi hj he => ?_⟩
        · by_cases y : j = r
          · subst y; exact ⟨p, m, hok, by omega, pk_us, pk_us⟩
          · obtain ⟨p', m', g1, g2, g3, g4⟩ := hP j (by omega)
            exact ⟨p', m', g1, g2, by rw [pk_un y]; exact g3, by rw [pk_un y]; exact g4⟩
        · by_cases y1 : i = r
          · by_cases y2 : j = r
            · omega
            · rw [y1, pk_us, pk_un y2] at he
              exact absurd he.symm (hr2 j (by omega))
          · by_cases y2 : j = r
            · rw [y2, pk_us, pk_un y1] at he
              exact absurd he (hr2 i (by omega))
            · rw [pk_un y1, pk_un y2] at he
              exact hds i j (by omega) (by omega) he
      obtain ⟨nd', nx', sv', pre', T', hnd', HG⟩ := zx_grow P' a_next a_servers
      refine br_f (fun z => by have := (nI_eq (a := r) (b := 12) (by omega) (by omega)).mp z; omega) (br_t rfl (nm_r (nI_1 r) ⟨ir, nm_r (e' := upd a_paths r (nI p)) (by rw [cr, za_vs2 (by omega)]) ?_⟩))
      refine And.intro ir (nm_r (e' := upd a_sets r (nI m)) (by rw [cr, za_vb2 (by omega)]) (HG _ ?_))
      show wpY_route (fun r' v' => r' = nI (r + 1) ∧ i_Rel (k + 6) (f_points, nI (r + 1), nI nd', f_durations, f_requests, f_heaped, f_waiting, f_now, f_finished, 1, a_weight, a_slots, a_pace, a_running, a_broken, a_down, a_good, a_bad, a_shut, a_till, a_failures, a_successes, a_credit, a_settings, a_ringAt, a_ringServer, upd a_paths r (nI p), upd a_sets r (nI m), nx', sv', a_homes, a_homeSince, a_latest, a_sorted, a_capacity, a_refill, a_bucket, a_countedAt, a_states, a_clients, a_path, a_ranks, a_keys, a_works, a_tried, a_attempts, a_server, a_late, a_came, a_ends, a_heap, a_queue, a_totals) v') (g_time, nI r, f_requests, g_waiting, a_weight, a_slots, a_pace, b_till, a_failures, a_credit, a_successes, b_sick, b_well, a_broken, b_up, a_paths, a_sets, a_settings, a_capacity, a_refill, b_tokens, a_homes, a_homeSince, a_clients, a_path, a_keys, a_works, a_ranks, b_state, a_server, a_attempts, a_tried, a_came, b_ended, b_ends, a_late, b_queue, b_total, a_latest, b_sorted) (nI p) (nI m)
      unfold wpY_route
      refine HY0 _ (br_f n10 (zy_w1 0 63 hz2 (by decide) (by decide) (br_f n10 (HY _ ?_))))
      rw [if_neg hr]
      refine br_f za_m1le (br_f (fun z => by have := (nI_eq (a := r) (b := 12) (by omega) (by omega)).mp z; omega) (br_f za_m1le (nm_r (nI_1 r) (And.intro ir (nm_r (e' := upd a_paths r (nI p)) (by rw [cr]) ⟨ir, nm_r (e' := upd a_sets r (nI m)) (by rw [cr]) ⟨rfl, ?_⟩⟩)))))
      exact zj_R_in (N := N) (T := T) (D := D) (h := h) (np := np) (rn := r + 1) (nd := nd') (bf := bf) (pre := pre') (L := L) (by omega) (by omega) hD ⟨⟨e1, e2, e3, e4, e5, rfl, e7⟩, bnd, ⟨c1, c2, c3, c4, c5, c6, P', T', hnd'⟩, rest⟩ Q (fun z => absurd z n10)
theorem i_vc_unroute {k : Nat} {u : SX} {v : SY} (I : i_Rel k u v) (hk : k + 6 ≤ 3072) (v1 : Int32) : wpX_unroute (fun r u' => wpY_unroute (fun r' v' => r' = r ∧ i_Rel (k + 6) u' v') v v1) u v1 := by
  refine zj_R_el (P := fun u v => wpX_unroute (fun r u' => wpY_unroute (fun r' v' => r' = r ∧ i_Rel (k + 6) u' v') v v1) u v1) ?_ I
  intro f_points f_routes f_nodes f_durations f_requests f_heaped f_waiting f_now f_finished f_touched g_time g_waiting a_weight a_slots a_pace a_running a_broken a_down a_good a_bad a_shut a_till a_failures a_successes a_credit a_settings a_ringAt a_ringServer a_paths a_sets a_next a_servers a_homes a_homeSince a_latest a_sorted a_capacity a_refill a_bucket a_countedAt a_states a_clients a_path a_ranks a_keys a_works a_tried a_attempts a_server a_late a_came a_ends a_heap a_queue b_till b_sick b_well b_up b_tokens b_state b_ended b_ends b_queue b_sorted a_totals b_total N T D h np rn nd bf pre L h1 h2 hD C Q nr
  have n10 : ¬ (1 : Int32) = 0 := by decide
  have I' : i_Rel (k + 6) (f_points, f_routes, f_nodes, f_durations, f_requests, f_heaped, f_waiting, f_now, f_finished, f_touched, a_weight, a_slots, a_pace, a_running, a_broken, a_down, a_good, a_bad, a_shut, a_till, a_failures, a_successes, a_credit, a_settings, a_ringAt, a_ringServer, a_paths, a_sets, a_next, a_servers, a_homes, a_homeSince, a_latest, a_sorted, a_capacity, a_refill, a_bucket, a_countedAt, a_states, a_clients, a_path, a_ranks, a_keys, a_works, a_tried, a_attempts, a_server, a_late, a_came, a_ends, a_heap, a_queue, a_totals) (g_time, f_routes, f_requests, g_waiting, a_weight, a_slots, a_pace, b_till, a_failures, a_credit, a_successes, b_sick, b_well, a_broken, b_up, a_paths, a_sets, a_settings, a_capacity, a_refill, b_tokens, a_homes, a_homeSince, a_clients, a_path, a_keys, a_works, a_ranks, b_state, a_server, a_attempts, a_tried, a_came, b_ended, b_ends, a_late, b_queue, b_total, a_latest, b_sorted) := zj_R_in (by omega) (by omega) hD C Q nr
  obtain ⟨⟨e1, e2, e3, e4, e5, rfl, e7⟩, bnd, ⟨c1, c2, c3, c4, c5, c6, P, Tr, c9⟩, rest⟩ := C
  obtain ⟨hrn, hP, hds⟩ := P
  obtain ⟨r, hr1, hr2, hr3, HX, HY⟩ := zj_find (pa := a_paths) hrn v1
  unfold wpX_unroute
  refine HX _ ?_
  have cr : (nI r).toNatClampNeg = r := nI_clamp (by omega)
  by_cases hr : r < rn
  · obtain ⟨n', rfl⟩ : ∃ n', rn = n' + 1 := ⟨rn - 1, by omega⟩
    have ir : vp_in (nI r) 12 := vp_in_nI (by omega) (by omega)
    have il : vp_in (nI n') 12 := vp_in_nI (by omega) (by omega)
    have cl : (nI n').toNatClampNeg = n' := nI_clamp (by omega)
    obtain ⟨p0, m0, g1, g2, g3, g4⟩ := hP n' (by omega)
    have hp0 := g1.1
    have P' : zt_P n' (upd a_paths r (a_paths n')) (upd a_sets r (a_sets n')) := by
      refine ⟨by omega, fun j hj => ?_, fun i j hi hj he => ?_⟩
      · by_cases y : j = r
        · subst y; exact ⟨p0, m0, g1, g2, by rw [pk_us]; exact g3, by rw [pk_us]; exact g4⟩
        · obtain ⟨p', m', k1, k2, k3, k4⟩ := hP j (by omega)
          exact ⟨p', m', k1, k2, by rw [pk_un y]; exact k3, by rw [pk_un y]; exact k4⟩
      · by_cases y1 : i = r
        · by_cases y2 : j = r
          · omega
          · rw [y1, pk_us, pk_un y2] at he
            have := hds n' j (by omega) (by omega) he
            omega
        · by_cases y2 : j = r
          · rw [y2, pk_us, pk_un y1] at he
            have := hds i n' (by omega) (by omega) he
            omega
          · rw [pk_un y1, pk_un y2] at he
            exact hds i j (by omega) (by omega) he
    obtain ⟨nd', nx', sv', pre', T', hnd', HG⟩ := zx_grow P' a_next a_servers
    refine br_f (fun z => by have := (nI_eq (by omega) (by omega)).mp z; omega) (nm_r (nI_pred n') ⟨il, ir, nm_r (e' := upd a_paths r (a_paths n')) (by rw [cr, cl, g3, za_vs (by omega)]) ⟨il, ir, nm_r (e' := upd a_sets r (a_sets n')) (by rw [cr, cl, g4, za_vb (by omega)]) (HG _ ?_)⟩⟩)
    show wpY_unroute (fun r' v' => r' = 1 ∧ i_Rel (k + 6) (f_points, nI n', nI nd', f_durations, f_requests, f_heaped, f_waiting, f_now, f_finished, 1, a_weight, a_slots, a_pace, a_running, a_broken, a_down, a_good, a_bad, a_shut, a_till, a_failures, a_successes, a_credit, a_settings, a_ringAt, a_ringServer, upd a_paths r (a_paths n'), upd a_sets r (a_sets n'), nx', sv', a_homes, a_homeSince, a_latest, a_sorted, a_capacity, a_refill, a_bucket, a_countedAt, a_states, a_clients, a_path, a_ranks, a_keys, a_works, a_tried, a_attempts, a_server, a_late, a_came, a_ends, a_heap, a_queue, a_totals) v') (g_time, nI (n' + 1), f_requests, g_waiting, a_weight, a_slots, a_pace, b_till, a_failures, a_credit, a_successes, b_sick, b_well, a_broken, b_up, a_paths, a_sets, a_settings, a_capacity, a_refill, b_tokens, a_homes, a_homeSince, a_clients, a_path, a_keys, a_works, a_ranks, b_state, a_server, a_attempts, a_tried, a_came, b_ended, b_ends, a_late, b_queue, b_total, a_latest, b_sorted) v1
    unfold wpY_unroute
    refine HY _ ?_
    rw [if_pos hr]
    refine br_t (nI_pos' (by omega)) (nm_r (nI_pred n') ⟨il, ir, nm_r (e' := upd a_paths r (a_paths n')) (by rw [cr, cl]) ⟨il, ir, nm_r (e' := upd a_sets r (a_sets n')) (by rw [cr, cl]) ⟨rfl, ?_⟩⟩⟩)
    exact zj_R_in (N := N) (T := T) (D := D) (h := h) (np := np) (rn := n') (nd := nd') (bf := bf) (pre := pre') (L := L) (by omega) (by omega) hD ⟨⟨e1, e2, e3, e4, e5, rfl, e7⟩, bnd, ⟨c1, c2, c3, c4, c5, c6, P', T', hnd'⟩, rest⟩ Q (fun z => absurd z n10)
  · have hrr : r = rn := by omega
    subst hrr
    refine br_t rfl ?_
    show wpY_unroute (fun r' v' => r' = 0 ∧ i_Rel (k + 6) (f_points, nI r, f_nodes, f_durations, f_requests, f_heaped, f_waiting, f_now, f_finished, f_touched, a_weight, a_slots, a_pace, a_running, a_broken, a_down, a_good, a_bad, a_shut, a_till, a_failures, a_successes, a_credit, a_settings, a_ringAt, a_ringServer, a_paths, a_sets, a_next, a_servers, a_homes, a_homeSince, a_latest, a_sorted, a_capacity, a_refill, a_bucket, a_countedAt, a_states, a_clients, a_path, a_ranks, a_keys, a_works, a_tried, a_attempts, a_server, a_late, a_came, a_ends, a_heap, a_queue, a_totals) v') (g_time, nI r, f_requests, g_waiting, a_weight, a_slots, a_pace, b_till, a_failures, a_credit, a_successes, b_sick, b_well, a_broken, b_up, a_paths, a_sets, a_settings, a_capacity, a_refill, b_tokens, a_homes, a_homeSince, a_clients, a_path, a_keys, a_works, a_ranks, b_state, a_server, a_attempts, a_tried, a_came, b_ended, b_ends, a_late, b_queue, b_total, a_latest, b_sorted) v1
    unfold wpY_unroute
    refine HY _ ?_
    rw [if_neg hr]
    exact br_f za_m1le ⟨rfl, I'⟩
end
end
section
/-! how long the latest ones took -/
section
variable {f_points f_routes f_nodes f_durations f_requests f_heaped f_waiting f_now f_finished f_touched g_time g_waiting : Int32}
variable {a_weight a_slots a_pace a_running a_broken a_down a_good a_bad a_shut a_till a_failures a_successes a_credit a_settings a_ringAt a_ringServer a_paths a_sets a_next a_servers a_homes a_homeSince a_latest a_sorted a_capacity a_refill a_bucket a_countedAt a_states a_clients a_path a_ranks a_keys a_works a_tried a_attempts a_server a_late a_came a_ends a_heap a_queue b_till b_sick b_well b_up b_tokens b_state b_ended b_ends b_queue b_sorted : Nat → Int32}
variable {a_totals b_total : Nat → Int64}
theorem zy_tk64 {i : Nat} {v : Int32} {so : Nat → Int32} (hi : i < 64) : ∀ k, k ≤ i → (∀ j, k ≤ j → j < i → v < so j) →
    ∃ k', k' ≤ i ∧ (∀ j, k' ≤ j → j < i → v < so j) ∧ (k' = 0 ∨ so (k' - 1) ≤ v) ∧
    ∀ {g_time f_routes f_requests g_waiting : Int32} {a_weight a_slots a_pace b_till a_failures a_credit a_successes b_sick b_well a_broken b_up a_paths a_sets a_settings a_capacity a_refill b_tokens a_homes a_homeSince a_clients a_path a_keys a_works a_ranks b_state a_server a_attempts a_tried a_came b_ended b_ends a_late b_queue a_latest : Nat → Int32} {b_total : Nat → Int64} (post : Int32 → SY → Prop) (x1 x2 : Int32) (J48 : Int32 → (Nat → Int32) → (Nat → Int32) → (Nat → Int32) → (Nat → Int32) → (Nat → Int32) → (Nat → Int32) → (Nat → Int32) → (Nat → Int32) → (Nat → Int32) → (Nat → Int32) → (Nat → Int32) → (Nat → Int32) → (Nat → Int32) → (Nat → Int32) → (Nat → Int32) → (Nat → Int32) → (Nat → Int32) → (Nat → Int32) → (Nat → Int32) → (Nat → Int32) → (Nat → Int32) → (Nat → Int32) → (Nat → Int32) → (Nat → Int32) → (Nat → Int32) → (Nat → Int32) → (Nat → Int32) → (Nat → Int32) → (Nat → Int32) → (Nat → Int32) → (Nat → Int32) → (Nat → Int32) → (Nat → Int32) → (Nat → Int64) → (Nat → Int32) → (Nat → Int32) → Prop) (N : Nat), k < N → J48 (nI (i + 1)) a_weight a_slots a_pace b_till a_failures a_credit a_successes b_sick b_well a_broken b_up a_paths a_sets a_settings a_capacity a_refill b_tokens a_homes a_homeSince a_clients a_path a_keys a_works a_ranks b_state a_server a_attempts a_tried a_came b_ended b_ends a_late b_queue b_total a_latest (zs_ins so i k' v) →
      wY_took_64 post J48 x1 x2 (nI i) v g_time f_routes f_requests g_waiting N (nI k) a_weight a_slots a_pace b_till a_failures a_credit a_successes b_sick b_well a_broken b_up a_paths a_sets a_settings a_capacity a_refill b_tokens a_homes a_homeSince a_clients a_path a_keys a_works a_ranks b_state a_server a_attempts a_tried a_came b_ended b_ends a_late b_queue b_total a_latest (zs_ps so i k) := by
  intro k
  induction k with
  | zero =>
    intro _ h
    refine ⟨0, by omega, h, Or.inl rfl, ?_⟩
    intros
    rename_i post x1 x2 J48 N hN hJ
    obtain ⟨M, rfl⟩ : ∃ M, N = M + 1 := ⟨N - 1, by omega⟩
    exact br_t (by rw [nI_0]; exact Int32.le_refl _) ⟨vp_in_nI (by omega) (by omega), nm_r (e' := zs_ins so i 0 v) (by rw [nI_clamp (by omega), zs_ps_end (by omega)]) (nm_r (nI_1 i) hJ)⟩
  | succ k ih =>
    intro hk h
    have hpos : ¬ nI (k + 1) ≤ 0 := nI_nle (by omega) (by omega)
    have epr : nI (k + 1) - 1 = nI k := nI_pred k
    have hin : vp_in (nI (k + 1) - 1) 64 := by rw [epr]; exact vp_in_nI (by omega) (by omega)
    have hin' : vp_in (nI (k + 1)) 64 := vp_in_nI (by omega) (by omega)
    have c : (nI (k + 1) - 1).toNatClampNeg = k := by rw [epr]; exact nI_clamp (by omega)
    have c' : (nI (k + 1)).toNatClampNeg = k + 1 := nI_clamp (by omega)
    have lo : zs_ps so i (k + 1) k = so k := zs_ps_lo (by omega)
    by_cases hc : so k ≤ v
    · refine ⟨k + 1, hk, h, Or.inr hc, ?_⟩
      intros
      rename_i post x1 x2 J48 N hN hJ
      obtain ⟨M, rfl⟩ : ∃ M, N = M + 1 := ⟨N - 1, by omega⟩
      exact br_f hpos ⟨hin, br_t (by rw [c, lo]; exact hc) ⟨hin', nm_r (e' := zs_ins so i (k + 1) v) (by rw [c', zs_ps_end hk]) (nm_r (nI_1 i) hJ)⟩⟩
    · obtain ⟨k', h1, h2, h3, H⟩ := ih (by omega) (fun j hj hj2 => by
        by_cases e : j = k
        · subst e; exact Int32.not_le.mp hc
        · exact h j (by omega) hj2)
      refine ⟨k', h1, h2, h3, ?_⟩
      intros
      rename_i post x1 x2 J48 N hN hJ
      obtain ⟨M, rfl⟩ : ∃ M, N = M + 1 := ⟨N - 1, by omega⟩
      refine br_f hpos ⟨hin, br_f (by rw [c, lo]; exact hc) ⟨hin, hin', nm_r (e' := zs_ps so i k) ?_ (nm_r (pk_m1 k) (H post x1 x2 J48 M (by omega) hJ))⟩⟩
      rw [c, c', lo]
      exact zs_ps_st (i := k + 1) (by omega) hk
theorem zy_tk48 {n : Nat} {la : Nat → Int32} (hn : n ≤ 64) : ∀ (d i : Nat) (so : Nat → Int32), i + d = n → zs_so so i → (∀ v, zc_n so v i = zc_n la v i) →
    ∃ so', zs_so so' n ∧ (∀ v, zc_n so' v n = zc_n la v n) ∧
    ∀ {g_time f_routes f_requests g_waiting : Int32} {a_weight a_slots a_pace b_till a_failures a_credit a_successes b_sick b_well a_broken b_up a_paths a_sets a_settings a_capacity a_refill b_tokens a_homes a_homeSince a_clients a_path a_keys a_works a_ranks b_state a_server a_attempts a_tried a_came b_ended b_ends a_late b_queue : Nat → Int32} {b_total : Nat → Int64} (post : Int32 → SY → Prop) (j : Nat), j < n → post (so' j) (g_time, f_routes, f_requests, g_waiting, a_weight, a_slots, a_pace, b_till, a_failures, a_credit, a_successes, b_sick, b_well, a_broken, b_up, a_paths, a_sets, a_settings, a_capacity, a_refill, b_tokens, a_homes, a_homeSince, a_clients, a_path, a_keys, a_works, a_ranks, b_state, a_server, a_attempts, a_tried, a_came, b_ended, b_ends, a_late, b_queue, b_total, la, so') →
      ∃ N, wY_took_48 post (nI j) (nI n) g_time f_routes f_requests g_waiting N (nI i) a_weight a_slots a_pace b_till a_failures a_credit a_successes b_sick b_well a_broken b_up a_paths a_sets a_settings a_capacity a_refill b_tokens a_homes a_homeSince a_clients a_path a_keys a_works a_ranks b_state a_server a_attempts a_tried a_came b_ended b_ends a_late b_queue b_total la so := by
  intro d
  induction d with
  | zero =>
    intro i so hi h1 h2
    have : i = n := by omega
    subst this
    refine ⟨so, h1, h2, ?_⟩
    intros
    rename_i post j hj hp
    refine ⟨1, br_t (Int32.le_refl _) ⟨vp_in_nI (by omega) (by omega), ?_⟩⟩
    rw [nI_clamp (by omega)]; exact hp
  | succ d ih =>
    intro i so hi h1 h2
    obtain ⟨k', q1, q2, q3, H64⟩ := zy_tk64 (i := i) (v := la i) (so := so) (by omega) i (by omega) (fun j h h' => by omega)
    rw [zs_ps0] at H64
    obtain ⟨so', s1, s2, H⟩ := ih (i + 1) (zs_ins so i k' (la i)) (by omega) (zs_so_ins h1 q1 (fun j hj hj2 => Int32.le_of_lt (q2 j hj hj2)) (fun j hj => by
        rcases q3 with z | z
        · omega
        · exact Int32.le_trans (h1 j (k' - 1) (by omega) (by omega)) z)) (fun v => by rw [zs_ins_cnt i q1, h2, zc_n_s])
    refine ⟨so', s1, s2, ?_⟩
    intros
    rename_i post j hj hp
    obtain ⟨N, hN⟩ := H post j hj hp
    refine ⟨N + 1, br_f (nI_ge (by omega) (by omega)) ⟨vp_in_nI (by omega) (by omega), nm_r (e' := la i) (by rw [nI_clamp (by omega)]) ⟨i + 1, H64 post _ _ _ (i + 1) (by omega) ?_⟩⟩⟩
    exact hN
theorem i_vc_took {k : Nat} {u : SX} {v : SY} (I : i_Rel k u v) (hk : k + 6 ≤ 3072) (v1 : Int32) : wpX_took (fun r => wpY_took (fun r' v' => r' = r ∧ i_Rel (k + 6) u v') v v1) u v1 := by
  refine zj_R_el (P := fun u v => wpX_took (fun r => wpY_took (fun r' v' => r' = r ∧ i_Rel (k + 6) u v') v v1) u v1) ?_ I
  intro f_points f_routes f_nodes f_durations f_requests f_heaped f_waiting f_now f_finished f_touched g_time g_waiting a_weight a_slots a_pace a_running a_broken a_down a_good a_bad a_shut a_till a_failures a_successes a_credit a_settings a_ringAt a_ringServer a_paths a_sets a_next a_servers a_homes a_homeSince a_latest a_sorted a_capacity a_refill a_bucket a_countedAt a_states a_clients a_path a_ranks a_keys a_works a_tried a_attempts a_server a_late a_came a_ends a_heap a_queue b_till b_sick b_well b_up b_tokens b_state b_ended b_ends b_queue b_sorted a_totals b_total N T D h np rn nd bf pre L h1 h2 hD C Q nr
  have I' : ∀ so' : Nat → Int32, i_Rel (k + 6) (f_points, f_routes, f_nodes, f_durations, f_requests, f_heaped, f_waiting, f_now, f_finished, f_touched, a_weight, a_slots, a_pace, a_running, a_broken, a_down, a_good, a_bad, a_shut, a_till, a_failures, a_successes, a_credit, a_settings, a_ringAt, a_ringServer, a_paths, a_sets, a_next, a_servers, a_homes, a_homeSince, a_latest, a_sorted, a_capacity, a_refill, a_bucket, a_countedAt, a_states, a_clients, a_path, a_ranks, a_keys, a_works, a_tried, a_attempts, a_server, a_late, a_came, a_ends, a_heap, a_queue, a_totals) (g_time, f_routes, f_requests, g_waiting, a_weight, a_slots, a_pace, b_till, a_failures, a_credit, a_successes, b_sick, b_well, a_broken, b_up, a_paths, a_sets, a_settings, a_capacity, a_refill, b_tokens, a_homes, a_homeSince, a_clients, a_path, a_keys, a_works, a_ranks, b_state, a_server, a_attempts, a_tried, a_came, b_ended, b_ends, a_late, b_queue, b_total, a_latest, so') := fun so' => zj_R_in (by omega) (by omega) hD C Q nr
  obtain ⟨⟨e1, e2, e3, e4, e5, e6, rfl, e8⟩, ⟨hN, hT, hTc, hTe, hD2⟩, cf, hmm, tk, sl, en, hp, ru, ck, bk, to, rm⟩ := C
  obtain ⟨rm1, rm2⟩ := rm
  have n10 : ¬ (1 : Int32) = 0 := by decide
  have et : b_total 2 = lN D := to.2.1
  generalize hn : min D 64 = n at rm1 rm2
  have hn64 : n ≤ 64 := by omega
  obtain ⟨so', s1, s2, H48⟩ := zy_tk48 (n := n) (la := a_latest) hn64 n 0 b_sorted (by omega) (fun i j _ h => by omega) (fun v => rfl)
  have hu := zs_uniq n s1 rm1 (fun v => by rw [s2, rm2])
  -- Y: from its number of times on
  have hY25 : ∀ post : Int32 → SY → Prop, wY_took_25 post v1 (nI n) g_time f_routes f_requests g_waiting a_weight a_slots a_pace b_till a_failures a_credit a_successes b_sick b_well a_broken b_up a_paths a_sets a_settings a_capacity a_refill b_tokens a_homes a_homeSince a_clients a_path a_keys a_works a_ranks b_state a_server a_attempts a_tried a_came b_ended b_ends a_late b_queue b_total a_latest b_sorted → wpY_took post (g_time, f_routes, f_requests, g_waiting, a_weight, a_slots, a_pace, b_till, a_failures, a_credit, a_successes, b_sick, b_well, a_broken, b_up, a_paths, a_sets, a_settings, a_capacity, a_refill, b_tokens, a_homes, a_homeSince, a_clients, a_path, a_keys, a_works, a_ranks, b_state, a_server, a_attempts, a_tried, a_came, b_ended, b_ends, a_late, b_queue, b_total, a_latest, b_sorted) v1 := by
    intro post hp
    unfold wpY_took
    show (b_total 2 ≤ 64 → _) ∧ (¬ b_total 2 ≤ 64 → _)
    rw [et]
    have h64 : lN D ≤ 64 ↔ D ≤ 64 := lN_le (b := 64) (by omega) (by omega)
    by_cases z : D ≤ 64
    · refine br_t (h64.mpr z) ?_
      rw [lN_i, show D = n by omega]; exact hp
    · refine br_f (fun y => z (h64.mp y)) ?_
      have : n = 64 := by omega
      rw [this] at hp; exact hp
  have hX18 : ∀ post : Int32 → Prop, wX_took_18 post v1 (nI n) f_points f_routes f_nodes (nI (zj_dn D)) f_requests f_heaped f_waiting f_now f_finished f_touched a_weight a_slots a_pace a_running a_broken a_down a_good a_bad a_shut a_till a_failures a_successes a_credit a_settings a_ringAt a_ringServer a_paths a_sets a_next a_servers a_homes a_homeSince a_latest a_sorted a_capacity a_refill a_bucket a_countedAt a_states a_clients a_path a_ranks a_keys a_works a_tried a_attempts a_server a_late a_came a_ends a_heap a_queue a_totals → wpX_took post (f_points, f_routes, f_nodes, nI (zj_dn D), f_requests, f_heaped, f_waiting, f_now, f_finished, f_touched, a_weight, a_slots, a_pace, a_running, a_broken, a_down, a_good, a_bad, a_shut, a_till, a_failures, a_successes, a_credit, a_settings, a_ringAt, a_ringServer, a_paths, a_sets, a_next, a_servers, a_homes, a_homeSince, a_latest, a_sorted, a_capacity, a_refill, a_bucket, a_countedAt, a_states, a_clients, a_path, a_ranks, a_keys, a_works, a_tried, a_attempts, a_server, a_late, a_came, a_ends, a_heap, a_queue, a_totals) v1 := by
    intro post hp
    unfold wpX_took
    by_cases z : D < 64
    · have ed : zj_dn D = n := by unfold zj_dn; rw [if_pos z]; omega
      refine br_f (by rw [ed]; exact nI_ge (b := 64) (by omega) (by decide)) ?_
      rw [ed]; rw [ed] at hp; exact hp
    · have ed : zj_dn D = 64 + D % 64 := by unfold zj_dn; rw [if_neg z]
      have : n = 64 := by omega
      refine br_t (by rw [ed]; exact nI_le (a := 64) (by omega) (by omega)) ?_
      rw [this] at hp; exact hp
  refine hX18 _ ?_
  by_cases hm : v1 = -1
  · exact br_t hm (hY25 _ (br_t hm ⟨rfl, I' _⟩))
  refine br_f hm ?_
  by_cases h0 : v1 < 0
  · exact br_t h0 (hY25 _ (br_f hm (br_t h0 (br_t rfl ⟨rfl, I' _⟩))))
  obtain ⟨j, hj, rfl⟩ := nI_of h0
  refine br_f h0 ?_
  by_cases hw : n ≤ j
  · refine br_t (nI_le hw hj) (hY25 _ (br_f hm (br_f h0 (br_t ?_ (br_t rfl ⟨rfl, I' _⟩)))))
    rcases Nat.eq_zero_or_pos n with z | z
    · rw [z, za_lt, nI_toInt hj, show (nI 0 - 1).toInt = -1 from by decide]; omega
    · rw [za_p1 z]; exact nI_lt (by omega) hj
  · refine br_f (nI_ge (by omega) (by omega)) ⟨vp_in_nI (by omega) (by omega), hY25 _ (br_f hm (br_f h0 (br_f ?_ (br_f n10 (H48 _ j (by omega) ⟨?_, I' so'⟩)))))⟩
    · rw [za_p1 (by omega)]; exact nI_nlt (by omega) (by omega)
    · rw [nI_clamp hj]; exact hu j (by omega)
end
end
section
/-! a new request: its slot; a rejection; the queue's new member -/
section
variable {f_points f_routes f_nodes f_durations f_requests f_heaped f_waiting f_now f_finished f_touched g_time g_waiting : Int32}
variable {a_weight a_slots a_pace a_running a_broken a_down a_good a_bad a_shut a_till a_failures a_successes a_credit a_settings a_ringAt a_ringServer a_paths a_sets a_next a_servers a_homes a_homeSince a_latest a_sorted a_capacity a_refill a_bucket a_countedAt a_states a_clients a_path a_ranks a_keys a_works a_tried a_attempts a_server a_late a_came a_ends a_heap a_queue b_till b_sick b_well b_up b_tokens b_state b_ended b_ends b_queue b_sorted : Nat → Int32}
variable {a_totals b_total : Nat → Int64}
theorem zj_hq_win {N h : Nat} {Rn Rn' : Nat → Prop} {hp en : Nat → Int32} (h1 : ∀ m, zw_W N m → Rn m → zw_W (N + 1) m ∧ Rn' m) (h2 : ∀ m, zw_W (N + 1) m → Rn' m → zw_W N m ∧ Rn m)
    (H : zj_hq N h Rn hp en) : zj_hq (N + 1) h Rn' hp en := by
  obtain ⟨a, b, c, d, e⟩ := H
  refine ⟨a, b, c, fun i hi => ?_, fun m hm hr => ?_⟩
  · obtain ⟨m, k, q1, q2, q3, q4, q5⟩ := d i hi
    obtain ⟨g1, g2⟩ := h1 m q1 q2
    exact ⟨m, k, g1, g2, q3, q4, q5⟩
  · obtain ⟨g1, g2⟩ := h2 m hm hr
    exact e m g1 g2
theorem zj_ru_new {ru st sv sv' : Nat → Int32} {N : Nat} (H : zj_ru ru st sv N) (h1 : N % 32 < N → ¬ st (N % 32) = 1) (hs : ∀ i, i ≠ N % 32 → sv' i = sv i) : zj_ru ru (upd st (N % 32) 0) sv' (N + 1) := by
  have hq : N % 32 < 32 := Nat.mod_lt _ (by decide)
  refine zj_ru_next ?_ (by rw [pk_us]; decide)
  intro t ht
  have := zj_run_chg (st := st) (sv := sv) (st' := upd st (N % 32) 0) (sv' := sv') (N := N) (s := t) hq (fun i hi => ⟨pk_un hi, hs i hi⟩)
  rw [pk_us, decide_eq_false (show ¬ (0 : Int32) = 1 by decide)] at this
  have e : (decide (N % 32 < N) && (decide (st (N % 32) = 1) && decide (sv (N % 32) = nI t))) = false := by
    by_cases z : N % 32 < N
    · rw [decide_eq_false (h1 z)]; simp
    · rw [decide_eq_false z]; simp
  rw [e] at this
  simp only [Bool.false_and, Bool.and_false, Bool.false_eq_true, if_false, Nat.add_zero] at this
  rw [H t ht, this]
/-- of the slot that a new request takes -/
theorem zw_new {N m : Nat} {st : Nat → Int32} {x : Int32} (hold : 31 < N → 1 < st (N % 32)) (hx : ¬ 1 < x) (hm : zw_W N m) (hs : st (m % 32) = x) : m % 32 ≠ N % 32 ∧ zw_W (N + 1) m := by
  have hne : m % 32 ≠ N % 32 := by
    intro e
    by_cases z : 31 < N
    · have := hold z
      rw [← e, hs] at this
      exact hx this
    · unfold zw_W at hm; omega
  refine ⟨hne, ?_⟩
  unfold zw_W at hm ⊢
  omega
theorem zj_new {N T Tc Te D h np rn nd c b p ky wo cap r : Nat} {rk : Int32} {bf : Int64} {pre : Nat → Nat} (C : zj_C N T Tc Te D h bf np rn nd pre f_points f_routes f_nodes f_durations f_requests f_heaped f_waiting f_now f_finished f_touched a_weight a_slots a_pace a_running a_broken a_down a_good a_bad a_shut a_till a_failures a_successes a_credit a_settings a_ringAt a_ringServer a_paths a_sets a_next a_servers a_homes a_homeSince a_latest a_sorted a_capacity a_refill a_bucket a_countedAt a_states a_clients a_path a_ranks a_keys a_works a_tried a_attempts a_server a_late a_came a_ends a_heap a_queue a_totals g_time g_waiting b_till b_sick b_well b_up b_tokens b_state b_ended b_ends b_queue b_sorted b_total) (hN1 : N + 1 < 4096) (hold : 31 < N → 1 < a_states (N % 32))
    (hc : c < 6) (hcap : cap ≤ 20) (hr1 : 1 ≤ r) (hr2 : r ≤ 100) (e1 : a_capacity c = nI cap) (e2 : a_refill c = nI r) (hb : b ≤ cap) (hok : zt_ok p) (hky : ky < 256) (hwo1 : 1 ≤ wo) (hwo2 : wo ≤ 100) :
    zj_C (N + 1) T Tc Te D h bf np rn nd pre f_points f_routes f_nodes f_durations (nI (N + 1)) f_heaped f_waiting f_now f_finished f_touched a_weight a_slots a_pace a_running a_broken a_down a_good a_bad a_shut a_till a_failures a_successes a_credit a_settings a_ringAt a_ringServer a_paths a_sets a_next a_servers a_homes a_homeSince a_latest a_sorted a_capacity a_refill (upd a_bucket c (nI b)) (upd a_countedAt c (nI T)) (upd a_states (N % 32) 0) (upd a_clients (N % 32) (nI c)) (upd a_path (N % 32) (nI p)) (upd a_ranks (N % 32) rk) (upd a_keys (N % 32) (nI ky)) (upd a_works (N % 32) (nI wo)) (upd a_tried (N % 32) 0) (upd a_attempts (N % 32) 0) (upd a_server (N % 32) (-1)) a_late (upd a_came (N % 32) (nI T)) a_ends a_heap a_queue a_totals g_time g_waiting b_till b_sick b_well b_up (upd b_tokens c (nI b)) (upd b_state (N % 32) 0) (upd b_ended (N % 32) (-1)) b_ends b_queue b_sorted (vp_updL b_total 0 (b_total 0 + 1)) := by
  obtain ⟨⟨rfl, rfl, rfl, rfl, rfl, rfl, rfl, rfl⟩, ⟨hN, hT, hTc, hTe, hD⟩, cf, hmm, tk, sl, en, hp, ru, ck, bk, to, rm⟩ := C
  have hq32 : N % 32 < 32 := Nat.mod_lt _ (by decide)
  have lt : ∀ i, i ≠ N % 32 → i < 32 → i < N + 1 → i < N := by intro i h1 h2 h3; omega
  have n01 : ¬ (0 : Int32) = 1 := by decide
  have n11 : ¬ (1 : Int32) < 1 := by decide
  refine ⟨⟨rfl, rfl, rfl, rfl, rfl, rfl, rfl, rfl⟩, ⟨hN1, hT, hTc, hTe, hD⟩, cf, hmm, ?_, ?_, ?_, ?_, ?_, ck, bk, zj_to0 to, rm⟩
  · intro t ht
    by_cases y : t = c
    · subst y
      exact ⟨cap, r, b, T, hcap, hr1, hr2, hb, by omega, e1, e2, pk_us, pk_us, by rw [pk_us, zk_F0 hb]⟩
    · obtain ⟨cap', r', b', ca', i1, i2, i3, i4, i5, i6, i7, i8, i9, i10⟩ := tk t ht
      exact ⟨cap', r', b', ca', i1, i2, i3, i4, i5, i6, i7, by rw [pk_un y]; exact i8, by rw [pk_un y]; exact i9, by rw [pk_un y]; exact i10⟩
  · intro i hi hiN
    by_cases y : i = N % 32
    · subst y
      exact ⟨⟨c, hc, pk_us⟩, ⟨p, hok, pk_us⟩, ⟨ky, hky, pk_us⟩, ⟨wo, hwo1, hwo2, pk_us⟩, ⟨0, by omega, pk_us⟩, ⟨0, by omega, pk_us⟩, ⟨T, by omega, pk_us⟩, ⟨0, by omega, pk_us⟩, fun z => by rw [pk_us] at z; exact absurd z n01⟩
    · have := sl i hi (lt i y hi hiN)
      unfold zj_s1 at this ⊢
      rw [pk_un y, pk_un y, pk_un y, pk_un y, pk_un y, pk_un y, pk_un y, pk_un y, pk_un y]
      exact this
  · intro i hi hiN
    by_cases y : i = N % 32
    · subst y
      refine ⟨fun z => ?_, fun z => ?_, fun _ => pk_us⟩
      · rw [pk_us] at z; exact absurd z n01
      · rw [pk_us] at z; exact absurd z (by decide)
    · have := en i hi (lt i y hi hiN)
      unfold zj_e1 at this ⊢
      rw [pk_un y, pk_un y]
      exact this
  · refine zj_hq_win (fun m hm hr => ?_) (fun m hm hr => ?_) hp
    · obtain ⟨g1, g2⟩ := zw_new hold n11 hm hr
      exact ⟨g2, by rw [pk_un g1]; exact hr⟩
    · have hne : m % 32 ≠ N % 32 := by
        intro e
        rw [e, pk_us] at hr; exact n01 hr
      rw [pk_un hne] at hr
      refine ⟨?_, hr⟩
      unfold zw_W at hm ⊢
      have : m ≠ N := fun e => hne (by rw [e])
      omega
  · refine zj_ru_new ru (fun z h1 => ?_) (fun i hi => pk_un hi)
    by_cases y : 31 < N
    · have := hold y
      rw [h1] at this; exact n11 this
    · omega
/-- a rejection of a request that isn't running -/
theorem zj_rej {N T Tc Te D h m np rn nd : Nat} {bf : Int64} {pre : Nat → Nat} (C : zj_C N T Tc Te D h bf np rn nd pre f_points f_routes f_nodes f_durations f_requests f_heaped f_waiting f_now f_finished f_touched a_weight a_slots a_pace a_running a_broken a_down a_good a_bad a_shut a_till a_failures a_successes a_credit a_settings a_ringAt a_ringServer a_paths a_sets a_next a_servers a_homes a_homeSince a_latest a_sorted a_capacity a_refill a_bucket a_countedAt a_states a_clients a_path a_ranks a_keys a_works a_tried a_attempts a_server a_late a_came a_ends a_heap a_queue a_totals g_time g_waiting b_till b_sick b_well b_up b_tokens b_state b_ended b_ends b_queue b_sorted b_total) (hst : a_states (m % 32) = 0) :
    zj_C N T Tc Te D h bf np rn nd pre f_points f_routes f_nodes f_durations f_requests f_heaped f_waiting f_now f_finished f_touched a_weight a_slots a_pace a_running a_broken a_down a_good a_bad a_shut a_till a_failures a_successes a_credit a_settings a_ringAt a_ringServer a_paths a_sets a_next a_servers a_homes a_homeSince a_latest a_sorted a_capacity a_refill a_bucket a_countedAt (upd a_states (m % 32) 5) a_clients a_path a_ranks a_keys a_works a_tried a_attempts a_server a_late a_came (upd a_ends (m % 32) (nI T)) a_heap a_queue (vp_updL a_totals 5 (a_totals 5 + 1)) g_time g_waiting b_till b_sick b_well b_up b_tokens (upd b_state (m % 32) 5) (upd b_ended (m % 32) (nI T)) b_ends b_queue b_sorted (vp_updL b_total 5 (b_total 5 + 1)) := by
  obtain ⟨⟨rfl, rfl, rfl, rfl, rfl, rfl, rfl, rfl⟩, ⟨hN, hT, hTc, hTe, hD⟩, cf, hmm, tk, sl, en, hp, ru, ck, bk, to, rm⟩ := C
  have hq32 : m % 32 < 32 := Nat.mod_lt _ (by decide)
  have n01 : ¬ (0 : Int32) = 1 := by decide
  have n51 : ¬ (5 : Int32) = 1 := by decide
  refine ⟨⟨rfl, rfl, rfl, rfl, rfl, rfl, rfl, rfl⟩, ⟨hN, hT, hTc, hTe, hD⟩, cf, hmm, tk, ?_, ?_, ?_, ?_, ck, bk, zj_to56 (Or.inl rfl) to, rm⟩
  · refine zj_sl_upd (q := m % 32) sl (fun i hi => ⟨pk_un hi, rfl, rfl, rfl, rfl, rfl, rfl, rfl, rfl⟩) (fun h1 h2 => ?_)
    obtain ⟨a1, a2, a3, a4, a5, a6, a7, a8, a9⟩ := sl (m % 32) h1 h2
    exact ⟨a1, a2, a3, a4, a5, a6, a7, ⟨5, by omega, pk_us⟩, fun z => by rw [pk_us] at z; exact absurd z n51⟩
  · refine zj_en_upd (q := m % 32) en (fun i hi => ⟨pk_un hi, pk_un hi, rfl, pk_un hi⟩) (fun _ _ => ⟨fun z => ?_, fun _ => by rw [pk_us, pk_us], fun z => ?_⟩)
    · rw [pk_us] at z; exact absurd z n51
    · rw [pk_us] at z; exact absurd (by decide) z
  · refine zj_hq_congr hN (fun m' hw' => ?_) (fun m' hw' hr' => ?_) hp
    · by_cases e : m' % 32 = m % 32
      · rw [e, pk_us, hst]
        exact ⟨fun z => absurd z n01, fun z => absurd z n51⟩
      · rw [pk_un e]
    · rw [pk_un (fun e => n01 (by rw [← hst, ← e]; exact hr'))]
  · exact zj_ru_none ru hq32 (by rw [hst]; exact n01) n51 (fun _ _ => rfl)
/-- Y puts the new one at k -/
theorem zy_65 {n k w : Nat} {qb : Nat → Int32} {post : SY → Prop} (hk : k ≤ w) (hw : w < 8) (hp : post (g_time, f_routes, nI (n + 1), nI (w + 1), a_weight, a_slots, a_pace, b_till, a_failures, a_credit, a_successes, b_sick, b_well, a_broken, b_up, a_paths, a_sets, a_settings, a_capacity, a_refill, b_tokens, a_homes, a_homeSince, a_clients, a_path, a_keys, a_works, a_ranks, b_state, a_server, a_attempts, a_tried, a_came, b_ended, b_ends, a_late, zs_ins qb w k (nI n), b_total, a_latest, b_sorted)) :
    wY_place_65 post (nI k) g_time f_routes (nI (n + 1)) (nI w) a_weight a_slots a_pace b_till a_failures a_credit a_successes b_sick b_well a_broken b_up a_paths a_sets a_settings a_capacity a_refill b_tokens a_homes a_homeSince a_clients a_path a_keys a_works a_ranks b_state a_server a_attempts a_tried a_came b_ended b_ends a_late (zs_ps qb w k) b_total a_latest b_sorted := by
  have ik : vp_in (nI k) 9 := vp_in_nI (by omega) (by omega)
  have ck : (nI k).toNatClampNeg = k := nI_clamp (by omega)
  exact And.intro ik (nm_r (e' := zs_ins qb w k (nI n)) (by rw [ck, nI_pred, zs_ps_end hk]) (nm_r (nI_1 w) (br_f (nI_ge (b := 9) (by omega) (by decide)) hp)))
theorem zy_65f {n k ml : Nat} {qb : Nat → Int32} {post : SY → Prop} (hk : k ≤ 8) (hm : ml < 2 ^ 31) (e8 : zs_ins qb 8 k (nI n) 8 = nI ml)
    (hp : post (g_time, f_routes, nI (n + 1), nI 8, a_weight, a_slots, a_pace, b_till, a_failures, a_credit, a_successes, b_sick, b_well, a_broken, b_up, a_paths, a_sets, a_settings, a_capacity, a_refill, b_tokens, a_homes, a_homeSince, a_clients, a_path, a_keys, a_works, a_ranks, upd b_state (ml % 32) 5, a_server, a_attempts, a_tried, a_came, upd b_ended (ml % 32) g_time, b_ends, a_late, zs_ins qb 8 k (nI n), vp_updL b_total 5 (b_total 5 + 1), a_latest, b_sorted)) :
    wY_place_65 post (nI k) g_time f_routes (nI (n + 1)) (nI 8) a_weight a_slots a_pace b_till a_failures a_credit a_successes b_sick b_well a_broken b_up a_paths a_sets a_settings a_capacity a_refill b_tokens a_homes a_homeSince a_clients a_path a_keys a_works a_ranks b_state a_server a_attempts a_tried a_came b_ended b_ends a_late (zs_ps qb 8 k) b_total a_latest b_sorted := by
  have ik : vp_in (nI k) 9 := vp_in_nI (by omega) (by omega)
  have ck : (nI k).toNatClampNeg = k := nI_clamp (by omega)
  refine And.intro ik (nm_r (e' := zs_ins qb 8 k (nI n)) (by rw [ck, nI_pred, zs_ps_end hk]) (nm_r (nI_1 8) (br_t (by decide) ⟨by decide, ?_⟩)))
  rw [e8, za_r32 hm]
  exact zy_over (k := 5) rfl (by omega) (by omega) hp
end
end
section
/-! a new request finds its place -/
section
variable {f_points f_routes f_nodes f_durations f_requests f_heaped f_waiting f_now f_finished f_touched g_time g_waiting : Int32}
variable {a_weight a_slots a_pace a_running a_broken a_down a_good a_bad a_shut a_till a_failures a_successes a_credit a_settings a_ringAt a_ringServer a_paths a_sets a_next a_servers a_homes a_homeSince a_latest a_sorted a_capacity a_refill a_bucket a_countedAt a_states a_clients a_path a_ranks a_keys a_works a_tried a_attempts a_server a_late a_came a_ends a_heap a_queue b_till b_sick b_well b_up b_tokens b_state b_ended b_ends b_queue b_sorted : Nat → Int32}
variable {a_totals b_total : Nat → Int64}
theorem zl_ndm {L : List Nat} {k n : Nat} (h : L.Nodup) (hn : n ∉ L) : (L.take k ++ n :: L.drop k).Nodup ∧ ∀ m, m ∈ L.take k ++ n :: L.drop k → m = n ∨ m ∈ L := by
  have hm : ∀ m, m ∈ L.take k ++ n :: L.drop k → m = n ∨ m ∈ L := by
    intro m hm
    rcases List.mem_append.mp hm with z | z
    · exact Or.inr (List.mem_of_mem_take z)
    · rcases List.mem_cons.mp z with y | y
      · exact Or.inl y
      · exact Or.inr (List.mem_of_mem_drop y)
  refine ⟨?_, hm⟩
  have e : L = L.take k ++ L.drop k := (List.take_append_drop k L).symm
  rw [e, List.nodup_append] at h
  obtain ⟨h1, h2, h3⟩ := h
  rw [List.nodup_append]
  refine ⟨h1, List.nodup_cons.mpr ⟨fun z => hn (List.mem_of_mem_drop z), h2⟩, ?_⟩
  intro a ha b hb
  rcases List.mem_cons.mp hb with y | y
  · subst y
    intro z
    subst z
    exact hn (List.mem_of_mem_take ha)
  · exact h3 a ha b y
theorem zl_len {L : List Nat} {k n : Nat} (hk : k ≤ L.length) : (L.take k).length = k ∧ (L.take k ++ n :: L.drop k).length = L.length + 1 := by
  refine ⟨by rw [List.length_take]; omega, ?_⟩
  rw [List.length_append, List.length_cons, List.length_take, List.length_drop]
  omega
theorem zj_line {n T Tc Te D h np rn nd Dm : Nat} {bf : Int64} {pre : Nat → Nat} {L : List Nat} (hD : D ≤ Dm) (C : zj_C (n + 1) T Tc Te D h bf np rn nd pre f_points f_routes f_nodes f_durations f_requests f_heaped f_waiting f_now f_finished f_touched a_weight a_slots a_pace a_running a_broken a_down a_good a_bad a_shut a_till a_failures a_successes a_credit a_settings a_ringAt a_ringServer a_paths a_sets a_next a_servers a_homes a_homeSince a_latest a_sorted a_capacity a_refill a_bucket a_countedAt a_states a_clients a_path a_ranks a_keys a_works a_tried a_attempts a_server a_late a_came a_ends a_heap a_queue a_totals g_time g_waiting b_till b_sick b_well b_up b_tokens b_state b_ended b_ends b_queue b_sorted b_total)
    (Q : zj_Q (n + 1) L f_waiting g_waiting a_queue b_queue a_states a_attempts) (hst : a_states (n % 32) = 0) (hat : a_attempts (n % 32) = 0) (hnL : n ∉ L) :
    ∃ L' u' v', zj_S (n + 1) T Tc Te Dm bf L' u' v' ∧
    ((∀ m, m = n ∨ m ∈ L → ∀ s, s < 6 → zj_rq f_routes a_paths a_sets a_weight a_down a_running a_slots a_shut a_till a_tried a_path f_now m s = false) → zj_nr L' u') ∧ px_to u' = f_touched ∧
    (∀ K : SX → Prop, K u' → wpX_line K (f_points, f_routes, f_nodes, f_durations, f_requests, f_heaped, f_waiting, f_now, f_finished, f_touched, a_weight, a_slots, a_pace, a_running, a_broken, a_down, a_good, a_bad, a_shut, a_till, a_failures, a_successes, a_credit, a_settings, a_ringAt, a_ringServer, a_paths, a_sets, a_next, a_servers, a_homes, a_homeSince, a_latest, a_sorted, a_capacity, a_refill, a_bucket, a_countedAt, a_states, a_clients, a_path, a_ranks, a_keys, a_works, a_tried, a_attempts, a_server, a_late, a_came, a_ends, a_heap, a_queue, a_totals) (nI n)) ∧ (∀ K : SY → Prop, K v' → ∃ N, wY_place_16 K (nI (n % 32)) g_time f_routes f_requests g_waiting N g_waiting a_weight a_slots a_pace b_till a_failures a_credit a_successes b_sick b_well a_broken b_up a_paths a_sets a_settings a_capacity a_refill b_tokens a_homes a_homeSince a_clients a_path a_keys a_works a_ranks b_state a_server a_attempts a_tried a_came b_ended b_ends a_late b_queue b_total a_latest b_sorted) := by
  have hN : n + 1 < 4096 := C.2.1.1
  have eN : f_requests = nI (n + 1) := C.1.1
  have eT : f_now = nI T := C.1.2.1
  have eT2 : g_time = nI T := C.1.2.2.1
  obtain ⟨⟨qn, qm⟩, ql, qx, qy, q1, q2⟩ := Q
  have hwn : zw_W (n + 1) n := ⟨by omega, by omega⟩
  have hlt : ∀ m, m ∈ L → m < 4096 := fun m hm => by
    have : m < n + 1 := (qm m hm).1.1
    omega
  have hqq : ∀ j, j < L.length → ∃ a, a < 2 ^ 31 ∧ a_queue j = nI a ∧ b_queue j = nI a := by
    intro j hj
    obtain ⟨m, hm, em⟩ := zq_get q1 hj
    have := zq_eq q1 q2 hj
    rw [Nat.zero_add] at em this
    exact ⟨m, by have := hlt m hm; omega, em, by rw [← this]; exact em⟩
  have m31 : nI n &&& 31 = nI (n % 32) := za_m31 (by omega)
  have inq : vp_in (nI (n % 32)) 32 := vp_in_nI (by omega) (by omega)
  have cnq : (nI (n % 32)).toNatClampNeg = n % 32 := nI_clamp (by omega)
  subst eN eT eT2 qx qy
  by_cases h8 : L.length = 8
  · -- the queue is full
    obtain ⟨L7, ml, rfl⟩ := zl_last h8
    have h7 : L7.length = 7 := by rw [List.length_append, List.length_singleton] at h8; omega
    have hml : ml ∈ L7 ++ [ml] := by simp
    have eq7 : a_queue 7 = nI ml := by
      have := (zq_app.mp q1).2.1
      rwa [Nat.zero_add, h7] at this
    have eq7b : b_queue 7 = nI ml := by
      have := (zq_app.mp q2).2.1
      rwa [Nat.zero_add, h7] at this
    have hml4 := hlt ml hml
    have ml31 : nI ml &&& 31 = nI (ml % 32) := za_m31 (by omega)
    have mlr : nI ml - nI ml / 32 * 32 = nI (ml % 32) := za_r32 (by omega)
    have iml : vp_in (nI (ml % 32)) 32 := vp_in_nI (by omega) (by omega)
    have cml : (nI (ml % 32)).toNatClampNeg = ml % 32 := nI_clamp (by omega)
    have e81 : nI 8 - 1 = nI 7 := nI_pred 7
    have c7 : (nI 7).toNatClampNeg = 7 := nI_clamp (by omega)
    have c8 : (nI 8).toNatClampNeg = 8 := nI_clamp (by omega)
    rw [h8]
    by_cases hrk : a_ranks (ml % 32) < a_ranks (n % 32)
    · -- the last one is rejected
      have hqq7 : ∀ j, j < 7 → ∃ a, a < 2 ^ 31 ∧ zs_del a_queue 8 7 j = nI a ∧ b_queue j = nI a := by
        intro j hj
        rw [zs_del_lt hj]
        exact hqq j (by omega)
      obtain ⟨k, hk, HX, HY⟩ := zj_join (qa := zs_del a_queue 8 7) (qb := b_queue) (rk := a_ranks) (m := n) (by omega) rfl 7 (by omega) hqq7
      have hn7 : n ∉ L7 := fun z => hnL (by simp [z])
      obtain ⟨nd1, nd2⟩ := zl_ndm (k := k) (List.nodup_append.mp qn).1 hn7
      obtain ⟨len1, len2⟩ := zl_len (L := L7) (k := k) (n := n) (by omega)
      have hst0 : a_states (ml % 32) = 0 := (qm ml hml).2.1
      have hne : ∀ m', m' ∈ L7 → m' % 32 ≠ ml % 32 := by
        intro m' h' z
        have : m' = ml := zw_inj (qm m' (by simp [h'])).1 (qm ml hml).1 z
        subst this
        exact (List.nodup_append.mp qn).2.2 m' h' m' (by simp) rfl
      have hne2 : n % 32 ≠ ml % 32 := by
        intro z
        have : n = ml := zw_inj hwn (qm ml hml).1 z
        exact hnL (this ▸ hml)
      have zx : zq_S (zs_del a_queue 8 7) 0 L7 := zq_congr (fun i _ hi => zs_del_lt (by omega)) (zq_app.mp q1).1
      have zxi : zq_S (zs_ins (zs_del a_queue 8 7) 7 k (nI n)) 0 (L7.take k ++ n :: L7.drop k) := by
        have := zq_ins (q := zs_del a_queue 8 7) (K := L7.take k) (R := L7.drop k) (m := n) (n := 7) (by rw [List.length_take, List.length_drop]; omega) (by rw [List.take_append_drop]; exact zx)
        rwa [len1] at this
      have zyi : zq_S (zs_ins b_queue 8 k (nI n)) 0 (L7.take k ++ n :: L7.drop k) := by
        have := zq_ins (q := b_queue) (K := L7.take k) (R := L7.drop k ++ [ml]) (m := n) (n := 8) (by rw [List.length_append, List.length_take, List.length_drop, List.length_singleton]; omega) (by rw [← List.append_assoc, List.take_append_drop]; exact q2)
        rw [len1, ← List.cons_append, ← List.append_assoc] at this
        exact (zq_app.mp this).1
      have C' := zj_rej C hst0
      refine ⟨L7.take k ++ n :: L7.drop k, (f_points, f_routes, f_nodes, f_durations, nI (n + 1), f_heaped, nI 8, nI T, f_finished, f_touched, a_weight, a_slots, a_pace, a_running, a_broken, a_down, a_good, a_bad, a_shut, a_till, a_failures, a_successes, a_credit, a_settings, a_ringAt, a_ringServer, a_paths, a_sets, a_next, a_servers, a_homes, a_homeSince, a_latest, a_sorted, a_capacity, a_refill, a_bucket, a_countedAt, upd a_states (ml % 32) 5, a_clients, a_path, a_ranks, a_keys, a_works, a_tried, a_attempts, a_server, a_late, a_came, upd a_ends (ml % 32) (nI T), a_heap, zs_ins (zs_del a_queue 8 7) 7 k (nI n), vp_updL a_totals 5 (a_totals 5 + 1)),
        (nI T, f_routes, nI (n + 1), nI 8, a_weight, a_slots, a_pace, b_till, a_failures, a_credit, a_successes, b_sick, b_well, a_broken, b_up, a_paths, a_sets, a_settings, a_capacity, a_refill, b_tokens, a_homes, a_homeSince, a_clients, a_path, a_keys, a_works, a_ranks, upd b_state (ml % 32) 5, a_server, a_attempts, a_tried, a_came, upd b_ended (ml % 32) (nI T), b_ends, a_late, zs_ins b_queue 8 k (nI n), vp_updL b_total 5 (b_total 5 + 1), a_latest, b_sorted),
        zj_S_in hD C' ⟨⟨nd1, fun m' h' => ?_⟩, by rw [len2]; omega, by rw [len2, h7], by rw [len2, h7], zxi, zyi⟩, ?_, rfl, ?_, ?_⟩
      · rcases nd2 m' h' with y | y
        · subst y
          exact ⟨hwn, by rw [pk_un hne2]; exact hst, hat⟩
        · obtain ⟨g1, g2, g3⟩ := qm m' (by simp [y])
          exact ⟨g1, by rw [pk_un (hne m' y)]; exact g2, g3⟩
      · intro hh m' h'
        refine hh m' ?_
        rcases nd2 m' h' with y | y
        · exact Or.inl y
        · exact Or.inr (by simp [y])
      · intro K hK
        refine br_t rfl (nm_r eq7 ⟨by rw [ml31]; exact iml, by rw [m31]; exact inq, ?_⟩)
        rw [ml31, m31, cml, cnq]
        refine br_t hrk (zx_conc5 (by omega) (zx_leave (w := 7) (k := 7) (by omega) (by omega) ?_))
        refine nm_r (nI_1 7) ⟨8, ?_⟩
        have := HX (f_waiting := nI (7 + 1)) (a_states := upd a_states (ml % 32) 5) (a_ends := upd a_ends (ml % 32) (nI T)) (a_totals := vp_updL a_totals 5 (a_totals 5 + 1)) (fun u => match u with | (f_points, f_routes, f_nodes, f_durations, f_requests, f_heaped, f_waiting, f_now, f_finished, f_touched, a_weight, a_slots, a_pace, a_running, a_broken, a_down, a_good, a_bad, a_shut, a_till, a_failures, a_successes, a_credit, a_settings, a_ringAt, a_ringServer, a_paths, a_sets, a_next, a_servers, a_homes, a_homeSince, a_latest, a_sorted, a_capacity, a_refill, a_bucket, a_countedAt, a_states, a_clients, a_path, a_ranks, a_keys, a_works, a_tried, a_attempts, a_server, a_late, a_came, a_ends, a_heap, a_queue, a_totals) => K (f_points, f_routes, f_nodes, f_durations, f_requests, f_heaped, f_waiting, f_now, f_finished, f_touched, a_weight, a_slots, a_pace, a_running, a_broken, a_down, a_good, a_bad, a_shut, a_till, a_failures, a_successes, a_credit, a_settings, a_ringAt, a_ringServer, a_paths, a_sets, a_next, a_servers, a_homes, a_homeSince, a_latest, a_sorted, a_capacity, a_refill, a_bucket, a_countedAt, a_states, a_clients, a_path, a_ranks, a_keys, a_works, a_tried, a_attempts, a_server, a_late, a_came, a_ends, a_heap, a_queue, a_totals)) 7 8 (by omega) (by omega) (by omega) hK
        rw [zs_ps0] at this
        exact this
      · intro K hK
        have h65 := zy_65f (n := n) (k := k) (ml := ml) (qb := b_queue) (b_state := b_state) (b_ended := b_ended) (b_total := b_total) (g_time := nI T) (post := K) (by omega) (by omega) (by rw [zs_ins_gt (by omega) (by omega)]; exact eq7b) hK
        have h16 := HY K 8 8 (by omega) (by omega) (by omega) h65
        refine ⟨9, ?_⟩
        refine br_f (by decide) ⟨by rw [e81]; exact vp_in_nI (by omega) (by omega), by decide, ?_⟩
        rw [e81, c7, eq7b, mlr]
        refine ⟨iml, inq, br_f (by rw [cml, cnq]; exact Int32.not_le.mpr hrk) ⟨vp_in_nI (by omega) (by omega), vp_in_nI (by omega) (by omega), nm_r (e' := zs_ps b_queue 8 7) ?_ (nm_r (pk_m1 7) h16)⟩⟩
        rw [c8, ← eq7b]
        have := zs_ps_st (s := b_queue) (n := 8) (i := 8) (by omega) (by omega)
        rwa [zs_ps0] at this
    · -- the new one is rejected
      have C' := zj_rej C hst
      have hne : ∀ m', m' ∈ L7 ++ [ml] → m' % 32 ≠ n % 32 := by
        intro m' h' z
        have : m' = n := zw_inj (qm m' h').1 hwn z
        exact hnL (this ▸ h')
      refine ⟨L7 ++ [ml], (f_points, f_routes, f_nodes, f_durations, nI (n + 1), f_heaped, nI 8, nI T, f_finished, f_touched, a_weight, a_slots, a_pace, a_running, a_broken, a_down, a_good, a_bad, a_shut, a_till, a_failures, a_successes, a_credit, a_settings, a_ringAt, a_ringServer, a_paths, a_sets, a_next, a_servers, a_homes, a_homeSince, a_latest, a_sorted, a_capacity, a_refill, a_bucket, a_countedAt, upd a_states (n % 32) 5, a_clients, a_path, a_ranks, a_keys, a_works, a_tried, a_attempts, a_server, a_late, a_came, upd a_ends (n % 32) (nI T), a_heap, a_queue, vp_updL a_totals 5 (a_totals 5 + 1)),
        (nI T, f_routes, nI (n + 1), nI 8, a_weight, a_slots, a_pace, b_till, a_failures, a_credit, a_successes, b_sick, b_well, a_broken, b_up, a_paths, a_sets, a_settings, a_capacity, a_refill, b_tokens, a_homes, a_homeSince, a_clients, a_path, a_keys, a_works, a_ranks, upd b_state (n % 32) 5, a_server, a_attempts, a_tried, a_came, upd b_ended (n % 32) (nI T), b_ends, a_late, zs_ins b_queue 8 8 (nI n), vp_updL b_total 5 (b_total 5 + 1), a_latest, b_sorted),
        zj_S_in hD C' ⟨⟨qn, fun m' h' => ?_⟩, ql, by rw [h8], by rw [h8], q1, zq_congr (fun i _ hi => zs_ins_lt (by omega)) q2⟩, ?_, rfl, ?_, ?_⟩
      · obtain ⟨g1, g2, g3⟩ := qm m' h'
        exact ⟨g1, by rw [pk_un (hne m' h')]; exact g2, g3⟩
      · intro hh m' h'
        exact hh m' (Or.inr h')
      · intro K hK
        refine br_t rfl (nm_r eq7 ⟨by rw [ml31]; exact iml, by rw [m31]; exact inq, ?_⟩)
        rw [ml31, m31, cml, cnq]
        exact br_f hrk (zx_conc5 (by omega) hK)
      · intro K hK
        have h65 := zy_65f (n := n) (k := 8) (ml := n) (qb := b_queue) (b_state := b_state) (b_ended := b_ended) (b_total := b_total) (g_time := nI T) (post := K) (by omega) (by omega) zs_ins_eq hK
        rw [zs_ps0] at h65
        refine ⟨1, ?_⟩
        refine br_f (by decide) ⟨by rw [e81]; exact vp_in_nI (by omega) (by omega), by decide, ?_⟩
        rw [e81, c7, eq7b, mlr]
        exact ⟨iml, inq, br_t (by rw [cml, cnq]; exact Int32.not_lt.mp hrk) h65⟩
  · -- there is room
    obtain ⟨k, hk, HX, HY⟩ := zj_join (qa := a_queue) (qb := b_queue) (rk := a_ranks) (m := n) (by omega) rfl L.length (by omega) hqq
    obtain ⟨nd1, nd2⟩ := zl_ndm (k := k) qn hnL
    obtain ⟨len1, len2⟩ := zl_len (L := L) (k := k) (n := n) hk
    have zxi : zq_S (zs_ins a_queue L.length k (nI n)) 0 (L.take k ++ n :: L.drop k) := by
      have := zq_ins (q := a_queue) (K := L.take k) (R := L.drop k) (m := n) (n := L.length) (by rw [List.length_take, List.length_drop]; omega) (by rw [List.take_append_drop]; exact q1)
      rwa [len1] at this
    have zyi : zq_S (zs_ins b_queue L.length k (nI n)) 0 (L.take k ++ n :: L.drop k) := by
      have := zq_ins (q := b_queue) (K := L.take k) (R := L.drop k) (m := n) (n := L.length) (by rw [List.length_take, List.length_drop]; omega) (by rw [List.take_append_drop]; exact q2)
      rwa [len1] at this
    refine ⟨L.take k ++ n :: L.drop k, (f_points, f_routes, f_nodes, f_durations, nI (n + 1), f_heaped, nI (L.length + 1), nI T, f_finished, f_touched, a_weight, a_slots, a_pace, a_running, a_broken, a_down, a_good, a_bad, a_shut, a_till, a_failures, a_successes, a_credit, a_settings, a_ringAt, a_ringServer, a_paths, a_sets, a_next, a_servers, a_homes, a_homeSince, a_latest, a_sorted, a_capacity, a_refill, a_bucket, a_countedAt, a_states, a_clients, a_path, a_ranks, a_keys, a_works, a_tried, a_attempts, a_server, a_late, a_came, a_ends, a_heap, zs_ins a_queue L.length k (nI n), a_totals),
      (nI T, f_routes, nI (n + 1), nI (L.length + 1), a_weight, a_slots, a_pace, b_till, a_failures, a_credit, a_successes, b_sick, b_well, a_broken, b_up, a_paths, a_sets, a_settings, a_capacity, a_refill, b_tokens, a_homes, a_homeSince, a_clients, a_path, a_keys, a_works, a_ranks, b_state, a_server, a_attempts, a_tried, a_came, b_ended, b_ends, a_late, zs_ins b_queue L.length k (nI n), b_total, a_latest, b_sorted),
      zj_S_in hD C ⟨⟨nd1, fun m' h' => ?_⟩, by rw [len2]; omega, by rw [len2], by rw [len2], zxi, zyi⟩, ?_, rfl, ?_, ?_⟩
    · rcases nd2 m' h' with y | y
      · subst y
        exact ⟨hwn, hst, hat⟩
      · exact qm m' y
    · intro hh m' h'
      exact hh m' (nd2 m' h')
    · intro K hK
      refine br_f (fun z => ?_) (nm_r (nI_1 L.length) ⟨L.length + 1, ?_⟩)
      · have := (nI_eq (a := L.length) (b := 8) (by omega) (by omega)).mp z
        exact h8 this
      · have := HX (f_waiting := nI (L.length + 1)) (fun u => match u with | (f_points, f_routes, f_nodes, f_durations, f_requests, f_heaped, f_waiting, f_now, f_finished, f_touched, a_weight, a_slots, a_pace, a_running, a_broken, a_down, a_good, a_bad, a_shut, a_till, a_failures, a_successes, a_credit, a_settings, a_ringAt, a_ringServer, a_paths, a_sets, a_next, a_servers, a_homes, a_homeSince, a_latest, a_sorted, a_capacity, a_refill, a_bucket, a_countedAt, a_states, a_clients, a_path, a_ranks, a_keys, a_works, a_tried, a_attempts, a_server, a_late, a_came, a_ends, a_heap, a_queue, a_totals) => K (f_points, f_routes, f_nodes, f_durations, f_requests, f_heaped, f_waiting, f_now, f_finished, f_touched, a_weight, a_slots, a_pace, a_running, a_broken, a_down, a_good, a_bad, a_shut, a_till, a_failures, a_successes, a_credit, a_settings, a_ringAt, a_ringServer, a_paths, a_sets, a_next, a_servers, a_homes, a_homeSince, a_latest, a_sorted, a_capacity, a_refill, a_bucket, a_countedAt, a_states, a_clients, a_path, a_ranks, a_keys, a_works, a_tried, a_attempts, a_server, a_late, a_came, a_ends, a_heap, a_queue, a_totals)) L.length (L.length + 1) (by omega) (by omega) (by omega) hK
        rw [zs_ps0] at this
        exact this
    · intro K hK
      have h65 := zy_65 (n := n) (k := k) (w := L.length) (qb := b_queue) (post := K) hk (by omega) hK
      have h16 := HY K L.length (L.length + 1) (by omega) (by omega) (by omega) h65
      rw [zs_ps0] at h16
      exact ⟨L.length + 1, h16⟩
end
end
section
/-! arrive -/
section
variable {f_points f_routes f_nodes f_durations f_requests f_heaped f_waiting f_now f_finished f_touched g_time g_waiting : Int32}
variable {a_weight a_slots a_pace a_running a_broken a_down a_good a_bad a_shut a_till a_failures a_successes a_credit a_settings a_ringAt a_ringServer a_paths a_sets a_next a_servers a_homes a_homeSince a_latest a_sorted a_capacity a_refill a_bucket a_countedAt a_states a_clients a_path a_ranks a_keys a_works a_tried a_attempts a_server a_late a_came a_ends a_heap a_queue b_till b_sick b_well b_up b_tokens b_state b_ended b_ends b_queue b_sorted : Nat → Int32}
variable {a_totals b_total : Nat → Int64}
theorem zj_place {n T Tc Te D h np rn nd Dm : Nat} {bf : Int64} {pre : Nat → Nat} {L : List Nat} (hD : D ≤ Dm) (C : zj_C (n + 1) T Tc Te D h bf np rn nd pre f_points f_routes f_nodes f_durations f_requests f_heaped f_waiting f_now f_finished f_touched a_weight a_slots a_pace a_running a_broken a_down a_good a_bad a_shut a_till a_failures a_successes a_credit a_settings a_ringAt a_ringServer a_paths a_sets a_next a_servers a_homes a_homeSince a_latest a_sorted a_capacity a_refill a_bucket a_countedAt a_states a_clients a_path a_ranks a_keys a_works a_tried a_attempts a_server a_late a_came a_ends a_heap a_queue a_totals g_time g_waiting b_till b_sick b_well b_up b_tokens b_state b_ended b_ends b_queue b_sorted b_total)
    (Q : zj_Q (n + 1) L f_waiting g_waiting a_queue b_queue a_states a_attempts) (hst : a_states (n % 32) = 0) (hat : a_attempts (n % 32) = 0) (hnL : n ∉ L) :
    ∃ L' u' v', zj_S (n + 1) T Tc Te Dm bf L' u' v' ∧
    ((∀ m, m ∈ L → ∀ s, s < 6 → zj_rq f_routes a_paths a_sets a_weight a_down a_running a_slots a_shut a_till a_tried a_path f_now m s = false) → zj_nr L' u') ∧ px_to u' = f_touched ∧
    (∀ K : SX → Prop, K u' → wpX_attempt (fun r u => match u with | (f_points, f_routes, f_nodes, f_durations, f_requests, f_heaped, f_waiting, f_now, f_finished, f_touched, a_weight, a_slots, a_pace, a_running, a_broken, a_down, a_good, a_bad, a_shut, a_till, a_failures, a_successes, a_credit, a_settings, a_ringAt, a_ringServer, a_paths, a_sets, a_next, a_servers, a_homes, a_homeSince, a_latest, a_sorted, a_capacity, a_refill, a_bucket, a_countedAt, a_states, a_clients, a_path, a_ranks, a_keys, a_works, a_tried, a_attempts, a_server, a_late, a_came, a_ends, a_heap, a_queue, a_totals) => ((r = 0 → wpX_line K (f_points, f_routes, f_nodes, f_durations, f_requests, f_heaped, f_waiting, f_now, f_finished, f_touched, a_weight, a_slots, a_pace, a_running, a_broken, a_down, a_good, a_bad, a_shut, a_till, a_failures, a_successes, a_credit, a_settings, a_ringAt, a_ringServer, a_paths, a_sets, a_next, a_servers, a_homes, a_homeSince, a_latest, a_sorted, a_capacity, a_refill, a_bucket, a_countedAt, a_states, a_clients, a_path, a_ranks, a_keys, a_works, a_tried, a_attempts, a_server, a_late, a_came, a_ends, a_heap, a_queue, a_totals) (nI n)) ∧ (¬ r = 0 → K (f_points, f_routes, f_nodes, f_durations, f_requests, f_heaped, f_waiting, f_now, f_finished, f_touched, a_weight, a_slots, a_pace, a_running, a_broken, a_down, a_good, a_bad, a_shut, a_till, a_failures, a_successes, a_credit, a_settings, a_ringAt, a_ringServer, a_paths, a_sets, a_next, a_servers, a_homes, a_homeSince, a_latest, a_sorted, a_capacity, a_refill, a_bucket, a_countedAt, a_states, a_clients, a_path, a_ranks, a_keys, a_works, a_tried, a_attempts, a_server, a_late, a_came, a_ends, a_heap, a_queue, a_totals)))) (f_points, f_routes, f_nodes, f_durations, f_requests, f_heaped, f_waiting, f_now, f_finished, f_touched, a_weight, a_slots, a_pace, a_running, a_broken, a_down, a_good, a_bad, a_shut, a_till, a_failures, a_successes, a_credit, a_settings, a_ringAt, a_ringServer, a_paths, a_sets, a_next, a_servers, a_homes, a_homeSince, a_latest, a_sorted, a_capacity, a_refill, a_bucket, a_countedAt, a_states, a_clients, a_path, a_ranks, a_keys, a_works, a_tried, a_attempts, a_server, a_late, a_came, a_ends, a_heap, a_queue, a_totals) (nI n)) ∧
    (∀ K : SY → Prop, K v' → wpY_place K (g_time, f_routes, f_requests, g_waiting, a_weight, a_slots, a_pace, b_till, a_failures, a_credit, a_successes, b_sick, b_well, a_broken, b_up, a_paths, a_sets, a_settings, a_capacity, a_refill, b_tokens, a_homes, a_homeSince, a_clients, a_path, a_keys, a_works, a_ranks, b_state, a_server, a_attempts, a_tried, a_came, b_ended, b_ends, a_late, b_queue, b_total, a_latest, b_sorted) (nI (n % 32))) := by
  have hwn : zw_W (n + 1) n := ⟨by omega, by omega⟩
  rcases zj_try C hwn hst hat with ⟨hno, HX, HY⟩ | ⟨s, t', a', du, r, lt, cr', A', hs, er, hr, hdu, C', HX, HY⟩
  · obtain ⟨L', u', v', S', hnr, hto, LX, LY⟩ := zj_line hD C Q hst hat hnL
    refine ⟨L', u', v', S', fun hh => hnr (fun m hm => ?_), hto, ?_, ?_⟩
    · rcases hm with z | z
      · subst z; exact hno
      · exact hh m z
    · intro K hK
      exact HX _ (br_t rfl (LX K hK))
    · intro K hK
      exact HY _ (br_t rfl (LY K hK))
  · have hne : ∀ m', m' ∈ L → m' % 32 ≠ n % 32 := by
      intro m' h' z
      have : m' = n := zw_inj (Q.1.2 m' h').1 hwn z
      exact hnL (this ▸ h')
    refine ⟨L, (f_points, f_routes, f_nodes, f_durations, f_requests, nI (h + 1), f_waiting, f_now, f_finished, f_touched, a_weight, a_slots, a_pace, upd a_running s (a_running s + 1), a_broken, a_down, a_good, a_bad, a_shut, a_till, a_failures, a_successes, cr', a_settings, a_ringAt, a_ringServer, a_paths, a_sets, a_next, a_servers, a_homes, a_homeSince, a_latest, a_sorted, a_capacity, a_refill, a_bucket, a_countedAt, upd a_states (n % 32) 1, a_clients, a_path, a_ranks, a_keys, a_works, upd a_tried (n % 32) (nI t'), upd a_attempts (n % 32) (nI a'), upd a_server (n % 32) (nI s), upd a_late (n % 32) lt, a_came, upd a_ends (n % 32) (nI (T + du)), A', a_queue, a_totals),
      (g_time, f_routes, f_requests, g_waiting, a_weight, a_slots, a_pace, b_till, a_failures, cr', a_successes, b_sick, b_well, a_broken, b_up, a_paths, a_sets, a_settings, a_capacity, a_refill, b_tokens, a_homes, a_homeSince, a_clients, a_path, a_keys, a_works, a_ranks, upd b_state (n % 32) 1, upd a_server (n % 32) (nI s), upd a_attempts (n % 32) (nI a'), upd a_tried (n % 32) (nI t'), a_came, b_ended, upd b_ends (n % 32) (nI (T + du)), upd a_late (n % 32) lt, b_queue, b_total, a_latest, b_sorted),
      zj_S_in hD C' ?_, ?_, rfl, ?_, ?_⟩
    · obtain ⟨⟨qn, qm⟩, rest⟩ := Q
      refine ⟨⟨qn, fun m' h' => ?_⟩, rest⟩
      obtain ⟨g1, g2, g3⟩ := qm m' h'
      exact ⟨g1, by rw [pk_un (hne m' h')]; exact g2, by rw [pk_un (hne m' h')]; exact g3⟩
    · intro hh m' h' t ht
      have := hh m' h' t ht
      unfold zj_rq zj_rp at this ⊢
      rw [pk_un (hne m' h')]
      exact zj_rb_mono (by omega) er this
    · intro K hK
      exact HX _ (br_f (by decide) hK)
    · intro K hK
      exact HY _ (br_f (by decide) hK)
theorem za_12 {x : Int32} : 1 < x ↔ 2 ≤ x := by
  rw [za_lt, za_le, show (1 : Int32).toInt = 1 from by decide, show (2 : Int32).toInt = 2 from by decide]
  omega
/-- X: up to the new slot -/
theorem zx_80 {N T c p ky wo rk F b ca r cap rn nd : Nat} {pre : Nat → Nat} {post : Int32 → SX → Prop} (hc : c < 6) (e1 : a_capacity c = nI cap) (hcap : cap ≤ 20) (e2 : a_refill c = nI r) (hr1 : 1 ≤ r) (hr2 : r ≤ 100)
    (e3 : a_bucket c = nI b) (hb : b ≤ cap) (e4 : a_countedAt c = nI ca) (hca : ca ≤ T) (hT : T < 2 ^ 31) (hF : zk_F b ca r cap T = F + 1) (hok : zt_ok p) (hky : ky < 256) (hwo : wo ≤ 100) (hrk : rk ≤ 3)
    (P : zt_P rn a_paths a_sets) (Tr : zt_T nd a_next a_servers a_paths a_sets rn pre) (hnd : nd ≤ 49)
    (hp : (0 ≤ zt_so a_paths a_sets rn 4 p → wpX_attempt (fun r_148 u => match u with | (f_points, f_routes, f_nodes, f_durations, f_requests, f_heaped, f_waiting, f_now, f_finished, f_touched, a_weight, a_slots, a_pace, a_running, a_broken, a_down, a_good, a_bad, a_shut, a_till, a_failures, a_successes, a_credit, a_settings, a_ringAt, a_ringServer, a_paths, a_sets, a_next, a_servers, a_homes, a_homeSince, a_latest, a_sorted, a_capacity, a_refill, a_bucket, a_countedAt, a_states, a_clients, a_path, a_ranks, a_keys, a_works, a_tried, a_attempts, a_server, a_late, a_came, a_ends, a_heap, a_queue, a_totals) => (((r_148 = 0 → (wpX_line (fun u => match u with | (f_points, f_routes, f_nodes, f_durations, f_requests, f_heaped, f_waiting, f_now, f_finished, f_touched, a_weight, a_slots, a_pace, a_running, a_broken, a_down, a_good, a_bad, a_shut, a_till, a_failures, a_successes, a_credit, a_settings, a_ringAt, a_ringServer, a_paths, a_sets, a_next, a_servers, a_homes, a_homeSince, a_latest, a_sorted, a_capacity, a_refill, a_bucket, a_countedAt, a_states, a_clients, a_path, a_ranks, a_keys, a_works, a_tried, a_attempts, a_server, a_late, a_came, a_ends, a_heap, a_queue, a_totals) => (post (nI N) (f_points, f_routes, f_nodes, f_durations, f_requests, f_heaped, f_waiting, f_now, f_finished, f_touched, a_weight, a_slots, a_pace, a_running, a_broken, a_down, a_good, a_bad, a_shut, a_till, a_failures, a_successes, a_credit, a_settings, a_ringAt, a_ringServer, a_paths, a_sets, a_next, a_servers, a_homes, a_homeSince, a_latest, a_sorted, a_capacity, a_refill, a_bucket, a_countedAt, a_states, a_clients, a_path, a_ranks, a_keys, a_works, a_tried, a_attempts, a_server, a_late, a_came, a_ends, a_heap, a_queue, a_totals))) (f_points, f_routes, f_nodes, f_durations, f_requests, f_heaped, f_waiting, f_now, f_finished, f_touched, a_weight, a_slots, a_pace, a_running, a_broken, a_down, a_good, a_bad, a_shut, a_till, a_failures, a_successes, a_credit, a_settings, a_ringAt, a_ringServer, a_paths, a_sets, a_next, a_servers, a_homes, a_homeSince, a_latest, a_sorted, a_capacity, a_refill, a_bucket, a_countedAt, a_states, a_clients, a_path, a_ranks, a_keys, a_works, a_tried, a_attempts, a_server, a_late, a_came, a_ends, a_heap, a_queue, a_totals) (nI N))) ∧ (¬ r_148 = 0 → (post (nI N) (f_points, f_routes, f_nodes, f_durations, f_requests, f_heaped, f_waiting, f_now, f_finished, f_touched, a_weight, a_slots, a_pace, a_running, a_broken, a_down, a_good, a_bad, a_shut, a_till, a_failures, a_successes, a_credit, a_settings, a_ringAt, a_ringServer, a_paths, a_sets, a_next, a_servers, a_homes, a_homeSince, a_latest, a_sorted, a_capacity, a_refill, a_bucket, a_countedAt, a_states, a_clients, a_path, a_ranks, a_keys, a_works, a_tried, a_attempts, a_server, a_late, a_came, a_ends, a_heap, a_queue, a_totals)))))) (f_points, f_routes, f_nodes, f_durations, nI (N + 1), f_heaped, f_waiting, nI T, f_finished, f_touched, a_weight, a_slots, a_pace, a_running, a_broken, a_down, a_good, a_bad, a_shut, a_till, a_failures, a_successes, a_credit, a_settings, a_ringAt, a_ringServer, a_paths, a_sets, a_next, a_servers, a_homes, a_homeSince, a_latest, a_sorted, a_capacity, a_refill, upd a_bucket c (nI F), upd a_countedAt c (nI T), upd a_states (N % 32) 0, upd a_clients (N % 32) (nI c), upd a_path (N % 32) (nI p), upd a_ranks (N % 32) (nI rk), upd a_keys (N % 32) (nI ky), upd a_works (N % 32) (nI wo), upd a_tried (N % 32) 0, upd a_attempts (N % 32) 0, upd a_server (N % 32) (-1), a_late, upd a_came (N % 32) (nI T), a_ends, a_heap, a_queue, a_totals) (nI N)) ∧
      (¬ 0 ≤ zt_so a_paths a_sets rn 4 p → wpX_conclude (fun u => match u with | (f_points, f_routes, f_nodes, f_durations, f_requests, f_heaped, f_waiting, f_now, f_finished, f_touched, a_weight, a_slots, a_pace, a_running, a_broken, a_down, a_good, a_bad, a_shut, a_till, a_failures, a_successes, a_credit, a_settings, a_ringAt, a_ringServer, a_paths, a_sets, a_next, a_servers, a_homes, a_homeSince, a_latest, a_sorted, a_capacity, a_refill, a_bucket, a_countedAt, a_states, a_clients, a_path, a_ranks, a_keys, a_works, a_tried, a_attempts, a_server, a_late, a_came, a_ends, a_heap, a_queue, a_totals) => (post (nI N) (f_points, f_routes, f_nodes, f_durations, f_requests, f_heaped, f_waiting, f_now, f_finished, f_touched, a_weight, a_slots, a_pace, a_running, a_broken, a_down, a_good, a_bad, a_shut, a_till, a_failures, a_successes, a_credit, a_settings, a_ringAt, a_ringServer, a_paths, a_sets, a_next, a_servers, a_homes, a_homeSince, a_latest, a_sorted, a_capacity, a_refill, a_bucket, a_countedAt, a_states, a_clients, a_path, a_ranks, a_keys, a_works, a_tried, a_attempts, a_server, a_late, a_came, a_ends, a_heap, a_queue, a_totals))) (f_points, f_routes, f_nodes, f_durations, nI (N + 1), f_heaped, f_waiting, nI T, f_finished, f_touched, a_weight, a_slots, a_pace, a_running, a_broken, a_down, a_good, a_bad, a_shut, a_till, a_failures, a_successes, a_credit, a_settings, a_ringAt, a_ringServer, a_paths, a_sets, a_next, a_servers, a_homes, a_homeSince, a_latest, a_sorted, a_capacity, a_refill, upd a_bucket c (nI F), upd a_countedAt c (nI T), upd a_states (N % 32) 0, upd a_clients (N % 32) (nI c), upd a_path (N % 32) (nI p), upd a_ranks (N % 32) (nI rk), upd a_keys (N % 32) (nI ky), upd a_works (N % 32) (nI wo), upd a_tried (N % 32) 0, upd a_attempts (N % 32) 0, upd a_server (N % 32) (-1), a_late, upd a_came (N % 32) (nI T), a_ends, a_heap, a_queue, a_totals) (nI (N % 32)) 5)) :
    wX_arrive_80 post (nI c) (nI p) (nI ky) (nI wo) (nI rk) (nI (N % 32)) f_points f_routes f_nodes f_durations (nI N) f_heaped f_waiting (nI T) f_finished f_touched a_weight a_slots a_pace a_running a_broken a_down a_good a_bad a_shut a_till a_failures a_successes a_credit a_settings a_ringAt a_ringServer a_paths a_sets a_next a_servers a_homes a_homeSince a_latest a_sorted a_capacity a_refill a_bucket a_countedAt a_states a_clients a_path a_ranks a_keys a_works a_tried a_attempts a_server a_late a_came a_ends a_heap a_queue a_totals := by
  have ic : vp_in (nI c) 6 := vp_in_nI hc (by omega)
  have cc : (nI c).toNatClampNeg = c := nI_clamp (by omega)
  have iq : vp_in (nI (N % 32)) 32 := vp_in_nI (by omega) (by omega)
  have cq : (nI (N % 32)).toNatClampNeg = N % 32 := nI_clamp (by omega)
  have hp1 := hok.1
  have hFle := zk_F_le (b := b) (c := ca) (r := r) (cap := cap) (t := T)
  unfold wX_arrive_80
  refine zx_count hc e1 hcap e2 hr1 hr2 e3 hb e4 hca hT ⟨ic, ?_⟩
  rw [cc, pk_us, hF]
  refine br_f (nI_ne0 (by omega) (by omega)) ⟨ic, ic, nm_r (e' := upd a_bucket c (nI F)) (by rw [nI_pred, za_vb2 (by omega), za_uu]) (nm_r (nI_1 N) ?_)⟩
  refine ⟨iq, nm_r (e' := upd a_clients (N % 32) (nI c)) (by rw [cq, za_vb2 (by omega)]) ⟨iq, nm_r (e' := upd a_path (N % 32) (nI p)) (by rw [cq, za_vs2 (by omega)]) ⟨iq, nm_r (e' := upd a_ranks (N % 32) (nI rk)) (by rw [cq, za_vb2 (by omega)])
    ⟨iq, nm_r (e' := upd a_keys (N % 32) (nI ky)) (by rw [cq, za_vs2 (by omega)]) ⟨iq, nm_r (e' := upd a_works (N % 32) (nI wo)) (by rw [cq, za_vs2 (by omega)]) ⟨iq, nm_r (e' := upd a_tried (N % 32) 0) (by rw [cq, za_b0])
    ⟨iq, nm_r (e' := upd a_attempts (N % 32) 0) (by rw [cq, za_b0]) ⟨iq, nm_r (e' := upd a_server (N % 32) (-1)) (by rw [cq, za_bm]) ⟨iq, nm_r (e' := upd a_came (N % 32) (nI T)) (by rw [cq]) ⟨iq, nm_r (e' := upd a_states (N % 32) 0) (by rw [cq, za_b0]) ?_⟩⟩⟩⟩⟩⟩⟩⟩⟩⟩
  exact zx_routed P Tr hnd hok hp
theorem zy_82 {N T c p ky wo rk F rn : Nat} {post : Int32 → SY → Prop} (hc : c < 6) (hF : F < 2 ^ 31 - 1) (e5 : b_tokens c = nI (F + 1)) (hok : zt_ok p)
    (P : zt_P rn a_paths a_sets)
    (hp : (0 ≤ zt_so a_paths a_sets rn 4 p → wpY_place (fun u => match u with | (g_time, f_routes, f_requests, g_waiting, a_weight, a_slots, a_pace, b_till, a_failures, a_credit, a_successes, b_sick, b_well, a_broken, b_up, a_paths, a_sets, a_settings, a_capacity, a_refill, b_tokens, a_homes, a_homeSince, a_clients, a_path, a_keys, a_works, a_ranks, b_state, a_server, a_attempts, a_tried, a_came, b_ended, b_ends, a_late, b_queue, b_total, a_latest, b_sorted) => (post (f_requests - 1) (g_time, f_routes, f_requests, g_waiting, a_weight, a_slots, a_pace, b_till, a_failures, a_credit, a_successes, b_sick, b_well, a_broken, b_up, a_paths, a_sets, a_settings, a_capacity, a_refill, b_tokens, a_homes, a_homeSince, a_clients, a_path, a_keys, a_works, a_ranks, b_state, a_server, a_attempts, a_tried, a_came, b_ended, b_ends, a_late, b_queue, b_total, a_latest, b_sorted))) (nI T, nI rn, nI (N + 1), g_waiting, a_weight, a_slots, a_pace, b_till, a_failures, a_credit, a_successes, b_sick, b_well, a_broken, b_up, a_paths, a_sets, a_settings, a_capacity, a_refill, upd b_tokens c (nI F), a_homes, a_homeSince, upd a_clients (N % 32) (nI c), upd a_path (N % 32) (nI p), upd a_keys (N % 32) (nI ky), upd a_works (N % 32) (nI wo), upd a_ranks (N % 32) (nI rk), upd b_state (N % 32) 0, upd a_server (N % 32) (-1), upd a_attempts (N % 32) 0, upd a_tried (N % 32) 0, upd a_came (N % 32) (nI T), upd b_ended (N % 32) (-1), b_ends, a_late, b_queue, vp_updL b_total 0 (b_total 0 + 1), a_latest, b_sorted) (nI (N % 32))) ∧
      (¬ 0 ≤ zt_so a_paths a_sets rn 4 p → wpY_over (fun u => match u with | (g_time, f_routes, f_requests, g_waiting, a_weight, a_slots, a_pace, b_till, a_failures, a_credit, a_successes, b_sick, b_well, a_broken, b_up, a_paths, a_sets, a_settings, a_capacity, a_refill, b_tokens, a_homes, a_homeSince, a_clients, a_path, a_keys, a_works, a_ranks, b_state, a_server, a_attempts, a_tried, a_came, b_ended, b_ends, a_late, b_queue, b_total, a_latest, b_sorted) => (post (f_requests - 1) (g_time, f_routes, f_requests, g_waiting, a_weight, a_slots, a_pace, b_till, a_failures, a_credit, a_successes, b_sick, b_well, a_broken, b_up, a_paths, a_sets, a_settings, a_capacity, a_refill, b_tokens, a_homes, a_homeSince, a_clients, a_path, a_keys, a_works, a_ranks, b_state, a_server, a_attempts, a_tried, a_came, b_ended, b_ends, a_late, b_queue, b_total, a_latest, b_sorted))) (nI T, nI rn, nI (N + 1), g_waiting, a_weight, a_slots, a_pace, b_till, a_failures, a_credit, a_successes, b_sick, b_well, a_broken, b_up, a_paths, a_sets, a_settings, a_capacity, a_refill, upd b_tokens c (nI F), a_homes, a_homeSince, upd a_clients (N % 32) (nI c), upd a_path (N % 32) (nI p), upd a_keys (N % 32) (nI ky), upd a_works (N % 32) (nI wo), upd a_ranks (N % 32) (nI rk), upd b_state (N % 32) 0, upd a_server (N % 32) (-1), upd a_attempts (N % 32) 0, upd a_tried (N % 32) 0, upd a_came (N % 32) (nI T), upd b_ended (N % 32) (-1), b_ends, a_late, b_queue, vp_updL b_total 0 (b_total 0 + 1), a_latest, b_sorted) (nI (N % 32)) 5)) :
    wY_arrive_82 post (nI c) (nI p) (nI ky) (nI wo) (nI rk) (nI (N % 32)) (nI T) (nI rn) (nI N) g_waiting a_weight a_slots a_pace b_till a_failures a_credit a_successes b_sick b_well a_broken b_up a_paths a_sets a_settings a_capacity a_refill b_tokens a_homes a_homeSince a_clients a_path a_keys a_works a_ranks b_state a_server a_attempts a_tried a_came b_ended b_ends a_late b_queue b_total a_latest b_sorted := by
  have ic : vp_in (nI c) 6 := vp_in_nI hc (by omega)
  have cc : (nI c).toNatClampNeg = c := nI_clamp (by omega)
  have iq : vp_in (nI (N % 32)) 32 := vp_in_nI (by omega) (by omega)
  have cq : (nI (N % 32)).toNatClampNeg = N % 32 := nI_clamp (by omega)
  have hp1 := hok.1
  refine And.intro ic ?_
  rw [cc, e5]
  refine br_f (nI_ne0 (by omega) (by omega)) ⟨ic, ic, nm_r (e' := upd b_tokens c (nI F)) (by rw [nI_pred]) ?_⟩
  refine ⟨iq, nm_r (e' := upd a_clients (N % 32) (nI c)) (by rw [cq]) ⟨iq, nm_r (e' := upd a_path (N % 32) (nI p)) (by rw [cq]) ⟨iq, nm_r (e' := upd a_keys (N % 32) (nI ky)) (by rw [cq])
    ⟨iq, nm_r (e' := upd a_works (N % 32) (nI wo)) (by rw [cq]) ⟨iq, nm_r (e' := upd a_ranks (N % 32) (nI rk)) (by rw [cq]) ⟨iq, nm_r (e' := upd b_state (N % 32) 0) (by rw [cq])
    ⟨iq, nm_r (e' := upd a_server (N % 32) (-1)) (by rw [cq]) ⟨iq, nm_r (e' := upd a_attempts (N % 32) 0) (by rw [cq]) ⟨iq, nm_r (e' := upd a_tried (N % 32) 0) (by rw [cq]) ⟨iq, nm_r (e' := upd a_came (N % 32) (nI T)) (by rw [cq])
    ⟨iq, nm_r (e' := upd b_ended (N % 32) (-1)) (by rw [cq]) (nm_e (nm_r (nI_1 N) ?_))⟩⟩⟩⟩⟩⟩⟩⟩⟩⟩⟩
  exact zy_so P hp1 hp
theorem i_vc_arrive {k : Nat} {u : SX} {v : SY} (I : i_Rel k u v) (hk : k + 6 ≤ 3072) (v1 : Int32) (v2 : Int32) (v3 : Int32) (v4 : Int32) (v5 : Int32) : wpX_arrive (fun r u' => wpY_arrive (fun r' v' => r' = r ∧ i_Rel (k + 6) u' v') v v1 v2 v3 v4 v5) u v1 v2 v3 v4 v5 := by
  refine zj_R_el (P := fun u v => wpX_arrive (fun r u' => wpY_arrive (fun r' v' => r' = r ∧ i_Rel (k + 6) u' v') v v1 v2 v3 v4 v5) u v1 v2 v3 v4 v5) ?_ I
  intro f_points f_routes f_nodes f_durations f_requests f_heaped f_waiting f_now f_finished f_touched g_time g_waiting a_weight a_slots a_pace a_running a_broken a_down a_good a_bad a_shut a_till a_failures a_successes a_credit a_settings a_ringAt a_ringServer a_paths a_sets a_next a_servers a_homes a_homeSince a_latest a_sorted a_capacity a_refill a_bucket a_countedAt a_states a_clients a_path a_ranks a_keys a_works a_tried a_attempts a_server a_late a_came a_ends a_heap a_queue b_till b_sick b_well b_up b_tokens b_state b_ended b_ends b_queue b_sorted a_totals b_total N T D h np rn nd bf pre L h1 h2 hD C Q nr
  have n10 : ¬ (1 : Int32) = 0 := by decide
  have I' : i_Rel (k + 6) (f_points, f_routes, f_nodes, f_durations, f_requests, f_heaped, f_waiting, f_now, f_finished, f_touched, a_weight, a_slots, a_pace, a_running, a_broken, a_down, a_good, a_bad, a_shut, a_till, a_failures, a_successes, a_credit, a_settings, a_ringAt, a_ringServer, a_paths, a_sets, a_next, a_servers, a_homes, a_homeSince, a_latest, a_sorted, a_capacity, a_refill, a_bucket, a_countedAt, a_states, a_clients, a_path, a_ranks, a_keys, a_works, a_tried, a_attempts, a_server, a_late, a_came, a_ends, a_heap, a_queue, a_totals) (g_time, f_routes, f_requests, g_waiting, a_weight, a_slots, a_pace, b_till, a_failures, a_credit, a_successes, b_sick, b_well, a_broken, b_up, a_paths, a_sets, a_settings, a_capacity, a_refill, b_tokens, a_homes, a_homeSince, a_clients, a_path, a_keys, a_works, a_ranks, b_state, a_server, a_attempts, a_tried, a_came, b_ended, b_ends, a_late, b_queue, b_total, a_latest, b_sorted) := zj_R_in (by omega) (by omega) hD C Q nr
  obtain ⟨r0, hr0, HX0, HY0⟩ := zj_isPath v2
  unfold wpX_arrive
  by_cases hz : za_rg v1 0 5
  rotate_left
  · refine zx_s0 hz (br_t rfl ?_)
    unfold wpY_arrive
    exact zy_w0 0 5 hz (by decide) (by decide) (br_t rfl ⟨rfl, I'⟩)
  refine zx_s1 hz (br_f n10 (HX0 _ ?_))
  rcases hr0 with rfl | ⟨rfl, p, hok, rfl⟩
  · refine br_t rfl ?_
    unfold wpY_arrive
    exact zy_w1 0 5 hz (by decide) (by decide) (br_f n10 (HY0 _ (br_t rfl ⟨rfl, I'⟩)))
  refine br_f n10 ?_
  by_cases hz3 : za_rg v3 0 255
  rotate_left
  · refine zx_w0 0 255 hz3 (by decide) (by decide) (br_t rfl ?_)
    unfold wpY_arrive
    exact zy_w1 0 5 hz (by decide) (by decide) (br_f n10 (HY0 _ (br_f n10 (zy_w0 0 255 hz3 (by decide) (by decide) (br_t rfl ⟨rfl, I'⟩)))))
  refine zx_w1 0 255 hz3 (by decide) (by decide) (br_f n10 ?_)
  by_cases hz4 : za_rg v4 1 100
  rotate_left
  · refine zx_w0 1 100 hz4 (by decide) (by decide) (br_t rfl ?_)
    unfold wpY_arrive
    exact zy_w1 0 5 hz (by decide) (by decide) (br_f n10 (HY0 _ (br_f n10 (zy_w1 0 255 hz3 (by decide) (by decide) (br_f n10 (zy_w0 1 100 hz4 (by decide) (by decide) (br_t rfl ⟨rfl, I'⟩)))))))
  refine zx_w1 1 100 hz4 (by decide) (by decide) (br_f n10 ?_)
  by_cases hz5 : za_rg v5 0 3
  rotate_left
  · refine zx_w0 0 3 hz5 (by decide) (by decide) (br_t rfl ?_)
    unfold wpY_arrive
    exact zy_w1 0 5 hz (by decide) (by decide) (br_f n10 (HY0 _ (br_f n10 (zy_w1 0 255 hz3 (by decide) (by decide) (br_f n10 (zy_w1 1 100 hz4 (by decide) (by decide) (br_f n10 (zy_w0 0 3 hz5 (by decide) (by decide) (br_t rfl ⟨rfl, I'⟩)))))))))
  refine zx_w1 0 3 hz5 (by decide) (by decide) (br_f n10 ?_)
  have C0 := C
  obtain ⟨⟨rfl, rfl, rfl, rfl, rfl, rfl, rfl, rfl⟩, ⟨hN, hT, hTc, hTe, hD2⟩, cf, hmm, tk, sl, en, hp, ru, ck, bk, to, rm⟩ := C
  have m31 : nI N &&& 31 = nI (N % 32) := za_m31 (by omega)
  have r32 : nI N - nI N / 32 * 32 = nI (N % 32) := za_r32 (by omega)
  have iq : vp_in (nI (N % 32)) 32 := vp_in_nI (by omega) (by omega)
  have cq : (nI (N % 32)).toNatClampNeg = N % 32 := nI_clamp (by omega)
  have n32 : ¬ (32 : Int32) = 0 := by decide
  -- Y up to the slot
  have hYs : ∀ post : Int32 → SY → Prop, ((nI N ≤ 31 → wY_arrive_82 post v1 (nI p) v3 v4 v5 (nI (N % 32)) (nI T) (nI rn) (nI N) g_waiting a_weight a_slots a_pace b_till a_failures a_credit a_successes b_sick b_well a_broken b_up a_paths a_sets a_settings a_capacity a_refill b_tokens a_homes a_homeSince a_clients a_path a_keys a_works a_ranks a_states a_server a_attempts a_tried a_came b_ended b_ends a_late b_queue b_total a_latest b_sorted) ∧
      (¬ nI N ≤ 31 → ((2 ≤ a_states (N % 32) → wY_arrive_82 post v1 (nI p) v3 v4 v5 (nI (N % 32)) (nI T) (nI rn) (nI N) g_waiting a_weight a_slots a_pace b_till a_failures a_credit a_successes b_sick b_well a_broken b_up a_paths a_sets a_settings a_capacity a_refill b_tokens a_homes a_homeSince a_clients a_path a_keys a_works a_ranks a_states a_server a_attempts a_tried a_came b_ended b_ends a_late b_queue b_total a_latest b_sorted) ∧ (¬ 2 ≤ a_states (N % 32) → post (-2) (nI T, nI rn, nI N, g_waiting, a_weight, a_slots, a_pace, b_till, a_failures, a_credit, a_successes, b_sick, b_well, a_broken, b_up, a_paths, a_sets, a_settings, a_capacity, a_refill, b_tokens, a_homes, a_homeSince, a_clients, a_path, a_keys, a_works, a_ranks, a_states, a_server, a_attempts, a_tried, a_came, b_ended, b_ends, a_late, b_queue, b_total, a_latest, b_sorted))))) →
      wpY_arrive post (nI T, nI rn, nI N, g_waiting, a_weight, a_slots, a_pace, b_till, a_failures, a_credit, a_successes, b_sick, b_well, a_broken, b_up, a_paths, a_sets, a_settings, a_capacity, a_refill, b_tokens, a_homes, a_homeSince, a_clients, a_path, a_keys, a_works, a_ranks, a_states, a_server, a_attempts, a_tried, a_came, b_ended, b_ends, a_late, b_queue, b_total, a_latest, b_sorted) v1 (nI p) v3 v4 v5 := by
    intro post hpo
    unfold wpY_arrive
    refine zy_w1 0 5 hz (by decide) (by decide) (br_f n10 (HY0 _ (br_f n10 (zy_w1 0 255 hz3 (by decide) (by decide) (br_f n10 (zy_w1 1 100 hz4 (by decide) (by decide) (br_f n10 (zy_w1 0 3 hz5 (by decide) (by decide) (br_f n10 ⟨n32, nm_r r32 (br_c (fun a => hpo.1 a) (fun a => ⟨iq, ?_⟩))⟩)))))))))
    rw [cq]
    exact br_c (fun b => (hpo.2 a).1 b) (fun b => (hpo.2 a).2 b)
  refine nm_r m31 ?_
  by_cases hfull : 31 < N ∧ ¬ 1 < a_states (N % 32)
  · have hg : ¬ nI N ≤ 31 := nI_ge (a := 31) hfull.1 (by omega)
    refine br_f hg ⟨iq, br_f (by rw [cq]; exact hfull.2) (hYs _ (br_f hg (br_f (fun z => hfull.2 (za_12.mpr z)) ⟨rfl, I'⟩)))⟩
  have hold : 31 < N → 1 < a_states (N % 32) := fun z => Classical.byContradiction fun y => hfull ⟨z, y⟩
  have hYg : ∀ post : Int32 → SY → Prop, wY_arrive_82 post v1 (nI p) v3 v4 v5 (nI (N % 32)) (nI T) (nI rn) (nI N) g_waiting a_weight a_slots a_pace b_till a_failures a_credit a_successes b_sick b_well a_broken b_up a_paths a_sets a_settings a_capacity a_refill b_tokens a_homes a_homeSince a_clients a_path a_keys a_works a_ranks a_states a_server a_attempts a_tried a_came b_ended b_ends a_late b_queue b_total a_latest b_sorted → wpY_arrive post (nI T, nI rn, nI N, g_waiting, a_weight, a_slots, a_pace, b_till, a_failures, a_credit, a_successes, b_sick, b_well, a_broken, b_up, a_paths, a_sets, a_settings, a_capacity, a_refill, b_tokens, a_homes, a_homeSince, a_clients, a_path, a_keys, a_works, a_ranks, a_states, a_server, a_attempts, a_tried, a_came, b_ended, b_ends, a_late, b_queue, b_total, a_latest, b_sorted) v1 (nI p) v3 v4 v5 := by
    intro post hpo
    refine hYs post (br_c (fun _ => hpo) (fun a => br_t (za_12.mp (hold ?_)) hpo))
    rcases Nat.lt_or_ge 31 N with z | z
    · exact z
    · exact absurd (nI_le (b := 31) z (by decide)) a
  have goX : wX_arrive_80 (fun r u' => wpY_arrive (fun r' v' => r' = r ∧ i_Rel (k + 6) u' v') (nI T, nI rn, nI N, g_waiting, a_weight, a_slots, a_pace, b_till, a_failures, a_credit, a_successes, b_sick, b_well, a_broken, b_up, a_paths, a_sets, a_settings, a_capacity, a_refill, b_tokens, a_homes, a_homeSince, a_clients, a_path, a_keys, a_works, a_ranks, a_states, a_server, a_attempts, a_tried, a_came, b_ended, b_ends, a_late, b_queue, b_total, a_latest, b_sorted) v1 (nI p) v3 v4 v5) v1 (nI p) v3 v4 v5 (nI (N % 32)) (nI np) (nI rn) f_nodes (nI (zj_dn D)) (nI N) (nI h) f_waiting (nI T) f_finished f_touched a_weight a_slots a_pace a_running a_broken a_down a_good a_bad a_shut a_till a_failures a_successes a_credit a_settings a_ringAt a_ringServer a_paths a_sets a_next a_servers a_homes a_homeSince a_latest a_sorted a_capacity a_refill a_bucket a_countedAt a_states a_clients a_path a_ranks a_keys a_works a_tried a_attempts a_server a_late a_came a_ends a_heap a_queue a_totals := by
    obtain ⟨c, _, hc, rfl⟩ := hz
    obtain ⟨ky, _, hky, rfl⟩ := hz3
    obtain ⟨wo, hwo1, hwo2, rfl⟩ := hz4
    obtain ⟨rk, _, hrk, rfl⟩ := hz5
    have ic : vp_in (nI c) 6 := vp_in_nI (by omega) (by omega)
    have cc : (nI c).toNatClampNeg = c := nI_clamp (by omega)
    obtain ⟨cap, r, b, ca, i1, i2, i3, i4, i5, i6, i7, i8, i9, i10⟩ := tk c (by omega)
    have hFle := zk_F_le (b := b) (c := ca) (r := r) (cap := cap) (t := T)
    rcases Nat.eq_zero_or_pos (zk_F b ca r cap T) with zF | zF
    · -- no token
      unfold wX_arrive_80
      refine zx_count (by omega) i6 i1 i7 i2 i3 i8 i4 i9 i5 (by omega) ⟨ic, ?_⟩
      rw [cc, pk_us, zF]
      refine br_t nI_0 (nm_e (hYg _ (And.intro ic (br_t (by rw [cc, i10, zF]; exact nI_0) (nm_e ⟨rfl, ?_⟩)))))
      have tk' := zj_tkc tk i1 i2 i3 i6 i7 i10
      rw [zF] at tk'
      exact zj_R_in (N := N) (T := T) (D := D) (h := h) (np := np) (rn := rn) (nd := nd) (bf := bf) (pre := pre) (L := L) (by omega) (by omega) hD ⟨⟨rfl, rfl, rfl, rfl, rfl, rfl, rfl, rfl⟩, ⟨hN, hT, hTc, hTe, hD2⟩, cf, hmm, tk', sl, en, hp, ru, ck, bk, zj_to56 (Or.inr rfl) to, rm⟩ Q nr
    · obtain ⟨F, hF⟩ : ∃ F, zk_F b ca r cap T = F + 1 := ⟨zk_F b ca r cap T - 1, by omega⟩
      have CN := zj_new (c := c) (b := F) (p := p) (ky := ky) (wo := wo) (rk := nI rk) C0 (by omega) hold (by omega) i1 i2 i3 i6 i7 (by omega) hok (by omega) hwo1 hwo2
      have n01 : ¬ (1 : Int32) < 0 := by decide
      have QN : zj_Q (N + 1) L f_waiting g_waiting a_queue b_queue (upd a_states (N % 32) 0) (upd a_attempts (N % 32) 0) := by
        obtain ⟨⟨qn, qm⟩, rest⟩ := Q
        refine ⟨⟨qn, fun m' h' => ?_⟩, rest⟩
        obtain ⟨g1, g2, g3⟩ := qm m' h'
        obtain ⟨w1, w2⟩ := zw_new hold n01 g1 g2
        exact ⟨w2, by rw [pk_un w1]; exact g2, by rw [pk_un w1]; exact g3⟩
      have hnL : N ∉ L := fun z => by have : N < N := (Q.1.2 N z).1.1; omega
      have nrN : f_touched = 0 → ∀ m, m ∈ L → ∀ s, s < 6 → zj_rq (nI rn) a_paths a_sets a_weight a_down a_running a_slots a_shut a_till (upd a_tried (N % 32) 0) (upd a_path (N % 32) (nI p)) (nI T) m s = false := by
        intro z m' h' s hs
        obtain ⟨g1, g2, g3⟩ := Q.1.2 m' h'
        obtain ⟨w1, w2⟩ := zw_new hold n01 g1 g2
        have := nr z m' h' s hs
        unfold zj_rq at this ⊢
        rw [pk_un w1, pk_un w1]
        exact this
      -- what is left, on both sides
      have hfin : ∀ (L' : List Nat) (u' : SX) (v' : SY), zj_S (N + 1) T T (T + 1) (32 * T) bf L' u' v' → (px_to u' = 0 → zj_nr L' u') →
          (match v' with | (g_time, f_routes, f_requests, g_waiting, a_weight, a_slots, a_pace, b_till, a_failures, a_credit, a_successes, b_sick, b_well, a_broken, b_up, a_paths, a_sets, a_settings, a_capacity, a_refill, b_tokens, a_homes, a_homeSince, a_clients, a_path, a_keys, a_works, a_ranks, b_state, a_server, a_attempts, a_tried, a_came, b_ended, b_ends, a_late, b_queue, b_total, a_latest, b_sorted) => (f_requests - 1 = nI N ∧ i_Rel (k + 6) u' (g_time, f_routes, f_requests, g_waiting, a_weight, a_slots, a_pace, b_till, a_failures, a_credit, a_successes, b_sick, b_well, a_broken, b_up, a_paths, a_sets, a_settings, a_capacity, a_refill, b_tokens, a_homes, a_homeSince, a_clients, a_path, a_keys, a_works, a_ranks, b_state, a_server, a_attempts, a_tried, a_came, b_ended, b_ends, a_late, b_queue, b_total, a_latest, b_sorted))) := by
        intro L' u' v' S' hnr
        revert hnr
        refine zj_S_el (P := fun u v => (px_to u = 0 → zj_nr L' u) → (match v with | (g_time, f_routes, f_requests, g_waiting, a_weight, a_slots, a_pace, b_till, a_failures, a_credit, a_successes, b_sick, b_well, a_broken, b_up, a_paths, a_sets, a_settings, a_capacity, a_refill, b_tokens, a_homes, a_homeSince, a_clients, a_path, a_keys, a_works, a_ranks, b_state, a_server, a_attempts, a_tried, a_came, b_ended, b_ends, a_late, b_queue, b_total, a_latest, b_sorted) => (f_requests - 1 = nI N ∧ i_Rel (k + 6) u (g_time, f_routes, f_requests, g_waiting, a_weight, a_slots, a_pace, b_till, a_failures, a_credit, a_successes, b_sick, b_well, a_broken, b_up, a_paths, a_sets, a_settings, a_capacity, a_refill, b_tokens, a_homes, a_homeSince, a_clients, a_path, a_keys, a_works, a_ranks, b_state, a_server, a_attempts, a_tried, a_came, b_ended, b_ends, a_late, b_queue, b_total, a_latest, b_sorted)))) ?_ S'
        intro f_points f_routes f_nodes f_durations f_requests f_heaped f_waiting f_now f_finished f_touched g_time g_waiting a_weight a_slots a_pace a_running a_broken a_down a_good a_bad a_shut a_till a_failures a_successes a_credit a_settings a_ringAt a_ringServer a_paths a_sets a_next a_servers a_homes a_homeSince a_latest a_sorted a_capacity a_refill a_bucket a_countedAt a_states a_clients a_path a_ranks a_keys a_works a_tried a_attempts a_server a_late a_came a_ends a_heap a_queue b_till b_sick b_well b_up b_tokens b_state b_ended b_ends b_queue b_sorted a_totals b_total D h np rn nd pre hD C Q hnr
        refine And.intro ?_ (zj_R_in (N := N + 1) (T := T) (D := D) (h := h) (np := np) (rn := rn) (nd := nd) (bf := bf) (pre := pre) (L := L') (by omega) (by omega) hD C Q hnr)
        rw [C.1.1, nI_pred]
      have P0 := cf.2.2.2.2.2.2.1
      have T0 := cf.2.2.2.2.2.2.2.1
      have nd0 := cf.2.2.2.2.2.2.2.2
      refine zx_80 (N := N) (F := F) (by omega) i6 i1 i7 i2 i3 i8 i4 i9 i5 (by omega) hF hok (by omega) hwo2 hrk P0 T0 nd0 ?_
      rcases zt_so_rg P0 4 p with eM | ⟨mm, hmm4, eM⟩
      · -- no route
        have CR := zj_rej (m := N) CN pk_us
        have hneg : ¬ 0 ≤ zt_so a_paths a_sets rn 4 p := by rw [eM]; exact za_m1le
        have SR := zj_S_in (Dm := 32 * T) (a_credit := a_credit) (a_successes := a_successes) hD CR (L := L) (by
          obtain ⟨⟨qn, qm⟩, rest⟩ := QN
          refine ⟨⟨qn, fun m' h' => ?_⟩, rest⟩
          obtain ⟨g1, g2, g3⟩ := qm m' h'
          refine ⟨g1, ?_, g3⟩
          rw [pk_un]
          · exact g2
          · intro z
            exact hnL ((zw_inj g1 ⟨by omega, by omega⟩ z) ▸ h'))
        refine br_f hneg (zx_conc5 (by omega) (hYg _ (zy_82 (F := F) (by omega) (by omega) (by rw [i10, hF]) hok P0 (br_f hneg (zy_over (k := 5) rfl (by omega) (by omega) ?_)))))
        exact hfin L _ _ SR nrN
      · have hpos : 0 ≤ zt_so a_paths a_sets rn 4 p := by rw [eM]; exact nI_pos' (by omega)
        obtain ⟨L', u', v', S', hnr', hto, HXp, HYp⟩ := zj_place (Dm := 32 * T) hD CN QN pk_us pk_us hnL
        refine br_t hpos (HXp _ ?_)
        have hY := hYg (fun r' v' => r' = nI N ∧ i_Rel (k + 6) u' v') (zy_82 (F := F) (by omega) (by omega) (by rw [i10, hF]) hok P0 (br_t hpos (HYp _ (hfin L' u' v' S' (fun z => hnr' (nrN (by rw [← hto]; exact z)))))))
        exact hY
  refine br_c (fun _ => goX) (fun a => ⟨iq, br_t ?_ goX⟩)
  rw [cq]
  refine hold ?_
  rcases Nat.lt_or_ge 31 N with z | z
  · exact z
  · exact absurd (nI_le (b := 31) z (by decide)) a
end
end
