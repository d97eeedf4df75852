section
/-! pure rows to paste: stores, nI and lN arithmetic, masks, shifts, narrowing, branches by naturals (pk_le, pk_lt, pk_eq), loops (lp1 .. lp16: the measure of the state; rp1 ..: recursion), negatives. Take what you need -/
theorem pk_us {f : Nat → Int32} {k : Nat} {x : Int32} : upd f k x k = x := if_pos rfl
theorem pk_un {f : Nat → Int32} {k j : Nat} {x : Int32} (h : j ≠ k) : upd f k x j = f j := if_neg h
theorem pk_uLs {f : Nat → Int64} {k : Nat} {x : Int64} : vp_updL f k x k = x := if_pos rfl
theorem pk_uLn {f : Nat → Int64} {k j : Nat} {x : Int64} (h : j ≠ k) : vp_updL f k x j = f j := if_neg h
theorem pk_sub {a b : Nat} (h : b ≤ a) : nI a - nI b = nI (a - b) := by
  obtain ⟨c, rfl⟩ : ∃ c, a = c + b := ⟨a - b, by omega⟩
  rw [← nI_add, Int32.add_sub_cancel, Nat.add_sub_cancel]
theorem pk_m1 (n : Nat) : nI (n + 1) + (-1) = nI n := by
  rw [← nI_1, Int32.add_assoc, show (1 : Int32) + (-1) = 0 from rfl, Int32.add_zero]
theorem pk_mul (a b : Nat) : nI a * nI b = nI (a * b) := (Int32.ofNat_mul a b).symm
theorem pk_div {a d : Nat} (ha : a < 2 ^ 31) (h0 : 0 < d) (hd : d < 2 ^ 31) : nI a / nI d = nI (a / d) := by
  apply Int32.toInt_inj.mp
  rw [lg_idiv_nonneg (by rw [nI_toInt ha]; omega) (by rw [nI_toInt hd]; omega), nI_toInt ha, nI_toInt hd, nI_toInt (Nat.lt_of_le_of_lt (Nat.div_le_self a d) ha)]
  first | rfl | exact (Int.natCast_ediv _ _).symm
theorem pk_rem {a d : Nat} (ha : a < 2 ^ 31) (h0 : 0 < d) (hd : d < 2 ^ 31) : nI a - nI a / nI d * nI d = nI (a % d) := by
  rw [pk_div ha h0 hd, pk_mul, pk_sub (Nat.div_mul_le_self a d)]
  exact congrArg nI (by have := Nat.div_add_mod' a d; omega)
theorem pk_sub_toInt {a b : Nat} (ha : a < 2 ^ 30) (hb : b < 2 ^ 30) : (nI a - nI b).toInt = (a : Int) - b := by
  rw [Int32.toInt_sub, nI_toInt (by omega), nI_toInt (by omega)]
  exact Int.bmod_eq_of_le (by omega) (by omega)
theorem pk_sneg {a b : Nat} (hb : b < 2 ^ 30) (h : a < b) : nI a - nI b < 0 := by
  rw [Int32.lt_iff_toInt_lt, pk_sub_toInt (by omega) hb, show (0 : Int32).toInt = 0 from by decide]
  omega
theorem pk_ix (x : Int32) {n : Nat} (hn : n < 2 ^ 31) : x < 0 ∨ nI n ≤ x ∨ ∃ j : Nat, j < n ∧ x = nI j := by
  by_cases h : x < 0
  · exact Or.inl h
  · obtain ⟨j, hj, rfl⟩ := nI_of h
    by_cases h2 : j < n
    · exact Or.inr (Or.inr ⟨j, h2, rfl⟩)
    · exact Or.inr (Or.inl (nI_le (by omega) hj))
theorem pk_le {x y : Int32} {A B : Prop} (a b : Nat) (f : a ≤ b → A) (g : b < a → B) (hx : x = nI a := by rfl) (hy : y = nI b := by rfl) (ha : a < 2 ^ 31 := by omega) (hb : b < 2 ^ 31 := by omega) : (x ≤ y → A) ∧ (¬ x ≤ y → B) := by
  subst hx hy
  rw [nI_leI ha hb]
  exact ⟨f, fun z => g (by omega)⟩
theorem pk_lt {x y : Int32} {A B : Prop} (a b : Nat) (f : a < b → A) (g : b ≤ a → B) (hx : x = nI a := by rfl) (hy : y = nI b := by rfl) (ha : a < 2 ^ 31 := by omega) (hb : b < 2 ^ 31 := by omega) : (x < y → A) ∧ (¬ x < y → B) := by
  subst hx hy
  rw [nI_ltI ha hb]
  exact ⟨f, fun z => g (by omega)⟩
theorem pk_eq {x y : Int32} {A B : Prop} (a b : Nat) (f : a = b → A) (g : a ≠ b → B) (hx : x = nI a := by rfl) (hy : y = nI b := by rfl) (ha : a < 2 ^ 31 := by omega) (hb : b < 2 ^ 31 := by omega) : (x = y → A) ∧ (¬ x = y → B) := by
  subst hx hy
  rw [nI_eq ha hb]
  exact ⟨f, g⟩
theorem pk_in {x : Int32} (n N : Nat) (h : n < N) (hx : x = nI n := by rfl) (hN : N < 2 ^ 31 := by omega) : vp_in x N := by
  subst hx
  exact vp_in_nI h hN
theorem pk_cl {x : Int32} (n : Nat) (hx : x = nI n := by rfl) (h : n < 2 ^ 31 := by omega) : x.toNatClampNeg = n := by
  subst hx
  exact nI_clamp h
theorem pk_tn {n : Nat} (h : n < 2 ^ 32) : (nI n).toBitVec.toNat = n := Nat.mod_eq_of_lt h
theorem pk_and (x : Int32) {m : Int32} (k : Nat) (hm : m.toBitVec.toNat = 2 ^ k - 1) : x &&& m = nI (x.toBitVec.toNat % 2 ^ k) := by
  apply Int32.toBitVec_inj.mp
  apply BitVec.eq_of_toNat_eq
  rw [Int32.toBitVec_and, BitVec.toNat_and, hm, Nat.and_two_pow_sub_one_eq_mod]
  show _ = (BitVec.ofNat 32 _).toNat
  rw [BitVec.toNat_ofNat]
  exact (Nat.mod_eq_of_lt (Nat.lt_of_le_of_lt (Nat.mod_le _ _) x.toBitVec.isLt)).symm
theorem pk_andN {n : Nat} (h : n < 2 ^ 32) {m : Int32} (k : Nat) (hm : m.toBitVec.toNat = 2 ^ k - 1) : nI n &&& m = nI (n % 2 ^ k) := by
  rw [pk_and _ k hm, pk_tn h]
theorem pk_andE (x : Int32) {m : Int32} (k : Nat) (hm : m.toBitVec.toNat = 2 ^ k - 1) : ∃ j : Nat, j < 2 ^ k ∧ x &&& m = nI j := ⟨_, Nat.mod_lt _ (Nat.two_pow_pos k), pk_and x k hm⟩
theorem pk_andIn (x : Int32) {m : Int32} (k : Nat) (hm : m.toBitVec.toNat = 2 ^ k - 1) (hk : k ≤ 30) : vp_in (x &&& m) (2 ^ k) := by
  obtain ⟨j, hj, e⟩ := pk_andE x k hm
  rw [e]
  exact vp_in_nI hj (Nat.lt_of_le_of_lt (Nat.pow_le_pow_right (by decide) hk) (by decide))
theorem pk_shl (a s : Int32) (k : Nat) (hs : (s.toBitVec.smod 32).toNat = k) : (a <<< s).toBitVec.toNat = a.toBitVec.toNat * 2 ^ k % 2 ^ 32 := by
  show (a.toBitVec <<< (s.toBitVec.smod 32).toNat).toNat = _
  rw [hs, BitVec.toNat_shiftLeft, Nat.shiftLeft_eq]
theorem pk_shlN {n : Nat} (s : Int32) (k : Nat) (hs : (s.toBitVec.smod 32).toNat = k) (h : n * 2 ^ k < 2 ^ 32) : nI n <<< s = nI (n * 2 ^ k) := by
  apply Int32.toBitVec_inj.mp
  apply BitVec.eq_of_toNat_eq
  have hn : n < 2 ^ 32 := Nat.lt_of_le_of_lt (Nat.le_mul_of_pos_right n (Nat.two_pow_pos k)) h
  rw [pk_shl _ _ k hs, pk_tn hn, pk_tn h, Nat.mod_eq_of_lt h]
theorem pk_shr (a s : Int32) (k : Nat) (hs : (s.toBitVec.smod 32).toNat = k) : (a >>> s).toInt = a.toInt >>> k := by
  show (a.toBitVec.sshiftRight (s.toBitVec.smod 32).toNat).toInt = _
  rw [hs, BitVec.toInt_sshiftRight]
  rfl
theorem pk_shrN {n : Nat} (h : n < 2 ^ 31) (s : Int32) (k : Nat) (hs : (s.toBitVec.smod 32).toNat = k) : nI n >>> s = nI (n / 2 ^ k) := by
  apply Int32.toInt_inj.mp
  have h2 : n / 2 ^ k ≤ n := Nat.div_le_self _ _
  rw [pk_shr _ _ k hs, nI_toInt h, nI_toInt (by omega), Int.shiftRight_eq_div_pow]
  rfl
theorem pk_ushr (x s : Int32) (k : Nat) (hs : ((s.toUInt32 &&& Int32.toUInt32 31).toBitVec % 32).toNat = k) : (x.toUInt32 >>> (s.toUInt32 &&& Int32.toUInt32 31)).toInt32.toBitVec.toNat = x.toBitVec.toNat / 2 ^ k := by
  have e : (x.toUInt32 >>> (s.toUInt32 &&& Int32.toUInt32 31)).toInt32.toBitVec = x.toBitVec >>> k := by
    rw [← hs]
    exact UInt32.toBitVec_shiftRight _ _
  rw [e, BitVec.toNat_ushiftRight, Nat.shiftRight_eq_div_pow]
theorem pk_ushrN {n : Nat} (hn : n < 2 ^ 32) (s : Int32) (k : Nat) (hs : ((s.toUInt32 &&& Int32.toUInt32 31).toBitVec % 32).toNat = k) : ((nI n).toUInt32 >>> (s.toUInt32 &&& Int32.toUInt32 31)).toInt32 = nI (n / 2 ^ k) := by
  apply Int32.toBitVec_inj.mp
  apply BitVec.eq_of_toNat_eq
  rw [pk_ushr _ s k hs, pk_tn hn, pk_tn (Nat.lt_of_le_of_lt (Nat.div_le_self _ _) hn)]
theorem pk_nb (z : Int32) : narrow .byte (.int z.toInt8.toInt32) = .int z.toInt8.toInt32 := congrArg Value.int (by simp)
theorem pk_ns (z : Int32) : narrow .short (.int z.toInt16.toInt32) = .int z.toInt16.toInt32 := congrArg Value.int (by simp)
theorem pk_fb (r : Int32) : fits .byte (.int r.toInt8.toInt32) = true := by
  have ⟨a, b⟩ := lg_i2b_range r
  have h1 : (-128 : Int32).toInt = -128 := by decide
  have h2 : (127 : Int32).toInt = 127 := by decide
  simp only [fits, Bool.and_eq_true, decide_eq_true_eq, Int32.le_iff_toInt_le, h1, h2]
  omega
theorem pk_fs (r : Int32) : fits .short (.int r.toInt16.toInt32) = true := by
  have ⟨a, b⟩ := lg_i2s_range r
  have h1 : (-32768 : Int32).toInt = -32768 := by decide
  have h2 : (32767 : Int32).toInt = 32767 := by decide
  simp only [fits, Bool.and_eq_true, decide_eq_true_eq, Int32.le_iff_toInt_le, h1, h2]
  omega
theorem pk_charN {q : Nat} (hq : q < 65536) : narrow .char (.int (nI q)) = .int (nI q) ∧ fits .char (.int (nI q)) = true := by
  constructor
  · have e : (nI q).toUInt32.toUInt16.toUInt32.toInt32 = nI q := by
      apply Int32.toBitVec_inj.mp
      apply BitVec.eq_of_toNat_eq
      show (nI q).toUInt32.toUInt16.toUInt32.toNat = q % 2 ^ 32
      rw [UInt16.toNat_toUInt32, UInt32.toNat_toUInt16, show (nI q).toUInt32.toNat = q % 2 ^ 32 from rfl]
      omega
    exact congrArg Value.int e
  · have a : (0 : Int32) ≤ nI q := nI_pos' (by omega)
    have b : nI q ≤ 65535 := nI_le (b := 65535) (by omega) (by decide)
    show (decide ((0 : Int32) ≤ nI q) && decide (nI q ≤ 65535)) = true
    rw [decide_eq_true a, decide_eq_true b]
    rfl
theorem pk_char (x : Int32) : (x.toUInt32 % 65536).toInt32 = nI (x.toBitVec.toNat % 65536) := by
  apply Int32.toBitVec_inj.mp
  apply BitVec.eq_of_toNat_eq
  rw [pk_tn (by omega)]
  show (x.toUInt32 % 65536).toNat = _
  rw [UInt32.toNat_mod]
  rfl
theorem pk_nc (x : Int32) : narrow .char (.int (x.toUInt32 % 65536).toInt32) = .int (x.toUInt32 % 65536).toInt32 := by
  rw [pk_char]
  exact (pk_charN (Nat.mod_lt _ (by decide))).1
theorem pk_fc (x : Int32) : fits .char (.int (x.toUInt32 % 65536).toInt32) = true := by
  rw [pk_char]
  exact (pk_charN (Nat.mod_lt _ (by decide))).2
theorem pk_vb (z : Int32) : vp_nar .byte z.toInt8.toInt32 = z.toInt8.toInt32 := by rw [vp_nar_byte]; simp
theorem pk_vs (z : Int32) : vp_nar .short z.toInt16.toInt32 = z.toInt16.toInt32 := by rw [vp_nar_short]; simp
theorem pk_vc (z : Int32) : vp_nar .char (z.toUInt32 % 65536).toInt32 = (z.toUInt32 % 65536).toInt32 := Value.int.inj (pk_nc z)
theorem pk_lT {n : Nat} (h : n < 2 ^ 63) : (lN n).toInt = (n : Int) := lg_ofNat_toInt h
theorem pk_lLT {a b : Nat} (ha : a < 2 ^ 63) (hb : b < 2 ^ 63) : lN a < lN b ↔ a < b := by
  rw [Int64.lt_iff_toInt_lt, pk_lT ha, pk_lT hb]; omega
theorem pk_lLE {a b : Nat} (ha : a < 2 ^ 63) (hb : b < 2 ^ 63) : lN a ≤ lN b ↔ a ≤ b := by
  rw [Int64.le_iff_toInt_le, pk_lT ha, pk_lT hb]; omega
theorem pk_lEQ {a b : Nat} (ha : a < 2 ^ 63) (hb : b < 2 ^ 63) : lN a = lN b ↔ a = b := by
  rw [← Int64.toInt_inj, pk_lT ha, pk_lT hb]; omega
theorem pk_lOf {x : Int64} (h : ¬ x < 0) : ∃ k : Nat, k < 2 ^ 63 ∧ x = lN k := by
  rw [Int64.lt_iff_toInt_lt] at h
  have h0 : (0 : Int64).toInt = 0 := by decide
  have hx := Int64.toInt_lt x
  refine ⟨x.toInt.toNat, by omega, Int64.toInt_inj.mp ?_⟩
  rw [pk_lT (by omega)]
  omega
theorem pk_lDiv {a b : Nat} (ha : a < 2 ^ 63) (h0 : 0 < b) (hb : b < 2 ^ 63) : lN a / lN b = lN (a / b) := by
  apply Int64.toInt_inj.mp
  rw [lg_ldiv_nonneg (by rw [pk_lT ha]; omega) (by rw [pk_lT hb]; omega), pk_lT ha, pk_lT hb, pk_lT (Nat.lt_of_le_of_lt (Nat.div_le_self a b) ha)]
  rfl
theorem pk_lRem {a b : Nat} (ha : a < 2 ^ 63) (h0 : 0 < b) (hb : b < 2 ^ 63) : lN a - lN a / lN b * lN b = lN (a % b) := by
  rw [pk_lDiv ha h0 hb, lN_mul, lN_sub (Nat.div_mul_le_self a b)]
  exact congrArg lN (by have := Nat.div_add_mod' a b; omega)
theorem pk_loop {σ : Type} (W : Nat → Nat → σ → Prop) (I : Nat → σ → Prop) (e i0 : Nat) (s : σ) (hi : i0 ≤ e) (h0 : I i0 s) (hx : ∀ n s, I e s → W (n + 1) e s)
    (hs : ∀ n i s, i < e → I i s → (∀ s', I (i + 1) s' → W n (i + 1) s') → W (n + 1) i s) : ∃ n, W n i0 s :=
  ⟨e + 1, loop_i W I e hx hs (e + 1) i0 s hi (by omega) h0⟩
theorem pk_loopD {σ : Type} (W : Nat → Nat → σ → Prop) (I : Nat → σ → Prop) (hx : ∀ n s, I 0 s → W (n + 1) 0 s)
    (hs : ∀ n i s, I (i + 1) s → (∀ s', I i s' → W n i s') → W (n + 1) (i + 1) s) : ∀ (e : Nat) (s : σ), I e s → W (e + 1) e s := by
  intro e
  induction e with
  | zero => exact fun s h => hx 0 s h
  | succ e ih => exact fun s h => hs (e + 1) e s h (fun s' h' => ih s' h')
theorem lp1 {A1 : Type} (W : Nat → A1 → Prop) (I : A1 → Prop) (μ : A1 → Nat) (hs : ∀ (n : Nat) (a1 : A1), I a1 → (∀ (b1 : A1), I b1 → μ b1 < μ a1 → W n b1) → W (n + 1) a1) (a1 : A1) (h : I a1) : ∃ n, W n a1 :=
  loop_m (σ := A1) (fun n s => W n s) (fun s => I s) (fun s => μ s) (fun n s hI hk => hs n s hI (fun b1 h9 hm => hk b1 h9 hm)) a1 h
theorem lp2 {A1 A2 : Type} (W : Nat → A1 → A2 → Prop) (I : A1 → A2 → Prop) (μ : A1 → A2 → Nat) (hs : ∀ (n : Nat) (a1 : A1) (a2 : A2), I a1 a2 → (∀ (b1 : A1) (b2 : A2), I b1 b2 → μ b1 b2 < μ a1 a2 → W n b1 b2) → W (n + 1) a1 a2) (a1 : A1) (a2 : A2) (h : I a1 a2) : ∃ n, W n a1 a2 :=
  loop_m (σ := A1 × A2) (fun n s => W n s.1 s.2) (fun s => I s.1 s.2) (fun s => μ s.1 s.2) (fun n s hI hk => hs n s.1 s.2 hI (fun b1 b2 h9 hm => hk (b1, b2) h9 hm)) (a1, a2) h
theorem lp3 {A1 A2 A3 : Type} (W : Nat → A1 → A2 → A3 → Prop) (I : A1 → A2 → A3 → Prop) (μ : A1 → A2 → A3 → Nat) (hs : ∀ (n : Nat) (a1 : A1) (a2 : A2) (a3 : A3), I a1 a2 a3 → (∀ (b1 : A1) (b2 : A2) (b3 : A3), I b1 b2 b3 → μ b1 b2 b3 < μ a1 a2 a3 → W n b1 b2 b3) → W (n + 1) a1 a2 a3) (a1 : A1) (a2 : A2) (a3 : A3) (h : I a1 a2 a3) : ∃ n, W n a1 a2 a3 :=
  loop_m (σ := A1 × A2 × A3) (fun n s => W n s.1 s.2.1 s.2.2) (fun s => I s.1 s.2.1 s.2.2) (fun s => μ s.1 s.2.1 s.2.2) (fun n s hI hk => hs n s.1 s.2.1 s.2.2 hI (fun b1 b2 b3 h9 hm => hk (b1, b2, b3) h9 hm)) (a1, a2, a3) h
theorem lp4 {A1 A2 A3 A4 : Type} (W : Nat → A1 → A2 → A3 → A4 → Prop) (I : A1 → A2 → A3 → A4 → Prop) (μ : A1 → A2 → A3 → A4 → Nat) (hs : ∀ (n : Nat) (a1 : A1) (a2 : A2) (a3 : A3) (a4 : A4), I a1 a2 a3 a4 → (∀ (b1 : A1) (b2 : A2) (b3 : A3) (b4 : A4), I b1 b2 b3 b4 → μ b1 b2 b3 b4 < μ a1 a2 a3 a4 → W n b1 b2 b3 b4) → W (n + 1) a1 a2 a3 a4) (a1 : A1) (a2 : A2) (a3 : A3) (a4 : A4) (h : I a1 a2 a3 a4) : ∃ n, W n a1 a2 a3 a4 :=
  loop_m (σ := A1 × A2 × A3 × A4) (fun n s => W n s.1 s.2.1 s.2.2.1 s.2.2.2) (fun s => I s.1 s.2.1 s.2.2.1 s.2.2.2) (fun s => μ s.1 s.2.1 s.2.2.1 s.2.2.2) (fun n s hI hk => hs n s.1 s.2.1 s.2.2.1 s.2.2.2 hI (fun b1 b2 b3 b4 h9 hm => hk (b1, b2, b3, b4) h9 hm)) (a1, a2, a3, a4) h
theorem lp5 {A1 A2 A3 A4 A5 : Type} (W : Nat → A1 → A2 → A3 → A4 → A5 → Prop) (I : A1 → A2 → A3 → A4 → A5 → Prop) (μ : A1 → A2 → A3 → A4 → A5 → Nat) (hs : ∀ (n : Nat) (a1 : A1) (a2 : A2) (a3 : A3) (a4 : A4) (a5 : A5), I a1 a2 a3 a4 a5 → (∀ (b1 : A1) (b2 : A2) (b3 : A3) (b4 : A4) (b5 : A5), I b1 b2 b3 b4 b5 → μ b1 b2 b3 b4 b5 < μ a1 a2 a3 a4 a5 → W n b1 b2 b3 b4 b5) → W (n + 1) a1 a2 a3 a4 a5) (a1 : A1) (a2 : A2) (a3 : A3) (a4 : A4) (a5 : A5) (h : I a1 a2 a3 a4 a5) : ∃ n, W n a1 a2 a3 a4 a5 :=
  loop_m (σ := A1 × A2 × A3 × A4 × A5) (fun n s => W n s.1 s.2.1 s.2.2.1 s.2.2.2.1 s.2.2.2.2) (fun s => I s.1 s.2.1 s.2.2.1 s.2.2.2.1 s.2.2.2.2) (fun s => μ s.1 s.2.1 s.2.2.1 s.2.2.2.1 s.2.2.2.2) (fun n s hI hk => hs n s.1 s.2.1 s.2.2.1 s.2.2.2.1 s.2.2.2.2 hI (fun b1 b2 b3 b4 b5 h9 hm => hk (b1, b2, b3, b4, b5) h9 hm)) (a1, a2, a3, a4, a5) h
theorem lp6 {A1 A2 A3 A4 A5 A6 : Type} (W : Nat → A1 → A2 → A3 → A4 → A5 → A6 → Prop) (I : A1 → A2 → A3 → A4 → A5 → A6 → Prop) (μ : A1 → A2 → A3 → A4 → A5 → A6 → Nat) (hs : ∀ (n : Nat) (a1 : A1) (a2 : A2) (a3 : A3) (a4 : A4) (a5 : A5) (a6 : A6), I a1 a2 a3 a4 a5 a6 → (∀ (b1 : A1) (b2 : A2) (b3 : A3) (b4 : A4) (b5 : A5) (b6 : A6), I b1 b2 b3 b4 b5 b6 → μ b1 b2 b3 b4 b5 b6 < μ a1 a2 a3 a4 a5 a6 → W n b1 b2 b3 b4 b5 b6) → W (n + 1) a1 a2 a3 a4 a5 a6) (a1 : A1) (a2 : A2) (a3 : A3) (a4 : A4) (a5 : A5) (a6 : A6) (h : I a1 a2 a3 a4 a5 a6) : ∃ n, W n a1 a2 a3 a4 a5 a6 :=
  loop_m (σ := A1 × A2 × A3 × A4 × A5 × A6) (fun n s => W n s.1 s.2.1 s.2.2.1 s.2.2.2.1 s.2.2.2.2.1 s.2.2.2.2.2) (fun s => I s.1 s.2.1 s.2.2.1 s.2.2.2.1 s.2.2.2.2.1 s.2.2.2.2.2) (fun s => μ s.1 s.2.1 s.2.2.1 s.2.2.2.1 s.2.2.2.2.1 s.2.2.2.2.2) (fun n s hI hk => hs n s.1 s.2.1 s.2.2.1 s.2.2.2.1 s.2.2.2.2.1 s.2.2.2.2.2 hI (fun b1 b2 b3 b4 b5 b6 h9 hm => hk (b1, b2, b3, b4, b5, b6) h9 hm)) (a1, a2, a3, a4, a5, a6) h
theorem lp7 {A1 A2 A3 A4 A5 A6 A7 : Type} (W : Nat → A1 → A2 → A3 → A4 → A5 → A6 → A7 → Prop) (I : A1 → A2 → A3 → A4 → A5 → A6 → A7 → Prop) (μ : A1 → A2 → A3 → A4 → A5 → A6 → A7 → Nat) (hs : ∀ (n : Nat) (a1 : A1) (a2 : A2) (a3 : A3) (a4 : A4) (a5 : A5) (a6 : A6) (a7 : A7), I a1 a2 a3 a4 a5 a6 a7 → (∀ (b1 : A1) (b2 : A2) (b3 : A3) (b4 : A4) (b5 : A5) (b6 : A6) (b7 : A7), I b1 b2 b3 b4 b5 b6 b7 → μ b1 b2 b3 b4 b5 b6 b7 < μ a1 a2 a3 a4 a5 a6 a7 → W n b1 b2 b3 b4 b5 b6 b7) → W (n + 1) a1 a2 a3 a4 a5 a6 a7) (a1 : A1) (a2 : A2) (a3 : A3) (a4 : A4) (a5 : A5) (a6 : A6) (a7 : A7) (h : I a1 a2 a3 a4 a5 a6 a7) : ∃ n, W n a1 a2 a3 a4 a5 a6 a7 :=
  loop_m (σ := A1 × A2 × A3 × A4 × A5 × A6 × A7) (fun n s => W n s.1 s.2.1 s.2.2.1 s.2.2.2.1 s.2.2.2.2.1 s.2.2.2.2.2.1 s.2.2.2.2.2.2) (fun s => I s.1 s.2.1 s.2.2.1 s.2.2.2.1 s.2.2.2.2.1 s.2.2.2.2.2.1 s.2.2.2.2.2.2) (fun s => μ s.1 s.2.1 s.2.2.1 s.2.2.2.1 s.2.2.2.2.1 s.2.2.2.2.2.1 s.2.2.2.2.2.2) (fun n s hI hk => hs n s.1 s.2.1 s.2.2.1 s.2.2.2.1 s.2.2.2.2.1 s.2.2.2.2.2.1 s.2.2.2.2.2.2 hI (fun b1 b2 b3 b4 b5 b6 b7 h9 hm => hk (b1, b2, b3, b4, b5, b6, b7) h9 hm)) (a1, a2, a3, a4, a5, a6, a7) h
theorem lp8 {A1 A2 A3 A4 A5 A6 A7 A8 : Type} (W : Nat → A1 → A2 → A3 → A4 → A5 → A6 → A7 → A8 → Prop) (I : A1 → A2 → A3 → A4 → A5 → A6 → A7 → A8 → Prop) (μ : A1 → A2 → A3 → A4 → A5 → A6 → A7 → A8 → Nat) (hs : ∀ (n : Nat) (a1 : A1) (a2 : A2) (a3 : A3) (a4 : A4) (a5 : A5) (a6 : A6) (a7 : A7) (a8 : A8), I a1 a2 a3 a4 a5 a6 a7 a8 → (∀ (b1 : A1) (b2 : A2) (b3 : A3) (b4 : A4) (b5 : A5) (b6 : A6) (b7 : A7) (b8 : A8), I b1 b2 b3 b4 b5 b6 b7 b8 → μ b1 b2 b3 b4 b5 b6 b7 b8 < μ a1 a2 a3 a4 a5 a6 a7 a8 → W n b1 b2 b3 b4 b5 b6 b7 b8) → W (n + 1) a1 a2 a3 a4 a5 a6 a7 a8) (a1 : A1) (a2 : A2) (a3 : A3) (a4 : A4) (a5 : A5) (a6 : A6) (a7 : A7) (a8 : A8) (h : I a1 a2 a3 a4 a5 a6 a7 a8) : ∃ n, W n a1 a2 a3 a4 a5 a6 a7 a8 :=
  loop_m (σ := A1 × A2 × A3 × A4 × A5 × A6 × A7 × A8) (fun n s => W n s.1 s.2.1 s.2.2.1 s.2.2.2.1 s.2.2.2.2.1 s.2.2.2.2.2.1 s.2.2.2.2.2.2.1 s.2.2.2.2.2.2.2) (fun s => I s.1 s.2.1 s.2.2.1 s.2.2.2.1 s.2.2.2.2.1 s.2.2.2.2.2.1 s.2.2.2.2.2.2.1 s.2.2.2.2.2.2.2) (fun s => μ s.1 s.2.1 s.2.2.1 s.2.2.2.1 s.2.2.2.2.1 s.2.2.2.2.2.1 s.2.2.2.2.2.2.1 s.2.2.2.2.2.2.2) (fun n s hI hk => hs n s.1 s.2.1 s.2.2.1 s.2.2.2.1 s.2.2.2.2.1 s.2.2.2.2.2.1 s.2.2.2.2.2.2.1 s.2.2.2.2.2.2.2 hI (fun b1 b2 b3 b4 b5 b6 b7 b8 h9 hm => hk (b1, b2, b3, b4, b5, b6, b7, b8) h9 hm)) (a1, a2, a3, a4, a5, a6, a7, a8) h
theorem lp9 {A1 A2 A3 A4 A5 A6 A7 A8 A9 : Type} (W : Nat → A1 → A2 → A3 → A4 → A5 → A6 → A7 → A8 → A9 → Prop) (I : A1 → A2 → A3 → A4 → A5 → A6 → A7 → A8 → A9 → Prop) (μ : A1 → A2 → A3 → A4 → A5 → A6 → A7 → A8 → A9 → Nat) (hs : ∀ (n : Nat) (a1 : A1) (a2 : A2) (a3 : A3) (a4 : A4) (a5 : A5) (a6 : A6) (a7 : A7) (a8 : A8) (a9 : A9), I a1 a2 a3 a4 a5 a6 a7 a8 a9 → (∀ (b1 : A1) (b2 : A2) (b3 : A3) (b4 : A4) (b5 : A5) (b6 : A6) (b7 : A7) (b8 : A8) (b9 : A9), I b1 b2 b3 b4 b5 b6 b7 b8 b9 → μ b1 b2 b3 b4 b5 b6 b7 b8 b9 < μ a1 a2 a3 a4 a5 a6 a7 a8 a9 → W n b1 b2 b3 b4 b5 b6 b7 b8 b9) → W (n + 1) a1 a2 a3 a4 a5 a6 a7 a8 a9) (a1 : A1) (a2 : A2) (a3 : A3) (a4 : A4) (a5 : A5) (a6 : A6) (a7 : A7) (a8 : A8) (a9 : A9) (h : I a1 a2 a3 a4 a5 a6 a7 a8 a9) : ∃ n, W n a1 a2 a3 a4 a5 a6 a7 a8 a9 :=
  loop_m (σ := A1 × A2 × A3 × A4 × A5 × A6 × A7 × A8 × A9) (fun n s => W n s.1 s.2.1 s.2.2.1 s.2.2.2.1 s.2.2.2.2.1 s.2.2.2.2.2.1 s.2.2.2.2.2.2.1 s.2.2.2.2.2.2.2.1 s.2.2.2.2.2.2.2.2) (fun s => I s.1 s.2.1 s.2.2.1 s.2.2.2.1 s.2.2.2.2.1 s.2.2.2.2.2.1 s.2.2.2.2.2.2.1 s.2.2.2.2.2.2.2.1 s.2.2.2.2.2.2.2.2) (fun s => μ s.1 s.2.1 s.2.2.1 s.2.2.2.1 s.2.2.2.2.1 s.2.2.2.2.2.1 s.2.2.2.2.2.2.1 s.2.2.2.2.2.2.2.1 s.2.2.2.2.2.2.2.2) (fun n s hI hk => hs n s.1 s.2.1 s.2.2.1 s.2.2.2.1 s.2.2.2.2.1 s.2.2.2.2.2.1 s.2.2.2.2.2.2.1 s.2.2.2.2.2.2.2.1 s.2.2.2.2.2.2.2.2 hI (fun b1 b2 b3 b4 b5 b6 b7 b8 b9 h9 hm => hk (b1, b2, b3, b4, b5, b6, b7, b8, b9) h9 hm)) (a1, a2, a3, a4, a5, a6, a7, a8, a9) h
theorem lp10 {A1 A2 A3 A4 A5 A6 A7 A8 A9 A10 : Type} (W : Nat → A1 → A2 → A3 → A4 → A5 → A6 → A7 → A8 → A9 → A10 → Prop) (I : A1 → A2 → A3 → A4 → A5 → A6 → A7 → A8 → A9 → A10 → Prop) (μ : A1 → A2 → A3 → A4 → A5 → A6 → A7 → A8 → A9 → A10 → Nat) (hs : ∀ (n : Nat) (a1 : A1) (a2 : A2) (a3 : A3) (a4 : A4) (a5 : A5) (a6 : A6) (a7 : A7) (a8 : A8) (a9 : A9) (a10 : A10), I a1 a2 a3 a4 a5 a6 a7 a8 a9 a10 → (∀ (b1 : A1) (b2 : A2) (b3 : A3) (b4 : A4) (b5 : A5) (b6 : A6) (b7 : A7) (b8 : A8) (b9 : A9) (b10 : A10), I b1 b2 b3 b4 b5 b6 b7 b8 b9 b10 → μ b1 b2 b3 b4 b5 b6 b7 b8 b9 b10 < μ a1 a2 a3 a4 a5 a6 a7 a8 a9 a10 → W n b1 b2 b3 b4 b5 b6 b7 b8 b9 b10) → W (n + 1) a1 a2 a3 a4 a5 a6 a7 a8 a9 a10) (a1 : A1) (a2 : A2) (a3 : A3) (a4 : A4) (a5 : A5) (a6 : A6) (a7 : A7) (a8 : A8) (a9 : A9) (a10 : A10) (h : I a1 a2 a3 a4 a5 a6 a7 a8 a9 a10) : ∃ n, W n a1 a2 a3 a4 a5 a6 a7 a8 a9 a10 :=
  loop_m (σ := A1 × A2 × A3 × A4 × A5 × A6 × A7 × A8 × A9 × A10) (fun n s => W n s.1 s.2.1 s.2.2.1 s.2.2.2.1 s.2.2.2.2.1 s.2.2.2.2.2.1 s.2.2.2.2.2.2.1 s.2.2.2.2.2.2.2.1 s.2.2.2.2.2.2.2.2.1 s.2.2.2.2.2.2.2.2.2) (fun s => I s.1 s.2.1 s.2.2.1 s.2.2.2.1 s.2.2.2.2.1 s.2.2.2.2.2.1 s.2.2.2.2.2.2.1 s.2.2.2.2.2.2.2.1 s.2.2.2.2.2.2.2.2.1 s.2.2.2.2.2.2.2.2.2) (fun s => μ s.1 s.2.1 s.2.2.1 s.2.2.2.1 s.2.2.2.2.1 s.2.2.2.2.2.1 s.2.2.2.2.2.2.1 s.2.2.2.2.2.2.2.1 s.2.2.2.2.2.2.2.2.1 s.2.2.2.2.2.2.2.2.2) (fun n s hI hk => hs n s.1 s.2.1 s.2.2.1 s.2.2.2.1 s.2.2.2.2.1 s.2.2.2.2.2.1 s.2.2.2.2.2.2.1 s.2.2.2.2.2.2.2.1 s.2.2.2.2.2.2.2.2.1 s.2.2.2.2.2.2.2.2.2 hI (fun b1 b2 b3 b4 b5 b6 b7 b8 b9 b10 h9 hm => hk (b1, b2, b3, b4, b5, b6, b7, b8, b9, b10) h9 hm)) (a1, a2, a3, a4, a5, a6, a7, a8, a9, a10) h
theorem lp11 {A1 A2 A3 A4 A5 A6 A7 A8 A9 A10 A11 : Type} (W : Nat → A1 → A2 → A3 → A4 → A5 → A6 → A7 → A8 → A9 → A10 → A11 → Prop) (I : A1 → A2 → A3 → A4 → A5 → A6 → A7 → A8 → A9 → A10 → A11 → Prop) (μ : A1 → A2 → A3 → A4 → A5 → A6 → A7 → A8 → A9 → A10 → A11 → Nat) (hs : ∀ (n : Nat) (a1 : A1) (a2 : A2) (a3 : A3) (a4 : A4) (a5 : A5) (a6 : A6) (a7 : A7) (a8 : A8) (a9 : A9) (a10 : A10) (a11 : A11), I a1 a2 a3 a4 a5 a6 a7 a8 a9 a10 a11 → (∀ (b1 : A1) (b2 : A2) (b3 : A3) (b4 : A4) (b5 : A5) (b6 : A6) (b7 : A7) (b8 : A8) (b9 : A9) (b10 : A10) (b11 : A11), I b1 b2 b3 b4 b5 b6 b7 b8 b9 b10 b11 → μ b1 b2 b3 b4 b5 b6 b7 b8 b9 b10 b11 < μ a1 a2 a3 a4 a5 a6 a7 a8 a9 a10 a11 → W n b1 b2 b3 b4 b5 b6 b7 b8 b9 b10 b11) → W (n + 1) a1 a2 a3 a4 a5 a6 a7 a8 a9 a10 a11) (a1 : A1) (a2 : A2) (a3 : A3) (a4 : A4) (a5 : A5) (a6 : A6) (a7 : A7) (a8 : A8) (a9 : A9) (a10 : A10) (a11 : A11) (h : I a1 a2 a3 a4 a5 a6 a7 a8 a9 a10 a11) : ∃ n, W n a1 a2 a3 a4 a5 a6 a7 a8 a9 a10 a11 :=
  loop_m (σ := A1 × A2 × A3 × A4 × A5 × A6 × A7 × A8 × A9 × A10 × A11) (fun n s => W n s.1 s.2.1 s.2.2.1 s.2.2.2.1 s.2.2.2.2.1 s.2.2.2.2.2.1 s.2.2.2.2.2.2.1 s.2.2.2.2.2.2.2.1 s.2.2.2.2.2.2.2.2.1 s.2.2.2.2.2.2.2.2.2.1 s.2.2.2.2.2.2.2.2.2.2) (fun s => I s.1 s.2.1 s.2.2.1 s.2.2.2.1 s.2.2.2.2.1 s.2.2.2.2.2.1 s.2.2.2.2.2.2.1 s.2.2.2.2.2.2.2.1 s.2.2.2.2.2.2.2.2.1 s.2.2.2.2.2.2.2.2.2.1 s.2.2.2.2.2.2.2.2.2.2) (fun s => μ s.1 s.2.1 s.2.2.1 s.2.2.2.1 s.2.2.2.2.1 s.2.2.2.2.2.1 s.2.2.2.2.2.2.1 s.2.2.2.2.2.2.2.1 s.2.2.2.2.2.2.2.2.1 s.2.2.2.2.2.2.2.2.2.1 s.2.2.2.2.2.2.2.2.2.2) (fun n s hI hk => hs n s.1 s.2.1 s.2.2.1 s.2.2.2.1 s.2.2.2.2.1 s.2.2.2.2.2.1 s.2.2.2.2.2.2.1 s.2.2.2.2.2.2.2.1 s.2.2.2.2.2.2.2.2.1 s.2.2.2.2.2.2.2.2.2.1 s.2.2.2.2.2.2.2.2.2.2 hI (fun b1 b2 b3 b4 b5 b6 b7 b8 b9 b10 b11 h9 hm => hk (b1, b2, b3, b4, b5, b6, b7, b8, b9, b10, b11) h9 hm)) (a1, a2, a3, a4, a5, a6, a7, a8, a9, a10, a11) h
theorem lp12 {A1 A2 A3 A4 A5 A6 A7 A8 A9 A10 A11 A12 : Type} (W : Nat → A1 → A2 → A3 → A4 → A5 → A6 → A7 → A8 → A9 → A10 → A11 → A12 → Prop) (I : A1 → A2 → A3 → A4 → A5 → A6 → A7 → A8 → A9 → A10 → A11 → A12 → Prop) (μ : A1 → A2 → A3 → A4 → A5 → A6 → A7 → A8 → A9 → A10 → A11 → A12 → Nat) (hs : ∀ (n : Nat) (a1 : A1) (a2 : A2) (a3 : A3) (a4 : A4) (a5 : A5) (a6 : A6) (a7 : A7) (a8 : A8) (a9 : A9) (a10 : A10) (a11 : A11) (a12 : A12), I a1 a2 a3 a4 a5 a6 a7 a8 a9 a10 a11 a12 → (∀ (b1 : A1) (b2 : A2) (b3 : A3) (b4 : A4) (b5 : A5) (b6 : A6) (b7 : A7) (b8 : A8) (b9 : A9) (b10 : A10) (b11 : A11) (b12 : A12), I b1 b2 b3 b4 b5 b6 b7 b8 b9 b10 b11 b12 → μ b1 b2 b3 b4 b5 b6 b7 b8 b9 b10 b11 b12 < μ a1 a2 a3 a4 a5 a6 a7 a8 a9 a10 a11 a12 → W n b1 b2 b3 b4 b5 b6 b7 b8 b9 b10 b11 b12) → W (n + 1) a1 a2 a3 a4 a5 a6 a7 a8 a9 a10 a11 a12) (a1 : A1) (a2 : A2) (a3 : A3) (a4 : A4) (a5 : A5) (a6 : A6) (a7 : A7) (a8 : A8) (a9 : A9) (a10 : A10) (a11 : A11) (a12 : A12) (h : I a1 a2 a3 a4 a5 a6 a7 a8 a9 a10 a11 a12) : ∃ n, W n a1 a2 a3 a4 a5 a6 a7 a8 a9 a10 a11 a12 :=
  loop_m (σ := A1 × A2 × A3 × A4 × A5 × A6 × A7 × A8 × A9 × A10 × A11 × A12) (fun n s => W n s.1 s.2.1 s.2.2.1 s.2.2.2.1 s.2.2.2.2.1 s.2.2.2.2.2.1 s.2.2.2.2.2.2.1 s.2.2.2.2.2.2.2.1 s.2.2.2.2.2.2.2.2.1 s.2.2.2.2.2.2.2.2.2.1 s.2.2.2.2.2.2.2.2.2.2.1 s.2.2.2.2.2.2.2.2.2.2.2) (fun s => I s.1 s.2.1 s.2.2.1 s.2.2.2.1 s.2.2.2.2.1 s.2.2.2.2.2.1 s.2.2.2.2.2.2.1 s.2.2.2.2.2.2.2.1 s.2.2.2.2.2.2.2.2.1 s.2.2.2.2.2.2.2.2.2.1 s.2.2.2.2.2.2.2.2.2.2.1 s.2.2.2.2.2.2.2.2.2.2.2) (fun s => μ s.1 s.2.1 s.2.2.1 s.2.2.2.1 s.2.2.2.2.1 s.2.2.2.2.2.1 s.2.2.2.2.2.2.1 s.2.2.2.2.2.2.2.1 s.2.2.2.2.2.2.2.2.1 s.2.2.2.2.2.2.2.2.2.1 s.2.2.2.2.2.2.2.2.2.2.1 s.2.2.2.2.2.2.2.2.2.2.2) (fun n s hI hk => hs n s.1 s.2.1 s.2.2.1 s.2.2.2.1 s.2.2.2.2.1 s.2.2.2.2.2.1 s.2.2.2.2.2.2.1 s.2.2.2.2.2.2.2.1 s.2.2.2.2.2.2.2.2.1 s.2.2.2.2.2.2.2.2.2.1 s.2.2.2.2.2.2.2.2.2.2.1 s.2.2.2.2.2.2.2.2.2.2.2 hI (fun b1 b2 b3 b4 b5 b6 b7 b8 b9 b10 b11 b12 h9 hm => hk (b1, b2, b3, b4, b5, b6, b7, b8, b9, b10, b11, b12) h9 hm)) (a1, a2, a3, a4, a5, a6, a7, a8, a9, a10, a11, a12) h
theorem lp13 {A1 A2 A3 A4 A5 A6 A7 A8 A9 A10 A11 A12 A13 : Type} (W : Nat → A1 → A2 → A3 → A4 → A5 → A6 → A7 → A8 → A9 → A10 → A11 → A12 → A13 → Prop) (I : A1 → A2 → A3 → A4 → A5 → A6 → A7 → A8 → A9 → A10 → A11 → A12 → A13 → Prop) (μ : A1 → A2 → A3 → A4 → A5 → A6 → A7 → A8 → A9 → A10 → A11 → A12 → A13 → Nat) (hs : ∀ (n : Nat) (a1 : A1) (a2 : A2) (a3 : A3) (a4 : A4) (a5 : A5) (a6 : A6) (a7 : A7) (a8 : A8) (a9 : A9) (a10 : A10) (a11 : A11) (a12 : A12) (a13 : A13), I a1 a2 a3 a4 a5 a6 a7 a8 a9 a10 a11 a12 a13 → (∀ (b1 : A1) (b2 : A2) (b3 : A3) (b4 : A4) (b5 : A5) (b6 : A6) (b7 : A7) (b8 : A8) (b9 : A9) (b10 : A10) (b11 : A11) (b12 : A12) (b13 : A13), I b1 b2 b3 b4 b5 b6 b7 b8 b9 b10 b11 b12 b13 → μ b1 b2 b3 b4 b5 b6 b7 b8 b9 b10 b11 b12 b13 < μ a1 a2 a3 a4 a5 a6 a7 a8 a9 a10 a11 a12 a13 → W n b1 b2 b3 b4 b5 b6 b7 b8 b9 b10 b11 b12 b13) → W (n + 1) a1 a2 a3 a4 a5 a6 a7 a8 a9 a10 a11 a12 a13) (a1 : A1) (a2 : A2) (a3 : A3) (a4 : A4) (a5 : A5) (a6 : A6) (a7 : A7) (a8 : A8) (a9 : A9) (a10 : A10) (a11 : A11) (a12 : A12) (a13 : A13) (h : I a1 a2 a3 a4 a5 a6 a7 a8 a9 a10 a11 a12 a13) : ∃ n, W n a1 a2 a3 a4 a5 a6 a7 a8 a9 a10 a11 a12 a13 :=
  loop_m (σ := A1 × A2 × A3 × A4 × A5 × A6 × A7 × A8 × A9 × A10 × A11 × A12 × A13) (fun n s => W n s.1 s.2.1 s.2.2.1 s.2.2.2.1 s.2.2.2.2.1 s.2.2.2.2.2.1 s.2.2.2.2.2.2.1 s.2.2.2.2.2.2.2.1 s.2.2.2.2.2.2.2.2.1 s.2.2.2.2.2.2.2.2.2.1 s.2.2.2.2.2.2.2.2.2.2.1 s.2.2.2.2.2.2.2.2.2.2.2.1 s.2.2.2.2.2.2.2.2.2.2.2.2) (fun s => I s.1 s.2.1 s.2.2.1 s.2.2.2.1 s.2.2.2.2.1 s.2.2.2.2.2.1 s.2.2.2.2.2.2.1 s.2.2.2.2.2.2.2.1 s.2.2.2.2.2.2.2.2.1 s.2.2.2.2.2.2.2.2.2.1 s.2.2.2.2.2.2.2.2.2.2.1 s.2.2.2.2.2.2.2.2.2.2.2.1 s.2.2.2.2.2.2.2.2.2.2.2.2) (fun s => μ s.1 s.2.1 s.2.2.1 s.2.2.2.1 s.2.2.2.2.1 s.2.2.2.2.2.1 s.2.2.2.2.2.2.1 s.2.2.2.2.2.2.2.1 s.2.2.2.2.2.2.2.2.1 s.2.2.2.2.2.2.2.2.2.1 s.2.2.2.2.2.2.2.2.2.2.1 s.2.2.2.2.2.2.2.2.2.2.2.1 s.2.2.2.2.2.2.2.2.2.2.2.2) (fun n s hI hk => hs n s.1 s.2.1 s.2.2.1 s.2.2.2.1 s.2.2.2.2.1 s.2.2.2.2.2.1 s.2.2.2.2.2.2.1 s.2.2.2.2.2.2.2.1 s.2.2.2.2.2.2.2.2.1 s.2.2.2.2.2.2.2.2.2.1 s.2.2.2.2.2.2.2.2.2.2.1 s.2.2.2.2.2.2.2.2.2.2.2.1 s.2.2.2.2.2.2.2.2.2.2.2.2 hI (fun b1 b2 b3 b4 b5 b6 b7 b8 b9 b10 b11 b12 b13 h9 hm => hk (b1, b2, b3, b4, b5, b6, b7, b8, b9, b10, b11, b12, b13) h9 hm)) (a1, a2, a3, a4, a5, a6, a7, a8, a9, a10, a11, a12, a13) h
theorem lp14 {A1 A2 A3 A4 A5 A6 A7 A8 A9 A10 A11 A12 A13 A14 : Type} (W : Nat → A1 → A2 → A3 → A4 → A5 → A6 → A7 → A8 → A9 → A10 → A11 → A12 → A13 → A14 → Prop) (I : A1 → A2 → A3 → A4 → A5 → A6 → A7 → A8 → A9 → A10 → A11 → A12 → A13 → A14 → Prop) (μ : A1 → A2 → A3 → A4 → A5 → A6 → A7 → A8 → A9 → A10 → A11 → A12 → A13 → A14 → Nat) (hs : ∀ (n : Nat) (a1 : A1) (a2 : A2) (a3 : A3) (a4 : A4) (a5 : A5) (a6 : A6) (a7 : A7) (a8 : A8) (a9 : A9) (a10 : A10) (a11 : A11) (a12 : A12) (a13 : A13) (a14 : A14), I a1 a2 a3 a4 a5 a6 a7 a8 a9 a10 a11 a12 a13 a14 → (∀ (b1 : A1) (b2 : A2) (b3 : A3) (b4 : A4) (b5 : A5) (b6 : A6) (b7 : A7) (b8 : A8) (b9 : A9) (b10 : A10) (b11 : A11) (b12 : A12) (b13 : A13) (b14 : A14), I b1 b2 b3 b4 b5 b6 b7 b8 b9 b10 b11 b12 b13 b14 → μ b1 b2 b3 b4 b5 b6 b7 b8 b9 b10 b11 b12 b13 b14 < μ a1 a2 a3 a4 a5 a6 a7 a8 a9 a10 a11 a12 a13 a14 → W n b1 b2 b3 b4 b5 b6 b7 b8 b9 b10 b11 b12 b13 b14) → W (n + 1) a1 a2 a3 a4 a5 a6 a7 a8 a9 a10 a11 a12 a13 a14) (a1 : A1) (a2 : A2) (a3 : A3) (a4 : A4) (a5 : A5) (a6 : A6) (a7 : A7) (a8 : A8) (a9 : A9) (a10 : A10) (a11 : A11) (a12 : A12) (a13 : A13) (a14 : A14) (h : I a1 a2 a3 a4 a5 a6 a7 a8 a9 a10 a11 a12 a13 a14) : ∃ n, W n a1 a2 a3 a4 a5 a6 a7 a8 a9 a10 a11 a12 a13 a14 :=
  loop_m (σ := A1 × A2 × A3 × A4 × A5 × A6 × A7 × A8 × A9 × A10 × A11 × A12 × A13 × A14) (fun n s => W n s.1 s.2.1 s.2.2.1 s.2.2.2.1 s.2.2.2.2.1 s.2.2.2.2.2.1 s.2.2.2.2.2.2.1 s.2.2.2.2.2.2.2.1 s.2.2.2.2.2.2.2.2.1 s.2.2.2.2.2.2.2.2.2.1 s.2.2.2.2.2.2.2.2.2.2.1 s.2.2.2.2.2.2.2.2.2.2.2.1 s.2.2.2.2.2.2.2.2.2.2.2.2.1 s.2.2.2.2.2.2.2.2.2.2.2.2.2) (fun s => I s.1 s.2.1 s.2.2.1 s.2.2.2.1 s.2.2.2.2.1 s.2.2.2.2.2.1 s.2.2.2.2.2.2.1 s.2.2.2.2.2.2.2.1 s.2.2.2.2.2.2.2.2.1 s.2.2.2.2.2.2.2.2.2.1 s.2.2.2.2.2.2.2.2.2.2.1 s.2.2.2.2.2.2.2.2.2.2.2.1 s.2.2.2.2.2.2.2.2.2.2.2.2.1 s.2.2.2.2.2.2.2.2.2.2.2.2.2) (fun s => μ s.1 s.2.1 s.2.2.1 s.2.2.2.1 s.2.2.2.2.1 s.2.2.2.2.2.1 s.2.2.2.2.2.2.1 s.2.2.2.2.2.2.2.1 s.2.2.2.2.2.2.2.2.1 s.2.2.2.2.2.2.2.2.2.1 s.2.2.2.2.2.2.2.2.2.2.1 s.2.2.2.2.2.2.2.2.2.2.2.1 s.2.2.2.2.2.2.2.2.2.2.2.2.1 s.2.2.2.2.2.2.2.2.2.2.2.2.2) (fun n s hI hk => hs n s.1 s.2.1 s.2.2.1 s.2.2.2.1 s.2.2.2.2.1 s.2.2.2.2.2.1 s.2.2.2.2.2.2.1 s.2.2.2.2.2.2.2.1 s.2.2.2.2.2.2.2.2.1 s.2.2.2.2.2.2.2.2.2.1 s.2.2.2.2.2.2.2.2.2.2.1 s.2.2.2.2.2.2.2.2.2.2.2.1 s.2.2.2.2.2.2.2.2.2.2.2.2.1 s.2.2.2.2.2.2.2.2.2.2.2.2.2 hI (fun b1 b2 b3 b4 b5 b6 b7 b8 b9 b10 b11 b12 b13 b14 h9 hm => hk (b1, b2, b3, b4, b5, b6, b7, b8, b9, b10, b11, b12, b13, b14) h9 hm)) (a1, a2, a3, a4, a5, a6, a7, a8, a9, a10, a11, a12, a13, a14) h
theorem lp15 {A1 A2 A3 A4 A5 A6 A7 A8 A9 A10 A11 A12 A13 A14 A15 : Type} (W : Nat → A1 → A2 → A3 → A4 → A5 → A6 → A7 → A8 → A9 → A10 → A11 → A12 → A13 → A14 → A15 → Prop) (I : A1 → A2 → A3 → A4 → A5 → A6 → A7 → A8 → A9 → A10 → A11 → A12 → A13 → A14 → A15 → Prop) (μ : A1 → A2 → A3 → A4 → A5 → A6 → A7 → A8 → A9 → A10 → A11 → A12 → A13 → A14 → A15 → Nat) (hs : ∀ (n : Nat) (a1 : A1) (a2 : A2) (a3 : A3) (a4 : A4) (a5 : A5) (a6 : A6) (a7 : A7) (a8 : A8) (a9 : A9) (a10 : A10) (a11 : A11) (a12 : A12) (a13 : A13) (a14 : A14) (a15 : A15), I a1 a2 a3 a4 a5 a6 a7 a8 a9 a10 a11 a12 a13 a14 a15 → (∀ (b1 : A1) (b2 : A2) (b3 : A3) (b4 : A4) (b5 : A5) (b6 : A6) (b7 : A7) (b8 : A8) (b9 : A9) (b10 : A10) (b11 : A11) (b12 : A12) (b13 : A13) (b14 : A14) (b15 : A15), I b1 b2 b3 b4 b5 b6 b7 b8 b9 b10 b11 b12 b13 b14 b15 → μ b1 b2 b3 b4 b5 b6 b7 b8 b9 b10 b11 b12 b13 b14 b15 < μ a1 a2 a3 a4 a5 a6 a7 a8 a9 a10 a11 a12 a13 a14 a15 → W n b1 b2 b3 b4 b5 b6 b7 b8 b9 b10 b11 b12 b13 b14 b15) → W (n + 1) a1 a2 a3 a4 a5 a6 a7 a8 a9 a10 a11 a12 a13 a14 a15) (a1 : A1) (a2 : A2) (a3 : A3) (a4 : A4) (a5 : A5) (a6 : A6) (a7 : A7) (a8 : A8) (a9 : A9) (a10 : A10) (a11 : A11) (a12 : A12) (a13 : A13) (a14 : A14) (a15 : A15) (h : I a1 a2 a3 a4 a5 a6 a7 a8 a9 a10 a11 a12 a13 a14 a15) : ∃ n, W n a1 a2 a3 a4 a5 a6 a7 a8 a9 a10 a11 a12 a13 a14 a15 :=
  loop_m (σ := A1 × A2 × A3 × A4 × A5 × A6 × A7 × A8 × A9 × A10 × A11 × A12 × A13 × A14 × A15) (fun n s => W n s.1 s.2.1 s.2.2.1 s.2.2.2.1 s.2.2.2.2.1 s.2.2.2.2.2.1 s.2.2.2.2.2.2.1 s.2.2.2.2.2.2.2.1 s.2.2.2.2.2.2.2.2.1 s.2.2.2.2.2.2.2.2.2.1 s.2.2.2.2.2.2.2.2.2.2.1 s.2.2.2.2.2.2.2.2.2.2.2.1 s.2.2.2.2.2.2.2.2.2.2.2.2.1 s.2.2.2.2.2.2.2.2.2.2.2.2.2.1 s.2.2.2.2.2.2.2.2.2.2.2.2.2.2) (fun s => I s.1 s.2.1 s.2.2.1 s.2.2.2.1 s.2.2.2.2.1 s.2.2.2.2.2.1 s.2.2.2.2.2.2.1 s.2.2.2.2.2.2.2.1 s.2.2.2.2.2.2.2.2.1 s.2.2.2.2.2.2.2.2.2.1 s.2.2.2.2.2.2.2.2.2.2.1 s.2.2.2.2.2.2.2.2.2.2.2.1 s.2.2.2.2.2.2.2.2.2.2.2.2.1 s.2.2.2.2.2.2.2.2.2.2.2.2.2.1 s.2.2.2.2.2.2.2.2.2.2.2.2.2.2) (fun s => μ s.1 s.2.1 s.2.2.1 s.2.2.2.1 s.2.2.2.2.1 s.2.2.2.2.2.1 s.2.2.2.2.2.2.1 s.2.2.2.2.2.2.2.1 s.2.2.2.2.2.2.2.2.1 s.2.2.2.2.2.2.2.2.2.1 s.2.2.2.2.2.2.2.2.2.2.1 s.2.2.2.2.2.2.2.2.2.2.2.1 s.2.2.2.2.2.2.2.2.2.2.2.2.1 s.2.2.2.2.2.2.2.2.2.2.2.2.2.1 s.2.2.2.2.2.2.2.2.2.2.2.2.2.2) (fun n s hI hk => hs n s.1 s.2.1 s.2.2.1 s.2.2.2.1 s.2.2.2.2.1 s.2.2.2.2.2.1 s.2.2.2.2.2.2.1 s.2.2.2.2.2.2.2.1 s.2.2.2.2.2.2.2.2.1 s.2.2.2.2.2.2.2.2.2.1 s.2.2.2.2.2.2.2.2.2.2.1 s.2.2.2.2.2.2.2.2.2.2.2.1 s.2.2.2.2.2.2.2.2.2.2.2.2.1 s.2.2.2.2.2.2.2.2.2.2.2.2.2.1 s.2.2.2.2.2.2.2.2.2.2.2.2.2.2 hI (fun b1 b2 b3 b4 b5 b6 b7 b8 b9 b10 b11 b12 b13 b14 b15 h9 hm => hk (b1, b2, b3, b4, b5, b6, b7, b8, b9, b10, b11, b12, b13, b14, b15) h9 hm)) (a1, a2, a3, a4, a5, a6, a7, a8, a9, a10, a11, a12, a13, a14, a15) h
theorem lp16 {A1 A2 A3 A4 A5 A6 A7 A8 A9 A10 A11 A12 A13 A14 A15 A16 : Type} (W : Nat → A1 → A2 → A3 → A4 → A5 → A6 → A7 → A8 → A9 → A10 → A11 → A12 → A13 → A14 → A15 → A16 → Prop) (I : A1 → A2 → A3 → A4 → A5 → A6 → A7 → A8 → A9 → A10 → A11 → A12 → A13 → A14 → A15 → A16 → Prop) (μ : A1 → A2 → A3 → A4 → A5 → A6 → A7 → A8 → A9 → A10 → A11 → A12 → A13 → A14 → A15 → A16 → Nat) (hs : ∀ (n : Nat) (a1 : A1) (a2 : A2) (a3 : A3) (a4 : A4) (a5 : A5) (a6 : A6) (a7 : A7) (a8 : A8) (a9 : A9) (a10 : A10) (a11 : A11) (a12 : A12) (a13 : A13) (a14 : A14) (a15 : A15) (a16 : A16), I a1 a2 a3 a4 a5 a6 a7 a8 a9 a10 a11 a12 a13 a14 a15 a16 → (∀ (b1 : A1) (b2 : A2) (b3 : A3) (b4 : A4) (b5 : A5) (b6 : A6) (b7 : A7) (b8 : A8) (b9 : A9) (b10 : A10) (b11 : A11) (b12 : A12) (b13 : A13) (b14 : A14) (b15 : A15) (b16 : A16), I b1 b2 b3 b4 b5 b6 b7 b8 b9 b10 b11 b12 b13 b14 b15 b16 → μ b1 b2 b3 b4 b5 b6 b7 b8 b9 b10 b11 b12 b13 b14 b15 b16 < μ a1 a2 a3 a4 a5 a6 a7 a8 a9 a10 a11 a12 a13 a14 a15 a16 → W n b1 b2 b3 b4 b5 b6 b7 b8 b9 b10 b11 b12 b13 b14 b15 b16) → W (n + 1) a1 a2 a3 a4 a5 a6 a7 a8 a9 a10 a11 a12 a13 a14 a15 a16) (a1 : A1) (a2 : A2) (a3 : A3) (a4 : A4) (a5 : A5) (a6 : A6) (a7 : A7) (a8 : A8) (a9 : A9) (a10 : A10) (a11 : A11) (a12 : A12) (a13 : A13) (a14 : A14) (a15 : A15) (a16 : A16) (h : I a1 a2 a3 a4 a5 a6 a7 a8 a9 a10 a11 a12 a13 a14 a15 a16) : ∃ n, W n a1 a2 a3 a4 a5 a6 a7 a8 a9 a10 a11 a12 a13 a14 a15 a16 :=
  loop_m (σ := A1 × A2 × A3 × A4 × A5 × A6 × A7 × A8 × A9 × A10 × A11 × A12 × A13 × A14 × A15 × A16) (fun n s => W n s.1 s.2.1 s.2.2.1 s.2.2.2.1 s.2.2.2.2.1 s.2.2.2.2.2.1 s.2.2.2.2.2.2.1 s.2.2.2.2.2.2.2.1 s.2.2.2.2.2.2.2.2.1 s.2.2.2.2.2.2.2.2.2.1 s.2.2.2.2.2.2.2.2.2.2.1 s.2.2.2.2.2.2.2.2.2.2.2.1 s.2.2.2.2.2.2.2.2.2.2.2.2.1 s.2.2.2.2.2.2.2.2.2.2.2.2.2.1 s.2.2.2.2.2.2.2.2.2.2.2.2.2.2.1 s.2.2.2.2.2.2.2.2.2.2.2.2.2.2.2) (fun s => I s.1 s.2.1 s.2.2.1 s.2.2.2.1 s.2.2.2.2.1 s.2.2.2.2.2.1 s.2.2.2.2.2.2.1 s.2.2.2.2.2.2.2.1 s.2.2.2.2.2.2.2.2.1 s.2.2.2.2.2.2.2.2.2.1 s.2.2.2.2.2.2.2.2.2.2.1 s.2.2.2.2.2.2.2.2.2.2.2.1 s.2.2.2.2.2.2.2.2.2.2.2.2.1 s.2.2.2.2.2.2.2.2.2.2.2.2.2.1 s.2.2.2.2.2.2.2.2.2.2.2.2.2.2.1 s.2.2.2.2.2.2.2.2.2.2.2.2.2.2.2) (fun s => μ s.1 s.2.1 s.2.2.1 s.2.2.2.1 s.2.2.2.2.1 s.2.2.2.2.2.1 s.2.2.2.2.2.2.1 s.2.2.2.2.2.2.2.1 s.2.2.2.2.2.2.2.2.1 s.2.2.2.2.2.2.2.2.2.1 s.2.2.2.2.2.2.2.2.2.2.1 s.2.2.2.2.2.2.2.2.2.2.2.1 s.2.2.2.2.2.2.2.2.2.2.2.2.1 s.2.2.2.2.2.2.2.2.2.2.2.2.2.1 s.2.2.2.2.2.2.2.2.2.2.2.2.2.2.1 s.2.2.2.2.2.2.2.2.2.2.2.2.2.2.2) (fun n s hI hk => hs n s.1 s.2.1 s.2.2.1 s.2.2.2.1 s.2.2.2.2.1 s.2.2.2.2.2.1 s.2.2.2.2.2.2.1 s.2.2.2.2.2.2.2.1 s.2.2.2.2.2.2.2.2.1 s.2.2.2.2.2.2.2.2.2.1 s.2.2.2.2.2.2.2.2.2.2.1 s.2.2.2.2.2.2.2.2.2.2.2.1 s.2.2.2.2.2.2.2.2.2.2.2.2.1 s.2.2.2.2.2.2.2.2.2.2.2.2.2.1 s.2.2.2.2.2.2.2.2.2.2.2.2.2.2.1 s.2.2.2.2.2.2.2.2.2.2.2.2.2.2.2 hI (fun b1 b2 b3 b4 b5 b6 b7 b8 b9 b10 b11 b12 b13 b14 b15 b16 h9 hm => hk (b1, b2, b3, b4, b5, b6, b7, b8, b9, b10, b11, b12, b13, b14, b15, b16) h9 hm)) (a1, a2, a3, a4, a5, a6, a7, a8, a9, a10, a11, a12, a13, a14, a15, a16) h
theorem pk_least (P : Nat → Prop) (h : ∃ k, P k) : ∃ k, P k ∧ ∀ j, j < k → ¬ P j := by
  obtain ⟨k, hk⟩ := h
  induction k using Nat.strongRecOn with
  | ind k ih =>
    by_cases e : ∃ j, j < k ∧ P j
    · obtain ⟨j, hj, pj⟩ := e
      exact ih j hj pj
    · exact ⟨k, hk, fun j hj pj => e ⟨j, hj, pj⟩⟩
theorem rp1 {ρ A1 : Type} (W : Nat → (ρ → Prop) → A1 → Prop) (ok : A1 → Prop) (μ : A1 → Nat) (val : A1 → ρ)
    (hs : ∀ (d : Nat) (post : ρ → Prop) (a1 : A1), ok a1 → post (val a1) → (∀ (post' : ρ → Prop) (b1 : A1), ok b1 → μ b1 < μ a1 → post' (val b1) → W d post' b1) → W (d + 1) post a1) :
    ∀ (d : Nat) (post : ρ → Prop) (a1 : A1), ok a1 → μ a1 < d → post (val a1) → W d post a1 := by
  intro d
  induction d with
  | zero => intro post a1 _ h; omega
  | succ d ih =>
    intro post a1 ho hm hp
    exact hs d post a1 ho hp (fun post' b1 ho' hm' hp' => ih post' b1 ho' (by omega) hp')
theorem rp2 {ρ A1 A2 : Type} (W : Nat → (ρ → Prop) → A1 → A2 → Prop) (ok : A1 → A2 → Prop) (μ : A1 → A2 → Nat) (val : A1 → A2 → ρ)
    (hs : ∀ (d : Nat) (post : ρ → Prop) (a1 : A1) (a2 : A2), ok a1 a2 → post (val a1 a2) → (∀ (post' : ρ → Prop) (b1 : A1) (b2 : A2), ok b1 b2 → μ b1 b2 < μ a1 a2 → post' (val b1 b2) → W d post' b1 b2) → W (d + 1) post a1 a2) :
    ∀ (d : Nat) (post : ρ → Prop) (a1 : A1) (a2 : A2), ok a1 a2 → μ a1 a2 < d → post (val a1 a2) → W d post a1 a2 := by
  intro d
  induction d with
  | zero => intro post a1 a2 _ h; omega
  | succ d ih =>
    intro post a1 a2 ho hm hp
    exact hs d post a1 a2 ho hp (fun post' b1 b2 ho' hm' hp' => ih post' b1 b2 ho' (by omega) hp')
theorem rp3 {ρ A1 A2 A3 : Type} (W : Nat → (ρ → Prop) → A1 → A2 → A3 → Prop) (ok : A1 → A2 → A3 → Prop) (μ : A1 → A2 → A3 → Nat) (val : A1 → A2 → A3 → ρ)
    (hs : ∀ (d : Nat) (post : ρ → Prop) (a1 : A1) (a2 : A2) (a3 : A3), ok a1 a2 a3 → post (val a1 a2 a3) → (∀ (post' : ρ → Prop) (b1 : A1) (b2 : A2) (b3 : A3), ok b1 b2 b3 → μ b1 b2 b3 < μ a1 a2 a3 → post' (val b1 b2 b3) → W d post' b1 b2 b3) → W (d + 1) post a1 a2 a3) :
    ∀ (d : Nat) (post : ρ → Prop) (a1 : A1) (a2 : A2) (a3 : A3), ok a1 a2 a3 → μ a1 a2 a3 < d → post (val a1 a2 a3) → W d post a1 a2 a3 := by
  intro d
  induction d with
  | zero => intro post a1 a2 a3 _ h; omega
  | succ d ih =>
    intro post a1 a2 a3 ho hm hp
    exact hs d post a1 a2 a3 ho hp (fun post' b1 b2 b3 ho' hm' hp' => ih post' b1 b2 b3 ho' (by omega) hp')
theorem rp4 {ρ A1 A2 A3 A4 : Type} (W : Nat → (ρ → Prop) → A1 → A2 → A3 → A4 → Prop) (ok : A1 → A2 → A3 → A4 → Prop) (μ : A1 → A2 → A3 → A4 → Nat) (val : A1 → A2 → A3 → A4 → ρ)
    (hs : ∀ (d : Nat) (post : ρ → Prop) (a1 : A1) (a2 : A2) (a3 : A3) (a4 : A4), ok a1 a2 a3 a4 → post (val a1 a2 a3 a4) → (∀ (post' : ρ → Prop) (b1 : A1) (b2 : A2) (b3 : A3) (b4 : A4), ok b1 b2 b3 b4 → μ b1 b2 b3 b4 < μ a1 a2 a3 a4 → post' (val b1 b2 b3 b4) → W d post' b1 b2 b3 b4) → W (d + 1) post a1 a2 a3 a4) :
    ∀ (d : Nat) (post : ρ → Prop) (a1 : A1) (a2 : A2) (a3 : A3) (a4 : A4), ok a1 a2 a3 a4 → μ a1 a2 a3 a4 < d → post (val a1 a2 a3 a4) → W d post a1 a2 a3 a4 := by
  intro d
  induction d with
  | zero => intro post a1 a2 a3 a4 _ h; omega
  | succ d ih =>
    intro post a1 a2 a3 a4 ho hm hp
    exact hs d post a1 a2 a3 a4 ho hp (fun post' b1 b2 b3 b4 ho' hm' hp' => ih post' b1 b2 b3 b4 ho' (by omega) hp')
theorem rp5 {ρ A1 A2 A3 A4 A5 : Type} (W : Nat → (ρ → Prop) → A1 → A2 → A3 → A4 → A5 → Prop) (ok : A1 → A2 → A3 → A4 → A5 → Prop) (μ : A1 → A2 → A3 → A4 → A5 → Nat) (val : A1 → A2 → A3 → A4 → A5 → ρ)
    (hs : ∀ (d : Nat) (post : ρ → Prop) (a1 : A1) (a2 : A2) (a3 : A3) (a4 : A4) (a5 : A5), ok a1 a2 a3 a4 a5 → post (val a1 a2 a3 a4 a5) → (∀ (post' : ρ → Prop) (b1 : A1) (b2 : A2) (b3 : A3) (b4 : A4) (b5 : A5), ok b1 b2 b3 b4 b5 → μ b1 b2 b3 b4 b5 < μ a1 a2 a3 a4 a5 → post' (val b1 b2 b3 b4 b5) → W d post' b1 b2 b3 b4 b5) → W (d + 1) post a1 a2 a3 a4 a5) :
    ∀ (d : Nat) (post : ρ → Prop) (a1 : A1) (a2 : A2) (a3 : A3) (a4 : A4) (a5 : A5), ok a1 a2 a3 a4 a5 → μ a1 a2 a3 a4 a5 < d → post (val a1 a2 a3 a4 a5) → W d post a1 a2 a3 a4 a5 := by
  intro d
  induction d with
  | zero => intro post a1 a2 a3 a4 a5 _ h; omega
  | succ d ih =>
    intro post a1 a2 a3 a4 a5 ho hm hp
    exact hs d post a1 a2 a3 a4 a5 ho hp (fun post' b1 b2 b3 b4 b5 ho' hm' hp' => ih post' b1 b2 b3 b4 b5 ho' (by omega) hp')
theorem rp6 {ρ A1 A2 A3 A4 A5 A6 : Type} (W : Nat → (ρ → Prop) → A1 → A2 → A3 → A4 → A5 → A6 → Prop) (ok : A1 → A2 → A3 → A4 → A5 → A6 → Prop) (μ : A1 → A2 → A3 → A4 → A5 → A6 → Nat) (val : A1 → A2 → A3 → A4 → A5 → A6 → ρ)
    (hs : ∀ (d : Nat) (post : ρ → Prop) (a1 : A1) (a2 : A2) (a3 : A3) (a4 : A4) (a5 : A5) (a6 : A6), ok a1 a2 a3 a4 a5 a6 → post (val a1 a2 a3 a4 a5 a6) → (∀ (post' : ρ → Prop) (b1 : A1) (b2 : A2) (b3 : A3) (b4 : A4) (b5 : A5) (b6 : A6), ok b1 b2 b3 b4 b5 b6 → μ b1 b2 b3 b4 b5 b6 < μ a1 a2 a3 a4 a5 a6 → post' (val b1 b2 b3 b4 b5 b6) → W d post' b1 b2 b3 b4 b5 b6) → W (d + 1) post a1 a2 a3 a4 a5 a6) :
    ∀ (d : Nat) (post : ρ → Prop) (a1 : A1) (a2 : A2) (a3 : A3) (a4 : A4) (a5 : A5) (a6 : A6), ok a1 a2 a3 a4 a5 a6 → μ a1 a2 a3 a4 a5 a6 < d → post (val a1 a2 a3 a4 a5 a6) → W d post a1 a2 a3 a4 a5 a6 := by
  intro d
  induction d with
  | zero => intro post a1 a2 a3 a4 a5 a6 _ h; omega
  | succ d ih =>
    intro post a1 a2 a3 a4 a5 a6 ho hm hp
    exact hs d post a1 a2 a3 a4 a5 a6 ho hp (fun post' b1 b2 b3 b4 b5 b6 ho' hm' hp' => ih post' b1 b2 b3 b4 b5 b6 ho' (by omega) hp')
theorem rec_p {σ ρ : Type} (W : Nat → (ρ → Prop) → σ → Prop) (ok : σ → Prop) (μ : σ → Nat) (val : σ → ρ)
    (hs : ∀ d s post, ok s → post (val s) → (∀ s' post', ok s' → μ s' < μ s → post' (val s') → W d post' s') → W (d + 1) post s) :
    ∀ d s post, ok s → μ s < d → post (val s) → W d post s := by
  intro d
  induction d with
  | zero => intro s post _ h; omega
  | succ d ih =>
    intro s post ho hm hp
    exact hs d s post ho hp (fun s' post' ho' hm' hp' => ih s' post' ho' (by omega) hp')
theorem rec_q {σ ρ : Type} (W : Nat → (ρ → Prop) → σ → Prop) (ok : σ → Prop) (μ : σ → Nat) (Q : σ → ρ → Prop)
    (hs : ∀ d s post, ok s → (∀ r, Q s r → post r) → (∀ s' post', ok s' → μ s' < μ s → (∀ r, Q s' r → post' r) → W d post' s') → W (d + 1) post s) :
    ∀ d s post, ok s → μ s < d → (∀ r, Q s r → post r) → W d post s := by
  intro d
  induction d with
  | zero => intro s post _ h; omega
  | succ d ih =>
    intro s post ho hm hp
    exact hs d s post ho hp (fun s' post' ho' hm' hp' => ih s' post' ho' (by omega) hp')
def bx_sum (f : Nat → Int32) : Nat → Int32
  | 0 => 0
  | n + 1 => bx_sum f n + f n
theorem ek_u {A : Prop} {B : Nat → Prop} {k N : Nat} (hk : k < N) (h : B k) : (some k = none → A) ∧ (∀ y : Nat, some k = some y → (y < N ∧ B y)) :=
  ⟨fun z => absurd z (Option.some_ne_none k), fun _ e => (by cases e; exact ⟨hk, h⟩)⟩
theorem ek_nu {A : Prop} {B : Nat → Prop} (h : A) : ((none : Option Nat) = none → A) ∧ (∀ y : Nat, (none : Option Nat) = some y → B y) :=
  ⟨fun _ => h, fun _ e => (by cases e)⟩
theorem ek_if {c d A B : Prop} (e : c ↔ d) (f : d → A) (g : ¬ d → B) : (c → A) ∧ (¬ c → B) :=
  ⟨fun z => f (e.mp z), fun z => g (fun y => z (e.mpr y))⟩
theorem ek_v {α : Sort _} {P : α → Prop} {a b : α} (e : a = b) (h : P b) : P a := e ▸ h
theorem co_some {x : Option Nat} {A : Prop} {B : Nat → Prop} (i : Nat) (h : B i) (hx : x = some i := by rfl) : (x = none → A) ∧ (∀ y : Nat, x = some y → B y) := by
  subst hx
  exact ⟨fun e => (nomatch e), fun y e => Option.some.inj e ▸ h⟩
theorem co_none {x : Option Nat} {A : Prop} {B : Nat → Prop} (h : A) (hx : x = none := by rfl) : (x = none → A) ∧ (∀ y : Nat, x = some y → B y) := by
  subst hx
  exact ⟨fun _ => h, fun y e => (nomatch e)⟩
theorem co_any {x : Option Nat} {A : Prop} {B : Nat → Prop} (hn : x = none → A) (hs : ∀ i : Nat, x = some i → B i) : (x = none → A) ∧ (∀ y : Nat, x = some y → B y) := ⟨hn, hs⟩
theorem co_2 {P : Nat → Prop} (h0 : P 0) (h1 : P 1) {i : Nat} (hi : i < 2) : P i :=
  match i, hi with
  | 0, _ => h0
  | 1, _ => h1
theorem co_3 {P : Nat → Prop} (h0 : P 0) (h1 : P 1) (h2 : P 2) {i : Nat} (hi : i < 3) : P i :=
  match i, hi with
  | 0, _ => h0
  | 1, _ => h1
  | 2, _ => h2
theorem co_4 {P : Nat → Prop} (h0 : P 0) (h1 : P 1) (h2 : P 2) (h3 : P 3) {i : Nat} (hi : i < 4) : P i :=
  match i, hi with
  | 0, _ => h0
  | 1, _ => h1
  | 2, _ => h2
  | 3, _ => h3
theorem co_dec {N : Nat} {P : Nat → Prop} [DecidablePred P] (h : (List.range N).all (fun i => decide (P i)) = true) {i : Nat} (hi : i < N) : P i := by
  have := List.all_eq_true.mp h i (List.mem_range.mpr hi)
  exact of_decide_eq_true this
theorem co_tab {α : Type} {l : List α} {d : α} {P : α → Prop} (h : ∀ a, a ∈ l → P a) {i : Nat} (hi : i < l.length) : P (l.getD i d) := by
  rw [List.getD_eq_getElem?_getD, List.getElem?_eq_getElem hi]
  exact h _ (List.getElem_mem hi)
theorem pk_mu {x : Int32} {L : Nat} (h0 : ¬ x < 0) (h : ¬ nI L ≤ x) (hL : L < 2 ^ 31) : ∃ j : Nat, j < L ∧ x = nI j ∧ x + 1 = nI (j + 1) ∧ x.toNatClampNeg = j ∧ L - (x + 1).toNatClampNeg < L - x.toNatClampNeg := by
  obtain ⟨j, hj, rfl⟩ := nI_of h0
  have hl : j < L := Nat.not_le.mp fun q => h (nI_le q hj)
  refine ⟨j, hl, rfl, nI_1 j, nI_clamp hj, ?_⟩
  rw [nI_1, nI_clamp (by omega), nI_clamp hj]
  omega
theorem op_s {α : Type} {r : Option α} {A : Prop} {B : α → Prop} {y : α} (h : r = some y) (b : B y) : (r = none → A) ∧ ∀ z, r = some z → B z :=
  ⟨fun e => (by rw [h] at e; cases e), fun z e => (by rw [h] at e; cases e; exact b)⟩
def l_holds {α : Type} (a : Nat → Option Nat) (LP : List Nat) (p : Nat → α) (c : Nat) (b : Nat → α) : Prop :=
  ∀ j, j < c → ∃ y, a j = some y ∧ y ∈ LP ∧ p y = b j
theorem l_holds_0 {α : Type} {a : Nat → Option Nat} {LP : List Nat} {p b : Nat → α} : l_holds a LP p 0 b := fun j h => absurd h (Nat.not_lt_zero j)
theorem l_in_new (LP : List Nat) (q : Nat) : q ∈ LP ++ [q] := List.mem_append.mpr (Or.inr (List.mem_singleton.mpr rfl))
def l_sum (b : Nat → Int32) : Nat → Int32
  | 0 => 0
  | k + 1 => l_sum b k + b k
theorem sb_shr0 (x : Int32) : x >>> ((0 : Int32) &&& 31) = x := by
  rw [show ((0 : Int32) &&& 31) = 0 by decide]
  simp
theorem sb_shl0 (x : Int32) : x <<< ((0 : Int32) &&& 31) = x := by
  rw [show ((0 : Int32) &&& 31) = 0 by decide]
  simp
theorem sb_cl0 : (0 : Int32).toNatClampNeg = 0 := by decide
theorem sb_m1 {p : Nat} (h : 0 < p) : nI p + (-1) = nI (p - 1) := by
  obtain ⟨q, rfl⟩ : ∃ q, p = q + 1 := ⟨p - 1, by omega⟩
  exact pk_m1 q
def sb_b (c : Nat) : Int32 := (nI c).toInt8.toInt32
theorem sb_byte : ∀ c, c < 256 → sb_b c &&& 255 = nI c ∧ ((nI c).toUInt32 % 65536).toInt32 = nI c ∧ nI c ≤ 255 := by decide +kernel
def sb_Fit (a : Nat → Int32) : Prop := ∀ j, fits .byte (.int (a j)) = true
def sb_Lat (t : Nat → Nat) (n : Nat) (a : Nat → Int32) : Prop := ∀ j, j < n → t j < 256 ∧ a j = sb_b (t j)
theorem sb_fitB (c : Nat) : fits .byte (.int (sb_b c)) = true := pk_fb _
theorem sb_fit0 : sb_Fit (fun _ => 0) := fun _ => by
  show fits .byte (.int 0) = true
  decide
theorem sb_fitU {a : Nat → Int32} {k : Nat} {x : Int32} (h : sb_Fit a) (hx : fits .byte (.int x) = true) : sb_Fit (upd a k x) := by
  intro j
  by_cases e : j = k
  · subst e
    rw [pk_us]
    exact hx
  · rw [pk_un e]
    exact h j
def sb_cat (t : Nat → Nat) (n : Nat) (s : Nat → Nat) : Nat → Nat := fun j => if j < n then t j else s (j - n)
theorem sb_cat_lo {t s : Nat → Nat} {n j : Nat} (h : j < n) : sb_cat t n s j = t j := if_pos h
theorem sb_cat_hi {t s : Nat → Nat} {n j : Nat} : sb_cat t n s (n + j) = s j := by
  show (if n + j < n then t (n + j) else s (n + j - n)) = s j
  rw [if_neg (by omega), Nat.add_sub_cancel_left]
theorem sb_latPut {t s : Nat → Nat} {n w : Nat} {a a' : Nat → Int32} (h : sb_Lat t n a) (hk : ∀ j, j < n → a' j = a j) (hs : ∀ i, i < w → s i < 256 ∧ a' (n + i) = sb_b (s i)) : sb_Lat (sb_cat t n s) (n + w) a' := by
  intro j hj
  by_cases e : j < n
  · rw [sb_cat_lo e, hk j e]
    exact h j e
  · obtain ⟨i, rfl⟩ : ∃ i, j = n + i := ⟨j - n, by omega⟩
    rw [sb_cat_hi]
    exact hs i (by omega)
theorem sb_latKeep {t : Nat → Nat} {n : Nat} {a a' : Nat → Int32} (h : sb_Lat t n a) (hk : ∀ j, j < n → a' j = a j) : sb_Lat t n a' := fun j hj => by
  rw [hk j hj]
  exact h j hj
def sb_cap (q m : Nat) : Nat := if q ≤ m then m else if 2 * m + 2 < q then q else 2 * m + 2
def sb_Room (q m mc ms : Nat) : Prop := q ≤ m ∨ (1 ≤ mc ∧ sb_cap q m ≤ ms ∧ sb_cap q m ≤ 65536)
theorem sb_cap_ge (q m : Nat) : q ≤ sb_cap q m := by
  unfold sb_cap
  split
  · omega
  · split <;> omega
theorem sb_cap_gem (q m : Nat) : m ≤ sb_cap q m := by
  unfold sb_cap
  split
  · omega
  · split <;> omega
theorem sb_cap_le {q m mc ms : Nat} (hm : m ≤ 65536) (hr : sb_Room q m mc ms) : sb_cap q m ≤ 65536 := by
  rcases hr with h | h
  · rw [sb_cap, if_pos h]
    exact hm
  · exact h.2.2
theorem sb_at {P : Int32 → Prop} {x y : Int32} (e : x = y) (h : P y) : P x := e ▸ h
def sb_dg (w : Nat) : Nat := if w < 10 then 1 else if w < 100 then 2 else if w < 1000 then 3 else if w < 10000 then 4 else if w < 100000 then 5 else if w < 1000000 then 6 else if w < 10000000 then 7 else if w < 100000000 then 8 else if w < 1000000000 then 9 else 10
def sb_dec (v : Nat) : Nat → Nat := fun i => 48 + v / 10 ^ (sb_dg v - 1 - i) % 10
theorem sb_dg_in (w : Nat) : 1 ≤ sb_dg w ∧ sb_dg w ≤ 10 := by
  unfold sb_dg
  constructor <;> (repeat' split) <;> omega
theorem sb_dg100 {w : Nat} (h : 100 ≤ w) (hw : w < 2 ^ 31) : sb_dg w = sb_dg (w / 100) + 2 := by
  rw [sb_dg, sb_dg, if_neg (show ¬ w < 10 by omega), if_neg (show ¬ w < 100 by omega)]
  by_cases h3 : w < 1000
  · rw [if_pos h3, if_pos (show w / 100 < 10 by omega)]
  rw [if_neg h3, if_neg (show ¬ w / 100 < 10 by omega)]
  by_cases h4 : w < 10000
  · rw [if_pos h4, if_pos (show w / 100 < 100 by omega)]
  rw [if_neg h4, if_neg (show ¬ w / 100 < 100 by omega)]
  by_cases h5 : w < 100000
  · rw [if_pos h5, if_pos (show w / 100 < 1000 by omega)]
  rw [if_neg h5, if_neg (show ¬ w / 100 < 1000 by omega)]
  by_cases h6 : w < 1000000
  · rw [if_pos h6, if_pos (show w / 100 < 10000 by omega)]
  rw [if_neg h6, if_neg (show ¬ w / 100 < 10000 by omega)]
  by_cases h7 : w < 10000000
  · rw [if_pos h7, if_pos (show w / 100 < 100000 by omega)]
  rw [if_neg h7, if_neg (show ¬ w / 100 < 100000 by omega)]
  by_cases h8 : w < 100000000
  · rw [if_pos h8, if_pos (show w / 100 < 1000000 by omega)]
  rw [if_neg h8, if_neg (show ¬ w / 100 < 1000000 by omega)]
  by_cases h9 : w < 1000000000
  · rw [if_pos h9, if_pos (show w / 100 < 10000000 by omega)]
  rw [if_neg h9, if_neg (show ¬ w / 100 < 10000000 by omega)]
  rw [if_pos (show w / 100 < 100000000 by omega)]
theorem sb_negT {w : Nat} (h : w < 2 ^ 31) : (-nI w).toInt = -(w : Int) := by
  rw [Int32.toInt_neg, nI_toInt h]
  exact Int.bmod_eq_of_le (by omega) (by omega)
theorem sb_nle {a b : Nat} (ha : a < 2 ^ 31) (hb : b < 2 ^ 31) : -nI a ≤ -nI b ↔ b ≤ a := by
  rw [Int32.le_iff_toInt_le, sb_negT ha, sb_negT hb]
  omega
theorem sb_nlt {a b : Nat} (ha : a < 2 ^ 31) (hb : b < 2 ^ 31) : -nI a < -nI b ↔ b < a := by
  rw [Int32.lt_iff_toInt_lt, sb_negT ha, sb_negT hb]
  omega
theorem sb_cmp {A B : Prop} {x : Int32} (v c : Nat) (f : c ≤ v → A) (g : v < c → B) (hv : v < 2 ^ 31) (hx : x = -nI c := by rfl) (hc : c < 2 ^ 31 := by omega) : (-nI v ≤ x → A) ∧ (¬ -nI v ≤ x → B) := by
  subst hx
  rw [sb_nle hv hc]
  exact ⟨f, fun z => g (by omega)⟩
theorem sb_ndiv {w : Nat} (hw : w < 2 ^ 31) : (-nI w) / 100 = -nI (w / 100) := by
  apply Int32.toInt_inj.mp
  have h100 : (100 : Int32).toInt = 100 := by decide
  rw [Int32.toInt_div, sb_negT hw, h100, sb_negT (by omega), Int.neg_tdiv, Int.tdiv_eq_ediv_of_nonneg (by omega), Int.bmod_eq_of_le (by omega) (by omega)]
  omega
theorem sb_nrem {w : Nat} (hw : w < 2 ^ 31) : (-nI (w / 100)) * 100 - (-nI w) = nI (w % 100) := by
  have h := pk_rem (a := w) (d := 100) hw (by decide) (by decide)
  rw [pk_div hw (by decide) (by decide)] at h
  rw [← h]
  show (-nI (w / 100)) * nI 100 - (-nI w) = nI w - nI (w / 100) * nI 100
  rw [Int32.neg_mul, Int32.sub_neg, Int32.add_comm, ← Int32.sub_eq_add_neg]
end
section
/-! rows on bits, shifts and unsigned numbers, to paste: each family out of a closed proof of our own, whole with what it rests on; each by itself clean at Lean in its own claim (generation 39, form 5). Take a family whole -/
/-! ===== Int32 by its bits: bt x i ===== -/
def bt (x : Int32) (i : Nat) : Bool := x.toBitVec.getLsbD i
theorem b_ext {x y : Int32} (h : ∀ i, i < 32 → bt x i = bt y i) : x = y := Int32.toBitVec_inj.mp (BitVec.eq_of_getLsbD_eq (fun i hi => h i hi))
theorem b_or (x y : Int32) (i : Nat) : bt (x ||| y) i = (bt x i || bt y i) := by unfold bt; rw [Int32.toBitVec_or, BitVec.getLsbD_or]
theorem b_and (x y : Int32) (i : Nat) : bt (x &&& y) i = (bt x i && bt y i) := by unfold bt; rw [Int32.toBitVec_and, BitVec.getLsbD_and]
theorem b_xor (x y : Int32) (i : Nat) : bt (x ^^^ y) i = (bt x i ^^ bt y i) := by unfold bt; rw [Int32.toBitVec_xor, BitVec.getLsbD_xor]
theorem b_big {x : Int32} {i : Nat} (h : 32 ≤ i) : bt x i = false := BitVec.getLsbD_of_ge _ _ h
theorem b_255 (i : Nat) : bt 255 i = decide (i < 8) := by
  rcases Nat.lt_or_ge i 32 with h | h
  · exact (by decide +kernel : ∀ i, i < 32 → bt 255 i = decide (i < 8)) i h
  · rw [b_big h, decide_eq_false (by omega)]
theorem b_65535 (i : Nat) : bt 65535 i = decide (i < 16) := by
  rcases Nat.lt_or_ge i 32 with h | h
  · exact (by decide +kernel : ∀ i, i < 32 → bt 65535 i = decide (i < 16)) i h
  · rw [b_big h, decide_eq_false (by omega)]
theorem b_m1 : ∀ i, i < 32 → bt (-1) i = true := by decide +kernel
theorem b_0 (i : Nat) : bt 0 i = false := BitVec.getLsbD_zero
theorem s_l : ∀ n, n < 32 → ((nI n &&& 31).toBitVec.smod 32).toNat = n := by decide +kernel
theorem s_u : ∀ n, n < 32 → (((nI n).toUInt32 &&& Int32.toUInt32 31).toBitVec % 32).toNat = n := by decide +kernel
theorem b_shl (n : Nat) (hn : n < 32) (x : Int32) {i : Nat} (hi : i < 32) : bt (x <<< (nI n &&& 31)) i = (decide (n ≤ i) && bt x (i - n)) := by
  unfold bt
  rw [Int32.toBitVec_shiftLeft]
  show (x.toBitVec <<< ((nI n &&& 31).toBitVec.smod 32).toNat).getLsbD i = _
  rw [s_l n hn, BitVec.getLsbD_shiftLeft]
  rcases Nat.lt_or_ge i n with h | h
  · simp [h, Nat.not_le.mpr h]
  · simp [hi, h, Nat.not_lt.mpr h]
theorem b_ushr (n : Nat) (hn : n < 32) (x : Int32) (i : Nat) : bt ((x.toUInt32 >>> ((nI n).toUInt32 &&& Int32.toUInt32 31)).toInt32) i = bt x (n + i) := by
  show (x.toUInt32 >>> ((nI n).toUInt32 &&& Int32.toUInt32 31)).toBitVec.getLsbD i = x.toUInt32.toBitVec.getLsbD (n + i)
  rw [UInt32.toBitVec_shiftRight]
  show (x.toUInt32.toBitVec >>> (((nI n).toUInt32 &&& Int32.toUInt32 31).toBitVec % 32).toNat).getLsbD i = _
  rw [s_u n hn, BitVec.getLsbD_ushiftRight]
theorem b_sshr (n : Nat) (hn : n < 32) (x : Int32) {i : Nat} (hi : i < 32) : bt (x >>> (nI n &&& 31)) i = if n + i < 32 then bt x (n + i) else bt x 31 := by
  unfold bt
  rw [Int32.toBitVec_shiftRight]
  show (x.toBitVec.sshiftRight ((nI n &&& 31).toBitVec.smod 32).toNat).getLsbD i = _
  rw [s_l n hn, BitVec.getLsbD_sshiftRight, BitVec.msb_eq_getLsbD_last]
  simp [hi]
theorem b_shl8 (x : Int32) {i : Nat} (hi : i < 32) : bt (x <<< ((8 : Int32) &&& 31)) i = (decide (8 ≤ i) && bt x (i - 8)) := b_shl 8 (by omega) x hi
theorem b_shl16 (x : Int32) {i : Nat} (hi : i < 32) : bt (x <<< ((16 : Int32) &&& 31)) i = (decide (16 ≤ i) && bt x (i - 16)) := b_shl 16 (by omega) x hi
theorem b_shl24 (x : Int32) {i : Nat} (hi : i < 32) : bt (x <<< ((24 : Int32) &&& 31)) i = (decide (24 ≤ i) && bt x (i - 24)) := b_shl 24 (by omega) x hi
theorem b_sshr8 (x : Int32) {i : Nat} (hi : i < 32) : bt (x >>> ((8 : Int32) &&& 31)) i = if 8 + i < 32 then bt x (8 + i) else bt x 31 := b_sshr 8 (by omega) x hi
/-! ===== nI under and, xor, >>>, one bit, 65535 ===== -/
theorem nx_and (a b : Nat) : nI a &&& nI b = nI (a &&& b) := by
  apply Int32.toBitVec_inj.1
  show BitVec.ofNat 32 a &&& BitVec.ofNat 32 b = BitVec.ofNat 32 (a &&& b)
  apply BitVec.eq_of_getLsbD_eq
  intro i hi
  simp [hi]
theorem nx_xor (a b : Nat) : nI a ^^^ nI b = nI (a ^^^ b) := by
  apply Int32.toBitVec_inj.1
  show BitVec.ofNat 32 a ^^^ BitVec.ofNat 32 b = BitVec.ofNat 32 (a ^^^ b)
  apply BitVec.eq_of_getLsbD_eq
  intro i hi
  simp [hi]
theorem nx_cnt : ∀ j : Fin 32, (UInt32.ofNat j.val &&& Int32.toUInt32 31).toNat % 32 = j.val := by decide +kernel
theorem nx_ush {k j : Nat} (hk : k < 65536) (hj : j < 32) : ((nI k).toUInt32 >>> ((nI j).toUInt32 &&& Int32.toUInt32 31)).toInt32 = nI (k >>> j) := by
  have hs : k >>> j ≤ k := by
    rw [Nat.shiftRight_eq_div_pow]
    exact Nat.div_le_self _ _
  have e2 : UInt32.ofNat k >>> (UInt32.ofNat j &&& Int32.toUInt32 31) = UInt32.ofNat (k >>> j) := by
    apply UInt32.toNat_inj.1
    have h1 : (UInt32.ofNat k).toNat = k := Nat.mod_eq_of_lt (by omega)
    have h2 : (UInt32.ofNat (k >>> j)).toNat = k >>> j := Nat.mod_eq_of_lt (by omega)
    rw [UInt32.toNat_shiftRight, nx_cnt ⟨j, hj⟩, h1, h2]
  show (UInt32.ofNat k >>> (UInt32.ofNat j &&& Int32.toUInt32 31)).toInt32 = _
  rw [e2]
  rfl
theorem nx_bit {k j : Nat} (hk : k < 65536) (hj : j < 16) : (((nI k).toUInt32 >>> ((nI j).toUInt32 &&& Int32.toUInt32 31)).toInt32 &&& 1) = 0 ↔ k.testBit j = false := by
  rw [nx_ush hk (by omega)]
  show nI (k >>> j) &&& nI 1 = 0 ↔ _
  rw [nx_and, Nat.and_one_is_mod, ← nI_0, nI_eq (by omega) (by omega), Nat.testBit_eq_decide_div_mod_eq, Nat.shiftRight_eq_div_pow, decide_eq_false_iff_not]
  generalize k / 2 ^ j = z
  omega
theorem nx_mod (k : Nat) : nI k &&& 65535 = nI (k % 65536) := by
  show nI k &&& nI 65535 = _
  rw [nx_and, show (65535 : Nat) = 2 ^ 16 - 1 from rfl, Nat.and_two_pow_sub_one_eq_mod]
theorem nx_m16 {k : Nat} (h : k < 65536) : nI k &&& 65535 = nI k := by rw [nx_mod, Nat.mod_eq_of_lt h]
theorem nx_mask (x : Int32) : ∃ k, k < 65536 ∧ x &&& 65535 = nI k := by
  have e : x = nI x.toBitVec.toNat := by
    apply Int32.toBitVec_inj.1
    show x.toBitVec = BitVec.ofNat 32 x.toBitVec.toNat
    simp
  refine ⟨x.toBitVec.toNat % 65536, Nat.mod_lt _ (by omega), ?_⟩
  rw [← nx_mod, ← e]
/-! ===== Int32 as a set of bits: test, set ===== -/
def nf_M (m : Int32) : Nat := 4294967296 - m.toBitVec.toNat
theorem nf_sh : ∀ l, l < 32 → ((1 : Int32) <<< (nI l &&& 31)).toBitVec = BitVec.twoPow 32 l := by decide +kernel
theorem nf_sl : ∀ l, l < 32 → (((nI l).toUInt32 &&& Int32.toUInt32 31).toBitVec % 32).toNat = l := by decide +kernel
theorem nf_tp : ∀ l, l < 32 → BitVec.twoPow 32 l ≠ 0#32 := by decide +kernel
theorem nf_bit (m : Int32) (l : Nat) (hl : l < 32) : ((m.toUInt32 >>> ((nI l).toUInt32 &&& Int32.toUInt32 31)).toInt32 &&& 1) = 0 ↔ (m &&& ((1 : Int32) <<< (nI l &&& 31))) = 0 := by
  have e : ((m.toUInt32 >>> ((nI l).toUInt32 &&& Int32.toUInt32 31)).toInt32).toBitVec = m.toBitVec >>> l := by
    show m.toBitVec >>> (((nI l).toUInt32 &&& Int32.toUInt32 31).toBitVec % 32) = m.toBitVec >>> l
    rw [BitVec.ushiftRight_eq', nf_sl l hl]
  rw [← Int32.toBitVec_inj, ← Int32.toBitVec_inj, Int32.toBitVec_and, Int32.toBitVec_and, nf_sh l hl, e, BitVec.and_twoPow]
  show (m.toBitVec >>> l &&& 1#32) = 0#32 ↔ _ = 0#32
  rw [BitVec.and_one_eq_setWidth_ofBool_getLsbD, BitVec.getLsbD_ushiftRight, Nat.add_zero]
  cases hb : m.toBitVec.getLsbD l
  · exact ⟨fun _ => by simp, fun _ => by decide⟩
  · exact ⟨fun z => absurd z (by decide), fun z => absurd ((if_pos rfl).symm.trans z) (nf_tp l hl)⟩
theorem nf_gr (m k : Int32) (h : m &&& k = 0) (hk : k ≠ 0) : nf_M (m ||| k) < nf_M m := by
  have hm := m.toBitVec.isLt
  have hm' := (m ||| k).toBitVec.isLt
  have h1 : m.toBitVec.toNat ≤ (m ||| k).toBitVec.toNat := by
    rw [Int32.toBitVec_or, BitVec.toNat_or]
    exact Nat.left_le_or
  have h2 : m.toBitVec.toNat ≠ (m ||| k).toBitVec.toNat := by
    intro e
    have e2 : m = m ||| k := Int32.toBitVec_inj.mp (BitVec.eq_of_toNat_eq e)
    apply hk
    apply Int32.toBitVec_inj.mp
    show k.toBitVec = 0#32
    apply BitVec.eq_of_getLsbD_eq
    intro i hi
    have a : m.toBitVec.getLsbD i = (m.toBitVec.getLsbD i || k.toBitVec.getLsbD i) := by rw [← BitVec.getLsbD_or, ← Int32.toBitVec_or, ← e2]
    have b : (m.toBitVec.getLsbD i && k.toBitVec.getLsbD i) = false := by
      rw [← BitVec.getLsbD_and, ← Int32.toBitVec_and, h]
      exact BitVec.getLsbD_zero
    rw [BitVec.getLsbD_zero]
    revert a b
    cases m.toBitVec.getLsbD i <;> cases k.toBitVec.getLsbD i <;> simp
  unfold nf_M
  omega
/-! ===== a byte read unsigned ===== -/
theorem bp_b (x : Int32) : x.toInt8.toInt32 &&& 255 = x &&& 255 := by
  apply Int32.toBitVec_inj.mp
  rw [Int32.toBitVec_and, Int32.toBitVec_and, Int8.toBitVec_toInt32, Int32.toBitVec_toInt8]
  apply BitVec.eq_of_getLsbD_eq
  intro i hi
  rw [BitVec.getLsbD_and, BitVec.getLsbD_and]
  have hm : ∀ i < 32, 8 ≤ i → (255 : Int32).toBitVec.getLsbD i = false := by decide
  rcases Nat.lt_or_ge i 8 with z | z
  · rw [BitVec.getLsbD_signExtend, BitVec.getLsbD_signExtend, if_pos z, if_pos hi]
    simp only [z, hi, decide_true, Bool.true_and]
  · rw [hm i hi z]; simp
/-! ===== the char cast and 65535 ===== -/
theorem em_w (v : Int32) : ∃ w : Nat, w < 65536 ∧ (v.toUInt32 % 65536).toInt32 = nI w ∧ v &&& 65535 = nI w := by
  have hr := lw_u16_r v
  have h0 : (0 : Int32).toInt = 0 := by decide
  obtain ⟨w, h1, h2⟩ := nI_of (x := lw_u16 v) (by rw [Int32.lt_iff_toInt_lt]; omega)
  have h3 : (v.toUInt32 % 65536).toInt32 = nI w := h2
  rw [h2, nI_toInt h1] at hr
  exact ⟨w, by omega, h3, by rw [← lg_i2c_mask, ← lg_i2c_nf, h3]⟩
/-! ===== Int64 as a set of bits: test, set, clear ===== -/
theorem ts_nf {x : Bool} (h : ¬ x = false) : x = true := by cases x <;> first | rfl | exact absurd rfl h
theorem ts_nt {x : Bool} (h : ¬ x = true) : x = false := by cases x <;> first | rfl | exact absurd rfl h
theorem ts_bit {w : Int64} {s : UInt64} {j : Nat} (hj : j < 64) (hs : s.toNat = j) : ((w.toUInt64 >>> s).toInt64 &&& 1) = 0 ↔ w.toBitVec.getLsbD j = false := by
  have e : (w.toUInt64 >>> s).toInt64.toBitVec = w.toBitVec >>> j := by
    apply BitVec.eq_of_toNat_eq
    show (w.toUInt64 >>> s).toNat = _
    rw [UInt64.toNat_shiftRight, hs, Nat.mod_eq_of_lt hj, BitVec.toNat_ushiftRight]
    rfl
  rw [← Int64.toBitVec_inj, Int64.toBitVec_and, e]
  show w.toBitVec >>> j &&& 1#64 = 0#64 ↔ _
  constructor
  · intro h
    have t := congrArg (fun x => x.getLsbD 0) h
    simpa using t
  · intro h
    apply BitVec.eq_of_getLsbD_eq
    intro i hi
    cases i with
    | zero => simp [h]
    | succ i => simp
theorem ts_or {w m : Int64} {j : Nat} (hj : j < 64) (hm : m.toBitVec = BitVec.twoPow 64 j) : (w ||| m) = w ↔ w.toBitVec.getLsbD j = true := by
  rw [← Int64.toBitVec_inj, Int64.toBitVec_or, hm]
  constructor
  · intro h
    have t := congrArg (fun x => x.getLsbD j) h
    simp only [BitVec.getLsbD_or, BitVec.getLsbD_twoPow] at t
    simpa [hj] using t.symm
  · intro h
    apply BitVec.eq_of_getLsbD_eq
    intro i hi
    rw [BitVec.getLsbD_or, BitVec.getLsbD_twoPow]
    by_cases e : j = i
    · subst e; rw [h, Bool.true_or]
    · simp [e]
theorem ts_and {w m : Int64} {j : Nat} (hj : j < 64) (hm : m.toBitVec = BitVec.twoPow 64 j) : (w &&& (m ^^^ (-1))) = w ↔ w.toBitVec.getLsbD j = false := by
  have ha : (-1 : Int64).toBitVec = BitVec.allOnes 64 := by decide
  rw [← Int64.toBitVec_inj, Int64.toBitVec_and, Int64.toBitVec_xor, hm, ha]
  constructor
  · intro h
    have t := congrArg (fun x => x.getLsbD j) h
    simp only [BitVec.getLsbD_and, BitVec.getLsbD_xor, BitVec.getLsbD_twoPow, BitVec.getLsbD_allOnes] at t
    simpa [hj] using t.symm
  · intro h
    apply BitVec.eq_of_getLsbD_eq
    intro i hi
    rw [BitVec.getLsbD_and, BitVec.getLsbD_xor, BitVec.getLsbD_twoPow, BitVec.getLsbD_allOnes]
    by_cases e : j = i
    · subst e; rw [h, Bool.false_and]
    · simp [e, hi]
/-! ===== lN n to 2^64: shifts, and, or, masks, one bit ===== -/
theorem wb_tb (n : Nat) : (lN n).toBitVec = BitVec.ofNat 64 n := rfl
theorem wb_inj {a b : Int64} (h : a.toBitVec = b.toBitVec) : a = b := Int64.toBitVec_inj.mp h
theorem wb_tn {n : Nat} (h : n < 2 ^ 64) : (lN n).toBitVec.toNat = n := by rw [wb_tb, BitVec.toNat_ofNat, Nat.mod_eq_of_lt h]
theorem wb_of (x : Int64) : ∃ n, n < 2 ^ 64 ∧ x = lN n := ⟨x.toBitVec.toNat, x.toBitVec.isLt, wb_inj (by rw [wb_tb]; simp)⟩
theorem wb_of32 (x : Int32) : ∃ n, n < 2 ^ 32 ∧ x = nI n := ⟨x.toBitVec.toNat, x.toBitVec.isLt, Int32.toBitVec_inj.mp (by show _ = BitVec.ofNat 32 _; simp)⟩
theorem wb_c : ∀ k, k < 64 → ((nI k).toInt64 &&& 63) = lN k := by decide +kernel
theorem wb_cu : ∀ k, k < 64 → ((nI k).toInt64.toUInt64 &&& Int64.toUInt64 63) = UInt64.ofNat k := by decide +kernel
theorem wb_sm : ∀ k, k < 64 → (BitVec.ofNat 64 k).smod 64 = BitVec.ofNat 64 k := by decide +kernel
theorem wb_pw {a b : Nat} (h : a ≤ b) : 2 ^ b = 2 ^ a * 2 ^ (b - a) := by rw [← Nat.pow_add]; congr 1; omega
theorem wb_lt2 {a b : Nat} (h : a < b) : 2 ^ a < 2 ^ b := Nat.pow_lt_pow_right (by decide) h
theorem wb_mod (n : Nat) : lN n = lN (n % 2 ^ 64) := wb_inj (by rw [wb_tb, wb_tb]; apply BitVec.eq_of_toNat_eq; rw [BitVec.toNat_ofNat, BitVec.toNat_ofNat, Nat.mod_mod])
theorem wb_shr {n k : Nat} (hn : n < 2 ^ 64) (hk : k < 64) : ((lN n).toUInt64 >>> ((nI k).toInt64.toUInt64 &&& Int64.toUInt64 63)).toInt64 = lN (n / 2 ^ k) := by
  rw [wb_cu k hk]
  apply wb_inj
  apply BitVec.eq_of_toNat_eq
  show ((lN n).toUInt64 >>> UInt64.ofNat k).toNat = (BitVec.ofNat 64 _).toNat
  have h1 : (UInt64.ofNat k).toNat = k := by
    show (BitVec.ofNat 64 k).toNat = k
    rw [BitVec.toNat_ofNat, Nat.mod_eq_of_lt (by omega)]
  have h2 : (lN n).toUInt64.toNat = n := wb_tn hn
  rw [UInt64.toNat_shiftRight, h1, h2, Nat.mod_eq_of_lt hk, Nat.shiftRight_eq_div_pow, BitVec.toNat_ofNat, Nat.mod_eq_of_lt (Nat.lt_of_le_of_lt (Nat.div_le_self _ _) hn)]
theorem wb_shl (n : Nat) {k : Nat} (hk : k < 64) : lN n <<< ((nI k).toInt64 &&& 63) = lN (n * 2 ^ k) := by
  rw [wb_c k hk]
  apply wb_inj
  rw [Int64.toBitVec_shiftLeft, wb_tb, wb_tb, wb_tb, wb_sm k hk]
  apply BitVec.eq_of_toNat_eq
  rw [BitVec.shiftLeft_eq', BitVec.toNat_shiftLeft, BitVec.toNat_ofNat, BitVec.toNat_ofNat, BitVec.toNat_ofNat, Nat.mod_eq_of_lt (show k < 2 ^ 64 by omega), Nat.shiftLeft_eq, Nat.mul_mod, Nat.mod_mod, ← Nat.mul_mod]
theorem wb_and {a b : Nat} (ha : a < 2 ^ 64) (hb : b < 2 ^ 64) : lN a &&& lN b = lN (a &&& b) := by
  apply wb_inj
  rw [Int64.toBitVec_and, wb_tb, wb_tb, wb_tb]
  apply BitVec.eq_of_toNat_eq
  rw [BitVec.toNat_and, BitVec.toNat_ofNat, BitVec.toNat_ofNat, BitVec.toNat_ofNat, Nat.mod_eq_of_lt ha, Nat.mod_eq_of_lt hb, Nat.mod_eq_of_lt (Nat.and_lt_two_pow _ hb)]
theorem wb_or {a b : Nat} (ha : a < 2 ^ 64) (hb : b < 2 ^ 64) : lN a ||| lN b = lN (a ||| b) := by
  apply wb_inj
  rw [Int64.toBitVec_or, wb_tb, wb_tb, wb_tb]
  apply BitVec.eq_of_toNat_eq
  rw [BitVec.toNat_or, BitVec.toNat_ofNat, BitVec.toNat_ofNat, BitVec.toNat_ofNat, Nat.mod_eq_of_lt ha, Nat.mod_eq_of_lt hb, Nat.mod_eq_of_lt (Nat.or_lt_two_pow ha hb)]
theorem wb_mask {n k : Nat} (hn : n < 2 ^ 64) (hk : k < 64) : lN n &&& lN (2 ^ k - 1) = lN (n % 2 ^ k) := by
  rw [wb_and hn (by have := wb_lt2 hk; omega), Nat.and_two_pow_sub_one_eq_mod]
theorem wb_a1 {n : Nat} (hn : n < 2 ^ 64) : lN n &&& 1 = lN (n % 2) := wb_mask (k := 1) hn (by decide)
theorem wb_bit {n k : Nat} (hn : n < 2 ^ 64) (hk : k < 64) : ((lN n).toUInt64 >>> ((nI k).toInt64.toUInt64 &&& Int64.toUInt64 63)).toInt64 &&& 1 = lN (n / 2 ^ k % 2) := by
  rw [wb_shr hn hk, wb_a1 (Nat.lt_of_le_of_lt (Nat.div_le_self _ _) hn)]
theorem wb_xor {q k : Nat} (hk : k < 63) (h : 2 ^ k ≤ q) (h2 : q < 2 ^ (k + 1)) : lN q ^^^ lN (2 ^ k) = lN (q - 2 ^ k) := by
  obtain ⟨r, rfl⟩ : ∃ r, q = 2 ^ k + r := ⟨q - 2 ^ k, by omega⟩
  have hr : r < 2 ^ k := by rw [Nat.pow_succ] at h2; omega
  have hx : (2 ^ k + r) ^^^ 2 ^ k = r := by
    apply Nat.eq_of_testBit_eq
    intro i
    rw [Nat.testBit_xor, Nat.testBit_two_pow]
    rcases Nat.lt_trichotomy i k with h | h | h
    · rw [Nat.testBit_two_pow_add_gt h]
      simp [show ¬ k = i by omega]
    · subst h
      rw [Nat.testBit_two_pow_add_eq]
      simp
    · have a1 : 2 ^ (k + 1) ≤ 2 ^ i := Nat.pow_le_pow_right (by decide) h
      rw [Nat.testBit_lt_two_pow (show 2 ^ k + r < 2 ^ i by omega), Nat.testBit_lt_two_pow (show r < 2 ^ i by omega)]
      simp [show ¬ k = i by omega]
  have b1 := wb_lt2 (show k + 1 < 64 by omega)
  have b2 := wb_lt2 (show k < 64 by omega)
  apply wb_inj
  rw [Int64.toBitVec_xor, wb_tb, wb_tb, wb_tb]
  apply BitVec.eq_of_toNat_eq
  rw [BitVec.toNat_xor, BitVec.toNat_ofNat, BitVec.toNat_ofNat, BitVec.toNat_ofNat, Nat.mod_eq_of_lt (by omega : 2 ^ k + r < 2 ^ 64), Nat.mod_eq_of_lt b2, hx, Nat.add_sub_cancel_left, Nat.mod_eq_of_lt (by omega)]
/-! ===== lN: masks, 'or' of parts that don't overlap is a sum ===== -/
theorem u_tn {n : Nat} (h : n < 2 ^ 64) : (UInt64.ofNat n).toNat = n := Nat.mod_eq_of_lt h
theorem g_and {a b c : Nat} (ha : a < 2 ^ 64) (hb : b < 2 ^ 64) (hc : a &&& b = c) : lN a &&& lN b = lN c := by
  subst hc
  have h : UInt64.ofNat a &&& UInt64.ofNat b = UInt64.ofNat (a &&& b) := UInt64.toNat_inj.mp (by rw [UInt64.toNat_and, u_tn ha, u_tn hb, u_tn (Nat.and_lt_two_pow a hb)])
  have h2 := congrArg UInt64.toInt64 h
  exact h2
theorem g_and1 {a : Nat} (ha : a < 2 ^ 64) : lN a &&& 1 = lN (a % 2) := g_and (b := 1) ha (by decide) (Nat.and_two_pow_sub_one_eq_mod a 1)
theorem g_mask {a s p : Nat} (hp : 2 ^ s = p) (hs : s < 64) (ha : a < 2 ^ 64) : lN a &&& lN (p - 1) = lN (a % p) := by
  subst hp
  have := Nat.pow_lt_pow_right (show 1 < 2 by decide) hs
  exact g_and ha (by omega) (Nat.and_two_pow_sub_one_eq_mod a s)
theorem g_or {k p a b : Nat} (hp : 2 ^ k = p) (ha : a < p) (h : b * p + a < 2 ^ 64) : lN (b * p) ||| lN a = lN (b * p + a) := by
  subst hp
  have h1 : b * 2 ^ k ||| a = b * 2 ^ k + a := by rw [← Nat.shiftLeft_eq, Nat.shiftLeft_add_eq_or_of_lt ha]
  have h3 : UInt64.ofNat (b * 2 ^ k) ||| UInt64.ofNat a = UInt64.ofNat (b * 2 ^ k + a) := UInt64.toNat_inj.mp (by rw [UInt64.toNat_or, u_tn (by omega), u_tn (by omega), u_tn h, h1])
  have h2 := congrArg UInt64.toInt64 h3
  exact h2
theorem g_or' {k p a b : Nat} (hp : 2 ^ k = p) (ha : a < p) (h : a + b * p < 2 ^ 64) : lN a ||| lN (b * p) = lN (a + b * p) := by
  rw [Int64.or_comm, g_or hp ha (by omega), Nat.add_comm]
theorem g_ushr {a k p : Nat} {y : UInt64} (hy : y = UInt64.ofNat k) (hk : k < 64) (hp : 2 ^ k = p) (ha : a < 2 ^ 64) : ((lN a).toUInt64 >>> y).toInt64 = lN (a / p) := by
  subst hy hp
  have h : UInt64.ofNat a >>> UInt64.ofNat k = UInt64.ofNat (a / 2 ^ k) := UInt64.toNat_inj.mp (by rw [UInt64.toNat_shiftRight, u_tn ha, u_tn (by omega), u_tn (Nat.lt_of_le_of_lt (Nat.div_le_self _ _) ha), Nat.mod_eq_of_lt hk, Nat.shiftRight_eq_div_pow])
  have h2 := congrArg UInt64.toInt64 h
  exact h2
theorem g_shl {a k p : Nat} {y : Int64} (hy : y.toBitVec.smod 64 = BitVec.ofNat 64 k) (hk : k < 64) (hp : 2 ^ k = p) (ha : a < 2 ^ 64) : lN a <<< y = lN (a * p) := by
  subst hp
  apply Int64.toBitVec_inj.mp
  rw [Int64.toBitVec_shiftLeft, hy]
  apply BitVec.eq_of_toNat_eq
  have hb : (lN a).toBitVec.toNat = a := Nat.mod_eq_of_lt ha
  have hk' : (BitVec.ofNat 64 k).toNat = k := Nat.mod_eq_of_lt (by omega)
  have h : ((lN a).toBitVec <<< BitVec.ofNat 64 k).toNat = (a * 2 ^ k) % 2 ^ 64 := by simp only [BitVec.shiftLeft_eq', BitVec.toNat_shiftLeft, hb, hk', Nat.shiftLeft_eq]
  exact h
/-! ===== lN to 2^62 under >> and >>> ===== -/
theorem pf_lI {a : Nat} (h : a < 2 ^ 63) : (lN a).toInt = (a : Int) := lg_ofNat_toInt h
theorem pf_shr {a d : Nat} {D : Int64} (hD : (D.toBitVec.smod 64).toNat = d) (h : a < 2 ^ 62) : lN a >>> D = lN (a / 2 ^ d) := by
  have hd : a / 2 ^ d ≤ a := Nat.div_le_self _ _
  apply Int64.toInt_inj.mp
  have e : (lN a >>> D).toInt = (lN a).toInt >>> d := by
    rw [← hD]
    exact BitVec.toInt_sshiftRight ..
  rw [e, Int.shiftRight_eq_div_pow, pf_lI (by omega), pf_lI (by omega)]
  rfl
theorem pf_ushr {a d : Nat} {D : UInt64} (hD : D.toNat % 64 = d) (h : a < 2 ^ 62) : ((lN a).toUInt64 >>> D).toInt64 = lN (a / 2 ^ d) := by
  have hd : a / 2 ^ d ≤ a := Nat.div_le_self _ _
  have e : (lN a).toUInt64 >>> D = UInt64.ofNat (a / 2 ^ d) := UInt64.toNat_inj.mp (by
    rw [UInt64.toNat_shiftRight, hD, Nat.shiftRight_eq_div_pow, UInt64.toNat_ofNat']
    show (UInt64.ofNat a).toNat / 2 ^ d = _
    rw [UInt64.toNat_ofNat', Nat.mod_eq_of_lt (by omega), Nat.mod_eq_of_lt (by omega)])
  rw [e]
  rfl
theorem pf_andw (x : Int64) : ∃ m, m < 2 ^ 32 ∧ x &&& 4294967295 = lN m := ⟨x.toBitVec.toNat % 2 ^ 32, Nat.mod_lt _ (by decide), Int64.toBitVec_inj.mp (BitVec.eq_of_toNat_eq (by
  show (x.toBitVec &&& 4294967295#64).toNat = (BitVec.ofNat 64 (x.toBitVec.toNat % 2 ^ 32)).toNat
  rw [BitVec.toNat_and, show (4294967295#64).toNat = 2 ^ 32 - 1 from by decide, Nat.and_two_pow_sub_one_eq_mod, BitVec.toNat_ofNat]
  omega))⟩
/-! ===== Int64 as an unsigned number: uN x ===== -/
def uN (x : Int64) : Nat := x.toUInt64.toNat
theorem uN_lt (x : Int64) : uN x < 18446744073709551616 := x.toUInt64.toNat_lt
theorem uN_inj {x y : Int64} (h : uN x = uN y) : x = y := congrArg UInt64.toInt64 (UInt64.toNat_inj.mp h)
theorem uN_add (x y : Int64) : uN (x + y) = (uN x + uN y) % 18446744073709551616 := by
  show (x.toUInt64 + y.toUInt64).toNat = _
  exact UInt64.toNat_add _ _
theorem uN_mul (x y : Int64) : uN (x * y) = (uN x * uN y) % 18446744073709551616 := by
  show (x.toUInt64 * y.toUInt64).toNat = _
  exact UInt64.toNat_mul _ _
theorem uN_shl (x : Int64) : uN (x <<< ((1 : Int32).toInt64 &&& 63)) = (2 * uN x) % 18446744073709551616 := by
  have h : (((1 : Int32).toInt64 &&& 63).toBitVec.smod 64).toNat = 1 := by decide
  show (x.toBitVec <<< (((1 : Int32).toInt64 &&& 63).toBitVec.smod 64).toNat).toNat = _
  rw [h, BitVec.toNat_shiftLeft, Nat.shiftLeft_eq, Nat.mul_comm]
  rfl
theorem uN_shr (x : Int64) (s : UInt64) : uN (x.toUInt64 >>> s).toInt64 = uN x / 2 ^ (s.toNat % 64) := by
  show (x.toUInt64 >>> s).toNat = _
  rw [UInt64.toNat_shiftRight, Nat.shiftRight_eq_div_pow]
  rfl
theorem uN_s32 (x : Int64) : uN (x.toUInt64 >>> ((32 : Int32).toInt64.toUInt64 &&& Int64.toUInt64 63)).toInt64 = uN x / 4294967296 := by
  have h : ((32 : Int32).toInt64.toUInt64 &&& Int64.toUInt64 63).toNat % 64 = 32 := by decide
  rw [uN_shr, h]
theorem uN_s63 (x : Int64) : uN (x.toUInt64 >>> ((63 : Int32).toInt64.toUInt64 &&& Int64.toUInt64 63)).toInt64 = uN x / 9223372036854775808 := by
  have h : ((63 : Int32).toInt64.toUInt64 &&& Int64.toUInt64 63).toNat % 64 = 63 := by decide
  rw [uN_shr, h]
theorem uN_lo (x : Int64) : uN (x &&& 4294967295) = uN x % 4294967296 := by
  show (x.toUInt64 &&& Int64.toUInt64 4294967295).toNat = _
  rw [UInt64.toNat_and]
  exact Nat.and_two_pow_sub_one_eq_mod _ 32
theorem uN_bit (x : Int64) : (x &&& 1) = 0 ↔ uN x % 2 = 0 := by
  have h : uN (x &&& 1) = uN x % 2 := by
    show (x.toUInt64 &&& Int64.toUInt64 1).toNat = _
    rw [UInt64.toNat_and]
    exact Nat.and_two_pow_sub_one_eq_mod _ 1
  rw [← h]
  exact ⟨fun z => by rw [z]; rfl, fun z => uN_inj (z.trans rfl)⟩
theorem uN_or {x y : Int64} (hy : uN y < 2) : uN ((x <<< ((1 : Int32).toInt64 &&& 63)) ||| y) = (2 * uN x) % 18446744073709551616 + uN y := by
  have h1 : uN ((x <<< ((1 : Int32).toInt64 &&& 63)) ||| y) = uN (x <<< ((1 : Int32).toInt64 &&& 63)) ||| uN y := UInt64.toNat_or _ _
  have h2 : (2 * uN x) % 18446744073709551616 = 2 ^ 1 * (uN x % 9223372036854775808) := by omega
  rw [h1, uN_shl, h2]
  exact (Nat.two_pow_add_eq_or_of_lt (i := 1) hy _).symm
theorem nat_xor {a : Nat} (h : a < 18446744073709551616) : a ^^^ 2 ^ 63 = (a + 9223372036854775808) % 18446744073709551616 := by
  have h1 : (a ^^^ 2 ^ 63) % 2 ^ 63 = a % 2 ^ 63 := by rw [Nat.xor_mod_two_pow, Nat.mod_self, Nat.xor_zero]
  have h2 : (a ^^^ 2 ^ 63) / 2 ^ 63 = (a / 2 ^ 63) ^^^ 1 := by rw [Nat.xor_div_two_pow, Nat.div_self (Nat.two_pow_pos 63)]
  have h3 : a / 2 ^ 63 = 0 ∨ a / 2 ^ 63 = 1 := by omega
  generalize a ^^^ 2 ^ 63 = t at h1 h2
  rcases h3 with h3 | h3
  · rw [h3] at h2
    have h2 : t / 2 ^ 63 = 1 := h2
    omega
  · rw [h3] at h2
    have h2 : t / 2 ^ 63 = 0 := h2
    omega
theorem uN_xor (x : Int64) : uN (x ^^^ (-9223372036854775808)) = (uN x + 9223372036854775808) % 18446744073709551616 := by
  rw [← nat_xor (uN_lt x)]
  exact UInt64.toNat_xor _ _
theorem uN_int (x : Int64) : x.toInt = if 2 * uN x < 18446744073709551616 then (uN x : Int) else (uN x : Int) - 18446744073709551616 := BitVec.toInt_eq_toNat_cond _
theorem uN_le (x y : Int64) : (x ^^^ (-9223372036854775808)) ≤ (y ^^^ (-9223372036854775808)) ↔ uN x ≤ uN y := by
  have hx := uN_lt x
  have hy := uN_lt y
  rw [Int64.le_iff_toInt_le, uN_int, uN_int, uN_xor, uN_xor]
  omega
theorem uN_sk (x : Int64) {k : Nat} (hk : k < 64) : uN (x.toUInt64 >>> ((nI k).toInt64.toUInt64 &&& Int64.toUInt64 63)).toInt64 = uN x / 2 ^ k := by
  have h : ((nI k).toInt64.toUInt64 &&& Int64.toUInt64 63).toNat % 64 = k := by
    rw [nI_l (by omega), UInt64.toNat_and]
    have e : (lN k).toUInt64.toNat = k % 2 ^ 64 := rfl
    have e2 : (Int64.toUInt64 63).toNat = 2 ^ 6 - 1 := by decide
    rw [e, e2, Nat.and_two_pow_sub_one_eq_mod]
    omega
  rw [uN_shr, h]
/-! ===== unsigned comparison by xor with the least ===== -/
theorem lN_bv (n : Nat) : (lN n).toBitVec = BitVec.ofNat 64 n := rfl
theorem lN_nat {n : Nat} (h : n < 2 ^ 64) : (lN n).toBitVec.toNat = n := by rw [lN_bv, BitVec.toNat_ofNat]; exact Nat.mod_eq_of_lt h
theorem lN_xor (a b : Nat) : lN a ^^^ lN b = lN (a ^^^ b) := by
  apply Int64.toBitVec_inj.mp; rw [Int64.toBitVec_xor, lN_bv, lN_bv, lN_bv]; apply BitVec.eq_of_getLsbD_eq; intro i hi; simp [BitVec.getLsbD_ofNat, Nat.testBit_xor, hi]
theorem lN_ti {m : Nat} (h : m < 2 ^ 64) : (lN m).toInt = if m < 2 ^ 63 then (m : Int) else (m : Int) - 2 ^ 64 := by
  have c := BitVec.toInt_eq_toNat_cond (lN m).toBitVec
  rw [lN_nat h] at c
  show (lN m).toBitVec.toInt = _
  rw [c]
  split <;> split <;> omega
theorem xor63 {x : Nat} (h : x < 2 ^ 63) : x ^^^ 2 ^ 63 = 2 ^ 63 + x := by
  apply Nat.eq_of_testBit_eq
  intro i
  rw [Nat.testBit_xor, Nat.testBit_two_pow]
  rcases Nat.lt_trichotomy i 63 with z | z | z
  · rw [Nat.testBit_two_pow_add_gt z, decide_eq_false (by omega)]; simp
  · subst z; rw [Nat.testBit_two_pow_add_eq]; simp
  · have hp : 2 ^ 64 ≤ 2 ^ i := Nat.pow_le_pow_right (by decide) z
    rw [Nat.testBit_lt_two_pow (show x < 2 ^ i by omega), Nat.testBit_lt_two_pow (show 2 ^ 63 + x < 2 ^ i by omega), decide_eq_false (by omega)]; rfl
theorem xorS {a : Nat} (h : a < 2 ^ 64) : (lN a ^^^ (-9223372036854775808)).toInt = (a : Int) - 2 ^ 63 := by
  rw [show (-9223372036854775808 : Int64) = lN (2 ^ 63) from by decide +kernel, lN_xor]
  rcases Nat.lt_or_ge a (2 ^ 63) with z | z
  · rw [xor63 z, lN_ti (by omega), if_neg (by omega)]; omega
  · obtain ⟨x, rfl⟩ : ∃ x, a = 2 ^ 63 + x := ⟨a - 2 ^ 63, by omega⟩
    rw [← xor63 (by omega), Nat.xor_assoc, Nat.xor_self, Nat.xor_zero, lN_ti (by omega), if_pos (by omega), xor63 (by omega)]; omega
theorem ultL {a b : Nat} (ha : a < 2 ^ 64) (hb : b < 2 ^ 64) : ((lN b ^^^ (-9223372036854775808)) ≤ (lN a ^^^ (-9223372036854775808))) ↔ b ≤ a := by
  rw [Int64.le_iff_toInt_le, xorS ha, xorS hb]; omega
/-! ===== Int64 masks of n low bits ===== -/
theorem cr_bits (W U M : BitVec 64) : ((W &&& U) &&& (U &&& (M ^^^ BitVec.allOnes 64))) = 0#64 ↔ (W &&& U) &&& M = W &&& U := by
  constructor
  · intro h
    apply BitVec.eq_of_getLsbD_eq
    intro i hi
    have e := congrArg (fun x => BitVec.getLsbD x i) h
    simp only [BitVec.getLsbD_and, BitVec.getLsbD_xor, BitVec.getLsbD_allOnes, BitVec.getLsbD_zero, hi, decide_true] at e ⊢
    revert e
    cases W.getLsbD i <;> cases U.getLsbD i <;> cases M.getLsbD i <;> decide
  · intro h
    apply BitVec.eq_of_getLsbD_eq
    intro i hi
    have e := congrArg (fun x => BitVec.getLsbD x i) h
    simp only [BitVec.getLsbD_and, BitVec.getLsbD_xor, BitVec.getLsbD_allOnes, BitVec.getLsbD_zero, hi, decide_true] at e ⊢
    revert e
    cases W.getLsbD i <;> cases U.getLsbD i <;> cases M.getLsbD i <;> decide
theorem cr_mask (w U m : Int64) (n : Nat) (hm : m.toBitVec.toNat = 2 ^ n - 1) : ((w &&& U) &&& (U &&& (m ^^^ (-1)))) = 0 ↔ (w &&& U).toBitVec.toNat < 2 ^ n := by
  have e0 : (-1 : Int64).toBitVec = BitVec.allOnes 64 := by decide
  have z0 : (0 : Int64).toBitVec = 0#64 := by decide
  rw [← Int64.toBitVec_inj, z0, Int64.toBitVec_and, Int64.toBitVec_and, Int64.toBitVec_and, Int64.toBitVec_xor, e0, cr_bits]
  generalize w.toBitVec &&& U.toBitVec = T
  rw [← BitVec.toNat_inj, BitVec.toNat_and, hm, Nat.and_two_pow_sub_one_eq_mod]
  constructor
  · intro h
    have t := Nat.mod_lt T.toNat (Nat.two_pow_pos n)
    rw [h] at t
    exact t
  · exact Nat.mod_eq_of_lt
theorem cr_shr (t : Int64) (x : UInt64) (n : Nat) (hx : x.toNat % 64 = n) : (t.toUInt64 >>> x).toInt64 = 0 ↔ t.toBitVec.toNat < 2 ^ n := by
  rw [← Int64.toBitVec_inj, ← BitVec.toNat_inj]
  show (t.toUInt64 >>> x).toNat = 0 ↔ t.toUInt64.toNat < 2 ^ n
  rw [UInt64.toNat_shiftRight, hx, Nat.shiftRight_eq_div_pow]
  constructor
  · intro h
    have d : t.toUInt64.toNat / 2 ^ n < 1 := by
      rw [h]
      decide
    have e := (Nat.div_lt_iff_lt_mul (Nat.two_pow_pos n)).mp d
    rw [Nat.one_mul] at e
    exact e
  · exact Nat.div_eq_of_lt
theorem cr_amt (s : Int64) : ∃ n, n < 64 ∧ s &&& 63 = lN n ∧ (s.toUInt64 &&& Int64.toUInt64 63).toNat % 64 = n := by
  have e : (s.toUInt64 &&& Int64.toUInt64 63).toNat = s.toUInt64.toNat % 2 ^ 6 := by
    rw [UInt64.toNat_and, show (Int64.toUInt64 63).toNat = 2 ^ 6 - 1 from by decide, Nat.and_two_pow_sub_one_eq_mod]
  refine ⟨s.toUInt64.toNat % 2 ^ 6, by omega, ?_, by omega⟩
  rw [← Int64.toBitVec_inj, ← BitVec.toNat_inj]
  show (s.toUInt64 &&& Int64.toUInt64 63).toNat = (BitVec.ofNat 64 (s.toUInt64.toNat % 2 ^ 6)).toNat
  rw [e, BitVec.toNat_ofNat]
  omega
end
section
/-! bits of longs as sets, bits of ints, codes of boolean rows -/
def qb_m (w : Int64) (s : Nat) : Prop := w.toBitVec.getLsbD s = true
def qb_i (b : Bool) : Int32 := if b = true then 1 else 0
theorem qb_ext {x y : Int64} (h : ∀ s, s < 64 → (qb_m x s ↔ qb_m y s)) : x = y :=
  Int64.toBitVec_inj.mp (BitVec.eq_of_getLsbD_eq (fun i hi => Bool.eq_iff_iff.mpr (h i hi)))
theorem qb_or (x y : Int64) (s : Nat) : qb_m (x ||| y) s ↔ (qb_m x s ∨ qb_m y s) := by
  unfold qb_m; rw [Int64.toBitVec_or, BitVec.getLsbD_or, Bool.or_eq_true]
theorem qb_and (x y : Int64) (s : Nat) : qb_m (x &&& y) s ↔ (qb_m x s ∧ qb_m y s) := by
  unfold qb_m; rw [Int64.toBitVec_and, BitVec.getLsbD_and, Bool.and_eq_true]
theorem qb_m1b : ∀ s, s < 64 → (-1 : Int64).toBitVec.getLsbD s = true := by decide +kernel
theorem qb_m1 {s : Nat} (h : s < 64) : qb_m (-1) s := qb_m1b s h
theorem qb_0 (s : Nat) : ¬ qb_m 0 s := by
  unfold qb_m
  have h : (0 : Int64).toBitVec.getLsbD s = false := BitVec.getLsbD_zero
  rw [h]; exact Bool.false_ne_true
theorem qb_big (x : Int64) {s : Nat} (h : 64 ≤ s) : ¬ qb_m x s := by
  unfold qb_m; rw [BitVec.getLsbD_of_ge _ _ h]; exact Bool.false_ne_true
theorem qb_lt {x : Int64} {s : Nat} (h : qb_m x s) : s < 64 := by
  rcases Nat.lt_or_ge s 64 with g | g
  · exact g
  · exact absurd h (qb_big x g)
theorem qb_xorb (x y : Int64) (s : Nat) : (x ^^^ y).toBitVec.getLsbD s = (x.toBitVec.getLsbD s ^^ y.toBitVec.getLsbD s) := by
  rw [Int64.toBitVec_xor, BitVec.getLsbD_xor]
theorem qb_not (x : Int64) {s : Nat} (h : s < 64) : qb_m (x ^^^ (-1)) s ↔ ¬ qb_m x s := by
  unfold qb_m
  rw [qb_xorb, qb_m1b s h]
  cases x.toBitVec.getLsbD s <;> simp
theorem qb_xor (x y : Int64) (s : Nat) : qb_m (x ^^^ y) s ↔ ¬ (qb_m x s ↔ qb_m y s) := by
  unfold qb_m
  rw [qb_xorb]
  cases x.toBitVec.getLsbD s <;> cases y.toBitVec.getLsbD s <;> simp
theorem qb_z (x : Int64) : x = 0 ↔ ∀ s, s < 64 → ¬ qb_m x s := by
  constructor
  · intro h s _; rw [h]; exact qb_0 s
  · intro h; exact qb_ext (fun s hs => ⟨fun a => absurd a (h s hs), fun a => absurd a (qb_0 s)⟩)
theorem qb_nz (x : Int64) : ¬ x = 0 ↔ ∃ s, s < 64 ∧ qb_m x s := by
  rw [qb_z]
  constructor
  · intro h
    exact Classical.byContradiction (fun g => h (fun s hs m => g ⟨s, hs, m⟩))
  · rintro ⟨s, hs, m⟩ h
    exact h s hs m
theorem qb_oneb : ∀ k, k < 64 → ∀ s, s < 64 → ((1 : Int64) <<< ((nI k).toInt64 &&& 63)).toBitVec.getLsbD s = decide (s = k) := by decide +kernel
theorem qb_one {k s : Nat} (hk : k < 64) (hs : s < 64) : qb_m ((1 : Int64) <<< ((nI k).toInt64 &&& 63)) s ↔ s = k := by
  unfold qb_m; rw [qb_oneb k hk s hs]; exact decide_eq_true_iff
theorem qb_has (w : Int64) {e : Nat} (he : e < 64) : ((w.toUInt64 >>> ((nI e).toInt64.toUInt64 &&& Int64.toUInt64 63)).toInt64 &&& 1) = 0 ↔ ¬ qb_m w e := by
  rw [wb_cu e he, ts_bit he (u_tn (Nat.lt_of_lt_of_le he (by decide)))]
  unfold qb_m
  cases w.toBitVec.getLsbD e <;> simp
/-! ints by bits -/
theorem qb_b1 (i : Nat) : bt 1 i = decide (i = 0) := by
  rcases Nat.lt_or_ge i 32 with h | h
  · exact (by decide +kernel : ∀ i, i < 32 → bt 1 i = decide (i = 0)) i h
  · rw [b_big h, decide_eq_false (by omega)]
theorem qb_bi (b : Bool) (i : Nat) : bt (qb_i b) i = (decide (i = 0) && b) := by
  cases b
  · show bt 0 i = _; rw [b_0]; simp
  · show bt 1 i = _; rw [qb_b1]; simp
theorem qb_sh1 (x : Int32) {b : Nat} (hb : b < 32) : ((x >>> (nI b &&& 31)) &&& 1) = qb_i (bt x b) := by
  apply b_ext
  intro i hi
  rw [b_and, qb_b1, b_sshr b hb x hi, qb_bi]
  by_cases h : i = 0
  · subst h; simp [hb]
  · simp [h]
theorem qb_i0 (b : Bool) : qb_i b = 0 ↔ b = false := by cases b <;> decide
theorem qb_i1 (b : Bool) : qb_i b = 1 ↔ b = true := by cases b <;> decide
theorem qb_ij (a b : Bool) : qb_i a = qb_i b ↔ a = b := by cases a <;> cases b <;> decide
theorem qb_c0 {b : Bool} {A B : Prop} (f : b = false → A) (g : b = true → B) : (qb_i b = 0 → A) ∧ (¬ qb_i b = 0 → B) :=
  ⟨fun h => f ((qb_i0 b).mp h), fun h => g (by cases b; exact absurd rfl h; rfl)⟩
theorem qb_c1 {b : Bool} {A B : Prop} (f : b = true → A) (g : b = false → B) : (qb_i b = 1 → A) ∧ (¬ qb_i b = 1 → B) :=
  ⟨fun h => f ((qb_i1 b).mp h), fun h => g (by cases b; rfl; exact absurd rfl h)⟩
theorem qb_nar (b : Bool) : vp_nar .boolean (qb_i b) = qb_i b := by cases b <;> rfl
theorem qb_nr (b : Bool) : narrow .boolean (.int (qb_i b)) = .int (qb_i b) := by cases b <;> rfl
theorem qb_bn {n : Nat} (i : Nat) (hi : i < 32) : bt (nI n) i = n.testBit i := by
  show (BitVec.ofNat 32 n).getLsbD i = _
  rw [BitVec.getLsbD_ofNat]; simp [hi]
theorem qb_shb {k i : Nat} (hk : k < 32) (hi : i < 32) : bt ((1 : Int32) <<< (nI k &&& 31)) i = decide (i = k) := by
  rw [b_shl k hk _ hi, qb_b1]
  by_cases h : i = k
  · subst h; simp
  · rcases Nat.lt_or_ge i k with g | g
    · simp [h, Nat.not_le.mpr g]
    · have : ¬ (i - k = 0) := by omega
      simp [h, this]
def qb_cd (f : Nat → Bool) : Nat → Nat
  | 0 => 0
  | n + 1 => qb_cd f n + if f n = true then 2 ^ n else 0
theorem qb_cd_lt (f : Nat → Bool) (n : Nat) : qb_cd f n < 2 ^ n := by
  induction n with
  | zero => exact Nat.one_pos
  | succ n ih => rw [qb_cd, Nat.pow_succ]; split <;> omega
theorem qb_cd_bit (f : Nat → Bool) (n j : Nat) : (qb_cd f n).testBit j = (decide (j < n) && f j) := by
  induction n with
  | zero => simp [qb_cd]
  | succ n ih =>
    have hl := qb_cd_lt f n
    rcases Nat.lt_trichotomy j n with h | h | h
    · rw [qb_cd]
      cases hf : f n
      · simp only [Bool.false_eq_true, if_false, Nat.add_zero]; rw [ih]; simp [h, Nat.lt_succ_of_lt h]
      · simp only [if_true]; rw [Nat.add_comm, Nat.testBit_two_pow_add_gt h, ih]; simp [h, Nat.lt_succ_of_lt h]
    · subst h
      rw [qb_cd]
      cases hf : f j
      · simp only [Bool.false_eq_true, if_false, Nat.add_zero]; rw [ih]; simp
      · simp only [if_true]; rw [Nat.add_comm, Nat.testBit_two_pow_add_eq, ih]; simp
    · have : qb_cd f (n + 1) < 2 ^ j := Nat.lt_of_lt_of_le (qb_cd_lt f (n + 1)) (Nat.pow_le_pow_right (by decide) h)
      rw [Nat.testBit_lt_two_pow this]
      have h2 : ¬ j < n + 1 := by omega
      simp [h2]
theorem qb_cd_cg {f g : Nat → Bool} {n : Nat} (h : ∀ j, j < n → f j = g j) : qb_cd f n = qb_cd g n := by
  induction n with
  | zero => rfl
  | succ n ih => rw [qb_cd, qb_cd, ih (fun j hj => h j (by omega)), h n (by omega)]
theorem qb_cd_b {f : Nat → Bool} {n i : Nat} (hi : i < 32) : bt (nI (qb_cd f n)) i = (decide (i < n) && f i) := by
  rw [qb_bn i hi, qb_cd_bit]
theorem qb_cd_all {f : Nat → Bool} {n : Nat} (h : ∀ j, j < n → f j = true) : qb_cd f n = 2 ^ n - 1 := by
  apply Nat.eq_of_testBit_eq
  intro j
  rw [qb_cd_bit, Nat.testBit_two_pow_sub_one]
  by_cases hj : j < n
  · simp [hj, h j hj]
  · simp [hj]
theorem qb_ins (f : Nat → Bool) {n : Nat} (hn : n < 32) : nI (qb_cd f n) ||| ((1 : Int32) <<< (nI n &&& 31)) = nI (qb_cd (fun j => if j = n then true else f j) (n + 1)) := by
  apply b_ext
  intro i hi
  rw [b_or, qb_shb hn hi, qb_cd_b hi, qb_cd_b hi]
  by_cases h : i = n
  · subst h; simp
  · have e : decide (i < n + 1) = decide (i < n) := by rcases Nat.lt_or_ge i n with g | g <;> simp <;> omega
    simp [h, e]
theorem qb_skp (f : Nat → Bool) {n : Nat} (h : f n = false) : qb_cd f (n + 1) = qb_cd f n := by
  rw [qb_cd, h]; simp
theorem qb_put (f : Nat → Bool) {n : Nat} (h : f n = true) (hn : n < 32) : nI (qb_cd f n) ||| ((1 : Int32) <<< (nI n &&& 31)) = nI (qb_cd f (n + 1)) := by
  rw [qb_ins f hn]
  congr 1
  apply qb_cd_cg
  intro j hj
  by_cases e : j = n
  · subst e; simp [h]
  · simp [e]
theorem qb_shc {k : Nat} (hk : k < 31) : (1 : Int32) <<< (nI k &&& 31) = nI (2 ^ k) := by
  apply b_ext
  intro i hi
  rw [qb_shb (by omega) hi, qb_bn i hi, Nat.testBit_two_pow]
  simp [eq_comm]
/-! counting -/
def qn_c (f : Nat → Bool) : Nat → Nat
  | 0 => 0
  | n + 1 => qn_c f n + if f n = true then 1 else 0
theorem qn_le (f : Nat → Bool) (n : Nat) : qn_c f n ≤ n := by
  induction n with
  | zero => exact Nat.le_refl _
  | succ n ih => rw [qn_c]; split <;> omega
theorem qn_mono {f g : Nat → Bool} {n : Nat} (h : ∀ j, j < n → f j = true → g j = true) : qn_c f n ≤ qn_c g n := by
  induction n with
  | zero => exact Nat.le_refl _
  | succ n ih =>
    have a := ih (fun j hj => h j (by omega))
    have b := h n (by omega)
    rw [qn_c, qn_c]
    cases hf : f n
    · simp only [Bool.false_eq_true, if_false]; split <;> omega
    · rw [b hf]; simp only [if_true]; omega
theorem qn_strict {f g : Nat → Bool} {n i : Nat} (h : ∀ j, j < n → f j = true → g j = true) (hi : i < n) (h0 : f i = false) (h1 : g i = true) : qn_c f n < qn_c g n := by
  induction n with
  | zero => omega
  | succ n ih =>
    have b := h n (by omega)
    rw [qn_c, qn_c]
    by_cases e : i = n
    · subst e
      have a := qn_mono (n := i) (fun j hj => h j (by omega))
      rw [h0, h1]; simp only [Bool.false_eq_true, if_false, if_true]; omega
    · have a := ih (fun j hj => h j (by omega)) (by omega)
      cases hf : f n
      · simp only [Bool.false_eq_true, if_false]; split <;> omega
      · rw [b hf]; simp only [if_true]; omega
theorem qn_full {f : Nat → Bool} {n : Nat} (h : n ≤ qn_c f n) : ∀ j, j < n → f j = true := by
  intro j hj
  cases hf : f j
  · have a := qn_strict (f := f) (g := fun _ => true) (n := n) (fun _ _ _ => rfl) hj hf rfl
    have b := qn_le (fun _ => true) n
    omega
  · rfl
/-! n + 1 pigeons, n holes -/
theorem qn_pig : ∀ (n : Nat) (g : Nat → Nat), (∀ i, i ≤ n → g i < n) → ∃ i j, i < j ∧ j ≤ n ∧ g i = g j := by
  intro n
  induction n with
  | zero => intro g h; exact absurd (h 0 (Nat.le_refl _)) (Nat.not_lt_zero _)
  | succ n ih =>
    intro g h
    by_cases hx : ∃ i, i ≤ n ∧ g i = g (n + 1)
    · obtain ⟨i, hi, e⟩ := hx
      exact ⟨i, n + 1, by omega, Nat.le_refl _, e⟩
    · have hx' : ∀ i, i ≤ n → g i ≠ g (n + 1) := fun i hi e => hx ⟨i, hi, e⟩
      have hn := h (n + 1) (Nat.le_refl _)
      obtain ⟨i, j, hij, hj, e⟩ := ih (fun i => if g i = n then g (n + 1) else g i) (by
        intro i hi
        have a := h i (by omega)
        have b := hx' i hi
        by_cases c : g i = n
        · rw [if_pos c]; omega
        · rw [if_neg c]; omega)
      refine ⟨i, j, hij, by omega, ?_⟩
      have a := hx' i (by omega)
      have b := hx' j (by omega)
      by_cases c : g i = n
      · by_cases d : g j = n
        · omega
        · rw [if_pos c, if_neg d] at e; omega
      · by_cases d : g j = n
        · rw [if_neg c, if_pos d] at e; omega
        · rw [if_neg c, if_neg d] at e; exact e
end
section
/-! the two graphs: X's greatest set of states, Y's carries; pure -/
def qg_Rch (R : Nat → Nat → Prop) (W G : Nat → Prop) (s : Nat) : Prop :=
  ∀ Z : Nat → Prop, (∀ t, G t → Z t) → (∀ t t', W t → R t t' → Z t' → Z t) → Z s
theorem qg_Rch_b {R : Nat → Nat → Prop} {W G : Nat → Prop} {s : Nat} (h : G s) : qg_Rch R W G s := fun _ a _ => a s h
theorem qg_Rch_s {R : Nat → Nat → Prop} {W G : Nat → Prop} {s t : Nat} (h : W s) (r : R s t) (g : qg_Rch R W G t) : qg_Rch R W G s :=
  fun Z a b => b s t h r (g Z a b)
theorem qg_Rch_m {R : Nat → Nat → Prop} {W G W' G' : Nat → Prop} (hW : ∀ t, W t → W' t) (hG : ∀ t, G t → G' t) {s : Nat} (g : qg_Rch R W G s) : qg_Rch R W' G' s :=
  g (qg_Rch R W' G') (fun _ h => qg_Rch_b (hG _ h)) (fun _ _ h r k => qg_Rch_s (hW _ h) r k)
def qg_Sh (R : Nat → Nat → Prop) (fair : Nat → Nat → Prop) (F : Nat → Prop) : Nat → Nat → Prop
  | 0 => fun s => F s ∧ ∃ s', R s s' ∧ F s'
  | k + 1 => fun s => qg_Sh R fair F k s ∧ ∃ s', R s s' ∧ qg_Rch R (qg_Sh R fair F k) (fun t => qg_Sh R fair F k t ∧ fair k t) s'
theorem qg_Sh_m {R : Nat → Nat → Prop} {fair : Nat → Nat → Prop} {F G : Nat → Prop} (h : ∀ s, F s → G s) : ∀ (k s : Nat), qg_Sh R fair F k s → qg_Sh R fair G k s := by
  intro k
  induction k with
  | zero => rintro s ⟨a, t, r, b⟩; exact ⟨h s a, t, r, h t b⟩
  | succ k ih =>
    rintro s ⟨a, t, r, b⟩
    exact ⟨ih s a, t, r, qg_Rch_m ih (fun x hx => ⟨ih x hx.1, hx.2⟩) b⟩
theorem qg_Sh_s {R : Nat → Nat → Prop} {fair : Nat → Nat → Prop} {F : Nat → Prop} : ∀ (k s : Nat), qg_Sh R fair F k s → F s := by
  intro k
  induction k with
  | zero => intro s h; exact h.1
  | succ k ih => intro s h; exact ih s h.1
theorem qg_Sh_0 {R : Nat → Nat → Prop} {fair : Nat → Nat → Prop} {F : Nat → Prop} : ∀ (k s : Nat), qg_Sh R fair F k s → ∃ s', R s s' ∧ F s' := by
  intro k
  induction k with
  | zero => intro s h; exact h.2
  | succ k ih => intro s h; exact ih s h.1
theorem qg_Sh_k {R : Nat → Nat → Prop} {fair : Nat → Nat → Prop} {F : Nat → Prop} {q : Nat} : ∀ (k s : Nat), q < k → qg_Sh R fair F k s → ∃ s', R s s' ∧ qg_Rch R F (fun t => F t ∧ fair q t) s' := by
  intro k
  induction k with
  | zero => intro s h; exact absurd h (Nat.not_lt_zero _)
  | succ k ih =>
    intro s hq h
    by_cases e : q = k
    · subst e
      obtain ⟨_, t, r, b⟩ := h
      exact ⟨t, r, qg_Rch_m (qg_Sh_s q) (fun x hx => ⟨qg_Sh_s q x hx.1, hx.2⟩) b⟩
    · exact ih s (by omega) h.1
def qg_Live (R : Nat → Nat → Prop) (fair : Nat → Nat → Prop) (U : Nat → Prop) (K : Nat) (s : Nat) : Prop :=
  ∃ F : Nat → Prop, (∀ t, F t → U t ∧ qg_Sh R fair F K t) ∧ F s
def qg_Pth (A : Nat) (nx ds : Nat → Nat → Nat) (c0 c d : Nat) : Prop :=
  ∀ Z : Nat → Nat → Prop, Z c0 0 → (∀ c d v, v < A → Z c d → Z (nx v c) (d ||| ds v c)) → Z c d
def qg_Pt1 (A : Nat) (nx ds : Nat → Nat → Nat) (c0 c' d' : Nat) : Prop :=
  ∃ c d v, qg_Pth A nx ds c0 c d ∧ v < A ∧ nx v c = c' ∧ (d ||| ds v c) = d'
def qg_Rec (A : Nat) (nx ds : Nat → Nat → Nat) (all c0 : Nat) : Prop := qg_Pt1 A nx ds c0 c0 all
def qg_Real (A : Nat) (nx ds : Nat → Nat → Nat) (all c : Nat) : Prop :=
  ∀ Z : Nat → Prop, (∀ c, c ≤ all → qg_Rec A nx ds all c → Z c) → (∀ c v, Z c → v < A → Z (nx v c)) → Z c
section
variable {A : Nat} {nx ds : Nat → Nat → Nat}
theorem qg_Pth_0 {c : Nat} : qg_Pth A nx ds c c 0 := fun _ a _ => a
theorem qg_Pth_s {c0 c d v : Nat} (h : qg_Pth A nx ds c0 c d) (hv : v < A) : qg_Pth A nx ds c0 (nx v c) (d ||| ds v c) :=
  fun Z a b => b c d v hv (h Z a b)
theorem qg_Pth_t {c0 c1 c2 d1 d2 : Nat} (h : qg_Pth A nx ds c0 c1 d1) (g : qg_Pth A nx ds c1 c2 d2) : qg_Pth A nx ds c0 c2 (d1 ||| d2) :=
  g (fun c d => qg_Pth A nx ds c0 c (d1 ||| d)) (by rw [Nat.or_zero]; exact h) (fun c d v hv k => by
    rw [← Nat.or_assoc]; exact qg_Pth_s k hv)
theorem qg_Pt1_p {c0 c d : Nat} (h : qg_Pt1 A nx ds c0 c d) : qg_Pth A nx ds c0 c d := by
  obtain ⟨c1, d1, v, p, hv, e, e2⟩ := h
  subst e; subst e2
  exact qg_Pth_s p hv
theorem qg_Pt1_t {c0 c1 c2 d1 d2 : Nat} (h : qg_Pth A nx ds c0 c1 d1) (g : qg_Pt1 A nx ds c1 c2 d2) : qg_Pt1 A nx ds c0 c2 (d1 ||| d2) := by
  obtain ⟨c, d, v, p, hv, e, e2⟩ := g
  exact ⟨c, d1 ||| d, v, qg_Pth_t h p, hv, e, by rw [Nat.or_assoc, e2]⟩
theorem qg_Pth_lt {K c0 c d : Nat} (hd : ∀ v c, ds v c < 2 ^ K) (h : qg_Pth A nx ds c0 c d) : d < 2 ^ K :=
  h (fun _ d => d < 2 ^ K) (Nat.two_pow_pos K) (fun _ _ _ _ k => Nat.or_lt_two_pow k (hd _ _))
theorem qg_Real_b {all c : Nat} (hc : c ≤ all) (h : qg_Rec A nx ds all c) : qg_Real A nx ds all c := fun _ a _ => a c hc h
theorem qg_Real_s {all c v : Nat} (h : qg_Real A nx ds all c) (hv : v < A) : qg_Real A nx ds all (nx v c) := fun Z a b => b c v (h Z a b) hv
theorem qg_Real_p {all c0 c d : Nat} (h : qg_Real A nx ds all c0) (p : qg_Pth A nx ds c0 c d) : qg_Real A nx ds all c :=
  p (fun c _ => qg_Real A nx ds all c) h (fun _ _ _ hv k => qg_Real_s k hv)
end
def qg_I (A K : Nat) (R fair : Nat → Nat → Prop) (U : Nat → Prop) (P : Nat → Nat → Nat) (C fc : Nat → Nat) : Prop :=
  (∀ s s', R s s' ↔ (U s ∧ U s' ∧ ∃ v, v < A ∧ s = P v (C s'))) ∧ (∀ v c, v < A → U (P v c)) ∧ (∀ s, C s < 2 ^ K) ∧ (∀ s, fc s < 2 ^ K) ∧
  (∀ v c q, v < A → q < K → (fair q (P v c) ↔ (fc (P v c)).testBit q = true)) ∧ (∀ s, U s → s < 64)
def qg_nx (P : Nat → Nat → Nat) (C : Nat → Nat) (v c : Nat) : Nat := C (P v c)
def qg_R (A : Nat) (P : Nat → Nat → Nat) (C fc : Nat → Nat) (K c : Nat) : Prop := qg_Real A (qg_nx P C) (qg_nx P fc) (2 ^ K - 1) c
def qg_F (A : Nat) (P : Nat → Nat → Nat) (C fc : Nat → Nat) (K s : Nat) : Prop :=
  ∃ v c, v < A ∧ qg_R A P C fc K c ∧ s = P v c
section
variable {A K : Nat} {R fair : Nat → Nat → Prop} {U : Nat → Prop} {P : Nat → Nat → Nat} {C fc : Nat → Nat}
theorem qg_T0 {c : Nat} (h : qg_R A P C fc K c) : ∃ s, qg_F A P C fc K s ∧ C s = c := by
  have h2 : qg_R A P C fc K c ∧ ∃ s, qg_F A P C fc K s ∧ C s = c := by
    refine h (fun c => qg_R A P C fc K c ∧ ∃ s, qg_F A P C fc K s ∧ C s = c) ?_ ?_
    · intro c hc r
      have rc : qg_R A P C fc K c := qg_Real_b hc r
      refine ⟨rc, ?_⟩
      obtain ⟨c1, d, v, p, hv, e, _⟩ := r
      exact ⟨P v c1, ⟨v, c1, hv, qg_Real_p rc p, rfl⟩, e⟩
    · intro c v hc hv
      exact ⟨qg_Real_s hc.1 hv, P v c, ⟨v, c, hv, hc.1, rfl⟩, rfl⟩
  exact h2.2
def qg_T (A : Nat) (R fair : Nat → Nat → Prop) (P : Nat → Nat → Nat) (C fc : Nat → Nat) (K q c : Nat) : Prop :=
  ∃ s, qg_F A P C fc K s ∧ C s = c ∧ qg_Rch R (qg_F A P C fc K) (fun t => qg_F A P C fc K t ∧ fair q t) s
theorem qg_Ts (H : qg_I A K R fair U P C fc) {q c v : Nat} (hc : qg_R A P C fc K c) (hv : v < A) (h : qg_T A R fair P C fc K q c) : qg_T A R fair P C fc K q (C (P v c)) := by
  obtain ⟨s, ⟨v1, c1, hv1, rc1, es⟩, e, r⟩ := h
  have f2 : qg_F A P C fc K (P v c) := ⟨v, c, hv, hc, rfl⟩
  refine ⟨P v c, f2, rfl, qg_Rch_s f2 ?_ r⟩
  refine (H.1 _ _).mpr ⟨H.2.1 v c hv, ?_, v, hv, by rw [e]⟩
  rw [es]; exact H.2.1 v1 c1 hv1
theorem qg_Tk (H : qg_I A K R fair U P C fc) {q c : Nat} (hq : q < K) (h : qg_R A P C fc K c) : qg_T A R fair P C fc K q c := by
  have h2 : qg_R A P C fc K c ∧ qg_T A R fair P C fc K q c := by
    refine h (fun c => qg_R A P C fc K c ∧ qg_T A R fair P C fc K q c) ?_ ?_
    · intro c0 hc r
      have rc : qg_R A P C fc K c0 := qg_Real_b hc r
      refine ⟨rc, ?_⟩
      have key : ∀ c d, qg_Pth A (qg_nx P C) (qg_nx P fc) c0 c d → qg_R A P C fc K c ∧ (d.testBit q = true → qg_T A R fair P C fc K q c) := by
        intro c d p
        refine p (fun c d => qg_R A P C fc K c ∧ (d.testBit q = true → qg_T A R fair P C fc K q c)) ?_ ?_
        · refine ⟨rc, fun z => ?_⟩
          rw [Nat.zero_testBit] at z; exact absurd z Bool.false_ne_true
        · intro c d v hv k
          refine ⟨qg_Real_s k.1 hv, fun z => ?_⟩
          rw [Nat.testBit_or, Bool.or_eq_true] at z
          rcases z with z | z
          · exact qg_Ts H k.1 hv (k.2 z)
          · have f2 : qg_F A P C fc K (P v c) := ⟨v, c, hv, k.1, rfl⟩
            exact ⟨P v c, f2, rfl, qg_Rch_b ⟨f2, (H.2.2.2.2.1 v c q hv hq).mpr z⟩⟩
      refine (key c0 (2 ^ K - 1) (qg_Pt1_p r)).2 ?_
      rw [Nat.testBit_two_pow_sub_one]; exact decide_eq_true hq
    · intro c v hc hv
      exact ⟨qg_Real_s hc.1 hv, qg_Ts H hc.1 hv hc.2⟩
  exact h2.2
theorem qg_FR (H : qg_I A K R fair U P C fc) {v c s : Nat} (hv : v < A) (f : qg_F A P C fc K s) (e : C s = c) : R (P v c) s := by
  obtain ⟨v1, c1, hv1, rc1, es⟩ := f
  exact (H.1 _ _).mpr ⟨H.2.1 v c hv, by rw [es]; exact H.2.1 v1 c1 hv1, v, hv, by rw [e]⟩
theorem qg_Fsh (H : qg_I A K R fair U P C fc) : ∀ k, k ≤ K → ∀ s, qg_F A P C fc K s → qg_Sh R fair (qg_F A P C fc K) k s := by
  intro k
  induction k with
  | zero =>
    intro _ s f
    obtain ⟨v, c, hv, rc, es⟩ := f
    obtain ⟨t, ft, e⟩ := qg_T0 rc
    exact ⟨⟨v, c, hv, rc, es⟩, t, by rw [es]; exact qg_FR H hv ft e, ft⟩
  | succ k ih =>
    intro hk s f
    have ih' := ih (by omega)
    refine ⟨ih' s f, ?_⟩
    obtain ⟨v, c, hv, rc, es⟩ := f
    obtain ⟨t, ft, e, r⟩ := qg_Tk H (q := k) (by omega) rc
    exact ⟨t, by rw [es]; exact qg_FR H hv ft e, qg_Rch_m ih' (fun x hx => ⟨ih' x hx.1, hx.2⟩) r⟩
/-! the other way: a set F that keeps itself -/
def qg_K (R fair : Nat → Nat → Prop) (U : Nat → Prop) (K : Nat) (F : Nat → Prop) : Prop := ∀ t, F t → U t ∧ qg_Sh R fair F K t
theorem qg_a (H : qg_I A K R fair U P C fc) {F : Nat → Prop} {q t : Nat} (h : qg_Rch R F (fun x => F x ∧ fair q x) t) :
    ∃ t0 d, F t0 ∧ fair q t0 ∧ qg_Pth A (qg_nx P C) (qg_nx P fc) (C t0) (C t) d := by
  refine h (fun t => ∃ t0 d, F t0 ∧ fair q t0 ∧ qg_Pth A (qg_nx P C) (qg_nx P fc) (C t0) (C t) d) ?_ ?_
  · intro t ht; exact ⟨t, 0, ht.1, ht.2, qg_Pth_0⟩
  · intro t t' _ r k
    obtain ⟨t0, d, f, fa, p⟩ := k
    obtain ⟨_, _, v, hv, e⟩ := (H.1 _ _).mp r
    refine ⟨t0, d ||| qg_nx P fc v (C t'), f, fa, ?_⟩
    have p2 := qg_Pth_s p hv
    have e2 : qg_nx P C v (C t') = C t := by unfold qg_nx; rw [← e]
    rw [e2] at p2; exact p2
theorem qg_1 (H : qg_I A K R fair U P C fc) {t t' : Nat} (r : R t t') : qg_Pt1 A (qg_nx P C) (qg_nx P fc) (C t') (C t) (fc t) := by
  obtain ⟨_, _, v, hv, e⟩ := (H.1 _ _).mp r
  refine ⟨C t', 0, v, qg_Pth_0, hv, ?_, ?_⟩
  · unfold qg_nx; rw [← e]
  · rw [Nat.zero_or]; unfold qg_nx; rw [← e]
theorem qg_b (H : qg_I A K R fair U P C fc) {F : Nat → Prop} (hF : qg_K R fair U K F) {q t : Nat} (hq : q < K) (ht : F t) :
    ∃ t0 d, F t0 ∧ qg_Pth A (qg_nx P C) (qg_nx P fc) (C t0) (C t) d ∧ d.testBit q = true := by
  obtain ⟨t1, r1, k1⟩ := qg_Sh_k K t hq (hF t ht).2
  obtain ⟨t2, d2, f2, fa, p2⟩ := qg_a H k1
  obtain ⟨t3, r3, f3⟩ := qg_Sh_0 K t2 (hF t2 f2).2
  have p3 := qg_Pt1_p (qg_1 H r3)
  have p1 := qg_Pt1_p (qg_1 H r1)
  refine ⟨t3, fc t2 ||| d2 ||| fc t, f3, qg_Pth_t (qg_Pth_t p3 p2) p1, ?_⟩
  obtain ⟨_, _, v, hv, e⟩ := (H.1 _ _).mp r3
  have b : (fc t2).testBit q = true := by
    have := (H.2.2.2.2.1 v (C t3) q hv hq).mp (by rw [← e]; exact fa)
    rw [← e] at this; exact this
  rw [Nat.testBit_or, Nat.testBit_or, b]; rfl
theorem qg_c (H : qg_I A K R fair U P C fc) {F : Nat → Prop} (hF : qg_K R fair U K F) {t : Nat} (ht : F t) : ∀ k, k ≤ K →
    ∃ t0 d, F t0 ∧ qg_Pt1 A (qg_nx P C) (qg_nx P fc) (C t0) (C t) d ∧ ∀ q, q < k → d.testBit q = true := by
  intro k
  induction k with
  | zero =>
    intro _
    obtain ⟨t1, r1, f1⟩ := qg_Sh_0 K t (hF t ht).2
    exact ⟨t1, fc t, f1, qg_1 H r1, fun q hq => absurd hq (Nat.not_lt_zero _)⟩
  | succ k ih =>
    intro hk
    obtain ⟨t1, d1, f1, p1, b1⟩ := ih (by omega)
    obtain ⟨t2, d2, f2, p2, b2⟩ := qg_b H hF (q := k) (by omega) f1
    refine ⟨t2, d2 ||| d1, f2, qg_Pt1_t p2 p1, fun q hq => ?_⟩
    rw [Nat.testBit_or]
    by_cases e : q = k
    · rw [e, b2]; rfl
    · rw [b1 q (by omega)]; exact Bool.or_true _
def qg_Fu (A : Nat) (P : Nat → Nat → Nat) (C fc : Nat → Nat) (K : Nat) (F : Nat → Prop) (t t0 : Nat) : Prop :=
  F t0 ∧ qg_Pt1 A (qg_nx P C) (qg_nx P fc) (C t0) (C t) (2 ^ K - 1)
theorem qg_d (H : qg_I A K R fair U P C fc) {F : Nat → Prop} (hF : qg_K R fair U K F) {t : Nat} (ht : F t) : ∃ t0, qg_Fu A P C fc K F t t0 := by
  obtain ⟨t0, d, f, p, b⟩ := qg_c H hF ht K (Nat.le_refl _)
  have hl : d < 2 ^ K := qg_Pth_lt (fun v c => H.2.2.2.1 (P v c)) (qg_Pt1_p p)
  have e : d = 2 ^ K - 1 := by
    apply Nat.eq_of_testBit_eq
    intro j
    rw [Nat.testBit_two_pow_sub_one]
    by_cases hj : j < K
    · rw [b j hj]; exact (decide_eq_true hj).symm
    · rw [Nat.testBit_lt_two_pow (Nat.lt_of_lt_of_le hl (Nat.pow_le_pow_right (by decide) (by omega)))]; exact (decide_eq_false hj).symm
  rw [e] at p
  exact ⟨t0, f, p⟩
theorem qg_Fut {F : Nat → Prop} {t t1 t2 : Nat} (h : qg_Fu A P C fc K F t t1) (g : qg_Fu A P C fc K F t1 t2) : qg_Fu A P C fc K F t t2 := by
  refine ⟨g.1, ?_⟩
  have := qg_Pt1_t (qg_Pt1_p g.2) h.2
  rw [Nat.or_self] at this; exact this
noncomputable def qg_it (f : Nat → Nat) : Nat → Nat → Nat
  | 0 => fun t => t
  | n + 1 => fun t => f (qg_it f n t)
theorem qg_e (H : qg_I A K R fair U P C fc) {F : Nat → Prop} (hF : qg_K R fair U K F) {t : Nat} (ht : F t) :
    ∃ t0, qg_Fu A P C fc K F t0 t0 ∧ (t = t0 ∨ qg_Fu A P C fc K F t t0) := by
  have hx : ∀ x, ∃ y, F x → qg_Fu A P C fc K F x y := by
    intro x
    by_cases h : F x
    · obtain ⟨y, hy⟩ := qg_d H hF h; exact ⟨y, fun _ => hy⟩
    · exact ⟨0, fun z => absurd z h⟩
  obtain ⟨f, hf⟩ : ∃ f : Nat → Nat, ∀ x, F x → qg_Fu A P C fc K F x (f x) := ⟨fun x => Classical.choose (hx x), fun x => Classical.choose_spec (hx x)⟩
  have hF2 : ∀ n, F (qg_it f n t) := by
    intro n
    induction n with
    | zero => exact ht
    | succ n ih => exact (hf _ ih).1
  have hst : ∀ i n, qg_Fu A P C fc K F (qg_it f i t) (qg_it f (i + n + 1) t) := by
    intro i n
    induction n with
    | zero => exact hf _ (hF2 i)
    | succ n ih => exact qg_Fut ih (hf _ (hF2 (i + n + 1)))
  obtain ⟨i, j, hij, hj, e⟩ := qn_pig 64 (fun n => qg_it f n t) (fun n _ => H.2.2.2.2.2 _ (hF _ (hF2 n)).1)
  obtain ⟨m, rfl⟩ : ∃ m, j = i + m + 1 := ⟨j - i - 1, by omega⟩
  have k := hst i m
  have e' : qg_it f i t = qg_it f (i + m + 1) t := e
  rw [← e'] at k
  refine ⟨qg_it f i t, k, ?_⟩
  cases i with
  | zero => exact Or.inl rfl
  | succ i =>
    have k2 := hst 0 i
    rw [Nat.zero_add] at k2
    exact Or.inr k2
theorem qg_FRl (H : qg_I A K R fair U P C fc) {F : Nat → Prop} (hF : qg_K R fair U K F) {t : Nat} (ht : F t) : qg_R A P C fc K (C t) := by
  obtain ⟨t0, k, h⟩ := qg_e H hF ht
  have r0 : qg_R A P C fc K (C t0) := qg_Real_b (by have := H.2.2.1 t0; omega) k.2
  rcases h with h | h
  · rw [h]; exact r0
  · exact qg_Real_p r0 (qg_Pt1_p h.2)
theorem qg_main (H : qg_I A K R fair U P C fc) (s : Nat) : qg_Live R fair U K s ↔ qg_F A P C fc K s := by
  constructor
  · rintro ⟨F, hF, fs⟩
    obtain ⟨t, r, ft⟩ := qg_Sh_0 K s (hF s fs).2
    obtain ⟨_, _, v, hv, e⟩ := (H.1 _ _).mp r
    exact ⟨v, C t, hv, qg_FRl H hF ft, e⟩
  · intro f
    refine ⟨qg_F A P C fc K, fun t ft => ⟨?_, qg_Fsh H K (Nat.le_refl _) t ft⟩, f⟩
    obtain ⟨v, c, hv, _, e⟩ := ft
    rw [e]; exact H.2.1 v c hv
end
end
section
/-! what a node says: pure -/
def qs_pl (k : Nat) (t a b : Bool) : Bool :=
  if k ≤ 2 then t else if k = 3 then true else if k = 4 then false else if k = 5 then !a else if k = 6 then a && b
  else if k = 7 then a || b else if k = 8 then !a || b else a == b
def qs_ts (k : Nat) (a b l : Bool) : Bool :=
  if k = 11 then a || l else if k = 12 then a && l else if k = 13 then b || (a && l) else if k = 14 then b && (a || l) else l
theorem qs_pl_cg {k : Nat} {t t' a a' b b' : Bool} (h0 : k ≤ 2 → t = t') (ha : 5 ≤ k → a = a') (hb : 6 ≤ k → b = b') : qs_pl k t a b = qs_pl k t' a' b' := by
  unfold qs_pl
  by_cases c : k ≤ 2
  · rw [if_pos c, if_pos c]; exact h0 c
  · rw [if_neg c, if_neg c]
    by_cases c3 : k = 3
    · rw [if_pos c3, if_pos c3]
    · rw [if_neg c3, if_neg c3]
      by_cases c4 : k = 4
      · rw [if_pos c4, if_pos c4]
      · rw [if_neg c4, if_neg c4]
        have e := ha (by omega)
        by_cases c5 : k = 5
        · rw [if_pos c5, if_pos c5, e]
        · have e2 := hb (by omega)
          rw [if_neg c5, if_neg c5, e, e2]
theorem qs_ts_cg {k : Nat} {a a' b b' l l' : Bool} (ha : 11 ≤ k → a = a') (hb : 13 ≤ k → b = b') (hl : l = l') : qs_ts k a b l = qs_ts k a' b' l' := by
  subst hl
  unfold qs_ts
  by_cases c : k = 11
  · rw [if_pos c, if_pos c, ha (by omega)]
  · rw [if_neg c, if_neg c]
    by_cases c2 : k = 12
    · rw [if_pos c2, if_pos c2, ha (by omega)]
    · rw [if_neg c2, if_neg c2]
      by_cases c3 : k = 13
      · rw [if_pos c3, if_pos c3, ha (by omega), hb (by omega)]
      · rw [if_neg c3, if_neg c3]
        by_cases c4 : k = 14
        · rw [if_pos c4, if_pos c4, ha (by omega), hb (by omega)]
        · rw [if_neg c4, if_neg c4]
/-! temporal nodes below n -/
def qs_cn (kd : Nat → Nat) : Nat → Nat
  | 0 => 0
  | n + 1 => qs_cn kd n + if 10 ≤ kd n then 1 else 0
theorem qs_cn_le {kd : Nat → Nat} {a b : Nat} (h : a ≤ b) : qs_cn kd a ≤ qs_cn kd b := by
  induction b with
  | zero => rw [Nat.le_zero.mp h]; exact Nat.le_refl _
  | succ b ih =>
    by_cases e : a = b + 1
    · rw [e]; exact Nat.le_refl _
    · rw [qs_cn]; have := ih (by omega); omega
theorem qs_cn_lt {kd : Nat → Nat} {a b : Nat} (h : a < b) (hk : 10 ≤ kd a) : qs_cn kd a < qs_cn kd b := by
  have h1 : qs_cn kd (a + 1) = qs_cn kd a + 1 := by rw [qs_cn, if_pos hk]
  have h2 := qs_cn_le (kd := kd) (a := a + 1) (b := b) h
  omega
theorem qs_cn_cg {kd kd' : Nat → Nat} {n : Nat} (h : ∀ i, i < n → kd i = kd' i) : qs_cn kd n = qs_cn kd' n := by
  induction n with
  | zero => rfl
  | succ n ih => rw [qs_cn, qs_cn, ih (fun i hi => h i (by omega)), h n (by omega)]
/-! a table filled in the order of the nodes -/
def qs_tb {α : Type} (st : Nat → (Nat → α) → α) (z : α) : Nat → Nat → α
  | 0 => fun _ => z
  | n + 1 => fun j => if j = n then st n (qs_tb st z n) else qs_tb st z n j
def qs_tv {α : Type} (st : Nat → (Nat → α) → α) (z : α) (i : Nat) : α := st i (qs_tb st z i)
theorem qs_tb_eq {α : Type} {st : Nat → (Nat → α) → α} {z : α} {n j : Nat} (h : j < n) : qs_tb st z n j = qs_tv st z j := by
  induction n with
  | zero => exact absurd h (Nat.not_lt_zero _)
  | succ n ih =>
    show (if j = n then st n (qs_tb st z n) else qs_tb st z n j) = _
    by_cases e : j = n
    · rw [if_pos e, e]; rfl
    · rw [if_neg e]; exact ih (by omega)
def qs_bin (k : Nat) : Prop := (6 ≤ k ∧ k ≤ 9) ∨ 13 ≤ k
def qs_WF (ap N K : Nat) (kd lf rt tn : Nat → Nat) : Prop :=
  (1 ≤ ap ∧ ap ≤ 3) ∧ N ≤ 24 ∧ ap + K ≤ 6 ∧
  (∀ i, i < N → kd i ≤ 14 ∧ (kd i ≤ 2 → kd i < ap) ∧ (5 ≤ kd i → lf i < i) ∧ (qs_bin (kd i) → rt i < i) ∧ (¬ 5 ≤ kd i → lf i = 0) ∧ (¬ qs_bin (kd i) → rt i = 0)) ∧
  qs_cn kd N = K ∧ (∀ i, i < N → 10 ≤ kd i → tn (qs_cn kd i) = i) ∧ (∀ q, q < K → tn q < N ∧ 10 ≤ kd (tn q) ∧ qs_cn kd (tn q) = q)
def qs_V (tr : Nat → Int64) (s i : Nat) : Bool := (tr i).toBitVec.getLsbD s
def qs_TR (ap N : Nat) (kd lf rt : Nat → Nat) (tr : Nat → Int64) : Prop :=
  ∀ i, i < N → ∀ s, s < 64 → qs_V tr s i = if kd i < 10 then qs_pl (kd i) (s.testBit (kd i)) (qs_V tr s (lf i)) (qs_V tr s (rt i)) else s.testBit (ap + qs_cn kd i)
def qs_es (kd lf rt : Nat → Nat) (v c i : Nat) (f : Nat → Bool) : Bool :=
  if kd i < 10 then qs_pl (kd i) (v.testBit (kd i)) (f (lf i)) (f (rt i)) else qs_ts (kd i) (f (lf i)) (f (rt i)) (c.testBit (qs_cn kd i))
def qs_E (kd lf rt : Nat → Nat) (v c : Nat) : Nat → Bool := qs_tv (qs_es kd lf rt v c) false
def qs_src (kd lf tn : Nat → Nat) (q : Nat) : Nat := if kd (tn q) = 10 then lf (tn q) else tn q
def qs_gl (kd lf rt tn : Nat → Nat) (q : Nat) : Nat := if kd (tn q) = 10 then tn q else if 13 ≤ kd (tn q) then rt (tn q) else lf (tn q)
def qs_yC (K : Nat) (kd lf tn : Nat → Nat) (f : Nat → Bool) : Nat := qb_cd (fun q => f (qs_src kd lf tn q)) K
def qs_yD (K : Nat) (kd lf rt tn : Nat → Nat) (f : Nat → Bool) : Nat := qb_cd (fun q => f (qs_gl kd lf rt tn q) == f (tn q)) K
def qs_P (ap K : Nat) (kd lf rt tn : Nat → Nat) (v c : Nat) : Nat :=
  qb_cd (fun j => if j < ap then v.testBit j else qs_E kd lf rt v c (tn (j - ap))) (ap + K)
def qs_R (ap K : Nat) (kd lf rt tn : Nat → Nat) (tr : Nat → Int64) (s s' : Nat) : Prop :=
  s < 2 ^ (ap + K) ∧ s' < 2 ^ (ap + K) ∧ ∀ q, q < K → qs_V tr s (tn q) = qs_ts (kd (tn q)) (qs_V tr s (lf (tn q))) (qs_V tr s (rt (tn q))) (qs_V tr s' (qs_src kd lf tn q))
def qs_fair (K : Nat) (kd lf rt tn : Nat → Nat) (tr : Nat → Int64) (q s : Nat) : Prop :=
  q < K → kd (tn q) = 10 ∨ ((kd (tn q) = 11 ∨ kd (tn q) = 13) ∧ (qs_V tr s (tn q) = false ∨ qs_V tr s (qs_gl kd lf rt tn q) = true)) ∨
    ((kd (tn q) = 12 ∨ kd (tn q) = 14) ∧ (qs_V tr s (tn q) = true ∨ qs_V tr s (qs_gl kd lf rt tn q) = false))
section
variable {ap N K : Nat} {kd lf rt tn : Nat → Nat} {tr : Nat → Int64}
theorem qs_srcN (H : qs_WF ap N K kd lf rt tn) {q : Nat} (hq : q < K) : qs_src kd lf tn q < N := by
  obtain ⟨_, _, _, h4, _, _, h7⟩ := H
  obtain ⟨a, b, _⟩ := h7 q hq
  have h := (h4 (tn q) a).2.2.1
  unfold qs_src
  split
  · exact Nat.lt_trans (h (by omega)) a
  · exact a
theorem qs_lfN (H : qs_WF ap N K kd lf rt tn) {i : Nat} (hi : i < N) : lf i < N := by
  obtain ⟨_, _, _, h4, _⟩ := H
  obtain ⟨_, _, a, _, b, _⟩ := h4 i hi
  by_cases c : 5 ≤ kd i
  · exact Nat.lt_trans (a c) hi
  · rw [b c]; omega
theorem qs_rtN (H : qs_WF ap N K kd lf rt tn) {i : Nat} (hi : i < N) : rt i < N := by
  obtain ⟨_, _, _, h4, _⟩ := H
  obtain ⟨_, _, _, a, _, b⟩ := h4 i hi
  by_cases c : qs_bin (kd i)
  · exact Nat.lt_trans (a c) hi
  · rw [b c]; omega
theorem qs_glN (H : qs_WF ap N K kd lf rt tn) {q : Nat} (hq : q < K) : qs_gl kd lf rt tn q < N := by
  obtain ⟨a, b, _⟩ := H.2.2.2.2.2.2 q hq
  unfold qs_gl
  split
  · exact a
  · split
    · exact qs_rtN H a
    · exact qs_lfN H a
theorem qs_El (H : qs_WF ap N K kd lf rt tn) (v c : Nat) {i : Nat} (hi : i < N) :
    qs_E kd lf rt v c i = if kd i < 10 then qs_pl (kd i) (v.testBit (kd i)) (qs_E kd lf rt v c (lf i)) (qs_E kd lf rt v c (rt i)) else qs_ts (kd i) (qs_E kd lf rt v c (lf i)) (qs_E kd lf rt v c (rt i)) (c.testBit (qs_cn kd i)) := by
  obtain ⟨_, _, _, h4, _⟩ := H
  obtain ⟨h14, _, a, b, _, _⟩ := h4 i hi
  show qs_es kd lf rt v c i (qs_tb (qs_es kd lf rt v c) false i) = _
  unfold qs_es
  by_cases k : kd i < 10
  · rw [if_pos k, if_pos k]
    refine qs_pl_cg (fun _ => rfl) (fun h => ?_) (fun h => ?_)
    · exact qs_tb_eq (a h)
    · exact qs_tb_eq (b (Or.inl ⟨h, by omega⟩))
  · rw [if_neg k, if_neg k]
    refine qs_ts_cg (fun h => ?_) (fun h => ?_) rfl
    · exact qs_tb_eq (a (by omega))
    · exact qs_tb_eq (b (Or.inr h))
theorem qs_Plt {v c : Nat} : qs_P ap K kd lf rt tn v c < 2 ^ (ap + K) := qb_cd_lt _ _
theorem qs_64 (H : qs_WF ap N K kd lf rt tn) : 2 ^ (ap + K) ≤ 64 := Nat.pow_le_pow_right (n := 2) (j := 6) (by decide) H.2.2.1
/-- the truths at the state P v c are what eval says of letter v and carry c -/
theorem qs_A (H : qs_WF ap N K kd lf rt tn) (T : qs_TR ap N kd lf rt tr) (v c : Nat) : ∀ i, i < N → qs_V tr (qs_P ap K kd lf rt tn v c) i = qs_E kd lf rt v c i := by
  intro i
  induction i using Nat.strongRecOn with
  | ind i ih =>
    intro hi
    have hs : qs_P ap K kd lf rt tn v c < 64 := Nat.lt_of_lt_of_le qs_Plt (qs_64 H)
    rw [T i hi _ hs, qs_El H v c hi]
    obtain ⟨h14, k2, a, b, _, _⟩ := H.2.2.2.1 i hi
    by_cases k : kd i < 10
    · rw [if_pos k, if_pos k]
      refine qs_pl_cg (fun h => ?_) (fun h => ?_) (fun h => ?_)
      · unfold qs_P; rw [qb_cd_bit]
        have := k2 h
        simp [this, show kd i < ap + K by omega]
      · exact ih _ (a h) (Nat.lt_trans (a h) hi)
      · have := b (Or.inl ⟨h, by omega⟩); exact ih _ this (Nat.lt_trans this hi)
    · rw [if_neg k, if_neg k]
      have hq : qs_cn kd i < K := by rw [← H.2.2.2.2.1]; exact qs_cn_lt hi (by omega)
      have e := H.2.2.2.2.2.1 i hi (by omega)
      unfold qs_P; rw [qb_cd_bit]
      have e1 : ¬ (ap + qs_cn kd i < ap) := by omega
      have e2 : ap + qs_cn kd i - ap = qs_cn kd i := by omega
      simp only [e1, if_false, e2, e, show ap + qs_cn kd i < ap + K by omega, decide_true, Bool.true_and]
      rw [qs_El H v c hi, if_neg k]
theorem qs_nx (H : qs_WF ap N K kd lf rt tn) (T : qs_TR ap N kd lf rt tr) (v c : Nat) : qs_yC K kd lf tn (qs_V tr (qs_P ap K kd lf rt tn v c)) = qs_yC K kd lf tn (qs_E kd lf rt v c) :=
  qb_cd_cg (fun q hq => qs_A H T v c _ (qs_srcN H hq))
theorem qs_ds (H : qs_WF ap N K kd lf rt tn) (T : qs_TR ap N kd lf rt tr) (v c : Nat) : qs_yD K kd lf rt tn (qs_V tr (qs_P ap K kd lf rt tn v c)) = qs_yD K kd lf rt tn (qs_E kd lf rt v c) :=
  qb_cd_cg (fun q hq => by rw [qs_A H T v c _ (qs_glN H hq), qs_A H T v c _ (H.2.2.2.2.2.2 q hq).1])
/-- a state with a successor is P of its letter and the successor's carry -/
theorem qs_B1 (H : qs_WF ap N K kd lf rt tn) (T : qs_TR ap N kd lf rt tr) {s s' : Nat} (r : qs_R ap K kd lf rt tn tr s s') :
    s = qs_P ap K kd lf rt tn (s % 2 ^ ap) (qs_yC K kd lf tn (qs_V tr s')) := by
  obtain ⟨hs, hs', hq⟩ := r
  have h64 := qs_64 H
  have key : ∀ i, i < N → qs_V tr s i = qs_E kd lf rt (s % 2 ^ ap) (qs_yC K kd lf tn (qs_V tr s')) i := by
    intro i
    induction i using Nat.strongRecOn with
    | ind i ih =>
      intro hi
      obtain ⟨h14, k2, a, b, _, _⟩ := H.2.2.2.1 i hi
      rw [qs_El H _ _ hi]
      by_cases k : kd i < 10
      · rw [T i hi s (by omega), if_pos k, if_pos k]
        refine qs_pl_cg (fun h => ?_) (fun h => ?_) (fun h => ?_)
        · rw [Nat.testBit_mod_two_pow]; simp [k2 h]
        · exact ih _ (a h) (Nat.lt_trans (a h) hi)
        · have := b (Or.inl ⟨h, by omega⟩); exact ih _ this (Nat.lt_trans this hi)
      · rw [if_neg k]
        have hc : qs_cn kd i < K := by rw [← H.2.2.2.2.1]; exact qs_cn_lt hi (by omega)
        have e := H.2.2.2.2.2.1 i hi (by omega)
        have g := hq _ hc
        rw [e] at g
        rw [g]
        refine qs_ts_cg (fun h => ?_) (fun h => ?_) ?_
        · exact ih _ (a (by omega)) (Nat.lt_trans (a (by omega)) hi)
        · have := b (Or.inr h); exact ih _ this (Nat.lt_trans this hi)
        · unfold qs_yC; rw [qb_cd_bit]; simp [hc]
  apply Nat.eq_of_testBit_eq
  intro j
  unfold qs_P
  rw [qb_cd_bit]
  by_cases h1 : j < ap
  · rw [Nat.testBit_mod_two_pow]; simp [h1, show j < ap + K by omega]
  · by_cases h2 : j < ap + K
    · obtain ⟨a, b, c⟩ := H.2.2.2.2.2.2 (j - ap) (by omega)
      have t := T _ a s (by omega)
      rw [if_neg (by omega), c, show ap + (j - ap) = j by omega, key _ a] at t
      simp only [h1, h2, if_false, decide_true, Bool.true_and]
      exact t.symm
    · rw [Nat.testBit_lt_two_pow (Nat.lt_of_lt_of_le hs (Nat.pow_le_pow_right (by decide) (by omega)))]
      simp [h2]
theorem qs_B2 (H : qs_WF ap N K kd lf rt tn) (T : qs_TR ap N kd lf rt tr) (v : Nat) {s' : Nat} (hs' : s' < 2 ^ (ap + K)) :
    qs_R ap K kd lf rt tn tr (qs_P ap K kd lf rt tn v (qs_yC K kd lf tn (qs_V tr s'))) s' := by
  refine ⟨qs_Plt, hs', fun q hq => ?_⟩
  obtain ⟨a, b, c⟩ := H.2.2.2.2.2.2 q hq
  rw [qs_A H T _ _ _ a, qs_A H T _ _ _ (qs_lfN H a), qs_A H T _ _ _ (qs_rtN H a), qs_El H _ _ a, if_neg (by omega), c]
  congr 1
  unfold qs_yC; rw [qb_cd_bit]; simp [hq]
theorem qs_Pmod (H : qs_WF ap N K kd lf rt tn) {v : Nat} (hv : v < 2 ^ ap) (c : Nat) : qs_P ap K kd lf rt tn v c % 2 ^ ap = v := by
  apply Nat.eq_of_testBit_eq
  intro j
  rw [Nat.testBit_mod_two_pow]
  unfold qs_P
  rw [qb_cd_bit]
  by_cases h1 : j < ap
  · simp [h1, show j < ap + K by omega]
  · rw [Nat.testBit_lt_two_pow (x := v) (Nat.lt_of_lt_of_le hv (Nat.pow_le_pow_right (by decide) (by omega)))]
    simp [h1]
theorem qs_fairI (H : qs_WF ap N K kd lf rt tn) (T : qs_TR ap N kd lf rt tr) (v c : Nat) {q : Nat} (hq : q < K) :
    qs_fair K kd lf rt tn tr q (qs_P ap K kd lf rt tn v c) ↔ (qs_yD K kd lf rt tn (qs_V tr (qs_P ap K kd lf rt tn v c))).testBit q = true := by
  obtain ⟨a, b, d⟩ := H.2.2.2.2.2.2 q hq
  have h14 := (H.2.2.2.1 _ a).1
  have e := qs_El H v c a
  rw [if_neg (by omega), ← qs_A H T v c _ a, ← qs_A H T v c _ (qs_lfN H a), ← qs_A H T v c _ (qs_rtN H a)] at e
  unfold qs_yD
  rw [qb_cd_bit]
  simp only [hq, decide_true, Bool.true_and]
  unfold qs_fair
  generalize hs : qs_P ap K kd lf rt tn v c = s at *
  unfold qs_gl
  generalize c.testBit (qs_cn kd (tn q)) = l at e
  rcases (by omega : kd (tn q) = 10 ∨ kd (tn q) = 11 ∨ kd (tn q) = 12 ∨ kd (tn q) = 13 ∨ kd (tn q) = 14) with k | k | k | k | k
  · simp [k, hq]
  all_goals
    rw [k] at e
    simp only [k]
    simp [qs_ts] at e
    rw [e]
    simp [hq]
    cases qs_V tr s (lf (tn q)) <;> cases qs_V tr s (rt (tn q)) <;> cases l <;> simp
theorem qs_I (H : qs_WF ap N K kd lf rt tn) (T : qs_TR ap N kd lf rt tr) :
    qg_I (2 ^ ap) K (qs_R ap K kd lf rt tn tr) (qs_fair K kd lf rt tn tr) (fun s => s < 2 ^ (ap + K)) (qs_P ap K kd lf rt tn) (fun s => qs_yC K kd lf tn (qs_V tr s)) (fun s => qs_yD K kd lf rt tn (qs_V tr s)) := by
  refine ⟨fun s s' => ⟨fun r => ⟨r.1, r.2.1, s % 2 ^ ap, Nat.mod_lt _ (Nat.two_pow_pos ap), qs_B1 H T r⟩, ?_⟩, fun v c _ => qs_Plt, fun s => qb_cd_lt _ _, fun s => qb_cd_lt _ _, fun v c q _ hq => qs_fairI H T v c hq, fun s hs => Nat.lt_of_lt_of_le hs (qs_64 H)⟩
  rintro ⟨_, h2, v, _, e⟩
  rw [e]; exact qs_B2 H T v h2
/-! Y's carries -/
def qs_Real (ap K : Nat) (kd lf rt tn : Nat → Nat) (c : Nat) : Prop :=
  qg_Real (2 ^ ap) (fun v c => qs_yC K kd lf tn (qs_E kd lf rt v c)) (fun v c => qs_yD K kd lf rt tn (qs_E kd lf rt v c)) (2 ^ K - 1) c
theorem qs_RealE (H : qs_WF ap N K kd lf rt tn) (T : qs_TR ap N kd lf rt tr) :
    qg_R (2 ^ ap) (qs_P ap K kd lf rt tn) (fun s => qs_yC K kd lf tn (qs_V tr s)) (fun s => qs_yD K kd lf rt tn (qs_V tr s)) K = qs_Real ap K kd lf rt tn := by
  have e1 : qg_nx (qs_P ap K kd lf rt tn) (fun s => qs_yC K kd lf tn (qs_V tr s)) = (fun v c => qs_yC K kd lf tn (qs_E kd lf rt v c)) := by
    funext v c; exact qs_nx H T v c
  have e2 : qg_nx (qs_P ap K kd lf rt tn) (fun s => qs_yD K kd lf rt tn (qs_V tr s)) = (fun v c => qs_yD K kd lf rt tn (qs_E kd lf rt v c)) := by
    funext v c; exact qs_ds H T v c
  funext c
  unfold qg_R qs_Real
  rw [e1, e2]
theorem qs_live (H : qs_WF ap N K kd lf rt tn) (T : qs_TR ap N kd lf rt tr) (s : Nat) :
    qg_Live (qs_R ap K kd lf rt tn tr) (qs_fair K kd lf rt tn tr) (fun s => s < 2 ^ (ap + K)) K s ↔ ∃ v c, v < 2 ^ ap ∧ qs_Real ap K kd lf rt tn c ∧ s = qs_P ap K kd lf rt tn v c := by
  rw [qg_main (qs_I H T) s]
  unfold qg_F
  rw [qs_RealE H T]
/-! some word there is: 0 0 0 .. -/
def qs_cs (kd lf rt : Nat → Nat) (i : Nat) (f : Nat → Bool) : Bool :=
  if kd i < 10 then qs_pl (kd i) false (f (lf i)) (f (rt i)) else if 13 ≤ kd i then f (rt i) else f (lf i)
def qs_cw (kd lf rt : Nat → Nat) : Nat → Bool := qs_tv (qs_cs kd lf rt) false
theorem qs_cl (H : qs_WF ap N K kd lf rt tn) {i : Nat} (hi : i < N) :
    qs_cw kd lf rt i = if kd i < 10 then qs_pl (kd i) false (qs_cw kd lf rt (lf i)) (qs_cw kd lf rt (rt i)) else if 13 ≤ kd i then qs_cw kd lf rt (rt i) else qs_cw kd lf rt (lf i) := by
  obtain ⟨_, _, _, h4, _⟩ := H
  obtain ⟨h14, _, a, b, _, _⟩ := h4 i hi
  show qs_cs kd lf rt i (qs_tb (qs_cs kd lf rt) false i) = _
  unfold qs_cs
  by_cases k : kd i < 10
  · rw [if_pos k, if_pos k]
    refine qs_pl_cg (fun _ => rfl) (fun h => ?_) (fun h => ?_)
    · exact qs_tb_eq (a h)
    · exact qs_tb_eq (b (Or.inl ⟨h, by omega⟩))
  · rw [if_neg k, if_neg k]
    by_cases g : 13 ≤ kd i
    · rw [if_pos g, if_pos g]; exact qs_tb_eq (b (Or.inr g))
    · rw [if_neg g, if_neg g]; exact qs_tb_eq (a (by omega))
theorem qs_cE (H : qs_WF ap N K kd lf rt tn) : ∀ i, i < N → qs_E kd lf rt 0 (qs_yC K kd lf tn (qs_cw kd lf rt)) i = qs_cw kd lf rt i := by
  intro i
  induction i using Nat.strongRecOn with
  | ind i ih =>
    intro hi
    obtain ⟨h14, k2, a, b, _, _⟩ := H.2.2.2.1 i hi
    rw [qs_El H _ _ hi]
    have e := qs_cl H hi
    by_cases k : kd i < 10
    · rw [if_pos k] at e ⊢
      rw [e]
      refine qs_pl_cg (fun _ => Nat.zero_testBit _) (fun h => ?_) (fun h => ?_)
      · exact ih _ (a h) (Nat.lt_trans (a h) hi)
      · have := b (Or.inl ⟨h, by omega⟩); exact ih _ this (Nat.lt_trans this hi)
    · rw [if_neg k] at e ⊢
      have hq : qs_cn kd i < K := by rw [← H.2.2.2.2.1]; exact qs_cn_lt hi (by omega)
      have et := H.2.2.2.2.2.1 i hi (by omega)
      have ea := ih _ (a (by omega)) (Nat.lt_trans (a (by omega)) hi)
      have ec : (qs_yC K kd lf tn (qs_cw kd lf rt)).testBit (qs_cn kd i) = qs_cw kd lf rt (if kd i = 10 then lf i else i) := by
        unfold qs_yC; rw [qb_cd_bit]; simp only [hq, decide_true, Bool.true_and, qs_src, et]
      rw [ec, ea]
      rcases (by omega : kd i = 10 ∨ kd i = 11 ∨ kd i = 12 ∨ kd i = 13 ∨ kd i = 14) with g | g | g | g | g
      · rw [g] at e ⊢; simp [qs_ts] at e ⊢; exact e.symm
      · rw [g] at e ⊢; simp [qs_ts] at e ⊢; rw [e]; simp
      · rw [g] at e ⊢; simp [qs_ts] at e ⊢; rw [e]; simp
      · have hb := b (Or.inr (by omega))
        rw [ih _ hb (Nat.lt_trans hb hi)]
        rw [g] at e ⊢; simp [qs_ts] at e ⊢; rw [e]; simp
      · have hb := b (Or.inr (by omega))
        rw [ih _ hb (Nat.lt_trans hb hi)]
        rw [g] at e ⊢; simp [qs_ts] at e ⊢; rw [e]; simp; exact fun z => Or.inr z
theorem qs_ne (H : qs_WF ap N K kd lf rt tn) : ∃ c, qs_Real ap K kd lf rt tn c := by
  refine ⟨qs_yC K kd lf tn (qs_cw kd lf rt), qg_Real_b (by have := qb_cd_lt (fun q => qs_cw kd lf rt (qs_src kd lf tn q)) K; unfold qs_yC; omega) ?_⟩
  refine ⟨qs_yC K kd lf tn (qs_cw kd lf rt), 0, 0, qg_Pth_0, Nat.two_pow_pos ap, ?_, ?_⟩
  · exact qb_cd_cg (fun q hq => qs_cE H _ (qs_srcN H hq))
  · rw [Nat.zero_or]
    refine qb_cd_all (fun q hq => ?_)
    obtain ⟨a, b, d⟩ := H.2.2.2.2.2.2 q hq
    rw [qs_cE H _ (qs_glN H hq), qs_cE H _ a]
    have e := qs_cl H a
    rw [if_neg (by omega)] at e
    unfold qs_gl
    by_cases k : kd (tn q) = 10
    · rw [if_pos k]; exact beq_self_eq_true _
    · rw [if_neg k]
      by_cases g : 13 ≤ kd (tn q)
      · rw [if_pos g] at e ⊢; rw [e]; exact beq_self_eq_true _
      · rw [if_neg g] at e ⊢; rw [e]; exact beq_self_eq_true _
theorem qs_Rlt {c : Nat} (h : qs_Real ap K kd lf rt tn c) : c < 2 ^ K :=
  h (fun c => c < 2 ^ K) (fun c hc _ => by have := Nat.two_pow_pos K; omega) (fun _ _ _ _ => qb_cd_lt _ _)
end
end
section
/-! X: small methods, each with a general post -/
abbrev qb_l (w : Int64) (s : Nat) : Bool := w.toBitVec.getLsbD s
theorem qb_lf {w : Int64} {s : Nat} (h : ¬ qb_m w s) : qb_l w s = false := Bool.eq_false_iff.mpr h
theorem qb_lm {w x : Int64} {s : Nat} : (qb_m w s ↔ qb_m x s) ↔ qb_l w s = qb_l x s := Bool.eq_iff_iff.symm
/-- a loop that collects a set -/
theorem xw_col (W : Nat → Int64 → Int32 → Prop) {post : Int64 → Prop} (p : Nat → Prop) (e : Nat) (he : e ≤ 64)
    (hx : ∀ n w, post w → W (n + 1) w (nI e))
    (ht : ∀ n w i, i < e → p i → W n (w ||| ((1 : Int64) <<< ((nI i).toInt64 &&& 63))) (nI (i + 1)) → W (n + 1) w (nI i))
    (hf : ∀ n w i, i < e → ¬ p i → W n w (nI (i + 1)) → W (n + 1) w (nI i))
    (h : ∀ w, (∀ s, s < 64 → (qb_m w s ↔ (s < e ∧ p s))) → post w) : ∃ n, W n 0 0 := by
  have key : ∀ d i w, i + d = e → (∀ s, s < 64 → (qb_m w s ↔ (s < i ∧ p s))) → W (d + 1) w (nI i) := by
    intro d
    induction d with
    | zero =>
      intro i w hi hw
      have : i = e := by omega
      subst this
      exact hx 0 w (h w hw)
    | succ d ih =>
      intro i w hi hw
      by_cases hp : p i
      · refine ht (d + 1) w i (by omega) hp (ih (i + 1) _ (by omega) (fun s hs => ?_))
        rw [qb_or, qb_one (by omega) hs, hw s hs]
        constructor
        · rintro (a | a)
          · exact ⟨by omega, a.2⟩
          · exact ⟨by omega, by rw [a]; exact hp⟩
        · rintro ⟨a, b⟩
          by_cases e : s = i
          · exact Or.inr e
          · exact Or.inl ⟨by omega, b⟩
      · refine hf (d + 1) w i (by omega) hp (ih (i + 1) _ (by omega) (fun s hs => ?_))
        rw [hw s hs]
        constructor
        · rintro ⟨a, b⟩; exact ⟨by omega, b⟩
        · rintro ⟨a, b⟩
          refine ⟨?_, b⟩
          by_cases e : s = i
          · rw [e] at b; exact absurd b hp
          · omega
  have k0 := key e 0 0 (Nat.zero_add e) (fun s hs => ⟨fun a => absurd a (qb_0 s), fun a => absurd a.1 (Nat.not_lt_zero _)⟩)
  exact ⟨e + 1, k0⟩
def qs_ar (k : Nat) : Nat := if k < 5 then 0 else if k = 5 ∨ (10 ≤ k ∧ k ≤ 12) then 1 else 2
section
variable {f_atomCount f_nodeLimit f_room f_span f_temporalLimit f_letterMask f_nodeCount f_temporalCount f_stackCount f_traceLen f_lassoLen f_lassoStart : Int32} {f_universe f_live : Int64} {f_ready f_wordLen f_wordStart : Int32} {a_kinds a_lefts a_rights : Nat → Int32} {a_truth : Nat → Int64} {a_temporalNodes a_stack a_trace a_lasso : Nat → Int32} {a_successors : Nat → Int64} {a_word : Nat → Int32} {a_values : Nat → Int64}
theorem xw_has {post : Int32 → Prop} {w : Int64} {e : Nat} (he : e < 64) (h : post (qb_i (qb_l w e))) : wpX_has post (f_atomCount, f_nodeLimit, f_room, f_span, f_temporalLimit, f_letterMask, f_nodeCount, f_temporalCount, f_stackCount, f_traceLen, f_lassoLen, f_lassoStart, f_universe, f_live, f_ready, f_wordLen, f_wordStart, a_kinds, a_lefts, a_rights, a_truth, a_temporalNodes, a_stack, a_trace, a_lasso, a_successors, a_word, a_values) w (nI e) := by
  unfold wpX_has; dsimp only
  refine ⟨fun z => ?_, fun z => ?_⟩
  · rw [qb_lf ((qb_has w he).mp z)] at h; exact h
  · have : qb_l w e = true := Classical.byContradiction (fun g => z ((qb_has w he).mpr g))
    rw [this] at h; exact h
theorem xw_isN0 {post : Int32 → Prop} {p0 : Int32} (h : p0 < 0 ∨ f_nodeCount ≤ p0) (k : post 0) : wpX_isNode post (f_atomCount, f_nodeLimit, f_room, f_span, f_temporalLimit, f_letterMask, f_nodeCount, f_temporalCount, f_stackCount, f_traceLen, f_lassoLen, f_lassoStart, f_universe, f_live, f_ready, f_wordLen, f_wordStart, a_kinds, a_lefts, a_rights, a_truth, a_temporalNodes, a_stack, a_trace, a_lasso, a_successors, a_word, a_values) p0 := by
  unfold wpX_isNode; dsimp only
  by_cases z : p0 < 0
  · exact br_t z k
  · exact br_f z (br_t (h.resolve_left z) k)
theorem xw_isN1 {post : Int32 → Prop} {N j : Nat} (hj : j < N) (hN : N ≤ 24) (k : post 1) : wpX_isNode post (f_atomCount, f_nodeLimit, f_room, f_span, f_temporalLimit, f_letterMask, nI N, f_temporalCount, f_stackCount, f_traceLen, f_lassoLen, f_lassoStart, f_universe, f_live, f_ready, f_wordLen, f_wordStart, a_kinds, a_lefts, a_rights, a_truth, a_temporalNodes, a_stack, a_trace, a_lasso, a_successors, a_word, a_values) (nI j) := by
  unfold wpX_isNode; dsimp only
  exact br_f (nI_pos (by omega)) (br_f (nI_ge hj (by omega)) k)
theorem xw_arity {post : Int32 → Prop} {k : Nat} (hk : k ≤ 14) (h : post (nI (qs_ar k))) : wpX_arity post (f_atomCount, f_nodeLimit, f_room, f_span, f_temporalLimit, f_letterMask, f_nodeCount, f_temporalCount, f_stackCount, f_traceLen, f_lassoLen, f_lassoStart, f_universe, f_live, f_ready, f_wordLen, f_wordStart, a_kinds, a_lefts, a_rights, a_truth, a_temporalNodes, a_stack, a_trace, a_lasso, a_successors, a_word, a_values) (nI k) := by
  unfold wpX_arity; dsimp only
  refine pk_le 5 k (fun a => ?_) (fun a => ?_)
  · refine pk_eq k 5 (fun b => ?_) (fun b => ?_)
    · subst b; exact h
    · refine pk_lt k 10 (fun c => ?_) (fun c => ?_)
      · have : qs_ar k = 2 := by unfold qs_ar; rw [if_neg (by omega), if_neg (by omega)]
        rw [this] at h; exact h
      · refine pk_lt 12 k (fun d => ?_) (fun d => ?_)
        · have : qs_ar k = 2 := by unfold qs_ar; rw [if_neg (by omega), if_neg (by omega)]
          rw [this] at h; exact h
        · have : qs_ar k = 1 := by unfold qs_ar; rw [if_neg (by omega), if_pos (by omega)]
          rw [this] at h; exact h
  · have : qs_ar k = 0 := by unfold qs_ar; rw [if_pos (by omega)]
    rw [this] at h; exact h
theorem xw_statesWithBit {post : Int64 → Prop} {b : Nat} (hb : b < 32) (h : ∀ w, (∀ s, s < 64 → qb_l w s = s.testBit b) → post w) : wpX_statesWithBit post (f_atomCount, f_nodeLimit, f_room, f_span, f_temporalLimit, f_letterMask, f_nodeCount, f_temporalCount, f_stackCount, f_traceLen, f_lassoLen, f_lassoStart, f_universe, f_live, f_ready, f_wordLen, f_wordStart, a_kinds, a_lefts, a_rights, a_truth, a_temporalNodes, a_stack, a_trace, a_lasso, a_successors, a_word, a_values) (nI b) := by
  unfold wpX_statesWithBit; dsimp only
  have cnd : ∀ i, i < 64 → (((nI i >>> (nI b &&& 31)) &&& 1) = 0 ↔ ¬ i.testBit b = true) := by
    intro i hi
    rw [qb_sh1 _ hb, qb_i0, qb_bn b hb, Bool.not_eq_true]
  refine xw_col (fun n w i => wX_statesWithBit_5 post (nI b) f_atomCount f_nodeLimit f_room f_span f_temporalLimit f_letterMask f_nodeCount f_temporalCount f_stackCount f_traceLen f_lassoLen f_lassoStart f_universe f_live f_ready f_wordLen f_wordStart a_kinds a_lefts a_rights a_truth a_temporalNodes a_stack a_trace a_lasso a_successors a_word a_values n w i) (fun s => s.testBit b = true) 64 (Nat.le_refl _)
    (fun n w hp => br_t (by decide) hp)
    (fun n w i hi hp hW => br_f (nI_ge (b := 64) hi (by decide)) (br_f (fun z => (cnd i hi).mp z hp) (nm_e (nm_r (nI_1 i) hW))))
    (fun n w i hi hp hW => br_f (nI_ge (b := 64) hi (by decide)) (br_t ((cnd i hi).mpr hp) (nm_r (nI_1 i) hW)))
    (fun w hw => h w (fun s hs => Bool.eq_iff_iff.mpr ((hw s hs).trans ⟨fun a => a.2, fun a => ⟨hs, a⟩⟩)))
theorem xw_statesWithLetter {post : Int64 → Prop} {ap v : Nat} (ha : ap ≤ 3) (hv : v < 64) (h : ∀ w, (∀ s, s < 64 → (qb_m w s ↔ s % 2 ^ ap = v)) → post w) : wpX_statesWithLetter post (f_atomCount, f_nodeLimit, f_room, f_span, f_temporalLimit, nI (2 ^ ap - 1), f_nodeCount, f_temporalCount, f_stackCount, f_traceLen, f_lassoLen, f_lassoStart, f_universe, f_live, f_ready, f_wordLen, f_wordStart, a_kinds, a_lefts, a_rights, a_truth, a_temporalNodes, a_stack, a_trace, a_lasso, a_successors, a_word, a_values) (nI v) := by
  unfold wpX_statesWithLetter; dsimp only
  have h8 : 2 ^ ap ≤ 8 := Nat.pow_le_pow_right (n := 2) (j := 3) (by decide) ha
  have cnd : ∀ i, i < 64 → ((nI i &&& nI (2 ^ ap - 1)) = nI v ↔ i % 2 ^ ap = v) := by
    intro i hi
    have hm : i % 2 ^ ap ≤ i := Nat.mod_le _ _
    rw [pk_andN (by omega) ap (pk_tn (by omega)), nI_eq (by omega) (by omega)]
  refine xw_col (fun n w i => wX_statesWithLetter_5 post (nI v) f_atomCount f_nodeLimit f_room f_span f_temporalLimit (nI (2 ^ ap - 1)) f_nodeCount f_temporalCount f_stackCount f_traceLen f_lassoLen f_lassoStart f_universe f_live f_ready f_wordLen f_wordStart a_kinds a_lefts a_rights a_truth a_temporalNodes a_stack a_trace a_lasso a_successors a_word a_values n w i) (fun s => s % 2 ^ ap = v) 64 (Nat.le_refl _)
    (fun n w hp => br_t (by decide) hp)
    (fun n w i hi hp hW => br_f (nI_ge (b := 64) hi (by decide)) (br_t ((cnd i hi).mpr hp) (nm_e (nm_r (nI_1 i) hW))))
    (fun n w i hi hp hW => br_f (nI_ge (b := 64) hi (by decide)) (br_f (fun z => hp ((cnd i hi).mp z)) (nm_r (nI_1 i) hW)))
    (fun w hw => h w (fun s hs => (hw s hs).trans ⟨fun a => a.2, fun a => ⟨hs, a⟩⟩))
theorem xw_before {post : Int64 → Prop} {x1 : Int64} (h : ∀ w, (∀ s, s < 64 → (qb_m w s ↔ ∃ s', qb_m (a_successors s) s' ∧ qb_m x1 s')) → post w) : wpX_before post (f_atomCount, f_nodeLimit, f_room, f_span, f_temporalLimit, f_letterMask, f_nodeCount, f_temporalCount, f_stackCount, f_traceLen, f_lassoLen, f_lassoStart, f_universe, f_live, f_ready, f_wordLen, f_wordStart, a_kinds, a_lefts, a_rights, a_truth, a_temporalNodes, a_stack, a_trace, a_lasso, a_successors, a_word, a_values) x1 := by
  unfold wpX_before; dsimp only
  have cnd : ∀ i, i < 64 → ((a_successors (nI i).toNatClampNeg &&& x1) = 0 ↔ ¬ ∃ s', qb_m (a_successors i) s' ∧ qb_m x1 s') := by
    intro i hi
    rw [nI_clamp (by omega), qb_z]
    constructor
    · rintro a ⟨s', m1, m2⟩
      exact a s' (qb_lt m1) ((qb_and _ _ _).mpr ⟨m1, m2⟩)
    · intro a s' _ m
      exact a ⟨s', (qb_and _ _ _).mp m⟩
  refine xw_col (fun n w i => wX_before_5 post x1 f_atomCount f_nodeLimit f_room f_span f_temporalLimit f_letterMask f_nodeCount f_temporalCount f_stackCount f_traceLen f_lassoLen f_lassoStart f_universe f_live f_ready f_wordLen f_wordStart a_kinds a_lefts a_rights a_truth a_temporalNodes a_stack a_trace a_lasso a_successors a_word a_values n w i) (fun s => ∃ s', qb_m (a_successors s) s' ∧ qb_m x1 s') 64 (Nat.le_refl _)
    (fun n w hp => br_t (by decide) hp)
    (fun n w i hi hp hW => br_f (nI_ge (b := 64) hi (by decide)) ⟨vp_in_nI hi (by decide), br_f (fun z => (cnd i hi).mp z hp) (nm_e (nm_r (nI_1 i) hW))⟩)
    (fun n w i hi hp hW => br_f (nI_ge (b := 64) hi (by decide)) ⟨vp_in_nI hi (by decide), br_t ((cnd i hi).mpr hp) (nm_r (nI_1 i) hW)⟩)
    (fun w hw => h w (fun s hs => (hw s hs).trans ⟨fun a => a.2, fun a => ⟨hs, a⟩⟩))
theorem qb_e1 : ∀ s, s < 64 → qb_l (-1) s = true := qb_m1b
theorem qb_e0 (s : Nat) : qb_l 0 s = false := qb_lf (qb_0 s)
theorem qb_en (x : Int64) {s : Nat} (h : s < 64) : qb_l (x ^^^ (-1)) s = !qb_l x s := by
  show (x ^^^ (-1)).toBitVec.getLsbD s = !(x.toBitVec.getLsbD s)
  rw [qb_xorb, qb_m1b s h]; cases x.toBitVec.getLsbD s <;> rfl
theorem qb_ea (x y : Int64) (s : Nat) : qb_l (x &&& y) s = (qb_l x s && qb_l y s) := by
  show (x &&& y).toBitVec.getLsbD s = _
  rw [Int64.toBitVec_and, BitVec.getLsbD_and]
theorem qb_eo (x y : Int64) (s : Nat) : qb_l (x ||| y) s = (qb_l x s || qb_l y s) := by
  show (x ||| y).toBitVec.getLsbD s = _
  rw [Int64.toBitVec_or, BitVec.getLsbD_or]
theorem xw_combine {post : Int64 → Prop} {k : Nat} (h3 : 3 ≤ k) (h9 : k ≤ 9) (t : Bool) {x y : Int64} (h : ∀ w, (∀ s, s < 64 → qb_l w s = qs_pl k t (qb_l x s) (qb_l y s)) → post w) : wpX_combine post (f_atomCount, f_nodeLimit, f_room, f_span, f_temporalLimit, f_letterMask, f_nodeCount, f_temporalCount, f_stackCount, f_traceLen, f_lassoLen, f_lassoStart, f_universe, f_live, f_ready, f_wordLen, f_wordStart, a_kinds, a_lefts, a_rights, a_truth, a_temporalNodes, a_stack, a_trace, a_lasso, a_successors, a_word, a_values) (nI k) x y := by
  unfold wpX_combine; dsimp only
  rcases (by omega : k = 3 ∨ k = 4 ∨ k = 5 ∨ k = 6 ∨ k = 7 ∨ k = 8 ∨ k = 9) with e | e | e | e | e | e | e <;> subst e
  · exact br_f (by decide) (br_f (by decide) (br_t rfl (h _ (fun s hs => qb_e1 s hs))))
  · exact br_f (by decide) (br_f (by decide) (br_f (by decide) (br_t rfl (h _ (fun s hs => qb_e0 s)))))
  · exact br_f (by decide) (br_f (by decide) (br_f (by decide) (br_f (by decide) (br_t rfl (h _ (fun s hs => qb_en x hs))))))
  · exact br_f (by decide) (br_f (by decide) (br_f (by decide) (br_f (by decide) (br_f (by decide) (br_t rfl (h _ (fun s hs => qb_ea x y s)))))))
  · exact br_f (by decide) (br_f (by decide) (br_f (by decide) (br_f (by decide) (br_f (by decide) (br_f (by decide) (br_t rfl (h _ (fun s hs => qb_eo x y s))))))))
  · exact br_f (by decide) (br_f (by decide) (br_f (by decide) (br_f (by decide) (br_f (by decide) (br_f (by decide) (br_f (by decide) (br_t rfl (h _ (fun s hs => by rw [qb_eo, qb_en x hs]; rfl)))))))))
  · refine br_f (by decide) (br_f (by decide) (br_f (by decide) (br_f (by decide) (br_f (by decide) (br_f (by decide) (br_f (by decide) (br_f (by decide) (br_t rfl (h _ (fun s hs => ?_))))))))))
    rw [qb_en _ hs]
    show (!(x ^^^ y).toBitVec.getLsbD s) = (x.toBitVec.getLsbD s == y.toBitVec.getLsbD s)
    rw [qb_xorb]
    cases x.toBitVec.getLsbD s <;> cases y.toBitVec.getLsbD s <;> rfl
def qw_side (k : Nat) (x : Int64) : Int64 := if k = 11 then -1 else if k = 12 then 0 else x
def qw_goal (k : Nat) (x y : Int64) : Int64 := if 12 < k then y else x
def qw_str (k : Nat) : Bool := decide (k = 11 ∨ k = 13)
def qw_unf (k : Nat) (sd gl l : Int64) : Int64 := if qw_str k = true then gl ||| (sd &&& l) else gl &&& (sd ||| l)
theorem xw_side {post : Int64 → Prop} {k : Nat} (hk : k ≤ 14) {x : Int64} (h : post (qw_side k x)) : wpX_sideSet post (f_atomCount, f_nodeLimit, f_room, f_span, f_temporalLimit, f_letterMask, f_nodeCount, f_temporalCount, f_stackCount, f_traceLen, f_lassoLen, f_lassoStart, f_universe, f_live, f_ready, f_wordLen, f_wordStart, a_kinds, a_lefts, a_rights, a_truth, a_temporalNodes, a_stack, a_trace, a_lasso, a_successors, a_word, a_values) (nI k) x := by
  unfold wpX_sideSet; dsimp only
  unfold qw_side at h
  refine pk_eq k 11 (fun a => ?_) (fun a => ?_)
  · rw [if_pos a] at h; exact h
  · rw [if_neg a] at h
    refine pk_eq k 12 (fun b => ?_) (fun b => ?_)
    · rw [if_pos b] at h; exact h
    · rw [if_neg b] at h; exact h
theorem xw_goal {post : Int64 → Prop} {k : Nat} (hk : k ≤ 14) {x y : Int64} (h : post (qw_goal k x y)) : wpX_goalSet post (f_atomCount, f_nodeLimit, f_room, f_span, f_temporalLimit, f_letterMask, f_nodeCount, f_temporalCount, f_stackCount, f_traceLen, f_lassoLen, f_lassoStart, f_universe, f_live, f_ready, f_wordLen, f_wordStart, a_kinds, a_lefts, a_rights, a_truth, a_temporalNodes, a_stack, a_trace, a_lasso, a_successors, a_word, a_values) (nI k) x y := by
  unfold wpX_goalSet; dsimp only
  unfold qw_goal at h
  refine pk_lt 12 k (fun a => ?_) (fun a => ?_)
  · rw [if_pos a] at h; exact h
  · rw [if_neg (by omega)] at h; exact h
theorem xw_str {post : Int32 → Prop} {k : Nat} (hk : k ≤ 14) (h : post (qb_i (qw_str k))) : wpX_isStrong post (f_atomCount, f_nodeLimit, f_room, f_span, f_temporalLimit, f_letterMask, f_nodeCount, f_temporalCount, f_stackCount, f_traceLen, f_lassoLen, f_lassoStart, f_universe, f_live, f_ready, f_wordLen, f_wordStart, a_kinds, a_lefts, a_rights, a_truth, a_temporalNodes, a_stack, a_trace, a_lasso, a_successors, a_word, a_values) (nI k) := by
  unfold wpX_isStrong; dsimp only
  unfold qw_str at h
  refine pk_eq k 11 (fun a => ?_) (fun a => ?_)
  · rw [decide_eq_true (Or.inl a)] at h; exact h
  · refine pk_eq k 13 (fun b => ?_) (fun b => ?_)
    · rw [decide_eq_true (Or.inr b)] at h; exact h
    · rw [decide_eq_false (by omega)] at h; exact h
theorem xw_unf {post : Int64 → Prop} {k : Nat} (hk : k ≤ 14) {sd gl l : Int64} (h : post (qw_unf k sd gl l)) : wpX_unfold post (f_atomCount, f_nodeLimit, f_room, f_span, f_temporalLimit, f_letterMask, f_nodeCount, f_temporalCount, f_stackCount, f_traceLen, f_lassoLen, f_lassoStart, f_universe, f_live, f_ready, f_wordLen, f_wordStart, a_kinds, a_lefts, a_rights, a_truth, a_temporalNodes, a_stack, a_trace, a_lasso, a_successors, a_word, a_values) (nI k) sd gl l := by
  unfold wpX_unfold; dsimp only
  unfold qw_unf at h
  refine xw_str hk (qb_c0 (fun a => ?_) (fun a => ?_))
  · rw [a] at h; exact h
  · rw [a] at h; exact h
theorem xw_swn {k : Nat} (hk : 11 ≤ k) (hk2 : k ≤ 14) (x y : Int64) {l : Int64} {s : Nat} (hs : s < 64) :
    qb_l (qw_unf k (qw_side k x) (qw_goal k x y) l) s = qs_ts k (qb_l x s) (qb_l y s) (qb_l l s) := by
  rcases (by omega : k = 11 ∨ k = 12 ∨ k = 13 ∨ k = 14) with e | e | e | e <;> subst e
  · show qb_l (x ||| ((-1) &&& l)) s = (qb_l x s || qb_l l s)
    rw [qb_eo, qb_ea, qb_e1 s hs, Bool.true_and]
  · show qb_l (x &&& (0 ||| l)) s = (qb_l x s && qb_l l s)
    rw [qb_ea, qb_eo, qb_e0, Bool.false_or]
  · show qb_l (y ||| (x &&& l)) s = (qb_l y s || (qb_l x s && qb_l l s))
    rw [qb_eo, qb_ea]
  · show qb_l (y &&& (x ||| l)) s = (qb_l y s && (qb_l x s || qb_l l s))
    rw [qb_ea, qb_eo]
theorem qs_tsm {k : Nat} (hk : 11 ≤ k) (hk2 : k ≤ 14) (a b l : Bool) : qs_ts k a b l = if qs_ts k a b false = qs_ts k a b true then qs_ts k a b false else l := by
  rcases (by omega : k = 11 ∨ k = 12 ∨ k = 13 ∨ k = 14) with e | e | e | e <;> subst e <;> cases a <;> cases b <;> cases l <;> rfl
theorem xw_allowed {post : Int64 → Prop} {i s a b k : Nat} (hi : i < 24) (hs : s < 64) (ek : a_kinds i = nI k) (el : a_lefts i = nI a) (er : a_rights i = nI b) (ha : a < 24) (hb : b < 24)
    (hk : 10 ≤ k) (hk2 : k ≤ 14) (h : ∀ w, (∀ s', s' < 64 → (qb_m w s' ↔ qb_l (a_truth i) s = qs_ts k (qb_l (a_truth a) s) (qb_l (a_truth b) s) (qb_l (a_truth (if k = 10 then a else i)) s'))) → post w) : wpX_allowed post (f_atomCount, f_nodeLimit, f_room, f_span, f_temporalLimit, f_letterMask, f_nodeCount, f_temporalCount, f_stackCount, f_traceLen, f_lassoLen, f_lassoStart, f_universe, f_live, f_ready, f_wordLen, f_wordStart, a_kinds, a_lefts, a_rights, a_truth, a_temporalNodes, a_stack, a_trace, a_lasso, a_successors, a_word, a_values) (nI i) (nI s) := by
  unfold wpX_allowed; dsimp only
  rw [nI_clamp (n := i) (by omega), ek, el, er, nI_clamp (n := a) (by omega), nI_clamp (n := b) (by omega)]
  have i24 : vp_in (nI i) 24 := vp_in_nI hi (by decide)
  refine ⟨i24, nm_e ⟨i24, vp_in_nI ha (by decide), nm_e ⟨i24, xw_has hs ?_⟩⟩⟩
  refine pk_eq k 10 (fun c => ?_) (fun c => ?_)
  · subst c
    rw [if_pos rfl] at h
    refine qb_c0 (fun d => h _ (fun s' hs' => ?_)) (fun d => h _ (fun s' hs' => ?_))
    · rw [qb_not _ hs', d]
      show ¬ qb_l (a_truth a) s' = true ↔ false = qb_l (a_truth a) s'
      cases qb_l (a_truth a) s' <;> simp
    · rw [d]
      show qb_l (a_truth a) s' = true ↔ true = qb_l (a_truth a) s'
      exact eq_comm
  · rw [if_neg c] at h
    refine xw_side hk2 ⟨i24, vp_in_nI hb (by decide), xw_goal hk2 (xw_unf hk2 (xw_unf hk2 (xw_has hs (xw_has hs ?_))))⟩
    rw [xw_swn (by omega) hk2 _ _ hs, xw_swn (by omega) hk2 _ _ hs, qb_e0, qb_e1 s hs]
    have tsm := fun l => qs_tsm (k := k) (by omega) hk2 (qb_l (a_truth a) s) (qb_l (a_truth b) s) l
    generalize qs_ts k (qb_l (a_truth a) s) (qb_l (a_truth b) s) false = lo at *
    generalize qs_ts k (qb_l (a_truth a) s) (qb_l (a_truth b) s) true = hi' at *
    refine br_c (fun d => ?_) (fun d => ?_)
    · have d' := (qb_ij _ _).mp d
      refine br_c (fun g => ?_) (fun g => ?_)
      · have g' := (qb_ij _ _).mp g
        refine h _ (fun s' hs' => ⟨fun _ => ?_, fun _ => qb_m1 hs'⟩)
        rw [tsm, if_pos d']; exact g'
      · refine h _ (fun s' hs' => ⟨fun z => absurd z (qb_0 s'), fun z => ?_⟩)
        rw [tsm, if_pos d'] at z
        exact absurd ((qb_ij _ _).mpr z) g
    · have d' : ¬ lo = hi' := fun z => d ((qb_ij _ _).mpr z)
      refine qb_c0 (fun g => ?_) (fun g => ?_)
      · refine ⟨i24, h _ (fun s' hs' => ?_)⟩
        rw [tsm, if_neg d', g, qb_not _ hs']
        show ¬ qb_l (a_truth i) s' = true ↔ false = qb_l (a_truth i) s'
        cases qb_l (a_truth i) s' <;> simp
      · refine ⟨i24, h _ (fun s' hs' => ?_)⟩
        rw [tsm, if_neg d', g]
        show qb_l (a_truth i) s' = true ↔ true = qb_l (a_truth i) s'
        exact eq_comm
theorem xw_fair {post : Int64 → Prop} {i a b k : Nat} (hi : i < 24) (ek : a_kinds i = nI k) (el : a_lefts i = nI a) (er : a_rights i = nI b) (ha : a < 24) (hb : b < 24)
    (hk : 10 ≤ k) (hk2 : k ≤ 14) (h : ∀ w, (∀ s, s < 64 → (qb_m w s ↔ (k = 10 ∨ ((k = 11 ∨ k = 13) ∧ (qb_l (a_truth i) s = false ∨ qb_l (a_truth (if 13 ≤ k then b else a)) s = true)) ∨ ((k = 12 ∨ k = 14) ∧ (qb_l (a_truth i) s = true ∨ qb_l (a_truth (if 13 ≤ k then b else a)) s = false))))) → post w) : wpX_fairStates post (f_atomCount, f_nodeLimit, f_room, f_span, f_temporalLimit, f_letterMask, f_nodeCount, f_temporalCount, f_stackCount, f_traceLen, f_lassoLen, f_lassoStart, f_universe, f_live, f_ready, f_wordLen, f_wordStart, a_kinds, a_lefts, a_rights, a_truth, a_temporalNodes, a_stack, a_trace, a_lasso, a_successors, a_word, a_values) (nI i) := by
  unfold wpX_fairStates; dsimp only
  rw [nI_clamp (n := i) (by omega), ek, el, er, nI_clamp (n := a) (by omega), nI_clamp (n := b) (by omega)]
  have i24 : vp_in (nI i) 24 := vp_in_nI hi (by decide)
  refine ⟨i24, nm_e (pk_eq k 10 (fun c => ?_) (fun c => ?_))⟩
  · exact h _ (fun s hs => ⟨fun _ => Or.inl c, fun _ => qb_m1 hs⟩)
  · refine ⟨i24, vp_in_nI ha (by decide), i24, vp_in_nI hb (by decide), xw_goal hk2 (xw_str hk2 ?_)⟩
    have eg : qw_goal k (a_truth a) (a_truth b) = a_truth (if 13 ≤ k then b else a) := by
      unfold qw_goal
      by_cases g : 12 < k
      · rw [if_pos g, if_pos (by omega)]
      · rw [if_neg g, if_neg (by omega)]
    rw [eg]
    refine qb_c0 (fun g => ⟨i24, h _ (fun s hs => ?_)⟩) (fun g => ⟨i24, h _ (fun s hs => ?_)⟩)
    · have g' : ¬ (k = 11 ∨ k = 13) := of_decide_eq_false g
      have g2 : k = 12 ∨ k = 14 := by omega
      rw [qb_or, qb_not _ hs]
      constructor
      · rintro (z | z)
        · exact Or.inr (Or.inr ⟨g2, Or.inl z⟩)
        · exact Or.inr (Or.inr ⟨g2, Or.inr (qb_lf z)⟩)
      · rintro (z | z | z)
        · exact absurd z c
        · exact absurd z.1 g'
        · rcases z.2 with y | y
          · exact Or.inl y
          · refine Or.inr (fun x => ?_)
            rw [show qb_l (a_truth (if 13 ≤ k then b else a)) s = true from x] at y
            exact absurd y (by decide)
    · have g' : k = 11 ∨ k = 13 := of_decide_eq_true g
      have g2 : ¬ (k = 12 ∨ k = 14) := by omega
      rw [qb_or, qb_not _ hs]
      constructor
      · rintro (z | z)
        · exact Or.inr (Or.inl ⟨g', Or.inl (qb_lf z)⟩)
        · exact Or.inr (Or.inl ⟨g', Or.inr z⟩)
      · rintro (z | z | z)
        · exact absurd z c
        · rcases z.2 with y | y
          · refine Or.inl (fun x => ?_)
            rw [show qb_l (a_truth i) s = true from x] at y
            exact absurd y (by decide)
          · exact Or.inr y
        · exact absurd z.1 g2
end
end
section
/-! X: the tableau -/
def xs_nd (N : Nat) (kd lf rt : Nat → Nat) (a_kinds a_lefts a_rights : Nat → Int32) : Prop :=
  ∀ i, i < N → a_kinds i = nI (kd i) ∧ a_lefts i = nI (lf i) ∧ a_rights i = nI (rt i)
def xs_tn (K : Nat) (tn : Nat → Nat) (a_temporalNodes : Nat → Int32) : Prop := ∀ q, q < K → a_temporalNodes q = nI (tn q)
def xs_R (a_successors : Nat → Int64) (s s' : Nat) : Prop := s < 64 ∧ qb_m (a_successors s) s'
def xs_cnt (w : Int64) : Nat := qn_c (fun s => qb_l w s) 64
section
variable {f_atomCount f_nodeLimit f_room f_span f_temporalLimit f_letterMask f_nodeCount f_temporalCount f_stackCount f_traceLen f_lassoLen f_lassoStart : Int32} {f_universe f_live : Int64} {f_ready f_wordLen f_wordStart : Int32} {a_kinds a_lefts a_rights : Nat → Int32} {a_truth : Nat → Int64} {a_temporalNodes a_stack a_trace a_lasso : Nat → Int32} {a_successors : Nat → Int64} {a_word : Nat → Int32} {a_values : Nat → Int64}
variable {ap N K : Nat} {kd lf rt tn : Nat → Nat}
theorem xw_succ8 {post : Int64 → Prop} {s : Nat} (H : qs_WF ap N K kd lf rt tn) (ND : xs_nd N kd lf rt a_kinds a_lefts a_rights) (TN : xs_tn K tn a_temporalNodes) (hs : s < 64)
    (h : ∀ w, (∀ s', s' < 64 → (qb_m w s' ↔ (s' < 2 ^ (ap + K) ∧ ∀ q, q < K → qs_V a_truth s (tn q) = qs_ts (kd (tn q)) (qs_V a_truth s (lf (tn q))) (qs_V a_truth s (rt (tn q))) (qs_V a_truth s' (qs_src kd lf tn q))))) → post w) :
    ∀ d k w, k + d = K → (∀ s', s' < 64 → (qb_m w s' ↔ (s' < 2 ^ (ap + K) ∧ ∀ q, q < k → qs_V a_truth s (tn q) = qs_ts (kd (tn q)) (qs_V a_truth s (lf (tn q))) (qs_V a_truth s (rt (tn q))) (qs_V a_truth s' (qs_src kd lf tn q))))) →
      wX_successorsOf_8 post (nI s) f_atomCount f_nodeLimit f_room f_span f_temporalLimit f_letterMask f_nodeCount (nI K) f_stackCount f_traceLen f_lassoLen f_lassoStart f_universe f_live f_ready f_wordLen f_wordStart a_kinds a_lefts a_rights a_truth a_temporalNodes a_stack a_trace a_lasso a_successors a_word a_values (d + 1) w (nI k) := by
  have hK : K ≤ 5 := by have := H.1; have := H.2.2.1; omega
  have hN := H.2.1
  intro d
  induction d with
  | zero =>
    intro k w hk hw
    have e : k = K := by omega
    subst e
    exact br_t (nI_le (Nat.le_refl _) (by omega)) (h w hw)
  | succ d ih =>
    intro k w hk hw
    refine br_f (nI_ge (by omega) (by omega)) ⟨vp_in_nI (by omega) (by decide), ?_⟩
    rw [nI_clamp (by omega), TN k (by omega)]
    obtain ⟨a, b, _⟩ := H.2.2.2.2.2.2 k (by omega)
    obtain ⟨e1, e2, e3⟩ := ND _ a
    have l := qs_lfN H a
    have r := qs_rtN H a
    refine xw_allowed (by omega) hs e1 e2 e3 (by omega) (by omega) b (H.2.2.2.1 _ a).1 (fun y hy => nm_e (nm_r (nI_1 k) (ih (k + 1) _ (by omega) (fun s' hs' => ?_))))
    rw [qb_and, hw s' hs', hy s' hs']
    constructor
    · rintro ⟨⟨z1, z2⟩, z3⟩
      refine ⟨z1, fun q hq => ?_⟩
      by_cases e : q = k
      · subst e; exact z3
      · exact z2 q (by omega)
    · rintro ⟨z1, z2⟩
      exact ⟨⟨z1, fun q hq => z2 q (by omega)⟩, z2 k (by omega)⟩
theorem xw_succOf {post : Int64 → Prop} {s : Nat} (H : qs_WF ap N K kd lf rt tn) (ND : xs_nd N kd lf rt a_kinds a_lefts a_rights) (TN : xs_tn K tn a_temporalNodes) (hs : s < 64)
    (hu : ∀ s, s < 64 → (qb_m f_universe s ↔ s < 2 ^ (ap + K)))
    (h : ∀ w, (∀ s', s' < 64 → (qb_m w s' ↔ (s' < 2 ^ (ap + K) ∧ ∀ q, q < K → qs_V a_truth s (tn q) = qs_ts (kd (tn q)) (qs_V a_truth s (lf (tn q))) (qs_V a_truth s (rt (tn q))) (qs_V a_truth s' (qs_src kd lf tn q))))) → post w) :
    wpX_successorsOf post (f_atomCount, f_nodeLimit, f_room, f_span, f_temporalLimit, f_letterMask, f_nodeCount, nI K, f_stackCount, f_traceLen, f_lassoLen, f_lassoStart, f_universe, f_live, f_ready, f_wordLen, f_wordStart, a_kinds, a_lefts, a_rights, a_truth, a_temporalNodes, a_stack, a_trace, a_lasso, a_successors, a_word, a_values) (nI s) := by
  unfold wpX_successorsOf; dsimp only
  refine ⟨K + 1, xw_succ8 H ND TN hs h K 0 _ (Nat.zero_add _) (fun s' hs' => ?_)⟩
  rw [hu s' hs']
  exact ⟨fun z => ⟨z, fun q hq => absurd hq (Nat.not_lt_zero _)⟩, fun z => z.1⟩
theorem xs_sub {x y : Int64} (h : ∀ s, qb_m x s → qb_m y s) (hne : ¬ y = x) : xs_cnt x < xs_cnt y := by
  have : ∃ s, s < 64 ∧ qb_m y s ∧ ¬ qb_m x s := by
    refine Classical.byContradiction (fun g => hne (qb_ext (fun s hs => ⟨fun a => ?_, h s⟩)))
    exact Classical.byContradiction (fun b => g ⟨s, hs, a, b⟩)
  obtain ⟨s, hs, a, b⟩ := this
  exact qn_strict (fun j _ z => h j z) hs (qb_lf b) a
theorem xw_reach9 {post : Int64 → Prop} {x1 g : Int64} (h : ∀ w, (∀ s, s < 64 → (qb_m w s ↔ qg_Rch (xs_R a_successors) (qb_m x1) (qb_m g) s)) → post w) :
    ∀ d r w m, r + d = 65 → (∀ s, qb_m w s → qg_Rch (xs_R a_successors) (qb_m x1) (qb_m g) s) → (∀ s, qb_m g s → qb_m w s) →
      (m = false → ∀ t t', qb_m x1 t → xs_R a_successors t t' → qb_m w t' → qb_m w t) → (m = true → r ≤ xs_cnt w) →
      wX_reaching_9 post x1 f_atomCount f_nodeLimit f_room f_span f_temporalLimit f_letterMask f_nodeCount f_temporalCount f_stackCount f_traceLen f_lassoLen f_lassoStart f_universe f_live f_ready f_wordLen f_wordStart a_kinds a_lefts a_rights a_truth a_temporalNodes a_stack a_trace a_lasso a_successors a_word a_values (d + 1) w (qb_i m) (nI r) := by
  have fin : ∀ w, (∀ s, qb_m w s → qg_Rch (xs_R a_successors) (qb_m x1) (qb_m g) s) → (∀ s, qb_m g s → qb_m w s) →
      (∀ t t', qb_m x1 t → xs_R a_successors t t' → qb_m w t' → qb_m w t) → post w := fun w a b c =>
    h w (fun s _ => ⟨a s, fun z => z (qb_m w) b c⟩)
  intro d
  induction d with
  | zero =>
    intro r w m hr a b c e
    have : r = 65 := by omega
    subst this
    refine br_t (by decide) (fin w a b (c ?_))
    cases m
    · rfl
    · have h1 := e rfl
      have h2 : xs_cnt w ≤ 64 := qn_le _ _
      omega
  | succ d ih =>
    intro r w m hr a b c e
    refine br_f (nI_nlt (a := 64) (by omega) (by decide)) (qb_c0 (fun z => fin w a b (c z)) (fun z => xw_before (fun y hy => nm_e ?_)))
    have hy' : ∀ s, qb_m (w ||| (x1 &&& y)) s ↔ (qb_m w s ∨ (qb_m x1 s ∧ ∃ s', xs_R a_successors s s' ∧ qb_m w s')) := by
      intro s
      rw [qb_or, qb_and]
      constructor
      · rintro (p | p)
        · exact Or.inl p
        · obtain ⟨s', q1, q2⟩ := (hy s (qb_lt p.1)).mp p.2
          exact Or.inr ⟨p.1, s', ⟨qb_lt p.1, q1⟩, q2⟩
      · rintro (p | p)
        · exact Or.inl p
        · obtain ⟨p1, s', q1, q2⟩ := p
          exact Or.inr ⟨p1, (hy s (qb_lt p1)).mpr ⟨s', q1.2, q2⟩⟩
    have a' : ∀ s, qb_m (w ||| (x1 &&& y)) s → qg_Rch (xs_R a_successors) (qb_m x1) (qb_m g) s := by
      intro s hs
      rcases (hy' s).mp hs with p | p
      · exact a s p
      · obtain ⟨p1, s', q1, q2⟩ := p
        exact qg_Rch_s p1 q1 (a s' q2)
    have b' : ∀ s, qb_m g s → qb_m (w ||| (x1 &&& y)) s := fun s hs => (hy' s).mpr (Or.inl (b s hs))
    refine br_c (fun k => nm_r (nI_1 r) ?_) (fun k => nm_r (nI_1 r) ?_)
    · refine ih (r + 1) _ false (by omega) a' b' (fun _ t t' p q u => ?_) (fun u => absurd u (by decide))
      rw [k] at u
      exact (hy' t).mpr (Or.inr ⟨p, t', q, u⟩)
    · refine ih (r + 1) _ true (by omega) a' b' (fun u => absurd u (by decide)) (fun _ => ?_)
      have := xs_sub (fun s hs => (hy' s).mpr (Or.inl hs)) k
      have := e z
      omega
theorem xw_reach {post : Int64 → Prop} {x1 g : Int64} (h : ∀ w, (∀ s, s < 64 → (qb_m w s ↔ qg_Rch (xs_R a_successors) (qb_m x1) (qb_m g) s)) → post w) : wpX_reaching post (f_atomCount, f_nodeLimit, f_room, f_span, f_temporalLimit, f_letterMask, f_nodeCount, f_temporalCount, f_stackCount, f_traceLen, f_lassoLen, f_lassoStart, f_universe, f_live, f_ready, f_wordLen, f_wordStart, a_kinds, a_lefts, a_rights, a_truth, a_temporalNodes, a_stack, a_trace, a_lasso, a_successors, a_word, a_values) x1 g := by
  unfold wpX_reaching; dsimp only
  exact ⟨66, xw_reach9 h 65 0 g true (by decide) (fun s hs => qg_Rch_b hs) (fun s hs => hs) (fun u => absurd u (by decide)) (fun _ => Nat.zero_le _)⟩
theorem xw_shr11 {post : Int64 → Prop} {st : Int64} (H : qs_WF ap N K kd lf rt tn) (ND : xs_nd N kd lf rt a_kinds a_lefts a_rights) (TN : xs_tn K tn a_temporalNodes)
    (h : ∀ w, (∀ s, s < 64 → (qb_m w s ↔ qg_Sh (xs_R a_successors) (qs_fair K kd lf rt tn a_truth) (qb_m st) K s)) → post w) :
    ∀ d k w, k + d = K → (∀ s, s < 64 → (qb_m w s ↔ qg_Sh (xs_R a_successors) (qs_fair K kd lf rt tn a_truth) (qb_m st) k s)) →
      wX_shrink_11 post f_atomCount f_nodeLimit f_room f_span f_temporalLimit f_letterMask f_nodeCount (nI K) f_stackCount f_traceLen f_lassoLen f_lassoStart f_universe f_live f_ready f_wordLen f_wordStart a_kinds a_lefts a_rights a_truth a_temporalNodes a_stack a_trace a_lasso a_successors a_word a_values (d + 1) w (nI k) := by
  have hK : K ≤ 5 := by have := H.1; have := H.2.2.1; omega
  have hN := H.2.1
  intro d
  induction d with
  | zero =>
    intro k w hk hw
    have e : k = K := by omega
    subst e
    exact br_t (nI_le (Nat.le_refl _) (by omega)) (h w hw)
  | succ d ih =>
    intro k w hk hw
    refine br_f (nI_ge (by omega) (by omega)) ⟨vp_in_nI (by omega) (by decide), ?_⟩
    rw [nI_clamp (by omega), TN k (by omega)]
    obtain ⟨a, b, _⟩ := H.2.2.2.2.2.2 k (by omega)
    obtain ⟨e1, e2, e3⟩ := ND _ a
    have l := qs_lfN H a
    have r := qs_rtN H a
    have ew : qb_m w = qg_Sh (xs_R a_successors) (qs_fair K kd lf rt tn a_truth) (qb_m st) k := by
      funext s
      refine propext ⟨fun z => (hw s (qb_lt z)).mp z, fun z => (hw s (qb_lt (qg_Sh_s k s z))).mpr z⟩
    refine xw_fair (by omega) e1 e2 e3 (by omega) (by omega) b (H.2.2.2.1 _ a).1 (fun f hf => nm_e (xw_reach (fun y hy => xw_before (fun p hp => nm_e (nm_r (nI_1 k) (ih (k + 1) _ (by omega) (fun s hs => ?_)))))))
    have ef : ∀ t, t < 64 → (qb_m f t ↔ qs_fair K kd lf rt tn a_truth k t) := by
      intro t ht
      rw [hf t ht]
      unfold qs_fair qs_gl
      have hkK : k < K := by omega
      by_cases c : kd (tn k) = 10
      · exact ⟨fun _ _ => Or.inl c, fun _ => Or.inl c⟩
      · rw [if_neg c]
        by_cases g : 13 ≤ kd (tn k)
        · rw [if_pos g]; exact ⟨fun z _ => z, fun z => z hkK⟩
        · rw [if_neg g]; exact ⟨fun z _ => z, fun z => z hkK⟩
    have eg : qb_m (w &&& f) = fun t => qg_Sh (xs_R a_successors) (qs_fair K kd lf rt tn a_truth) (qb_m st) k t ∧ qs_fair K kd lf rt tn a_truth k t := by
      funext t
      refine propext ?_
      rw [qb_and, ew]
      exact ⟨fun z => ⟨z.1, (ef t (qb_lt (qg_Sh_s k t z.1))).mp z.2⟩, fun z => ⟨z.1, (ef t (qb_lt (qg_Sh_s k t z.1))).mpr z.2⟩⟩
    rw [qb_and, hp s hs, hw s hs]
    show _ ↔ (qg_Sh _ _ _ k s ∧ ∃ s', _)
    rw [ew, eg] at hy
    constructor
    · rintro ⟨z1, s', z2, z3⟩
      exact ⟨z1, s', ⟨hs, z2⟩, (hy s' (qb_lt z3)).mp z3⟩
    · rintro ⟨z1, s', z2, z3⟩
      exact ⟨z1, s', z2.2, (hy s' (qb_lt z2.2)).mpr z3⟩
theorem xw_shrink {post : Int64 → Prop} {st : Int64} (H : qs_WF ap N K kd lf rt tn) (ND : xs_nd N kd lf rt a_kinds a_lefts a_rights) (TN : xs_tn K tn a_temporalNodes)
    (h : ∀ w, (∀ s, s < 64 → (qb_m w s ↔ qg_Sh (xs_R a_successors) (qs_fair K kd lf rt tn a_truth) (qb_m st) K s)) → post w) : wpX_shrink post (f_atomCount, f_nodeLimit, f_room, f_span, f_temporalLimit, f_letterMask, f_nodeCount, nI K, f_stackCount, f_traceLen, f_lassoLen, f_lassoStart, f_universe, f_live, f_ready, f_wordLen, f_wordStart, a_kinds, a_lefts, a_rights, a_truth, a_temporalNodes, a_stack, a_trace, a_lasso, a_successors, a_word, a_values) st := by
  unfold wpX_shrink; dsimp only
  refine xw_before (fun y hy => nm_e ⟨K + 1, xw_shr11 H ND TN h K 0 _ (Nat.zero_add _) (fun s hs => ?_)⟩)
  rw [qb_and, hy s hs]
  show _ ↔ (qb_m st s ∧ ∃ s', xs_R a_successors s s' ∧ qb_m st s')
  constructor
  · rintro ⟨z1, s', z2, z3⟩; exact ⟨z1, s', ⟨hs, z2⟩, z3⟩
  · rintro ⟨z1, s', z2, z3⟩; exact ⟨z1, s', z2.2, z3⟩
theorem xw_live10 {post : Int64 → Prop} (H : qs_WF ap N K kd lf rt tn) (ND : xs_nd N kd lf rt a_kinds a_lefts a_rights) (TN : xs_tn K tn a_temporalNodes)
    (h : ∀ w, (∀ s, s < 64 → (qb_m w s ↔ qg_Live (xs_R a_successors) (qs_fair K kd lf rt tn a_truth) (fun s => s < 2 ^ (ap + K)) K s)) → post w) :
    ∀ d r w m, r + d = 65 → (∀ s, qb_m w s → s < 2 ^ (ap + K)) →
      (∀ F : Nat → Prop, (∀ t, F t → t < 2 ^ (ap + K) ∧ qg_Sh (xs_R a_successors) (qs_fair K kd lf rt tn a_truth) F K t) → ∀ s, F s → qb_m w s) →
      (m = false → ∀ s, qb_m w s → qg_Sh (xs_R a_successors) (qs_fair K kd lf rt tn a_truth) (qb_m w) K s) → (m = true → xs_cnt w + r ≤ 64) →
      wX_liveStates_10 post f_atomCount f_nodeLimit f_room f_span f_temporalLimit f_letterMask f_nodeCount (nI K) f_stackCount f_traceLen f_lassoLen f_lassoStart f_universe f_live f_ready f_wordLen f_wordStart a_kinds a_lefts a_rights a_truth a_temporalNodes a_stack a_trace a_lasso a_successors a_word a_values (d + 1) w (qb_i m) (nI r) := by
  have fin : ∀ w, (∀ s, qb_m w s → s < 2 ^ (ap + K)) →
      (∀ F : Nat → Prop, (∀ t, F t → t < 2 ^ (ap + K) ∧ qg_Sh (xs_R a_successors) (qs_fair K kd lf rt tn a_truth) F K t) → ∀ s, F s → qb_m w s) →
      (∀ s, qb_m w s → qg_Sh (xs_R a_successors) (qs_fair K kd lf rt tn a_truth) (qb_m w) K s) → post w := fun w a b c =>
    h w (fun s _ => ⟨fun z => ⟨qb_m w, fun t ht => ⟨a t ht, c t ht⟩, z⟩, fun z => by obtain ⟨F, hF, fs⟩ := z; exact b F hF s fs⟩)
  intro d
  induction d with
  | zero =>
    intro r w m hr a b c e
    have : r = 65 := by omega
    subst this
    refine br_t (by decide) (fin w a b (c ?_))
    cases m
    · rfl
    · have h1 := e rfl
      omega
  | succ d ih =>
    intro r w m hr a b c e
    refine br_f (nI_nlt (a := 64) (by omega) (by decide)) (qb_c0 (fun z => fin w a b (c z)) (fun z => xw_shrink H ND TN (fun y hy => ?_)))
    have hy' : ∀ s, qb_m y s ↔ qg_Sh (xs_R a_successors) (qs_fair K kd lf rt tn a_truth) (qb_m w) K s := fun s =>
      ⟨fun q => (hy s (qb_lt q)).mp q, fun q => (hy s (qb_lt (qg_Sh_s K s q))).mpr q⟩
    have a' : ∀ s, qb_m y s → s < 2 ^ (ap + K) := fun s hs => a s (qg_Sh_s K s ((hy' s).mp hs))
    have b' : ∀ F : Nat → Prop, (∀ t, F t → t < 2 ^ (ap + K) ∧ qg_Sh (xs_R a_successors) (qs_fair K kd lf rt tn a_truth) F K t) → ∀ s, F s → qb_m y s := fun F hF s fs =>
      (hy' s).mpr (qg_Sh_m (b F hF) K s (hF s fs).2)
    refine br_c (fun k => nm_r (nI_1 r) ?_) (fun k => nm_r (nI_1 r) ?_)
    · refine ih (r + 1) _ false (by omega) a' b' (fun _ s hs => ?_) (fun u => absurd u (by decide))
      have := (hy' s).mp hs
      rw [← k] at this; exact this
    · refine ih (r + 1) _ true (by omega) a' b' (fun u => absurd u (by decide)) (fun _ => ?_)
      have := xs_sub (x := y) (y := w) (fun s hs => qg_Sh_s K s ((hy' s).mp hs)) (fun q => k q.symm)
      have := e z
      omega
theorem xw_live {post : Int64 → Prop} (H : qs_WF ap N K kd lf rt tn) (ND : xs_nd N kd lf rt a_kinds a_lefts a_rights) (TN : xs_tn K tn a_temporalNodes)
    (hu : ∀ s, s < 64 → (qb_m f_universe s ↔ s < 2 ^ (ap + K)))
    (h : ∀ w, (∀ s, s < 64 → (qb_m w s ↔ qg_Live (xs_R a_successors) (qs_fair K kd lf rt tn a_truth) (fun s => s < 2 ^ (ap + K)) K s)) → post w) : wpX_liveStates post (f_atomCount, f_nodeLimit, f_room, f_span, f_temporalLimit, f_letterMask, f_nodeCount, nI K, f_stackCount, f_traceLen, f_lassoLen, f_lassoStart, f_universe, f_live, f_ready, f_wordLen, f_wordStart, a_kinds, a_lefts, a_rights, a_truth, a_temporalNodes, a_stack, a_trace, a_lasso, a_successors, a_word, a_values) := by
  unfold wpX_liveStates; dsimp only
  have h64 := qs_64 H
  exact ⟨66, xw_live10 H ND TN h 65 0 f_universe true (by decide) (fun s hs => (hu s (qb_lt hs)).mp hs)
    (fun F hF s fs => (hu s (by have := (hF s fs).1; omega)).mpr (hF s fs).1) (fun u => absurd u (by decide)) (fun _ => qn_le _ _)⟩
def xs_RD (ap K : Nat) (kd lf rt tn : Nat → Nat) (tr a_successors : Nat → Int64) (f_live : Int64) : Prop :=
  (∀ s s', s < 64 → (qb_m (a_successors s) s' ↔ qs_R ap K kd lf rt tn tr s s')) ∧
  (∀ s, s < 64 → (qb_m f_live s ↔ qg_Live (qs_R ap K kd lf rt tn tr) (qs_fair K kd lf rt tn tr) (fun s => s < 2 ^ (ap + K)) K s))
theorem xs_RR (H : qs_WF ap N K kd lf rt tn) (h : ∀ s s', s < 64 → (qb_m (a_successors s) s' ↔ qs_R ap K kd lf rt tn a_truth s s')) : xs_R a_successors = qs_R ap K kd lf rt tn a_truth := by
  have h64 := qs_64 H
  funext s s'
  exact propext ⟨fun z => (h s s' z.1).mp z.2, fun z => ⟨by have := z.1; omega, (h s s' (by have := z.1; omega)).mpr z⟩⟩
theorem xw_refr43 {post : SX → Prop} (H : qs_WF ap N K kd lf rt tn) (ND : xs_nd N kd lf rt a_kinds a_lefts a_rights) (TN : xs_tn K tn a_temporalNodes)
    (hu : ∀ s, s < 64 → (qb_m f_universe s ↔ s < 2 ^ (ap + K)))
    (h : ∀ su li, xs_RD ap K kd lf rt tn a_truth su li → post (f_atomCount, f_nodeLimit, f_room, f_span, f_temporalLimit, f_letterMask, f_nodeCount, nI K, f_stackCount, f_traceLen, f_lassoLen, f_lassoStart, f_universe, li, 1, f_wordLen, f_wordStart, a_kinds, a_lefts, a_rights, a_truth, a_temporalNodes, a_stack, a_trace, a_lasso, su, a_word, a_values)) :
    ∀ d i su, i + d = 64 → (∀ s s', s < i → (qb_m (su s) s' ↔ qs_R ap K kd lf rt tn a_truth s s')) →
      wX_refresh_43 post f_atomCount f_nodeLimit f_room f_span f_temporalLimit f_letterMask f_nodeCount (nI K) f_stackCount f_traceLen f_lassoLen f_lassoStart f_universe f_live f_ready f_wordLen f_wordStart (d + 1) (nI i) a_kinds a_lefts a_rights a_truth a_temporalNodes a_stack a_trace a_lasso su a_word a_values := by
  have h64 := qs_64 H
  intro d
  induction d with
  | zero =>
    intro i su hi hw
    have : i = 64 := by omega
    subst this
    refine br_t (by decide) (xw_live H ND TN hu (fun w hl => h su w ⟨hw, ?_⟩))
    rw [xs_RR H hw] at hl
    exact hl
  | succ d ih =>
    intro i su hi hw
    have stp : ∀ w, (∀ s', s' < 64 → (qb_m w s' ↔ qs_R ap K kd lf rt tn a_truth i s')) → ∀ s s', s < i + 1 → (qb_m (vp_updL su i w s) s' ↔ qs_R ap K kd lf rt tn a_truth s s') := by
      intro w hw' s s' hs
      by_cases e : s = i
      · subst e
        rw [pk_uLs]
        exact ⟨fun z => (hw' s' (qb_lt z)).mp z, fun z => (hw' s' (by have := z.2.1; omega)).mpr z⟩
      · rw [pk_uLn e]; exact hw s s' (by omega)
    refine br_f (nI_ge (b := 64) (by omega) (by decide)) (xw_has (by omega) (qb_c0 (fun z => ⟨vp_in_nI (by omega) (by decide), ?_⟩) (fun z => ?_)))
    · rw [nI_clamp (by omega)]
      refine nm_e (nm_r (nI_1 i) (ih (i + 1) _ (by omega) (stp 0 (fun s' _ => ⟨fun q => absurd q (qb_0 s'), fun q => ?_⟩))))
      have := (hu i (by omega)).mpr q.1
      rw [show qb_l f_universe i = true from this] at z
      exact absurd z (by decide)
    · refine xw_succOf H ND TN (by omega) hu (fun w hw' => ⟨vp_in_nI (by omega) (by decide), ?_⟩)
      rw [nI_clamp (by omega)]
      refine nm_e (nm_r (nI_1 i) (ih (i + 1) _ (by omega) (stp w (fun s' hs' => ?_))))
      rw [hw' s' hs']
      have ui : i < 2 ^ (ap + K) := (hu i (by omega)).mp z
      exact ⟨fun q => ⟨ui, q.1, q.2⟩, fun q => q.2⟩
theorem xw_uni : ∀ b, b < 6 → ∀ s, s < 64 → qb_l (((1 : Int64) <<< (((1 : Int32) <<< (nI b &&& 31)).toInt64 &&& 63)) - 1) s = decide (s < 2 ^ b) := by decide +kernel
theorem xw_refresh {post : SX → Prop} (H : qs_WF ap N K kd lf rt tn) (ND : xs_nd N kd lf rt a_kinds a_lefts a_rights) (TN : xs_tn K tn a_temporalNodes)
    (hr : f_ready = 0 ∨ (f_ready = 1 ∧ xs_RD ap K kd lf rt tn a_truth a_successors f_live))
    (h : ∀ un su li, xs_RD ap K kd lf rt tn a_truth su li → post (nI ap, f_nodeLimit, f_room, f_span, f_temporalLimit, f_letterMask, f_nodeCount, nI K, f_stackCount, f_traceLen, f_lassoLen, f_lassoStart, un, li, 1, f_wordLen, f_wordStart, a_kinds, a_lefts, a_rights, a_truth, a_temporalNodes, a_stack, a_trace, a_lasso, su, a_word, a_values)) :
    wpX_refresh post (nI ap, f_nodeLimit, f_room, f_span, f_temporalLimit, f_letterMask, f_nodeCount, nI K, f_stackCount, f_traceLen, f_lassoLen, f_lassoStart, f_universe, f_live, f_ready, f_wordLen, f_wordStart, a_kinds, a_lefts, a_rights, a_truth, a_temporalNodes, a_stack, a_trace, a_lasso, a_successors, a_word, a_values) := by
  have hb := H.2.2.1
  unfold wpX_refresh; dsimp only
  rcases hr with e | ⟨e, rd⟩
  · subst e
    refine br_t rfl (nm_r (nI_add ap K) (pk_lt (ap + K) 6 (fun c => nm_e ?_) (fun c => ?_)))
    · refine ⟨65, xw_refr43 H ND TN (fun s hs => ?_) (fun su li => h _ su li) 64 0 a_successors (by decide) (fun s s' hs => absurd hs (Nat.not_lt_zero _))⟩
      show qb_l _ s = true ↔ _
      rw [xw_uni _ c s hs, decide_eq_true_iff]
    · refine ⟨65, xw_refr43 H ND TN (fun s hs => ?_) (fun su li => h _ su li) 64 0 a_successors (by decide) (fun s s' hs => absurd hs (Nat.not_lt_zero _))⟩
      have e6 : ap + K = 6 := by omega
      rw [e6]
      exact ⟨fun _ => hs, fun _ => qb_m1 hs⟩
  · subst e
    exact br_f (by decide) (h _ _ _ rd)
end
end
section
/-! X: start states, outlook, mix, moves -/
def qs_fr (ap K : Nat) (kd lf rt tn : Nat → Nat) (tr : Nat → Int64) (t : Nat → Nat) : Nat → Nat → Nat
  | 0 => fun s => s
  | j + 1 => fun s => qs_fr ap K kd lf rt tn tr t j (qs_P ap K kd lf rt tn (t j) (qs_yC K kd lf tn (qs_V tr s)))
theorem qs_frlt {ap K : Nat} {kd lf rt tn : Nat → Nat} {tr : Nat → Int64} {t : Nat → Nat} : ∀ j s, s < 2 ^ (ap + K) → qs_fr ap K kd lf rt tn tr t j s < 2 ^ (ap + K) := by
  intro j
  induction j with
  | zero => intro s hs; exact hs
  | succ j ih => intro s _; exact ih _ qs_Plt
/-- a state at position 0 of a word that begins with the trace -/
def qs_S (ap K : Nat) (kd lf rt tn : Nat → Nat) (tr : Nat → Int64) (t : Nat → Nat) (tl : Nat) (v s : Nat) : Prop :=
  ∃ c, qs_Real ap K kd lf rt tn c ∧ s = qs_fr ap K kd lf rt tn tr t tl (qs_P ap K kd lf rt tn v c)
def qs_pr (x y : Bool) : Nat := 2 * x.toNat + y.toNat
section
variable {f_atomCount f_nodeLimit f_room f_span f_temporalLimit f_letterMask f_nodeCount f_temporalCount f_stackCount f_traceLen f_lassoLen f_lassoStart : Int32} {f_universe f_live : Int64} {f_ready f_wordLen f_wordStart : Int32} {a_kinds a_lefts a_rights : Nat → Int32} {a_truth : Nat → Int64} {a_temporalNodes a_stack a_trace a_lasso : Nat → Int32} {a_successors : Nat → Int64} {a_word : Nat → Int32} {a_values : Nat → Int64}
variable {ap N K tl : Nat} {kd lf rt tn t : Nat → Nat}
theorem xw_st29 {post : Int64 → SX → Prop} (H : qs_WF ap N K kd lf rt tn) (T : qs_TR ap N kd lf rt a_truth) (ht : ∀ i, i < tl → a_trace i = nI (t i) ∧ t i < 2 ^ ap) (h8 : tl ≤ 8)
    (rd : xs_RD ap K kd lf rt tn a_truth a_successors f_live) :
    ∀ j w, j ≤ tl → (∀ s, qb_m w s → s < 2 ^ (ap + K)) →
      (∀ w', (∀ s, s < 64 → (qb_m w' s ↔ ∃ s0, qb_m w s0 ∧ s = qs_fr ap K kd lf rt tn a_truth t j s0)) → post w' (f_atomCount, f_nodeLimit, f_room, f_span, f_temporalLimit, nI (2 ^ ap - 1), f_nodeCount, f_temporalCount, f_stackCount, f_traceLen, f_lassoLen, f_lassoStart, f_universe, f_live, f_ready, f_wordLen, f_wordStart, a_kinds, a_lefts, a_rights, a_truth, a_temporalNodes, a_stack, a_trace, a_lasso, a_successors, a_word, a_values)) →
      wX_startStates_29 post f_atomCount f_nodeLimit f_room f_span f_temporalLimit (nI (2 ^ ap - 1)) f_nodeCount f_temporalCount f_stackCount f_traceLen f_lassoLen f_lassoStart f_universe f_live f_ready f_wordLen f_wordStart a_kinds a_lefts a_rights a_truth a_temporalNodes a_stack a_trace a_lasso a_successors a_word a_values (j + 1) w (nI j - 1) := by
  have h64 := qs_64 H
  have hap : 2 ^ ap ≤ 8 := Nat.pow_le_pow_right (n := 2) (j := 3) (by decide) H.1.2
  intro j
  induction j with
  | zero =>
    intro w _ hw h
    refine br_t (by decide) (h w (fun s _ => ⟨fun z => ⟨s, z, rfl⟩, fun z => ?_⟩))
    obtain ⟨s0, z, e⟩ := z
    rw [e]; exact z
  | succ j ih =>
    intro w hj hw h
    obtain ⟨e1, e2⟩ := ht j (by omega)
    rw [nI_pred]
    refine br_f (nI_pos (by omega)) (xw_before (fun y hy => ⟨vp_in_nI (by omega) (by decide), ?_⟩))
    rw [nI_clamp (by omega), e1]
    refine xw_statesWithLetter H.1.2 (by omega) (fun z hz => nm_e (nm_r (Int32.sub_eq_add_neg (a := nI j) (b := 1)).symm ?_))
    have key : ∀ s, qb_m (y &&& z) s ↔ ∃ s', qb_m w s' ∧ s = qs_P ap K kd lf rt tn (t j) (qs_yC K kd lf tn (qs_V a_truth s')) := by
      intro s
      rw [qb_and]
      constructor
      · rintro ⟨m1, m2⟩
        have hs := qb_lt m1
        obtain ⟨s', r, m⟩ := (hy s hs).mp m1
        have r' := (rd.1 s s' hs).mp r
        have e := qs_B1 H T r'
        rw [(hz s hs).mp m2] at e
        exact ⟨s', m, e⟩
      · rintro ⟨s', m, e⟩
        have r := qs_B2 H T (t j) (hw s' m)
        rw [← e] at r
        have hs : s < 64 := by have := r.1; omega
        refine ⟨(hy s hs).mpr ⟨s', (rd.1 s s' hs).mpr r, m⟩, (hz s hs).mpr ?_⟩
        rw [e]; exact qs_Pmod H e2 _
    refine ih (y &&& z) (by omega) (fun s hs => ?_) (fun w' hw' => h w' (fun s hs => ?_))
    · obtain ⟨s', _, e⟩ := (key s).mp hs
      rw [e]; exact qs_Plt
    · rw [hw' s hs]
      constructor
      · rintro ⟨s0, m, e⟩
        obtain ⟨s', m', e'⟩ := (key s0).mp m
        exact ⟨s', m', by rw [e, e']; rfl⟩
      · rintro ⟨s', m', e⟩
        exact ⟨_, (key _).mpr ⟨s', m', rfl⟩, e⟩
theorem xw_startN {post : Int64 → SX → Prop} (H : qs_WF ap N K kd lf rt tn) (ND : xs_nd N kd lf rt a_kinds a_lefts a_rights) (TN : xs_tn K tn a_temporalNodes) (T : qs_TR ap N kd lf rt a_truth)
    (ht : ∀ i, i < tl → a_trace i = nI (t i) ∧ t i < 2 ^ ap) (h8 : tl ≤ 8)
    (hr : f_ready = 0 ∨ (f_ready = 1 ∧ xs_RD ap K kd lf rt tn a_truth a_successors f_live))
    (h : ∀ un su li w, xs_RD ap K kd lf rt tn a_truth su li → (∀ s, s < 64 → (qb_m w s ↔ ∃ v, v < 2 ^ ap ∧ qs_S ap K kd lf rt tn a_truth t tl v s)) →
      post w (nI ap, f_nodeLimit, f_room, f_span, f_temporalLimit, nI (2 ^ ap - 1), f_nodeCount, nI K, f_stackCount, nI tl, f_lassoLen, f_lassoStart, un, li, 1, f_wordLen, f_wordStart, a_kinds, a_lefts, a_rights, a_truth, a_temporalNodes, a_stack, a_trace, a_lasso, su, a_word, a_values)) :
    wpX_startStates post (nI ap, f_nodeLimit, f_room, f_span, f_temporalLimit, nI (2 ^ ap - 1), f_nodeCount, nI K, f_stackCount, nI tl, f_lassoLen, f_lassoStart, f_universe, f_live, f_ready, f_wordLen, f_wordStart, a_kinds, a_lefts, a_rights, a_truth, a_temporalNodes, a_stack, a_trace, a_lasso, a_successors, a_word, a_values) (-1) := by
  have h64 := qs_64 H
  unfold wpX_startStates; dsimp only
  refine xw_refresh H ND TN hr (fun un su li rd => ?_)
  dsimp only
  refine br_t (by decide) (nm_e ⟨tl + 1, xw_st29 H T ht h8 rd tl li (Nat.le_refl _) (fun s hs => ?_) (fun w hw => h un su li w rd (fun s hs => ?_))⟩)
  · obtain ⟨v, c, _, _, e⟩ := (qs_live H T s).mp ((rd.2 s (qb_lt hs)).mp hs)
    rw [e]; exact qs_Plt
  · rw [hw s hs]
    constructor
    · rintro ⟨s0, m, e⟩
      obtain ⟨v, c, hv, rc, e0⟩ := (qs_live H T s0).mp ((rd.2 s0 (qb_lt m)).mp m)
      exact ⟨v, hv, c, rc, by rw [e, e0]⟩
    · rintro ⟨v, hv, c, rc, e⟩
      have hp : qs_P ap K kd lf rt tn v c < 64 := Nat.lt_of_lt_of_le qs_Plt h64
      exact ⟨_, (rd.2 _ hp).mpr ((qs_live H T _).mpr ⟨v, c, hv, rc, rfl⟩), e⟩
theorem xw_startV {post : Int64 → SX → Prop} {v : Nat} (hv : v < 2 ^ ap) (H : qs_WF ap N K kd lf rt tn) (ND : xs_nd N kd lf rt a_kinds a_lefts a_rights) (TN : xs_tn K tn a_temporalNodes) (T : qs_TR ap N kd lf rt a_truth)
    (ht : ∀ i, i < tl → a_trace i = nI (t i) ∧ t i < 2 ^ ap) (h8 : tl ≤ 8)
    (hr : f_ready = 0 ∨ (f_ready = 1 ∧ xs_RD ap K kd lf rt tn a_truth a_successors f_live))
    (h : ∀ un su li w, xs_RD ap K kd lf rt tn a_truth su li → (∀ s, s < 64 → (qb_m w s ↔ qs_S ap K kd lf rt tn a_truth t tl v s)) →
      post w (nI ap, f_nodeLimit, f_room, f_span, f_temporalLimit, nI (2 ^ ap - 1), f_nodeCount, nI K, f_stackCount, nI tl, f_lassoLen, f_lassoStart, un, li, 1, f_wordLen, f_wordStart, a_kinds, a_lefts, a_rights, a_truth, a_temporalNodes, a_stack, a_trace, a_lasso, su, a_word, a_values)) :
    wpX_startStates post (nI ap, f_nodeLimit, f_room, f_span, f_temporalLimit, nI (2 ^ ap - 1), f_nodeCount, nI K, f_stackCount, nI tl, f_lassoLen, f_lassoStart, f_universe, f_live, f_ready, f_wordLen, f_wordStart, a_kinds, a_lefts, a_rights, a_truth, a_temporalNodes, a_stack, a_trace, a_lasso, a_successors, a_word, a_values) (nI v) := by
  have h64 := qs_64 H
  have hap : 2 ^ ap ≤ 8 := Nat.pow_le_pow_right (n := 2) (j := 3) (by decide) H.1.2
  unfold wpX_startStates; dsimp only
  refine xw_refresh H ND TN hr (fun un su li rd => ?_)
  dsimp only
  refine br_f (nI_pos (by omega)) (xw_statesWithLetter H.1.2 (by omega) (fun z hz => nm_e (nm_e ⟨tl + 1, xw_st29 H T ht h8 rd tl (li &&& z) (Nat.le_refl _) (fun s hs => ?_) (fun w hw => h un su li w rd (fun s hs => ?_))⟩)))
  · have m := ((qb_and _ _ _).mp hs).1
    obtain ⟨v, c, _, _, e⟩ := (qs_live H T s).mp ((rd.2 s (qb_lt m)).mp m)
    rw [e]; exact qs_Plt
  · rw [hw s hs]
    constructor
    · rintro ⟨s0, m, e⟩
      obtain ⟨m1, m2⟩ := (qb_and _ _ _).mp m
      obtain ⟨v1, c, hv1, rc, e0⟩ := (qs_live H T s0).mp ((rd.2 s0 (qb_lt m1)).mp m1)
      have e1 := (hz s0 (qb_lt m1)).mp m2
      rw [e0, qs_Pmod H hv1] at e1
      subst e1
      exact ⟨c, rc, by rw [e, e0]⟩
    · rintro ⟨c, rc, e⟩
      have hp : qs_P ap K kd lf rt tn v c < 64 := Nat.lt_of_lt_of_le qs_Plt h64
      refine ⟨_, (qb_and _ _ _).mpr ⟨(rd.2 _ hp).mpr ((qs_live H T _).mpr ⟨v, c, hv, rc, rfl⟩), (hz _ hp).mpr (qs_Pmod H hv c)⟩, e⟩
theorem xs_z {x y : Int64} {S : Nat → Prop} (hx : ∀ s, s < 64 → (qb_m x s ↔ S s)) (hS : ∀ s, S s → s < 64) : (x &&& y) = 0 ↔ ∀ s, S s → qb_l y s = false := by
  rw [qb_z]
  constructor
  · intro h s hs
    refine qb_lf (fun m => h s (hS s hs) ((qb_and _ _ _).mpr ⟨(hx s (hS s hs)).mpr hs, m⟩))
  · intro h s hs m
    obtain ⟨m1, m2⟩ := (qb_and _ _ _).mp m
    have k := h s ((hx s hs).mp m1)
    rw [show qb_l y s = true from m2] at k
    exact absurd k (by decide)
theorem xs_z2 {x y : Int64} {S : Nat → Prop} (hx : ∀ s, s < 64 → (qb_m x s ↔ S s)) (hS : ∀ s, S s → s < 64) : (x &&& (y ^^^ (-1))) = 0 ↔ ∀ s, S s → qb_l y s = true := by
  rw [xs_z hx hS]
  constructor
  · intro h s hs
    have := h s hs
    rw [qb_en _ (hS s hs)] at this
    cases e : qb_l y s
    · rw [e] at this; exact absurd this (by decide)
    · rfl
  · intro h s hs
    rw [qb_en _ (hS s hs), h s hs]; rfl
theorem qs_S64 (H : qs_WF ap N K kd lf rt tn) {tr : Nat → Int64} {v s : Nat} (h : qs_S ap K kd lf rt tn tr t tl v s) : s < 64 := by
  obtain ⟨c, _, e⟩ := h
  rw [e]; exact Nat.lt_of_lt_of_le (qs_frlt _ _ qs_Plt) (qs_64 H)
theorem xw_outlook {post : Int32 → SX → Prop} {i : Nat} (hi : i < N) (H : qs_WF ap N K kd lf rt tn) (ND : xs_nd N kd lf rt a_kinds a_lefts a_rights) (TN : xs_tn K tn a_temporalNodes) (T : qs_TR ap N kd lf rt a_truth)
    (ht : ∀ i, i < tl → a_trace i = nI (t i) ∧ t i < 2 ^ ap) (h8 : tl ≤ 8)
    (hr : f_ready = 0 ∨ (f_ready = 1 ∧ xs_RD ap K kd lf rt tn a_truth a_successors f_live))
    (h : ∀ un su li r, xs_RD ap K kd lf rt tn a_truth su li →
      (r = 0 ∧ (∀ v s, v < 2 ^ ap → qs_S ap K kd lf rt tn a_truth t tl v s → qs_V a_truth s i = false)) ∨
      (r = 2 ∧ (∃ v s, v < 2 ^ ap ∧ qs_S ap K kd lf rt tn a_truth t tl v s ∧ qs_V a_truth s i = true) ∧ (∀ v s, v < 2 ^ ap → qs_S ap K kd lf rt tn a_truth t tl v s → qs_V a_truth s i = true)) ∨
      (r = 1 ∧ (∃ v s, v < 2 ^ ap ∧ qs_S ap K kd lf rt tn a_truth t tl v s ∧ qs_V a_truth s i = true) ∧ (∃ v s, v < 2 ^ ap ∧ qs_S ap K kd lf rt tn a_truth t tl v s ∧ qs_V a_truth s i = false)) →
      post r (nI ap, f_nodeLimit, f_room, f_span, f_temporalLimit, nI (2 ^ ap - 1), nI N, nI K, f_stackCount, nI tl, f_lassoLen, f_lassoStart, un, li, 1, f_wordLen, f_wordStart, a_kinds, a_lefts, a_rights, a_truth, a_temporalNodes, a_stack, a_trace, a_lasso, su, a_word, a_values)) :
    wpX_outlook post (nI ap, f_nodeLimit, f_room, f_span, f_temporalLimit, nI (2 ^ ap - 1), nI N, nI K, f_stackCount, nI tl, f_lassoLen, f_lassoStart, f_universe, f_live, f_ready, f_wordLen, f_wordStart, a_kinds, a_lefts, a_rights, a_truth, a_temporalNodes, a_stack, a_trace, a_lasso, a_successors, a_word, a_values) (nI i) := by
  have hN := H.2.1
  have i24 : vp_in (nI i) 24 := vp_in_nI (by omega) (by decide)
  unfold wpX_outlook; dsimp only
  refine xw_isN1 hi hN (br_f (by decide) (xw_startN H ND TN T ht h8 hr (fun un su li w rd hw => ?_)))
  dsimp only
  rw [nI_clamp (by omega)]
  have hS : ∀ s, (∃ v, v < 2 ^ ap ∧ qs_S ap K kd lf rt tn a_truth t tl v s) → s < 64 := by
    rintro s ⟨v, _, z⟩; exact qs_S64 H z
  have z1 := xs_z (y := a_truth i) hw hS
  have z2 := xs_z2 (y := a_truth i) hw hS
  have ex : ∀ {b : Bool}, (¬ ∀ s, (∃ v, v < 2 ^ ap ∧ qs_S ap K kd lf rt tn a_truth t tl v s) → qb_l (a_truth i) s = !b) → ∃ v s, v < 2 ^ ap ∧ qs_S ap K kd lf rt tn a_truth t tl v s ∧ qs_V a_truth s i = b := by
    intro b hb
    refine Classical.byContradiction (fun g => hb (fun s hs => ?_))
    obtain ⟨v, hv, q⟩ := hs
    refine Classical.byContradiction (fun g2 => g ⟨v, s, hv, q, ?_⟩)
    show qb_l (a_truth i) s = b
    revert g2
    cases qb_l (a_truth i) s <;> cases b <;> simp
  refine ⟨i24, br_c (fun a => ?_) (fun a => ⟨i24, br_c (fun b => ?_) (fun b => ?_)⟩)⟩
  · exact h un su li 0 rd (Or.inl ⟨rfl, fun v s hv q => z1.mp a s ⟨v, hv, q⟩⟩)
  · exact h un su li 2 rd (Or.inr (Or.inl ⟨rfl, ex (b := true) (fun q => a (z1.mpr q)), fun v s hv q => z2.mp b s ⟨v, hv, q⟩⟩))
  · exact h un su li 1 rd (Or.inr (Or.inr ⟨rfl, ex (b := true) (fun q => a (z1.mpr q)), ex (b := false) (fun q => b (z2.mpr q))⟩))
/-! mix -/
theorem xw_mix90 {post : Int32 → SX → Prop} {J : Int32 → Int32 → Prop} {x1 x2 : Int32} {x3 x7 z0 : Int64} {sum : Int32} {p : Nat}
    (h0 : ((x3 &&& x7) &&& z0) = 0 → J sum (nI (p + 1))) (h1 : ¬ ((x3 &&& x7) &&& z0) = 0 → J (sum ||| ((1 : Int32) <<< (nI p &&& 31))) (nI (p + 1))) :
    wX_mix_90 post J x1 x2 x3 sum (nI p) x7 z0 f_atomCount f_nodeLimit f_room f_span f_temporalLimit f_letterMask f_nodeCount f_temporalCount f_stackCount f_traceLen f_lassoLen f_lassoStart f_universe f_live f_ready f_wordLen f_wordStart a_kinds a_lefts a_rights a_truth a_temporalNodes a_stack a_trace a_lasso a_successors a_word a_values := by
  unfold wX_mix_90
  exact br_c (fun a => nm_r (nI_1 p) (h0 a)) (fun a => nm_e (nm_r (nI_1 p) (h1 a)))
theorem xs_m2 : ∀ p, p < 4 → ((nI p &&& 2) = 0 ↔ p < 2) := by decide +kernel
theorem xs_m1 : ∀ p, p < 4 → ((nI p &&& 1) = 0 ↔ p % 2 = 0) := by decide +kernel
def xs_sg (b : Bool) (x : Int64) : Int64 := if b = true then x else x ^^^ (-1)
theorem xs_sgl (b : Bool) (x : Int64) {s : Nat} (hs : s < 64) : qb_m (xs_sg b x) s ↔ qb_l x s = b := by
  cases b
  · show qb_m (x ^^^ (-1)) s ↔ _
    rw [qb_not _ hs]; exact Bool.not_eq_true _ ▸ Iff.rfl
  · exact Iff.rfl
theorem xw_mixB {post : Int32 → SX → Prop} {n : Nat} {i j p : Nat} (hi : i < 24) (hj : j < 24) (hp : p < 4) {x3 : Int64} {sum : Int32}
    (h0 : ((x3 &&& xs_sg (decide (2 ≤ p)) (a_truth i)) &&& xs_sg (decide (p % 2 = 1)) (a_truth j)) = 0 → wX_mix_30 post (nI i) (nI j) x3 f_atomCount f_nodeLimit f_room f_span f_temporalLimit f_letterMask f_nodeCount f_temporalCount f_stackCount f_traceLen f_lassoLen f_lassoStart f_universe f_live f_ready f_wordLen f_wordStart a_kinds a_lefts a_rights a_truth a_temporalNodes a_stack a_trace a_lasso a_successors a_word a_values n sum (nI (p + 1)))
    (h1 : ¬ ((x3 &&& xs_sg (decide (2 ≤ p)) (a_truth i)) &&& xs_sg (decide (p % 2 = 1)) (a_truth j)) = 0 → wX_mix_30 post (nI i) (nI j) x3 f_atomCount f_nodeLimit f_room f_span f_temporalLimit f_letterMask f_nodeCount f_temporalCount f_stackCount f_traceLen f_lassoLen f_lassoStart f_universe f_live f_ready f_wordLen f_wordStart a_kinds a_lefts a_rights a_truth a_temporalNodes a_stack a_trace a_lasso a_successors a_word a_values n (sum ||| ((1 : Int32) <<< (nI p &&& 31))) (nI (p + 1))) :
    wX_mix_30 post (nI i) (nI j) x3 f_atomCount f_nodeLimit f_room f_span f_temporalLimit f_letterMask f_nodeCount f_temporalCount f_stackCount f_traceLen f_lassoLen f_lassoStart f_universe f_live f_ready f_wordLen f_wordStart a_kinds a_lefts a_rights a_truth a_temporalNodes a_stack a_trace a_lasso a_successors a_word a_values (n + 1) sum (nI p) := by
  have i24 : vp_in (nI i) 24 := vp_in_nI hi (by decide)
  have j24 : vp_in (nI j) 24 := vp_in_nI hj (by decide)
  have c62 : ∀ x7, x7 = xs_sg (decide (2 ≤ p)) (a_truth i) → wX_mix_62 post (wX_mix_30 post (nI i) (nI j) x3 f_atomCount f_nodeLimit f_room f_span f_temporalLimit f_letterMask f_nodeCount f_temporalCount f_stackCount f_traceLen f_lassoLen f_lassoStart f_universe f_live f_ready f_wordLen f_wordStart a_kinds a_lefts a_rights a_truth a_temporalNodes a_stack a_trace a_lasso a_successors a_word a_values n) (nI i) (nI j) x3 sum (nI p) x7 f_atomCount f_nodeLimit f_room f_span f_temporalLimit f_letterMask f_nodeCount f_temporalCount f_stackCount f_traceLen f_lassoLen f_lassoStart f_universe f_live f_ready f_wordLen f_wordStart a_kinds a_lefts a_rights a_truth a_temporalNodes a_stack a_trace a_lasso a_successors a_word a_values := by
    intro x7 e
    unfold wX_mix_62
    rw [nI_clamp (n := j) (by omega)]
    refine br_c (fun a => ⟨j24, ?_⟩) (fun a => ⟨j24, ?_⟩)
    · have a' := (xs_m1 p hp).mp a
      have e2 : a_truth j ^^^ (-1) = xs_sg (decide (p % 2 = 1)) (a_truth j) := by
        rw [decide_eq_false (by omega)]; rfl
      rw [e2, e]; exact xw_mix90 h0 h1
    · have a' : ¬ p % 2 = 0 := fun z => a ((xs_m1 p hp).mpr z)
      have e2 : a_truth j = xs_sg (decide (p % 2 = 1)) (a_truth j) := by
        rw [decide_eq_true (by omega)]; rfl
      rw [e2, e]; exact xw_mix90 h0 h1
  refine br_f (nI_ge (b := 4) hp (by decide)) ?_
  rw [nI_clamp (n := i) (by omega)]
  refine br_c (fun a => ⟨i24, c62 _ ?_⟩) (fun a => ⟨i24, c62 _ ?_⟩)
  · have a' := (xs_m2 p hp).mp a
    rw [decide_eq_false (by omega)]; rfl
  · have a' : ¬ p < 2 := fun z => a ((xs_m2 p hp).mpr z)
    rw [decide_eq_true (by omega)]; rfl
theorem qs_prE : ∀ p, p < 4 → ∀ x y : Bool, (x = decide (2 ≤ p) ∧ y = decide (p % 2 = 1)) ↔ p = qs_pr x y := by decide
theorem xw_mix30 {post : Int32 → SX → Prop} {i j : Nat} (hi : i < 24) (hj : j < 24) {x3 : Int64} {S : Nat → Prop} (hx : ∀ s, s < 64 → (qb_m x3 s ↔ S s)) (hS : ∀ s, S s → s < 64)
    (h : ∀ sum, (∀ q, q < 32 → (bt sum q = true ↔ ∃ s, S s ∧ q = qs_pr (qs_V a_truth s i) (qs_V a_truth s j))) → post sum (f_atomCount, f_nodeLimit, f_room, f_span, f_temporalLimit, f_letterMask, f_nodeCount, f_temporalCount, f_stackCount, f_traceLen, f_lassoLen, f_lassoStart, f_universe, f_live, f_ready, f_wordLen, f_wordStart, a_kinds, a_lefts, a_rights, a_truth, a_temporalNodes, a_stack, a_trace, a_lasso, a_successors, a_word, a_values)) :
    ∀ d p sum, p + d = 4 → (∀ q, q < 32 → (bt sum q = true ↔ (q < p ∧ ∃ s, S s ∧ q = qs_pr (qs_V a_truth s i) (qs_V a_truth s j)))) →
      wX_mix_30 post (nI i) (nI j) x3 f_atomCount f_nodeLimit f_room f_span f_temporalLimit f_letterMask f_nodeCount f_temporalCount f_stackCount f_traceLen f_lassoLen f_lassoStart f_universe f_live f_ready f_wordLen f_wordStart a_kinds a_lefts a_rights a_truth a_temporalNodes a_stack a_trace a_lasso a_successors a_word a_values (d + 1) sum (nI p) := by
  intro d
  induction d with
  | zero =>
    intro p sum hp hs
    have : p = 4 := by omega
    subst this
    refine br_t (by decide) (h sum (fun q hq => (hs q hq).trans ⟨fun z => z.2, fun z => ⟨?_, z⟩⟩))
    obtain ⟨s, _, e⟩ := z
    rw [e]
    unfold qs_pr
    have := Bool.toNat_le (qs_V a_truth s i)
    have := Bool.toNat_le (qs_V a_truth s j)
    omega
  | succ d ih =>
    intro p sum hp hs
    have hp4 : p < 4 := by omega
    have cnd : ((x3 &&& xs_sg (decide (2 ≤ p)) (a_truth i)) &&& xs_sg (decide (p % 2 = 1)) (a_truth j)) = 0 ↔ ¬ ∃ s, S s ∧ p = qs_pr (qs_V a_truth s i) (qs_V a_truth s j) := by
      rw [qb_z]
      constructor
      · rintro a ⟨s, z, e⟩
        have h64 := hS s z
        obtain ⟨q1, q2⟩ := (qs_prE p hp4 _ _).mpr e
        exact a s h64 ((qb_and _ _ _).mpr ⟨(qb_and _ _ _).mpr ⟨(hx s h64).mpr z, (xs_sgl _ _ h64).mpr q1⟩, (xs_sgl _ _ h64).mpr q2⟩)
      · intro a s h64 m
        obtain ⟨m1, m3⟩ := (qb_and _ _ _).mp m
        obtain ⟨m1, m2⟩ := (qb_and _ _ _).mp m1
        exact a ⟨s, (hx s h64).mp m1, (qs_prE p hp4 _ _).mp ⟨(xs_sgl _ _ h64).mp m2, (xs_sgl _ _ h64).mp m3⟩⟩
    refine xw_mixB hi hj hp4 (fun z => ih (p + 1) _ (by omega) (fun q hq => ?_)) (fun z => ih (p + 1) _ (by omega) (fun q hq => ?_))
    · have z' := cnd.mp z
      rw [hs q hq]
      refine ⟨fun y => ⟨by omega, y.2⟩, fun y => ⟨?_, y.2⟩⟩
      by_cases e : q = p
      · rw [e] at y; exact absurd y.2 z'
      · omega
    · have z' : ∃ s, S s ∧ p = qs_pr (qs_V a_truth s i) (qs_V a_truth s j) := Classical.byContradiction (fun y => z (cnd.mpr y))
      rw [b_or, Bool.or_eq_true, qb_shb (by omega) hq, hs q hq, decide_eq_true_iff]
      constructor
      · rintro (y | y)
        · exact ⟨by omega, y.2⟩
        · rw [y]; exact ⟨by omega, z'⟩
      · rintro ⟨y1, y2⟩
        by_cases e : q = p
        · exact Or.inr e
        · exact Or.inl ⟨by omega, y2⟩
theorem xw_mix {post : Int32 → SX → Prop} {i j : Nat} (hi : i < N) (hj : j < N) (H : qs_WF ap N K kd lf rt tn) (ND : xs_nd N kd lf rt a_kinds a_lefts a_rights) (TN : xs_tn K tn a_temporalNodes) (T : qs_TR ap N kd lf rt a_truth)
    (ht : ∀ i, i < tl → a_trace i = nI (t i) ∧ t i < 2 ^ ap) (h8 : tl ≤ 8)
    (hr : f_ready = 0 ∨ (f_ready = 1 ∧ xs_RD ap K kd lf rt tn a_truth a_successors f_live))
    (h : ∀ un su li sum, xs_RD ap K kd lf rt tn a_truth su li → (∀ q, q < 32 → (bt sum q = true ↔ ∃ s, (∃ v, v < 2 ^ ap ∧ qs_S ap K kd lf rt tn a_truth t tl v s) ∧ q = qs_pr (qs_V a_truth s i) (qs_V a_truth s j))) →
      post sum (nI ap, f_nodeLimit, f_room, f_span, f_temporalLimit, nI (2 ^ ap - 1), nI N, nI K, f_stackCount, nI tl, f_lassoLen, f_lassoStart, un, li, 1, f_wordLen, f_wordStart, a_kinds, a_lefts, a_rights, a_truth, a_temporalNodes, a_stack, a_trace, a_lasso, su, a_word, a_values)) :
    wpX_mix post (nI ap, f_nodeLimit, f_room, f_span, f_temporalLimit, nI (2 ^ ap - 1), nI N, nI K, f_stackCount, nI tl, f_lassoLen, f_lassoStart, f_universe, f_live, f_ready, f_wordLen, f_wordStart, a_kinds, a_lefts, a_rights, a_truth, a_temporalNodes, a_stack, a_trace, a_lasso, a_successors, a_word, a_values) (nI i) (nI j) := by
  have hN := H.2.1
  unfold wpX_mix; dsimp only
  refine xw_isN1 hi hN (br_f (by decide) (xw_isN1 hj hN (br_f (by decide) (xw_startN H ND TN T ht h8 hr (fun un su li w rd hw => ?_)))))
  dsimp only
  exact ⟨5, xw_mix30 (by omega) (by omega) hw (fun s z => by obtain ⟨v, _, z⟩ := z; exact qs_S64 H z) (fun sum hs => h un su li sum rd hs) 4 0 0 (by decide) (fun q _ => ⟨fun z => by rw [b_0] at z; exact absurd z (by decide), fun z => absurd z.1 (Nat.not_lt_zero _)⟩)⟩
theorem xw_mov14 {post : Int32 → SX → Prop} {i : Nat} (hi : i < N) (H : qs_WF ap N K kd lf rt tn) (ND : xs_nd N kd lf rt a_kinds a_lefts a_rights) (TN : xs_tn K tn a_temporalNodes) (T : qs_TR ap N kd lf rt a_truth)
    (ht : ∀ i, i < tl → a_trace i = nI (t i) ∧ t i < 2 ^ ap) (h8 : tl ≤ 8)
    (h : ∀ un su li rdy sum, (rdy = 0 ∨ (rdy = 1 ∧ xs_RD ap K kd lf rt tn a_truth su li)) → (∀ q, q < 32 → (bt sum q = true ↔ (q < 2 ^ ap ∧ ∃ s, qs_S ap K kd lf rt tn a_truth t tl q s ∧ qs_V a_truth s i = true))) →
      post sum (nI ap, f_nodeLimit, f_room, f_span, f_temporalLimit, nI (2 ^ ap - 1), nI N, nI K, f_stackCount, nI tl, f_lassoLen, f_lassoStart, un, li, rdy, f_wordLen, f_wordStart, a_kinds, a_lefts, a_rights, a_truth, a_temporalNodes, a_stack, a_trace, a_lasso, su, a_word, a_values)) :
    ∀ d v sum un su li rdy, v + d = 2 ^ ap → (rdy = 0 ∨ (rdy = 1 ∧ xs_RD ap K kd lf rt tn a_truth su li)) → (∀ q, q < 32 → (bt sum q = true ↔ (q < v ∧ ∃ s, qs_S ap K kd lf rt tn a_truth t tl q s ∧ qs_V a_truth s i = true))) →
      wX_moves_14 post (nI i) (d + 1) sum (nI v) (nI ap) f_nodeLimit f_room f_span f_temporalLimit (nI (2 ^ ap - 1)) (nI N) (nI K) f_stackCount (nI tl) f_lassoLen f_lassoStart un li rdy f_wordLen f_wordStart a_kinds a_lefts a_rights a_truth a_temporalNodes a_stack a_trace a_lasso su a_word a_values := by
  have hN := H.2.1
  have hap : 2 ^ ap ≤ 8 := Nat.pow_le_pow_right (n := 2) (j := 3) (by decide) H.1.2
  intro d
  induction d with
  | zero =>
    intro v sum un su li rdy hv hr hs
    have : v = 2 ^ ap := by omega
    subst this
    exact br_t (nI_lt (by have := Nat.two_pow_pos ap; omega) (by omega)) (h un su li rdy sum hr hs)
  | succ d ih =>
    intro v sum un su li rdy hv hr hs
    refine br_f (nI_nlt (by omega) (by omega)) (xw_startV (by omega) H ND TN T ht h8 hr (fun un' su' li' w rd hw => ?_))
    dsimp only
    rw [nI_clamp (by omega)]
    have cnd := xs_z (y := a_truth i) hw (fun s z => qs_S64 H z)
    refine ⟨vp_in_nI (by omega) (by decide), br_c (fun z => nm_r (nI_1 v) (ih (v + 1) _ _ _ _ _ (by omega) (Or.inr ⟨rfl, rd⟩) (fun q hq => ?_))) (fun z => nm_e (nm_r (nI_1 v) (ih (v + 1) _ _ _ _ _ (by omega) (Or.inr ⟨rfl, rd⟩) (fun q hq => ?_))))⟩
    · have z' := cnd.mp z
      rw [hs q hq]
      refine ⟨fun y => ⟨by omega, y.2⟩, fun y => ⟨?_, y.2⟩⟩
      by_cases e : q = v
      · obtain ⟨_, s, y1, y2⟩ := y
        rw [e] at y1
        rw [show qs_V a_truth s i = false from z' s y1] at y2
        exact absurd y2 (by decide)
      · omega
    · have z' : ∃ s, qs_S ap K kd lf rt tn a_truth t tl v s ∧ qs_V a_truth s i = true := by
        refine Classical.byContradiction (fun y => z (cnd.mpr (fun s hs => ?_)))
        cases e : qb_l (a_truth i) s
        · rfl
        · exact absurd ⟨s, hs, e⟩ y
      rw [b_or, Bool.or_eq_true, qb_shb (by omega) hq, hs q hq, decide_eq_true_iff]
      constructor
      · rintro (y | y)
        · exact ⟨by omega, y.2⟩
        · rw [y]; exact ⟨by omega, z'⟩
      · rintro ⟨y1, y2⟩
        by_cases e : q = v
        · exact Or.inr e
        · exact Or.inl ⟨by omega, y2⟩
end
end
section
/-! lassos: the pure table, and X's evaluation -/
def qs_nxt (n s p : Nat) : Nat := if p + 1 < n then p + 1 else s
def qs_uw (n s k : Nat) (a b : Nat → Bool) : Nat → Nat → Bool
  | 0 => fun p => if 13 ≤ k then b p else a p
  | d + 1 => fun p => qs_ts k (a p) (b p) (qs_uw n s k a b d (qs_nxt n s p))
def qs_ws (kd lf rt : Nat → Nat) (wd : Nat → Int32) (n s i : Nat) (f : Nat → Nat → Bool) (p : Nat) : Bool :=
  if kd i < 10 then qs_pl (kd i) (bt (wd p) (kd i)) (f (lf i) p) (f (rt i) p) else if kd i = 10 then f (lf i) (qs_nxt n s p) else qs_uw n s (kd i) (f (lf i)) (f (rt i)) n p
def qs_W (kd lf rt : Nat → Nat) (wd : Nat → Int32) (n s : Nat) : Nat → Nat → Bool := qs_tv (qs_ws kd lf rt wd n s) (fun _ => false)
theorem qs_nxl {n s p : Nat} (hs : s < n) : qs_nxt n s p < n := by unfold qs_nxt; split <;> omega
theorem qs_uwc {n s k : Nat} (hs : s < n) {a a' b b' : Nat → Bool} (hk : 11 ≤ k) (ha : ∀ p, p < n → a p = a' p) (hb : 13 ≤ k → ∀ p, p < n → b p = b' p) : ∀ d p, p < n → qs_uw n s k a b d p = qs_uw n s k a' b' d p := by
  intro d
  induction d with
  | zero =>
    intro p hp
    show (if 13 ≤ k then b p else a p) = if 13 ≤ k then b' p else a' p
    by_cases g : 13 ≤ k
    · rw [if_pos g, if_pos g, hb g p hp]
    · rw [if_neg g, if_neg g, ha p hp]
  | succ d ih =>
    intro p hp
    exact qs_ts_cg (fun _ => ha p hp) (fun g => hb g p hp) (ih _ (qs_nxl hs))
section
variable {ap N K : Nat} {kd lf rt tn : Nat → Nat} {wd : Nat → Int32} {n s : Nat}
theorem qs_Wl (H : qs_WF ap N K kd lf rt tn) (hs : s < n) {i : Nat} (hi : i < N) {p : Nat} (hp : p < n) :
    qs_W kd lf rt wd n s i p = if kd i < 10 then qs_pl (kd i) (bt (wd p) (kd i)) (qs_W kd lf rt wd n s (lf i) p) (qs_W kd lf rt wd n s (rt i) p) else if kd i = 10 then qs_W kd lf rt wd n s (lf i) (qs_nxt n s p) else qs_uw n s (kd i) (qs_W kd lf rt wd n s (lf i)) (qs_W kd lf rt wd n s (rt i)) n p := by
  obtain ⟨_, _, _, h4, _⟩ := H
  obtain ⟨h14, _, a, b, _, _⟩ := h4 i hi
  show qs_ws kd lf rt wd n s i (qs_tb (qs_ws kd lf rt wd n s) (fun _ => false) i) p = _
  unfold qs_ws
  by_cases k : kd i < 10
  · rw [if_pos k, if_pos k]
    refine qs_pl_cg (fun _ => rfl) (fun h => ?_) (fun h => ?_)
    · exact congrFun (qs_tb_eq (a h)) p
    · exact congrFun (qs_tb_eq (b (Or.inl ⟨h, by omega⟩))) p
  · rw [if_neg k, if_neg k]
    by_cases k0 : kd i = 10
    · rw [if_pos k0, if_pos k0]; exact congrFun (qs_tb_eq (a (by omega))) _
    · rw [if_neg k0, if_neg k0]
      refine qs_uwc hs (by omega) (fun p _ => ?_) (fun g p _ => ?_) n p hp
      · exact congrFun (qs_tb_eq (a (by omega))) p
      · exact congrFun (qs_tb_eq (b (Or.inr g))) p
end
theorem qb_shN1 : ∀ k, k < 64 → ((UInt64.ofNat k).toBitVec % 64).toNat = k := by decide +kernel
theorem qb_shN2 : ∀ k, k < 64 → ((lN k).toBitVec.smod 64).toNat = k := by decide +kernel
theorem qb_ushr (x : Int64) {k : Nat} (hk : k < 64) (p : Nat) : qb_l ((x.toUInt64 >>> ((nI k).toInt64.toUInt64 &&& Int64.toUInt64 63)).toInt64) p = qb_l x (k + p) := by
  rw [wb_cu k hk]
  show (x.toUInt64 >>> UInt64.ofNat k).toBitVec.getLsbD p = x.toUInt64.toBitVec.getLsbD (k + p)
  rw [UInt64.toBitVec_shiftRight]
  show (x.toUInt64.toBitVec >>> ((UInt64.ofNat k).toBitVec % 64).toNat).getLsbD p = _
  rw [qb_shN1 k hk, BitVec.getLsbD_ushiftRight]
theorem qb_shl (x : Int64) {k : Nat} (hk : k < 64) {p : Nat} (hp : p < 64) : qb_l (x <<< ((nI k).toInt64 &&& 63)) p = (decide (k ≤ p) && qb_l x (p - k)) := by
  rw [wb_c k hk]
  show (x <<< lN k).toBitVec.getLsbD p = _
  rw [Int64.toBitVec_shiftLeft]
  show (x.toBitVec <<< ((lN k).toBitVec.smod 64).toNat).getLsbD p = _
  rw [qb_shN2 k hk, BitVec.getLsbD_shiftLeft]
  rcases Nat.lt_or_ge p k with h | h
  · simp [h, Nat.not_le.mpr h]
  · simp [hp, h, Nat.not_lt.mpr h]
theorem qb_l1 : ∀ p, p < 64 → qb_l 1 p = decide (p = 0) := by decide +kernel
theorem qb_msk : ∀ n, n < 9 → ∀ p, p < 64 → qb_l (((1 : Int64) <<< ((nI n).toInt64 &&& 63)) - 1) p = decide (p < n) := by decide +kernel
theorem qb_lbig (x : Int64) {p : Nat} (h : 64 ≤ p) : qb_l x p = false := qb_lf (qb_big x h)
section
variable {f_atomCount f_nodeLimit f_room f_span f_temporalLimit f_letterMask f_nodeCount f_temporalCount f_stackCount f_traceLen f_lassoLen f_lassoStart : Int32} {f_universe f_live : Int64} {f_ready f_wordLen f_wordStart : Int32} {a_kinds a_lefts a_rights : Nat → Int32} {a_truth : Nat → Int64} {a_temporalNodes a_stack a_trace a_lasso : Nat → Int32} {a_successors : Nat → Int64} {a_word : Nat → Int32} {a_values : Nat → Int64}
variable {n s : Nat}
theorem xw_atom {post : Int64 → Prop} {k : Nat} (hk : k < 32) (h8 : n ≤ 8) (h : ∀ w, (∀ p, p < 64 → qb_l w p = (decide (p < n) && bt (a_word p) k)) → post w) : wpX_placesWithAtom post (f_atomCount, f_nodeLimit, f_room, f_span, f_temporalLimit, f_letterMask, f_nodeCount, f_temporalCount, f_stackCount, f_traceLen, f_lassoLen, f_lassoStart, f_universe, f_live, f_ready, nI n, f_wordStart, a_kinds, a_lefts, a_rights, a_truth, a_temporalNodes, a_stack, a_trace, a_lasso, a_successors, a_word, a_values) (nI k) := by
  unfold wpX_placesWithAtom; dsimp only
  have cnd : ∀ i, i < n → (((a_word (nI i).toNatClampNeg >>> (nI k &&& 31)) &&& 1) = 0 ↔ ¬ bt (a_word i) k = true) := by
    intro i hi
    rw [nI_clamp (by omega), qb_sh1 _ hk, qb_i0, Bool.not_eq_true]
  refine xw_col (fun m w i => wX_placesWithAtom_5 post (nI k) f_atomCount f_nodeLimit f_room f_span f_temporalLimit f_letterMask f_nodeCount f_temporalCount f_stackCount f_traceLen f_lassoLen f_lassoStart f_universe f_live f_ready (nI n) f_wordStart a_kinds a_lefts a_rights a_truth a_temporalNodes a_stack a_trace a_lasso a_successors a_word a_values m w i) (fun s => bt (a_word s) k = true) n (by omega)
    (fun m w hp => br_t (nI_le (Nat.le_refl _) (by omega)) hp)
    (fun m w i hi hp hW => br_f (nI_ge hi (by omega)) ⟨vp_in_nI (by omega) (by decide), br_f (fun z => (cnd i hi).mp z hp) (nm_e (nm_r (nI_1 i) hW))⟩)
    (fun m w i hi hp hW => br_f (nI_ge hi (by omega)) ⟨vp_in_nI (by omega) (by decide), br_t ((cnd i hi).mpr hp) (nm_r (nI_1 i) hW)⟩)
    (fun w hw => h w (fun p hp => Bool.eq_iff_iff.mpr ((hw p hp).trans ?_)))
  rw [Bool.and_eq_true, decide_eq_true_iff]
theorem xw_plB {post : Int64 → Prop} (h8 : n ≤ 8) (hs : s < n) {x : Int64} (hx : ∀ p, n ≤ p → qb_l x p = false) (h : ∀ w, (∀ p, p < 64 → qb_l w p = (decide (p < n) && qb_l x (qs_nxt n s p))) → post w) :
    wpX_placesBefore post (f_atomCount, f_nodeLimit, f_room, f_span, f_temporalLimit, f_letterMask, f_nodeCount, f_temporalCount, f_stackCount, f_traceLen, f_lassoLen, f_lassoStart, f_universe, f_live, f_ready, nI n, nI s, a_kinds, a_lefts, a_rights, a_truth, a_temporalNodes, a_stack, a_trace, a_lasso, a_successors, a_word, a_values) x := by
  unfold wpX_placesBefore; dsimp only
  refine nm_e (h _ (fun p hp => ?_))
  have e2 : nI n - 1 = nI (n - 1) := by
    obtain ⟨m, rfl⟩ : ∃ m, n = m + 1 := ⟨n - 1, by omega⟩
    exact nI_pred m
  have e1 : qb_l ((x.toUInt64 >>> ((1 : Int32).toInt64.toUInt64 &&& Int64.toUInt64 63)).toInt64) p = qb_l x (1 + p) := qb_ushr x (k := 1) (by decide) p
  rw [qb_eo, e1, e2, qb_shl _ (by omega) hp, qb_ea, qb_ushr x (by omega), qb_l1 _ (by omega)]
  unfold qs_nxt
  by_cases c : p + 1 < n
  · rw [if_pos c]
    have : ¬ (n - 1 ≤ p) := by omega
    simp [this, show p < n by omega, Nat.add_comm]
  · rw [if_neg c, hx (1 + p) (by omega)]
    by_cases e : p < n
    · have e3 : p - (n - 1) = 0 := by omega
      have e4 : n - 1 ≤ p := by omega
      simp [e, e3, e4]
    · have e3 : ¬ (p - (n - 1) = 0) := by omega
      simp [e, e3]
theorem qs_ts0 (k : Nat) : qs_ts k false false false = false := by
  unfold qs_ts; split <;> (try rfl); split <;> (try rfl); split <;> (try rfl); split <;> rfl
theorem xw_set25 {post : Int64 → Prop} {k : Nat} (hk : 11 ≤ k) (hk2 : k ≤ 14) (h8 : n ≤ 8) (hs : s < n) {x y : Int64} (hx : ∀ p, n ≤ p → qb_l x p = false) (hy : 13 ≤ k → ∀ p, n ≤ p → qb_l y p = false)
    (h : ∀ w, (∀ p, p < 64 → qb_l w p = (decide (p < n) && qs_uw n s k (qb_l x) (qb_l y) n p)) → post w) :
    ∀ d i w, i + d = n → (∀ p, p < 64 → qb_l w p = (decide (p < n) && qs_uw n s k (qb_l x) (qb_l y) i p)) →
      wX_settle_25 post (nI k) (qw_side k x) (qw_goal k x y) f_atomCount f_nodeLimit f_room f_span f_temporalLimit f_letterMask f_nodeCount f_temporalCount f_stackCount f_traceLen f_lassoLen f_lassoStart f_universe f_live f_ready (nI n) (nI s) a_kinds a_lefts a_rights a_truth a_temporalNodes a_stack a_trace a_lasso a_successors a_word a_values (d + 1) w (nI i) := by
  intro d
  induction d with
  | zero =>
    intro i w hi hw
    have : i = n := by omega
    subst this
    exact br_t (nI_le (Nat.le_refl _) (by omega)) (h w hw)
  | succ d ih =>
    intro i w hi hw
    have hw0 : ∀ p, n ≤ p → qb_l w p = false := by
      intro p hp
      rcases Nat.lt_or_ge p 64 with g | g
      · rw [hw p g, decide_eq_false (by omega)]; rfl
      · exact qb_lbig _ g
    refine br_f (nI_ge (by omega) (by omega)) (xw_plB h8 hs hw0 (fun z hz => xw_unf hk2 (nm_r (nI_1 i) (ih (i + 1) _ (by omega) (fun p hp => ?_)))))
    rw [xw_swn hk hk2 _ _ hp, hz p hp]
    by_cases e : p < n
    · have := qs_nxl (p := p) hs
      rw [hw _ (by omega), decide_eq_true e, decide_eq_true this]; rfl
    · rw [decide_eq_false e, Bool.false_and, Bool.false_and, qs_ts_cg (k := k) (fun _ => hx p (by omega)) (fun g => hy g p (by omega)) rfl]
      exact qs_ts0 k
theorem xw_settle {post : Int64 → Prop} {k : Nat} (hk : 11 ≤ k) (hk2 : k ≤ 14) (h8 : n ≤ 8) (hs : s < n) {x y : Int64} (hx : ∀ p, n ≤ p → qb_l x p = false) (hy : 13 ≤ k → ∀ p, n ≤ p → qb_l y p = false)
    (h : ∀ w, (∀ p, p < 64 → qb_l w p = (decide (p < n) && qs_uw n s k (qb_l x) (qb_l y) n p)) → post w) : wpX_settle post (f_atomCount, f_nodeLimit, f_room, f_span, f_temporalLimit, f_letterMask, f_nodeCount, f_temporalCount, f_stackCount, f_traceLen, f_lassoLen, f_lassoStart, f_universe, f_live, f_ready, nI n, nI s, a_kinds, a_lefts, a_rights, a_truth, a_temporalNodes, a_stack, a_trace, a_lasso, a_successors, a_word, a_values) (nI k) x y := by
  unfold wpX_settle; dsimp only
  refine xw_side hk2 (xw_goal hk2 ⟨n + 1, xw_set25 hk hk2 h8 hs hx hy h n 0 _ (Nat.zero_add _) (fun p hp => ?_)⟩)
  show qb_l (if 12 < k then y else x) p = (decide (p < n) && if 13 ≤ k then qb_l y p else qb_l x p)
  by_cases e : p < n
  · rw [decide_eq_true e, Bool.true_and]
    by_cases g : 12 < k
    · rw [if_pos g, if_pos (by omega)]
    · rw [if_neg g, if_neg (by omega)]
  · rw [decide_eq_false e, Bool.false_and]
    by_cases g : 12 < k
    · rw [if_pos g]; exact hy (by omega) p (by omega)
    · rw [if_neg g]; exact hx p (by omega)
end
section
variable {f_atomCount f_nodeLimit f_room f_span f_temporalLimit f_letterMask f_nodeCount f_temporalCount f_stackCount f_traceLen f_lassoLen f_lassoStart : Int32} {f_universe f_live : Int64} {f_ready f_wordLen f_wordStart : Int32} {a_kinds a_lefts a_rights : Nat → Int32} {a_truth : Nat → Int64} {a_temporalNodes a_stack a_trace a_lasso : Nat → Int32} {a_successors : Nat → Int64} {a_word : Nat → Int32} {a_values : Nat → Int64}
variable {ap N K : Nat} {kd lf rt tn : Nat → Nat} {wd : Nat → Int32} {n s : Nat}
theorem xw_places {post : Int64 → Prop} (H : qs_WF ap N K kd lf rt tn) (ND : xs_nd N kd lf rt a_kinds a_lefts a_rights) (h8 : n ≤ 8) (hs : s < n) (hw : ∀ p, p < n → a_word p = wd p) {i : Nat} (hi : i < N)
    (hv : ∀ j, j < i → ∀ p, p < 64 → qb_l (a_values j) p = (decide (p < n) && qs_W kd lf rt wd n s j p))
    (h : ∀ w, (∀ p, p < 64 → qb_l w p = (decide (p < n) && qs_W kd lf rt wd n s i p)) → post w) : wpX_placesOf post (f_atomCount, f_nodeLimit, f_room, f_span, f_temporalLimit, f_letterMask, f_nodeCount, f_temporalCount, f_stackCount, f_traceLen, f_lassoLen, f_lassoStart, f_universe, f_live, f_ready, nI n, nI s, a_kinds, a_lefts, a_rights, a_truth, a_temporalNodes, a_stack, a_trace, a_lasso, a_successors, a_word, a_values) (nI i) := by
  have hN := H.2.1
  obtain ⟨e1, e2, e3⟩ := ND i hi
  have l24 := qs_lfN H hi
  have r24 := qs_rtN H hi
  obtain ⟨h14, h2, ha, hb, _, _⟩ := H.2.2.2.1 i hi
  have i24 : vp_in (nI i) 24 := vp_in_nI (by omega) (by decide)
  have hv0 : ∀ j, j < i → ∀ p, n ≤ p → qb_l (a_values j) p = false := by
    intro j hj p hp
    rcases Nat.lt_or_ge p 64 with g | g
    · rw [hv j hj p g, decide_eq_false (by omega)]; rfl
    · exact qb_lbig _ g
  have hvn : ∀ j, j < i → ∀ p, p < n → qb_l (a_values j) p = qs_W kd lf rt wd n s j p := by
    intro j hj p hp
    rw [hv j hj p (by omega), decide_eq_true hp]; rfl
  unfold wpX_placesOf; dsimp only
  rw [nI_clamp (n := i) (by omega), e1, e2, e3, nI_clamp (n := lf i) (by omega), nI_clamp (n := rt i) (by omega)]
  refine ⟨i24, nm_e (pk_lt 2 (kd i) (fun k2 => ?_) (fun k2 => ?_))⟩
  · refine ⟨i24, vp_in_nI (by omega) (by decide), nm_e ⟨i24, vp_in_nI (by omega) (by decide), nm_e (pk_le 10 (kd i) (fun k => ?_) (fun k => ?_))⟩⟩
    · refine pk_eq (kd i) 10 (fun k0 => ?_) (fun k0 => ?_)
      · refine xw_plB h8 hs (hv0 _ (ha (by omega))) (fun w hw' => h w (fun p hp => ?_))
        rw [hw' p hp]
        by_cases e : p < n
        · rw [decide_eq_true e, qs_Wl H hs hi e, if_neg (by omega), if_pos k0, hvn _ (ha (by omega)) _ (qs_nxl hs)]
        · rw [decide_eq_false e]; rfl
      · refine xw_settle (by omega) h14 h8 hs (hv0 _ (ha (by omega))) (fun g => hv0 _ (hb (Or.inr g))) (fun w hw' => h w (fun p hp => ?_))
        rw [hw' p hp]
        by_cases e : p < n
        · rw [decide_eq_true e, qs_Wl H hs hi e, if_neg (by omega), if_neg k0]
          rw [qs_uwc hs (by omega) (hvn _ (ha (by omega))) (fun g => hvn _ (hb (Or.inr g))) n p e]
        · rw [decide_eq_false e]; rfl
    · refine xw_combine (by omega) (by omega) false (fun w hw' => h _ (fun p hp => ?_))
      rw [qb_ea, hw' p hp, qb_msk n (by omega) p hp]
      by_cases e : p < n
      · rw [decide_eq_true e, qs_Wl H hs hi e, if_pos (by omega), Bool.and_true, Bool.true_and]
        refine qs_pl_cg (fun z => absurd z (by omega)) (fun z => hvn _ (ha z) p e) (fun z => hvn _ (hb (Or.inl ⟨z, by omega⟩)) p e)
      · rw [decide_eq_false e, Bool.and_false]; rfl
  · refine xw_atom (by omega) h8 (fun w hw' => h w (fun p hp => ?_))
    rw [hw' p hp]
    by_cases e : p < n
    · rw [decide_eq_true e, qs_Wl H hs hi e, if_pos (by omega), hw p e]
      unfold qs_pl; rw [if_pos (by omega)]
    · rw [decide_eq_false e]; rfl
theorem xw_ev2 {post : SX → Prop} (H : qs_WF ap N K kd lf rt tn) (ND : xs_nd N kd lf rt a_kinds a_lefts a_rights) (h8 : n ≤ 8) (hs : s < n) (hw : ∀ p, p < n → a_word p = wd p) {last : Nat} (hl : last < N)
    (h : ∀ va, (∀ j, j ≤ last → ∀ p, p < 64 → qb_l (va j) p = (decide (p < n) && qs_W kd lf rt wd n s j p)) → post (f_atomCount, f_nodeLimit, f_room, f_span, f_temporalLimit, f_letterMask, f_nodeCount, f_temporalCount, f_stackCount, f_traceLen, f_lassoLen, f_lassoStart, f_universe, f_live, f_ready, nI n, nI s, a_kinds, a_lefts, a_rights, a_truth, a_temporalNodes, a_stack, a_trace, a_lasso, a_successors, a_word, va)) :
    ∀ d i va, i + d = last + 1 → (∀ j, j < i → ∀ p, p < 64 → qb_l (va j) p = (decide (p < n) && qs_W kd lf rt wd n s j p)) →
      wX_evaluateWord_2 post (nI last) f_atomCount f_nodeLimit f_room f_span f_temporalLimit f_letterMask f_nodeCount f_temporalCount f_stackCount f_traceLen f_lassoLen f_lassoStart f_universe f_live f_ready (nI n) (nI s) (d + 1) (nI i) a_kinds a_lefts a_rights a_truth a_temporalNodes a_stack a_trace a_lasso a_successors a_word va := by
  have hN := H.2.1
  intro d
  induction d with
  | zero =>
    intro i va hi hv
    exact br_t (nI_lt (by omega) (by omega)) (h va (fun j hj => hv j (by omega)))
  | succ d ih =>
    intro i va hi hv
    refine br_f (nI_nlt (by omega) (by omega)) (xw_places H ND h8 hs hw (by omega) hv (fun w hw' => ⟨vp_in_nI (by omega) (by decide), ?_⟩))
    rw [nI_clamp (by omega)]
    refine nm_e (nm_r (nI_1 i) (ih (i + 1) _ (by omega) (fun j hj => ?_)))
    by_cases e : j = i
    · subst e; rw [pk_uLs]; exact hw'
    · rw [pk_uLn e]; exact hv j (by omega)
theorem xw_eval {post : SX → Prop} (H : qs_WF ap N K kd lf rt tn) (ND : xs_nd N kd lf rt a_kinds a_lefts a_rights) (h8 : n ≤ 8) (hs : s < n) (hw : ∀ p, p < n → a_word p = wd p) {last : Nat} (hl : last < N)
    (h : ∀ va, (∀ j, j ≤ last → ∀ p, p < 64 → qb_l (va j) p = (decide (p < n) && qs_W kd lf rt wd n s j p)) → post (f_atomCount, f_nodeLimit, f_room, f_span, f_temporalLimit, f_letterMask, f_nodeCount, f_temporalCount, f_stackCount, f_traceLen, f_lassoLen, f_lassoStart, f_universe, f_live, f_ready, nI n, nI s, a_kinds, a_lefts, a_rights, a_truth, a_temporalNodes, a_stack, a_trace, a_lasso, a_successors, a_word, va)) :
    wpX_evaluateWord post (f_atomCount, f_nodeLimit, f_room, f_span, f_temporalLimit, f_letterMask, f_nodeCount, f_temporalCount, f_stackCount, f_traceLen, f_lassoLen, f_lassoStart, f_universe, f_live, f_ready, nI n, nI s, a_kinds, a_lefts, a_rights, a_truth, a_temporalNodes, a_stack, a_trace, a_lasso, a_successors, a_word, a_values) (nI last) := by
  unfold wpX_evaluateWord; dsimp only
  exact ⟨last + 1 + 1, xw_ev2 H ND h8 hs hw hl h (last + 1) 0 a_values (Nat.zero_add _) (fun j hj => absurd hj (Nat.not_lt_zero _))⟩
end
end
section
/-! X: candidates, the search, the kept lasso -/
def qw_cand (ap tl : Nat) (tr : Nat → Int32) (n code i : Nat) : Int32 :=
  if i < tl then tr i else (nI code >>> (nI ((n - 1 - i) * ap) &&& 31)) &&& nI (2 ^ ap - 1)
section
variable {f_atomCount f_nodeLimit f_room f_span f_temporalLimit f_letterMask f_nodeCount f_temporalCount f_stackCount f_traceLen f_lassoLen f_lassoStart : Int32} {f_universe f_live : Int64} {f_ready f_wordLen f_wordStart : Int32} {a_kinds a_lefts a_rights : Nat → Int32} {a_truth : Nat → Int64} {a_temporalNodes a_stack a_trace a_lasso : Nat → Int32} {a_successors : Nat → Int64} {a_word : Nat → Int32} {a_values : Nat → Int64}
variable {ap tl n s code : Nat}
theorem xw_ld13 {post : SX → Prop} (h8 : n ≤ 8) (ht : tl ≤ 8)
    (h : ∀ wd, (∀ p, p < n → wd p = qw_cand ap tl a_trace n code p) → post (nI ap, f_nodeLimit, f_room, f_span, f_temporalLimit, nI (2 ^ ap - 1), f_nodeCount, f_temporalCount, f_stackCount, nI tl, f_lassoLen, f_lassoStart, f_universe, f_live, f_ready, f_wordLen, f_wordStart, a_kinds, a_lefts, a_rights, a_truth, a_temporalNodes, a_stack, a_trace, a_lasso, a_successors, wd, a_values)) :
    ∀ d i wd, i + d = n → (∀ p, p < i → wd p = qw_cand ap tl a_trace n code p) →
      wX_loadCandidate_13 post (nI n) (nI code) (nI ap) f_nodeLimit f_room f_span f_temporalLimit (nI (2 ^ ap - 1)) f_nodeCount f_temporalCount f_stackCount (nI tl) f_lassoLen f_lassoStart f_universe f_live f_ready f_wordLen f_wordStart (d + 1) (nI i) a_kinds a_lefts a_rights a_truth a_temporalNodes a_stack a_trace a_lasso a_successors wd a_values := by
  intro d
  induction d with
  | zero =>
    intro i wd hi hw
    have : i = n := by omega
    subst this
    exact br_t (nI_le (Nat.le_refl _) (by omega)) (h wd hw)
  | succ d ih =>
    intro i wd hi hw
    have stp : ∀ x, x = qw_cand ap tl a_trace n code i → ∀ p, p < i + 1 → upd wd i x p = qw_cand ap tl a_trace n code p := by
      intro x ex p hp
      by_cases e : p = i
      · subst e; rw [pk_us]; exact ex
      · rw [pk_un e]; exact hw p (by omega)
    refine br_f (nI_ge (by omega) (by omega)) ?_
    rw [nI_clamp (n := i) (by omega)]
    have i8 : vp_in (nI i) 8 := vp_in_nI (by omega) (by decide)
    refine pk_le tl i (fun a => ?_) (fun a => ?_)
    · have e1 : (nI n - 1 - nI i) * nI ap = nI ((n - 1 - i) * ap) := by
        have e2 : nI n - 1 = nI (n - 1) := by
          obtain ⟨m, rfl⟩ : ∃ m, n = m + 1 := ⟨n - 1, by omega⟩
          exact nI_pred m
        rw [e2, pk_sub (by omega), pk_mul]
      refine nm_r e1 ⟨i8, nm_e (nm_r (nI_1 i) (ih (i + 1) _ (by omega) (stp _ ?_)))⟩
      unfold qw_cand; rw [if_neg (by omega)]
    · refine ⟨i8, i8, nm_e (nm_r (nI_1 i) (ih (i + 1) _ (by omega) (stp _ ?_)))⟩
      unfold qw_cand; rw [if_pos a]
theorem xw_load {post : SX → Prop} (h8 : n ≤ 8) (ht : tl ≤ 8)
    (h : ∀ wd, (∀ p, p < n → wd p = qw_cand ap tl a_trace n code p) → post (nI ap, f_nodeLimit, f_room, f_span, f_temporalLimit, nI (2 ^ ap - 1), f_nodeCount, f_temporalCount, f_stackCount, nI tl, f_lassoLen, f_lassoStart, f_universe, f_live, f_ready, nI n, nI s, a_kinds, a_lefts, a_rights, a_truth, a_temporalNodes, a_stack, a_trace, a_lasso, a_successors, wd, a_values)) :
    wpX_loadCandidate post (nI ap, f_nodeLimit, f_room, f_span, f_temporalLimit, nI (2 ^ ap - 1), f_nodeCount, f_temporalCount, f_stackCount, nI tl, f_lassoLen, f_lassoStart, f_universe, f_live, f_ready, f_wordLen, f_wordStart, a_kinds, a_lefts, a_rights, a_truth, a_temporalNodes, a_stack, a_trace, a_lasso, a_successors, a_word, a_values) (nI n) (nI s) (nI code) := by
  unfold wpX_loadCandidate; dsimp only
  exact ⟨n + 1, xw_ld13 h8 ht h n 0 a_word (Nat.zero_add _) (fun p hp => absurd hp (Nat.not_lt_zero _))⟩
theorem xw_kp18 {post : SX → Prop} (h8 : n ≤ 8)
    (h : ∀ la, (∀ p, p < n → la p = a_word p) → post (f_atomCount, f_nodeLimit, f_room, f_span, f_temporalLimit, f_letterMask, f_nodeCount, f_temporalCount, f_stackCount, f_traceLen, f_lassoLen, f_lassoStart, f_universe, f_live, f_ready, nI n, f_wordStart, a_kinds, a_lefts, a_rights, a_truth, a_temporalNodes, a_stack, a_trace, la, a_successors, a_word, a_values)) :
    ∀ d i la, i + d = n → (∀ p, p < i → la p = a_word p) →
      wX_keepWord_18 post f_atomCount f_nodeLimit f_room f_span f_temporalLimit f_letterMask f_nodeCount f_temporalCount f_stackCount f_traceLen f_lassoLen f_lassoStart f_universe f_live f_ready (nI n) f_wordStart (d + 1) (nI i) a_kinds a_lefts a_rights a_truth a_temporalNodes a_stack a_trace la a_successors a_word a_values := by
  intro d
  induction d with
  | zero =>
    intro i la hi hw
    have : i = n := by omega
    subst this
    exact br_t (nI_le (Nat.le_refl _) (by omega)) (h la hw)
  | succ d ih =>
    intro i la hi hw
    refine br_f (nI_ge (by omega) (by omega)) ?_
    rw [nI_clamp (n := i) (by omega)]
    have i8 : vp_in (nI i) 8 := vp_in_nI (by omega) (by decide)
    refine ⟨i8, i8, nm_e (nm_r (nI_1 i) (ih (i + 1) _ (by omega) (fun p hp => ?_)))⟩
    by_cases e : p = i
    · subst e; rw [pk_us]
    · rw [pk_un e]; exact hw p (by omega)
theorem xw_keep {post : SX → Prop} (h8 : n ≤ 8)
    (h : ∀ la, (∀ p, p < n → la p = a_word p) → post (f_atomCount, f_nodeLimit, f_room, f_span, f_temporalLimit, f_letterMask, f_nodeCount, f_temporalCount, f_stackCount, f_traceLen, nI n, nI s, f_universe, f_live, f_ready, nI n, nI s, a_kinds, a_lefts, a_rights, a_truth, a_temporalNodes, a_stack, a_trace, la, a_successors, a_word, a_values)) :
    wpX_keepWord post (f_atomCount, f_nodeLimit, f_room, f_span, f_temporalLimit, f_letterMask, f_nodeCount, f_temporalCount, f_stackCount, f_traceLen, f_lassoLen, f_lassoStart, f_universe, f_live, f_ready, nI n, nI s, a_kinds, a_lefts, a_rights, a_truth, a_temporalNodes, a_stack, a_trace, a_lasso, a_successors, a_word, a_values) := by
  unfold wpX_keepWord; dsimp only
  exact ⟨n + 1, xw_kp18 h8 h n 0 a_lasso (Nat.zero_add _) (fun p hp => absurd hp (Nat.not_lt_zero _))⟩
theorem xw_ll18 {post : SX → Prop} (h8 : n ≤ 8)
    (h : ∀ wd, (∀ p, p < n → wd p = a_lasso p) → post (f_atomCount, f_nodeLimit, f_room, f_span, f_temporalLimit, f_letterMask, f_nodeCount, f_temporalCount, f_stackCount, f_traceLen, nI n, f_lassoStart, f_universe, f_live, f_ready, f_wordLen, f_wordStart, a_kinds, a_lefts, a_rights, a_truth, a_temporalNodes, a_stack, a_trace, a_lasso, a_successors, wd, a_values)) :
    ∀ d i wd, i + d = n → (∀ p, p < i → wd p = a_lasso p) →
      wX_loadLasso_18 post f_atomCount f_nodeLimit f_room f_span f_temporalLimit f_letterMask f_nodeCount f_temporalCount f_stackCount f_traceLen (nI n) f_lassoStart f_universe f_live f_ready f_wordLen f_wordStart (d + 1) (nI i) a_kinds a_lefts a_rights a_truth a_temporalNodes a_stack a_trace a_lasso a_successors wd a_values := by
  intro d
  induction d with
  | zero =>
    intro i la hi hw
    have : i = n := by omega
    subst this
    exact br_t (nI_le (Nat.le_refl _) (by omega)) (h la hw)
  | succ d ih =>
    intro i la hi hw
    refine br_f (nI_ge (by omega) (by omega)) ?_
    rw [nI_clamp (n := i) (by omega)]
    have i8 : vp_in (nI i) 8 := vp_in_nI (by omega) (by decide)
    refine ⟨i8, i8, nm_e (nm_r (nI_1 i) (ih (i + 1) _ (by omega) (fun p hp => ?_)))⟩
    by_cases e : p = i
    · subst e; rw [pk_us]
    · rw [pk_un e]; exact hw p (by omega)
theorem xw_ldl {post : SX → Prop} (h8 : n ≤ 8)
    (h : ∀ wd, (∀ p, p < n → wd p = a_lasso p) → post (f_atomCount, f_nodeLimit, f_room, f_span, f_temporalLimit, f_letterMask, f_nodeCount, f_temporalCount, f_stackCount, f_traceLen, nI n, nI s, f_universe, f_live, f_ready, nI n, nI s, a_kinds, a_lefts, a_rights, a_truth, a_temporalNodes, a_stack, a_trace, a_lasso, a_successors, wd, a_values)) :
    wpX_loadLasso post (f_atomCount, f_nodeLimit, f_room, f_span, f_temporalLimit, f_letterMask, f_nodeCount, f_temporalCount, f_stackCount, f_traceLen, nI n, nI s, f_universe, f_live, f_ready, f_wordLen, f_wordStart, a_kinds, a_lefts, a_rights, a_truth, a_temporalNodes, a_stack, a_trace, a_lasso, a_successors, a_word, a_values) := by
  unfold wpX_loadLasso; dsimp only
  exact ⟨n + 1, xw_ll18 h8 h n 0 a_word (Nat.zero_add _) (fun p hp => absurd hp (Nat.not_lt_zero _))⟩
/-! the place that stands for a position -/
def qw_fold (p n s : Nat) : Nat := if p < n then p else s + (p - s) % (n - s)
theorem qw_fl {p n s : Nat} (hs : s < n) : qw_fold p n s < n := by
  unfold qw_fold
  split
  · assumption
  · have := Nat.mod_lt (p - s) (show n - s > 0 by omega)
    omega
theorem xw_place {post : Int32 → Prop} {p : Nat} (hp : p < 2 ^ 31) (h8 : n ≤ 8) (hs : s < n) (h : post (nI (qw_fold p n s))) : wpX_placeOf post (f_atomCount, f_nodeLimit, f_room, f_span, f_temporalLimit, f_letterMask, f_nodeCount, f_temporalCount, f_stackCount, f_traceLen, nI n, nI s, f_universe, f_live, f_ready, f_wordLen, f_wordStart, a_kinds, a_lefts, a_rights, a_truth, a_temporalNodes, a_stack, a_trace, a_lasso, a_successors, a_word, a_values) (nI p) := by
  unfold wpX_placeOf; dsimp only
  unfold qw_fold at h
  refine pk_le n p (fun a => ?_) (fun a => ?_)
  · rw [if_neg (by omega)] at h
    rw [pk_sub (show s ≤ n by omega), pk_sub (show s ≤ p by omega), pk_rem (by omega) (by omega) (by omega), nI_add]
    exact ⟨nI_ne0 (by omega) (by omega), h⟩
  · rw [if_pos a] at h; exact h
end
section
variable {f_atomCount f_nodeLimit f_room f_span f_temporalLimit f_letterMask f_nodeCount f_temporalCount f_stackCount f_traceLen f_lassoLen f_lassoStart : Int32} {f_universe f_live : Int64} {f_ready f_wordLen f_wordStart : Int32} {a_kinds a_lefts a_rights : Nat → Int32} {a_truth : Nat → Int64} {a_temporalNodes a_stack a_trace a_lasso : Nat → Int32} {a_successors : Nat → Int64} {a_word : Nat → Int32} {a_values : Nat → Int64}
variable {ap N K tl : Nat} {kd lf rt tn : Nat → Nat}
def qw_hit (ap tl : Nat) (kd lf rt : Nat → Nat) (tr : Nat → Int32) (i n s code : Nat) : Bool := qs_W kd lf rt (qw_cand ap tl tr n code) n s i 0
theorem xw_fitB {post : Int32 → SX → Prop} {m i n s code M : Nat} (H : qs_WF ap N K kd lf rt tn) (ND : xs_nd N kd lf rt a_kinds a_lefts a_rights) (ht : tl ≤ 8) (hi : i < N) (h8 : n ≤ 8) (hs : s < n) (hc : code < M) (hM : M ≤ 64)
    (h0 : qw_hit ap tl kd lf rt a_trace i n s code = false → ∀ wl ws wd va, wX_fits_18 post (nI i) (nI n) (nI s) (nI M) m (nI (code + 1)) (nI ap) f_nodeLimit f_room f_span f_temporalLimit (nI (2 ^ ap - 1)) f_nodeCount f_temporalCount f_stackCount (nI tl) f_lassoLen f_lassoStart f_universe f_live f_ready wl ws a_kinds a_lefts a_rights a_truth a_temporalNodes a_stack a_trace a_lasso a_successors wd va)
    (h1 : qw_hit ap tl kd lf rt a_trace i n s code = true → ∀ wd va, (∀ p, p < n → wd p = qw_cand ap tl a_trace n code p) → post 1 (nI ap, f_nodeLimit, f_room, f_span, f_temporalLimit, nI (2 ^ ap - 1), f_nodeCount, f_temporalCount, f_stackCount, nI tl, f_lassoLen, f_lassoStart, f_universe, f_live, f_ready, nI n, nI s, a_kinds, a_lefts, a_rights, a_truth, a_temporalNodes, a_stack, a_trace, a_lasso, a_successors, wd, va)) :
    wX_fits_18 post (nI i) (nI n) (nI s) (nI M) (m + 1) (nI code) (nI ap) f_nodeLimit f_room f_span f_temporalLimit (nI (2 ^ ap - 1)) f_nodeCount f_temporalCount f_stackCount (nI tl) f_lassoLen f_lassoStart f_universe f_live f_ready f_wordLen f_wordStart a_kinds a_lefts a_rights a_truth a_temporalNodes a_stack a_trace a_lasso a_successors a_word a_values := by
  have hN := H.2.1
  refine br_f (nI_ge hc (by omega)) (xw_load h8 ht (fun wd hw => ?_))
  dsimp only
  refine xw_eval H ND h8 hs hw hi (fun va hva => ?_)
  dsimp only
  rw [nI_clamp (by omega)]
  refine ⟨vp_in_nI (by omega) (by decide), xw_has (e := 0) (by decide) ?_⟩
  have e : qb_l (va i) 0 = qw_hit ap tl kd lf rt a_trace i n s code := by
    rw [hva i (Nat.le_refl _) 0 (by decide), decide_eq_true (show 0 < n by omega)]; rfl
  rw [e]
  exact qb_c0 (fun z => nm_r (nI_1 code) (h0 z _ _ _ _)) (fun z => h1 z _ _ hw)
theorem xw_fit0 {post : Int32 → SX → Prop} {i n s M : Nat} (H : qs_WF ap N K kd lf rt tn) (ND : xs_nd N kd lf rt a_kinds a_lefts a_rights) (ht : tl ≤ 8) (hi : i < N) (h8 : n ≤ 8) (hs : s < n) (hM : M ≤ 64)
    (hh : ∀ code, code < M → qw_hit ap tl kd lf rt a_trace i n s code = false)
    (h : ∀ wl ws wd va, post 0 (nI ap, f_nodeLimit, f_room, f_span, f_temporalLimit, nI (2 ^ ap - 1), f_nodeCount, f_temporalCount, f_stackCount, nI tl, f_lassoLen, f_lassoStart, f_universe, f_live, f_ready, wl, ws, a_kinds, a_lefts, a_rights, a_truth, a_temporalNodes, a_stack, a_trace, a_lasso, a_successors, wd, va)) :
    ∀ d code, code + d = M → ∀ wl ws wd va, wX_fits_18 post (nI i) (nI n) (nI s) (nI M) (d + 1) (nI code) (nI ap) f_nodeLimit f_room f_span f_temporalLimit (nI (2 ^ ap - 1)) f_nodeCount f_temporalCount f_stackCount (nI tl) f_lassoLen f_lassoStart f_universe f_live f_ready wl ws a_kinds a_lefts a_rights a_truth a_temporalNodes a_stack a_trace a_lasso a_successors wd va := by
  intro d
  induction d with
  | zero =>
    intro code hc wl ws wd va
    exact br_t (nI_le (by omega) (by omega)) (h wl ws wd va)
  | succ d ih =>
    intro code hc wl ws wd va
    refine xw_fitB H ND ht hi h8 hs (by omega) hM (fun _ => ih (code + 1) (by omega)) (fun z => ?_)
    rw [hh code (by omega)] at z
    exact absurd z (by decide)
theorem xw_fit1 {post : Int32 → SX → Prop} {i n s M c0 : Nat} (H : qs_WF ap N K kd lf rt tn) (ND : xs_nd N kd lf rt a_kinds a_lefts a_rights) (ht : tl ≤ 8) (hi : i < N) (h8 : n ≤ 8) (hs : s < n) (hM : M ≤ 64) (hc0 : c0 < M)
    (hh : ∀ code, code < c0 → qw_hit ap tl kd lf rt a_trace i n s code = false) (hh0 : qw_hit ap tl kd lf rt a_trace i n s c0 = true)
    (h : ∀ wd va, (∀ p, p < n → wd p = qw_cand ap tl a_trace n c0 p) → post 1 (nI ap, f_nodeLimit, f_room, f_span, f_temporalLimit, nI (2 ^ ap - 1), f_nodeCount, f_temporalCount, f_stackCount, nI tl, f_lassoLen, f_lassoStart, f_universe, f_live, f_ready, nI n, nI s, a_kinds, a_lefts, a_rights, a_truth, a_temporalNodes, a_stack, a_trace, a_lasso, a_successors, wd, va)) :
    ∀ d code, code + d = c0 → ∀ wl ws wd va, wX_fits_18 post (nI i) (nI n) (nI s) (nI M) (d + 1) (nI code) (nI ap) f_nodeLimit f_room f_span f_temporalLimit (nI (2 ^ ap - 1)) f_nodeCount f_temporalCount f_stackCount (nI tl) f_lassoLen f_lassoStart f_universe f_live f_ready wl ws a_kinds a_lefts a_rights a_truth a_temporalNodes a_stack a_trace a_lasso a_successors wd va := by
  intro d
  induction d with
  | zero =>
    intro code hc wl ws wd va
    have : code = c0 := by omega
    subst this
    refine xw_fitB H ND ht hi h8 hs hc0 hM (fun z => ?_) (fun _ => h)
    rw [hh0] at z
    exact absurd z (by decide)
  | succ d ih =>
    intro code hc wl ws wd va
    refine xw_fitB H ND ht hi h8 hs (by omega) hM (fun _ => ih (code + 1) (by omega)) (fun z => ?_)
    rw [hh code (by omega)] at z
    exact absurd z (by decide)
theorem qw_M {n tl ap : Nat} (hn : tl ≤ n) (hc : (n - tl) * ap ≤ 6) : (1 : Int32) <<< (((nI n - nI tl) * nI ap) &&& 31) = nI (2 ^ ((n - tl) * ap)) := by
  rw [pk_sub hn, pk_mul, qb_shc (by omega)]
theorem qw_M6 {x : Nat} (h : x ≤ 6) : 2 ^ x ≤ 64 := Nat.pow_le_pow_right (n := 2) (j := 6) (by decide) h
theorem xw_fits0 {post : Int32 → SX → Prop} {i n s : Nat} (H : qs_WF ap N K kd lf rt tn) (ND : xs_nd N kd lf rt a_kinds a_lefts a_rights) (ht : tl ≤ 8) (hi : i < N) (h8 : n ≤ 8) (hs : s < n) (hn : tl ≤ n) (hc : (n - tl) * ap ≤ 6)
    (hh : ∀ code, code < 2 ^ ((n - tl) * ap) → qw_hit ap tl kd lf rt a_trace i n s code = false)
    (h : ∀ wl ws wd va, post 0 (nI ap, f_nodeLimit, f_room, f_span, f_temporalLimit, nI (2 ^ ap - 1), f_nodeCount, f_temporalCount, f_stackCount, nI tl, f_lassoLen, f_lassoStart, f_universe, f_live, f_ready, wl, ws, a_kinds, a_lefts, a_rights, a_truth, a_temporalNodes, a_stack, a_trace, a_lasso, a_successors, wd, va)) :
    wpX_fits post (nI ap, f_nodeLimit, f_room, f_span, f_temporalLimit, nI (2 ^ ap - 1), f_nodeCount, f_temporalCount, f_stackCount, nI tl, f_lassoLen, f_lassoStart, f_universe, f_live, f_ready, f_wordLen, f_wordStart, a_kinds, a_lefts, a_rights, a_truth, a_temporalNodes, a_stack, a_trace, a_lasso, a_successors, a_word, a_values) (nI i) (nI n) (nI s) := by
  unfold wpX_fits; dsimp only
  exact nm_r (qw_M hn hc) ⟨2 ^ ((n - tl) * ap) + 1, xw_fit0 H ND ht hi h8 hs (qw_M6 hc) hh h _ 0 (Nat.zero_add _) _ _ _ _⟩
theorem xw_fits1 {post : Int32 → SX → Prop} {i n s c0 : Nat} (H : qs_WF ap N K kd lf rt tn) (ND : xs_nd N kd lf rt a_kinds a_lefts a_rights) (ht : tl ≤ 8) (hi : i < N) (h8 : n ≤ 8) (hs : s < n) (hn : tl ≤ n) (hc : (n - tl) * ap ≤ 6) (hc0 : c0 < 2 ^ ((n - tl) * ap))
    (hh : ∀ code, code < c0 → qw_hit ap tl kd lf rt a_trace i n s code = false) (hh0 : qw_hit ap tl kd lf rt a_trace i n s c0 = true)
    (h : ∀ wd va, (∀ p, p < n → wd p = qw_cand ap tl a_trace n c0 p) → post 1 (nI ap, f_nodeLimit, f_room, f_span, f_temporalLimit, nI (2 ^ ap - 1), f_nodeCount, f_temporalCount, f_stackCount, nI tl, f_lassoLen, f_lassoStart, f_universe, f_live, f_ready, nI n, nI s, a_kinds, a_lefts, a_rights, a_truth, a_temporalNodes, a_stack, a_trace, a_lasso, a_successors, wd, va)) :
    wpX_fits post (nI ap, f_nodeLimit, f_room, f_span, f_temporalLimit, nI (2 ^ ap - 1), f_nodeCount, f_temporalCount, f_stackCount, nI tl, f_lassoLen, f_lassoStart, f_universe, f_live, f_ready, f_wordLen, f_wordStart, a_kinds, a_lefts, a_rights, a_truth, a_temporalNodes, a_stack, a_trace, a_lasso, a_successors, a_word, a_values) (nI i) (nI n) (nI s) := by
  unfold wpX_fits; dsimp only
  exact nm_r (qw_M hn hc) ⟨c0 + 1, xw_fit1 H ND ht hi h8 hs (qw_M6 hc) hc0 hh hh0 h _ 0 (Nat.zero_add _) _ _ _ _⟩
theorem xw_71m {post : Int32 → SX → Prop} {J : Int32 → Int32 → Int32 → Int32 → Int32 → Int32 → Int32 → Int32 → Int32 → Int32 → Int32 → Int32 → Int32 → Int64 → Int64 → Int32 → Int32 → Int32 → (Nat → Int32) → (Nat → Int32) → (Nat → Int32) → (Nat → Int64) → (Nat → Int32) → (Nat → Int32) → (Nat → Int32) → (Nat → Int32) → (Nat → Int64) → (Nat → Int32) → (Nat → Int64) → Prop} {x3 : Int32} {i n : Nat} (H : qs_WF ap N K kd lf rt tn) (ND : xs_nd N kd lf rt a_kinds a_lefts a_rights) (ht : tl ≤ 8) (hi : i < N) (h8 : n ≤ 8) (hn : tl ≤ n) (hc : (n - tl) * ap ≤ 6)
    (hh : ∀ s code, s < n → code < 2 ^ ((n - tl) * ap) → qw_hit ap tl kd lf rt a_trace i n s code = false)
    (h : ∀ wl ws wd va, J (nI (n + 1)) (nI ap) f_nodeLimit f_room f_span f_temporalLimit (nI (2 ^ ap - 1)) f_nodeCount f_temporalCount f_stackCount (nI tl) f_lassoLen f_lassoStart f_universe f_live f_ready wl ws a_kinds a_lefts a_rights a_truth a_temporalNodes a_stack a_trace a_lasso a_successors wd va) :
    ∀ d s, s + d = n → ∀ wl ws wd va, wX_find_71 post J (nI i) x3 (nI n) (d + 1) (nI s) (nI ap) f_nodeLimit f_room f_span f_temporalLimit (nI (2 ^ ap - 1)) f_nodeCount f_temporalCount f_stackCount (nI tl) f_lassoLen f_lassoStart f_universe f_live f_ready wl ws a_kinds a_lefts a_rights a_truth a_temporalNodes a_stack a_trace a_lasso a_successors wd va := by
  intro d
  induction d with
  | zero =>
    intro s hs wl ws wd va
    exact br_t (nI_le (by omega) (by omega)) (nm_r (nI_1 n) (h wl ws wd va))
  | succ d ih =>
    intro s hs wl ws wd va
    refine br_f (nI_ge (by omega) (by omega)) (xw_fits0 H ND ht hi h8 (by omega) hn hc (fun code hcd => hh s code (by omega) hcd) (fun wl' ws' wd' va' => ?_))
    dsimp only
    exact br_t rfl (nm_r (nI_1 s) (ih (s + 1) (by omega) _ _ _ _))
theorem xw_71h {post : Int32 → SX → Prop} {J : Int32 → Int32 → Int32 → Int32 → Int32 → Int32 → Int32 → Int32 → Int32 → Int32 → Int32 → Int32 → Int32 → Int64 → Int64 → Int32 → Int32 → Int32 → (Nat → Int32) → (Nat → Int32) → (Nat → Int32) → (Nat → Int64) → (Nat → Int32) → (Nat → Int32) → (Nat → Int32) → (Nat → Int32) → (Nat → Int64) → (Nat → Int32) → (Nat → Int64) → Prop} {x3 : Int32} {i n s0 c0 : Nat} (H : qs_WF ap N K kd lf rt tn) (ND : xs_nd N kd lf rt a_kinds a_lefts a_rights) (ht : tl ≤ 8) (hi : i < N) (h8 : n ≤ 8) (hn : tl ≤ n) (hc : (n - tl) * ap ≤ 6) (hs0 : s0 < n) (hc0 : c0 < 2 ^ ((n - tl) * ap))
    (hh : ∀ s code, s < s0 → code < 2 ^ ((n - tl) * ap) → qw_hit ap tl kd lf rt a_trace i n s code = false)
    (hh1 : ∀ code, code < c0 → qw_hit ap tl kd lf rt a_trace i n s0 code = false) (hh0 : qw_hit ap tl kd lf rt a_trace i n s0 c0 = true)
    (h : ∀ wl ws wd va la, (∀ p, p < n → la p = qw_cand ap tl a_trace n c0 p) → post (nI n) (nI ap, f_nodeLimit, f_room, f_span, f_temporalLimit, nI (2 ^ ap - 1), f_nodeCount, f_temporalCount, f_stackCount, nI tl, nI n, nI s0, f_universe, f_live, f_ready, wl, ws, a_kinds, a_lefts, a_rights, a_truth, a_temporalNodes, a_stack, a_trace, la, a_successors, wd, va)) :
    ∀ d s, s + d = s0 → ∀ wl ws wd va, wX_find_71 post J (nI i) x3 (nI n) (d + 1) (nI s) (nI ap) f_nodeLimit f_room f_span f_temporalLimit (nI (2 ^ ap - 1)) f_nodeCount f_temporalCount f_stackCount (nI tl) f_lassoLen f_lassoStart f_universe f_live f_ready wl ws a_kinds a_lefts a_rights a_truth a_temporalNodes a_stack a_trace a_lasso a_successors wd va := by
  intro d
  induction d with
  | zero =>
    intro s hs wl ws wd va
    have : s = s0 := by omega
    subst this
    refine br_f (nI_ge (by omega) (by omega)) (xw_fits1 H ND ht hi h8 hs0 hn hc hc0 hh1 hh0 (fun wd' va' hw => ?_))
    dsimp only
    refine br_f (by decide) (xw_keep h8 (fun la hla => ?_))
    dsimp only
    exact h _ _ _ _ la (fun p hp => by rw [hla p hp, hw p hp])
  | succ d ih =>
    intro s hs wl ws wd va
    refine br_f (nI_ge (by omega) (by omega)) (xw_fits0 H ND ht hi h8 (by omega) hn hc (fun code hcd => hh s code (by omega) hcd) (fun wl' ws' wd' va' => ?_))
    dsimp only
    exact br_t rfl (nm_r (nI_1 s) (ih (s + 1) (by omega) _ _ _ _))
/-- no candidate fits: the outlook is asked -/
theorem xw_62m {post : Int32 → SX → Prop} {i top : Nat} (H : qs_WF ap N K kd lf rt tn) (ND : xs_nd N kd lf rt a_kinds a_lefts a_rights) (ht : tl ≤ 8) (hi : i < N) (h8 : top ≤ 8) (hc : (top - tl) * ap ≤ 6)
    (hh : ∀ n s code, tl ≤ n → 1 ≤ n → n ≤ top → s < n → code < 2 ^ ((n - tl) * ap) → qw_hit ap tl kd lf rt a_trace i n s code = false)
    (h : ∀ wl ws wd va, wpX_outlook (fun r u => (r = 0 → post 0 u) ∧ (¬ r = 0 → post (-7) u)) (nI ap, f_nodeLimit, f_room, f_span, f_temporalLimit, nI (2 ^ ap - 1), f_nodeCount, f_temporalCount, f_stackCount, nI tl, f_lassoLen, f_lassoStart, f_universe, f_live, f_ready, wl, ws, a_kinds, a_lefts, a_rights, a_truth, a_temporalNodes, a_stack, a_trace, a_lasso, a_successors, wd, va) (nI i)) :
    ∀ d n, n + d = top + 1 → tl ≤ n → 1 ≤ n → ∀ wl ws wd va, wX_find_62 post (nI i) (nI top) (d + 1) (nI n) (nI ap) f_nodeLimit f_room f_span f_temporalLimit (nI (2 ^ ap - 1)) f_nodeCount f_temporalCount f_stackCount (nI tl) f_lassoLen f_lassoStart f_universe f_live f_ready wl ws a_kinds a_lefts a_rights a_truth a_temporalNodes a_stack a_trace a_lasso a_successors wd va := by
  intro d
  induction d with
  | zero =>
    intro n hn htn h1 wl ws wd va
    exact br_t (nI_lt (by omega) (by omega)) (h wl ws wd va)
  | succ d ih =>
    intro n hn htn h1 wl ws wd va
    have hcn : (n - tl) * ap ≤ 6 := Nat.le_trans (Nat.mul_le_mul_right ap (by omega)) hc
    exact br_f (nI_nlt (by omega) (by omega)) ⟨n + 1, xw_71m H ND ht hi (by omega) htn hcn (fun s code hs hcd => hh n s code htn h1 (by omega) hs hcd) (fun wl' ws' wd' va' => ih (n + 1) (by omega) (by omega) (by omega) wl' ws' wd' va') n 0 (Nat.zero_add _) _ _ _ _⟩
theorem xw_62h {post : Int32 → SX → Prop} {i top n0 s0 c0 : Nat} (H : qs_WF ap N K kd lf rt tn) (ND : xs_nd N kd lf rt a_kinds a_lefts a_rights) (ht : tl ≤ 8) (hi : i < N) (h8 : top ≤ 8) (hc : (top - tl) * ap ≤ 6) (hn0 : n0 ≤ top) (hs0 : s0 < n0) (hc0 : c0 < 2 ^ ((n0 - tl) * ap))
    (hh : ∀ n s code, tl ≤ n → 1 ≤ n → n < n0 → s < n → code < 2 ^ ((n - tl) * ap) → qw_hit ap tl kd lf rt a_trace i n s code = false)
    (hh2 : ∀ s code, s < s0 → code < 2 ^ ((n0 - tl) * ap) → qw_hit ap tl kd lf rt a_trace i n0 s code = false)
    (hh1 : ∀ code, code < c0 → qw_hit ap tl kd lf rt a_trace i n0 s0 code = false) (hh0 : qw_hit ap tl kd lf rt a_trace i n0 s0 c0 = true)
    (h : ∀ wl ws wd va la, (∀ p, p < n0 → la p = qw_cand ap tl a_trace n0 c0 p) → post (nI n0) (nI ap, f_nodeLimit, f_room, f_span, f_temporalLimit, nI (2 ^ ap - 1), f_nodeCount, f_temporalCount, f_stackCount, nI tl, nI n0, nI s0, f_universe, f_live, f_ready, wl, ws, a_kinds, a_lefts, a_rights, a_truth, a_temporalNodes, a_stack, a_trace, la, a_successors, wd, va)) :
    ∀ d n, n + d = n0 → tl ≤ n → 1 ≤ n → ∀ wl ws wd va, wX_find_62 post (nI i) (nI top) (d + 1) (nI n) (nI ap) f_nodeLimit f_room f_span f_temporalLimit (nI (2 ^ ap - 1)) f_nodeCount f_temporalCount f_stackCount (nI tl) f_lassoLen f_lassoStart f_universe f_live f_ready wl ws a_kinds a_lefts a_rights a_truth a_temporalNodes a_stack a_trace a_lasso a_successors wd va := by
  intro d
  induction d with
  | zero =>
    intro n hn htn h1 wl ws wd va
    have : n = n0 := by omega
    subst this
    have hcn : (n - tl) * ap ≤ 6 := Nat.le_trans (Nat.mul_le_mul_right ap (by omega)) hc
    exact br_f (nI_nlt (by omega) (by omega)) ⟨s0 + 1, xw_71h H ND ht hi (by omega) htn hcn hs0 hc0 hh2 hh1 hh0 h s0 0 (Nat.zero_add _) _ _ _ _⟩
  | succ d ih =>
    intro n hn htn h1 wl ws wd va
    have hcn : (n - tl) * ap ≤ 6 := Nat.le_trans (Nat.mul_le_mul_right ap (by omega)) hc
    exact br_f (nI_nlt (by omega) (by omega)) ⟨n + 1, xw_71m H ND ht hi (by omega) htn hcn (fun s code hs hcd => hh n s code htn h1 (by omega) hs hcd) (fun wl' ws' wd' va' => ih (n + 1) (by omega) (by omega) (by omega) wl' ws' wd' va') n 0 (Nat.zero_add _) _ _ _ _⟩
end
end
section
/-! Y: small methods, eval, carry, settled -/
def ys_nd (N : Nat) (kd lf rt : Nat → Nat) (b_kind b_left b_right : Nat → Int32) : Prop :=
  ∀ i, i < N → b_kind i = nI (kd i) ∧ (5 ≤ kd i → b_left i = nI (lf i)) ∧ (¬ 5 ≤ kd i → b_left i = -1) ∧ (qs_bin (kd i) → b_right i = nI (rt i)) ∧ (¬ qs_bin (kd i) → b_right i = -1)
def qs_binB (k : Nat) : Bool := decide ((6 ≤ k ∧ k ≤ 9) ∨ 13 ≤ k)
theorem qs_binE (k : Nat) : qs_binB k = true ↔ qs_bin k := decide_eq_true_iff
section
variable {g_atoms g_most g_room g_span g_made g_depth g_length g_lassoN g_lassoS g_testN g_testS : Int32} {b_kind b_left b_right b_stack b_trace b_lasso b_test b_truth b_real b_seen b_queue : Nat → Int32}
theorem yw_isN0 {post : Int32 → Prop} {p0 : Int32} (h : p0 < 0 ∨ g_made ≤ p0) (k : post 0) : wpY_isNode post (g_atoms, g_most, g_room, g_span, g_made, g_depth, g_length, g_lassoN, g_lassoS, g_testN, g_testS, b_kind, b_left, b_right, b_stack, b_trace, b_lasso, b_test, b_truth, b_real, b_seen, b_queue) p0 := by
  unfold wpY_isNode; dsimp only
  by_cases z : p0 < 0
  · exact br_t z k
  · exact br_f z (br_t (h.resolve_left z) k)
theorem yw_isN1 {post : Int32 → Prop} {N j : Nat} (hj : j < N) (hN : N ≤ 24) (k : post 1) : wpY_isNode post (g_atoms, g_most, g_room, g_span, nI N, g_depth, g_length, g_lassoN, g_lassoS, g_testN, g_testS, b_kind, b_left, b_right, b_stack, b_trace, b_lasso, b_test, b_truth, b_real, b_seen, b_queue) (nI j) := by
  unfold wpY_isNode; dsimp only
  exact br_f (nI_pos (by omega)) (br_f (nI_ge hj (by omega)) k)
theorem yw_tm4 {post : Int32 → Prop} {N : Nat} {kd : Nat → Nat} (hN : N ≤ 24) (hk : ∀ i, i < N → b_kind i = nI (kd i) ∧ kd i ≤ 14) (h : post (nI (qs_cn kd N))) :
    ∀ d i, i + d = N → wY_temporals_4 post g_atoms g_most g_room g_span (nI N) g_depth g_length g_lassoN g_lassoS g_testN g_testS b_kind b_left b_right b_stack b_trace b_lasso b_test b_truth b_real b_seen b_queue (d + 1) (nI (qs_cn kd i)) (nI i) := by
  intro d
  induction d with
  | zero =>
    intro i hi
    have : i = N := by omega
    subst this
    exact br_t (nI_le (Nat.le_refl _) (by omega)) h
  | succ d ih =>
    intro i hi
    obtain ⟨e, e14⟩ := hk i (by omega)
    refine br_f (nI_ge (by omega) (by omega)) ⟨vp_in_nI (by omega) (by decide), ?_⟩
    rw [nI_clamp (by omega), e]
    have ih' := ih (i + 1) (by omega)
    rw [qs_cn] at ih'
    refine pk_lt (kd i) 10 (fun a => nm_r (nI_1 i) ?_) (fun a => nm_r (nI_1 _) (nm_r (nI_1 i) ?_))
    · rw [if_neg (by omega)] at ih'; exact ih'
    · rw [if_pos a] at ih'; exact ih'
theorem yw_temporals {post : Int32 → Prop} {N : Nat} {kd : Nat → Nat} (hN : N ≤ 24) (hk : ∀ i, i < N → b_kind i = nI (kd i) ∧ kd i ≤ 14) (h : post (nI (qs_cn kd N))) : wpY_temporals post (g_atoms, g_most, g_room, g_span, nI N, g_depth, g_length, g_lassoN, g_lassoS, g_testN, g_testS, b_kind, b_left, b_right, b_stack, b_trace, b_lasso, b_test, b_truth, b_real, b_seen, b_queue) := by
  unfold wpY_temporals; dsimp only
  exact ⟨N + 1, yw_tm4 hN hk h N 0 (Nat.zero_add _)⟩
theorem yw_fold {post : Int32 → Prop} {p n s : Nat} (hp : p < 2 ^ 31) (h8 : n ≤ 8) (hs : s < n) (h : post (nI (qw_fold p n s))) : wpY_fold post (g_atoms, g_most, g_room, g_span, g_made, g_depth, g_length, g_lassoN, g_lassoS, g_testN, g_testS, b_kind, b_left, b_right, b_stack, b_trace, b_lasso, b_test, b_truth, b_real, b_seen, b_queue) (nI p) (nI n) (nI s) := by
  unfold wpY_fold; dsimp only
  unfold qw_fold at h
  refine pk_le n p (fun a => ?_) (fun a => ?_)
  · rw [if_neg (by omega)] at h
    refine nm_r (pk_sub (show s ≤ n by omega)) (pk_le 1 (n - s) (fun b => ⟨nI_ne0 (by omega) (by omega), ?_⟩) (fun b => absurd b (by omega)))
    rw [pk_sub (show s ≤ p by omega), pk_rem (by omega) (by omega) (by omega), nI_add]
    exact h
  · rw [if_pos a] at h; exact h
theorem yw_plain {post : Int32 → Prop} {k : Nat} (hk : k < 10) {v : Int32} {a b : Bool} (h : post (qb_i (qs_pl k (bt v k) a b))) : wpY_plain post (g_atoms, g_most, g_room, g_span, g_made, g_depth, g_length, g_lassoN, g_lassoS, g_testN, g_testS, b_kind, b_left, b_right, b_stack, b_trace, b_lasso, b_test, b_truth, b_real, b_seen, b_queue) (nI k) v (qb_i a) (qb_i b) := by
  unfold wpY_plain; dsimp only
  refine pk_lt 2 k (fun k2 => ?_) (fun k2 => ?_)
  · rcases (by omega : k = 3 ∨ k = 4 ∨ k = 5 ∨ k = 6 ∨ k = 7 ∨ k = 8 ∨ k = 9) with e | e | e | e | e | e | e <;> subst e
    · exact br_t rfl (br_t rfl h)
    · exact br_f (by decide) (br_t rfl (br_f (by decide) h))
    · refine br_f (by decide) (br_f (by decide) (br_t rfl ?_))
      cases a
      · exact br_t rfl h
      · exact br_f (by decide) h
    · refine br_f (by decide) (br_f (by decide) (br_f (by decide) (br_t rfl ?_)))
      cases a
      · exact br_t rfl h
      · cases b
        · exact br_f (by decide) (br_t rfl h)
        · exact br_f (by decide) (br_f (by decide) h)
    · refine br_f (by decide) (br_f (by decide) (br_f (by decide) (br_f (by decide) (br_t rfl ?_))))
      cases a
      · cases b
        · exact br_t rfl (br_t rfl h)
        · exact br_t rfl (br_f (by decide) h)
      · exact br_f (by decide) h
    · refine br_f (by decide) (br_f (by decide) (br_f (by decide) (br_f (by decide) (br_f (by decide) (br_t rfl ?_)))))
      cases a
      · exact br_t rfl h
      · cases b
        · exact br_f (by decide) (br_t rfl h)
        · exact br_f (by decide) (br_f (by decide) h)
    · refine br_f (by decide) (br_f (by decide) (br_f (by decide) (br_f (by decide) (br_f (by decide) (br_f (by decide) ?_)))))
      cases a <;> cases b
      · exact br_t rfl h
      · exact br_f (by decide) h
      · exact br_f (by decide) h
      · exact br_t rfl h
  · rw [qb_sh1 _ (by omega)]
    unfold qs_pl at h
    rw [if_pos k2] at h
    refine qb_c1 (fun z => ?_) (fun z => ?_)
    · rw [z] at h; exact h
    · rw [z] at h; exact h
/-! eval: the joins, from the last to the first -/
def ye_ins (x3 : Int32) (i : Nat) (r : Bool) : Int32 := if r = true then x3 ||| ((1 : Int32) <<< (nI i &&& 31)) else x3
def ye_f14 (k : Nat) (a b l r : Bool) : Bool := if k = 14 then b && (a || l) else r
def ye_f13 (k : Nat) (a b l r : Bool) : Bool := ye_f14 k a b l (if k = 13 then b || (a && l) else r)
def ye_f12 (k : Nat) (a b l r : Bool) : Bool := ye_f13 k a b l (if k = 12 then a && l else r)
def ye_f11 (k : Nat) (a b l r : Bool) : Bool := ye_f12 k a b l (if k = 11 then a || l else r)
theorem ye_f (k : Nat) (hk : k ≤ 14) (a b l t : Bool) : ye_f11 k a b l (if 10 ≤ k then l else qs_pl k t a b) = if k < 10 then qs_pl k t a b else qs_ts k a b l := by
  unfold ye_f11 ye_f12 ye_f13 ye_f14 qs_ts
  by_cases c : k < 10
  · rw [if_pos c, if_neg (by omega), if_neg (by omega), if_neg (by omega), if_neg (by omega), if_neg (by omega)]
  · rw [if_neg c, if_pos (show 10 ≤ k by omega)]
    rcases (by omega : k = 10 ∨ k = 11 ∨ k = 12 ∨ k = 13 ∨ k = 14) with e | e | e | e | e <;> subst e <;> rfl
variable {post : Int32 → Prop} {J : Int32 → Int32 → Int32 → Prop} {x1 x2 x3 x4 : Int32}
theorem ye_247 {i : Nat} {r : Bool} (h : J (ye_ins x3 i r) x4 (nI (i + 1))) : wY_eval_247 post J x1 x2 x3 x4 (nI i) (qb_i r) g_atoms g_most g_room g_span g_made g_depth g_length g_lassoN g_lassoS g_testN g_testS b_kind b_left b_right b_stack b_trace b_lasso b_test b_truth b_real b_seen b_queue := by
  unfold wY_eval_247
  cases r
  · exact br_t rfl (nm_r (nI_1 i) h)
  · exact br_f (by decide) (nm_e (nm_r (nI_1 i) h))
theorem ye_244 {i : Nat} (h : J (ye_ins x3 i false) x4 (nI (i + 1))) : wY_eval_244 post J x1 x2 x3 x4 (nI i) g_atoms g_most g_room g_span g_made g_depth g_length g_lassoN g_lassoS g_testN g_testS b_kind b_left b_right b_stack b_trace b_lasso b_test b_truth b_real b_seen b_queue := by
  unfold wY_eval_244 wY_eval_245; exact ye_247 (r := false) h
theorem ye_240 {i : Nat} (h : J (ye_ins x3 i true) x4 (nI (i + 1))) : wY_eval_240 post J x1 x2 x3 x4 (nI i) g_atoms g_most g_room g_span g_made g_depth g_length g_lassoN g_lassoS g_testN g_testS b_kind b_left b_right b_stack b_trace b_lasso b_test b_truth b_real b_seen b_queue := by
  unfold wY_eval_240 wY_eval_245; exact ye_247 (r := true) h
theorem ye_218 {i k : Nat} (hk : k ≤ 14) {a b l r : Bool} (h : J (ye_ins x3 i (ye_f14 k a b l r)) x4 (nI (i + 1))) : wY_eval_218 post J x1 x2 x3 x4 (nI i) (nI k) (qb_i a) (qb_i b) (qb_i l) (qb_i r) g_atoms g_most g_room g_span g_made g_depth g_length g_lassoN g_lassoS g_testN g_testS b_kind b_left b_right b_stack b_trace b_lasso b_test b_truth b_real b_seen b_queue := by
  unfold wY_eval_218
  unfold ye_f14 at h
  refine pk_eq k 14 (fun e => ?_) (fun e => ?_)
  · rw [if_pos e] at h
    cases b
    · exact br_t rfl (ye_244 h)
    · refine br_f (by decide) ?_
      cases a
      · cases l
        · exact br_t rfl (br_t rfl (ye_244 h))
        · exact br_t rfl (br_f (by decide) (ye_240 h))
      · exact br_f (by decide) (ye_240 h)
  · rw [if_neg e] at h
    exact ye_247 h
theorem ye_215 {i k : Nat} (hk : k ≤ 14) {a b l : Bool} (h : J (ye_ins x3 i (ye_f14 k a b l false)) x4 (nI (i + 1))) : wY_eval_215 post J x1 x2 x3 x4 (nI i) (nI k) (qb_i a) (qb_i b) (qb_i l) g_atoms g_most g_room g_span g_made g_depth g_length g_lassoN g_lassoS g_testN g_testS b_kind b_left b_right b_stack b_trace b_lasso b_test b_truth b_real b_seen b_queue := by
  unfold wY_eval_215 wY_eval_216; exact ye_218 hk (r := false) h
theorem ye_211 {i k : Nat} (hk : k ≤ 14) {a b l : Bool} (h : J (ye_ins x3 i (ye_f14 k a b l true)) x4 (nI (i + 1))) : wY_eval_211 post J x1 x2 x3 x4 (nI i) (nI k) (qb_i a) (qb_i b) (qb_i l) g_atoms g_most g_room g_span g_made g_depth g_length g_lassoN g_lassoS g_testN g_testS b_kind b_left b_right b_stack b_trace b_lasso b_test b_truth b_real b_seen b_queue := by
  unfold wY_eval_211 wY_eval_216; exact ye_218 hk (r := true) h
theorem ye_189 {i k : Nat} (hk : k ≤ 14) {a b l r : Bool} (h : J (ye_ins x3 i (ye_f13 k a b l r)) x4 (nI (i + 1))) : wY_eval_189 post J x1 x2 x3 x4 (nI i) (nI k) (qb_i a) (qb_i b) (qb_i l) (qb_i r) g_atoms g_most g_room g_span g_made g_depth g_length g_lassoN g_lassoS g_testN g_testS b_kind b_left b_right b_stack b_trace b_lasso b_test b_truth b_real b_seen b_queue := by
  unfold wY_eval_189
  unfold ye_f13 at h
  refine pk_eq k 13 (fun e => ?_) (fun e => ?_)
  · rw [if_pos e] at h
    cases b
    · refine br_t rfl ?_
      cases a
      · exact br_t rfl (ye_215 hk (a := false) (b := false) h)
      · cases l
        · exact br_f (by decide) (br_t rfl (ye_215 hk (a := true) (b := false) (l := false) h))
        · exact br_f (by decide) (br_f (by decide) (ye_211 hk (a := true) (b := false) (l := true) h))
    · exact br_f (by decide) (ye_211 hk (b := true) h)
  · rw [if_neg e] at h
    exact ye_218 hk h
theorem ye_186 {i k : Nat} (hk : k ≤ 14) {a b l : Bool} (h : J (ye_ins x3 i (ye_f13 k a b l false)) x4 (nI (i + 1))) : wY_eval_186 post J x1 x2 x3 x4 (nI i) (nI k) (qb_i a) (qb_i b) (qb_i l) g_atoms g_most g_room g_span g_made g_depth g_length g_lassoN g_lassoS g_testN g_testS b_kind b_left b_right b_stack b_trace b_lasso b_test b_truth b_real b_seen b_queue := by
  unfold wY_eval_186 wY_eval_187; exact ye_189 hk (r := false) h
theorem ye_187 {i k : Nat} (hk : k ≤ 14) {a b l : Bool} (h : J (ye_ins x3 i (ye_f13 k a b l true)) x4 (nI (i + 1))) : wY_eval_187 post J x1 x2 x3 x4 (nI i) (nI k) (qb_i a) (qb_i b) (qb_i l) 1 g_atoms g_most g_room g_span g_made g_depth g_length g_lassoN g_lassoS g_testN g_testS b_kind b_left b_right b_stack b_trace b_lasso b_test b_truth b_real b_seen b_queue := by
  unfold wY_eval_187; exact ye_189 hk (r := true) h
theorem ye_165 {i k : Nat} (hk : k ≤ 14) {a b l r : Bool} (h : J (ye_ins x3 i (ye_f12 k a b l r)) x4 (nI (i + 1))) : wY_eval_165 post J x1 x2 x3 x4 (nI i) (nI k) (qb_i a) (qb_i b) (qb_i l) (qb_i r) g_atoms g_most g_room g_span g_made g_depth g_length g_lassoN g_lassoS g_testN g_testS b_kind b_left b_right b_stack b_trace b_lasso b_test b_truth b_real b_seen b_queue := by
  unfold wY_eval_165
  unfold ye_f12 at h
  refine pk_eq k 12 (fun e => ?_) (fun e => ?_)
  · rw [if_pos e] at h
    cases a
    · exact br_t rfl (ye_186 hk (a := false) h)
    · cases l
      · exact br_f (by decide) (br_t rfl (ye_186 hk (a := true) (l := false) h))
      · exact br_f (by decide) (br_f (by decide) (ye_187 hk (a := true) (l := true) h))
  · rw [if_neg e] at h
    exact ye_189 hk h
theorem ye_158 {i k : Nat} (hk : k ≤ 14) {a b l : Bool} (h : J (ye_ins x3 i (ye_f12 k a b l true)) x4 (nI (i + 1))) : wY_eval_158 post J x1 x2 x3 x4 (nI i) (nI k) (qb_i a) (qb_i b) (qb_i l) g_atoms g_most g_room g_span g_made g_depth g_length g_lassoN g_lassoS g_testN g_testS b_kind b_left b_right b_stack b_trace b_lasso b_test b_truth b_real b_seen b_queue := by
  unfold wY_eval_158 wY_eval_163; exact ye_165 hk (r := true) h
theorem ye_163 {i k : Nat} (hk : k ≤ 14) {a b l : Bool} (h : J (ye_ins x3 i (ye_f12 k a b l false)) x4 (nI (i + 1))) : wY_eval_163 post J x1 x2 x3 x4 (nI i) (nI k) (qb_i a) (qb_i b) (qb_i l) 0 g_atoms g_most g_room g_span g_made g_depth g_length g_lassoN g_lassoS g_testN g_testS b_kind b_left b_right b_stack b_trace b_lasso b_test b_truth b_real b_seen b_queue := by
  unfold wY_eval_163; exact ye_165 hk (r := false) h
theorem ye_141 {i k : Nat} (hk : k ≤ 14) {a b l r : Bool} (h : J (ye_ins x3 i (ye_f11 k a b l r)) x4 (nI (i + 1))) : wY_eval_141 post J x1 x2 x3 x4 (nI i) (nI k) (qb_i a) (qb_i b) (qb_i l) (qb_i r) g_atoms g_most g_room g_span g_made g_depth g_length g_lassoN g_lassoS g_testN g_testS b_kind b_left b_right b_stack b_trace b_lasso b_test b_truth b_real b_seen b_queue := by
  unfold wY_eval_141
  unfold ye_f11 at h
  refine pk_eq k 11 (fun e => ?_) (fun e => ?_)
  · rw [if_pos e] at h
    cases a
    · cases l
      · exact br_t rfl (br_t rfl (ye_163 hk (a := false) (l := false) h))
      · exact br_t rfl (br_f (by decide) (ye_158 hk (a := false) (l := true) h))
    · exact br_f (by decide) (ye_158 hk (a := true) h)
  · rw [if_neg e] at h
    exact ye_165 hk h
theorem ye_131 {i k q : Nat} (hk : k ≤ 14) {a b l r : Bool} (h : J (ye_ins x3 i (ye_f11 k a b l r)) (nI (q + if 10 ≤ k then 1 else 0)) (nI (i + 1))) : wY_eval_131 post J x1 x2 x3 (nI q) (nI i) (nI k) (qb_i a) (qb_i b) (qb_i l) (qb_i r) g_atoms g_most g_room g_span g_made g_depth g_length g_lassoN g_lassoS g_testN g_testS b_kind b_left b_right b_stack b_trace b_lasso b_test b_truth b_real b_seen b_queue := by
  unfold wY_eval_131
  refine pk_lt k 10 (fun e => ?_) (fun e => nm_r (nI_1 q) ?_)
  · rw [if_neg (by omega)] at h; exact ye_141 hk h
  · rw [if_pos e] at h; exact ye_141 hk h
theorem ye_105 {i k q : Nat} (hk : k ≤ 14) {a b l : Bool} (h : J (ye_ins x3 i (ye_f11 k a b l (if 10 ≤ k then l else qs_pl k (bt x1 k) a b))) (nI (q + if 10 ≤ k then 1 else 0)) (nI (i + 1))) : wY_eval_105 post J x1 x2 x3 (nI q) (nI i) (nI k) (qb_i a) (qb_i b) (qb_i l) g_atoms g_most g_room g_span g_made g_depth g_length g_lassoN g_lassoS g_testN g_testS b_kind b_left b_right b_stack b_trace b_lasso b_test b_truth b_real b_seen b_queue := by
  unfold wY_eval_105
  refine pk_le 10 k (fun e => ?_) (fun e => ?_)
  · rw [if_pos e] at h; exact ye_131 hk h
  · rw [if_neg (by omega)] at h; exact yw_plain e (ye_131 hk h)
theorem ye_88 {i k q : Nat} (hk : k ≤ 14) (hq : q < 32) {a b : Bool} (h : J (ye_ins x3 i (ye_f11 k a b (bt x2 q) (if 10 ≤ k then bt x2 q else qs_pl k (bt x1 k) a b))) (nI (q + if 10 ≤ k then 1 else 0)) (nI (i + 1))) : wY_eval_88 post J x1 x2 x3 (nI q) (nI i) (nI k) (qb_i a) (qb_i b) g_atoms g_most g_room g_span g_made g_depth g_length g_lassoN g_lassoS g_testN g_testS b_kind b_left b_right b_stack b_trace b_lasso b_test b_truth b_real b_seen b_queue := by
  unfold wY_eval_88
  rw [qb_sh1 _ hq]
  refine qb_c1 (fun z => ?_) (fun z => ?_)
  · rw [z] at h; exact ye_105 hk (l := true) h
  · rw [z] at h; exact ye_105 hk (l := false) h
theorem ye_87 {i k q : Nat} (hk : k ≤ 14) (hq : q < 32) {a : Bool} (h : J (ye_ins x3 i (ye_f11 k a false (bt x2 q) (if 10 ≤ k then bt x2 q else qs_pl k (bt x1 k) a false))) (nI (q + if 10 ≤ k then 1 else 0)) (nI (i + 1))) : wY_eval_87 post J x1 x2 x3 (nI q) (nI i) (nI k) (qb_i a) g_atoms g_most g_room g_span g_made g_depth g_length g_lassoN g_lassoS g_testN g_testS b_kind b_left b_right b_stack b_trace b_lasso b_test b_truth b_real b_seen b_queue := by
  unfold wY_eval_87; exact ye_88 hk hq (b := false) h
theorem ye_56 {i k q : Nat} (hi : i < 24) (hk : k ≤ 14) (hq : q < 32) {a b : Bool} (hb : (b_right i = -1 ∧ b = false) ∨ ∃ j, j < 24 ∧ b_right i = nI j ∧ b = bt x3 j)
    (h : J (ye_ins x3 i (ye_f11 k a b (bt x2 q) (if 10 ≤ k then bt x2 q else qs_pl k (bt x1 k) a b))) (nI (q + if 10 ≤ k then 1 else 0)) (nI (i + 1))) : wY_eval_56 post J x1 x2 x3 (nI q) (nI i) (nI k) (qb_i a) g_atoms g_most g_room g_span g_made g_depth g_length g_lassoN g_lassoS g_testN g_testS b_kind b_left b_right b_stack b_trace b_lasso b_test b_truth b_real b_seen b_queue := by
  have i24 : vp_in (nI i) 24 := vp_in_nI hi (by decide)
  unfold wY_eval_56
  rw [nI_clamp (by omega)]
  refine ⟨i24, ?_⟩
  rcases hb with ⟨e, eb⟩ | ⟨j, hj, e, eb⟩
  · rw [e]
    subst eb
    exact br_t (by decide) (ye_87 hk hq h)
  · rw [e]
    refine br_f (nI_pos (by omega)) ⟨i24, ?_⟩
    rw [qb_sh1 _ (by omega), ← eb]
    cases b
    · exact br_f (by decide) (ye_87 hk hq h)
    · exact br_t rfl (ye_88 hk hq (b := true) h)
theorem ye_55 {i k q : Nat} (hi : i < 24) (hk : k ≤ 14) (hq : q < 32) {b : Bool} (hb : (b_right i = -1 ∧ b = false) ∨ ∃ j, j < 24 ∧ b_right i = nI j ∧ b = bt x3 j)
    (h : J (ye_ins x3 i (ye_f11 k false b (bt x2 q) (if 10 ≤ k then bt x2 q else qs_pl k (bt x1 k) false b))) (nI (q + if 10 ≤ k then 1 else 0)) (nI (i + 1))) : wY_eval_55 post J x1 x2 x3 (nI q) (nI i) (nI k) g_atoms g_most g_room g_span g_made g_depth g_length g_lassoN g_lassoS g_testN g_testS b_kind b_left b_right b_stack b_trace b_lasso b_test b_truth b_real b_seen b_queue := by
  unfold wY_eval_55; exact ye_56 hi hk hq (a := false) hb h
theorem ye_8 {N : Nat} {n i k q : Nat} (hiN : i < N) (hi : i < 24) (hN : N ≤ 24) (hk : k ≤ 14) (hq : q < 32) {a b : Bool} (ek : b_kind i = nI k)
    (ha : (b_left i = -1 ∧ a = false) ∨ ∃ j, j < 24 ∧ b_left i = nI j ∧ a = bt x3 j)
    (hb : (b_right i = -1 ∧ b = false) ∨ ∃ j, j < 24 ∧ b_right i = nI j ∧ b = bt x3 j)
    (h : wY_eval_8 post x1 x2 g_atoms g_most g_room g_span (nI N) g_depth g_length g_lassoN g_lassoS g_testN g_testS b_kind b_left b_right b_stack b_trace b_lasso b_test b_truth b_real b_seen b_queue n (ye_ins x3 i (ye_f11 k a b (bt x2 q) (if 10 ≤ k then bt x2 q else qs_pl k (bt x1 k) a b))) (nI (q + if 10 ≤ k then 1 else 0)) (nI (i + 1))) :
    wY_eval_8 post x1 x2 g_atoms g_most g_room g_span (nI N) g_depth g_length g_lassoN g_lassoS g_testN g_testS b_kind b_left b_right b_stack b_trace b_lasso b_test b_truth b_real b_seen b_queue (n + 1) x3 (nI q) (nI i) := by
  have i24 : vp_in (nI i) 24 := vp_in_nI hi (by decide)
  refine br_f (nI_ge hiN (by omega)) ⟨i24, ?_⟩
  rw [nI_clamp (by omega), ek]
  refine nm_e ⟨i24, ?_⟩
  rcases ha with ⟨e, eb⟩ | ⟨j, hj, e, eb⟩
  · rw [e]
    subst eb
    exact br_t (by decide) (ye_55 hi hk hq hb h)
  · rw [e]
    refine br_f (nI_pos (by omega)) ⟨i24, ?_⟩
    rw [qb_sh1 _ (by omega), ← eb]
    cases a
    · exact br_f (by decide) (ye_55 hi hk hq hb h)
    · exact br_t rfl (ye_56 hi hk hq (a := true) hb h)
end
section
variable {g_atoms g_most g_room g_span g_made g_depth g_length g_lassoN g_lassoS g_testN g_testS : Int32} {b_kind b_left b_right b_stack b_trace b_lasso b_test b_truth b_real b_seen b_queue : Nat → Int32}
variable {ap N K : Nat} {kd lf rt tn : Nat → Nat}
theorem yw_ev8 {post : Int32 → Prop} (H : qs_WF ap N K kd lf rt tn) (ND : ys_nd N kd lf rt b_kind b_left b_right) (v c : Nat) (h : post (nI (qb_cd (qs_E kd lf rt v c) N))) :
    ∀ d i, i + d = N → wY_eval_8 post (nI v) (nI c) g_atoms g_most g_room g_span (nI N) g_depth g_length g_lassoN g_lassoS g_testN g_testS b_kind b_left b_right b_stack b_trace b_lasso b_test b_truth b_real b_seen b_queue (d + 1) (nI (qb_cd (qs_E kd lf rt v c) i)) (nI (qs_cn kd i)) (nI i) := by
  have hN := H.2.1
  intro d
  induction d with
  | zero =>
    intro i hi
    have : i = N := by omega
    subst this
    exact br_t (nI_le (Nat.le_refl _) (by omega)) h
  | succ d ih =>
    intro i hi
    have hiN : i < N := by omega
    obtain ⟨h14, _, ha, hb, _, _⟩ := H.2.2.2.1 i hiN
    obtain ⟨ek, n1, n2, n3, n4⟩ := ND i hiN
    have hq : qs_cn kd i < 32 := by
      have := qs_cn_le (kd := kd) (a := i) (b := N) (by omega)
      have := H.2.2.2.2.1
      have := H.2.2.1
      omega
    have ih' := ih (i + 1) (by omega)
    refine ye_8 (k := kd i) (a := decide (5 ≤ kd i) && qs_E kd lf rt v c (lf i)) (b := qs_binB (kd i) && qs_E kd lf rt v c (rt i)) hiN (by omega) hN h14 hq ek ?_ ?_ ?_
    · by_cases g : 5 ≤ kd i
      · have := ha g
        refine Or.inr ⟨lf i, by omega, n1 g, ?_⟩
        rw [qb_cd_b (by omega), decide_eq_true this, decide_eq_true g]
      · exact Or.inl ⟨n2 g, by rw [decide_eq_false g]; rfl⟩
    · by_cases g : qs_bin (kd i)
      · have := hb g
        refine Or.inr ⟨rt i, by omega, n3 g, ?_⟩
        rw [qb_cd_b (by omega), decide_eq_true this, (qs_binE _).mpr g]
      · exact Or.inl ⟨n4 g, by rw [Bool.eq_false_iff.mpr (fun z => g ((qs_binE _).mp z))]; rfl⟩
    · rw [ye_f _ h14, qb_bn _ hq]
      have e : (if kd i < 10 then qs_pl (kd i) (bt (nI v) (kd i)) (decide (5 ≤ kd i) && qs_E kd lf rt v c (lf i)) (qs_binB (kd i) && qs_E kd lf rt v c (rt i)) else qs_ts (kd i) (decide (5 ≤ kd i) && qs_E kd lf rt v c (lf i)) (qs_binB (kd i) && qs_E kd lf rt v c (rt i)) (c.testBit (qs_cn kd i))) = qs_E kd lf rt v c i := by
        rw [qs_El H v c hiN]
        by_cases k : kd i < 10
        · rw [if_pos k, if_pos k]
          refine qs_pl_cg (fun _ => qb_bn _ (by omega)) (fun z => ?_) (fun z => ?_)
          · rw [decide_eq_true z]; rfl
          · rw [(qs_binE _).mpr (Or.inl ⟨z, by omega⟩)]; rfl
        · rw [if_neg k, if_neg k]
          refine qs_ts_cg (fun z => ?_) (fun z => ?_) rfl
          · rw [decide_eq_true (show 5 ≤ kd i by omega)]; rfl
          · rw [(qs_binE _).mpr (Or.inr z)]; rfl
      rw [e]
      have e3 : ye_ins (nI (qb_cd (qs_E kd lf rt v c) i)) i (qs_E kd lf rt v c i) = nI (qb_cd (qs_E kd lf rt v c) (i + 1)) := by
        unfold ye_ins
        cases hE : qs_E kd lf rt v c i
        · rw [if_neg (by decide), qb_skp _ hE]
        · rw [if_pos rfl, qb_put _ hE (by omega)]
      rw [e3]
      rw [qs_cn] at ih'
      exact ih'
theorem yw_eval {post : Int32 → Prop} (H : qs_WF ap N K kd lf rt tn) (ND : ys_nd N kd lf rt b_kind b_left b_right) (v c : Nat) (h : post (nI (qb_cd (qs_E kd lf rt v c) N))) : wpY_eval post (g_atoms, g_most, g_room, g_span, nI N, g_depth, g_length, g_lassoN, g_lassoS, g_testN, g_testS, b_kind, b_left, b_right, b_stack, b_trace, b_lasso, b_test, b_truth, b_real, b_seen, b_queue) (nI v) (nI c) := by
  unfold wpY_eval; dsimp only
  exact ⟨N + 1, yw_ev8 H ND v c h N 0 (Nat.zero_add _)⟩
theorem qb_ibs (g : Nat → Bool) {q : Nat} (hq : q < 32) : nI (qb_cd g q) ||| (qb_i (g q) <<< (nI q &&& 31)) = nI (qb_cd g (q + 1)) := by
  cases e : g q
  · rw [qb_skp g e]
    apply b_ext
    intro i hi
    rw [b_or, b_shl q hq _ hi, qb_bi]; simp
  · exact qb_put g e hq
theorem yw_c7 {post : Int32 → Prop} (H : qs_WF ap N K kd lf rt tn) (ND : ys_nd N kd lf rt b_kind b_left b_right) (f : Nat → Bool) (h : post (nI (qs_yC K kd lf tn f))) :
    ∀ d i, i + d = N → wY_carry_7 post (nI (qb_cd f N)) g_atoms g_most g_room g_span (nI N) g_depth g_length g_lassoN g_lassoS g_testN g_testS b_kind b_left b_right b_stack b_trace b_lasso b_test b_truth b_real b_seen b_queue (d + 1) (nI (qs_yC (qs_cn kd i) kd lf tn f)) (nI (qs_cn kd i)) (nI i) := by
  have hN := H.2.1
  intro d
  induction d with
  | zero =>
    intro i hi
    have : i = N := by omega
    subst this
    rw [H.2.2.2.2.1]
    exact br_t (nI_le (Nat.le_refl _) (by omega)) h
  | succ d ih =>
    intro i hi
    have hiN : i < N := by omega
    obtain ⟨h14, _, ha, hb, _, _⟩ := H.2.2.2.1 i hiN
    obtain ⟨ek, n1, n2, n3, n4⟩ := ND i hiN
    have i24 : vp_in (nI i) 24 := vp_in_nI (by omega) (by decide)
    have hq : qs_cn kd i < 32 := by
      have := qs_cn_le (kd := kd) (a := i) (b := N) (by omega)
      have := H.2.2.2.2.1
      have := H.2.2.1
      omega
    have ih' := ih (i + 1) (by omega)
    rw [qs_cn] at ih'
    have c40 : ∀ j, j < N → (10 ≤ kd i → j = qs_src kd lf tn (qs_cn kd i)) → wY_carry_40 post (wY_carry_7 post (nI (qb_cd f N)) g_atoms g_most g_room g_span (nI N) g_depth g_length g_lassoN g_lassoS g_testN g_testS b_kind b_left b_right b_stack b_trace b_lasso b_test b_truth b_real b_seen b_queue (d + 1)) (nI (qb_cd f N)) (nI (qs_yC (qs_cn kd i) kd lf tn f)) (nI (qs_cn kd i)) (nI i) (nI j) g_atoms g_most g_room g_span (nI N) g_depth g_length g_lassoN g_lassoS g_testN g_testS b_kind b_left b_right b_stack b_trace b_lasso b_test b_truth b_real b_seen b_queue := by
      intro j hj ej
      unfold wY_carry_40
      rw [nI_clamp (by omega), ek]
      refine ⟨i24, pk_lt (kd i) 10 (fun e => nm_r (nI_1 i) ?_) (fun e => nm_r (nI_1 _) (nm_r (e' := nI (qs_yC (qs_cn kd i + 1) kd lf tn f)) ?_ (nm_r (nI_1 i) ?_)))⟩
      · rw [if_neg (by omega)] at ih'; exact ih'
      · rw [qb_sh1 _ (by omega), qb_cd_b (by omega), decide_eq_true hj, ej e]
        exact qb_ibs (fun q => f (qs_src kd lf tn q)) hq
      · rw [if_pos e] at ih'; exact ih'
    refine br_f (nI_ge (by omega) (by omega)) ⟨i24, ?_⟩
    rw [nI_clamp (by omega), ek]
    refine pk_eq (kd i) 10 (fun e => ⟨i24, ?_⟩) (fun e => c40 i hiN (fun z => ?_))
    · rw [n1 (by omega)]
      refine c40 (lf i) (qs_lfN H hiN) (fun z => ?_)
      unfold qs_src; rw [H.2.2.2.2.2.1 i hiN z, if_pos e]
    · unfold qs_src; rw [H.2.2.2.2.2.1 i hiN z, if_neg e]
theorem yw_carry {post : Int32 → Prop} (H : qs_WF ap N K kd lf rt tn) (ND : ys_nd N kd lf rt b_kind b_left b_right) (f : Nat → Bool) (h : post (nI (qs_yC K kd lf tn f))) : wpY_carry post (g_atoms, g_most, g_room, g_span, nI N, g_depth, g_length, g_lassoN, g_lassoS, g_testN, g_testS, b_kind, b_left, b_right, b_stack, b_trace, b_lasso, b_test, b_truth, b_real, b_seen, b_queue) (nI (qb_cd f N)) := by
  unfold wpY_carry; dsimp only
  exact ⟨N + 1, yw_c7 H ND f h N 0 (Nat.zero_add _)⟩
theorem yw_s7 {post : Int32 → Prop} (H : qs_WF ap N K kd lf rt tn) (ND : ys_nd N kd lf rt b_kind b_left b_right) (f : Nat → Bool) (h : post (nI (qs_yD K kd lf rt tn f))) :
    ∀ d i, i + d = N → wY_settled_7 post (nI (qb_cd f N)) g_atoms g_most g_room g_span (nI N) g_depth g_length g_lassoN g_lassoS g_testN g_testS b_kind b_left b_right b_stack b_trace b_lasso b_test b_truth b_real b_seen b_queue (d + 1) (nI (qs_yD (qs_cn kd i) kd lf rt tn f)) (nI (qs_cn kd i)) (nI i) := by
  have hN := H.2.1
  intro d
  induction d with
  | zero =>
    intro i hi
    have : i = N := by omega
    subst this
    rw [H.2.2.2.2.1]
    exact br_t (nI_le (Nat.le_refl _) (by omega)) h
  | succ d ih =>
    intro i hi
    have hiN : i < N := by omega
    obtain ⟨h14, _, ha, hb, _, _⟩ := H.2.2.2.1 i hiN
    obtain ⟨ek, n1, n2, n3, n4⟩ := ND i hiN
    have i24 : vp_in (nI i) 24 := vp_in_nI (by omega) (by decide)
    have hq : qs_cn kd i < 32 := by
      have := qs_cn_le (kd := kd) (a := i) (b := N) (by omega)
      have := H.2.2.2.2.1
      have := H.2.2.1
      omega
    have ih' := ih (i + 1) (by omega)
    rw [qs_cn] at ih'
    have s94 : ∀ x2, (kd i < 10 → x2 = nI (qs_yD (qs_cn kd i) kd lf rt tn f)) → (10 ≤ kd i → x2 = nI (qs_yD (qs_cn kd i + 1) kd lf rt tn f)) → wY_settled_94 post (wY_settled_7 post (nI (qb_cd f N)) g_atoms g_most g_room g_span (nI N) g_depth g_length g_lassoN g_lassoS g_testN g_testS b_kind b_left b_right b_stack b_trace b_lasso b_test b_truth b_real b_seen b_queue (d + 1)) (nI (qb_cd f N)) x2 (nI (qs_cn kd i)) (nI i) g_atoms g_most g_room g_span (nI N) g_depth g_length g_lassoN g_lassoS g_testN g_testS b_kind b_left b_right b_stack b_trace b_lasso b_test b_truth b_real b_seen b_queue := by
      intro x2 e1 e2
      unfold wY_settled_94
      rw [nI_clamp (by omega), ek]
      refine ⟨i24, pk_lt (kd i) 10 (fun e => nm_r (nI_1 i) ?_) (fun e => nm_r (nI_1 _) (nm_r (nI_1 i) ?_))⟩
      · rw [if_neg (by omega)] at ih'; rw [e1 e]; exact ih'
      · rw [if_pos e] at ih'; rw [e2 e]; exact ih'
    have s61 : ∀ z, (10 ≤ kd i → ∃ j, j < N ∧ z = nI j ∧ j = qs_gl kd lf rt tn (qs_cn kd i)) → wY_settled_61 post (wY_settled_7 post (nI (qb_cd f N)) g_atoms g_most g_room g_span (nI N) g_depth g_length g_lassoN g_lassoS g_testN g_testS b_kind b_left b_right b_stack b_trace b_lasso b_test b_truth b_real b_seen b_queue (d + 1)) (nI (qb_cd f N)) (nI (qs_yD (qs_cn kd i) kd lf rt tn f)) (nI (qs_cn kd i)) (nI i) z g_atoms g_most g_room g_span (nI N) g_depth g_length g_lassoN g_lassoS g_testN g_testS b_kind b_left b_right b_stack b_trace b_lasso b_test b_truth b_real b_seen b_queue := by
      intro z hz
      unfold wY_settled_61
      rw [nI_clamp (by omega), ek]
      refine ⟨i24, pk_lt (kd i) 10 (fun e => s94 _ (fun _ => rfl) (fun g => absurd g (by omega))) (fun e => ?_)⟩
      obtain ⟨j, hj, ez, ej⟩ := hz e
      subst ez
      rw [qb_sh1 _ (by omega), qb_sh1 _ (by omega), qb_cd_b (by omega), qb_cd_b (by omega), decide_eq_true hj, decide_eq_true hiN, Bool.true_and, Bool.true_and]
      have et := H.2.2.2.2.2.1 i hiN e
      refine br_c (fun g => nm_e (s94 _ (fun y => absurd y (by omega)) (fun _ => ?_))) (fun g => s94 _ (fun y => absurd y (by omega)) (fun _ => ?_))
      · have g' := (qb_ij _ _).mp g
        refine qb_put (fun q => f (qs_gl kd lf rt tn q) == f (tn q)) ?_ hq
        show (f (qs_gl kd lf rt tn (qs_cn kd i)) == f (tn (qs_cn kd i))) = true
        rw [et, ← ej, g']; exact beq_self_eq_true _
      · have g' : ¬ f j = f i := fun y => g ((qb_ij _ _).mpr y)
        unfold qs_yD
        rw [qb_skp]
        show (f (qs_gl kd lf rt tn (qs_cn kd i)) == f (tn (qs_cn kd i))) = false
        rw [et, ← ej]; exact beq_eq_false_iff_ne.mpr g'
    have s43 : ∀ z, (11 ≤ kd i → ∃ j, j < N ∧ z = nI j ∧ j = qs_gl kd lf rt tn (qs_cn kd i)) → wY_settled_43 post (wY_settled_7 post (nI (qb_cd f N)) g_atoms g_most g_room g_span (nI N) g_depth g_length g_lassoN g_lassoS g_testN g_testS b_kind b_left b_right b_stack b_trace b_lasso b_test b_truth b_real b_seen b_queue (d + 1)) (nI (qb_cd f N)) (nI (qs_yD (qs_cn kd i) kd lf rt tn f)) (nI (qs_cn kd i)) (nI i) z g_atoms g_most g_room g_span (nI N) g_depth g_length g_lassoN g_lassoS g_testN g_testS b_kind b_left b_right b_stack b_trace b_lasso b_test b_truth b_real b_seen b_queue := by
      intro z hz
      unfold wY_settled_43
      rw [nI_clamp (by omega), ek]
      refine ⟨i24, pk_eq (kd i) 10 (fun e => s61 _ (fun g => ⟨i, hiN, rfl, ?_⟩)) (fun e => s61 _ (fun g => hz (by omega)))⟩
      unfold qs_gl; rw [H.2.2.2.2.2.1 i hiN g, if_pos e]
    refine br_f (nI_ge (by omega) (by omega)) ⟨i24, ?_⟩
    rw [nI_clamp (by omega)]
    by_cases g : qs_bin (kd i)
    · rw [n3 g]
      refine br_f (nI_pos (by have := hb g; omega)) ⟨i24, s43 _ (fun y => ⟨rt i, qs_rtN H hiN, rfl, ?_⟩)⟩
      unfold qs_gl
      unfold qs_bin at g
      rw [H.2.2.2.2.2.1 i hiN (by omega), if_neg (by omega), if_pos (by omega)]
    · rw [n4 g]
      refine br_t (by decide) ⟨i24, s43 _ (fun y => ⟨lf i, qs_lfN H hiN, n1 (by omega), ?_⟩)⟩
      unfold qs_gl
      unfold qs_bin at g
      rw [H.2.2.2.2.2.1 i hiN (by omega), if_neg (by omega), if_neg (by omega)]
theorem yw_settled {post : Int32 → Prop} (H : qs_WF ap N K kd lf rt tn) (ND : ys_nd N kd lf rt b_kind b_left b_right) (f : Nat → Bool) (h : post (nI (qs_yD K kd lf rt tn f))) : wpY_settled post (g_atoms, g_most, g_room, g_span, nI N, g_depth, g_length, g_lassoN, g_lassoS, g_testN, g_testS, b_kind, b_left, b_right, b_stack, b_trace, b_lasso, b_test, b_truth, b_real, b_seen, b_queue) (nI (qb_cd f N)) := by
  unfold wpY_settled; dsimp only
  exact ⟨N + 1, yw_s7 H ND f h N 0 (Nat.zero_add _)⟩
end
end
section
/-! Y: recurs -/
theorem yn_0 : vp_nar .boolean 0 = 0 := qb_nar false
theorem yn_1 : vp_nar .boolean 1 = 1 := qb_nar true
theorem nx_or (a b : Nat) : nI a ||| nI b = nI (a ||| b) := by
  apply Int32.toBitVec_inj.1
  show BitVec.ofNat 32 a ||| BitVec.ofNat 32 b = BitVec.ofNat 32 (a ||| b)
  apply BitVec.eq_of_getLsbD_eq
  intro i hi
  simp [hi]
def yb_cd (nx ds : Nat → Nat → Nat) (v x : Nat) : Nat := nx v (x / 32) * 32 + (x % 32 ||| ds v (x / 32))
def yb_ok (nx ds : Nat → Nat → Nat) (c0 all : Nat) (se : Nat → Int32) (v x : Nat) : Prop :=
  ¬ (nx v (x / 32) = c0 ∧ (x % 32 ||| ds v (x / 32)) = all) ∧ se (yb_cd nx ds v x) = 1
def yb_I (A : Nat) (nx ds : Nat → Nat → Nat) (c0 all k size : Nat) (se qu : Nat → Int32) : Prop :=
  size ≤ 1024 ∧ (∀ i, i < size → ∃ x, x < 1024 ∧ qu i = nI x ∧ se x = 1 ∧ qg_Pth A nx ds c0 (x / 32) (x % 32)) ∧
  (∀ x, x < 1024 → (se x = 0 ∨ (se x = 1 ∧ ∃ i, i < size ∧ qu i = nI x))) ∧ (∀ i j, i < j → j < size → qu i ≠ qu j) ∧ se (c0 * 32) = 1 ∧
  (∀ i, i < k → ∀ x, x < 1024 → qu i = nI x → ∀ v, v < A → yb_ok nx ds c0 all se v x)
section
variable {A : Nat} {nx ds : Nat → Nat → Nat} {c0 all k size : Nat} {se qu : Nat → Int32}
theorem yb_room (h : yb_I A nx ds c0 all k size se qu) {x : Nat} (hx : x < 1024) (h0 : se x = 0) : size < 1024 := by
  obtain ⟨h1, h2, h3, h4, _⟩ := h
  rcases Nat.lt_or_ge size 1024 with g | g
  · exact g
  · exfalso
    have e : size = 1024 := by omega
    subst e
    have hq : ∀ i, ∃ y, i < 1024 → y < 1024 ∧ qu i = nI y ∧ se y = 1 := by
      intro i
      by_cases hi : i < 1024
      · obtain ⟨y, a, b, c, _⟩ := h2 i hi
        exact ⟨y, fun _ => ⟨a, b, c⟩⟩
      · exact ⟨0, fun z => absurd z hi⟩
    obtain ⟨f, hf⟩ : ∃ f : Nat → Nat, ∀ i, i < 1024 → f i < 1024 ∧ qu i = nI (f i) ∧ se (f i) = 1 := ⟨fun i => Classical.choose (hq i), fun i => Classical.choose_spec (hq i)⟩
    obtain ⟨i, j, hij, hj, ee⟩ := qn_pig 1024 (fun i => if i < 1024 then f i else x) (by
      intro i hi
      by_cases c : i < 1024
      · rw [if_pos c]; exact (hf i c).1
      · rw [if_neg c]; exact hx)
    have ci : i < 1024 := by omega
    rw [if_pos ci] at ee
    by_cases cj : j < 1024
    · rw [if_pos cj] at ee
      refine h4 i j hij cj ?_
      rw [(hf i ci).2.1, (hf j cj).2.1, ee]
    · rw [if_neg cj] at ee
      have := (hf i ci).2.2
      rw [ee, h0] at this
      exact absurd this (by decide)
theorem yb_add (h : yb_I A nx ds c0 all k size se qu) {x : Nat} (hx : x < 1024) (h0 : se x = 0) (hs : size < 1024) (hk : k ≤ size) (hp : qg_Pth A nx ds c0 (x / 32) (x % 32)) :
    yb_I A nx ds c0 all k (size + 1) (upd se x 1) (upd qu size (nI x)) := by
  obtain ⟨h1, h2, h3, h4, h5, h6⟩ := h
  have mono : ∀ y, se y = 1 → upd se x 1 y = 1 := by
    intro y hy
    by_cases e : y = x
    · rw [e, pk_us]
    · rw [pk_un e]; exact hy
  refine ⟨by omega, fun i hi => ?_, fun y hy => ?_, fun i j hij hj => ?_, mono _ h5, fun i hi y hy e v hv => ?_⟩
  · by_cases e : i = size
    · exact ⟨x, hx, by rw [e, pk_us], pk_us, hp⟩
    · obtain ⟨y, a, b, c, d⟩ := h2 i (by omega)
      exact ⟨y, a, by rw [pk_un e]; exact b, mono y c, d⟩
  · by_cases e : y = x
    · exact Or.inr ⟨by rw [e, pk_us], size, by omega, by rw [pk_us, e]⟩
    · rw [pk_un e]
      rcases h3 y hy with c | ⟨c, i, hi, ei⟩
      · exact Or.inl c
      · exact Or.inr ⟨c, i, by omega, by rw [pk_un (by omega)]; exact ei⟩
  · by_cases e : j = size
    · rw [e, pk_us, pk_un (by omega)]
      obtain ⟨y, a, b, c, _⟩ := h2 i (by omega)
      rw [b]
      intro z
      rw [(nI_eq (by omega) (by omega)).mp z, h0] at c
      exact absurd c (by decide)
    · rw [pk_un e, pk_un (by omega)]; exact h4 i j hij (by omega)
  · rw [pk_un (by omega)] at e
    obtain ⟨a, b⟩ := h6 i hi y hy e v hv
    exact ⟨a, mono _ b⟩
/-- the search is over: nothing recurs -/
theorem yb_end (h : yb_I A nx ds c0 all k size se qu) (hk : size ≤ k) (hc : c0 < 32) (hn : ∀ v c, v < A → nx v c < 32) (hd : ∀ v c, ds v c < 32) : ¬ qg_Rec A nx ds all c0 := by
  obtain ⟨h1, h2, h3, h4, h5, h6⟩ := h
  have key : ∀ c d, qg_Pth A nx ds c0 c d → c < 32 ∧ d < 32 ∧ se (c * 32 + d) = 1 := by
    intro c d p
    refine p (fun c d => c < 32 ∧ d < 32 ∧ se (c * 32 + d) = 1) ⟨hc, by decide, h5⟩ ?_
    rintro c d v hv ⟨a, b, e⟩
    have hx : c * 32 + d < 1024 := by omega
    rcases h3 _ hx with z | ⟨_, i, hi, ei⟩
    · rw [z] at e; exact absurd e (by decide)
    · have e1 : (c * 32 + d) / 32 = c := by omega
      have e2 : (c * 32 + d) % 32 = d := by omega
      have ok := (h6 i (by omega) _ hx ei v hv).2
      unfold yb_cd at ok
      rw [e1, e2] at ok
      exact ⟨hn v c hv, Nat.or_lt_two_pow (n := 5) b (hd v c), ok⟩
  rintro ⟨c, d, v, p, hv, e1, e2⟩
  obtain ⟨a, b, e⟩ := key c d p
  have hx : c * 32 + d < 1024 := by omega
  rcases h3 _ hx with z | ⟨_, i, hi, ei⟩
  · rw [z] at e; exact absurd e (by decide)
  · have e3 : (c * 32 + d) / 32 = c := by omega
    have e4 : (c * 32 + d) % 32 = d := by omega
    have ok := (h6 i (by omega) _ hx ei v hv).1
    rw [e3, e4] at ok
    exact ok ⟨e1, e2⟩
end
section
variable {g_atoms g_most g_room g_span g_made g_depth g_length g_lassoN g_lassoS g_testN g_testS : Int32} {b_kind b_left b_right b_stack b_trace b_lasso b_test b_truth b_real b_seen b_queue : Nat → Int32}
variable {ap N K : Nat} {kd lf rt tn : Nat → Nat}
def yb_nx (K : Nat) (kd lf rt tn : Nat → Nat) (v c : Nat) : Nat := qs_yC K kd lf tn (qs_E kd lf rt v c)
def yb_ds (K : Nat) (kd lf rt tn : Nat → Nat) (v c : Nat) : Nat := qs_yD K kd lf rt tn (qs_E kd lf rt v c)
theorem yb_K (H : qs_WF ap N K kd lf rt tn) : K ≤ 5 ∧ 2 ^ K ≤ 32 := by
  have h1 := H.1
  have h2 := H.2.2.1
  have h3 : K ≤ 5 := by omega
  exact ⟨h3, Nat.pow_le_pow_right (n := 2) (j := 5) (by decide) h3⟩
theorem yb_nxl (H : qs_WF ap N K kd lf rt tn) (v c : Nat) : yb_nx K kd lf rt tn v c < 32 := by
  have := qb_cd_lt (fun q => qs_E kd lf rt v c (qs_src kd lf tn q)) K
  have := (yb_K H).2
  unfold yb_nx qs_yC; omega
theorem yb_dsl (H : qs_WF ap N K kd lf rt tn) (v c : Nat) : yb_ds K kd lf rt tn v c < 32 := by
  have := qb_cd_lt (fun q => qs_E kd lf rt v c (qs_gl kd lf rt tn q) == qs_E kd lf rt v c (tn q)) K
  have := (yb_K H).2
  unfold yb_ds qs_yD; omega
theorem yb_sh : ∀ a, 1 ≤ a → a ≤ 3 → (1 : Int32) <<< (nI a &&& 31) = nI (2 ^ a) := fun a _ h => qb_shc (by omega)
theorem yw_r64 {post : Int32 → SY → Prop} {J47 : Int32 → Int32 → (Nat → Int32) → (Nat → Int32) → (Nat → Int32) → (Nat → Int32) → (Nat → Int32) → (Nat → Int32) → (Nat → Int32) → (Nat → Int32) → (Nat → Int32) → (Nat → Int32) → (Nat → Int32) → Prop}
    {c0 k : Nat} (H : qs_WF ap N K kd lf rt tn) (ND : ys_nd N kd lf rt b_kind b_left b_right) (hc : c0 < 32)
    (h1 : qg_Rec (2 ^ ap) (yb_nx K kd lf rt tn) (yb_ds K kd lf rt tn) (2 ^ K - 1) c0 → ∀ se qu, post 1 (nI ap, g_most, g_room, g_span, nI N, g_depth, g_length, g_lassoN, g_lassoS, g_testN, g_testS, b_kind, b_left, b_right, b_stack, b_trace, b_lasso, b_test, b_truth, b_real, se, qu))
    (hJ : ∀ size se qu, k < size → yb_I (2 ^ ap) (yb_nx K kd lf rt tn) (yb_ds K kd lf rt tn) c0 (2 ^ K - 1) (k + 1) size se qu → J47 (nI size) (nI (k + 1)) b_kind b_left b_right b_stack b_trace b_lasso b_test b_truth b_real se qu) :
    ∀ d v size se qu, v + d = 2 ^ ap → k < size → yb_I (2 ^ ap) (yb_nx K kd lf rt tn) (yb_ds K kd lf rt tn) c0 (2 ^ K - 1) k size se qu →
      (∀ x, x < 1024 → qu k = nI x → ∀ v', v' < v → yb_ok (yb_nx K kd lf rt tn) (yb_ds K kd lf rt tn) c0 (2 ^ K - 1) se v' x) →
      wY_recurs_64 post J47 (nI c0) (nI (2 ^ K - 1)) (nI k) (nI ap) g_most g_room g_span (nI N) g_depth g_length g_lassoN g_lassoS g_testN g_testS (d + 1) (nI size) (nI v) b_kind b_left b_right b_stack b_trace b_lasso b_test b_truth b_real se qu := by
  have hap : 2 ^ ap ≤ 8 := Nat.pow_le_pow_right (n := 2) (j := 3) (by decide) H.1.2
  have hK := (yb_K H).2
  have hK0 := Nat.two_pow_pos K
  intro d
  induction d with
  | zero =>
    intro v size se qu hv hk I hp
    have : v = 2 ^ ap := by omega
    subst this
    refine br_t ?_ (nm_r (nI_1 k) (hJ size se qu hk ?_))
    · rw [yb_sh ap H.1.1 H.1.2]; exact nI_le (Nat.le_refl _) (by omega)
    · refine ⟨I.1, I.2.1, I.2.2.1, I.2.2.2.1, I.2.2.2.2.1, fun i hi x hx e v hv => ?_⟩
      by_cases ei : i = k
      · rw [ei] at e; exact hp x hx e v hv
      · exact I.2.2.2.2.2 i (by omega) x hx e v hv
  | succ d ih =>
    intro v size se qu hv hk I hp
    obtain ⟨x, hx, ex, sx, px⟩ := I.2.1 k hk
    have hs1024 := I.1
    have k1024 : vp_in (nI k) 1024 := vp_in_nI (by omega) (by decide)
    refine br_f ?_ ⟨k1024, ?_⟩
    · rw [yb_sh ap H.1.1 H.1.2]; exact nI_ge (by omega) (by omega)
    rw [nI_clamp (by omega), ex, pk_shrN (by omega) _ 5 (by decide), pk_andN (by omega) 5 (by decide)]
    refine yw_eval H ND v (x / 2 ^ 5) (yw_carry H ND _ ⟨k1024, yw_settled H ND _ (nm_r (nx_or _ _) ?_)⟩)
    show (_ = _ → _) ∧ (¬ _ = _ → _)
    have hc1 := yb_nxl H v (x / 32)
    have hd1 := yb_dsl H v (x / 32)
    have hd2 : (x % 32 ||| yb_ds K kd lf rt tn v (x / 32)) < 32 := Nat.or_lt_two_pow (n := 5) (Nat.mod_lt _ (by decide)) hd1
    have pn : qg_Pth (2 ^ ap) (yb_nx K kd lf rt tn) (yb_ds K kd lf rt tn) c0 (yb_nx K kd lf rt tn v (x / 32)) (x % 32 ||| yb_ds K kd lf rt tn v (x / 32)) := qg_Pth_s px (by omega)
    have c133 : ¬ (yb_nx K kd lf rt tn v (x / 32) = c0 ∧ (x % 32 ||| yb_ds K kd lf rt tn v (x / 32)) = 2 ^ K - 1) →
        wY_recurs_133 post J47 (wY_recurs_64 post J47 (nI c0) (nI (2 ^ K - 1)) (nI k) (nI ap) g_most g_room g_span (nI N) g_depth g_length g_lassoN g_lassoS g_testN g_testS (d + 1)) (nI c0) (nI (2 ^ K - 1)) (nI size) (nI k) (nI v) (nI (yb_nx K kd lf rt tn v (x / 32))) (nI (x % 32 ||| yb_ds K kd lf rt tn v (x / 32))) (nI ap) g_most g_room g_span (nI N) g_depth g_length g_lassoN g_lassoS g_testN g_testS b_kind b_left b_right b_stack b_trace b_lasso b_test b_truth b_real se qu := by
      intro hne
      unfold wY_recurs_133
      have hcd : yb_cd (yb_nx K kd lf rt tn) (yb_ds K kd lf rt tn) v x < 1024 := by unfold yb_cd; omega
      have ecd : nI (yb_nx K kd lf rt tn v (x / 32)) * 32 + nI (x % 32 ||| yb_ds K kd lf rt tn v (x / 32)) = nI (yb_cd (yb_nx K kd lf rt tn) (yb_ds K kd lf rt tn) v x) := by
        rw [show (32 : Int32) = nI 32 from rfl, pk_mul, nI_add]; rfl
      have cd1024 : vp_in (nI (yb_cd (yb_nx K kd lf rt tn) (yb_ds K kd lf rt tn) v x)) 1024 := vp_in_nI hcd (by decide)
      refine nm_r ecd ⟨cd1024, ?_⟩
      rw [nI_clamp (by omega)]
      refine br_c (fun z => ?_) (fun z => nm_r (nI_1 v) (ih (v + 1) size se qu (by omega) hk I (fun y hy ey v' hv' => ?_)))
      · have room := yb_room I hcd z
        have cdv : yb_cd (yb_nx K kd lf rt tn) (yb_ds K kd lf rt tn) v x / 32 = yb_nx K kd lf rt tn v (x / 32) := by unfold yb_cd; omega
        have cmd : yb_cd (yb_nx K kd lf rt tn) (yb_ds K kd lf rt tn) v x % 32 = (x % 32 ||| yb_ds K kd lf rt tn v (x / 32)) := by unfold yb_cd; omega
        have I2 := yb_add I hcd z room (by omega) (by rw [cdv, cmd]; exact pn)
        refine br_f (nI_ge (b := 1024) room (by decide)) ⟨cd1024, ?_⟩
        rw [yn_1, nI_clamp (n := size) (by omega)]
        refine nm_e (nm_r (nI_1 size) ⟨vp_in_nI room (by decide), nm_e (nm_r (nI_1 v) (ih (v + 1) (size + 1) _ _ (by omega) (by omega) I2 (fun y hy ey v' hv' => ?_)))⟩)
        rw [pk_un (by omega)] at ey
        have eyx : y = x := (nI_eq (by omega) (by omega)).mp (ey.symm.trans ex)
        subst eyx
        by_cases e : v' = v
        · subst e
          exact ⟨hne, pk_us⟩
        · obtain ⟨q1, q2⟩ := hp y hy ex v' (by omega)
          refine ⟨q1, ?_⟩
          rw [pk_un (fun ez => by rw [ez, z] at q2; exact absurd q2 (by decide))]
          exact q2
      · have eyx : y = x := (nI_eq (by omega) (by omega)).mp (ey.symm.trans ex)
        subst eyx
        by_cases e : v' = v
        · subst e
          refine ⟨hne, ?_⟩
          rcases I.2.2.1 _ hcd with q | q
          · exact absurd q z
          · exact q.1
        · exact hp y hy ex v' (by omega)
    refine pk_eq (yb_nx K kd lf rt tn v (x / 32)) c0 (fun e => ?_) (fun e => c133 (fun z => e z.1))
    refine pk_eq (x % 32 ||| yb_ds K kd lf rt tn v (x / 32)) (2 ^ K - 1) (fun e2 => ?_) (fun e2 => c133 (fun z => e2 z.2))
    exact h1 ⟨_, _, v, px, by omega, e, e2⟩ se qu
theorem yw_r47 {post : Int32 → SY → Prop} {c0 : Nat} (H : qs_WF ap N K kd lf rt tn) (ND : ys_nd N kd lf rt b_kind b_left b_right) (hc : c0 < 32)
    (h1 : qg_Rec (2 ^ ap) (yb_nx K kd lf rt tn) (yb_ds K kd lf rt tn) (2 ^ K - 1) c0 → ∀ se qu, post 1 (nI ap, g_most, g_room, g_span, nI N, g_depth, g_length, g_lassoN, g_lassoS, g_testN, g_testS, b_kind, b_left, b_right, b_stack, b_trace, b_lasso, b_test, b_truth, b_real, se, qu))
    (h0 : ¬ qg_Rec (2 ^ ap) (yb_nx K kd lf rt tn) (yb_ds K kd lf rt tn) (2 ^ K - 1) c0 → ∀ se qu, post 0 (nI ap, g_most, g_room, g_span, nI N, g_depth, g_length, g_lassoN, g_lassoS, g_testN, g_testS, b_kind, b_left, b_right, b_stack, b_trace, b_lasso, b_test, b_truth, b_real, se, qu)) :
    ∀ d k size se qu, k + d = 1024 → k ≤ size → yb_I (2 ^ ap) (yb_nx K kd lf rt tn) (yb_ds K kd lf rt tn) c0 (2 ^ K - 1) k size se qu →
      wY_recurs_47 post (nI c0) (nI (2 ^ K - 1)) (nI ap) g_most g_room g_span (nI N) g_depth g_length g_lassoN g_lassoS g_testN g_testS (d + 1) (nI size) (nI k) b_kind b_left b_right b_stack b_trace b_lasso b_test b_truth b_real se qu := by
  intro d
  induction d with
  | zero =>
    intro k size se qu hk hks I
    have := I.1
    exact br_t (nI_le (by omega) (by omega)) (h0 (yb_end I (by omega) hc (fun v c _ => yb_nxl H v c) (fun v c => yb_dsl H v c)) se qu)
  | succ d ih =>
    intro k size se qu hk hks I
    have hs := I.1
    by_cases e : size ≤ k
    · exact br_t (nI_le e (by omega)) (h0 (yb_end I e hc (fun v c _ => yb_nxl H v c) (fun v c => yb_dsl H v c)) se qu)
    · refine br_f (nI_ge (by omega) (by omega)) (br_f (nI_ge (b := 1024) (by omega) (by decide)) ⟨2 ^ ap + 1, ?_⟩)
      exact yw_r64 H ND hc h1 (fun size se qu hk2 I2 => ih (k + 1) size se qu (by omega) (by omega) I2) (2 ^ ap) 0 size se qu (Nat.zero_add _) (by omega) I (fun _ _ _ v' hv' => absurd hv' (Nat.not_lt_zero _))
theorem yw_r2 {post : Int32 → SY → Prop} {c0 : Nat} (H : qs_WF ap N K kd lf rt tn) (ND : ys_nd N kd lf rt b_kind b_left b_right) (hc : c0 < 32)
    (h1 : qg_Rec (2 ^ ap) (yb_nx K kd lf rt tn) (yb_ds K kd lf rt tn) (2 ^ K - 1) c0 → ∀ se qu, post 1 (nI ap, g_most, g_room, g_span, nI N, g_depth, g_length, g_lassoN, g_lassoS, g_testN, g_testS, b_kind, b_left, b_right, b_stack, b_trace, b_lasso, b_test, b_truth, b_real, se, qu))
    (h0 : ¬ qg_Rec (2 ^ ap) (yb_nx K kd lf rt tn) (yb_ds K kd lf rt tn) (2 ^ K - 1) c0 → ∀ se qu, post 0 (nI ap, g_most, g_room, g_span, nI N, g_depth, g_length, g_lassoN, g_lassoS, g_testN, g_testS, b_kind, b_left, b_right, b_stack, b_trace, b_lasso, b_test, b_truth, b_real, se, qu)) :
    ∀ d i se, i + d = 1024 → (∀ x, x < i → se x = 0) → wY_recurs_2 post (nI c0) (nI (2 ^ K - 1)) (nI ap) g_most g_room g_span (nI N) g_depth g_length g_lassoN g_lassoS g_testN g_testS (d + 1) (nI i) b_kind b_left b_right b_stack b_trace b_lasso b_test b_truth b_real se b_queue := by
  intro d
  induction d with
  | zero =>
    intro i se hi hs
    have : i = 1024 := by omega
    subst this
    have e32 : nI c0 * 32 = nI (c0 * 32) := pk_mul c0 32
    refine br_t (by decide) ?_
    rw [e32, yn_1, nI_clamp (by omega)]
    refine nm_e ⟨vp_in_nI (by omega) (by decide), nm_e ⟨1025, yw_r47 H ND hc h1 h0 1024 0 1 _ _ (by decide) (by decide) ?_⟩⟩
    refine ⟨by decide, fun i hi => ?_, fun x hx => ?_, fun i j hij hj => absurd hij (by omega), pk_us, fun i hi => absurd hi (Nat.not_lt_zero _)⟩
    · have : i = 0 := by omega
      subst this
      refine ⟨c0 * 32, by omega, pk_us, pk_us, ?_⟩
      have e1 : c0 * 32 / 32 = c0 := by omega
      have e2 : c0 * 32 % 32 = 0 := by omega
      rw [e1, e2]; exact qg_Pth_0
    · by_cases e : x = c0 * 32
      · exact Or.inr ⟨by rw [e, pk_us], 0, by decide, by rw [pk_us, e]⟩
      · exact Or.inl (by rw [pk_un e]; exact hs x hx)
  | succ d ih =>
    intro i se hi hs
    refine br_f (nI_ge (b := 1024) (by omega) (by decide)) ⟨vp_in_nI (by omega) (by decide), ?_⟩
    rw [yn_0, nI_clamp (by omega)]
    refine nm_e (nm_r (nI_1 i) (ih (i + 1) _ (by omega) (fun x hx => ?_)))
    by_cases e : x = i
    · rw [e, pk_us]
    · rw [pk_un e]; exact hs x (by omega)
theorem yw_recurs {post : Int32 → SY → Prop} {c0 : Nat} (H : qs_WF ap N K kd lf rt tn) (ND : ys_nd N kd lf rt b_kind b_left b_right) (hc : c0 < 32)
    (h1 : qg_Rec (2 ^ ap) (yb_nx K kd lf rt tn) (yb_ds K kd lf rt tn) (2 ^ K - 1) c0 → ∀ se qu, post 1 (nI ap, g_most, g_room, g_span, nI N, g_depth, g_length, g_lassoN, g_lassoS, g_testN, g_testS, b_kind, b_left, b_right, b_stack, b_trace, b_lasso, b_test, b_truth, b_real, se, qu))
    (h0 : ¬ qg_Rec (2 ^ ap) (yb_nx K kd lf rt tn) (yb_ds K kd lf rt tn) (2 ^ K - 1) c0 → ∀ se qu, post 0 (nI ap, g_most, g_room, g_span, nI N, g_depth, g_length, g_lassoN, g_lassoS, g_testN, g_testS, b_kind, b_left, b_right, b_stack, b_trace, b_lasso, b_test, b_truth, b_real, se, qu)) :
    wpY_recurs post (nI ap, g_most, g_room, g_span, nI N, g_depth, g_length, g_lassoN, g_lassoS, g_testN, g_testS, b_kind, b_left, b_right, b_stack, b_trace, b_lasso, b_test, b_truth, b_real, b_seen, b_queue) (nI c0) (nI (2 ^ K - 1)) := by
  unfold wpY_recurs; dsimp only
  exact ⟨1025, yw_r2 H ND hc h1 h0 1024 0 b_seen (by decide) (fun x hx => absurd hx (Nat.not_lt_zero _))⟩
end
end
section
/-! Y: spread, findReal, front, pairs, mix, outlook, moves -/
def yb_c (re : Nat → Int32) : Nat := qn_c (fun x => decide (¬ re x = 0)) 32
def yb_cl (A : Nat) (nx : Nat → Nat → Nat) (re : Nat → Int32) : Prop := ∀ c v, c < 32 → ¬ re c = 0 → v < A → ¬ re (nx v c) = 0
section
variable {g_atoms g_most g_room g_span g_made g_depth g_length g_lassoN g_lassoS g_testN g_testS : Int32} {b_kind b_left b_right b_stack b_trace b_lasso b_test b_truth b_real b_seen b_queue : Nat → Int32}
variable {ap N K : Nat} {kd lf rt tn : Nat → Nat}
theorem yw_sp2 {post : SY → Prop} {c : Nat} (H : qs_WF ap N K kd lf rt tn) (ND : ys_nd N kd lf rt b_kind b_left b_right) (r0 : Nat → Int32)
    (h : ∀ re, (∀ x, ¬ re x = 0 ↔ (¬ r0 x = 0 ∨ ∃ v, v < 2 ^ ap ∧ x = yb_nx K kd lf rt tn v c)) → post (nI ap, g_most, g_room, g_span, nI N, g_depth, g_length, g_lassoN, g_lassoS, g_testN, g_testS, b_kind, b_left, b_right, b_stack, b_trace, b_lasso, b_test, b_truth, re, b_seen, b_queue)) :
    ∀ d v re, v + d = 2 ^ ap → (∀ x, ¬ re x = 0 ↔ (¬ r0 x = 0 ∨ ∃ v', v' < v ∧ x = yb_nx K kd lf rt tn v' c)) →
      wY_spread_2 post (nI c) (nI ap) g_most g_room g_span (nI N) g_depth g_length g_lassoN g_lassoS g_testN g_testS (d + 1) (nI v) b_kind b_left b_right b_stack b_trace b_lasso b_test b_truth re b_seen b_queue := by
  have hap : 2 ^ ap ≤ 8 := Nat.pow_le_pow_right (n := 2) (j := 3) (by decide) H.1.2
  intro d
  induction d with
  | zero =>
    intro v re hv hr
    have : v = 2 ^ ap := by omega
    subst this
    refine br_t ?_ (h re hr)
    rw [yb_sh ap H.1.1 H.1.2]; exact nI_le (Nat.le_refl _) (by omega)
  | succ d ih =>
    intro v re hv hr
    refine br_f ?_ (yw_eval H ND v c (yw_carry H ND _ ?_))
    · rw [yb_sh ap H.1.1 H.1.2]; exact nI_ge (by omega) (by omega)
    have hl := yb_nxl H v c
    unfold yb_nx at hl
    refine ⟨vp_in_nI hl (by decide), ?_⟩
    rw [yn_1, nI_clamp (by omega)]
    refine nm_e (nm_r (nI_1 v) (ih (v + 1) _ (by omega) (fun x => ?_)))
    by_cases e : x = qs_yC K kd lf tn (qs_E kd lf rt v c)
    · rw [e, pk_us]
      exact ⟨fun _ => Or.inr ⟨v, by omega, rfl⟩, fun _ => by decide⟩
    · rw [pk_un e, hr x]
      constructor
      · rintro (z | ⟨v', z1, z2⟩)
        · exact Or.inl z
        · exact Or.inr ⟨v', by omega, z2⟩
      · rintro (z | ⟨v', z1, z2⟩)
        · exact Or.inl z
        · by_cases e2 : v' = v
          · rw [e2] at z2; exact absurd z2 e
          · exact Or.inr ⟨v', by omega, z2⟩
theorem yw_spread {post : SY → Prop} {c : Nat} (H : qs_WF ap N K kd lf rt tn) (ND : ys_nd N kd lf rt b_kind b_left b_right)
    (h : ∀ re, (∀ x, ¬ re x = 0 ↔ (¬ b_real x = 0 ∨ ∃ v, v < 2 ^ ap ∧ x = yb_nx K kd lf rt tn v c)) → post (nI ap, g_most, g_room, g_span, nI N, g_depth, g_length, g_lassoN, g_lassoS, g_testN, g_testS, b_kind, b_left, b_right, b_stack, b_trace, b_lasso, b_test, b_truth, re, b_seen, b_queue)) :
    wpY_spread post (nI ap, g_most, g_room, g_span, nI N, g_depth, g_length, g_lassoN, g_lassoS, g_testN, g_testS, b_kind, b_left, b_right, b_stack, b_trace, b_lasso, b_test, b_truth, b_real, b_seen, b_queue) (nI c) := by
  unfold wpY_spread; dsimp only
  refine ⟨2 ^ ap + 1, yw_sp2 H ND b_real h (2 ^ ap) 0 b_real (Nat.zero_add _) (fun x => ⟨fun z => Or.inl z, ?_⟩)⟩
  rintro (z | ⟨v', z1, _⟩)
  · exact z
  · exact absurd z1 (Nat.not_lt_zero _)
def yb_Rl (ap K : Nat) (kd lf rt tn : Nat → Nat) (c : Nat) : Prop := qg_Real (2 ^ ap) (yb_nx K kd lf rt tn) (yb_ds K kd lf rt tn) (2 ^ K - 1) c
/-- one pass: from r0; sound, larger, and what r0 leads to is in -/
def yb_P (ap K : Nat) (kd lf rt tn : Nat → Nat) (r0 : Nat → Int32) (i : Nat) (re : Nat → Int32) : Prop :=
  (∀ c, c < 32 → ¬ re c = 0 → yb_Rl ap K kd lf rt tn c) ∧ (∀ c, ¬ r0 c = 0 → ¬ re c = 0) ∧ (∀ c v, c < i → ¬ r0 c = 0 → v < 2 ^ ap → ¬ re (yb_nx K kd lf rt tn v c) = 0) ∧
  (yb_cl (2 ^ ap) (yb_nx K kd lf rt tn) r0 → ∀ c, c < 32 → ¬ re c = 0 → ¬ r0 c = 0)
theorem yw_f58 {post : SY → Prop} {J50 : Int32 → Int32 → Int32 → Int32 → Int32 → Int32 → Int32 → Int32 → Int32 → Int32 → Int32 → Int32 → (Nat → Int32) → (Nat → Int32) → (Nat → Int32) → (Nat → Int32) → (Nat → Int32) → (Nat → Int32) → (Nat → Int32) → (Nat → Int32) → (Nat → Int32) → (Nat → Int32) → (Nat → Int32) → Prop}
    {p : Nat} (H : qs_WF ap N K kd lf rt tn) (ND : ys_nd N kd lf rt b_kind b_left b_right) (r0 : Nat → Int32)
    (h : ∀ re, yb_P ap K kd lf rt tn r0 32 re → J50 (nI (p + 1)) (nI ap) g_most g_room g_span (nI N) g_depth g_length g_lassoN g_lassoS g_testN g_testS b_kind b_left b_right b_stack b_trace b_lasso b_test b_truth re b_seen b_queue) :
    ∀ d i re, i + d = 32 → yb_P ap K kd lf rt tn r0 i re → wY_findReal_58 post J50 (nI p) (d + 1) (nI i) (nI ap) g_most g_room g_span (nI N) g_depth g_length g_lassoN g_lassoS g_testN g_testS b_kind b_left b_right b_stack b_trace b_lasso b_test b_truth re b_seen b_queue := by
  intro d
  induction d with
  | zero =>
    intro i re hi hP
    have : i = 32 := by omega
    subst this
    exact br_t (by decide) (nm_r (nI_1 p) (h re hP))
  | succ d ih =>
    intro i re hi hP
    obtain ⟨p1, p2, p3, p4⟩ := hP
    refine br_f (nI_ge (b := 32) (by omega) (by decide)) ⟨vp_in_nI (by omega) (by decide), ?_⟩
    rw [nI_clamp (by omega)]
    refine br_c (fun z => nm_r (nI_1 i) (ih (i + 1) re (by omega) ⟨p1, p2, fun c v hc hr hv => ?_, p4⟩)) (fun z => yw_spread H ND (fun re' hre => ?_))
    · by_cases e : c = i
      · rw [e] at hr; exact absurd z (p2 i hr)
      · exact p3 c v (by omega) hr hv
    · dsimp only
      refine nm_r (nI_1 i) (ih (i + 1) re' (by omega) ⟨fun c hc hr => ?_, fun c hr => (hre c).mpr (Or.inl (p2 c hr)), fun c v hc hr hv => ?_, fun cl c hc hr => ?_⟩)
      · rcases (hre c).mp hr with y | ⟨v, hv, e⟩
        · exact p1 c hc y
        · rw [e]; exact qg_Real_s (p1 i (by omega) z) hv
      · by_cases e : c = i
        · rw [e]; exact (hre _).mpr (Or.inr ⟨v, hv, rfl⟩)
        · exact (hre _).mpr (Or.inl (p3 c v (by omega) hr hv))
      · rcases (hre c).mp hr with y | ⟨v, hv, e⟩
        · exact p4 cl c hc y
        · rw [e]; exact cl i v (by omega) (p4 cl i (by omega) z) hv
theorem yb_pass (H : qs_WF ap N K kd lf rt tn) {r0 re : Nat → Int32} {p : Nat} (hP : yb_P ap K kd lf rt tn r0 32 re) (h : yb_cl (2 ^ ap) (yb_nx K kd lf rt tn) r0 ∨ p ≤ yb_c r0) :
    yb_cl (2 ^ ap) (yb_nx K kd lf rt tn) re ∨ p + 1 ≤ yb_c re := by
  obtain ⟨p1, p2, p3, p4⟩ := hP
  by_cases cl : yb_cl (2 ^ ap) (yb_nx K kd lf rt tn) r0
  · refine Or.inl (fun c v hc hr hv => ?_)
    exact p2 _ (cl c v hc (p4 cl c hc hr) hv)
  · have ex : ∃ c v, c < 32 ∧ ¬ r0 c = 0 ∧ v < 2 ^ ap ∧ r0 (yb_nx K kd lf rt tn v c) = 0 := by
      refine Classical.byContradiction (fun g => cl (fun c v hc hr hv z => g ⟨c, v, hc, hr, hv, z⟩))
    obtain ⟨c, v, hc, hr, hv, z⟩ := ex
    have k := qn_strict (f := fun x => decide (¬ r0 x = 0)) (g := fun x => decide (¬ re x = 0)) (n := 32) (i := yb_nx K kd lf rt tn v c)
      (fun j _ hj => decide_eq_true (p2 j (of_decide_eq_true hj))) (yb_nxl H v c) (decide_eq_false (fun g => g z)) (decide_eq_true (p3 c v hc hr hv))
    have k2 := h.resolve_left cl
    unfold yb_c at k2 ⊢
    exact Or.inr (by omega)
theorem yw_f50 {post : SY → Prop} (H : qs_WF ap N K kd lf rt tn) (ND : ys_nd N kd lf rt b_kind b_left b_right)
    (h : ∀ re, (∀ c, c < 32 → (¬ re c = 0 ↔ yb_Rl ap K kd lf rt tn c)) → post (nI ap, g_most, g_room, g_span, nI N, g_depth, g_length, g_lassoN, g_lassoS, g_testN, g_testS, b_kind, b_left, b_right, b_stack, b_trace, b_lasso, b_test, b_truth, re, b_seen, b_queue)) :
    ∀ d p re, p + d = 32 → (∀ c, c < 32 → ¬ re c = 0 → yb_Rl ap K kd lf rt tn c) → (∀ c, c < 32 → c ≤ 2 ^ K - 1 → qg_Rec (2 ^ ap) (yb_nx K kd lf rt tn) (yb_ds K kd lf rt tn) (2 ^ K - 1) c → ¬ re c = 0) →
      (yb_cl (2 ^ ap) (yb_nx K kd lf rt tn) re ∨ p ≤ yb_c re) → wY_findReal_50 post (d + 1) (nI p) (nI ap) g_most g_room g_span (nI N) g_depth g_length g_lassoN g_lassoS g_testN g_testS b_kind b_left b_right b_stack b_trace b_lasso b_test b_truth re b_seen b_queue := by
  have hK := (yb_K H).2
  have hK0 := Nat.two_pow_pos K
  intro d
  induction d with
  | zero =>
    intro p re hp h1 h2 h3
    have : p = 32 := by omega
    subst this
    have cl : yb_cl (2 ^ ap) (yb_nx K kd lf rt tn) re := by
      rcases h3 with z | z
      · exact z
      · exact fun c v _ _ _ => of_decide_eq_true (qn_full z _ (yb_nxl H v c))
    refine br_t (by decide) (h re (fun c hc => ⟨h1 c hc, fun r => ?_⟩))
    have := r (fun c => c < 32 ∧ ¬ re c = 0) (fun c hc r => ⟨by omega, h2 c (by omega) hc r⟩) (fun c v hz hv => ⟨yb_nxl H v c, cl c v hz.1 hz.2 hv⟩)
    exact this.2
  | succ d ih =>
    intro p re hp h1 h2 h3
    refine br_f (nI_ge (b := 32) (by omega) (by decide)) ⟨33, yw_f58 H ND re (fun re' hP => ?_) 32 0 re (by decide) ⟨h1, fun _ z => z, fun c v hc => absurd hc (Nat.not_lt_zero _), fun _ _ _ z => z⟩⟩
    exact ih (p + 1) re' (by omega) hP.1 (fun c hc hl r => hP.2.1 c (h2 c hc hl r)) (yb_pass H hP h3)
theorem yw_f11 {post : SY → Prop} (H : qs_WF ap N K kd lf rt tn) (ND : ys_nd N kd lf rt b_kind b_left b_right)
    (h : ∀ re se qu, (∀ c, c < 32 → (¬ re c = 0 ↔ yb_Rl ap K kd lf rt tn c)) → post (nI ap, g_most, g_room, g_span, nI N, g_depth, g_length, g_lassoN, g_lassoS, g_testN, g_testS, b_kind, b_left, b_right, b_stack, b_trace, b_lasso, b_test, b_truth, re, se, qu)) :
    ∀ d i re se qu, i + d = 32 → (∀ c, c < i → (¬ re c = 0 ↔ (c ≤ 2 ^ K - 1 ∧ qg_Rec (2 ^ ap) (yb_nx K kd lf rt tn) (yb_ds K kd lf rt tn) (2 ^ K - 1) c))) →
      wY_findReal_11 post (nI (2 ^ K - 1)) (d + 1) (nI i) (nI ap) g_most g_room g_span (nI N) g_depth g_length g_lassoN g_lassoS g_testN g_testS b_kind b_left b_right b_stack b_trace b_lasso b_test b_truth re se qu := by
  have hK := (yb_K H).2
  have hK0 := Nat.two_pow_pos K
  intro d
  induction d with
  | zero =>
    intro i re se qu hi hr
    have : i = 32 := by omega
    subst this
    refine br_t (by decide) ⟨33, yw_f50 H ND (fun re' hre => h re' se qu hre) 32 0 re (by decide) (fun c hc z => ?_) (fun c hc hl r => (hr c hc).mpr ⟨hl, r⟩) (Or.inr (Nat.zero_le _))⟩
    obtain ⟨z1, z2⟩ := (hr c hc).mp z
    exact qg_Real_b z1 z2
  | succ d ih =>
    intro i re se qu hi hr
    have stp : ∀ b : Bool, (b = true ↔ (i ≤ 2 ^ K - 1 ∧ qg_Rec (2 ^ ap) (yb_nx K kd lf rt tn) (yb_ds K kd lf rt tn) (2 ^ K - 1) i)) → ∀ c, c < i + 1 → (¬ upd re i (qb_i b) c = 0 ↔ (c ≤ 2 ^ K - 1 ∧ qg_Rec (2 ^ ap) (yb_nx K kd lf rt tn) (yb_ds K kd lf rt tn) (2 ^ K - 1) c)) := by
      intro b hb c hc
      by_cases e : c = i
      · rw [e, pk_us, ← hb, qb_i0]; exact Bool.not_eq_false _ ▸ Iff.rfl
      · rw [pk_un e]; exact hr c (by omega)
    have i32 : vp_in (nI i) 32 := vp_in_nI (by omega) (by decide)
    refine br_f (nI_ge (b := 32) (by omega) (by decide)) (pk_lt (2 ^ K - 1) i (fun g => ?_) (fun g => ?_))
    · rw [yn_0, nI_clamp (by omega)]
      exact ⟨i32, nm_e (nm_r (nI_1 i) (ih (i + 1) _ se qu (by omega) (stp false ⟨fun z => absurd z (by decide), fun z => absurd z.1 (by omega)⟩)))⟩
    · refine yw_recurs H ND (by omega) (fun r se' qu' => ?_) (fun r se' qu' => ?_)
      · dsimp only
        rw [yn_1, nI_clamp (by omega)]
        exact br_f (by decide) ⟨i32, nm_e (nm_r (nI_1 i) (ih (i + 1) _ se' qu' (by omega) (stp true ⟨fun _ => ⟨g, r⟩, fun _ => rfl⟩)))⟩
      · dsimp only
        rw [yn_0, nI_clamp (by omega)]
        exact br_t rfl ⟨i32, nm_e (nm_r (nI_1 i) (ih (i + 1) _ se' qu' (by omega) (stp false ⟨fun z => absurd z (by decide), fun z => absurd z.2 r⟩)))⟩
theorem ys_kd (H : qs_WF ap N K kd lf rt tn) (ND : ys_nd N kd lf rt b_kind b_left b_right) : ∀ i, i < N → b_kind i = nI (kd i) ∧ kd i ≤ 14 :=
  fun i hi => ⟨(ND i hi).1, (H.2.2.2.1 i hi).1⟩
theorem yw_findReal {post : SY → Prop} (H : qs_WF ap N K kd lf rt tn) (ND : ys_nd N kd lf rt b_kind b_left b_right)
    (h : ∀ re se qu, (∀ c, c < 32 → (¬ re c = 0 ↔ qs_Real ap K kd lf rt tn c)) → post (nI ap, g_most, g_room, g_span, nI N, g_depth, g_length, g_lassoN, g_lassoS, g_testN, g_testS, b_kind, b_left, b_right, b_stack, b_trace, b_lasso, b_test, b_truth, re, se, qu)) :
    wpY_findReal post (nI ap, g_most, g_room, g_span, nI N, g_depth, g_length, g_lassoN, g_lassoS, g_testN, g_testS, b_kind, b_left, b_right, b_stack, b_trace, b_lasso, b_test, b_truth, b_real, b_seen, b_queue) := by
  have hK := yb_K H
  have hK0 := Nat.two_pow_pos K
  unfold wpY_findReal; dsimp only
  refine yw_temporals H.2.1 (ys_kd H ND) ?_
  rw [H.2.2.2.2.1]
  have e : ((1 : Int32) <<< (nI K &&& 31)) - 1 = nI (2 ^ K - 1) := by
    rw [qb_shc (by omega)]; exact pk_sub (b := 1) hK0
  exact nm_r e ⟨33, yw_f11 H ND h 32 0 b_real b_seen b_queue (by decide) (fun c hc => absurd hc (Nat.not_lt_zero _))⟩
end
section
variable {g_atoms g_most g_room g_span g_made g_depth g_length g_lassoN g_lassoS g_testN g_testS : Int32} {b_kind b_left b_right b_stack b_trace b_lasso b_test b_truth b_real b_seen b_queue : Nat → Int32}
variable {ap N K tl : Nat} {kd lf rt tn t : Nat → Nat} {tr : Nat → Int64}
theorem yw_fr15 {post : Int32 → Prop} (H : qs_WF ap N K kd lf rt tn) (T : qs_TR ap N kd lf rt tr) (ND : ys_nd N kd lf rt b_kind b_left b_right) (ht : ∀ i, i < tl → b_trace i = nI (t i)) (h8 : tl ≤ 8) :
    ∀ j s, j ≤ tl → post (nI (qb_cd (qs_V tr (qs_fr ap K kd lf rt tn tr t j s)) N)) → wY_front_15 post g_atoms g_most g_room g_span (nI N) g_depth g_length g_lassoN g_lassoS g_testN g_testS b_kind b_left b_right b_stack b_trace b_lasso b_test b_truth b_real b_seen b_queue (j + 1) (nI (qb_cd (qs_V tr s) N)) (nI j - 1) := by
  intro j
  induction j with
  | zero =>
    intro s _ h
    exact br_t (by decide) h
  | succ j ih =>
    intro s hj h
    rw [nI_pred]
    refine br_f (nI_pos (by omega)) (yw_carry H ND _ ⟨vp_in_nI (by omega) (by decide), ?_⟩)
    rw [nI_clamp (by omega), ht j (by omega)]
    refine yw_eval H ND _ _ (nm_r (Int32.sub_eq_add_neg (a := nI j) (b := 1)).symm ?_)
    rw [← qb_cd_cg (f := qs_V tr (qs_P ap K kd lf rt tn (t j) (qs_yC K kd lf tn (qs_V tr s)))) (fun i hi => qs_A H T _ _ i hi)]
    exact ih _ (by omega) h
theorem yw_front {post : Int32 → Prop} (H : qs_WF ap N K kd lf rt tn) (T : qs_TR ap N kd lf rt tr) (ND : ys_nd N kd lf rt b_kind b_left b_right) (ht : ∀ i, i < tl → b_trace i = nI (t i)) (h8 : tl ≤ 8) (v c : Nat)
    (h : post (nI (qb_cd (qs_V tr (qs_fr ap K kd lf rt tn tr t tl (qs_P ap K kd lf rt tn v c))) N))) : wpY_front post (g_atoms, g_most, g_room, g_span, nI N, g_depth, nI tl, g_lassoN, g_lassoS, g_testN, g_testS, b_kind, b_left, b_right, b_stack, b_trace, b_lasso, b_test, b_truth, b_real, b_seen, b_queue) (nI v) (nI c) := by
  unfold wpY_front; dsimp only
  refine yw_eval H ND v c (nm_e ⟨tl + 1, ?_⟩)
  rw [← qb_cd_cg (f := qs_V tr (qs_P ap K kd lf rt tn v c)) (fun i hi => qs_A H T _ _ i hi)]
  exact yw_fr15 H T ND ht h8 tl _ (Nat.le_refl _) h
theorem qs_prI (x y : Bool) : 2 * qb_i x + qb_i y = nI (qs_pr x y) := by cases x <;> cases y <;> decide
theorem qs_pr4 (x y : Bool) : qs_pr x y < 4 := by cases x <;> cases y <;> decide
theorem yw_p6 {post : Int32 → Prop} {i j v : Nat} (hi : i < N) (hj : j < N) (H : qs_WF ap N K kd lf rt tn) (T : qs_TR ap N kd lf rt tr) (ND : ys_nd N kd lf rt b_kind b_left b_right) (ht : ∀ i, i < tl → b_trace i = nI (t i)) (h8 : tl ≤ 8)
    (hr : ∀ c, c < 32 → (¬ b_real c = 0 ↔ qs_Real ap K kd lf rt tn c))
    (h : ∀ sum, (∀ q, q < 32 → (bt sum q = true ↔ ∃ s, qs_S ap K kd lf rt tn tr t tl v s ∧ q = qs_pr (qs_V tr s i) (qs_V tr s j))) → post sum) :
    ∀ d c sum, c + d = 32 → (∀ q, q < 32 → (bt sum q = true ↔ ∃ c', c' < c ∧ qs_Real ap K kd lf rt tn c' ∧ q = qs_pr (qs_V tr (qs_fr ap K kd lf rt tn tr t tl (qs_P ap K kd lf rt tn v c')) i) (qs_V tr (qs_fr ap K kd lf rt tn tr t tl (qs_P ap K kd lf rt tn v c')) j))) →
      wY_pairs_6 post (nI v) (nI i) (nI j) g_atoms g_most g_room g_span (nI N) g_depth (nI tl) g_lassoN g_lassoS g_testN g_testS b_kind b_left b_right b_stack b_trace b_lasso b_test b_truth b_real b_seen b_queue (d + 1) sum (nI c) := by
  have hN := H.2.1
  have hK := (yb_K H).2
  intro d
  induction d with
  | zero =>
    intro c sum hc hs
    have : c = 32 := by omega
    subst this
    refine br_t (by decide) (h sum (fun q hq => (hs q hq).trans ⟨?_, ?_⟩))
    · rintro ⟨c', _, r, e⟩; exact ⟨_, ⟨c', r, rfl⟩, e⟩
    · rintro ⟨s, ⟨c', r, es⟩, e⟩
      have := qs_Rlt r
      exact ⟨c', by omega, r, by rw [← es]; exact e⟩
  | succ d ih =>
    intro c sum hc hs
    refine br_f (nI_ge (b := 32) (by omega) (by decide)) ⟨vp_in_nI (by omega) (by decide), ?_⟩
    rw [nI_clamp (by omega)]
    refine br_c (fun z => nm_r (nI_1 c) (ih (c + 1) sum (by omega) (fun q hq => ?_))) (fun z => yw_front H T ND ht h8 v c ?_)
    · rw [hs q hq]
      constructor
      · rintro ⟨c', l, r⟩; exact ⟨c', by omega, r⟩
      · rintro ⟨c', l, r⟩
        by_cases e : c' = c
        · rw [e] at r; exact absurd z ((hr c (by omega)).mpr r.1)
        · exact ⟨c', by omega, r⟩
    · rw [qb_sh1 _ (by omega), qb_sh1 _ (by omega), qb_cd_b (by omega), qb_cd_b (by omega), decide_eq_true hi, decide_eq_true hj, Bool.true_and, Bool.true_and, qs_prI]
      refine nm_e (nm_r (nI_1 c) (ih (c + 1) _ (by omega) (fun q hq => ?_)))
      have h4 := qs_pr4 (qs_V tr (qs_fr ap K kd lf rt tn tr t tl (qs_P ap K kd lf rt tn v c)) i) (qs_V tr (qs_fr ap K kd lf rt tn tr t tl (qs_P ap K kd lf rt tn v c)) j)
      rw [b_or, Bool.or_eq_true, qb_shb (by omega) hq, hs q hq, decide_eq_true_iff]
      constructor
      · rintro (⟨c', l, r⟩ | y)
        · exact ⟨c', by omega, r⟩
        · exact ⟨c, by omega, (hr c (by omega)).mp z, y⟩
      · rintro ⟨c', l, r1, r2⟩
        by_cases e : c' = c
        · rw [e] at r2; exact Or.inr r2
        · exact Or.inl ⟨c', by omega, r1, r2⟩
theorem yw_pairs {post : Int32 → Prop} {i j v : Nat} (hi : i < N) (hj : j < N) (H : qs_WF ap N K kd lf rt tn) (T : qs_TR ap N kd lf rt tr) (ND : ys_nd N kd lf rt b_kind b_left b_right) (ht : ∀ i, i < tl → b_trace i = nI (t i)) (h8 : tl ≤ 8)
    (hr : ∀ c, c < 32 → (¬ b_real c = 0 ↔ qs_Real ap K kd lf rt tn c))
    (h : ∀ sum, (∀ q, q < 32 → (bt sum q = true ↔ ∃ s, qs_S ap K kd lf rt tn tr t tl v s ∧ q = qs_pr (qs_V tr s i) (qs_V tr s j))) → post sum) :
    wpY_pairs post (g_atoms, g_most, g_room, g_span, nI N, g_depth, nI tl, g_lassoN, g_lassoS, g_testN, g_testS, b_kind, b_left, b_right, b_stack, b_trace, b_lasso, b_test, b_truth, b_real, b_seen, b_queue) (nI v) (nI i) (nI j) := by
  unfold wpY_pairs; dsimp only
  refine ⟨33, yw_p6 hi hj H T ND ht h8 hr h 32 0 0 (by decide) (fun q _ => ⟨fun z => ?_, fun z => ?_⟩)⟩
  · rw [b_0] at z; exact absurd z (by decide)
  · obtain ⟨c', l, _⟩ := z; exact absurd l (Nat.not_lt_zero _)
theorem yw_m27 {post : Int32 → SY → Prop} {i j : Nat} (hi : i < N) (hj : j < N) (H : qs_WF ap N K kd lf rt tn) (T : qs_TR ap N kd lf rt tr) (ND : ys_nd N kd lf rt b_kind b_left b_right) (ht : ∀ i, i < tl → b_trace i = nI (t i)) (h8 : tl ≤ 8)
    (hr : ∀ c, c < 32 → (¬ b_real c = 0 ↔ qs_Real ap K kd lf rt tn c))
    (h : ∀ sum, (∀ q, q < 32 → (bt sum q = true ↔ ∃ s, (∃ v, v < 2 ^ ap ∧ qs_S ap K kd lf rt tn tr t tl v s) ∧ q = qs_pr (qs_V tr s i) (qs_V tr s j))) → post sum (nI ap, g_most, g_room, g_span, nI N, g_depth, nI tl, g_lassoN, g_lassoS, g_testN, g_testS, b_kind, b_left, b_right, b_stack, b_trace, b_lasso, b_test, b_truth, b_real, b_seen, b_queue)) :
    ∀ d v sum, v + d = 2 ^ ap → (∀ q, q < 32 → (bt sum q = true ↔ ∃ s, (∃ v', v' < v ∧ qs_S ap K kd lf rt tn tr t tl v' s) ∧ q = qs_pr (qs_V tr s i) (qs_V tr s j))) →
      wY_mix_27 post (nI i) (nI j) (nI ap) g_most g_room g_span (nI N) g_depth (nI tl) g_lassoN g_lassoS g_testN g_testS b_kind b_left b_right b_stack b_trace b_lasso b_test b_truth b_real b_seen b_queue (d + 1) sum (nI v) := by
  have hap : 2 ^ ap ≤ 8 := Nat.pow_le_pow_right (n := 2) (j := 3) (by decide) H.1.2
  intro d
  induction d with
  | zero =>
    intro v sum hv hs
    have : v = 2 ^ ap := by omega
    subst this
    refine br_t ?_ (h sum hs)
    rw [yb_sh ap H.1.1 H.1.2]; exact nI_le (Nat.le_refl _) (by omega)
  | succ d ih =>
    intro v sum hv hs
    refine br_f ?_ (yw_pairs hi hj H T ND ht h8 hr (fun s2 hs2 => nm_e (nm_r (nI_1 v) (ih (v + 1) _ (by omega) (fun q hq => ?_)))))
    · rw [yb_sh ap H.1.1 H.1.2]; exact nI_ge (by omega) (by omega)
    rw [b_or, Bool.or_eq_true, hs q hq, hs2 q hq]
    constructor
    · rintro (⟨s, ⟨v', l, r⟩, e⟩ | ⟨s, r, e⟩)
      · exact ⟨s, ⟨v', by omega, r⟩, e⟩
      · exact ⟨s, ⟨v, by omega, r⟩, e⟩
    · rintro ⟨s, ⟨v', l, r⟩, e⟩
      by_cases ev : v' = v
      · rw [ev] at r; exact Or.inr ⟨s, r, e⟩
      · exact Or.inl ⟨s, ⟨v', by omega, r⟩, e⟩
theorem yw_mix {post : Int32 → SY → Prop} {i j : Nat} (hi : i < N) (hj : j < N) (H : qs_WF ap N K kd lf rt tn) (T : qs_TR ap N kd lf rt tr) (ND : ys_nd N kd lf rt b_kind b_left b_right) (ht : ∀ i, i < tl → b_trace i = nI (t i)) (h8 : tl ≤ 8)
    (h : ∀ re se qu sum, (∀ q, q < 32 → (bt sum q = true ↔ ∃ s, (∃ v, v < 2 ^ ap ∧ qs_S ap K kd lf rt tn tr t tl v s) ∧ q = qs_pr (qs_V tr s i) (qs_V tr s j))) → post sum (nI ap, g_most, g_room, g_span, nI N, g_depth, nI tl, g_lassoN, g_lassoS, g_testN, g_testS, b_kind, b_left, b_right, b_stack, b_trace, b_lasso, b_test, b_truth, re, se, qu)) :
    wpY_mix post (nI ap, g_most, g_room, g_span, nI N, g_depth, nI tl, g_lassoN, g_lassoS, g_testN, g_testS, b_kind, b_left, b_right, b_stack, b_trace, b_lasso, b_test, b_truth, b_real, b_seen, b_queue) (nI i) (nI j) := by
  have hN := H.2.1
  unfold wpY_mix; dsimp only
  refine yw_isN1 hi hN (br_f (by decide) (yw_isN1 hj hN (br_f (by decide) (yw_findReal H ND (fun re se qu hr => ?_)))))
  dsimp only
  refine ⟨2 ^ ap + 1, yw_m27 hi hj H T ND ht h8 hr (fun sum hs => h re se qu sum hs) (2 ^ ap) 0 0 (Nat.zero_add _) (fun q _ => ⟨fun z => ?_, fun z => ?_⟩)⟩
  · rw [b_0] at z; exact absurd z (by decide)
  · obtain ⟨s, ⟨v', l, _⟩, _⟩ := z; exact absurd l (Nat.not_lt_zero _)
theorem yb_is1 : ∀ q, q < 32 → bt 1 q = decide (q = 0) := fun q _ => qb_b1 q
theorem yb_is8 : ∀ q, q < 32 → bt 8 q = decide (q = 3) := by decide +kernel
theorem yw_outlook {post : Int32 → SY → Prop} {i : Nat} (hi : i < N) (H : qs_WF ap N K kd lf rt tn) (T : qs_TR ap N kd lf rt tr) (ND : ys_nd N kd lf rt b_kind b_left b_right) (ht : ∀ i, i < tl → b_trace i = nI (t i)) (h8 : tl ≤ 8) {r : Int32}
    (hr : (r = 0 ∧ (∀ v s, v < 2 ^ ap → qs_S ap K kd lf rt tn tr t tl v s → qs_V tr s i = false)) ∨
      (r = 2 ∧ (∃ v s, v < 2 ^ ap ∧ qs_S ap K kd lf rt tn tr t tl v s ∧ qs_V tr s i = true) ∧ (∀ v s, v < 2 ^ ap → qs_S ap K kd lf rt tn tr t tl v s → qs_V tr s i = true)) ∨
      (r = 1 ∧ (∃ v s, v < 2 ^ ap ∧ qs_S ap K kd lf rt tn tr t tl v s ∧ qs_V tr s i = true) ∧ (∃ v s, v < 2 ^ ap ∧ qs_S ap K kd lf rt tn tr t tl v s ∧ qs_V tr s i = false)))
    (h : ∀ re se qu, post r (nI ap, g_most, g_room, g_span, nI N, g_depth, nI tl, g_lassoN, g_lassoS, g_testN, g_testS, b_kind, b_left, b_right, b_stack, b_trace, b_lasso, b_test, b_truth, re, se, qu)) :
    wpY_outlook post (nI ap, g_most, g_room, g_span, nI N, g_depth, nI tl, g_lassoN, g_lassoS, g_testN, g_testS, b_kind, b_left, b_right, b_stack, b_trace, b_lasso, b_test, b_truth, b_real, b_seen, b_queue) (nI i) := by
  have hN := H.2.1
  unfold wpY_outlook; dsimp only
  refine yw_isN1 hi hN (br_f (by decide) (yw_mix hi hi H T ND ht h8 (fun re se qu sum hs => ?_)))
  dsimp only
  have hb : ∀ q, q < 32 → ∀ b : Bool, q = qs_pr b b → (bt sum q = true ↔ ∃ v s, v < 2 ^ ap ∧ qs_S ap K kd lf rt tn tr t tl v s ∧ qs_V tr s i = b) := by
    intro q hq b eq
    rw [hs q hq, eq]
    constructor
    · rintro ⟨s, ⟨v, hv, r⟩, e⟩
      refine ⟨v, s, hv, r, ?_⟩
      revert e
      cases qs_V tr s i <;> cases b <;> decide
    · rintro ⟨v, s, hv, r, e⟩
      exact ⟨s, ⟨v, hv, r⟩, by rw [e]⟩
  have h0 := hb 0 (by decide) false (by decide)
  have h3 := hb 3 (by decide) true (by decide)
  have ho : ∀ q, q < 32 → ¬ q = 0 → ¬ q = 3 → bt sum q = false := by
    intro q hq n0 n3
    refine Bool.eq_false_iff.mpr (fun z => ?_)
    obtain ⟨s, _, e⟩ := (hs q hq).mp z
    revert e
    cases qs_V tr s i
    · exact n0
    · exact n3
  obtain ⟨c0, rc0⟩ := qs_ne H
  have hne : ∃ v s, v < 2 ^ ap ∧ qs_S ap K kd lf rt tn tr t tl v s := ⟨0, _, Nat.two_pow_pos ap, c0, rc0, rfl⟩
  have is1 : sum = 1 ↔ (bt sum 0 = true ∧ bt sum 3 = false) := by
    constructor
    · intro e; rw [e]; exact ⟨by decide, by decide⟩
    · rintro ⟨a, b⟩
      refine b_ext (fun q hq => ?_)
      rw [yb_is1 q hq]
      by_cases n0 : q = 0
      · rw [n0, a]; rfl
      · by_cases n3 : q = 3
        · rw [n3, b]; rfl
        · rw [ho q hq n0 n3]; exact (decide_eq_false n0).symm
  have is8 : sum = 8 ↔ (bt sum 0 = false ∧ bt sum 3 = true) := by
    constructor
    · intro e; rw [e]; exact ⟨by decide, by decide⟩
    · rintro ⟨a, b⟩
      refine b_ext (fun q hq => ?_)
      rw [yb_is8 q hq]
      by_cases n0 : q = 0
      · rw [n0, a]; rfl
      · by_cases n3 : q = 3
        · rw [n3, b]; rfl
        · rw [ho q hq n0 n3]; exact (decide_eq_false n3).symm
  rcases hr with ⟨e, a⟩ | ⟨e, a, b⟩ | ⟨e, a, b⟩
  · subst e
    refine br_t (is1.mpr ⟨h0.mpr ?_, Bool.eq_false_iff.mpr (fun z => ?_)⟩) (h re se qu)
    · obtain ⟨v, s, hv, q⟩ := hne
      exact ⟨v, s, hv, q, a v s hv q⟩
    · obtain ⟨v, s, hv, q, y⟩ := h3.mp z
      rw [a v s hv q] at y; exact absurd y (by decide)
  · subst e
    have n0 : bt sum 0 = false := Bool.eq_false_iff.mpr (fun z => by
      obtain ⟨v, s, hv, q, y⟩ := h0.mp z
      rw [b v s hv q] at y; exact absurd y (by decide))
    have y3 := h3.mpr a
    refine br_f (fun z => ?_) (br_t (is8.mpr ⟨n0, y3⟩) (h re se qu))
    have := (is1.mp z).1
    rw [n0] at this; exact absurd this (by decide)
  · subst e
    have y3 := h3.mpr a
    have y0 := h0.mpr b
    refine br_f (fun z => ?_) (br_f (fun z => ?_) (h re se qu))
    · have := (is1.mp z).2
      rw [y3] at this; exact absurd this (by decide)
    · have := (is8.mp z).1
      rw [y0] at this; exact absurd this (by decide)
theorem yb_and8 (x : Int32) : (x &&& 8) = 0 ↔ bt x 3 = false := by
  constructor
  · intro h
    have : bt (x &&& 8) 3 = false := by rw [h]; exact b_0 3
    rw [b_and] at this
    have e : bt 8 3 = true := by decide
    rw [e, Bool.and_true] at this
    exact this
  · intro h
    refine b_ext (fun q hq => ?_)
    rw [b_and, yb_is8 q hq, b_0]
    by_cases e : q = 3
    · rw [e, h]; rfl
    · rw [decide_eq_false e, Bool.and_false]
theorem yw_mv18 {post : Int32 → SY → Prop} {i : Nat} (hi : i < N) (H : qs_WF ap N K kd lf rt tn) (T : qs_TR ap N kd lf rt tr) (ND : ys_nd N kd lf rt b_kind b_left b_right) (ht : ∀ i, i < tl → b_trace i = nI (t i)) (h8 : tl ≤ 8)
    (hr : ∀ c, c < 32 → (¬ b_real c = 0 ↔ qs_Real ap K kd lf rt tn c))
    (h : ∀ sum, (∀ q, q < 32 → (bt sum q = true ↔ (q < 2 ^ ap ∧ ∃ s, qs_S ap K kd lf rt tn tr t tl q s ∧ qs_V tr s i = true))) → post sum (nI ap, g_most, g_room, g_span, nI N, g_depth, nI tl, g_lassoN, g_lassoS, g_testN, g_testS, b_kind, b_left, b_right, b_stack, b_trace, b_lasso, b_test, b_truth, b_real, b_seen, b_queue)) :
    ∀ d v sum, v + d = 2 ^ ap → (∀ q, q < 32 → (bt sum q = true ↔ (q < v ∧ ∃ s, qs_S ap K kd lf rt tn tr t tl q s ∧ qs_V tr s i = true))) →
      wY_moves_18 post (nI i) (nI ap) g_most g_room g_span (nI N) g_depth (nI tl) g_lassoN g_lassoS g_testN g_testS b_kind b_left b_right b_stack b_trace b_lasso b_test b_truth b_real b_seen b_queue (d + 1) sum (nI v) := by
  have hap : 2 ^ ap ≤ 8 := Nat.pow_le_pow_right (n := 2) (j := 3) (by decide) H.1.2
  intro d
  induction d with
  | zero =>
    intro v sum hv hs
    have : v = 2 ^ ap := by omega
    subst this
    refine br_t ?_ (h sum hs)
    rw [yb_sh ap H.1.1 H.1.2]; exact nI_le (Nat.le_refl _) (by omega)
  | succ d ih =>
    intro v sum hv hs
    refine br_f ?_ (yw_pairs hi hi H T ND ht h8 hr (fun s2 hs2 => ?_))
    · rw [yb_sh ap H.1.1 H.1.2]; exact nI_ge (by omega) (by omega)
    have h3 : bt s2 3 = true ↔ ∃ s, qs_S ap K kd lf rt tn tr t tl v s ∧ qs_V tr s i = true := by
      rw [hs2 3 (by decide)]
      constructor
      · rintro ⟨s, r, e⟩
        refine ⟨s, r, ?_⟩
        revert e
        cases qs_V tr s i <;> decide
      · rintro ⟨s, r, e⟩
        exact ⟨s, r, by rw [e]; decide⟩
    refine br_c (fun z => nm_r (nI_1 v) (ih (v + 1) _ (by omega) (fun q hq => ?_))) (fun z => nm_e (nm_r (nI_1 v) (ih (v + 1) _ (by omega) (fun q hq => ?_))))
    · have z' := (yb_and8 s2).mp z
      rw [hs q hq]
      refine ⟨fun y => ⟨by omega, y.2⟩, fun y => ⟨?_, y.2⟩⟩
      by_cases e : q = v
      · rw [e] at y
        have := h3.mpr y.2
        rw [z'] at this; exact absurd this (by decide)
      · omega
    · have z' : bt s2 3 = true := by
        cases e : bt s2 3
        · exact absurd ((yb_and8 s2).mpr e) z
        · rfl
      have z2 := h3.mp z'
      rw [b_or, Bool.or_eq_true, qb_shb (by omega) hq, hs q hq, decide_eq_true_iff]
      constructor
      · rintro (y | y)
        · exact ⟨by omega, y.2⟩
        · rw [y]; exact ⟨by omega, z2⟩
      · rintro ⟨y1, y2⟩
        by_cases e : q = v
        · exact Or.inr e
        · exact Or.inl ⟨by omega, y2⟩
theorem yw_moves {post : Int32 → SY → Prop} {i : Nat} (hi : i < N) (H : qs_WF ap N K kd lf rt tn) (T : qs_TR ap N kd lf rt tr) (ND : ys_nd N kd lf rt b_kind b_left b_right) (ht : ∀ i, i < tl → b_trace i = nI (t i)) (h8 : tl ≤ 8)
    (h : ∀ re se qu sum, (∀ q, q < 32 → (bt sum q = true ↔ (q < 2 ^ ap ∧ ∃ s, qs_S ap K kd lf rt tn tr t tl q s ∧ qs_V tr s i = true))) → post sum (nI ap, g_most, g_room, g_span, nI N, g_depth, nI tl, g_lassoN, g_lassoS, g_testN, g_testS, b_kind, b_left, b_right, b_stack, b_trace, b_lasso, b_test, b_truth, re, se, qu)) :
    wpY_moves post (nI ap, g_most, g_room, g_span, nI N, g_depth, nI tl, g_lassoN, g_lassoS, g_testN, g_testS, b_kind, b_left, b_right, b_stack, b_trace, b_lasso, b_test, b_truth, b_real, b_seen, b_queue) (nI i) := by
  have hN := H.2.1
  unfold wpY_moves; dsimp only
  refine yw_isN1 hi hN (br_f (by decide) (yw_findReal H ND (fun re se qu hr => ?_)))
  dsimp only
  refine ⟨2 ^ ap + 1, yw_mv18 hi H T ND ht h8 hr (fun sum hs => h re se qu sum hs) (2 ^ ap) 0 0 (Nat.zero_add _) (fun q _ => ⟨fun z => ?_, fun z => absurd z.1 (Nat.not_lt_zero _)⟩)⟩
  rw [b_0] at z; exact absurd z (by decide)
end
end
section
/-! Y: truth on a lasso -/
theorem qw_fs {p n s : Nat} (hs : s < n) : qw_fold (p + 1) n s = qs_nxt n s (qw_fold p n s) := by
  unfold qw_fold qs_nxt
  by_cases c : p < n
  · rw [if_pos c]
    by_cases d : p + 1 < n
    · rw [if_pos d, if_pos d]
    · rw [if_neg d, if_neg d]
      have e : p + 1 - s = n - s := by omega
      rw [e, Nat.mod_self]; omega
  · rw [if_neg c, if_neg (by omega)]
    have e : p + 1 - s = (p - s) + 1 := by omega
    have m := Nat.mod_lt (p - s) (show n - s > 0 by omega)
    rw [e, ← Nat.mod_add_mod]
    by_cases d : (p - s) % (n - s) + 1 < n - s
    · rw [Nat.mod_eq_of_lt d, if_pos (by omega)]; omega
    · have e2 : (p - s) % (n - s) + 1 = n - s := by omega
      rw [e2, Nat.mod_self, if_neg (by omega)]; omega
section
variable {g_atoms g_most g_room g_span g_made g_depth g_length g_lassoN g_lassoS g_testN g_testS : Int32} {b_kind b_left b_right b_stack b_trace b_lasso b_test b_truth b_real b_seen b_queue : Nat → Int32}
theorem ty_194 {post : Int32 → Prop} {J : Int32 → Prop} {x2 x4 x5 : Int32} {k d : Nat} (hk : 11 ≤ k) (hk2 : k ≤ 14) {a b : Bool}
    (hd : ∀ r, qs_ts k a b false = r → qs_ts k a b true = r → post (qb_i r)) (hc : qs_ts k a b false = false → qs_ts k a b true = true → J (nI (d + 1))) :
    wY_truthAt_194 post J x2 (nI k) x4 x5 (nI d) (qb_i a) (qb_i b) g_atoms g_most g_room g_span g_made g_depth g_length g_lassoN g_lassoS g_testN g_testS b_kind b_left b_right b_stack b_trace b_lasso b_test b_truth b_real b_seen b_queue := by
  rcases (by omega : k = 11 ∨ k = 12 ∨ k = 13 ∨ k = 14) with e | e | e | e <;> subst e
  · unfold wY_truthAt_194
    refine br_t rfl ?_
    cases a
    · refine br_t rfl ?_
      unfold wY_truthAt_209 wY_truthAt_222 wY_truthAt_241
      exact br_f (by decide) (br_f (by decide) (br_f (by decide) (nm_r (nI_1 d) (hc rfl rfl))))
    · exact br_f (by decide) (hd true rfl rfl)
  · unfold wY_truthAt_194 wY_truthAt_209 wY_truthAt_222 wY_truthAt_241
    refine br_f (by decide) (br_t rfl ?_)
    cases a
    · exact br_t rfl (hd false rfl rfl)
    · exact br_f (by decide) (br_f (by decide) (br_f (by decide) (nm_r (nI_1 d) (hc rfl rfl))))
  · unfold wY_truthAt_194 wY_truthAt_209 wY_truthAt_222 wY_truthAt_241
    refine br_f (by decide) (br_f (by decide) (br_t rfl ?_))
    cases b
    · refine br_t rfl ?_
      cases a
      · exact br_t rfl ⟨rfl, hd false rfl rfl⟩
      · exact br_f (by decide) (br_f (by decide) (nm_r (nI_1 d) (hc rfl rfl)))
    · refine br_f (by decide) ⟨rfl, hd true ?_ ?_⟩ <;> cases a <;> rfl
  · unfold wY_truthAt_194 wY_truthAt_209 wY_truthAt_222 wY_truthAt_241
    refine br_f (by decide) (br_f (by decide) (br_f (by decide) (br_t rfl ?_)))
    cases a
    · refine br_t rfl ?_
      cases b
      · exact br_t rfl ⟨rfl, hd false rfl rfl⟩
      · exact br_f (by decide) (nm_r (nI_1 d) (hc rfl rfl))
    · refine br_f (by decide) ⟨qb_nr b, hd b ?_ ?_⟩ <;> cases b <;> rfl
theorem qs_tsd {k : Nat} (hk : 11 ≤ k) (hk2 : k ≤ 14) {a b r : Bool} (h1 : qs_ts k a b false = r) (h2 : qs_ts k a b true = r) : (∀ l, qs_ts k a b l = r) ∧ (if 13 ≤ k then b else a) = r := by
  refine ⟨fun l => by cases l; exact h1; exact h2, ?_⟩
  rcases (by omega : k = 11 ∨ k = 12 ∨ k = 13 ∨ k = 14) with e | e | e | e <;> subst e <;> revert h1 h2 <;> cases a <;> cases b <;> cases r <;> decide
theorem qs_tsc {k : Nat} (hk : 11 ≤ k) (hk2 : k ≤ 14) {a b : Bool} (h1 : qs_ts k a b false = false) (h2 : qs_ts k a b true = true) : (∀ l, qs_ts k a b l = l) ∧ (if 13 ≤ k then b else a) = decide (k = 12 ∨ k = 14) := by
  refine ⟨fun l => by cases l; exact h1; exact h2, ?_⟩
  rcases (by omega : k = 11 ∨ k = 12 ∨ k = 13 ∨ k = 14) with e | e | e | e <;> subst e <;> revert h1 h2 <;> cases a <;> cases b <;> decide
variable {n s : Nat}
/-- what the array of truths says of node j's places: from row j on -/
theorem ty_132 {post : Int32 → Prop} {k p ja : Nat} {x5 : Int32} (h8 : n ≤ 8) (hs : s < n) (hp : p < n) (hk : 11 ≤ k) (hk2 : k ≤ 14) (hja : ja < 24) {a b : Nat → Bool}
    (ha : ∀ q, q < n → b_truth (ja * 8 + q) = qb_i (a q)) (hb : (k < 13 ∧ x5 < 0) ∨ ∃ jb, jb < 24 ∧ x5 = nI (jb * 8) ∧ ∀ q, q < n → b_truth (jb * 8 + q) = qb_i (b q)) :
    ∀ e d, d + e = n → post (qb_i (qs_uw n s k a b e (qw_fold (p + d) n s))) → wY_truthAt_132 post (nI p) (nI k) (nI (ja * 8)) x5 g_atoms g_most g_room g_span g_made g_depth g_length g_lassoN g_lassoS (nI n) (nI s) b_kind b_left b_right b_stack b_trace b_lasso b_test b_truth b_real b_seen b_queue (e + 2) (nI d) := by
  have body : ∀ m d, d ≤ n →
      (∀ r, qs_ts k (a (qw_fold (p + d) n s)) (b (qw_fold (p + d) n s)) false = r → qs_ts k (a (qw_fold (p + d) n s)) (b (qw_fold (p + d) n s)) true = r → post (qb_i r)) →
      (qs_ts k (a (qw_fold (p + d) n s)) (b (qw_fold (p + d) n s)) false = false → qs_ts k (a (qw_fold (p + d) n s)) (b (qw_fold (p + d) n s)) true = true → wY_truthAt_132 post (nI p) (nI k) (nI (ja * 8)) x5 g_atoms g_most g_room g_span g_made g_depth g_length g_lassoN g_lassoS (nI n) (nI s) b_kind b_left b_right b_stack b_trace b_lasso b_test b_truth b_real b_seen b_queue m (nI (d + 1))) →
      wY_truthAt_132 post (nI p) (nI k) (nI (ja * 8)) x5 g_atoms g_most g_room g_span g_made g_depth g_length g_lassoN g_lassoS (nI n) (nI s) b_kind b_left b_right b_stack b_trace b_lasso b_test b_truth b_real b_seen b_queue (m + 1) (nI d) := by
    intro m d hd h1 h2
    have hq := qw_fl (p := p + d) hs
    refine br_f (nI_nlt hd (by omega)) ?_
    rw [nI_add p d]
    refine yw_fold (by omega) h8 hs ?_
    rw [nI_add, nI_clamp (by omega), ha _ hq]
    refine ⟨vp_in_nI (by omega) (by decide), nm_e ?_⟩
    rcases hb with ⟨k13, g⟩ | ⟨jb, hjb, e5, hb'⟩
    · refine br_t g ?_
      have cg : ∀ l, qs_ts k (a (qw_fold (p + d) n s)) false l = qs_ts k (a (qw_fold (p + d) n s)) (b (qw_fold (p + d) n s)) l := fun l => qs_ts_cg (fun _ => rfl) (fun z => absurd z (by omega)) rfl
      unfold wY_truthAt_193
      exact ty_194 hk hk2 (b := false) (fun r z1 z2 => h1 r ((cg false).symm.trans z1) ((cg true).symm.trans z2)) (fun z1 z2 => h2 ((cg false).symm.trans z1) ((cg true).symm.trans z2))
    · subst e5
      refine br_f (nI_pos (by omega)) ?_
      rw [nI_add, nI_clamp (by omega), hb' _ hq]
      refine ⟨vp_in_nI (by omega) (by decide), ?_⟩
      cases eb : b (qw_fold (p + d) n s)
      · rw [eb] at h1 h2
        unfold wY_truthAt_193
        exact br_t rfl (ty_194 hk hk2 (b := false) h1 h2)
      · rw [eb] at h1 h2
        exact br_f (by decide) (ty_194 hk hk2 (b := true) h1 h2)
  intro e
  induction e with
  | zero =>
    intro d hd h
    have hg : qs_uw n s k a b 0 (qw_fold (p + d) n s) = if 13 ≤ k then b (qw_fold (p + d) n s) else a (qw_fold (p + d) n s) := rfl
    rw [hg] at h
    refine body 1 d (by omega) (fun r z1 z2 => ?_) (fun z1 z2 => ?_)
    · rw [(qs_tsd hk hk2 z1 z2).2] at h; exact h
    · rw [(qs_tsc hk hk2 z1 z2).2] at h
      refine br_t (nI_lt (by omega) (by omega)) (pk_eq k 12 (fun g => ?_) (fun g => pk_eq k 14 (fun g2 => ?_) (fun g2 => ?_)))
      · rw [decide_eq_true (Or.inl g)] at h; exact h
      · rw [decide_eq_true (Or.inr g2)] at h; exact h
      · rw [decide_eq_false (by omega)] at h; exact h
  | succ e ih =>
    intro d hd h
    have hg : qs_uw n s k a b (e + 1) (qw_fold (p + d) n s) = qs_ts k (a (qw_fold (p + d) n s)) (b (qw_fold (p + d) n s)) (qs_uw n s k a b e (qs_nxt n s (qw_fold (p + d) n s))) := rfl
    rw [hg, ← qw_fs hs] at h
    refine body (e + 2) d (by omega) (fun r z1 z2 => ?_) (fun z1 z2 => ih (d + 1) (by omega) ?_)
    · rw [(qs_tsd hk hk2 z1 z2).1] at h; exact h
    · rw [(qs_tsc hk hk2 z1 z2).1] at h; exact h
end
section
variable {g_atoms g_most g_room g_span g_made g_depth g_length g_lassoN g_lassoS g_testN g_testS : Int32} {b_kind b_left b_right b_stack b_trace b_lasso b_test b_truth b_real b_seen b_queue : Nat → Int32}
variable {ap N K : Nat} {kd lf rt tn : Nat → Nat} {wd : Nat → Int32} {n s : Nat}
theorem ty_at {post : Int32 → Prop} (H : qs_WF ap N K kd lf rt tn) (ND : ys_nd N kd lf rt b_kind b_left b_right) (h8 : n ≤ 8) (hs : s < n) (hw : ∀ p, p < n → b_test p = wd p) {i p : Nat} (hi : i < N) (hp : p < n)
    (hv : ∀ j, j < i → ∀ q, q < n → b_truth (j * 8 + q) = qb_i (qs_W kd lf rt wd n s j q)) (h : post (qb_i (qs_W kd lf rt wd n s i p))) : wpY_truthAt post (g_atoms, g_most, g_room, g_span, g_made, g_depth, g_length, g_lassoN, g_lassoS, nI n, nI s, b_kind, b_left, b_right, b_stack, b_trace, b_lasso, b_test, b_truth, b_real, b_seen, b_queue) (nI i) (nI p) := by
  have hN := H.2.1
  obtain ⟨ek, n1, n2, n3, n4⟩ := ND i hi
  obtain ⟨h14, _, ha, hb, _, _⟩ := H.2.2.2.1 i hi
  have i24 : vp_in (nI i) 24 := vp_in_nI (by omega) (by decide)
  rw [qs_Wl H hs hi hp] at h
  unfold wpY_truthAt; dsimp only
  rw [nI_clamp (n := i) (by omega), ek]
  refine ⟨i24, nm_e ⟨i24, ?_⟩⟩
  by_cases k : kd i < 10
  · -- a kind that looks at one position
    rw [if_pos k] at h
    have c81 : ∀ a b : Bool, (5 ≤ kd i → a = qs_W kd lf rt wd n s (lf i) p) → (6 ≤ kd i → b = qs_W kd lf rt wd n s (rt i) p) → wY_truthAt_81 post (nI p) (nI (kd i)) (qb_i a) (qb_i b) g_atoms g_most g_room g_span g_made g_depth g_length g_lassoN g_lassoS (nI n) (nI s) b_kind b_left b_right b_stack b_trace b_lasso b_test b_truth b_real b_seen b_queue := by
      intro a b ea eb
      unfold wY_truthAt_81
      rw [nI_clamp (by omega), hw p hp]
      refine ⟨vp_in_nI (by omega) (by decide), yw_plain k ⟨qb_nr _, ?_⟩⟩
      rw [qs_pl_cg (t' := bt (wd p) (kd i)) (fun _ => rfl) ea eb]; exact h
    have c57 : ∀ a : Bool, (5 ≤ kd i → a = qs_W kd lf rt wd n s (lf i) p) → wY_truthAt_57 post (nI p) (nI (kd i)) (b_right i * 8) (qb_i a) g_atoms g_most g_room g_span g_made g_depth g_length g_lassoN g_lassoS (nI n) (nI s) b_kind b_left b_right b_stack b_trace b_lasso b_test b_truth b_real b_seen b_queue := by
      intro a ea
      unfold wY_truthAt_57
      by_cases g : qs_bin (kd i)
      · have hb' := hb g
        rw [n3 g, show (8 : Int32) = nI 8 from rfl, pk_mul]
        refine br_f (nI_pos (by omega)) ?_
        rw [nI_add, nI_clamp (by omega), hv _ hb' p hp]
        refine ⟨vp_in_nI (by omega) (by decide), ?_⟩
        cases eb : qs_W kd lf rt wd n s (rt i) p
        · unfold wY_truthAt_80
          exact br_t rfl (c81 a false ea (fun _ => eb.symm))
        · exact br_f (by decide) (c81 a true ea (fun _ => eb.symm))
      · rw [n4 g]
        unfold wY_truthAt_80
        refine br_t (by decide) (c81 a false ea (fun z => absurd ?_ g))
        exact Or.inl ⟨z, by omega⟩
    by_cases g : 5 ≤ kd i
    · have ha' := ha g
      rw [n1 g]
      refine nm_r (pk_mul (lf i) 8) ⟨i24, nm_e (br_f (nI_ge (b := 10) k (by decide)) (br_f (nI_pos (by omega)) ?_))⟩
      rw [nI_add, nI_clamp (by omega), hv _ ha' p hp]
      refine ⟨vp_in_nI (by omega) (by decide), ?_⟩
      cases ea : qs_W kd lf rt wd n s (lf i) p
      · unfold wY_truthAt_56
        exact br_t rfl (c57 false (fun _ => ea.symm))
      · exact br_f (by decide) (c57 true (fun _ => ea.symm))
    · rw [n2 g]
      refine nm_e ⟨i24, nm_e (br_f (nI_ge (b := 10) k (by decide)) (br_t (by decide) ?_))⟩
      unfold wY_truthAt_56
      exact c57 false (fun z => absurd z g)
  · rw [if_neg k] at h
    have ha' := ha (by omega)
    rw [n1 (by omega)]
    refine nm_r (pk_mul (lf i) 8) ⟨i24, nm_e (br_t (nI_le (a := 10) (by omega) (by omega)) ?_)⟩
    refine pk_eq (kd i) 10 (fun g => ?_) (fun g => ⟨n + 2, ?_⟩)
    · rw [if_pos g] at h
      rw [nI_1 p]
      refine yw_fold (by omega) h8 hs ?_
      have hq := qw_fl (p := p + 1) hs
      have e : qw_fold (p + 1) n s = qs_nxt n s p := by
        rw [qw_fs hs]; congr 1; unfold qw_fold; rw [if_pos hp]
      rw [nI_add, nI_clamp (by omega), hv _ ha' _ hq, e]
      rw [e] at hq
      exact ⟨vp_in_nI (by omega) (by decide), qb_nr _, h⟩
    · rw [if_neg g] at h
      refine ty_132 h8 hs hp (by omega) h14 (by omega) (fun q hq => hv _ ha' q hq) ?_ n 0 (Nat.zero_add _) (b := qs_W kd lf rt wd n s (rt i)) ?_
      · by_cases g3 : 13 ≤ kd i
        · have hb' := hb (Or.inr g3)
          refine Or.inr ⟨rt i, by omega, ?_, fun q hq => hv _ hb' q hq⟩
          rw [n3 (Or.inr g3)]; exact pk_mul (rt i) 8
        · refine Or.inl ⟨by omega, ?_⟩
          rw [n4 (fun z => by unfold qs_bin at z; omega)]; decide
      · have e : qw_fold (p + 0) n s = p := by unfold qw_fold; rw [Nat.add_zero, if_pos hp]
        rw [e]; exact h
def ty_I (kd lf rt : Nat → Nat) (wd : Nat → Int32) (n s i : Nat) (tr : Nat → Int32) : Prop := ∀ j, j < i → ∀ q, q < n → tr (j * 8 + q) = qb_i (qs_W kd lf rt wd n s j q)
theorem ty_f9 {post : SY → Prop} {J : Int32 → (Nat → Int32) → (Nat → Int32) → (Nat → Int32) → (Nat → Int32) → (Nat → Int32) → (Nat → Int32) → (Nat → Int32) → (Nat → Int32) → (Nat → Int32) → (Nat → Int32) → (Nat → Int32) → Prop} {x1 : Int32}
    (H : qs_WF ap N K kd lf rt tn) (ND : ys_nd N kd lf rt b_kind b_left b_right) (h8 : n ≤ 8) (hs : s < n) (hw : ∀ p, p < n → b_test p = wd p) {i : Nat} (hi : i < N)
    (h : ∀ tr, ty_I kd lf rt wd n s (i + 1) tr → J (nI (i + 1)) b_kind b_left b_right b_stack b_trace b_lasso b_test tr b_real b_seen b_queue) :
    ∀ d p tr, p + d = n → ty_I kd lf rt wd n s i tr → (∀ q, q < p → tr (i * 8 + q) = qb_i (qs_W kd lf rt wd n s i q)) →
      wY_fill_9 post J x1 (nI i) g_atoms g_most g_room g_span g_made g_depth g_length g_lassoN g_lassoS (nI n) (nI s) (d + 1) (nI p) b_kind b_left b_right b_stack b_trace b_lasso b_test tr b_real b_seen b_queue := by
  have hN := H.2.1
  intro d
  induction d with
  | zero =>
    intro p tr hp hI hq
    refine br_t (nI_le (by omega) (by omega)) (nm_r (nI_1 i) (h tr (fun j hj q hqn => ?_)))
    by_cases e : j = i
    · rw [e]; exact hq q (by omega)
    · exact hI j (by omega) q hqn
  | succ d ih =>
    intro p tr hp hI hq
    refine br_f (nI_ge (by omega) (by omega)) (ty_at H ND h8 hs hw hi (by omega) hI ?_)
    have e8 : nI i * 8 + nI p = nI (i * 8 + p) := by
      rw [show (8 : Int32) = nI 8 from rfl, pk_mul, nI_add]
    rw [e8, qb_nar, nI_clamp (by omega)]
    refine ⟨vp_in_nI (by omega) (by decide), nm_e (nm_r (nI_1 p) (ih (p + 1) _ (by omega) (fun j hj q hqn => ?_) (fun q hq' => ?_)))⟩
    · rw [pk_un (by omega)]; exact hI j hj q hqn
    · by_cases e : q = p
      · rw [e, pk_us]
      · rw [pk_un (by omega)]; exact hq q (by omega)
theorem ty_f2 {post : SY → Prop} (H : qs_WF ap N K kd lf rt tn) (ND : ys_nd N kd lf rt b_kind b_left b_right) (h8 : n ≤ 8) (hs : s < n) (hw : ∀ p, p < n → b_test p = wd p) {last : Nat} (hl : last < N)
    (h : ∀ tr, ty_I kd lf rt wd n s (last + 1) tr → post (g_atoms, g_most, g_room, g_span, g_made, g_depth, g_length, g_lassoN, g_lassoS, nI n, nI s, b_kind, b_left, b_right, b_stack, b_trace, b_lasso, b_test, tr, b_real, b_seen, b_queue)) :
    ∀ d i tr, i + d = last + 1 → ty_I kd lf rt wd n s i tr → wY_fill_2 post (nI last) g_atoms g_most g_room g_span g_made g_depth g_length g_lassoN g_lassoS (nI n) (nI s) (d + 1) (nI i) b_kind b_left b_right b_stack b_trace b_lasso b_test tr b_real b_seen b_queue := by
  have hN := H.2.1
  intro d
  induction d with
  | zero =>
    intro i tr hi hI
    have : i = last + 1 := by omega
    subst this
    exact br_t (nI_lt (by omega) (by omega)) (h tr hI)
  | succ d ih =>
    intro i tr hi hI
    exact br_f (nI_nlt (by omega) (by omega)) ⟨n + 1, ty_f9 H ND h8 hs hw (by omega) (fun tr' hI' => ih (i + 1) tr' (by omega) hI') n 0 tr (Nat.zero_add _) hI (fun q hq => absurd hq (Nat.not_lt_zero _))⟩
theorem ty_fill {post : SY → Prop} (H : qs_WF ap N K kd lf rt tn) (ND : ys_nd N kd lf rt b_kind b_left b_right) (h8 : n ≤ 8) (hs : s < n) (hw : ∀ p, p < n → b_test p = wd p) {last : Nat} (hl : last < N)
    (h : ∀ tr, ty_I kd lf rt wd n s (last + 1) tr → post (g_atoms, g_most, g_room, g_span, g_made, g_depth, g_length, g_lassoN, g_lassoS, nI n, nI s, b_kind, b_left, b_right, b_stack, b_trace, b_lasso, b_test, tr, b_real, b_seen, b_queue)) : wpY_fill post (g_atoms, g_most, g_room, g_span, g_made, g_depth, g_length, g_lassoN, g_lassoS, nI n, nI s, b_kind, b_left, b_right, b_stack, b_trace, b_lasso, b_test, b_truth, b_real, b_seen, b_queue) (nI last) := by
  unfold wpY_fill; dsimp only
  exact ⟨last + 1 + 1, ty_f2 H ND h8 hs hw hl h (last + 1) 0 b_truth (Nat.zero_add _) (fun j hj => absurd hj (Nat.not_lt_zero _))⟩
end
end
section
/-! Y: search, keep, find -/
section
variable {g_atoms g_most g_room g_span g_made g_depth g_length g_lassoN g_lassoS g_testN g_testS : Int32} {b_kind b_left b_right b_stack b_trace b_lasso b_test b_truth b_real b_seen b_queue : Nat → Int32}
variable {ap N K tl : Nat} {kd lf rt tn : Nat → Nat}
theorem yf_34 {post : Int32 → SY → Prop} {J : Int32 → Int32 → Int32 → Int32 → Int32 → Int32 → Int32 → Int32 → Int32 → Int32 → Int32 → Int32 → (Nat → Int32) → (Nat → Int32) → (Nat → Int32) → (Nat → Int32) → (Nat → Int32) → (Nat → Int32) → (Nat → Int32) → (Nat → Int32) → (Nat → Int32) → (Nat → Int32) → (Nat → Int32) → Prop}
    {i n s code : Nat} (H : qs_WF ap N K kd lf rt tn) (ND : ys_nd N kd lf rt b_kind b_left b_right) (ht : tl ≤ 8) (hi : i < N) (h8 : n ≤ 8) (hs : s < n)
    (h0 : qw_hit ap tl kd lf rt b_trace i n s code = false → ∀ te tr, J (nI (code + 1)) (nI ap) g_most g_room g_span g_made g_depth (nI tl) g_lassoN g_lassoS (nI n) (nI s) b_kind b_left b_right b_stack b_trace b_lasso te tr b_real b_seen b_queue)
    (h1 : qw_hit ap tl kd lf rt b_trace i n s code = true → ∀ te tr, (∀ p, p < n → te p = qw_cand ap tl b_trace n code p) → post 1 (nI ap, g_most, g_room, g_span, g_made, g_depth, nI tl, g_lassoN, g_lassoS, nI n, nI s, b_kind, b_left, b_right, b_stack, b_trace, b_lasso, te, tr, b_real, b_seen, b_queue)) :
    ∀ d p te, p + d = n → (∀ q, q < p → te q = qw_cand ap tl b_trace n code q) →
      wY_search_34 post J (nI i) (nI n) (nI code) (nI ap) g_most g_room g_span g_made g_depth (nI tl) g_lassoN g_lassoS (nI n) (nI s) (d + 1) (nI p) b_kind b_left b_right b_stack b_trace b_lasso te b_truth b_real b_seen b_queue := by
  have hN := H.2.1
  intro d
  induction d with
  | zero =>
    intro p te hp hq
    have : p = n := by omega
    subst this
    refine br_t (nI_le (Nat.le_refl _) (by omega)) (ty_fill H ND h8 hs hq hi (fun tr hI => ?_))
    dsimp only
    have e8 : nI i * 8 = nI (i * 8) := pk_mul i 8
    rw [e8, nI_clamp (by omega)]
    have e := hI i (by omega) 0 (by omega)
    rw [Nat.add_zero] at e
    rw [e]
    exact ⟨vp_in_nI (by omega) (by decide), qb_c0 (fun z => nm_r (nI_1 code) (h0 z _ _)) (fun z => h1 z _ _ hq)⟩
  | succ d ih =>
    intro p te hp hq
    have stp : ∀ x, x = qw_cand ap tl b_trace n code p → ∀ q, q < p + 1 → upd te p x q = qw_cand ap tl b_trace n code q := by
      intro x ex q hq'
      by_cases e : q = p
      · subst e; rw [pk_us]; exact ex
      · rw [pk_un e]; exact hq q (by omega)
    refine br_f (nI_ge (by omega) (by omega)) ?_
    rw [nI_clamp (n := p) (by omega)]
    have p8 : vp_in (nI p) 8 := vp_in_nI (by omega) (by decide)
    refine pk_le tl p (fun a => ?_) (fun a => ?_)
    · have e1 : nI ap * (nI n - 1 - nI p) = nI ((n - 1 - p) * ap) := by
        have e2 : nI n - 1 = nI (n - 1) := by
          obtain ⟨m, rfl⟩ : ∃ m, n = m + 1 := ⟨n - 1, by omega⟩
          exact nI_pred m
        rw [e2, pk_sub (by omega), pk_mul, Nat.mul_comm]
      have e3 : ((1 : Int32) <<< (nI ap &&& 31)) - 1 = nI (2 ^ ap - 1) := by
        rw [yb_sh ap H.1.1 H.1.2]; exact pk_sub (b := 1) (Nat.two_pow_pos ap)
      rw [e1, e3]
      refine ⟨p8, nm_e (nm_r (nI_1 p) (ih (p + 1) _ (by omega) (stp _ ?_)))⟩
      unfold qw_cand; rw [if_neg (by omega)]
    · refine ⟨p8, p8, nm_e (nm_r (nI_1 p) (ih (p + 1) _ (by omega) (stp _ ?_)))⟩
      unfold qw_cand; rw [if_pos a]
theorem yf_M {n tl ap : Nat} (hn : tl ≤ n) (hc : (n - tl) * ap ≤ 6) : (1 : Int32) <<< ((nI ap * (nI n - nI tl)) &&& 31) = nI (2 ^ ((n - tl) * ap)) := by
  rw [pk_sub hn, pk_mul, Nat.mul_comm, qb_shc (by omega)]
theorem yf_0 {post : Int32 → SY → Prop} {i n s : Nat} (H : qs_WF ap N K kd lf rt tn) (ND : ys_nd N kd lf rt b_kind b_left b_right) (ht : tl ≤ 8) (hi : i < N) (h8 : n ≤ 8) (hs : s < n) (hn : tl ≤ n) (hc : (n - tl) * ap ≤ 6)
    (hh : ∀ code, code < 2 ^ ((n - tl) * ap) → qw_hit ap tl kd lf rt b_trace i n s code = false)
    (h : ∀ te tr, post 0 (nI ap, g_most, g_room, g_span, g_made, g_depth, nI tl, g_lassoN, g_lassoS, nI n, nI s, b_kind, b_left, b_right, b_stack, b_trace, b_lasso, te, tr, b_real, b_seen, b_queue)) :
    ∀ d code, code + d = 2 ^ ((n - tl) * ap) → ∀ te tr, wY_search_13 post (nI i) (nI n) (d + 1) (nI code) (nI ap) g_most g_room g_span g_made g_depth (nI tl) g_lassoN g_lassoS (nI n) (nI s) b_kind b_left b_right b_stack b_trace b_lasso te tr b_real b_seen b_queue := by
  have h64 := qw_M6 hc
  intro d
  induction d with
  | zero =>
    intro code hcd te tr
    refine br_t ?_ (h te tr)
    rw [yf_M hn hc]; exact nI_le (by omega) (by omega)
  | succ d ih =>
    intro code hcd te tr
    refine br_f ?_ ⟨n + 1, yf_34 H ND ht hi h8 hs (fun _ => ih (code + 1) (by omega)) (fun z => ?_) n 0 te (Nat.zero_add _) (fun q hq => absurd hq (Nat.not_lt_zero _))⟩
    · rw [yf_M hn hc]; exact nI_ge (by omega) (by omega)
    · rw [hh code (by omega)] at z; exact absurd z (by decide)
theorem yf_1 {post : Int32 → SY → Prop} {i n s c0 : Nat} (H : qs_WF ap N K kd lf rt tn) (ND : ys_nd N kd lf rt b_kind b_left b_right) (ht : tl ≤ 8) (hi : i < N) (h8 : n ≤ 8) (hs : s < n) (hn : tl ≤ n) (hc : (n - tl) * ap ≤ 6) (hc0 : c0 < 2 ^ ((n - tl) * ap))
    (hh : ∀ code, code < c0 → qw_hit ap tl kd lf rt b_trace i n s code = false) (hh0 : qw_hit ap tl kd lf rt b_trace i n s c0 = true)
    (h : ∀ te tr, (∀ p, p < n → te p = qw_cand ap tl b_trace n c0 p) → post 1 (nI ap, g_most, g_room, g_span, g_made, g_depth, nI tl, g_lassoN, g_lassoS, nI n, nI s, b_kind, b_left, b_right, b_stack, b_trace, b_lasso, te, tr, b_real, b_seen, b_queue)) :
    ∀ d code, code + d = c0 → ∀ te tr, wY_search_13 post (nI i) (nI n) (d + 1) (nI code) (nI ap) g_most g_room g_span g_made g_depth (nI tl) g_lassoN g_lassoS (nI n) (nI s) b_kind b_left b_right b_stack b_trace b_lasso te tr b_real b_seen b_queue := by
  have h64 := qw_M6 hc
  intro d
  induction d with
  | zero =>
    intro code hcd te tr
    have : code = c0 := by omega
    subst this
    refine br_f ?_ ⟨n + 1, yf_34 H ND ht hi h8 hs (fun z => ?_) (fun _ => h) n 0 te (Nat.zero_add _) (fun q hq => absurd hq (Nat.not_lt_zero _))⟩
    · rw [yf_M hn hc]; exact nI_ge (by omega) (by omega)
    · rw [hh0] at z; exact absurd z (by decide)
  | succ d ih =>
    intro code hcd te tr
    refine br_f ?_ ⟨n + 1, yf_34 H ND ht hi h8 hs (fun _ => ih (code + 1) (by omega)) (fun z => ?_) n 0 te (Nat.zero_add _) (fun q hq => absurd hq (Nat.not_lt_zero _))⟩
    · rw [yf_M hn hc]; exact nI_ge (by omega) (by omega)
    · rw [hh code (by omega)] at z; exact absurd z (by decide)
theorem yf_s0 {post : Int32 → SY → Prop} {i n s : Nat} (H : qs_WF ap N K kd lf rt tn) (ND : ys_nd N kd lf rt b_kind b_left b_right) (ht : tl ≤ 8) (hi : i < N) (h8 : n ≤ 8) (hs : s < n) (hn : tl ≤ n) (hc : (n - tl) * ap ≤ 6)
    (hh : ∀ code, code < 2 ^ ((n - tl) * ap) → qw_hit ap tl kd lf rt b_trace i n s code = false)
    (h : ∀ te tr, post 0 (nI ap, g_most, g_room, g_span, g_made, g_depth, nI tl, g_lassoN, g_lassoS, nI n, nI s, b_kind, b_left, b_right, b_stack, b_trace, b_lasso, te, tr, b_real, b_seen, b_queue)) : wpY_search post (nI ap, g_most, g_room, g_span, g_made, g_depth, nI tl, g_lassoN, g_lassoS, g_testN, g_testS, b_kind, b_left, b_right, b_stack, b_trace, b_lasso, b_test, b_truth, b_real, b_seen, b_queue) (nI i) (nI n) (nI s) := by
  unfold wpY_search; dsimp only
  exact ⟨2 ^ ((n - tl) * ap) + 1, yf_0 H ND ht hi h8 hs hn hc hh h _ 0 (Nat.zero_add _) _ _⟩
theorem yf_s1 {post : Int32 → SY → Prop} {i n s c0 : Nat} (H : qs_WF ap N K kd lf rt tn) (ND : ys_nd N kd lf rt b_kind b_left b_right) (ht : tl ≤ 8) (hi : i < N) (h8 : n ≤ 8) (hs : s < n) (hn : tl ≤ n) (hc : (n - tl) * ap ≤ 6) (hc0 : c0 < 2 ^ ((n - tl) * ap))
    (hh : ∀ code, code < c0 → qw_hit ap tl kd lf rt b_trace i n s code = false) (hh0 : qw_hit ap tl kd lf rt b_trace i n s c0 = true)
    (h : ∀ te tr, (∀ p, p < n → te p = qw_cand ap tl b_trace n c0 p) → post 1 (nI ap, g_most, g_room, g_span, g_made, g_depth, nI tl, g_lassoN, g_lassoS, nI n, nI s, b_kind, b_left, b_right, b_stack, b_trace, b_lasso, te, tr, b_real, b_seen, b_queue)) : wpY_search post (nI ap, g_most, g_room, g_span, g_made, g_depth, nI tl, g_lassoN, g_lassoS, g_testN, g_testS, b_kind, b_left, b_right, b_stack, b_trace, b_lasso, b_test, b_truth, b_real, b_seen, b_queue) (nI i) (nI n) (nI s) := by
  unfold wpY_search; dsimp only
  exact ⟨c0 + 1, yf_1 H ND ht hi h8 hs hn hc hc0 hh hh0 h _ 0 (Nat.zero_add _) _ _⟩
theorem yf_k2 {post : SY → Prop} {n s : Nat} (h8 : n ≤ 8) (h : ∀ la, (∀ p, p < n → la p = b_test p) → post (g_atoms, g_most, g_room, g_span, g_made, g_depth, g_length, nI n, nI s, nI n, nI s, b_kind, b_left, b_right, b_stack, b_trace, la, b_test, b_truth, b_real, b_seen, b_queue)) :
    ∀ d i la, i + d = n → (∀ p, p < i → la p = b_test p) → wY_keep_2 post g_atoms g_most g_room g_span g_made g_depth g_length g_lassoN g_lassoS (nI n) (nI s) (d + 1) (nI i) b_kind b_left b_right b_stack b_trace la b_test b_truth b_real b_seen b_queue := by
  intro d
  induction d with
  | zero =>
    intro i la hi hw
    have : i = n := by omega
    subst this
    exact br_t (nI_le (Nat.le_refl _) (by omega)) (h la hw)
  | succ d ih =>
    intro i la hi hw
    refine br_f (nI_ge (by omega) (by omega)) ?_
    rw [nI_clamp (n := i) (by omega)]
    have i8 : vp_in (nI i) 8 := vp_in_nI (by omega) (by decide)
    refine ⟨i8, i8, nm_e (nm_r (nI_1 i) (ih (i + 1) _ (by omega) (fun p hp => ?_)))⟩
    by_cases e : p = i
    · subst e; rw [pk_us]
    · rw [pk_un e]; exact hw p (by omega)
theorem yf_keep {post : SY → Prop} {n s : Nat} (h8 : n ≤ 8) (h : ∀ la, (∀ p, p < n → la p = b_test p) → post (g_atoms, g_most, g_room, g_span, g_made, g_depth, g_length, nI n, nI s, nI n, nI s, b_kind, b_left, b_right, b_stack, b_trace, la, b_test, b_truth, b_real, b_seen, b_queue)) : wpY_keep post (g_atoms, g_most, g_room, g_span, g_made, g_depth, g_length, g_lassoN, g_lassoS, nI n, nI s, b_kind, b_left, b_right, b_stack, b_trace, b_lasso, b_test, b_truth, b_real, b_seen, b_queue) := by
  unfold wpY_keep; dsimp only
  exact ⟨n + 1, yf_k2 h8 h n 0 b_lasso (Nat.zero_add _) (fun p hp => absurd hp (Nat.not_lt_zero _))⟩
theorem yf_67m {post : Int32 → SY → Prop} {J : Int32 → Int32 → Int32 → Int32 → Int32 → Int32 → Int32 → Int32 → Int32 → Int32 → Int32 → Int32 → (Nat → Int32) → (Nat → Int32) → (Nat → Int32) → (Nat → Int32) → (Nat → Int32) → (Nat → Int32) → (Nat → Int32) → (Nat → Int32) → (Nat → Int32) → (Nat → Int32) → (Nat → Int32) → Prop} {x2 : Int32} {i n : Nat} (H : qs_WF ap N K kd lf rt tn) (ND : ys_nd N kd lf rt b_kind b_left b_right) (ht : tl ≤ 8) (hi : i < N) (h8 : n ≤ 8) (hn : tl ≤ n) (hc : (n - tl) * ap ≤ 6)
    (hh : ∀ s code, s < n → code < 2 ^ ((n - tl) * ap) → qw_hit ap tl kd lf rt b_trace i n s code = false)
    (h : ∀ wl ws te tr, J (nI (n + 1)) (nI ap) g_most g_room g_span g_made g_depth (nI tl) g_lassoN g_lassoS wl ws b_kind b_left b_right b_stack b_trace b_lasso te tr b_real b_seen b_queue) :
    ∀ d s, s + d = n → ∀ wl ws te tr, wY_find_67 post J (nI i) x2 (nI n) (d + 1) (nI s) (nI ap) g_most g_room g_span g_made g_depth (nI tl) g_lassoN g_lassoS wl ws b_kind b_left b_right b_stack b_trace b_lasso te tr b_real b_seen b_queue := by
  intro d
  induction d with
  | zero =>
    intro s hs wl ws te tr
    exact br_t (nI_le (by omega) (by omega)) (nm_r (nI_1 n) (h wl ws te tr))
  | succ d ih =>
    intro s hs wl ws te tr
    refine br_f (nI_ge (by omega) (by omega)) (yf_s0 H ND ht hi h8 (by omega) hn hc (fun code hcd => hh s code (by omega) hcd) (fun te' tr' => ?_))
    dsimp only
    exact br_t rfl (nm_r (nI_1 s) (ih (s + 1) (by omega) _ _ _ _))
theorem yf_67h {post : Int32 → SY → Prop} {J : Int32 → Int32 → Int32 → Int32 → Int32 → Int32 → Int32 → Int32 → Int32 → Int32 → Int32 → Int32 → (Nat → Int32) → (Nat → Int32) → (Nat → Int32) → (Nat → Int32) → (Nat → Int32) → (Nat → Int32) → (Nat → Int32) → (Nat → Int32) → (Nat → Int32) → (Nat → Int32) → (Nat → Int32) → Prop} {x2 : Int32} {i n s0 c0 : Nat} (H : qs_WF ap N K kd lf rt tn) (ND : ys_nd N kd lf rt b_kind b_left b_right) (ht : tl ≤ 8) (hi : i < N) (h8 : n ≤ 8) (hn : tl ≤ n) (hc : (n - tl) * ap ≤ 6) (hs0 : s0 < n) (hc0 : c0 < 2 ^ ((n - tl) * ap))
    (hh : ∀ s code, s < s0 → code < 2 ^ ((n - tl) * ap) → qw_hit ap tl kd lf rt b_trace i n s code = false)
    (hh1 : ∀ code, code < c0 → qw_hit ap tl kd lf rt b_trace i n s0 code = false) (hh0 : qw_hit ap tl kd lf rt b_trace i n s0 c0 = true)
    (h : ∀ wl ws te tr la, (∀ p, p < n → la p = qw_cand ap tl b_trace n c0 p) → post (nI n) (nI ap, g_most, g_room, g_span, g_made, g_depth, nI tl, nI n, nI s0, wl, ws, b_kind, b_left, b_right, b_stack, b_trace, la, te, tr, b_real, b_seen, b_queue)) :
    ∀ d s, s + d = s0 → ∀ wl ws te tr, wY_find_67 post J (nI i) x2 (nI n) (d + 1) (nI s) (nI ap) g_most g_room g_span g_made g_depth (nI tl) g_lassoN g_lassoS wl ws b_kind b_left b_right b_stack b_trace b_lasso te tr b_real b_seen b_queue := by
  intro d
  induction d with
  | zero =>
    intro s hs wl ws te tr
    have : s = s0 := by omega
    subst this
    refine br_f (nI_ge (by omega) (by omega)) (yf_s1 H ND ht hi h8 hs0 hn hc hc0 hh1 hh0 (fun te' tr' hw => ?_))
    dsimp only
    refine br_f (by decide) (yf_keep h8 (fun la hla => ?_))
    dsimp only
    exact h _ _ _ _ la (fun p hp => by rw [hla p hp, hw p hp])
  | succ d ih =>
    intro s hs wl ws te tr
    refine br_f (nI_ge (by omega) (by omega)) (yf_s0 H ND ht hi h8 (by omega) hn hc (fun code hcd => hh s code (by omega) hcd) (fun te' tr' => ?_))
    dsimp only
    exact br_t rfl (nm_r (nI_1 s) (ih (s + 1) (by omega) _ _ _ _))
theorem yf_59m {post : Int32 → SY → Prop} {i top : Nat} (H : qs_WF ap N K kd lf rt tn) (ND : ys_nd N kd lf rt b_kind b_left b_right) (ht : tl ≤ 8) (hi : i < N) (h8 : top ≤ 8) (hc : (top - tl) * ap ≤ 6)
    (hh : ∀ n s code, tl ≤ n → 1 ≤ n → n ≤ top → s < n → code < 2 ^ ((n - tl) * ap) → qw_hit ap tl kd lf rt b_trace i n s code = false)
    (h : ∀ wl ws te tr, wpY_outlook (fun r u => (r = 0 → post 0 u) ∧ (¬ r = 0 → post (-7) u)) (nI ap, g_most, g_room, g_span, g_made, g_depth, nI tl, g_lassoN, g_lassoS, wl, ws, b_kind, b_left, b_right, b_stack, b_trace, b_lasso, te, tr, b_real, b_seen, b_queue) (nI i)) :
    ∀ d n, n + d = top + 1 → tl ≤ n → 1 ≤ n → ∀ wl ws te tr, wY_find_59 post (nI i) (nI top) (d + 1) (nI n) (nI ap) g_most g_room g_span g_made g_depth (nI tl) g_lassoN g_lassoS wl ws b_kind b_left b_right b_stack b_trace b_lasso te tr b_real b_seen b_queue := by
  intro d
  induction d with
  | zero =>
    intro n hn htn h1 wl ws te tr
    exact br_t (nI_lt (by omega) (by omega)) (h wl ws te tr)
  | succ d ih =>
    intro n hn htn h1 wl ws te tr
    have hcn : (n - tl) * ap ≤ 6 := Nat.le_trans (Nat.mul_le_mul_right ap (by omega)) hc
    exact br_f (nI_nlt (by omega) (by omega)) ⟨n + 1, yf_67m H ND ht hi (by omega) htn hcn (fun s code hs hcd => hh n s code htn h1 (by omega) hs hcd) (fun wl' ws' te' tr' => ih (n + 1) (by omega) (by omega) (by omega) wl' ws' te' tr') n 0 (Nat.zero_add _) _ _ _ _⟩
theorem yf_59h {post : Int32 → SY → Prop} {i top n0 s0 c0 : Nat} (H : qs_WF ap N K kd lf rt tn) (ND : ys_nd N kd lf rt b_kind b_left b_right) (ht : tl ≤ 8) (hi : i < N) (h8 : top ≤ 8) (hc : (top - tl) * ap ≤ 6) (hn0 : n0 ≤ top) (hs0 : s0 < n0) (hc0 : c0 < 2 ^ ((n0 - tl) * ap))
    (hh : ∀ n s code, tl ≤ n → 1 ≤ n → n < n0 → s < n → code < 2 ^ ((n - tl) * ap) → qw_hit ap tl kd lf rt b_trace i n s code = false)
    (hh2 : ∀ s code, s < s0 → code < 2 ^ ((n0 - tl) * ap) → qw_hit ap tl kd lf rt b_trace i n0 s code = false)
    (hh1 : ∀ code, code < c0 → qw_hit ap tl kd lf rt b_trace i n0 s0 code = false) (hh0 : qw_hit ap tl kd lf rt b_trace i n0 s0 c0 = true)
    (h : ∀ wl ws te tr la, (∀ p, p < n0 → la p = qw_cand ap tl b_trace n0 c0 p) → post (nI n0) (nI ap, g_most, g_room, g_span, g_made, g_depth, nI tl, nI n0, nI s0, wl, ws, b_kind, b_left, b_right, b_stack, b_trace, la, te, tr, b_real, b_seen, b_queue)) :
    ∀ d n, n + d = n0 → tl ≤ n → 1 ≤ n → ∀ wl ws te tr, wY_find_59 post (nI i) (nI top) (d + 1) (nI n) (nI ap) g_most g_room g_span g_made g_depth (nI tl) g_lassoN g_lassoS wl ws b_kind b_left b_right b_stack b_trace b_lasso te tr b_real b_seen b_queue := by
  intro d
  induction d with
  | zero =>
    intro n hn htn h1 wl ws te tr
    have : n = n0 := by omega
    subst this
    have hcn : (n - tl) * ap ≤ 6 := Nat.le_trans (Nat.mul_le_mul_right ap (by omega)) hc
    exact br_f (nI_nlt (by omega) (by omega)) ⟨s0 + 1, yf_67h H ND ht hi (by omega) htn hcn hs0 hc0 hh2 hh1 hh0 h s0 0 (Nat.zero_add _) _ _ _ _⟩
  | succ d ih =>
    intro n hn htn h1 wl ws te tr
    have hcn : (n - tl) * ap ≤ 6 := Nat.le_trans (Nat.mul_le_mul_right ap (by omega)) hc
    exact br_f (nI_nlt (by omega) (by omega)) ⟨n + 1, yf_67m H ND ht hi (by omega) htn hcn (fun s code hs hcd => hh n s code htn h1 (by omega) hs hcd) (fun wl' ws' te' tr' => ih (n + 1) (by omega) (by omega) (by omega) wl' ws' te' tr') n 0 (Nat.zero_add _) _ _ _ _⟩
/-! holds, close -/
theorem yf_h42 {post : Int32 → SY → Prop} {i pos n s : Nat} (H : qs_WF ap N K kd lf rt tn) (ND : ys_nd N kd lf rt b_kind b_left b_right) (hi : i < N) (h8 : n ≤ 8) (hs : s < n) (hpos : pos < 2 ^ 31)
    (h : ∀ te tr, post (qb_i (qs_W kd lf rt b_lasso n s i (qw_fold pos n s))) (g_atoms, g_most, g_room, g_span, g_made, g_depth, g_length, nI n, nI s, nI n, nI s, b_kind, b_left, b_right, b_stack, b_trace, b_lasso, te, tr, b_real, b_seen, b_queue)) :
    ∀ d p te, p + d = n → (∀ q, q < p → te q = b_lasso q) → wY_holds_42 post (nI i) (nI pos) g_atoms g_most g_room g_span g_made g_depth g_length (nI n) (nI s) (nI n) (nI s) (d + 1) (nI p) b_kind b_left b_right b_stack b_trace b_lasso te b_truth b_real b_seen b_queue := by
  have hN := H.2.1
  intro d
  induction d with
  | zero =>
    intro p te hp hq
    have : p = n := by omega
    subst this
    refine br_t (nI_le (Nat.le_refl _) (by omega)) (ty_fill H ND h8 hs hq hi (fun tr hI => ?_))
    dsimp only
    refine yw_fold hpos h8 hs ?_
    have hf := qw_fl (p := pos) hs
    have e8 : nI i * 8 + nI (qw_fold pos p s) = nI (i * 8 + qw_fold pos p s) := by
      rw [show (8 : Int32) = nI 8 from rfl, pk_mul, nI_add]
    rw [e8, nI_clamp (by omega), hI i (by omega) _ hf]
    have h' := h te tr
    refine ⟨vp_in_nI (by omega) (by decide), qb_c0 (fun z => ?_) (fun z => ?_)⟩
    · rw [z] at h'; exact h'
    · rw [z] at h'; exact h'
  | succ d ih =>
    intro p te hp hq
    refine br_f (nI_ge (by omega) (by omega)) ?_
    rw [nI_clamp (n := p) (by omega)]
    have p8 : vp_in (nI p) 8 := vp_in_nI (by omega) (by decide)
    refine ⟨p8, p8, nm_e (nm_r (nI_1 p) (ih (p + 1) _ (by omega) (fun q hq' => ?_)))⟩
    by_cases e : q = p
    · subst e; rw [pk_us]
    · rw [pk_un e]; exact hq q (by omega)
theorem yf_c26 {post : Int32 → SY → Prop} {n s : Nat} (h8 : n ≤ 8) (h : ∀ la, (∀ p, p < n → la p = b_trace p) → post (nI n) (g_atoms, g_most, g_room, g_span, g_made, g_depth, nI n, nI n, nI s, g_testN, g_testS, b_kind, b_left, b_right, b_stack, b_trace, la, b_test, b_truth, b_real, b_seen, b_queue)) :
    ∀ d i la, i + d = n → (∀ p, p < i → la p = b_trace p) → wY_close_26 post (nI s) g_atoms g_most g_room g_span g_made g_depth (nI n) g_lassoN g_lassoS g_testN g_testS (d + 1) (nI i) b_kind b_left b_right b_stack b_trace la b_test b_truth b_real b_seen b_queue := by
  intro d
  induction d with
  | zero =>
    intro i la hi hw
    have : i = n := by omega
    subst this
    exact br_t (nI_le (Nat.le_refl _) (by omega)) (h la hw)
  | succ d ih =>
    intro i la hi hw
    refine br_f (nI_ge (by omega) (by omega)) ?_
    rw [nI_clamp (n := i) (by omega)]
    have i8 : vp_in (nI i) 8 := vp_in_nI (by omega) (by decide)
    refine ⟨i8, i8, nm_e (nm_r (nI_1 i) (ih (i + 1) _ (by omega) (fun p hp => ?_)))⟩
    by_cases e : p = i
    · subst e; rw [pk_us]
    · rw [pk_un e]; exact hw p (by omega)
end
end
section
/-! the relation -/
def rl_P (ap lim rm sp N K sc tl ll ls : Nat) (kd lf rt tn t : Nat → Nat) (f_live : Int64) (f_ready : Int32) (a_kinds a_lefts a_rights : Nat → Int32) (a_truth : Nat → Int64) (a_temporalNodes a_stack a_trace a_lasso : Nat → Int32) (a_successors : Nat → Int64) (b_left b_right b_lasso : Nat → Int32) : Prop :=
  qs_WF ap N K kd lf rt tn ∧ xs_nd N kd lf rt a_kinds a_lefts a_rights ∧ ys_nd N kd lf rt a_kinds b_left b_right ∧ xs_tn K tn a_temporalNodes ∧ qs_TR ap N kd lf rt a_truth ∧
  (f_ready = 0 ∨ (f_ready = 1 ∧ xs_RD ap K kd lf rt tn a_truth a_successors f_live)) ∧ (lim ≤ 24 ∧ N ≤ lim) ∧ (rm ≤ 8 ∧ tl ≤ rm) ∧ sp * ap ≤ 6 ∧ sc ≤ 8 ∧
  (∀ j, j < sc → ∃ m, m < N ∧ a_stack j = nI m) ∧ (∀ j, j < tl → a_trace j = nI (t j) ∧ t j < 2 ^ ap) ∧ ll ≤ 8 ∧ (0 < ll → ls < ll) ∧ (∀ p, p < ll → a_lasso p = b_lasso p)
def i_Rel (_ : Nat) (u : SX) (v : SY) : Prop :=
  ∃ (ap lim rm sp N K sc tl ll ls : Nat) (kd lf rt tn t : Nat → Nat) (f_universe f_live : Int64) (f_ready f_wordLen f_wordStart : Int32) (a_kinds a_lefts a_rights : Nat → Int32) (a_truth : Nat → Int64) (a_temporalNodes a_stack a_trace a_lasso : Nat → Int32) (a_successors : Nat → Int64) (a_word : Nat → Int32) (a_values : Nat → Int64) (g_testN g_testS : Int32) (b_left b_right b_lasso b_test b_truth b_real b_seen b_queue : Nat → Int32), u = (nI ap, nI lim, nI rm, nI sp, nI (6 - ap), nI (2 ^ ap - 1), nI N, nI K, nI sc, nI tl, nI ll, nI ls, f_universe, f_live, f_ready, f_wordLen, f_wordStart, a_kinds, a_lefts, a_rights, a_truth, a_temporalNodes, a_stack, a_trace, a_lasso, a_successors, a_word, a_values) ∧ v = (nI ap, nI lim, nI rm, nI sp, nI N, nI sc, nI tl, nI ll, nI ls, g_testN, g_testS, a_kinds, b_left, b_right, a_stack, a_trace, b_lasso, b_test, b_truth, b_real, b_seen, b_queue) ∧ rl_P ap lim rm sp N K sc tl ll ls kd lf rt tn t f_live f_ready a_kinds a_lefts a_rights a_truth a_temporalNodes a_stack a_trace a_lasso a_successors b_left b_right b_lasso
theorem rl_el {k : Nat} {P : SX → SY → Prop} (h : ∀ (ap lim rm sp N K sc tl ll ls : Nat) (kd lf rt tn t : Nat → Nat) (f_universe f_live : Int64) (f_ready f_wordLen f_wordStart : Int32) (a_kinds a_lefts a_rights : Nat → Int32) (a_truth : Nat → Int64) (a_temporalNodes a_stack a_trace a_lasso : Nat → Int32) (a_successors : Nat → Int64) (a_word : Nat → Int32) (a_values : Nat → Int64) (g_testN g_testS : Int32) (b_left b_right b_lasso b_test b_truth b_real b_seen b_queue : Nat → Int32), rl_P ap lim rm sp N K sc tl ll ls kd lf rt tn t f_live f_ready a_kinds a_lefts a_rights a_truth a_temporalNodes a_stack a_trace a_lasso a_successors b_left b_right b_lasso → P (nI ap, nI lim, nI rm, nI sp, nI (6 - ap), nI (2 ^ ap - 1), nI N, nI K, nI sc, nI tl, nI ll, nI ls, f_universe, f_live, f_ready, f_wordLen, f_wordStart, a_kinds, a_lefts, a_rights, a_truth, a_temporalNodes, a_stack, a_trace, a_lasso, a_successors, a_word, a_values) (nI ap, nI lim, nI rm, nI sp, nI N, nI sc, nI tl, nI ll, nI ls, g_testN, g_testS, a_kinds, b_left, b_right, a_stack, a_trace, b_lasso, b_test, b_truth, b_real, b_seen, b_queue)) {u : SX} {v : SY} (I : i_Rel k u v) : P u v :=
  Exists.elim I fun ap I => Exists.elim I fun lim I => Exists.elim I fun rm I => Exists.elim I fun sp I => Exists.elim I fun N I => Exists.elim I fun K I => Exists.elim I fun sc I => Exists.elim I fun tl I => Exists.elim I fun ll I => Exists.elim I fun ls I => Exists.elim I fun kd I => Exists.elim I fun lf I => Exists.elim I fun rt I => Exists.elim I fun tn I => Exists.elim I fun t I => Exists.elim I fun f_universe I => Exists.elim I fun f_live I => Exists.elim I fun f_ready I => Exists.elim I fun f_wordLen I => Exists.elim I fun f_wordStart I => Exists.elim I fun a_kinds I => Exists.elim I fun a_lefts I => Exists.elim I fun a_rights I => Exists.elim I fun a_truth I => Exists.elim I fun a_temporalNodes I => Exists.elim I fun a_stack I => Exists.elim I fun a_trace I => Exists.elim I fun a_lasso I => Exists.elim I fun a_successors I => Exists.elim I fun a_word I => Exists.elim I fun a_values I => Exists.elim I fun g_testN I => Exists.elim I fun g_testS I => Exists.elim I fun b_left I => Exists.elim I fun b_right I => Exists.elim I fun b_lasso I => Exists.elim I fun b_test I => Exists.elim I fun b_truth I => Exists.elim I fun b_real I => Exists.elim I fun b_seen I => Exists.elim I fun b_queue I => match I with | ⟨e1, e2, f⟩ => by subst e1; subst e2; exact h ap lim rm sp N K sc tl ll ls kd lf rt tn t f_universe f_live f_ready f_wordLen f_wordStart a_kinds a_lefts a_rights a_truth a_temporalNodes a_stack a_trace a_lasso a_successors a_word a_values g_testN g_testS b_left b_right b_lasso b_test b_truth b_real b_seen b_queue f
section
variable {ap lim rm sp N K sc tl ll ls : Nat} {kd lf rt tn t : Nat → Nat} {f_universe f_live : Int64} {f_ready f_wordLen f_wordStart : Int32} {a_kinds a_lefts a_rights : Nat → Int32} {a_truth : Nat → Int64} {a_temporalNodes a_stack a_trace a_lasso : Nat → Int32} {a_successors : Nat → Int64} {a_word : Nat → Int32} {a_values : Nat → Int64} {g_testN g_testS : Int32} {b_left b_right b_lasso b_test b_truth b_real b_seen b_queue : Nat → Int32}
theorem rl_in {k : Nat} (h : rl_P ap lim rm sp N K sc tl ll ls kd lf rt tn t f_live f_ready a_kinds a_lefts a_rights a_truth a_temporalNodes a_stack a_trace a_lasso a_successors b_left b_right b_lasso) : i_Rel k (nI ap, nI lim, nI rm, nI sp, nI (6 - ap), nI (2 ^ ap - 1), nI N, nI K, nI sc, nI tl, nI ll, nI ls, f_universe, f_live, f_ready, f_wordLen, f_wordStart, a_kinds, a_lefts, a_rights, a_truth, a_temporalNodes, a_stack, a_trace, a_lasso, a_successors, a_word, a_values) (nI ap, nI lim, nI rm, nI sp, nI N, nI sc, nI tl, nI ll, nI ls, g_testN, g_testS, a_kinds, b_left, b_right, a_stack, a_trace, b_lasso, b_test, b_truth, b_real, b_seen, b_queue) :=
  ⟨ap, lim, rm, sp, N, K, sc, tl, ll, ls, kd, lf, rt, tn, t, f_universe, f_live, f_ready, f_wordLen, f_wordStart, a_kinds, a_lefts, a_rights, a_truth, a_temporalNodes, a_stack, a_trace, a_lasso, a_successors, a_word, a_values, g_testN, g_testS, b_left, b_right, b_lasso, b_test, b_truth, b_real, b_seen, b_queue, rfl, rfl, h⟩
end
theorem i_up {k : Nat} {u : SX} {v : SY} (h : i_Rel k u v) : i_Rel (k + 3) u v := h
end
section
/-! the simple calls -/
theorem i_vc_again {k : Nat} {u : SX} {v : SY} (I : i_Rel k u v) (hk : k + 3 ≤ 1539) (v1 : Int32) : wpX_again (fun r u' => wpY_again (fun r' v' => r' = r ∧ i_Rel (k + 3) u' v') v v1) u v1 := by
  refine rl_el (P := fun u v => wpX_again (fun r u' => wpY_again (fun r' v' => r' = r ∧ i_Rel (k + 3) u' v') v v1) u v1) ?_ I
  intro ap lim rm sp N K sc tl ll ls kd lf rt tn t f_universe f_live f_ready f_wordLen f_wordStart a_kinds a_lefts a_rights a_truth a_temporalNodes a_stack a_trace a_lasso a_successors a_word a_values g_testN g_testS b_left b_right b_lasso b_test b_truth b_real b_seen b_queue F
  obtain ⟨WF, XN, YN, TN, TR, RD, ⟨hl24, hNl⟩, ⟨hrm, htl⟩, hsp, hsc, hst, htr, hll, hls, hla⟩ := id F
  have hN : N ≤ 24 := by omega
  have hap1 := WF.1.1
  have hap3 := WF.1.2
  have h2p : 2 ^ ap ≤ 8 := Nat.pow_le_pow_right (n := 2) (j := 3) (by decide) hap3
  have h2p0 := Nat.two_pow_pos ap
  unfold wpX_again; dsimp only
  rcases pk_ix v1 (show N < 2 ^ 31 by omega) with hx | hx | ⟨j, hj, rfl⟩
  · refine xw_isN0 (Or.inl hx) (br_t rfl ?_)
    unfold wpY_again; dsimp only
    exact yw_isN0 (Or.inl hx) (br_t rfl ⟨rfl, rl_in F⟩)
  · refine xw_isN0 (Or.inr hx) (br_t rfl ?_)
    unfold wpY_again; dsimp only
    exact yw_isN0 (Or.inr hx) (br_t rfl ⟨rfl, rl_in F⟩)
  · refine xw_isN1 hj hN (br_f (by decide) (pk_lt sc 8 (fun h8 => ?_) (fun h8 => ?_)))
    · rw [nI_clamp (by omega)]
      refine ⟨vp_in_nI h8 (by decide), nm_e (nm_r (nI_1 sc) ?_)⟩
      unfold wpY_again; dsimp only
      refine yw_isN1 hj hN (br_f (by decide) (br_t (nI_lt (b := 8) h8 (by decide)) (nm_r (nI_1 sc) ?_)))
      rw [nI_clamp (by omega)]
      refine ⟨vp_in_nI h8 (by decide), nm_e ⟨rfl, rl_in ⟨WF, XN, YN, TN, TR, RD, ⟨hl24, hNl⟩, ⟨hrm, htl⟩, hsp, h8, fun i hi => ?_, htr, hll, hls, hla⟩⟩⟩
      by_cases e : i = sc
      · exact ⟨j, hj, by rw [e, pk_us]⟩
      · rw [pk_un e]; exact hst i (by omega)
    · unfold wpY_again; dsimp only
      exact yw_isN1 hj hN (br_f (by decide) (br_f (nI_nlt (b := 8) h8 (by omega)) ⟨rfl, rl_in F⟩))
theorem i_vc_drop {k : Nat} {u : SX} {v : SY} (I : i_Rel k u v) (hk : k + 3 ≤ 1539) : wpX_drop (fun r u' => wpY_drop (fun r' v' => r' = r ∧ i_Rel (k + 3) u' v') v) u := by
  refine rl_el (P := fun u v => wpX_drop (fun r u' => wpY_drop (fun r' v' => r' = r ∧ i_Rel (k + 3) u' v') v) u) ?_ I
  intro ap lim rm sp N K sc tl ll ls kd lf rt tn t f_universe f_live f_ready f_wordLen f_wordStart a_kinds a_lefts a_rights a_truth a_temporalNodes a_stack a_trace a_lasso a_successors a_word a_values g_testN g_testS b_left b_right b_lasso b_test b_truth b_real b_seen b_queue F
  obtain ⟨WF, XN, YN, TN, TR, RD, ⟨hl24, hNl⟩, ⟨hrm, htl⟩, hsp, hsc, hst, htr, hll, hls, hla⟩ := id F
  have hN : N ≤ 24 := by omega
  have hap1 := WF.1.1
  have hap3 := WF.1.2
  have h2p : 2 ^ ap ≤ 8 := Nat.pow_le_pow_right (n := 2) (j := 3) (by decide) hap3
  have h2p0 := Nat.two_pow_pos ap
  unfold wpX_drop; dsimp only
  refine pk_eq sc 0 (fun e => ?_) (fun e => ?_)
  · unfold wpY_drop; dsimp only
    exact br_t (by rw [e]; rfl) ⟨rfl, rl_in F⟩
  · obtain ⟨m, rfl⟩ : ∃ m, sc = m + 1 := ⟨sc - 1, by omega⟩
    refine nm_r (nI_pred m) ⟨vp_in_nI (by omega) (by decide), ?_⟩
    unfold wpY_drop; dsimp only
    refine br_f (nI_ne0 (by omega) (by omega)) (nm_r (nI_pred m) ?_)
    rw [nI_pred]
    exact ⟨vp_in_nI (by omega) (by decide), rfl, rl_in ⟨WF, XN, YN, TN, TR, RD, ⟨hl24, hNl⟩, ⟨hrm, htl⟩, hsp, by omega, fun i hi => hst i (by omega), htr, hll, hls, hla⟩⟩
theorem i_vc_operand {k : Nat} {u : SX} {v : SY} (I : i_Rel k u v) (hk : k + 3 ≤ 1539) (v1 : Int32) : wpX_operand (fun r => wpY_operand (fun r' => r' = r ∧ i_Rel (k + 3) u v) v v1) u v1 := by
  refine rl_el (P := fun u v => wpX_operand (fun r => wpY_operand (fun r' => r' = r ∧ i_Rel (k + 3) u v) v v1) u v1) ?_ I
  intro ap lim rm sp N K sc tl ll ls kd lf rt tn t f_universe f_live f_ready f_wordLen f_wordStart a_kinds a_lefts a_rights a_truth a_temporalNodes a_stack a_trace a_lasso a_successors a_word a_values g_testN g_testS b_left b_right b_lasso b_test b_truth b_real b_seen b_queue F
  obtain ⟨WF, XN, YN, TN, TR, RD, ⟨hl24, hNl⟩, ⟨hrm, htl⟩, hsp, hsc, hst, htr, hll, hls, hla⟩ := id F
  have hN : N ≤ 24 := by omega
  have hap1 := WF.1.1
  have hap3 := WF.1.2
  have h2p : 2 ^ ap ≤ 8 := Nat.pow_le_pow_right (n := 2) (j := 3) (by decide) hap3
  have h2p0 := Nat.two_pow_pos ap
  unfold wpX_operand; dsimp only
  have ysame : ∀ (post : Int32 → Prop), (v1 < 0 → post (-1)) → (¬ v1 < 0 → nI sc ≤ v1 → post (-1)) → (∀ j, j < sc → v1 = nI j → post (a_stack (sc - 1 - j))) → wpY_operand post (nI ap, nI lim, nI rm, nI sp, nI N, nI sc, nI tl, nI ll, nI ls, g_testN, g_testS, a_kinds, b_left, b_right, a_stack, a_trace, b_lasso, b_test, b_truth, b_real, b_seen, b_queue) v1 := by
    intro post h1 h2 h3
    unfold wpY_operand; dsimp only
    rcases pk_ix v1 (show sc < 2 ^ 31 by omega) with hx | hx | ⟨j, hj, rfl⟩
    · exact br_t hx (h1 hx)
    · refine br_c (fun h => h1 h) (fun h => br_f (Int32.not_lt.mpr hx) (h2 h hx))
    · obtain ⟨m, rfl⟩ : ∃ m, sc = m + 1 := ⟨sc - 1, by omega⟩
      refine br_f (nI_pos (by omega)) (br_t (nI_lt hj (by omega)) ?_)
      rw [nI_pred, pk_sub (by omega), nI_clamp (by omega)]
      exact ⟨vp_in_nI (by omega) (by decide), h3 j hj rfl⟩
  rcases pk_ix v1 (show sc < 2 ^ 31 by omega) with hx | hx | ⟨j, hj, rfl⟩
  · exact br_t hx (ysame _ (fun _ => ⟨rfl, rl_in F⟩) (fun h => absurd hx h) (fun j hj e => by rw [e] at hx; exact absurd hx (nI_pos (by omega))))
  · have ye : wpY_operand (fun r' => r' = -1 ∧ i_Rel (k + 3) (nI ap, nI lim, nI rm, nI sp, nI (6 - ap), nI (2 ^ ap - 1), nI N, nI K, nI sc, nI tl, nI ll, nI ls, f_universe, f_live, f_ready, f_wordLen, f_wordStart, a_kinds, a_lefts, a_rights, a_truth, a_temporalNodes, a_stack, a_trace, a_lasso, a_successors, a_word, a_values) (nI ap, nI lim, nI rm, nI sp, nI N, nI sc, nI tl, nI ll, nI ls, g_testN, g_testS, a_kinds, b_left, b_right, a_stack, a_trace, b_lasso, b_test, b_truth, b_real, b_seen, b_queue)) (nI ap, nI lim, nI rm, nI sp, nI N, nI sc, nI tl, nI ll, nI ls, g_testN, g_testS, a_kinds, b_left, b_right, a_stack, a_trace, b_lasso, b_test, b_truth, b_real, b_seen, b_queue) v1 := ysame _ (fun _ => ⟨rfl, rl_in F⟩) (fun _ _ => ⟨rfl, rl_in F⟩) (fun j hj e => by rw [e] at hx; exact absurd hx (nI_ge hj (by omega)))
    exact br_c (fun _ => ye) (fun _ => br_f (Int32.not_lt.mpr hx) ye)
  · obtain ⟨m, rfl⟩ : ∃ m, sc = m + 1 := ⟨sc - 1, by omega⟩
    refine br_f (nI_pos (by omega)) (br_t (nI_lt hj (by omega)) ?_)
    rw [nI_pred, pk_sub (by omega), nI_clamp (by omega)]
    refine ⟨vp_in_nI (by omega) (by decide), ysame _ (fun h => absurd h (nI_pos (by omega))) (fun _ h => absurd h (nI_ge hj (by omega))) (fun j' hj' e => ?_)⟩
    have : j = j' := (nI_eq (by omega) (by omega)).mp e
    subst this
    exact ⟨rfl, rl_in F⟩
theorem i_vc_letter {k : Nat} {u : SX} {v : SY} (I : i_Rel k u v) (hk : k + 3 ≤ 1539) (v1 : Int32) : wpX_letter (fun r u' => wpY_letter (fun r' v' => r' = r ∧ i_Rel (k + 3) u' v') v v1) u v1 := by
  refine rl_el (P := fun u v => wpX_letter (fun r u' => wpY_letter (fun r' v' => r' = r ∧ i_Rel (k + 3) u' v') v v1) u v1) ?_ I
  intro ap lim rm sp N K sc tl ll ls kd lf rt tn t f_universe f_live f_ready f_wordLen f_wordStart a_kinds a_lefts a_rights a_truth a_temporalNodes a_stack a_trace a_lasso a_successors a_word a_values g_testN g_testS b_left b_right b_lasso b_test b_truth b_real b_seen b_queue F
  obtain ⟨WF, XN, YN, TN, TR, RD, ⟨hl24, hNl⟩, ⟨hrm, htl⟩, hsp, hsc, hst, htr, hll, hls, hla⟩ := id F
  have hN : N ≤ 24 := by omega
  have hap1 := WF.1.1
  have hap3 := WF.1.2
  have h2p : 2 ^ ap ≤ 8 := Nat.pow_le_pow_right (n := 2) (j := 3) (by decide) hap3
  have h2p0 := Nat.two_pow_pos ap
  have hbnd : ∀ j : Nat, j < 2 ^ 31 → (nI j ≤ nI (2 ^ ap - 1) ↔ j < 2 ^ ap) := by
    intro j hj; rw [nI_leI hj (by omega)]; omega
  unfold wpX_letter; dsimp only
  refine br_c (fun h0 => ?_) (fun h0 => ?_)
  · unfold wpY_letter; dsimp only
    exact br_t h0 ⟨rfl, rl_in F⟩
  · obtain ⟨j, hj, rfl⟩ := nI_of h0
    refine br_c (fun h1 => ?_) (fun h1 => ?_)
    · have hj2 := (hbnd j hj).mp h1
      refine pk_lt tl rm (fun h2 => ?_) (fun h2 => ?_)
      · rw [nI_clamp (by omega)]
        refine ⟨vp_in_nI (by omega) (by decide), nm_e (nm_r (nI_1 tl) ?_)⟩
        unfold wpY_letter; dsimp only
        rw [yb_sh ap hap1 hap3, nI_clamp (by omega)]
        refine br_f h0 (br_t (nI_lt hj2 (by omega)) (br_t (nI_lt h2 (by omega)) (nm_r (nI_1 tl) ⟨vp_in_nI (by omega) (by decide), nm_e ⟨rfl, ?_⟩⟩)))
        refine rl_in (t := fun i => if i = tl then j else t i) ⟨WF, XN, YN, TN, TR, RD, ⟨hl24, hNl⟩, ⟨hrm, h2⟩, hsp, hsc, hst, fun i hi => ?_, hll, hls, hla⟩
        dsimp only
        by_cases e : i = tl
        · subst e; rw [pk_us, if_pos rfl]; exact ⟨rfl, hj2⟩
        · rw [pk_un e, if_neg e]; exact htr i (by omega)
      · unfold wpY_letter; dsimp only
        rw [yb_sh ap hap1 hap3]
        exact br_f h0 (br_t (nI_lt hj2 (by omega)) (br_f (nI_nlt h2 (by omega)) ⟨rfl, rl_in F⟩))
    · unfold wpY_letter; dsimp only
      rw [yb_sh ap hap1 hap3]
      exact br_f h0 (br_f (fun z => h1 ((hbnd j hj).mpr ((nI_ltI hj (by omega)).mp z))) ⟨rfl, rl_in F⟩)
theorem i_vc_retract {k : Nat} {u : SX} {v : SY} (I : i_Rel k u v) (hk : k + 3 ≤ 1539) : wpX_retract (fun r u' => wpY_retract (fun r' v' => r' = r ∧ i_Rel (k + 3) u' v') v) u := by
  refine rl_el (P := fun u v => wpX_retract (fun r u' => wpY_retract (fun r' v' => r' = r ∧ i_Rel (k + 3) u' v') v) u) ?_ I
  intro ap lim rm sp N K sc tl ll ls kd lf rt tn t f_universe f_live f_ready f_wordLen f_wordStart a_kinds a_lefts a_rights a_truth a_temporalNodes a_stack a_trace a_lasso a_successors a_word a_values g_testN g_testS b_left b_right b_lasso b_test b_truth b_real b_seen b_queue F
  obtain ⟨WF, XN, YN, TN, TR, RD, ⟨hl24, hNl⟩, ⟨hrm, htl⟩, hsp, hsc, hst, htr, hll, hls, hla⟩ := id F
  have hN : N ≤ 24 := by omega
  have hap1 := WF.1.1
  have hap3 := WF.1.2
  have h2p : 2 ^ ap ≤ 8 := Nat.pow_le_pow_right (n := 2) (j := 3) (by decide) hap3
  have h2p0 := Nat.two_pow_pos ap
  unfold wpX_retract; dsimp only
  refine pk_eq tl 0 (fun e => ?_) (fun e => ?_)
  · unfold wpY_retract; dsimp only
    exact br_t (by rw [e]; rfl) ⟨rfl, rl_in F⟩
  · obtain ⟨m, rfl⟩ : ∃ m, tl = m + 1 := ⟨tl - 1, by omega⟩
    refine nm_r (nI_pred m) ⟨vp_in_nI (by omega) (by decide), ?_⟩
    unfold wpY_retract; dsimp only
    refine br_f (nI_ne0 (by omega) (by omega)) (nm_r (nI_pred m) ?_)
    rw [nI_pred]
    exact ⟨vp_in_nI (by omega) (by decide), rfl, rl_in ⟨WF, XN, YN, TN, TR, RD, ⟨hl24, hNl⟩, ⟨hrm, by omega⟩, hsp, hsc, hst, fun i hi => htr i (by omega), hll, hls, hla⟩⟩
theorem i_vc_letterAt {k : Nat} {u : SX} {v : SY} (I : i_Rel k u v) (hk : k + 3 ≤ 1539) (v1 : Int32) (v2 : Int32) : wpX_letterAt (fun r => wpY_letterAt (fun r' => r' = r ∧ i_Rel (k + 3) u v) v v1 v2) u v1 v2 := by
  refine rl_el (P := fun u v => wpX_letterAt (fun r => wpY_letterAt (fun r' => r' = r ∧ i_Rel (k + 3) u v) v v1 v2) u v1 v2) ?_ I
  intro ap lim rm sp N K sc tl ll ls kd lf rt tn t f_universe f_live f_ready f_wordLen f_wordStart a_kinds a_lefts a_rights a_truth a_temporalNodes a_stack a_trace a_lasso a_successors a_word a_values g_testN g_testS b_left b_right b_lasso b_test b_truth b_real b_seen b_queue F
  obtain ⟨WF, XN, YN, TN, TR, RD, ⟨hl24, hNl⟩, ⟨hrm, htl⟩, hsp, hsc, hst, htr, hll, hls, hla⟩ := id F
  have hN : N ≤ 24 := by omega
  have hap1 := WF.1.1
  have hap3 := WF.1.2
  have h2p : 2 ^ ap ≤ 8 := Nat.pow_le_pow_right (n := 2) (j := 3) (by decide) hap3
  have h2p0 := Nat.two_pow_pos ap
  unfold wpX_letterAt; dsimp only
  refine br_c (fun h0 => ?_) (fun h0 => br_c (fun h1 => ?_) (fun h1 => br_c (fun h2 => ?_) (fun h2 => ?_)))
  · unfold wpY_letterAt; dsimp only
    exact br_t h0 ⟨rfl, rl_in F⟩
  · unfold wpY_letterAt; dsimp only
    exact br_f h0 (br_t h1 ⟨rfl, rl_in F⟩)
  · obtain ⟨p, hp, rfl⟩ := nI_of (Int32.not_lt.mpr h2)
    refine br_c (fun h3 => pk_le tl p (fun h4 => ?_) (fun h4 => ?_)) (fun h3 => pk_eq ll 0 (fun h4 => ?_) (fun h4 => ?_))
    · unfold wpY_letterAt; dsimp only
      exact br_f h0 (br_f h1 (br_t h2 (br_t h3 (br_f (nI_nlt h4 (by omega)) ⟨rfl, rl_in F⟩))))
    · rw [nI_clamp (by omega)]
      refine ⟨vp_in_nI (by omega) (by decide), ?_⟩
      unfold wpY_letterAt; dsimp only
      rw [nI_clamp (by omega)]
      exact br_f h0 (br_f h1 (br_t h2 (br_t h3 (br_t (nI_lt h4 (by omega)) ⟨vp_in_nI (by omega) (by decide), rfl, rl_in F⟩))))
    · unfold wpY_letterAt; dsimp only
      exact br_f h0 (br_f h1 (br_t h2 (br_f h3 (br_t (by rw [h4]; rfl) ⟨rfl, rl_in F⟩))))
    · have hl := hls (by omega)
      have hf := qw_fl (p := p) hl
      refine xw_place hp hll hl ?_
      rw [nI_clamp (by omega)]
      refine ⟨vp_in_nI (by omega) (by decide), ?_⟩
      unfold wpY_letterAt; dsimp only
      refine br_f h0 (br_f h1 (br_t h2 (br_f h3 (br_f (nI_ne0 (by omega) (by omega)) (yw_fold hp hll hl ?_)))))
      rw [nI_clamp (by omega)]
      exact ⟨vp_in_nI (by omega) (by decide), (hla _ hf).symm, rl_in F⟩
  · unfold wpY_letterAt; dsimp only
    exact br_f h0 (br_f h1 (br_f h2 ⟨rfl, rl_in F⟩))
theorem i_vc_part {k : Nat} {u : SX} {v : SY} (I : i_Rel k u v) (hk : k + 3 ≤ 1539) (v1 : Int32) (v2 : Int32) : wpX_part (fun r => wpY_part (fun r' => r' = r ∧ i_Rel (k + 3) u v) v v1 v2) u v1 v2 := by
  refine rl_el (P := fun u v => wpX_part (fun r => wpY_part (fun r' => r' = r ∧ i_Rel (k + 3) u v) v v1 v2) u v1 v2) ?_ I
  intro ap lim rm sp N K sc tl ll ls kd lf rt tn t f_universe f_live f_ready f_wordLen f_wordStart a_kinds a_lefts a_rights a_truth a_temporalNodes a_stack a_trace a_lasso a_successors a_word a_values g_testN g_testS b_left b_right b_lasso b_test b_truth b_real b_seen b_queue F
  obtain ⟨WF, XN, YN, TN, TR, RD, ⟨hl24, hNl⟩, ⟨hrm, htl⟩, hsp, hsc, hst, htr, hll, hls, hla⟩ := id F
  have hN : N ≤ 24 := by omega
  have hap1 := WF.1.1
  have hap3 := WF.1.2
  have h2p : 2 ^ ap ≤ 8 := Nat.pow_le_pow_right (n := 2) (j := 3) (by decide) hap3
  have h2p0 := Nat.two_pow_pos ap
  unfold wpX_part; dsimp only
  rcases pk_ix v1 (show N < 2 ^ 31 by omega) with hx | hx | ⟨j, hj, rfl⟩
  · refine xw_isN0 (Or.inl hx) (br_t rfl ?_)
    unfold wpY_part; dsimp only
    exact yw_isN0 (Or.inl hx) (br_t rfl ⟨rfl, rl_in F⟩)
  · refine xw_isN0 (Or.inr hx) (br_t rfl ?_)
    unfold wpY_part; dsimp only
    exact yw_isN0 (Or.inr hx) (br_t rfl ⟨rfl, rl_in F⟩)
  · obtain ⟨e1, e2, e3⟩ := XN j hj
    obtain ⟨_, n1, n2, n3, n4⟩ := YN j hj
    have k14 := (WF.2.2.2.1 j hj).1
    have j24 : vp_in (nI j) 24 := vp_in_nI (by omega) (by decide)
    have l24 := qs_lfN WF hj
    have r24 := qs_rtN WF hj
    refine xw_isN1 hj hN (br_f (by decide) (br_c (fun h0 => ?_) (fun h0 => br_c (fun h1 => ?_) (fun h1 => ?_))))
    · unfold wpY_part; dsimp only
      exact yw_isN1 hj hN (br_f (by decide) (br_t h0 ⟨rfl, rl_in F⟩))
    · rw [nI_clamp (by omega), e1, e2, e3]
      obtain ⟨w, hw, rfl⟩ := nI_of2 (n := 2) (by decide) h0 h1
      have ypart : ∀ post : Int32 → Prop, (w = 0 → post (nI (kd j))) → (w = 1 → wY_part_50 post (b_left j) (nI ap) (nI lim) (nI rm) (nI sp) (nI N) (nI sc) (nI tl) (nI ll) (nI ls) g_testN g_testS a_kinds b_left b_right a_stack a_trace b_lasso b_test b_truth b_real b_seen b_queue) → (w = 2 → wY_part_50 post (b_right j) (nI ap) (nI lim) (nI rm) (nI sp) (nI N) (nI sc) (nI tl) (nI ll) (nI ls) g_testN g_testS a_kinds b_left b_right a_stack a_trace b_lasso b_test b_truth b_real b_seen b_queue) → wpY_part post (nI ap, nI lim, nI rm, nI sp, nI N, nI sc, nI tl, nI ll, nI ls, g_testN, g_testS, a_kinds, b_left, b_right, a_stack, a_trace, b_lasso, b_test, b_truth, b_real, b_seen, b_queue) (nI j) (nI w) := by
        intro post p0 p1 p2
        unfold wpY_part; dsimp only
        rw [nI_clamp (by omega), e1]
        refine yw_isN1 hj hN (br_f (by decide) (br_f h0 (br_t h1 (pk_eq w 0 (fun z => ⟨j24, p0 z⟩) (fun z => pk_eq w 1 (fun z1 => ⟨j24, p1 z1⟩) (fun z1 => ⟨j24, p2 (by omega)⟩))))))
      refine ⟨j24, nm_e (pk_eq w 0 (fun z => ypart _ (fun _ => ⟨rfl, rl_in F⟩) (fun y => absurd y (by omega)) (fun y => absurd y (by omega))) (fun z => xw_arity k14 (pk_le w (qs_ar (kd j)) (fun a => ?_) (fun a => ?_) rfl rfl (by omega) (by unfold qs_ar; split <;> (try split) <;> omega))))⟩
      · refine pk_eq w 1 (fun z1 => ⟨j24, ypart _ (fun y => absurd y (by omega)) (fun _ => ?_) (fun y => absurd y (by omega))⟩) (fun z1 => ⟨j24, ypart _ (fun y => absurd y (by omega)) (fun y => absurd y (by omega)) (fun _ => ?_)⟩)
        · have g : 5 ≤ kd j := by
            unfold qs_ar at a; by_cases c : kd j < 5
            · rw [if_pos c] at a; omega
            · omega
          unfold wY_part_50
          rw [n1 g]
          exact br_t (nI_pos' (by omega)) ⟨rfl, rl_in F⟩
        · have g : qs_bin (kd j) := by
            unfold qs_ar at a; unfold qs_bin
            by_cases c : kd j < 5
            · rw [if_pos c] at a; omega
            · rw [if_neg c] at a
              by_cases d : kd j = 5 ∨ (10 ≤ kd j ∧ kd j ≤ 12)
              · rw [if_pos d] at a; omega
              · omega
          unfold wY_part_50
          rw [n3 g]
          exact br_t (nI_pos' (by omega)) ⟨rfl, rl_in F⟩
      · refine ypart _ (fun y => absurd y (by omega)) (fun y => ?_) (fun y => ?_)
        · have g : ¬ 5 ≤ kd j := by
            intro c
            unfold qs_ar at a; rw [if_neg (by omega)] at a
            split at a <;> omega
          unfold wY_part_50
          rw [n2 g]
          exact br_f (by decide) ⟨rfl, rl_in F⟩
        · have g : ¬ qs_bin (kd j) := by
            intro c
            unfold qs_bin at c
            unfold qs_ar at a; rw [if_neg (by omega), if_neg (by omega)] at a; omega
          unfold wY_part_50
          rw [n4 g]
          exact br_f (by decide) ⟨rfl, rl_in F⟩
    · unfold wpY_part; dsimp only
      exact yw_isN1 hj hN (br_f (by decide) (br_f h0 (br_f h1 ⟨rfl, rl_in F⟩)))
theorem i_vc_measure {k : Nat} {u : SX} {v : SY} (I : i_Rel k u v) (hk : k + 3 ≤ 1539) (v1 : Int32) : wpX_measure (fun r => wpY_measure (fun r' => r' = r ∧ i_Rel (k + 3) u v) v v1) u v1 := by
  refine rl_el (P := fun u v => wpX_measure (fun r => wpY_measure (fun r' => r' = r ∧ i_Rel (k + 3) u v) v v1) u v1) ?_ I
  intro ap lim rm sp N K sc tl ll ls kd lf rt tn t f_universe f_live f_ready f_wordLen f_wordStart a_kinds a_lefts a_rights a_truth a_temporalNodes a_stack a_trace a_lasso a_successors a_word a_values g_testN g_testS b_left b_right b_lasso b_test b_truth b_real b_seen b_queue F
  obtain ⟨WF, XN, YN, TN, TR, RD, ⟨hl24, hNl⟩, ⟨hrm, htl⟩, hsp, hsc, hst, htr, hll, hls, hla⟩ := id F
  have hN : N ≤ 24 := by omega
  have hap1 := WF.1.1
  have hap3 := WF.1.2
  have h2p : 2 ^ ap ≤ 8 := Nat.pow_le_pow_right (n := 2) (j := 3) (by decide) hap3
  have h2p0 := Nat.two_pow_pos ap
  unfold wpX_measure; dsimp only
  refine br_c (fun h0 => ?_) (fun h0 => br_c (fun h1 => ?_) (fun h1 => br_c (fun m0 => ?_) (fun m0 => br_c (fun m1 => ?_) (fun m1 => br_c (fun m2 => ?_) (fun m2 => br_c (fun m3 => ?_) (fun m3 => br_c (fun m4 => ?_) (fun m4 => br_c (fun m5 => ?_) (fun m5 => br_c (fun m6 => ?_) (fun m6 => br_c (fun m7 => ?_) (fun m7 => br_c (fun m8 => ?_) (fun m8 => br_c (fun m9 => ?_) (fun m9 => br_c (fun m10 => ?_) (fun _ => trivial)))))))))))))
  · unfold wpY_measure; dsimp only
    exact br_t h0 ⟨rfl, rl_in F⟩
  · unfold wpY_measure; dsimp only
    exact br_f h0 (br_t h1 ⟨rfl, rl_in F⟩)
  · unfold wpY_measure; dsimp only
    exact br_f h0 (br_f h1 (br_t m0 ⟨rfl, rl_in F⟩))
  · unfold wpY_measure; dsimp only
    exact br_f h0 (br_f h1 (br_f m0 (br_t m1 ⟨rfl, rl_in F⟩)))
  · unfold wpY_measure; dsimp only
    exact br_f h0 (br_f h1 (br_f m0 (br_f m1 (br_t m2 ⟨rfl, rl_in F⟩))))
  · unfold wpY_measure; dsimp only
    exact br_f h0 (br_f h1 (br_f m0 (br_f m1 (br_f m2 (br_t m3 ⟨rfl, rl_in F⟩)))))
  · unfold wpY_measure; dsimp only
    have e : 6 - nI ap = nI (6 - ap) := pk_sub (a := 6) (by omega)
    exact br_f h0 (br_f h1 (br_f m0 (br_f m1 (br_f m2 (br_f m3 (br_t m4 ⟨e, rl_in F⟩))))))
  · unfold wpY_measure; dsimp only
    exact br_f h0 (br_f h1 (br_f m0 (br_f m1 (br_f m2 (br_f m3 (br_f m4 (br_t m5 ⟨rfl, rl_in F⟩)))))))
  · unfold wpY_measure; dsimp only
    refine br_f h0 (br_f h1 (br_f m0 (br_f m1 (br_f m2 (br_f m3 (br_f m4 (br_f m5 (br_t m6 (yw_temporals hN (ys_kd WF YN) ⟨?_, rl_in F⟩)))))))))
    rw [WF.2.2.2.2.1]
  · unfold wpY_measure; dsimp only
    exact br_f h0 (br_f h1 (br_f m0 (br_f m1 (br_f m2 (br_f m3 (br_f m4 (br_f m5 (br_f m6 (br_t m7 ⟨rfl, rl_in F⟩)))))))))
  · unfold wpY_measure; dsimp only
    exact br_f h0 (br_f h1 (br_f m0 (br_f m1 (br_f m2 (br_f m3 (br_f m4 (br_f m5 (br_f m6 (br_f m7 (br_t m8 ⟨rfl, rl_in F⟩))))))))))
  · unfold wpY_measure; dsimp only
    exact br_f h0 (br_f h1 (br_f m0 (br_f m1 (br_f m2 (br_f m3 (br_f m4 (br_f m5 (br_f m6 (br_f m7 (br_f m8 (br_t m9 ⟨rfl, rl_in F⟩)))))))))))
  · refine br_c (fun z => ?_) (fun z => ?_)
    · unfold wpY_measure; dsimp only
      exact br_f h0 (br_f h1 (br_f m0 (br_f m1 (br_f m2 (br_f m3 (br_f m4 (br_f m5 (br_f m6 (br_f m7 (br_f m8 (br_f m9 (br_t m10 (br_t z ⟨rfl, rl_in F⟩)))))))))))))
    · unfold wpY_measure; dsimp only
      exact br_f h0 (br_f h1 (br_f m0 (br_f m1 (br_f m2 (br_f m3 (br_f m4 (br_f m5 (br_f m6 (br_f m7 (br_f m8 (br_f m9 (br_t m10 (br_f z ⟨rfl, rl_in F⟩)))))))))))))
theorem i_vc_clear {k : Nat} {u : SX} {v : SY} (I : i_Rel k u v) (hk : k + 3 ≤ 1539) : wpX_clear (fun u' => wpY_clear (fun v' => i_Rel (k + 3) u' v') v) u := by
  refine rl_el (P := fun u v => wpX_clear (fun u' => wpY_clear (fun v' => i_Rel (k + 3) u' v') v) u) ?_ I
  intro ap lim rm sp N K sc tl ll ls kd lf rt tn t f_universe f_live f_ready f_wordLen f_wordStart a_kinds a_lefts a_rights a_truth a_temporalNodes a_stack a_trace a_lasso a_successors a_word a_values g_testN g_testS b_left b_right b_lasso b_test b_truth b_real b_seen b_queue F
  obtain ⟨WF, XN, YN, TN, TR, RD, ⟨hl24, hNl⟩, ⟨hrm, htl⟩, hsp, hsc, hst, htr, hll, hls, hla⟩ := id F
  have hN : N ≤ 24 := by omega
  have hap1 := WF.1.1
  have hap3 := WF.1.2
  have h2p : 2 ^ ap ≤ 8 := Nat.pow_le_pow_right (n := 2) (j := 3) (by decide) hap3
  have h2p0 := Nat.two_pow_pos ap
  unfold wpX_clear; dsimp only
  unfold wpY_clear; dsimp only
  refine rl_in (ap := ap) (lim := lim) (rm := rm) (sp := sp) (N := 0) (K := 0) (sc := 0) (tl := 0) (ll := 0) (ls := 0) (kd := kd) (lf := lf) (rt := rt) (tn := tn) (t := t) ?_
  exact ⟨⟨WF.1, by omega, by omega, fun i hi => absurd hi (Nat.not_lt_zero _), rfl, fun i hi => absurd hi (Nat.not_lt_zero _), fun i hi => absurd hi (Nat.not_lt_zero _)⟩,
    fun i hi => absurd hi (Nat.not_lt_zero _), fun i hi => absurd hi (Nat.not_lt_zero _), fun i hi => absurd hi (Nat.not_lt_zero _), fun i hi => absurd hi (Nat.not_lt_zero _), Or.inl rfl,
    ⟨hl24, by omega⟩, ⟨hrm, by omega⟩, hsp, by omega, fun i hi => absurd hi (Nat.not_lt_zero _), fun i hi => absurd hi (Nat.not_lt_zero _), by omega, fun h => absurd h (Nat.not_lt_zero _), fun i hi => absurd hi (Nat.not_lt_zero _)⟩
def rc_cl (p lo hi : Int32) : Int32 := if lo ≤ p then (if p ≤ hi then p else hi) else lo
theorem rc_r (p : Int32) (lo hi : Nat) (hl : lo ≤ hi) (hh : hi < 2 ^ 31) : ∃ r, lo ≤ r ∧ r ≤ hi ∧ rc_cl p (nI lo) (nI hi) = nI r := by
  unfold rc_cl
  by_cases c : nI lo ≤ p
  · rw [if_pos c]
    have h0 : ¬ p < 0 := Int32.not_lt.mpr (Int32.le_trans (nI_pos' (by omega)) c)
    obtain ⟨j, hj, rfl⟩ := nI_of h0
    have c' := (nI_leI (by omega) hj).mp c
    by_cases d : nI j ≤ nI hi
    · rw [if_pos d]; exact ⟨j, c', (nI_leI hj hh).mp d, rfl⟩
    · rw [if_neg d]; exact ⟨hi, hl, Nat.le_refl _, rfl⟩
  · rw [if_neg c]; exact ⟨lo, Nat.le_refl _, hl, rfl⟩
theorem rc_x {post : Int32 → Prop} {u : SX} {p lo hi : Int32} (h : post (rc_cl p lo hi)) : wpX_clamp post u p lo hi := by
  obtain ⟨f_atomCount, f_nodeLimit, f_room, f_span, f_temporalLimit, f_letterMask, f_nodeCount, f_temporalCount, f_stackCount, f_traceLen, f_lassoLen, f_lassoStart, f_universe, f_live, f_ready, f_wordLen, f_wordStart, a_kinds, a_lefts, a_rights, a_truth, a_temporalNodes, a_stack, a_trace, a_lasso, a_successors, a_word, a_values⟩ := u
  unfold wpX_clamp; dsimp only
  unfold rc_cl at h
  refine br_c (fun a => ?_) (fun a => ?_)
  · rw [if_pos a] at h
    refine br_c (fun b => ?_) (fun b => ?_)
    · rw [if_pos b] at h; exact h
    · rw [if_neg b] at h; exact h
  · rw [if_neg a] at h; exact h
theorem rc_y {A : Int32 → Prop} {p lo hi : Int32} (h : A (rc_cl p lo hi)) : (lo ≤ p → ((p ≤ hi → A p) ∧ (¬ p ≤ hi → A hi))) ∧ (¬ lo ≤ p → A lo) := by
  unfold rc_cl at h
  refine br_c (fun a => ?_) (fun a => ?_)
  · rw [if_pos a] at h
    refine br_c (fun b => ?_) (fun b => ?_)
    · rw [if_pos b] at h; exact h
    · rw [if_neg b] at h; exact h
  · rw [if_neg a] at h; exact h
theorem rc_0 {ap lim rm sp : Nat} {a1 : Nat → Int64} {a2 a3 a4 a5 a6 a7 a8 : Nat → Int32} {a10 : Nat → Int64} {f_live : Int64} {b1 b2 b3 : Nat → Int32} (h1 : 1 ≤ ap) (h2 : ap ≤ 3) (h3 : lim ≤ 24) (h4 : rm ≤ 8) (h5 : sp * ap ≤ 6) :
    rl_P ap lim rm sp 0 0 0 0 0 0 (fun _ => 0) (fun _ => 0) (fun _ => 0) (fun _ => 0) (fun _ => 0) f_live 0 a2 a3 a4 a1 a5 a6 a7 a8 a10 b1 b2 b3 :=
  ⟨⟨⟨h1, h2⟩, by omega, by omega, fun i hi => absurd hi (Nat.not_lt_zero _), rfl, fun i hi => absurd hi (Nat.not_lt_zero _), fun i hi => absurd hi (Nat.not_lt_zero _)⟩,
    fun i hi => absurd hi (Nat.not_lt_zero _), fun i hi => absurd hi (Nat.not_lt_zero _), fun i hi => absurd hi (Nat.not_lt_zero _), fun i hi => absurd hi (Nat.not_lt_zero _), Or.inl rfl,
    ⟨h3, by omega⟩, ⟨h4, by omega⟩, h5, by omega, fun i hi => absurd hi (Nat.not_lt_zero _), fun i hi => absurd hi (Nat.not_lt_zero _), by omega, fun h => absurd h (Nat.not_lt_zero _), fun i hi => absurd hi (Nat.not_lt_zero _)⟩
theorem i_vc0 (k0 : Int32) (k1 : Int32) (k2 : Int32) : wpX_init (fun u => wpY_init (fun v => i_Rel 3 u v) k0 k1 k2) k0 k1 k2 := by
  obtain ⟨a, a1, a2, ea⟩ := rc_r k0 1 3 (by decide) (by decide)
  obtain ⟨b, b1, b2, eb⟩ := rc_r k1 8 24 (by decide) (by decide)
  obtain ⟨c, c1, c2, ec⟩ := rc_r k2 4 8 (by decide) (by decide)
  have ea' : rc_cl k0 1 3 = nI a := ea
  have eb' : rc_cl k1 8 24 = nI b := eb
  have ec' : rc_cl k2 4 8 = nI c := ec
  unfold wpX_init
  refine rc_x ?_
  rw [ea']
  refine rc_x ?_
  rw [eb']
  refine rc_x ?_
  rw [ec']
  have e3 : ((1 : Int32) <<< (nI a &&& 31)) - 1 = nI (2 ^ a - 1) := by
    rw [yb_sh a a1 a2]; exact pk_sub (b := 1) (Nat.two_pow_pos a)
  have e1 : 6 / nI a = nI (6 / a) := pk_div (a := 6) (by decide) (by omega) (by omega)
  have e2 : 6 - nI a = nI (6 - a) := pk_sub (a := 6) (by omega)
  refine ⟨nI_ne0 (by omega) (by omega), nm_r e1 (nm_r e2 (nm_r e3 ?_))⟩
  have fin : ∀ (P : SY → Prop), P (nI a, nI b, nI c, nI (6 / a), 0, 0, 0, 0, 0, 0, 0, (fun _ => 0), (fun _ => 0), (fun _ => 0), (fun _ => 0), (fun _ => 0), (fun _ => 0), (fun _ => 0), (fun _ => 0), (fun _ => 0), (fun _ => 0), (fun _ => 0)) → wpY_init P k0 k1 k2 := by
    intro P h
    unfold wpY_init
    refine rc_y (A := fun z => wY_init_115 P k1 k2 z 0 0 0 0 0 0 0 0 0 0 0 (fun _ => 0) (fun _ => 0) (fun _ => 0) (fun _ => 0) (fun _ => 0) (fun _ => 0) (fun _ => 0) (fun _ => 0) (fun _ => 0) (fun _ => 0) (fun _ => 0)) ?_
    rw [ea']
    unfold wY_init_115
    refine rc_y (A := fun z => wY_init_142 P k2 z (nI a) 0 0 0 0 0 0 0 0 0 0 (fun _ => 0) (fun _ => 0) (fun _ => 0) (fun _ => 0) (fun _ => 0) (fun _ => 0) (fun _ => 0) (fun _ => 0) (fun _ => 0) (fun _ => 0) (fun _ => 0)) ?_
    rw [eb']
    unfold wY_init_142
    refine rc_y (A := fun z => wY_init_167 P z (nI a) (nI b) 0 0 0 0 0 0 0 0 0 (fun _ => 0) (fun _ => 0) (fun _ => 0) (fun _ => 0) (fun _ => 0) (fun _ => 0) (fun _ => 0) (fun _ => 0) (fun _ => 0) (fun _ => 0) (fun _ => 0)) ?_
    rw [ec']
    unfold wY_init_167
    refine pk_eq a 1 (fun z => ?_) (fun z => pk_eq a 2 (fun z2 => ?_) (fun z2 => ?_))
    · subst z; exact h
    · subst z2; exact h
    · have : a = 3 := by omega
      subst this; exact h
  refine fin _ ?_
  have h6 : 6 / a * a ≤ 6 := Nat.div_mul_le_self 6 a
  exact rl_in (rc_0 (ap := a) (lim := b) (rm := c) (sp := 6 / a) a1 a2 b2 c2 h6)
end
section
/-! put: a new node -/
def updN (f : Nat → Nat) (k x : Nat) : Nat → Nat := fun j => if j = k then x else f j
theorem rp_s {f : Nat → Nat} {k x : Nat} : updN f k x k = x := if_pos rfl
theorem rp_n {f : Nat → Nat} {k x j : Nat} (h : j ≠ k) : updN f k x j = f j := if_neg h
section
variable {ap N K : Nat} {kd lf rt tn : Nat → Nat} {k l r : Nat}
theorem rp_cn (i : Nat) (hi : i ≤ N) : qs_cn (updN kd N k) i = qs_cn kd i := qs_cn_cg (fun j hj => rp_n (by omega))
theorem rp_WF (H : qs_WF ap N K kd lf rt tn) (hN : N < 24) (hk : k ≤ 14) (h2 : k ≤ 2 → k < ap) (hT : 10 ≤ k → K < 6 - ap) (hl : 5 ≤ k → l < N) (hr : qs_bin k → r < N) (hl0 : ¬ 5 ≤ k → l = 0) (hr0 : ¬ qs_bin k → r = 0) :
    qs_WF ap (N + 1) (K + if 10 ≤ k then 1 else 0) (updN kd N k) (updN lf N l) (updN rt N r) (if 10 ≤ k then updN tn K N else tn) := by
  obtain ⟨h1, _, h3, h4, h5, h6, h7⟩ := H
  refine ⟨h1, by omega, ?_, fun i hi => ?_, ?_, fun i hi hki => ?_, fun q hq => ?_⟩
  · by_cases c : 10 ≤ k
    · have := hT c; rw [if_pos c]; omega
    · rw [if_neg c]; omega
  · by_cases e : i = N
    · subst e; rw [rp_s, rp_s, rp_s]; exact ⟨hk, h2, hl, hr, hl0, hr0⟩
    · rw [rp_n e, rp_n e, rp_n e]; exact h4 i (by omega)
  · rw [qs_cn, rp_cn N (Nat.le_refl _), rp_s, h5]
  · by_cases e : i = N
    · subst e
      rw [rp_s] at hki
      rw [rp_cn i (Nat.le_refl _), h5, if_pos hki, rp_s]
    · rw [rp_n e] at hki
      rw [rp_cn i (by omega)]
      have hc : qs_cn kd i < K := by rw [← h5]; exact qs_cn_lt (by omega) hki
      have g := h6 i (by omega) hki
      by_cases c : 10 ≤ k
      · rw [if_pos c, rp_n (by omega)]; exact g
      · rw [if_neg c]; exact g
  · by_cases e : q < K
    · obtain ⟨a, b, c⟩ := h7 q e
      have et : (if 10 ≤ k then updN tn K N else tn) q = tn q := by
        by_cases c : 10 ≤ k
        · rw [if_pos c, rp_n (by omega)]
        · rw [if_neg c]
      rw [et, rp_n (by omega), rp_cn _ (by omega)]
      exact ⟨by omega, b, c⟩
    · have c : 10 ≤ k := by
        by_cases c : 10 ≤ k
        · exact c
        · rw [if_neg c] at hq; omega
      rw [if_pos c] at hq
      have eq : q = K := by omega
      subst eq
      rw [if_pos c, rp_s, rp_s, rp_cn N (Nat.le_refl _)]
      exact ⟨by omega, c, h5⟩
theorem rp_V {tr : Nat → Int64} {w : Int64} {s j : Nat} (h : j ≠ N) : qs_V (vp_updL tr N w) s j = qs_V tr s j := by
  unfold qs_V; rw [pk_uLn h]
theorem rp_TR (H : qs_WF ap N K kd lf rt tn) {tr : Nat → Int64} (T : qs_TR ap N kd lf rt tr) (hl : 5 ≤ k → l < N) (hr : qs_bin k → r < N) {w : Int64}
    (hw : ∀ s, s < 64 → qb_l w s = if k < 10 then qs_pl k (s.testBit k) (qs_V tr s l) (qs_V tr s r) else s.testBit (ap + K)) :
    qs_TR ap (N + 1) (updN kd N k) (updN lf N l) (updN rt N r) (vp_updL tr N w) := by
  intro i hi s hs
  by_cases e : i = N
  · subst e
    rw [rp_s, rp_s, rp_s, rp_cn i (Nat.le_refl _), H.2.2.2.2.1]
    have : qs_V (vp_updL tr i w) s i = qb_l w s := by unfold qs_V; rw [pk_uLs]
    rw [this, hw s hs]
    by_cases c : k < 10
    · rw [if_pos c, if_pos c]
      refine qs_pl_cg (fun _ => rfl) (fun z => ?_) (fun z => ?_)
      · rw [rp_V (by have := hl z; omega)]
      · rw [rp_V (by have := hr (Or.inl ⟨z, by omega⟩); omega)]
    · rw [if_neg c, if_neg c]
  · have a := qs_lfN H (i := i) (by omega)
    have b := qs_rtN H (i := i) (by omega)
    rw [rp_n e, rp_n e, rp_n e, rp_cn i (by omega), rp_V e, rp_V (by omega), rp_V (by omega)]
    exact T i (by omega) s hs
theorem rp_RD (H : qs_WF ap N K kd lf rt tn) {tr : Nat → Int64} {w : Int64} {su : Nat → Int64} {li : Int64} (h : xs_RD ap K kd lf rt tn tr su li) :
    xs_RD ap K (updN kd N k) (updN lf N l) (updN rt N r) tn (vp_updL tr N w) su li := by
  have hsrc : ∀ q, q < K → qs_src (updN kd N k) (updN lf N l) tn q = qs_src kd lf tn q := by
    intro q hq
    have a := (H.2.2.2.2.2.2 q hq).1
    unfold qs_src; rw [rp_n (by omega), rp_n (by omega)]
  have hgl : ∀ q, q < K → qs_gl (updN kd N k) (updN lf N l) (updN rt N r) tn q = qs_gl kd lf rt tn q := by
    intro q hq
    have a := (H.2.2.2.2.2.2 q hq).1
    unfold qs_gl; rw [rp_n (by omega), rp_n (by omega), rp_n (by omega)]
  have eR : qs_R ap K (updN kd N k) (updN lf N l) (updN rt N r) tn (vp_updL tr N w) = qs_R ap K kd lf rt tn tr := by
    funext s s'
    unfold qs_R
    refine propext (and_congr_right (fun _ => and_congr_right (fun _ => ?_)))
    have key : ∀ q, q < K → ((qs_V (vp_updL tr N w) s (tn q) = qs_ts (updN kd N k (tn q)) (qs_V (vp_updL tr N w) s (updN lf N l (tn q))) (qs_V (vp_updL tr N w) s (updN rt N r (tn q))) (qs_V (vp_updL tr N w) s' (qs_src (updN kd N k) (updN lf N l) tn q))) ↔
        (qs_V tr s (tn q) = qs_ts (kd (tn q)) (qs_V tr s (lf (tn q))) (qs_V tr s (rt (tn q))) (qs_V tr s' (qs_src kd lf tn q)))) := by
      intro q hq
      have a := (H.2.2.2.2.2.2 q hq).1
      have b := qs_lfN H a
      have c := qs_rtN H a
      have d := qs_srcN H hq
      rw [hsrc q hq, rp_n (by omega), rp_n (by omega), rp_n (by omega), rp_V (by omega), rp_V (by omega), rp_V (by omega), rp_V (by omega)]
    exact ⟨fun z q hq => (key q hq).mp (z q hq), fun z q hq => (key q hq).mpr (z q hq)⟩
  have eF : qs_fair K (updN kd N k) (updN lf N l) (updN rt N r) tn (vp_updL tr N w) = qs_fair K kd lf rt tn tr := by
    funext q s
    unfold qs_fair
    refine propext (forall_congr' (fun hq => ?_))
    have a := (H.2.2.2.2.2.2 q hq).1
    have d := qs_glN H hq
    rw [hgl q hq, rp_n (by omega), rp_V (by omega), rp_V (by omega)]
  unfold xs_RD
  rw [eR, eF]
  exact h
end
/-! what put refuses, in the order of both -/
section
variable {f_atomCount f_nodeLimit f_room f_span f_temporalLimit f_letterMask f_nodeCount f_temporalCount f_stackCount f_traceLen f_lassoLen f_lassoStart : Int32} {f_universe f_live : Int64} {f_ready f_wordLen f_wordStart : Int32} {a_kinds a_lefts a_rights : Nat → Int32} {a_truth : Nat → Int64} {a_temporalNodes a_stack a_trace a_lasso : Nat → Int32} {a_successors : Nat → Int64} {a_word : Nat → Int32} {a_values : Nat → Int64}
variable {ap lim N K sc k : Nat}
theorem xp_ref {post : Int32 → Prop} (hk : k ≤ 14) (hap : ap ≤ 3) (hl : lim ≤ 24) (hN : N ≤ 24) (hsc : sc ≤ 8) (hK : K ≤ 6)
    (hB : k ≤ 2 → ap ≤ k → post (-1)) (hF : (k ≤ 2 → k < ap) → lim ≤ N → post (-2)) (hM : (k ≤ 2 → k < ap) → N < lim → sc < qs_ar k → post (-3))
    (hT : (k ≤ 2 → k < ap) → N < lim → qs_ar k ≤ sc → 10 ≤ k → 6 - ap ≤ K → post (-4))
    (hD : (k ≤ 2 → k < ap) → N < lim → qs_ar k ≤ sc → (10 ≤ k → K < 6 - ap) → qs_ar k = 0 → 8 ≤ sc → post (-5))
    (h0 : (k ≤ 2 → k < ap) → N < lim → qs_ar k ≤ sc → (10 ≤ k → K < 6 - ap) → (qs_ar k = 0 → sc < 8) → post 0) :
    wpX_refusal post (nI ap, nI lim, f_room, f_span, nI (6 - ap), f_letterMask, nI N, nI K, nI sc, f_traceLen, f_lassoLen, f_lassoStart, f_universe, f_live, f_ready, f_wordLen, f_wordStart, a_kinds, a_lefts, a_rights, a_truth, a_temporalNodes, a_stack, a_trace, a_lasso, a_successors, a_word, a_values) (nI k) := by
  have har : qs_ar k ≤ 2 := by unfold qs_ar; split <;> (try split) <;> omega
  unfold wpX_refusal; dsimp only
  have c76 : (k ≤ 2 → k < ap) → N < lim → qs_ar k ≤ sc → (10 ≤ k → K < 6 - ap) → wX_refusal_76 post (nI (qs_ar k)) (nI ap) (nI lim) f_room f_span (nI (6 - ap)) f_letterMask (nI N) (nI K) (nI sc) f_traceLen f_lassoLen f_lassoStart f_universe f_live f_ready f_wordLen f_wordStart a_kinds a_lefts a_rights a_truth a_temporalNodes a_stack a_trace a_lasso a_successors a_word a_values := by
    intro a b c d
    unfold wX_refusal_76
    refine pk_eq (qs_ar k) 0 (fun e => pk_lt sc 8 (fun g => h0 a b c d (fun _ => g)) (fun g => hD a b c d e g)) (fun e => h0 a b c d (fun z => absurd z e))
  have c25 : (k ≤ 2 → k < ap) → wX_refusal_25 post (nI k) (nI ap) (nI lim) f_room f_span (nI (6 - ap)) f_letterMask (nI N) (nI K) (nI sc) f_traceLen f_lassoLen f_lassoStart f_universe f_live f_ready f_wordLen f_wordStart a_kinds a_lefts a_rights a_truth a_temporalNodes a_stack a_trace a_lasso a_successors a_word a_values := by
    intro a
    unfold wX_refusal_25
    refine pk_lt N lim (fun b => xw_arity hk (pk_le (qs_ar k) sc (fun c => pk_lt k 10 (fun d => c76 a b c (fun z => absurd z (by omega))) (fun d => pk_lt K (6 - ap) (fun e => c76 a b c (fun _ => e)) (fun e => hT a b c d e))) (fun c => hM a b c))) (fun b => hF a b)
  refine br_f (nI_pos (by omega)) (br_f (nI_nlt (a := 14) (by omega) (by decide)) (pk_lt 2 k (fun a => c25 (fun z => absurd z (by omega))) (fun a => pk_lt k ap (fun b => c25 (fun _ => b)) (fun b => hB a b))))
/-- the operands are taken -/
theorem xp_take {post : SX → Prop} {l r : Nat} (hk : k ≤ 14) (hN : N < 24) (hsc : sc ≤ 8) (ha : qs_ar k ≤ sc)
    (h2 : qs_ar k = 2 → a_stack (sc - 1) = nI r ∧ a_stack (sc - 2) = nI l) (h1 : qs_ar k = 1 → a_stack (sc - 1) = nI l ∧ r = 0) (h0 : qs_ar k = 0 → l = 0 ∧ r = 0)
    (h : ∀ le ri, (∀ j, j ≠ N → le j = a_lefts j) → le N = nI l → (∀ j, j ≠ N → ri j = a_rights j) → ri N = nI r → post (f_atomCount, f_nodeLimit, f_room, f_span, f_temporalLimit, f_letterMask, f_nodeCount, f_temporalCount, nI (sc - qs_ar k), f_traceLen, f_lassoLen, f_lassoStart, f_universe, f_live, f_ready, f_wordLen, f_wordStart, a_kinds, le, ri, a_truth, a_temporalNodes, a_stack, a_trace, a_lasso, a_successors, a_word, a_values)) :
    wpX_takeOperands post (f_atomCount, f_nodeLimit, f_room, f_span, f_temporalLimit, f_letterMask, f_nodeCount, f_temporalCount, nI sc, f_traceLen, f_lassoLen, f_lassoStart, f_universe, f_live, f_ready, f_wordLen, f_wordStart, a_kinds, a_lefts, a_rights, a_truth, a_temporalNodes, a_stack, a_trace, a_lasso, a_successors, a_word, a_values) (nI k) (nI N) := by
  have har : qs_ar k ≤ 2 := by unfold qs_ar; split <;> (try split) <;> omega
  have n24 : vp_in (nI N) 24 := vp_in_nI hN (by decide)
  unfold wpX_takeOperands; dsimp only
  refine xw_arity hk ?_
  rw [nI_clamp (n := N) (by omega)]
  refine ⟨n24, nm_e ⟨n24, nm_e (pk_eq (qs_ar k) 2 (fun e => ?_) (fun e => ?_))⟩⟩
  · obtain ⟨m, rfl⟩ : ∃ m, sc = m + 2 := ⟨sc - 2, by omega⟩
    refine nm_r (nI_pred (m + 1)) ⟨vp_in_nI (by omega) (by decide), n24, ?_⟩
    rw [nI_clamp (by omega)]
    obtain ⟨e1, e2⟩ := h2 e
    refine nm_e ?_
    unfold wX_takeOperands_50
    rw [nI_clamp (n := N) (by omega)]
    refine br_f (nI_nlt (b := 1) (by omega) (by omega)) (nm_r (nI_pred m) ⟨vp_in_nI (by omega) (by decide), n24, ?_⟩)
    rw [nI_clamp (by omega)]
    have es : m + 2 - qs_ar k = m := by omega
    rw [es] at h
    refine nm_e (h _ _ (fun j hj => ?_) ?_ (fun j hj => ?_) ?_)
    · rw [pk_un hj, pk_un hj]
    · rw [pk_us]; exact e2
    · rw [pk_un hj, pk_un hj]
    · rw [pk_us]; exact e1
  · unfold wX_takeOperands_50
    rw [nI_clamp (n := N) (by omega)]
    refine pk_lt (qs_ar k) 1 (fun e1 => ?_) (fun e1 => ?_)
    · obtain ⟨el, er⟩ := h0 (by omega)
      have es : sc - qs_ar k = sc := by omega
      rw [es] at h
      refine h _ _ (fun j hj => pk_un hj) ?_ (fun j hj => pk_un hj) ?_
      · rw [pk_us, el]; rfl
      · rw [pk_us, er]; rfl
    · have e1' : qs_ar k = 1 := by omega
      obtain ⟨el, er⟩ := h1 e1'
      obtain ⟨m, rfl⟩ : ∃ m, sc = m + 1 := ⟨sc - 1, by omega⟩
      refine nm_r (nI_pred m) ⟨vp_in_nI (by omega) (by decide), n24, ?_⟩
      rw [nI_clamp (by omega)]
      have es : m + 1 - qs_ar k = m := by omega
      rw [es] at h
      refine nm_e (h _ _ (fun j hj => ?_) ?_ (fun j hj => pk_un hj) ?_)
      · rw [pk_un hj, pk_un hj]
      · rw [pk_us]; exact el
      · rw [pk_us, er]; rfl
/-- the states of the new node -/
theorem xp_states {post : Int64 → SX → Prop} {l r : Nat} (hk : k ≤ 14) (hN : N < 24) (hap : ap ≤ 3) (hK : 10 ≤ k → K < 5) (ek : a_kinds N = nI k) (el : a_lefts N = nI l) (er : a_rights N = nI r) (hl : l < 24) (hr : r < 24)
    (h1 : k < 10 → ∀ w, (∀ s, s < 64 → qb_l w s = qs_pl k (s.testBit k) (qs_V a_truth s l) (qs_V a_truth s r)) → post w (nI ap, f_nodeLimit, f_room, f_span, f_temporalLimit, f_letterMask, f_nodeCount, nI K, f_stackCount, f_traceLen, f_lassoLen, f_lassoStart, f_universe, f_live, f_ready, f_wordLen, f_wordStart, a_kinds, a_lefts, a_rights, a_truth, a_temporalNodes, a_stack, a_trace, a_lasso, a_successors, a_word, a_values))
    (h2 : 10 ≤ k → ∀ w, (∀ s, s < 64 → qb_l w s = s.testBit (ap + K)) → post w (nI ap, f_nodeLimit, f_room, f_span, f_temporalLimit, f_letterMask, f_nodeCount, nI (K + 1), f_stackCount, f_traceLen, f_lassoLen, f_lassoStart, f_universe, f_live, 0, f_wordLen, f_wordStart, a_kinds, a_lefts, a_rights, a_truth, upd a_temporalNodes K (nI N), a_stack, a_trace, a_lasso, a_successors, a_word, a_values)) :
    wpX_statesOf post (nI ap, f_nodeLimit, f_room, f_span, f_temporalLimit, f_letterMask, f_nodeCount, nI K, f_stackCount, f_traceLen, f_lassoLen, f_lassoStart, f_universe, f_live, f_ready, f_wordLen, f_wordStart, a_kinds, a_lefts, a_rights, a_truth, a_temporalNodes, a_stack, a_trace, a_lasso, a_successors, a_word, a_values) (nI N) := by
  have n24 : vp_in (nI N) 24 := vp_in_nI hN (by decide)
  unfold wpX_statesOf; dsimp only
  rw [nI_clamp (n := N) (by omega), ek, el, er, nI_clamp (n := l) (by omega), nI_clamp (n := r) (by omega)]
  refine ⟨n24, nm_e (pk_lt 2 k (fun a => pk_le 10 k (fun b => ?_) (fun b => ?_)) (fun a => ?_))⟩
  · have := hK b
    refine nm_r (nI_add ap K) ⟨vp_in_nI (by omega) (by decide), ?_⟩
    rw [nI_clamp (n := K) (by omega)]
    exact nm_e (nm_r (nI_1 K) (xw_statesWithBit (by omega) (fun w hw => h2 b w hw)))
  · refine ⟨n24, vp_in_nI hl (by decide), n24, vp_in_nI hr (by decide), ?_⟩
    refine xw_combine (by omega) (by omega) false (fun w hw => h1 b w (fun s hs => ?_))
    rw [hw s hs]
    exact qs_pl_cg (fun z => absurd z (by omega)) (fun _ => rfl) (fun _ => rfl)
  · refine xw_statesWithBit (by omega) (fun w hw => h1 (by omega) w (fun s hs => ?_))
    rw [hw s hs]
    unfold qs_pl; rw [if_pos a]
end
section
variable {g_atoms g_most g_room g_span g_made g_depth g_length g_lassoN g_lassoS g_testN g_testS : Int32} {b_kind b_left b_right b_stack b_trace b_lasso b_test b_truth b_real b_seen b_queue : Nat → Int32}
variable {ap lim N K sc k : Nat}
theorem yp_123 {post : Int32 → SY → Prop} {l r : Nat} (hN : N < 24) (hsc : sc ≤ 8) (ha : qs_ar k ≤ sc) (hd : qs_ar k = 0 → sc < 8) (har : qs_ar k ≤ 2)
    (h2 : qs_ar k = 2 → b_stack (sc - 1) = nI r ∧ b_stack (sc - 2) = nI l) (h1 : qs_ar k = 1 → b_stack (sc - 1) = nI l)
    (h : ∀ le ri, (∀ j, j ≠ N → le j = b_left j) → (1 ≤ qs_ar k → le N = nI l) → (qs_ar k = 0 → le N = -1) → (∀ j, j ≠ N → ri j = b_right j) → (qs_ar k = 2 → ri N = nI r) → (qs_ar k ≤ 1 → ri N = -1) →
      post (nI N) (g_atoms, g_most, g_room, g_span, nI (N + 1), nI (sc - qs_ar k + 1), g_length, g_lassoN, g_lassoS, g_testN, g_testS, upd b_kind N (nI k), le, ri, upd b_stack (sc - qs_ar k) (nI N), b_trace, b_lasso, b_test, b_truth, b_real, b_seen, b_queue)) :
    wY_put_123 post (nI k) (nI (qs_ar k)) g_atoms g_most g_room g_span (nI N) (nI sc) g_length g_lassoN g_lassoS g_testN g_testS b_kind b_left b_right b_stack b_trace b_lasso b_test b_truth b_real b_seen b_queue := by
  have n24 : vp_in (nI N) 24 := vp_in_nI hN (by decide)
  have c213 : ∀ d ki le ri, d < 8 → (∀ st, st = upd b_stack d (nI N) → post (nI N) (g_atoms, g_most, g_room, g_span, nI (N + 1), nI (d + 1), g_length, g_lassoN, g_lassoS, g_testN, g_testS, ki, le, ri, st, b_trace, b_lasso, b_test, b_truth, b_real, b_seen, b_queue)) → wY_put_213 post g_atoms g_most g_room g_span (nI N) (nI d) g_length g_lassoN g_lassoS g_testN g_testS ki le ri b_stack b_trace b_lasso b_test b_truth b_real b_seen b_queue := by
    intro d ki le ri hd hp
    unfold wY_put_213
    rw [nI_clamp (n := d) (by omega)]
    exact nm_r (nI_1 d) ⟨vp_in_nI hd (by decide), nm_e (nm_r (nI_1 N) (hp _ rfl))⟩
  unfold wY_put_123
  rw [nI_clamp (n := N) (by omega)]
  refine ⟨n24, nm_e ⟨n24, nm_e ⟨n24, nm_e (pk_eq (qs_ar k) 2 (fun e => ?_) (fun e => ?_))⟩⟩⟩
  · obtain ⟨m, rfl⟩ : ∃ m, sc = m + 2 := ⟨sc - 2, by omega⟩
    have es : m + 2 - qs_ar k = m := by omega
    rw [es] at h
    obtain ⟨e1, e2⟩ := h2 e
    rw [show nI (m + 2) - 1 = nI (m + 1) from nI_pred (m + 1), nI_clamp (n := m + 1) (by omega)]
    refine nm_e ⟨vp_in_nI (by omega) (by decide), n24, nm_e ?_⟩
    unfold wY_put_183
    rw [nI_clamp (n := N) (by omega), nI_pred m, nI_clamp (n := m) (by omega)]
    refine br_f (nI_nlt (b := 1) (by omega) (by omega)) (nm_e ⟨vp_in_nI (by omega) (by decide), n24, nm_e (c213 m _ _ _ (by omega) (fun st est => ?_))⟩)
    rw [est]
    refine h _ _ (fun j hj => ?_) (fun _ => ?_) (fun z => absurd z (by omega)) (fun j hj => ?_) (fun _ => ?_) (fun z => absurd z (by omega))
    · rw [pk_un hj, pk_un hj]
    · rw [pk_us]; exact e2
    · rw [pk_un hj, pk_un hj]
    · rw [pk_us]; exact e1
  · unfold wY_put_183
    rw [nI_clamp (n := N) (by omega)]
    refine pk_lt (qs_ar k) 1 (fun e1 => ?_) (fun e1 => ?_)
    · have es : sc - qs_ar k = sc := by omega
      rw [es] at h
      refine c213 sc _ _ _ (hd (by omega)) (fun st est => ?_)
      rw [est]
      exact h _ _ (fun j hj => pk_un hj) (fun z => absurd z (by omega)) (fun _ => pk_us) (fun j hj => pk_un hj) (fun z => absurd z e) (fun _ => pk_us)
    · obtain ⟨m, rfl⟩ : ∃ m, sc = m + 1 := ⟨sc - 1, by omega⟩
      have es : m + 1 - qs_ar k = m := by omega
      rw [es] at h
      have el := h1 (by omega)
      rw [nI_pred m, nI_clamp (n := m) (by omega)]
      refine nm_e ⟨vp_in_nI (by omega) (by decide), n24, nm_e (c213 m _ _ _ (by omega) (fun st est => ?_))⟩
      rw [est]
      refine h _ _ (fun j hj => ?_) (fun _ => ?_) (fun z => absurd z (by omega)) (fun j hj => pk_un hj) (fun z => absurd z e) (fun _ => pk_us)
      · rw [pk_un hj, pk_un hj]
      · rw [pk_us]; exact el
theorem yp_ref {post : Int32 → SY → Prop} {kd : Nat → Nat} (hkd : ∀ i, i < N → b_kind i = nI (kd i) ∧ kd i ≤ 14) (hcn : qs_cn kd N = K) (hk : k ≤ 14) (hap1 : 1 ≤ ap) (hap : ap ≤ 3) (hl : lim ≤ 24) (hN : N ≤ 24) (hsc : sc ≤ 8) (hK : K ≤ 6)
    (hB : k ≤ 2 → ap ≤ k → post (-1) (nI ap, nI lim, g_room, g_span, nI N, nI sc, g_length, g_lassoN, g_lassoS, g_testN, g_testS, b_kind, b_left, b_right, b_stack, b_trace, b_lasso, b_test, b_truth, b_real, b_seen, b_queue)) (hF : (k ≤ 2 → k < ap) → lim ≤ N → post (-2) (nI ap, nI lim, g_room, g_span, nI N, nI sc, g_length, g_lassoN, g_lassoS, g_testN, g_testS, b_kind, b_left, b_right, b_stack, b_trace, b_lasso, b_test, b_truth, b_real, b_seen, b_queue)) (hM : (k ≤ 2 → k < ap) → N < lim → sc < qs_ar k → post (-3) (nI ap, nI lim, g_room, g_span, nI N, nI sc, g_length, g_lassoN, g_lassoS, g_testN, g_testS, b_kind, b_left, b_right, b_stack, b_trace, b_lasso, b_test, b_truth, b_real, b_seen, b_queue))
    (hT : (k ≤ 2 → k < ap) → N < lim → qs_ar k ≤ sc → 10 ≤ k → 6 - ap ≤ K → post (-4) (nI ap, nI lim, g_room, g_span, nI N, nI sc, g_length, g_lassoN, g_lassoS, g_testN, g_testS, b_kind, b_left, b_right, b_stack, b_trace, b_lasso, b_test, b_truth, b_real, b_seen, b_queue))
    (hD : (k ≤ 2 → k < ap) → N < lim → qs_ar k ≤ sc → (10 ≤ k → K < 6 - ap) → qs_ar k = 0 → 8 ≤ sc → post (-5) (nI ap, nI lim, g_room, g_span, nI N, nI sc, g_length, g_lassoN, g_lassoS, g_testN, g_testS, b_kind, b_left, b_right, b_stack, b_trace, b_lasso, b_test, b_truth, b_real, b_seen, b_queue))
    (h0 : (k ≤ 2 → k < ap) → N < lim → qs_ar k ≤ sc → (10 ≤ k → K < 6 - ap) → (qs_ar k = 0 → sc < 8) → wY_put_123 post (nI k) (nI (qs_ar k)) (nI ap) (nI lim) g_room g_span (nI N) (nI sc) g_length g_lassoN g_lassoS g_testN g_testS b_kind b_left b_right b_stack b_trace b_lasso b_test b_truth b_real b_seen b_queue) :
    wpY_put post (nI ap, nI lim, g_room, g_span, nI N, nI sc, g_length, g_lassoN, g_lassoS, g_testN, g_testS, b_kind, b_left, b_right, b_stack, b_trace, b_lasso, b_test, b_truth, b_real, b_seen, b_queue) (nI k) := by
  have har : qs_ar k ≤ 2 := by unfold qs_ar; split <;> (try split) <;> omega
  unfold wpY_put; dsimp only
  have c107 : (k ≤ 2 → k < ap) → N < lim → qs_ar k ≤ sc → (10 ≤ k → K < 6 - ap) → wY_put_107 post (nI k) (nI (qs_ar k)) (nI ap) (nI lim) g_room g_span (nI N) (nI sc) g_length g_lassoN g_lassoS g_testN g_testS b_kind b_left b_right b_stack b_trace b_lasso b_test b_truth b_real b_seen b_queue := by
    intro a b c d
    unfold wY_put_107
    exact pk_eq (qs_ar k) 0 (fun e => pk_lt sc 8 (fun g => h0 a b c d (fun _ => g)) (fun g => hD a b c d e g)) (fun e => h0 a b c d (fun z => absurd z e))
  have c73 : (k ≤ 2 → k < ap) → N < lim → wY_put_73 post (nI k) (nI (qs_ar k)) (nI ap) (nI lim) g_room g_span (nI N) (nI sc) g_length g_lassoN g_lassoS g_testN g_testS b_kind b_left b_right b_stack b_trace b_lasso b_test b_truth b_real b_seen b_queue := by
    intro a b
    unfold wY_put_73
    have e6 : 6 - nI ap = nI (6 - ap) := pk_sub (a := 6) (by omega)
    rw [e6]
    refine pk_le (qs_ar k) sc (fun c => pk_lt k 10 (fun d => c107 a b c (fun z => absurd z (by omega))) (fun d => yw_temporals hN hkd ?_)) (fun c => hM a b c)
    rw [hcn]
    exact pk_lt K (6 - ap) (fun e => c107 a b c (fun _ => e)) (fun e => hT a b c d e)
  have c71 : (k ≤ 2 → k < ap) → N < lim → qs_ar k = 1 → wY_put_71 post (nI k) (nI ap) (nI lim) g_room g_span (nI N) (nI sc) g_length g_lassoN g_lassoS g_testN g_testS b_kind b_left b_right b_stack b_trace b_lasso b_test b_truth b_real b_seen b_queue := by
    intro a b c
    unfold wY_put_71
    have := c73 a b
    rw [c] at this
    exact this
  have c48 : ∀ x, (k ≤ 2 → k < ap) → N < lim → (¬ (k = 5 ∨ (10 ≤ k ∧ k ≤ 12)) → x = nI (qs_ar k)) → wY_put_48 post (nI k) x (nI ap) (nI lim) g_room g_span (nI N) (nI sc) g_length g_lassoN g_lassoS g_testN g_testS b_kind b_left b_right b_stack b_trace b_lasso b_test b_truth b_real b_seen b_queue := by
    intro x a b ex
    have one : (k = 5 ∨ (10 ≤ k ∧ k ≤ 12)) → qs_ar k = 1 := fun z => by unfold qs_ar; rw [if_neg (by omega), if_pos z]
    unfold wY_put_48
    refine pk_eq k 5 (fun c => c71 a b (one (by omega))) (fun c => pk_eq k 10 (fun c2 => c71 a b (one (by omega))) (fun c2 => pk_eq k 11 (fun c3 => c71 a b (one (by omega))) (fun c3 => pk_eq k 12 (fun c4 => c71 a b (one (by omega))) (fun c4 => ?_))))
    rw [ex (by omega)]; exact c73 a b
  have c25 : (k ≤ 2 → k < ap) → wY_put_25 post (nI k) (nI ap) (nI lim) g_room g_span (nI N) (nI sc) g_length g_lassoN g_lassoS g_testN g_testS b_kind b_left b_right b_stack b_trace b_lasso b_test b_truth b_real b_seen b_queue := by
    intro a
    unfold wY_put_25
    refine pk_lt N lim (fun b => pk_lt 4 k (fun c => c48 2 a b (fun z => ?_)) (fun c => c48 0 a b (fun z => ?_))) (fun b => hF a b)
    · have : qs_ar k = 2 := by unfold qs_ar; rw [if_neg (by omega), if_neg z]
      rw [this]; rfl
    · have : qs_ar k = 0 := by unfold qs_ar; rw [if_pos (by omega)]
      rw [this]; rfl
  exact br_f (nI_pos (by omega)) (br_f (nI_nlt (a := 14) (by omega) (by decide)) (pk_lt 2 k (fun a => c25 (fun z => absurd z (by omega))) (fun a => pk_lt k ap (fun b => c25 (fun _ => b)) (fun b => hB a b))))
end
end
section
/-! put, both sides -/
section
variable {f_atomCount f_nodeLimit f_room f_span f_temporalLimit f_letterMask f_nodeCount f_temporalCount f_stackCount f_traceLen f_lassoLen f_lassoStart : Int32} {f_universe f_live : Int64} {f_ready f_wordLen f_wordStart : Int32} {a_kinds a_lefts a_rights : Nat → Int32} {a_truth : Nat → Int64} {a_temporalNodes a_stack a_trace a_lasso : Nat → Int32} {a_successors : Nat → Int64} {a_word : Nat → Int32} {a_values : Nat → Int64}
theorem xp_neg {post : Int32 → Prop} {p0 : Int32} (h : p0 < 0 ∨ 14 < p0) (k : post (-1)) : wpX_refusal post (f_atomCount, f_nodeLimit, f_room, f_span, f_temporalLimit, f_letterMask, f_nodeCount, f_temporalCount, f_stackCount, f_traceLen, f_lassoLen, f_lassoStart, f_universe, f_live, f_ready, f_wordLen, f_wordStart, a_kinds, a_lefts, a_rights, a_truth, a_temporalNodes, a_stack, a_trace, a_lasso, a_successors, a_word, a_values) p0 := by
  unfold wpX_refusal; dsimp only
  by_cases z : p0 < 0
  · exact br_t z k
  · exact br_f z (br_t (h.resolve_left z) k)
end
section
variable {g_atoms g_most g_room g_span g_made g_depth g_length g_lassoN g_lassoS g_testN g_testS : Int32} {b_kind b_left b_right b_stack b_trace b_lasso b_test b_truth b_real b_seen b_queue : Nat → Int32}
theorem yp_neg {post : Int32 → SY → Prop} {p0 : Int32} (h : p0 < 0 ∨ 14 < p0) (k : post (-1) (g_atoms, g_most, g_room, g_span, g_made, g_depth, g_length, g_lassoN, g_lassoS, g_testN, g_testS, b_kind, b_left, b_right, b_stack, b_trace, b_lasso, b_test, b_truth, b_real, b_seen, b_queue)) : wpY_put post (g_atoms, g_most, g_room, g_span, g_made, g_depth, g_length, g_lassoN, g_lassoS, g_testN, g_testS, b_kind, b_left, b_right, b_stack, b_trace, b_lasso, b_test, b_truth, b_real, b_seen, b_queue) p0 := by
  unfold wpY_put; dsimp only
  by_cases z : p0 < 0
  · exact br_t z k
  · exact br_f z (br_t (h.resolve_left z) k)
end
theorem rp_ar (k : Nat) (hk : k ≤ 14) : (qs_ar k = 0 ↔ ¬ 5 ≤ k) ∧ (qs_ar k = 2 ↔ qs_bin k) ∧ qs_ar k ≤ 2 := by
  unfold qs_ar qs_bin
  by_cases c : k < 5
  · rw [if_pos c]; omega
  · rw [if_neg c]
    by_cases d : k = 5 ∨ (10 ≤ k ∧ k ≤ 12)
    · rw [if_pos d]; omega
    · rw [if_neg d]; omega
theorem rp_ops {a_stack : Nat → Int32} {N sc kk : Nat} (hk : kk ≤ 14) (hst : ∀ j, j < sc → ∃ m, m < N ∧ a_stack j = nI m) (ha : qs_ar kk ≤ sc) :
    ∃ l r, (qs_ar kk = 2 → a_stack (sc - 1) = nI r ∧ a_stack (sc - 2) = nI l) ∧ (qs_ar kk = 1 → a_stack (sc - 1) = nI l ∧ r = 0) ∧ (qs_ar kk = 0 → l = 0 ∧ r = 0) ∧
      (1 ≤ qs_ar kk → l < N) ∧ (qs_ar kk = 2 → r < N) ∧ (qs_ar kk ≤ 1 → r = 0) := by
  have h2 := (rp_ar kk hk).2.2
  rcases (by omega : qs_ar kk = 0 ∨ qs_ar kk = 1 ∨ qs_ar kk = 2) with e | e | e
  · exact ⟨0, 0, fun z => absurd z (by omega), fun z => absurd z (by omega), fun _ => ⟨rfl, rfl⟩, fun z => absurd z (by omega), fun z => absurd z (by omega), fun _ => rfl⟩
  · obtain ⟨m, hm, em⟩ := hst (sc - 1) (by omega)
    exact ⟨m, 0, fun z => absurd z (by omega), fun _ => ⟨em, rfl⟩, fun z => absurd z (by omega), fun _ => hm, fun z => absurd z (by omega), fun _ => rfl⟩
  · obtain ⟨m, hm, em⟩ := hst (sc - 1) (by omega)
    obtain ⟨m2, hm2, em2⟩ := hst (sc - 2) (by omega)
    exact ⟨m2, m, fun _ => ⟨em, em2⟩, fun z => absurd z (by omega), fun z => absurd z (by omega), fun _ => hm2, fun _ => hm, fun z => absurd z (by omega)⟩
/-- the facts with the new node -/
theorem rp_fin {ap lim rm sp N K sc tl ll ls : Nat} {kd lf rt tn t : Nat → Nat} {f_live : Int64} {f_ready : Int32} {a_kinds a_lefts a_rights : Nat → Int32} {a_truth : Nat → Int64} {a_temporalNodes a_stack a_trace a_lasso : Nat → Int32} {a_successors : Nat → Int64} {b_left b_right b_lasso : Nat → Int32}
    (F : rl_P ap lim rm sp N K sc tl ll ls kd lf rt tn t f_live f_ready a_kinds a_lefts a_rights a_truth a_temporalNodes a_stack a_trace a_lasso a_successors b_left b_right b_lasso) {kk l r K' : Nat} {tn' : Nat → Nat} {f_ready' : Int32} {tno le ri yle yri : Nat → Int32} {w : Int64} (hk : kk ≤ 14) (hNl' : N < lim) (hac : qs_ar kk ≤ sc) (hd : qs_ar kk = 0 → sc < 8)
    (hWF : qs_WF ap (N + 1) K' (updN kd N kk) (updN lf N l) (updN rt N r) tn') (hTN : xs_tn K' tn' tno)
    (hTR : qs_TR ap (N + 1) (updN kd N kk) (updN lf N l) (updN rt N r) (vp_updL a_truth N w))
    (hRD : f_ready' = 0 ∨ (f_ready' = 1 ∧ xs_RD ap K' (updN kd N kk) (updN lf N l) (updN rt N r) tn' (vp_updL a_truth N w) a_successors f_live))
    (x1 : ∀ j, j ≠ N → le j = a_lefts j) (x2 : le N = nI l) (x3 : ∀ j, j ≠ N → ri j = a_rights j) (x4 : ri N = nI r)
    (y1 : ∀ j, j ≠ N → yle j = b_left j) (y2 : 1 ≤ qs_ar kk → yle N = nI l) (y3 : qs_ar kk = 0 → yle N = -1) (y4 : ∀ j, j ≠ N → yri j = b_right j) (y5 : qs_ar kk = 2 → yri N = nI r) (y6 : qs_ar kk ≤ 1 → yri N = -1) :
    rl_P ap lim rm sp (N + 1) K' (sc - qs_ar kk + 1) tl ll ls (updN kd N kk) (updN lf N l) (updN rt N r) tn' t f_live f_ready' (upd a_kinds N (nI kk)) le ri (vp_updL a_truth N w) tno (upd a_stack (sc - qs_ar kk) (nI N)) a_trace a_lasso a_successors yle yri b_lasso := by
  obtain ⟨WF, XN, YN, TN, TR, RD, ⟨hl24, hNl⟩, ⟨hrm, htl⟩, hsp, hsc, hst, htr, hll, hls, hla⟩ := F
  obtain ⟨q0, q2, q3⟩ := rp_ar kk hk
  refine ⟨hWF, fun i hi => ?_, fun i hi => ?_, hTN, hTR, hRD, ⟨hl24, hNl'⟩, ⟨hrm, htl⟩, hsp, ?_, fun j hj => ?_, htr, hll, hls, hla⟩
  · by_cases e : i = N
    · rw [e, pk_us, rp_s, rp_s, rp_s]; exact ⟨rfl, x2, x4⟩
    · rw [pk_un e, rp_n e, rp_n e, rp_n e, x1 i e, x3 i e]; exact XN i (by omega)
  · by_cases e : i = N
    · rw [e, pk_us, rp_s, rp_s, rp_s]
      refine ⟨rfl, fun z => y2 ?_, fun z => y3 (q0.mpr z), fun z => y5 (q2.mpr z), fun z => y6 ?_⟩
      · by_cases c : qs_ar kk = 0
        · exact absurd z (q0.mp c)
        · omega
      · by_cases c : qs_ar kk = 2
        · exact absurd (q2.mp c) z
        · omega
    · rw [pk_un e, rp_n e, rp_n e, rp_n e, y1 i e, y4 i e]; exact YN i (by omega)
  · by_cases c : qs_ar kk = 0
    · have := hd c; omega
    · omega
  · by_cases e : j = sc - qs_ar kk
    · exact ⟨N, by omega, by rw [e, pk_us]⟩
    · obtain ⟨m, hm, em⟩ := hst j (by omega)
      exact ⟨m, by omega, by rw [pk_un e]; exact em⟩
theorem i_vc_put {k : Nat} {u : SX} {v : SY} (I : i_Rel k u v) (hk : k + 3 ≤ 1539) (v1 : Int32) : wpX_put (fun r u' => wpY_put (fun r' v' => r' = r ∧ i_Rel (k + 3) u' v') v v1) u v1 := by
  refine rl_el (P := fun u v => wpX_put (fun r u' => wpY_put (fun r' v' => r' = r ∧ i_Rel (k + 3) u' v') v v1) u v1) ?_ I
  intro ap lim rm sp N K sc tl ll ls kd lf rt tn t f_universe f_live f_ready f_wordLen f_wordStart a_kinds a_lefts a_rights a_truth a_temporalNodes a_stack a_trace a_lasso a_successors a_word a_values g_testN g_testS b_left b_right b_lasso b_test b_truth b_real b_seen b_queue F
  obtain ⟨WF, XN, YN, TN, TR, RD, ⟨hl24, hNl⟩, ⟨hrm, htl⟩, hsp, hsc, hst, htr, hll, hls, hla⟩ := id F
  have hN : N ≤ 24 := by omega
  have hap1 := WF.1.1
  have hap3 := WF.1.2
  have hK6 : K ≤ 5 := by have := WF.2.2.1; omega
  unfold wpX_put; dsimp only
  by_cases hx : v1 < 0 ∨ 14 < v1
  · exact xp_neg hx (br_f (by decide) (yp_neg hx ⟨rfl, rl_in F⟩))
  · have h0 : ¬ v1 < 0 := fun z => hx (Or.inl z)
    have h14 : v1 ≤ 14 := Int32.not_lt.mp (fun z => hx (Or.inr z))
    obtain ⟨kk, hkk, rfl⟩ := nI_of2 (n := 14) (by decide) h0 h14
    have hkd := ys_kd WF YN
    have hcn := WF.2.2.2.2.1
    refine xp_ref hkk hap3 hl24 hN hsc (by omega) (fun a b => ?_) (fun a b => ?_) (fun a b c => ?_) (fun a b c d e => ?_) (fun a b c d e g => ?_) (fun a b c d e => ?_)
    · exact br_f (by decide) (yp_ref hkd hcn hkk hap1 hap3 hl24 hN hsc (by omega) (fun _ _ => ⟨rfl, rl_in F⟩) (fun z _ => absurd (z a) (by omega)) (fun z _ _ => absurd (z a) (by omega)) (fun z _ _ _ _ => absurd (z a) (by omega)) (fun z _ _ _ _ _ => absurd (z a) (by omega)) (fun z _ _ _ _ => absurd (z a) (by omega)))
    · exact br_f (by decide) (yp_ref hkd hcn hkk hap1 hap3 hl24 hN hsc (by omega) (fun z1 z2 => absurd (a z1) (by omega)) (fun _ _ => ⟨rfl, rl_in F⟩) (fun _ z _ => absurd z (by omega)) (fun _ z _ _ _ => absurd z (by omega)) (fun _ z _ _ _ _ => absurd z (by omega)) (fun _ z _ _ _ => absurd z (by omega)))
    · exact br_f (by decide) (yp_ref hkd hcn hkk hap1 hap3 hl24 hN hsc (by omega) (fun z1 z2 => absurd (a z1) (by omega)) (fun _ z => absurd z (by omega)) (fun _ _ _ => ⟨rfl, rl_in F⟩) (fun _ _ z _ _ => absurd z (by omega)) (fun _ _ z _ _ _ => absurd z (by omega)) (fun _ _ z _ _ => absurd z (by omega)))
    · exact br_f (by decide) (yp_ref hkd hcn hkk hap1 hap3 hl24 hN hsc (by omega) (fun z1 z2 => absurd (a z1) (by omega)) (fun _ z => absurd z (by omega)) (fun _ _ z => absurd z (by omega)) (fun _ _ _ _ _ => ⟨rfl, rl_in F⟩) (fun _ _ _ z _ _ => absurd (z d) (by omega)) (fun _ _ _ z _ => absurd (z d) (by omega)))
    · exact br_f (by decide) (yp_ref hkd hcn hkk hap1 hap3 hl24 hN hsc (by omega) (fun z1 z2 => absurd (a z1) (by omega)) (fun _ z => absurd z (by omega)) (fun _ _ z => absurd z (by omega)) (fun _ _ _ z1 z2 => absurd (d z1) (by omega)) (fun _ _ _ _ _ _ => ⟨rfl, rl_in F⟩) (fun _ _ _ _ z => absurd (z e) (by omega)))
    · obtain ⟨l, r, o2, o1, o0, ol, or2, or0⟩ := rp_ops hkk hst c
      obtain ⟨q0, q2, q3⟩ := rp_ar kk hkk
      have n24 : vp_in (nI N) 24 := vp_in_nI (by omega) (by decide)
      have hl5 : 5 ≤ kk → l < N := fun z => ol (by
        by_cases c0 : qs_ar kk = 0
        · exact absurd z (q0.mp c0)
        · omega)
      have hrb : qs_bin kk → r < N := fun z => or2 (q2.mpr z)
      have hl0 : ¬ 5 ≤ kk → l = 0 := fun z => (o0 (q0.mpr z)).1
      have hr0 : ¬ qs_bin kk → r = 0 := fun z => or0 (by
        by_cases c2 : qs_ar kk = 2
        · exact absurd (q2.mp c2) z
        · omega)
      have hl24' : l < 24 := by
        by_cases z : 5 ≤ kk
        · have := hl5 z; omega
        · rw [hl0 z]; omega
      have hr24' : r < 24 := by
        by_cases z : qs_bin kk
        · have := hrb z; omega
        · rw [hr0 z]; omega
      have hWF := rp_WF WF (by omega) hkk a d hl5 hrb hl0 hr0
      have s8 : sc - qs_ar kk < 8 := by
        by_cases c0 : qs_ar kk = 0
        · have := e c0; omega
        · omega
      refine br_t (by decide) (xp_take hkk (by omega) hsc c o2 o1 o0 (fun le ri x1 x2 x3 x4 => ?_))
      dsimp only
      rw [nI_clamp (n := N) (by omega)]
      refine ⟨n24, nm_e (nm_r (nI_1 N) (xp_states hkk (by omega) hap3 (fun z => by have := d z; omega) pk_us x2 x4 hl24' hr24' (fun k10 w hw => ?_) (fun k10 w hw => ?_)))⟩
      · dsimp only
        rw [nI_clamp (n := sc - qs_ar kk) (by omega)]
        refine ⟨n24, nm_e ⟨vp_in_nI s8 (by decide), nm_e (nm_r (nI_1 _) ?_)⟩⟩
        rw [if_neg (by omega), if_neg (by omega), Nat.add_zero] at hWF
        refine yp_ref hkd hcn hkk hap1 hap3 hl24 hN hsc (by omega) (fun z1 z2 => absurd (a z1) (by omega)) (fun _ z => absurd z (by omega)) (fun _ _ z => absurd z (by omega)) (fun _ _ _ z1 z2 => absurd (d z1) (by omega)) (fun _ _ _ _ z1 z2 => absurd (e z1) (by omega)) (fun _ _ _ _ _ => ?_)
        refine yp_123 (l := l) (r := r) (by omega) hsc c e q3 o2 (fun z => (o1 z).1) (fun yle yri y1 y2 y3 y4 y5 y6 => ⟨rfl, ?_⟩)
        refine rl_in (rp_fin F hkk b c e hWF TN (rp_TR WF TR hl5 hrb (fun s hs => ?_)) ?_ x1 x2 x3 x4 y1 y2 y3 y4 y5 y6)
        · rw [hw s hs, if_pos k10]
        · rcases RD with z | ⟨z1, z2⟩
          · exact Or.inl z
          · exact Or.inr ⟨z1, rp_RD WF z2⟩
      · dsimp only
        rw [nI_clamp (n := sc - qs_ar kk) (by omega)]
        refine ⟨n24, nm_e ⟨vp_in_nI s8 (by decide), nm_e (nm_r (nI_1 _) ?_)⟩⟩
        rw [if_pos k10, if_pos k10] at hWF
        refine yp_ref hkd hcn hkk hap1 hap3 hl24 hN hsc (by omega) (fun z1 z2 => absurd (a z1) (by omega)) (fun _ z => absurd z (by omega)) (fun _ _ z => absurd z (by omega)) (fun _ _ _ z1 z2 => absurd (d z1) (by omega)) (fun _ _ _ _ z1 z2 => absurd (e z1) (by omega)) (fun _ _ _ _ _ => ?_)
        refine yp_123 (l := l) (r := r) (by omega) hsc c e q3 o2 (fun z => (o1 z).1) (fun yle yri y1 y2 y3 y4 y5 y6 => ⟨rfl, ?_⟩)
        refine rl_in (rp_fin F hkk b c e hWF (fun q hq => ?_) (rp_TR WF TR hl5 hrb (fun s hs => ?_)) (Or.inl rfl) x1 x2 x3 x4 y1 y2 y3 y4 y5 y6)
        · by_cases eq : q = K
          · rw [eq, pk_us, rp_s]
          · rw [pk_un eq, rp_n eq]; exact TN q (by omega)
        · rw [hw s hs, if_neg (by omega)]
end
section
/-! outlook, mix, moves, close, find, holds -/
theorem i_vc_outlook {k : Nat} {u : SX} {v : SY} (I : i_Rel k u v) (hk : k + 3 ≤ 1539) (v1 : Int32) : wpX_outlook (fun r u' => wpY_outlook (fun r' v' => r' = r ∧ i_Rel (k + 3) u' v') v v1) u v1 := by
  refine rl_el (P := fun u v => wpX_outlook (fun r u' => wpY_outlook (fun r' v' => r' = r ∧ i_Rel (k + 3) u' v') v v1) u v1) ?_ I
  intro ap lim rm sp N K sc tl ll ls kd lf rt tn t f_universe f_live f_ready f_wordLen f_wordStart a_kinds a_lefts a_rights a_truth a_temporalNodes a_stack a_trace a_lasso a_successors a_word a_values g_testN g_testS b_left b_right b_lasso b_test b_truth b_real b_seen b_queue F
  obtain ⟨WF, XN, YN, TN, TR, RD, ⟨hl24, hNl⟩, ⟨hrm, htl⟩, hsp, hsc, hst, htr, hll, hls, hla⟩ := id F
  have hN : N ≤ 24 := by omega
  have htl8 : tl ≤ 8 := by omega
  have htrY : ∀ j, j < tl → a_trace j = nI (t j) := fun j hj => (htr j hj).1
  rcases pk_ix v1 (show N < 2 ^ 31 by omega) with hx | hx | ⟨i, hi, rfl⟩
  · unfold wpX_outlook; dsimp only
    refine xw_isN0 (Or.inl hx) (br_t rfl ?_)
    unfold wpY_outlook; dsimp only
    exact yw_isN0 (Or.inl hx) (br_t rfl ⟨rfl, rl_in F⟩)
  · unfold wpX_outlook; dsimp only
    refine xw_isN0 (Or.inr hx) (br_t rfl ?_)
    unfold wpY_outlook; dsimp only
    exact yw_isN0 (Or.inr hx) (br_t rfl ⟨rfl, rl_in F⟩)
  · exact xw_outlook hi WF XN TN TR htr htl8 RD (fun un su li r rd hr => yw_outlook hi WF TR YN htrY htl8 hr (fun re se qu => ⟨rfl, rl_in ⟨WF, XN, YN, TN, TR, Or.inr ⟨rfl, rd⟩, ⟨hl24, hNl⟩, ⟨hrm, htl⟩, hsp, hsc, hst, htr, hll, hls, hla⟩⟩))
theorem i_vc_mix {k : Nat} {u : SX} {v : SY} (I : i_Rel k u v) (hk : k + 3 ≤ 1539) (v1 : Int32) (v2 : Int32) : wpX_mix (fun r u' => wpY_mix (fun r' v' => r' = r ∧ i_Rel (k + 3) u' v') v v1 v2) u v1 v2 := by
  refine rl_el (P := fun u v => wpX_mix (fun r u' => wpY_mix (fun r' v' => r' = r ∧ i_Rel (k + 3) u' v') v v1 v2) u v1 v2) ?_ I
  intro ap lim rm sp N K sc tl ll ls kd lf rt tn t f_universe f_live f_ready f_wordLen f_wordStart a_kinds a_lefts a_rights a_truth a_temporalNodes a_stack a_trace a_lasso a_successors a_word a_values g_testN g_testS b_left b_right b_lasso b_test b_truth b_real b_seen b_queue F
  obtain ⟨WF, XN, YN, TN, TR, RD, ⟨hl24, hNl⟩, ⟨hrm, htl⟩, hsp, hsc, hst, htr, hll, hls, hla⟩ := id F
  have hN : N ≤ 24 := by omega
  have htl8 : tl ≤ 8 := by omega
  have htrY : ∀ j, j < tl → a_trace j = nI (t j) := fun j hj => (htr j hj).1
  rcases pk_ix v1 (show N < 2 ^ 31 by omega) with hx | hx | ⟨i, hi, rfl⟩
  · unfold wpX_mix; dsimp only
    refine xw_isN0 (Or.inl hx) (br_t rfl ?_)
    unfold wpY_mix; dsimp only
    exact yw_isN0 (Or.inl hx) (br_t rfl ⟨rfl, rl_in F⟩)
  · unfold wpX_mix; dsimp only
    refine xw_isN0 (Or.inr hx) (br_t rfl ?_)
    unfold wpY_mix; dsimp only
    exact yw_isN0 (Or.inr hx) (br_t rfl ⟨rfl, rl_in F⟩)
  · rcases pk_ix v2 (show N < 2 ^ 31 by omega) with hx | hx | ⟨j, hj, rfl⟩
    · unfold wpX_mix; dsimp only
      refine xw_isN1 hi hN (br_f (by decide) (xw_isN0 (Or.inl hx) (br_t rfl ?_)))
      unfold wpY_mix; dsimp only
      exact yw_isN1 hi hN (br_f (by decide) (yw_isN0 (Or.inl hx) (br_t rfl ⟨rfl, rl_in F⟩)))
    · unfold wpX_mix; dsimp only
      refine xw_isN1 hi hN (br_f (by decide) (xw_isN0 (Or.inr hx) (br_t rfl ?_)))
      unfold wpY_mix; dsimp only
      exact yw_isN1 hi hN (br_f (by decide) (yw_isN0 (Or.inr hx) (br_t rfl ⟨rfl, rl_in F⟩)))
    · exact xw_mix hi hj WF XN TN TR htr htl8 RD (fun un su li sum rd hs => yw_mix hi hj WF TR YN htrY htl8 (fun re se qu sum2 hs2 => ⟨b_ext (fun q hq => Bool.eq_iff_iff.mpr ((hs2 q hq).trans (hs q hq).symm)), rl_in ⟨WF, XN, YN, TN, TR, Or.inr ⟨rfl, rd⟩, ⟨hl24, hNl⟩, ⟨hrm, htl⟩, hsp, hsc, hst, htr, hll, hls, hla⟩⟩))
theorem i_vc_moves {k : Nat} {u : SX} {v : SY} (I : i_Rel k u v) (hk : k + 3 ≤ 1539) (v1 : Int32) : wpX_moves (fun r u' => wpY_moves (fun r' v' => r' = r ∧ i_Rel (k + 3) u' v') v v1) u v1 := by
  refine rl_el (P := fun u v => wpX_moves (fun r u' => wpY_moves (fun r' v' => r' = r ∧ i_Rel (k + 3) u' v') v v1) u v1) ?_ I
  intro ap lim rm sp N K sc tl ll ls kd lf rt tn t f_universe f_live f_ready f_wordLen f_wordStart a_kinds a_lefts a_rights a_truth a_temporalNodes a_stack a_trace a_lasso a_successors a_word a_values g_testN g_testS b_left b_right b_lasso b_test b_truth b_real b_seen b_queue F
  obtain ⟨WF, XN, YN, TN, TR, RD, ⟨hl24, hNl⟩, ⟨hrm, htl⟩, hsp, hsc, hst, htr, hll, hls, hla⟩ := id F
  have hN : N ≤ 24 := by omega
  have htl8 : tl ≤ 8 := by omega
  have htrY : ∀ j, j < tl → a_trace j = nI (t j) := fun j hj => (htr j hj).1
  rcases pk_ix v1 (show N < 2 ^ 31 by omega) with hx | hx | ⟨i, hi, rfl⟩
  · unfold wpX_moves; dsimp only
    refine xw_isN0 (Or.inl hx) (br_t rfl ?_)
    unfold wpY_moves; dsimp only
    exact yw_isN0 (Or.inl hx) (br_t rfl ⟨rfl, rl_in F⟩)
  · unfold wpX_moves; dsimp only
    refine xw_isN0 (Or.inr hx) (br_t rfl ?_)
    unfold wpY_moves; dsimp only
    exact yw_isN0 (Or.inr hx) (br_t rfl ⟨rfl, rl_in F⟩)
  · unfold wpX_moves; dsimp only
    refine xw_isN1 hi hN (br_f (by decide) ⟨2 ^ ap + 1, xw_mov14 hi WF XN TN TR htr htl8 (fun un su li rdy sum hr hs => ?_) (2 ^ ap) 0 0 _ _ _ _ (Nat.zero_add _) RD (fun q _ => ⟨fun z => ?_, fun z => absurd z.1 (Nat.not_lt_zero _)⟩)⟩)
    · exact yw_moves hi WF TR YN htrY htl8 (fun re se qu sum2 hs2 => ⟨b_ext (fun q hq => Bool.eq_iff_iff.mpr ((hs2 q hq).trans (hs q hq).symm)), rl_in ⟨WF, XN, YN, TN, TR, hr, ⟨hl24, hNl⟩, ⟨hrm, htl⟩, hsp, hsc, hst, htr, hll, hls, hla⟩⟩)
    · rw [b_0] at z; exact absurd z (by decide)
theorem i_vc_close {k : Nat} {u : SX} {v : SY} (I : i_Rel k u v) (hk : k + 3 ≤ 1539) (v1 : Int32) : wpX_close (fun r u' => wpY_close (fun r' v' => r' = r ∧ i_Rel (k + 3) u' v') v v1) u v1 := by
  refine rl_el (P := fun u v => wpX_close (fun r u' => wpY_close (fun r' v' => r' = r ∧ i_Rel (k + 3) u' v') v v1) u v1) ?_ I
  intro ap lim rm sp N K sc tl ll ls kd lf rt tn t f_universe f_live f_ready f_wordLen f_wordStart a_kinds a_lefts a_rights a_truth a_temporalNodes a_stack a_trace a_lasso a_successors a_word a_values g_testN g_testS b_left b_right b_lasso b_test b_truth b_real b_seen b_queue F
  obtain ⟨WF, XN, YN, TN, TR, RD, ⟨hl24, hNl⟩, ⟨hrm, htl⟩, hsp, hsc, hst, htr, hll, hls, hla⟩ := id F
  have hN : N ≤ 24 := by omega
  have htl8 : tl ≤ 8 := by omega
  have htrY : ∀ j, j < tl → a_trace j = nI (t j) := fun j hj => (htr j hj).1
  unfold wpX_close; dsimp only
  refine pk_eq tl 0 (fun e => ?_) (fun e => br_c (fun h0 => ?_) (fun h0 => ?_))
  · unfold wpY_close; dsimp only
    exact br_t (by rw [e]; rfl) ⟨rfl, rl_in F⟩
  · unfold wpY_close; dsimp only
    exact br_f (nI_ne0 (by omega) (by omega)) (br_t h0 ⟨rfl, rl_in F⟩)
  · obtain ⟨j, hj, rfl⟩ := nI_of h0
    refine pk_lt j tl (fun g => ?_) (fun g => ?_) rfl rfl hj (by omega)
    · refine xw_load (code := 0) htl8 htl8 (fun wd hw => ?_)
      dsimp only
      refine xw_keep htl8 (fun la hla' => ?_)
      dsimp only
      unfold wpY_close; dsimp only
      refine br_f (nI_ne0 (by omega) (by omega)) (br_f h0 (br_t (nI_lt g (by omega)) ⟨tl + 1, yf_c26 htl8 (fun la2 hla2 => ⟨rfl, rl_in ⟨WF, XN, YN, TN, TR, RD, ⟨hl24, hNl⟩, ⟨hrm, htl⟩, hsp, hsc, hst, htr, htl8, fun _ => g, fun p hp => ?_⟩⟩) tl 0 b_lasso (Nat.zero_add _) (fun p hp => absurd hp (Nat.not_lt_zero _))⟩))
      rw [hla' p hp, hw p hp, hla2 p hp]
      unfold qw_cand; rw [if_pos hp]
    · unfold wpY_close; dsimp only
      exact br_f (nI_ne0 (by omega) (by omega)) (br_f h0 (br_f (nI_nlt g (by omega)) ⟨rfl, rl_in F⟩))
section
variable {f_atomCount f_nodeLimit f_room f_span f_temporalLimit f_letterMask f_nodeCount f_temporalCount f_stackCount f_traceLen f_lassoLen f_lassoStart : Int32} {f_universe f_live : Int64} {f_ready f_wordLen f_wordStart : Int32} {a_kinds a_lefts a_rights : Nat → Int32} {a_truth : Nat → Int64} {a_temporalNodes a_stack a_trace a_lasso : Nat → Int32} {a_successors : Nat → Int64} {a_word : Nat → Int32} {a_values : Nat → Int64}
theorem xg_find {post : Int32 → SX → Prop} {i N tl rm sp : Nat} (hi : i < N) (hN : N ≤ 24) (htl : tl ≤ 8) (hrm : rm ≤ 8) (hsp : sp ≤ 6)
    (h : ∃ n, wX_find_62 post (nI i) (nI (if rm ≤ tl + sp then rm else tl + sp)) n (nI (if tl = 0 then 1 else tl)) f_atomCount f_nodeLimit (nI rm) (nI sp) f_temporalLimit f_letterMask (nI N) f_temporalCount f_stackCount (nI tl) f_lassoLen f_lassoStart f_universe f_live f_ready f_wordLen f_wordStart a_kinds a_lefts a_rights a_truth a_temporalNodes a_stack a_trace a_lasso a_successors a_word a_values) :
    wpX_find post (f_atomCount, f_nodeLimit, nI rm, nI sp, f_temporalLimit, f_letterMask, nI N, f_temporalCount, f_stackCount, nI tl, f_lassoLen, f_lassoStart, f_universe, f_live, f_ready, f_wordLen, f_wordStart, a_kinds, a_lefts, a_rights, a_truth, a_temporalNodes, a_stack, a_trace, a_lasso, a_successors, a_word, a_values) (nI i) := by
  unfold wpX_find; dsimp only
  have c25 : ∀ z, z = nI (if tl = 0 then 1 else tl) → wX_find_25 post (nI i) z f_atomCount f_nodeLimit (nI rm) (nI sp) f_temporalLimit f_letterMask (nI N) f_temporalCount f_stackCount (nI tl) f_lassoLen f_lassoStart f_universe f_live f_ready f_wordLen f_wordStart a_kinds a_lefts a_rights a_truth a_temporalNodes a_stack a_trace a_lasso a_successors a_word a_values := by
    intro z ez
    unfold wX_find_25
    rw [nI_add, ez]
    refine pk_le rm (tl + sp) (fun a => ?_) (fun a => nm_e ?_)
    · rw [if_pos a] at h; exact h
    · rw [if_neg (by omega)] at h; exact h
  refine xw_isN1 hi hN (br_f (by decide) (pk_eq tl 0 (fun e => c25 1 ?_) (fun e => c25 _ ?_)))
  · rw [if_pos e]; rfl
  · rw [if_neg e]
end
section
variable {g_atoms g_most g_room g_span g_made g_depth g_length g_lassoN g_lassoS g_testN g_testS : Int32} {b_kind b_left b_right b_stack b_trace b_lasso b_test b_truth b_real b_seen b_queue : Nat → Int32}
theorem yg_find {post : Int32 → SY → Prop} {i N tl rm sp : Nat} (hi : i < N) (hN : N ≤ 24) (htl : tl ≤ 8) (hrm : rm ≤ 8) (hsp : sp ≤ 6)
    (h : ∃ n, wY_find_59 post (nI i) (nI (if rm ≤ tl + sp then rm else tl + sp)) n (nI (if tl = 0 then 1 else tl)) g_atoms g_most (nI rm) (nI sp) (nI N) g_depth (nI tl) g_lassoN g_lassoS g_testN g_testS b_kind b_left b_right b_stack b_trace b_lasso b_test b_truth b_real b_seen b_queue) :
    wpY_find post (g_atoms, g_most, nI rm, nI sp, nI N, g_depth, nI tl, g_lassoN, g_lassoS, g_testN, g_testS, b_kind, b_left, b_right, b_stack, b_trace, b_lasso, b_test, b_truth, b_real, b_seen, b_queue) (nI i) := by
  unfold wpY_find; dsimp only
  have c42 : ∀ z, z = nI (if rm ≤ tl + sp then rm else tl + sp) → wY_find_42 post (nI i) z g_atoms g_most (nI rm) (nI sp) (nI N) g_depth (nI tl) g_lassoN g_lassoS g_testN g_testS b_kind b_left b_right b_stack b_trace b_lasso b_test b_truth b_real b_seen b_queue := by
    intro z ez
    unfold wY_find_42
    rw [ez]
    refine pk_eq tl 0 (fun a => ?_) (fun a => ?_)
    · rw [if_pos a] at h; exact h
    · rw [if_neg a] at h; exact h
  rw [nI_add]
  refine yw_isN1 hi hN (br_f (by decide) (pk_le rm (tl + sp) (fun e => c42 _ ?_) (fun e => c42 _ ?_)))
  · rw [if_pos e]
  · rw [if_neg (by omega)]
end
theorem i_vc_find {k : Nat} {u : SX} {v : SY} (I : i_Rel k u v) (hk : k + 3 ≤ 1539) (v1 : Int32) : wpX_find (fun r u' => wpY_find (fun r' v' => r' = r ∧ i_Rel (k + 3) u' v') v v1) u v1 := by
  refine rl_el (P := fun u v => wpX_find (fun r u' => wpY_find (fun r' v' => r' = r ∧ i_Rel (k + 3) u' v') v v1) u v1) ?_ I
  intro ap lim rm sp N K sc tl ll ls kd lf rt tn t f_universe f_live f_ready f_wordLen f_wordStart a_kinds a_lefts a_rights a_truth a_temporalNodes a_stack a_trace a_lasso a_successors a_word a_values g_testN g_testS b_left b_right b_lasso b_test b_truth b_real b_seen b_queue F
  obtain ⟨WF, XN, YN, TN, TR, RD, ⟨hl24, hNl⟩, ⟨hrm, htl⟩, hsp, hsc, hst, htr, hll, hls, hla⟩ := id F
  have hN : N ≤ 24 := by omega
  have htl8 : tl ≤ 8 := by omega
  have htrY : ∀ j, j < tl → a_trace j = nI (t j) := fun j hj => (htr j hj).1
  rcases pk_ix v1 (show N < 2 ^ 31 by omega) with hx | hx | ⟨i, hi, rfl⟩
  · unfold wpX_find; dsimp only
    refine xw_isN0 (Or.inl hx) (br_t rfl ?_)
    unfold wpY_find; dsimp only
    exact yw_isN0 (Or.inl hx) (br_t rfl ⟨rfl, rl_in F⟩)
  · unfold wpX_find; dsimp only
    refine xw_isN0 (Or.inr hx) (br_t rfl ?_)
    unfold wpY_find; dsimp only
    exact yw_isN0 (Or.inr hx) (br_t rfl ⟨rfl, rl_in F⟩)
  · have hap1 := WF.1.1
    have hsp6 : sp ≤ 6 := Nat.le_trans (Nat.le_mul_of_pos_right sp hap1) hsp
    generalize htop : (if rm ≤ tl + sp then rm else tl + sp) = top
    generalize hlea : (if tl = 0 then 1 else tl) = lea
    have htop8 : top ≤ 8 ∧ top ≤ tl + sp ∧ tl ≤ top := by
      rw [← htop]
      by_cases c : rm ≤ tl + sp
      · rw [if_pos c]; omega
      · rw [if_neg c]; omega
    have hlea1 : 1 ≤ lea ∧ tl ≤ lea ∧ lea ≤ tl + 1 ∧ (∀ n, tl ≤ n → 1 ≤ n → lea ≤ n) := by
      rw [← hlea]
      by_cases c : tl = 0
      · rw [if_pos c]; exact ⟨by omega, by omega, by omega, fun n _ h => h⟩
      · rw [if_neg c]; exact ⟨by omega, by omega, by omega, fun n h _ => h⟩
    have hc : (top - tl) * ap ≤ 6 := Nat.le_trans (Nat.mul_le_mul_right ap (show top - tl ≤ sp by omega)) hsp
    by_cases ex : ∃ n, (lea ≤ n ∧ n ≤ top) ∧ ∃ s, s < n ∧ ∃ code, code < 2 ^ ((n - tl) * ap) ∧ qw_hit ap tl kd lf rt a_trace i n s code = true
    · obtain ⟨n0, ⟨⟨hn1, hn2⟩, exs⟩, hmin⟩ := pk_least _ ex
      obtain ⟨s0, ⟨hs0, exc⟩, hmins⟩ := pk_least _ exs
      obtain ⟨c0, ⟨hc0, hhit⟩, hminc⟩ := pk_least _ exc
      have hh : ∀ n s code, tl ≤ n → 1 ≤ n → n < n0 → s < n → code < 2 ^ ((n - tl) * ap) → qw_hit ap tl kd lf rt a_trace i n s code = false := by
        intro n s code h1 h2 h3 h4 h5
        refine Bool.eq_false_iff.mpr (fun z => hmin n h3 ⟨⟨hlea1.2.2.2 n h1 h2, by omega⟩, s, h4, code, h5, z⟩)
      have hh2 : ∀ s code, s < s0 → code < 2 ^ ((n0 - tl) * ap) → qw_hit ap tl kd lf rt a_trace i n0 s code = false := by
        intro s code h1 h2
        refine Bool.eq_false_iff.mpr (fun z => hmins s h1 ⟨by omega, code, h2, z⟩)
      have hh1 : ∀ code, code < c0 → qw_hit ap tl kd lf rt a_trace i n0 s0 code = false := by
        intro code h1
        refine Bool.eq_false_iff.mpr (fun z => hminc code h1 ⟨by omega, z⟩)
      refine xg_find hi hN htl8 hrm hsp6 ?_
      rw [htop, hlea]
      refine ⟨n0 - lea + 1, xw_62h WF XN htl8 hi htop8.1 hc hn2 hs0 hc0 hh hh2 hh1 hhit (fun wl ws wd va la hla' => ?_) (n0 - lea) lea (by omega) hlea1.2.1 hlea1.1 _ _ _ _⟩
      refine yg_find hi hN htl8 hrm hsp6 ?_
      rw [htop, hlea]
      refine ⟨n0 - lea + 1, yf_59h WF YN htl8 hi htop8.1 hc hn2 hs0 hc0 hh hh2 hh1 hhit (fun wl ws te tr la2 hla2 => ⟨rfl, rl_in ⟨WF, XN, YN, TN, TR, RD, ⟨hl24, hNl⟩, ⟨hrm, htl⟩, hsp, hsc, hst, htr, by omega, fun _ => hs0, fun p hp => ?_⟩⟩) (n0 - lea) lea (by omega) hlea1.2.1 hlea1.1 _ _ _ _⟩
      rw [hla' p hp, hla2 p hp]
    · have hh : ∀ n s code, tl ≤ n → 1 ≤ n → n ≤ top → s < n → code < 2 ^ ((n - tl) * ap) → qw_hit ap tl kd lf rt a_trace i n s code = false := by
        intro n s code h1 h2 h3 h4 h5
        refine Bool.eq_false_iff.mpr (fun z => ex ⟨n, ⟨hlea1.2.2.2 n h1 h2, h3⟩, s, h4, code, h5, z⟩)
      refine xg_find hi hN htl8 hrm hsp6 ?_
      rw [htop, hlea]
      refine ⟨top + 1 - lea + 1, xw_62m WF XN htl8 hi htop8.1 hc hh (fun wl ws wd va => xw_outlook hi WF XN TN TR htr htl8 RD (fun un su li r rd hr => br_c (fun z => ?_) (fun z => ?_))) (top + 1 - lea) lea (by omega) hlea1.2.1 hlea1.1 _ _ _ _⟩
      · refine yg_find hi hN htl8 hrm hsp6 ?_
        rw [htop, hlea]
        exact ⟨top + 1 - lea + 1, yf_59m WF YN htl8 hi htop8.1 hc hh (fun wl ws te tr => yw_outlook hi WF TR YN htrY htl8 hr (fun re se qu => br_t z ⟨rfl, rl_in ⟨WF, XN, YN, TN, TR, Or.inr ⟨rfl, rd⟩, ⟨hl24, hNl⟩, ⟨hrm, htl⟩, hsp, hsc, hst, htr, hll, hls, hla⟩⟩)) (top + 1 - lea) lea (by omega) hlea1.2.1 hlea1.1 _ _ _ _⟩
      · refine yg_find hi hN htl8 hrm hsp6 ?_
        rw [htop, hlea]
        exact ⟨top + 1 - lea + 1, yf_59m WF YN htl8 hi htop8.1 hc hh (fun wl ws te tr => yw_outlook hi WF TR YN htrY htl8 hr (fun re se qu => br_f z ⟨rfl, rl_in ⟨WF, XN, YN, TN, TR, Or.inr ⟨rfl, rd⟩, ⟨hl24, hNl⟩, ⟨hrm, htl⟩, hsp, hsc, hst, htr, hll, hls, hla⟩⟩)) (top + 1 - lea) lea (by omega) hlea1.2.1 hlea1.1 _ _ _ _⟩
theorem i_vc_holds {k : Nat} {u : SX} {v : SY} (I : i_Rel k u v) (hk : k + 3 ≤ 1539) (v1 : Int32) (v2 : Int32) : wpX_holds (fun r u' => wpY_holds (fun r' v' => r' = r ∧ i_Rel (k + 3) u' v') v v1 v2) u v1 v2 := by
  refine rl_el (P := fun u v => wpX_holds (fun r u' => wpY_holds (fun r' v' => r' = r ∧ i_Rel (k + 3) u' v') v v1 v2) u v1 v2) ?_ I
  intro ap lim rm sp N K sc tl ll ls kd lf rt tn t f_universe f_live f_ready f_wordLen f_wordStart a_kinds a_lefts a_rights a_truth a_temporalNodes a_stack a_trace a_lasso a_successors a_word a_values g_testN g_testS b_left b_right b_lasso b_test b_truth b_real b_seen b_queue F
  obtain ⟨WF, XN, YN, TN, TR, RD, ⟨hl24, hNl⟩, ⟨hrm, htl⟩, hsp, hsc, hst, htr, hll, hls, hla⟩ := id F
  have hN : N ≤ 24 := by omega
  have htl8 : tl ≤ 8 := by omega
  have htrY : ∀ j, j < tl → a_trace j = nI (t j) := fun j hj => (htr j hj).1
  rcases pk_ix v1 (show N < 2 ^ 31 by omega) with hx | hx | ⟨i, hi, rfl⟩
  · unfold wpX_holds; dsimp only
    refine xw_isN0 (Or.inl hx) (br_t rfl ?_)
    unfold wpY_holds; dsimp only
    exact yw_isN0 (Or.inl hx) (br_t rfl ⟨rfl, rl_in F⟩)
  · unfold wpX_holds; dsimp only
    refine xw_isN0 (Or.inr hx) (br_t rfl ?_)
    unfold wpY_holds; dsimp only
    exact yw_isN0 (Or.inr hx) (br_t rfl ⟨rfl, rl_in F⟩)
  · unfold wpX_holds; dsimp only
    refine xw_isN1 hi hN (br_f (by decide) (br_c (fun h0 => ?_) (fun h0 => ?_)))
    · obtain ⟨p, hp, rfl⟩ := nI_of (Int32.not_lt.mpr h0)
      refine pk_eq ll 0 (fun e => ?_) (fun e => ?_)
      · unfold wpY_holds; dsimp only
        exact yw_isN1 hi hN (br_f (by decide) (br_t h0 (br_t (by rw [e]; rfl) ⟨rfl, rl_in F⟩)))
      · have hl := hls (by omega)
        have hf := qw_fl (p := p) hl
        refine xw_ldl hll (fun wd hw => ?_)
        dsimp only
        refine xw_eval (wd := b_lasso) WF XN hll hl (fun q hq => (hw q hq).trans (hla q hq)) hi (fun va hva => ?_)
        dsimp only
        refine xw_place hp hll hl ?_
        rw [nI_clamp (n := i) (by omega)]
        refine ⟨vp_in_nI (by omega) (by decide), xw_has (by omega) ?_⟩
        have ev : qb_l (va i) (qw_fold p ll ls) = qs_W kd lf rt b_lasso ll ls i (qw_fold p ll ls) := by
          rw [hva i (Nat.le_refl _) _ (by omega), decide_eq_true hf]; rfl
        rw [ev]
        have fin : ∀ r : Int32, r = qb_i (qs_W kd lf rt b_lasso ll ls i (qw_fold p ll ls)) → wpY_holds (fun r' v' => r' = r ∧ i_Rel (k + 3) (nI ap, nI lim, nI rm, nI sp, nI (6 - ap), nI (2 ^ ap - 1), nI N, nI K, nI sc, nI tl, nI ll, nI ls, f_universe, f_live, f_ready, nI ll, nI ls, a_kinds, a_lefts, a_rights, a_truth, a_temporalNodes, a_stack, a_trace, a_lasso, a_successors, wd, va) v') (nI ap, nI lim, nI rm, nI sp, nI N, nI sc, nI tl, nI ll, nI ls, g_testN, g_testS, a_kinds, b_left, b_right, a_stack, a_trace, b_lasso, b_test, b_truth, b_real, b_seen, b_queue) (nI i) (nI p) := by
          intro r er
          unfold wpY_holds; dsimp only
          refine yw_isN1 hi hN (br_f (by decide) (br_t h0 (br_f (nI_ne0 (by omega) (by omega)) ⟨ll + 1, yf_h42 WF YN hi hll hl hp (fun te tr => ⟨er.symm, rl_in F⟩) ll 0 b_test (Nat.zero_add _) (fun q hq => absurd hq (Nat.not_lt_zero _))⟩)))
        refine qb_c0 (fun z => fin 0 ?_) (fun z => fin 1 ?_)
        · rw [z]; rfl
        · rw [z]; rfl
    · unfold wpY_holds; dsimp only
      exact yw_isN1 hi hN (br_f (by decide) (br_f h0 ⟨rfl, rl_in F⟩))
end
