section
/-! pure rows to paste: stores, nI and lN arithmetic, masks, shifts, narrowing, branches by naturals (pk_le, pk_lt, pk_eq), loops (lp1 .. lp16: the measure of the state; rp1 ..: recursion), negatives. Take what you need -/
theorem pk_us {f : Nat → Int32} {k : Nat} {x : Int32} : upd f k x k = x := if_pos rfl
theorem pk_un {f : Nat → Int32} {k j : Nat} {x : Int32} (h : j ≠ k) : upd f k x j = f j := if_neg h
theorem pk_uLs {f : Nat → Int64} {k : Nat} {x : Int64} : vp_updL f k x k = x := if_pos rfl
theorem pk_uLn {f : Nat → Int64} {k j : Nat} {x : Int64} (h : j ≠ k) : vp_updL f k x j = f j := if_neg h
theorem pk_sub {a b : Nat} (h : b ≤ a) : nI a - nI b = nI (a - b) := by
  obtain ⟨c, rfl⟩ : ∃ c, a = c + b := ⟨a - b, by omega⟩
  rw [← nI_add, Int32.add_sub_cancel, Nat.add_sub_cancel]
theorem pk_m1 (n : Nat) : nI (n + 1) + (-1) = nI n := by
  rw [← nI_1, Int32.add_assoc, show (1 : Int32) + (-1) = 0 from rfl, Int32.add_zero]
theorem pk_mul (a b : Nat) : nI a * nI b = nI (a * b) := (Int32.ofNat_mul a b).symm
theorem pk_div {a d : Nat} (ha : a < 2 ^ 31) (h0 : 0 < d) (hd : d < 2 ^ 31) : nI a / nI d = nI (a / d) := by
  apply Int32.toInt_inj.mp
  rw [lg_idiv_nonneg (by rw [nI_toInt ha]; omega) (by rw [nI_toInt hd]; omega), nI_toInt ha, nI_toInt hd, nI_toInt (Nat.lt_of_le_of_lt (Nat.div_le_self a d) ha)]
  first | rfl | exact (Int.natCast_ediv _ _).symm
theorem pk_rem {a d : Nat} (ha : a < 2 ^ 31) (h0 : 0 < d) (hd : d < 2 ^ 31) : nI a - nI a / nI d * nI d = nI (a % d) := by
  rw [pk_div ha h0 hd, pk_mul, pk_sub (Nat.div_mul_le_self a d)]
  exact congrArg nI (by have := Nat.div_add_mod' a d; omega)
theorem pk_sub_toInt {a b : Nat} (ha : a < 2 ^ 30) (hb : b < 2 ^ 30) : (nI a - nI b).toInt = (a : Int) - b := by
  rw [Int32.toInt_sub, nI_toInt (by omega), nI_toInt (by omega)]
  exact Int.bmod_eq_of_le (by omega) (by omega)
theorem pk_sneg {a b : Nat} (hb : b < 2 ^ 30) (h : a < b) : nI a - nI b < 0 := by
  rw [Int32.lt_iff_toInt_lt, pk_sub_toInt (by omega) hb, show (0 : Int32).toInt = 0 from by decide]
  omega
theorem pk_ix (x : Int32) {n : Nat} (hn : n < 2 ^ 31) : x < 0 ∨ nI n ≤ x ∨ ∃ j : Nat, j < n ∧ x = nI j := by
  by_cases h : x < 0
  · exact Or.inl h
  · obtain ⟨j, hj, rfl⟩ := nI_of h
    by_cases h2 : j < n
    · exact Or.inr (Or.inr ⟨j, h2, rfl⟩)
    · exact Or.inr (Or.inl (nI_le (by omega) hj))
theorem pk_le {x y : Int32} {A B : Prop} (a b : Nat) (f : a ≤ b → A) (g : b < a → B) (hx : x = nI a := by rfl) (hy : y = nI b := by rfl) (ha : a < 2 ^ 31 := by omega) (hb : b < 2 ^ 31 := by omega) : (x ≤ y → A) ∧ (¬ x ≤ y → B) := by
  subst hx hy
  rw [nI_leI ha hb]
  exact ⟨f, fun z => g (by omega)⟩
theorem pk_lt {x y : Int32} {A B : Prop} (a b : Nat) (f : a < b → A) (g : b ≤ a → B) (hx : x = nI a := by rfl) (hy : y = nI b := by rfl) (ha : a < 2 ^ 31 := by omega) (hb : b < 2 ^ 31 := by omega) : (x < y → A) ∧ (¬ x < y → B) := by
  subst hx hy
  rw [nI_ltI ha hb]
  exact ⟨f, fun z => g (by omega)⟩
theorem pk_eq {x y : Int32} {A B : Prop} (a b : Nat) (f : a = b → A) (g : a ≠ b → B) (hx : x = nI a := by rfl) (hy : y = nI b := by rfl) (ha : a < 2 ^ 31 := by omega) (hb : b < 2 ^ 31 := by omega) : (x = y → A) ∧ (¬ x = y → B) := by
  subst hx hy
  rw [nI_eq ha hb]
  exact ⟨f, g⟩
theorem pk_in {x : Int32} (n N : Nat) (h : n < N) (hx : x = nI n := by rfl) (hN : N < 2 ^ 31 := by omega) : vp_in x N := by
  subst hx
  exact vp_in_nI h hN
theorem pk_cl {x : Int32} (n : Nat) (hx : x = nI n := by rfl) (h : n < 2 ^ 31 := by omega) : x.toNatClampNeg = n := by
  subst hx
  exact nI_clamp h
theorem pk_tn {n : Nat} (h : n < 2 ^ 32) : (nI n).toBitVec.toNat = n := Nat.mod_eq_of_lt h
theorem pk_and (x : Int32) {m : Int32} (k : Nat) (hm : m.toBitVec.toNat = 2 ^ k - 1) : x &&& m = nI (x.toBitVec.toNat % 2 ^ k) := by
  apply Int32.toBitVec_inj.mp
  apply BitVec.eq_of_toNat_eq
  rw [Int32.toBitVec_and, BitVec.toNat_and, hm, Nat.and_two_pow_sub_one_eq_mod]
  show _ = (BitVec.ofNat 32 _).toNat
  rw [BitVec.toNat_ofNat]
  exact (Nat.mod_eq_of_lt (Nat.lt_of_le_of_lt (Nat.mod_le _ _) x.toBitVec.isLt)).symm
theorem pk_andN {n : Nat} (h : n < 2 ^ 32) {m : Int32} (k : Nat) (hm : m.toBitVec.toNat = 2 ^ k - 1) : nI n &&& m = nI (n % 2 ^ k) := by
  rw [pk_and _ k hm, pk_tn h]
theorem pk_andE (x : Int32) {m : Int32} (k : Nat) (hm : m.toBitVec.toNat = 2 ^ k - 1) : ∃ j : Nat, j < 2 ^ k ∧ x &&& m = nI j := ⟨_, Nat.mod_lt _ (Nat.two_pow_pos k), pk_and x k hm⟩
theorem pk_andIn (x : Int32) {m : Int32} (k : Nat) (hm : m.toBitVec.toNat = 2 ^ k - 1) (hk : k ≤ 30) : vp_in (x &&& m) (2 ^ k) := by
  obtain ⟨j, hj, e⟩ := pk_andE x k hm
  rw [e]
  exact vp_in_nI hj (Nat.lt_of_le_of_lt (Nat.pow_le_pow_right (by decide) hk) (by decide))
theorem pk_shl (a s : Int32) (k : Nat) (hs : (s.toBitVec.smod 32).toNat = k) : (a <<< s).toBitVec.toNat = a.toBitVec.toNat * 2 ^ k % 2 ^ 32 := by
  show (a.toBitVec <<< (s.toBitVec.smod 32).toNat).toNat = _
  rw [hs, BitVec.toNat_shiftLeft, Nat.shiftLeft_eq]
theorem pk_shlN {n : Nat} (s : Int32) (k : Nat) (hs : (s.toBitVec.smod 32).toNat = k) (h : n * 2 ^ k < 2 ^ 32) : nI n <<< s = nI (n * 2 ^ k) := by
  apply Int32.toBitVec_inj.mp
  apply BitVec.eq_of_toNat_eq
  have hn : n < 2 ^ 32 := Nat.lt_of_le_of_lt (Nat.le_mul_of_pos_right n (Nat.two_pow_pos k)) h
  rw [pk_shl _ _ k hs, pk_tn hn, pk_tn h, Nat.mod_eq_of_lt h]
theorem pk_shr (a s : Int32) (k : Nat) (hs : (s.toBitVec.smod 32).toNat = k) : (a >>> s).toInt = a.toInt >>> k := by
  show (a.toBitVec.sshiftRight (s.toBitVec.smod 32).toNat).toInt = _
  rw [hs, BitVec.toInt_sshiftRight]
  rfl
theorem pk_shrN {n : Nat} (h : n < 2 ^ 31) (s : Int32) (k : Nat) (hs : (s.toBitVec.smod 32).toNat = k) : nI n >>> s = nI (n / 2 ^ k) := by
  apply Int32.toInt_inj.mp
  have h2 : n / 2 ^ k ≤ n := Nat.div_le_self _ _
  rw [pk_shr _ _ k hs, nI_toInt h, nI_toInt (by omega), Int.shiftRight_eq_div_pow]
  rfl
theorem pk_ushr (x s : Int32) (k : Nat) (hs : ((s.toUInt32 &&& Int32.toUInt32 31).toBitVec % 32).toNat = k) : (x.toUInt32 >>> (s.toUInt32 &&& Int32.toUInt32 31)).toInt32.toBitVec.toNat = x.toBitVec.toNat / 2 ^ k := by
  have e : (x.toUInt32 >>> (s.toUInt32 &&& Int32.toUInt32 31)).toInt32.toBitVec = x.toBitVec >>> k := by
    rw [← hs]
    exact UInt32.toBitVec_shiftRight _ _
  rw [e, BitVec.toNat_ushiftRight, Nat.shiftRight_eq_div_pow]
theorem pk_ushrN {n : Nat} (hn : n < 2 ^ 32) (s : Int32) (k : Nat) (hs : ((s.toUInt32 &&& Int32.toUInt32 31).toBitVec % 32).toNat = k) : ((nI n).toUInt32 >>> (s.toUInt32 &&& Int32.toUInt32 31)).toInt32 = nI (n / 2 ^ k) := by
  apply Int32.toBitVec_inj.mp
  apply BitVec.eq_of_toNat_eq
  rw [pk_ushr _ s k hs, pk_tn hn, pk_tn (Nat.lt_of_le_of_lt (Nat.div_le_self _ _) hn)]
theorem pk_nb (z : Int32) : narrow .byte (.int z.toInt8.toInt32) = .int z.toInt8.toInt32 := congrArg Value.int (by simp)
theorem pk_ns (z : Int32) : narrow .short (.int z.toInt16.toInt32) = .int z.toInt16.toInt32 := congrArg Value.int (by simp)
theorem pk_fb (r : Int32) : fits .byte (.int r.toInt8.toInt32) = true := by
  have ⟨a, b⟩ := lg_i2b_range r
  have h1 : (-128 : Int32).toInt = -128 := by decide
  have h2 : (127 : Int32).toInt = 127 := by decide
  simp only [fits, Bool.and_eq_true, decide_eq_true_eq, Int32.le_iff_toInt_le, h1, h2]
  omega
theorem pk_fs (r : Int32) : fits .short (.int r.toInt16.toInt32) = true := by
  have ⟨a, b⟩ := lg_i2s_range r
  have h1 : (-32768 : Int32).toInt = -32768 := by decide
  have h2 : (32767 : Int32).toInt = 32767 := by decide
  simp only [fits, Bool.and_eq_true, decide_eq_true_eq, Int32.le_iff_toInt_le, h1, h2]
  omega
theorem pk_charN {q : Nat} (hq : q < 65536) : narrow .char (.int (nI q)) = .int (nI q) ∧ fits .char (.int (nI q)) = true := by
  constructor
  · have e : (nI q).toUInt32.toUInt16.toUInt32.toInt32 = nI q := by
      apply Int32.toBitVec_inj.mp
      apply BitVec.eq_of_toNat_eq
      show (nI q).toUInt32.toUInt16.toUInt32.toNat = q % 2 ^ 32
      rw [UInt16.toNat_toUInt32, UInt32.toNat_toUInt16, show (nI q).toUInt32.toNat = q % 2 ^ 32 from rfl]
      omega
    exact congrArg Value.int e
  · have a : (0 : Int32) ≤ nI q := nI_pos' (by omega)
    have b : nI q ≤ 65535 := nI_le (b := 65535) (by omega) (by decide)
    show (decide ((0 : Int32) ≤ nI q) && decide (nI q ≤ 65535)) = true
    rw [decide_eq_true a, decide_eq_true b]
    rfl
theorem pk_char (x : Int32) : (x.toUInt32 % 65536).toInt32 = nI (x.toBitVec.toNat % 65536) := by
  apply Int32.toBitVec_inj.mp
  apply BitVec.eq_of_toNat_eq
  rw [pk_tn (by omega)]
  show (x.toUInt32 % 65536).toNat = _
  rw [UInt32.toNat_mod]
  rfl
theorem pk_nc (x : Int32) : narrow .char (.int (x.toUInt32 % 65536).toInt32) = .int (x.toUInt32 % 65536).toInt32 := by
  rw [pk_char]
  exact (pk_charN (Nat.mod_lt _ (by decide))).1
theorem pk_fc (x : Int32) : fits .char (.int (x.toUInt32 % 65536).toInt32) = true := by
  rw [pk_char]
  exact (pk_charN (Nat.mod_lt _ (by decide))).2
theorem pk_vb (z : Int32) : vp_nar .byte z.toInt8.toInt32 = z.toInt8.toInt32 := by rw [vp_nar_byte]; simp
theorem pk_vs (z : Int32) : vp_nar .short z.toInt16.toInt32 = z.toInt16.toInt32 := by rw [vp_nar_short]; simp
theorem pk_vc (z : Int32) : vp_nar .char (z.toUInt32 % 65536).toInt32 = (z.toUInt32 % 65536).toInt32 := Value.int.inj (pk_nc z)
theorem pk_lT {n : Nat} (h : n < 2 ^ 63) : (lN n).toInt = (n : Int) := lg_ofNat_toInt h
theorem pk_lLT {a b : Nat} (ha : a < 2 ^ 63) (hb : b < 2 ^ 63) : lN a < lN b ↔ a < b := by
  rw [Int64.lt_iff_toInt_lt, pk_lT ha, pk_lT hb]; omega
theorem pk_lLE {a b : Nat} (ha : a < 2 ^ 63) (hb : b < 2 ^ 63) : lN a ≤ lN b ↔ a ≤ b := by
  rw [Int64.le_iff_toInt_le, pk_lT ha, pk_lT hb]; omega
theorem pk_lEQ {a b : Nat} (ha : a < 2 ^ 63) (hb : b < 2 ^ 63) : lN a = lN b ↔ a = b := by
  rw [← Int64.toInt_inj, pk_lT ha, pk_lT hb]; omega
theorem pk_lOf {x : Int64} (h : ¬ x < 0) : ∃ k : Nat, k < 2 ^ 63 ∧ x = lN k := by
  rw [Int64.lt_iff_toInt_lt] at h
  have h0 : (0 : Int64).toInt = 0 := by decide
  have hx := Int64.toInt_lt x
  refine ⟨x.toInt.toNat, by omega, Int64.toInt_inj.mp ?_⟩
  rw [pk_lT (by omega)]
  omega
theorem pk_lDiv {a b : Nat} (ha : a < 2 ^ 63) (h0 : 0 < b) (hb : b < 2 ^ 63) : lN a / lN b = lN (a / b) := by
  apply Int64.toInt_inj.mp
  rw [lg_ldiv_nonneg (by rw [pk_lT ha]; omega) (by rw [pk_lT hb]; omega), pk_lT ha, pk_lT hb, pk_lT (Nat.lt_of_le_of_lt (Nat.div_le_self a b) ha)]
  rfl
theorem pk_lRem {a b : Nat} (ha : a < 2 ^ 63) (h0 : 0 < b) (hb : b < 2 ^ 63) : lN a - lN a / lN b * lN b = lN (a % b) := by
  rw [pk_lDiv ha h0 hb, lN_mul, lN_sub (Nat.div_mul_le_self a b)]
  exact congrArg lN (by have := Nat.div_add_mod' a b; omega)
theorem pk_loop {σ : Type} (W : Nat → Nat → σ → Prop) (I : Nat → σ → Prop) (e i0 : Nat) (s : σ) (hi : i0 ≤ e) (h0 : I i0 s) (hx : ∀ n s, I e s → W (n + 1) e s)
    (hs : ∀ n i s, i < e → I i s → (∀ s', I (i + 1) s' → W n (i + 1) s') → W (n + 1) i s) : ∃ n, W n i0 s :=
  ⟨e + 1, loop_i W I e hx hs (e + 1) i0 s hi (by omega) h0⟩
theorem pk_loopD {σ : Type} (W : Nat → Nat → σ → Prop) (I : Nat → σ → Prop) (hx : ∀ n s, I 0 s → W (n + 1) 0 s)
    (hs : ∀ n i s, I (i + 1) s → (∀ s', I i s' → W n i s') → W (n + 1) (i + 1) s) : ∀ (e : Nat) (s : σ), I e s → W (e + 1) e s := by
  intro e
  induction e with
  | zero => exact fun s h => hx 0 s h
  | succ e ih => exact fun s h => hs (e + 1) e s h (fun s' h' => ih s' h')
theorem lp1 {A1 : Type} (W : Nat → A1 → Prop) (I : A1 → Prop) (μ : A1 → Nat) (hs : ∀ (n : Nat) (a1 : A1), I a1 → (∀ (b1 : A1), I b1 → μ b1 < μ a1 → W n b1) → W (n + 1) a1) (a1 : A1) (h : I a1) : ∃ n, W n a1 :=
  loop_m (σ := A1) (fun n s => W n s) (fun s => I s) (fun s => μ s) (fun n s hI hk => hs n s hI (fun b1 h9 hm => hk b1 h9 hm)) a1 h
theorem lp2 {A1 A2 : Type} (W : Nat → A1 → A2 → Prop) (I : A1 → A2 → Prop) (μ : A1 → A2 → Nat) (hs : ∀ (n : Nat) (a1 : A1) (a2 : A2), I a1 a2 → (∀ (b1 : A1) (b2 : A2), I b1 b2 → μ b1 b2 < μ a1 a2 → W n b1 b2) → W (n + 1) a1 a2) (a1 : A1) (a2 : A2) (h : I a1 a2) : ∃ n, W n a1 a2 :=
  loop_m (σ := A1 × A2) (fun n s => W n s.1 s.2) (fun s => I s.1 s.2) (fun s => μ s.1 s.2) (fun n s hI hk => hs n s.1 s.2 hI (fun b1 b2 h9 hm => hk (b1, b2) h9 hm)) (a1, a2) h
theorem lp3 {A1 A2 A3 : Type} (W : Nat → A1 → A2 → A3 → Prop) (I : A1 → A2 → A3 → Prop) (μ : A1 → A2 → A3 → Nat) (hs : ∀ (n : Nat) (a1 : A1) (a2 : A2) (a3 : A3), I a1 a2 a3 → (∀ (b1 : A1) (b2 : A2) (b3 : A3), I b1 b2 b3 → μ b1 b2 b3 < μ a1 a2 a3 → W n b1 b2 b3) → W (n + 1) a1 a2 a3) (a1 : A1) (a2 : A2) (a3 : A3) (h : I a1 a2 a3) : ∃ n, W n a1 a2 a3 :=
  loop_m (σ := A1 × A2 × A3) (fun n s => W n s.1 s.2.1 s.2.2) (fun s => I s.1 s.2.1 s.2.2) (fun s => μ s.1 s.2.1 s.2.2) (fun n s hI hk => hs n s.1 s.2.1 s.2.2 hI (fun b1 b2 b3 h9 hm => hk (b1, b2, b3) h9 hm)) (a1, a2, a3) h
theorem lp4 {A1 A2 A3 A4 : Type} (W : Nat → A1 → A2 → A3 → A4 → Prop) (I : A1 → A2 → A3 → A4 → Prop) (μ : A1 → A2 → A3 → A4 → Nat) (hs : ∀ (n : Nat) (a1 : A1) (a2 : A2) (a3 : A3) (a4 : A4), I a1 a2 a3 a4 → (∀ (b1 : A1) (b2 : A2) (b3 : A3) (b4 : A4), I b1 b2 b3 b4 → μ b1 b2 b3 b4 < μ a1 a2 a3 a4 → W n b1 b2 b3 b4) → W (n + 1) a1 a2 a3 a4) (a1 : A1) (a2 : A2) (a3 : A3) (a4 : A4) (h : I a1 a2 a3 a4) : ∃ n, W n a1 a2 a3 a4 :=
  loop_m (σ := A1 × A2 × A3 × A4) (fun n s => W n s.1 s.2.1 s.2.2.1 s.2.2.2) (fun s => I s.1 s.2.1 s.2.2.1 s.2.2.2) (fun s => μ s.1 s.2.1 s.2.2.1 s.2.2.2) (fun n s hI hk => hs n s.1 s.2.1 s.2.2.1 s.2.2.2 hI (fun b1 b2 b3 b4 h9 hm => hk (b1, b2, b3, b4) h9 hm)) (a1, a2, a3, a4) h
theorem lp5 {A1 A2 A3 A4 A5 : Type} (W : Nat → A1 → A2 → A3 → A4 → A5 → Prop) (I : A1 → A2 → A3 → A4 → A5 → Prop) (μ : A1 → A2 → A3 → A4 → A5 → Nat) (hs : ∀ (n : Nat) (a1 : A1) (a2 : A2) (a3 : A3) (a4 : A4) (a5 : A5), I a1 a2 a3 a4 a5 → (∀ (b1 : A1) (b2 : A2) (b3 : A3) (b4 : A4) (b5 : A5), I b1 b2 b3 b4 b5 → μ b1 b2 b3 b4 b5 < μ a1 a2 a3 a4 a5 → W n b1 b2 b3 b4 b5) → W (n + 1) a1 a2 a3 a4 a5) (a1 : A1) (a2 : A2) (a3 : A3) (a4 : A4) (a5 : A5) (h : I a1 a2 a3 a4 a5) : ∃ n, W n a1 a2 a3 a4 a5 :=
  loop_m (σ := A1 × A2 × A3 × A4 × A5) (fun n s => W n s.1 s.2.1 s.2.2.1 s.2.2.2.1 s.2.2.2.2) (fun s => I s.1 s.2.1 s.2.2.1 s.2.2.2.1 s.2.2.2.2) (fun s => μ s.1 s.2.1 s.2.2.1 s.2.2.2.1 s.2.2.2.2) (fun n s hI hk => hs n s.1 s.2.1 s.2.2.1 s.2.2.2.1 s.2.2.2.2 hI (fun b1 b2 b3 b4 b5 h9 hm => hk (b1, b2, b3, b4, b5) h9 hm)) (a1, a2, a3, a4, a5) h
theorem lp6 {A1 A2 A3 A4 A5 A6 : Type} (W : Nat → A1 → A2 → A3 → A4 → A5 → A6 → Prop) (I : A1 → A2 → A3 → A4 → A5 → A6 → Prop) (μ : A1 → A2 → A3 → A4 → A5 → A6 → Nat) (hs : ∀ (n : Nat) (a1 : A1) (a2 : A2) (a3 : A3) (a4 : A4) (a5 : A5) (a6 : A6), I a1 a2 a3 a4 a5 a6 → (∀ (b1 : A1) (b2 : A2) (b3 : A3) (b4 : A4) (b5 : A5) (b6 : A6), I b1 b2 b3 b4 b5 b6 → μ b1 b2 b3 b4 b5 b6 < μ a1 a2 a3 a4 a5 a6 → W n b1 b2 b3 b4 b5 b6) → W (n + 1) a1 a2 a3 a4 a5 a6) (a1 : A1) (a2 : A2) (a3 : A3) (a4 : A4) (a5 : A5) (a6 : A6) (h : I a1 a2 a3 a4 a5 a6) : ∃ n, W n a1 a2 a3 a4 a5 a6 :=
  loop_m (σ := A1 × A2 × A3 × A4 × A5 × A6) (fun n s => W n s.1 s.2.1 s.2.2.1 s.2.2.2.1 s.2.2.2.2.1 s.2.2.2.2.2) (fun s => I s.1 s.2.1 s.2.2.1 s.2.2.2.1 s.2.2.2.2.1 s.2.2.2.2.2) (fun s => μ s.1 s.2.1 s.2.2.1 s.2.2.2.1 s.2.2.2.2.1 s.2.2.2.2.2) (fun n s hI hk => hs n s.1 s.2.1 s.2.2.1 s.2.2.2.1 s.2.2.2.2.1 s.2.2.2.2.2 hI (fun b1 b2 b3 b4 b5 b6 h9 hm => hk (b1, b2, b3, b4, b5, b6) h9 hm)) (a1, a2, a3, a4, a5, a6) h
theorem lp7 {A1 A2 A3 A4 A5 A6 A7 : Type} (W : Nat → A1 → A2 → A3 → A4 → A5 → A6 → A7 → Prop) (I : A1 → A2 → A3 → A4 → A5 → A6 → A7 → Prop) (μ : A1 → A2 → A3 → A4 → A5 → A6 → A7 → Nat) (hs : ∀ (n : Nat) (a1 : A1) (a2 : A2) (a3 : A3) (a4 : A4) (a5 : A5) (a6 : A6) (a7 : A7), I a1 a2 a3 a4 a5 a6 a7 → (∀ (b1 : A1) (b2 : A2) (b3 : A3) (b4 : A4) (b5 : A5) (b6 : A6) (b7 : A7), I b1 b2 b3 b4 b5 b6 b7 → μ b1 b2 b3 b4 b5 b6 b7 < μ a1 a2 a3 a4 a5 a6 a7 → W n b1 b2 b3 b4 b5 b6 b7) → W (n + 1) a1 a2 a3 a4 a5 a6 a7) (a1 : A1) (a2 : A2) (a3 : A3) (a4 : A4) (a5 : A5) (a6 : A6) (a7 : A7) (h : I a1 a2 a3 a4 a5 a6 a7) : ∃ n, W n a1 a2 a3 a4 a5 a6 a7 :=
  loop_m (σ := A1 × A2 × A3 × A4 × A5 × A6 × A7) (fun n s => W n s.1 s.2.1 s.2.2.1 s.2.2.2.1 s.2.2.2.2.1 s.2.2.2.2.2.1 s.2.2.2.2.2.2) (fun s => I s.1 s.2.1 s.2.2.1 s.2.2.2.1 s.2.2.2.2.1 s.2.2.2.2.2.1 s.2.2.2.2.2.2) (fun s => μ s.1 s.2.1 s.2.2.1 s.2.2.2.1 s.2.2.2.2.1 s.2.2.2.2.2.1 s.2.2.2.2.2.2) (fun n s hI hk => hs n s.1 s.2.1 s.2.2.1 s.2.2.2.1 s.2.2.2.2.1 s.2.2.2.2.2.1 s.2.2.2.2.2.2 hI (fun b1 b2 b3 b4 b5 b6 b7 h9 hm => hk (b1, b2, b3, b4, b5, b6, b7) h9 hm)) (a1, a2, a3, a4, a5, a6, a7) h
theorem lp8 {A1 A2 A3 A4 A5 A6 A7 A8 : Type} (W : Nat → A1 → A2 → A3 → A4 → A5 → A6 → A7 → A8 → Prop) (I : A1 → A2 → A3 → A4 → A5 → A6 → A7 → A8 → Prop) (μ : A1 → A2 → A3 → A4 → A5 → A6 → A7 → A8 → Nat) (hs : ∀ (n : Nat) (a1 : A1) (a2 : A2) (a3 : A3) (a4 : A4) (a5 : A5) (a6 : A6) (a7 : A7) (a8 : A8), I a1 a2 a3 a4 a5 a6 a7 a8 → (∀ (b1 : A1) (b2 : A2) (b3 : A3) (b4 : A4) (b5 : A5) (b6 : A6) (b7 : A7) (b8 : A8), I b1 b2 b3 b4 b5 b6 b7 b8 → μ b1 b2 b3 b4 b5 b6 b7 b8 < μ a1 a2 a3 a4 a5 a6 a7 a8 → W n b1 b2 b3 b4 b5 b6 b7 b8) → W (n + 1) a1 a2 a3 a4 a5 a6 a7 a8) (a1 : A1) (a2 : A2) (a3 : A3) (a4 : A4) (a5 : A5) (a6 : A6) (a7 : A7) (a8 : A8) (h : I a1 a2 a3 a4 a5 a6 a7 a8) : ∃ n, W n a1 a2 a3 a4 a5 a6 a7 a8 :=
  loop_m (σ := A1 × A2 × A3 × A4 × A5 × A6 × A7 × A8) (fun n s => W n s.1 s.2.1 s.2.2.1 s.2.2.2.1 s.2.2.2.2.1 s.2.2.2.2.2.1 s.2.2.2.2.2.2.1 s.2.2.2.2.2.2.2) (fun s => I s.1 s.2.1 s.2.2.1 s.2.2.2.1 s.2.2.2.2.1 s.2.2.2.2.2.1 s.2.2.2.2.2.2.1 s.2.2.2.2.2.2.2) (fun s => μ s.1 s.2.1 s.2.2.1 s.2.2.2.1 s.2.2.2.2.1 s.2.2.2.2.2.1 s.2.2.2.2.2.2.1 s.2.2.2.2.2.2.2) (fun n s hI hk => hs n s.1 s.2.1 s.2.2.1 s.2.2.2.1 s.2.2.2.2.1 s.2.2.2.2.2.1 s.2.2.2.2.2.2.1 s.2.2.2.2.2.2.2 hI (fun b1 b2 b3 b4 b5 b6 b7 b8 h9 hm => hk (b1, b2, b3, b4, b5, b6, b7, b8) h9 hm)) (a1, a2, a3, a4, a5, a6, a7, a8) h
theorem lp9 {A1 A2 A3 A4 A5 A6 A7 A8 A9 : Type} (W : Nat → A1 → A2 → A3 → A4 → A5 → A6 → A7 → A8 → A9 → Prop) (I : A1 → A2 → A3 → A4 → A5 → A6 → A7 → A8 → A9 → Prop) (μ : A1 → A2 → A3 → A4 → A5 → A6 → A7 → A8 → A9 → Nat) (hs : ∀ (n : Nat) (a1 : A1) (a2 : A2) (a3 : A3) (a4 : A4) (a5 : A5) (a6 : A6) (a7 : A7) (a8 : A8) (a9 : A9), I a1 a2 a3 a4 a5 a6 a7 a8 a9 → (∀ (b1 : A1) (b2 : A2) (b3 : A3) (b4 : A4) (b5 : A5) (b6 : A6) (b7 : A7) (b8 : A8) (b9 : A9), I b1 b2 b3 b4 b5 b6 b7 b8 b9 → μ b1 b2 b3 b4 b5 b6 b7 b8 b9 < μ a1 a2 a3 a4 a5 a6 a7 a8 a9 → W n b1 b2 b3 b4 b5 b6 b7 b8 b9) → W (n + 1) a1 a2 a3 a4 a5 a6 a7 a8 a9) (a1 : A1) (a2 : A2) (a3 : A3) (a4 : A4) (a5 : A5) (a6 : A6) (a7 : A7) (a8 : A8) (a9 : A9) (h : I a1 a2 a3 a4 a5 a6 a7 a8 a9) : ∃ n, W n a1 a2 a3 a4 a5 a6 a7 a8 a9 :=
  loop_m (σ := A1 × A2 × A3 × A4 × A5 × A6 × A7 × A8 × A9) (fun n s => W n s.1 s.2.1 s.2.2.1 s.2.2.2.1 s.2.2.2.2.1 s.2.2.2.2.2.1 s.2.2.2.2.2.2.1 s.2.2.2.2.2.2.2.1 s.2.2.2.2.2.2.2.2) (fun s => I s.1 s.2.1 s.2.2.1 s.2.2.2.1 s.2.2.2.2.1 s.2.2.2.2.2.1 s.2.2.2.2.2.2.1 s.2.2.2.2.2.2.2.1 s.2.2.2.2.2.2.2.2) (fun s => μ s.1 s.2.1 s.2.2.1 s.2.2.2.1 s.2.2.2.2.1 s.2.2.2.2.2.1 s.2.2.2.2.2.2.1 s.2.2.2.2.2.2.2.1 s.2.2.2.2.2.2.2.2) (fun n s hI hk => hs n s.1 s.2.1 s.2.2.1 s.2.2.2.1 s.2.2.2.2.1 s.2.2.2.2.2.1 s.2.2.2.2.2.2.1 s.2.2.2.2.2.2.2.1 s.2.2.2.2.2.2.2.2 hI (fun b1 b2 b3 b4 b5 b6 b7 b8 b9 h9 hm => hk (b1, b2, b3, b4, b5, b6, b7, b8, b9) h9 hm)) (a1, a2, a3, a4, a5, a6, a7, a8, a9) h
theorem lp10 {A1 A2 A3 A4 A5 A6 A7 A8 A9 A10 : Type} (W : Nat → A1 → A2 → A3 → A4 → A5 → A6 → A7 → A8 → A9 → A10 → Prop) (I : A1 → A2 → A3 → A4 → A5 → A6 → A7 → A8 → A9 → A10 → Prop) (μ : A1 → A2 → A3 → A4 → A5 → A6 → A7 → A8 → A9 → A10 → Nat) (hs : ∀ (n : Nat) (a1 : A1) (a2 : A2) (a3 : A3) (a4 : A4) (a5 : A5) (a6 : A6) (a7 : A7) (a8 : A8) (a9 : A9) (a10 : A10), I a1 a2 a3 a4 a5 a6 a7 a8 a9 a10 → (∀ (b1 : A1) (b2 : A2) (b3 : A3) (b4 : A4) (b5 : A5) (b6 : A6) (b7 : A7) (b8 : A8) (b9 : A9) (b10 : A10), I b1 b2 b3 b4 b5 b6 b7 b8 b9 b10 → μ b1 b2 b3 b4 b5 b6 b7 b8 b9 b10 < μ a1 a2 a3 a4 a5 a6 a7 a8 a9 a10 → W n b1 b2 b3 b4 b5 b6 b7 b8 b9 b10) → W (n + 1) a1 a2 a3 a4 a5 a6 a7 a8 a9 a10) (a1 : A1) (a2 : A2) (a3 : A3) (a4 : A4) (a5 : A5) (a6 : A6) (a7 : A7) (a8 : A8) (a9 : A9) (a10 : A10) (h : I a1 a2 a3 a4 a5 a6 a7 a8 a9 a10) : ∃ n, W n a1 a2 a3 a4 a5 a6 a7 a8 a9 a10 :=
  loop_m (σ := A1 × A2 × A3 × A4 × A5 × A6 × A7 × A8 × A9 × A10) (fun n s => W n s.1 s.2.1 s.2.2.1 s.2.2.2.1 s.2.2.2.2.1 s.2.2.2.2.2.1 s.2.2.2.2.2.2.1 s.2.2.2.2.2.2.2.1 s.2.2.2.2.2.2.2.2.1 s.2.2.2.2.2.2.2.2.2) (fun s => I s.1 s.2.1 s.2.2.1 s.2.2.2.1 s.2.2.2.2.1 s.2.2.2.2.2.1 s.2.2.2.2.2.2.1 s.2.2.2.2.2.2.2.1 s.2.2.2.2.2.2.2.2.1 s.2.2.2.2.2.2.2.2.2) (fun s => μ s.1 s.2.1 s.2.2.1 s.2.2.2.1 s.2.2.2.2.1 s.2.2.2.2.2.1 s.2.2.2.2.2.2.1 s.2.2.2.2.2.2.2.1 s.2.2.2.2.2.2.2.2.1 s.2.2.2.2.2.2.2.2.2) (fun n s hI hk => hs n s.1 s.2.1 s.2.2.1 s.2.2.2.1 s.2.2.2.2.1 s.2.2.2.2.2.1 s.2.2.2.2.2.2.1 s.2.2.2.2.2.2.2.1 s.2.2.2.2.2.2.2.2.1 s.2.2.2.2.2.2.2.2.2 hI (fun b1 b2 b3 b4 b5 b6 b7 b8 b9 b10 h9 hm => hk (b1, b2, b3, b4, b5, b6, b7, b8, b9, b10) h9 hm)) (a1, a2, a3, a4, a5, a6, a7, a8, a9, a10) h
theorem lp11 {A1 A2 A3 A4 A5 A6 A7 A8 A9 A10 A11 : Type} (W : Nat → A1 → A2 → A3 → A4 → A5 → A6 → A7 → A8 → A9 → A10 → A11 → Prop) (I : A1 → A2 → A3 → A4 → A5 → A6 → A7 → A8 → A9 → A10 → A11 → Prop) (μ : A1 → A2 → A3 → A4 → A5 → A6 → A7 → A8 → A9 → A10 → A11 → Nat) (hs : ∀ (n : Nat) (a1 : A1) (a2 : A2) (a3 : A3) (a4 : A4) (a5 : A5) (a6 : A6) (a7 : A7) (a8 : A8) (a9 : A9) (a10 : A10) (a11 : A11), I a1 a2 a3 a4 a5 a6 a7 a8 a9 a10 a11 → (∀ (b1 : A1) (b2 : A2) (b3 : A3) (b4 : A4) (b5 : A5) (b6 : A6) (b7 : A7) (b8 : A8) (b9 : A9) (b10 : A10) (b11 : A11), I b1 b2 b3 b4 b5 b6 b7 b8 b9 b10 b11 → μ b1 b2 b3 b4 b5 b6 b7 b8 b9 b10 b11 < μ a1 a2 a3 a4 a5 a6 a7 a8 a9 a10 a11 → W n b1 b2 b3 b4 b5 b6 b7 b8 b9 b10 b11) → W (n + 1) a1 a2 a3 a4 a5 a6 a7 a8 a9 a10 a11) (a1 : A1) (a2 : A2) (a3 : A3) (a4 : A4) (a5 : A5) (a6 : A6) (a7 : A7) (a8 : A8) (a9 : A9) (a10 : A10) (a11 : A11) (h : I a1 a2 a3 a4 a5 a6 a7 a8 a9 a10 a11) : ∃ n, W n a1 a2 a3 a4 a5 a6 a7 a8 a9 a10 a11 :=
  loop_m (σ := A1 × A2 × A3 × A4 × A5 × A6 × A7 × A8 × A9 × A10 × A11) (fun n s => W n s.1 s.2.1 s.2.2.1 s.2.2.2.1 s.2.2.2.2.1 s.2.2.2.2.2.1 s.2.2.2.2.2.2.1 s.2.2.2.2.2.2.2.1 s.2.2.2.2.2.2.2.2.1 s.2.2.2.2.2.2.2.2.2.1 s.2.2.2.2.2.2.2.2.2.2) (fun s => I s.1 s.2.1 s.2.2.1 s.2.2.2.1 s.2.2.2.2.1 s.2.2.2.2.2.1 s.2.2.2.2.2.2.1 s.2.2.2.2.2.2.2.1 s.2.2.2.2.2.2.2.2.1 s.2.2.2.2.2.2.2.2.2.1 s.2.2.2.2.2.2.2.2.2.2) (fun s => μ s.1 s.2.1 s.2.2.1 s.2.2.2.1 s.2.2.2.2.1 s.2.2.2.2.2.1 s.2.2.2.2.2.2.1 s.2.2.2.2.2.2.2.1 s.2.2.2.2.2.2.2.2.1 s.2.2.2.2.2.2.2.2.2.1 s.2.2.2.2.2.2.2.2.2.2) (fun n s hI hk => hs n s.1 s.2.1 s.2.2.1 s.2.2.2.1 s.2.2.2.2.1 s.2.2.2.2.2.1 s.2.2.2.2.2.2.1 s.2.2.2.2.2.2.2.1 s.2.2.2.2.2.2.2.2.1 s.2.2.2.2.2.2.2.2.2.1 s.2.2.2.2.2.2.2.2.2.2 hI (fun b1 b2 b3 b4 b5 b6 b7 b8 b9 b10 b11 h9 hm => hk (b1, b2, b3, b4, b5, b6, b7, b8, b9, b10, b11) h9 hm)) (a1, a2, a3, a4, a5, a6, a7, a8, a9, a10, a11) h
theorem lp12 {A1 A2 A3 A4 A5 A6 A7 A8 A9 A10 A11 A12 : Type} (W : Nat → A1 → A2 → A3 → A4 → A5 → A6 → A7 → A8 → A9 → A10 → A11 → A12 → Prop) (I : A1 → A2 → A3 → A4 → A5 → A6 → A7 → A8 → A9 → A10 → A11 → A12 → Prop) (μ : A1 → A2 → A3 → A4 → A5 → A6 → A7 → A8 → A9 → A10 → A11 → A12 → Nat) (hs : ∀ (n : Nat) (a1 : A1) (a2 : A2) (a3 : A3) (a4 : A4) (a5 : A5) (a6 : A6) (a7 : A7) (a8 : A8) (a9 : A9) (a10 : A10) (a11 : A11) (a12 : A12), I a1 a2 a3 a4 a5 a6 a7 a8 a9 a10 a11 a12 → (∀ (b1 : A1) (b2 : A2) (b3 : A3) (b4 : A4) (b5 : A5) (b6 : A6) (b7 : A7) (b8 : A8) (b9 : A9) (b10 : A10) (b11 : A11) (b12 : A12), I b1 b2 b3 b4 b5 b6 b7 b8 b9 b10 b11 b12 → μ b1 b2 b3 b4 b5 b6 b7 b8 b9 b10 b11 b12 < μ a1 a2 a3 a4 a5 a6 a7 a8 a9 a10 a11 a12 → W n b1 b2 b3 b4 b5 b6 b7 b8 b9 b10 b11 b12) → W (n + 1) a1 a2 a3 a4 a5 a6 a7 a8 a9 a10 a11 a12) (a1 : A1) (a2 : A2) (a3 : A3) (a4 : A4) (a5 : A5) (a6 : A6) (a7 : A7) (a8 : A8) (a9 : A9) (a10 : A10) (a11 : A11) (a12 : A12) (h : I a1 a2 a3 a4 a5 a6 a7 a8 a9 a10 a11 a12) : ∃ n, W n a1 a2 a3 a4 a5 a6 a7 a8 a9 a10 a11 a12 :=
  loop_m (σ := A1 × A2 × A3 × A4 × A5 × A6 × A7 × A8 × A9 × A10 × A11 × A12) (fun n s => W n s.1 s.2.1 s.2.2.1 s.2.2.2.1 s.2.2.2.2.1 s.2.2.2.2.2.1 s.2.2.2.2.2.2.1 s.2.2.2.2.2.2.2.1 s.2.2.2.2.2.2.2.2.1 s.2.2.2.2.2.2.2.2.2.1 s.2.2.2.2.2.2.2.2.2.2.1 s.2.2.2.2.2.2.2.2.2.2.2) (fun s => I s.1 s.2.1 s.2.2.1 s.2.2.2.1 s.2.2.2.2.1 s.2.2.2.2.2.1 s.2.2.2.2.2.2.1 s.2.2.2.2.2.2.2.1 s.2.2.2.2.2.2.2.2.1 s.2.2.2.2.2.2.2.2.2.1 s.2.2.2.2.2.2.2.2.2.2.1 s.2.2.2.2.2.2.2.2.2.2.2) (fun s => μ s.1 s.2.1 s.2.2.1 s.2.2.2.1 s.2.2.2.2.1 s.2.2.2.2.2.1 s.2.2.2.2.2.2.1 s.2.2.2.2.2.2.2.1 s.2.2.2.2.2.2.2.2.1 s.2.2.2.2.2.2.2.2.2.1 s.2.2.2.2.2.2.2.2.2.2.1 s.2.2.2.2.2.2.2.2.2.2.2) (fun n s hI hk => hs n s.1 s.2.1 s.2.2.1 s.2.2.2.1 s.2.2.2.2.1 s.2.2.2.2.2.1 s.2.2.2.2.2.2.1 s.2.2.2.2.2.2.2.1 s.2.2.2.2.2.2.2.2.1 s.2.2.2.2.2.2.2.2.2.1 s.2.2.2.2.2.2.2.2.2.2.1 s.2.2.2.2.2.2.2.2.2.2.2 hI (fun b1 b2 b3 b4 b5 b6 b7 b8 b9 b10 b11 b12 h9 hm => hk (b1, b2, b3, b4, b5, b6, b7, b8, b9, b10, b11, b12) h9 hm)) (a1, a2, a3, a4, a5, a6, a7, a8, a9, a10, a11, a12) h
theorem lp13 {A1 A2 A3 A4 A5 A6 A7 A8 A9 A10 A11 A12 A13 : Type} (W : Nat → A1 → A2 → A3 → A4 → A5 → A6 → A7 → A8 → A9 → A10 → A11 → A12 → A13 → Prop) (I : A1 → A2 → A3 → A4 → A5 → A6 → A7 → A8 → A9 → A10 → A11 → A12 → A13 → Prop) (μ : A1 → A2 → A3 → A4 → A5 → A6 → A7 → A8 → A9 → A10 → A11 → A12 → A13 → Nat) (hs : ∀ (n : Nat) (a1 : A1) (a2 : A2) (a3 : A3) (a4 : A4) (a5 : A5) (a6 : A6) (a7 : A7) (a8 : A8) (a9 : A9) (a10 : A10) (a11 : A11) (a12 : A12) (a13 : A13), I a1 a2 a3 a4 a5 a6 a7 a8 a9 a10 a11 a12 a13 → (∀ (b1 : A1) (b2 : A2) (b3 : A3) (b4 : A4) (b5 : A5) (b6 : A6) (b7 : A7) (b8 : A8) (b9 : A9) (b10 : A10) (b11 : A11) (b12 : A12) (b13 : A13), I b1 b2 b3 b4 b5 b6 b7 b8 b9 b10 b11 b12 b13 → μ b1 b2 b3 b4 b5 b6 b7 b8 b9 b10 b11 b12 b13 < μ a1 a2 a3 a4 a5 a6 a7 a8 a9 a10 a11 a12 a13 → W n b1 b2 b3 b4 b5 b6 b7 b8 b9 b10 b11 b12 b13) → W (n + 1) a1 a2 a3 a4 a5 a6 a7 a8 a9 a10 a11 a12 a13) (a1 : A1) (a2 : A2) (a3 : A3) (a4 : A4) (a5 : A5) (a6 : A6) (a7 : A7) (a8 : A8) (a9 : A9) (a10 : A10) (a11 : A11) (a12 : A12) (a13 : A13) (h : I a1 a2 a3 a4 a5 a6 a7 a8 a9 a10 a11 a12 a13) : ∃ n, W n a1 a2 a3 a4 a5 a6 a7 a8 a9 a10 a11 a12 a13 :=
  loop_m (σ := A1 × A2 × A3 × A4 × A5 × A6 × A7 × A8 × A9 × A10 × A11 × A12 × A13) (fun n s => W n s.1 s.2.1 s.2.2.1 s.2.2.2.1 s.2.2.2.2.1 s.2.2.2.2.2.1 s.2.2.2.2.2.2.1 s.2.2.2.2.2.2.2.1 s.2.2.2.2.2.2.2.2.1 s.2.2.2.2.2.2.2.2.2.1 s.2.2.2.2.2.2.2.2.2.2.1 s.2.2.2.2.2.2.2.2.2.2.2.1 s.2.2.2.2.2.2.2.2.2.2.2.2) (fun s => I s.1 s.2.1 s.2.2.1 s.2.2.2.1 s.2.2.2.2.1 s.2.2.2.2.2.1 s.2.2.2.2.2.2.1 s.2.2.2.2.2.2.2.1 s.2.2.2.2.2.2.2.2.1 s.2.2.2.2.2.2.2.2.2.1 s.2.2.2.2.2.2.2.2.2.2.1 s.2.2.2.2.2.2.2.2.2.2.2.1 s.2.2.2.2.2.2.2.2.2.2.2.2) (fun s => μ s.1 s.2.1 s.2.2.1 s.2.2.2.1 s.2.2.2.2.1 s.2.2.2.2.2.1 s.2.2.2.2.2.2.1 s.2.2.2.2.2.2.2.1 s.2.2.2.2.2.2.2.2.1 s.2.2.2.2.2.2.2.2.2.1 s.2.2.2.2.2.2.2.2.2.2.1 s.2.2.2.2.2.2.2.2.2.2.2.1 s.2.2.2.2.2.2.2.2.2.2.2.2) (fun n s hI hk => hs n s.1 s.2.1 s.2.2.1 s.2.2.2.1 s.2.2.2.2.1 s.2.2.2.2.2.1 s.2.2.2.2.2.2.1 s.2.2.2.2.2.2.2.1 s.2.2.2.2.2.2.2.2.1 s.2.2.2.2.2.2.2.2.2.1 s.2.2.2.2.2.2.2.2.2.2.1 s.2.2.2.2.2.2.2.2.2.2.2.1 s.2.2.2.2.2.2.2.2.2.2.2.2 hI (fun b1 b2 b3 b4 b5 b6 b7 b8 b9 b10 b11 b12 b13 h9 hm => hk (b1, b2, b3, b4, b5, b6, b7, b8, b9, b10, b11, b12, b13) h9 hm)) (a1, a2, a3, a4, a5, a6, a7, a8, a9, a10, a11, a12, a13) h
theorem lp14 {A1 A2 A3 A4 A5 A6 A7 A8 A9 A10 A11 A12 A13 A14 : Type} (W : Nat → A1 → A2 → A3 → A4 → A5 → A6 → A7 → A8 → A9 → A10 → A11 → A12 → A13 → A14 → Prop) (I : A1 → A2 → A3 → A4 → A5 → A6 → A7 → A8 → A9 → A10 → A11 → A12 → A13 → A14 → Prop) (μ : A1 → A2 → A3 → A4 → A5 → A6 → A7 → A8 → A9 → A10 → A11 → A12 → A13 → A14 → Nat) (hs : ∀ (n : Nat) (a1 : A1) (a2 : A2) (a3 : A3) (a4 : A4) (a5 : A5) (a6 : A6) (a7 : A7) (a8 : A8) (a9 : A9) (a10 : A10) (a11 : A11) (a12 : A12) (a13 : A13) (a14 : A14), I a1 a2 a3 a4 a5 a6 a7 a8 a9 a10 a11 a12 a13 a14 → (∀ (b1 : A1) (b2 : A2) (b3 : A3) (b4 : A4) (b5 : A5) (b6 : A6) (b7 : A7) (b8 : A8) (b9 : A9) (b10 : A10) (b11 : A11) (b12 : A12) (b13 : A13) (b14 : A14), I b1 b2 b3 b4 b5 b6 b7 b8 b9 b10 b11 b12 b13 b14 → μ b1 b2 b3 b4 b5 b6 b7 b8 b9 b10 b11 b12 b13 b14 < μ a1 a2 a3 a4 a5 a6 a7 a8 a9 a10 a11 a12 a13 a14 → W n b1 b2 b3 b4 b5 b6 b7 b8 b9 b10 b11 b12 b13 b14) → W (n + 1) a1 a2 a3 a4 a5 a6 a7 a8 a9 a10 a11 a12 a13 a14) (a1 : A1) (a2 : A2) (a3 : A3) (a4 : A4) (a5 : A5) (a6 : A6) (a7 : A7) (a8 : A8) (a9 : A9) (a10 : A10) (a11 : A11) (a12 : A12) (a13 : A13) (a14 : A14) (h : I a1 a2 a3 a4 a5 a6 a7 a8 a9 a10 a11 a12 a13 a14) : ∃ n, W n a1 a2 a3 a4 a5 a6 a7 a8 a9 a10 a11 a12 a13 a14 :=
  loop_m (σ := A1 × A2 × A3 × A4 × A5 × A6 × A7 × A8 × A9 × A10 × A11 × A12 × A13 × A14) (fun n s => W n s.1 s.2.1 s.2.2.1 s.2.2.2.1 s.2.2.2.2.1 s.2.2.2.2.2.1 s.2.2.2.2.2.2.1 s.2.2.2.2.2.2.2.1 s.2.2.2.2.2.2.2.2.1 s.2.2.2.2.2.2.2.2.2.1 s.2.2.2.2.2.2.2.2.2.2.1 s.2.2.2.2.2.2.2.2.2.2.2.1 s.2.2.2.2.2.2.2.2.2.2.2.2.1 s.2.2.2.2.2.2.2.2.2.2.2.2.2) (fun s => I s.1 s.2.1 s.2.2.1 s.2.2.2.1 s.2.2.2.2.1 s.2.2.2.2.2.1 s.2.2.2.2.2.2.1 s.2.2.2.2.2.2.2.1 s.2.2.2.2.2.2.2.2.1 s.2.2.2.2.2.2.2.2.2.1 s.2.2.2.2.2.2.2.2.2.2.1 s.2.2.2.2.2.2.2.2.2.2.2.1 s.2.2.2.2.2.2.2.2.2.2.2.2.1 s.2.2.2.2.2.2.2.2.2.2.2.2.2) (fun s => μ s.1 s.2.1 s.2.2.1 s.2.2.2.1 s.2.2.2.2.1 s.2.2.2.2.2.1 s.2.2.2.2.2.2.1 s.2.2.2.2.2.2.2.1 s.2.2.2.2.2.2.2.2.1 s.2.2.2.2.2.2.2.2.2.1 s.2.2.2.2.2.2.2.2.2.2.1 s.2.2.2.2.2.2.2.2.2.2.2.1 s.2.2.2.2.2.2.2.2.2.2.2.2.1 s.2.2.2.2.2.2.2.2.2.2.2.2.2) (fun n s hI hk => hs n s.1 s.2.1 s.2.2.1 s.2.2.2.1 s.2.2.2.2.1 s.2.2.2.2.2.1 s.2.2.2.2.2.2.1 s.2.2.2.2.2.2.2.1 s.2.2.2.2.2.2.2.2.1 s.2.2.2.2.2.2.2.2.2.1 s.2.2.2.2.2.2.2.2.2.2.1 s.2.2.2.2.2.2.2.2.2.2.2.1 s.2.2.2.2.2.2.2.2.2.2.2.2.1 s.2.2.2.2.2.2.2.2.2.2.2.2.2 hI (fun b1 b2 b3 b4 b5 b6 b7 b8 b9 b10 b11 b12 b13 b14 h9 hm => hk (b1, b2, b3, b4, b5, b6, b7, b8, b9, b10, b11, b12, b13, b14) h9 hm)) (a1, a2, a3, a4, a5, a6, a7, a8, a9, a10, a11, a12, a13, a14) h
theorem lp15 {A1 A2 A3 A4 A5 A6 A7 A8 A9 A10 A11 A12 A13 A14 A15 : Type} (W : Nat → A1 → A2 → A3 → A4 → A5 → A6 → A7 → A8 → A9 → A10 → A11 → A12 → A13 → A14 → A15 → Prop) (I : A1 → A2 → A3 → A4 → A5 → A6 → A7 → A8 → A9 → A10 → A11 → A12 → A13 → A14 → A15 → Prop) (μ : A1 → A2 → A3 → A4 → A5 → A6 → A7 → A8 → A9 → A10 → A11 → A12 → A13 → A14 → A15 → Nat) (hs : ∀ (n : Nat) (a1 : A1) (a2 : A2) (a3 : A3) (a4 : A4) (a5 : A5) (a6 : A6) (a7 : A7) (a8 : A8) (a9 : A9) (a10 : A10) (a11 : A11) (a12 : A12) (a13 : A13) (a14 : A14) (a15 : A15), I a1 a2 a3 a4 a5 a6 a7 a8 a9 a10 a11 a12 a13 a14 a15 → (∀ (b1 : A1) (b2 : A2) (b3 : A3) (b4 : A4) (b5 : A5) (b6 : A6) (b7 : A7) (b8 : A8) (b9 : A9) (b10 : A10) (b11 : A11) (b12 : A12) (b13 : A13) (b14 : A14) (b15 : A15), I b1 b2 b3 b4 b5 b6 b7 b8 b9 b10 b11 b12 b13 b14 b15 → μ b1 b2 b3 b4 b5 b6 b7 b8 b9 b10 b11 b12 b13 b14 b15 < μ a1 a2 a3 a4 a5 a6 a7 a8 a9 a10 a11 a12 a13 a14 a15 → W n b1 b2 b3 b4 b5 b6 b7 b8 b9 b10 b11 b12 b13 b14 b15) → W (n + 1) a1 a2 a3 a4 a5 a6 a7 a8 a9 a10 a11 a12 a13 a14 a15) (a1 : A1) (a2 : A2) (a3 : A3) (a4 : A4) (a5 : A5) (a6 : A6) (a7 : A7) (a8 : A8) (a9 : A9) (a10 : A10) (a11 : A11) (a12 : A12) (a13 : A13) (a14 : A14) (a15 : A15) (h : I a1 a2 a3 a4 a5 a6 a7 a8 a9 a10 a11 a12 a13 a14 a15) : ∃ n, W n a1 a2 a3 a4 a5 a6 a7 a8 a9 a10 a11 a12 a13 a14 a15 :=
  loop_m (σ := A1 × A2 × A3 × A4 × A5 × A6 × A7 × A8 × A9 × A10 × A11 × A12 × A13 × A14 × A15) (fun n s => W n s.1 s.2.1 s.2.2.1 s.2.2.2.1 s.2.2.2.2.1 s.2.2.2.2.2.1 s.2.2.2.2.2.2.1 s.2.2.2.2.2.2.2.1 s.2.2.2.2.2.2.2.2.1 s.2.2.2.2.2.2.2.2.2.1 s.2.2.2.2.2.2.2.2.2.2.1 s.2.2.2.2.2.2.2.2.2.2.2.1 s.2.2.2.2.2.2.2.2.2.2.2.2.1 s.2.2.2.2.2.2.2.2.2.2.2.2.2.1 s.2.2.2.2.2.2.2.2.2.2.2.2.2.2) (fun s => I s.1 s.2.1 s.2.2.1 s.2.2.2.1 s.2.2.2.2.1 s.2.2.2.2.2.1 s.2.2.2.2.2.2.1 s.2.2.2.2.2.2.2.1 s.2.2.2.2.2.2.2.2.1 s.2.2.2.2.2.2.2.2.2.1 s.2.2.2.2.2.2.2.2.2.2.1 s.2.2.2.2.2.2.2.2.2.2.2.1 s.2.2.2.2.2.2.2.2.2.2.2.2.1 s.2.2.2.2.2.2.2.2.2.2.2.2.2.1 s.2.2.2.2.2.2.2.2.2.2.2.2.2.2) (fun s => μ s.1 s.2.1 s.2.2.1 s.2.2.2.1 s.2.2.2.2.1 s.2.2.2.2.2.1 s.2.2.2.2.2.2.1 s.2.2.2.2.2.2.2.1 s.2.2.2.2.2.2.2.2.1 s.2.2.2.2.2.2.2.2.2.1 s.2.2.2.2.2.2.2.2.2.2.1 s.2.2.2.2.2.2.2.2.2.2.2.1 s.2.2.2.2.2.2.2.2.2.2.2.2.1 s.2.2.2.2.2.2.2.2.2.2.2.2.2.1 s.2.2.2.2.2.2.2.2.2.2.2.2.2.2) (fun n s hI hk => hs n s.1 s.2.1 s.2.2.1 s.2.2.2.1 s.2.2.2.2.1 s.2.2.2.2.2.1 s.2.2.2.2.2.2.1 s.2.2.2.2.2.2.2.1 s.2.2.2.2.2.2.2.2.1 s.2.2.2.2.2.2.2.2.2.1 s.2.2.2.2.2.2.2.2.2.2.1 s.2.2.2.2.2.2.2.2.2.2.2.1 s.2.2.2.2.2.2.2.2.2.2.2.2.1 s.2.2.2.2.2.2.2.2.2.2.2.2.2.1 s.2.2.2.2.2.2.2.2.2.2.2.2.2.2 hI (fun b1 b2 b3 b4 b5 b6 b7 b8 b9 b10 b11 b12 b13 b14 b15 h9 hm => hk (b1, b2, b3, b4, b5, b6, b7, b8, b9, b10, b11, b12, b13, b14, b15) h9 hm)) (a1, a2, a3, a4, a5, a6, a7, a8, a9, a10, a11, a12, a13, a14, a15) h
theorem lp16 {A1 A2 A3 A4 A5 A6 A7 A8 A9 A10 A11 A12 A13 A14 A15 A16 : Type} (W : Nat → A1 → A2 → A3 → A4 → A5 → A6 → A7 → A8 → A9 → A10 → A11 → A12 → A13 → A14 → A15 → A16 → Prop) (I : A1 → A2 → A3 → A4 → A5 → A6 → A7 → A8 → A9 → A10 → A11 → A12 → A13 → A14 → A15 → A16 → Prop) (μ : A1 → A2 → A3 → A4 → A5 → A6 → A7 → A8 → A9 → A10 → A11 → A12 → A13 → A14 → A15 → A16 → Nat) (hs : ∀ (n : Nat) (a1 : A1) (a2 : A2) (a3 : A3) (a4 : A4) (a5 : A5) (a6 : A6) (a7 : A7) (a8 : A8) (a9 : A9) (a10 : A10) (a11 : A11) (a12 : A12) (a13 : A13) (a14 : A14) (a15 : A15) (a16 : A16), I a1 a2 a3 a4 a5 a6 a7 a8 a9 a10 a11 a12 a13 a14 a15 a16 → (∀ (b1 : A1) (b2 : A2) (b3 : A3) (b4 : A4) (b5 : A5) (b6 : A6) (b7 : A7) (b8 : A8) (b9 : A9) (b10 : A10) (b11 : A11) (b12 : A12) (b13 : A13) (b14 : A14) (b15 : A15) (b16 : A16), I b1 b2 b3 b4 b5 b6 b7 b8 b9 b10 b11 b12 b13 b14 b15 b16 → μ b1 b2 b3 b4 b5 b6 b7 b8 b9 b10 b11 b12 b13 b14 b15 b16 < μ a1 a2 a3 a4 a5 a6 a7 a8 a9 a10 a11 a12 a13 a14 a15 a16 → W n b1 b2 b3 b4 b5 b6 b7 b8 b9 b10 b11 b12 b13 b14 b15 b16) → W (n + 1) a1 a2 a3 a4 a5 a6 a7 a8 a9 a10 a11 a12 a13 a14 a15 a16) (a1 : A1) (a2 : A2) (a3 : A3) (a4 : A4) (a5 : A5) (a6 : A6) (a7 : A7) (a8 : A8) (a9 : A9) (a10 : A10) (a11 : A11) (a12 : A12) (a13 : A13) (a14 : A14) (a15 : A15) (a16 : A16) (h : I a1 a2 a3 a4 a5 a6 a7 a8 a9 a10 a11 a12 a13 a14 a15 a16) : ∃ n, W n a1 a2 a3 a4 a5 a6 a7 a8 a9 a10 a11 a12 a13 a14 a15 a16 :=
  loop_m (σ := A1 × A2 × A3 × A4 × A5 × A6 × A7 × A8 × A9 × A10 × A11 × A12 × A13 × A14 × A15 × A16) (fun n s => W n s.1 s.2.1 s.2.2.1 s.2.2.2.1 s.2.2.2.2.1 s.2.2.2.2.2.1 s.2.2.2.2.2.2.1 s.2.2.2.2.2.2.2.1 s.2.2.2.2.2.2.2.2.1 s.2.2.2.2.2.2.2.2.2.1 s.2.2.2.2.2.2.2.2.2.2.1 s.2.2.2.2.2.2.2.2.2.2.2.1 s.2.2.2.2.2.2.2.2.2.2.2.2.1 s.2.2.2.2.2.2.2.2.2.2.2.2.2.1 s.2.2.2.2.2.2.2.2.2.2.2.2.2.2.1 s.2.2.2.2.2.2.2.2.2.2.2.2.2.2.2) (fun s => I s.1 s.2.1 s.2.2.1 s.2.2.2.1 s.2.2.2.2.1 s.2.2.2.2.2.1 s.2.2.2.2.2.2.1 s.2.2.2.2.2.2.2.1 s.2.2.2.2.2.2.2.2.1 s.2.2.2.2.2.2.2.2.2.1 s.2.2.2.2.2.2.2.2.2.2.1 s.2.2.2.2.2.2.2.2.2.2.2.1 s.2.2.2.2.2.2.2.2.2.2.2.2.1 s.2.2.2.2.2.2.2.2.2.2.2.2.2.1 s.2.2.2.2.2.2.2.2.2.2.2.2.2.2.1 s.2.2.2.2.2.2.2.2.2.2.2.2.2.2.2) (fun s => μ s.1 s.2.1 s.2.2.1 s.2.2.2.1 s.2.2.2.2.1 s.2.2.2.2.2.1 s.2.2.2.2.2.2.1 s.2.2.2.2.2.2.2.1 s.2.2.2.2.2.2.2.2.1 s.2.2.2.2.2.2.2.2.2.1 s.2.2.2.2.2.2.2.2.2.2.1 s.2.2.2.2.2.2.2.2.2.2.2.1 s.2.2.2.2.2.2.2.2.2.2.2.2.1 s.2.2.2.2.2.2.2.2.2.2.2.2.2.1 s.2.2.2.2.2.2.2.2.2.2.2.2.2.2.1 s.2.2.2.2.2.2.2.2.2.2.2.2.2.2.2) (fun n s hI hk => hs n s.1 s.2.1 s.2.2.1 s.2.2.2.1 s.2.2.2.2.1 s.2.2.2.2.2.1 s.2.2.2.2.2.2.1 s.2.2.2.2.2.2.2.1 s.2.2.2.2.2.2.2.2.1 s.2.2.2.2.2.2.2.2.2.1 s.2.2.2.2.2.2.2.2.2.2.1 s.2.2.2.2.2.2.2.2.2.2.2.1 s.2.2.2.2.2.2.2.2.2.2.2.2.1 s.2.2.2.2.2.2.2.2.2.2.2.2.2.1 s.2.2.2.2.2.2.2.2.2.2.2.2.2.2.1 s.2.2.2.2.2.2.2.2.2.2.2.2.2.2.2 hI (fun b1 b2 b3 b4 b5 b6 b7 b8 b9 b10 b11 b12 b13 b14 b15 b16 h9 hm => hk (b1, b2, b3, b4, b5, b6, b7, b8, b9, b10, b11, b12, b13, b14, b15, b16) h9 hm)) (a1, a2, a3, a4, a5, a6, a7, a8, a9, a10, a11, a12, a13, a14, a15, a16) h
theorem pk_least (P : Nat → Prop) (h : ∃ k, P k) : ∃ k, P k ∧ ∀ j, j < k → ¬ P j := by
  obtain ⟨k, hk⟩ := h
  induction k using Nat.strongRecOn with
  | ind k ih =>
    by_cases e : ∃ j, j < k ∧ P j
    · obtain ⟨j, hj, pj⟩ := e
      exact ih j hj pj
    · exact ⟨k, hk, fun j hj pj => e ⟨j, hj, pj⟩⟩
theorem rp1 {ρ A1 : Type} (W : Nat → (ρ → Prop) → A1 → Prop) (ok : A1 → Prop) (μ : A1 → Nat) (val : A1 → ρ)
    (hs : ∀ (d : Nat) (post : ρ → Prop) (a1 : A1), ok a1 → post (val a1) → (∀ (post' : ρ → Prop) (b1 : A1), ok b1 → μ b1 < μ a1 → post' (val b1) → W d post' b1) → W (d + 1) post a1) :
    ∀ (d : Nat) (post : ρ → Prop) (a1 : A1), ok a1 → μ a1 < d → post (val a1) → W d post a1 := by
  intro d
  induction d with
  | zero => intro post a1 _ h; omega
  | succ d ih =>
    intro post a1 ho hm hp
    exact hs d post a1 ho hp (fun post' b1 ho' hm' hp' => ih post' b1 ho' (by omega) hp')
theorem rp2 {ρ A1 A2 : Type} (W : Nat → (ρ → Prop) → A1 → A2 → Prop) (ok : A1 → A2 → Prop) (μ : A1 → A2 → Nat) (val : A1 → A2 → ρ)
    (hs : ∀ (d : Nat) (post : ρ → Prop) (a1 : A1) (a2 : A2), ok a1 a2 → post (val a1 a2) → (∀ (post' : ρ → Prop) (b1 : A1) (b2 : A2), ok b1 b2 → μ b1 b2 < μ a1 a2 → post' (val b1 b2) → W d post' b1 b2) → W (d + 1) post a1 a2) :
    ∀ (d : Nat) (post : ρ → Prop) (a1 : A1) (a2 : A2), ok a1 a2 → μ a1 a2 < d → post (val a1 a2) → W d post a1 a2 := by
  intro d
  induction d with
  | zero => intro post a1 a2 _ h; omega
  | succ d ih =>
    intro post a1 a2 ho hm hp
    exact hs d post a1 a2 ho hp (fun post' b1 b2 ho' hm' hp' => ih post' b1 b2 ho' (by omega) hp')
theorem rp3 {ρ A1 A2 A3 : Type} (W : Nat → (ρ → Prop) → A1 → A2 → A3 → Prop) (ok : A1 → A2 → A3 → Prop) (μ : A1 → A2 → A3 → Nat) (val : A1 → A2 → A3 → ρ)
    (hs : ∀ (d : Nat) (post : ρ → Prop) (a1 : A1) (a2 : A2) (a3 : A3), ok a1 a2 a3 → post (val a1 a2 a3) → (∀ (post' : ρ → Prop) (b1 : A1) (b2 : A2) (b3 : A3), ok b1 b2 b3 → μ b1 b2 b3 < μ a1 a2 a3 → post' (val b1 b2 b3) → W d post' b1 b2 b3) → W (d + 1) post a1 a2 a3) :
    ∀ (d : Nat) (post : ρ → Prop) (a1 : A1) (a2 : A2) (a3 : A3), ok a1 a2 a3 → μ a1 a2 a3 < d → post (val a1 a2 a3) → W d post a1 a2 a3 := by
  intro d
  induction d with
  | zero => intro post a1 a2 a3 _ h; omega
  | succ d ih =>
    intro post a1 a2 a3 ho hm hp
    exact hs d post a1 a2 a3 ho hp (fun post' b1 b2 b3 ho' hm' hp' => ih post' b1 b2 b3 ho' (by omega) hp')
theorem rp4 {ρ A1 A2 A3 A4 : Type} (W : Nat → (ρ → Prop) → A1 → A2 → A3 → A4 → Prop) (ok : A1 → A2 → A3 → A4 → Prop) (μ : A1 → A2 → A3 → A4 → Nat) (val : A1 → A2 → A3 → A4 → ρ)
    (hs : ∀ (d : Nat) (post : ρ → Prop) (a1 : A1) (a2 : A2) (a3 : A3) (a4 : A4), ok a1 a2 a3 a4 → post (val a1 a2 a3 a4) → (∀ (post' : ρ → Prop) (b1 : A1) (b2 : A2) (b3 : A3) (b4 : A4), ok b1 b2 b3 b4 → μ b1 b2 b3 b4 < μ a1 a2 a3 a4 → post' (val b1 b2 b3 b4) → W d post' b1 b2 b3 b4) → W (d + 1) post a1 a2 a3 a4) :
    ∀ (d : Nat) (post : ρ → Prop) (a1 : A1) (a2 : A2) (a3 : A3) (a4 : A4), ok a1 a2 a3 a4 → μ a1 a2 a3 a4 < d → post (val a1 a2 a3 a4) → W d post a1 a2 a3 a4 := by
  intro d
  induction d with
  | zero => intro post a1 a2 a3 a4 _ h; omega
  | succ d ih =>
    intro post a1 a2 a3 a4 ho hm hp
    exact hs d post a1 a2 a3 a4 ho hp (fun post' b1 b2 b3 b4 ho' hm' hp' => ih post' b1 b2 b3 b4 ho' (by omega) hp')
theorem rp5 {ρ A1 A2 A3 A4 A5 : Type} (W : Nat → (ρ → Prop) → A1 → A2 → A3 → A4 → A5 → Prop) (ok : A1 → A2 → A3 → A4 → A5 → Prop) (μ : A1 → A2 → A3 → A4 → A5 → Nat) (val : A1 → A2 → A3 → A4 → A5 → ρ)
    (hs : ∀ (d : Nat) (post : ρ → Prop) (a1 : A1) (a2 : A2) (a3 : A3) (a4 : A4) (a5 : A5), ok a1 a2 a3 a4 a5 → post (val a1 a2 a3 a4 a5) → (∀ (post' : ρ → Prop) (b1 : A1) (b2 : A2) (b3 : A3) (b4 : A4) (b5 : A5), ok b1 b2 b3 b4 b5 → μ b1 b2 b3 b4 b5 < μ a1 a2 a3 a4 a5 → post' (val b1 b2 b3 b4 b5) → W d post' b1 b2 b3 b4 b5) → W (d + 1) post a1 a2 a3 a4 a5) :
    ∀ (d : Nat) (post : ρ → Prop) (a1 : A1) (a2 : A2) (a3 : A3) (a4 : A4) (a5 : A5), ok a1 a2 a3 a4 a5 → μ a1 a2 a3 a4 a5 < d → post (val a1 a2 a3 a4 a5) → W d post a1 a2 a3 a4 a5 := by
  intro d
  induction d with
  | zero => intro post a1 a2 a3 a4 a5 _ h; omega
  | succ d ih =>
    intro post a1 a2 a3 a4 a5 ho hm hp
    exact hs d post a1 a2 a3 a4 a5 ho hp (fun post' b1 b2 b3 b4 b5 ho' hm' hp' => ih post' b1 b2 b3 b4 b5 ho' (by omega) hp')
theorem rp6 {ρ A1 A2 A3 A4 A5 A6 : Type} (W : Nat → (ρ → Prop) → A1 → A2 → A3 → A4 → A5 → A6 → Prop) (ok : A1 → A2 → A3 → A4 → A5 → A6 → Prop) (μ : A1 → A2 → A3 → A4 → A5 → A6 → Nat) (val : A1 → A2 → A3 → A4 → A5 → A6 → ρ)
    (hs : ∀ (d : Nat) (post : ρ → Prop) (a1 : A1) (a2 : A2) (a3 : A3) (a4 : A4) (a5 : A5) (a6 : A6), ok a1 a2 a3 a4 a5 a6 → post (val a1 a2 a3 a4 a5 a6) → (∀ (post' : ρ → Prop) (b1 : A1) (b2 : A2) (b3 : A3) (b4 : A4) (b5 : A5) (b6 : A6), ok b1 b2 b3 b4 b5 b6 → μ b1 b2 b3 b4 b5 b6 < μ a1 a2 a3 a4 a5 a6 → post' (val b1 b2 b3 b4 b5 b6) → W d post' b1 b2 b3 b4 b5 b6) → W (d + 1) post a1 a2 a3 a4 a5 a6) :
    ∀ (d : Nat) (post : ρ → Prop) (a1 : A1) (a2 : A2) (a3 : A3) (a4 : A4) (a5 : A5) (a6 : A6), ok a1 a2 a3 a4 a5 a6 → μ a1 a2 a3 a4 a5 a6 < d → post (val a1 a2 a3 a4 a5 a6) → W d post a1 a2 a3 a4 a5 a6 := by
  intro d
  induction d with
  | zero => intro post a1 a2 a3 a4 a5 a6 _ h; omega
  | succ d ih =>
    intro post a1 a2 a3 a4 a5 a6 ho hm hp
    exact hs d post a1 a2 a3 a4 a5 a6 ho hp (fun post' b1 b2 b3 b4 b5 b6 ho' hm' hp' => ih post' b1 b2 b3 b4 b5 b6 ho' (by omega) hp')
theorem rec_p {σ ρ : Type} (W : Nat → (ρ → Prop) → σ → Prop) (ok : σ → Prop) (μ : σ → Nat) (val : σ → ρ)
    (hs : ∀ d s post, ok s → post (val s) → (∀ s' post', ok s' → μ s' < μ s → post' (val s') → W d post' s') → W (d + 1) post s) :
    ∀ d s post, ok s → μ s < d → post (val s) → W d post s := by
  intro d
  induction d with
  | zero => intro s post _ h; omega
  | succ d ih =>
    intro s post ho hm hp
    exact hs d s post ho hp (fun s' post' ho' hm' hp' => ih s' post' ho' (by omega) hp')
theorem rec_q {σ ρ : Type} (W : Nat → (ρ → Prop) → σ → Prop) (ok : σ → Prop) (μ : σ → Nat) (Q : σ → ρ → Prop)
    (hs : ∀ d s post, ok s → (∀ r, Q s r → post r) → (∀ s' post', ok s' → μ s' < μ s → (∀ r, Q s' r → post' r) → W d post' s') → W (d + 1) post s) :
    ∀ d s post, ok s → μ s < d → (∀ r, Q s r → post r) → W d post s := by
  intro d
  induction d with
  | zero => intro s post _ h; omega
  | succ d ih =>
    intro s post ho hm hp
    exact hs d s post ho hp (fun s' post' ho' hm' hp' => ih s' post' ho' (by omega) hp')
def bx_sum (f : Nat → Int32) : Nat → Int32
  | 0 => 0
  | n + 1 => bx_sum f n + f n
theorem ek_u {A : Prop} {B : Nat → Prop} {k N : Nat} (hk : k < N) (h : B k) : (some k = none → A) ∧ (∀ y : Nat, some k = some y → (y < N ∧ B y)) :=
  ⟨fun z => absurd z (Option.some_ne_none k), fun _ e => (by cases e; exact ⟨hk, h⟩)⟩
theorem ek_nu {A : Prop} {B : Nat → Prop} (h : A) : ((none : Option Nat) = none → A) ∧ (∀ y : Nat, (none : Option Nat) = some y → B y) :=
  ⟨fun _ => h, fun _ e => (by cases e)⟩
theorem ek_if {c d A B : Prop} (e : c ↔ d) (f : d → A) (g : ¬ d → B) : (c → A) ∧ (¬ c → B) :=
  ⟨fun z => f (e.mp z), fun z => g (fun y => z (e.mpr y))⟩
theorem ek_v {α : Sort _} {P : α → Prop} {a b : α} (e : a = b) (h : P b) : P a := e ▸ h
theorem co_some {x : Option Nat} {A : Prop} {B : Nat → Prop} (i : Nat) (h : B i) (hx : x = some i := by rfl) : (x = none → A) ∧ (∀ y : Nat, x = some y → B y) := by
  subst hx
  exact ⟨fun e => (nomatch e), fun y e => Option.some.inj e ▸ h⟩
theorem co_none {x : Option Nat} {A : Prop} {B : Nat → Prop} (h : A) (hx : x = none := by rfl) : (x = none → A) ∧ (∀ y : Nat, x = some y → B y) := by
  subst hx
  exact ⟨fun _ => h, fun y e => (nomatch e)⟩
theorem co_any {x : Option Nat} {A : Prop} {B : Nat → Prop} (hn : x = none → A) (hs : ∀ i : Nat, x = some i → B i) : (x = none → A) ∧ (∀ y : Nat, x = some y → B y) := ⟨hn, hs⟩
theorem co_2 {P : Nat → Prop} (h0 : P 0) (h1 : P 1) {i : Nat} (hi : i < 2) : P i :=
  match i, hi with
  | 0, _ => h0
  | 1, _ => h1
theorem co_3 {P : Nat → Prop} (h0 : P 0) (h1 : P 1) (h2 : P 2) {i : Nat} (hi : i < 3) : P i :=
  match i, hi with
  | 0, _ => h0
  | 1, _ => h1
  | 2, _ => h2
theorem co_4 {P : Nat → Prop} (h0 : P 0) (h1 : P 1) (h2 : P 2) (h3 : P 3) {i : Nat} (hi : i < 4) : P i :=
  match i, hi with
  | 0, _ => h0
  | 1, _ => h1
  | 2, _ => h2
  | 3, _ => h3
theorem co_dec {N : Nat} {P : Nat → Prop} [DecidablePred P] (h : (List.range N).all (fun i => decide (P i)) = true) {i : Nat} (hi : i < N) : P i := by
  have := List.all_eq_true.mp h i (List.mem_range.mpr hi)
  exact of_decide_eq_true this
theorem co_tab {α : Type} {l : List α} {d : α} {P : α → Prop} (h : ∀ a, a ∈ l → P a) {i : Nat} (hi : i < l.length) : P (l.getD i d) := by
  rw [List.getD_eq_getElem?_getD, List.getElem?_eq_getElem hi]
  exact h _ (List.getElem_mem hi)
theorem pk_mu {x : Int32} {L : Nat} (h0 : ¬ x < 0) (h : ¬ nI L ≤ x) (hL : L < 2 ^ 31) : ∃ j : Nat, j < L ∧ x = nI j ∧ x + 1 = nI (j + 1) ∧ x.toNatClampNeg = j ∧ L - (x + 1).toNatClampNeg < L - x.toNatClampNeg := by
  obtain ⟨j, hj, rfl⟩ := nI_of h0
  have hl : j < L := Nat.not_le.mp fun q => h (nI_le q hj)
  refine ⟨j, hl, rfl, nI_1 j, nI_clamp hj, ?_⟩
  rw [nI_1, nI_clamp (by omega), nI_clamp hj]
  omega
theorem op_s {α : Type} {r : Option α} {A : Prop} {B : α → Prop} {y : α} (h : r = some y) (b : B y) : (r = none → A) ∧ ∀ z, r = some z → B z :=
  ⟨fun e => (by rw [h] at e; cases e), fun z e => (by rw [h] at e; cases e; exact b)⟩
def l_holds {α : Type} (a : Nat → Option Nat) (LP : List Nat) (p : Nat → α) (c : Nat) (b : Nat → α) : Prop :=
  ∀ j, j < c → ∃ y, a j = some y ∧ y ∈ LP ∧ p y = b j
theorem l_holds_0 {α : Type} {a : Nat → Option Nat} {LP : List Nat} {p b : Nat → α} : l_holds a LP p 0 b := fun j h => absurd h (Nat.not_lt_zero j)
theorem l_in_new (LP : List Nat) (q : Nat) : q ∈ LP ++ [q] := List.mem_append.mpr (Or.inr (List.mem_singleton.mpr rfl))
def l_sum (b : Nat → Int32) : Nat → Int32
  | 0 => 0
  | k + 1 => l_sum b k + b k
theorem sb_shr0 (x : Int32) : x >>> ((0 : Int32) &&& 31) = x := by
  rw [show ((0 : Int32) &&& 31) = 0 by decide]
  simp
theorem sb_shl0 (x : Int32) : x <<< ((0 : Int32) &&& 31) = x := by
  rw [show ((0 : Int32) &&& 31) = 0 by decide]
  simp
theorem sb_cl0 : (0 : Int32).toNatClampNeg = 0 := by decide
theorem sb_m1 {p : Nat} (h : 0 < p) : nI p + (-1) = nI (p - 1) := by
  obtain ⟨q, rfl⟩ : ∃ q, p = q + 1 := ⟨p - 1, by omega⟩
  exact pk_m1 q
def sb_b (c : Nat) : Int32 := (nI c).toInt8.toInt32
theorem sb_byte : ∀ c, c < 256 → sb_b c &&& 255 = nI c ∧ ((nI c).toUInt32 % 65536).toInt32 = nI c ∧ nI c ≤ 255 := by decide +kernel
def sb_Fit (a : Nat → Int32) : Prop := ∀ j, fits .byte (.int (a j)) = true
def sb_Lat (t : Nat → Nat) (n : Nat) (a : Nat → Int32) : Prop := ∀ j, j < n → t j < 256 ∧ a j = sb_b (t j)
theorem sb_fitB (c : Nat) : fits .byte (.int (sb_b c)) = true := pk_fb _
theorem sb_fit0 : sb_Fit (fun _ => 0) := fun _ => by
  show fits .byte (.int 0) = true
  decide
theorem sb_fitU {a : Nat → Int32} {k : Nat} {x : Int32} (h : sb_Fit a) (hx : fits .byte (.int x) = true) : sb_Fit (upd a k x) := by
  intro j
  by_cases e : j = k
  · subst e
    rw [pk_us]
    exact hx
  · rw [pk_un e]
    exact h j
def sb_cat (t : Nat → Nat) (n : Nat) (s : Nat → Nat) : Nat → Nat := fun j => if j < n then t j else s (j - n)
theorem sb_cat_lo {t s : Nat → Nat} {n j : Nat} (h : j < n) : sb_cat t n s j = t j := if_pos h
theorem sb_cat_hi {t s : Nat → Nat} {n j : Nat} : sb_cat t n s (n + j) = s j := by
  show (if n + j < n then t (n + j) else s (n + j - n)) = s j
  rw [if_neg (by omega), Nat.add_sub_cancel_left]
theorem sb_latPut {t s : Nat → Nat} {n w : Nat} {a a' : Nat → Int32} (h : sb_Lat t n a) (hk : ∀ j, j < n → a' j = a j) (hs : ∀ i, i < w → s i < 256 ∧ a' (n + i) = sb_b (s i)) : sb_Lat (sb_cat t n s) (n + w) a' := by
  intro j hj
  by_cases e : j < n
  · rw [sb_cat_lo e, hk j e]
    exact h j e
  · obtain ⟨i, rfl⟩ : ∃ i, j = n + i := ⟨j - n, by omega⟩
    rw [sb_cat_hi]
    exact hs i (by omega)
theorem sb_latKeep {t : Nat → Nat} {n : Nat} {a a' : Nat → Int32} (h : sb_Lat t n a) (hk : ∀ j, j < n → a' j = a j) : sb_Lat t n a' := fun j hj => by
  rw [hk j hj]
  exact h j hj
def sb_cap (q m : Nat) : Nat := if q ≤ m then m else if 2 * m + 2 < q then q else 2 * m + 2
def sb_Room (q m mc ms : Nat) : Prop := q ≤ m ∨ (1 ≤ mc ∧ sb_cap q m ≤ ms ∧ sb_cap q m ≤ 65536)
theorem sb_cap_ge (q m : Nat) : q ≤ sb_cap q m := by
  unfold sb_cap
  split
  · omega
  · split <;> omega
theorem sb_cap_gem (q m : Nat) : m ≤ sb_cap q m := by
  unfold sb_cap
  split
  · omega
  · split <;> omega
theorem sb_cap_le {q m mc ms : Nat} (hm : m ≤ 65536) (hr : sb_Room q m mc ms) : sb_cap q m ≤ 65536 := by
  rcases hr with h | h
  · rw [sb_cap, if_pos h]
    exact hm
  · exact h.2.2
theorem sb_at {P : Int32 → Prop} {x y : Int32} (e : x = y) (h : P y) : P x := e ▸ h
def sb_dg (w : Nat) : Nat := if w < 10 then 1 else if w < 100 then 2 else if w < 1000 then 3 else if w < 10000 then 4 else if w < 100000 then 5 else if w < 1000000 then 6 else if w < 10000000 then 7 else if w < 100000000 then 8 else if w < 1000000000 then 9 else 10
def sb_dec (v : Nat) : Nat → Nat := fun i => 48 + v / 10 ^ (sb_dg v - 1 - i) % 10
theorem sb_dg_in (w : Nat) : 1 ≤ sb_dg w ∧ sb_dg w ≤ 10 := by
  unfold sb_dg
  constructor <;> (repeat' split) <;> omega
theorem sb_dg100 {w : Nat} (h : 100 ≤ w) (hw : w < 2 ^ 31) : sb_dg w = sb_dg (w / 100) + 2 := by
  rw [sb_dg, sb_dg, if_neg (show ¬ w < 10 by omega), if_neg (show ¬ w < 100 by omega)]
  by_cases h3 : w < 1000
  · rw [if_pos h3, if_pos (show w / 100 < 10 by omega)]
  rw [if_neg h3, if_neg (show ¬ w / 100 < 10 by omega)]
  by_cases h4 : w < 10000
  · rw [if_pos h4, if_pos (show w / 100 < 100 by omega)]
  rw [if_neg h4, if_neg (show ¬ w / 100 < 100 by omega)]
  by_cases h5 : w < 100000
  · rw [if_pos h5, if_pos (show w / 100 < 1000 by omega)]
  rw [if_neg h5, if_neg (show ¬ w / 100 < 1000 by omega)]
  by_cases h6 : w < 1000000
  · rw [if_pos h6, if_pos (show w / 100 < 10000 by omega)]
  rw [if_neg h6, if_neg (show ¬ w / 100 < 10000 by omega)]
  by_cases h7 : w < 10000000
  · rw [if_pos h7, if_pos (show w / 100 < 100000 by omega)]
  rw [if_neg h7, if_neg (show ¬ w / 100 < 100000 by omega)]
  by_cases h8 : w < 100000000
  · rw [if_pos h8, if_pos (show w / 100 < 1000000 by omega)]
  rw [if_neg h8, if_neg (show ¬ w / 100 < 1000000 by omega)]
  by_cases h9 : w < 1000000000
  · rw [if_pos h9, if_pos (show w / 100 < 10000000 by omega)]
  rw [if_neg h9, if_neg (show ¬ w / 100 < 10000000 by omega)]
  rw [if_pos (show w / 100 < 100000000 by omega)]
theorem sb_negT {w : Nat} (h : w < 2 ^ 31) : (-nI w).toInt = -(w : Int) := by
  rw [Int32.toInt_neg, nI_toInt h]
  exact Int.bmod_eq_of_le (by omega) (by omega)
theorem sb_nle {a b : Nat} (ha : a < 2 ^ 31) (hb : b < 2 ^ 31) : -nI a ≤ -nI b ↔ b ≤ a := by
  rw [Int32.le_iff_toInt_le, sb_negT ha, sb_negT hb]
  omega
theorem sb_nlt {a b : Nat} (ha : a < 2 ^ 31) (hb : b < 2 ^ 31) : -nI a < -nI b ↔ b < a := by
  rw [Int32.lt_iff_toInt_lt, sb_negT ha, sb_negT hb]
  omega
theorem sb_cmp {A B : Prop} {x : Int32} (v c : Nat) (f : c ≤ v → A) (g : v < c → B) (hv : v < 2 ^ 31) (hx : x = -nI c := by rfl) (hc : c < 2 ^ 31 := by omega) : (-nI v ≤ x → A) ∧ (¬ -nI v ≤ x → B) := by
  subst hx
  rw [sb_nle hv hc]
  exact ⟨f, fun z => g (by omega)⟩
theorem sb_ndiv {w : Nat} (hw : w < 2 ^ 31) : (-nI w) / 100 = -nI (w / 100) := by
  apply Int32.toInt_inj.mp
  have h100 : (100 : Int32).toInt = 100 := by decide
  rw [Int32.toInt_div, sb_negT hw, h100, sb_negT (by omega), Int.neg_tdiv, Int.tdiv_eq_ediv_of_nonneg (by omega), Int.bmod_eq_of_le (by omega) (by omega)]
  omega
theorem sb_nrem {w : Nat} (hw : w < 2 ^ 31) : (-nI (w / 100)) * 100 - (-nI w) = nI (w % 100) := by
  have h := pk_rem (a := w) (d := 100) hw (by decide) (by decide)
  rw [pk_div hw (by decide) (by decide)] at h
  rw [← h]
  show (-nI (w / 100)) * nI 100 - (-nI w) = nI w - nI (w / 100) * nI 100
  rw [Int32.neg_mul, Int32.sub_neg, Int32.add_comm, ← Int32.sub_eq_add_neg]
end
section
def ss_eqs (T : Nat → Nat) (s r d : Nat) : Prop := ∀ i, i < d → T (s + i) = T (r + i)
def ss_lf (s : Nat) : Nat := 32 + s % 32
def ss_u (f : Nat → Nat) (k x : Nat) : Nat → Nat := fun j => if j = k then x else f j
theorem ss_us (f : Nat → Nat) (k x : Nat) : ss_u f k x k = x := if_pos rfl
theorem ss_un (f : Nat → Nat) {k x j : Nat} (h : j ≠ k) : ss_u f k x j = f j := if_neg h
theorem ss_upd (f : Nat → Nat) (k x : Nat) : upd (fun j => nI (f j)) k (nI x) = fun j => nI (ss_u f k x j) := by
  funext j
  show (if j = k then nI x else nI (f j)) = nI (if j = k then x else f j)
  by_cases e : j = k
  · rw [if_pos e, if_pos e]
  · rw [if_neg e, if_neg e]
theorem ss_uu (f : Nat → Nat) (k x y : Nat) : ss_u (ss_u f k x) k y = ss_u f k y := by
  funext j
  by_cases e : j = k
  · rw [e, ss_us, ss_us]
  · rw [ss_un _ e, ss_un _ e, ss_un _ e]
section
variable {T : Nat → Nat} {s r q d d' k : Nat}
theorem ss_er : ss_eqs T s s d := fun _ _ => rfl
theorem ss_es (h : ss_eqs T s r d) : ss_eqs T r s d := fun i hi => (h i hi).symm
theorem ss_et (h1 : ss_eqs T s r d) (h2 : ss_eqs T r q d) : ss_eqs T s q d := fun i hi => (h1 i hi).trans (h2 i hi)
theorem ss_em (h : ss_eqs T s r d) (hd : d' ≤ d) : ss_eqs T s r d' := fun i hi => h i (by omega)
theorem ss_ek (h : ss_eqs T s r d) (k : Nat) (hk : k + d' ≤ d) : ss_eqs T (s + k) (r + k) d' := fun i hi => by
  have h2 := h (k + i) (by omega)
  rw [← Nat.add_assoc, ← Nat.add_assoc] at h2
  exact h2
theorem ss_e1 (h : ss_eqs T s r d) (e : T (s + d) = T (r + d)) : ss_eqs T s r (d + 1) := fun i hi => by
  by_cases z : i = d
  · rw [z]; exact e
  · exact h i (by omega)
theorem ss_e0 : ss_eqs T s r 0 := fun i hi => absurd hi (by omega)
theorem ss_eT {T' : Nat → Nat} {E : Nat} (hT : ∀ i, i < E → T' i = T i) (h : ss_eqs T s r d) (hs : s + d ≤ E) (hr : r + d ≤ E) : ss_eqs T' s r d := fun i hi => by
  rw [hT _ (by omega), hT _ (by omega)]
  exact h i hi
end
noncomputable def ss_b (p : Prop) : Nat := @ite Nat p (Classical.propDecidable p) 1 0
theorem ss_b1 {p : Prop} (h : p) : ss_b p = 1 := by unfold ss_b; exact if_pos h
theorem ss_b0 {p : Prop} (h : ¬ p) : ss_b p = 0 := by unfold ss_b; exact if_neg h
theorem ss_bc {p q : Prop} (h : p ↔ q) : ss_b p = ss_b q := by
  by_cases e : p
  · rw [ss_b1 e, ss_b1 (h.mp e)]
  · rw [ss_b0 e, ss_b0 (fun z => e (h.mpr z))]
noncomputable def ss_cn (p : Nat → Prop) : Nat → Nat
  | 0 => 0
  | n + 1 => ss_cn p n + ss_b (p n)
theorem ss_cn_s (p : Nat → Prop) (n : Nat) : ss_cn p (n + 1) = ss_cn p n + ss_b (p n) := rfl
theorem ss_cn_c {p q : Nat → Prop} : ∀ {n : Nat}, (∀ i, i < n → (p i ↔ q i)) → ss_cn p n = ss_cn q n := by
  intro n
  induction n with
  | zero => intro _; rfl
  | succ n ih =>
    intro h
    rw [ss_cn_s, ss_cn_s, ih (fun i hi => h i (by omega)), ss_bc (h n (by omega))]
theorem ss_cn_z {p : Nat → Prop} : ∀ {n : Nat}, (∀ i, i < n → ¬ p i) → ss_cn p n = 0 := by
  intro n
  induction n with
  | zero => intro _; rfl
  | succ n ih =>
    intro h
    rw [ss_cn_s, ih (fun i hi => h i (by omega)), ss_b0 (h n (by omega))]
theorem ss_cn_1 {p q : Nat → Prop} {j : Nat} (hp : ¬ p j) (hq : q j) : ∀ {n : Nat}, j < n → (∀ i, i < n → i ≠ j → (p i ↔ q i)) → ss_cn q n = ss_cn p n + 1 := by
  intro n
  induction n with
  | zero => intro h; exact absurd h (by omega)
  | succ n ih =>
    intro hj h
    rw [ss_cn_s, ss_cn_s]
    by_cases e : j = n
    · subst e
      rw [ss_b1 hq, ss_b0 hp, ss_cn_c (p := q) (q := p) (fun i hi => (h i (by omega) (by omega)).symm)]
    · rw [ih (by omega) (fun i hi => h i (by omega)), ss_bc (h n (by omega) (fun z => e z.symm))]
      omega
theorem ss_cn_pos {p : Nat → Prop} {j : Nat} (hp : p j) : ∀ {n : Nat}, j < n → 0 < ss_cn p n := by
  intro n
  induction n with
  | zero => intro h; exact absurd h (by omega)
  | succ n ih =>
    intro hj
    rw [ss_cn_s]
    by_cases e : j = n
    · subst e
      rw [ss_b1 hp]; omega
    · have := ih (by omega)
      omega
theorem ss_cn_x {p : Nat → Prop} {n : Nat} : ∀ {m : Nat}, n ≤ m → (∀ i, n ≤ i → i < m → ¬ p i) → ss_cn p m = ss_cn p n := by
  intro m
  induction m with
  | zero => intro h _; have e : n = 0 := by omega
            rw [e]
  | succ m ih =>
    intro h hz
    by_cases e : n = m + 1
    · rw [e]
    · rw [ss_cn_s, ih (by omega) (fun i h1 h2 => hz i h1 (by omega)), ss_b0 (hz m (by omega) (by omega))]
      rfl
theorem ss_cn_or {p q r : Nat → Prop} : ∀ {n : Nat}, (∀ i, i < n → (r i ↔ p i ∨ q i)) → (∀ i, i < n → p i → ¬ q i) → ss_cn r n = ss_cn p n + ss_cn q n := by
  intro n
  induction n with
  | zero => intro _ _; rfl
  | succ n ih =>
    intro h hd
    rw [ss_cn_s, ss_cn_s, ss_cn_s, ih (fun i hi => h i (by omega)) (fun i hi => hd i (by omega))]
    have h1 := h n (by omega)
    have h2 := hd n (by omega)
    by_cases e : p n
    · rw [ss_b1 e, ss_b1 (h1.mpr (Or.inl e)), ss_b0 (h2 e)]; omega
    · by_cases e2 : q n
      · rw [ss_b0 e, ss_b1 (h1.mpr (Or.inr e2)), ss_b1 e2]; omega
      · rw [ss_b0 e, ss_b0 e2, ss_b0 (fun z => (h1.mp z).elim e e2)]; omega
theorem ss_cn_le {p : Nat → Prop} : ∀ {n : Nat}, ss_cn p n ≤ n := by
  intro n
  induction n with
  | zero => exact Nat.le_refl _
  | succ n ih =>
    rw [ss_cn_s]
    by_cases e : p n
    · rw [ss_b1 e]; omega
    · rw [ss_b0 e]; omega
def ss_sm (f : Nat → Nat) : Nat → Nat
  | 0 => 0
  | n + 1 => ss_sm f n + f n
theorem ss_sm_s (f : Nat → Nat) (n : Nat) : ss_sm f (n + 1) = ss_sm f n + f n := rfl
theorem ss_sm_c {f g : Nat → Nat} : ∀ {n : Nat}, (∀ i, i < n → f i = g i) → ss_sm f n = ss_sm g n := by
  intro n
  induction n with
  | zero => intro _; rfl
  | succ n ih =>
    intro h
    rw [ss_sm_s, ss_sm_s, ih (fun i hi => h i (by omega)), h n (by omega)]
theorem ss_sm_a {f g k : Nat → Nat} : ∀ {n : Nat}, (∀ i, i < n → k i = f i + g i) → ss_sm k n = ss_sm f n + ss_sm g n := by
  intro n
  induction n with
  | zero => intro _; rfl
  | succ n ih =>
    intro h
    rw [ss_sm_s, ss_sm_s, ss_sm_s, ih (fun i hi => h i (by omega)), h n (by omega)]
    omega
theorem ss_sm_1 : ∀ n : Nat, ss_sm (fun _ => 1) n = n := by
  intro n
  induction n with
  | zero => rfl
  | succ n ih => rw [ss_sm_s, ih]
theorem ss_sm_lt (m : Nat) : ∀ n : Nat, m ≤ n → ss_sm (fun i => ss_b (i < m)) n = m := by
  intro n
  induction n with
  | zero => intro h; show 0 = m; omega
  | succ n ih =>
    intro h
    rw [ss_sm_s]
    by_cases e : m = n + 1
    · have h1 : ss_sm (fun i => ss_b (i < m)) n = ss_sm (fun _ => 1) n := ss_sm_c (fun i hi => ss_b1 (by omega))
      rw [h1, ss_sm_1, ss_b1 (by omega)]
      exact e.symm
    · rw [ih (by omega), ss_b0 (by omega)]
      rfl
theorem ss_max {p : Nat → Prop} : ∀ n : Nat, (∃ i, i < n ∧ p i) → ∃ i, i < n ∧ p i ∧ ∀ j, j < n → p j → j ≤ i := by
  intro n
  induction n with
  | zero => intro ⟨i, hi, _⟩; exact absurd hi (by omega)
  | succ n ih =>
    intro ⟨i, hi, pi⟩
    by_cases e : p n
    · exact ⟨n, by omega, e, fun j hj _ => by omega⟩
    · have hin : i ≠ n := fun z => e (z ▸ pi)
      obtain ⟨m, m1, m2, m3⟩ := ih ⟨i, by omega, pi⟩
      refine ⟨m, by omega, m2, fun j hj pj => ?_⟩
      have hjn : j ≠ n := fun z => e (z ▸ pj)
      exact m3 j (by omega) pj
theorem ss_pig : ∀ (m n : Nat) (f : Nat → Nat), (∀ i, i < n → f i < m) → (∀ i j, i < n → j < n → f i = f j → i = j) → n ≤ m := by
  intro m
  induction m with
  | zero =>
    intro n f h1 _
    by_cases e : n = 0
    · omega
    · exact absurd (h1 0 (by omega)) (by omega)
  | succ m ih =>
    intro n f h1 h2
    cases n with
    | zero => omega
    | succ n =>
      have h3 : n ≤ m := by
        refine ih n (fun i => if f i = m then f n else f i) ?_ ?_
        · intro i hi
          show (if f i = m then f n else f i) < m
          by_cases e : f i = m
          · rw [if_pos e]
            have q1 := h1 n (by omega)
            have q2 : f n ≠ m := fun z => absurd (h2 i n (by omega) (by omega) (e.trans z.symm)) (by omega)
            omega
          · rw [if_neg e]
            have q1 := h1 i (by omega)
            omega
        · intro i j hi hj he
          have he' : (if f i = m then f n else f i) = (if f j = m then f n else f j) := he
          by_cases e1 : f i = m
          · by_cases e2 : f j = m
            · exact h2 i j (by omega) (by omega) (e1.trans e2.symm)
            · rw [if_pos e1, if_neg e2] at he'
              exact absurd (h2 n j (by omega) (by omega) he') (by omega)
          · by_cases e2 : f j = m
            · rw [if_neg e1, if_pos e2] at he'
              exact absurd (h2 i n (by omega) (by omega) he') (by omega)
            · rw [if_neg e1, if_neg e2] at he'
              exact h2 i j (by omega) (by omega) he'
      omega
theorem ss_lf_inj {h a s t : Nat} (ha : a ≤ h + 32) (s1 : h ≤ s) (s2 : s < a) (t1 : h ≤ t) (t2 : t < a) (e : ss_lf s = ss_lf t) : s = t := by
  have e' : 32 + s % 32 = 32 + t % 32 := e
  omega
theorem ss_lf_ge (s : Nat) : 32 ≤ ss_lf s := Nat.le_add_right _ _
theorem ss_lf_lt (s : Nat) : ss_lf s < 64 := by
  show 32 + s % 32 < 64
  omega
end
section
def ss_on (T : Nat → Nat) (E : Nat) (R D : Nat → Nat) (s y : Nat) : Prop := (y < 32 → s + D y < E ∧ ss_eqs T s (R y) (D y)) ∧ (32 ≤ y → ss_lf s = y)
def ss_nd (h a : Nat) (A : Nat → Prop) (y : Nat) : Prop := (y < 32 ∧ A y) ∨ (∃ s, h ≤ s ∧ s < a ∧ y = ss_lf s)
def ss_SI (T : Nat → Nat) (h a E : Nat) (A : Nat → Prop) (R D C P : Nat → Nat) (w : Nat) : Prop :=
  (h ≤ a ∧ a ≤ E ∧ E ≤ h + 32) ∧
  (∀ i, h ≤ i → i < E → T i < 4) ∧
  (A 0 ∧ D 0 = 0 ∧ ∀ x, A x → x < 32) ∧
  (∀ x, A x → x ≠ 0 → 0 < D x) ∧
  (∀ x, A x → R x + D x ≤ E) ∧
  (∀ x c, A x → c < 4 → C (4 * x + c) = 0 → ∀ s, h ≤ s → s < a → ss_on T E R D s x → T (s + D x) ≠ c) ∧
  (∀ x c y, A x → c < 4 → C (4 * x + c) = y → y ≠ 0 → ss_nd h a A y ∧ P y = x ∧ (y < 32 → D x < D y) ∧ (∃ s, h ≤ s ∧ s < a ∧ ss_on T E R D s y ∧ ss_on T E R D s x ∧ T (s + D x) = c) ∧ ∀ s, h ≤ s → s < a → ss_on T E R D s x → T (s + D x) = c → ss_on T E R D s y) ∧
  (∀ y, ss_nd h a A y → y ≠ 0 → A (P y) ∧ ∃ c, c < 4 ∧ C (4 * P y + c) = y) ∧
  (∀ x c, x < 32 → ¬ A x → c < 4 → C (4 * x + c) = 0) ∧
  (∀ x, A x → x ≠ 0 → x ≠ w → ∃ s t, h ≤ s ∧ s < a ∧ h ≤ t ∧ t < a ∧ ss_on T E R D s x ∧ ss_on T E R D t x ∧ T (s + D x) ≠ T (t + D x))
section
variable {T : Nat → Nat} {h a E w : Nat} {A : Nat → Prop} {R D C P : Nat → Nat} {x y z s t c : Nat}
theorem ss_oi (hy : y < 32) (o : ss_on T E R D s y) : s + D y < E ∧ ss_eqs T s (R y) (D y) := o.1 hy
theorem ss_io (hy : y < 32) (h1 : s + D y < E) (h2 : ss_eqs T s (R y) (D y)) : ss_on T E R D s y := ⟨fun _ => ⟨h1, h2⟩, fun z => absurd z (by omega)⟩
theorem ss_ol (s : Nat) : ss_on T E R D s (ss_lf s) := ⟨fun z => absurd z (by have := ss_lf_ge s; omega), fun _ => rfl⟩
theorem ss_oe (ha : a ≤ h + 32) (s1 : h ≤ s) (s2 : s < a) (t1 : h ≤ t) (t2 : t < a) (hy : 32 ≤ y) (o1 : ss_on T E R D s y) (o2 : ss_on T E R D t y) : s = t :=
  ss_lf_inj ha s1 s2 t1 t2 ((o1.2 hy).trans (o2.2 hy).symm)
theorem ss_nd64 (H : ∀ x, A x → x < 32) (n : ss_nd h a A y) : y < 64 := by
  rcases n with ⟨n, _⟩ | ⟨s, _, _, e⟩
  · omega
  · rw [e]; exact ss_lf_lt s
theorem ss_nda (n : ss_nd h a A y) (hy : y < 32) : A y := by
  rcases n with ⟨_, n⟩ | ⟨s, _, _, e⟩
  · exact n
  · have := ss_lf_ge s
    omega
theorem ss_ndl (n : ss_nd h a A y) (hy : 32 ≤ y) : ∃ s, h ≤ s ∧ s < a ∧ y = ss_lf s := by
  rcases n with ⟨n, _⟩ | n
  · omega
  · exact n
theorem ss_c4 (I : ss_SI T h a E A R D C P w) (hx : A x) (s1 : h ≤ s) (o : ss_on T E R D s x) : T (s + D x) < 4 := by
  obtain ⟨hb, hT, h0, _⟩ := I
  have := ss_oi (h0.2.2 x hx) o
  exact hT _ (by omega) this.1
theorem ss_L1 (I : ss_SI T h a E A R D C P w) (hx : A x) (hc : c < 4) (e : C (4 * x + c) = y) (y0 : y ≠ 0) (t1 : h ≤ t) (t2 : t < a) (o : ss_on T E R D t y) : ss_on T E R D t x ∧ T (t + D x) = c := by
  obtain ⟨hb, hT, h0, hr, hR, hz, hcc, hp, hf, hbr⟩ := I
  obtain ⟨n1, n2, n3, ⟨s, s1, s2, so, sx, sc⟩, n5⟩ := hcc x c y hx hc e y0
  have x32 := h0.2.2 x hx
  by_cases hy : y < 32
  · have a1 := ss_oi hy o
    have a2 := ss_oi hy so
    have a3 := ss_oi x32 sx
    have d := n3 hy
    have e1 : ss_eqs T t s (D y) := ss_et a1.2 (ss_es a2.2)
    exact ⟨ss_io x32 (by omega) (ss_et (ss_em e1 (by omega)) a3.2), by rw [← sc]; exact e1 _ d⟩
  · have e2 : t = s := ss_oe (by omega) t1 t2 s1 s2 (by omega) o so
    rw [e2]
    exact ⟨sx, sc⟩
theorem ss_par (I : ss_SI T h a E A R D C P w) (n : ss_nd h a A y) (y0 : y ≠ 0) : ∃ c, c < 4 ∧ A (P y) ∧ C (4 * P y + c) = y ∧ (y < 32 → D (P y) < D y) ∧ ∃ s, h ≤ s ∧ s < a ∧ ss_on T E R D s y ∧ ss_on T E R D s (P y) ∧ T (s + D (P y)) = c := by
  obtain ⟨hb, hT, h0, hr, hR, hz, hcc, hp, hf, hbr⟩ := I
  obtain ⟨p1, c, p2, p3⟩ := hp y n y0
  obtain ⟨n1, n2, n3, n4, n5⟩ := hcc (P y) c y p1 p2 p3 y0
  exact ⟨c, p2, p1, p3, n3, n4⟩
theorem ss_L2 (I : ss_SI T h a E A R D C P w) (hx : A x) (hc : c < 4) (e : C (4 * x + c) = y) (y0 : y ≠ 0) (hz : A z) (z0 : z ≠ 0) (zw : z ≠ w) (hd : D x < D z) (t1 : h ≤ t) (t2 : t < a) (tz : ss_on T E R D t z) (ty : ss_on T E R D t y) : y < 32 ∧ D y ≤ D z := by
  obtain ⟨tx, tc⟩ := ss_L1 I hx hc e y0 t1 t2 ty
  obtain ⟨hb, hT, h0, hr, hR, hzz, hcc, hp, hf, hbr⟩ := I
  obtain ⟨n1, n2, n3, n4, n5⟩ := hcc x c y hx hc e y0
  obtain ⟨s, r, s1, s2, r1, r2, sz, rz, ne⟩ := hbr z hz z0 zw
  have x32 := h0.2.2 x hx
  have z32 := h0.2.2 z hz
  have b0 := ss_oi z32 tz
  have b3 := ss_oi x32 tx
  have K : ∀ q, h ≤ q → q < a → ss_on T E R D q z → ss_on T E R D q y := by
    intro q q1 q2 qz
    have b1 := ss_oi z32 qz
    have e1 : ss_eqs T q t (D z) := ss_et b1.2 (ss_es b0.2)
    exact n5 q q1 q2 (ss_io x32 (by omega) (ss_et (ss_em e1 (by omega)) b3.2)) (by rw [← tc]; exact e1 _ hd)
  have sy := K s s1 s2 sz
  have ry := K r r1 r2 rz
  by_cases hy : y < 32
  · refine ⟨hy, ?_⟩
    by_cases dd : D y ≤ D z
    · exact dd
    · have e3 : ss_eqs T s r (D y) := ss_et (ss_oi hy sy).2 (ss_es (ss_oi hy ry).2)
      exact absurd (e3 (D z) (by omega)) ne
  · have e4 : s = r := ss_oe (by omega) s1 s2 r1 r2 (by omega) sy ry
    rw [e4] at ne
    exact absurd rfl ne
theorem ss_L3 (I : ss_SI T h a E A R D C P w) : ∀ (d z z' t : Nat), D z = d → D z' = d → A z → A z' → (w = 0 ∨ d ≤ D w) → h ≤ t → t < a → ss_on T E R D t z → ss_on T E R D t z' → z = z' := by
  intro d
  induction d using Nat.strongRecOn with
  | ind d ih =>
    intro z z' t dz dz' az az' hw t1 t2 tz tz'
    have I' := I
    obtain ⟨hb, hT, h0, hr, hR, hzz, hcc, hp, hf, hbr⟩ := I'
    by_cases z0 : z = 0
    · by_cases z0' : z' = 0
      · rw [z0, z0']
      · have := hr z' az' z0'
        rw [z0, h0.2.1] at dz
        omega
    · by_cases z0' : z' = 0
      · have := hr z az z0
        rw [z0', h0.2.1] at dz'
        omega
      · have z32 := h0.2.2 z az
        have z32' := h0.2.2 z' az'
        obtain ⟨c, c4, ap, ec, dp, q⟩ := ss_par I (Or.inl ⟨z32, az⟩) z0
        obtain ⟨c', c4', ap', ec', dp', q'⟩ := ss_par I (Or.inl ⟨z32', az'⟩) z0'
        have dp := dp z32
        have dp' := dp' z32'
        obtain ⟨u1, u2⟩ := ss_L1 I ap c4 ec z0 t1 t2 tz
        obtain ⟨u1', u2'⟩ := ss_L1 I ap' c4' ec' z0' t1 t2 tz'
        have hne : ∀ v, D v < d → v ≠ 0 → v ≠ w := by
          intro v hv v0 vw
          rw [vw] at hv v0
          rcases hw with hw | hw
          · exact v0 hw
          · omega
        have n0 : ∀ v, 0 < D v → v ≠ 0 := by
          intro v hv v0
          rw [v0, h0.2.1] at hv
          omega
        rcases Nat.lt_trichotomy (D (P z)) (D (P z')) with l | l | l
        · have p0 := n0 (P z') (by omega)
          have := ss_L2 I ap c4 ec z0 ap' p0 (hne _ (by omega) p0) l t1 t2 u1' tz
          omega
        · have ep : P z = P z' := ih (D (P z)) (by omega) _ _ t rfl l.symm ap ap' (hw.imp id (fun k => by omega)) t1 t2 u1 u1'
          have ecc : c = c' := by rw [← u2, ← u2', ep]
          rw [← ec, ← ec', ep, ecc]
        · have p0 := n0 (P z) (by omega)
          have := ss_L2 I ap' c4' ec' z0' ap p0 (hne _ (by omega) p0) l t1 t2 u1 tz'
          omega
theorem ss_L2' (I : ss_SI T h a E A R D C P w) (hz : A z) (hw : w = 0 ∨ D z ≤ D w) (hx : A x) (hd : D x < D z) (t1 : h ≤ t) (t2 : t < a) (tz : ss_on T E R D t z) (tx : ss_on T E R D t x) : C (4 * x + T (t + D x)) ≠ 0 ∧ C (4 * x + T (t + D x)) < 32 ∧ D (C (4 * x + T (t + D x))) ≤ D z ∧ ss_on T E R D t (C (4 * x + T (t + D x))) := by
  have c4 := ss_c4 I hx t1 tx
  have I' := I
  obtain ⟨hb, hT, h0, hr, hR, hzz, hcc, hp, hf, hbr⟩ := I'
  have y0 : C (4 * x + T (t + D x)) ≠ 0 := fun e => hzz x _ hx c4 e t t1 t2 tx rfl
  obtain ⟨n1, n2, n3, n4, n5⟩ := hcc x _ _ hx c4 rfl y0
  have ty := n5 t t1 t2 tx rfl
  have n0 : ∀ v, 0 < D v → v ≠ 0 := by
    intro v hv v0
    rw [v0, h0.2.1] at hv
    omega
  have z0 := n0 z (by omega)
  have hne : ∀ v, D v < D z → v ≠ 0 → v ≠ w := by
    intro v hv v0 vw
    rw [vw] at hv v0
    rcases hw with hw | hw
    · exact v0 hw
    · omega
  have z32 := h0.2.2 z hz
  obtain ⟨c, cc4, ap, ec, dp, q⟩ := ss_par I (Or.inl ⟨z32, hz⟩) z0
  have dp := dp z32
  obtain ⟨u1, u2⟩ := ss_L1 I ap cc4 ec z0 t1 t2 tz
  rcases Nat.lt_trichotomy (D x) (D (P z)) with l | l | l
  · have p0 := n0 (P z) (by omega)
    have k := ss_L2 I hx c4 rfl y0 ap p0 (hne _ dp p0) l t1 t2 u1 ty
    exact ⟨y0, k.1, by omega, ty⟩
  · have ep : x = P z := ss_L3 I (D x) x (P z) t rfl l.symm hx ap (hw.imp id (fun k => by omega)) t1 t2 tx u1
    have ey : C (4 * x + T (t + D x)) = z := by rw [ep, u2, ec]
    rw [ey]
    exact ⟨z0, z32, Nat.le_refl _, tz⟩
  · have x0 := n0 x (by omega)
    have k := ss_L2 I ap cc4 ec z0 hx x0 (hne _ hd x0) l t1 t2 tx tz
    omega
theorem ss_uniq (I : ss_SI T h a E A R D C P w) (s1 : h ≤ s) (st : s < t) (t2 : t < a) : ¬ ss_eqs T s t (E - t) := by
  intro he
  have I' := I
  obtain ⟨hb, hT, h0, hr, hR, hzz, hcc, hp, hf, hbr⟩ := I'
  have K : ∀ d x, E - D x ≤ d → A x → ss_on T E R D s x → ss_on T E R D t x → False := by
    intro d
    induction d with
    | zero =>
      intro x hd ax _ ot
      have := ss_oi (h0.2.2 x ax) ot
      omega
    | succ d ih =>
      intro x hd ax os ot
      have k := ss_oi (h0.2.2 x ax) ot
      have c4 := ss_c4 I ax (by omega) ot
      have y0 : C (4 * x + T (t + D x)) ≠ 0 := fun e => hzz x _ ax c4 e t (by omega) t2 ot rfl
      obtain ⟨n1, n2, n3, n4, n5⟩ := hcc x _ _ ax c4 rfl y0
      have ty := n5 t (by omega) t2 ot rfl
      have sy := n5 s s1 (by omega) os (he (D x) (by omega))
      by_cases y32 : C (4 * x + T (t + D x)) < 32
      · have := n3 y32
        exact ih _ (by omega) (ss_nda n1 y32) sy ty
      · have := ss_oe (by omega) s1 (by omega) (by omega) t2 (by omega) sy ty
        omega
  refine K (E - D 0) 0 (Nat.le_refl _) h0.1 ?_ ?_
  · exact ss_io (by omega) (by rw [h0.2.1]; omega) (by rw [h0.2.1]; exact ss_e0)
  · exact ss_io (by omega) (by rw [h0.2.1]; omega) (by rw [h0.2.1]; exact ss_e0)
end
def ss_ch (P : Nat → Nat) : Nat → List Nat → Prop
  | x, [] => x = 0
  | x, y :: l => x ≠ 0 ∧ P x = y ∧ ss_ch P y l
def ss_an (T : Nat → Nat) (A : Nat → Prop) (R D : Nat → Nat) (z v : Nat) : Prop := A z ∧ D z ≤ D v ∧ ss_eqs T (R z) (R v) (D z)
section
variable {T : Nat → Nat} {h a E w : Nat} {A : Nat → Prop} {R D C P : Nat → Nat} {x y z s t c : Nat}
theorem ss_chain (I : ss_SI T h a E A R D C P 0) : ∀ (d v : Nat), D v ≤ d → A v → ∃ l : List Nat, ss_ch P v l ∧ l.length ≤ d ∧ l.Nodup ∧ (∀ z, z ∈ l → D z < D v ∧ z < 32) ∧ ∀ z, (z ∈ l ∨ z = v) ↔ ss_an T A R D z v := by
  intro d
  induction d with
  | zero =>
    intro v hd av
    obtain ⟨hb, hT, h0, hr, hR, hzz, hcc, hp, hf, hbr⟩ := I
    have v0 : v = 0 := by
      by_cases e : v = 0
      · exact e
      · have := hr v av e
        omega
    refine ⟨[], v0, Nat.le_refl _, List.nodup_nil, fun z hz => (nomatch hz), fun z => ⟨fun hz => ?_, fun hz => Or.inr ?_⟩⟩
    · rcases hz with hz | hz
      · exact (nomatch hz)
      · rw [hz]; exact ⟨av, Nat.le_refl _, ss_er⟩
    · by_cases e : z = 0
      · rw [e, v0]
      · have := hr z hz.1 e
        have := hz.2.1
        omega
  | succ d ih =>
    intro v hd av
    have I' := I
    obtain ⟨hb, hT, h0, hr, hR, hzz, hcc, hp, hf, hbr⟩ := I'
    by_cases v0 : v = 0
    · refine ⟨[], v0, by simp, List.nodup_nil, fun z hz => (nomatch hz), fun z => ⟨fun hz => ?_, fun hz => Or.inr ?_⟩⟩
      · rcases hz with hz | hz
        · exact (nomatch hz)
        · rw [hz]; exact ⟨av, Nat.le_refl _, ss_er⟩
      · by_cases e : z = 0
        · rw [e, v0]
        · have h1 := hr z hz.1 e
          have h2 := hz.2.1
          rw [v0, h0.2.1] at h2
          omega
    · have v32 := h0.2.2 v av
      obtain ⟨c, c4, ap, ec, dp, t, t1, t2, tv, tp, tc⟩ := ss_par I (Or.inl ⟨v32, av⟩) v0
      have dp := dp v32
      obtain ⟨l, l1, l2, l3, l4, l5⟩ := ih (P v) (by omega) ap
      have kv := ss_oi v32 tv
      have kp := ss_oi (h0.2.2 _ ap) tp
      have rpv : ss_eqs T (R (P v)) (R v) (D (P v)) := ss_et (ss_es kp.2) (ss_em kv.2 (by omega))
      refine ⟨P v :: l, ⟨v0, rfl, l1⟩, by simp; omega, ?_, ?_, ?_⟩
      · refine List.nodup_cons.mpr ⟨fun hm => ?_, l3⟩
        have := (l4 _ hm).1
        omega
      · intro z hz
        rcases List.mem_cons.mp hz with hz | hz
        · rw [hz]; exact ⟨dp, h0.2.2 _ ap⟩
        · have := l4 z hz
          omega
      · intro z
        constructor
        · intro hz
          rcases hz with hz | hz
          · have hz' : z ∈ l ∨ z = P v := (List.mem_cons.mp hz).symm
            obtain ⟨q1, q2, q3⟩ := (l5 z).mp hz'
            exact ⟨q1, by omega, ss_et q3 (ss_em rpv (by omega))⟩
          · rw [hz]; exact ⟨av, Nat.le_refl _, ss_er⟩
        · intro hz
          obtain ⟨q1, q2, q3⟩ := hz
          have z32 := h0.2.2 z q1
          have tz : ss_on T E R D t z := ss_io z32 (by omega) (ss_et (ss_em kv.2 q2) (ss_es q3))
          by_cases e : D z = D v
          · exact Or.inr (ss_L3 I (D v) z v t e rfl q1 av (Or.inl rfl) t1 t2 tz tv)
          · have dz : D z ≤ D (P v) := by
              by_cases dd : D z ≤ D (P v)
              · exact dd
              · have z0 : z ≠ 0 := by
                  intro e0
                  rw [e0, h0.2.1] at dd
                  omega
                have := ss_L2 I ap c4 ec v0 q1 z0 z0 (by omega) t1 t2 tz tv
                omega
            have kk : ss_an T A R D z (P v) := ⟨q1, dz, ss_et q3 (ss_em (ss_es rpv) dz)⟩
            exact Or.inl (List.mem_cons.mpr ((l5 z).mpr kk).symm)
theorem ss_count (I : ss_SI T h a E A R D C P 0) (all : ∀ x, 0 < x → x < 32 → A x) : h + 32 ≤ a := by
  have I' := I
  obtain ⟨hb, hT, h0, hr, hR, hzz, hcc, hp, hf, hbr⟩ := I'
  have K : ∀ i : Nat, ∃ s : Nat, i < 31 → (∃ m, h ≤ m ∧ m < a ∧ ss_on T E R D m (i + 1) ∧ (∀ t, h ≤ t → t < a → ss_on T E R D t (i + 1) → t ≤ m) ∧ h ≤ s ∧ s < a ∧ ss_on T E R D s (i + 1) ∧ T (s + D (i + 1)) ≠ T (m + D (i + 1)) ∧ ∀ t, h ≤ t → t < a → ss_on T E R D t (i + 1) → T (t + D (i + 1)) ≠ T (m + D (i + 1)) → t ≤ s) := by
    intro i
    by_cases hi : i < 31
    · have ai := all (i + 1) (by omega) (by omega)
      obtain ⟨s, t, s1, s2, t1, t2, so, to, ne⟩ := hbr (i + 1) ai (by omega) (by omega)
      obtain ⟨m, m1, ⟨m2, m3⟩, m4⟩ := ss_max (p := fun q => h ≤ q ∧ ss_on T E R D q (i + 1)) a ⟨s, s2, s1, so⟩
      have ex : ∃ q, q < a ∧ (h ≤ q ∧ ss_on T E R D q (i + 1) ∧ T (q + D (i + 1)) ≠ T (m + D (i + 1))) := by
        by_cases e : T (s + D (i + 1)) = T (m + D (i + 1))
        · exact ⟨t, t2, t1, to, fun z => ne (e.trans z.symm)⟩
        · exact ⟨s, s2, s1, so, e⟩
      obtain ⟨q, q1, ⟨q2, q3, q4⟩, q5⟩ := ss_max (p := fun q => h ≤ q ∧ ss_on T E R D q (i + 1) ∧ T (q + D (i + 1)) ≠ T (m + D (i + 1))) a ex
      exact ⟨q, fun _ => ⟨m, m2, m1, m3, fun t t1 t2 to => m4 t t2 ⟨t1, to⟩, q2, q1, q3, q4, fun t t1 t2 to tn => q5 t t2 ⟨t1, to, tn⟩⟩⟩
    · exact ⟨0, fun z => absurd z hi⟩
  obtain ⟨f, hf'⟩ := Classical.axiomOfChoice K
  have inj : ∀ i j, i < 31 → j < 31 → D (i + 1) < D (j + 1) → f i = f j → False := by
    intro i j hi hj hd he
    obtain ⟨m, m1, m2, m3, m4, s1, s2, s3, s4, s5⟩ := hf' i hi
    obtain ⟨n, n1, n2, n3, n4, r1, r2, r3, r4, r5⟩ := hf' j hj
    rw [← he] at r1 r2 r3 r4 r5
    have ai := all (i + 1) (by omega) (by omega)
    have aj := all (j + 1) (by omega) (by omega)
    have k1 := ss_oi (y := j + 1) (by omega) n3
    have k2 := ss_oi (y := j + 1) (by omega) r3
    have k3 := ss_oi (y := i + 1) (by omega) s3
    have e1 : ss_eqs T n (f i) (D (j + 1)) := ss_et k1.2 (ss_es k2.2)
    have ni : ss_on T E R D n (i + 1) := ss_io (by omega) (by omega) (ss_et (ss_em e1 (by omega)) k3.2)
    have nc : T (n + D (i + 1)) = T (f i + D (i + 1)) := e1 _ hd
    have l1 := s5 n n1 n2 ni (by rw [nc]; exact s4)
    have l2 := n4 (f i) r1 r2 r3
    have l3 : f i = n := by omega
    rw [l3] at r4
    exact r4 rfl
  have pg := ss_pig (a - 1 - h) 31 (fun i => f i - h) ?_ ?_
  · by_cases q : h + 32 ≤ a
    · exact q
    · omega
  · intro i hi
    obtain ⟨m, m1, m2, m3, m4, s1, s2, s3, s4, s5⟩ := hf' i hi
    have l := m4 (f i) s1 s2 s3
    have l' : f i ≠ m := fun z => s4 (by rw [z])
    show f i - h < a - 1 - h
    omega
  · intro i j hi hj he
    obtain ⟨m, m1, m2, m3, m4, s1, s2, s3, s4, s5⟩ := hf' i hi
    obtain ⟨n, n1, n2, n3, n4, r1, r2, r3, r4, r5⟩ := hf' j hj
    have he' : f i - h = f j - h := he
    have e : f i = f j := by omega
    rcases Nat.lt_trichotomy (D (i + 1)) (D (j + 1)) with l | l | l
    · exact (inj i j hi hj l e).elim
    · have ai := all (i + 1) (by omega) (by omega)
      have aj := all (j + 1) (by omega) (by omega)
      rw [← e] at r3
      have := ss_L3 I _ (i + 1) (j + 1) (f i) l rfl ai aj (Or.inl rfl) s1 s2 s3 r3
      omega
    · exact (inj j i hj hi l e.symm).elim
end
end
section
theorem ss_slot {x c v d : Nat} (h1 : c < 4) (h2 : d < 4) (e : 4 * x + c = 4 * v + d) : x = v ∧ c = d := by omega
theorem ss_slx {x c v d : Nat} (h1 : c < 4) (h2 : d < 4) (e : x ≠ v) : 4 * x + c ≠ 4 * v + d := by omega
section
variable {T T' : Nat → Nat} {h a E w : Nat} {A : Nat → Prop} {R D C P : Nat → Nat} {x y z s t c : Nat}
theorem ss_lv (I : ss_SI T h a E A R D C P w) (n : ss_nd h a A y) (y0 : y ≠ 0) : ∃ s, h ≤ s ∧ s < a ∧ ss_on T E R D s y := by
  obtain ⟨c, c4, ap, ec, dp, s, s1, s2, s3, _⟩ := ss_par I n y0
  exact ⟨s, s1, s2, s3⟩
theorem ss_grow_on (I : ss_SI T h a E A R D C P 0) (hT' : ∀ i, i < E → T' i = T i) (s1 : h ≤ s) (s2 : s < a) (hy : y < 32 → A y) : ss_on T' (E + 1) R D s y ↔ ss_on T E R D s y := by
  have I' := I
  obtain ⟨hb, hT, h0, hr, hR, hzz, hcc, hp, hf, hbr⟩ := I'
  by_cases y32 : y < 32
  · have hRy := hR y (hy y32)
    constructor
    · intro o
      obtain ⟨o1, o2⟩ := ss_oi y32 o
      have o3 : ss_eqs T s (R y) (D y) := ss_eT (T := T') (fun i hi => (hT' i hi).symm) o2 (by omega) hRy
      refine ss_io y32 ?_ o3
      by_cases e : s + D y < E
      · exact e
      · have y0 : y ≠ 0 := by
          intro z
          rw [z, h0.2.1] at e
          omega
        obtain ⟨p, q, p1, p2, q1, q2, po, qo, _⟩ := hbr y (hy y32) y0 y0
        have k := ss_oi y32 po
        have e4 : E - s = D y := by omega
        exact absurd (by rw [e4]; exact ss_et k.2 (ss_es o3)) (ss_uniq I p1 (show p < s by omega) s2)
    · intro o
      obtain ⟨o1, o2⟩ := ss_oi y32 o
      exact ss_io y32 (by omega) (ss_eT hT' o2 (by omega) hRy)
  · constructor
    · intro o
      exact ⟨fun z => absurd z y32, fun z => o.2 z⟩
    · intro o
      exact ⟨fun z => absurd z y32, fun z => o.2 z⟩
theorem ss_grow (I : ss_SI T h a E A R D C P 0) (hT' : ∀ i, i < E → T' i = T i) (hE : T' E < 4) (hw : E + 1 ≤ h + 32) : ss_SI T' h a (E + 1) A R D C P 0 := by
  have G : ∀ s y, h ≤ s → s < a → (y < 32 → A y) → (ss_on T' (E + 1) R D s y ↔ ss_on T E R D s y) := fun s y s1 s2 hy => ss_grow_on I hT' s1 s2 hy
  obtain ⟨hb, hT, h0, hr, hR, hzz, hcc, hp, hf, hbr⟩ := I
  have G2 : ∀ s x, A x → ss_on T E R D s x → T' (s + D x) = T (s + D x) := fun s x ax o => hT' _ (ss_oi (h0.2.2 x ax) o).1
  refine ⟨⟨hb.1, by omega, hw⟩, ?_, h0, hr, fun x ax => by have := hR x ax; omega, ?_, ?_, hp, hf, ?_⟩
  · intro i h1 h2
    by_cases e : i = E
    · rw [e]; exact hE
    · rw [hT' i (by omega)]
      exact hT i h1 (by omega)
  · intro x c ax c4 e s s1 s2 o
    have o' := (G s x s1 s2 (fun _ => ax)).mp o
    rw [G2 s x ax o']
    exact hzz x c ax c4 e s s1 s2 o'
  · intro x c y ax c4 e y0
    obtain ⟨n1, n2, n3, ⟨s, s1, s2, so, sx, sc⟩, n5⟩ := hcc x c y ax c4 e y0
    refine ⟨n1, n2, n3, ⟨s, s1, s2, (G s y s1 s2 (ss_nda n1)).mpr so, (G s x s1 s2 (fun _ => ax)).mpr sx, by rw [G2 s x ax sx]; exact sc⟩, ?_⟩
    intro t t1 t2 to tc
    have o' := (G t x t1 t2 (fun _ => ax)).mp to
    rw [G2 t x ax o'] at tc
    exact (G t y t1 t2 (ss_nda n1)).mpr (n5 t t1 t2 o' tc)
  · intro x ax x0 xw
    obtain ⟨p, q, p1, p2, q1, q2, po, qo, ne⟩ := hbr x ax x0 xw
    refine ⟨p, q, p1, p2, q1, q2, (G p x p1 p2 (fun _ => ax)).mpr po, (G q x q1 q2 (fun _ => ax)).mpr qo, ?_⟩
    rw [G2 p x ax po, G2 q x ax qo]
    exact ne
theorem ss_split_on {r L : Nat} (hx : x ≠ w) : ss_on T E (ss_u R w r) (ss_u D w L) s x ↔ ss_on T E R D s x := by
  unfold ss_on
  rw [ss_un R hx, ss_un D hx]
theorem ss_split_ow {r L v d : Nat} (I : ss_SI T h a E A R D C P 0) (hv : A v) (c4 : c < 4) (e : C (4 * v + c) = y) (y0 : y ≠ 0) (dv : D v < L) (w32 : w < 32) (hr : ∀ s, h ≤ s → s < a → ss_on T E R D s y → s + L < E ∧ ss_eqs T s r L ∧ T (s + L) = d) (s1 : h ≤ s) (s2 : s < a) : ss_on T E (ss_u R w r) (ss_u D w L) s w ↔ ss_on T E R D s y := by
  have I' := I
  obtain ⟨hb, hT, h0, hrr, hR, hzz, hcc, hp, hf, hbr⟩ := I'
  obtain ⟨n1, n2, n3, ⟨p, p1, p2, po, px, pc⟩, n5⟩ := hcc v c y hv c4 e y0
  have v32 := h0.2.2 v hv
  constructor
  · intro o
    obtain ⟨o1, o2⟩ := ss_oi w32 o
    rw [ss_us] at o1 o2
    rw [ss_us] at o2
    obtain ⟨k1, k2, k3⟩ := hr p p1 p2 po
    have kx := ss_oi v32 px
    have e1 : ss_eqs T s p L := ss_et o2 (ss_es k2)
    exact n5 s s1 s2 (ss_io v32 (by omega) (ss_et (ss_em e1 (by omega)) kx.2)) (by rw [← pc]; exact e1 _ dv)
  · intro o
    obtain ⟨k1, k2, k3⟩ := hr s s1 s2 o
    exact ss_io w32 (by rw [ss_us]; exact k1) (by rw [ss_us, ss_us]; exact k2)
theorem ss_split {r L v d : Nat} (I : ss_SI T h a E A R D C P 0) (hv : A v) (c4 : c < 4) (e : C (4 * v + c) = y) (y0 : y ≠ 0) (dv : D v < L) (dy : y < 32 → L < D y) (w0 : w ≠ 0) (w32 : w < 32) (wA : ¬ A w) (rE : r + L ≤ E) (hr : ∀ s, h ≤ s → s < a → ss_on T E R D s y → s + L < E ∧ ss_eqs T s r L ∧ T (s + L) = d) (d4 : d < 4) : ss_SI T h a E (fun z => A z ∨ z = w) (ss_u R w r) (ss_u D w L) (ss_u (ss_u C (4 * v + c) w) (4 * w + d) y) (ss_u (ss_u P w v) y w) w := by
  have W : ∀ s, h ≤ s → s < a → (ss_on T E (ss_u R w r) (ss_u D w L) s w ↔ ss_on T E R D s y) := fun s s1 s2 => ss_split_ow I hv c4 e y0 dv w32 hr s1 s2
  have G : ∀ s x, x ≠ w → (ss_on T E (ss_u R w r) (ss_u D w L) s x ↔ ss_on T E R D s x) := fun s x hx => ss_split_on hx
  obtain ⟨hb, hT, h0, hrr, hR, hzz, hcc, hp, hf, hbr⟩ := I
  obtain ⟨n1, n2, n3, ⟨p, p1, p2, po, px, pc⟩, n5⟩ := hcc v c y hv c4 e y0
  have aw : ∀ x, A x → x ≠ w := fun x ax xw => wA (xw ▸ ax)
  have vw := aw v hv
  have yw : y ≠ w := by
    intro yw
    rw [yw] at n1
    exact wA (ss_nda n1 w32)
  have D1 : ∀ x, x ≠ w → ss_u D w L x = D x := fun x hx => ss_un D hx
  have D2 : ss_u D w L w = L := ss_us _ _ _
  have Cv : ss_u (ss_u C (4 * v + c) w) (4 * w + d) y (4 * v + c) = w := by
    rw [ss_un _ (ss_slx c4 d4 vw), ss_us]
  have Cw : ss_u (ss_u C (4 * v + c) w) (4 * w + d) y (4 * w + d) = y := ss_us _ _ _
  have Co : ∀ x c1, c1 < 4 → ¬ (x = v ∧ c1 = c) → ¬ (x = w ∧ c1 = d) → ss_u (ss_u C (4 * v + c) w) (4 * w + d) y (4 * x + c1) = C (4 * x + c1) := by
    intro x c1 c14 k1 k2
    rw [ss_un _ (fun z => k2 (ss_slot c14 d4 z)), ss_un _ (fun z => k1 (ss_slot c14 c4 z))]
  have Pw : ss_u (ss_u P w v) y w w = v := by
    rw [ss_un _ (fun z => yw z.symm), ss_us]
  have Py : ss_u (ss_u P w v) y w y = w := ss_us _ _ _
  have Po : ∀ z, z ≠ w → z ≠ y → ss_u (ss_u P w v) y w z = P z := by
    intro z k1 k2
    rw [ss_un _ k2, ss_un _ k1]
  have ndw : ∀ z, ss_nd h a A z → z ≠ w := by
    intro z n zw
    rw [zw] at n
    exact wA (ss_nda n w32)
  have ndi : ∀ z, ss_nd h a A z → ss_nd h a (fun z => A z ∨ z = w) z := fun z n => n.imp (fun k => ⟨k.1, Or.inl k.2⟩) id
  have ndo : ∀ z, ss_nd h a (fun z => A z ∨ z = w) z → z ≠ w → ss_nd h a A z := fun z n zw => n.imp (fun k => ⟨k.1, k.2.elim id (fun q => absurd q zw)⟩) id
  have pw := (W p p1 p2).mpr po
  refine ⟨hb, hT, ⟨Or.inl h0.1, by rw [D1 0 (fun z => w0 z.symm)]; exact h0.2.1, ?_⟩, ?_, ?_, ?_, ?_, ?_, ?_, ?_⟩
  · intro x ax
    rcases ax with ax | ax
    · exact h0.2.2 x ax
    · rw [ax]; exact w32
  · intro x ax x0
    by_cases xw : x = w
    · rw [xw, D2]; omega
    · rw [D1 x xw]
      exact hrr x (ax.elim id (fun q => absurd q xw)) x0
  · intro x ax
    by_cases xw : x = w
    · rw [xw, D2, ss_us]; exact rE
    · rw [D1 x xw, ss_un R xw]
      exact hR x (ax.elim id (fun q => absurd q xw))
  · intro x c1 ax c14 ce s s1 s2 so
    by_cases xw : x = w
    · rw [xw] at ce so
      have c1d : c1 ≠ d := by
        intro z
        rw [z, Cw] at ce
        exact y0 ce
      rw [xw, D2, (hr s s1 s2 ((W s s1 s2).mp so)).2.2]
      exact fun z => c1d z.symm
    · have ax' := ax.elim id (fun q => absurd q xw)
      have k : ¬ (x = v ∧ c1 = c) := by
        intro ⟨q1, q2⟩
        rw [q1, q2, Cv] at ce
        exact w0 ce
      rw [Co x c1 c14 k (fun q => xw q.1)] at ce
      rw [D1 x xw]
      exact hzz x c1 ax' c14 ce s s1 s2 ((G s x xw).mp so)
  · intro x c1 y1 ax c14 ce y10
    by_cases xw : x = w
    · rw [xw] at ce
      have c1d : c1 = d := by
        by_cases z : c1 = d
        · exact z
        · rw [Co w c1 c14 (fun q => vw q.1.symm) (fun q => z q.2), hf w c1 w32 wA c14] at ce
          exact absurd ce.symm y10
      rw [c1d, Cw] at ce
      rw [← ce, xw, Py, D2, c1d]
      refine ⟨ndi y n1, rfl, ?_, ⟨p, p1, p2, (G p y yw).mpr po, pw, (hr p p1 p2 po).2.2⟩, ?_⟩
      · intro y32
        rw [D1 y yw]; exact dy y32
      · intro s s1 s2 so _
        exact (G s y yw).mpr ((W s s1 s2).mp so)
    · have ax' := ax.elim id (fun q => absurd q xw)
      rw [D1 x xw]
      by_cases k : x = v ∧ c1 = c
      · obtain ⟨k1, k2⟩ := k
        rw [k1, k2, Cv] at ce
        rw [← ce, k1, k2, Pw, D2]
        refine ⟨Or.inl ⟨w32, Or.inr rfl⟩, rfl, fun _ => dv, ⟨p, p1, p2, pw, (G p v vw).mpr px, pc⟩, ?_⟩
        intro s s1 s2 so sc
        exact (W s s1 s2).mpr (n5 s s1 s2 ((G s v vw).mp so) sc)
      · rw [Co x c1 c14 k (fun q => xw q.1)] at ce
        obtain ⟨m1, m2, m3, ⟨q, q1, q2, qo, qx, qc⟩, m5⟩ := hcc x c1 y1 ax' c14 ce y10
        have y1w := ndw y1 m1
        have y1y : y1 ≠ y := by
          intro z
          rw [z] at m2 qo
          have xv : x = v := m2.symm.trans n2
          refine k ⟨xv, ?_⟩
          have v32 := h0.2.2 v hv
          by_cases y32 : y < 32
          · have k1 := ss_oi y32 qo
            have k2 := ss_oi y32 po
            have k3 := n3 y32
            rw [← qc, ← pc, xv]
            exact (ss_et k1.2 (ss_es k2.2)) _ k3
          · have k4 : q = p := ss_oe (by omega) q1 q2 p1 p2 (by omega) qo po
            rw [← qc, ← pc, xv, k4]
        rw [Po y1 y1w y1y, D1 y1 y1w]
        refine ⟨ndi y1 m1, m2, m3, ⟨q, q1, q2, (G q y1 y1w).mpr qo, (G q x xw).mpr qx, qc⟩, ?_⟩
        intro s s1 s2 so sc
        exact (G s y1 y1w).mpr (m5 s s1 s2 ((G s x xw).mp so) sc)
  · intro y1 m1 y10
    by_cases y1w : y1 = w
    · rw [y1w, Pw]
      exact ⟨Or.inl hv, c, c4, Cv⟩
    · by_cases y1y : y1 = y
      · rw [y1y, Py]
        exact ⟨Or.inr rfl, d, d4, Cw⟩
      · rw [Po y1 y1w y1y]
        obtain ⟨q1, c1, q2, q3⟩ := hp y1 (ndo y1 m1 y1w) y10
        refine ⟨Or.inl q1, c1, q2, ?_⟩
        rw [Co _ c1 q2 ?_ (fun q => aw _ q1 q.1)]
        · exact q3
        · intro ⟨k1, k2⟩
          rw [k1, k2, e] at q3
          exact y1y q3.symm
  · intro x c1 x32 ax c14
    have xw : x ≠ w := fun z => ax (Or.inr z)
    have ax' : ¬ A x := fun z => ax (Or.inl z)
    rw [Co x c1 c14 (fun q => ax' (q.1 ▸ hv)) (fun q => xw q.1)]
    exact hf x c1 x32 ax' c14
  · intro x ax x0 xw
    have ax' := ax.elim id (fun q => absurd q xw)
    obtain ⟨p, q, p1, p2, q1, q2, po, qo, ne⟩ := hbr x ax' x0 x0
    rw [D1 x xw]
    exact ⟨p, q, p1, p2, q1, q2, (G p x xw).mpr po, (G q x xw).mpr qo, ne⟩
theorem ss_place_up {v : Nat} (I : ss_SI T h a E A R D C P w) (hv : A v) (ov : ss_on T E R D a v) (e : C (4 * v + T (a + D v)) = 0) (hw : w = 0 ∨ w = v) (hx : A x) (ox : ss_on T E R D a x) (xv : x ≠ v) : C (4 * x + T (a + D x)) ≠ 0 ∧ C (4 * x + T (a + D x)) < 32 ∧ ss_on T E R D a (C (4 * x + T (a + D x))) := by
  have I' := I
  obtain ⟨hb, hT, h0, hrr, hR, hzz, hcc, hp, hf, hbr⟩ := I'
  have x32 := h0.2.2 x hx
  have v32 := h0.2.2 v hv
  obtain ⟨v1, v2⟩ := ss_oi v32 ov
  obtain ⟨x1, x2⟩ := ss_oi x32 ox
  have c4 : T (a + D v) < 4 := hT _ (by omega) v1
  have lvl : D x ≤ D v := by
    by_cases l : D x ≤ D v
    · exact l
    · have x0 : x ≠ 0 := by
        intro z
        rw [z, h0.2.1] at l
        omega
      obtain ⟨t, t1, t2, to⟩ := ss_lv I (Or.inl ⟨x32, hx⟩) x0
      have k := ss_oi x32 to
      have e1 : ss_eqs T t a (D x) := ss_et k.2 (ss_es x2)
      exact absurd (e1 (D v) (by omega)) (hzz v _ hv c4 e t t1 t2 (ss_io v32 (by omega) (ss_et (ss_em e1 (by omega)) v2)))
  have v0 : v ≠ 0 := by
    intro z
    have x0 : x ≠ 0 := fun q => xv (q.trans z.symm)
    have := hrr x hx x0
    rw [z, h0.2.1] at lvl
    omega
  obtain ⟨t, t1, t2, to⟩ := ss_lv I (Or.inl ⟨v32, hv⟩) v0
  have k := ss_oi v32 to
  have e1 : ss_eqs T t a (D v) := ss_et k.2 (ss_es v2)
  have tx : ss_on T E R D t x := ss_io x32 (by omega) (ss_et (ss_em e1 lvl) x2)
  have hw' : w = 0 ∨ D v ≤ D w := hw.imp id (fun z => by rw [z]; exact Nat.le_refl _)
  have ne : D x ≠ D v := fun z => xv (ss_L3 I (D v) x v t z rfl hx hv hw' t1 t2 tx to)
  have tc : T (t + D x) = T (a + D x) := e1 _ (by omega)
  obtain ⟨k1, k2, k3, k4⟩ := ss_L2' I hv hw' hx (by omega) t1 t2 to tx
  rw [tc] at k1 k2 k3 k4
  refine ⟨k1, k2, ss_io k2 (by omega) (ss_et (ss_em (ss_es e1) k3) (ss_oi k2 k4).2)⟩
theorem ss_place {v : Nat} (I : ss_SI T h a E A R D C P w) (hv : A v) (ov : ss_on T E R D a v) (e : C (4 * v + T (a + D v)) = 0) (hw : w = 0 ∨ (w = v ∧ ∃ s, h ≤ s ∧ s < a ∧ ss_on T E R D s v)) : ss_SI T h (a + 1) E A R D (ss_u C (4 * v + T (a + D v)) (ss_lf a)) (ss_u P (ss_lf a) v) 0 := by
  have U : ∀ x, A x → ss_on T E R D a x → x ≠ v → C (4 * x + T (a + D x)) ≠ 0 ∧ C (4 * x + T (a + D x)) < 32 ∧ ss_on T E R D a (C (4 * x + T (a + D x))) := fun x hx ox xv => ss_place_up I hv ov e (hw.imp id And.left) hx ox xv
  obtain ⟨hb, hT, h0, hrr, hR, hzz, hcc, hp, hf, hbr⟩ := I
  have v32 := h0.2.2 v hv
  obtain ⟨v1, v2⟩ := ss_oi v32 ov
  have c4 : T (a + D v) < 4 := hT _ (by omega) v1
  have lf0 : ss_lf a ≠ 0 := by have := ss_lf_ge a; omega
  have Cv : ss_u C (4 * v + T (a + D v)) (ss_lf a) (4 * v + T (a + D v)) = ss_lf a := ss_us _ _ _
  have Co : ∀ x c1, c1 < 4 → ¬ (x = v ∧ c1 = T (a + D v)) → ss_u C (4 * v + T (a + D v)) (ss_lf a) (4 * x + c1) = C (4 * x + c1) := by
    intro x c1 c14 k
    rw [ss_un _ (fun z => k (ss_slot c14 c4 z))]
  have ndl : ∀ z, ss_nd h a A z → z ≠ ss_lf a := by
    intro z n zl
    rcases n with ⟨n, _⟩ | ⟨s, s1, s2, s3⟩
    · have := ss_lf_ge a
      omega
    · have := ss_lf_inj (h := h) (a := a + 1) (s := s) (t := a) (by omega) s1 (by omega) hb.1 (by omega) (s3.symm.trans zl)
      omega
  have ndi : ∀ z, ss_nd h a A z → ss_nd h (a + 1) A z := fun z n => n.imp id (fun ⟨s, s1, s2, s3⟩ => ⟨s, s1, by omega, s3⟩)
  have ndo : ∀ z, ss_nd h (a + 1) A z → z ≠ ss_lf a → ss_nd h a A z := by
    intro z n zl
    rcases n with n | ⟨s, s1, s2, s3⟩
    · exact Or.inl n
    · refine Or.inr ⟨s, s1, ?_, s3⟩
      by_cases q : s = a
      · rw [q] at s3; exact absurd s3 zl
      · omega
  have Po : ∀ z, z ≠ ss_lf a → ss_u P (ss_lf a) v z = P z := fun z k => ss_un _ k
  refine ⟨⟨by omega, by omega, hb.2.2⟩, hT, h0, hrr, hR, ?_, ?_, ?_, ?_, ?_⟩
  · intro x c1 ax c14 ce s s1 s2 so
    by_cases k : x = v ∧ c1 = T (a + D v)
    · rw [k.1, k.2, Cv] at ce
      exact absurd ce lf0
    · rw [Co x c1 c14 k] at ce
      by_cases sa : s = a
      · rw [sa] at so ⊢
        intro q
        by_cases xv : x = v
        · rw [xv] at q
          exact k ⟨xv, q.symm⟩
        · have := (U x ax so xv).1
          rw [q] at this
          exact this ce
      · exact hzz x c1 ax c14 ce s s1 (by omega) so
  · intro x c1 y1 ax c14 ce y10
    by_cases k : x = v ∧ c1 = T (a + D v)
    · rw [k.1, k.2, Cv] at ce
      rw [← ce, k.1, k.2, ss_us]
      refine ⟨Or.inr ⟨a, hb.1, by omega, rfl⟩, rfl, fun z => absurd z (by have := ss_lf_ge a; omega), ⟨a, hb.1, by omega, ss_ol a, ov, rfl⟩, ?_⟩
      intro s s1 s2 so sc
      by_cases sa : s = a
      · rw [sa]; exact ss_ol a
      · exact absurd sc (hzz v _ hv c4 e s s1 (by omega) so)
    · rw [Co x c1 c14 k] at ce
      obtain ⟨m1, m2, m3, ⟨q, q1, q2, qo, qx, qc⟩, m5⟩ := hcc x c1 y1 ax c14 ce y10
      rw [Po y1 (ndl y1 m1)]
      refine ⟨ndi y1 m1, m2, m3, ⟨q, q1, by omega, qo, qx, qc⟩, ?_⟩
      intro s s1 s2 so sc
      by_cases sa : s = a
      · rw [sa] at so sc ⊢
        by_cases xv : x = v
        · rw [xv] at sc
          exact absurd ⟨xv, sc.symm⟩ k
        · have := (U x ax so xv).2.2
          rw [sc, ce] at this
          exact this
      · exact m5 s s1 (by omega) so sc
  · intro y1 m1 y10
    by_cases q : y1 = ss_lf a
    · rw [q, ss_us]
      exact ⟨hv, _, c4, Cv⟩
    · rw [Po y1 q]
      obtain ⟨q1, c1, q2, q3⟩ := hp y1 (ndo y1 m1 q) y10
      refine ⟨q1, c1, q2, ?_⟩
      rw [Co _ c1 q2 ?_]
      · exact q3
      · intro ⟨k1, k2⟩
        rw [k1, k2, e] at q3
        exact y10 q3.symm
  · intro x c1 x32 ax c14
    rw [Co x c1 c14 (fun q => ax (q.1 ▸ hv))]
    exact hf x c1 x32 ax c14
  · intro x ax x0 _
    by_cases xw : x = w
    · rcases hw with hw | ⟨hw, s, s1, s2, so⟩
      · exact absurd (xw.trans hw) x0
      · rw [xw, hw]
        exact ⟨s, a, s1, by omega, hb.1, by omega, so, ov, hzz v _ hv c4 e s s1 s2 so⟩
    · obtain ⟨p, q, p1, p2, q1, q2, po, qo, ne⟩ := hbr x ax x0 xw
      exact ⟨p, q, p1, by omega, q1, by omega, po, qo, ne⟩
end
end
section
section
variable {T T' : Nat → Nat} {h a E w : Nat} {A : Nat → Prop} {R D C P : Nat → Nat} {x y z s t c : Nat}
theorem ss_lp (I : ss_SI T h a E A R D C P w) (s1 : h ≤ s) (s2 : s < a) : A (P (ss_lf s)) ∧ ss_on T E R D s (P (ss_lf s)) ∧ T (s + D (P (ss_lf s))) < 4 ∧ C (4 * P (ss_lf s) + T (s + D (P (ss_lf s)))) = ss_lf s := by
  have l := ss_lf_ge s
  obtain ⟨c, c4, ap, ec, dp, t, t1, t2, to, tp, tc⟩ := ss_par I (Or.inr ⟨s, s1, s2, rfl⟩) (by omega)
  have ts : t = s := ss_oe (h := h) (a := a) (by have := I.1; omega) t1 t2 s1 s2 l to (ss_ol s)
  rw [ts] at tp tc
  rw [tc]
  exact ⟨ap, tp, c4, ec⟩
theorem ss_oth (I : ss_SI T h a E A R D C P w) (q : Nat) (hy : A y) (y0 : y ≠ 0) (yw : y ≠ w) : ∃ t, h ≤ t ∧ t < a ∧ t ≠ q ∧ ss_on T E R D t y := by
  obtain ⟨hb, hT, h0, hrr, hR, hzz, hcc, hp, hf, hbr⟩ := I
  obtain ⟨p, r, p1, p2, r1, r2, po, ro, ne⟩ := hbr y hy y0 yw
  by_cases e : p = q
  · refine ⟨r, r1, r2, fun z => ne ?_, ro⟩
    rw [z, e]
  · exact ⟨p, p1, p2, e, po⟩
theorem ss_remove {v : Nat} (I : ss_SI T h a E A R D C P 0) (ha : h < a) (ev : P (ss_lf h) = v) : ss_SI T (h + 1) a E A R D (ss_u C (4 * v + T (h + D v)) 0) P v := by
  obtain ⟨av, ov, c4, ec⟩ := ss_lp I (Nat.le_refl h) ha
  rw [ev] at av ov c4 ec
  have I' := I
  obtain ⟨hb, hT, h0, hrr, hR, hzz, hcc, hp, hf, hbr⟩ := I'
  have lf0 : ss_lf h ≠ 0 := by have := ss_lf_ge h; omega
  have Cv : ss_u C (4 * v + T (h + D v)) 0 (4 * v + T (h + D v)) = 0 := ss_us _ _ _
  have Co : ∀ x c1, c1 < 4 → ¬ (x = v ∧ c1 = T (h + D v)) → ss_u C (4 * v + T (h + D v)) 0 (4 * x + c1) = C (4 * x + c1) := by
    intro x c1 c14 k
    rw [ss_un _ (fun z => k (ss_slot c14 c4 z))]
  have ndi : ∀ z, ss_nd (h + 1) a A z → ss_nd h a A z := fun z n => n.imp id (fun ⟨s, s1, s2, s3⟩ => ⟨s, by omega, by omega, s3⟩)
  have ndl : ∀ z, ss_nd (h + 1) a A z → z ≠ ss_lf h := by
    intro z n zl
    rcases n with ⟨n, _⟩ | ⟨s, s1, s2, s3⟩
    · have := ss_lf_ge h
      omega
    · have := ss_lf_inj (h := h) (a := a) (s := s) (t := h) (by omega) (by omega) s2 (by omega) ha (s3.symm.trans zl)
      omega
  have ndo : ∀ z, ss_nd h a A z → z ≠ ss_lf h → ss_nd (h + 1) a A z := by
    intro z n zl
    rcases n with n | ⟨s, s1, s2, s3⟩
    · exact Or.inl n
    · refine Or.inr ⟨s, ?_, s2, s3⟩
      by_cases q : s = h
      · rw [q] at s3; exact absurd s3 zl
      · omega
  have dn : ∀ x c1 y1, A x → c1 < 4 → C (4 * x + c1) = y1 → y1 ≠ 0 → y1 ≠ ss_lf h → ∃ s, h + 1 ≤ s ∧ s < a ∧ ss_on T E R D s y1 ∧ ss_on T E R D s x ∧ T (s + D x) = c1 := by
    intro x c1 y1 ax c14 ce y10 yl
    obtain ⟨m1, m2, m3, ⟨q, q1, q2, qo, qx, qc⟩, m5⟩ := hcc x c1 y1 ax c14 ce y10
    by_cases y32 : y1 < 32
    · obtain ⟨t, t1, t2, tq, to⟩ := ss_oth I h (ss_nda m1 y32) y10 y10
      obtain ⟨k1, k2⟩ := ss_L1 I ax c14 ce y10 t1 t2 to
      exact ⟨t, by omega, t2, to, k1, k2⟩
    · obtain ⟨u, u1, u2, u3⟩ := ss_ndl m1 (by omega)
      have uq : q = u := ss_oe (h := h) (a := a) (by omega) q1 q2 u1 u2 (by omega) qo (by rw [u3]; exact ss_ol u)
      have qh : q ≠ h := by
        intro z
        rw [uq] at z
        rw [z] at u3
        exact yl u3
      exact ⟨q, by omega, q2, qo, qx, qc⟩
  refine ⟨⟨by omega, hb.2.1, by omega⟩, fun i h1 h2 => hT i (by omega) h2, h0, hrr, hR, ?_, ?_, ?_, ?_, ?_⟩
  · intro x c1 ax c14 ce s s1 s2 so
    by_cases k : x = v ∧ c1 = T (h + D v)
    · intro q
      have k1 := k.1
      have k2 := k.2
      rw [k1] at so q
      obtain ⟨m1, m2, m3, m4, m5⟩ := hcc v _ _ av c4 ec lf0
      have k3 := m5 s (by omega) s2 so (q.trans k2)
      have := ss_oe (h := h) (a := a) (by omega) (by omega) s2 (Nat.le_refl h) ha (ss_lf_ge h) k3 (ss_ol h)
      omega
    · rw [Co x c1 c14 k] at ce
      exact hzz x c1 ax c14 ce s (by omega) s2 so
  · intro x c1 y1 ax c14 ce y10
    by_cases k : x = v ∧ c1 = T (h + D v)
    · rw [k.1, k.2, Cv] at ce
      exact absurd ce.symm y10
    · rw [Co x c1 c14 k] at ce
      obtain ⟨m1, m2, m3, m4, m5⟩ := hcc x c1 y1 ax c14 ce y10
      have yl : y1 ≠ ss_lf h := by
        intro z
        have k1 : x = v := by rw [← m2, z, ev]
        have k2 := ss_L1 I ax c14 ce y10 (Nat.le_refl h) ha (by rw [z]; exact ss_ol h)
        exact k ⟨k1, by rw [← k2.2, k1]⟩
      exact ⟨ndo y1 m1 yl, m2, m3, dn x c1 y1 ax c14 ce y10 yl, fun s s1 s2 so sc => m5 s (by omega) s2 so sc⟩
  · intro y1 m1 y10
    obtain ⟨q1, c1, q2, q3⟩ := hp y1 (ndi y1 m1) y10
    refine ⟨q1, c1, q2, ?_⟩
    rw [Co _ c1 q2 ?_]
    · exact q3
    · intro ⟨k1, k2⟩
      rw [k1, k2, ec] at q3
      exact ndl y1 m1 q3.symm
  · intro x c1 x32 ax c14
    rw [Co x c1 c14 (fun q => ax (q.1 ▸ av))]
    exact hf x c1 x32 ax c14
  · intro x ax x0 xv
    obtain ⟨p, q, p1, p2, q1, q2, po, qo, ne⟩ := hbr x ax x0 x0
    have rep : ∀ p, h ≤ p → p < a → ss_on T E R D p x → ∃ p', h + 1 ≤ p' ∧ p' < a ∧ ss_on T E R D p' x ∧ T (p' + D x) = T (p + D x) := by
      intro p p1 p2 po
      have c4' := ss_c4 I ax p1 po
      have y10 : C (4 * x + T (p + D x)) ≠ 0 := fun z => hzz x _ ax c4' z p p1 p2 po rfl
      have yl : C (4 * x + T (p + D x)) ≠ ss_lf h := by
        intro z
        obtain ⟨m1, m2, m3, m4, m5⟩ := hcc x _ _ ax c4' rfl y10
        rw [z, ev] at m2
        exact xv m2.symm
      obtain ⟨s, s1, s2, s3, s4, s5⟩ := dn x _ _ ax c4' rfl y10 yl
      exact ⟨s, s1, s2, s4, s5⟩
    obtain ⟨p', k1, k2, k3, k4⟩ := rep p p1 p2 po
    obtain ⟨q', l1, l2, l3, l4⟩ := rep q q1 q2 qo
    exact ⟨p', q', k1, k2, l1, l2, k3, l3, by rw [k4, l4]; exact ne⟩
theorem ss_merge {d cw : Nat} (I : ss_SI T h a E A R D C P w) (aw : A w) (w0 : w ≠ 0) (d4 : d < 4) (ey : C (4 * w + d) = y) (y0 : y ≠ 0) (on1 : ∀ c, c < 4 → c ≠ d → C (4 * w + c) = 0) (ex : P w = x) (cw4 : cw < 4) (ew : C (4 * x + cw) = w) : ss_SI T h a E (fun z => A z ∧ z ≠ w) R D (ss_u (ss_u C (4 * w + d) 0) (4 * x + cw) y) (ss_u P y x) 0 := by
  have I' := I
  obtain ⟨hb, hT, h0, hrr, hR, hzz, hcc, hp, hf, hbr⟩ := I'
  have w32 := h0.2.2 w aw
  have ax : A x := by rw [← ex]; exact (hp w (Or.inl ⟨w32, aw⟩) w0).1
  obtain ⟨n1, n2, n3, ⟨p, p1, p2, po, px, pc⟩, n5⟩ := hcc w d y aw d4 ey y0
  obtain ⟨m1, m2, m3, ⟨q, q1, q2, qo, qx, qc⟩, m5⟩ := hcc x cw w ax cw4 ew w0
  have dxw := m3 w32
  have xw : x ≠ w := by
    intro z
    rw [z] at dxw
    omega
  have yw : y ≠ w := by
    intro z
    rw [z] at n3
    have := n3 w32
    omega
  have Cx : ss_u (ss_u C (4 * w + d) 0) (4 * x + cw) y (4 * x + cw) = y := ss_us _ _ _
  have Cw : ss_u (ss_u C (4 * w + d) 0) (4 * x + cw) y (4 * w + d) = 0 := by
    rw [ss_un _ (ss_slx d4 cw4 (fun z => xw z.symm)), ss_us]
  have Co : ∀ x1 c1, c1 < 4 → ¬ (x1 = x ∧ c1 = cw) → ¬ (x1 = w ∧ c1 = d) → ss_u (ss_u C (4 * w + d) 0) (4 * x + cw) y (4 * x1 + c1) = C (4 * x1 + c1) := by
    intro x1 c1 c14 k1 k2
    rw [ss_un _ (fun z => k1 (ss_slot c14 cw4 z)), ss_un _ (fun z => k2 (ss_slot c14 d4 z))]
  have Po : ∀ z, z ≠ y → ss_u P y x z = P z := fun z k => ss_un _ k
  have ndi : ∀ z, ss_nd h a A z → z ≠ w → ss_nd h a (fun z => A z ∧ z ≠ w) z := fun z n zw => n.imp (fun k => ⟨k.1, k.2, zw⟩) id
  have ndo : ∀ z, ss_nd h a (fun z => A z ∧ z ≠ w) z → ss_nd h a A z ∧ z ≠ w := by
    intro z n
    rcases n with ⟨k1, k2, k3⟩ | ⟨s, s1, s2, s3⟩
    · exact ⟨Or.inl ⟨k1, k2⟩, k3⟩
    · exact ⟨Or.inr ⟨s, s1, s2, s3⟩, by have := ss_lf_ge s; omega⟩
  refine ⟨hb, hT, ⟨⟨h0.1, fun z => w0 z.symm⟩, h0.2.1, fun z k => h0.2.2 z k.1⟩, fun z k => hrr z k.1, fun z k => hR z k.1, ?_, ?_, ?_, ?_, ?_⟩
  · intro x1 c1 a1 c14 ce s s1 s2 so
    by_cases k : x1 = x ∧ c1 = cw
    · rw [k.1, k.2, Cx] at ce
      exact absurd ce y0
    · rw [Co x1 c1 c14 k (fun z => a1.2 z.1)] at ce
      exact hzz x1 c1 a1.1 c14 ce s s1 s2 so
  · intro x1 c1 y1 a1 c14 ce y10
    by_cases k : x1 = x ∧ c1 = cw
    · rw [k.1, k.2, Cx] at ce
      rw [← ce, k.1, k.2, ss_us]
      refine ⟨ndi y n1 yw, rfl, fun y32 => Nat.lt_trans dxw (n3 y32), ?_, ?_⟩
      · obtain ⟨k1, k2⟩ := ss_L1 I ax cw4 ew w0 p1 p2 px
        exact ⟨p, p1, p2, po, k1, k2⟩
      · intro s s1 s2 so sc
        have sw := m5 s s1 s2 so sc
        have sd : T (s + D w) = d := by
          by_cases z : T (s + D w) = d
          · exact z
          · have c4' := ss_c4 I aw s1 sw
            exact absurd rfl (hzz w _ aw c4' (on1 _ c4' z) s s1 s2 sw)
        exact n5 s s1 s2 sw sd
    · rw [Co x1 c1 c14 k (fun z => a1.2 z.1)] at ce
      obtain ⟨l1, l2, l3, l4, l5⟩ := hcc x1 c1 y1 a1.1 c14 ce y10
      have y1w : y1 ≠ w := by
        intro z
        have k1 : x1 = x := by rw [← l2, z, ex]
        refine k ⟨k1, ?_⟩
        have k2 := ss_L1 I a1.1 c14 ce y10 q1 q2 (by rw [z]; exact qo)
        rw [← k2.2, ← qc, k1]
      have y1y : y1 ≠ y := by
        intro z
        rw [z, n2] at l2
        exact a1.2 l2.symm
      rw [Po y1 y1y]
      exact ⟨ndi y1 l1 y1w, l2, l3, l4, l5⟩
  · intro y1 k1 y10
    obtain ⟨k1, y1w⟩ := ndo y1 k1
    by_cases y1y : y1 = y
    · rw [y1y, ss_us]
      exact ⟨⟨ax, xw⟩, cw, cw4, Cx⟩
    · rw [Po y1 y1y]
      obtain ⟨r1, c1, r2, r3⟩ := hp y1 k1 y10
      have pw : P y1 ≠ w := by
        intro z
        rw [z] at r3
        by_cases cd : c1 = d
        · rw [cd, ey] at r3
          exact y1y r3.symm
        · rw [on1 c1 r2 cd] at r3
          exact y10 r3.symm
      refine ⟨⟨r1, pw⟩, c1, r2, ?_⟩
      rw [Co _ c1 r2 ?_ (fun z => pw z.1)]
      · exact r3
      · intro ⟨u1, u2⟩
        rw [u1, u2, ew] at r3
        exact y1w r3.symm
  · intro x1 c1 x32 a1 c14
    by_cases x1w : x1 = w
    · rw [x1w]
      by_cases cd : c1 = d
      · rw [cd]; exact Cw
      · rw [Co w c1 c14 (fun z => xw z.1.symm) (fun z => cd z.2)]
        exact on1 c1 c14 cd
    · have a1' : ¬ A x1 := fun z => a1 ⟨z, x1w⟩
      rw [Co x1 c1 c14 (fun z => a1' (z.1 ▸ ax)) (fun z => x1w z.1)]
      exact hf x1 c1 x32 a1' c14
  · intro x1 a1 x10 _
    exact hbr x1 a1.1 x10 a1.2
end
def ss_LA (T : Nat → Nat) (h a E : Nat) (A : Nat → Prop) (R D La : Nat → Nat) : Prop := ∀ y, ss_nd h a A y → y ≠ 0 → h ≤ La y ∧ La y < a ∧ ss_on T E R D (La y) y ∧ ∀ s, h ≤ s → s < a → ss_on T E R D s y → s ≤ La y
def ss_LE (T : Nat → Nat) (h a E : Nat) (A : Nat → Prop) (R D Le : Nat → Nat) : Prop := ∀ y, ss_nd h a A y → Le y = ss_cn (fun s => h ≤ s ∧ ss_on T E R D s y) a
section
variable {T T' : Nat → Nat} {h a E w : Nat} {A : Nat → Prop} {R D C P La La' Le Le' : Nat → Nat} {x y z s t c : Nat}
theorem ss_grow_la (I : ss_SI T h a E A R D C P 0) (hT' : ∀ i, i < E → T' i = T i) (H : ss_LA T h a E A R D La) : ss_LA T' h a (E + 1) A R D La := by
  intro y n y0
  obtain ⟨k1, k2, k3, k4⟩ := H y n y0
  exact ⟨k1, k2, (ss_grow_on I hT' k1 k2 (ss_nda n)).mpr k3, fun s s1 s2 so => k4 s s1 s2 ((ss_grow_on I hT' s1 s2 (ss_nda n)).mp so)⟩
theorem ss_grow_le (I : ss_SI T h a E A R D C P 0) (hT' : ∀ i, i < E → T' i = T i) (H : ss_LE T h a E A R D Le) : ss_LE T' h a (E + 1) A R D Le := by
  intro y n
  rw [H y n]
  refine ss_cn_c (fun s s2 => ?_)
  constructor
  · intro ⟨s1, so⟩
    exact ⟨s1, (ss_grow_on I hT' s1 s2 (ss_nda n)).mpr so⟩
  · intro ⟨s1, so⟩
    exact ⟨s1, (ss_grow_on I hT' s1 s2 (ss_nda n)).mp so⟩
theorem ss_split_la {r L v d : Nat} (I : ss_SI T h a E A R D C P 0) (hv : A v) (c4 : c < 4) (e : C (4 * v + c) = y) (y0 : y ≠ 0) (dv : D v < L) (w32 : w < 32) (hr : ∀ s, h ≤ s → s < a → ss_on T E R D s y → s + L < E ∧ ss_eqs T s r L ∧ T (s + L) = d) (H : ss_LA T h a E A R D La) : ss_LA T h a E (fun z => A z ∨ z = w) (ss_u R w r) (ss_u D w L) (ss_u La w (La y)) := by
  have W : ∀ s, h ≤ s → s < a → (ss_on T E (ss_u R w r) (ss_u D w L) s w ↔ ss_on T E R D s y) := fun s s1 s2 => ss_split_ow I hv c4 e y0 dv w32 hr s1 s2
  obtain ⟨hb, hT, h0, hrr, hR, hzz, hcc, hp, hf, hbr⟩ := I
  have n1 := (hcc v c y hv c4 e y0).1
  intro z n z0
  by_cases zw : z = w
  · rw [zw, ss_us]
    obtain ⟨k1, k2, k3, k4⟩ := H y n1 y0
    exact ⟨k1, k2, (W _ k1 k2).mpr k3, fun s s1 s2 so => k4 s s1 s2 ((W s s1 s2).mp so)⟩
  · rw [ss_un La zw]
    have n' : ss_nd h a A z := n.imp (fun k => ⟨k.1, k.2.elim id (fun q => absurd q zw)⟩) id
    obtain ⟨k1, k2, k3, k4⟩ := H z n' z0
    exact ⟨k1, k2, (ss_split_on zw).mpr k3, fun s s1 s2 so => k4 s s1 s2 ((ss_split_on zw).mp so)⟩
theorem ss_split_le {r L v d : Nat} (I : ss_SI T h a E A R D C P 0) (hv : A v) (c4 : c < 4) (e : C (4 * v + c) = y) (y0 : y ≠ 0) (dv : D v < L) (w32 : w < 32) (hr : ∀ s, h ≤ s → s < a → ss_on T E R D s y → s + L < E ∧ ss_eqs T s r L ∧ T (s + L) = d) (H : ss_LE T h a E A R D Le) : ss_LE T h a E (fun z => A z ∨ z = w) (ss_u R w r) (ss_u D w L) (ss_u Le w (Le y)) := by
  have W : ∀ s, h ≤ s → s < a → (ss_on T E (ss_u R w r) (ss_u D w L) s w ↔ ss_on T E R D s y) := fun s s1 s2 => ss_split_ow I hv c4 e y0 dv w32 hr s1 s2
  obtain ⟨hb, hT, h0, hrr, hR, hzz, hcc, hp, hf, hbr⟩ := I
  have n1 := (hcc v c y hv c4 e y0).1
  intro z n
  by_cases zw : z = w
  · rw [zw, ss_us, H y n1]
    refine ss_cn_c (fun s s2 => ?_)
    exact ⟨fun k => ⟨k.1, (W s k.1 s2).mpr k.2⟩, fun k => ⟨k.1, (W s k.1 s2).mp k.2⟩⟩
  · have n' : ss_nd h a A z := n.imp (fun k => ⟨k.1, k.2.elim id (fun q => absurd q zw)⟩) id
    rw [ss_un Le zw, H z n']
    refine ss_cn_c (fun s s2 => ?_)
    exact ⟨fun k => ⟨k.1, (ss_split_on zw).mpr k.2⟩, fun k => ⟨k.1, (ss_split_on zw).mp k.2⟩⟩
theorem ss_place_nd (n : ss_nd h (a + 1) A z) (zl : z ≠ ss_lf a) : ss_nd h a A z := by
  rcases n with n | ⟨s, s1, s2, s3⟩
  · exact Or.inl n
  · refine Or.inr ⟨s, s1, ?_, s3⟩
    by_cases q : s = a
    · rw [q] at s3; exact absurd s3 zl
    · omega
theorem ss_place_la (ha : h ≤ a) (hL : ∀ z, z ≠ 0 → ss_nd h (a + 1) A z → (ss_on T E R D a z → La' z = a) ∧ (¬ ss_on T E R D a z → La' z = La z)) (H : ss_LA T h a E A R D La) : ss_LA T h (a + 1) E A R D La' := by
  intro z n z0
  obtain ⟨p1, p2⟩ := hL z z0 n
  by_cases o : ss_on T E R D a z
  · rw [p1 o]
    exact ⟨ha, by omega, o, fun s _ s2 _ => by omega⟩
  · rw [p2 o]
    have zl : z ≠ ss_lf a := fun e => o (by rw [e]; exact ss_ol a)
    obtain ⟨k1, k2, k3, k4⟩ := H z (ss_place_nd n zl) z0
    refine ⟨k1, by omega, k3, fun s s1 s2 so => k4 s s1 ?_ so⟩
    by_cases q : s = a
    · rw [q] at so; exact absurd so o
    · omega
theorem ss_place_le (ha : h ≤ a) (ha2 : a < h + 32) (hL : ∀ z, ss_nd h (a + 1) A z → (z = ss_lf a → Le' z = 1) ∧ (z ≠ ss_lf a → ss_on T E R D a z → Le' z = Le z + 1) ∧ (z ≠ ss_lf a → ¬ ss_on T E R D a z → Le' z = Le z)) (H : ss_LE T h a E A R D Le) : ss_LE T h (a + 1) E A R D Le' := by
  intro z n
  obtain ⟨p1, p2, p3⟩ := hL z n
  show Le' z = ss_cn (fun s => h ≤ s ∧ ss_on T E R D s z) a + ss_b (h ≤ a ∧ ss_on T E R D a z)
  by_cases zl : z = ss_lf a
  · rw [p1 zl, ss_cn_z, ss_b1 ⟨ha, by rw [zl]; exact ss_ol a⟩]
    intro s s2 k
    have := ss_oe (h := h) (a := a + 1) (by omega) k.1 (by omega) ha (by omega) (by rw [zl]; exact ss_lf_ge a) k.2 (by rw [zl]; exact ss_ol a)
    omega
  · by_cases o : ss_on T E R D a z
    · rw [p2 zl o, ss_b1 ⟨ha, o⟩, H z (ss_place_nd n zl)]
    · rw [p3 zl o, ss_b0 (fun k => o k.2), H z (ss_place_nd n zl)]
      rfl
theorem ss_remove_la (I : ss_SI T h a E A R D C P 0) (ha : h < a) (H : ss_LA T h a E A R D La) : ss_LA T (h + 1) a E A R D La := by
  intro z n z0
  have n' : ss_nd h a A z := n.imp id (fun ⟨s, s1, s2, s3⟩ => ⟨s, by omega, by omega, s3⟩)
  obtain ⟨k1, k2, k3, k4⟩ := H z n' z0
  refine ⟨?_, k2, k3, fun s s1 s2 so => k4 s (by omega) s2 so⟩
  rcases n with ⟨n1, n2⟩ | ⟨s, s1, s2, s3⟩
  · obtain ⟨t, t1, t2, tq, to⟩ := ss_oth I h n2 z0 z0
    have := k4 t t1 t2 to
    omega
  · have := k4 s (by omega) s2 (by rw [s3]; exact ss_ol s)
    omega
theorem ss_remove_le (ha : h < a) (hL : ∀ z, ss_nd (h + 1) a A z → (ss_on T E R D h z → Le' z + 1 = Le z) ∧ (¬ ss_on T E R D h z → Le' z = Le z)) (H : ss_LE T h a E A R D Le) : ss_LE T (h + 1) a E A R D Le' := by
  intro z n
  have n' : ss_nd h a A z := n.imp id (fun ⟨s, s1, s2, s3⟩ => ⟨s, by omega, by omega, s3⟩)
  obtain ⟨p1, p2⟩ := hL z n
  have k := H z n'
  by_cases o : ss_on T E R D h z
  · have e1 := p1 o
    have e2 := ss_cn_1 (p := fun s => h + 1 ≤ s ∧ ss_on T E R D s z) (q := fun s => h ≤ s ∧ ss_on T E R D s z) (j := h) (fun q => absurd q.1 (by omega)) ⟨Nat.le_refl _, o⟩ (n := a) ha (fun i _ hi => ⟨fun q => ⟨by have := q.1; omega, q.2⟩, fun q => ⟨by have := q.1; omega, q.2⟩⟩)
    omega
  · rw [p2 o, k]
    refine ss_cn_c (fun s s2 => ⟨fun q => ⟨?_, q.2⟩, fun q => ⟨by have := q.1; omega, q.2⟩⟩)
    by_cases e : s = h
    · have := q.2
      rw [e] at this
      exact absurd this o
    · have := q.1
      omega
theorem ss_merge_nd (n : ss_nd h a (fun z => A z ∧ z ≠ w) z) : ss_nd h a A z := n.imp (fun k => ⟨k.1, k.2.1⟩) id
theorem ss_merge_la (H : ss_LA T h a E A R D La) : ss_LA T h a E (fun z => A z ∧ z ≠ w) R D La := fun z n z0 => H z (ss_merge_nd n) z0
theorem ss_merge_le (H : ss_LE T h a E A R D Le) : ss_LE T h a E (fun z => A z ∧ z ≠ w) R D Le := fun z n => H z (ss_merge_nd n)
end
end
section
def ss_LK (T : Nat → Nat) (A : Nat → Prop) (R D K : Nat → Nat) (pend : Nat) : Prop := K 0 = 0 ∧ ∀ x, A x → x ≠ 0 → x ≠ pend → A (K x) ∧ D (K x) + 1 = D x ∧ ss_eqs T (R (K x)) (R x + 1) (D (K x))
def ss_A0 (T : Nat → Nat) (h a L : Nat) (A : Nat → Prop) (R D : Nat → Nat) (an : Nat) : Prop := A an ∧ D an ≤ L ∧ ss_eqs T a (R an) (D an) ∧ (L = 0 ∨ ∃ s, h ≤ s ∧ s < a ∧ ss_eqs T s a L)
def ss_AC (T : Nat → Nat) (h a L : Nat) (A : Nat → Prop) (R D : Nat → Nat) (an : Nat) : Prop := ss_A0 T h a L A R D an ∧ ∀ x, A x → D x ≤ L → ss_eqs T a (R x) (D x) → D x ≤ D an
def ss_FR (A : Nat → Prop) (F : Nat → Nat) (fc : Nat) : Prop := (∀ i, i < fc → 0 < F i ∧ F i < 32 ∧ ¬ A (F i)) ∧ (∀ i j, i < fc → j < fc → F i = F j → i = j) ∧ ∀ x, 0 < x → x < 32 → ¬ A x → ∃ i, i < fc ∧ F i = x
section
variable {T T' : Nat → Nat} {h a E w L an pend fc v : Nat} {A : Nat → Prop} {R D C P La La' Le Le' K F : Nat → Nat} {x y z s t c : Nat}
theorem ss_fr_pop (I : ss_SI T h a E A R D C P 0) (ha : a < h + 32) (H : ss_FR A F fc) : 0 < fc ∧ 0 < F (fc - 1) ∧ F (fc - 1) < 32 ∧ ¬ A (F (fc - 1)) ∧ ss_FR (fun z => A z ∨ z = F (fc - 1)) F (fc - 1) := by
  obtain ⟨f1, f2, f3⟩ := H
  have fp : 0 < fc := by
    by_cases e : 0 < fc
    · exact e
    · have := ss_count I (fun x x0 x32 => by
        by_cases ax : A x
        · exact ax
        · obtain ⟨i, hi, _⟩ := f3 x x0 x32 ax
          omega)
      omega
  have k := f1 (fc - 1) (by omega)
  refine ⟨fp, k.1, k.2.1, k.2.2, ?_, ?_, ?_⟩
  · intro i hi
    have q := f1 i (by omega)
    refine ⟨q.1, q.2.1, fun z => z.elim q.2.2 (fun e => ?_)⟩
    have := f2 i (fc - 1) (by omega) (by omega) e
    omega
  · intro i j hi hj e
    exact f2 i j (by omega) (by omega) e
  · intro x x0 x32 ax
    obtain ⟨i, hi, e⟩ := f3 x x0 x32 (fun z => ax (Or.inl z))
    refine ⟨i, ?_, e⟩
    by_cases q : i = fc - 1
    · rw [q] at e
      exact absurd (Or.inr e.symm) ax
    · omega
theorem ss_fr_push (H : ss_FR A F fc) (aw : A w) (w0 : 0 < w) (w32 : w < 32) : fc < 31 ∧ ss_FR (fun z => A z ∧ z ≠ w) (ss_u F fc w) (fc + 1) := by
  obtain ⟨f1, f2, f3⟩ := H
  have ne : ∀ i, i < fc → F i ≠ w := fun i hi e => (f1 i hi).2.2 (e ▸ aw)
  have G1 : ∀ i, i < fc + 1 → 0 < ss_u F fc w i ∧ ss_u F fc w i < 32 ∧ ¬ (A (ss_u F fc w i) ∧ ss_u F fc w i ≠ w) := by
    intro i hi
    by_cases e : i = fc
    · rw [e, ss_us]
      exact ⟨w0, w32, fun q => q.2 rfl⟩
    · rw [ss_un F e]
      have k := f1 i (by omega)
      exact ⟨k.1, k.2.1, fun q => k.2.2 q.1⟩
  have G2 : ∀ i j, i < fc + 1 → j < fc + 1 → ss_u F fc w i = ss_u F fc w j → i = j := by
    intro i j hi hj e
    by_cases ei : i = fc
    · by_cases ej : j = fc
      · rw [ei, ej]
      · rw [ei, ss_us, ss_un F ej] at e
        exact absurd e.symm (ne j (by omega))
    · by_cases ej : j = fc
      · rw [ej, ss_us, ss_un F ei] at e
        exact absurd e (ne i (by omega))
      · rw [ss_un F ei, ss_un F ej] at e
        exact f2 i j (by omega) (by omega) e
  have pg := ss_pig 31 (fc + 1) (fun i => ss_u F fc w i - 1) (fun i hi => by
    have := G1 i hi
    show ss_u F fc w i - 1 < 31
    omega) (fun i j hi hj e => by
    have e' : ss_u F fc w i - 1 = ss_u F fc w j - 1 := e
    have k1 := G1 i hi
    have k2 := G1 j hj
    exact G2 i j hi hj (by omega))
  refine ⟨by omega, G1, G2, ?_⟩
  intro x x0 x32 ax
  by_cases xw : x = w
  · exact ⟨fc, by omega, by rw [ss_us, xw]⟩
  · obtain ⟨i, hi, e⟩ := f3 x x0 x32 (fun z => ax ⟨z, xw⟩)
    exact ⟨i, by omega, by rw [ss_un F (by omega)]; exact e⟩
theorem ss_edge (I : ss_SI T h a E A R D C P 0) (H : ss_AC T h a L A R D an) (hE : a + L ≤ E) (hd : D an < L) : T (a + D an) < 4 ∧ C (4 * an + T (a + D an)) ≠ 0 ∧ ss_nd h a A (C (4 * an + T (a + D an))) ∧ (C (4 * an + T (a + D an)) < 32 → L < D (C (4 * an + T (a + D an)))) ∧ P (C (4 * an + T (a + D an))) = an ∧ ∀ s, h ≤ s → s < a → (ss_on T E R D s (C (4 * an + T (a + D an))) ↔ ss_eqs T s a L) := by
  obtain ⟨⟨a1, a2, a3, a4⟩, a5⟩ := H
  have I' := I
  obtain ⟨hb, hT, h0, hrr, hR, hzz, hcc, hp, hf, hbr⟩ := I'
  have an32 := h0.2.2 an a1
  have c4 : T (a + D an) < 4 := hT _ (by omega) (by omega)
  rcases a4 with a4 | ⟨q, q1, q2, q3⟩
  · omega
  · have qan : ss_on T E R D q an := ss_io an32 (by omega) (ss_et (ss_em q3 (by omega)) a3)
    have qc : T (q + D an) = T (a + D an) := q3 _ hd
    have y0 : C (4 * an + T (a + D an)) ≠ 0 := fun z => hzz an _ a1 c4 z q q1 q2 qan qc
    obtain ⟨n1, n2, n3, n4, n5⟩ := hcc an _ _ a1 c4 rfl y0
    have qy := n5 q q1 q2 qan qc
    have dy : C (4 * an + T (a + D an)) < 32 → L < D (C (4 * an + T (a + D an))) := by
      intro y32
      by_cases l : L < D (C (4 * an + T (a + D an)))
      · exact l
      · have k := ss_oi y32 qy
        have := a5 _ (ss_nda n1 y32) (by omega) (ss_et (ss_es (ss_em q3 (by omega))) k.2)
        have := n3 y32
        omega
    refine ⟨c4, y0, n1, dy, n2, fun s s1 s2 => ⟨fun so => ?_, fun se => ?_⟩⟩
    · by_cases y32 : C (4 * an + T (a + D an)) < 32
      · have k := ss_oi y32 qy
        have k2 := ss_oi y32 so
        exact ss_et (ss_em (ss_et k2.2 (ss_es k.2)) (by have := dy y32; omega)) q3
      · have := ss_oe (by omega) s1 s2 q1 q2 (by omega) so qy
        rw [this]; exact q3
    · exact n5 s s1 s2 (ss_io an32 (by omega) (ss_et (ss_em se (by omega)) a3)) (se _ hd)
theorem ss_can0 (H : ss_A0 T h a L A R D an) (hd : D an = L) : ss_AC T h a L A R D an := ⟨H, fun x _ q _ => by omega⟩
theorem ss_can1 (I : ss_SI T h a E A R D C P 0) (H : ss_A0 T h a L A R D an) (hE : a + L ≤ E) (hd : D an < L) : T (a + D an) < 4 ∧ C (4 * an + T (a + D an)) ≠ 0 ∧ ss_nd h a A (C (4 * an + T (a + D an))) ∧ (C (4 * an + T (a + D an)) < 32 → D (C (4 * an + T (a + D an))) ≤ L → ss_A0 T h a L A R D (C (4 * an + T (a + D an))) ∧ D an < D (C (4 * an + T (a + D an)))) ∧ (¬ (C (4 * an + T (a + D an)) < 32 ∧ D (C (4 * an + T (a + D an))) ≤ L) → ss_AC T h a L A R D an) := by
  have H' := H
  obtain ⟨a1, a2, a3, a4⟩ := H'
  have I' := I
  obtain ⟨hb, hT, h0, hrr, hR, hzz, hcc, hp, hf, hbr⟩ := I'
  have an32 := h0.2.2 an a1
  have c4 : T (a + D an) < 4 := hT _ (by omega) (by omega)
  rcases a4 with a4 | ⟨q, q1, q2, q3⟩
  · omega
  · have qan : ss_on T E R D q an := ss_io an32 (by omega) (ss_et (ss_em q3 (by omega)) a3)
    have qc : T (q + D an) = T (a + D an) := q3 _ hd
    have y0 : C (4 * an + T (a + D an)) ≠ 0 := fun z => hzz an _ a1 c4 z q q1 q2 qan qc
    obtain ⟨n1, n2, n3, n4, n5⟩ := hcc an _ _ a1 c4 rfl y0
    have qy := n5 q q1 q2 qan qc
    refine ⟨c4, y0, n1, ?_, ?_⟩
    · intro y32 dy
      have k := ss_oi y32 qy
      exact ⟨⟨ss_nda n1 y32, dy, ss_et (ss_es (ss_em q3 dy)) k.2, Or.inr ⟨q, q1, q2, q3⟩⟩, n3 y32⟩
    · intro ny
      refine ⟨H, fun x ax dx ex => ?_⟩
      by_cases l : D x ≤ D an
      · exact l
      · have x32 := h0.2.2 x ax
        have qx : ss_on T E R D q x := ss_io x32 (by omega) (ss_et (ss_em q3 dx) ex)
        have k := ss_L2' I ax (Or.inl rfl) a1 (by omega) q1 q2 qx qan
        rw [qc] at k
        exact absurd ⟨k.2.1, by have := k.2.2.1; omega⟩ ny
theorem ss_suf (H : ss_A0 T h a L A R D an) (HK : ss_LK T A R D K pend) (D0 : D 0 = 0) (A00 : A 0) (L0 : 0 < L) (hp : an = 0 ∨ an ≠ pend) : ss_A0 T (h + 1) (a + 1) (L - 1) A R D (K an) := by
  obtain ⟨a1, a2, a3, a4⟩ := H
  have ex : L - 1 = 0 ∨ ∃ s, h + 1 ≤ s ∧ s < a + 1 ∧ ss_eqs T s (a + 1) (L - 1) := by
    rcases a4 with a4 | ⟨q, q1, q2, q3⟩
    · omega
    · exact Or.inr ⟨q + 1, by omega, by omega, ss_ek q3 1 (by omega)⟩
  by_cases e : an = 0
  · rw [e, HK.1]
    exact ⟨A00, by omega, by rw [D0]; exact ss_e0, ex⟩
  · obtain ⟨k1, k2, k3⟩ := HK.2 an a1 e (hp.elim (fun q => absurd q e) id)
    exact ⟨k1, by omega, ss_et (ss_ek a3 1 (by omega)) (ss_es k3), ex⟩
theorem ss_A0_h {h' : Nat} (hh : h' ≤ h) (H : ss_A0 T h a L A R D an) : ss_A0 T h' a L A R D an :=
  ⟨H.1, H.2.1, H.2.2.1, H.2.2.2.imp id (fun ⟨s, s1, s2⟩ => ⟨s, by omega, s2⟩)⟩
theorem ss_pend (I : ss_SI T h a (a + L + 1) A R D C P 0) (H : ss_AC T h a L A R D an) (HL : ss_LA T h a (a + L + 1) A R D La) (hd : D an < L) (ap : A pend) (p0 : pend ≠ 0) (dp : D pend = L + 1) (ha : h < a) (ep : ss_eqs T (a - 1) (R pend) (L + 1)) : T (La (C (4 * an + T (a + D an))) + L) ≠ T (a + L) := by
  obtain ⟨c4, y0, n1, dy, py, ed⟩ := ss_edge I H (by omega) hd
  obtain ⟨l1, l2, l3, l4⟩ := HL _ n1 y0
  obtain ⟨hb, hT, h0, hrr, hR, hzz, hcc, hp, hf, hbr⟩ := I
  have p32 := h0.2.2 pend ap
  have K : ∀ s, h ≤ s → s < a → ss_on T (a + L + 1) R D s pend → s + 1 < a → T (s + D pend) = T (La (C (4 * an + T (a + D an))) + L) := by
    intro s s1 s2 so sa
    have k := ss_oi p32 so
    rw [dp] at k ⊢
    have e1 : ss_eqs T s (a - 1) (L + 1) := ss_et k.2 (ss_es ep)
    have e2 : ss_eqs T (s + 1) (a - 1 + 1) L := ss_ek e1 1 (by omega)
    have e3 : a - 1 + 1 = a := by omega
    rw [e3] at e2
    have so' := (ed (s + 1) (by omega) sa).mpr e2
    by_cases y32 : C (4 * an + T (a + D an)) < 32
    · have q1 := ss_oi y32 so'
      have q2 := ss_oi y32 l3
      have e4 : s + (L + 1) = s + 1 + L := by omega
      rw [e4]
      exact (ss_et q1.2 (ss_es q2.2)) L (dy y32)
    · have := ss_oe (by omega) (show h ≤ s + 1 by omega) sa l1 l2 (by omega) so' l3
      rw [← this]
      have e4 : s + (L + 1) = s + 1 + L := by omega
      rw [e4]
  obtain ⟨p, q, p1, p2, q1, q2, po, qo, ne⟩ := hbr pend ap p0 p0
  have A1 : ∀ s, s < a → ¬ s + 1 < a → T (s + D pend) = T (a + L) := by
    intro s s2 sa
    have e5 : s + D pend = a + L := by omega
    rw [e5]
  by_cases pa : p + 1 < a
  · by_cases qa : q + 1 < a
    · exact absurd ((K p p1 p2 po pa).trans (K q q1 q2 qo qa).symm) ne
    · rw [← K p p1 p2 po pa, ← A1 q q2 qa]
      exact ne
  · by_cases qa : q + 1 < a
    · rw [← K q q1 q2 qo qa, ← A1 p p2 pa]
      exact fun z => ne z.symm
    · exact absurd ((A1 p p2 pa).trans (A1 q q2 qa).symm) ne
theorem ss_lk_set {node : Nat} (HK : ss_LK T A R D K pend) (p0 : pend ≠ 0) (dp : D pend = L + 1) (ha : h < a) (ep : ss_eqs T (a - 1) (R pend) (L + 1)) (an' : A node) (dn : D node = L) (en : ss_eqs T a (R node) L) : ss_LK T A R D (ss_u K pend node) 0 := by
  refine ⟨by rw [ss_un K (fun z => p0 z.symm)]; exact HK.1, ?_⟩
  intro x ax x0 _
  by_cases e : x = pend
  · rw [e, ss_us, dn, dp]
    refine ⟨an', rfl, ?_⟩
    have e2 : ss_eqs T (a - 1 + 1) (R pend + 1) L := ss_ek ep 1 (by omega)
    have e3 : a - 1 + 1 = a := by omega
    rw [e3] at e2
    exact ss_et (ss_es en) e2
  · rw [ss_un K e]
    exact HK.2 x ax x0 e
theorem ss_lk_split {K2 : Nat → Nat} (HK : ss_LK T A R D K pend) (A00 : A 0) (wA : ¬ A w) (k0 : K2 0 = 0) (kx : ∀ x, A x → x ≠ 0 → x ≠ pend → K2 x = K x) (kp : pend ≠ 0 → A pend ∧ K2 pend = w ∧ D pend = L + 1 ∧ h < a ∧ ss_eqs T (a - 1) (R pend) (L + 1)) : ss_LK T (fun z => A z ∨ z = w) (ss_u R w a) (ss_u D w L) K2 w := by
  have aw : ∀ x, A x → x ≠ w := fun x ax xw => wA (xw ▸ ax)
  refine ⟨k0, fun x ax x0 xw => ?_⟩
  have ax := ax.elim id (fun q => absurd q xw)
  by_cases e : x = pend
  · have p0 : pend ≠ 0 := fun z => x0 (e.trans z)
    obtain ⟨_, k2, k3, k4, k5⟩ := kp p0
    rw [e, k2, ss_us, ss_us, ss_un D (e ▸ xw), ss_un R (e ▸ xw), k3]
    refine ⟨Or.inr rfl, rfl, ?_⟩
    have e2 : ss_eqs T (a - 1 + 1) (R pend + 1) L := ss_ek k5 1 (by omega)
    have e3 : a - 1 + 1 = a := by omega
    rw [e3] at e2
    exact e2
  · obtain ⟨k1, k2, k3⟩ := HK.2 x ax x0 e
    have kw := aw _ k1
    rw [kx x ax x0 e, ss_un D kw, ss_un R kw, ss_un D xw, ss_un R xw]
    exact ⟨Or.inl k1, k2, k3⟩
theorem ss_lk_merge {d : Nat} (I : ss_SI T h a E A R D C P w) (HK : ss_LK T A R D K 0) (aw : A w) (w0 : w ≠ 0) (hE : a + L = E) (ex : L = 0 ∨ ∃ s, h ≤ s ∧ s < a ∧ ss_eqs T s a L) (on1 : ∀ s, h ≤ s → s < a → ss_on T E R D s w → T (s + D w) = d) : ss_LK T (fun z => A z ∧ z ≠ w) R D K 0 := by
  refine ⟨HK.1, fun x ax x0 _ => ?_⟩
  obtain ⟨k1, k2, k3⟩ := HK.2 x ax.1 x0 x0
  refine ⟨⟨k1, fun kw => ?_⟩, k2, k3⟩
  obtain ⟨hb, hT, h0, hrr, hR, hzz, hcc, hp, hf, hbr⟩ := I
  rw [kw] at k1 k2 k3
  have x32 := h0.2.2 x ax.1
  have w32 := h0.2.2 w aw
  have K' : ∀ s, h ≤ s → s < a → ss_on T E R D s x → T (s + D x) = d := by
    intro s s1 s2 so
    have k := ss_oi x32 so
    have e1 : ss_eqs T (s + 1) (R x + 1) (D w) := ss_ek k.2 1 (by omega)
    have e2 : ss_eqs T (s + 1) (R w) (D w) := ss_et e1 (ss_es k3)
    have e4 : s + D x = s + 1 + D w := by omega
    by_cases sa : s + 1 < a
    · rw [e4]
      exact on1 (s + 1) (by omega) sa (ss_io w32 (by omega) e2)
    · have sa' : s + 1 = a := by omega
      rcases ex with ex | ⟨q, q1, q2, q3⟩
      · omega
      · rw [sa'] at e2 e4
        rw [e4, ← q3 (D w) (by omega)]
        exact on1 q q1 q2 (ss_io w32 (by omega) (ss_et (ss_em q3 (by omega)) e2))
  obtain ⟨p, q, p1, p2, q1, q2, po, qo, ne⟩ := hbr x ax.1 x0 ax.2
  exact ne ((K' p p1 p2 po).trans (K' q q1 q2 qo).symm)
theorem ss_lk_grow (hT' : ∀ i, i < E → T' i = T i) (hR : ∀ x, A x → R x + D x ≤ E) (HK : ss_LK T A R D K 0) : ss_LK T' A R D K 0 := by
  refine ⟨HK.1, fun x ax x0 xp => ?_⟩
  obtain ⟨k1, k2, k3⟩ := HK.2 x ax x0 xp
  have q1 := hR _ k1
  have q2 := hR x ax
  exact ⟨k1, k2, ss_eT hT' k3 q1 (by omega)⟩
theorem ss_ac_grow (hT' : ∀ i, i < E → T' i = T i) (hR : ∀ x, A x → R x + D x ≤ E) (hE : a + L ≤ E) (H : ss_AC T h a L A R D an) : ss_AC T' h a L A R D an := by
  obtain ⟨⟨a1, a2, a3, a4⟩, a5⟩ := H
  refine ⟨⟨a1, a2, ss_eT hT' a3 (by omega) (hR _ a1), a4.imp id (fun ⟨s, s1, s2, s3⟩ => ⟨s, s1, s2, ss_eT hT' s3 (by omega) (by omega)⟩)⟩, ?_⟩
  intro x ax dx ex
  exact a5 x ax dx (ss_eT (T := T') (fun i hi => (hT' i hi).symm) ex (by omega) (hR x ax))
theorem ss_anc (H32 : ∀ x, A x → x < 32) (hv : A v) (ov : ss_on T E R D s v) (hd : ∀ z, A z → ss_on T E R D s z → D z ≤ D v) (z : Nat) : ss_an T A R D z v ↔ A z ∧ ss_on T E R D s z := by
  have kv := ss_oi (H32 v hv) ov
  constructor
  · intro ⟨k1, k2, k3⟩
    exact ⟨k1, ss_io (H32 z k1) (by omega) (ss_et (ss_em kv.2 k2) (ss_es k3))⟩
  · intro ⟨k1, k2⟩
    have d := hd z k1 k2
    have kz := ss_oi (H32 z k1) k2
    exact ⟨k1, d, ss_et (ss_es kz.2) (ss_em kv.2 d)⟩
end
def ss_sl (f : Nat → Nat) (l : List Nat) (s : Nat) : Nat → Nat := fun j => if j ∈ l then s else f j
def ss_al (f : Nat → Nat) (l : List Nat) (d : Nat) : Nat → Nat := fun j => if j ∈ l then f j + d else f j
def ss_dl (f : Nat → Nat) (l : List Nat) : Nat → Nat := fun j => if j ∈ l then f j - 1 else f j
section
variable {T T' : Nat → Nat} {h a E w L an pend fc v : Nat} {A : Nat → Prop} {R D C P La La' Le Le' K F : Nat → Nat} {x y z s t c : Nat} {l : List Nat}
theorem ss_sl1 (hz : z ∈ l) : ss_sl La l s z = s := if_pos hz
theorem ss_sl0 (hz : ¬ z ∈ l) : ss_sl La l s z = La z := if_neg hz
theorem ss_al1 (hz : z ∈ l) : ss_al La l s z = La z + s := if_pos hz
theorem ss_al0 (hz : ¬ z ∈ l) : ss_al La l s z = La z := if_neg hz
theorem ss_dl1 (hz : z ∈ l) : ss_dl La l z = La z - 1 := if_pos hz
theorem ss_dl0 (hz : ¬ z ∈ l) : ss_dl La l z = La z := if_neg hz
theorem ss_add (I : ss_SI T h a E A R D C P w) (HL : ss_LA T h a E A R D La) (HN : ss_LE T h a E A R D Le) (hv : A v) (ov : ss_on T E R D a v) (e : C (4 * v + T (a + D v)) = 0) (hw : w = 0 ∨ (w = v ∧ ∃ s, h ≤ s ∧ s < a ∧ ss_on T E R D s v)) (hl : ∀ z, z ∈ l ↔ A z ∧ ss_on T E R D a z) : ss_SI T h (a + 1) E A R D (ss_u C (4 * v + T (a + D v)) (ss_lf a)) (ss_u P (ss_lf a) v) 0 ∧ ss_LA T h (a + 1) E A R D (ss_sl (ss_u La (ss_lf a) a) l a) ∧ ss_LE T h (a + 1) E A R D (ss_al (ss_u Le (ss_lf a) 1) l 1) := by
  refine ⟨ss_place I hv ov e hw, ?_, ?_⟩
  · obtain ⟨hb, hT, h0, _⟩ := I
    refine ss_place_la hb.1 (fun z z0 n => ⟨fun o => ?_, fun o => ?_⟩) HL
    · by_cases zl : z = ss_lf a
      · rw [ss_sl0 (fun q => ?_), zl, ss_us]
        have := h0.2.2 z ((hl z).mp q).1
        have := ss_lf_ge a
        omega
      · by_cases z32 : z < 32
        · exact ss_sl1 ((hl z).mpr ⟨ss_nda n z32, o⟩)
        · exact absurd (o.2 (by omega)).symm zl
    · have zl : z ≠ ss_lf a := fun q => o (by rw [q]; exact ss_ol a)
      rw [ss_sl0 (fun q => o ((hl z).mp q).2), ss_un La zl]
  · obtain ⟨hb, hT, h0, _⟩ := I
    have k := ss_oi (h0.2.2 v hv) ov
    refine ss_place_le hb.1 (by omega) (fun z n => ⟨fun zl => ?_, fun zl o => ?_, fun zl o => ?_⟩) HN
    · rw [ss_al0 (fun q => ?_), zl, ss_us]
      have := h0.2.2 z ((hl z).mp q).1
      have := ss_lf_ge a
      omega
    · by_cases z32 : z < 32
      · rw [ss_al1 ((hl z).mpr ⟨ss_nda n z32, o⟩), ss_un Le zl]
      · exact absurd (o.2 (by omega)).symm zl
    · rw [ss_al0 (fun q => o ((hl z).mp q).2), ss_un Le zl]
theorem ss_sub (I : ss_SI T h a E A R D C P 0) (ha : h < a) (HL : ss_LA T h a E A R D La) (HN : ss_LE T h a E A R D Le) (ev : P (ss_lf h) = v) (hl : ∀ z, z ∈ l ↔ A z ∧ ss_on T E R D h z) : ss_SI T (h + 1) a E A R D (ss_u C (4 * v + T (h + D v)) 0) P v ∧ ss_LA T (h + 1) a E A R D La ∧ ss_LE T (h + 1) a E A R D (ss_dl Le l) ∧ ∀ z, z ∈ l → 0 < Le z := by
  have pos : ∀ z, z ∈ l → 0 < Le z := by
    intro z hz
    obtain ⟨k1, k2⟩ := (hl z).mp hz
    rw [HN z (Or.inl ⟨I.2.2.1.2.2 z k1, k1⟩)]
    exact ss_cn_pos (p := fun s => h ≤ s ∧ ss_on T E R D s z) (j := h) ⟨Nat.le_refl _, k2⟩ ha
  refine ⟨ss_remove I ha ev, ss_remove_la I ha HL, ss_remove_le ha (fun z n => ⟨fun o => ?_, fun o => ?_⟩) HN, pos⟩
  · by_cases z32 : z < 32
    · have zl := (hl z).mpr ⟨ss_nda n z32, o⟩
      rw [ss_dl1 zl]
      have := pos z zl
      omega
    · obtain ⟨s, s1, s2, s3⟩ := ss_ndl n (by omega)
      have := ss_oe (h := h) (a := a) (by have := I.1; omega) (Nat.le_refl h) ha (by omega) s2 (by omega) o (by rw [s3]; exact ss_ol s)
      omega
  · exact ss_dl0 (fun q => o ((hl z).mp q).2)
theorem ss_chl (I : ss_SI T h a E A R D C P 0) (hv : A v) (ov : ss_on T E R D s v) (hd : ∀ z, A z → ss_on T E R D s z → D z ≤ D v) : ∃ l : List Nat, ss_ch P v l ∧ l.length ≤ 32 ∧ (v :: l).Nodup ∧ (∀ z, z ∈ v :: l → z < 32) ∧ ∀ z, z ∈ v :: l ↔ A z ∧ ss_on T E R D s z := by
  have H32 := I.2.2.1.2.2
  have hb := I.1
  have dv : D v ≤ 32 := by
    by_cases v0 : v = 0
    · rw [v0, I.2.2.1.2.1]; omega
    · obtain ⟨t, t1, t2, to⟩ := ss_lv I (Or.inl ⟨H32 v hv, hv⟩) v0
      have := ss_oi (H32 v hv) to
      omega
  obtain ⟨l, l1, l2, l3, l4, l5⟩ := ss_chain I 32 v dv hv
  refine ⟨l, l1, l2, List.nodup_cons.mpr ⟨fun q => ?_, l3⟩, fun z hz => ?_, fun z => ?_⟩
  · have := (l4 v q).1
    omega
  · rcases List.mem_cons.mp hz with q | q
    · rw [q]; exact H32 v hv
    · exact (l4 z q).2
  · rw [← ss_anc H32 hv ov hd z, ← l5 z, List.mem_cons]
    exact Or.comm
theorem ss_hv (I : ss_SI T h a E A R D C P 0) (ha : h < a) : ∀ z, A z → ss_on T E R D h z → D z ≤ D (P (ss_lf h)) := by
  intro z az oz
  obtain ⟨k1, k2, k3, k4⟩ := ss_lp I (Nat.le_refl h) ha
  by_cases l : D z ≤ D (P (ss_lf h))
  · exact l
  · have z0 : z ≠ 0 := by
      intro e
      rw [e, I.2.2.1.2.1] at l
      omega
    have := ss_L2 I k1 k3 k4 (by have := ss_lf_ge h; omega) az z0 z0 (by omega) (Nat.le_refl h) ha oz (ss_ol h)
    have := ss_lf_ge h
    omega
end
end
section
def ss_HM (T : Nat → Nat) (h E m : Nat) : Prop := h + m < E ∧ (m = 0 ∨ ∃ i, h < i ∧ i + m ≤ E ∧ ss_eqs T h i m) ∧ ∀ i l, h < i → i + l ≤ E → ss_eqs T h i l → l ≤ m
def ss_fst (T : Nat → Nat) (h i k : Nat) : Prop := ∀ j, h ≤ j → j < i → ¬ ss_eqs T j i k
noncomputable def ss_ck (T : Nat → Nat) (h E k : Nat) : Nat := ss_cn (fun i => h ≤ i ∧ i + k ≤ E ∧ ss_fst T h i k) E
noncomputable def ss_ds (T : Nat → Nat) (h E : Nat) : Nat := ss_sm (fun k => ss_ck T h E (k + 1)) (E - h)
section
variable {T T' : Nat → Nat} {h a E w L an pend fc v m : Nat} {A : Nat → Prop} {R D C P La La' Le Le' K F : Nat → Nat} {x y z s t c : Nat}
theorem ss_act2 (I : ss_SI T h a E A R D C P 0) (H : ss_AC T h a L A R D an) (hE : a + L ≤ E) (ne : ¬ (D an < L ∧ C (4 * an + T (a + D an)) = ss_lf h)) : L = 0 ∨ ∃ q, h + 1 ≤ q ∧ q < a ∧ ss_eqs T q a L := by
  by_cases l : D an < L
  · obtain ⟨c4, y0, n1, dy, py, ed⟩ := ss_edge I H hE l
    by_cases y32 : C (4 * an + T (a + D an)) < 32
    · obtain ⟨t, t1, t2, t3, t4⟩ := ss_oth I h (ss_nda n1 y32) y0 y0
      exact Or.inr ⟨t, by omega, t2, (ed t t1 t2).mp t4⟩
    · obtain ⟨u, u1, u2, u3⟩ := ss_ndl n1 (by omega)
      have uh : u ≠ h := by
        intro z
        rw [z] at u3
        exact ne ⟨l, u3⟩
      exact Or.inr ⟨u, by omega, u2, (ed u u1 u2).mp (by rw [u3]; exact ss_ol u)⟩
  · obtain ⟨⟨a1, a2, a3, a4⟩, a5⟩ := H
    by_cases L0 : L = 0
    · exact Or.inl L0
    · have d : D an = L := by omega
      have an0 : an ≠ 0 := by
        intro z
        rw [z, I.2.2.1.2.1] at d
        omega
      obtain ⟨t, t1, t2, t3, t4⟩ := ss_oth I h a1 an0 an0
      have k := ss_oi (I.2.2.1.2.2 an a1) t4
      rw [d] at k a3
      exact Or.inr ⟨t, by omega, t2, ss_et k.2 (ss_es a3)⟩
theorem ss_hm1 (I : ss_SI T h a E A R D C P 0) (H : ss_AC T h a L A R D an) (hE : a + L = E) (ha : h < a) (l : D an < L) (e : C (4 * an + T (a + D an)) = ss_lf h) : ss_HM T h E L := by
  obtain ⟨c4, y0, n1, dy, py, ed⟩ := ss_edge I H (by omega) l
  have eh : ss_eqs T h a L := (ed h (Nat.le_refl h) ha).mp (by rw [e]; exact ss_ol h)
  refine ⟨by omega, Or.inr ⟨a, ha, by omega, eh⟩, fun i len hi hl he => ?_⟩
  by_cases q : len ≤ L
  · exact q
  · have ia : i < a := by omega
    have ie : ss_eqs T i a L := ss_et (ss_es (ss_em he (by omega))) eh
    have io := (ed i (by omega) ia).mpr ie
    rw [e] at io
    have := ss_oe (h := h) (a := a) (by have := I.1; omega) (by omega) ia (Nat.le_refl h) ha (ss_lf_ge h) io (ss_ol h)
    omega
theorem ss_hm2 (I : ss_SI T h a E A R D C P 0) (H : ss_AC T h a L A R D an) (hE : a + L = E) (ha : h < a) (ne : ¬ (D an < L ∧ C (4 * an + T (a + D an)) = ss_lf h)) : ss_HM T h E (D (P (ss_lf h))) := by
  obtain ⟨k1, k2, k3, k4⟩ := ss_lp I (Nat.le_refl h) ha
  have v32 := I.2.2.1.2.2 _ k1
  have kv := ss_oi v32 k2
  have ac := ss_act2 I H (by omega) ne
  refine ⟨kv.1, ?_, ?_⟩
  · by_cases v0 : P (ss_lf h) = 0
    · exact Or.inl (by rw [v0]; exact I.2.2.1.2.1)
    · obtain ⟨t, t1, t2, t3, t4⟩ := ss_oth I h k1 v0 v0
      have kt := ss_oi v32 t4
      exact Or.inr ⟨t, by omega, by omega, ss_et kv.2 (ss_es kt.2)⟩
  · intro i
    induction i using Nat.strongRecOn with
    | ind i ih =>
      intro len hi hl he
      by_cases q : len ≤ D (P (ss_lf h))
      · exact q
      · by_cases ia : i < a
        · have iv : ss_on T E R D i (P (ss_lf h)) := ss_io v32 (by omega) (ss_et (ss_es (ss_em he (by omega))) kv.2)
          have ic : T (i + D (P (ss_lf h))) = T (h + D (P (ss_lf h))) := (he _ (by omega)).symm
          have I' := I
          obtain ⟨hb, hT, h0, hrr, hR, hzz, hcc, hp, hf, hbr⟩ := I'
          obtain ⟨n1, n2, n3, n4, n5⟩ := hcc _ _ _ k1 k3 k4 (by have := ss_lf_ge h; omega)
          have := ss_oe (h := h) (a := a) (by omega) (by omega) ia (Nat.le_refl h) ha (ss_lf_ge h) (n5 i (by omega) ia iv ic) (ss_ol h)
          omega
        · rcases ac with ac | ⟨r, r1, r2, r3⟩
          · omega
          · have e1 : ss_eqs T (r + (i - a)) (a + (i - a)) len := ss_ek r3 (i - a) (by omega)
            have e2 : a + (i - a) = i := by omega
            rw [e2] at e1
            exact ih (r + (i - a)) (by omega) len (by omega) (by omega) (ss_et he (ss_es e1))
theorem ss_imp (ex : L = 0 ∨ ∃ s, h ≤ s ∧ s < a ∧ ss_eqs T s a L) (hE : a + L = E) : ∀ j, h ≤ j → j < E → ∃ s, h ≤ s ∧ s < a ∧ s ≤ j ∧ ss_eqs T s j (E - j) := by
  intro j
  induction j using Nat.strongRecOn with
  | ind j ih =>
    intro h1 h2
    by_cases ja : j < a
    · exact ⟨j, h1, ja, Nat.le_refl _, ss_er⟩
    · rcases ex with ex | ⟨r, r1, r2, r3⟩
      · omega
      · have e1 : ss_eqs T (r + (j - a)) (a + (j - a)) (E - j) := ss_ek r3 (j - a) (by omega)
        have e2 : a + (j - a) = j := by omega
        rw [e2] at e1
        obtain ⟨s, s1, s2, s3, s4⟩ := ih (r + (j - a)) (by omega) (by omega) (by omega)
        exact ⟨s, s1, s2, by omega, ss_et (ss_em s4 (by omega)) e1⟩
theorem ss_tail (I : ss_SI T h a E A R D C P 0) (ex : L = 0 ∨ ∃ s, h ≤ s ∧ s < a ∧ ss_eqs T s a L) (hE : a + L = E) {len : Nat} (l0 : 0 < len) (l1 : h + len ≤ E) : (∃ s, h ≤ s ∧ s < E - len ∧ ss_eqs T s (E - len) len) ↔ len ≤ L := by
  constructor
  · intro ⟨s, s1, s2, s3⟩
    by_cases q : len ≤ L
    · exact q
    · refine absurd ?_ (ss_uniq I s1 s2 (show E - len < a by omega))
      have e : E - (E - len) = len := by omega
      rw [e]; exact s3
  · intro q
    rcases ex with ex | ⟨r, r1, r2, r3⟩
    · omega
    · have e1 : ss_eqs T (r + (L - len)) (a + (L - len)) len := ss_ek r3 (L - len) (by omega)
      have e2 : a + (L - len) = E - len := by omega
      rw [e2] at e1
      exact ⟨r + (L - len), by omega, by omega, e1⟩
theorem ss_ck_add (hT' : ∀ i, i < E → T' i = T i) {k : Nat} (hk : h + k ≤ E) : ss_ck T' h (E + 1) (k + 1) = ss_ck T h E (k + 1) + ss_b (ss_fst T' h (E - k) (k + 1)) := by
  have e0 : ss_ck T h E (k + 1) = ss_cn (fun i => h ≤ i ∧ i + (k + 1) ≤ E ∧ ss_fst T h i (k + 1)) (E + 1) := by
    rw [ss_cn_s, ss_b0 (fun q => absurd q.2.1 (by omega))]
    rfl
  have cv : ∀ i, i + (k + 1) ≤ E → (ss_fst T' h i (k + 1) ↔ ss_fst T h i (k + 1)) := by
    intro i hi
    constructor
    · intro q j j1 j2 je
      exact q j j1 j2 (ss_eT hT' je (by omega) (by omega))
    · intro q j j1 j2 je
      exact q j j1 j2 (ss_eT (T := T') (fun i hi => (hT' i hi).symm) je (by omega) (by omega))
  have cv2 : ∀ i, i < E + 1 → i ≠ E - k → ((h ≤ i ∧ i + (k + 1) ≤ E ∧ ss_fst T h i (k + 1)) ↔ (h ≤ i ∧ i + (k + 1) ≤ E + 1 ∧ ss_fst T' h i (k + 1))) := by
    intro i hi ne
    constructor
    · intro ⟨q1, q2, q3⟩
      exact ⟨q1, by omega, (cv i q2).mpr q3⟩
    · intro ⟨q1, q2, q3⟩
      exact ⟨q1, by omega, (cv i (by omega)).mp q3⟩
  rw [e0]
  by_cases f : ss_fst T' h (E - k) (k + 1)
  · rw [ss_b1 f]
    exact ss_cn_1 (j := E - k) (fun q => absurd q.2.1 (by omega)) ⟨by omega, by omega, f⟩ (by omega) cv2
  · rw [ss_b0 f]
    refine ss_cn_c (fun i hi => ?_)
    by_cases ne : i = E - k
    · constructor
      · intro q
        rw [ne] at q
        exact absurd q.2.2 f
      · intro q
        rw [ne] at q
        exact absurd q.2.1 (by omega)
    · exact (cv2 i hi ne).symm
theorem ss_ds_add (hT' : ∀ i, i < E → T' i = T i) (hE : h ≤ E) (hL : a + L = E + 1) (ha : h ≤ a) (f1 : ∀ i, h ≤ i → i < a → ss_fst T' h i (E + 1 - i)) (f2 : ∀ i, a ≤ i → i < E + 1 → ¬ ss_fst T' h i (E + 1 - i)) : ss_ds T' h (E + 1) = ss_ds T h E + (E + 1 - h - L) := by
  have N : E + 1 - h = (E - h) + 1 := by omega
  have s1 : ss_ds T' h (E + 1) = ss_sm (fun k => ss_ck T h E (k + 1)) (E + 1 - h) + ss_sm (fun k => ss_b (¬ k < L)) (E + 1 - h) := by
    refine ss_sm_a (fun k hk => ?_)
    rw [ss_ck_add hT' (by omega)]
    have bb : ss_b (ss_fst T' h (E - k) (k + 1)) = ss_b (¬ k < L) := by
      refine ss_bc ?_
      have e : k + 1 = E + 1 - (E - k) := by omega
      rw [e]
      constructor
      · intro q z
        exact f2 (E - k) (by omega) (by omega) q
      · intro q
        exact f1 (E - k) (by omega) (by omega)
    rw [bb]
  have s2 : ss_sm (fun k => ss_ck T h E (k + 1)) (E + 1 - h) = ss_ds T h E := by
    rw [N, ss_sm_s]
    have z : ss_ck T h E (E - h + 1) = 0 := ss_cn_z (fun i hi q => absurd q.2.1 (by have := q.1; omega))
    rw [z]
    rfl
  have s3 : ss_sm (fun _ => 1) (E + 1 - h) = ss_sm (fun k => ss_b (k < L)) (E + 1 - h) + ss_sm (fun k => ss_b (¬ k < L)) (E + 1 - h) := by
    refine ss_sm_a (fun k hk => ?_)
    by_cases q : k < L
    · rw [ss_b1 q, ss_b0 (fun z => z q)]
    · rw [ss_b0 q, ss_b1 q]
  rw [ss_sm_1, ss_sm_lt L _ (by omega)] at s3
  rw [s1, s2]
  omega
theorem ss_ck_sub (hm : ss_HM T h E m) {k : Nat} (hk : h + (k + 1) ≤ E) : ss_ck T (h + 1) E (k + 1) + 1 = ss_ck T h E (k + 1) + ss_b (k < m) := by
  obtain ⟨m1, m2, m3⟩ := hm
  have e1 : ss_ck T h E (k + 1) = ss_cn (fun i => h + 1 ≤ i ∧ i + (k + 1) ≤ E ∧ ss_fst T h i (k + 1)) E + 1 := by
    refine ss_cn_1 (j := h) (fun q => absurd q.1 (by omega)) ⟨Nat.le_refl _, hk, fun j j1 j2 => absurd j1 (by omega)⟩ (by omega) (fun i hi ne => ?_)
    exact ⟨fun q => ⟨by have := q.1; omega, q.2⟩, fun q => ⟨by have := q.1; omega, q.2⟩⟩
  by_cases q : k < m
  · have ex : ∃ i, h < i ∧ i + (k + 1) ≤ E ∧ ss_eqs T h i (k + 1) := by
      rcases m2 with m2 | ⟨i, i1, i2, i3⟩
      · omega
      · exact ⟨i, i1, by omega, ss_em i3 (by omega)⟩
    obtain ⟨i, ⟨i1, i2, i3⟩, i4⟩ := pk_least (fun i => h < i ∧ i + (k + 1) ≤ E ∧ ss_eqs T h i (k + 1)) ex
    have e2 : ss_ck T (h + 1) E (k + 1) = ss_cn (fun i => h + 1 ≤ i ∧ i + (k + 1) ≤ E ∧ ss_fst T h i (k + 1)) E + 1 := by
      refine ss_cn_1 (j := i) (fun z => z.2.2 h (Nat.le_refl h) i1 i3) ⟨i1, i2, fun j j1 j2 je => i4 j j2 ⟨by omega, by omega, ss_et i3 (ss_es je)⟩⟩ (by omega) (fun r hr ne => ?_)
      constructor
      · intro z
        exact ⟨z.1, z.2.1, fun j j1 j2 => z.2.2 j (by omega) j2⟩
      · intro z
        refine ⟨z.1, z.2.1, fun j j1 j2 je => ?_⟩
        by_cases jh : j = h
        · rw [jh] at je
          by_cases ri : r < i
          · exact i4 r ri ⟨by omega, z.2.1, je⟩
          · exact z.2.2 i (by omega) (by omega) (ss_et (ss_es i3) je)
        · exact z.2.2 j (by omega) j2 je
    rw [e1, e2, ss_b1 q]
  · have e2 : ss_ck T (h + 1) E (k + 1) = ss_cn (fun i => h + 1 ≤ i ∧ i + (k + 1) ≤ E ∧ ss_fst T h i (k + 1)) E := by
      refine ss_cn_c (fun r hr => ?_)
      constructor
      · intro z
        refine ⟨z.1, z.2.1, fun j j1 j2 je => ?_⟩
        by_cases jh : j = h
        · rw [jh] at je
          have := m3 r (k + 1) (by have := z.1; omega) z.2.1 je
          omega
        · exact z.2.2 j (by omega) j2 je
      · intro z
        exact ⟨z.1, z.2.1, fun j j1 j2 => z.2.2 j (by omega) j2⟩
    rw [e1, e2, ss_b0 q]
theorem ss_ds_sub (hm : ss_HM T h E m) : ss_ds T (h + 1) E + (E - h) = ss_ds T h E + m := by
  have m1 := hm.1
  have N : E - h = (E - (h + 1)) + 1 := by omega
  have s1 : ss_sm (fun k => ss_ck T (h + 1) E (k + 1) + 1) (E - h) = ss_ds T h E + ss_sm (fun k => ss_b (k < m)) (E - h) := ss_sm_a (fun k hk => ss_ck_sub hm (by omega))
  have s2 : ss_sm (fun k => ss_ck T (h + 1) E (k + 1) + 1) (E - h) = ss_sm (fun k => ss_ck T (h + 1) E (k + 1)) (E - h) + ss_sm (fun _ => 1) (E - h) := ss_sm_a (fun k hk => rfl)
  have s3 : ss_sm (fun k => ss_ck T (h + 1) E (k + 1)) (E - h) = ss_ds T (h + 1) E := by
    rw [N, ss_sm_s]
    have z : ss_ck T (h + 1) E (E - (h + 1) + 1) = 0 := ss_cn_z (fun i hi q => absurd q.2.1 (by have := q.1; omega))
    rw [z]
    rfl
  rw [ss_sm_1, s3] at s2
  rw [ss_sm_lt m _ (by omega)] at s1
  omega
theorem ss_first (I : ss_SI T h a E A R D C P 0) (ex : L = 0 ∨ ∃ s, h ≤ s ∧ s < a ∧ ss_eqs T s a L) (hE : a + L = E) : (∀ i, h ≤ i → i < a → ss_fst T h i (E - i)) ∧ (∀ i, a ≤ i → i < E → ¬ ss_fst T h i (E - i)) := by
  refine ⟨fun i i1 i2 j j1 j2 => ss_uniq I j1 j2 i2, fun i i1 i2 q => ?_⟩
  obtain ⟨s, s1, s2, s3, s4⟩ := ss_imp ex hE i (by have := I.1; omega) i2
  exact q s s1 (by omega) s4
end
end
section
def ss_mt (p T : Nat → Nat) (s k : Nat) : Prop := ∀ i, i < k → p i = T (s + i)
def ss_st (p : Nat → Nat) (m : Nat) (U : Nat → Nat) (z0 z k : Nat) : Prop := (k ≤ m ∧ k + z0 ≤ z ∧ ss_mt p U (z - k) k) ∧ ∀ j, j ≤ m → j + z0 ≤ z → ss_mt p U (z - j) j → j ≤ k
def ss_nq (p : Nat → Nat) (m : Nat) (U : Nat → Nat) (z0 z k : Nat) : Prop := (k ≤ m ∧ k + z0 ≤ z ∧ ss_mt p U (z - k) k) ∧ ∀ j, j < m → j + z0 ≤ z → ss_mt p U (z - j) j → p j = U z → j ≤ k
def ss_bd (p : Nat → Nat) (i b : Nat) : Prop := b ≤ i ∧ ss_mt p p (i + 1 - b) b ∧ ∀ k, k ≤ i → ss_mt p p (i + 1 - k) k → k ≤ b
section
variable {p p' U T : Nat → Nat} {m z0 z k b i s d : Nat}
theorem ss_mt0 : ss_mt p T s 0 := fun i hi => absurd hi (by omega)
theorem ss_mtm (h : ss_mt p T s k) (hd : d ≤ k) : ss_mt p T s d := fun i hi => h i (by omega)
theorem ss_mte {r : Nat} (h : ss_mt p T s k) (e : ss_eqs T s r k) : ss_mt p T r k := fun i hi => (h i hi).trans (e i hi)
theorem ss_mt1 (h : ss_mt p T s k) (e : p k = T (s + k)) : ss_mt p T s (k + 1) := fun i hi => by
  by_cases q : i = k
  · rw [q]; exact e
  · exact h i (by omega)
theorem ss_mtq {r : Nat} (h1 : ss_mt p T s k) (h2 : ss_mt p T r k) : ss_eqs T s r k := fun i hi => (h1 i hi).symm.trans (h2 i hi)
theorem ss_nq0 (H : ss_st p m U z0 z k) : ss_nq p m U z0 z k := ⟨H.1, fun j h1 h2 h3 _ => H.2 j (by omega) h2 h3⟩
theorem ss_nq1 (H : ss_nq p m U z0 z k) (k0 : 0 < k) (hk : k = m ∨ p k ≠ U z) (B : ss_bd p (k - 1) b) : ss_nq p m U z0 z b ∧ b < k := by
  obtain ⟨⟨h1, h2, h3⟩, h4⟩ := H
  obtain ⟨b1, b2, b3⟩ := B
  refine ⟨⟨⟨by omega, by omega, fun i hi => ?_⟩, fun j j1 j2 j3 j4 => ?_⟩, by omega⟩
  · rw [b2 i hi]
    have e := h3 (k - 1 + 1 - b + i) (by omega)
    have e2 : z - k + (k - 1 + 1 - b + i) = z - b + i := by omega
    rw [e2] at e
    exact e
  · have jk := h4 j j1 j2 j3 j4
    have jk2 : j ≠ k := by
      intro q
      rw [q] at j1 j4
      rcases hk with hk | hk
      · omega
      · exact hk j4
    refine b3 j (by omega) (fun i hi => ?_)
    rw [j3 i hi]
    have e := h3 (k - 1 + 1 - j + i) (by omega)
    have e2 : z - k + (k - 1 + 1 - j + i) = z - j + i := by omega
    rw [e2] at e
    exact e.symm
theorem ss_nq_up (H : ss_nq p m U z0 z k) {j : Nat} (j1 : j + 1 ≤ m) (j2 : j + 1 + z0 ≤ z + 1) (j3 : ss_mt p U (z + 1 - (j + 1)) (j + 1)) : j ≤ k ∧ p j = U z := by
  have e0 : z + 1 - (j + 1) = z - j := by omega
  rw [e0] at j3
  have e1 := j3 j (by omega)
  have e2 : z - j + j = z := by omega
  rw [e2] at e1
  exact ⟨H.2 j (by omega) (by omega) (ss_mtm j3 (by omega)) e1, e1⟩
theorem ss_nq2 (H : ss_nq p m U z0 z k) (km : k < m) (e : p k = U z) : ss_st p m U z0 (z + 1) (k + 1) := by
  have H' := H
  obtain ⟨⟨h1, h2, h3⟩, h4⟩ := H'
  refine ⟨⟨by omega, by omega, ?_⟩, fun j j1 j2 j3 => ?_⟩
  · have e0 : z + 1 - (k + 1) = z - k := by omega
    rw [e0]
    refine ss_mt1 h3 ?_
    have e2 : z - k + k = z := by omega
    rw [e2]
    exact e
  · cases j with
    | zero => omega
    | succ j =>
      have := (ss_nq_up H j1 j2 j3).1
      omega
theorem ss_nq3 (H : ss_nq p m U z0 z 0) (e : ¬ (0 < m ∧ p 0 = U z)) : ss_st p m U z0 (z + 1) 0 := by
  have H' := H
  obtain ⟨⟨h1, h2, h3⟩, h4⟩ := H'
  refine ⟨⟨by omega, by omega, ss_mt0⟩, fun j j1 j2 j3 => ?_⟩
  cases j with
  | zero => omega
  | succ j =>
    have k := ss_nq_up H j1 j2 j3
    have j0 : j = 0 := by omega
    rw [j0] at k
    exact absurd ⟨by omega, k.2⟩ e
theorem ss_bd_c (H : ss_bd p i b) (e : ∀ j, j ≤ i → p' j = p j) : ss_bd p' i b := by
  obtain ⟨b1, b2, b3⟩ := H
  refine ⟨b1, fun j hj => ?_, fun k k1 k2 => b3 k k1 (fun j hj => ?_)⟩
  · rw [e _ (by omega), e _ (by omega)]
    exact b2 j hj
  · have q := k2 j hj
    rw [e _ (by omega), e _ (by omega)] at q
    exact q
theorem ss_bd_st (H : ss_bd p i b) (e : ∀ j, j ≤ i → p' j = p j) : ss_st p (i + 1) p' 1 (i + 1) b := by
  obtain ⟨b1, b2, b3⟩ := H
  refine ⟨⟨by omega, by omega, fun j hj => ?_⟩, fun k k1 k2 k3 => b3 k (by omega) (fun j hj => ?_)⟩
  · rw [e _ (by omega)]
    exact b2 j hj
  · have q := k3 j hj
    rw [e _ (by omega)] at q
    exact q
theorem ss_st_bd (H : ss_st p m p' 1 (m + 1) b) (e : ∀ j, j < m → p' j = p j) : ss_bd p' m b := by
  obtain ⟨⟨h1, h2, h3⟩, h4⟩ := H
  refine ⟨by omega, fun j hj => ?_, fun k k1 k2 => h4 k k1 (by omega) (fun j hj => ?_)⟩
  · rw [e _ (by omega)]
    exact h3 j hj
  · rw [← e _ (by omega)]
    exact k2 j hj
theorem ss_bd0 : ss_bd p 0 0 := ⟨Nat.le_refl _, ss_mt0, fun k h _ => h⟩
theorem ss_st0 : ss_st p m U z0 z0 0 := ⟨⟨by omega, by omega, ss_mt0⟩, fun j _ h _ => by omega⟩
theorem ss_st_full (H : ss_st p m U z0 z k) : k = m ↔ (m + z0 ≤ z ∧ ss_mt p U (z - m) m) := by
  constructor
  · intro e
    rw [← e]; exact H.1.2
  · intro ⟨q1, q2⟩
    have := H.2 m (Nat.le_refl _) q1 q2
    have := H.1.1
    omega
end
def ss_MI (T : Nat → Nat) (h a E : Nat) (A : Nat → Prop) (D P La pt : Nat → Nat) (lo ml : Nat) : Prop := (ml = 0 ∧ lo = 0) ∨ (0 < ml ∧ lo ≠ 0 ∧ ss_nd h a A lo ∧ D (P lo) < ml ∧ (lo < 32 → ml ≤ D lo) ∧ La lo + ml ≤ E ∧ ss_mt pt T (La lo) ml)
section
variable {T T' pt : Nat → Nat} {h a E w L an lo ml c : Nat} {A : Nat → Prop} {R D C P La Le : Nat → Nat} {x y z s t : Nat}
theorem ss_mi_on (I : ss_SI T h a E A R D C P 0) (HL : ss_LA T h a E A R D La) (M : ss_MI T h a E A D P La pt lo ml) (m0 : 0 < ml) (s1 : h ≤ s) (s2 : s < a) : ss_on T E R D s lo ↔ (s + ml ≤ E ∧ ss_mt pt T s ml) := by
  rcases M with M | ⟨_, l0, n, dp, dl, le, mt⟩
  · omega
  · obtain ⟨l1, l2, l3, l4⟩ := HL lo n l0
    obtain ⟨c, c4, ap, ec, dpl, _⟩ := ss_par I n l0
    obtain ⟨lx, lc⟩ := ss_L1 I ap c4 ec l0 l1 l2 l3
    have I' := I
    obtain ⟨hb, hT, h0, hrr, hR, hzz, hcc, hp, hf, hbr⟩ := I'
    have p32 := h0.2.2 _ ap
    constructor
    · intro o
      by_cases y32 : lo < 32
      · have k1 := ss_oi y32 o
        have k2 := ss_oi y32 l3
        have := dl y32
        exact ⟨by omega, ss_mte mt (ss_em (ss_et k2.2 (ss_es k1.2)) this)⟩
      · have e := ss_oe (by omega) s1 s2 l1 l2 (by omega) o l3
        rw [e]; exact ⟨le, mt⟩
    · intro ⟨o1, o2⟩
      obtain ⟨n1, n2, n3, n4, n5⟩ := hcc _ _ _ ap c4 ec l0
      have e1 : ss_eqs T s (La lo) ml := ss_mtq o2 mt
      have kp := ss_oi p32 lx
      exact n5 s s1 s2 (ss_io p32 (by omega) (ss_et (ss_em e1 (by omega)) kp.2)) (by rw [← lc]; exact e1 _ dp)
def ss_none (T pt : Nat → Nat) (h a E k : Nat) : Prop := ∀ s, h ≤ s → s < a → s + k ≤ E → ¬ ss_mt pt T s k
theorem ss_sd_in (I : ss_SI T h a E A R D C P 0) (HL : ss_LA T h a E A R D La) (M : ss_MI T h a E A D P La pt lo ml) (l0 : lo ≠ 0) (hd : (lo < 32 → ml < D lo) ∧ (32 ≤ lo → La lo + ml < E)) : (pt ml = T (La lo + ml) → ss_MI T h a E A D P La pt lo (ml + 1)) ∧ (pt ml ≠ T (La lo + ml) → ss_none T pt h a E (ml + 1)) := by
  have M' := M
  rcases M' with M' | ⟨m0, _, n, dp, dl, le, mt⟩
  · exact absurd M'.2 l0
  · obtain ⟨l1, l2, l3, l4⟩ := HL lo n l0
    constructor
    · intro e
      refine Or.inr ⟨by omega, l0, n, by omega, fun q => by have := hd.1 q; omega, ?_, ss_mt1 mt e⟩
      by_cases y32 : lo < 32
      · have := ss_oi y32 l3
        have := hd.1 y32
        omega
      · have := hd.2 (by omega)
        omega
    · intro e s s1 s2 s3 s4
      have so := (ss_mi_on I HL M m0 s1 s2).mpr ⟨by omega, ss_mtm s4 (by omega)⟩
      refine e ?_
      rw [s4 ml (by omega)]
      by_cases y32 : lo < 32
      · have k1 := ss_oi y32 so
        have k2 := ss_oi y32 l3
        exact (ss_et k1.2 (ss_es k2.2)) ml (hd.1 y32)
      · have e := ss_oe (by have := I.1; omega) s1 s2 l1 l2 (by omega) so l3
        rw [e]
theorem ss_sd_leaf (I : ss_SI T h a E A R D C P 0) (HL : ss_LA T h a E A R D La) (M : ss_MI T h a E A D P La pt lo ml) (l32 : 32 ≤ lo) (hd : E ≤ La lo + ml) : ss_none T pt h a E (ml + 1) := by
  have M' := M
  rcases M' with M' | ⟨m0, l0, n, dp, dl, le, mt⟩
  · omega
  · obtain ⟨l1, l2, l3, l4⟩ := HL lo n l0
    intro s s1 s2 s3 s4
    have so := (ss_mi_on I HL M m0 s1 s2).mpr ⟨by omega, ss_mtm s4 (by omega)⟩
    have e := ss_oe (by have := I.1; omega) s1 s2 l1 l2 l32 so l3
    omega
theorem ss_sd_node (I : ss_SI T h a E A R D C P 0) (HL : ss_LA T h a E A R D La) (M : ss_MI T h a E A D P La pt lo ml) (l32 : lo < 32) (hd : D lo ≤ ml) (p4 : pt ml < 4) : D lo = ml ∧ A lo ∧ (C (4 * lo + pt ml) ≠ 0 → ss_MI T h a E A D P La pt (C (4 * lo + pt ml)) (ml + 1)) ∧ (C (4 * lo + pt ml) = 0 → ss_none T pt h a E (ml + 1)) := by
  have I' := I
  obtain ⟨hb, hT, h0, hrr, hR, hzz, hcc, hp, hf, hbr⟩ := I'
  have dl : D lo = ml ∧ A lo := by
    rcases M with M | ⟨m0, l0, n, dp, dl, le, mt⟩
    · rw [M.1, M.2]; exact ⟨h0.2.1, h0.1⟩
    · have := dl l32
      exact ⟨by omega, ss_nda n l32⟩
  have on' : ∀ s, h ≤ s → s < a → ss_on T E R D s lo → ss_mt pt T s ml := by
    intro s s1 s2 so
    by_cases m0 : 0 < ml
    · exact ((ss_mi_on I HL M m0 s1 s2).mp so).2
    · have e : ml = 0 := by omega
      rw [e]; exact ss_mt0
  have no' : ∀ s, h ≤ s → s < a → s + ml < E → ss_mt pt T s ml → ss_on T E R D s lo := by
    intro s s1 s2 s3 s4
    by_cases m0 : 0 < ml
    · exact (ss_mi_on I HL M m0 s1 s2).mpr ⟨by omega, s4⟩
    · have e : D lo = 0 := by omega
      exact ss_io l32 (by omega) (by rw [e]; exact ss_e0)
  refine ⟨dl.1, dl.2, fun y0 => ?_, fun y0 s s1 s2 s3 s4 => ?_⟩
  · obtain ⟨n1, n2, n3, n4, n5⟩ := hcc lo _ _ dl.2 p4 rfl y0
    obtain ⟨l1, l2, l3, l4⟩ := HL _ n1 y0
    obtain ⟨k1, k2⟩ := ss_L1 I dl.2 p4 rfl y0 l1 l2 l3
    have k3 := ss_oi l32 k1
    rw [dl.1] at k2 k3
    refine Or.inr ⟨by omega, y0, n1, by rw [n2, dl.1]; omega, fun q => by have := n3 q; omega, by omega, ss_mt1 (on' _ l1 l2 k1) k2.symm⟩
  · have so := no' s s1 s2 (by omega) (ss_mtm s4 (by omega))
    have := hzz lo _ dl.2 p4 y0 s s1 s2 so
    rw [dl.1] at this
    exact this (s4 ml (by omega)).symm
theorem ss_none_all (ex : L = 0 ∨ ∃ s, h ≤ s ∧ s < a ∧ ss_eqs T s a L) (hE : a + L = E) {k : Nat} (k0 : 0 < k) (H : ss_none T pt h a E k) : ∀ j, h ≤ j → j + k ≤ E → ¬ ss_mt pt T j k := by
  intro j j1 j2 j3
  obtain ⟨s, s1, s2, s3, s4⟩ := ss_imp ex hE j j1 (by omega)
  exact H s s1 s2 (by omega) (ss_mte j3 (ss_es (ss_em s4 (by omega))))
end
noncomputable def ss_bs (p : Nat → Prop) : Nat := ss_b (p 0) + 2 * ss_b (p 1) + 4 * ss_b (p 2) + 8 * ss_b (p 3)
theorem ss_b01 (p : Prop) : ss_b p = 0 ∨ ss_b p = 1 := by
  by_cases h : p
  · exact Or.inr (ss_b1 h)
  · exact Or.inl (ss_b0 h)
theorem ss_bs_c {p q : Nat → Prop} (h : ∀ c, c < 4 → (p c ↔ q c)) : ss_bs p = ss_bs q := by
  unfold ss_bs
  rw [ss_bc (h 0 (by omega)), ss_bc (h 1 (by omega)), ss_bc (h 2 (by omega)), ss_bc (h 3 (by omega))]
def ss_bt (b0 b1 b2 b3 c : Nat) : Bool := (nI (b0 + 2 * b1 + 4 * b2 + 8 * b3) ||| ((1 : Int32) <<< (nI c &&& 31))) == nI ((if c = 0 then 1 else b0) + 2 * (if c = 1 then 1 else b1) + 4 * (if c = 2 then 1 else b2) + 8 * (if c = 3 then 1 else b3))
theorem ss_bt_all : ∀ b0, b0 < 2 → ∀ b1, b1 < 2 → ∀ b2, b2 < 2 → ∀ b3, b3 < 2 → ∀ c, c < 4 → ss_bt b0 b1 b2 b3 c = true := by decide +kernel
theorem ss_bo {p : Prop} {c i : Nat} : ss_b (p ∨ i = c) = if c = i then 1 else ss_b p := by
  by_cases e : c = i
  · rw [if_pos e]; exact ss_b1 (Or.inr e.symm)
  · rw [if_neg e]; exact ss_bc ⟨fun q => q.elim id (fun z => absurd z.symm e), Or.inl⟩
theorem ss_bs_or {p : Nat → Prop} {c : Nat} (hc : c < 4) : nI (ss_bs p) ||| ((1 : Int32) <<< (nI c &&& 31)) = nI (ss_bs (fun x => p x ∨ x = c)) := by
  have hb : ∀ q : Prop, ss_b q < 2 := fun q => by rcases ss_b01 q with e | e <;> omega
  have k := ss_bt_all (ss_b (p 0)) (hb _) (ss_b (p 1)) (hb _) (ss_b (p 2)) (hb _) (ss_b (p 3)) (hb _) c hc
  have k2 := eq_of_beq k
  unfold ss_bs
  rw [k2, ss_bo, ss_bo, ss_bo, ss_bo]
theorem ss_bs_0 : ss_bs (fun _ => False) = 0 := by
  unfold ss_bs
  rw [ss_b0 (fun q => q)]
end
section
theorem yy_rd (f : Nat → Nat) {x : Int32} (a : Nat) (e : x = nI a) (h : a < 2 ^ 31) : (fun j => nI (f j)) x.toNatClampNeg = nI (f a) := by
  show nI (f x.toNatClampNeg) = nI (f a)
  rw [e, nI_clamp h]
section
variable {n m cp sa h k : Nat} {wv pt T : Nat → Nat}
theorem yy_same37 {post : Int32 → Prop} {i0 j0 : Nat} (hn : n ≤ 32) (hw : ∀ j, j < n → wv j = T (h + j)) (hW : ∀ j, wv j < 4) (hi : i0 + k ≤ n) (hj : j0 + k ≤ n) (p1 : ss_eqs T (h + i0) (h + j0) k → post 1) (p0 : ¬ ss_eqs T (h + i0) (h + j0) k → post 0) : ∀ d i, i + d = k → ss_eqs T (h + i0) (h + j0) i → wY_sameInWindow_37 post (nI i0) (nI j0) (nI k) (nI n) (nI m) (nI cp) (nI sa) (fun j => nI (wv j)) (fun j => nI (pt j)) (d + 1) (nI i) := by
  intro d
  induction d with
  | zero =>
    intro i hd hq
    have e : i = k := by omega
    rw [e] at hq ⊢
    exact pk_le k k (fun _ => p1 hq) (fun l => absurd l (by omega))
  | succ d ih =>
    intro i hd hq
    have e1 := hw (i0 + i) (by omega)
    have e2 := hw (j0 + i) (by omega)
    rw [← Nat.add_assoc] at e1 e2
    have b1 := hW (i0 + i)
    have b2 := hW (j0 + i)
    refine pk_le k i (fun l => absurd l (by omega)) (fun l => ⟨pk_in (i0 + i) 32 (by omega) (nI_add _ _), pk_in (j0 + i) 32 (by omega) (nI_add _ _), ?_⟩)
    refine pk_eq (wv (i0 + i)) (wv (j0 + i)) (fun e => nm_r (nI_1 i) (ih (i + 1) (by omega) (ss_e1 hq (by rw [← e1, ← e2]; exact e)))) (fun e => p0 (fun q => e ?_)) (yy_rd wv _ (nI_add _ _) (by omega)) (yy_rd wv _ (nI_add _ _) (by omega)) (by omega) (by omega)
    rw [e1, e2]
    exact q i (by omega)
theorem yy_same {post : Int32 → Prop} {i0 j0 : Nat} (hn : n ≤ 32) (hw : ∀ j, j < n → wv j = T (h + j)) (hW : ∀ j, wv j < 4) (hi : i0 + k ≤ n) (hj : j0 + k ≤ n) (p1 : ss_eqs T (h + i0) (h + j0) k → post 1) (p0 : ¬ ss_eqs T (h + i0) (h + j0) k → post 0) : wpY_sameInWindow post (nI n, nI m, nI cp, nI sa, (fun j => nI (wv j)), (fun j => nI (pt j))) (nI i0) (nI j0) (nI k) := by
  refine br_f (nI_pos (by omega)) (br_f (nI_pos (by omega)) (br_f (nI_pos (by omega)) ?_))
  refine pk_lt n (i0 + k) (fun l => absurd l (by omega)) (fun l => ?_) rfl (nI_add _ _)
  refine pk_le (j0 + k) n (fun l => ?_) (fun l => absurd l (by omega)) (nI_add _ _) rfl
  exact ⟨k + 1, yy_same37 hn hw hW hi hj p1 p0 k 0 (by omega) ss_e0⟩
theorem yy_lsb4 {post : Int32 → Prop} {fr : Nat} (hn : n ≤ 32) (hw : ∀ j, j < n → wv j = T (h + j)) (hW : ∀ j, wv j < 4) (hf : fr + k ≤ n) (p1 : ∀ i, i < fr → ss_eqs T (h + i) (h + fr) k → (∀ r, i < r → r < fr → ¬ ss_eqs T (h + r) (h + fr) k) → post (nI i)) (p0 : (∀ i, i < fr → ¬ ss_eqs T (h + i) (h + fr) k) → post (-1)) : ∀ i, i < fr → (∀ r, i < r → r < fr → ¬ ss_eqs T (h + r) (h + fr) k) → wY_lastStartBefore_4 post (nI fr) (nI k) (nI n) (nI m) (nI cp) (nI sa) (fun j => nI (wv j)) (fun j => nI (pt j)) (i + 2) (nI i) := by
  intro i
  induction i with
  | zero =>
    intro hi hq
    refine br_f (nI_pos (by omega)) ?_
    refine yy_same hn hw hW (by omega) hf (fun e => ?_) (fun e => ?_)
    · exact br_f (by decide) (p1 0 hi e hq)
    · refine br_t rfl (nm_r (e' := -1) (by decide) ?_)
      refine br_t (by decide) (p0 (fun r hr => ?_))
      by_cases r0 : r = 0
      · rw [r0]; exact e
      · exact hq r (by omega) hr
  | succ i ih =>
    intro hi hq
    refine br_f (nI_pos (by omega)) ?_
    refine yy_same hn hw hW (by omega) hf (fun e => ?_) (fun e => ?_)
    · exact br_f (by decide) (p1 (i + 1) hi e hq)
    · refine br_t rfl (nm_r (pk_m1 i) ?_)
      refine ih (by omega) (fun r r1 r2 => ?_)
      by_cases r0 : r = i + 1
      · rw [r0]; exact e
      · exact hq r (by omega) r2
theorem yy_lsb {post : Int32 → Prop} {fr : Nat} (hn : n ≤ 32) (hw : ∀ j, j < n → wv j = T (h + j)) (hW : ∀ j, wv j < 4) (hf : fr + k ≤ n) (p1 : ∀ i, i < fr → ss_eqs T (h + i) (h + fr) k → (∀ r, i < r → r < fr → ¬ ss_eqs T (h + r) (h + fr) k) → post (nI i)) (p0 : (∀ i, i < fr → ¬ ss_eqs T (h + i) (h + fr) k) → post (-1)) : wpY_lastStartBefore post (nI n, nI m, nI cp, nI sa, (fun j => nI (wv j)), (fun j => nI (pt j))) (nI fr) (nI k) := by
  cases fr with
  | zero =>
    refine nm_r (e' := -1) (by decide) ⟨1, ?_⟩
    exact br_t (by decide) (p0 (fun i hi => absurd hi (by omega)))
  | succ f =>
    refine nm_r (nI_pred f) ⟨f + 2, ?_⟩
    exact yy_lsb4 hn hw hW hf p1 p0 f (by omega) (fun r r1 r2 => absurd r1 (by omega))
theorem yy_dis14 {post : Int32 → Prop} {J4 : Int32 → Int32 → Prop} {b : Nat} (hn : n ≤ 32) (hw : ∀ j, j < n → wv j = T (h + j)) (hW : ∀ j, wv j < 4) (k0 : 0 < k) (hk : k ≤ n) (hJ : J4 (nI (b + ss_ck T h (h + n) k)) (nI (k + 1))) : ∀ d i, i + k + d = n + 1 → wY_distinct_14 post J4 (nI k) (nI n) (nI m) (nI cp) (nI sa) (fun j => nI (wv j)) (fun j => nI (pt j)) (d + 1) (nI (b + ss_cn (fun i => h ≤ i ∧ i + k ≤ h + n ∧ ss_fst T h i k) (h + i))) (nI i) := by
  intro d
  induction d with
  | zero =>
    intro i hd
    refine pk_lt n (i + k) (fun _ => nm_r (nI_1 k) ?_) (fun l => absurd l (by omega)) rfl (nI_add _ _)
    have e : ss_ck T h (h + n) k = ss_cn (fun i => h ≤ i ∧ i + k ≤ h + n ∧ ss_fst T h i k) (h + i) := ss_cn_x (by omega) (fun r r1 r2 q => absurd q.2.1 (by omega))
    rw [e] at hJ
    exact hJ
  | succ d ih =>
    intro i hd
    refine pk_lt n (i + k) (fun l => absurd l (by omega)) (fun l => ?_) rfl (nI_add _ _)
    have ih' := ih (i + 1) (by omega)
    rw [← Nat.add_assoc, ss_cn_s] at ih'
    refine yy_lsb hn hw hW (by omega) (fun r r1 r2 r3 => ?_) (fun q => ?_)
    · refine br_f (fun z => ?_) (nm_r (nI_1 i) ?_)
      · have z2 := congrArg Int32.toInt z
        rw [nI_toInt (by omega)] at z2
        have z3 : (-1 : Int32).toInt = -1 := by decide
        omega
      · rw [ss_b0 (fun z => z.2.2 (h + r) (by omega) (by omega) r2)] at ih'
        exact ih'
    · refine br_t rfl (nm_r (nI_1 _) (nm_r (nI_1 i) ?_))
      rw [ss_b1 ⟨by omega, by omega, fun j j1 j2 je => q (j - h) (by omega) (by rw [show h + (j - h) = j by omega]; exact je)⟩, ← Nat.add_assoc] at ih'
      exact ih'
theorem yy_dis4 {post : Int32 → Prop} (hn : n ≤ 32) (hw : ∀ j, j < n → wv j = T (h + j)) (hW : ∀ j, wv j < 4) (hp : post (nI (ss_ds T h (h + n)))) : ∀ d j, j + d = n → wY_distinct_4 post (nI n) (nI m) (nI cp) (nI sa) (fun j => nI (wv j)) (fun j => nI (pt j)) (d + 1) (nI (ss_sm (fun k => ss_ck T h (h + n) (k + 1)) j)) (nI (j + 1)) := by
  intro d
  induction d with
  | zero =>
    intro j hd
    have e : j = n := by omega
    refine pk_lt n (j + 1) (fun _ => ?_) (fun l => absurd l (by omega))
    have e2 : ss_ds T h (h + n) = ss_sm (fun k => ss_ck T h (h + n) (k + 1)) j := by
      unfold ss_ds
      rw [e, Nat.add_sub_cancel_left]
    rw [← e2]
    exact hp
  | succ d ih =>
    intro j hd
    refine pk_lt n (j + 1) (fun l => absurd l (by omega)) (fun l => ⟨n + 1 - (j + 1) + 1, ?_⟩)
    have h14 := yy_dis14 (n := n) (m := m) (cp := cp) (sa := sa) (wv := wv) (pt := pt) (post := post) (J4 := wY_distinct_4 post (nI n) (nI m) (nI cp) (nI sa) (fun j => nI (wv j)) (fun j => nI (pt j)) (d + 1)) (b := ss_sm (fun k => ss_ck T h (h + n) (k + 1)) j) (k := j + 1) hn hw hW (by omega) (by omega) (ih (j + 1) (by omega)) (n + 1 - (j + 1)) 0 (by omega)
    have z : ss_cn (fun i => h ≤ i ∧ i + (j + 1) ≤ h + n ∧ ss_fst T h i (j + 1)) (h + 0) = 0 := ss_cn_z (fun i hi q => absurd q.1 (by omega))
    rw [z] at h14
    exact h14
theorem yy_distinct {post : Int32 → Prop} (hn : n ≤ 32) (hw : ∀ j, j < n → wv j = T (h + j)) (hW : ∀ j, wv j < 4) (hp : post (nI (ss_ds T h (h + n)))) : wpY_distinct post (nI n, nI m, nI cp, nI sa, (fun j => nI (wv j)), (fun j => nI (pt j))) :=
  ⟨n + 1, yy_dis4 hn hw hW hp n 0 (by omega)⟩
theorem yy_tm7 {post : Int32 → Prop} {L : Nat} (hn : n ≤ 32) (hw : ∀ j, j < n → wv j = T (h + j)) (hW : ∀ j, wv j < 4) (hL : ∀ len, 0 < len → len < n → ((∃ s, h ≤ s ∧ s < h + n - len ∧ ss_eqs T s (h + n - len) len) ↔ len ≤ L)) (hp : post (nI L)) : ∀ len, len < n → L ≤ len → wY_tailMatch_7 post (nI n) (nI m) (nI cp) (nI sa) (fun j => nI (wv j)) (fun j => nI (pt j)) (len + 1) (nI len) := by
  intro len
  induction len with
  | zero =>
    intro h1 h2
    have e : L = 0 := by omega
    rw [e] at hp
    exact br_t (by decide) hp
  | succ len ih =>
    intro h1 h2
    have K := hL (len + 1) (by omega) h1
    refine pk_lt (len + 1) 1 (fun l => absurd l (by omega)) (fun _ => ?_)
    rw [pk_sub (show len + 1 ≤ n by omega)]
    have e0 : h + (n - (len + 1)) = h + n - (len + 1) := by omega
    refine yy_lsb hn hw hW (by omega) (fun r r1 r2 r3 => ?_) (fun q => ?_)
    · refine br_f (fun z => ?_) ?_
      · have z2 := congrArg Int32.toInt z
        rw [nI_toInt (by omega)] at z2
        have z3 : (-1 : Int32).toInt = -1 := by decide
        omega
      · have := K.mp ⟨h + r, by omega, by omega, by rw [← e0]; exact r2⟩
        have e : L = len + 1 := by omega
        rw [← e]; exact hp
    · refine br_t rfl (nm_r (pk_m1 len) (ih (by omega) ?_))
      by_cases e : L = len + 1
      · obtain ⟨s, s1, s2, s3⟩ := K.mpr (by omega)
        refine absurd ?_ (q (s - h) (by omega))
        rw [e0, show h + (s - h) = s by omega]
        exact s3
      · omega
theorem yy_tailMatch {post : Int32 → Prop} {L : Nat} (hn : n ≤ 32) (hw : ∀ j, j < n → wv j = T (h + j)) (hW : ∀ j, wv j < 4) (hL : ∀ len, 0 < len → len < n → ((∃ s, h ≤ s ∧ s < h + n - len ∧ ss_eqs T s (h + n - len) len) ↔ len ≤ L)) (hLn : L < n ∨ (n = 0 ∧ L = 0)) (hp : post (nI L)) : wpY_tailMatch post (nI n, nI m, nI cp, nI sa, (fun j => nI (wv j)), (fun j => nI (pt j))) := by
  cases n with
  | zero =>
    refine nm_r (e' := -1) (by decide) ⟨1, br_t (by decide) ?_⟩
    have e : L = 0 := by omega
    rw [e] at hp
    exact hp
  | succ f =>
    exact nm_r (nI_pred f) ⟨f + 1, yy_tm7 hn hw hW hL hp f (by omega) (by omega)⟩
theorem yy_tmp {post : Int32 → Prop} {L : Nat} (hn : n ≤ 32) (hw : ∀ j, j < n → wv j = T (h + j)) (hW : ∀ j, wv j < 4) (hL : ∀ len, 0 < len → len < n → ((∃ s, h ≤ s ∧ s < h + n - len ∧ ss_eqs T s (h + n - len) len) ↔ len ≤ L)) (hLn : L < n ∨ (n = 0 ∧ L = 0)) (p0 : L = 0 → post (-1)) (p1 : ∀ i, 0 < L → i < n - L → ss_eqs T (h + i) (h + (n - L)) L → (∀ r, i < r → r < n - L → ¬ ss_eqs T (h + r) (h + (n - L)) L) → post (nI i)) : wpY_tailMatchPosition post (nI n, nI m, nI cp, nI sa, (fun j => nI (wv j)), (fun j => nI (pt j))) := by
  refine yy_tailMatch hn hw hW hL hLn ?_
  refine pk_eq L 0 (fun e => p0 e) (fun e => ?_)
  rw [pk_sub (show L ≤ n by omega)]
  have K := (hL L (by omega) (by omega)).mpr (Nat.le_refl _)
  have e0 : h + (n - L) = h + n - L := by omega
  refine yy_lsb hn hw hW (by omega) (fun r r1 r2 r3 => p1 r (by omega) r1 r2 r3) (fun q => ?_)
  obtain ⟨s, s1, s2, s3⟩ := K
  refine absurd ?_ (q (s - h) (by omega))
  rw [e0, show h + (s - h) = s by omega]
  exact s3
theorem yy_hm14 {post : Int32 → Prop} {J7 : Int32 → Prop} {len : Nat} (hn : n ≤ 32) (hw : ∀ j, j < n → wv j = T (h + j)) (hW : ∀ j, wv j < 4) (hl : len < n) (p1 : (∃ i, h < i ∧ i + (len + 1) ≤ h + n ∧ ss_eqs T h i (len + 1)) → post (nI (len + 1))) (hJ : (∀ i, h < i → i + (len + 1) ≤ h + n → ¬ ss_eqs T h i (len + 1)) → J7 (nI len)) : ∀ d i, i + (len + 1) + d = n + 1 → 0 < i → (∀ r, h < r → r < h + i → ¬ ss_eqs T h r (len + 1)) → wY_headMatch_14 post J7 (nI (len + 1)) (nI n) (nI m) (nI cp) (nI sa) (fun j => nI (wv j)) (fun j => nI (pt j)) (d + 1) (nI i) := by
  intro d
  induction d with
  | zero =>
    intro i hd i0 hq
    refine pk_lt n (i + (len + 1)) (fun _ => nm_r (pk_m1 len) (hJ (fun r r1 r2 => hq r r1 (by omega)))) (fun l => absurd l (by omega)) rfl (nI_add _ _)
  | succ d ih =>
    intro i hd i0 hq
    refine pk_lt n (i + (len + 1)) (fun l => absurd l (by omega)) (fun l => ?_) rfl (nI_add _ _)
    refine yy_same (i0 := 0) (h := h) (T := T) hn hw hW (by omega) (by omega) (fun e => ?_) (fun e => ?_)
    · exact br_f (by decide) (p1 ⟨h + i, by omega, by omega, e⟩)
    · refine br_t rfl (nm_r (nI_1 i) (ih (i + 1) (by omega) (by omega) (fun r r1 r2 => ?_)))
      by_cases q : r = h + i
      · rw [q]; exact e
      · exact hq r r1 (by omega)
theorem yy_hm7 {post : Int32 → Prop} {M : Nat} (hn : n ≤ 32) (hw : ∀ j, j < n → wv j = T (h + j)) (hW : ∀ j, wv j < 4) (hm : ss_HM T h (h + n) M) (hp : post (nI M)) : ∀ len, len < n → M ≤ len → wY_headMatch_7 post (nI n) (nI m) (nI cp) (nI sa) (fun j => nI (wv j)) (fun j => nI (pt j)) (len + 1) (nI len) := by
  intro len
  induction len with
  | zero =>
    intro h1 h2
    have e : M = 0 := by omega
    rw [e] at hp
    exact br_t (by decide) hp
  | succ len ih =>
    intro h1 h2
    refine pk_lt (len + 1) 1 (fun l => absurd l (by omega)) (fun _ => ⟨n - (len + 1) + 1, ?_⟩)
    refine yy_hm14 (h := h) (T := T) hn hw hW (by omega) (fun ex => ?_) (fun q => ih (by omega) ?_) (n - (len + 1)) 1 (by omega) (by omega) (fun r r1 r2 => absurd r1 (by omega))
    · obtain ⟨i, i1, i2, i3⟩ := ex
      have := hm.2.2 i (len + 1) i1 i2 i3
      have e : M = len + 1 := by omega
      rw [← e]; exact hp
    · by_cases e : M = len + 1
      · rcases hm.2.1 with z | ⟨i, i1, i2, i3⟩
        · omega
        · rw [e] at i2 i3
          exact absurd i3 (q i i1 i2)
      · omega
theorem yy_headMatch {post : Int32 → Prop} {M : Nat} (hn : n ≤ 32) (n0 : 0 < n) (hw : ∀ j, j < n → wv j = T (h + j)) (hW : ∀ j, wv j < 4) (hm : ss_HM T h (h + n) M) (hp : post (nI M)) : wpY_headMatch post (nI n, nI m, nI cp, nI sa, (fun j => nI (wv j)), (fun j => nI (pt j))) := by
  cases n with
  | zero => exact absurd n0 (by omega)
  | succ f => exact nm_r (nI_pred f) ⟨f + 1, yy_hm7 hn hw hW hm hp f (by omega) (by have := hm.1; omega)⟩
theorem yy_headMatch0 {post : Int32 → Prop} (hp : post 0) : wpY_headMatch post (nI 0, nI m, nI cp, nI sa, (fun j => nI (wv j)), (fun j => nI (pt j))) :=
  nm_r (e' := -1) (by decide) ⟨1, br_t (by decide) hp⟩
theorem yy_poa38 {post : Int32 → Prop} {i0 : Nat} (hn : n ≤ 32) (hm : m ≤ 32) (hw : ∀ j, j < n → wv j = T (h + j)) (hW : ∀ j, wv j < 4) (hP : ∀ j, pt j < 4) (hi : i0 + k ≤ n) (hk : k ≤ m) (p1 : ss_mt pt T (h + i0) k → post 1) (p0 : ¬ ss_mt pt T (h + i0) k → post 0) : ∀ d i, i + d = k → ss_mt pt T (h + i0) i → wY_prefixOccursAt_38 post (nI i0) (nI k) (nI n) (nI m) (nI cp) (nI sa) (fun j => nI (wv j)) (fun j => nI (pt j)) (d + 1) (nI i) := by
  intro d
  induction d with
  | zero =>
    intro i hd hq
    have e : i = k := by omega
    rw [e] at hq ⊢
    exact pk_le k k (fun _ => p1 hq) (fun l => absurd l (by omega))
  | succ d ih =>
    intro i hd hq
    have e1 := hw (i0 + i) (by omega)
    rw [← Nat.add_assoc] at e1
    have b1 := hW (i0 + i)
    have b2 := hP i
    refine pk_le k i (fun l => absurd l (by omega)) (fun l => ⟨pk_in (i0 + i) 32 (by omega) (nI_add _ _), pk_in i 32 (by omega) rfl, ?_⟩)
    refine pk_eq (wv (i0 + i)) (pt i) (fun e => nm_r (nI_1 i) (ih (i + 1) (by omega) (ss_mt1 hq (by rw [← e1]; exact e.symm)))) (fun e => p0 (fun q => e ?_)) (yy_rd wv _ (nI_add _ _) (by omega)) (yy_rd pt _ rfl (by omega)) (by omega) (by omega)
    rw [e1]
    exact (q i (by omega)).symm
theorem yy_poa {post : Int32 → Prop} {i0 : Nat} (hn : n ≤ 32) (hm : m ≤ 32) (hw : ∀ j, j < n → wv j = T (h + j)) (hW : ∀ j, wv j < 4) (hP : ∀ j, pt j < 4) (hi : i0 < n) (hk : k ≤ m) (p1 : h + i0 + k ≤ h + n → ss_mt pt T (h + i0) k → post 1) (p0 : ¬ (h + i0 + k ≤ h + n ∧ ss_mt pt T (h + i0) k) → post 0) : wpY_prefixOccursAt post (nI n, nI m, nI cp, nI sa, (fun j => nI (wv j)), (fun j => nI (pt j))) (nI i0) (nI k) := by
  refine br_f (nI_pos (by omega)) ?_
  refine pk_le n i0 (fun l => absurd l (by omega)) (fun _ => ?_)
  refine br_f (nI_pos (by omega)) ?_
  refine pk_lt m k (fun l => absurd l (by omega)) (fun _ => ?_)
  refine pk_le (i0 + k) n (fun l => ⟨k + 1, ?_⟩) (fun l => p0 (fun q => absurd q.1 (by omega))) (nI_add _ _) rfl
  exact yy_poa38 hn hm hw hW hP l hk (p1 (by omega)) (fun q => p0 (fun z => q z.2)) k 0 (by omega) ss_mt0
theorem yy_cp4 {post : Int32 → Prop} (hn : n ≤ 32) (hm : m ≤ 32) (hw : ∀ j, j < n → wv j = T (h + j)) (hW : ∀ j, wv j < 4) (hP : ∀ j, pt j < 4) (hk : k ≤ m) (hp : post (nI (ss_cn (fun s => h ≤ s ∧ s + k ≤ h + n ∧ ss_mt pt T s k) (h + n)))) : ∀ d i, i + d = n → wY_countPrefix_4 post (nI k) (nI n) (nI m) (nI cp) (nI sa) (fun j => nI (wv j)) (fun j => nI (pt j)) (d + 1) (nI (ss_cn (fun s => h ≤ s ∧ s + k ≤ h + n ∧ ss_mt pt T s k) (h + i))) (nI i) := by
  intro d
  induction d with
  | zero =>
    intro i hd
    have e : i = n := by omega
    rw [e]
    exact pk_le n n (fun _ => hp) (fun l => absurd l (by omega))
  | succ d ih =>
    intro i hd
    refine pk_le n i (fun l => absurd l (by omega)) (fun _ => ?_)
    have ih' := ih (i + 1) (by omega)
    rw [← Nat.add_assoc, ss_cn_s] at ih'
    refine yy_poa hn hm hw hW hP (by omega) hk (fun q1 q2 => ?_) (fun q => ?_)
    · refine br_f (by decide) (nm_r (nI_1 _) (nm_r (nI_1 i) ?_))
      rw [ss_b1 ⟨by omega, q1, q2⟩] at ih'
      exact ih'
    · refine br_t rfl (nm_r (nI_1 i) ?_)
      rw [ss_b0 (fun z => q z.2)] at ih'
      exact ih'
theorem yy_cp {post : Int32 → Prop} (hn : n ≤ 32) (hm : m ≤ 32) (hw : ∀ j, j < n → wv j = T (h + j)) (hW : ∀ j, wv j < 4) (hP : ∀ j, pt j < 4) (hk : k ≤ m) (hp : post (nI (ss_cn (fun s => h ≤ s ∧ s + k ≤ h + n ∧ ss_mt pt T s k) (h + n)))) : wpY_countPrefix post (nI n, nI m, nI cp, nI sa, (fun j => nI (wv j)), (fun j => nI (pt j))) (nI k) := by
  have z : ss_cn (fun s => h ≤ s ∧ s + k ≤ h + n ∧ ss_mt pt T s k) (h + 0) = 0 := ss_cn_z (fun i hi q => absurd q.1 (by omega))
  have K := yy_cp4 (m := m) (cp := cp) (sa := sa) (T := T) (h := h) hn hm hw hW hP hk hp n 0 (by omega)
  rw [z] at K
  exact ⟨n + 1, K⟩
theorem yy_cpb {post : Int32 → Prop} (hn : n ≤ 32) (hm : m ≤ 32) (hw : ∀ j, j < n → wv j = T (h + j)) (hW : ∀ j, wv j < 4) (hP : ∀ j, pt j < 4) (hk : k ≤ m) (p1 : ∀ c, 0 < c → c < 2 ^ 31 → (∃ s, h ≤ s ∧ s < h + n ∧ s + k ≤ h + n ∧ ss_mt pt T s k) → post (nI c)) (p0 : (∀ s, h ≤ s → s < h + n → s + k ≤ h + n → ¬ ss_mt pt T s k) → post (nI 0)) : wpY_countPrefix post (nI n, nI m, nI cp, nI sa, (fun j => nI (wv j)), (fun j => nI (pt j))) (nI k) := by
  refine yy_cp (h := h) (T := T) hn hm hw hW hP hk ?_
  by_cases ex : ∃ s, h ≤ s ∧ s < h + n ∧ s + k ≤ h + n ∧ ss_mt pt T s k
  · have ex' := ex
    obtain ⟨s, s1, s2, s3, s4⟩ := ex'
    refine p1 _ (ss_cn_pos (p := fun s => h ≤ s ∧ s + k ≤ h + n ∧ ss_mt pt T s k) (j := s) ⟨s1, s3, s4⟩ s2) ?_ ex
    have l : ss_cn (fun s => h ≤ s ∧ s + k ≤ h + n ∧ ss_mt pt T s k) (h + n) = ss_cn (fun i => (h ≤ h + i ∧ h + i + k ≤ h + n ∧ ss_mt pt T (h + i) k)) n := by
      clear p1 p0 ex s1 s2 s3 s4 hw hn
      have G : ∀ q : Nat, ss_cn (fun s => h ≤ s ∧ s + k ≤ h + n ∧ ss_mt pt T s k) (h + q) = ss_cn (fun i => (h ≤ h + i ∧ h + i + k ≤ h + n ∧ ss_mt pt T (h + i) k)) q := by
        intro q
        induction q with
        | zero => exact ss_cn_z (fun i hi q => absurd q.1 (by omega))
        | succ q ih => rw [← Nat.add_assoc, ss_cn_s, ss_cn_s, ih]
      exact G n
    rw [l]
    have := ss_cn_le (p := fun i => (h ≤ h + i ∧ h + i + k ≤ h + n ∧ ss_mt pt T (h + i) k)) (n := n)
    omega
  · have z : ss_cn (fun s => h ≤ s ∧ s + k ≤ h + n ∧ ss_mt pt T s k) (h + n) = 0 := ss_cn_z (fun s hs q => ex ⟨s, q.1, hs, q.2.1, q.2.2⟩)
    rw [z]
    exact p0 (fun s s1 s2 s3 s4 => ex ⟨s, s1, s2, s3, s4⟩)
theorem yy_ma5 {post : Int32 → Prop} {M : Nat} (hn : n ≤ 32) (hm : m ≤ 32) (hw : ∀ j, j < n → wv j = T (h + j)) (hW : ∀ j, wv j < 4) (hP : ∀ j, pt j < 4) (h1 : 0 < M → ∃ s, h ≤ s ∧ s < h + n ∧ s + M ≤ h + n ∧ ss_mt pt T s M) (h2 : ∀ j, M < j → j ≤ m → ∀ s, h ≤ s → s < h + n → s + j ≤ h + n → ¬ ss_mt pt T s j) (hp : post (nI M)) : ∀ j, j ≤ m → M ≤ j → wY_matched_5 post (nI n) (nI m) (nI cp) (nI sa) (fun j => nI (wv j)) (fun j => nI (pt j)) (j + 1) (nI j) := by
  intro j
  induction j with
  | zero =>
    intro _ q
    have e : M = 0 := by omega
    rw [e] at hp
    exact br_t (by decide) hp
  | succ j ih =>
    intro q1 q2
    refine pk_lt (j + 1) 1 (fun l => absurd l (by omega)) (fun _ => ?_)
    refine yy_cpb (h := h) (T := T) hn hm hw hW hP q1 (fun c c0 c1 ex => ?_) (fun q => ?_)
    · refine br_f (nI_nle c0 c1) ?_
      by_cases e : M = j + 1
      · rw [← e]; exact hp
      · obtain ⟨s, s1, s2, s3, s4⟩ := ex
        exact absurd s4 (h2 (j + 1) (by omega) q1 s s1 s2 s3)
    · refine br_t (by decide) (nm_r (pk_m1 j) (ih (by omega) ?_))
      by_cases e : M = j + 1
      · obtain ⟨s, s1, s2, s3, s4⟩ := h1 (by omega)
        rw [e] at s3 s4
        exact absurd s4 (q s s1 s2 s3)
      · omega
theorem yy_matched {post : Int32 → Prop} {M : Nat} (hn : n ≤ 32) (hm : m ≤ 32) (hw : ∀ j, j < n → wv j = T (h + j)) (hW : ∀ j, wv j < 4) (hP : ∀ j, pt j < 4) (hM : M ≤ m) (h1 : 0 < M → ∃ s, h ≤ s ∧ s < h + n ∧ s + M ≤ h + n ∧ ss_mt pt T s M) (h2 : ∀ j, M < j → j ≤ m → ∀ s, h ≤ s → s < h + n → s + j ≤ h + n → ¬ ss_mt pt T s j) (hp : post (nI M)) : wpY_matched post (nI n, nI m, nI cp, nI sa, (fun j => nI (wv j)), (fun j => nI (pt j))) :=
  ⟨m + 1, yy_ma5 hn hm hw hW hP h1 h2 hp m (Nat.le_refl _) hM⟩
theorem yy_lp7 {post : Int32 → Prop} (hn : n ≤ 32) (hm : m ≤ 32) (hw : ∀ j, j < n → wv j = T (h + j)) (hW : ∀ j, wv j < 4) (hP : ∀ j, pt j < 4) (p1 : ∀ i, i < n → h + i + m ≤ h + n → ss_mt pt T (h + i) m → (∀ r, i < r → r < n → ¬ (h + r + m ≤ h + n ∧ ss_mt pt T (h + r) m)) → post (nI i)) (p0 : (∀ i, i < n → ¬ (h + i + m ≤ h + n ∧ ss_mt pt T (h + i) m)) → post (-1)) : ∀ i, i < n → (∀ r, i < r → r < n → ¬ (h + r + m ≤ h + n ∧ ss_mt pt T (h + r) m)) → wY_lastPosition_7 post (nI n) (nI m) (nI cp) (nI sa) (fun j => nI (wv j)) (fun j => nI (pt j)) (i + 2) (nI i) := by
  intro i
  induction i with
  | zero =>
    intro hi hq
    refine br_f (nI_pos (by omega)) ?_
    refine yy_poa (h := h) (T := T) hn hm hw hW hP hi (Nat.le_refl _) (fun e1 e2 => ?_) (fun e => ?_)
    · exact br_f (by decide) (p1 0 hi e1 e2 hq)
    · refine br_t rfl (nm_r (e' := -1) (by decide) ?_)
      refine br_t (by decide) (p0 (fun r hr => ?_))
      by_cases r0 : r = 0
      · rw [r0]; exact e
      · exact hq r (by omega) hr
  | succ i ih =>
    intro hi hq
    refine br_f (nI_pos (by omega)) ?_
    refine yy_poa (h := h) (T := T) hn hm hw hW hP hi (Nat.le_refl _) (fun e1 e2 => ?_) (fun e => ?_)
    · exact br_f (by decide) (p1 (i + 1) hi e1 e2 hq)
    · refine br_t rfl (nm_r (pk_m1 i) ?_)
      refine ih (by omega) (fun r r1 r2 => ?_)
      by_cases r0 : r = i + 1
      · rw [r0]; exact e
      · exact hq r (by omega) r2
theorem yy_lastPosition {post : Int32 → Prop} (hn : n ≤ 32) (hm : m ≤ 32) (hw : ∀ j, j < n → wv j = T (h + j)) (hW : ∀ j, wv j < 4) (hP : ∀ j, pt j < 4) (p1 : ∀ i, i < n → h + i + m ≤ h + n → ss_mt pt T (h + i) m → (∀ r, i < r → r < n → ¬ (h + r + m ≤ h + n ∧ ss_mt pt T (h + r) m)) → post (nI i)) (p0 : (∀ i, i < n → ¬ (h + i + m ≤ h + n ∧ ss_mt pt T (h + i) m)) → post (-1)) : wpY_lastPosition post (nI n, nI m, nI cp, nI sa, (fun j => nI (wv j)), (fun j => nI (pt j))) := by
  cases n with
  | zero =>
    refine nm_r (e' := -1) (by decide) ⟨1, ?_⟩
    exact br_t (by decide) (p0 (fun i hi => absurd hi (by omega)))
  | succ f =>
    exact nm_r (nI_pred f) ⟨f + 2, yy_lp7 hn hm hw hW hP p1 p0 f (by omega) (fun r r1 r2 => absurd r1 (by omega))⟩
theorem yy_fo4 {post : Int32 → Prop} (hn : n ≤ 32) (hm : m ≤ 32) (hw : ∀ j, j < n → wv j = T (h + j)) (hW : ∀ j, wv j < 4) (hP : ∀ j, pt j < 4) (hp : post (nI (ss_bs (fun c => ∃ s, h ≤ s ∧ s + m < h + n ∧ ss_mt pt T s m ∧ T (s + m) = c)))) : ∀ d i, i + d = n + 1 → wY_followers_4 post (nI n) (nI m) (nI cp) (nI sa) (fun j => nI (wv j)) (fun j => nI (pt j)) (d + 1) (nI (ss_bs (fun c => ∃ s, h ≤ s ∧ s < h + i ∧ s + m < h + n ∧ ss_mt pt T s m ∧ T (s + m) = c))) (nI i) := by
  intro d
  induction d with
  | zero =>
    intro i hd
    refine pk_lt n (i + m + 1) (fun _ => ?_) (fun l => absurd l (by omega)) rfl (by rw [nI_add, nI_1])
    refine ek_v (congrArg nI (ss_bs_c (fun c _ => ⟨fun ⟨s, s1, s2, s3⟩ => ⟨s, s1, s3⟩, fun ⟨s, s1, s2⟩ => ⟨s, s1, by omega, s2⟩⟩))) hp
  | succ d ih =>
    intro i hd
    have ih' := ih (i + 1) (by omega)
    refine pk_lt n (i + m + 1) (fun l => ?_) (fun l => ?_) rfl (by rw [nI_add, nI_1])
    · refine ek_v (congrArg nI (ss_bs_c (fun c _ => ⟨fun ⟨s, s1, s2, s3⟩ => ⟨s, s1, s3⟩, fun ⟨s, s1, s2⟩ => ⟨s, s1, by omega, s2⟩⟩))) hp
    · refine yy_poa (h := h) (T := T) hn hm hw hW hP (by omega) (Nat.le_refl _) (fun e1 e2 => ?_) (fun e => ?_)
      · refine br_f (by decide) ⟨pk_in (i + m) 32 (by omega) (nI_add _ _), ?_⟩
        have ew := hw (i + m) (by omega)
        have b := hW (i + m)
        refine nm_r (e' := nI (ss_bs (fun c => ∃ s, h ≤ s ∧ s < h + (i + 1) ∧ s + m < h + n ∧ ss_mt pt T s m ∧ T (s + m) = c))) ?_ (nm_r (nI_1 i) ih')
        rw [yy_rd wv (i + m) (nI_add _ _) (by omega), ss_bs_or b]
        refine congrArg nI (ss_bs_c (fun c _ => ?_))
        rw [ew, ← Nat.add_assoc]
        constructor
        · intro q
          rcases q with ⟨s, s1, s2, s3⟩ | q
          · exact ⟨s, s1, by omega, s3⟩
          · exact ⟨h + i, by omega, by omega, by omega, e2, q.symm⟩
        · intro ⟨s, s1, s2, s3, s4, s5⟩
          by_cases z : s = h + i
          · rw [z] at s5
            exact Or.inr s5.symm
          · exact Or.inl ⟨s, s1, by omega, s3, s4, s5⟩
      · refine br_t rfl (nm_r (nI_1 i) ?_)
        refine ek_v (P := fun x => wY_followers_4 post (nI n) (nI m) (nI cp) (nI sa) (fun j => nI (wv j)) (fun j => nI (pt j)) (d + 1) x (nI (i + 1))) (congrArg nI (ss_bs_c (fun c _ => ?_))) ih'
        constructor
        · intro ⟨s, s1, s2, s3⟩
          exact ⟨s, s1, by omega, s3⟩
        · intro ⟨s, s1, s2, s3, s4, s5⟩
          by_cases z : s = h + i
          · rw [z] at s3 s4
            exact absurd ⟨by omega, s4⟩ e
          · exact ⟨s, s1, by omega, s3, s4, s5⟩
theorem yy_followers {post : Int32 → Prop} (hn : n ≤ 32) (hm : m ≤ 32) (hw : ∀ j, j < n → wv j = T (h + j)) (hW : ∀ j, wv j < 4) (hP : ∀ j, pt j < 4) (hp : post (nI (ss_bs (fun c => ∃ s, h ≤ s ∧ s + m < h + n ∧ ss_mt pt T s m ∧ T (s + m) = c)))) : wpY_followers post (nI n, nI m, nI cp, nI sa, (fun j => nI (wv j)), (fun j => nI (pt j))) := by
  have K := yy_fo4 (m := m) (cp := cp) (sa := sa) (T := T) (h := h) hn hm hw hW hP hp (n + 1) 0 (by omega)
  have z : ss_bs (fun c => ∃ s, h ≤ s ∧ s < h + 0 ∧ s + m < h + n ∧ ss_mt pt T s m ∧ T (s + m) = c) = 0 := (ss_bs_c (q := fun _ => False) (fun c _ => ⟨fun ⟨s, s1, s2, _⟩ => absurd s1 (by omega), fun q => q.elim⟩)).trans ss_bs_0
  rw [z] at K
  exact ⟨n + 2, K⟩
theorem yy_drop18 {post : Int32 → SY → Prop} {x1 : Int32} (hn : n ≤ 32) (n0 : 0 < n) (hW : ∀ j, wv j < 4) (hp : ∀ v : Nat → Nat, (∀ j, j + 1 < n → v j = wv (j + 1)) → (∀ j, v j < 4) → post x1 ((nI (n-1)), nI m, nI cp, nI sa, (fun j => nI (v j)), (fun j => nI (pt j)))) : ∀ d i (v : Nat → Nat), 0 < i → i + d = n → (∀ j, j + 1 < i → v j = wv (j + 1)) → (∀ j, i ≤ j → v j = wv j) → (∀ j, v j < 4) → wY_dropOldest_18 post x1 (nI n) (nI m) (nI cp) (nI sa) (d + 1) (nI i) (fun j => nI (v j)) (fun j => nI (pt j)) := by
  intro d
  induction d with
  | zero =>
    intro i v i0 hd v1 v2 v3
    have e : i = n := by omega
    rw [e] at v1 ⊢
    refine pk_le n n (fun _ => ?_) (fun l => absurd l (by omega))
    refine nm_r (e' := nI (n - 1)) (pk_sub (a := n) (b := 1) (by omega)) ?_
    exact hp v v1 v3
  | succ d ih =>
    intro i v i0 hd v1 v2 v3
    have e1 : nI i - 1 = nI (i - 1) := pk_sub (a := i) (b := 1) (by omega)
    refine pk_le n i (fun l => absurd l (by omega)) (fun _ => ⟨pk_in i 32 (by omega) rfl, pk_in (i - 1) 32 (by omega) e1, ?_⟩)
    refine nm_r (e' := fun j => nI (ss_u v (i - 1) (v i) j)) ?_ (nm_r (nI_1 i) ?_)
    · rw [yy_rd v i rfl (by omega), pk_cl (i - 1) e1 (by omega)]
      exact ss_upd v (i - 1) (v i)
    · refine ih (i + 1) _ (by omega) (by omega) (fun j hj => ?_) (fun j hj => ?_) (fun j => ?_)
      · by_cases q : j = i - 1
        · rw [q, ss_us, v2 i (by omega), show i - 1 + 1 = i by omega]
        · rw [ss_un v q]
          exact v1 j (by omega)
      · rw [ss_un v (by omega)]
        exact v2 j (by omega)
      · by_cases q : j = i - 1
        · rw [q, ss_us]; exact v3 i
        · rw [ss_un v q]; exact v3 j
theorem yy_drop {post : Int32 → SY → Prop} (hn : n ≤ 32) (n0 : 0 < n) (hW : ∀ j, wv j < 4) (hp : ∀ v : Nat → Nat, (∀ j, j + 1 < n → v j = wv (j + 1)) → (∀ j, v j < 4) → post (nI (wv 0)) ((nI (n-1)), nI m, nI cp, nI sa, (fun j => nI (v j)), (fun j => nI (pt j)))) : wpY_dropOldest post (nI n, nI m, nI cp, nI sa, (fun j => nI (wv j)), (fun j => nI (pt j))) := by
  refine br_f (nI_ne0 n0 (by omega)) (nm_e ⟨n - 1 + 1, ?_⟩)
  exact yy_drop18 hn n0 hW hp (n - 1) 1 wv (by omega) (by omega) (fun j hj => absurd hj (by omega)) (fun j _ => rfl) hW
end
end
section
theorem xx_and {x : Nat} (h : x < 2 ^ 31) : nI x &&& 31 = nI (x % 32) := pk_andN (n := x) (by omega) 5 (by decide)
theorem xx_shl {p : Nat} (h : p < 2 ^ 20) : nI p <<< ((2 : Int32) &&& 31) = nI (4 * p) := by
  rw [pk_shlN _ 2 (by decide) (by omega), Nat.mul_comm]
theorem xx_lf {s : Nat} (h : s < 2 ^ 31) : 32 + (nI s &&& 31) = nI (ss_lf s) := by
  rw [xx_and h]
  exact nI_add 32 (s % 32)
theorem ss_sl_nil (f : Nat → Nat) (s : Nat) : ss_sl f [] s = f := funext (fun j => if_neg (fun h => nomatch h))
theorem ss_al_nil (f : Nat → Nat) (s : Nat) : ss_al f [] s = f := funext (fun j => if_neg (fun h => nomatch h))
theorem ss_dl_nil (f : Nat → Nat) : ss_dl f [] = f := funext (fun j => if_neg (fun h => nomatch h))
theorem ss_sl_cons (f : Nat → Nat) (y : Nat) (l : List Nat) (s : Nat) : ss_sl (ss_u f y s) l s = ss_sl f (y :: l) s := by
  funext j
  by_cases e : j ∈ l
  · rw [ss_sl1 e, ss_sl1 (List.mem_cons_of_mem _ e)]
  · rw [ss_sl0 e]
    by_cases q : j = y
    · rw [q, ss_us, ss_sl1 List.mem_cons_self]
    · rw [ss_un f q, ss_sl0 (fun z => (List.mem_cons.mp z).elim q e)]
theorem ss_al_cons (f : Nat → Nat) (y : Nat) (l : List Nat) (s : Nat) (h : ¬ y ∈ l) : ss_al (ss_u f y (f y + s)) l s = ss_al f (y :: l) s := by
  funext j
  by_cases e : j ∈ l
  · have q : j ≠ y := fun z => h (z ▸ e)
    rw [ss_al1 e, ss_al1 (List.mem_cons_of_mem _ e), ss_un f q]
  · rw [ss_al0 e]
    by_cases q : j = y
    · rw [q, ss_us, ss_al1 List.mem_cons_self]
    · rw [ss_un f q, ss_al0 (fun z => (List.mem_cons.mp z).elim q e)]
theorem ss_dl_cons (f : Nat → Nat) (y : Nat) (l : List Nat) (h : ¬ y ∈ l) : ss_dl (ss_u f y (f y - 1)) l = ss_dl f (y :: l) := by
  funext j
  by_cases e : j ∈ l
  · have q : j ≠ y := fun z => h (z ▸ e)
    rw [ss_dl1 e, ss_dl1 (List.mem_cons_of_mem _ e), ss_un f q]
  · rw [ss_dl0 e]
    by_cases q : j = y
    · rw [q, ss_us, ss_dl1 List.mem_cons_self]
    · rw [ss_un f q, ss_dl0 (fun z => (List.mem_cons.mp z).elim q e)]
theorem ss_ch_u {P : Nat → Nat} {q v : Nat} : ∀ (l : List Nat) (x : Nat), ss_ch P x l → x ≠ q → ¬ q ∈ l → ss_ch (ss_u P q v) x l := by
  intro l
  induction l with
  | nil => intro x h _ _; exact h
  | cons y l ih =>
    intro x h xq hq
    obtain ⟨h1, h2, h3⟩ := h
    refine ⟨h1, by rw [ss_un P xq]; exact h2, ih y h3 (fun z => hq (by rw [z]; exact List.mem_cons_self)) (fun z => hq (List.mem_cons_of_mem _ z))⟩
section
variable {ms sy hd n dc fc an al ps lo ml : Nat} {th tl : Int32} {tx C D K P La Le F pt bd : Nat → Nat}
theorem xx_explicit {post : Int32 → Prop} (h1 : an < 32) (h2 : D an < 64) (h3 : al < 4096) (p1 : al = D an → post 1) (p0 : al ≠ D an → post 0) : wpX_activeIsExplicit post (0, nI ms, nI sy, nI hd, nI n, nI dc, nI fc, nI an, nI al, nI ps, nI lo, nI ml, th, tl, (fun j => nI (tx j)), (fun j => nI (C j)), (fun j => nI (D j)), (fun j => nI (K j)), (fun j => nI (P j)), (fun j => nI (La j)), (fun j => nI (Le j)), (fun j => nI (F j)), (fun j => nI (pt j)), (fun j => nI (bd j))) :=
  And.intro (pk_in an 32 h1 rfl) (pk_eq al (D an) p1 p0 rfl (yy_rd D an rfl (by omega)) (by omega) (by omega))
theorem xx_start {post : Int32 → Prop} (h1 : al ≤ hd + n) (hp : post (nI (hd + n - al))) : wpX_activeStart post (0, nI ms, nI sy, nI hd, nI n, nI dc, nI fc, nI an, nI al, nI ps, nI lo, nI ml, th, tl, (fun j => nI (tx j)), (fun j => nI (C j)), (fun j => nI (D j)), (fun j => nI (K j)), (fun j => nI (P j)), (fun j => nI (La j)), (fun j => nI (Le j)), (fun j => nI (F j)), (fun j => nI (pt j)), (fun j => nI (bd j))) :=
  ek_v (P := post) (by rw [nI_add, pk_sub h1]) hp
theorem xx_leafOf {post : Int32 → Prop} {s : Nat} (h : s < 4096) (hp : post (nI (ss_lf s))) : wpX_leafOf post (0, nI ms, nI sy, nI hd, nI n, nI dc, nI fc, nI an, nI al, nI ps, nI lo, nI ml, th, tl, (fun j => nI (tx j)), (fun j => nI (C j)), (fun j => nI (D j)), (fun j => nI (K j)), (fun j => nI (P j)), (fun j => nI (La j)), (fun j => nI (Le j)), (fun j => nI (F j)), (fun j => nI (pt j)), (fun j => nI (bd j))) (nI s) :=
  ek_v (P := post) (xx_lf (by omega)) hp
theorem xx_isLeaf {post : Int32 → Prop} {s : Nat} (h : s < 4096) (p0 : s < 32 → post 0) (p1 : 32 ≤ s → post 1) : wpX_isLeaf post (0, nI ms, nI sy, nI hd, nI n, nI dc, nI fc, nI an, nI al, nI ps, nI lo, nI ml, th, tl, (fun j => nI (tx j)), (fun j => nI (C j)), (fun j => nI (D j)), (fun j => nI (K j)), (fun j => nI (P j)), (fun j => nI (La j)), (fun j => nI (Le j)), (fun j => nI (F j)), (fun j => nI (pt j)), (fun j => nI (bd j))) (nI s) :=
  pk_lt s 32 p0 p1
theorem xx_slot {post : Int32 → Prop} {p s c : Nat} (h1 : p < 32) (h2 : D p < 64) (h3 : s < 4096) (hc : tx ((s + D p) % 32) = c) (hp : post (nI (4 * p + c))) : wpX_slotToward post (0, nI ms, nI sy, nI hd, nI n, nI dc, nI fc, nI an, nI al, nI ps, nI lo, nI ml, th, tl, (fun j => nI (tx j)), (fun j => nI (C j)), (fun j => nI (D j)), (fun j => nI (K j)), (fun j => nI (P j)), (fun j => nI (La j)), (fun j => nI (Le j)), (fun j => nI (F j)), (fun j => nI (pt j)), (fun j => nI (bd j))) (nI p) (nI s) := by
  refine And.intro (pk_in p 32 h1 rfl) (nm_r (e' := nI (s + D p)) ?_ (And.intro (pk_in ((s + D p) % 32) 32 (by omega) (xx_and (by omega))) ?_))
  · rw [yy_rd D p rfl (by omega), nI_add]
  · refine ek_v (P := post) ?_ hp
    rw [yy_rd tx ((s + D p) % 32) (xx_and (by omega)) (by omega), hc, xx_shl (by omega), nI_add]
theorem xx_child {post : Int32 → Prop} {c : Nat} (h1 : an < 32) (h2 : D an < 64) (h3 : hd + n < 4096) (h4 : al ≤ hd + n) (hc : tx ((hd + n - al + D an) % 32) = c) (c4 : c < 4) (hp : post (nI (C (4 * an + c)))) : wpX_activeChild post (0, nI ms, nI sy, nI hd, nI n, nI dc, nI fc, nI an, nI al, nI ps, nI lo, nI ml, th, tl, (fun j => nI (tx j)), (fun j => nI (C j)), (fun j => nI (D j)), (fun j => nI (K j)), (fun j => nI (P j)), (fun j => nI (La j)), (fun j => nI (Le j)), (fun j => nI (F j)), (fun j => nI (pt j)), (fun j => nI (bd j))) := by
  unfold wpX_activeChild
  refine xx_start h4 ?_
  refine xx_slot h1 h2 (by omega) hc ?_
  exact And.intro (pk_in (4 * an + c) 128 (by omega) rfl) (ek_v (P := post) (yy_rd C _ rfl (by omega)) hp)
theorem xx_onEdge {post : Int32 → Prop} {p c : Nat} (h1 : an < 32) (h2 : D an < 64) (h3 : hd + n < 4096) (h4 : al ≤ hd + n) (hc : al ≠ D an → tx ((hd + n - al + D an) % 32) = c) (c4 : al ≠ D an → c < 4) (h5 : C (4 * an + c) < 64) (h6 : p < 64) (p1 : al ≠ D an → C (4 * an + c) = p → post 1) (p0 : ¬ (al ≠ D an ∧ C (4 * an + c) = p) → post 0) : wpX_activeIsOnEdgeOf post (0, nI ms, nI sy, nI hd, nI n, nI dc, nI fc, nI an, nI al, nI ps, nI lo, nI ml, th, tl, (fun j => nI (tx j)), (fun j => nI (C j)), (fun j => nI (D j)), (fun j => nI (K j)), (fun j => nI (P j)), (fun j => nI (La j)), (fun j => nI (Le j)), (fun j => nI (F j)), (fun j => nI (pt j)), (fun j => nI (bd j))) (nI p) := by
  unfold wpX_activeIsOnEdgeOf
  refine xx_explicit h1 h2 (by omega) (fun e => ?_) (fun e => ?_)
  · exact br_f (by decide) (p0 (fun z => z.1 e))
  · refine br_t rfl ?_
    refine xx_child h1 h2 h3 h4 (hc e) (c4 e) ?_
    exact pk_eq (C (4 * an + c)) p (p1 e) (fun z => p0 (fun q => z q.2))
theorem xx_headMatch0 {post : Int32 → Prop} (hn : n = 0) (hp : post 0) : wpX_headMatch post (0, nI ms, nI sy, nI hd, nI n, nI dc, nI fc, nI an, nI al, nI ps, nI lo, nI ml, th, tl, (fun j => nI (tx j)), (fun j => nI (C j)), (fun j => nI (D j)), (fun j => nI (K j)), (fun j => nI (P j)), (fun j => nI (La j)), (fun j => nI (Le j)), (fun j => nI (F j)), (fun j => nI (pt j)), (fun j => nI (bd j))) := by
  rw [hn]
  exact br_t rfl hp
theorem xx_headMatch {post : Int32 → Prop} {c : Nat} (n0 : 0 < n) (h1 : an < 32) (h2 : ∀ j, D j < 64) (h3 : hd + n < 4096) (h4 : al ≤ hd + n) (hc : al ≠ D an → tx ((hd + n - al + D an) % 32) = c) (c4 : al ≠ D an → c < 4) (h5 : C (4 * an + c) < 64) (h6 : ∀ j, P j < 32) (p1 : al ≠ D an → C (4 * an + c) = ss_lf hd → post (nI al)) (p0 : ¬ (al ≠ D an ∧ C (4 * an + c) = ss_lf hd) → post (nI (D (P (ss_lf hd))))) : wpX_headMatch post (0, nI ms, nI sy, nI hd, nI n, nI dc, nI fc, nI an, nI al, nI ps, nI lo, nI ml, th, tl, (fun j => nI (tx j)), (fun j => nI (C j)), (fun j => nI (D j)), (fun j => nI (K j)), (fun j => nI (P j)), (fun j => nI (La j)), (fun j => nI (Le j)), (fun j => nI (F j)), (fun j => nI (pt j)), (fun j => nI (bd j))) := by
  refine br_f (nI_ne0 n0 (by omega)) ?_
  refine xx_leafOf (by omega) ?_
  have l := ss_lf_lt hd
  have l2 := h6 (ss_lf hd)
  refine xx_onEdge (p := ss_lf hd) h1 (h2 an) h3 h4 hc c4 h5 l (fun e1 e2 => ?_) (fun e => ?_)
  · exact br_f (by decide) (p1 e1 e2)
  · refine br_t rfl (And.intro (pk_in (ss_lf hd) 64 l rfl) (And.intro (pk_in (P (ss_lf hd)) 32 l2 (yy_rd P _ rfl (by omega))) ?_))
    refine ek_v (P := post) ?_ (p0 e)
    rw [yy_rd P _ rfl (by omega), yy_rd D _ rfl (by omega)]
theorem xx_place56 {post : SX → Prop} {s dl : Nat} (h6 : ∀ j, P j < 32) : ∀ (l : List Nat) (x st : Nat) (La Le : Nat → Nat), ss_ch P x l → st + l.length < 64 → x < 64 → l.Nodup → post (0, nI ms, nI sy, nI hd, nI n, nI dc, nI fc, nI an, nI al, nI ps, nI lo, nI ml, th, tl, (fun j => nI (tx j)), (fun j => nI (C j)), (fun j => nI (D j)), (fun j => nI (K j)), (fun j => nI (P j)), (fun j => nI ((ss_sl La l s) j)), (fun j => nI ((ss_al Le l dl) j)), (fun j => nI (F j)), (fun j => nI (pt j)), (fun j => nI (bd j))) → wX_placeActiveLeaf_56 post (nI dl) (nI s) 0 (nI ms) (nI sy) (nI hd) (nI n) (nI dc) (nI fc) (nI an) (nI al) (nI ps) (nI lo) (nI ml) th tl (l.length + 1) (nI x) (nI st) (fun j => nI (tx j)) (fun j => nI (C j)) (fun j => nI (D j)) (fun j => nI (K j)) (fun j => nI (P j)) (fun j => nI (La j)) (fun j => nI (Le j)) (fun j => nI (F j)) (fun j => nI (pt j)) (fun j => nI (bd j)) := by
  intro l
  induction l with
  | nil =>
    intro x st La Le hc hs hx _ hp
    rw [ss_sl_nil, ss_al_nil] at hp
    have e : x = 0 := hc
    rw [e]
    refine pk_le 64 st (fun q => absurd q (by simp at hs; omega)) (fun _ => ?_) rfl rfl (by omega) (by simp at hs; omega)
    exact br_t rfl hp
  | cons y l ih =>
    intro x st La Le hc hs hx hnd hp
    obtain ⟨x0, ey, hc'⟩ := hc
    have hs' : st + (l.length + 1) < 64 := hs
    have hnd' := List.nodup_cons.mp hnd
    have y32 : y < 32 := by rw [← ey]; exact h6 x
    rw [← ss_sl_cons, ← ss_al_cons _ _ _ _ hnd'.1] at hp
    refine pk_le 64 st (fun q => absurd q (by omega)) (fun _ => ?_)
    refine br_f (nI_ne0 (by omega) (by omega)) ?_
    refine And.intro (pk_in x 64 hx rfl) (nm_r (e' := nI y) ?_ ?_)
    · rw [yy_rd P x rfl (by omega), ey]
    have y64 := pk_in y 64 (by omega) rfl
    refine And.intro y64 (nm_r (e' := fun j => nI (ss_u La y s j)) ?_ ?_)
    · rw [nI_clamp (by omega)]; exact ss_upd La y s
    refine And.intro y64 (And.intro y64 (nm_r (e' := fun j => nI (ss_u Le y (Le y + dl) j)) ?_ ?_))
    · rw [yy_rd Le y rfl (by omega), nI_clamp (by omega), nI_add]; exact ss_upd Le y _
    refine nm_r (nI_1 st) ?_
    exact ih y (st + 1) _ _ hc' (by omega) (by omega) hnd'.2 hp
theorem xx_place {post : SX → Prop} {v s c dl : Nat} {l : List Nat} (v32 : v < 32) (h2 : ∀ j, D j < 64) (h3 : hd + n < 4096) (h4 : al ≤ hd + n) (hs : hd + n - al = s) (hc : tx ((s + D v) % 32) = c) (c4 : c < 4) (h6 : ∀ j, P j < 32) (ch : ss_ch P v l) (ln : l.length ≤ 50) (nd : (v :: l).Nodup) (l32 : ∀ z, z ∈ v :: l → z < 32) (hp : post (0, nI ms, nI sy, nI hd, nI n, nI dc, nI fc, nI an, nI al, nI ps, nI lo, nI ml, th, tl, (fun j => nI (tx j)), (fun j => nI ((ss_u C (4 * v + c) (ss_lf s)) j)), (fun j => nI (D j)), (fun j => nI (K j)), (fun j => nI ((ss_u P (ss_lf s) v) j)), (fun j => nI ((ss_sl (ss_u La (ss_lf s) s) (v :: l) s) j)), (fun j => nI ((ss_al (ss_u Le (ss_lf s) 1) (v :: l) dl) j)), (fun j => nI (F j)), (fun j => nI (pt j)), (fun j => nI (bd j)))) : wpX_placeActiveLeaf post (0, nI ms, nI sy, nI hd, nI n, nI dc, nI fc, nI an, nI al, nI ps, nI lo, nI ml, th, tl, (fun j => nI (tx j)), (fun j => nI (C j)), (fun j => nI (D j)), (fun j => nI (K j)), (fun j => nI (P j)), (fun j => nI (La j)), (fun j => nI (Le j)), (fun j => nI (F j)), (fun j => nI (pt j)), (fun j => nI (bd j))) (nI v) (nI dl) := by
  have l1 := ss_lf_lt s
  have l2 := ss_lf_ge s
  unfold wpX_placeActiveLeaf
  refine xx_start h4 ?_
  rw [hs]
  refine xx_leafOf (by omega) ?_
  refine xx_slot v32 (h2 v) (by omega) hc ?_
  have lin := pk_in (ss_lf s) 64 l1 rfl
  refine And.intro (pk_in (4 * v + c) 128 (by omega) rfl) (nm_r (e' := fun j => nI (ss_u C (4 * v + c) (ss_lf s) j)) ?_ ?_)
  · rw [nI_clamp (by omega)]; exact ss_upd C _ _
  refine And.intro lin (nm_r (e' := fun j => nI (ss_u P (ss_lf s) v j)) ?_ ?_)
  · rw [nI_clamp (by omega)]; exact ss_upd P _ _
  refine And.intro lin (nm_r (e' := fun j => nI (ss_u La (ss_lf s) s j)) ?_ ?_)
  · rw [nI_clamp (by omega)]; exact ss_upd La _ _
  refine And.intro lin (nm_r (e' := fun j => nI (ss_u Le (ss_lf s) 1 j)) ?_ ?_)
  · rw [nI_clamp (by omega)]; exact ss_upd Le _ 1
  refine ⟨(v :: l).length + 1, ?_⟩
  have nl : ∀ z, z ∈ v :: l → z ≠ ss_lf s := fun z hz e => by have := l32 z hz; omega
  refine xx_place56 (P := ss_u P (ss_lf s) v) (C := ss_u C (4 * v + c) (ss_lf s)) (fun j => ?_) (v :: l) (ss_lf s) 0 _ _ ?_ (by simp; omega) l1 nd hp
  · by_cases e : j = ss_lf s
    · rw [e, ss_us]; exact v32
    · rw [ss_un P e]; exact h6 j
  · exact ⟨by omega, ss_us _ _ _, ss_ch_u l v ch (by omega) (fun z => nl _ (List.mem_cons_of_mem _ z) rfl)⟩
theorem xx_oc7 {post : Int32 → Prop} {v : Nat} (v32 : v < 32) (hC : ∀ j, C j < 64) (p1 : ∀ d, d < 4 → C (4 * v + d) ≠ 0 → (∀ c, c < 4 → c ≠ d → C (4 * v + c) = 0) → post (nI (C (4 * v + d)))) (p0 : (∀ d, d < 4 → C (4 * v + d) ≠ 0 → ∃ c, c < 4 ∧ c ≠ d ∧ C (4 * v + c) ≠ 0) → post 0) : ∀ d i x k, i + d = 4 → ((k = 0 ∧ ∀ c, c < i → C (4 * v + c) = 0) ∨ (k = 1 ∧ ∃ e, e < i ∧ x = C (4 * v + e) ∧ C (4 * v + e) ≠ 0 ∧ ∀ c, c < i → c ≠ e → C (4 * v + c) = 0) ∨ (2 ≤ k ∧ k ≤ i ∧ ∃ e f, e < i ∧ f < i ∧ e ≠ f ∧ C (4 * v + e) ≠ 0 ∧ C (4 * v + f) ≠ 0)) → wX_onlyChild_7 post (nI v) 0 (nI ms) (nI sy) (nI hd) (nI n) (nI dc) (nI fc) (nI an) (nI al) (nI ps) (nI lo) (nI ml) th tl (fun j => nI (tx j)) (fun j => nI (C j)) (fun j => nI (D j)) (fun j => nI (K j)) (fun j => nI (P j)) (fun j => nI (La j)) (fun j => nI (Le j)) (fun j => nI (F j)) (fun j => nI (pt j)) (fun j => nI (bd j)) (d + 1) (nI x) (nI k) (nI i) := by
  intro d
  induction d with
  | zero =>
    intro i x k hi hk
    have e4 : i = 4 := by omega
    rw [e4] at hk ⊢
    refine br_t (by decide) ?_
    rcases hk with ⟨k0, ka⟩ | ⟨k1, e, e1, e2, e3, e4⟩ | ⟨k2, k3, e, f, e1, f1, ef, ec, fc'⟩
    · refine pk_eq k 1 (fun z => absurd z (by omega)) (fun _ => p0 (fun d d4 dc' => absurd (ka d d4) dc'))
    · refine pk_eq k 1 (fun _ => ?_) (fun z => absurd k1 z)
      rw [e2]
      exact p1 e e1 e3 e4
    · refine pk_eq k 1 (fun z => absurd z (by omega)) (fun _ => p0 (fun d d4 dc' => ?_))
      by_cases q : e = d
      · exact ⟨f, f1, fun z => ef (q.trans z.symm), fc'⟩
      · exact ⟨e, e1, q, ec⟩
  | succ d ih =>
    intro i x k hi hk
    have i4 : i < 4 := by omega
    have sl : (nI v <<< ((2 : Int32) &&& 31)) + nI i = nI (4 * v + i) := by rw [xx_shl (by omega), nI_add]
    have hCi := hC (4 * v + i)
    refine pk_le 4 i (fun q => absurd q (by omega)) (fun _ => ?_)
    refine And.intro (pk_in (4 * v + i) 128 (by omega) sl) (nm_r (yy_rd C _ sl (by omega)) ?_)
    refine pk_eq (C (4 * v + i)) 0 (fun z => nm_r (nI_1 i) (ih (i + 1) x k (by omega) ?_)) (fun z => nm_r (nI_1 k) (nm_r (nI_1 i) (ih (i + 1) (C (4 * v + i)) (k + 1) (by omega) ?_)))
    · rcases hk with ⟨k0, ka⟩ | ⟨k1, e, e1, e2, e3, e4⟩ | ⟨k2, k3, e, f, e1, f1, ef, ec, fc'⟩
      · refine Or.inl ⟨k0, fun c hc => ?_⟩
        by_cases q : c = i
        · rw [q]; exact z
        · exact ka c (by omega)
      · refine Or.inr (Or.inl ⟨k1, e, by omega, e2, e3, fun c hc ce => ?_⟩)
        by_cases q : c = i
        · rw [q]; exact z
        · exact e4 c (by omega) ce
      · exact Or.inr (Or.inr ⟨k2, by omega, e, f, by omega, by omega, ef, ec, fc'⟩)
    · rcases hk with ⟨k0, ka⟩ | ⟨k1, e, e1, e2, e3, e4⟩ | ⟨k2, k3, e, f, e1, f1, ef, ec, fc'⟩
      · exact Or.inr (Or.inl ⟨by omega, i, by omega, rfl, z, fun c hc ce => ka c (by omega)⟩)
      · exact Or.inr (Or.inr ⟨by omega, by omega, e, i, by omega, by omega, by omega, e3, z⟩)
      · exact Or.inr (Or.inr ⟨by omega, by omega, e, f, by omega, by omega, ef, ec, fc'⟩)
theorem xx_onlyChild {post : Int32 → Prop} {v : Nat} (v32 : v < 32) (hC : ∀ j, C j < 64) (p1 : ∀ d, d < 4 → C (4 * v + d) ≠ 0 → (∀ c, c < 4 → c ≠ d → C (4 * v + c) = 0) → post (nI (C (4 * v + d)))) (p0 : (∀ d, d < 4 → C (4 * v + d) ≠ 0 → ∃ c, c < 4 ∧ c ≠ d ∧ C (4 * v + c) ≠ 0) → post 0) : wpX_onlyChild post (0, nI ms, nI sy, nI hd, nI n, nI dc, nI fc, nI an, nI al, nI ps, nI lo, nI ml, th, tl, (fun j => nI (tx j)), (fun j => nI (C j)), (fun j => nI (D j)), (fun j => nI (K j)), (fun j => nI (P j)), (fun j => nI (La j)), (fun j => nI (Le j)), (fun j => nI (F j)), (fun j => nI (pt j)), (fun j => nI (bd j))) (nI v) :=
  ⟨5, xx_oc7 v32 hC p1 p0 4 0 0 0 (by omega) (Or.inl ⟨rfl, fun c hc => absurd hc (by omega)⟩)⟩
theorem xx_cs4 {post : Int32 → Prop} {v : Nat} (v32 : v < 32) (hC : ∀ j, C j < 64) (hp : post (nI (ss_bs (fun c => C (4 * v + c) ≠ 0)))) : ∀ d i, i + d = 4 → wX_childSet_4 post (nI v) 0 (nI ms) (nI sy) (nI hd) (nI n) (nI dc) (nI fc) (nI an) (nI al) (nI ps) (nI lo) (nI ml) th tl (fun j => nI (tx j)) (fun j => nI (C j)) (fun j => nI (D j)) (fun j => nI (K j)) (fun j => nI (P j)) (fun j => nI (La j)) (fun j => nI (Le j)) (fun j => nI (F j)) (fun j => nI (pt j)) (fun j => nI (bd j)) (d + 1) (nI (ss_bs (fun c => c < i ∧ C (4 * v + c) ≠ 0))) (nI i) := by
  intro d
  induction d with
  | zero =>
    intro i hi
    have e4 : i = 4 := by omega
    rw [e4]
    refine br_t (by decide) (ek_v (P := post) (congrArg nI (ss_bs_c (fun c hc => ⟨fun q => q.2, fun q => ⟨hc, q⟩⟩))) hp)
  | succ d ih =>
    intro i hi
    have sl : (nI v <<< ((2 : Int32) &&& 31)) + nI i = nI (4 * v + i) := by rw [xx_shl (by omega), nI_add]
    have hCi := hC (4 * v + i)
    have ih' := ih (i + 1) (by omega)
    refine pk_le 4 i (fun q => absurd q (by omega)) (fun _ => And.intro (pk_in (4 * v + i) 128 (by omega) sl) ?_)
    refine pk_eq (C (4 * v + i)) 0 (fun z => nm_r (nI_1 i) ?_) (fun z => ?_) (yy_rd C _ sl (by omega))
    · refine ek_v (P := fun x => wX_childSet_4 post (nI v) 0 (nI ms) (nI sy) (nI hd) (nI n) (nI dc) (nI fc) (nI an) (nI al) (nI ps) (nI lo) (nI ml) th tl (fun j => nI (tx j)) (fun j => nI (C j)) (fun j => nI (D j)) (fun j => nI (K j)) (fun j => nI (P j)) (fun j => nI (La j)) (fun j => nI (Le j)) (fun j => nI (F j)) (fun j => nI (pt j)) (fun j => nI (bd j)) (d + 1) x (nI (i + 1))) (congrArg nI (ss_bs_c (fun c _ => ⟨fun q => ⟨by omega, q.2⟩, fun q => ⟨?_, q.2⟩⟩))) ih'
      by_cases e : c = i
      · rw [e] at q
        exact absurd z q.2
      · have := q.1
        omega
    · refine nm_r (e' := nI (ss_bs (fun c => c < i + 1 ∧ C (4 * v + c) ≠ 0))) ?_ (nm_r (nI_1 i) ih')
      rw [ss_bs_or (by omega)]
      refine congrArg nI (ss_bs_c (fun c _ => ⟨fun q => ?_, fun q => ?_⟩))
      · rcases q with q | q
        · exact ⟨by omega, q.2⟩
        · rw [q]; exact ⟨by omega, z⟩
      · by_cases e : c = i
        · exact Or.inr e
        · exact Or.inl ⟨by omega, q.2⟩
theorem xx_childSet {post : Int32 → Prop} {v : Nat} (v32 : v < 32) (hC : ∀ j, C j < 64) (hp : post (nI (ss_bs (fun c => C (4 * v + c) ≠ 0)))) : wpX_childSet post (0, nI ms, nI sy, nI hd, nI n, nI dc, nI fc, nI an, nI al, nI ps, nI lo, nI ml, th, tl, (fun j => nI (tx j)), (fun j => nI (C j)), (fun j => nI (D j)), (fun j => nI (K j)), (fun j => nI (P j)), (fun j => nI (La j)), (fun j => nI (Le j)), (fun j => nI (F j)), (fun j => nI (pt j)), (fun j => nI (bd j))) (nI v) := by
  have K := xx_cs4 (ms := ms) (sy := sy) (hd := hd) (n := n) (dc := dc) (fc := fc) (an := an) (al := al) (ps := ps) (lo := lo) (ml := ml) (th := th) (tl := tl) (tx := tx) (D := D) (K := K) (P := P) (La := La) (Le := Le) (F := F) (pt := pt) (bd := bd) v32 hC hp 4 0 (by omega)
  have z : ss_bs (fun c => c < 0 ∧ C (4 * v + c) ≠ 0) = 0 := (ss_bs_c (q := fun _ => False) (fun c _ => ⟨fun q => absurd q.1 (by omega), fun q => q.elim⟩)).trans ss_bs_0
  rw [z] at K
  exact ⟨5, K⟩
end
end
section
section
variable {ms sy hd n dc fc an al ps lo ml : Nat} {th tl : Int32} {tx C D K P La Le F pt bd : Nat → Nat}
theorem xx_merge61 {post : SX → Prop} {w : Nat} (hf : fc < 32) (hp : post (0, nI ms, nI sy, nI hd, nI n, nI dc, (nI (fc+1)), nI an, nI al, nI ps, nI lo, nI ml, th, tl, (fun j => nI (tx j)), (fun j => nI (C j)), (fun j => nI (D j)), (fun j => nI (K j)), (fun j => nI (P j)), (fun j => nI (La j)), (fun j => nI (Le j)), (fun j => nI ((ss_u F fc w) j)), (fun j => nI (pt j)), (fun j => nI (bd j)))) : wX_mergeInto_61 post (nI w) 0 (nI ms) (nI sy) (nI hd) (nI n) (nI dc) (nI fc) (nI an) (nI al) (nI ps) (nI lo) (nI ml) th tl (fun j => nI (tx j)) (fun j => nI (C j)) (fun j => nI (D j)) (fun j => nI (K j)) (fun j => nI (P j)) (fun j => nI (La j)) (fun j => nI (Le j)) (fun j => nI (F j)) (fun j => nI (pt j)) (fun j => nI (bd j)) := by
  refine And.intro (pk_in fc 32 hf rfl) (nm_r (e' := fun j => nI (ss_u F fc w j)) ?_ (nm_r (nI_1 fc) hp))
  rw [nI_clamp (by omega)]; exact ss_upd F fc w
theorem xx_merge {post : SX → Prop} {w x y d cw : Nat} (w32 : w < 32) (y64 : y < 64) (ex : P w = x) (x32 : x < 32) (h2 : ∀ j, D j < 64) (h7 : ∀ j, La j < 4096) (hd' : tx ((La y + D w) % 32) = d) (d4 : d < 4) (hcw : tx ((La y + D x) % 32) = cw) (cw4 : cw < 4) (hf : fc < 32) (an32 : an < 32) (pA : an = w → post (0, nI ms, nI sy, nI hd, nI n, nI dc, (nI (fc+1)), nI x, nI al, nI ps, nI lo, nI ml, th, tl, (fun j => nI (tx j)), (fun j => nI ((ss_u (ss_u C (4 * w + d) 0) (4 * x + cw) y) j)), (fun j => nI (D j)), (fun j => nI (K j)), (fun j => nI ((ss_u P y x) j)), (fun j => nI (La j)), (fun j => nI (Le j)), (fun j => nI ((ss_u F fc w) j)), (fun j => nI (pt j)), (fun j => nI (bd j)))) (pB : an ≠ w → post (0, nI ms, nI sy, nI hd, nI n, nI dc, (nI (fc+1)), nI an, nI al, nI ps, nI lo, nI ml, th, tl, (fun j => nI (tx j)), (fun j => nI ((ss_u (ss_u C (4 * w + d) 0) (4 * x + cw) y) j)), (fun j => nI (D j)), (fun j => nI (K j)), (fun j => nI ((ss_u P y x) j)), (fun j => nI (La j)), (fun j => nI (Le j)), (fun j => nI ((ss_u F fc w) j)), (fun j => nI (pt j)), (fun j => nI (bd j)))) : wpX_mergeInto post (0, nI ms, nI sy, nI hd, nI n, nI dc, nI fc, nI an, nI al, nI ps, nI lo, nI ml, th, tl, (fun j => nI (tx j)), (fun j => nI (C j)), (fun j => nI (D j)), (fun j => nI (K j)), (fun j => nI (P j)), (fun j => nI (La j)), (fun j => nI (Le j)), (fun j => nI (F j)), (fun j => nI (pt j)), (fun j => nI (bd j))) (nI w) (nI y) := by
  unfold wpX_mergeInto
  have yin := pk_in y 64 y64 rfl
  have l1 := h7 y
  refine And.intro (pk_in w 64 (by omega) rfl) (nm_r (e' := nI x) ?_ (And.intro yin ?_))
  · rw [yy_rd P w rfl (by omega), ex]
  rw [yy_rd La y rfl (by omega)]
  refine xx_slot w32 (h2 w) l1 hd' ?_
  refine And.intro (pk_in (4 * w + d) 128 (by omega) rfl) (nm_r (e' := fun j => nI (ss_u C (4 * w + d) 0 j)) ?_ (And.intro yin ?_))
  · rw [nI_clamp (by omega)]; exact ss_upd C _ 0
  refine xx_slot (C := ss_u C (4 * w + d) 0) x32 (h2 x) l1 hcw ?_
  refine And.intro (pk_in (4 * x + cw) 128 (by omega) rfl) (nm_r (e' := fun j => nI (ss_u (ss_u C (4 * w + d) 0) (4 * x + cw) y j)) ?_ (And.intro yin (nm_r (e' := fun j => nI (ss_u P y x j)) ?_ ?_)))
  · rw [nI_clamp (by omega)]; exact ss_upd _ _ _
  · rw [nI_clamp (by omega)]; exact ss_upd P _ _
  refine pk_eq an w (fun e => ?_) (fun e => ?_)
  · exact xx_merge61 (an := x) (C := ss_u (ss_u C (4 * w + d) 0) (4 * x + cw) y) (P := ss_u P y x) hf (pA e)
  · exact xx_merge61 (C := ss_u (ss_u C (4 * w + d) 0) (4 * x + cw) y) (P := ss_u P y x) hf (pB e)
theorem xx_rm29 {post : SX → Prop} {v : Nat} (h6 : ∀ j, P j < 32) : ∀ (l : List Nat) (x st : Nat) (Le : Nat → Nat), ss_ch P x l → st + l.length < 64 → x < 64 → l.Nodup → (∀ z, z ∈ l → 0 < Le z) → wX_removeLeaf_63 post (nI v) 0 (nI ms) (nI sy) (nI hd) (nI n) (nI dc) (nI fc) (nI an) (nI al) (nI ps) (nI lo) (nI ml) th tl (fun j => nI (tx j)) (fun j => nI (C j)) (fun j => nI (D j)) (fun j => nI (K j)) (fun j => nI (P j)) (fun j => nI (La j)) (fun j => nI ((ss_dl Le l) j)) (fun j => nI (F j)) (fun j => nI (pt j)) (fun j => nI (bd j)) → wX_removeLeaf_29 post (nI v) 0 (nI ms) (nI sy) (nI hd) (nI n) (nI dc) (nI fc) (nI an) (nI al) (nI ps) (nI lo) (nI ml) th tl (l.length + 1) (nI x) (nI st) (fun j => nI (tx j)) (fun j => nI (C j)) (fun j => nI (D j)) (fun j => nI (K j)) (fun j => nI (P j)) (fun j => nI (La j)) (fun j => nI (Le j)) (fun j => nI (F j)) (fun j => nI (pt j)) (fun j => nI (bd j)) := by
  intro l
  induction l with
  | nil =>
    intro x st Le hc hs hx _ _ hp
    rw [ss_dl_nil] at hp
    have e : x = 0 := hc
    rw [e]
    refine pk_le 64 st (fun q => absurd q (by simp at hs; omega)) (fun _ => ?_) rfl rfl (by omega) (by simp at hs; omega)
    exact br_t rfl hp
  | cons y l ih =>
    intro x st Le hc hs hx hnd hpos hp
    obtain ⟨x0, ey, hc'⟩ := hc
    have hs' : st + (l.length + 1) < 64 := hs
    have hnd' := List.nodup_cons.mp hnd
    have y32 : y < 32 := by rw [← ey]; exact h6 x
    rw [← ss_dl_cons _ _ _ hnd'.1] at hp
    refine pk_le 64 st (fun q => absurd q (by omega)) (fun _ => ?_)
    refine br_f (nI_ne0 (by omega) (by omega)) ?_
    refine And.intro (pk_in x 64 hx rfl) (nm_r (e' := nI y) ?_ ?_)
    · rw [yy_rd P x rfl (by omega), ey]
    have y64 := pk_in y 64 (by omega) rfl
    have py := hpos y List.mem_cons_self
    refine And.intro y64 (And.intro y64 (nm_r (e' := fun j => nI (ss_u Le y (Le y - 1) j)) ?_ ?_))
    · have e1 : nI (Le y) - 1 = nI (Le y - 1) := pk_sub (a := Le y) (b := 1) (by omega)
      rw [yy_rd Le y rfl (by omega), nI_clamp (by omega), e1]; exact ss_upd Le y _
    refine nm_r (nI_1 st) ?_
    refine ih y (st + 1) _ hc' (by omega) (by omega) hnd'.2 (fun z hz => ?_) hp
    have zy : z ≠ y := fun q => hnd'.1 (by rw [← q]; exact hz)
    rw [ss_un Le zy]
    exact hpos z (List.mem_cons_of_mem _ hz)
theorem xx_rm {post : SX → Prop} {v s c : Nat} {l : List Nat} (ev : P (ss_lf s) = v) (v32 : v < 32) (es : La (ss_lf s) = s) (h2 : ∀ j, D j < 64) (s4 : s < 4096) (hc : tx ((s + D v) % 32) = c) (c4 : c < 4) (h6 : ∀ j, P j < 32) (ch : ss_ch P v l) (ln : l.length ≤ 50) (nd : (v :: l).Nodup) (pos : ∀ z, z ∈ v :: l → 0 < Le z) (hp : wX_removeLeaf_63 post (nI v) 0 (nI ms) (nI sy) (nI hd) (nI n) (nI dc) (nI fc) (nI an) (nI al) (nI ps) (nI lo) (nI ml) th tl (fun j => nI (tx j)) (fun j => nI ((ss_u C (4 * v + c) 0) j)) (fun j => nI (D j)) (fun j => nI (K j)) (fun j => nI (P j)) (fun j => nI (La j)) (fun j => nI ((ss_dl Le (v :: l)) j)) (fun j => nI (F j)) (fun j => nI (pt j)) (fun j => nI (bd j))) : wpX_removeLeaf post (0, nI ms, nI sy, nI hd, nI n, nI dc, nI fc, nI an, nI al, nI ps, nI lo, nI ml, th, tl, (fun j => nI (tx j)), (fun j => nI (C j)), (fun j => nI (D j)), (fun j => nI (K j)), (fun j => nI (P j)), (fun j => nI (La j)), (fun j => nI (Le j)), (fun j => nI (F j)), (fun j => nI (pt j)), (fun j => nI (bd j))) (nI (ss_lf s)) := by
  have l1 := ss_lf_lt s
  have l2 := ss_lf_ge s
  unfold wpX_removeLeaf
  have lin := pk_in (ss_lf s) 64 l1 rfl
  refine And.intro lin (nm_r (e' := nI v) ?_ (And.intro lin ?_))
  · rw [yy_rd P _ rfl (by omega), ev]
  rw [yy_rd La _ rfl (by omega), es]
  refine xx_slot v32 (h2 v) s4 hc ?_
  refine And.intro (pk_in (4 * v + c) 128 (by omega) rfl) (nm_r (e' := fun j => nI (ss_u C (4 * v + c) 0 j)) ?_ ⟨(v :: l).length + 1, ?_⟩)
  · rw [nI_clamp (by omega)]; exact ss_upd C _ 0
  exact xx_rm29 (C := ss_u C (4 * v + c) 0) h6 (v :: l) (ss_lf s) 0 Le ⟨by omega, ev, ch⟩ (by simp; omega) l1 nd pos hp
theorem xx_rm63 {post : SX → Prop} {v : Nat} (v32 : v < 32) (hC : ∀ j, C j < 64) (pN : (v = 0 ∨ ∀ d, d < 4 → C (4 * v + d) ≠ 0 → ∃ c, c < 4 ∧ c ≠ d ∧ C (4 * v + c) ≠ 0) → post (0, nI ms, nI sy, nI hd, nI n, nI dc, nI fc, nI an, nI al, nI ps, nI lo, nI ml, th, tl, (fun j => nI (tx j)), (fun j => nI (C j)), (fun j => nI (D j)), (fun j => nI (K j)), (fun j => nI (P j)), (fun j => nI (La j)), (fun j => nI (Le j)), (fun j => nI (F j)), (fun j => nI (pt j)), (fun j => nI (bd j)))) (pM : ∀ d, v ≠ 0 → d < 4 → C (4 * v + d) ≠ 0 → (∀ c, c < 4 → c ≠ d → C (4 * v + c) = 0) → wpX_mergeInto post (0, nI ms, nI sy, nI hd, nI n, nI dc, nI fc, nI an, nI al, nI ps, nI lo, nI ml, th, tl, (fun j => nI (tx j)), (fun j => nI (C j)), (fun j => nI (D j)), (fun j => nI (K j)), (fun j => nI (P j)), (fun j => nI (La j)), (fun j => nI (Le j)), (fun j => nI (F j)), (fun j => nI (pt j)), (fun j => nI (bd j))) (nI v) (nI (C (4 * v + d)))) : wX_removeLeaf_63 post (nI v) 0 (nI ms) (nI sy) (nI hd) (nI n) (nI dc) (nI fc) (nI an) (nI al) (nI ps) (nI lo) (nI ml) th tl (fun j => nI (tx j)) (fun j => nI (C j)) (fun j => nI (D j)) (fun j => nI (K j)) (fun j => nI (P j)) (fun j => nI (La j)) (fun j => nI (Le j)) (fun j => nI (F j)) (fun j => nI (pt j)) (fun j => nI (bd j)) := by
  unfold wX_removeLeaf_63
  refine xx_onlyChild v32 hC (fun d d4 dc' du => ?_) (fun q => ?_)
  · have b := hC (4 * v + d)
    refine pk_eq v 0 (fun e => pN (Or.inl e)) (fun e => ?_)
    refine pk_eq (C (4 * v + d)) 0 (fun z => absurd z dc') (fun _ => pM d e d4 dc' du)
  · refine pk_eq v 0 (fun e => pN (Or.inl e)) (fun e => br_t rfl (pN (Or.inr q)))
theorem xx_can_end {post : SX → Prop} {st f : Nat} (hs : st < 4096) (hp : post (0, nI ms, nI sy, nI hd, nI n, nI dc, nI fc, nI an, nI al, nI ps, nI lo, nI ml, th, tl, (fun j => nI (tx j)), (fun j => nI (C j)), (fun j => nI (D j)), (fun j => nI (K j)), (fun j => nI (P j)), (fun j => nI (La j)), (fun j => nI (Le j)), (fun j => nI (F j)), (fun j => nI (pt j)), (fun j => nI (bd j)))) : wX_canonize_4 post 0 (nI ms) (nI sy) (nI hd) (nI n) (nI dc) (nI fc) (nI al) (nI ps) (nI lo) (nI ml) th tl (fun j => nI (tx j)) (fun j => nI (C j)) (fun j => nI (D j)) (fun j => nI (K j)) (fun j => nI (P j)) (fun j => nI (La j)) (fun j => nI (Le j)) (fun j => nI (F j)) (fun j => nI (pt j)) (fun j => nI (bd j)) (f + 1) 0 (nI st) (nI an) :=
  pk_le 32 st (fun _ => hp) (fun _ => br_t rfl hp)
theorem xx_can4 {post : SX → Prop} {T : Nat → Nat} {h a E : Nat} {A : Nat → Prop} {R : Nat → Nat} (I : ss_SI T h a E A R D C P 0) (hE : a + al ≤ E) (hs : hd + n = a + al) (htx : ∀ i, h ≤ i → i < E → tx (i % 32) = T i) (h2 : ∀ j, D j < 64) (hC : ∀ j, C j < 64) (h3 : hd + n < 4096) (al31 : al ≤ 31) (hp : ∀ an', ss_AC T h a al A R D an' → post (0, nI ms, nI sy, nI hd, nI n, nI dc, nI fc, nI an', nI al, nI ps, nI lo, nI ml, th, tl, (fun j => nI (tx j)), (fun j => nI (C j)), (fun j => nI (D j)), (fun j => nI (K j)), (fun j => nI (P j)), (fun j => nI (La j)), (fun j => nI (Le j)), (fun j => nI (F j)), (fun j => nI (pt j)), (fun j => nI (bd j)))) : ∀ d an st, al - D an ≤ d → st + (al - D an) ≤ 31 → ss_A0 T h a al A R D an → wX_canonize_4 post 0 (nI ms) (nI sy) (nI hd) (nI n) (nI dc) (nI fc) (nI al) (nI ps) (nI lo) (nI ml) th tl (fun j => nI (tx j)) (fun j => nI (C j)) (fun j => nI (D j)) (fun j => nI (K j)) (fun j => nI (P j)) (fun j => nI (La j)) (fun j => nI (Le j)) (fun j => nI (F j)) (fun j => nI (pt j)) (fun j => nI (bd j)) (d + 2) 1 (nI st) (nI an) := by
  intro d
  induction d with
  | zero =>
    intro an st hd' hst H
    have an32 := I.2.2.1.2.2 an H.1
    have e : D an = al := by have := H.2.1; omega
    refine pk_le 32 st (fun q => absurd q (by omega)) (fun _ => br_f (by decide) ?_)
    refine xx_explicit an32 (h2 an) (by omega) (fun _ => ?_) (fun z => absurd e.symm z)
    refine br_f (by decide) (nm_r (nI_1 st) ?_)
    exact xx_can_end (by omega) (hp an (ss_can0 H e))
  | succ d ih =>
    intro an st hd' hst H
    have an32 := I.2.2.1.2.2 an H.1
    refine pk_le 32 st (fun q => absurd q (by omega)) (fun _ => br_f (by decide) ?_)
    refine xx_explicit an32 (h2 an) (by omega) (fun e => ?_) (fun e => ?_)
    · refine br_f (by decide) (nm_r (nI_1 st) ?_)
      exact xx_can_end (by omega) (hp an (ss_can0 H e.symm))
    · have l := H.2.1
      obtain ⟨c4, y0, n1, k1, k2⟩ := ss_can1 I H hE (by omega)
      have hb := I.1
      have ea : hd + n - al = a := by omega
      refine br_t rfl ?_
      refine xx_child an32 (h2 an) h3 (by omega) (by rw [ea]; exact htx _ (by omega) (by omega)) c4 ?_
      have y64 := hC (4 * an + T (a + D an))
      refine pk_eq (C (4 * an + T (a + D an))) 0 (fun z => absurd z y0) (fun _ => ?_)
      refine xx_isLeaf (by omega) (fun y32 => ?_) (fun y32 => ?_)
      · have dy := h2 (C (4 * an + T (a + D an)))
        refine br_t rfl (And.intro (pk_in _ 32 y32 rfl) ?_)
        refine pk_lt al (D (C (4 * an + T (a + D an)))) (fun q => nm_r (nI_1 st) ?_) (fun q => nm_r (nI_1 st) ?_) rfl (yy_rd D _ rfl (by omega))
        · exact xx_can_end (by omega) (hp an (k2 (fun z => by omega)))
        · obtain ⟨k3, k4⟩ := k1 y32 q
          exact ih _ (st + 1) (by omega) (by omega) k3
      · refine br_f (by decide) (nm_r (nI_1 st) ?_)
        exact xx_can_end (by omega) (hp an (k2 (fun z => by omega)))
theorem xx_canonize {post : SX → Prop} {T : Nat → Nat} {h a E : Nat} {A : Nat → Prop} {R : Nat → Nat} (I : ss_SI T h a E A R D C P 0) (H : ss_A0 T h a al A R D an) (hE : a + al ≤ E) (hs : hd + n = a + al) (htx : ∀ i, h ≤ i → i < E → tx (i % 32) = T i) (h2 : ∀ j, D j < 64) (hC : ∀ j, C j < 64) (h3 : hd + n < 4096) (hp : ∀ an', ss_AC T h a al A R D an' → post (0, nI ms, nI sy, nI hd, nI n, nI dc, nI fc, nI an', nI al, nI ps, nI lo, nI ml, th, tl, (fun j => nI (tx j)), (fun j => nI (C j)), (fun j => nI (D j)), (fun j => nI (K j)), (fun j => nI (P j)), (fun j => nI (La j)), (fun j => nI (Le j)), (fun j => nI (F j)), (fun j => nI (pt j)), (fun j => nI (bd j)))) : wpX_canonize post (0, nI ms, nI sy, nI hd, nI n, nI dc, nI fc, nI an, nI al, nI ps, nI lo, nI ml, th, tl, (fun j => nI (tx j)), (fun j => nI (C j)), (fun j => nI (D j)), (fun j => nI (K j)), (fun j => nI (P j)), (fun j => nI (La j)), (fun j => nI (Le j)), (fun j => nI (F j)), (fun j => nI (pt j)), (fun j => nI (bd j))) := by
  have al31 : al ≤ 31 := by
    have hb := I.1
    rcases H.2.2.2 with q | ⟨s, s1, s2, s3⟩
    · omega
    · omega
  exact ⟨al - D an + 2, xx_can4 I hE hs htx h2 hC h3 al31 hp (al - D an) an 0 (Nat.le_refl _) (by omega) H⟩
theorem xx_suf {post : SX → Prop} (an32 : an < 32) (al0 : 0 < al) (hp : wpX_canonize post (0, nI ms, nI sy, nI hd, nI n, nI dc, nI fc, (nI (K an)), (nI (al-1)), nI ps, nI lo, nI ml, th, tl, (fun j => nI (tx j)), (fun j => nI (C j)), (fun j => nI (D j)), (fun j => nI (K j)), (fun j => nI (P j)), (fun j => nI (La j)), (fun j => nI (Le j)), (fun j => nI (F j)), (fun j => nI (pt j)), (fun j => nI (bd j)))) : wpX_followSuffixLink post (0, nI ms, nI sy, nI hd, nI n, nI dc, nI fc, nI an, nI al, nI ps, nI lo, nI ml, th, tl, (fun j => nI (tx j)), (fun j => nI (C j)), (fun j => nI (D j)), (fun j => nI (K j)), (fun j => nI (P j)), (fun j => nI (La j)), (fun j => nI (Le j)), (fun j => nI (F j)), (fun j => nI (pt j)), (fun j => nI (bd j))) := by
  refine nm_r (e' := nI (al - 1)) (pk_sub (a := al) (b := 1) (by omega)) (And.intro (pk_in an 32 an32 rfl) (nm_r (e' := nI (K an)) (yy_rd K an rfl (by omega)) ?_))
  exact hp
theorem xx_fol {post : Int32 → Prop} {c q : Nat} (h1 : an < 32) (h2 : D an < 64) (h3 : hd + n < 4096) (h4 : al ≤ hd + n) (hc : al ≠ D an → tx ((hd + n - al + D an) % 32) = c) (c4 : c < 4) (q4 : q < 4) (htx : ∀ j, tx j < 4) (hC : ∀ j, C j < 64) (h7 : ∀ j, La j < 4096) (e0 : al = D an → C (4 * an + q) = 0 → post 0) (e1 : al = D an → C (4 * an + q) ≠ 0 → post 1) (n0 : al ≠ D an → tx ((La (C (4 * an + c)) + al) % 32) ≠ q → post 0) (n1 : al ≠ D an → tx ((La (C (4 * an + c)) + al) % 32) = q → post 1) : wpX_activeIsFollowedBy post (0, nI ms, nI sy, nI hd, nI n, nI dc, nI fc, nI an, nI al, nI ps, nI lo, nI ml, th, tl, (fun j => nI (tx j)), (fun j => nI (C j)), (fun j => nI (D j)), (fun j => nI (K j)), (fun j => nI (P j)), (fun j => nI (La j)), (fun j => nI (Le j)), (fun j => nI (F j)), (fun j => nI (pt j)), (fun j => nI (bd j))) (nI q) := by
  unfold wpX_activeIsFollowedBy
  refine xx_explicit h1 h2 (by omega) (fun e => ?_) (fun e => ?_)
  · have sl : (nI an <<< ((2 : Int32) &&& 31)) + nI q = nI (4 * an + q) := by rw [xx_shl (by omega), nI_add]
    have b := hC (4 * an + q)
    refine br_f (by decide) (And.intro (pk_in (4 * an + q) 128 (by omega) sl) ?_)
    exact pk_eq (C (4 * an + q)) 0 (e0 e) (e1 e) (yy_rd C _ sl (by omega))
  · refine br_t rfl ?_
    refine xx_child h1 h2 h3 h4 (hc e) c4 ?_
    have b := hC (4 * an + c)
    have b2 := h7 (C (4 * an + c))
    have b3 := htx ((La (C (4 * an + c)) + al) % 32)
    have sl : ((fun j => nI (La j)) (nI (C (4 * an + c))).toNatClampNeg + nI al) &&& 31 = nI ((La (C (4 * an + c)) + al) % 32) := by
      rw [yy_rd La _ rfl (by omega), nI_add, xx_and (by omega)]
    refine And.intro (pk_in _ 64 b rfl) (And.intro (pk_in _ 32 (by omega) sl) ?_)
    exact pk_eq (tx ((La (C (4 * an + c)) + al) % 32)) q (n1 e) (n0 e) (yy_rd tx _ sl (by omega))
theorem xx_split {post : Int32 → SX → Prop} {c d w y : Nat} (h1 : an < 32) (h2 : D an < 64) (h3 : hd + n < 4096) (h4 : al ≤ hd + n) (hc : tx ((hd + n - al + D an) % 32) = c) (c4 : c < 4) (ey : C (4 * an + c) = y) (y64 : y < 64) (al31 : al ≤ 31) (h7 : ∀ j, La j < 4096) (f0 : 0 < fc) (f32 : fc ≤ 32) (ew : F (fc - 1) = w) (w32 : w < 32) (yw : y ≠ w) (hd' : tx ((La y + al) % 32) = d) (d4 : d < 4) (hp : post (nI w) (0, nI ms, nI sy, nI hd, nI n, nI dc, (nI (fc-1)), nI an, nI al, nI ps, nI lo, nI ml, th, tl, (fun j => nI (tx j)), (fun j => nI ((ss_u (ss_u C (4 * an + c) w) (4 * w + d) y) j)), (fun j => nI ((ss_u D w al) j)), (fun j => nI ((ss_u K w 0) j)), (fun j => nI ((ss_u (ss_u P w an) y w) j)), (fun j => nI ((ss_u La w (La y)) j)), (fun j => nI ((ss_u Le w (Le y)) j)), (fun j => nI (F j)), (fun j => nI (pt j)), (fun j => nI (bd j)))) : wpX_splitActiveEdge post (0, nI ms, nI sy, nI hd, nI n, nI dc, nI fc, nI an, nI al, nI ps, nI lo, nI ml, th, tl, (fun j => nI (tx j)), (fun j => nI (C j)), (fun j => nI (D j)), (fun j => nI (K j)), (fun j => nI (P j)), (fun j => nI (La j)), (fun j => nI (Le j)), (fun j => nI (F j)), (fun j => nI (pt j)), (fun j => nI (bd j))) := by
  unfold wpX_splitActiveEdge
  refine xx_start h4 ?_
  refine xx_slot h1 h2 (by omega) hc ?_
  have yin := pk_in y 64 y64 rfl
  have win := pk_in w 64 (by omega) rfl
  have win2 := pk_in w 32 w32 rfl
  have sin := pk_in (4 * an + c) 128 (by omega) rfl
  refine And.intro sin (nm_r (e' := nI y) ?_ (nm_r (e' := nI (fc - 1)) (pk_sub (a := fc) (b := 1) (by omega)) (And.intro (pk_in (fc - 1) 32 (by omega) rfl) (nm_r (e' := nI w) ?_ ?_))))
  · rw [yy_rd C _ rfl (by omega), ey]
  · rw [yy_rd F _ rfl (by omega), ew]
  refine And.intro win2 (nm_r (e' := fun j => nI (ss_u D w al j)) ?_ (And.intro win2 (nm_r (e' := fun j => nI (ss_u K w 0 j)) ?_ ?_)))
  · rw [nI_clamp (by omega)]; exact ss_upd D _ _
  · rw [nI_clamp (by omega)]; exact ss_upd K _ 0
  refine And.intro yin (And.intro win (nm_r (e' := fun j => nI (ss_u La w (La y) j)) ?_ (And.intro yin (And.intro win (nm_r (e' := fun j => nI (ss_u Le w (Le y) j)) ?_ ?_)))))
  · rw [yy_rd La _ rfl (by omega), nI_clamp (by omega)]; exact ss_upd La _ _
  · rw [yy_rd Le _ rfl (by omega), nI_clamp (by omega)]; exact ss_upd Le _ _
  refine And.intro win (nm_r (e' := fun j => nI (ss_u P w an j)) ?_ (And.intro sin (nm_r (e' := fun j => nI (ss_u C (4 * an + c) w j)) ?_ ?_)))
  · rw [nI_clamp (by omega)]; exact ss_upd P _ _
  · rw [nI_clamp (by omega)]; exact ss_upd C _ _
  refine And.intro yin (nm_r (e' := fun j => nI (ss_u (ss_u P w an) y w j)) ?_ (And.intro yin ?_))
  · rw [nI_clamp (by omega)]; exact ss_upd _ _ _
  rw [yy_rd (ss_u La w (La y)) y rfl (by omega), ss_un La yw]
  refine xx_slot (c := d) (fc := fc - 1) (C := ss_u C (4 * an + c) w) (D := ss_u D w al) (K := ss_u K w 0) (P := ss_u (ss_u P w an) y w) (La := ss_u La w (La y)) (Le := ss_u Le w (Le y)) w32 (by rw [ss_us]; omega) (h7 y) (by rw [ss_us]; exact hd') ?_
  refine And.intro (pk_in (4 * w + d) 128 (by omega) rfl) (nm_r (e' := fun j => nI (ss_u (ss_u C (4 * an + c) w) (4 * w + d) y j)) ?_ hp)
  rw [nI_clamp (by omega)]; exact ss_upd _ _ _
end
end
section
def ss_BD (tx C D K P La F : Nat → Nat) : Prop := (∀ j, tx j < 4) ∧ (∀ j, C j < 64) ∧ (∀ j, D j < 64) ∧ (∀ j, K j < 32) ∧ (∀ j, P j < 32) ∧ (∀ j, La j < 4096) ∧ (∀ j, F j < 32)
theorem ss_ub {f : Nat → Nat} {k x b : Nat} (h : ∀ j, f j < b) (hx : x < b) : ∀ j, ss_u f k x j < b := by
  intro j
  by_cases e : j = k
  · rw [e, ss_us]; exact hx
  · rw [ss_un f e]; exact h j
theorem ss_slb {f : Nat → Nat} {l : List Nat} {x b : Nat} (h : ∀ j, f j < b) (hx : x < b) : ∀ j, ss_sl f l x j < b := by
  intro j
  by_cases e : j ∈ l
  · rw [ss_sl1 e]; exact hx
  · rw [ss_sl0 e]; exact h j
def ss_TR (T : Nat → Nat) (h a E : Nat) (A : Nat → Prop) (R D C P La Le K F : Nat → Nat) (fc pend : Nat) : Prop := ss_SI T h a E A R D C P 0 ∧ ss_LA T h a E A R D La ∧ ss_LE T h a E A R D Le ∧ ss_LK T A R D K pend ∧ ss_FR A F fc
section
variable {T T' : Nat → Nat} {h a E w L an pend fc v : Nat} {A : Nat → Prop} {R D C P La La' Le Le' K F : Nat → Nat} {x y z s t c : Nat} {l : List Nat}
theorem ss_fr_le (H : ss_FR A F fc) : fc ≤ 31 := by
  obtain ⟨f1, f2, f3⟩ := H
  refine ss_pig 31 fc (fun i => F i - 1) (fun i hi => ?_) (fun i j hi hj e => ?_)
  · have := f1 i hi
    show F i - 1 < 31
    omega
  · have e' : F i - 1 = F j - 1 := e
    have k1 := f1 i hi
    have k2 := f1 j hj
    exact f2 i j hi hj (by omega)
theorem ss_ac_up (I : ss_SI T h a E A R D C P 0) (H : ss_AC T h a L A R D an) (hE : E ≤ a + L + 1) : ∀ z, A z → ss_on T E R D a z → D z ≤ D an := by
  intro z az oz
  have k := ss_oi (I.2.2.1.2.2 z az) oz
  exact H.2 z az (by omega) k.2
theorem ss_tr3 (H : ss_TR T h a E A R D C P La Le K F fc pend) (hv : A v) (ov : ss_on T E R D a v) (e : C (4 * v + T (a + D v)) = 0) (hl : ∀ z, z ∈ l ↔ A z ∧ ss_on T E R D a z) : ss_TR T h (a + 1) E A R D (ss_u C (4 * v + T (a + D v)) (ss_lf a)) (ss_u P (ss_lf a) v) (ss_sl (ss_u La (ss_lf a) a) l a) (ss_al (ss_u Le (ss_lf a) 1) l 1) K F fc pend := by
  obtain ⟨h1, h2, h3, h4, h5⟩ := H
  obtain ⟨k1, k2, k3⟩ := ss_add h1 h2 h3 hv ov e (Or.inl rfl) hl
  exact ⟨k1, k2, k3, h4, h5⟩
theorem ss_tr4 {K2 : Nat → Nat} (H : ss_TR T h a (a + L + 1) A R D C P La Le K F fc pend) (HA : ss_AC T h a L A R D an) (hd : D an < L) (ey : C (4 * an + T (a + D an)) = y) (ew : F (fc - 1) = w) (ne : T (La y + L) ≠ T (a + L)) (k0 : K2 0 = 0) (kx : ∀ x, A x → x ≠ 0 → x ≠ pend → K2 x = K x) (kp : pend ≠ 0 → A pend ∧ K2 pend = w ∧ D pend = L + 1 ∧ h < a ∧ ss_eqs T (a - 1) (R pend) (L + 1)) : 0 < fc ∧ 0 < w ∧ w < 32 ∧ ¬ A w ∧ y ≠ w ∧ y < 64 ∧ T (a + D an) < 4 ∧ T (La y + L) < 4 ∧ h ≤ La y ∧ La y + L < a + L + 1 ∧ ∃ l0 : List Nat, ss_ch (ss_u (ss_u P w an) y w) w (an :: l0) ∧ (an :: l0).length ≤ 50 ∧ (w :: an :: l0).Nodup ∧ (∀ z, z ∈ w :: an :: l0 → z < 32) ∧ ss_TR T h (a + 1) (a + L + 1) (fun z => A z ∨ z = w) (ss_u R w a) (ss_u D w L) (ss_u (ss_u (ss_u C (4 * an + T (a + D an)) w) (4 * w + T (La y + L)) y) (4 * w + T (a + L)) (ss_lf a)) (ss_u (ss_u (ss_u P w an) y w) (ss_lf a) w) (ss_sl (ss_u (ss_u La w (La y)) (ss_lf a) a) (w :: an :: l0) a) (ss_al (ss_u (ss_u Le w (Le y)) (ss_lf a) 1) (w :: an :: l0) 1) K2 F (fc - 1) w := by
  obtain ⟨I, HL, HN, HK, HF⟩ := H
  obtain ⟨c4, y0, n1, dy, py, ed⟩ := ss_edge I HA (by omega) hd
  rw [ey] at y0 n1 dy py ed
  obtain ⟨l1, l2, l3, l4⟩ := HL y n1 y0
  have hb := I.1
  obtain ⟨f0, w0, w32, wA, HF'⟩ := ss_fr_pop I (by omega) HF
  rw [ew] at w0 w32 wA HF'
  have yw : y ≠ w := by
    intro z
    rw [z] at n1
    exact wA (ss_nda n1 w32)
  have H32 := I.2.2.1.2.2
  have a1 := HA.1.1
  have aw : ∀ x, A x → x ≠ w := fun x ax xw => wA (xw ▸ ax)
  have d4 : T (La y + L) < 4 := I.2.1 _ (by omega) (by omega)
  have hr : ∀ s, h ≤ s → s < a → ss_on T (a + L + 1) R D s y → s + L < a + L + 1 ∧ ss_eqs T s a L ∧ T (s + L) = T (La y + L) := by
    intro s s1 s2 so
    refine ⟨by omega, (ed s s1 s2).mp so, ?_⟩
    by_cases y32 : y < 32
    · have k1 := ss_oi y32 so
      have k2 := ss_oi y32 l3
      exact (ss_et k1.2 (ss_es k2.2)) L (dy y32)
    · have e := ss_oe (by omega) s1 s2 l1 l2 (by omega) so l3
      rw [e]
  have I1 := ss_split I a1 c4 ey y0 hd dy (by omega) w32 wA (show a + L ≤ a + L + 1 by omega) hr d4
  have L1 := ss_split_la (w := w) I a1 c4 ey y0 hd w32 hr HL
  have N1 := ss_split_le (w := w) I a1 c4 ey y0 hd w32 hr HN
  have K1 := ss_lk_split (L := L) (h := h) (a := a) HK I.2.2.1.1 wA k0 kx kp
  have ow : ss_on T (a + L + 1) (ss_u R w a) (ss_u D w L) a w := ss_io w32 (by rw [ss_us]; omega) (by rw [ss_us, ss_us]; exact ss_er)
  have a3 := HA.1.2.2.1
  have oan : ss_on T (a + L + 1) R D a an := ss_io (H32 an a1) (by omega) a3
  obtain ⟨l0, c1, c2, c3, c5, c6⟩ := ss_chl I a1 oan (ss_ac_up I HA (Nat.le_refl _))
  have memA : ∀ z, z ∈ an :: l0 → A z := fun z hz => ((c6 z).mp hz).1
  have wl : ¬ w ∈ an :: l0 := fun q => wA (memA w q)
  have yl : ¬ y ∈ an :: l0 := by
    intro q
    obtain ⟨q1, q2⟩ := (c6 y).mp q
    have y32 := c5 y q
    have := dy y32
    have := ss_ac_up I HA (Nat.le_refl _) y q1 q2
    omega
  have any : an ≠ y := fun q => yl (by rw [← q]; exact List.mem_cons_self)
  have anw : an ≠ w := aw an a1
  have ch1 : ss_ch (ss_u (ss_u P w an) y w) an l0 := ss_ch_u l0 an (ss_ch_u l0 an c1 anw (fun q => wl (List.mem_cons_of_mem _ q))) any (fun q => yl (List.mem_cons_of_mem _ q))
  have ch2 : ss_ch (ss_u (ss_u P w an) y w) w (an :: l0) := ⟨by omega, by rw [ss_un _ (fun q => yw q.symm), ss_us], ch1⟩
  have cz : ss_u (ss_u C (4 * an + T (a + D an)) w) (4 * w + T (La y + L)) y (4 * w + T (a + ss_u D w L w)) = 0 := by
    have q4 : T (a + L) < 4 := I.2.1 _ (by omega) (by omega)
    rw [ss_us, ss_un _ (fun q => ne (ss_slot q4 d4 q).2.symm), ss_un _ (ss_slx q4 c4 (fun q => anw q.symm))]
    exact I.2.2.2.2.2.2.2.2.1 w _ w32 wA q4
  have hl : ∀ z, z ∈ w :: an :: l0 ↔ (A z ∨ z = w) ∧ ss_on T (a + L + 1) (ss_u R w a) (ss_u D w L) a z := by
    intro z
    by_cases zw : z = w
    · rw [zw]
      exact ⟨fun _ => ⟨Or.inr rfl, ow⟩, fun _ => List.mem_cons_self⟩
    · rw [ss_split_on zw]
      constructor
      · intro q
        rcases List.mem_cons.mp q with q | q
        · exact absurd q zw
        · have k := (c6 z).mp q
          exact ⟨Or.inl k.1, k.2⟩
      · intro ⟨q1, q2⟩
        exact List.mem_cons_of_mem _ ((c6 z).mpr ⟨q1.elim id (fun k => absurd k zw), q2⟩)
  obtain ⟨s0, s1, s2, s3⟩ := ss_lv I n1 y0
  have sw := (ss_split_ow (w := w) I a1 c4 ey y0 hd w32 hr s1 s2).mpr s3
  obtain ⟨J1, J2, J3⟩ := ss_add I1 L1 N1 (v := w) (Or.inr rfl) ow cz (Or.inr ⟨rfl, s0, s1, s2, sw⟩) hl
  rw [ss_us] at J1
  refine ⟨f0, w0, w32, wA, yw, ss_nd64 H32 n1, c4, d4, l1, by omega, l0, ch2, by simp; omega, List.nodup_cons.mpr ⟨wl, c3⟩, ?_, J1, J2, J3, K1, HF'⟩
  intro z hz
  rcases List.mem_cons.mp hz with q | q
  · rw [q]; exact w32
  · exact c5 z q
end
end
section
theorem ss_A0_split {T : Nat → Nat} {h a L w an r d : Nat} {A : Nat → Prop} {R D : Nat → Nat} (anw : an ≠ w) (H : ss_A0 T h a L A R D an) : ss_A0 T h a L (fun z => A z ∨ z = w) (ss_u R w r) (ss_u D w d) an := by
  obtain ⟨a1, a2, a3, a4⟩ := H
  refine ⟨Or.inl a1, ?_, ?_, a4⟩
  · rw [ss_un D anw]; exact a2
  · rw [ss_un D anw, ss_un R anw]; exact a3
section
variable {ms sy hd n dc fc an al ps lo ml : Nat} {th tl : Int32} {tx C D K P La Le F pt bd : Nat → Nat}
theorem xx_ext_end {post : SX → Prop} {x1 x2 : Int32} {st f : Nat} (hs : st < 4096) (hp : post (0, nI ms, nI sy, nI hd, nI n, nI dc, nI fc, nI an, nI al, nI ps, nI lo, nI ml, th, tl, (fun j => nI (tx j)), (fun j => nI (C j)), (fun j => nI (D j)), (fun j => nI (K j)), (fun j => nI (P j)), (fun j => nI (La j)), (fun j => nI (Le j)), (fun j => nI (F j)), (fun j => nI (pt j)), (fun j => nI (bd j)))) : wX_extend_7 post x1 (f + 1) x2 0 (nI st) 0 (nI ms) (nI sy) (nI hd) (nI n) (nI dc) (nI fc) (nI an) (nI al) (nI ps) (nI lo) (nI ml) th tl (fun j => nI (tx j)) (fun j => nI (C j)) (fun j => nI (D j)) (fun j => nI (K j)) (fun j => nI (P j)) (fun j => nI (La j)) (fun j => nI (Le j)) (fun j => nI (F j)) (fun j => nI (pt j)) (fun j => nI (bd j)) :=
  pk_lt 32 st (fun _ => hp) (fun _ => br_t rfl hp)
theorem xx_e49 {post : SX → Prop} {x5 : Int32} {q pend st v f : Nat} {K' : Nat → Nat} (v32 : v < 32) (p32 : pend < 32) (an32 : an < 32) (k0 : pend = 0 → K' = K) (k1 : pend ≠ 0 → K' = ss_u K pend v) (hA : v = an → wX_extend_76 post (wX_extend_7 post (nI q) f) (nI q) (nI st) x5 (nI v) 0 0 (nI ms) (nI sy) (nI hd) (nI n) (nI dc) (nI fc) (nI an) (nI al) (nI ps) (nI lo) (nI ml) th tl (fun j => nI (tx j)) (fun j => nI (C j)) (fun j => nI (D j)) (fun j => nI (K' j)) (fun j => nI (P j)) (fun j => nI (La j)) (fun j => nI (Le j)) (fun j => nI (F j)) (fun j => nI (pt j)) (fun j => nI (bd j))) (hB : v ≠ an → wX_extend_76 post (wX_extend_7 post (nI q) f) (nI q) (nI st) x5 (nI v) (nI v) 0 (nI ms) (nI sy) (nI hd) (nI n) (nI dc) (nI fc) (nI an) (nI al) (nI ps) (nI lo) (nI ml) th tl (fun j => nI (tx j)) (fun j => nI (C j)) (fun j => nI (D j)) (fun j => nI (K' j)) (fun j => nI (P j)) (fun j => nI (La j)) (fun j => nI (Le j)) (fun j => nI (F j)) (fun j => nI (pt j)) (fun j => nI (bd j))) : wX_extend_49 post (wX_extend_7 post (nI q) f) (nI q) (nI pend) (nI st) x5 (nI v) 0 (nI ms) (nI sy) (nI hd) (nI n) (nI dc) (nI fc) (nI an) (nI al) (nI ps) (nI lo) (nI ml) th tl (fun j => nI (tx j)) (fun j => nI (C j)) (fun j => nI (D j)) (fun j => nI (K j)) (fun j => nI (P j)) (fun j => nI (La j)) (fun j => nI (Le j)) (fun j => nI (F j)) (fun j => nI (pt j)) (fun j => nI (bd j)) := by
  refine pk_eq pend 0 (fun e => ?_) (fun e => And.intro (pk_in pend 32 p32 rfl) (nm_r (e' := fun j => nI (K' j)) ?_ ?_))
  · rw [k0 e] at hA hB
    exact pk_eq v an hA hB
  · rw [nI_clamp (by omega), k1 e]; exact ss_upd K _ _
  · exact pk_eq v an hA hB
theorem xx_e76f {post : SX → Prop} {z0 x6 : Int32} {q st f : Nat} (hp : wX_extend_7 post (nI q) f z0 0 (nI (st + 1)) 0 (nI ms) (nI sy) (nI hd) (nI n) (nI dc) (nI fc) (nI an) (nI (al+1)) (nI ps) (nI lo) (nI ml) th tl (fun j => nI (tx j)) (fun j => nI (C j)) (fun j => nI (D j)) (fun j => nI (K j)) (fun j => nI (P j)) (fun j => nI (La j)) (fun j => nI (Le j)) (fun j => nI (F j)) (fun j => nI (pt j)) (fun j => nI (bd j))) : wX_extend_76 post (wX_extend_7 post (nI q) f) (nI q) (nI st) 1 x6 z0 0 (nI ms) (nI sy) (nI hd) (nI n) (nI dc) (nI fc) (nI an) (nI al) (nI ps) (nI lo) (nI ml) th tl (fun j => nI (tx j)) (fun j => nI (C j)) (fun j => nI (D j)) (fun j => nI (K j)) (fun j => nI (P j)) (fun j => nI (La j)) (fun j => nI (Le j)) (fun j => nI (F j)) (fun j => nI (pt j)) (fun j => nI (bd j)) :=
  br_f (by decide) (nm_r (nI_1 al) (nm_r (nI_1 st) hp))
theorem xx_e76p {post : SX → Prop} {T : Nat → Nat} {h a E : Nat} {A : Nat → Prop} {R : Nat → Nat} {q st f v s c z : Nat} {l : List Nat} (v32 : v < 32) (h2 : ∀ j, D j < 64) (hC : ∀ j, C j < 64) (h3 : hd + n < 4096) (al31 : al ≤ 31) (an32 : an < 32) (h4 : al ≤ hd + n) (hs : hd + n - al = s) (hc : tx ((s + D v) % 32) = c) (c4 : c < 4) (h6 : ∀ j, P j < 32) (ch : ss_ch P v l) (ln : l.length ≤ 50) (nd : (v :: l).Nodup) (l32 : ∀ z, z ∈ v :: l → z < 32) (p0 : al = 0 → wX_extend_7 post (nI q) f (nI z) 0 (nI (st + 1)) 0 (nI ms) (nI sy) (nI hd) (nI n) (nI dc) (nI fc) (nI an) (nI al) (nI ps) (nI lo) (nI ml) th tl (fun j => nI (tx j)) (fun j => nI ((ss_u C (4 * v + c) (ss_lf s)) j)) (fun j => nI (D j)) (fun j => nI (K j)) (fun j => nI ((ss_u P (ss_lf s) v) j)) (fun j => nI ((ss_sl (ss_u La (ss_lf s) s) (v :: l) s) j)) (fun j => nI ((ss_al (ss_u Le (ss_lf s) 1) (v :: l) 1) j)) (fun j => nI (F j)) (fun j => nI (pt j)) (fun j => nI (bd j))) (I : 0 < al → ss_SI T h a E A R D (ss_u C (4 * v + c) (ss_lf s)) (ss_u P (ss_lf s) v) 0) (H : 0 < al → ss_A0 T h a (al - 1) A R D (K an)) (hE : a + (al - 1) ≤ E) (hsa : 0 < al → hd + n = a + (al - 1)) (htx : ∀ i, h ≤ i → i < E → tx (i % 32) = T i) (p1 : 0 < al → ∀ an', ss_AC T h a (al - 1) A R D an' → wX_extend_7 post (nI q) f (nI z) 1 (nI (st + 1)) 0 (nI ms) (nI sy) (nI hd) (nI n) (nI dc) (nI fc) (nI an') (nI (al-1)) (nI ps) (nI lo) (nI ml) th tl (fun j => nI (tx j)) (fun j => nI ((ss_u C (4 * v + c) (ss_lf s)) j)) (fun j => nI (D j)) (fun j => nI (K j)) (fun j => nI ((ss_u P (ss_lf s) v) j)) (fun j => nI ((ss_sl (ss_u La (ss_lf s) s) (v :: l) s) j)) (fun j => nI ((ss_al (ss_u Le (ss_lf s) 1) (v :: l) 1) j)) (fun j => nI (F j)) (fun j => nI (pt j)) (fun j => nI (bd j))) : wX_extend_76 post (wX_extend_7 post (nI q) f) (nI q) (nI st) 0 (nI v) (nI z) 0 (nI ms) (nI sy) (nI hd) (nI n) (nI dc) (nI fc) (nI an) (nI al) (nI ps) (nI lo) (nI ml) th tl (fun j => nI (tx j)) (fun j => nI (C j)) (fun j => nI (D j)) (fun j => nI (K j)) (fun j => nI (P j)) (fun j => nI (La j)) (fun j => nI (Le j)) (fun j => nI (F j)) (fun j => nI (pt j)) (fun j => nI (bd j)) := by
  refine br_t rfl ?_
  refine xx_place (dl := 1) v32 h2 h3 h4 hs hc c4 h6 ch ln nd l32 ?_
  refine pk_le al 0 (fun e => ?_) (fun e => ?_)
  · refine br_t rfl (nm_r (nI_1 st) ?_)
    exact p0 (by omega)
  · refine br_f (by decide) ?_
    refine xx_suf (C := ss_u C (4 * v + c) (ss_lf s)) (P := ss_u P (ss_lf s) v) (La := ss_sl (ss_u La (ss_lf s) s) (v :: l) s) (Le := ss_al (ss_u Le (ss_lf s) 1) (v :: l) 1) an32 e ?_
    refine xx_canonize (I e) (H e) hE (hsa e) htx h2 (ss_ub hC (ss_lf_lt s)) h3 (fun an' ha => ?_)
    exact nm_r (nI_1 st) (p1 e an' ha)
theorem xx_ext7 {post : SX → Prop} {T : Nat → Nat} {h q : Nat} (q4 : q < 4) (h3 : hd + n + 1 < 4096) (htx : ∀ i, h ≤ i → i < hd + n + 1 → tx (i % 32) = T i) (tq : T (hd + n) = q) (hp : ∀ (a L an fc : Nat) (A : Nat → Prop) (R C D K P La Le : Nat → Nat), a + L = hd + n + 1 → ss_TR T h a (hd + n + 1) A R D C P La Le K F fc 0 → ss_A0 T h a L A R D an → ss_BD tx C D K P La F → post (0, nI ms, nI sy, nI hd, nI n, nI dc, nI fc, nI an, nI L, nI ps, nI lo, nI ml, th, tl, (fun j => nI (tx j)), (fun j => nI (C j)), (fun j => nI (D j)), (fun j => nI (K j)), (fun j => nI (P j)), (fun j => nI (La j)), (fun j => nI (Le j)), (fun j => nI (F j)), (fun j => nI (pt j)), (fun j => nI (bd j)))) : ∀ (L a an fc pend st : Nat) (A : Nat → Prop) (R C D K P La Le : Nat → Nat), a + L = hd + n → ss_TR T h a (a + L + 1) A R D C P La Le K F fc pend → ss_AC T h a L A R D an → (pend ≠ 0 → A pend ∧ D pend = L + 1 ∧ h < a ∧ ss_eqs T (a - 1) (R pend) (L + 1)) → ss_BD tx C D K P La F → st + L ≤ 32 → wX_extend_7 post (nI q) (L + 2) (nI pend) 1 (nI st) 0 (nI ms) (nI sy) (nI hd) (nI n) (nI dc) (nI fc) (nI an) (nI L) (nI ps) (nI lo) (nI ml) th tl (fun j => nI (tx j)) (fun j => nI (C j)) (fun j => nI (D j)) (fun j => nI (K j)) (fun j => nI (P j)) (fun j => nI (La j)) (fun j => nI (Le j)) (fun j => nI (F j)) (fun j => nI (pt j)) (fun j => nI (bd j)) := by
  intro L
  induction L using Nat.strongRecOn with
  | ind L ih =>
  intro a an fc pend st A R C D K P La Le hs TR HA hpend BD hst
  have TR' := TR
  obtain ⟨I, HL, HN, HK, HF⟩ := TR'
  have BD' := BD
  obtain ⟨b1, b2, b3, b4, b5, b6, b7⟩ := BD'
  have H32 := I.2.2.1.2.2
  have HA' := HA
  obtain ⟨⟨a1, a2, a3, a4⟩, a5⟩ := HA'
  have an32 := H32 an a1
  have hb := I.1
  have al31 : L ≤ 31 := by omega
  have ea : hd + n - L = a := by omega
  have eE : a + L + 1 = hd + n + 1 := by omega
  have tq' : T (a + L) = q := by rw [hs]; exact tq
  have p32 : pend < 32 := by
    by_cases p0 : pend = 0
    · omega
    · exact H32 _ (hpend p0).1
  have c4 : T (a + D an) < 4 := I.2.1 _ (by omega) (by omega)
  have tx1 : ∀ i, h ≤ i → i < a + L + 1 → tx (i % 32) = T i := fun i i1 i2 => htx i i1 (by omega)
  have lks : D an = L → ∀ K', (pend = 0 → K' = K) → (pend ≠ 0 → K' = ss_u K pend an) → ss_LK T A R D K' 0 ∧ ∀ j, K' j < 32 := by
    intro dl K' k0 k1
    by_cases p0 : pend = 0
    · rw [k0 p0]
      rw [p0] at HK
      exact ⟨HK, b4⟩
    · obtain ⟨q1, q2, q3, q5⟩ := hpend p0
      rw [k1 p0]
      exact ⟨ss_lk_set HK p0 q2 q3 q5 a1 dl (by rw [dl] at a3; exact a3), ss_ub b4 an32⟩
  have exK : ∀ (K : Nat → Nat) (v : Nat), ∃ K' : Nat → Nat, (pend = 0 → K' = K) ∧ (pend ≠ 0 → K' = ss_u K pend v) := by
    intro K v
    by_cases p0 : pend = 0
    · exact ⟨K, fun _ => rfl, fun z => absurd p0 z⟩
    · exact ⟨ss_u K pend v, fun z => absurd z p0, fun _ => rfl⟩
  refine pk_lt 32 st (fun z => absurd z (by omega)) (fun _ => br_f (by decide) ?_)
  refine xx_fol (c := T (a + D an)) an32 (b3 an) (by omega) (by omega) (fun _ => by rw [ea]; exact tx1 _ (by omega) (by omega)) c4 q4 b1 b2 b6 (fun e ec => ?_) (fun e ec => ?_) (fun e ec => ?_) (fun e ec => ?_)
  · refine br_t rfl ?_
    refine xx_explicit an32 (b3 an) (by omega) (fun _ => br_f (by decide) ?_) (fun z => absurd e z)
    obtain ⟨K', k0, k1⟩ := exK K an
    obtain ⟨LK', bK'⟩ := lks e.symm K' k0 k1
    refine xx_e49 an32 p32 an32 k0 k1 (fun _ => ?_) (fun z => absurd rfl z)
    have oan : ss_on T (a + L + 1) R D a an := ss_io an32 (by omega) a3
    obtain ⟨l, c1, c2, c3, c5, c6⟩ := ss_chl I a1 oan (ss_ac_up I HA (Nat.le_refl _))
    have ec' : C (4 * an + T (a + D an)) = 0 := by rw [← e, tq']; exact ec
    have TR2 := ss_tr3 (l := an :: l) (⟨I, HL, HN, LK', HF⟩ : ss_TR T h a (a + L + 1) A R D C P La Le K' F fc 0) a1 oan ec' c6
    have eq' : T (a + D an) = q := by rw [← e]; exact tq'
    rw [eq'] at TR2
    have BD2 : ss_BD tx (ss_u C (4 * an + q) (ss_lf a)) D K' (ss_u P (ss_lf a) an) (ss_sl (ss_u La (ss_lf a) a) (an :: l) a) F := ⟨b1, ss_ub b2 (ss_lf_lt a), b3, bK', ss_ub b5 an32, ss_slb (ss_ub b6 (by omega)) (by omega), b7⟩
    refine xx_e76p (z := 0) (T := T) (h := h) (a := a + 1) (E := a + L + 1) (A := A) (R := R) (K := K') (l := l) an32 b3 b2 (by omega) al31 an32 (by omega) ea (by rw [tx1 _ (by omega) (by omega)]; exact eq') q4 b5 c1 (by omega) c3 c5 (fun L0 => ?_) (fun L0 => TR2.1) (fun L0 => ?_) (by omega) (fun L0 => by omega) tx1 (fun L0 an' HA2 => ?_)
    · refine xx_ext_end (by omega) ?_
      refine hp (a + 1) L an fc A R _ D K' _ _ _ (by omega) (by rw [← eE]; exact TR2) ⟨a1, a2, ?_, Or.inl L0⟩ BD2
      have dz : D an = 0 := by omega
      rw [dz]; exact ss_e0
    · exact ss_A0_h (Nat.le_succ h) (ss_suf HA.1 LK' I.2.2.1.2.1 I.2.2.1.1 L0 (Decidable.em (an = 0)))
    · have ih2 := ih (L - 1) (by omega) (a + 1) an' fc 0 (st + 1) A R (ss_u C (4 * an + q) (ss_lf a)) D K' (ss_u P (ss_lf a) an) (ss_sl (ss_u La (ss_lf a) a) (an :: l) a) (ss_al (ss_u Le (ss_lf a) 1) (an :: l) 1) (by omega) (by rw [show a + 1 + (L - 1) + 1 = a + L + 1 by omega]; exact TR2) HA2 (fun z => absurd rfl z) BD2 (by omega)
      rw [show L - 1 + 2 = L + 1 by omega] at ih2
      exact ih2
  · refine br_f (by decide) ?_
    obtain ⟨K', k0, k1⟩ := exK K an
    obtain ⟨LK', bK'⟩ := lks e.symm K' k0 k1
    refine xx_e49 an32 p32 an32 k0 k1 (fun _ => ?_) (fun z => absurd rfl z)
    refine xx_e76f (xx_ext_end (by omega) ?_)
    obtain ⟨n1, n2, n3, ⟨s, s1, s2, so, sx, sc⟩, n5⟩ := I.2.2.2.2.2.2.1 an q _ a1 q4 rfl ec
    have ks := ss_oi an32 sx
    rw [← e] at ks sc a3
    refine hp a (L + 1) an fc A R C D K' P La Le (by omega) (by rw [← eE]; exact ⟨I, HL, HN, LK', HF⟩) ⟨a1, by omega, by rw [← e]; exact a3, Or.inr ⟨s, s1, s2, ss_e1 (ss_et ks.2 (ss_es a3)) (by rw [sc, tq'])⟩⟩ ⟨b1, b2, b3, bK', b5, b6, b7⟩
  · refine br_t rfl ?_
    refine xx_explicit an32 (b3 an) (by omega) (fun z => absurd z e) (fun _ => br_t rfl ?_)
    have dl : D an < L := by omega
    obtain ⟨g1, g2, g3, g4, g5, g6⟩ := ss_edge I HA (by omega) dl
    obtain ⟨l1, l2, l3, l4⟩ := HL _ g3 g2
    have ne : T (La (C (4 * an + T (a + D an))) + L) ≠ T (a + L) := by
      rw [tx1 _ (by omega) (by omega)] at ec
      rw [tq']; exact ec
    obtain ⟨K', k0, k1⟩ := exK (ss_u K (F (fc - 1)) 0) (F (fc - 1))
    have fw := ss_fr_pop I (by omega) HF
    have aw : ∀ x, A x → x ≠ F (fc - 1) := fun x ax xw => fw.2.2.2.1 (xw ▸ ax)
    have kk0 : K' 0 = 0 := by
      have w0 : (0 : Nat) ≠ F (fc - 1) := by omega
      by_cases p0 : pend = 0
      · rw [k0 p0, ss_un K w0]; exact HK.1
      · rw [k1 p0, ss_un _ (fun z => p0 z.symm), ss_un K w0]; exact HK.1
    have kkx : ∀ x, A x → x ≠ 0 → x ≠ pend → K' x = K x := by
      intro x ax x0 xp
      by_cases p0 : pend = 0
      · rw [k0 p0, ss_un K (aw x ax)]
      · rw [k1 p0, ss_un _ xp, ss_un K (aw x ax)]
    have kkp : pend ≠ 0 → A pend ∧ K' pend = F (fc - 1) ∧ D pend = L + 1 ∧ h < a ∧ ss_eqs T (a - 1) (R pend) (L + 1) := by
      intro p0
      obtain ⟨q1, q2, q3, q5⟩ := hpend p0
      exact ⟨q1, by rw [k1 p0, ss_us], q2, q3, q5⟩
    have bK' : ∀ j, K' j < 32 := by
      by_cases p0 : pend = 0
      · rw [k0 p0]; exact ss_ub b4 (by omega)
      · rw [k1 p0]; exact ss_ub (ss_ub b4 (by omega)) fw.2.2.1
    obtain ⟨f0, w0, w32, wA, yw, y64, t4, d4, hly, hly2, l0, ch2, ln, nd, l32, TR2⟩ := ss_tr4 TR HA dl rfl rfl ne kk0 kkx kkp
    have fle := ss_fr_le HF
    refine xx_split (c := T (a + D an)) (d := T (La (C (4 * an + T (a + D an))) + L)) an32 (b3 an) (by omega) (by omega) (by rw [ea]; exact tx1 _ (by omega) (by omega)) c4 rfl y64 al31 b6 f0 (by omega) rfl w32 yw (tx1 _ (by omega) hly2) d4 ?_
    refine xx_e49 (K := ss_u K (F (fc - 1)) 0) (K' := K') w32 p32 an32 k0 k1 (fun z => absurd z.symm (aw an a1)) (fun _ => ?_)
    have D2 : ∀ j, ss_u D (F (fc - 1)) L j < 64 := ss_ub b3 (by omega)
    have C2 : ∀ j, ss_u (ss_u C (4 * an + T (a + D an)) (F (fc - 1))) (4 * F (fc - 1) + T (La (C (4 * an + T (a + D an))) + L)) (C (4 * an + T (a + D an))) j < 64 := ss_ub (ss_ub b2 (by omega)) y64
    have P2 : ∀ j, ss_u (ss_u P (F (fc - 1)) an) (C (4 * an + T (a + D an))) (F (fc - 1)) j < 32 := ss_ub (ss_ub b5 an32) w32
    rw [tq'] at TR2
    have BD2 := (⟨b1, ss_ub C2 (ss_lf_lt a), D2, bK', ss_ub P2 w32, ss_slb (ss_ub (ss_ub b6 (b6 (C (4 * an + T (a + D an))))) (by omega)) (by omega), b7⟩ : ss_BD tx (ss_u (ss_u (ss_u C (4 * an + T (a + D an)) (F (fc - 1))) (4 * F (fc - 1) + T (La (C (4 * an + T (a + D an))) + L)) (C (4 * an + T (a + D an)))) (4 * F (fc - 1) + q) (ss_lf a)) (ss_u D (F (fc - 1)) L) K' (ss_u (ss_u (ss_u P (F (fc - 1)) an) (C (4 * an + T (a + D an))) (F (fc - 1))) (ss_lf a) (F (fc - 1))) (ss_sl (ss_u (ss_u La (F (fc - 1)) (La (C (4 * an + T (a + D an))))) (ss_lf a) a) (F (fc - 1) :: an :: l0) a) F)
    refine xx_e76p (z := F (fc - 1)) (T := T) (h := h) (a := a + 1) (E := a + L + 1) (A := fun z => A z ∨ z = F (fc - 1)) (R := ss_u R (F (fc - 1)) a) (K := K') (l := an :: l0) (D := ss_u D (F (fc - 1)) L) (La := ss_u La (F (fc - 1)) (La (C (4 * an + T (a + D an))))) (Le := ss_u Le (F (fc - 1)) (Le (C (4 * an + T (a + D an))))) w32 D2 C2 (by omega) al31 an32 (by omega) ea (by rw [ss_us, tx1 _ (by omega) (by omega)]; exact tq') q4 P2 ch2 ln nd l32 (fun L0 => by omega) (fun L0 => TR2.1) (fun L0 => ?_) (by omega) (fun L0 => by omega) tx1 (fun L0 an' HA2 => ?_)
    · exact ss_A0_h (Nat.le_succ h) (ss_suf (ss_A0_split (aw an a1) HA.1) TR2.2.2.2.1 (by rw [ss_un D (by omega)]; exact I.2.2.1.2.1) (Or.inl I.2.2.1.1) L0 (Or.inr (aw an a1)))
    · have ih2 := ih (L - 1) (by omega) (a + 1) an' (fc - 1) (F (fc - 1)) (st + 1) _ _ _ _ K' _ _ _ (by omega) (by rw [show a + 1 + (L - 1) + 1 = a + L + 1 by omega]; exact TR2) HA2 (fun _ => ⟨Or.inr rfl, by rw [ss_us]; omega, by omega, by rw [ss_us, show L - 1 + 1 = L by omega]; exact ss_er⟩) BD2 (by omega)
      rw [show L - 1 + 2 = L + 1 by omega] at ih2
      exact ih2
  · refine br_f (by decide) ?_
    have dl : D an < L := by omega
    obtain ⟨g1, g2, g3, g4, g5, g6⟩ := ss_edge I HA (by omega) dl
    obtain ⟨l1, l2, l3, l4⟩ := HL _ g3 g2
    rw [tx1 _ (by omega) (by omega)] at ec
    have p0 : pend = 0 := by
      by_cases p0 : pend = 0
      · exact p0
      · obtain ⟨q1, q2, q3, q5⟩ := hpend p0
        exact absurd (ec.trans tq'.symm) (ss_pend I HA HL dl q1 p0 q2 q3 q5)
    rw [p0] at HK
    refine xx_e49 (K' := K) an32 p32 an32 (fun _ => rfl) (fun z => absurd p0 z) (fun _ => ?_) (fun z => absurd rfl z)
    refine xx_e76f (xx_ext_end (by omega) ?_)
    refine hp a (L + 1) an fc A R C D K P La Le (by omega) (by rw [← eE]; exact ⟨I, HL, HN, HK, HF⟩) ⟨a1, by omega, a3, Or.inr ⟨_, l1, l2, ss_e1 ((g6 _ l1 l2).mp l3) (ec.trans tq'.symm)⟩⟩ BD
end
end
section
section
variable {T T' : Nat → Nat} {h a E w L an pend fc v : Nat} {A : Nat → Prop} {R D C P La La' Le Le' K F : Nat → Nat} {x y z s t c : Nat} {l : List Nat}
theorem ss_ac_sub (H : ss_AC T h a L A R D an) (ex : L = 0 ∨ ∃ q, h + 1 ≤ q ∧ q < a ∧ ss_eqs T q a L) : ss_AC T (h + 1) a L A R D an :=
  ⟨⟨H.1.1, H.1.2.1, H.1.2.2.1, ex⟩, H.2⟩
theorem ss_rep (H : ss_TR T h a E A R D C P La Le K F fc 0) (HA : ss_AC T h a L A R D an) (hE : a + L = E) (ha : h < a) (hd : D an < L) (e : C (4 * an + T (a + D an)) = ss_lf h) : ∃ l : List Nat, ss_ch P an l ∧ l.length ≤ 32 ∧ (an :: l).Nodup ∧ (∀ z, z ∈ an :: l → z < 32) ∧ T (a + D an) < 4 ∧ ss_TR T (h + 1) (a + 1) E A R D (ss_u C (4 * an + T (a + D an)) (ss_lf a)) (ss_u P (ss_lf a) an) (ss_sl (ss_u La (ss_lf a) a) (an :: l) a) (ss_al (ss_u Le (ss_lf a) 1) (an :: l) 0) K F fc 0 ∧ ss_A0 T (h + 1) (a + 1) (L - 1) A R D (K an) := by
  obtain ⟨I, HL, HN, HK, HF⟩ := H
  obtain ⟨c4, y0, n1, dy, py, ed⟩ := ss_edge I HA (by omega) hd
  rw [e] at y0 n1 dy py ed
  have H32 := I.2.2.1.2.2
  have a1 := HA.1.1
  have an32 := H32 an a1
  have a3 := HA.1.2.2.1
  have oa : ss_on T E R D a an := ss_io an32 (by omega) a3
  have up := ss_ac_up I HA (by omega)
  obtain ⟨l, c1, c2, c3, c5, c6⟩ := ss_chl I a1 oa up
  have lp := ss_lp I (Nat.le_refl h) ha
  rw [py] at lp
  have hv := ss_hv I ha
  rw [py] at hv
  have c7 : ∀ z, z ∈ an :: l ↔ A z ∧ ss_on T E R D h z := fun z => (c6 z).trans ((ss_anc H32 a1 oa up z).symm.trans (ss_anc H32 a1 lp.2.1 hv z))
  have eh : ss_eqs T h a L := (ed h (Nat.le_refl h) ha).mp (ss_ol h)
  have ec : T (h + D an) = T (a + D an) := eh _ hd
  obtain ⟨J1, J2, J3, pos⟩ := ss_sub I ha HL HN py c7
  rw [ec] at J1
  have hw : an = 0 ∨ (an = an ∧ ∃ s, h + 1 ≤ s ∧ s < a ∧ ss_on T E R D s an) := by
    by_cases an0 : an = 0
    · exact Or.inl an0
    · obtain ⟨t, t1, t2, t3, t4⟩ := ss_oth I h a1 an0 an0
      exact Or.inr ⟨rfl, t, by omega, t2, t4⟩
  obtain ⟨M1, M2, M3⟩ := ss_add J1 J2 J3 a1 oa (ss_us _ _ _) hw c6
  rw [ss_uu] at M1
  have lf' : ss_al (ss_u (ss_dl Le (an :: l)) (ss_lf a) 1) (an :: l) 1 = ss_al (ss_u Le (ss_lf a) 1) (an :: l) 0 := by
    funext j
    by_cases q : j ∈ an :: l
    · have j32 := c5 j q
      have jl : j ≠ ss_lf a := by have := ss_lf_ge a; omega
      have p := pos j q
      rw [ss_al1 q, ss_al1 q, ss_un _ jl, ss_un _ jl, ss_dl1 q]
      omega
    · rw [ss_al0 q, ss_al0 q]
      by_cases jl : j = ss_lf a
      · rw [jl, ss_us, ss_us]
      · rw [ss_un _ jl, ss_un _ jl, ss_dl0 q]
  rw [lf'] at M3
  refine ⟨l, c1, c2, c3, c5, c4, ⟨M1, M2, M3, HK, HF⟩, ?_⟩
  exact ss_suf HA.1 HK I.2.2.1.2.1 I.2.2.1.1 (by omega) (Decidable.em (an = 0))
theorem ss_exc (I : ss_SI T h a E A R D C P v) (av : A v) (ex : v = 0 ∨ ((∀ d, d < 4 → C (4 * v + d) ≠ 0 → ∃ c, c < 4 ∧ c ≠ d ∧ C (4 * v + c) ≠ 0) ∧ ∃ s, h ≤ s ∧ s < a ∧ ss_on T E R D s v)) : ss_SI T h a E A R D C P 0 := by
  have I' := I
  obtain ⟨hb, hT, h0, hrr, hR, hzz, hcc, hp, hf, hbr⟩ := I
  refine ⟨hb, hT, h0, hrr, hR, hzz, hcc, hp, hf, fun x ax x0 _ => ?_⟩
  by_cases xv : x = v
  · rcases ex with ex | ⟨ex, s, s1, s2, so⟩
    · exact absurd (xv.trans ex) x0
    · rw [xv]
      have c4 := ss_c4 I' av s1 so
      have y0 : C (4 * v + T (s + D v)) ≠ 0 := fun z => hzz v _ av c4 z s s1 s2 so rfl
      obtain ⟨c, c4', ce, cn⟩ := ex _ c4 y0
      obtain ⟨n1, n2, n3, ⟨t, t1, t2, to, tx, tc⟩, n5⟩ := hcc v c _ av c4' rfl cn
      exact ⟨s, t, s1, s2, t1, t2, so, tx, by rw [tc]; exact fun z => ce z.symm⟩
  · exact hbr x ax x0 xv
theorem ss_rmv (H : ss_TR T h a E A R D C P La Le K F fc 0) (HA : ss_AC T h a L A R D an) (hE : a + L = E) (ha : h < a) (ne : ¬ (D an < L ∧ C (4 * an + T (a + D an)) = ss_lf h)) (ev : P (ss_lf h) = v) : A v ∧ v < 32 ∧ T (h + D v) < 4 ∧ La (ss_lf h) = h ∧ ∃ l : List Nat, ss_ch P v l ∧ l.length ≤ 32 ∧ (v :: l).Nodup ∧ (∀ z, z ∈ v :: l → 0 < Le z) ∧ ss_SI T (h + 1) a E A R D (ss_u C (4 * v + T (h + D v)) 0) P v ∧ ss_LA T (h + 1) a E A R D La ∧ ss_LE T (h + 1) a E A R D (ss_dl Le (v :: l)) ∧ (L = 0 ∨ ∃ q, h + 1 ≤ q ∧ q < a ∧ ss_eqs T q a L) ∧ (v ≠ 0 → ∃ s, h + 1 ≤ s ∧ s < a ∧ ss_on T E R D s v) := by
  obtain ⟨I, HL, HN, HK, HF⟩ := H
  have H32 := I.2.2.1.2.2
  obtain ⟨k1, k2, k3, k4⟩ := ss_lp I (Nat.le_refl h) ha
  have hv := ss_hv I ha
  rw [ev] at k1 k2 k3 k4 hv
  obtain ⟨l, c1, c2, c3, c5, c6⟩ := ss_chl I k1 k2 hv
  obtain ⟨J1, J2, J3, pos⟩ := ss_sub I ha HL HN ev c6
  have ll : La (ss_lf h) = h := by
    have lg := ss_lf_ge h
    obtain ⟨q1, q2, q3, q4⟩ := HL (ss_lf h) (Or.inr ⟨h, Nat.le_refl h, ha, rfl⟩) (by omega)
    exact ss_oe (h := h) (a := a) (by have := I.1; omega) q1 q2 (Nat.le_refl h) ha lg q3 (ss_ol h)
  refine ⟨k1, H32 v k1, k3, ll, l, c1, c2, c3, pos, J1, J2, J3, ss_act2 I HA (by omega) ne, fun v0 => ?_⟩
  obtain ⟨t, t1, t2, t3, t4⟩ := ss_oth I h k1 v0 v0
  exact ⟨t, by omega, t2, t4⟩
theorem ss_mrg {C1 Le1 : Nat → Nat} {d : Nat} (I0 : ss_SI T h a E A R D C P 0) (HA : ss_AC T h a L A R D an) (hE : a + L = E) (av : A v) (v0 : v ≠ 0) (J1 : ss_SI T (h + 1) a E A R D C1 P v) (J2 : ss_LA T (h + 1) a E A R D La) (J3 : ss_LE T (h + 1) a E A R D Le1) (HK : ss_LK T A R D K 0) (HF : ss_FR A F fc) (ex : L = 0 ∨ ∃ q, h + 1 ≤ q ∧ q < a ∧ ss_eqs T q a L) (d4 : d < 4) (y0 : C1 (4 * v + d) ≠ 0) (on1 : ∀ c, c < 4 → c ≠ d → C1 (4 * v + c) = 0) : ∃ cw, cw < 4 ∧ fc < 31 ∧ P v < 32 ∧ C1 (4 * v + d) < 64 ∧ h + 1 ≤ La (C1 (4 * v + d)) ∧ La (C1 (4 * v + d)) + D v < E ∧ T (La (C1 (4 * v + d)) + D v) = d ∧ La (C1 (4 * v + d)) + D (P v) < E ∧ T (La (C1 (4 * v + d)) + D (P v)) = cw ∧ ss_TR T (h + 1) a E (fun z => A z ∧ z ≠ v) R D (ss_u (ss_u C1 (4 * v + d) 0) (4 * P v + cw) (C1 (4 * v + d))) (ss_u P (C1 (4 * v + d)) (P v)) La Le1 K (ss_u F fc v) (fc + 1) 0 ∧ (an = v → ss_AC T (h + 1) a L (fun z => A z ∧ z ≠ v) R D (P v)) ∧ (an ≠ v → ss_AC T (h + 1) a L (fun z => A z ∧ z ≠ v) R D an) := by
  have H32 := J1.2.2.1.2.2
  have v32 := H32 v av
  obtain ⟨n1, n2, n3, ⟨p, p1, p2, po, px, pc⟩, n5⟩ := J1.2.2.2.2.2.2.1 v d _ av d4 rfl y0
  obtain ⟨l1, l2, l3, l4⟩ := J2 _ n1 y0
  obtain ⟨lx, lc⟩ := ss_L1 J1 av d4 rfl y0 l1 l2 l3
  obtain ⟨cw, cw4, ax, ew, dp, s0, s1, s2, s3, s4, s5⟩ := ss_par J1 (Or.inl ⟨v32, av⟩) v0
  have dp := dp v32
  obtain ⟨lx2, lc2⟩ := ss_L1 J1 ax cw4 ew v0 l1 l2 lx
  have x32 := H32 _ ax
  have kv := ss_oi v32 lx
  have kx := ss_oi x32 lx2
  have M1 := ss_merge J1 av v0 d4 rfl y0 on1 rfl cw4 ew
  have allD : ∀ s, h + 1 ≤ s → s < a → ss_on T E R D s v → T (s + D v) = d := by
    intro s s1 s2 so
    by_cases z : T (s + D v) = d
    · exact z
    · have c4 := ss_c4 J1 av s1 so
      exact absurd rfl (J1.2.2.2.2.2.1 v _ av c4 (on1 _ c4 z) s s1 s2 so)
  have K1 := ss_lk_merge (L := L) J1 HK av v0 hE ex allD
  obtain ⟨f31, F1⟩ := ss_fr_push HF av (Nat.pos_of_ne_zero v0) v32
  refine ⟨cw, cw4, f31, x32, ss_nd64 H32 n1, l1, kv.1, lc, kx.1, lc2, ⟨M1, ss_merge_la J2, ss_merge_le J3, K1, F1⟩, fun e => ?_, fun e => ?_⟩
  · rw [e] at HA
    obtain ⟨⟨a1, a2, a3, a4⟩, a5⟩ := HA
    have xv : P v ≠ v := fun z => by rw [z] at dp; omega
    have exv : ss_eqs T (R (P v)) (R v) (D (P v)) := ss_et (ss_es kx.2) (ss_em kv.2 (by omega))
    refine ⟨⟨⟨ax, xv⟩, by omega, ss_et (ss_em a3 (by omega)) (ss_es exv), ex⟩, fun z az dz ez => ?_⟩
    have dzv := a5 z az.1 dz ez
    have z32 := H32 z az.1
    have tz : ss_on T E R D (La (C1 (4 * v + d))) z := ss_io z32 (by omega) (ss_et (ss_em (ss_et kv.2 (ss_es a3)) dzv) ez)
    have dne : D z ≠ D v := fun q => az.2 (ss_L3 I0 (D v) z v _ q rfl az.1 av (Or.inl rfl) (by omega) l2 tz lx)
    by_cases q : D z ≤ D (P v)
    · exact q
    · have z0 : z ≠ 0 := by
        intro e0
        rw [e0, I0.2.2.1.2.1] at q
        omega
      obtain ⟨cw', cw4', ax', ew', _⟩ := ss_par I0 (Or.inl ⟨v32, av⟩) v0
      have := ss_L2 I0 ax' cw4' ew' v0 az.1 z0 z0 (by omega) (by omega) l2 tz lx
      omega
  · obtain ⟨⟨a1, a2, a3, a4⟩, a5⟩ := HA
    exact ⟨⟨⟨a1, e⟩, a2, a3, ex⟩, fun z az dz ez => a5 z az.1 dz ez⟩
end
end
section
def ss_IN (T : Nat → Nat) (A : Nat → Prop) (R : Nat → Nat) (a hd n dc fc an al : Nat) (tx C D K P La Le F : Nat → Nat) : Prop := a + al = hd + n ∧ ss_TR T hd a (hd + n) A R D C P La Le K F fc 0 ∧ ss_AC T hd a al A R D an ∧ (∀ i, hd ≤ i → i < hd + n → tx (i % 32) = T i) ∧ ss_BD tx C D K P La F ∧ dc = ss_ds T hd (hd + n)
section
variable {ms sy hd n dc fc an al ps lo ml : Nat} {th tl : Int32} {tx C D K P La Le F pt bd : Nat → Nat}
theorem xx_addNewest {post : SX → Prop} {T : Nat → Nat} {A : Nat → Prop} {R : Nat → Nat} {a q : Nat} (H : ss_IN T A R a hd n dc fc an al tx C D K P La Le F) (n31 : n ≤ 31) (q4 : q < 4) (h3 : hd + n + 1 < 4096) (hp : ∀ (T' : Nat → Nat) (A : Nat → Prop) (R : Nat → Nat) (a dc fc an al : Nat) (tx C D K P La Le : Nat → Nat), (∀ i, i < hd + n → T' i = T i) → T' (hd + n) = q → ss_IN T' A R a hd (n + 1) dc fc an al tx C D K P La Le F → post (0, nI ms, nI sy, nI hd, (nI (n+1)), nI dc, nI fc, nI an, nI al, nI ps, nI lo, nI ml, th, tl, (fun j => nI (tx j)), (fun j => nI (C j)), (fun j => nI (D j)), (fun j => nI (K j)), (fun j => nI (P j)), (fun j => nI (La j)), (fun j => nI (Le j)), (fun j => nI (F j)), (fun j => nI (pt j)), (fun j => nI (bd j)))) : wpX_addNewest post (0, nI ms, nI sy, nI hd, nI n, nI dc, nI fc, nI an, nI al, nI ps, nI lo, nI ml, th, tl, (fun j => nI (tx j)), (fun j => nI (C j)), (fun j => nI (D j)), (fun j => nI (K j)), (fun j => nI (P j)), (fun j => nI (La j)), (fun j => nI (Le j)), (fun j => nI (F j)), (fun j => nI (pt j)), (fun j => nI (bd j))) (nI q) := by
  obtain ⟨hs, ⟨I, HL, HN, HK, HF⟩, HA, htx, ⟨b1, b2, b3, b4, b5, b6, b7⟩, hdc⟩ := H
  have sl : (nI hd + nI n) &&& 31 = nI ((hd + n) % 32) := by rw [nI_add, xx_and (by omega)]
  refine And.intro (pk_in ((hd + n) % 32) 32 (by omega) sl) (nm_r (e' := fun j => nI (ss_u tx ((hd + n) % 32) q j)) ?_ ⟨al + 2, ?_⟩)
  · rw [sl, nI_clamp (by omega)]; exact ss_upd tx _ _
  have hT' : ∀ i, i < hd + n → ss_u T (hd + n) q i = T i := fun i hi => ss_un T (by omega)
  have hTe : ss_u T (hd + n) q (hd + n) = q := ss_us _ _ _
  have htx' : ∀ i, hd ≤ i → i < hd + n + 1 → ss_u tx ((hd + n) % 32) q (i % 32) = ss_u T (hd + n) q i := by
    intro i i1 i2
    by_cases e : i = hd + n
    · rw [e, ss_us, ss_us]
    · rw [ss_un tx (by omega), ss_un T e]
      exact htx i i1 (by omega)
  have bt := ss_ub (k := (hd + n) % 32) b1 q4
  have hR := I.2.2.2.2.1
  have G1 := ss_grow I hT' (by rw [hTe]; exact q4) (by omega)
  have G2 := ss_grow_la I hT' HL
  have G3 := ss_grow_le I hT' HN
  have G4 := ss_lk_grow hT' hR HK
  have G5 := ss_ac_grow hT' hR (by omega) HA
  have TR1 : ss_TR (ss_u T (hd + n) q) hd a (a + al + 1) A R D C P La Le K F fc 0 := by
    rw [hs]; exact ⟨G1, G2, G3, G4, HF⟩
  refine xx_ext7 (tx := ss_u tx ((hd + n) % 32) q) (T := ss_u T (hd + n) q) (h := hd) q4 h3 htx' hTe (fun a L an fc A R C D K P La Le e TR HA0 BD => ?_) al a an fc 0 0 A R C D K P La Le hs TR1 G5 (fun z => absurd rfl z) ⟨bt, b2, b3, b4, b5, b6, b7⟩ (by have := I.1; omega)
  refine nm_r (nI_1 n) ?_
  refine xx_canonize (T := ss_u T (hd + n) q) (h := hd) (a := a) (E := hd + n + 1) TR.1 HA0 (by omega) (by omega) htx' BD.2.2.1 BD.2.1 (by omega) (fun an' HA2 => ?_)
  have hb := TR.1.1
  refine nm_r (e' := nI (dc + (n + 1 - L))) (by rw [pk_sub (by omega), nI_add]) ?_
  refine hp (ss_u T (hd + n) q) A R a (dc + (n + 1 - L)) fc an' L _ C D K P La Le hT' hTe ⟨by omega, TR, HA2, htx', BD, ?_⟩
  obtain ⟨f1, f2⟩ := ss_first TR.1 HA2.1.2.2.2 e
  have k := ss_ds_add (T := T) (T' := ss_u T (hd + n) q) (h := hd) (E := hd + n) (a := a) (L := L) hT' (by omega) e (by omega) f1 f2
  have e5 : hd + (n + 1) = hd + n + 1 := by omega
  rw [e5, k, hdc, show hd + n + 1 - hd - L = n + 1 - L by omega]
theorem xx_removeOldest {post : SX → Prop} {T : Nat → Nat} {A : Nat → Prop} {R : Nat → Nat} {a : Nat} (H : ss_IN T A R a hd n dc fc an al tx C D K P La Le F) (n0 : 0 < n) (h3 : hd + n < 4096) (hp : ∀ (A : Nat → Prop) (a dc fc an al : Nat) (C P La Le F : Nat → Nat), ss_IN T A R a (hd + 1) (n - 1) dc fc an al tx C D K P La Le F → post (0, nI ms, nI sy, (nI (hd+1)), (nI (n-1)), nI dc, nI fc, nI an, nI al, nI ps, nI lo, nI ml, th, tl, (fun j => nI (tx j)), (fun j => nI (C j)), (fun j => nI (D j)), (fun j => nI (K j)), (fun j => nI (P j)), (fun j => nI (La j)), (fun j => nI (Le j)), (fun j => nI (F j)), (fun j => nI (pt j)), (fun j => nI (bd j)))) : wpX_removeOldest post (0, nI ms, nI sy, nI hd, nI n, nI dc, nI fc, nI an, nI al, nI ps, nI lo, nI ml, th, tl, (fun j => nI (tx j)), (fun j => nI (C j)), (fun j => nI (D j)), (fun j => nI (K j)), (fun j => nI (P j)), (fun j => nI (La j)), (fun j => nI (Le j)), (fun j => nI (F j)), (fun j => nI (pt j)), (fun j => nI (bd j))) := by
  obtain ⟨hs, TR, HA, htx, ⟨b1, b2, b3, b4, b5, b6, b7⟩, hdc⟩ := H
  have TR' := TR
  obtain ⟨I, HL, HN, HK, HF⟩ := TR'
  have hb := I.1
  have ha : hd < a := by
    rcases HA.1.2.2.2 with z | ⟨s, s1, s2, s3⟩
    · omega
    · omega
  have H32 := I.2.2.1.2.2
  have a1 := HA.1.1
  have a2 := HA.1.2.1
  have an32 := H32 an a1
  have ea : hd + n - al = a := by omega
  have hc : al ≠ D an → tx ((hd + n - al + D an) % 32) = T (a + D an) := fun e => by rw [ea]; exact htx _ (by omega) (by omega)
  have c4 : al ≠ D an → T (a + D an) < 4 := fun e => I.2.1 _ (by omega) (by omega)
  have eE : hd + 1 + (n - 1) = hd + n := by omega
  have lfl := ss_lf_lt hd
  have nsub : nI n - 1 = nI (n - 1) := pk_sub (a := n) (b := 1) (by omega)
  unfold wpX_removeOldest
  refine xx_headMatch (c := T (a + D an)) n0 an32 b3 h3 (by omega) hc c4 (b2 _) b5 (fun e1 e2 => ?_) (fun ne => ?_)
  · have dl : D an < al := by omega
    have hm := ss_hm1 I HA hs ha dl e2
    have ds := ss_ds_sub hm
    refine nm_r (e' := nI (dc - (n - al))) (by rw [pk_sub (by omega), pk_sub (by omega)]) ?_
    refine xx_leafOf (by omega) ?_
    refine xx_onEdge (p := ss_lf hd) (c := T (a + D an)) an32 (b3 an) h3 (by omega) hc c4 (b2 _) lfl (fun _ _ => ?_) (fun z => absurd ⟨e1, e2⟩ z)
    refine br_f (by decide) ?_
    obtain ⟨l, c1, c2, c3, c5, cc4, TR2, A02⟩ := ss_rep TR HA hs ha dl e2
    refine xx_place (v := an) (s := a) (c := T (a + D an)) (dl := 0) (l := l) an32 b3 h3 (by omega) ea (htx _ (by omega) (by omega)) cc4 b5 c1 (by omega) c3 c5 ?_
    refine xx_suf (C := ss_u C (4 * an + T (a + D an)) (ss_lf a)) (P := ss_u P (ss_lf a) an) (La := ss_sl (ss_u La (ss_lf a) a) (an :: l) a) (Le := ss_al (ss_u Le (ss_lf a) 1) (an :: l) 0) an32 (by omega) ?_
    refine xx_canonize (T := T) (h := hd + 1) (a := a + 1) (E := hd + n) TR2.1 A02 (by omega) (by omega) (fun i i1 i2 => htx i (by omega) i2) b3 (ss_ub b2 (ss_lf_lt a)) h3 (fun an' HA2 => ?_)
    refine nm_r (nI_1 hd) (nm_r nsub ?_)
    refine hp A (a + 1) (dc - (n - al)) fc an' (al - 1) _ _ _ _ F ⟨by omega, by rw [eE]; exact TR2, HA2, fun i i1 i2 => htx i (by omega) (by omega), ⟨b1, ss_ub b2 (ss_lf_lt a), b3, b4, ss_ub b5 an32, ss_slb (ss_ub b6 (by omega)) (by omega), b7⟩, ?_⟩
    rw [eE]
    omega
  · have ne' : ¬ (D an < al ∧ C (4 * an + T (a + D an)) = ss_lf hd) := fun z => ne ⟨by omega, z.2⟩
    have hm := ss_hm2 I HA hs ha ne'
    have ds := ss_ds_sub hm
    have hm1 := hm.1
    refine nm_r (e' := nI (dc - (n - D (P (ss_lf hd))))) (by rw [pk_sub (by omega), pk_sub (by omega)]) ?_
    refine xx_leafOf (by omega) ?_
    refine xx_onEdge (p := ss_lf hd) (c := T (a + D an)) an32 (b3 an) h3 (by omega) hc c4 (b2 _) lfl (fun e1 e2 => absurd ⟨e1, e2⟩ ne) (fun _ => ?_)
    refine br_t rfl ?_
    have dce : dc - (n - D (P (ss_lf hd))) = ss_ds T (hd + 1) (hd + n) := by omega
    obtain ⟨av, v32, t4, ll, l, c1, c2, c3, pos, J1, J2, J3, ex, ex2⟩ := ss_rmv TR HA hs ha ne' (v := P (ss_lf hd)) rfl
    refine xx_rm (dc := dc - (n - D (P (ss_lf hd)))) (v := P (ss_lf hd)) (s := hd) (c := T (hd + D (P (ss_lf hd)))) (l := l) rfl v32 ll b3 (by omega) (htx _ (by omega) (by omega)) t4 b5 c1 (by omega) c3 pos ?_
    have b2' := ss_ub (k := 4 * P (ss_lf hd) + T (hd + D (P (ss_lf hd)))) b2 (show 0 < 64 by omega)
    refine xx_rm63 (C := ss_u C (4 * P (ss_lf hd) + T (hd + D (P (ss_lf hd)))) 0) (Le := ss_dl Le (P (ss_lf hd) :: l)) v32 b2' (fun q => ?_) (fun d v0 d4 y0 on1 => ?_)
    · refine nm_r (nI_1 hd) (nm_r nsub ?_)
      have q' : P (ss_lf hd) = 0 ∨ ((∀ d, d < 4 → ss_u C (4 * P (ss_lf hd) + T (hd + D (P (ss_lf hd)))) 0 (4 * P (ss_lf hd) + d) ≠ 0 → ∃ c, c < 4 ∧ c ≠ d ∧ ss_u C (4 * P (ss_lf hd) + T (hd + D (P (ss_lf hd)))) 0 (4 * P (ss_lf hd) + c) ≠ 0) ∧ ∃ s, hd + 1 ≤ s ∧ s < a ∧ ss_on T (hd + n) R D s (P (ss_lf hd))) := by
        by_cases v0 : P (ss_lf hd) = 0
        · exact Or.inl v0
        · exact Or.inr ⟨q.elim (fun z => absurd z v0) id, ex2 v0⟩
      have J0 := ss_exc J1 av q'
      refine hp A a (dc - (n - D (P (ss_lf hd)))) fc an al _ _ _ _ F ⟨by omega, by rw [eE]; exact ⟨J0, J2, J3, HK, HF⟩, ss_ac_sub HA ex, fun i i1 i2 => htx i (by omega) (by omega), ⟨b1, b2', b3, b4, b5, b6, b7⟩, by rw [eE]; exact dce⟩
    · obtain ⟨cw, cw4, f31, x32, y64, ly1, ly2, ly3, ly4, ly5, TR2, AC1, AC2⟩ := ss_mrg I HA hs av v0 J1 J2 J3 HK HF ex d4 y0 on1
      have F2 : ∀ j, ss_u F fc (P (ss_lf hd)) j < 32 := ss_ub b7 v32
      refine xx_merge (d := d) (cw := cw) v32 y64 rfl x32 b3 b6 (by rw [htx _ (by omega) ly2]; exact ly3) d4 (by rw [htx _ (by omega) ly4]; exact ly5) cw4 (by omega) an32 (fun e => ?_) (fun e => ?_)
      · refine nm_r (nI_1 hd) (nm_r nsub ?_)
        refine hp _ a (dc - (n - D (P (ss_lf hd)))) (fc + 1) (P (P (ss_lf hd))) al _ _ _ _ _ ⟨by omega, by rw [eE]; exact TR2, AC1 e, fun i i1 i2 => htx i (by omega) (by omega), ⟨b1, ss_ub (ss_ub b2' (by omega)) y64, b3, b4, ss_ub b5 x32, b6, F2⟩, by rw [eE]; exact dce⟩
      · refine nm_r (nI_1 hd) (nm_r nsub ?_)
        refine hp _ a (dc - (n - D (P (ss_lf hd)))) (fc + 1) an al _ _ _ _ _ ⟨by omega, by rw [eE]; exact TR2, AC2 e, fun i i1 i2 => htx i (by omega) (by omega), ⟨b1, ss_ub (ss_ub b2' (by omega)) y64, b3, b4, ss_ub b5 x32, b6, F2⟩, by rw [eE]; exact dce⟩
end
end
section
theorem xx_sp (x y : Int32) : x - y + 1 = x + 1 - y := by
  rw [Int32.sub_eq_add_neg, Int32.sub_eq_add_neg, Int32.add_assoc, Int32.add_comm (-y) 1, ← Int32.add_assoc]
section
variable {ms sy hd n dc fc an al ps lo ml : Nat} {th tl : Int32} {tx C D K P La Le F pt bd : Nat → Nat}
theorem xx_ns49 {post : Int32 → Prop} {U : Nat → Nat} {z0 z k c : Nat} (ps32 : ps ≤ 32) (hP : ∀ j, pt j < 4) (c4 : c < 4) (ec : U z = c) (H : ss_nq pt ps U z0 z k) (hk : k = 0 ∨ (k < ps ∧ pt k = c)) (hp : ∀ r, ss_st pt ps U z0 (z + 1) r → post (nI r)) : wX_nextState_49 post (nI c) (nI k) 0 (nI ms) (nI sy) (nI hd) (nI n) (nI dc) (nI fc) (nI an) (nI al) (nI ps) (nI lo) (nI ml) th tl (fun j => nI (tx j)) (fun j => nI (C j)) (fun j => nI (D j)) (fun j => nI (K j)) (fun j => nI (P j)) (fun j => nI (La j)) (fun j => nI (Le j)) (fun j => nI (F j)) (fun j => nI (pt j)) (fun j => nI (bd j)) := by
  have kle := H.1.1
  have pk := hP k
  refine pk_le ps k (fun l => ?_) (fun l => And.intro (pk_in k 32 (by omega) rfl) ?_)
  · have k0 : k = 0 := by omega
    rw [k0] at H ⊢
    exact hp 0 (ss_nq3 H (fun q => absurd q.1 (by omega)))
  · refine pk_eq (pt k) c (fun e => ?_) (fun e => ?_) (yy_rd pt k rfl (by omega))
    · exact ek_v (P := post) (nI_1 k) (hp (k + 1) (ss_nq2 H l (by rw [ec]; exact e)))
    · have k0 : k = 0 := by
        rcases hk with hk | hk
        · exact hk
        · exact absurd hk.2 e
      rw [k0] at H e ⊢
      exact hp 0 (ss_nq3 H (fun q => e (by rw [q.2, ec])))
theorem xx_ns5 {post : Int32 → Prop} {U : Nat → Nat} {z0 z c : Nat} (ps32 : ps ≤ 32) (hP : ∀ j, pt j < 4) (hb : ∀ j, bd j < 64) (hB : ∀ i, i < ps → ss_bd pt i (bd i)) (c4 : c < 4) (ec : U z = c) (hp : ∀ r, ss_st pt ps U z0 (z + 1) r → post (nI r)) : ∀ f k st, k < f → st + k ≤ 32 → ss_nq pt ps U z0 z k → wX_nextState_5 post (nI c) 0 (nI ms) (nI sy) (nI hd) (nI n) (nI dc) (nI fc) (nI an) (nI al) (nI ps) (nI lo) (nI ml) th tl (fun j => nI (tx j)) (fun j => nI (C j)) (fun j => nI (D j)) (fun j => nI (K j)) (fun j => nI (P j)) (fun j => nI (La j)) (fun j => nI (Le j)) (fun j => nI (F j)) (fun j => nI (pt j)) (fun j => nI (bd j)) f (nI k) (nI st) := by
  intro f
  induction f with
  | zero => intro k st h; exact absurd h (by omega)
  | succ f ih =>
    intro k st h1 h2 H
    have kle := H.1.1
    have pk := hP k
    refine pk_le 32 st (fun l => ?_) (fun l => ?_)
    · exact xx_ns49 ps32 hP c4 ec H (Or.inl (by omega)) hp
    · refine pk_le k 0 (fun l => ?_) (fun l => ?_)
      · exact xx_ns49 ps32 hP c4 ec H (Or.inl (by omega)) hp
      · have e1 : nI k - 1 = nI (k - 1) := pk_sub (a := k) (b := 1) (by omega)
        have go : (k = ps ∨ pt k ≠ U z) → wX_nextState_34 post (wX_nextState_5 post (nI c) 0 (nI ms) (nI sy) (nI hd) (nI n) (nI dc) (nI fc) (nI an) (nI al) (nI ps) (nI lo) (nI ml) th tl (fun j => nI (tx j)) (fun j => nI (C j)) (fun j => nI (D j)) (fun j => nI (K j)) (fun j => nI (P j)) (fun j => nI (La j)) (fun j => nI (Le j)) (fun j => nI (F j)) (fun j => nI (pt j)) (fun j => nI (bd j)) f) (nI c) (nI k) (nI st) 0 (nI ms) (nI sy) (nI hd) (nI n) (nI dc) (nI fc) (nI an) (nI al) (nI ps) (nI lo) (nI ml) th tl (fun j => nI (tx j)) (fun j => nI (C j)) (fun j => nI (D j)) (fun j => nI (K j)) (fun j => nI (P j)) (fun j => nI (La j)) (fun j => nI (Le j)) (fun j => nI (F j)) (fun j => nI (pt j)) (fun j => nI (bd j)) := by
          intro hk
          obtain ⟨q1, q2⟩ := ss_nq1 H l hk (hB (k - 1) (by omega))
          refine And.intro (pk_in (k - 1) 32 (by omega) e1) (nm_r (e' := nI (bd (k - 1))) (yy_rd bd _ e1 (by omega)) (nm_r (nI_1 st) ?_))
          exact ih _ (st + 1) (by omega) (by omega) q1
        refine pk_eq k ps (fun e => go (Or.inl e)) (fun e => And.intro (pk_in k 32 (by omega) rfl) ?_)
        refine pk_eq (pt k) c (fun q => ?_) (fun q => go (Or.inr (by rw [ec]; exact q))) (yy_rd pt k rfl (by omega))
        exact xx_ns49 ps32 hP c4 ec H (Or.inr ⟨by omega, q⟩) hp
theorem xx_nextState {post : Int32 → Prop} {U : Nat → Nat} {z0 z k c : Nat} (ps32 : ps ≤ 32) (hP : ∀ j, pt j < 4) (hb : ∀ j, bd j < 64) (hB : ∀ i, i < ps → ss_bd pt i (bd i)) (c4 : c < 4) (ec : U z = c) (H : ss_st pt ps U z0 z k) (hp : ∀ r, ss_st pt ps U z0 (z + 1) r → post (nI r)) : wpX_nextState post (0, nI ms, nI sy, nI hd, nI n, nI dc, nI fc, nI an, nI al, nI ps, nI lo, nI ml, th, tl, (fun j => nI (tx j)), (fun j => nI (C j)), (fun j => nI (D j)), (fun j => nI (K j)), (fun j => nI (P j)), (fun j => nI (La j)), (fun j => nI (Le j)), (fun j => nI (F j)), (fun j => nI (pt j)), (fun j => nI (bd j))) (nI k) (nI c) :=
  ⟨k + 1, xx_ns5 ps32 hP hb hB c4 ec hp (k + 1) k 0 (by omega) (by have := H.1.1; omega) (ss_nq0 H)⟩
theorem xx_depthOf {post : Int32 → Prop} {y : Nat} (y64 : y < 64) (p0 : y < 32 → post (nI (D y))) (hl : 32 ≤ y → La y ≤ hd + n) (p1 : 32 ≤ y → post (nI (hd + n - La y))) : wpX_depthOf post (0, nI ms, nI sy, nI hd, nI n, nI dc, nI fc, nI an, nI al, nI ps, nI lo, nI ml, th, tl, (fun j => nI (tx j)), (fun j => nI (C j)), (fun j => nI (D j)), (fun j => nI (K j)), (fun j => nI (P j)), (fun j => nI (La j)), (fun j => nI (Le j)), (fun j => nI (F j)), (fun j => nI (pt j)), (fun j => nI (bd j))) (nI y) := by
  unfold wpX_depthOf
  refine xx_isLeaf (by omega) (fun l => ?_) (fun l => ?_)
  · refine br_t rfl (And.intro (pk_in y 32 l rfl) ?_)
    exact ek_v (P := post) (yy_rd D y rfl (by omega)) (p0 l)
  · refine br_f (by decide) (And.intro (pk_in y 64 y64 rfl) ?_)
    refine ek_v (P := post) ?_ (p1 l)
    rw [yy_rd La y rfl (by omega), nI_add, pk_sub (hl l)]
theorem xx_stepDown {post : Int32 → Prop} {T : Nat → Nat} {A : Nat → Prop} {R : Nat → Nat} {a : Nat} (I : ss_SI T hd a (hd + n) A R D C P 0) (HL : ss_LA T hd a (hd + n) A R D La) (M : ss_MI T hd a (hd + n) A D P La pt lo ml) (htx : ∀ i, hd ≤ i → i < hd + n → tx (i % 32) = T i) (BD : ss_BD tx C D K P La F) (h3 : hd + n < 4096) (m32 : ml < 32) (p4 : pt ml < 4) (pS : ∀ y, y ≠ 0 → y < 64 → ss_MI T hd a (hd + n) A D P La pt y (ml + 1) → post (nI y)) (pN : ss_none T pt hd a (hd + n) (ml + 1) → post 0) : wpX_stepDown post (0, nI ms, nI sy, nI hd, nI n, nI dc, nI fc, nI an, nI al, nI ps, nI lo, nI ml, th, tl, (fun j => nI (tx j)), (fun j => nI (C j)), (fun j => nI (D j)), (fun j => nI (K j)), (fun j => nI (P j)), (fun j => nI (La j)), (fun j => nI (Le j)), (fun j => nI (F j)), (fun j => nI (pt j)), (fun j => nI (bd j))) (nI (pt ml)) := by
  obtain ⟨b1, b2, b3, b4, b5, b6, b7⟩ := BD
  have hb := I.1
  have lo64 : lo < 64 := by
    rcases M with M | ⟨_, _, nn, _⟩
    · omega
    · exact ss_nd64 I.2.2.1.2.2 nn
  have lol : 32 ≤ lo → ss_nd hd a A lo ∧ hd ≤ La lo ∧ La lo < a := by
    intro l
    rcases M with M | ⟨_, l0, nn, _⟩
    · omega
    · have k := HL lo nn l0
      exact ⟨nn, k.1, k.2.1⟩
  unfold wpX_stepDown
  have bD := b3 lo
  have bL := b6 lo
  have inn : lo ≠ 0 → hd ≤ La lo → La lo + ml < hd + n → ((lo < 32 → ml < D lo) ∧ (32 ≤ lo → La lo + ml < hd + n)) → (vp_in (nI lo) 64 ∧ (vp_in (((fun j => nI (La j)) (nI lo).toNatClampNeg + nI ml) &&& 31) 32 ∧ (((fun j => nI (tx j)) (((fun j => nI (La j)) (nI lo).toNatClampNeg + nI ml) &&& 31).toNatClampNeg = nI (pt ml) → post (nI lo)) ∧ (¬ (fun j => nI (tx j)) (((fun j => nI (La j)) (nI lo).toNatClampNeg + nI ml) &&& 31).toNatClampNeg = nI (pt ml) → post 0)))) := by
    intro l0 g1 g2 g3
    have sl : ((fun j => nI (La j)) (nI lo).toNatClampNeg + nI ml) &&& 31 = nI ((La lo + ml) % 32) := by
      rw [yy_rd La _ rfl (by omega), nI_add, xx_and (by omega)]
    obtain ⟨k1, k2⟩ := ss_sd_in I HL M l0 g3
    have et := htx (La lo + ml) (by omega) g2
    have bt := b1 ((La lo + ml) % 32)
    refine And.intro (pk_in lo 64 lo64 rfl) (And.intro (pk_in _ 32 (by omega) sl) ?_)
    refine pk_eq (tx ((La lo + ml) % 32)) (pt ml) (fun e => ?_) (fun e => ?_) (yy_rd tx _ sl (by omega))
    · exact pS lo l0 lo64 (k1 (by rw [← et]; exact e.symm))
    · exact pN (k2 (fun q => e (by rw [et]; exact q.symm)))
  refine xx_depthOf lo64 (fun l => ?_) (fun l => by have := lol l; omega) (fun l => ?_)
  · refine pk_le (D lo) ml (fun g => ?_) (fun g => ?_)
    · refine xx_isLeaf (by omega) (fun _ => ?_) (fun q => absurd q (by omega))
      obtain ⟨k1, k2, k3, k4⟩ := ss_sd_node I HL M l g p4
      have sl : (nI lo <<< ((2 : Int32) &&& 31)) + nI (pt ml) = nI (4 * lo + pt ml) := by rw [xx_shl (by omega), nI_add]
      refine br_t rfl (And.intro (pk_in (4 * lo + pt ml) 128 (by omega) sl) ?_)
      refine ek_v (P := post) (yy_rd C _ sl (by omega)) ?_
      by_cases z : C (4 * lo + pt ml) = 0
      · rw [z]; exact pN (k4 z)
      · exact pS _ z (b2 _) (k3 z)
    · have l0 : lo ≠ 0 := by
        intro z
        rw [z, I.2.2.1.2.1] at g
        omega
      have nn : ss_nd hd a A lo := by
        rcases M with M | ⟨_, _, nn, _⟩
        · exact absurd M.2 l0
        · exact nn
      obtain ⟨q1, q2, q3, q4⟩ := HL lo nn l0
      have kk := ss_oi l q3
      exact inn l0 q1 (by omega) ⟨fun _ => g, fun z => absurd z (by omega)⟩
  · obtain ⟨nn, g1, g2⟩ := lol l
    refine pk_le (hd + n - La lo) ml (fun g => ?_) (fun g => ?_)
    · refine xx_isLeaf (by omega) (fun q => absurd q (by omega)) (fun _ => ?_)
      exact br_f (by decide) (pN (ss_sd_leaf I HL M l (by omega)))
    · exact inn (by omega) g1 (by omega) ⟨fun z => absurd z (by omega), fun _ => by omega⟩
theorem xx_adv5 {post : SX → Prop} {T : Nat → Nat} {A : Nat → Prop} {R : Nat → Nat} {a : Nat} (I : ss_SI T hd a (hd + n) A R D C P 0) (HL : ss_LA T hd a (hd + n) A R D La) (htx : ∀ i, hd ≤ i → i < hd + n → tx (i % 32) = T i) (BD : ss_BD tx C D K P La F) (h3 : hd + n < 4096) (ps32 : ps ≤ 32) (hP : ∀ j, pt j < 4) (hp : ∀ lo ml, ss_MI T hd a (hd + n) A D P La pt lo ml → ml ≤ ps → (ml = ps ∨ ss_none T pt hd a (hd + n) (ml + 1)) → post (0, nI ms, nI sy, nI hd, nI n, nI dc, nI fc, nI an, nI al, nI ps, nI lo, nI ml, th, tl, (fun j => nI (tx j)), (fun j => nI (C j)), (fun j => nI (D j)), (fun j => nI (K j)), (fun j => nI (P j)), (fun j => nI (La j)), (fun j => nI (Le j)), (fun j => nI (F j)), (fun j => nI (pt j)), (fun j => nI (bd j)))) : ∀ d lo ml, ml + d = ps → ss_MI T hd a (hd + n) A D P La pt lo ml → wX_advanceMatch_5 post 0 (nI ms) (nI sy) (nI hd) (nI n) (nI dc) (nI fc) (nI an) (nI al) (nI ps) th tl (fun j => nI (tx j)) (fun j => nI (C j)) (fun j => nI (D j)) (fun j => nI (K j)) (fun j => nI (P j)) (fun j => nI (La j)) (fun j => nI (Le j)) (fun j => nI (F j)) (fun j => nI (pt j)) (fun j => nI (bd j)) (d + 2) (nI ml) (nI lo) (nI ml) := by
  intro d
  induction d with
  | zero =>
    intro lo ml e M
    exact pk_le ps ml (fun _ => hp lo ml M (by omega) (Or.inl (by omega))) (fun l => absurd l (by omega))
  | succ d ih =>
    intro lo ml e M
    refine pk_le ps ml (fun l => absurd l (by omega)) (fun _ => br_t rfl (And.intro (pk_in ml 32 (by omega) rfl) ?_))
    rw [yy_rd pt ml rfl (by omega)]
    refine xx_stepDown I HL M htx BD h3 (by omega) (hP ml) (fun y y0 y64 M2 => ?_) (fun N => ?_)
    · refine pk_eq y 0 (fun z => absurd z y0) (fun _ => nm_r (nI_1 ml) (nm_r (nI_1 ml) (ih y (ml + 1) (by omega) M2)))
    · refine br_t rfl (nm_r (nI_1 ml) ?_)
      have fin := hp lo ml M (by omega) (Or.inr N)
      exact pk_le ps (ml + 1) (fun _ => fin) (fun _ => pk_eq ml (ml + 1) (fun z => absurd z (by omega)) (fun _ => fin))
theorem xx_advance {post : SX → Prop} {T : Nat → Nat} {A : Nat → Prop} {R : Nat → Nat} {a : Nat} (I : ss_SI T hd a (hd + n) A R D C P 0) (HL : ss_LA T hd a (hd + n) A R D La) (htx : ∀ i, hd ≤ i → i < hd + n → tx (i % 32) = T i) (BD : ss_BD tx C D K P La F) (h3 : hd + n < 4096) (ps32 : ps ≤ 32) (hP : ∀ j, pt j < 4) (M : ss_MI T hd a (hd + n) A D P La pt lo ml) (mp : ml ≤ ps) (hp : ∀ lo ml, ss_MI T hd a (hd + n) A D P La pt lo ml → ml ≤ ps → (ml = ps ∨ ss_none T pt hd a (hd + n) (ml + 1)) → post (0, nI ms, nI sy, nI hd, nI n, nI dc, nI fc, nI an, nI al, nI ps, nI lo, nI ml, th, tl, (fun j => nI (tx j)), (fun j => nI (C j)), (fun j => nI (D j)), (fun j => nI (K j)), (fun j => nI (P j)), (fun j => nI (La j)), (fun j => nI (Le j)), (fun j => nI (F j)), (fun j => nI (pt j)), (fun j => nI (bd j)))) : wpX_advanceMatch post (0, nI ms, nI sy, nI hd, nI n, nI dc, nI fc, nI an, nI al, nI ps, nI lo, nI ml, th, tl, (fun j => nI (tx j)), (fun j => nI (C j)), (fun j => nI (D j)), (fun j => nI (K j)), (fun j => nI (P j)), (fun j => nI (La j)), (fun j => nI (Le j)), (fun j => nI (F j)), (fun j => nI (pt j)), (fun j => nI (bd j))) :=
  ⟨ps - ml + 2, xx_adv5 I HL htx BD h3 ps32 hP hp (ps - ml) lo ml (by omega) M⟩
theorem xx_occurs {post : Int32 → SX → Prop} {T : Nat → Nat} {A : Nat → Prop} {R : Nat → Nat} {a : Nat} (I : ss_SI T hd a (hd + n) A R D C P 0) (HL : ss_LA T hd a (hd + n) A R D La) (htx : ∀ i, hd ≤ i → i < hd + n → tx (i % 32) = T i) (BD : ss_BD tx C D K P La F) (h3 : hd + n < 4096) (ps32 : ps ≤ 32) (hP : ∀ j, pt j < 4) (M : ss_MI T hd a (hd + n) A D P La pt lo ml) (mp : ml ≤ ps) (p1 : ∀ lo ml, ml = ps → ss_MI T hd a (hd + n) A D P La pt lo ps → post 1 (0, nI ms, nI sy, nI hd, nI n, nI dc, nI fc, nI an, nI al, nI ps, nI lo, nI ml, th, tl, (fun j => nI (tx j)), (fun j => nI (C j)), (fun j => nI (D j)), (fun j => nI (K j)), (fun j => nI (P j)), (fun j => nI (La j)), (fun j => nI (Le j)), (fun j => nI (F j)), (fun j => nI (pt j)), (fun j => nI (bd j)))) (p0 : ∀ lo ml, ss_MI T hd a (hd + n) A D P La pt lo ml → ml < ps → ss_none T pt hd a (hd + n) (ml + 1) → post 0 (0, nI ms, nI sy, nI hd, nI n, nI dc, nI fc, nI an, nI al, nI ps, nI lo, nI ml, th, tl, (fun j => nI (tx j)), (fun j => nI (C j)), (fun j => nI (D j)), (fun j => nI (K j)), (fun j => nI (P j)), (fun j => nI (La j)), (fun j => nI (Le j)), (fun j => nI (F j)), (fun j => nI (pt j)), (fun j => nI (bd j)))) : wpX_patternOccurs post (0, nI ms, nI sy, nI hd, nI n, nI dc, nI fc, nI an, nI al, nI ps, nI lo, nI ml, th, tl, (fun j => nI (tx j)), (fun j => nI (C j)), (fun j => nI (D j)), (fun j => nI (K j)), (fun j => nI (P j)), (fun j => nI (La j)), (fun j => nI (Le j)), (fun j => nI (F j)), (fun j => nI (pt j)), (fun j => nI (bd j))) := by
  unfold wpX_patternOccurs
  refine xx_advance I HL htx BD h3 ps32 hP M mp (fun lo ml M2 mp2 hh => ?_)
  refine pk_eq ml ps (fun e => p1 lo ml e (by rw [← e]; exact M2)) (fun e => p0 lo ml M2 (by omega) (hh.elim (fun z => absurd z e) id))
theorem xx_st22 {post : SX → Prop} {T : Nat → Nat} {a : Nat} (hT4 : ∀ i, hd ≤ i → i < hd + n → T i < 4) (htx : ∀ i, hd ≤ i → i < hd + n → tx (i % 32) = T i) (h3 : hd + n < 4096) (ha : hd ≤ a) (ps0 : 0 < ps) (ps32 : ps ≤ 32) (hP : ∀ j, pt j < 4) (hb : ∀ j, bd j < 64) (hB : ∀ i, i < ps → ss_bd pt i (bd i)) (hp : ∀ (g : Nat) (tl : Int32), g = ss_cn (fun s => a ≤ s ∧ s + ps ≤ hd + n ∧ ss_mt pt T s ps) (hd + n) → (g = 0 ∨ ∃ s, a ≤ s ∧ s + ps ≤ hd + n ∧ ss_mt pt T s ps ∧ (∀ r, a ≤ r → r + ps ≤ hd + n → ss_mt pt T r ps → r ≤ s) ∧ tl = nI (s - hd)) → post (0, nI ms, nI sy, nI hd, nI n, nI dc, nI fc, nI an, nI al, nI ps, nI lo, nI ml, nI g, tl, (fun j => nI (tx j)), (fun j => nI (C j)), (fun j => nI (D j)), (fun j => nI (K j)), (fun j => nI (P j)), (fun j => nI (La j)), (fun j => nI (Le j)), (fun j => nI (F j)), (fun j => nI (pt j)), (fun j => nI (bd j)))) : ∀ d i k g tl, i + d = n → a ≤ hd + i → ss_st pt ps T a (hd + i) k → g = ss_cn (fun s => a ≤ s ∧ s + ps ≤ hd + i ∧ ss_mt pt T s ps) (hd + n) → (g = 0 ∨ ∃ s, a ≤ s ∧ s + ps ≤ hd + i ∧ ss_mt pt T s ps ∧ (∀ r, a ≤ r → r + ps ≤ hd + i → ss_mt pt T r ps → r ≤ s) ∧ tl = nI (s - hd)) → wX_scanTail_22 post 0 (nI ms) (nI sy) (nI hd) (nI n) (nI dc) (nI fc) (nI an) (nI al) (nI ps) (nI lo) (nI ml) (fun j => nI (tx j)) (fun j => nI (C j)) (fun j => nI (D j)) (fun j => nI (K j)) (fun j => nI (P j)) (fun j => nI (La j)) (fun j => nI (Le j)) (fun j => nI (F j)) (fun j => nI (pt j)) (fun j => nI (bd j)) (d + 1) (nI k) (nI i) (nI g) tl := by
  intro d
  induction d with
  | zero =>
    intro i k g tl hi hai H hg hl
    have e : i = n := by omega
    rw [e] at hg hl ⊢
    exact pk_le n n (fun _ => hp g tl hg hl) (fun l => absurd l (by omega))
  | succ d ih =>
    intro i k g tl hi hai H hg hl
    have sl : (nI hd + nI i) &&& 31 = nI ((hd + i) % 32) := by rw [nI_add, xx_and (by omega)]
    have et := htx (hd + i) (by omega) (by omega)
    refine pk_le n i (fun l => absurd l (by omega)) (fun _ => And.intro (pk_in _ 32 (by omega) sl) ?_)
    rw [yy_rd tx _ sl (by omega), et]
    refine xx_nextState (U := T) (z0 := a) (z := hd + i) ps32 hP hb hB (hT4 _ (by omega) (by omega)) rfl H (fun r Hr => ?_)
    have rle := Hr.1.1
    have fl := ss_st_full Hr
    have e1 : hd + i + 1 = hd + (i + 1) := by omega
    have cv : ∀ s, s ≠ hd + i + 1 - ps → ((a ≤ s ∧ s + ps ≤ hd + i ∧ ss_mt pt T s ps) ↔ (a ≤ s ∧ s + ps ≤ hd + (i + 1) ∧ ss_mt pt T s ps)) := by
      intro s sn
      exact ⟨fun q => ⟨q.1, by have := q.2.1; omega, q.2.2⟩, fun q => ⟨q.1, by have := q.2.1; omega, q.2.2⟩⟩
    refine pk_eq r ps (fun e => ?_) (fun e => ?_)
    · obtain ⟨f1, f2⟩ := fl.mp e
      have hi1 : ps ≤ i + 1 := by omega
      refine nm_r (nI_1 g) (nm_r (e' := nI (i + 1 - ps)) (by rw [xx_sp, nI_1, pk_sub hi1]) (nm_r (nI_1 i) ?_))
      rw [e1] at Hr
      refine ih (i + 1) r (g + 1) _ (by omega) (by omega) Hr ?_ (Or.inr ⟨hd + i + 1 - ps, by omega, by omega, f2, fun s _ s2 _ => by omega, by congr 1; omega⟩)
      rw [hg]
      exact (ss_cn_1 (j := hd + i + 1 - ps) (fun q => by have := q.2.1; omega) ⟨by omega, by omega, f2⟩ (by omega) (fun s _ sn => cv s sn)).symm
    · refine nm_r (nI_1 i) ?_
      have nm : ∀ s, ((a ≤ s ∧ s + ps ≤ hd + i ∧ ss_mt pt T s ps) ↔ (a ≤ s ∧ s + ps ≤ hd + (i + 1) ∧ ss_mt pt T s ps)) := by
        intro s
        by_cases sn : s = hd + i + 1 - ps
        · constructor
          · intro q
            exact ⟨q.1, by have := q.2.1; omega, q.2.2⟩
          · intro q
            by_cases z : s + ps ≤ hd + i
            · exact ⟨q.1, z, q.2.2⟩
            · refine absurd (fl.mpr ⟨by have := q.1; have := q.2.1; omega, ?_⟩) e
              rw [← sn]; exact q.2.2
        · exact cv s sn
      rw [e1] at Hr
      refine ih (i + 1) r g tl (by omega) (by omega) Hr ?_ ?_
      · rw [hg]
        exact ss_cn_c (fun s _ => nm s)
      · rcases hl with hl | ⟨s, s1, s2, s3, s4, s5⟩
        · exact Or.inl hl
        · refine Or.inr ⟨s, s1, by omega, s3, fun r r1 r2 r3 => ?_, s5⟩
          have q := (nm r).mpr ⟨r1, r2, r3⟩
          exact s4 r q.1 q.2.1 q.2.2
theorem xx_scanTail {post : SX → Prop} {T : Nat → Nat} {a : Nat} (hT4 : ∀ i, hd ≤ i → i < hd + n → T i < 4) (htx : ∀ i, hd ≤ i → i < hd + n → tx (i % 32) = T i) (h3 : hd + n < 4096) (ha : hd ≤ a) (hs : a + al = hd + n) (ps0 : 0 < ps) (ps32 : ps ≤ 32) (hP : ∀ j, pt j < 4) (hb : ∀ j, bd j < 64) (hB : ∀ i, i < ps → ss_bd pt i (bd i)) (hp : ∀ (g : Nat) (tl : Int32), g = ss_cn (fun s => a ≤ s ∧ s + ps ≤ hd + n ∧ ss_mt pt T s ps) (hd + n) → (g = 0 ∨ ∃ s, a ≤ s ∧ s + ps ≤ hd + n ∧ ss_mt pt T s ps ∧ (∀ r, a ≤ r → r + ps ≤ hd + n → ss_mt pt T r ps → r ≤ s) ∧ tl = nI (s - hd)) → post (0, nI ms, nI sy, nI hd, nI n, nI dc, nI fc, nI an, nI al, nI ps, nI lo, nI ml, nI g, tl, (fun j => nI (tx j)), (fun j => nI (C j)), (fun j => nI (D j)), (fun j => nI (K j)), (fun j => nI (P j)), (fun j => nI (La j)), (fun j => nI (Le j)), (fun j => nI (F j)), (fun j => nI (pt j)), (fun j => nI (bd j)))) : wpX_scanTail post (0, nI ms, nI sy, nI hd, nI n, nI dc, nI fc, nI an, nI al, nI ps, nI lo, nI ml, th, tl, (fun j => nI (tx j)), (fun j => nI (C j)), (fun j => nI (D j)), (fun j => nI (K j)), (fun j => nI (P j)), (fun j => nI (La j)), (fun j => nI (Le j)), (fun j => nI (F j)), (fun j => nI (pt j)), (fun j => nI (bd j))) := by
  refine nm_r (e' := nI (n - al)) (pk_sub (by omega)) ⟨al + 1, ?_⟩
  have e : hd + (n - al) = a := by omega
  refine xx_st22 hT4 htx h3 ha ps0 ps32 hP hb hB hp al (n - al) 0 0 (-1) (by omega) (by omega) (by rw [e]; exact ss_st0) ?_ (Or.inl rfl)
  exact (ss_cn_z (fun s _ q => by have := q.1; have := q.2.1; omega)).symm
end
end
section
def ss_RL (k : Nat) (T : Nat → Nat) (A : Nat → Prop) (R : Nat → Nat) (a ms sy hd n dc fc an al ps lo ml : Nat) (tx C D K P La Le F pt bd wv : Nat → Nat) : Prop :=
  ss_IN T A R a hd n dc fc an al tx C D K P La Le F ∧ hd + n ≤ k ∧ (4 ≤ ms ∧ ms ≤ 32) ∧ (2 ≤ sy ∧ sy ≤ 4) ∧ n ≤ ms ∧ (∀ j, j < n → wv j = T (hd + j)) ∧ (∀ j, wv j < 4) ∧ (∀ j, pt j < 4) ∧ (∀ j, bd j < 64) ∧ ps ≤ 32 ∧ (∀ i, i < ps → ss_bd pt i (bd i)) ∧ ss_MI T hd a (hd + n) A D P La pt lo ml ∧ ml ≤ ps
/-- the tree of the window's suffixes (ghosts T, A, R, a), the same window and the same pattern on both sides -/
def i_Rel (k : Nat) (u : SX) (v : SY) : Prop := ∃ (T : Nat → Nat) (A : Nat → Prop) (R : Nat → Nat) (a ms sy hd n dc fc an al ps lo ml : Nat) (th tl : Int32) (tx C D K P La Le F pt bd wv : Nat → Nat), u = (0, nI ms, nI sy, nI hd, nI n, nI dc, nI fc, nI an, nI al, nI ps, nI lo, nI ml, th, tl, (fun j => nI (tx j)), (fun j => nI (C j)), (fun j => nI (D j)), (fun j => nI (K j)), (fun j => nI (P j)), (fun j => nI (La j)), (fun j => nI (Le j)), (fun j => nI (F j)), (fun j => nI (pt j)), (fun j => nI (bd j))) ∧ v = (nI n, nI ps, nI ms, nI sy, (fun j => nI (wv j)), (fun j => nI (pt j))) ∧ ss_RL k T A R a ms sy hd n dc fc an al ps lo ml tx C D K P La Le F pt bd wv
theorem zz_in {k : Nat} {T : Nat → Nat} {A : Nat → Prop} {R : Nat → Nat} {a ms sy hd n dc fc an al ps lo ml : Nat} {th tl : Int32} {tx C D K P La Le F pt bd wv : Nat → Nat} (H : ss_RL k T A R a ms sy hd n dc fc an al ps lo ml tx C D K P La Le F pt bd wv) : i_Rel k (0, nI ms, nI sy, nI hd, nI n, nI dc, nI fc, nI an, nI al, nI ps, nI lo, nI ml, th, tl, (fun j => nI (tx j)), (fun j => nI (C j)), (fun j => nI (D j)), (fun j => nI (K j)), (fun j => nI (P j)), (fun j => nI (La j)), (fun j => nI (Le j)), (fun j => nI (F j)), (fun j => nI (pt j)), (fun j => nI (bd j))) (nI n, nI ps, nI ms, nI sy, (fun j => nI (wv j)), (fun j => nI (pt j))) :=
  ⟨T, A, R, a, ms, sy, hd, n, dc, fc, an, al, ps, lo, ml, th, tl, tx, C, D, K, P, La, Le, F, pt, bd, wv, rfl, rfl, H⟩
theorem zz_el {k : Nat} {u : SX} {v : SY} {Q : SX → SY → Prop} (h : ∀ (T : Nat → Nat) (A : Nat → Prop) (R : Nat → Nat) (a ms sy hd n dc fc an al ps lo ml : Nat) (th tl : Int32) (tx C D K P La Le F pt bd wv : Nat → Nat), ss_RL k T A R a ms sy hd n dc fc an al ps lo ml tx C D K P La Le F pt bd wv → Q (0, nI ms, nI sy, nI hd, nI n, nI dc, nI fc, nI an, nI al, nI ps, nI lo, nI ml, th, tl, (fun j => nI (tx j)), (fun j => nI (C j)), (fun j => nI (D j)), (fun j => nI (K j)), (fun j => nI (P j)), (fun j => nI (La j)), (fun j => nI (Le j)), (fun j => nI (F j)), (fun j => nI (pt j)), (fun j => nI (bd j))) (nI n, nI ps, nI ms, nI sy, (fun j => nI (wv j)), (fun j => nI (pt j)))) (I : i_Rel k u v) : Q u v :=
  I.elim fun T I => I.elim fun A I => I.elim fun R I => I.elim fun a I => I.elim fun ms I => I.elim fun sy I => I.elim fun hd I => I.elim fun n I => I.elim fun dc I => I.elim fun fc I => I.elim fun an I => I.elim fun al I => I.elim fun ps I => I.elim fun lo I => I.elim fun ml I => I.elim fun th I => I.elim fun tl I => I.elim fun tx I => I.elim fun C I => I.elim fun D I => I.elim fun K I => I.elim fun P I => I.elim fun La I => I.elim fun Le I => I.elim fun F I => I.elim fun pt I => I.elim fun bd I => I.elim fun wv I => by
    rw [I.1, I.2.1]
    exact h T A R a ms sy hd n dc fc an al ps lo ml th tl tx C D K P La Le F pt bd wv I.2.2
theorem zz_up {k k' : Nat} {T : Nat → Nat} {A : Nat → Prop} {R : Nat → Nat} {a ms sy hd n dc fc an al ps lo ml : Nat} {tx C D K P La Le F pt bd wv : Nat → Nat} (hk : k ≤ k') (H : ss_RL k T A R a ms sy hd n dc fc an al ps lo ml tx C D K P La Le F pt bd wv) : ss_RL k' T A R a ms sy hd n dc fc an al ps lo ml tx C D K P La Le F pt bd wv :=
  ⟨H.1, Nat.le_trans H.2.1 hk, H.2.2⟩
theorem i_up {k : Nat} {u : SX} {v : SY} (h : i_Rel k u v) : i_Rel (k + 2) u v := by
  refine zz_el (Q := fun u v => i_Rel (k + 2) u v) ?_ h
  intro T A R a ms sy hd n dc fc an al ps lo ml th tl tx C D K P La Le F pt bd wv H
  exact zz_in (zz_up (by omega) H)
theorem zz_cl (x : Int32) (lo hi : Nat) (h : lo ≤ hi) (hh : hi < 2 ^ 31) : ∃ m, lo ≤ m ∧ m ≤ hi ∧ ((¬ nI lo ≤ x ∧ m = lo) ∨ (nI lo ≤ x ∧ x ≤ nI hi ∧ x = nI m) ∨ (nI lo ≤ x ∧ ¬ x ≤ nI hi ∧ m = hi)) := by
  by_cases h1 : nI lo ≤ x
  · by_cases h2 : x ≤ nI hi
    · have x0 : ¬ x < 0 := Int32.not_lt.mpr (Int32.le_trans (nI_pos' (by omega)) h1)
      obtain ⟨j, j1, j2⟩ := nI_of x0
      rw [j2] at h1 h2
      rw [nI_leI (by omega) (by omega)] at h1 h2
      exact ⟨j, h1, h2, Or.inr (Or.inl ⟨by rw [j2]; exact nI_le h1 (by omega), by rw [j2]; exact nI_le h2 (by omega), j2⟩)⟩
    · exact ⟨hi, h, Nat.le_refl _, Or.inr (Or.inr ⟨h1, h2, rfl⟩)⟩
  · exact ⟨lo, Nat.le_refl _, h, Or.inl ⟨h1, rfl⟩⟩
theorem zz_clamp {post : Int32 → Prop} {u : SX} {x : Int32} {lo hi m : Nat} (H : (¬ nI lo ≤ x ∧ m = lo) ∨ (nI lo ≤ x ∧ x ≤ nI hi ∧ x = nI m) ∨ (nI lo ≤ x ∧ ¬ x ≤ nI hi ∧ m = hi)) (hp : post (nI m)) : wpX_clamp post u x (nI lo) (nI hi) := by
  rcases H with ⟨h1, h2⟩ | ⟨h1, h2, h3⟩ | ⟨h1, h2, h3⟩
  · rw [h2] at hp
    exact br_f h1 hp
  · refine br_t h1 (br_t h2 ?_)
    rw [h3]; exact hp
  · rw [h3] at hp
    exact br_t h1 (br_f h2 hp)
theorem zz_yinit {post : SY → Prop} {x y : Int32} {ms sy : Nat} (h1 : (¬ nI 4 ≤ x ∧ ms = 4) ∨ (nI 4 ≤ x ∧ x ≤ nI 32 ∧ x = nI ms) ∨ (nI 4 ≤ x ∧ ¬ x ≤ nI 32 ∧ ms = 32)) (h2 : (¬ nI 2 ≤ y ∧ sy = 2) ∨ (nI 2 ≤ y ∧ y ≤ nI 4 ∧ y = nI sy) ∨ (nI 2 ≤ y ∧ ¬ y ≤ nI 4 ∧ sy = 4)) (hp : post (0, 0, nI ms, nI sy, (fun _ => 0), (fun _ => 0))) : wpY_init post x y := by
  have k2 : ∀ (c al : Int32), c = nI ms → wY_init_53 post y 0 0 c al (fun _ => 0) (fun _ => 0) := by
    intro c al ec
    rw [ec]
    rcases h2 with ⟨e1, e2⟩ | ⟨e1, e2, e3⟩ | ⟨e1, e2, e3⟩
    · rw [e2] at hp
      exact br_f e1 (br_t (by decide) hp)
    · refine br_t e1 (br_t e2 ?_)
      rw [e3]; exact hp
    · rw [e3] at hp
      exact br_t e1 (br_f e2 hp)
  rcases h1 with ⟨e1, e2⟩ | ⟨e1, e2, e3⟩ | ⟨e1, e2, e3⟩
  · exact br_f e1 (br_t (by decide) (k2 4 0 (by rw [e2]; rfl)))
  · exact br_t e1 (br_t e2 (k2 x 0 e3))
  · exact br_t e1 (br_f e2 (k2 32 0 (by rw [e3]; rfl)))
theorem zz_i115 {post : SX → Prop} {ms sy : Nat} (hp : ∀ F : Nat → Nat, (∀ j, j < 31 → F j = 31 - j) → (∀ j, F j < 32) → post (0, nI ms, nI sy, 0, 0, 0, 31, 0, 0, 0, 0, 0, 0, 0, (fun _ => 0), (fun _ => 0), (fun _ => 0), (fun _ => 0), (fun _ => 0), (fun _ => 0), (fun _ => 0), (fun j => nI (F j)), (fun _ => 0), (fun _ => 0))) : ∀ (d i : Nat) (F : Nat → Nat), i + d = 31 → (∀ j, j < i → F j = 31 - j) → (∀ j, F j < 32) → wX_init_115 post 0 (nI ms) (nI sy) 0 0 0 0 0 0 0 0 0 0 0 (d + 1) (nI i) (fun _ => 0) (fun _ => 0) (fun _ => 0) (fun _ => 0) (fun _ => 0) (fun _ => 0) (fun _ => 0) (fun j => nI (F j)) (fun _ => 0) (fun _ => 0) := by
  intro d
  induction d with
  | zero =>
    intro i F hi h1 h2
    have e : i = 31 := by omega
    rw [e] at h1 ⊢
    exact br_t (by decide) (hp F h1 h2)
  | succ d ih =>
    intro i F hi h1 h2
    refine pk_le 31 i (fun l => absurd l (by omega)) (fun _ => And.intro (pk_in i 32 (by omega) rfl) (nm_r (e' := fun j => nI (ss_u F i (31 - i) j)) ?_ (nm_r (nI_1 i) ?_)))
    · have e1 : 31 - nI i = nI (31 - i) := pk_sub (a := 31) (b := i) (by omega)
      rw [e1, nI_clamp (by omega)]; exact ss_upd F _ _
    · refine ih (i + 1) _ (by omega) (fun j hj => ?_) (ss_ub h2 (by omega))
      by_cases e : j = i
      · rw [e, ss_us]
      · rw [ss_un F e]; exact h1 j (by omega)
theorem zz_in0 {F : Nat → Nat} (f1 : ∀ j, j < 31 → F j = 31 - j) (f2 : ∀ j, F j < 32) : ss_IN (fun _ => 0) (fun x => x = 0) (fun _ => 0) 0 0 0 0 31 0 0 (fun _ => 0) (fun _ => 0) (fun _ => 0) (fun _ => 0) (fun _ => 0) (fun _ => 0) (fun _ => 0) F := by
  have nd0 : ∀ y, ss_nd 0 0 (fun x => x = 0) y → y = 0 := by
    intro y n
    rcases n with n | ⟨s, s1, s2, s3⟩
    · exact n.2
    · omega
  refine ⟨rfl, ⟨⟨⟨by omega, by omega, by omega⟩, fun i h1 h2 => by omega, ⟨rfl, rfl, fun x e => by omega⟩, fun x e z => absurd e z, fun x e => Nat.le_refl _, fun x c e c4 ce s s1 s2 => by omega, fun x c y e c4 ce y0 => absurd ce.symm y0, fun y n y0 => absurd (nd0 y n) y0, fun x c x32 e c4 => rfl, fun x e z => absurd e z⟩, fun y n y0 => absurd (nd0 y n) y0, fun y n => rfl, ⟨rfl, fun x e z => absurd e z⟩, ⟨fun i hi => ?_, fun i j hi hj e => ?_, fun x x0 x32 _ => ⟨31 - x, by omega, ?_⟩⟩⟩, ⟨⟨rfl, Nat.le_refl _, ss_e0, Or.inl rfl⟩, fun x e _ _ => Nat.le_refl _⟩, fun i h1 h2 => by omega, ⟨fun _ => (show 0 < 4 by decide), fun _ => (show 0 < 64 by decide), fun _ => (show 0 < 64 by decide), fun _ => (show 0 < 32 by decide), fun _ => (show 0 < 32 by decide), fun _ => (show 0 < 4096 by decide), f2⟩, rfl⟩
  · have := f1 i hi
    exact ⟨by omega, by omega, fun z => by omega⟩
  · rw [f1 i hi, f1 j hj] at e
    omega
  · rw [f1 _ (by omega)]
    omega
theorem i_vc0 (k0 : Int32) (k1 : Int32) : wpX_init (fun u => wpY_init (fun v => i_Rel 2 u v) k0 k1) k0 k1 := by
  obtain ⟨ms, m1, m2, m3⟩ := zz_cl k0 4 32 (by omega) (by omega)
  obtain ⟨sy, s1, s2, s3⟩ := zz_cl k1 2 4 (by omega) (by omega)
  unfold wpX_init
  refine zz_clamp (lo := 4) (hi := 32) m3 ?_
  refine zz_clamp (lo := 2) (hi := 4) s3 ⟨32, ?_⟩
  refine zz_i115 (fun F f1 f2 => ?_) 31 0 (fun _ => 0) (by omega) (fun j hj => by omega) (fun j => by omega)
  refine zz_yinit m3 s3 ?_
  exact zz_in (k := 2) (T := fun _ => 0) (A := fun x => x = 0) (R := fun _ => 0) (a := 0) (ms := ms) (sy := sy) (hd := 0) (n := 0) (dc := 0) (fc := 31) (an := 0) (al := 0) (ps := 0) (lo := 0) (ml := 0) (tx := fun _ => 0) (C := fun _ => 0) (D := fun _ => 0) (K := fun _ => 0) (P := fun _ => 0) (La := fun _ => 0) (Le := fun _ => 0) (F := F) (pt := fun _ => 0) (bd := fun _ => 0) (wv := fun _ => 0) ⟨zz_in0 f1 f2, by omega, ⟨m1, m2⟩, ⟨s1, s2⟩, by omega, fun j hj => by omega, fun _ => (show 0 < 4 by decide), fun _ => (show 0 < 4 by decide), fun _ => (show 0 < 64 by decide), by omega, fun i hi => by omega, Or.inl ⟨rfl, rfl⟩, by omega⟩
end
section
theorem i_vc_size {k : Nat} {u : SX} {v : SY} (I : i_Rel k u v) (hk : k + 2 ≤ 1026) : wpX_size (fun r => wpY_size (fun r' => r' = r ∧ i_Rel (k + 2) u v) v) u := by
  refine zz_el (Q := fun u v => wpX_size (fun r => wpY_size (fun r' => r' = r ∧ i_Rel (k + 2) u v) v) u) ?_ I
  intro T A R a ms sy hd n dc fc an al ps lo ml th tl tx C D K P La Le F pt bd wv H
  exact And.intro rfl (zz_in (zz_up (by omega) H))
theorem i_vc_symbolAt {k : Nat} {u : SX} {v : SY} (I : i_Rel k u v) (hk : k + 2 ≤ 1026) (v1 : Int32) : wpX_symbolAt (fun r => wpY_symbolAt (fun r' => r' = r ∧ i_Rel (k + 2) u v) v v1) u v1 := by
  refine zz_el (Q := fun u v => wpX_symbolAt (fun r => wpY_symbolAt (fun r' => r' = r ∧ i_Rel (k + 2) u v) v v1) u v1) ?_ I
  intro T A R a ms sy hd n dc fc an al ps lo ml th tl tx C D K P La Le F pt bd wv H
  have rel := zz_in (th := th) (tl := tl) (zz_up (show k ≤ k + 2 by omega) H)
  obtain ⟨⟨hs, TR, HA, htx, BD, hdc⟩, hhk, hms, hsy, hnm, hwv, hw4, hP, hb, ps32, hB, M, mp⟩ := H
  by_cases h0 : v1 < 0
  · exact br_t h0 (br_t h0 ⟨rfl, rel⟩)
  · rcases pk_ix v1 (n := n) (by omega) with h | h | ⟨j, hj, e⟩
    · exact absurd h h0
    · have hn : ¬ v1 < nI n := Int32.not_lt.mpr h
      exact br_f h0 (br_f hn (br_f h0 (br_f hn ⟨rfl, rel⟩)))
    · rw [e] at h0 ⊢
      have sl : (nI hd + nI j) &&& 31 = nI ((hd + j) % 32) := by rw [nI_add, xx_and (by omega)]
      have hn : nI j < nI n := nI_lt hj (by omega)
      refine br_f h0 (br_t hn (And.intro (pk_in _ 32 (by omega) sl) (br_f h0 (br_t hn (And.intro (pk_in j 32 (by omega) rfl) ⟨?_, rel⟩)))))
      rw [yy_rd wv j rfl (by omega), yy_rd tx _ sl (by omega), htx _ (by omega) (by omega), hwv j hj]
theorem i_vc_distinct {k : Nat} {u : SX} {v : SY} (I : i_Rel k u v) (hk : k + 2 ≤ 1026) : wpX_distinct (fun r => wpY_distinct (fun r' => r' = r ∧ i_Rel (k + 2) u v) v) u := by
  refine zz_el (Q := fun u v => wpX_distinct (fun r => wpY_distinct (fun r' => r' = r ∧ i_Rel (k + 2) u v) v) u) ?_ I
  intro T A R a ms sy hd n dc fc an al ps lo ml th tl tx C D K P La Le F pt bd wv H
  have rel := zz_in (th := th) (tl := tl) (zz_up (show k ≤ k + 2 by omega) H)
  obtain ⟨⟨hs, TR, HA, htx, BD, hdc⟩, hhk, hms, hsy, hnm, hwv, hw4, hP, hb, ps32, hB, M, mp⟩ := H
  exact yy_distinct (h := hd) (T := T) (by omega) hwv hw4 ⟨by rw [hdc], rel⟩
section
variable {T : Nat → Nat} {A : Nat → Prop} {R : Nat → Nat} {a ms sy hd n dc fc an al ps lo ml : Nat} {th tl : Int32} {tx C D K P La Le F pt bd wv : Nat → Nat}
theorem zz_L (hs : a + al = hd + n) (I : ss_SI T hd a (hd + n) A R D C P 0) (HA : ss_AC T hd a al A R D an) : (∀ len, 0 < len → len < n → ((∃ s, hd ≤ s ∧ s < hd + n - len ∧ ss_eqs T s (hd + n - len) len) ↔ len ≤ al)) ∧ (al < n ∨ (n = 0 ∧ al = 0)) := by
  refine ⟨fun len l0 l1 => ss_tail I HA.1.2.2.2 hs l0 (by omega), ?_⟩
  have hb := I.1
  rcases HA.1.2.2.2 with z | ⟨s, s1, s2, s3⟩
  · by_cases n0 : n = 0
    · exact Or.inr ⟨n0, z⟩
    · exact Or.inl (by omega)
  · exact Or.inl (by omega)
theorem zz_tmY {Rl : Prop} {y : Nat} (hs : a + al = hd + n) (n32 : n ≤ 32) (hwv : ∀ j, j < n → wv j = T (hd + j)) (hw4 : ∀ j, wv j < 4) (I : ss_SI T hd a (hd + n) A R D C P 0) (HA : ss_AC T hd a al A R D an) (al0 : 0 < al) (q1 : hd ≤ La y) (q2 : La y < a) (q3 : ss_eqs T (La y) a al) (q4 : ∀ s, hd ≤ s → s < a → ss_eqs T s a al → s ≤ La y) (rel : Rl) : wpY_tailMatchPosition (fun r' => r' = nI (La y - hd) ∧ Rl) (nI n, nI ps, nI ms, nI sy, (fun j => nI (wv j)), (fun j => nI (pt j))) := by
  obtain ⟨k1, k2⟩ := zz_L hs I HA
  have ea : hd + (n - al) = a := by omega
  refine yy_tmp (h := hd) (T := T) n32 hwv hw4 k1 k2 (fun z => absurd z (by omega)) (fun i _ i1 i2 i3 => ⟨?_, rel⟩)
  rw [ea] at i2
  have l1 := q4 (hd + i) (by omega) (by omega) i2
  have l2 : ¬ (i < La y - hd) := fun z => i3 (La y - hd) z (by omega) (by rw [ea, show hd + (La y - hd) = La y by omega]; exact q3)
  congr 1
  omega
theorem zz_tm26 {post : Int32 → Prop} {y : Nat} (y64 : y < 64) (q1 : hd ≤ La y) (hp : post (nI (La y - hd))) : wX_tailMatchPosition_26 post (nI y) 0 (nI ms) (nI sy) (nI hd) (nI n) (nI dc) (nI fc) (nI an) (nI al) (nI ps) (nI lo) (nI ml) th tl (fun j => nI (tx j)) (fun j => nI (C j)) (fun j => nI (D j)) (fun j => nI (K j)) (fun j => nI (P j)) (fun j => nI (La j)) (fun j => nI (Le j)) (fun j => nI (F j)) (fun j => nI (pt j)) (fun j => nI (bd j)) := by
  refine And.intro (pk_in y 64 y64 rfl) (ek_v (P := post) ?_ hp)
  rw [yy_rd La y rfl (by omega), pk_sub q1]
end
theorem i_vc_tailMatch {k : Nat} {u : SX} {v : SY} (I : i_Rel k u v) (hk : k + 2 ≤ 1026) : wpX_tailMatch (fun r => wpY_tailMatch (fun r' => r' = r ∧ i_Rel (k + 2) u v) v) u := by
  refine zz_el (Q := fun u v => wpX_tailMatch (fun r => wpY_tailMatch (fun r' => r' = r ∧ i_Rel (k + 2) u v) v) u) ?_ I
  intro T A R a ms sy hd n dc fc an al ps lo ml th tl tx C D K P La Le F pt bd wv H
  have rel := zz_in (th := th) (tl := tl) (zz_up (show k ≤ k + 2 by omega) H)
  obtain ⟨⟨hs, TR, HA, htx, BD, hdc⟩, hhk, hms, hsy, hnm, hwv, hw4, hP, hb, ps32, hB, M, mp⟩ := H
  obtain ⟨k1, k2⟩ := zz_L hs TR.1 HA
  exact yy_tailMatch (h := hd) (T := T) (by omega) hwv hw4 k1 k2 ⟨rfl, rel⟩
theorem i_vc_tailMatchPosition {k : Nat} {u : SX} {v : SY} (I : i_Rel k u v) (hk : k + 2 ≤ 1026) : wpX_tailMatchPosition (fun r => wpY_tailMatchPosition (fun r' => r' = r ∧ i_Rel (k + 2) u v) v) u := by
  refine zz_el (Q := fun u v => wpX_tailMatchPosition (fun r => wpY_tailMatchPosition (fun r' => r' = r ∧ i_Rel (k + 2) u v) v) u) ?_ I
  intro T A R a ms sy hd n dc fc an al ps lo ml th tl tx C D K P La Le F pt bd wv H
  have rel := zz_in (th := th) (tl := tl) (zz_up (show k ≤ k + 2 by omega) H)
  obtain ⟨⟨hs, TR, HA, htx, BD, hdc⟩, hhk, hms, hsy, hnm, hwv, hw4, hP, hb, ps32, hB, M, mp⟩ := H
  obtain ⟨k1, k2⟩ := zz_L hs TR.1 HA
  obtain ⟨I1, HL, HN, HK, HF⟩ := TR
  have an32 := I1.2.2.1.2.2 an HA.1.1
  have hb1 := I1.1
  refine pk_eq al 0 (fun z => ?_) (fun z => ?_) rfl rfl (by omega)
  · exact yy_tmp (h := hd) (T := T) (by omega) hwv hw4 k1 k2 (fun _ => ⟨rfl, rel⟩) (fun i i0 => absurd i0 (by omega))
  · refine xx_explicit an32 (BD.2.2.1 an) (by omega) (fun e => ?_) (fun e => ?_)
    · have an0 : an ≠ 0 := by
        intro q
        rw [q, I1.2.2.1.2.1] at e
        exact z e
      have a3 := HA.1.2.2.1
      obtain ⟨q1, q2, q3, q4⟩ := HL an (Or.inl ⟨an32, HA.1.1⟩) an0
      have kk := ss_oi an32 q3
      rw [← e] at kk a3
      refine br_f (by decide) (zz_tm26 (by omega) q1 ?_)
      refine zz_tmY hs (by omega) hwv hw4 I1 HA (by omega) q1 q2 (ss_et kk.2 (ss_es a3)) (fun s s1 s2 s3 => q4 s s1 s2 (ss_io an32 (by rw [← e]; omega) (by rw [← e]; exact ss_et s3 a3))) rel
    · have a2 := HA.1.2.1
      obtain ⟨g1, g2, g3, g4, g5, g6⟩ := ss_edge I1 HA (by omega) (by omega)
      obtain ⟨q1, q2, q3, q4⟩ := HL _ g3 g2
      refine br_t rfl ?_
      refine xx_child (c := T (a + D an)) an32 (BD.2.2.1 an) (by omega) (by omega) (by rw [show hd + n - al = a by omega]; exact htx _ (by omega) (by omega)) g1 ?_
      refine zz_tm26 (BD.2.1 _) q1 ?_
      exact zz_tmY hs (by omega) hwv hw4 I1 HA (by omega) q1 q2 ((g6 _ q1 q2).mp q3) (fun s s1 s2 s3 => q4 s s1 s2 ((g6 s s1 s2).mpr s3)) rel
theorem i_vc_headMatch {k : Nat} {u : SX} {v : SY} (I : i_Rel k u v) (hk : k + 2 ≤ 1026) : wpX_headMatch (fun r => wpY_headMatch (fun r' => r' = r ∧ i_Rel (k + 2) u v) v) u := by
  refine zz_el (Q := fun u v => wpX_headMatch (fun r => wpY_headMatch (fun r' => r' = r ∧ i_Rel (k + 2) u v) v) u) ?_ I
  intro T A R a ms sy hd n dc fc an al ps lo ml th tl tx C D K P La Le F pt bd wv H
  have rel := zz_in (th := th) (tl := tl) (zz_up (show k ≤ k + 2 by omega) H)
  obtain ⟨⟨hs, TR, HA, htx, BD, hdc⟩, hhk, hms, hsy, hnm, hwv, hw4, hP, hb, ps32, hB, M, mp⟩ := H
  by_cases n0 : n = 0
  · subst n0
    exact xx_headMatch0 rfl (yy_headMatch0 ⟨rfl, rel⟩)
  · obtain ⟨I1, HL, HN, HK, HF⟩ := TR
    have an32 := I1.2.2.1.2.2 an HA.1.1
    have hb1 := I1.1
    have a2 := HA.1.2.1
    have ha : hd < a := by
      rcases HA.1.2.2.2 with z | ⟨s, s1, s2, s3⟩
      · omega
      · omega
    refine xx_headMatch (c := T (a + D an)) (by omega) an32 BD.2.2.1 (by omega) (by omega) (fun e => by rw [show hd + n - al = a by omega]; exact htx _ (by omega) (by omega)) (fun e => I1.2.1 _ (by omega) (by omega)) (BD.2.1 _) BD.2.2.2.2.1 (fun e1 e2 => ?_) (fun ne => ?_)
    · exact yy_headMatch (h := hd) (T := T) (by omega) (by omega) hwv hw4 (ss_hm1 I1 HA hs ha (by omega) e2) ⟨rfl, rel⟩
    · exact yy_headMatch (h := hd) (T := T) (by omega) (by omega) hwv hw4 (ss_hm2 I1 HA hs ha (fun z => ne ⟨by omega, z.2⟩)) ⟨rfl, rel⟩
theorem i_vc_clearPattern {k : Nat} {u : SX} {v : SY} (I : i_Rel k u v) (hk : k + 2 ≤ 1026) : wpX_clearPattern (fun u' => wpY_clearPattern (fun v' => i_Rel (k + 2) u' v') v) u := by
  refine zz_el (Q := fun u v => wpX_clearPattern (fun u' => wpY_clearPattern (fun v' => i_Rel (k + 2) u' v') v) u) ?_ I
  intro T A R a ms sy hd n dc fc an al ps lo ml th tl tx C D K P La Le F pt bd wv H
  obtain ⟨HI, hhk, hms, hsy, hnm, hwv, hw4, hP, hb, ps32, hB, M, mp⟩ := H
  exact zz_in (ps := 0) (lo := 0) (ml := 0) ⟨HI, by omega, hms, hsy, hnm, hwv, hw4, hP, hb, by omega, fun i hi => absurd hi (by omega), Or.inl ⟨rfl, rfl⟩, by omega⟩
theorem i_vc_patternLength {k : Nat} {u : SX} {v : SY} (I : i_Rel k u v) (hk : k + 2 ≤ 1026) : wpX_patternLength (fun r => wpY_patternLength (fun r' => r' = r ∧ i_Rel (k + 2) u v) v) u := by
  refine zz_el (Q := fun u v => wpX_patternLength (fun r => wpY_patternLength (fun r' => r' = r ∧ i_Rel (k + 2) u v) v) u) ?_ I
  intro T A R a ms sy hd n dc fc an al ps lo ml th tl tx C D K P La Le F pt bd wv H
  exact And.intro rfl (zz_in (zz_up (by omega) H))
theorem i_vc_patternAt {k : Nat} {u : SX} {v : SY} (I : i_Rel k u v) (hk : k + 2 ≤ 1026) (v1 : Int32) : wpX_patternAt (fun r => wpY_patternAt (fun r' => r' = r ∧ i_Rel (k + 2) u v) v v1) u v1 := by
  refine zz_el (Q := fun u v => wpX_patternAt (fun r => wpY_patternAt (fun r' => r' = r ∧ i_Rel (k + 2) u v) v v1) u v1) ?_ I
  intro T A R a ms sy hd n dc fc an al ps lo ml th tl tx C D K P La Le F pt bd wv H
  have rel := zz_in (th := th) (tl := tl) (zz_up (show k ≤ k + 2 by omega) H)
  have ps32 := H.2.2.2.2.2.2.2.2.2.1
  by_cases h0 : v1 < 0
  · exact br_t h0 (br_t h0 ⟨rfl, rel⟩)
  · rcases pk_ix v1 (n := ps) (by omega) with h | h | ⟨j, hj, e⟩
    · exact absurd h h0
    · have hn : ¬ v1 < nI ps := Int32.not_lt.mpr h
      exact br_f h0 (br_f hn (br_f h0 (br_f hn ⟨rfl, rel⟩)))
    · rw [e] at h0 ⊢
      have hn : nI j < nI ps := nI_lt hj (by omega)
      have vi := pk_in j 32 (by omega) rfl
      exact br_f h0 (br_t hn (And.intro vi (br_f h0 (br_t hn (And.intro vi ⟨rfl, rel⟩)))))
end
section
section
variable {T : Nat → Nat} {A : Nat → Prop} {R : Nat → Nat} {a ms sy hd n dc fc an al ps lo ml k k' : Nat} {th tl : Int32} {tx C D K P La Le F pt bd wv : Nat → Nat}
theorem zz_rm {lo' ml' : Nat} (hk : k ≤ k') (H : ss_RL k T A R a ms sy hd n dc fc an al ps lo ml tx C D K P La Le F pt bd wv) (M2 : ss_MI T hd a (hd + n) A D P La pt lo' ml') (mp2 : ml' ≤ ps) : ss_RL k' T A R a ms sy hd n dc fc an al ps lo' ml' tx C D K P La Le F pt bd wv := by
  obtain ⟨HI, hhk, hms, hsy, hnm, hwv, hw4, hP, hb, ps32, hB, M, mp⟩ := H
  exact ⟨HI, by omega, hms, hsy, hnm, hwv, hw4, hP, hb, ps32, hB, M2, mp2⟩
end
theorem i_vc_append {k : Nat} {u : SX} {v : SY} (I : i_Rel k u v) (hk : k + 2 ≤ 1026) (v1 : Int32) : wpX_append (fun r u' => wpY_append (fun r' v' => r' = r ∧ i_Rel (k + 2) u' v') v v1) u v1 := by
  refine zz_el (Q := fun u v => wpX_append (fun r u' => wpY_append (fun r' v' => r' = r ∧ i_Rel (k + 2) u' v') v v1) u v1) ?_ I
  intro T A R a ms sy hd n dc fc an al ps lo ml th tl tx C D K P La Le F pt bd wv H
  have rel := zz_in (th := th) (tl := tl) (zz_up (show k ≤ k + 2 by omega) H)
  obtain ⟨HI, hhk, hms, hsy, hnm, hwv, hw4, hP, hb, ps32, hB, M, mp⟩ := H
  unfold wpX_append wpX_isSymbol
  by_cases h0 : v1 < 0
  · exact br_t h0 (br_t rfl (br_t h0 ⟨rfl, rel⟩))
  · rcases pk_ix v1 (n := sy) (by omega) with h | h | ⟨q, hq, e⟩
    · exact absurd h h0
    · have hn : ¬ v1 < nI sy := Int32.not_lt.mpr h
      exact br_f h0 (br_t h (br_t rfl (br_f h0 (br_f hn ⟨rfl, rel⟩))))
    · rw [e] at h0 ⊢
      have q4 : q < 4 := by omega
      have hq1 : nI q < nI sy := nI_lt hq (by omega)
      have hq2 : ¬ nI sy ≤ nI q := Int32.not_le.mpr hq1
      refine br_f h0 (br_f hq2 (br_f (by decide) ?_))
      refine pk_eq n ms (fun e => ?_) (fun e => ?_)
      · refine xx_removeOldest HI (by omega) (by omega) (fun A1 a1 dc1 fc1 an1 al1 C1 P1 La1 Le1 F1 IN1 => ?_)
        unfold wX_append_29
        refine xx_addNewest (q := q) IN1 (by omega) q4 (by omega) (fun T2 A2 R2 a2 dc2 fc2 an2 al2 tx2 C2 D2 K2 P2 La2 Le2 t1 t2 IN2 => ?_)
        refine br_f h0 (br_t hq1 (pk_eq n ms (fun _ => ?_) (fun z => absurd e z)))
        refine yy_drop (by omega) (by omega) hw4 (fun w w1 w2 => ?_)
        refine And.intro (pk_in (n - 1) 32 (by omega) rfl) (nm_r (e' := fun j => nI (ss_u w (n - 1) q j)) ?_ (nm_r (nI_1 (n - 1)) (And.intro rfl ?_)))
        · rw [nI_clamp (by omega)]; exact ss_upd w _ _
        refine zz_in (hd := hd + 1) (n := n - 1 + 1) (lo := 0) (ml := 0) (wv := ss_u w (n - 1) q) ⟨IN2, by omega, hms, hsy, by omega, fun j hj => ?_, ss_ub w2 q4, hP, hb, ps32, hB, Or.inl ⟨rfl, rfl⟩, by omega⟩
        by_cases z : j = n - 1
        · rw [z, ss_us]; exact t2.symm
        · rw [ss_un w z, w1 j (by omega), hwv (j + 1) (by omega), t1 _ (by omega)]
          congr 1; omega
      · unfold wX_append_29
        refine xx_addNewest (q := q) HI (by omega) q4 (by omega) (fun T2 A2 R2 a2 dc2 fc2 an2 al2 tx2 C2 D2 K2 P2 La2 Le2 t1 t2 IN2 => ?_)
        refine br_f h0 (br_t hq1 (pk_eq n ms (fun z => absurd z e) (fun _ => ?_)))
        refine And.intro (pk_in n 32 (by omega) rfl) (nm_r (e' := fun j => nI (ss_u wv n q j)) ?_ (nm_r (nI_1 n) (And.intro rfl ?_)))
        · rw [nI_clamp (by omega)]; exact ss_upd wv _ _
        refine zz_in (n := n + 1) (lo := 0) (ml := 0) (wv := ss_u wv n q) ⟨IN2, by omega, hms, hsy, by omega, fun j hj => ?_, ss_ub hw4 q4, hP, hb, ps32, hB, Or.inl ⟨rfl, rfl⟩, by omega⟩
        by_cases z : j = n
        · rw [z, ss_us]; exact t2.symm
        · rw [ss_un wv z, hwv j (by omega), t1 _ (by omega)]
theorem i_vc_dropOldest {k : Nat} {u : SX} {v : SY} (I : i_Rel k u v) (hk : k + 2 ≤ 1026) : wpX_dropOldest (fun r u' => wpY_dropOldest (fun r' v' => r' = r ∧ i_Rel (k + 2) u' v') v) u := by
  refine zz_el (Q := fun u v => wpX_dropOldest (fun r u' => wpY_dropOldest (fun r' v' => r' = r ∧ i_Rel (k + 2) u' v') v) u) ?_ I
  intro T A R a ms sy hd n dc fc an al ps lo ml th tl tx C D K P La Le F pt bd wv H
  have rel := zz_in (th := th) (tl := tl) (zz_up (show k ≤ k + 2 by omega) H)
  obtain ⟨HI, hhk, hms, hsy, hnm, hwv, hw4, hP, hb, ps32, hB, M, mp⟩ := H
  refine pk_eq n 0 (fun e => ?_) (fun e => ?_)
  · have e0 : nI n = 0 := by rw [e]; rfl
    exact br_t e0 ⟨rfl, rel⟩
  · refine And.intro (pk_in (hd % 32) 32 (by omega) (xx_and (by omega))) (nm_r (e' := nI (wv 0)) ?_ ?_)
    · rw [yy_rd tx _ (xx_and (by omega)) (by omega), HI.2.2.2.1 hd (by omega) (by omega), hwv 0 (by omega)]
      rfl
    · refine xx_removeOldest HI (by omega) (by omega) (fun A1 a1 dc1 fc1 an1 al1 C1 P1 La1 Le1 F1 IN1 => ?_)
      unfold wpX_resetMatch
      dsimp only
      refine yy_drop (by omega) (by omega) hw4 (fun w w1 w2 => And.intro rfl ?_)
      refine zz_in (hd := hd + 1) (n := n - 1) (lo := 0) (ml := 0) (wv := w) ⟨IN1, by omega, hms, hsy, by omega, fun j hj => ?_, w2, hP, hb, ps32, hB, Or.inl ⟨rfl, rfl⟩, by omega⟩
      rw [w1 j (by omega), hwv (j + 1) (by omega)]
      congr 1; omega
section
variable {T : Nat → Nat} {A : Nat → Prop} {R : Nat → Nat} {a ms sy hd n dc fc an al ps lo ml k k' : Nat} {th tl : Int32} {tx C D K P La Le F pt bd wv : Nat → Nat}
theorem zz_mi_c {pt' : Nat → Nat} (e : ∀ j, j < ps → pt' j = pt j) (mp : ml ≤ ps) (M : ss_MI T hd a (hd + n) A D P La pt lo ml) : ss_MI T hd a (hd + n) A D P La pt' lo ml := by
  rcases M with M | ⟨m0, l0, nn, dp, dl, le, mt⟩
  · exact Or.inl M
  · exact Or.inr ⟨m0, l0, nn, dp, dl, le, fun i hi => by rw [e i (by omega)]; exact mt i hi⟩
theorem zz_feed {q b : Nat} (hk : k + 2 ≤ 1026) (H : ss_RL k T A R a ms sy hd n dc fc an al ps lo ml tx C D K P La Le F pt bd wv) (p32 : ps < 32) (q4 : q < 4) (hq1 : nI q < nI sy) (h0 : ¬ nI q < 0) (B : ss_bd (ss_u pt ps q) ps b) : wX_feed_48 (fun r u' => wpY_feed (fun r' v' => r' = r ∧ i_Rel (k + 2) u' v') (nI n, nI ps, nI ms, nI sy, (fun j => nI (wv j)), (fun j => nI (pt j))) (nI q)) (nI q) (nI b) 0 (nI ms) (nI sy) (nI hd) (nI n) (nI dc) (nI fc) (nI an) (nI al) (nI ps) (nI lo) (nI ml) th tl (fun j => nI (tx j)) (fun j => nI (C j)) (fun j => nI (D j)) (fun j => nI (K j)) (fun j => nI (P j)) (fun j => nI (La j)) (fun j => nI (Le j)) (fun j => nI (F j)) (fun j => nI (pt j)) (fun j => nI (bd j)) := by
  obtain ⟨HI, hhk, hms, hsy, hnm, hwv, hw4, hP, hb, ps32, hB, M, mp⟩ := H
  have HI' := HI
  obtain ⟨hs, ⟨I1, HL, HN, HK, HF⟩, HA, htx, BD, hdc⟩ := HI'
  have pin := pk_in ps 32 p32 rfl
  have ue : ∀ j, j < ps → ss_u pt ps q j = pt j := fun j hj => ss_un pt (by omega)
  have hP' := ss_ub (k := ps) hP q4
  have hb' := ss_ub (k := ps) hb (show b < 64 by have := B.1; omega)
  have hB' : ∀ i, i < ps + 1 → ss_bd (ss_u pt ps q) i (ss_u bd ps b i) := by
    intro i hi
    by_cases e : i = ps
    · rw [e, ss_us]; exact B
    · rw [ss_un bd e]
      exact ss_bd_c (hB i (by omega)) (fun j hj => ue j (by omega))
  have M' := zz_mi_c (pt' := ss_u pt ps q) ue mp M
  refine And.intro pin (nm_r (e' := fun j => nI (ss_u bd ps b j)) ?_ (And.intro pin (nm_r (e' := fun j => nI (ss_u pt ps q j)) ?_ (nm_r (nI_1 ps) ?_))))
  · rw [nI_clamp (by omega)]; exact ss_upd bd _ _
  · rw [nI_clamp (by omega)]; exact ss_upd pt _ _
  have yst : upd (fun j => nI (pt j)) (nI ps).toNatClampNeg (nI q) = fun j => nI (ss_u pt ps q j) := by
    rw [nI_clamp (by omega)]; exact ss_upd pt _ _
  refine xx_occurs I1 HL htx BD (by omega) (by omega) hP' M' (by omega) (fun lo2 ml2 e2 M2 => ?_) (fun lo2 ml2 M2 l2 N2 => ?_)
  · refine br_f (by decide) ?_
    refine br_f h0 (br_t hq1 (pk_eq ps 32 (fun z => absurd z (by omega)) (fun _ => And.intro pin (nm_r yst (nm_r (nI_1 ps) ?_)))))
    have rel2 : ss_RL (k + 2) T A R a ms sy hd n dc fc an al (ps+1) lo2 ml2 tx C D K P La Le F (ss_u pt ps q) (ss_u bd ps b) wv := ⟨HI, by omega, hms, hsy, hnm, hwv, hw4, hP', hb', by omega, hB', by rw [e2]; exact M2, by omega⟩
    refine yy_cpb (h := hd) (T := T) (by omega) (by omega) hwv hw4 hP' (Nat.le_refl _) (fun c c0 c1 ex => ?_) (fun N => ?_)
    · exact br_f (nI_nle c0 c1) (And.intro rfl (zz_in rel2))
    · rcases M2 with M2 | ⟨m0, l0, nn, dp, dl, le, mt⟩
      · omega
      · obtain ⟨q1, q2, q3, q5⟩ := HL lo2 nn l0
        exact absurd mt (N _ q1 (by have := I1.1; omega) le)
  · refine br_t rfl ?_
    refine br_f h0 (br_t hq1 (pk_eq ps 32 (fun z => absurd z (by omega)) (fun _ => And.intro pin (nm_r yst (nm_r (nI_1 ps) ?_)))))
    have rel2 : ss_RL (k + 2) T A R a ms sy hd n dc fc an al (ps+1) lo2 ml2 tx C D K P La Le F (ss_u pt ps q) (ss_u bd ps b) wv := ⟨HI, by omega, hms, hsy, hnm, hwv, hw4, hP', hb', by omega, hB', M2, by omega⟩
    have NA := ss_none_all HA.1.2.2.2 hs (by omega) N2
    refine yy_cpb (h := hd) (T := T) (by omega) (by omega) hwv hw4 hP' (Nat.le_refl _) (fun c c0 c1 ex => ?_) (fun N => ?_)
    · obtain ⟨s, s1, s2, s3, s4⟩ := ex
      exact absurd (ss_mtm s4 (show ml2 + 1 ≤ ps + 1 by omega)) (NA s s1 (by omega))
    · exact br_t (by decide) (And.intro rfl (zz_in rel2))
end
theorem i_vc_feed {k : Nat} {u : SX} {v : SY} (I : i_Rel k u v) (hk : k + 2 ≤ 1026) (v1 : Int32) : wpX_feed (fun r u' => wpY_feed (fun r' v' => r' = r ∧ i_Rel (k + 2) u' v') v v1) u v1 := by
  refine zz_el (Q := fun u v => wpX_feed (fun r u' => wpY_feed (fun r' v' => r' = r ∧ i_Rel (k + 2) u' v') v v1) u v1) ?_ I
  intro T A R a ms sy hd n dc fc an al ps lo ml th tl tx C D K P La Le F pt bd wv H
  have rel := zz_in (th := th) (tl := tl) (zz_up (show k ≤ k + 2 by omega) H)
  have H' := H
  obtain ⟨HI, hhk, hms, hsy, hnm, hwv, hw4, hP, hb, ps32, hB, M, mp⟩ := H'
  unfold wpX_feed wpX_isSymbol
  by_cases h0 : v1 < 0
  · exact br_t h0 (br_t rfl (br_t h0 ⟨rfl, rel⟩))
  · rcases pk_ix v1 (n := sy) (by omega) with h | h | ⟨q, hq, e⟩
    · exact absurd h h0
    · have hn : ¬ v1 < nI sy := Int32.not_lt.mpr h
      exact br_f h0 (br_t h (br_t rfl (br_f h0 (br_f hn ⟨rfl, rel⟩))))
    · rw [e] at h0 ⊢
      have q4 : q < 4 := by omega
      have hq1 : nI q < nI sy := nI_lt hq (by omega)
      have hq2 : ¬ nI sy ≤ nI q := Int32.not_le.mpr hq1
      refine br_f h0 (br_f hq2 (br_f (by decide) ?_))
      refine pk_lt ps 32 (fun p32 => ?_) (fun p32 => ?_)
      · refine pk_le ps 0 (fun p0 => ?_) (fun p0 => ?_)
        · have pz : ps = 0 := by omega
          refine zz_feed (b := 0) hk H p32 q4 hq1 h0 ?_
          rw [pz]; exact ss_bd0
        · have e1 : nI ps - 1 = nI (ps - 1) := pk_sub (a := ps) (b := 1) (by omega)
          refine And.intro (pk_in (ps - 1) 32 (by omega) e1) ?_
          rw [yy_rd bd (ps - 1) e1 (by omega)]
          have ue : ∀ j, j < ps → ss_u pt ps q j = pt j := fun j hj => ss_un pt (by omega)
          have st := ss_bd_st (p' := ss_u pt ps q) (hB (ps - 1) (by omega)) (fun j hj => ue j (by omega))
          rw [show ps - 1 + 1 = ps by omega] at st
          refine xx_nextState (U := ss_u pt ps q) (z0 := 1) (z := ps) ps32 hP hb hB q4 (ss_us _ _ _) st (fun r Hr => ?_)
          exact zz_feed hk H p32 q4 hq1 h0 (ss_st_bd Hr ue)
      · have pz : ps = 32 := by omega
        refine br_f h0 (br_t hq1 (pk_eq ps 32 (fun _ => ⟨rfl, rel⟩) (fun z => absurd pz z)))
theorem i_vc_matched {k : Nat} {u : SX} {v : SY} (I : i_Rel k u v) (hk : k + 2 ≤ 1026) : wpX_matched (fun r u' => wpY_matched (fun r' => r' = r ∧ i_Rel (k + 2) u' v) v) u := by
  refine zz_el (Q := fun u v => wpX_matched (fun r u' => wpY_matched (fun r' => r' = r ∧ i_Rel (k + 2) u' v) v) u) ?_ I
  intro T A R a ms sy hd n dc fc an al ps lo ml th tl tx C D K P La Le F pt bd wv H
  have H' := H
  obtain ⟨HI, hhk, hms, hsy, hnm, hwv, hw4, hP, hb, ps32, hB, M, mp⟩ := H'
  obtain ⟨hs, ⟨I1, HL, HN, HK, HF⟩, HA, htx, BD, hdc⟩ := HI
  unfold wpX_matched
  refine xx_advance I1 HL htx BD (by omega) ps32 hP M mp (fun lo2 ml2 M2 mp2 hh => ?_)
  refine yy_matched (h := hd) (T := T) (M := ml2) (by omega) ps32 hwv hw4 hP mp2 (fun m0 => ?_) (fun j j1 j2 s s1 s2 s3 s4 => ?_) (And.intro rfl (zz_in (zz_rm (show k ≤ k + 2 by omega) H M2 mp2)))
  · rcases M2 with M2 | ⟨m0, l0, nn, dp, dl, le, mt⟩
    · omega
    · obtain ⟨q1, q2, q3, q5⟩ := HL lo2 nn l0
      exact ⟨La lo2, q1, by have := I1.1; omega, le, mt⟩
  · rcases hh with hh | N
    · omega
    · exact ss_none_all HA.1.2.2.2 hs (by omega) N s s1 (by omega) (ss_mtm s4 (by omega))
end
section
theorem ss_cn_win {p : Nat → Prop} {h : Nat} (h1 : ∀ s, p s → h ≤ s) : ∀ n : Nat, (∀ s, h ≤ s → s < h + n → p s) → ss_cn p (h + n) = n := by
  intro n
  induction n with
  | zero => intro _; exact ss_cn_z (fun i hi q => by have := h1 i q; omega)
  | succ n ih =>
    intro H
    rw [← Nat.add_assoc, ss_cn_s, ih (fun s s1 s2 => H s s1 (by omega)), ss_b1 (H _ (by omega) (by omega))]
theorem zz_one {c : Nat} (hc : c < 4) : (1 : Int32) <<< (nI c &&& 31) = nI (ss_bs (fun x => x = c)) := by
  have k : ∀ c, c < 4 → ((1 : Int32) <<< (nI c &&& 31)) = nI 0 ||| ((1 : Int32) <<< (nI c &&& 31)) := by decide +kernel
  rw [k c hc, ← ss_bs_0, ss_bs_or hc]
  exact congrArg nI (ss_bs_c (fun x _ => ⟨fun q => q.elim (fun z => z.elim) id, Or.inr⟩))
section
variable {T : Nat → Nat} {A : Nat → Prop} {R : Nat → Nat} {a ms sy hd n dc fc an al ps lo ml k k' : Nat} {th tl : Int32} {tx C D K P La Le F pt bd wv : Nat → Nat}
theorem zz_total {g : Nat} (I1 : ss_SI T hd a (hd + n) A R D C P 0) (HL : ss_LA T hd a (hd + n) A R D La) (HN : ss_LE T hd a (hd + n) A R D Le) (ps0 : 0 < ps) (M2 : ss_MI T hd a (hd + n) A D P La pt lo ps) (hg : g = ss_cn (fun s => a ≤ s ∧ s + ps ≤ hd + n ∧ ss_mt pt T s ps) (hd + n)) : ss_cn (fun s => hd ≤ s ∧ s + ps ≤ hd + n ∧ ss_mt pt T s ps) (hd + n) = Le lo + g := by
  have hb := I1.1
  have nn : ss_nd hd a A lo := by
    rcases M2 with M2 | ⟨m0, l0, nn, _⟩
    · omega
    · exact nn
  have e1 : ss_cn (fun s => hd ≤ s ∧ s + ps ≤ hd + n ∧ ss_mt pt T s ps) (hd + n) = ss_cn (fun s => s < a ∧ hd ≤ s ∧ s + ps ≤ hd + n ∧ ss_mt pt T s ps) (hd + n) + ss_cn (fun s => a ≤ s ∧ s + ps ≤ hd + n ∧ ss_mt pt T s ps) (hd + n) := by
    refine ss_cn_or (fun s hs => ⟨fun q => ?_, fun q => ?_⟩) (fun s hs q z => by have := q.1; have := z.1; omega)
    · by_cases sa : s < a
      · exact Or.inl ⟨sa, q⟩
      · exact Or.inr ⟨by omega, q.2⟩
    · rcases q with q | q
      · exact q.2
      · exact ⟨by have := q.1; omega, q.2⟩
  have e2 : ss_cn (fun s => s < a ∧ hd ≤ s ∧ s + ps ≤ hd + n ∧ ss_mt pt T s ps) (hd + n) = Le lo := by
    rw [HN lo nn, ss_cn_x (n := a) (by omega) (fun i i1 i2 q => by have := q.1; omega)]
    refine ss_cn_c (fun s s2 => ⟨fun q => ⟨q.2.1, ?_⟩, fun q => ⟨s2, q.1, ?_⟩⟩)
    · exact (ss_mi_on I1 HL M2 ps0 q.2.1 s2).mpr q.2.2
    · exact (ss_mi_on I1 HL M2 ps0 q.1 s2).mp q.2
  rw [e1, e2, hg]
end
theorem i_vc_occurrences {k : Nat} {u : SX} {v : SY} (I : i_Rel k u v) (hk : k + 2 ≤ 1026) : wpX_occurrences (fun r u' => wpY_occurrences (fun r' => r' = r ∧ i_Rel (k + 2) u' v) v) u := by
  refine zz_el (Q := fun u v => wpX_occurrences (fun r u' => wpY_occurrences (fun r' => r' = r ∧ i_Rel (k + 2) u' v) v) u) ?_ I
  intro T A R a ms sy hd n dc fc an al ps lo ml th tl tx C D K P La Le F pt bd wv H
  have H' := H
  obtain ⟨HI, hhk, hms, hsy, hnm, hwv, hw4, hP, hb, ps32, hB, M, mp⟩ := H'
  obtain ⟨hs, ⟨I1, HL, HN, HK, HF⟩, HA, htx, BD, hdc⟩ := HI
  refine pk_eq ps 0 (fun e => ?_) (fun e => ?_)
  · have rel := zz_in (th := th) (tl := tl) (zz_up (show k ≤ k + 2 by omega) H)
    unfold wpY_occurrences
    refine yy_cp (h := hd) (T := T) (by omega) ps32 hwv hw4 hP (Nat.le_refl _) (And.intro ?_ rel)
    rw [ss_cn_win (h := hd) (fun s q => q.1) n (fun s s1 s2 => ⟨s1, by omega, by rw [e]; exact ss_mt0⟩)]
  · refine xx_occurs I1 HL htx BD (by omega) ps32 hP M mp (fun lo2 ml2 e2 M2 => ?_) (fun lo2 ml2 M2 l2 N2 => ?_)
    · refine br_f (by decide) ?_
      refine xx_scanTail (T := T) (a := a) (fun i i1 i2 => I1.2.1 i i1 i2) htx (by omega) (by have := I1.1; omega) hs (by omega) ps32 hP hb hB (fun g tl2 hg hl => ?_)
      have lo64 : lo2 < 64 := by
        rcases M2 with M2 | ⟨m0, l0, nn, _⟩
        · omega
        · exact ss_nd64 I1.2.2.1.2.2 nn
      refine And.intro (pk_in lo2 64 lo64 rfl) ?_
      unfold wpY_occurrences
      refine yy_cp (h := hd) (T := T) (by omega) ps32 hwv hw4 hP (Nat.le_refl _) (And.intro ?_ (zz_in (zz_rm (show k ≤ k + 2 by omega) H (by rw [e2]; exact M2) (by omega))))
      rw [yy_rd Le lo2 rfl (by omega), nI_add, zz_total I1 HL HN (by omega) M2 hg]
    · refine br_t rfl ?_
      unfold wpY_occurrences
      refine yy_cp (h := hd) (T := T) (by omega) ps32 hwv hw4 hP (Nat.le_refl _) (And.intro ?_ (zz_in (zz_rm (show k ≤ k + 2 by omega) H M2 (by omega))))
      have NA := ss_none_all HA.1.2.2.2 hs (by omega) N2
      rw [ss_cn_z (fun s s2 q => NA s q.1 (by have := q.2.1; omega) (ss_mtm q.2.2 (by omega)))]
      rfl
theorem i_vc_lastPosition {k : Nat} {u : SX} {v : SY} (I : i_Rel k u v) (hk : k + 2 ≤ 1026) : wpX_lastPosition (fun r u' => wpY_lastPosition (fun r' => r' = r ∧ i_Rel (k + 2) u' v) v) u := by
  refine zz_el (Q := fun u v => wpX_lastPosition (fun r u' => wpY_lastPosition (fun r' => r' = r ∧ i_Rel (k + 2) u' v) v) u) ?_ I
  intro T A R a ms sy hd n dc fc an al ps lo ml th tl tx C D K P La Le F pt bd wv H
  have H' := H
  obtain ⟨HI, hhk, hms, hsy, hnm, hwv, hw4, hP, hb, ps32, hB, M, mp⟩ := H'
  obtain ⟨hs, ⟨I1, HL, HN, HK, HF⟩, HA, htx, BD, hdc⟩ := HI
  have hb1 := I1.1
  refine pk_eq ps 0 (fun e => ?_) (fun e => ?_)
  · have rel := zz_in (th := th) (tl := tl) (zz_up (show k ≤ k + 2 by omega) H)
    refine yy_lastPosition (h := hd) (T := T) (by omega) ps32 hwv hw4 hP (fun i i1 i2 i3 i4 => And.intro ?_ rel) (fun N => And.intro ?_ rel)
    · have l : ¬ i < n - 1 := fun z => i4 (n - 1) z (by omega) ⟨by omega, by rw [e]; exact ss_mt0⟩
      have e1 : nI n - 1 = nI (n - 1) := pk_sub (a := n) (b := 1) (by omega)
      rw [e1]
      congr 1
      omega
    · have n0 : n = 0 := by
        by_cases z : n = 0
        · exact z
        · exact absurd ⟨by omega, by rw [e]; exact ss_mt0⟩ (N 0 (by omega))
      rw [n0]
      decide
  · refine xx_occurs I1 HL htx BD (by omega) ps32 hP M mp (fun lo2 ml2 e2 M2 => ?_) (fun lo2 ml2 M2 l2 N2 => ?_)
    · refine br_f (by decide) ?_
      have M2' := M2
      rcases M2' with M2' | ⟨m0, l0, nn, dp, dl, le, mt⟩
      · omega
      obtain ⟨q1, q2, q3, q5⟩ := HL lo2 nn l0
      have lo64 : lo2 < 64 := ss_nd64 I1.2.2.1.2.2 nn
      refine xx_scanTail (T := T) (a := a) (fun i i1 i2 => I1.2.1 i i1 i2) htx (by omega) (by omega) hs (by omega) ps32 hP hb hB (fun g tl2 hg hl => ?_)
      have rel := zz_in (th := nI g) (tl := tl2) (zz_rm (lo' := lo2) (ml' := ml2) (show k ≤ k + 2 by omega) H (by rw [e2]; exact M2) (by omega))
      have gle : g ≤ hd + n := by rw [hg]; exact ss_cn_le
      have some : ¬ ∀ i, i < n → ¬ (hd + i + ps ≤ hd + n ∧ ss_mt pt T (hd + i) ps) := by
        intro N
        refine N (La lo2 - hd) (by omega) ⟨by omega, ?_⟩
        rw [show hd + (La lo2 - hd) = La lo2 by omega]
        exact mt
      refine pk_le g 0 (fun g0 => ?_) (fun g0 => ?_)
      · have gz : g = 0 := by omega
        refine And.intro (pk_in lo2 64 lo64 rfl) ?_
        refine yy_lastPosition (h := hd) (T := T) (by omega) ps32 hwv hw4 hP (fun i i1 i2 i3 i4 => And.intro ?_ rel) (fun N => absurd N some)
        have ia : hd + i < a := by
          by_cases z : hd + i < a
          · exact z
          · have := ss_cn_pos (p := fun s => a ≤ s ∧ s + ps ≤ hd + n ∧ ss_mt pt T s ps) (j := hd + i) ⟨by omega, i2, i3⟩ (show hd + i < hd + n by omega)
            omega
        have l1 := q5 (hd + i) (by omega) ia ((ss_mi_on I1 HL M2 (by omega) (by omega) ia).mpr ⟨i2, i3⟩)
        have l2 : ¬ i < La lo2 - hd := fun z => i4 (La lo2 - hd) z (by omega) ⟨by omega, by rw [show hd + (La lo2 - hd) = La lo2 by omega]; exact mt⟩
        rw [yy_rd La lo2 rfl (by omega), pk_sub q1]
        congr 1
        omega
      · rcases hl with hl | hl
        · omega
        · refine yy_lastPosition (h := hd) (T := T) (by omega) ps32 hwv hw4 hP (fun i i1 i2 i3 i4 => And.intro ?_ rel) (fun N => absurd N some)
          obtain ⟨s, s1, s2, s3, s4, s5⟩ := hl
          have l2 : ¬ i < s - hd := fun z => i4 (s - hd) z (by omega) ⟨by omega, by rw [show hd + (s - hd) = s by omega]; exact s3⟩
          have l1 := s4 (hd + i) (by omega) i2 i3
          rw [s5]
          congr 1
          omega
    · refine br_t rfl ?_
      have NA := ss_none_all HA.1.2.2.2 hs (by omega) N2
      refine yy_lastPosition (h := hd) (T := T) (by omega) ps32 hwv hw4 hP (fun i i1 i2 i3 i4 => ?_) (fun N => And.intro rfl (zz_in (zz_rm (show k ≤ k + 2 by omega) H M2 (by omega))))
      exact absurd (ss_mtm i3 (by omega)) (NA (hd + i) (by omega) (by omega))
theorem i_vc_followers {k : Nat} {u : SX} {v : SY} (I : i_Rel k u v) (hk : k + 2 ≤ 1026) : wpX_followers (fun r u' => wpY_followers (fun r' => r' = r ∧ i_Rel (k + 2) u' v) v) u := by
  refine zz_el (Q := fun u v => wpX_followers (fun r u' => wpY_followers (fun r' => r' = r ∧ i_Rel (k + 2) u' v) v) u) ?_ I
  intro T A R a ms sy hd n dc fc an al ps lo ml th tl tx C D K P La Le F pt bd wv H
  have H' := H
  obtain ⟨HI, hhk, hms, hsy, hnm, hwv, hw4, hP, hb, ps32, hB, M, mp⟩ := H'
  obtain ⟨hs, ⟨I1, HL, HN, HK, HF⟩, HA, htx, BD, hdc⟩ := HI
  have hb1 := I1.1
  have b1 := BD.1
  have b2 := BD.2.1
  have b3 := BD.2.2.1
  have b6 := BD.2.2.2.2.2.1
  unfold wpX_followers
  refine xx_occurs I1 HL htx BD (by omega) ps32 hP M mp (fun lo2 ml2 e2 M2 => ?_) (fun lo2 ml2 M2 l2 N2 => ?_)
  · refine br_f (by decide) ?_
    have rel := zz_in (th := th) (tl := tl) (zz_rm (lo' := lo2) (ml' := ml2) (show k ≤ k + 2 by omega) H (by rw [e2]; exact M2) (by omega))
    have lo64 : lo2 < 64 := by
      rcases M2 with M2 | ⟨m0, l0, nn, _⟩
      · omega
      · exact ss_nd64 I1.2.2.1.2.2 nn
    have lol : 32 ≤ lo2 → hd ≤ La lo2 ∧ La lo2 < a ∧ ss_on T (hd + n) R D (La lo2) lo2 ∧ 0 < ps ∧ La lo2 + ps ≤ hd + n ∧ ss_mt pt T (La lo2) ps := by
      intro l
      rcases M2 with M2 | ⟨m0, l0, nn, dp, dl, le, mt⟩
      · omega
      · obtain ⟨q1, q2, q3, q5⟩ := HL lo2 nn l0
        exact ⟨q1, q2, q3, m0, le, mt⟩
    have lfs : ∀ c, (∃ s, hd ≤ s ∧ s + ps < hd + n ∧ ss_mt pt T s ps ∧ T (s + ps) = c) → ∃ s, hd ≤ s ∧ s < a ∧ s + ps < hd + n ∧ ss_mt pt T s ps ∧ T (s + ps) = c := by
      intro c ⟨s, s1, s2, s3, s4⟩
      obtain ⟨t, t1, t2, t3, t4⟩ := ss_imp HA.1.2.2.2 hs s s1 (by omega)
      exact ⟨t, t1, t2, by omega, ss_mte s3 (ss_es (ss_em t4 (by omega))), by rw [t4 ps (by omega)]; exact s4⟩
    have inn : lo2 ≠ 0 → hd ≤ La lo2 → La lo2 < a → La lo2 + ps < hd + n → ss_on T (hd + n) R D (La lo2) lo2 → 0 < ps → ss_mt pt T (La lo2) ps → (lo2 < 32 → ps < D lo2) → (vp_in (nI lo2) 64 ∧ (vp_in (((fun j => nI (La j)) (nI lo2).toNatClampNeg + nI ps) &&& 31) 32 ∧ wpY_followers (fun r' => r' = (1 : Int32) <<< (((fun j => nI (tx j)) (((fun j => nI (La j)) (nI lo2).toNatClampNeg + nI ps) &&& 31).toNatClampNeg) &&& 31) ∧ i_Rel (k + 2) (0, nI ms, nI sy, nI hd, nI n, nI dc, nI fc, nI an, nI al, nI ps, nI lo2, nI ml2, th, tl, (fun j => nI (tx j)), (fun j => nI (C j)), (fun j => nI (D j)), (fun j => nI (K j)), (fun j => nI (P j)), (fun j => nI (La j)), (fun j => nI (Le j)), (fun j => nI (F j)), (fun j => nI (pt j)), (fun j => nI (bd j))) (nI n, nI ps, nI ms, nI sy, (fun j => nI (wv j)), (fun j => nI (pt j)))) (nI n, nI ps, nI ms, nI sy, (fun j => nI (wv j)), (fun j => nI (pt j))))) := by
      intro l0 g1 g2 g3 g4 g5 g6 g7
      have bL := b6 lo2
      have sl : ((fun j => nI (La j)) (nI lo2).toNatClampNeg + nI ps) &&& 31 = nI ((La lo2 + ps) % 32) := by
        rw [yy_rd La _ rfl (by omega), nI_add, xx_and (by omega)]
      refine And.intro (pk_in lo2 64 lo64 rfl) (And.intro (pk_in _ 32 (by omega) sl) ?_)
      refine yy_followers (h := hd) (T := T) (by omega) ps32 hwv hw4 hP (And.intro ?_ rel)
      have t4 := I1.2.1 (La lo2 + ps) (by omega) g3
      rw [yy_rd tx _ sl (by omega), htx _ (by omega) g3, zz_one t4]
      refine congrArg nI (ss_bs_c (fun c _ => ⟨fun q => ?_, fun q => ⟨La lo2, g1, g3, g6, q.symm⟩⟩))
      obtain ⟨s, s1, s2, s3, s4, s5⟩ := lfs c q
      have so := (ss_mi_on I1 HL M2 g5 s1 s2).mpr ⟨by omega, s4⟩
      rw [← s5]
      by_cases y32 : lo2 < 32
      · have k1 := ss_oi y32 so
        have k2 := ss_oi y32 g4
        exact (ss_et k1.2 (ss_es k2.2)) ps (g7 y32)
      · have z := ss_oe (by omega) s1 s2 g1 g2 (by omega) so g4
        rw [z]
    refine xx_depthOf lo64 (fun l => ?_) (fun l => by have := lol l; omega) (fun l => ?_)
    · have bD := b3 lo2
      refine pk_le (D lo2) ps (fun g => ?_) (fun g => ?_)
      · refine xx_isLeaf (by omega) (fun _ => ?_) (fun z => absurd z (by omega))
        refine br_t rfl ?_
        have dl : D lo2 = ps ∧ A lo2 := by
          rcases M2 with M2 | ⟨m0, l0, nn, dp, dl, le, mt⟩
          · rw [M2.1, M2.2]; exact ⟨I1.2.2.1.2.1, I1.2.2.1.1⟩
          · have := dl l
            exact ⟨by omega, ss_nda nn l⟩
        refine xx_childSet l b2 ?_
        refine yy_followers (h := hd) (T := T) (by omega) ps32 hwv hw4 hP (And.intro ?_ rel)
        refine congrArg nI (ss_bs_c (fun c c4 => ⟨fun q => ?_, fun q => ?_⟩))
        · obtain ⟨s, s1, s2, s3, s4, s5⟩ := lfs c q
          have so : ss_on T (hd + n) R D s lo2 := by
            by_cases p0 : 0 < ps
            · exact (ss_mi_on I1 HL M2 p0 s1 s2).mpr ⟨by omega, s4⟩
            · have z : D lo2 = 0 := by omega
              exact ss_io l (by omega) (by rw [z]; exact ss_e0)
          intro z
          have := I1.2.2.2.2.2.1 lo2 c dl.2 c4 z s s1 s2 so
          rw [dl.1] at this
          exact this s5
        · obtain ⟨n1, n2, n3, ⟨s, s1, s2, so, sx, sc⟩, n5⟩ := I1.2.2.2.2.2.2.1 lo2 c _ dl.2 c4 rfl q
          have kk := ss_oi l sx
          rw [dl.1] at sc kk
          refine ⟨s, s1, kk.1, ?_, sc⟩
          by_cases p0 : 0 < ps
          · exact ((ss_mi_on I1 HL M2 p0 s1 s2).mp sx).2
          · have z : ps = 0 := by omega
            rw [z]; exact ss_mt0
      · have M2' := M2
        rcases M2' with M2' | ⟨m0, l0, nn, dp, dl, le, mt⟩
        · rw [M2'.2, I1.2.2.1.2.1] at g
          omega
        · obtain ⟨q1, q2, q3, q5⟩ := HL lo2 nn l0
          have kk := ss_oi l q3
          exact inn l0 q1 q2 (by omega) q3 m0 mt (fun _ => g)
    · obtain ⟨q1, q2, q3, m0, le, mt⟩ := lol l
      refine pk_le (hd + n - La lo2) ps (fun g => ?_) (fun g => ?_)
      · refine xx_isLeaf (by omega) (fun z => absurd z (by omega)) (fun _ => ?_)
        refine br_f (by decide) ?_
        refine yy_followers (h := hd) (T := T) (by omega) ps32 hwv hw4 hP (And.intro ?_ rel)
        refine Eq.trans (congrArg nI (ss_bs_c (q := fun _ => False) (fun c c4 => ⟨fun q => ?_, fun q => q.elim⟩))) (by rw [ss_bs_0]; rfl)
        obtain ⟨s, s1, s2, s3, s4, s5⟩ := lfs c q
        have so := (ss_mi_on I1 HL M2 m0 s1 s2).mpr ⟨by omega, s4⟩
        have z := ss_oe (by omega) s1 s2 q1 q2 l so q3
        omega
      · exact inn (by omega) q1 q2 (by omega) q3 m0 mt (fun z => absurd z (by omega))
  · refine br_t rfl ?_
    have NA := ss_none_all HA.1.2.2.2 hs (by omega) N2
    refine yy_followers (h := hd) (T := T) (by omega) ps32 hwv hw4 hP (And.intro ?_ (zz_in (zz_rm (show k ≤ k + 2 by omega) H M2 (by omega))))
    refine Eq.trans (congrArg nI (ss_bs_c (q := fun _ => False) (fun c c4 => ⟨fun q => ?_, fun q => q.elim⟩))) (by rw [ss_bs_0]; rfl)
    obtain ⟨s, s1, s2, s3, s4⟩ := q
    exact NA s s1 (by omega) (ss_mtm s3 (by omega))
end
