section
/-! pure rows to paste: stores, nI and lN arithmetic, masks, shifts, narrowing, branches by naturals (pk_le, pk_lt, pk_eq), loops (lp1 .. lp16: the measure of the state; rp1 ..: recursion), negatives. Take what you need -/
theorem pk_us {f : Nat → Int32} {k : Nat} {x : Int32} : upd f k x k = x := if_pos rfl
theorem pk_un {f : Nat → Int32} {k j : Nat} {x : Int32} (h : j ≠ k) : upd f k x j = f j := if_neg h
theorem pk_uLs {f : Nat → Int64} {k : Nat} {x : Int64} : vp_updL f k x k = x := if_pos rfl
theorem pk_uLn {f : Nat → Int64} {k j : Nat} {x : Int64} (h : j ≠ k) : vp_updL f k x j = f j := if_neg h
theorem pk_sub {a b : Nat} (h : b ≤ a) : nI a - nI b = nI (a - b) := by
  obtain ⟨c, rfl⟩ : ∃ c, a = c + b := ⟨a - b, by omega⟩
  rw [← nI_add, Int32.add_sub_cancel, Nat.add_sub_cancel]
theorem pk_m1 (n : Nat) : nI (n + 1) + (-1) = nI n := by
  rw [← nI_1, Int32.add_assoc, show (1 : Int32) + (-1) = 0 from rfl, Int32.add_zero]
theorem pk_mul (a b : Nat) : nI a * nI b = nI (a * b) := (Int32.ofNat_mul a b).symm
theorem pk_div {a d : Nat} (ha : a < 2 ^ 31) (h0 : 0 < d) (hd : d < 2 ^ 31) : nI a / nI d = nI (a / d) := by
  apply Int32.toInt_inj.mp
  rw [lg_idiv_nonneg (by rw [nI_toInt ha]; omega) (by rw [nI_toInt hd]; omega), nI_toInt ha, nI_toInt hd, nI_toInt (Nat.lt_of_le_of_lt (Nat.div_le_self a d) ha)]
  first | rfl | exact (Int.natCast_ediv _ _).symm
theorem pk_rem {a d : Nat} (ha : a < 2 ^ 31) (h0 : 0 < d) (hd : d < 2 ^ 31) : nI a - nI a / nI d * nI d = nI (a % d) := by
  rw [pk_div ha h0 hd, pk_mul, pk_sub (Nat.div_mul_le_self a d)]
  exact congrArg nI (by have := Nat.div_add_mod' a d; omega)
theorem pk_sub_toInt {a b : Nat} (ha : a < 2 ^ 30) (hb : b < 2 ^ 30) : (nI a - nI b).toInt = (a : Int) - b := by
  rw [Int32.toInt_sub, nI_toInt (by omega), nI_toInt (by omega)]
  exact Int.bmod_eq_of_le (by omega) (by omega)
theorem pk_sneg {a b : Nat} (hb : b < 2 ^ 30) (h : a < b) : nI a - nI b < 0 := by
  rw [Int32.lt_iff_toInt_lt, pk_sub_toInt (by omega) hb, show (0 : Int32).toInt = 0 from by decide]
  omega
theorem pk_ix (x : Int32) {n : Nat} (hn : n < 2 ^ 31) : x < 0 ∨ nI n ≤ x ∨ ∃ j : Nat, j < n ∧ x = nI j := by
  by_cases h : x < 0
  · exact Or.inl h
  · obtain ⟨j, hj, rfl⟩ := nI_of h
    by_cases h2 : j < n
    · exact Or.inr (Or.inr ⟨j, h2, rfl⟩)
    · exact Or.inr (Or.inl (nI_le (by omega) hj))
theorem pk_le {x y : Int32} {A B : Prop} (a b : Nat) (f : a ≤ b → A) (g : b < a → B) (hx : x = nI a := by rfl) (hy : y = nI b := by rfl) (ha : a < 2 ^ 31 := by omega) (hb : b < 2 ^ 31 := by omega) : (x ≤ y → A) ∧ (¬ x ≤ y → B) := by
  subst hx hy
  rw [nI_leI ha hb]
  exact ⟨f, fun z => g (by omega)⟩
theorem pk_lt {x y : Int32} {A B : Prop} (a b : Nat) (f : a < b → A) (g : b ≤ a → B) (hx : x = nI a := by rfl) (hy : y = nI b := by rfl) (ha : a < 2 ^ 31 := by omega) (hb : b < 2 ^ 31 := by omega) : (x < y → A) ∧ (¬ x < y → B) := by
  subst hx hy
  rw [nI_ltI ha hb]
  exact ⟨f, fun z => g (by omega)⟩
theorem pk_eq {x y : Int32} {A B : Prop} (a b : Nat) (f : a = b → A) (g : a ≠ b → B) (hx : x = nI a := by rfl) (hy : y = nI b := by rfl) (ha : a < 2 ^ 31 := by omega) (hb : b < 2 ^ 31 := by omega) : (x = y → A) ∧ (¬ x = y → B) := by
  subst hx hy
  rw [nI_eq ha hb]
  exact ⟨f, g⟩
theorem pk_in {x : Int32} (n N : Nat) (h : n < N) (hx : x = nI n := by rfl) (hN : N < 2 ^ 31 := by omega) : vp_in x N := by
  subst hx
  exact vp_in_nI h hN
theorem pk_cl {x : Int32} (n : Nat) (hx : x = nI n := by rfl) (h : n < 2 ^ 31 := by omega) : x.toNatClampNeg = n := by
  subst hx
  exact nI_clamp h
theorem pk_tn {n : Nat} (h : n < 2 ^ 32) : (nI n).toBitVec.toNat = n := Nat.mod_eq_of_lt h
theorem pk_and (x : Int32) {m : Int32} (k : Nat) (hm : m.toBitVec.toNat = 2 ^ k - 1) : x &&& m = nI (x.toBitVec.toNat % 2 ^ k) := by
  apply Int32.toBitVec_inj.mp
  apply BitVec.eq_of_toNat_eq
  rw [Int32.toBitVec_and, BitVec.toNat_and, hm, Nat.and_two_pow_sub_one_eq_mod]
  show _ = (BitVec.ofNat 32 _).toNat
  rw [BitVec.toNat_ofNat]
  exact (Nat.mod_eq_of_lt (Nat.lt_of_le_of_lt (Nat.mod_le _ _) x.toBitVec.isLt)).symm
theorem pk_andN {n : Nat} (h : n < 2 ^ 32) {m : Int32} (k : Nat) (hm : m.toBitVec.toNat = 2 ^ k - 1) : nI n &&& m = nI (n % 2 ^ k) := by
  rw [pk_and _ k hm, pk_tn h]
theorem pk_andE (x : Int32) {m : Int32} (k : Nat) (hm : m.toBitVec.toNat = 2 ^ k - 1) : ∃ j : Nat, j < 2 ^ k ∧ x &&& m = nI j := ⟨_, Nat.mod_lt _ (Nat.two_pow_pos k), pk_and x k hm⟩
theorem pk_andIn (x : Int32) {m : Int32} (k : Nat) (hm : m.toBitVec.toNat = 2 ^ k - 1) (hk : k ≤ 30) : vp_in (x &&& m) (2 ^ k) := by
  obtain ⟨j, hj, e⟩ := pk_andE x k hm
  rw [e]
  exact vp_in_nI hj (Nat.lt_of_le_of_lt (Nat.pow_le_pow_right (by decide) hk) (by decide))
theorem pk_shl (a s : Int32) (k : Nat) (hs : (s.toBitVec.smod 32).toNat = k) : (a <<< s).toBitVec.toNat = a.toBitVec.toNat * 2 ^ k % 2 ^ 32 := by
  show (a.toBitVec <<< (s.toBitVec.smod 32).toNat).toNat = _
  rw [hs, BitVec.toNat_shiftLeft, Nat.shiftLeft_eq]
theorem pk_shlN {n : Nat} (s : Int32) (k : Nat) (hs : (s.toBitVec.smod 32).toNat = k) (h : n * 2 ^ k < 2 ^ 32) : nI n <<< s = nI (n * 2 ^ k) := by
  apply Int32.toBitVec_inj.mp
  apply BitVec.eq_of_toNat_eq
  have hn : n < 2 ^ 32 := Nat.lt_of_le_of_lt (Nat.le_mul_of_pos_right n (Nat.two_pow_pos k)) h
  rw [pk_shl _ _ k hs, pk_tn hn, pk_tn h, Nat.mod_eq_of_lt h]
theorem pk_shr (a s : Int32) (k : Nat) (hs : (s.toBitVec.smod 32).toNat = k) : (a >>> s).toInt = a.toInt >>> k := by
  show (a.toBitVec.sshiftRight (s.toBitVec.smod 32).toNat).toInt = _
  rw [hs, BitVec.toInt_sshiftRight]
  rfl
theorem pk_shrN {n : Nat} (h : n < 2 ^ 31) (s : Int32) (k : Nat) (hs : (s.toBitVec.smod 32).toNat = k) : nI n >>> s = nI (n / 2 ^ k) := by
  apply Int32.toInt_inj.mp
  have h2 : n / 2 ^ k ≤ n := Nat.div_le_self _ _
  rw [pk_shr _ _ k hs, nI_toInt h, nI_toInt (by omega), Int.shiftRight_eq_div_pow]
  rfl
theorem pk_ushr (x s : Int32) (k : Nat) (hs : ((s.toUInt32 &&& Int32.toUInt32 31).toBitVec % 32).toNat = k) : (x.toUInt32 >>> (s.toUInt32 &&& Int32.toUInt32 31)).toInt32.toBitVec.toNat = x.toBitVec.toNat / 2 ^ k := by
  have e : (x.toUInt32 >>> (s.toUInt32 &&& Int32.toUInt32 31)).toInt32.toBitVec = x.toBitVec >>> k := by
    rw [← hs]
    exact UInt32.toBitVec_shiftRight _ _
  rw [e, BitVec.toNat_ushiftRight, Nat.shiftRight_eq_div_pow]
theorem pk_ushrN {n : Nat} (hn : n < 2 ^ 32) (s : Int32) (k : Nat) (hs : ((s.toUInt32 &&& Int32.toUInt32 31).toBitVec % 32).toNat = k) : ((nI n).toUInt32 >>> (s.toUInt32 &&& Int32.toUInt32 31)).toInt32 = nI (n / 2 ^ k) := by
  apply Int32.toBitVec_inj.mp
  apply BitVec.eq_of_toNat_eq
  rw [pk_ushr _ s k hs, pk_tn hn, pk_tn (Nat.lt_of_le_of_lt (Nat.div_le_self _ _) hn)]
theorem pk_nb (z : Int32) : narrow .byte (.int z.toInt8.toInt32) = .int z.toInt8.toInt32 := congrArg Value.int (by simp)
theorem pk_ns (z : Int32) : narrow .short (.int z.toInt16.toInt32) = .int z.toInt16.toInt32 := congrArg Value.int (by simp)
theorem pk_fb (r : Int32) : fits .byte (.int r.toInt8.toInt32) = true := by
  have ⟨a, b⟩ := lg_i2b_range r
  have h1 : (-128 : Int32).toInt = -128 := by decide
  have h2 : (127 : Int32).toInt = 127 := by decide
  simp only [fits, Bool.and_eq_true, decide_eq_true_eq, Int32.le_iff_toInt_le, h1, h2]
  omega
theorem pk_fs (r : Int32) : fits .short (.int r.toInt16.toInt32) = true := by
  have ⟨a, b⟩ := lg_i2s_range r
  have h1 : (-32768 : Int32).toInt = -32768 := by decide
  have h2 : (32767 : Int32).toInt = 32767 := by decide
  simp only [fits, Bool.and_eq_true, decide_eq_true_eq, Int32.le_iff_toInt_le, h1, h2]
  omega
theorem pk_charN {q : Nat} (hq : q < 65536) : narrow .char (.int (nI q)) = .int (nI q) ∧ fits .char (.int (nI q)) = true := by
  constructor
  · have e : (nI q).toUInt32.toUInt16.toUInt32.toInt32 = nI q := by
      apply Int32.toBitVec_inj.mp
      apply BitVec.eq_of_toNat_eq
      show (nI q).toUInt32.toUInt16.toUInt32.toNat = q % 2 ^ 32
      rw [UInt16.toNat_toUInt32, UInt32.toNat_toUInt16, show (nI q).toUInt32.toNat = q % 2 ^ 32 from rfl]
      omega
    exact congrArg Value.int e
  · have a : (0 : Int32) ≤ nI q := nI_pos' (by omega)
    have b : nI q ≤ 65535 := nI_le (b := 65535) (by omega) (by decide)
    show (decide ((0 : Int32) ≤ nI q) && decide (nI q ≤ 65535)) = true
    rw [decide_eq_true a, decide_eq_true b]
    rfl
theorem pk_char (x : Int32) : (x.toUInt32 % 65536).toInt32 = nI (x.toBitVec.toNat % 65536) := by
  apply Int32.toBitVec_inj.mp
  apply BitVec.eq_of_toNat_eq
  rw [pk_tn (by omega)]
  show (x.toUInt32 % 65536).toNat = _
  rw [UInt32.toNat_mod]
  rfl
theorem pk_nc (x : Int32) : narrow .char (.int (x.toUInt32 % 65536).toInt32) = .int (x.toUInt32 % 65536).toInt32 := by
  rw [pk_char]
  exact (pk_charN (Nat.mod_lt _ (by decide))).1
theorem pk_fc (x : Int32) : fits .char (.int (x.toUInt32 % 65536).toInt32) = true := by
  rw [pk_char]
  exact (pk_charN (Nat.mod_lt _ (by decide))).2
theorem pk_vb (z : Int32) : vp_nar .byte z.toInt8.toInt32 = z.toInt8.toInt32 := by rw [vp_nar_byte]; simp
theorem pk_vs (z : Int32) : vp_nar .short z.toInt16.toInt32 = z.toInt16.toInt32 := by rw [vp_nar_short]; simp
theorem pk_vc (z : Int32) : vp_nar .char (z.toUInt32 % 65536).toInt32 = (z.toUInt32 % 65536).toInt32 := Value.int.inj (pk_nc z)
theorem pk_lT {n : Nat} (h : n < 2 ^ 63) : (lN n).toInt = (n : Int) := lg_ofNat_toInt h
theorem pk_lLT {a b : Nat} (ha : a < 2 ^ 63) (hb : b < 2 ^ 63) : lN a < lN b ↔ a < b := by
  rw [Int64.lt_iff_toInt_lt, pk_lT ha, pk_lT hb]; omega
theorem pk_lLE {a b : Nat} (ha : a < 2 ^ 63) (hb : b < 2 ^ 63) : lN a ≤ lN b ↔ a ≤ b := by
  rw [Int64.le_iff_toInt_le, pk_lT ha, pk_lT hb]; omega
theorem pk_lEQ {a b : Nat} (ha : a < 2 ^ 63) (hb : b < 2 ^ 63) : lN a = lN b ↔ a = b := by
  rw [← Int64.toInt_inj, pk_lT ha, pk_lT hb]; omega
theorem pk_lOf {x : Int64} (h : ¬ x < 0) : ∃ k : Nat, k < 2 ^ 63 ∧ x = lN k := by
  rw [Int64.lt_iff_toInt_lt] at h
  have h0 : (0 : Int64).toInt = 0 := by decide
  have hx := Int64.toInt_lt x
  refine ⟨x.toInt.toNat, by omega, Int64.toInt_inj.mp ?_⟩
  rw [pk_lT (by omega)]
  omega
theorem pk_lDiv {a b : Nat} (ha : a < 2 ^ 63) (h0 : 0 < b) (hb : b < 2 ^ 63) : lN a / lN b = lN (a / b) := by
  apply Int64.toInt_inj.mp
  rw [lg_ldiv_nonneg (by rw [pk_lT ha]; omega) (by rw [pk_lT hb]; omega), pk_lT ha, pk_lT hb, pk_lT (Nat.lt_of_le_of_lt (Nat.div_le_self a b) ha)]
  rfl
theorem pk_lRem {a b : Nat} (ha : a < 2 ^ 63) (h0 : 0 < b) (hb : b < 2 ^ 63) : lN a - lN a / lN b * lN b = lN (a % b) := by
  rw [pk_lDiv ha h0 hb, lN_mul, lN_sub (Nat.div_mul_le_self a b)]
  exact congrArg lN (by have := Nat.div_add_mod' a b; omega)
theorem pk_loop {σ : Type} (W : Nat → Nat → σ → Prop) (I : Nat → σ → Prop) (e i0 : Nat) (s : σ) (hi : i0 ≤ e) (h0 : I i0 s) (hx : ∀ n s, I e s → W (n + 1) e s)
    (hs : ∀ n i s, i < e → I i s → (∀ s', I (i + 1) s' → W n (i + 1) s') → W (n + 1) i s) : ∃ n, W n i0 s :=
  ⟨e + 1, loop_i W I e hx hs (e + 1) i0 s hi (by omega) h0⟩
theorem pk_loopD {σ : Type} (W : Nat → Nat → σ → Prop) (I : Nat → σ → Prop) (hx : ∀ n s, I 0 s → W (n + 1) 0 s)
    (hs : ∀ n i s, I (i + 1) s → (∀ s', I i s' → W n i s') → W (n + 1) (i + 1) s) : ∀ (e : Nat) (s : σ), I e s → W (e + 1) e s := by
  intro e
  induction e with
  | zero => exact fun s h => hx 0 s h
  | succ e ih => exact fun s h => hs (e + 1) e s h (fun s' h' => ih s' h')
theorem lp1 {A1 : Type} (W : Nat → A1 → Prop) (I : A1 → Prop) (μ : A1 → Nat) (hs : ∀ (n : Nat) (a1 : A1), I a1 → (∀ (b1 : A1), I b1 → μ b1 < μ a1 → W n b1) → W (n + 1) a1) (a1 : A1) (h : I a1) : ∃ n, W n a1 :=
  loop_m (σ := A1) (fun n s => W n s) (fun s => I s) (fun s => μ s) (fun n s hI hk => hs n s hI (fun b1 h9 hm => hk b1 h9 hm)) a1 h
theorem lp2 {A1 A2 : Type} (W : Nat → A1 → A2 → Prop) (I : A1 → A2 → Prop) (μ : A1 → A2 → Nat) (hs : ∀ (n : Nat) (a1 : A1) (a2 : A2), I a1 a2 → (∀ (b1 : A1) (b2 : A2), I b1 b2 → μ b1 b2 < μ a1 a2 → W n b1 b2) → W (n + 1) a1 a2) (a1 : A1) (a2 : A2) (h : I a1 a2) : ∃ n, W n a1 a2 :=
  loop_m (σ := A1 × A2) (fun n s => W n s.1 s.2) (fun s => I s.1 s.2) (fun s => μ s.1 s.2) (fun n s hI hk => hs n s.1 s.2 hI (fun b1 b2 h9 hm => hk (b1, b2) h9 hm)) (a1, a2) h
theorem lp3 {A1 A2 A3 : Type} (W : Nat → A1 → A2 → A3 → Prop) (I : A1 → A2 → A3 → Prop) (μ : A1 → A2 → A3 → Nat) (hs : ∀ (n : Nat) (a1 : A1) (a2 : A2) (a3 : A3), I a1 a2 a3 → (∀ (b1 : A1) (b2 : A2) (b3 : A3), I b1 b2 b3 → μ b1 b2 b3 < μ a1 a2 a3 → W n b1 b2 b3) → W (n + 1) a1 a2 a3) (a1 : A1) (a2 : A2) (a3 : A3) (h : I a1 a2 a3) : ∃ n, W n a1 a2 a3 :=
  loop_m (σ := A1 × A2 × A3) (fun n s => W n s.1 s.2.1 s.2.2) (fun s => I s.1 s.2.1 s.2.2) (fun s => μ s.1 s.2.1 s.2.2) (fun n s hI hk => hs n s.1 s.2.1 s.2.2 hI (fun b1 b2 b3 h9 hm => hk (b1, b2, b3) h9 hm)) (a1, a2, a3) h
theorem lp4 {A1 A2 A3 A4 : Type} (W : Nat → A1 → A2 → A3 → A4 → Prop) (I : A1 → A2 → A3 → A4 → Prop) (μ : A1 → A2 → A3 → A4 → Nat) (hs : ∀ (n : Nat) (a1 : A1) (a2 : A2) (a3 : A3) (a4 : A4), I a1 a2 a3 a4 → (∀ (b1 : A1) (b2 : A2) (b3 : A3) (b4 : A4), I b1 b2 b3 b4 → μ b1 b2 b3 b4 < μ a1 a2 a3 a4 → W n b1 b2 b3 b4) → W (n + 1) a1 a2 a3 a4) (a1 : A1) (a2 : A2) (a3 : A3) (a4 : A4) (h : I a1 a2 a3 a4) : ∃ n, W n a1 a2 a3 a4 :=
  loop_m (σ := A1 × A2 × A3 × A4) (fun n s => W n s.1 s.2.1 s.2.2.1 s.2.2.2) (fun s => I s.1 s.2.1 s.2.2.1 s.2.2.2) (fun s => μ s.1 s.2.1 s.2.2.1 s.2.2.2) (fun n s hI hk => hs n s.1 s.2.1 s.2.2.1 s.2.2.2 hI (fun b1 b2 b3 b4 h9 hm => hk (b1, b2, b3, b4) h9 hm)) (a1, a2, a3, a4) h
theorem lp5 {A1 A2 A3 A4 A5 : Type} (W : Nat → A1 → A2 → A3 → A4 → A5 → Prop) (I : A1 → A2 → A3 → A4 → A5 → Prop) (μ : A1 → A2 → A3 → A4 → A5 → Nat) (hs : ∀ (n : Nat) (a1 : A1) (a2 : A2) (a3 : A3) (a4 : A4) (a5 : A5), I a1 a2 a3 a4 a5 → (∀ (b1 : A1) (b2 : A2) (b3 : A3) (b4 : A4) (b5 : A5), I b1 b2 b3 b4 b5 → μ b1 b2 b3 b4 b5 < μ a1 a2 a3 a4 a5 → W n b1 b2 b3 b4 b5) → W (n + 1) a1 a2 a3 a4 a5) (a1 : A1) (a2 : A2) (a3 : A3) (a4 : A4) (a5 : A5) (h : I a1 a2 a3 a4 a5) : ∃ n, W n a1 a2 a3 a4 a5 :=
  loop_m (σ := A1 × A2 × A3 × A4 × A5) (fun n s => W n s.1 s.2.1 s.2.2.1 s.2.2.2.1 s.2.2.2.2) (fun s => I s.1 s.2.1 s.2.2.1 s.2.2.2.1 s.2.2.2.2) (fun s => μ s.1 s.2.1 s.2.2.1 s.2.2.2.1 s.2.2.2.2) (fun n s hI hk => hs n s.1 s.2.1 s.2.2.1 s.2.2.2.1 s.2.2.2.2 hI (fun b1 b2 b3 b4 b5 h9 hm => hk (b1, b2, b3, b4, b5) h9 hm)) (a1, a2, a3, a4, a5) h
theorem lp6 {A1 A2 A3 A4 A5 A6 : Type} (W : Nat → A1 → A2 → A3 → A4 → A5 → A6 → Prop) (I : A1 → A2 → A3 → A4 → A5 → A6 → Prop) (μ : A1 → A2 → A3 → A4 → A5 → A6 → Nat) (hs : ∀ (n : Nat) (a1 : A1) (a2 : A2) (a3 : A3) (a4 : A4) (a5 : A5) (a6 : A6), I a1 a2 a3 a4 a5 a6 → (∀ (b1 : A1) (b2 : A2) (b3 : A3) (b4 : A4) (b5 : A5) (b6 : A6), I b1 b2 b3 b4 b5 b6 → μ b1 b2 b3 b4 b5 b6 < μ a1 a2 a3 a4 a5 a6 → W n b1 b2 b3 b4 b5 b6) → W (n + 1) a1 a2 a3 a4 a5 a6) (a1 : A1) (a2 : A2) (a3 : A3) (a4 : A4) (a5 : A5) (a6 : A6) (h : I a1 a2 a3 a4 a5 a6) : ∃ n, W n a1 a2 a3 a4 a5 a6 :=
  loop_m (σ := A1 × A2 × A3 × A4 × A5 × A6) (fun n s => W n s.1 s.2.1 s.2.2.1 s.2.2.2.1 s.2.2.2.2.1 s.2.2.2.2.2) (fun s => I s.1 s.2.1 s.2.2.1 s.2.2.2.1 s.2.2.2.2.1 s.2.2.2.2.2) (fun s => μ s.1 s.2.1 s.2.2.1 s.2.2.2.1 s.2.2.2.2.1 s.2.2.2.2.2) (fun n s hI hk => hs n s.1 s.2.1 s.2.2.1 s.2.2.2.1 s.2.2.2.2.1 s.2.2.2.2.2 hI (fun b1 b2 b3 b4 b5 b6 h9 hm => hk (b1, b2, b3, b4, b5, b6) h9 hm)) (a1, a2, a3, a4, a5, a6) h
theorem lp7 {A1 A2 A3 A4 A5 A6 A7 : Type} (W : Nat → A1 → A2 → A3 → A4 → A5 → A6 → A7 → Prop) (I : A1 → A2 → A3 → A4 → A5 → A6 → A7 → Prop) (μ : A1 → A2 → A3 → A4 → A5 → A6 → A7 → Nat) (hs : ∀ (n : Nat) (a1 : A1) (a2 : A2) (a3 : A3) (a4 : A4) (a5 : A5) (a6 : A6) (a7 : A7), I a1 a2 a3 a4 a5 a6 a7 → (∀ (b1 : A1) (b2 : A2) (b3 : A3) (b4 : A4) (b5 : A5) (b6 : A6) (b7 : A7), I b1 b2 b3 b4 b5 b6 b7 → μ b1 b2 b3 b4 b5 b6 b7 < μ a1 a2 a3 a4 a5 a6 a7 → W n b1 b2 b3 b4 b5 b6 b7) → W (n + 1) a1 a2 a3 a4 a5 a6 a7) (a1 : A1) (a2 : A2) (a3 : A3) (a4 : A4) (a5 : A5) (a6 : A6) (a7 : A7) (h : I a1 a2 a3 a4 a5 a6 a7) : ∃ n, W n a1 a2 a3 a4 a5 a6 a7 :=
  loop_m (σ := A1 × A2 × A3 × A4 × A5 × A6 × A7) (fun n s => W n s.1 s.2.1 s.2.2.1 s.2.2.2.1 s.2.2.2.2.1 s.2.2.2.2.2.1 s.2.2.2.2.2.2) (fun s => I s.1 s.2.1 s.2.2.1 s.2.2.2.1 s.2.2.2.2.1 s.2.2.2.2.2.1 s.2.2.2.2.2.2) (fun s => μ s.1 s.2.1 s.2.2.1 s.2.2.2.1 s.2.2.2.2.1 s.2.2.2.2.2.1 s.2.2.2.2.2.2) (fun n s hI hk => hs n s.1 s.2.1 s.2.2.1 s.2.2.2.1 s.2.2.2.2.1 s.2.2.2.2.2.1 s.2.2.2.2.2.2 hI (fun b1 b2 b3 b4 b5 b6 b7 h9 hm => hk (b1, b2, b3, b4, b5, b6, b7) h9 hm)) (a1, a2, a3, a4, a5, a6, a7) h
theorem lp8 {A1 A2 A3 A4 A5 A6 A7 A8 : Type} (W : Nat → A1 → A2 → A3 → A4 → A5 → A6 → A7 → A8 → Prop) (I : A1 → A2 → A3 → A4 → A5 → A6 → A7 → A8 → Prop) (μ : A1 → A2 → A3 → A4 → A5 → A6 → A7 → A8 → Nat) (hs : ∀ (n : Nat) (a1 : A1) (a2 : A2) (a3 : A3) (a4 : A4) (a5 : A5) (a6 : A6) (a7 : A7) (a8 : A8), I a1 a2 a3 a4 a5 a6 a7 a8 → (∀ (b1 : A1) (b2 : A2) (b3 : A3) (b4 : A4) (b5 : A5) (b6 : A6) (b7 : A7) (b8 : A8), I b1 b2 b3 b4 b5 b6 b7 b8 → μ b1 b2 b3 b4 b5 b6 b7 b8 < μ a1 a2 a3 a4 a5 a6 a7 a8 → W n b1 b2 b3 b4 b5 b6 b7 b8) → W (n + 1) a1 a2 a3 a4 a5 a6 a7 a8) (a1 : A1) (a2 : A2) (a3 : A3) (a4 : A4) (a5 : A5) (a6 : A6) (a7 : A7) (a8 : A8) (h : I a1 a2 a3 a4 a5 a6 a7 a8) : ∃ n, W n a1 a2 a3 a4 a5 a6 a7 a8 :=
  loop_m (σ := A1 × A2 × A3 × A4 × A5 × A6 × A7 × A8) (fun n s => W n s.1 s.2.1 s.2.2.1 s.2.2.2.1 s.2.2.2.2.1 s.2.2.2.2.2.1 s.2.2.2.2.2.2.1 s.2.2.2.2.2.2.2) (fun s => I s.1 s.2.1 s.2.2.1 s.2.2.2.1 s.2.2.2.2.1 s.2.2.2.2.2.1 s.2.2.2.2.2.2.1 s.2.2.2.2.2.2.2) (fun s => μ s.1 s.2.1 s.2.2.1 s.2.2.2.1 s.2.2.2.2.1 s.2.2.2.2.2.1 s.2.2.2.2.2.2.1 s.2.2.2.2.2.2.2) (fun n s hI hk => hs n s.1 s.2.1 s.2.2.1 s.2.2.2.1 s.2.2.2.2.1 s.2.2.2.2.2.1 s.2.2.2.2.2.2.1 s.2.2.2.2.2.2.2 hI (fun b1 b2 b3 b4 b5 b6 b7 b8 h9 hm => hk (b1, b2, b3, b4, b5, b6, b7, b8) h9 hm)) (a1, a2, a3, a4, a5, a6, a7, a8) h
theorem lp9 {A1 A2 A3 A4 A5 A6 A7 A8 A9 : Type} (W : Nat → A1 → A2 → A3 → A4 → A5 → A6 → A7 → A8 → A9 → Prop) (I : A1 → A2 → A3 → A4 → A5 → A6 → A7 → A8 → A9 → Prop) (μ : A1 → A2 → A3 → A4 → A5 → A6 → A7 → A8 → A9 → Nat) (hs : ∀ (n : Nat) (a1 : A1) (a2 : A2) (a3 : A3) (a4 : A4) (a5 : A5) (a6 : A6) (a7 : A7) (a8 : A8) (a9 : A9), I a1 a2 a3 a4 a5 a6 a7 a8 a9 → (∀ (b1 : A1) (b2 : A2) (b3 : A3) (b4 : A4) (b5 : A5) (b6 : A6) (b7 : A7) (b8 : A8) (b9 : A9), I b1 b2 b3 b4 b5 b6 b7 b8 b9 → μ b1 b2 b3 b4 b5 b6 b7 b8 b9 < μ a1 a2 a3 a4 a5 a6 a7 a8 a9 → W n b1 b2 b3 b4 b5 b6 b7 b8 b9) → W (n + 1) a1 a2 a3 a4 a5 a6 a7 a8 a9) (a1 : A1) (a2 : A2) (a3 : A3) (a4 : A4) (a5 : A5) (a6 : A6) (a7 : A7) (a8 : A8) (a9 : A9) (h : I a1 a2 a3 a4 a5 a6 a7 a8 a9) : ∃ n, W n a1 a2 a3 a4 a5 a6 a7 a8 a9 :=
  loop_m (σ := A1 × A2 × A3 × A4 × A5 × A6 × A7 × A8 × A9) (fun n s => W n s.1 s.2.1 s.2.2.1 s.2.2.2.1 s.2.2.2.2.1 s.2.2.2.2.2.1 s.2.2.2.2.2.2.1 s.2.2.2.2.2.2.2.1 s.2.2.2.2.2.2.2.2) (fun s => I s.1 s.2.1 s.2.2.1 s.2.2.2.1 s.2.2.2.2.1 s.2.2.2.2.2.1 s.2.2.2.2.2.2.1 s.2.2.2.2.2.2.2.1 s.2.2.2.2.2.2.2.2) (fun s => μ s.1 s.2.1 s.2.2.1 s.2.2.2.1 s.2.2.2.2.1 s.2.2.2.2.2.1 s.2.2.2.2.2.2.1 s.2.2.2.2.2.2.2.1 s.2.2.2.2.2.2.2.2) (fun n s hI hk => hs n s.1 s.2.1 s.2.2.1 s.2.2.2.1 s.2.2.2.2.1 s.2.2.2.2.2.1 s.2.2.2.2.2.2.1 s.2.2.2.2.2.2.2.1 s.2.2.2.2.2.2.2.2 hI (fun b1 b2 b3 b4 b5 b6 b7 b8 b9 h9 hm => hk (b1, b2, b3, b4, b5, b6, b7, b8, b9) h9 hm)) (a1, a2, a3, a4, a5, a6, a7, a8, a9) h
theorem lp10 {A1 A2 A3 A4 A5 A6 A7 A8 A9 A10 : Type} (W : Nat → A1 → A2 → A3 → A4 → A5 → A6 → A7 → A8 → A9 → A10 → Prop) (I : A1 → A2 → A3 → A4 → A5 → A6 → A7 → A8 → A9 → A10 → Prop) (μ : A1 → A2 → A3 → A4 → A5 → A6 → A7 → A8 → A9 → A10 → Nat) (hs : ∀ (n : Nat) (a1 : A1) (a2 : A2) (a3 : A3) (a4 : A4) (a5 : A5) (a6 : A6) (a7 : A7) (a8 : A8) (a9 : A9) (a10 : A10), I a1 a2 a3 a4 a5 a6 a7 a8 a9 a10 → (∀ (b1 : A1) (b2 : A2) (b3 : A3) (b4 : A4) (b5 : A5) (b6 : A6) (b7 : A7) (b8 : A8) (b9 : A9) (b10 : A10), I b1 b2 b3 b4 b5 b6 b7 b8 b9 b10 → μ b1 b2 b3 b4 b5 b6 b7 b8 b9 b10 < μ a1 a2 a3 a4 a5 a6 a7 a8 a9 a10 → W n b1 b2 b3 b4 b5 b6 b7 b8 b9 b10) → W (n + 1) a1 a2 a3 a4 a5 a6 a7 a8 a9 a10) (a1 : A1) (a2 : A2) (a3 : A3) (a4 : A4) (a5 : A5) (a6 : A6) (a7 : A7) (a8 : A8) (a9 : A9) (a10 : A10) (h : I a1 a2 a3 a4 a5 a6 a7 a8 a9 a10) : ∃ n, W n a1 a2 a3 a4 a5 a6 a7 a8 a9 a10 :=
  loop_m (σ := A1 × A2 × A3 × A4 × A5 × A6 × A7 × A8 × A9 × A10) (fun n s => W n s.1 s.2.1 s.2.2.1 s.2.2.2.1 s.2.2.2.2.1 s.2.2.2.2.2.1 s.2.2.2.2.2.2.1 s.2.2.2.2.2.2.2.1 s.2.2.2.2.2.2.2.2.1 s.2.2.2.2.2.2.2.2.2) (fun s => I s.1 s.2.1 s.2.2.1 s.2.2.2.1 s.2.2.2.2.1 s.2.2.2.2.2.1 s.2.2.2.2.2.2.1 s.2.2.2.2.2.2.2.1 s.2.2.2.2.2.2.2.2.1 s.2.2.2.2.2.2.2.2.2) (fun s => μ s.1 s.2.1 s.2.2.1 s.2.2.2.1 s.2.2.2.2.1 s.2.2.2.2.2.1 s.2.2.2.2.2.2.1 s.2.2.2.2.2.2.2.1 s.2.2.2.2.2.2.2.2.1 s.2.2.2.2.2.2.2.2.2) (fun n s hI hk => hs n s.1 s.2.1 s.2.2.1 s.2.2.2.1 s.2.2.2.2.1 s.2.2.2.2.2.1 s.2.2.2.2.2.2.1 s.2.2.2.2.2.2.2.1 s.2.2.2.2.2.2.2.2.1 s.2.2.2.2.2.2.2.2.2 hI (fun b1 b2 b3 b4 b5 b6 b7 b8 b9 b10 h9 hm => hk (b1, b2, b3, b4, b5, b6, b7, b8, b9, b10) h9 hm)) (a1, a2, a3, a4, a5, a6, a7, a8, a9, a10) h
theorem lp11 {A1 A2 A3 A4 A5 A6 A7 A8 A9 A10 A11 : Type} (W : Nat → A1 → A2 → A3 → A4 → A5 → A6 → A7 → A8 → A9 → A10 → A11 → Prop) (I : A1 → A2 → A3 → A4 → A5 → A6 → A7 → A8 → A9 → A10 → A11 → Prop) (μ : A1 → A2 → A3 → A4 → A5 → A6 → A7 → A8 → A9 → A10 → A11 → Nat) (hs : ∀ (n : Nat) (a1 : A1) (a2 : A2) (a3 : A3) (a4 : A4) (a5 : A5) (a6 : A6) (a7 : A7) (a8 : A8) (a9 : A9) (a10 : A10) (a11 : A11), I a1 a2 a3 a4 a5 a6 a7 a8 a9 a10 a11 → (∀ (b1 : A1) (b2 : A2) (b3 : A3) (b4 : A4) (b5 : A5) (b6 : A6) (b7 : A7) (b8 : A8) (b9 : A9) (b10 : A10) (b11 : A11), I b1 b2 b3 b4 b5 b6 b7 b8 b9 b10 b11 → μ b1 b2 b3 b4 b5 b6 b7 b8 b9 b10 b11 < μ a1 a2 a3 a4 a5 a6 a7 a8 a9 a10 a11 → W n b1 b2 b3 b4 b5 b6 b7 b8 b9 b10 b11) → W (n + 1) a1 a2 a3 a4 a5 a6 a7 a8 a9 a10 a11) (a1 : A1) (a2 : A2) (a3 : A3) (a4 : A4) (a5 : A5) (a6 : A6) (a7 : A7) (a8 : A8) (a9 : A9) (a10 : A10) (a11 : A11) (h : I a1 a2 a3 a4 a5 a6 a7 a8 a9 a10 a11) : ∃ n, W n a1 a2 a3 a4 a5 a6 a7 a8 a9 a10 a11 :=
  loop_m (σ := A1 × A2 × A3 × A4 × A5 × A6 × A7 × A8 × A9 × A10 × A11) (fun n s => W n s.1 s.2.1 s.2.2.1 s.2.2.2.1 s.2.2.2.2.1 s.2.2.2.2.2.1 s.2.2.2.2.2.2.1 s.2.2.2.2.2.2.2.1 s.2.2.2.2.2.2.2.2.1 s.2.2.2.2.2.2.2.2.2.1 s.2.2.2.2.2.2.2.2.2.2) (fun s => I s.1 s.2.1 s.2.2.1 s.2.2.2.1 s.2.2.2.2.1 s.2.2.2.2.2.1 s.2.2.2.2.2.2.1 s.2.2.2.2.2.2.2.1 s.2.2.2.2.2.2.2.2.1 s.2.2.2.2.2.2.2.2.2.1 s.2.2.2.2.2.2.2.2.2.2) (fun s => μ s.1 s.2.1 s.2.2.1 s.2.2.2.1 s.2.2.2.2.1 s.2.2.2.2.2.1 s.2.2.2.2.2.2.1 s.2.2.2.2.2.2.2.1 s.2.2.2.2.2.2.2.2.1 s.2.2.2.2.2.2.2.2.2.1 s.2.2.2.2.2.2.2.2.2.2) (fun n s hI hk => hs n s.1 s.2.1 s.2.2.1 s.2.2.2.1 s.2.2.2.2.1 s.2.2.2.2.2.1 s.2.2.2.2.2.2.1 s.2.2.2.2.2.2.2.1 s.2.2.2.2.2.2.2.2.1 s.2.2.2.2.2.2.2.2.2.1 s.2.2.2.2.2.2.2.2.2.2 hI (fun b1 b2 b3 b4 b5 b6 b7 b8 b9 b10 b11 h9 hm => hk (b1, b2, b3, b4, b5, b6, b7, b8, b9, b10, b11) h9 hm)) (a1, a2, a3, a4, a5, a6, a7, a8, a9, a10, a11) h
theorem lp12 {A1 A2 A3 A4 A5 A6 A7 A8 A9 A10 A11 A12 : Type} (W : Nat → A1 → A2 → A3 → A4 → A5 → A6 → A7 → A8 → A9 → A10 → A11 → A12 → Prop) (I : A1 → A2 → A3 → A4 → A5 → A6 → A7 → A8 → A9 → A10 → A11 → A12 → Prop) (μ : A1 → A2 → A3 → A4 → A5 → A6 → A7 → A8 → A9 → A10 → A11 → A12 → Nat) (hs : ∀ (n : Nat) (a1 : A1) (a2 : A2) (a3 : A3) (a4 : A4) (a5 : A5) (a6 : A6) (a7 : A7) (a8 : A8) (a9 : A9) (a10 : A10) (a11 : A11) (a12 : A12), I a1 a2 a3 a4 a5 a6 a7 a8 a9 a10 a11 a12 → (∀ (b1 : A1) (b2 : A2) (b3 : A3) (b4 : A4) (b5 : A5) (b6 : A6) (b7 : A7) (b8 : A8) (b9 : A9) (b10 : A10) (b11 : A11) (b12 : A12), I b1 b2 b3 b4 b5 b6 b7 b8 b9 b10 b11 b12 → μ b1 b2 b3 b4 b5 b6 b7 b8 b9 b10 b11 b12 < μ a1 a2 a3 a4 a5 a6 a7 a8 a9 a10 a11 a12 → W n b1 b2 b3 b4 b5 b6 b7 b8 b9 b10 b11 b12) → W (n + 1) a1 a2 a3 a4 a5 a6 a7 a8 a9 a10 a11 a12) (a1 : A1) (a2 : A2) (a3 : A3) (a4 : A4) (a5 : A5) (a6 : A6) (a7 : A7) (a8 : A8) (a9 : A9) (a10 : A10) (a11 : A11) (a12 : A12) (h : I a1 a2 a3 a4 a5 a6 a7 a8 a9 a10 a11 a12) : ∃ n, W n a1 a2 a3 a4 a5 a6 a7 a8 a9 a10 a11 a12 :=
  loop_m (σ := A1 × A2 × A3 × A4 × A5 × A6 × A7 × A8 × A9 × A10 × A11 × A12) (fun n s => W n s.1 s.2.1 s.2.2.1 s.2.2.2.1 s.2.2.2.2.1 s.2.2.2.2.2.1 s.2.2.2.2.2.2.1 s.2.2.2.2.2.2.2.1 s.2.2.2.2.2.2.2.2.1 s.2.2.2.2.2.2.2.2.2.1 s.2.2.2.2.2.2.2.2.2.2.1 s.2.2.2.2.2.2.2.2.2.2.2) (fun s => I s.1 s.2.1 s.2.2.1 s.2.2.2.1 s.2.2.2.2.1 s.2.2.2.2.2.1 s.2.2.2.2.2.2.1 s.2.2.2.2.2.2.2.1 s.2.2.2.2.2.2.2.2.1 s.2.2.2.2.2.2.2.2.2.1 s.2.2.2.2.2.2.2.2.2.2.1 s.2.2.2.2.2.2.2.2.2.2.2) (fun s => μ s.1 s.2.1 s.2.2.1 s.2.2.2.1 s.2.2.2.2.1 s.2.2.2.2.2.1 s.2.2.2.2.2.2.1 s.2.2.2.2.2.2.2.1 s.2.2.2.2.2.2.2.2.1 s.2.2.2.2.2.2.2.2.2.1 s.2.2.2.2.2.2.2.2.2.2.1 s.2.2.2.2.2.2.2.2.2.2.2) (fun n s hI hk => hs n s.1 s.2.1 s.2.2.1 s.2.2.2.1 s.2.2.2.2.1 s.2.2.2.2.2.1 s.2.2.2.2.2.2.1 s.2.2.2.2.2.2.2.1 s.2.2.2.2.2.2.2.2.1 s.2.2.2.2.2.2.2.2.2.1 s.2.2.2.2.2.2.2.2.2.2.1 s.2.2.2.2.2.2.2.2.2.2.2 hI (fun b1 b2 b3 b4 b5 b6 b7 b8 b9 b10 b11 b12 h9 hm => hk (b1, b2, b3, b4, b5, b6, b7, b8, b9, b10, b11, b12) h9 hm)) (a1, a2, a3, a4, a5, a6, a7, a8, a9, a10, a11, a12) h
theorem lp13 {A1 A2 A3 A4 A5 A6 A7 A8 A9 A10 A11 A12 A13 : Type} (W : Nat → A1 → A2 → A3 → A4 → A5 → A6 → A7 → A8 → A9 → A10 → A11 → A12 → A13 → Prop) (I : A1 → A2 → A3 → A4 → A5 → A6 → A7 → A8 → A9 → A10 → A11 → A12 → A13 → Prop) (μ : A1 → A2 → A3 → A4 → A5 → A6 → A7 → A8 → A9 → A10 → A11 → A12 → A13 → Nat) (hs : ∀ (n : Nat) (a1 : A1) (a2 : A2) (a3 : A3) (a4 : A4) (a5 : A5) (a6 : A6) (a7 : A7) (a8 : A8) (a9 : A9) (a10 : A10) (a11 : A11) (a12 : A12) (a13 : A13), I a1 a2 a3 a4 a5 a6 a7 a8 a9 a10 a11 a12 a13 → (∀ (b1 : A1) (b2 : A2) (b3 : A3) (b4 : A4) (b5 : A5) (b6 : A6) (b7 : A7) (b8 : A8) (b9 : A9) (b10 : A10) (b11 : A11) (b12 : A12) (b13 : A13), I b1 b2 b3 b4 b5 b6 b7 b8 b9 b10 b11 b12 b13 → μ b1 b2 b3 b4 b5 b6 b7 b8 b9 b10 b11 b12 b13 < μ a1 a2 a3 a4 a5 a6 a7 a8 a9 a10 a11 a12 a13 → W n b1 b2 b3 b4 b5 b6 b7 b8 b9 b10 b11 b12 b13) → W (n + 1) a1 a2 a3 a4 a5 a6 a7 a8 a9 a10 a11 a12 a13) (a1 : A1) (a2 : A2) (a3 : A3) (a4 : A4) (a5 : A5) (a6 : A6) (a7 : A7) (a8 : A8) (a9 : A9) (a10 : A10) (a11 : A11) (a12 : A12) (a13 : A13) (h : I a1 a2 a3 a4 a5 a6 a7 a8 a9 a10 a11 a12 a13) : ∃ n, W n a1 a2 a3 a4 a5 a6 a7 a8 a9 a10 a11 a12 a13 :=
  loop_m (σ := A1 × A2 × A3 × A4 × A5 × A6 × A7 × A8 × A9 × A10 × A11 × A12 × A13) (fun n s => W n s.1 s.2.1 s.2.2.1 s.2.2.2.1 s.2.2.2.2.1 s.2.2.2.2.2.1 s.2.2.2.2.2.2.1 s.2.2.2.2.2.2.2.1 s.2.2.2.2.2.2.2.2.1 s.2.2.2.2.2.2.2.2.2.1 s.2.2.2.2.2.2.2.2.2.2.1 s.2.2.2.2.2.2.2.2.2.2.2.1 s.2.2.2.2.2.2.2.2.2.2.2.2) (fun s => I s.1 s.2.1 s.2.2.1 s.2.2.2.1 s.2.2.2.2.1 s.2.2.2.2.2.1 s.2.2.2.2.2.2.1 s.2.2.2.2.2.2.2.1 s.2.2.2.2.2.2.2.2.1 s.2.2.2.2.2.2.2.2.2.1 s.2.2.2.2.2.2.2.2.2.2.1 s.2.2.2.2.2.2.2.2.2.2.2.1 s.2.2.2.2.2.2.2.2.2.2.2.2) (fun s => μ s.1 s.2.1 s.2.2.1 s.2.2.2.1 s.2.2.2.2.1 s.2.2.2.2.2.1 s.2.2.2.2.2.2.1 s.2.2.2.2.2.2.2.1 s.2.2.2.2.2.2.2.2.1 s.2.2.2.2.2.2.2.2.2.1 s.2.2.2.2.2.2.2.2.2.2.1 s.2.2.2.2.2.2.2.2.2.2.2.1 s.2.2.2.2.2.2.2.2.2.2.2.2) (fun n s hI hk => hs n s.1 s.2.1 s.2.2.1 s.2.2.2.1 s.2.2.2.2.1 s.2.2.2.2.2.1 s.2.2.2.2.2.2.1 s.2.2.2.2.2.2.2.1 s.2.2.2.2.2.2.2.2.1 s.2.2.2.2.2.2.2.2.2.1 s.2.2.2.2.2.2.2.2.2.2.1 s.2.2.2.2.2.2.2.2.2.2.2.1 s.2.2.2.2.2.2.2.2.2.2.2.2 hI (fun b1 b2 b3 b4 b5 b6 b7 b8 b9 b10 b11 b12 b13 h9 hm => hk (b1, b2, b3, b4, b5, b6, b7, b8, b9, b10, b11, b12, b13) h9 hm)) (a1, a2, a3, a4, a5, a6, a7, a8, a9, a10, a11, a12, a13) h
theorem lp14 {A1 A2 A3 A4 A5 A6 A7 A8 A9 A10 A11 A12 A13 A14 : Type} (W : Nat → A1 → A2 → A3 → A4 → A5 → A6 → A7 → A8 → A9 → A10 → A11 → A12 → A13 → A14 → Prop) (I : A1 → A2 → A3 → A4 → A5 → A6 → A7 → A8 → A9 → A10 → A11 → A12 → A13 → A14 → Prop) (μ : A1 → A2 → A3 → A4 → A5 → A6 → A7 → A8 → A9 → A10 → A11 → A12 → A13 → A14 → Nat) (hs : ∀ (n : Nat) (a1 : A1) (a2 : A2) (a3 : A3) (a4 : A4) (a5 : A5) (a6 : A6) (a7 : A7) (a8 : A8) (a9 : A9) (a10 : A10) (a11 : A11) (a12 : A12) (a13 : A13) (a14 : A14), I a1 a2 a3 a4 a5 a6 a7 a8 a9 a10 a11 a12 a13 a14 → (∀ (b1 : A1) (b2 : A2) (b3 : A3) (b4 : A4) (b5 : A5) (b6 : A6) (b7 : A7) (b8 : A8) (b9 : A9) (b10 : A10) (b11 : A11) (b12 : A12) (b13 : A13) (b14 : A14), I b1 b2 b3 b4 b5 b6 b7 b8 b9 b10 b11 b12 b13 b14 → μ b1 b2 b3 b4 b5 b6 b7 b8 b9 b10 b11 b12 b13 b14 < μ a1 a2 a3 a4 a5 a6 a7 a8 a9 a10 a11 a12 a13 a14 → W n b1 b2 b3 b4 b5 b6 b7 b8 b9 b10 b11 b12 b13 b14) → W (n + 1) a1 a2 a3 a4 a5 a6 a7 a8 a9 a10 a11 a12 a13 a14) (a1 : A1) (a2 : A2) (a3 : A3) (a4 : A4) (a5 : A5) (a6 : A6) (a7 : A7) (a8 : A8) (a9 : A9) (a10 : A10) (a11 : A11) (a12 : A12) (a13 : A13) (a14 : A14) (h : I a1 a2 a3 a4 a5 a6 a7 a8 a9 a10 a11 a12 a13 a14) : ∃ n, W n a1 a2 a3 a4 a5 a6 a7 a8 a9 a10 a11 a12 a13 a14 :=
  loop_m (σ := A1 × A2 × A3 × A4 × A5 × A6 × A7 × A8 × A9 × A10 × A11 × A12 × A13 × A14) (fun n s => W n s.1 s.2.1 s.2.2.1 s.2.2.2.1 s.2.2.2.2.1 s.2.2.2.2.2.1 s.2.2.2.2.2.2.1 s.2.2.2.2.2.2.2.1 s.2.2.2.2.2.2.2.2.1 s.2.2.2.2.2.2.2.2.2.1 s.2.2.2.2.2.2.2.2.2.2.1 s.2.2.2.2.2.2.2.2.2.2.2.1 s.2.2.2.2.2.2.2.2.2.2.2.2.1 s.2.2.2.2.2.2.2.2.2.2.2.2.2) (fun s => I s.1 s.2.1 s.2.2.1 s.2.2.2.1 s.2.2.2.2.1 s.2.2.2.2.2.1 s.2.2.2.2.2.2.1 s.2.2.2.2.2.2.2.1 s.2.2.2.2.2.2.2.2.1 s.2.2.2.2.2.2.2.2.2.1 s.2.2.2.2.2.2.2.2.2.2.1 s.2.2.2.2.2.2.2.2.2.2.2.1 s.2.2.2.2.2.2.2.2.2.2.2.2.1 s.2.2.2.2.2.2.2.2.2.2.2.2.2) (fun s => μ s.1 s.2.1 s.2.2.1 s.2.2.2.1 s.2.2.2.2.1 s.2.2.2.2.2.1 s.2.2.2.2.2.2.1 s.2.2.2.2.2.2.2.1 s.2.2.2.2.2.2.2.2.1 s.2.2.2.2.2.2.2.2.2.1 s.2.2.2.2.2.2.2.2.2.2.1 s.2.2.2.2.2.2.2.2.2.2.2.1 s.2.2.2.2.2.2.2.2.2.2.2.2.1 s.2.2.2.2.2.2.2.2.2.2.2.2.2) (fun n s hI hk => hs n s.1 s.2.1 s.2.2.1 s.2.2.2.1 s.2.2.2.2.1 s.2.2.2.2.2.1 s.2.2.2.2.2.2.1 s.2.2.2.2.2.2.2.1 s.2.2.2.2.2.2.2.2.1 s.2.2.2.2.2.2.2.2.2.1 s.2.2.2.2.2.2.2.2.2.2.1 s.2.2.2.2.2.2.2.2.2.2.2.1 s.2.2.2.2.2.2.2.2.2.2.2.2.1 s.2.2.2.2.2.2.2.2.2.2.2.2.2 hI (fun b1 b2 b3 b4 b5 b6 b7 b8 b9 b10 b11 b12 b13 b14 h9 hm => hk (b1, b2, b3, b4, b5, b6, b7, b8, b9, b10, b11, b12, b13, b14) h9 hm)) (a1, a2, a3, a4, a5, a6, a7, a8, a9, a10, a11, a12, a13, a14) h
theorem lp15 {A1 A2 A3 A4 A5 A6 A7 A8 A9 A10 A11 A12 A13 A14 A15 : Type} (W : Nat → A1 → A2 → A3 → A4 → A5 → A6 → A7 → A8 → A9 → A10 → A11 → A12 → A13 → A14 → A15 → Prop) (I : A1 → A2 → A3 → A4 → A5 → A6 → A7 → A8 → A9 → A10 → A11 → A12 → A13 → A14 → A15 → Prop) (μ : A1 → A2 → A3 → A4 → A5 → A6 → A7 → A8 → A9 → A10 → A11 → A12 → A13 → A14 → A15 → Nat) (hs : ∀ (n : Nat) (a1 : A1) (a2 : A2) (a3 : A3) (a4 : A4) (a5 : A5) (a6 : A6) (a7 : A7) (a8 : A8) (a9 : A9) (a10 : A10) (a11 : A11) (a12 : A12) (a13 : A13) (a14 : A14) (a15 : A15), I a1 a2 a3 a4 a5 a6 a7 a8 a9 a10 a11 a12 a13 a14 a15 → (∀ (b1 : A1) (b2 : A2) (b3 : A3) (b4 : A4) (b5 : A5) (b6 : A6) (b7 : A7) (b8 : A8) (b9 : A9) (b10 : A10) (b11 : A11) (b12 : A12) (b13 : A13) (b14 : A14) (b15 : A15), I b1 b2 b3 b4 b5 b6 b7 b8 b9 b10 b11 b12 b13 b14 b15 → μ b1 b2 b3 b4 b5 b6 b7 b8 b9 b10 b11 b12 b13 b14 b15 < μ a1 a2 a3 a4 a5 a6 a7 a8 a9 a10 a11 a12 a13 a14 a15 → W n b1 b2 b3 b4 b5 b6 b7 b8 b9 b10 b11 b12 b13 b14 b15) → W (n + 1) a1 a2 a3 a4 a5 a6 a7 a8 a9 a10 a11 a12 a13 a14 a15) (a1 : A1) (a2 : A2) (a3 : A3) (a4 : A4) (a5 : A5) (a6 : A6) (a7 : A7) (a8 : A8) (a9 : A9) (a10 : A10) (a11 : A11) (a12 : A12) (a13 : A13) (a14 : A14) (a15 : A15) (h : I a1 a2 a3 a4 a5 a6 a7 a8 a9 a10 a11 a12 a13 a14 a15) : ∃ n, W n a1 a2 a3 a4 a5 a6 a7 a8 a9 a10 a11 a12 a13 a14 a15 :=
  loop_m (σ := A1 × A2 × A3 × A4 × A5 × A6 × A7 × A8 × A9 × A10 × A11 × A12 × A13 × A14 × A15) (fun n s => W n s.1 s.2.1 s.2.2.1 s.2.2.2.1 s.2.2.2.2.1 s.2.2.2.2.2.1 s.2.2.2.2.2.2.1 s.2.2.2.2.2.2.2.1 s.2.2.2.2.2.2.2.2.1 s.2.2.2.2.2.2.2.2.2.1 s.2.2.2.2.2.2.2.2.2.2.1 s.2.2.2.2.2.2.2.2.2.2.2.1 s.2.2.2.2.2.2.2.2.2.2.2.2.1 s.2.2.2.2.2.2.2.2.2.2.2.2.2.1 s.2.2.2.2.2.2.2.2.2.2.2.2.2.2) (fun s => I s.1 s.2.1 s.2.2.1 s.2.2.2.1 s.2.2.2.2.1 s.2.2.2.2.2.1 s.2.2.2.2.2.2.1 s.2.2.2.2.2.2.2.1 s.2.2.2.2.2.2.2.2.1 s.2.2.2.2.2.2.2.2.2.1 s.2.2.2.2.2.2.2.2.2.2.1 s.2.2.2.2.2.2.2.2.2.2.2.1 s.2.2.2.2.2.2.2.2.2.2.2.2.1 s.2.2.2.2.2.2.2.2.2.2.2.2.2.1 s.2.2.2.2.2.2.2.2.2.2.2.2.2.2) (fun s => μ s.1 s.2.1 s.2.2.1 s.2.2.2.1 s.2.2.2.2.1 s.2.2.2.2.2.1 s.2.2.2.2.2.2.1 s.2.2.2.2.2.2.2.1 s.2.2.2.2.2.2.2.2.1 s.2.2.2.2.2.2.2.2.2.1 s.2.2.2.2.2.2.2.2.2.2.1 s.2.2.2.2.2.2.2.2.2.2.2.1 s.2.2.2.2.2.2.2.2.2.2.2.2.1 s.2.2.2.2.2.2.2.2.2.2.2.2.2.1 s.2.2.2.2.2.2.2.2.2.2.2.2.2.2) (fun n s hI hk => hs n s.1 s.2.1 s.2.2.1 s.2.2.2.1 s.2.2.2.2.1 s.2.2.2.2.2.1 s.2.2.2.2.2.2.1 s.2.2.2.2.2.2.2.1 s.2.2.2.2.2.2.2.2.1 s.2.2.2.2.2.2.2.2.2.1 s.2.2.2.2.2.2.2.2.2.2.1 s.2.2.2.2.2.2.2.2.2.2.2.1 s.2.2.2.2.2.2.2.2.2.2.2.2.1 s.2.2.2.2.2.2.2.2.2.2.2.2.2.1 s.2.2.2.2.2.2.2.2.2.2.2.2.2.2 hI (fun b1 b2 b3 b4 b5 b6 b7 b8 b9 b10 b11 b12 b13 b14 b15 h9 hm => hk (b1, b2, b3, b4, b5, b6, b7, b8, b9, b10, b11, b12, b13, b14, b15) h9 hm)) (a1, a2, a3, a4, a5, a6, a7, a8, a9, a10, a11, a12, a13, a14, a15) h
theorem lp16 {A1 A2 A3 A4 A5 A6 A7 A8 A9 A10 A11 A12 A13 A14 A15 A16 : Type} (W : Nat → A1 → A2 → A3 → A4 → A5 → A6 → A7 → A8 → A9 → A10 → A11 → A12 → A13 → A14 → A15 → A16 → Prop) (I : A1 → A2 → A3 → A4 → A5 → A6 → A7 → A8 → A9 → A10 → A11 → A12 → A13 → A14 → A15 → A16 → Prop) (μ : A1 → A2 → A3 → A4 → A5 → A6 → A7 → A8 → A9 → A10 → A11 → A12 → A13 → A14 → A15 → A16 → Nat) (hs : ∀ (n : Nat) (a1 : A1) (a2 : A2) (a3 : A3) (a4 : A4) (a5 : A5) (a6 : A6) (a7 : A7) (a8 : A8) (a9 : A9) (a10 : A10) (a11 : A11) (a12 : A12) (a13 : A13) (a14 : A14) (a15 : A15) (a16 : A16), I a1 a2 a3 a4 a5 a6 a7 a8 a9 a10 a11 a12 a13 a14 a15 a16 → (∀ (b1 : A1) (b2 : A2) (b3 : A3) (b4 : A4) (b5 : A5) (b6 : A6) (b7 : A7) (b8 : A8) (b9 : A9) (b10 : A10) (b11 : A11) (b12 : A12) (b13 : A13) (b14 : A14) (b15 : A15) (b16 : A16), I b1 b2 b3 b4 b5 b6 b7 b8 b9 b10 b11 b12 b13 b14 b15 b16 → μ b1 b2 b3 b4 b5 b6 b7 b8 b9 b10 b11 b12 b13 b14 b15 b16 < μ a1 a2 a3 a4 a5 a6 a7 a8 a9 a10 a11 a12 a13 a14 a15 a16 → W n b1 b2 b3 b4 b5 b6 b7 b8 b9 b10 b11 b12 b13 b14 b15 b16) → W (n + 1) a1 a2 a3 a4 a5 a6 a7 a8 a9 a10 a11 a12 a13 a14 a15 a16) (a1 : A1) (a2 : A2) (a3 : A3) (a4 : A4) (a5 : A5) (a6 : A6) (a7 : A7) (a8 : A8) (a9 : A9) (a10 : A10) (a11 : A11) (a12 : A12) (a13 : A13) (a14 : A14) (a15 : A15) (a16 : A16) (h : I a1 a2 a3 a4 a5 a6 a7 a8 a9 a10 a11 a12 a13 a14 a15 a16) : ∃ n, W n a1 a2 a3 a4 a5 a6 a7 a8 a9 a10 a11 a12 a13 a14 a15 a16 :=
  loop_m (σ := A1 × A2 × A3 × A4 × A5 × A6 × A7 × A8 × A9 × A10 × A11 × A12 × A13 × A14 × A15 × A16) (fun n s => W n s.1 s.2.1 s.2.2.1 s.2.2.2.1 s.2.2.2.2.1 s.2.2.2.2.2.1 s.2.2.2.2.2.2.1 s.2.2.2.2.2.2.2.1 s.2.2.2.2.2.2.2.2.1 s.2.2.2.2.2.2.2.2.2.1 s.2.2.2.2.2.2.2.2.2.2.1 s.2.2.2.2.2.2.2.2.2.2.2.1 s.2.2.2.2.2.2.2.2.2.2.2.2.1 s.2.2.2.2.2.2.2.2.2.2.2.2.2.1 s.2.2.2.2.2.2.2.2.2.2.2.2.2.2.1 s.2.2.2.2.2.2.2.2.2.2.2.2.2.2.2) (fun s => I s.1 s.2.1 s.2.2.1 s.2.2.2.1 s.2.2.2.2.1 s.2.2.2.2.2.1 s.2.2.2.2.2.2.1 s.2.2.2.2.2.2.2.1 s.2.2.2.2.2.2.2.2.1 s.2.2.2.2.2.2.2.2.2.1 s.2.2.2.2.2.2.2.2.2.2.1 s.2.2.2.2.2.2.2.2.2.2.2.1 s.2.2.2.2.2.2.2.2.2.2.2.2.1 s.2.2.2.2.2.2.2.2.2.2.2.2.2.1 s.2.2.2.2.2.2.2.2.2.2.2.2.2.2.1 s.2.2.2.2.2.2.2.2.2.2.2.2.2.2.2) (fun s => μ s.1 s.2.1 s.2.2.1 s.2.2.2.1 s.2.2.2.2.1 s.2.2.2.2.2.1 s.2.2.2.2.2.2.1 s.2.2.2.2.2.2.2.1 s.2.2.2.2.2.2.2.2.1 s.2.2.2.2.2.2.2.2.2.1 s.2.2.2.2.2.2.2.2.2.2.1 s.2.2.2.2.2.2.2.2.2.2.2.1 s.2.2.2.2.2.2.2.2.2.2.2.2.1 s.2.2.2.2.2.2.2.2.2.2.2.2.2.1 s.2.2.2.2.2.2.2.2.2.2.2.2.2.2.1 s.2.2.2.2.2.2.2.2.2.2.2.2.2.2.2) (fun n s hI hk => hs n s.1 s.2.1 s.2.2.1 s.2.2.2.1 s.2.2.2.2.1 s.2.2.2.2.2.1 s.2.2.2.2.2.2.1 s.2.2.2.2.2.2.2.1 s.2.2.2.2.2.2.2.2.1 s.2.2.2.2.2.2.2.2.2.1 s.2.2.2.2.2.2.2.2.2.2.1 s.2.2.2.2.2.2.2.2.2.2.2.1 s.2.2.2.2.2.2.2.2.2.2.2.2.1 s.2.2.2.2.2.2.2.2.2.2.2.2.2.1 s.2.2.2.2.2.2.2.2.2.2.2.2.2.2.1 s.2.2.2.2.2.2.2.2.2.2.2.2.2.2.2 hI (fun b1 b2 b3 b4 b5 b6 b7 b8 b9 b10 b11 b12 b13 b14 b15 b16 h9 hm => hk (b1, b2, b3, b4, b5, b6, b7, b8, b9, b10, b11, b12, b13, b14, b15, b16) h9 hm)) (a1, a2, a3, a4, a5, a6, a7, a8, a9, a10, a11, a12, a13, a14, a15, a16) h
theorem pk_least (P : Nat → Prop) (h : ∃ k, P k) : ∃ k, P k ∧ ∀ j, j < k → ¬ P j := by
  obtain ⟨k, hk⟩ := h
  induction k using Nat.strongRecOn with
  | ind k ih =>
    by_cases e : ∃ j, j < k ∧ P j
    · obtain ⟨j, hj, pj⟩ := e
      exact ih j hj pj
    · exact ⟨k, hk, fun j hj pj => e ⟨j, hj, pj⟩⟩
theorem rp1 {ρ A1 : Type} (W : Nat → (ρ → Prop) → A1 → Prop) (ok : A1 → Prop) (μ : A1 → Nat) (val : A1 → ρ)
    (hs : ∀ (d : Nat) (post : ρ → Prop) (a1 : A1), ok a1 → post (val a1) → (∀ (post' : ρ → Prop) (b1 : A1), ok b1 → μ b1 < μ a1 → post' (val b1) → W d post' b1) → W (d + 1) post a1) :
    ∀ (d : Nat) (post : ρ → Prop) (a1 : A1), ok a1 → μ a1 < d → post (val a1) → W d post a1 := by
  intro d
  induction d with
  | zero => intro post a1 _ h; omega
  | succ d ih =>
    intro post a1 ho hm hp
    exact hs d post a1 ho hp (fun post' b1 ho' hm' hp' => ih post' b1 ho' (by omega) hp')
theorem rp2 {ρ A1 A2 : Type} (W : Nat → (ρ → Prop) → A1 → A2 → Prop) (ok : A1 → A2 → Prop) (μ : A1 → A2 → Nat) (val : A1 → A2 → ρ)
    (hs : ∀ (d : Nat) (post : ρ → Prop) (a1 : A1) (a2 : A2), ok a1 a2 → post (val a1 a2) → (∀ (post' : ρ → Prop) (b1 : A1) (b2 : A2), ok b1 b2 → μ b1 b2 < μ a1 a2 → post' (val b1 b2) → W d post' b1 b2) → W (d + 1) post a1 a2) :
    ∀ (d : Nat) (post : ρ → Prop) (a1 : A1) (a2 : A2), ok a1 a2 → μ a1 a2 < d → post (val a1 a2) → W d post a1 a2 := by
  intro d
  induction d with
  | zero => intro post a1 a2 _ h; omega
  | succ d ih =>
    intro post a1 a2 ho hm hp
    exact hs d post a1 a2 ho hp (fun post' b1 b2 ho' hm' hp' => ih post' b1 b2 ho' (by omega) hp')
theorem rp3 {ρ A1 A2 A3 : Type} (W : Nat → (ρ → Prop) → A1 → A2 → A3 → Prop) (ok : A1 → A2 → A3 → Prop) (μ : A1 → A2 → A3 → Nat) (val : A1 → A2 → A3 → ρ)
    (hs : ∀ (d : Nat) (post : ρ → Prop) (a1 : A1) (a2 : A2) (a3 : A3), ok a1 a2 a3 → post (val a1 a2 a3) → (∀ (post' : ρ → Prop) (b1 : A1) (b2 : A2) (b3 : A3), ok b1 b2 b3 → μ b1 b2 b3 < μ a1 a2 a3 → post' (val b1 b2 b3) → W d post' b1 b2 b3) → W (d + 1) post a1 a2 a3) :
    ∀ (d : Nat) (post : ρ → Prop) (a1 : A1) (a2 : A2) (a3 : A3), ok a1 a2 a3 → μ a1 a2 a3 < d → post (val a1 a2 a3) → W d post a1 a2 a3 := by
  intro d
  induction d with
  | zero => intro post a1 a2 a3 _ h; omega
  | succ d ih =>
    intro post a1 a2 a3 ho hm hp
    exact hs d post a1 a2 a3 ho hp (fun post' b1 b2 b3 ho' hm' hp' => ih post' b1 b2 b3 ho' (by omega) hp')
theorem rp4 {ρ A1 A2 A3 A4 : Type} (W : Nat → (ρ → Prop) → A1 → A2 → A3 → A4 → Prop) (ok : A1 → A2 → A3 → A4 → Prop) (μ : A1 → A2 → A3 → A4 → Nat) (val : A1 → A2 → A3 → A4 → ρ)
    (hs : ∀ (d : Nat) (post : ρ → Prop) (a1 : A1) (a2 : A2) (a3 : A3) (a4 : A4), ok a1 a2 a3 a4 → post (val a1 a2 a3 a4) → (∀ (post' : ρ → Prop) (b1 : A1) (b2 : A2) (b3 : A3) (b4 : A4), ok b1 b2 b3 b4 → μ b1 b2 b3 b4 < μ a1 a2 a3 a4 → post' (val b1 b2 b3 b4) → W d post' b1 b2 b3 b4) → W (d + 1) post a1 a2 a3 a4) :
    ∀ (d : Nat) (post : ρ → Prop) (a1 : A1) (a2 : A2) (a3 : A3) (a4 : A4), ok a1 a2 a3 a4 → μ a1 a2 a3 a4 < d → post (val a1 a2 a3 a4) → W d post a1 a2 a3 a4 := by
  intro d
  induction d with
  | zero => intro post a1 a2 a3 a4 _ h; omega
  | succ d ih =>
    intro post a1 a2 a3 a4 ho hm hp
    exact hs d post a1 a2 a3 a4 ho hp (fun post' b1 b2 b3 b4 ho' hm' hp' => ih post' b1 b2 b3 b4 ho' (by omega) hp')
theorem rp5 {ρ A1 A2 A3 A4 A5 : Type} (W : Nat → (ρ → Prop) → A1 → A2 → A3 → A4 → A5 → Prop) (ok : A1 → A2 → A3 → A4 → A5 → Prop) (μ : A1 → A2 → A3 → A4 → A5 → Nat) (val : A1 → A2 → A3 → A4 → A5 → ρ)
    (hs : ∀ (d : Nat) (post : ρ → Prop) (a1 : A1) (a2 : A2) (a3 : A3) (a4 : A4) (a5 : A5), ok a1 a2 a3 a4 a5 → post (val a1 a2 a3 a4 a5) → (∀ (post' : ρ → Prop) (b1 : A1) (b2 : A2) (b3 : A3) (b4 : A4) (b5 : A5), ok b1 b2 b3 b4 b5 → μ b1 b2 b3 b4 b5 < μ a1 a2 a3 a4 a5 → post' (val b1 b2 b3 b4 b5) → W d post' b1 b2 b3 b4 b5) → W (d + 1) post a1 a2 a3 a4 a5) :
    ∀ (d : Nat) (post : ρ → Prop) (a1 : A1) (a2 : A2) (a3 : A3) (a4 : A4) (a5 : A5), ok a1 a2 a3 a4 a5 → μ a1 a2 a3 a4 a5 < d → post (val a1 a2 a3 a4 a5) → W d post a1 a2 a3 a4 a5 := by
  intro d
  induction d with
  | zero => intro post a1 a2 a3 a4 a5 _ h; omega
  | succ d ih =>
    intro post a1 a2 a3 a4 a5 ho hm hp
    exact hs d post a1 a2 a3 a4 a5 ho hp (fun post' b1 b2 b3 b4 b5 ho' hm' hp' => ih post' b1 b2 b3 b4 b5 ho' (by omega) hp')
theorem rp6 {ρ A1 A2 A3 A4 A5 A6 : Type} (W : Nat → (ρ → Prop) → A1 → A2 → A3 → A4 → A5 → A6 → Prop) (ok : A1 → A2 → A3 → A4 → A5 → A6 → Prop) (μ : A1 → A2 → A3 → A4 → A5 → A6 → Nat) (val : A1 → A2 → A3 → A4 → A5 → A6 → ρ)
    (hs : ∀ (d : Nat) (post : ρ → Prop) (a1 : A1) (a2 : A2) (a3 : A3) (a4 : A4) (a5 : A5) (a6 : A6), ok a1 a2 a3 a4 a5 a6 → post (val a1 a2 a3 a4 a5 a6) → (∀ (post' : ρ → Prop) (b1 : A1) (b2 : A2) (b3 : A3) (b4 : A4) (b5 : A5) (b6 : A6), ok b1 b2 b3 b4 b5 b6 → μ b1 b2 b3 b4 b5 b6 < μ a1 a2 a3 a4 a5 a6 → post' (val b1 b2 b3 b4 b5 b6) → W d post' b1 b2 b3 b4 b5 b6) → W (d + 1) post a1 a2 a3 a4 a5 a6) :
    ∀ (d : Nat) (post : ρ → Prop) (a1 : A1) (a2 : A2) (a3 : A3) (a4 : A4) (a5 : A5) (a6 : A6), ok a1 a2 a3 a4 a5 a6 → μ a1 a2 a3 a4 a5 a6 < d → post (val a1 a2 a3 a4 a5 a6) → W d post a1 a2 a3 a4 a5 a6 := by
  intro d
  induction d with
  | zero => intro post a1 a2 a3 a4 a5 a6 _ h; omega
  | succ d ih =>
    intro post a1 a2 a3 a4 a5 a6 ho hm hp
    exact hs d post a1 a2 a3 a4 a5 a6 ho hp (fun post' b1 b2 b3 b4 b5 b6 ho' hm' hp' => ih post' b1 b2 b3 b4 b5 b6 ho' (by omega) hp')
theorem rec_p {σ ρ : Type} (W : Nat → (ρ → Prop) → σ → Prop) (ok : σ → Prop) (μ : σ → Nat) (val : σ → ρ)
    (hs : ∀ d s post, ok s → post (val s) → (∀ s' post', ok s' → μ s' < μ s → post' (val s') → W d post' s') → W (d + 1) post s) :
    ∀ d s post, ok s → μ s < d → post (val s) → W d post s := by
  intro d
  induction d with
  | zero => intro s post _ h; omega
  | succ d ih =>
    intro s post ho hm hp
    exact hs d s post ho hp (fun s' post' ho' hm' hp' => ih s' post' ho' (by omega) hp')
theorem rec_q {σ ρ : Type} (W : Nat → (ρ → Prop) → σ → Prop) (ok : σ → Prop) (μ : σ → Nat) (Q : σ → ρ → Prop)
    (hs : ∀ d s post, ok s → (∀ r, Q s r → post r) → (∀ s' post', ok s' → μ s' < μ s → (∀ r, Q s' r → post' r) → W d post' s') → W (d + 1) post s) :
    ∀ d s post, ok s → μ s < d → (∀ r, Q s r → post r) → W d post s := by
  intro d
  induction d with
  | zero => intro s post _ h; omega
  | succ d ih =>
    intro s post ho hm hp
    exact hs d s post ho hp (fun s' post' ho' hm' hp' => ih s' post' ho' (by omega) hp')
def bx_sum (f : Nat → Int32) : Nat → Int32
  | 0 => 0
  | n + 1 => bx_sum f n + f n
theorem ek_u {A : Prop} {B : Nat → Prop} {k N : Nat} (hk : k < N) (h : B k) : (some k = none → A) ∧ (∀ y : Nat, some k = some y → (y < N ∧ B y)) :=
  ⟨fun z => absurd z (Option.some_ne_none k), fun _ e => (by cases e; exact ⟨hk, h⟩)⟩
theorem ek_nu {A : Prop} {B : Nat → Prop} (h : A) : ((none : Option Nat) = none → A) ∧ (∀ y : Nat, (none : Option Nat) = some y → B y) :=
  ⟨fun _ => h, fun _ e => (by cases e)⟩
theorem ek_if {c d A B : Prop} (e : c ↔ d) (f : d → A) (g : ¬ d → B) : (c → A) ∧ (¬ c → B) :=
  ⟨fun z => f (e.mp z), fun z => g (fun y => z (e.mpr y))⟩
theorem ek_v {α : Sort _} {P : α → Prop} {a b : α} (e : a = b) (h : P b) : P a := e ▸ h
theorem co_some {x : Option Nat} {A : Prop} {B : Nat → Prop} (i : Nat) (h : B i) (hx : x = some i := by rfl) : (x = none → A) ∧ (∀ y : Nat, x = some y → B y) := by
  subst hx
  exact ⟨fun e => (nomatch e), fun y e => Option.some.inj e ▸ h⟩
theorem co_none {x : Option Nat} {A : Prop} {B : Nat → Prop} (h : A) (hx : x = none := by rfl) : (x = none → A) ∧ (∀ y : Nat, x = some y → B y) := by
  subst hx
  exact ⟨fun _ => h, fun y e => (nomatch e)⟩
theorem co_any {x : Option Nat} {A : Prop} {B : Nat → Prop} (hn : x = none → A) (hs : ∀ i : Nat, x = some i → B i) : (x = none → A) ∧ (∀ y : Nat, x = some y → B y) := ⟨hn, hs⟩
theorem co_2 {P : Nat → Prop} (h0 : P 0) (h1 : P 1) {i : Nat} (hi : i < 2) : P i :=
  match i, hi with
  | 0, _ => h0
  | 1, _ => h1
theorem co_3 {P : Nat → Prop} (h0 : P 0) (h1 : P 1) (h2 : P 2) {i : Nat} (hi : i < 3) : P i :=
  match i, hi with
  | 0, _ => h0
  | 1, _ => h1
  | 2, _ => h2
theorem co_4 {P : Nat → Prop} (h0 : P 0) (h1 : P 1) (h2 : P 2) (h3 : P 3) {i : Nat} (hi : i < 4) : P i :=
  match i, hi with
  | 0, _ => h0
  | 1, _ => h1
  | 2, _ => h2
  | 3, _ => h3
theorem co_dec {N : Nat} {P : Nat → Prop} [DecidablePred P] (h : (List.range N).all (fun i => decide (P i)) = true) {i : Nat} (hi : i < N) : P i := by
  have := List.all_eq_true.mp h i (List.mem_range.mpr hi)
  exact of_decide_eq_true this
theorem co_tab {α : Type} {l : List α} {d : α} {P : α → Prop} (h : ∀ a, a ∈ l → P a) {i : Nat} (hi : i < l.length) : P (l.getD i d) := by
  rw [List.getD_eq_getElem?_getD, List.getElem?_eq_getElem hi]
  exact h _ (List.getElem_mem hi)
theorem pk_mu {x : Int32} {L : Nat} (h0 : ¬ x < 0) (h : ¬ nI L ≤ x) (hL : L < 2 ^ 31) : ∃ j : Nat, j < L ∧ x = nI j ∧ x + 1 = nI (j + 1) ∧ x.toNatClampNeg = j ∧ L - (x + 1).toNatClampNeg < L - x.toNatClampNeg := by
  obtain ⟨j, hj, rfl⟩ := nI_of h0
  have hl : j < L := Nat.not_le.mp fun q => h (nI_le q hj)
  refine ⟨j, hl, rfl, nI_1 j, nI_clamp hj, ?_⟩
  rw [nI_1, nI_clamp (by omega), nI_clamp hj]
  omega
theorem op_s {α : Type} {r : Option α} {A : Prop} {B : α → Prop} {y : α} (h : r = some y) (b : B y) : (r = none → A) ∧ ∀ z, r = some z → B z :=
  ⟨fun e => (by rw [h] at e; cases e), fun z e => (by rw [h] at e; cases e; exact b)⟩
def l_holds {α : Type} (a : Nat → Option Nat) (LP : List Nat) (p : Nat → α) (c : Nat) (b : Nat → α) : Prop :=
  ∀ j, j < c → ∃ y, a j = some y ∧ y ∈ LP ∧ p y = b j
theorem l_holds_0 {α : Type} {a : Nat → Option Nat} {LP : List Nat} {p b : Nat → α} : l_holds a LP p 0 b := fun j h => absurd h (Nat.not_lt_zero j)
theorem l_in_new (LP : List Nat) (q : Nat) : q ∈ LP ++ [q] := List.mem_append.mpr (Or.inr (List.mem_singleton.mpr rfl))
def l_sum (b : Nat → Int32) : Nat → Int32
  | 0 => 0
  | k + 1 => l_sum b k + b k
theorem sb_shr0 (x : Int32) : x >>> ((0 : Int32) &&& 31) = x := by
  rw [show ((0 : Int32) &&& 31) = 0 by decide]
  simp
theorem sb_shl0 (x : Int32) : x <<< ((0 : Int32) &&& 31) = x := by
  rw [show ((0 : Int32) &&& 31) = 0 by decide]
  simp
theorem sb_cl0 : (0 : Int32).toNatClampNeg = 0 := by decide
theorem sb_m1 {p : Nat} (h : 0 < p) : nI p + (-1) = nI (p - 1) := by
  obtain ⟨q, rfl⟩ : ∃ q, p = q + 1 := ⟨p - 1, by omega⟩
  exact pk_m1 q
def sb_b (c : Nat) : Int32 := (nI c).toInt8.toInt32
theorem sb_byte : ∀ c, c < 256 → sb_b c &&& 255 = nI c ∧ ((nI c).toUInt32 % 65536).toInt32 = nI c ∧ nI c ≤ 255 := by decide +kernel
def sb_Fit (a : Nat → Int32) : Prop := ∀ j, fits .byte (.int (a j)) = true
def sb_Lat (t : Nat → Nat) (n : Nat) (a : Nat → Int32) : Prop := ∀ j, j < n → t j < 256 ∧ a j = sb_b (t j)
theorem sb_fitB (c : Nat) : fits .byte (.int (sb_b c)) = true := pk_fb _
theorem sb_fit0 : sb_Fit (fun _ => 0) := fun _ => by
  show fits .byte (.int 0) = true
  decide
theorem sb_fitU {a : Nat → Int32} {k : Nat} {x : Int32} (h : sb_Fit a) (hx : fits .byte (.int x) = true) : sb_Fit (upd a k x) := by
  intro j
  by_cases e : j = k
  · subst e
    rw [pk_us]
    exact hx
  · rw [pk_un e]
    exact h j
def sb_cat (t : Nat → Nat) (n : Nat) (s : Nat → Nat) : Nat → Nat := fun j => if j < n then t j else s (j - n)
theorem sb_cat_lo {t s : Nat → Nat} {n j : Nat} (h : j < n) : sb_cat t n s j = t j := if_pos h
theorem sb_cat_hi {t s : Nat → Nat} {n j : Nat} : sb_cat t n s (n + j) = s j := by
  show (if n + j < n then t (n + j) else s (n + j - n)) = s j
  rw [if_neg (by omega), Nat.add_sub_cancel_left]
theorem sb_latPut {t s : Nat → Nat} {n w : Nat} {a a' : Nat → Int32} (h : sb_Lat t n a) (hk : ∀ j, j < n → a' j = a j) (hs : ∀ i, i < w → s i < 256 ∧ a' (n + i) = sb_b (s i)) : sb_Lat (sb_cat t n s) (n + w) a' := by
  intro j hj
  by_cases e : j < n
  · rw [sb_cat_lo e, hk j e]
    exact h j e
  · obtain ⟨i, rfl⟩ : ∃ i, j = n + i := ⟨j - n, by omega⟩
    rw [sb_cat_hi]
    exact hs i (by omega)
theorem sb_latKeep {t : Nat → Nat} {n : Nat} {a a' : Nat → Int32} (h : sb_Lat t n a) (hk : ∀ j, j < n → a' j = a j) : sb_Lat t n a' := fun j hj => by
  rw [hk j hj]
  exact h j hj
def sb_cap (q m : Nat) : Nat := if q ≤ m then m else if 2 * m + 2 < q then q else 2 * m + 2
def sb_Room (q m mc ms : Nat) : Prop := q ≤ m ∨ (1 ≤ mc ∧ sb_cap q m ≤ ms ∧ sb_cap q m ≤ 65536)
theorem sb_cap_ge (q m : Nat) : q ≤ sb_cap q m := by
  unfold sb_cap
  split
  · omega
  · split <;> omega
theorem sb_cap_gem (q m : Nat) : m ≤ sb_cap q m := by
  unfold sb_cap
  split
  · omega
  · split <;> omega
theorem sb_cap_le {q m mc ms : Nat} (hm : m ≤ 65536) (hr : sb_Room q m mc ms) : sb_cap q m ≤ 65536 := by
  rcases hr with h | h
  · rw [sb_cap, if_pos h]
    exact hm
  · exact h.2.2
theorem sb_at {P : Int32 → Prop} {x y : Int32} (e : x = y) (h : P y) : P x := e ▸ h
def sb_dg (w : Nat) : Nat := if w < 10 then 1 else if w < 100 then 2 else if w < 1000 then 3 else if w < 10000 then 4 else if w < 100000 then 5 else if w < 1000000 then 6 else if w < 10000000 then 7 else if w < 100000000 then 8 else if w < 1000000000 then 9 else 10
def sb_dec (v : Nat) : Nat → Nat := fun i => 48 + v / 10 ^ (sb_dg v - 1 - i) % 10
theorem sb_dg_in (w : Nat) : 1 ≤ sb_dg w ∧ sb_dg w ≤ 10 := by
  unfold sb_dg
  constructor <;> (repeat' split) <;> omega
theorem sb_dg100 {w : Nat} (h : 100 ≤ w) (hw : w < 2 ^ 31) : sb_dg w = sb_dg (w / 100) + 2 := by
  rw [sb_dg, sb_dg, if_neg (show ¬ w < 10 by omega), if_neg (show ¬ w < 100 by omega)]
  by_cases h3 : w < 1000
  · rw [if_pos h3, if_pos (show w / 100 < 10 by omega)]
  rw [if_neg h3, if_neg (show ¬ w / 100 < 10 by omega)]
  by_cases h4 : w < 10000
  · rw [if_pos h4, if_pos (show w / 100 < 100 by omega)]
  rw [if_neg h4, if_neg (show ¬ w / 100 < 100 by omega)]
  by_cases h5 : w < 100000
  · rw [if_pos h5, if_pos (show w / 100 < 1000 by omega)]
  rw [if_neg h5, if_neg (show ¬ w / 100 < 1000 by omega)]
  by_cases h6 : w < 1000000
  · rw [if_pos h6, if_pos (show w / 100 < 10000 by omega)]
  rw [if_neg h6, if_neg (show ¬ w / 100 < 10000 by omega)]
  by_cases h7 : w < 10000000
  · rw [if_pos h7, if_pos (show w / 100 < 100000 by omega)]
  rw [if_neg h7, if_neg (show ¬ w / 100 < 100000 by omega)]
  by_cases h8 : w < 100000000
  · rw [if_pos h8, if_pos (show w / 100 < 1000000 by omega)]
  rw [if_neg h8, if_neg (show ¬ w / 100 < 1000000 by omega)]
  by_cases h9 : w < 1000000000
  · rw [if_pos h9, if_pos (show w / 100 < 10000000 by omega)]
  rw [if_neg h9, if_neg (show ¬ w / 100 < 10000000 by omega)]
  rw [if_pos (show w / 100 < 100000000 by omega)]
theorem sb_negT {w : Nat} (h : w < 2 ^ 31) : (-nI w).toInt = -(w : Int) := by
  rw [Int32.toInt_neg, nI_toInt h]
  exact Int.bmod_eq_of_le (by omega) (by omega)
theorem sb_nle {a b : Nat} (ha : a < 2 ^ 31) (hb : b < 2 ^ 31) : -nI a ≤ -nI b ↔ b ≤ a := by
  rw [Int32.le_iff_toInt_le, sb_negT ha, sb_negT hb]
  omega
theorem sb_nlt {a b : Nat} (ha : a < 2 ^ 31) (hb : b < 2 ^ 31) : -nI a < -nI b ↔ b < a := by
  rw [Int32.lt_iff_toInt_lt, sb_negT ha, sb_negT hb]
  omega
theorem sb_cmp {A B : Prop} {x : Int32} (v c : Nat) (f : c ≤ v → A) (g : v < c → B) (hv : v < 2 ^ 31) (hx : x = -nI c := by rfl) (hc : c < 2 ^ 31 := by omega) : (-nI v ≤ x → A) ∧ (¬ -nI v ≤ x → B) := by
  subst hx
  rw [sb_nle hv hc]
  exact ⟨f, fun z => g (by omega)⟩
theorem sb_ndiv {w : Nat} (hw : w < 2 ^ 31) : (-nI w) / 100 = -nI (w / 100) := by
  apply Int32.toInt_inj.mp
  have h100 : (100 : Int32).toInt = 100 := by decide
  rw [Int32.toInt_div, sb_negT hw, h100, sb_negT (by omega), Int.neg_tdiv, Int.tdiv_eq_ediv_of_nonneg (by omega), Int.bmod_eq_of_le (by omega) (by omega)]
  omega
theorem sb_nrem {w : Nat} (hw : w < 2 ^ 31) : (-nI (w / 100)) * 100 - (-nI w) = nI (w % 100) := by
  have h := pk_rem (a := w) (d := 100) hw (by decide) (by decide)
  rw [pk_div hw (by decide) (by decide)] at h
  rw [← h]
  show (-nI (w / 100)) * nI 100 - (-nI w) = nI w - nI (w / 100) * nI 100
  rw [Int32.neg_mul, Int32.sub_neg, Int32.add_comm, ← Int32.sub_eq_add_neg]
end
section
/-! rows on bits, shifts and unsigned numbers, to paste: each family out of a closed proof of our own, whole with what it rests on; each by itself clean at Lean in its own claim (generation 39, form 5). Take a family whole -/
/-! ===== Int32 by its bits: bt x i ===== -/
def bt (x : Int32) (i : Nat) : Bool := x.toBitVec.getLsbD i
theorem b_ext {x y : Int32} (h : ∀ i, i < 32 → bt x i = bt y i) : x = y := Int32.toBitVec_inj.mp (BitVec.eq_of_getLsbD_eq (fun i hi => h i hi))
theorem b_or (x y : Int32) (i : Nat) : bt (x ||| y) i = (bt x i || bt y i) := by unfold bt; rw [Int32.toBitVec_or, BitVec.getLsbD_or]
theorem b_and (x y : Int32) (i : Nat) : bt (x &&& y) i = (bt x i && bt y i) := by unfold bt; rw [Int32.toBitVec_and, BitVec.getLsbD_and]
theorem b_xor (x y : Int32) (i : Nat) : bt (x ^^^ y) i = (bt x i ^^ bt y i) := by unfold bt; rw [Int32.toBitVec_xor, BitVec.getLsbD_xor]
theorem b_big {x : Int32} {i : Nat} (h : 32 ≤ i) : bt x i = false := BitVec.getLsbD_of_ge _ _ h
theorem b_255 (i : Nat) : bt 255 i = decide (i < 8) := by
  rcases Nat.lt_or_ge i 32 with h | h
  · exact (by decide +kernel : ∀ i, i < 32 → bt 255 i = decide (i < 8)) i h
  · rw [b_big h, decide_eq_false (by omega)]
theorem b_65535 (i : Nat) : bt 65535 i = decide (i < 16) := by
  rcases Nat.lt_or_ge i 32 with h | h
  · exact (by decide +kernel : ∀ i, i < 32 → bt 65535 i = decide (i < 16)) i h
  · rw [b_big h, decide_eq_false (by omega)]
theorem b_m1 : ∀ i, i < 32 → bt (-1) i = true := by decide +kernel
theorem b_0 (i : Nat) : bt 0 i = false := BitVec.getLsbD_zero
theorem s_l : ∀ n, n < 32 → ((nI n &&& 31).toBitVec.smod 32).toNat = n := by decide +kernel
theorem s_u : ∀ n, n < 32 → (((nI n).toUInt32 &&& Int32.toUInt32 31).toBitVec % 32).toNat = n := by decide +kernel
theorem b_shl (n : Nat) (hn : n < 32) (x : Int32) {i : Nat} (hi : i < 32) : bt (x <<< (nI n &&& 31)) i = (decide (n ≤ i) && bt x (i - n)) := by
  unfold bt
  rw [Int32.toBitVec_shiftLeft]
  show (x.toBitVec <<< ((nI n &&& 31).toBitVec.smod 32).toNat).getLsbD i = _
  rw [s_l n hn, BitVec.getLsbD_shiftLeft]
  rcases Nat.lt_or_ge i n with h | h
  · simp [h, Nat.not_le.mpr h]
  · simp [hi, h, Nat.not_lt.mpr h]
theorem b_ushr (n : Nat) (hn : n < 32) (x : Int32) (i : Nat) : bt ((x.toUInt32 >>> ((nI n).toUInt32 &&& Int32.toUInt32 31)).toInt32) i = bt x (n + i) := by
  show (x.toUInt32 >>> ((nI n).toUInt32 &&& Int32.toUInt32 31)).toBitVec.getLsbD i = x.toUInt32.toBitVec.getLsbD (n + i)
  rw [UInt32.toBitVec_shiftRight]
  show (x.toUInt32.toBitVec >>> (((nI n).toUInt32 &&& Int32.toUInt32 31).toBitVec % 32).toNat).getLsbD i = _
  rw [s_u n hn, BitVec.getLsbD_ushiftRight]
theorem b_sshr (n : Nat) (hn : n < 32) (x : Int32) {i : Nat} (hi : i < 32) : bt (x >>> (nI n &&& 31)) i = if n + i < 32 then bt x (n + i) else bt x 31 := by
  unfold bt
  rw [Int32.toBitVec_shiftRight]
  show (x.toBitVec.sshiftRight ((nI n &&& 31).toBitVec.smod 32).toNat).getLsbD i = _
  rw [s_l n hn, BitVec.getLsbD_sshiftRight, BitVec.msb_eq_getLsbD_last]
  simp [hi]
theorem b_shl8 (x : Int32) {i : Nat} (hi : i < 32) : bt (x <<< ((8 : Int32) &&& 31)) i = (decide (8 ≤ i) && bt x (i - 8)) := b_shl 8 (by omega) x hi
theorem b_shl16 (x : Int32) {i : Nat} (hi : i < 32) : bt (x <<< ((16 : Int32) &&& 31)) i = (decide (16 ≤ i) && bt x (i - 16)) := b_shl 16 (by omega) x hi
theorem b_shl24 (x : Int32) {i : Nat} (hi : i < 32) : bt (x <<< ((24 : Int32) &&& 31)) i = (decide (24 ≤ i) && bt x (i - 24)) := b_shl 24 (by omega) x hi
theorem b_sshr8 (x : Int32) {i : Nat} (hi : i < 32) : bt (x >>> ((8 : Int32) &&& 31)) i = if 8 + i < 32 then bt x (8 + i) else bt x 31 := b_sshr 8 (by omega) x hi
/-! ===== nI under and, xor, >>>, one bit, 65535 ===== -/
theorem nx_and (a b : Nat) : nI a &&& nI b = nI (a &&& b) := by
  apply Int32.toBitVec_inj.1
  show BitVec.ofNat 32 a &&& BitVec.ofNat 32 b = BitVec.ofNat 32 (a &&& b)
  apply BitVec.eq_of_getLsbD_eq
  intro i hi
  simp [hi]
theorem nx_xor (a b : Nat) : nI a ^^^ nI b = nI (a ^^^ b) := by
  apply Int32.toBitVec_inj.1
  show BitVec.ofNat 32 a ^^^ BitVec.ofNat 32 b = BitVec.ofNat 32 (a ^^^ b)
  apply BitVec.eq_of_getLsbD_eq
  intro i hi
  simp [hi]
theorem nx_cnt : ∀ j : Fin 32, (UInt32.ofNat j.val &&& Int32.toUInt32 31).toNat % 32 = j.val := by decide +kernel
theorem nx_ush {k j : Nat} (hk : k < 65536) (hj : j < 32) : ((nI k).toUInt32 >>> ((nI j).toUInt32 &&& Int32.toUInt32 31)).toInt32 = nI (k >>> j) := by
  have hs : k >>> j ≤ k := by
    rw [Nat.shiftRight_eq_div_pow]
    exact Nat.div_le_self _ _
  have e2 : UInt32.ofNat k >>> (UInt32.ofNat j &&& Int32.toUInt32 31) = UInt32.ofNat (k >>> j) := by
    apply UInt32.toNat_inj.1
    have h1 : (UInt32.ofNat k).toNat = k := Nat.mod_eq_of_lt (by omega)
    have h2 : (UInt32.ofNat (k >>> j)).toNat = k >>> j := Nat.mod_eq_of_lt (by omega)
    rw [UInt32.toNat_shiftRight, nx_cnt ⟨j, hj⟩, h1, h2]
  show (UInt32.ofNat k >>> (UInt32.ofNat j &&& Int32.toUInt32 31)).toInt32 = _
  rw [e2]
  rfl
theorem nx_bit {k j : Nat} (hk : k < 65536) (hj : j < 16) : (((nI k).toUInt32 >>> ((nI j).toUInt32 &&& Int32.toUInt32 31)).toInt32 &&& 1) = 0 ↔ k.testBit j = false := by
  rw [nx_ush hk (by omega)]
  show nI (k >>> j) &&& nI 1 = 0 ↔ _
  rw [nx_and, Nat.and_one_is_mod, ← nI_0, nI_eq (by omega) (by omega), Nat.testBit_eq_decide_div_mod_eq, Nat.shiftRight_eq_div_pow, decide_eq_false_iff_not]
  generalize k / 2 ^ j = z
  omega
theorem nx_mod (k : Nat) : nI k &&& 65535 = nI (k % 65536) := by
  show nI k &&& nI 65535 = _
  rw [nx_and, show (65535 : Nat) = 2 ^ 16 - 1 from rfl, Nat.and_two_pow_sub_one_eq_mod]
theorem nx_m16 {k : Nat} (h : k < 65536) : nI k &&& 65535 = nI k := by rw [nx_mod, Nat.mod_eq_of_lt h]
theorem nx_mask (x : Int32) : ∃ k, k < 65536 ∧ x &&& 65535 = nI k := by
  have e : x = nI x.toBitVec.toNat := by
    apply Int32.toBitVec_inj.1
    show x.toBitVec = BitVec.ofNat 32 x.toBitVec.toNat
    simp
  refine ⟨x.toBitVec.toNat % 65536, Nat.mod_lt _ (by omega), ?_⟩
  rw [← nx_mod, ← e]
/-! ===== Int32 as a set of bits: test, set ===== -/
def nf_M (m : Int32) : Nat := 4294967296 - m.toBitVec.toNat
theorem nf_sh : ∀ l, l < 32 → ((1 : Int32) <<< (nI l &&& 31)).toBitVec = BitVec.twoPow 32 l := by decide +kernel
theorem nf_sl : ∀ l, l < 32 → (((nI l).toUInt32 &&& Int32.toUInt32 31).toBitVec % 32).toNat = l := by decide +kernel
theorem nf_tp : ∀ l, l < 32 → BitVec.twoPow 32 l ≠ 0#32 := by decide +kernel
theorem nf_bit (m : Int32) (l : Nat) (hl : l < 32) : ((m.toUInt32 >>> ((nI l).toUInt32 &&& Int32.toUInt32 31)).toInt32 &&& 1) = 0 ↔ (m &&& ((1 : Int32) <<< (nI l &&& 31))) = 0 := by
  have e : ((m.toUInt32 >>> ((nI l).toUInt32 &&& Int32.toUInt32 31)).toInt32).toBitVec = m.toBitVec >>> l := by
    show m.toBitVec >>> (((nI l).toUInt32 &&& Int32.toUInt32 31).toBitVec % 32) = m.toBitVec >>> l
    rw [BitVec.ushiftRight_eq', nf_sl l hl]
  rw [← Int32.toBitVec_inj, ← Int32.toBitVec_inj, Int32.toBitVec_and, Int32.toBitVec_and, nf_sh l hl, e, BitVec.and_twoPow]
  show (m.toBitVec >>> l &&& 1#32) = 0#32 ↔ _ = 0#32
  rw [BitVec.and_one_eq_setWidth_ofBool_getLsbD, BitVec.getLsbD_ushiftRight, Nat.add_zero]
  cases hb : m.toBitVec.getLsbD l
  · exact ⟨fun _ => by simp, fun _ => by decide⟩
  · exact ⟨fun z => absurd z (by decide), fun z => absurd ((if_pos rfl).symm.trans z) (nf_tp l hl)⟩
theorem nf_gr (m k : Int32) (h : m &&& k = 0) (hk : k ≠ 0) : nf_M (m ||| k) < nf_M m := by
  have hm := m.toBitVec.isLt
  have hm' := (m ||| k).toBitVec.isLt
  have h1 : m.toBitVec.toNat ≤ (m ||| k).toBitVec.toNat := by
    rw [Int32.toBitVec_or, BitVec.toNat_or]
    exact Nat.left_le_or
  have h2 : m.toBitVec.toNat ≠ (m ||| k).toBitVec.toNat := by
    intro e
    have e2 : m = m ||| k := Int32.toBitVec_inj.mp (BitVec.eq_of_toNat_eq e)
    apply hk
    apply Int32.toBitVec_inj.mp
    show k.toBitVec = 0#32
    apply BitVec.eq_of_getLsbD_eq
    intro i hi
    have a : m.toBitVec.getLsbD i = (m.toBitVec.getLsbD i || k.toBitVec.getLsbD i) := by rw [← BitVec.getLsbD_or, ← Int32.toBitVec_or, ← e2]
    have b : (m.toBitVec.getLsbD i && k.toBitVec.getLsbD i) = false := by
      rw [← BitVec.getLsbD_and, ← Int32.toBitVec_and, h]
      exact BitVec.getLsbD_zero
    rw [BitVec.getLsbD_zero]
    revert a b
    cases m.toBitVec.getLsbD i <;> cases k.toBitVec.getLsbD i <;> simp
  unfold nf_M
  omega
/-! ===== a byte read unsigned ===== -/
theorem bp_b (x : Int32) : x.toInt8.toInt32 &&& 255 = x &&& 255 := by
  apply Int32.toBitVec_inj.mp
  rw [Int32.toBitVec_and, Int32.toBitVec_and, Int8.toBitVec_toInt32, Int32.toBitVec_toInt8]
  apply BitVec.eq_of_getLsbD_eq
  intro i hi
  rw [BitVec.getLsbD_and, BitVec.getLsbD_and]
  have hm : ∀ i < 32, 8 ≤ i → (255 : Int32).toBitVec.getLsbD i = false := by decide
  rcases Nat.lt_or_ge i 8 with z | z
  · rw [BitVec.getLsbD_signExtend, BitVec.getLsbD_signExtend, if_pos z, if_pos hi]
    simp only [z, hi, decide_true, Bool.true_and]
  · rw [hm i hi z]; simp
/-! ===== the char cast and 65535 ===== -/
theorem em_w (v : Int32) : ∃ w : Nat, w < 65536 ∧ (v.toUInt32 % 65536).toInt32 = nI w ∧ v &&& 65535 = nI w := by
  have hr := lw_u16_r v
  have h0 : (0 : Int32).toInt = 0 := by decide
  obtain ⟨w, h1, h2⟩ := nI_of (x := lw_u16 v) (by rw [Int32.lt_iff_toInt_lt]; omega)
  have h3 : (v.toUInt32 % 65536).toInt32 = nI w := h2
  rw [h2, nI_toInt h1] at hr
  exact ⟨w, by omega, h3, by rw [← lg_i2c_mask, ← lg_i2c_nf, h3]⟩
/-! ===== Int64 as a set of bits: test, set, clear ===== -/
theorem ts_nf {x : Bool} (h : ¬ x = false) : x = true := by cases x <;> first | rfl | exact absurd rfl h
theorem ts_nt {x : Bool} (h : ¬ x = true) : x = false := by cases x <;> first | rfl | exact absurd rfl h
theorem ts_bit {w : Int64} {s : UInt64} {j : Nat} (hj : j < 64) (hs : s.toNat = j) : ((w.toUInt64 >>> s).toInt64 &&& 1) = 0 ↔ w.toBitVec.getLsbD j = false := by
  have e : (w.toUInt64 >>> s).toInt64.toBitVec = w.toBitVec >>> j := by
    apply BitVec.eq_of_toNat_eq
    show (w.toUInt64 >>> s).toNat = _
    rw [UInt64.toNat_shiftRight, hs, Nat.mod_eq_of_lt hj, BitVec.toNat_ushiftRight]
    rfl
  rw [← Int64.toBitVec_inj, Int64.toBitVec_and, e]
  show w.toBitVec >>> j &&& 1#64 = 0#64 ↔ _
  constructor
  · intro h
    have t := congrArg (fun x => x.getLsbD 0) h
    simpa using t
  · intro h
    apply BitVec.eq_of_getLsbD_eq
    intro i hi
    cases i with
    | zero => simp [h]
    | succ i => simp
theorem ts_or {w m : Int64} {j : Nat} (hj : j < 64) (hm : m.toBitVec = BitVec.twoPow 64 j) : (w ||| m) = w ↔ w.toBitVec.getLsbD j = true := by
  rw [← Int64.toBitVec_inj, Int64.toBitVec_or, hm]
  constructor
  · intro h
    have t := congrArg (fun x => x.getLsbD j) h
    simp only [BitVec.getLsbD_or, BitVec.getLsbD_twoPow] at t
    simpa [hj] using t.symm
  · intro h
    apply BitVec.eq_of_getLsbD_eq
    intro i hi
    rw [BitVec.getLsbD_or, BitVec.getLsbD_twoPow]
    by_cases e : j = i
    · subst e; rw [h, Bool.true_or]
    · simp [e]
theorem ts_and {w m : Int64} {j : Nat} (hj : j < 64) (hm : m.toBitVec = BitVec.twoPow 64 j) : (w &&& (m ^^^ (-1))) = w ↔ w.toBitVec.getLsbD j = false := by
  have ha : (-1 : Int64).toBitVec = BitVec.allOnes 64 := by decide
  rw [← Int64.toBitVec_inj, Int64.toBitVec_and, Int64.toBitVec_xor, hm, ha]
  constructor
  · intro h
    have t := congrArg (fun x => x.getLsbD j) h
    simp only [BitVec.getLsbD_and, BitVec.getLsbD_xor, BitVec.getLsbD_twoPow, BitVec.getLsbD_allOnes] at t
    simpa [hj] using t.symm
  · intro h
    apply BitVec.eq_of_getLsbD_eq
    intro i hi
    rw [BitVec.getLsbD_and, BitVec.getLsbD_xor, BitVec.getLsbD_twoPow, BitVec.getLsbD_allOnes]
    by_cases e : j = i
    · subst e; rw [h, Bool.false_and]
    · simp [e, hi]
/-! ===== lN n to 2^64: shifts, and, or, masks, one bit ===== -/
theorem wb_tb (n : Nat) : (lN n).toBitVec = BitVec.ofNat 64 n := rfl
theorem wb_inj {a b : Int64} (h : a.toBitVec = b.toBitVec) : a = b := Int64.toBitVec_inj.mp h
theorem wb_tn {n : Nat} (h : n < 2 ^ 64) : (lN n).toBitVec.toNat = n := by rw [wb_tb, BitVec.toNat_ofNat, Nat.mod_eq_of_lt h]
theorem wb_of (x : Int64) : ∃ n, n < 2 ^ 64 ∧ x = lN n := ⟨x.toBitVec.toNat, x.toBitVec.isLt, wb_inj (by rw [wb_tb]; simp)⟩
theorem wb_of32 (x : Int32) : ∃ n, n < 2 ^ 32 ∧ x = nI n := ⟨x.toBitVec.toNat, x.toBitVec.isLt, Int32.toBitVec_inj.mp (by show _ = BitVec.ofNat 32 _; simp)⟩
theorem wb_c : ∀ k, k < 64 → ((nI k).toInt64 &&& 63) = lN k := by decide +kernel
theorem wb_cu : ∀ k, k < 64 → ((nI k).toInt64.toUInt64 &&& Int64.toUInt64 63) = UInt64.ofNat k := by decide +kernel
theorem wb_sm : ∀ k, k < 64 → (BitVec.ofNat 64 k).smod 64 = BitVec.ofNat 64 k := by decide +kernel
theorem wb_pw {a b : Nat} (h : a ≤ b) : 2 ^ b = 2 ^ a * 2 ^ (b - a) := by rw [← Nat.pow_add]; congr 1; omega
theorem wb_lt2 {a b : Nat} (h : a < b) : 2 ^ a < 2 ^ b := Nat.pow_lt_pow_right (by decide) h
theorem wb_mod (n : Nat) : lN n = lN (n % 2 ^ 64) := wb_inj (by rw [wb_tb, wb_tb]; apply BitVec.eq_of_toNat_eq; rw [BitVec.toNat_ofNat, BitVec.toNat_ofNat, Nat.mod_mod])
theorem wb_shr {n k : Nat} (hn : n < 2 ^ 64) (hk : k < 64) : ((lN n).toUInt64 >>> ((nI k).toInt64.toUInt64 &&& Int64.toUInt64 63)).toInt64 = lN (n / 2 ^ k) := by
  rw [wb_cu k hk]
  apply wb_inj
  apply BitVec.eq_of_toNat_eq
  show ((lN n).toUInt64 >>> UInt64.ofNat k).toNat = (BitVec.ofNat 64 _).toNat
  have h1 : (UInt64.ofNat k).toNat = k := by
    show (BitVec.ofNat 64 k).toNat = k
    rw [BitVec.toNat_ofNat, Nat.mod_eq_of_lt (by omega)]
  have h2 : (lN n).toUInt64.toNat = n := wb_tn hn
  rw [UInt64.toNat_shiftRight, h1, h2, Nat.mod_eq_of_lt hk, Nat.shiftRight_eq_div_pow, BitVec.toNat_ofNat, Nat.mod_eq_of_lt (Nat.lt_of_le_of_lt (Nat.div_le_self _ _) hn)]
theorem wb_shl (n : Nat) {k : Nat} (hk : k < 64) : lN n <<< ((nI k).toInt64 &&& 63) = lN (n * 2 ^ k) := by
  rw [wb_c k hk]
  apply wb_inj
  rw [Int64.toBitVec_shiftLeft, wb_tb, wb_tb, wb_tb, wb_sm k hk]
  apply BitVec.eq_of_toNat_eq
  rw [BitVec.shiftLeft_eq', BitVec.toNat_shiftLeft, BitVec.toNat_ofNat, BitVec.toNat_ofNat, BitVec.toNat_ofNat, Nat.mod_eq_of_lt (show k < 2 ^ 64 by omega), Nat.shiftLeft_eq, Nat.mul_mod, Nat.mod_mod, ← Nat.mul_mod]
theorem wb_and {a b : Nat} (ha : a < 2 ^ 64) (hb : b < 2 ^ 64) : lN a &&& lN b = lN (a &&& b) := by
  apply wb_inj
  rw [Int64.toBitVec_and, wb_tb, wb_tb, wb_tb]
  apply BitVec.eq_of_toNat_eq
  rw [BitVec.toNat_and, BitVec.toNat_ofNat, BitVec.toNat_ofNat, BitVec.toNat_ofNat, Nat.mod_eq_of_lt ha, Nat.mod_eq_of_lt hb, Nat.mod_eq_of_lt (Nat.and_lt_two_pow _ hb)]
theorem wb_or {a b : Nat} (ha : a < 2 ^ 64) (hb : b < 2 ^ 64) : lN a ||| lN b = lN (a ||| b) := by
  apply wb_inj
  rw [Int64.toBitVec_or, wb_tb, wb_tb, wb_tb]
  apply BitVec.eq_of_toNat_eq
  rw [BitVec.toNat_or, BitVec.toNat_ofNat, BitVec.toNat_ofNat, BitVec.toNat_ofNat, Nat.mod_eq_of_lt ha, Nat.mod_eq_of_lt hb, Nat.mod_eq_of_lt (Nat.or_lt_two_pow ha hb)]
theorem wb_mask {n k : Nat} (hn : n < 2 ^ 64) (hk : k < 64) : lN n &&& lN (2 ^ k - 1) = lN (n % 2 ^ k) := by
  rw [wb_and hn (by have := wb_lt2 hk; omega), Nat.and_two_pow_sub_one_eq_mod]
theorem wb_a1 {n : Nat} (hn : n < 2 ^ 64) : lN n &&& 1 = lN (n % 2) := wb_mask (k := 1) hn (by decide)
theorem wb_bit {n k : Nat} (hn : n < 2 ^ 64) (hk : k < 64) : ((lN n).toUInt64 >>> ((nI k).toInt64.toUInt64 &&& Int64.toUInt64 63)).toInt64 &&& 1 = lN (n / 2 ^ k % 2) := by
  rw [wb_shr hn hk, wb_a1 (Nat.lt_of_le_of_lt (Nat.div_le_self _ _) hn)]
theorem wb_xor {q k : Nat} (hk : k < 63) (h : 2 ^ k ≤ q) (h2 : q < 2 ^ (k + 1)) : lN q ^^^ lN (2 ^ k) = lN (q - 2 ^ k) := by
  obtain ⟨r, rfl⟩ : ∃ r, q = 2 ^ k + r := ⟨q - 2 ^ k, by omega⟩
  have hr : r < 2 ^ k := by rw [Nat.pow_succ] at h2; omega
  have hx : (2 ^ k + r) ^^^ 2 ^ k = r := by
    apply Nat.eq_of_testBit_eq
    intro i
    rw [Nat.testBit_xor, Nat.testBit_two_pow]
    rcases Nat.lt_trichotomy i k with h | h | h
    · rw [Nat.testBit_two_pow_add_gt h]
      simp [show ¬ k = i by omega]
    · subst h
      rw [Nat.testBit_two_pow_add_eq]
      simp
    · have a1 : 2 ^ (k + 1) ≤ 2 ^ i := Nat.pow_le_pow_right (by decide) h
      rw [Nat.testBit_lt_two_pow (show 2 ^ k + r < 2 ^ i by omega), Nat.testBit_lt_two_pow (show r < 2 ^ i by omega)]
      simp [show ¬ k = i by omega]
  have b1 := wb_lt2 (show k + 1 < 64 by omega)
  have b2 := wb_lt2 (show k < 64 by omega)
  apply wb_inj
  rw [Int64.toBitVec_xor, wb_tb, wb_tb, wb_tb]
  apply BitVec.eq_of_toNat_eq
  rw [BitVec.toNat_xor, BitVec.toNat_ofNat, BitVec.toNat_ofNat, BitVec.toNat_ofNat, Nat.mod_eq_of_lt (by omega : 2 ^ k + r < 2 ^ 64), Nat.mod_eq_of_lt b2, hx, Nat.add_sub_cancel_left, Nat.mod_eq_of_lt (by omega)]
/-! ===== lN: masks, 'or' of parts that don't overlap is a sum ===== -/
theorem u_tn {n : Nat} (h : n < 2 ^ 64) : (UInt64.ofNat n).toNat = n := Nat.mod_eq_of_lt h
theorem g_and {a b c : Nat} (ha : a < 2 ^ 64) (hb : b < 2 ^ 64) (hc : a &&& b = c) : lN a &&& lN b = lN c := by
  subst hc
  have h : UInt64.ofNat a &&& UInt64.ofNat b = UInt64.ofNat (a &&& b) := UInt64.toNat_inj.mp (by rw [UInt64.toNat_and, u_tn ha, u_tn hb, u_tn (Nat.and_lt_two_pow a hb)])
  have h2 := congrArg UInt64.toInt64 h
  exact h2
theorem g_and1 {a : Nat} (ha : a < 2 ^ 64) : lN a &&& 1 = lN (a % 2) := g_and (b := 1) ha (by decide) (Nat.and_two_pow_sub_one_eq_mod a 1)
theorem g_mask {a s p : Nat} (hp : 2 ^ s = p) (hs : s < 64) (ha : a < 2 ^ 64) : lN a &&& lN (p - 1) = lN (a % p) := by
  subst hp
  have := Nat.pow_lt_pow_right (show 1 < 2 by decide) hs
  exact g_and ha (by omega) (Nat.and_two_pow_sub_one_eq_mod a s)
theorem g_or {k p a b : Nat} (hp : 2 ^ k = p) (ha : a < p) (h : b * p + a < 2 ^ 64) : lN (b * p) ||| lN a = lN (b * p + a) := by
  subst hp
  have h1 : b * 2 ^ k ||| a = b * 2 ^ k + a := by rw [← Nat.shiftLeft_eq, Nat.shiftLeft_add_eq_or_of_lt ha]
  have h3 : UInt64.ofNat (b * 2 ^ k) ||| UInt64.ofNat a = UInt64.ofNat (b * 2 ^ k + a) := UInt64.toNat_inj.mp (by rw [UInt64.toNat_or, u_tn (by omega), u_tn (by omega), u_tn h, h1])
  have h2 := congrArg UInt64.toInt64 h3
  exact h2
theorem g_or' {k p a b : Nat} (hp : 2 ^ k = p) (ha : a < p) (h : a + b * p < 2 ^ 64) : lN a ||| lN (b * p) = lN (a + b * p) := by
  rw [Int64.or_comm, g_or hp ha (by omega), Nat.add_comm]
theorem g_ushr {a k p : Nat} {y : UInt64} (hy : y = UInt64.ofNat k) (hk : k < 64) (hp : 2 ^ k = p) (ha : a < 2 ^ 64) : ((lN a).toUInt64 >>> y).toInt64 = lN (a / p) := by
  subst hy hp
  have h : UInt64.ofNat a >>> UInt64.ofNat k = UInt64.ofNat (a / 2 ^ k) := UInt64.toNat_inj.mp (by rw [UInt64.toNat_shiftRight, u_tn ha, u_tn (by omega), u_tn (Nat.lt_of_le_of_lt (Nat.div_le_self _ _) ha), Nat.mod_eq_of_lt hk, Nat.shiftRight_eq_div_pow])
  have h2 := congrArg UInt64.toInt64 h
  exact h2
theorem g_shl {a k p : Nat} {y : Int64} (hy : y.toBitVec.smod 64 = BitVec.ofNat 64 k) (hk : k < 64) (hp : 2 ^ k = p) (ha : a < 2 ^ 64) : lN a <<< y = lN (a * p) := by
  subst hp
  apply Int64.toBitVec_inj.mp
  rw [Int64.toBitVec_shiftLeft, hy]
  apply BitVec.eq_of_toNat_eq
  have hb : (lN a).toBitVec.toNat = a := Nat.mod_eq_of_lt ha
  have hk' : (BitVec.ofNat 64 k).toNat = k := Nat.mod_eq_of_lt (by omega)
  have h : ((lN a).toBitVec <<< BitVec.ofNat 64 k).toNat = (a * 2 ^ k) % 2 ^ 64 := by simp only [BitVec.shiftLeft_eq', BitVec.toNat_shiftLeft, hb, hk', Nat.shiftLeft_eq]
  exact h
/-! ===== lN to 2^62 under >> and >>> ===== -/
theorem pf_lI {a : Nat} (h : a < 2 ^ 63) : (lN a).toInt = (a : Int) := lg_ofNat_toInt h
theorem pf_shr {a d : Nat} {D : Int64} (hD : (D.toBitVec.smod 64).toNat = d) (h : a < 2 ^ 62) : lN a >>> D = lN (a / 2 ^ d) := by
  have hd : a / 2 ^ d ≤ a := Nat.div_le_self _ _
  apply Int64.toInt_inj.mp
  have e : (lN a >>> D).toInt = (lN a).toInt >>> d := by
    rw [← hD]
    exact BitVec.toInt_sshiftRight ..
  rw [e, Int.shiftRight_eq_div_pow, pf_lI (by omega), pf_lI (by omega)]
  rfl
theorem pf_ushr {a d : Nat} {D : UInt64} (hD : D.toNat % 64 = d) (h : a < 2 ^ 62) : ((lN a).toUInt64 >>> D).toInt64 = lN (a / 2 ^ d) := by
  have hd : a / 2 ^ d ≤ a := Nat.div_le_self _ _
  have e : (lN a).toUInt64 >>> D = UInt64.ofNat (a / 2 ^ d) := UInt64.toNat_inj.mp (by
    rw [UInt64.toNat_shiftRight, hD, Nat.shiftRight_eq_div_pow, UInt64.toNat_ofNat']
    show (UInt64.ofNat a).toNat / 2 ^ d = _
    rw [UInt64.toNat_ofNat', Nat.mod_eq_of_lt (by omega), Nat.mod_eq_of_lt (by omega)])
  rw [e]
  rfl
theorem pf_andw (x : Int64) : ∃ m, m < 2 ^ 32 ∧ x &&& 4294967295 = lN m := ⟨x.toBitVec.toNat % 2 ^ 32, Nat.mod_lt _ (by decide), Int64.toBitVec_inj.mp (BitVec.eq_of_toNat_eq (by
  show (x.toBitVec &&& 4294967295#64).toNat = (BitVec.ofNat 64 (x.toBitVec.toNat % 2 ^ 32)).toNat
  rw [BitVec.toNat_and, show (4294967295#64).toNat = 2 ^ 32 - 1 from by decide, Nat.and_two_pow_sub_one_eq_mod, BitVec.toNat_ofNat]
  omega))⟩
/-! ===== Int64 as an unsigned number: uN x ===== -/
def uN (x : Int64) : Nat := x.toUInt64.toNat
theorem uN_lt (x : Int64) : uN x < 18446744073709551616 := x.toUInt64.toNat_lt
theorem uN_inj {x y : Int64} (h : uN x = uN y) : x = y := congrArg UInt64.toInt64 (UInt64.toNat_inj.mp h)
theorem uN_add (x y : Int64) : uN (x + y) = (uN x + uN y) % 18446744073709551616 := by
  show (x.toUInt64 + y.toUInt64).toNat = _
  exact UInt64.toNat_add _ _
theorem uN_mul (x y : Int64) : uN (x * y) = (uN x * uN y) % 18446744073709551616 := by
  show (x.toUInt64 * y.toUInt64).toNat = _
  exact UInt64.toNat_mul _ _
theorem uN_shl (x : Int64) : uN (x <<< ((1 : Int32).toInt64 &&& 63)) = (2 * uN x) % 18446744073709551616 := by
  have h : (((1 : Int32).toInt64 &&& 63).toBitVec.smod 64).toNat = 1 := by decide
  show (x.toBitVec <<< (((1 : Int32).toInt64 &&& 63).toBitVec.smod 64).toNat).toNat = _
  rw [h, BitVec.toNat_shiftLeft, Nat.shiftLeft_eq, Nat.mul_comm]
  rfl
theorem uN_shr (x : Int64) (s : UInt64) : uN (x.toUInt64 >>> s).toInt64 = uN x / 2 ^ (s.toNat % 64) := by
  show (x.toUInt64 >>> s).toNat = _
  rw [UInt64.toNat_shiftRight, Nat.shiftRight_eq_div_pow]
  rfl
theorem uN_s32 (x : Int64) : uN (x.toUInt64 >>> ((32 : Int32).toInt64.toUInt64 &&& Int64.toUInt64 63)).toInt64 = uN x / 4294967296 := by
  have h : ((32 : Int32).toInt64.toUInt64 &&& Int64.toUInt64 63).toNat % 64 = 32 := by decide
  rw [uN_shr, h]
theorem uN_s63 (x : Int64) : uN (x.toUInt64 >>> ((63 : Int32).toInt64.toUInt64 &&& Int64.toUInt64 63)).toInt64 = uN x / 9223372036854775808 := by
  have h : ((63 : Int32).toInt64.toUInt64 &&& Int64.toUInt64 63).toNat % 64 = 63 := by decide
  rw [uN_shr, h]
theorem uN_lo (x : Int64) : uN (x &&& 4294967295) = uN x % 4294967296 := by
  show (x.toUInt64 &&& Int64.toUInt64 4294967295).toNat = _
  rw [UInt64.toNat_and]
  exact Nat.and_two_pow_sub_one_eq_mod _ 32
theorem uN_bit (x : Int64) : (x &&& 1) = 0 ↔ uN x % 2 = 0 := by
  have h : uN (x &&& 1) = uN x % 2 := by
    show (x.toUInt64 &&& Int64.toUInt64 1).toNat = _
    rw [UInt64.toNat_and]
    exact Nat.and_two_pow_sub_one_eq_mod _ 1
  rw [← h]
  exact ⟨fun z => by rw [z]; rfl, fun z => uN_inj (z.trans rfl)⟩
theorem uN_or {x y : Int64} (hy : uN y < 2) : uN ((x <<< ((1 : Int32).toInt64 &&& 63)) ||| y) = (2 * uN x) % 18446744073709551616 + uN y := by
  have h1 : uN ((x <<< ((1 : Int32).toInt64 &&& 63)) ||| y) = uN (x <<< ((1 : Int32).toInt64 &&& 63)) ||| uN y := UInt64.toNat_or _ _
  have h2 : (2 * uN x) % 18446744073709551616 = 2 ^ 1 * (uN x % 9223372036854775808) := by omega
  rw [h1, uN_shl, h2]
  exact (Nat.two_pow_add_eq_or_of_lt (i := 1) hy _).symm
theorem nat_xor {a : Nat} (h : a < 18446744073709551616) : a ^^^ 2 ^ 63 = (a + 9223372036854775808) % 18446744073709551616 := by
  have h1 : (a ^^^ 2 ^ 63) % 2 ^ 63 = a % 2 ^ 63 := by rw [Nat.xor_mod_two_pow, Nat.mod_self, Nat.xor_zero]
  have h2 : (a ^^^ 2 ^ 63) / 2 ^ 63 = (a / 2 ^ 63) ^^^ 1 := by rw [Nat.xor_div_two_pow, Nat.div_self (Nat.two_pow_pos 63)]
  have h3 : a / 2 ^ 63 = 0 ∨ a / 2 ^ 63 = 1 := by omega
  generalize a ^^^ 2 ^ 63 = t at h1 h2
  rcases h3 with h3 | h3
  · rw [h3] at h2
    have h2 : t / 2 ^ 63 = 1 := h2
    omega
  · rw [h3] at h2
    have h2 : t / 2 ^ 63 = 0 := h2
    omega
theorem uN_xor (x : Int64) : uN (x ^^^ (-9223372036854775808)) = (uN x + 9223372036854775808) % 18446744073709551616 := by
  rw [← nat_xor (uN_lt x)]
  exact UInt64.toNat_xor _ _
theorem uN_int (x : Int64) : x.toInt = if 2 * uN x < 18446744073709551616 then (uN x : Int) else (uN x : Int) - 18446744073709551616 := BitVec.toInt_eq_toNat_cond _
theorem uN_le (x y : Int64) : (x ^^^ (-9223372036854775808)) ≤ (y ^^^ (-9223372036854775808)) ↔ uN x ≤ uN y := by
  have hx := uN_lt x
  have hy := uN_lt y
  rw [Int64.le_iff_toInt_le, uN_int, uN_int, uN_xor, uN_xor]
  omega
theorem uN_sk (x : Int64) {k : Nat} (hk : k < 64) : uN (x.toUInt64 >>> ((nI k).toInt64.toUInt64 &&& Int64.toUInt64 63)).toInt64 = uN x / 2 ^ k := by
  have h : ((nI k).toInt64.toUInt64 &&& Int64.toUInt64 63).toNat % 64 = k := by
    rw [nI_l (by omega), UInt64.toNat_and]
    have e : (lN k).toUInt64.toNat = k % 2 ^ 64 := rfl
    have e2 : (Int64.toUInt64 63).toNat = 2 ^ 6 - 1 := by decide
    rw [e, e2, Nat.and_two_pow_sub_one_eq_mod]
    omega
  rw [uN_shr, h]
/-! ===== unsigned comparison by xor with the least ===== -/
theorem lN_bv (n : Nat) : (lN n).toBitVec = BitVec.ofNat 64 n := rfl
theorem lN_nat {n : Nat} (h : n < 2 ^ 64) : (lN n).toBitVec.toNat = n := by rw [lN_bv, BitVec.toNat_ofNat]; exact Nat.mod_eq_of_lt h
theorem lN_xor (a b : Nat) : lN a ^^^ lN b = lN (a ^^^ b) := by
  apply Int64.toBitVec_inj.mp; rw [Int64.toBitVec_xor, lN_bv, lN_bv, lN_bv]; apply BitVec.eq_of_getLsbD_eq; intro i hi; simp [BitVec.getLsbD_ofNat, Nat.testBit_xor, hi]
theorem lN_ti {m : Nat} (h : m < 2 ^ 64) : (lN m).toInt = if m < 2 ^ 63 then (m : Int) else (m : Int) - 2 ^ 64 := by
  have c := BitVec.toInt_eq_toNat_cond (lN m).toBitVec
  rw [lN_nat h] at c
  show (lN m).toBitVec.toInt = _
  rw [c]
  split <;> split <;> omega
theorem xor63 {x : Nat} (h : x < 2 ^ 63) : x ^^^ 2 ^ 63 = 2 ^ 63 + x := by
  apply Nat.eq_of_testBit_eq
  intro i
  rw [Nat.testBit_xor, Nat.testBit_two_pow]
  rcases Nat.lt_trichotomy i 63 with z | z | z
  · rw [Nat.testBit_two_pow_add_gt z, decide_eq_false (by omega)]; simp
  · subst z; rw [Nat.testBit_two_pow_add_eq]; simp
  · have hp : 2 ^ 64 ≤ 2 ^ i := Nat.pow_le_pow_right (by decide) z
    rw [Nat.testBit_lt_two_pow (show x < 2 ^ i by omega), Nat.testBit_lt_two_pow (show 2 ^ 63 + x < 2 ^ i by omega), decide_eq_false (by omega)]; rfl
theorem xorS {a : Nat} (h : a < 2 ^ 64) : (lN a ^^^ (-9223372036854775808)).toInt = (a : Int) - 2 ^ 63 := by
  rw [show (-9223372036854775808 : Int64) = lN (2 ^ 63) from by decide +kernel, lN_xor]
  rcases Nat.lt_or_ge a (2 ^ 63) with z | z
  · rw [xor63 z, lN_ti (by omega), if_neg (by omega)]; omega
  · obtain ⟨x, rfl⟩ : ∃ x, a = 2 ^ 63 + x := ⟨a - 2 ^ 63, by omega⟩
    rw [← xor63 (by omega), Nat.xor_assoc, Nat.xor_self, Nat.xor_zero, lN_ti (by omega), if_pos (by omega), xor63 (by omega)]; omega
theorem ultL {a b : Nat} (ha : a < 2 ^ 64) (hb : b < 2 ^ 64) : ((lN b ^^^ (-9223372036854775808)) ≤ (lN a ^^^ (-9223372036854775808))) ↔ b ≤ a := by
  rw [Int64.le_iff_toInt_le, xorS ha, xorS hb]; omega
/-! ===== Int64 masks of n low bits ===== -/
theorem cr_bits (W U M : BitVec 64) : ((W &&& U) &&& (U &&& (M ^^^ BitVec.allOnes 64))) = 0#64 ↔ (W &&& U) &&& M = W &&& U := by
  constructor
  · intro h
    apply BitVec.eq_of_getLsbD_eq
    intro i hi
    have e := congrArg (fun x => BitVec.getLsbD x i) h
    simp only [BitVec.getLsbD_and, BitVec.getLsbD_xor, BitVec.getLsbD_allOnes, BitVec.getLsbD_zero, hi, decide_true] at e ⊢
    revert e
    cases W.getLsbD i <;> cases U.getLsbD i <;> cases M.getLsbD i <;> decide
  · intro h
    apply BitVec.eq_of_getLsbD_eq
    intro i hi
    have e := congrArg (fun x => BitVec.getLsbD x i) h
    simp only [BitVec.getLsbD_and, BitVec.getLsbD_xor, BitVec.getLsbD_allOnes, BitVec.getLsbD_zero, hi, decide_true] at e ⊢
    revert e
    cases W.getLsbD i <;> cases U.getLsbD i <;> cases M.getLsbD i <;> decide
theorem cr_mask (w U m : Int64) (n : Nat) (hm : m.toBitVec.toNat = 2 ^ n - 1) : ((w &&& U) &&& (U &&& (m ^^^ (-1)))) = 0 ↔ (w &&& U).toBitVec.toNat < 2 ^ n := by
  have e0 : (-1 : Int64).toBitVec = BitVec.allOnes 64 := by decide
  have z0 : (0 : Int64).toBitVec = 0#64 := by decide
  rw [← Int64.toBitVec_inj, z0, Int64.toBitVec_and, Int64.toBitVec_and, Int64.toBitVec_and, Int64.toBitVec_xor, e0, cr_bits]
  generalize w.toBitVec &&& U.toBitVec = T
  rw [← BitVec.toNat_inj, BitVec.toNat_and, hm, Nat.and_two_pow_sub_one_eq_mod]
  constructor
  · intro h
    have t := Nat.mod_lt T.toNat (Nat.two_pow_pos n)
    rw [h] at t
    exact t
  · exact Nat.mod_eq_of_lt
theorem cr_shr (t : Int64) (x : UInt64) (n : Nat) (hx : x.toNat % 64 = n) : (t.toUInt64 >>> x).toInt64 = 0 ↔ t.toBitVec.toNat < 2 ^ n := by
  rw [← Int64.toBitVec_inj, ← BitVec.toNat_inj]
  show (t.toUInt64 >>> x).toNat = 0 ↔ t.toUInt64.toNat < 2 ^ n
  rw [UInt64.toNat_shiftRight, hx, Nat.shiftRight_eq_div_pow]
  constructor
  · intro h
    have d : t.toUInt64.toNat / 2 ^ n < 1 := by
      rw [h]
      decide
    have e := (Nat.div_lt_iff_lt_mul (Nat.two_pow_pos n)).mp d
    rw [Nat.one_mul] at e
    exact e
  · exact Nat.div_eq_of_lt
theorem cr_amt (s : Int64) : ∃ n, n < 64 ∧ s &&& 63 = lN n ∧ (s.toUInt64 &&& Int64.toUInt64 63).toNat % 64 = n := by
  have e : (s.toUInt64 &&& Int64.toUInt64 63).toNat = s.toUInt64.toNat % 2 ^ 6 := by
    rw [UInt64.toNat_and, show (Int64.toUInt64 63).toNat = 2 ^ 6 - 1 from by decide, Nat.and_two_pow_sub_one_eq_mod]
  refine ⟨s.toUInt64.toNat % 2 ^ 6, by omega, ?_, by omega⟩
  rw [← Int64.toBitVec_inj, ← BitVec.toNat_inj]
  show (s.toUInt64 &&& Int64.toUInt64 63).toNat = (BitVec.ofNat 64 (s.toUInt64.toNat % 2 ^ 6)).toNat
  rw [e, BitVec.toNat_ofNat]
  omega
end
section
/-! sums and counts over an initial segment -/
def qs_sm (f : Nat → Nat) : Nat → Nat
  | 0 => 0
  | n + 1 => qs_sm f n + f n
theorem qs_congr {f g : Nat → Nat} {n : Nat} (h : ∀ i, i < n → f i = g i) : qs_sm f n = qs_sm g n := by
  induction n with
  | zero => rfl
  | succ n ih =>
    show qs_sm f n + f n = qs_sm g n + g n
    rw [ih (fun i hi => h i (by omega)), h n (by omega)]
theorem qs_add (f g : Nat → Nat) (n : Nat) : qs_sm (fun i => f i + g i) n = qs_sm f n + qs_sm g n := by
  induction n with
  | zero => rfl
  | succ n ih =>
    show qs_sm (fun i => f i + g i) n + (f n + g n) = (qs_sm f n + f n) + (qs_sm g n + g n)
    rw [ih]; omega
theorem qs_zero {f : Nat → Nat} {n : Nat} (h : ∀ i, i < n → f i = 0) : qs_sm f n = 0 := by
  induction n with
  | zero => rfl
  | succ n ih =>
    show qs_sm f n + f n = 0
    rw [ih (fun i hi => h i (by omega)), h n (by omega)]
theorem qs_upd {f g : Nat → Nat} {n i0 : Nat} (hi : i0 < n) (h : ∀ i, i < n → i ≠ i0 → f i = g i) : qs_sm f n + g i0 = qs_sm g n + f i0 := by
  induction n with
  | zero => omega
  | succ n ih =>
    show qs_sm f n + f n + g i0 = qs_sm g n + g n + f i0
    by_cases e : i0 = n
    · subst e
      rw [qs_congr (f := f) (g := g) (fun i hi => h i (by omega) (by omega))]
      omega
    · have := ih (by omega) (fun i hi hne => h i (by omega) hne)
      rw [h n (by omega) (by omega)]
      omega
theorem qs_le {f g : Nat → Nat} {n : Nat} (h : ∀ i, i < n → f i ≤ g i) : qs_sm f n ≤ qs_sm g n := by
  induction n with
  | zero => exact Nat.le_refl _
  | succ n ih =>
    show qs_sm f n + f n ≤ qs_sm g n + g n
    have := ih (fun i hi => h i (by omega))
    have := h n (by omega)
    omega
theorem qs_lt {f g : Nat → Nat} {n i0 : Nat} (h : ∀ i, i < n → f i ≤ g i) (hi : i0 < n) (h0 : f i0 < g i0) : qs_sm f n < qs_sm g n := by
  induction n with
  | zero => omega
  | succ n ih =>
    show qs_sm f n + f n < qs_sm g n + g n
    by_cases e : i0 = n
    · subst e
      have := qs_le (f := f) (g := g) (n := i0) (fun i hi => h i (by omega))
      omega
    · have := ih (fun i hi => h i (by omega)) (by omega)
      have := h n (by omega)
      omega
theorem qs_one {b n : Nat} (h : b < n) : qs_sm (fun c => if b = c then 1 else 0) n = 1 := by
  have := qs_upd (f := fun c => if b = c then 1 else 0) (g := fun _ => 0) h (fun i _ hne => if_neg (fun e => hne e.symm))
  rw [qs_zero (f := fun _ => 0) (fun _ _ => rfl)] at this
  (try dsimp only at this)
  rw [if_pos rfl] at this
  omega
theorem qs_ones (n : Nat) : qs_sm (fun _ => 1) n = n := by
  induction n with
  | zero => rfl
  | succ n ih =>
    show qs_sm (fun _ => 1) n + 1 = n + 1
    rw [ih]
def qs_cn (p : Nat → Bool) (n : Nat) : Nat := qs_sm (fun i => (p i).toNat) n
theorem cn_congr {p q : Nat → Bool} {n : Nat} (h : ∀ i, i < n → p i = q i) : qs_cn p n = qs_cn q n := qs_congr (fun i hi => by rw [h i hi])
theorem cn_succ (p : Nat → Bool) (n : Nat) : qs_cn p (n + 1) = qs_cn p n + (p n).toNat := rfl
theorem cn_t {p : Nat → Bool} {n : Nat} (h : p n = true) : qs_cn p (n + 1) = qs_cn p n + 1 := by rw [cn_succ, h]; rfl
theorem cn_f {p : Nat → Bool} {n : Nat} (h : p n = false) : qs_cn p (n + 1) = qs_cn p n := by rw [cn_succ, h]; rfl
theorem cn_le (p : Nat → Bool) (n : Nat) : qs_cn p n ≤ n := by
  have := qs_le (f := fun i => (p i).toNat) (g := fun _ => 1) (n := n) (fun i _ => Bool.toNat_le (p i))
  rw [qs_ones] at this
  exact this
theorem cn_mono (p : Nat → Bool) {a b : Nat} (h : a ≤ b) : qs_cn p a ≤ qs_cn p b := by
  induction b with
  | zero => rw [show a = 0 by omega]; exact Nat.le_refl _
  | succ b ih =>
    by_cases e : a = b + 1
    · rw [e]; exact Nat.le_refl _
    · have := ih (by omega)
      rw [cn_succ]; omega
theorem cn_set {p q : Nat → Bool} {n i0 : Nat} (hi : i0 < n) (h : ∀ i, i < n → i ≠ i0 → q i = p i) (hp : p i0 = false) (hq : q i0 = true) : qs_cn q n = qs_cn p n + 1 := by
  have := qs_upd (f := fun i => (q i).toNat) (g := fun i => (p i).toNat) hi (fun i hi hne => by rw [h i hi hne])
  (try dsimp only at this)
  rw [hp, hq] at this
  exact this
theorem cn_pos {p : Nat → Bool} {n i0 : Nat} (hi : i0 < n) (hp : p i0 = true) : 0 < qs_cn p n := by
  have := cn_set (p := fun i => if i = i0 then false else p i) (q := p) hi (fun i _ hne => (if_neg hne).symm) (if_pos rfl) hp
  omega
theorem cn_two {p : Nat → Bool} {n i0 j0 : Nat} (hi : i0 < n) (hj : j0 < n) (hne : i0 ≠ j0) (hp : p i0 = true) (hq : p j0 = true) : 2 ≤ qs_cn p n := by
  have := cn_set (p := fun i => if i = i0 then false else p i) (q := p) hi (fun i _ hne => (if_neg hne).symm) (if_pos rfl) hp
  have h2 : 0 < qs_cn (fun i => if i = i0 then false else p i) n := cn_pos hj (by (try dsimp only); rw [if_neg (fun e => hne e.symm)]; exact hq)
  omega
theorem cn_zero {p : Nat → Bool} {n : Nat} (h : ∀ i, i < n → p i = false) : qs_cn p n = 0 := qs_zero (fun i hi => by rw [h i hi]; rfl)
theorem cn_zero_of {p : Nat → Bool} {n : Nat} (h : qs_cn p n = 0) : ∀ i, i < n → p i = false := by
  intro i hi
  cases e : p i with
  | false => rfl
  | true => have := cn_pos hi e; omega
theorem cn_full {p : Nat → Bool} {n : Nat} (h : qs_cn p n = n) : ∀ i, i < n → p i = true := by
  intro i hi
  cases e : p i with
  | true => rfl
  | false =>
    have := qs_lt (f := fun i => (p i).toNat) (g := fun _ => 1) (n := n) (fun i _ => Bool.toNat_le (p i)) hi (by rw [e]; exact Nat.zero_lt_one)
    rw [qs_ones] at this
    have h2 : qs_cn p n < n := this
    omega
/-- how many of the live numbers below N have the value x -/
def qs_ct (lv : Nat → Bool) (b : Nat → Nat) (x : Nat) (N : Nat) : Nat := qs_cn (fun j => lv j && (b j == x)) N
theorem ct_sum {lv : Nat → Bool} {b : Nat → Nat} {N M : Nat} (h : ∀ j, j < N → lv j = true → b j < M) : qs_sm (fun x => qs_ct lv b x N) M = qs_cn lv N := by
  induction N with
  | zero => exact qs_zero (fun _ _ => rfl)
  | succ N ih =>
    have e : qs_sm (fun x => qs_ct lv b x (N + 1)) M = qs_sm (fun x => qs_ct lv b x N + (lv N && (b N == x)).toNat) M := qs_congr (fun i _ => rfl)
    rw [e, qs_add, ih (fun j hj => h j (by omega)), cn_succ]
    cases hl : lv N with
    | false => rw [qs_zero (fun i _ => by rw [Bool.false_and]; rfl)]; rfl
    | true =>
      have := qs_one (h N (by omega) hl)
      have e2 : qs_sm (fun x => (true && (b N == x)).toNat) M = qs_sm (fun c => if b N = c then 1 else 0) M := qs_congr (fun i _ => by
        by_cases hb : b N = i
        · rw [if_pos hb, hb]; simp
        · rw [if_neg hb]; simp [hb])
      rw [e2, this]; rfl
/-- a value held twice: then fewer values are held than there are holders -/
theorem ct_share {lv : Nat → Bool} {b : Nat → Nat} {N M x0 : Nat} (h : ∀ j, j < N → lv j = true → b j < M) (hx : x0 < M) (h2 : 2 ≤ qs_ct lv b x0 N) : qs_cn (fun x => decide (0 < qs_ct lv b x N)) M < qs_cn lv N := by
  rw [← ct_sum h]
  refine qs_lt (fun i _ => ?_) hx ?_
  · show (decide (0 < qs_ct lv b i N)).toNat ≤ qs_ct lv b i N
    by_cases e : 0 < qs_ct lv b i N
    · rw [decide_eq_true e]; exact e
    · rw [decide_eq_false e]; exact Nat.zero_le _
  · show (decide (0 < qs_ct lv b x0 N)).toNat < qs_ct lv b x0 N
    rw [decide_eq_true (by omega)]; exact h2
/-- insertion into a row -/
def qs_ins (o : Nat → Nat) (p x : Nat) : Nat → Nat := fun i => if i < p then o i else if i = p then x else o (i - 1)
theorem ins_sum (g : Nat → Nat) (o : Nat → Nat) (x : Nat) : ∀ d p t, p + d = t → qs_sm (fun i => g (qs_ins o p x i)) (t + 1) = qs_sm (fun i => g (o i)) t + g x := by
  intro d
  induction d with
  | zero =>
    intro p t ht
    show qs_sm _ t + g (qs_ins o p x t) = _
    rw [show qs_ins o p x t = x by unfold qs_ins; rw [if_neg (by omega), if_pos (by omega)]]
    rw [qs_congr (f := fun i => g (qs_ins o p x i)) (g := fun i => g (o i)) (fun i hi => by unfold qs_ins; rw [if_pos (by omega)])]
  | succ d ih =>
    intro p t ht
    obtain ⟨t', rfl⟩ : ∃ t', t = t' + 1 := ⟨p + d, by omega⟩
    show qs_sm _ (t' + 1) + g (qs_ins o p x (t' + 1)) = qs_sm (fun i => g (o i)) t' + g (o t') + g x
    rw [ih p t' (by omega), show qs_ins o p x (t' + 1) = o t' by unfold qs_ins; rw [if_neg (by omega), if_neg (by omega)]; rfl]
    omega
/-- two sorted rows with the same sums are one row -/
theorem so_count {a : Nat → Nat} {t i : Nat} (hs : ∀ x y, x ≤ y → y < t → a x ≤ a y) (hi : i < t) (v : Nat) (hv : v < a i) : qs_sm (fun j => if a j ≤ v then 1 else 0) t ≤ i := by
  have h1 : qs_sm (fun j => if a j ≤ v then 1 else 0) t ≤ qs_sm (fun j => if j < i then 1 else 0) t := qs_le (fun j hj => by
    by_cases e : j < i
    · rw [if_pos e]; split <;> omega
    · rw [if_neg e, if_neg (by have := hs i j (by omega) hj; omega)]; exact Nat.le_refl _)
  have h2 : ∀ t, qs_sm (fun j => if j < i then 1 else 0) t ≤ i := by
    intro t
    have h3 : ∀ t, qs_sm (fun j => if j < i then 1 else 0) t = if t < i then t else i := by
      intro t
      induction t with
      | zero => show 0 = _; split <;> omega
      | succ t ih =>
        show qs_sm (fun j => if j < i then 1 else 0) t + (if t < i then 1 else 0) = _
        rw [ih]
        split <;> split <;> omega
    rw [h3]; split <;> omega
  exact Nat.le_trans h1 (h2 t)
theorem so_count' {a : Nat → Nat} {t i : Nat} (hs : ∀ x y, x ≤ y → y < t → a x ≤ a y) (hi : i < t) (v : Nat) (hv : a i ≤ v) : i < qs_sm (fun j => if a j ≤ v then 1 else 0) t := by
  have h1 : qs_sm (fun j => if j < i + 1 then 1 else 0) t ≤ qs_sm (fun j => if a j ≤ v then 1 else 0) t := qs_le (fun j hj => by
    by_cases e : j < i + 1
    · rw [if_pos e, if_pos (by have := hs j i (by omega) hi; omega)]; exact Nat.le_refl _
    · rw [if_neg e]; exact Nat.zero_le _)
  have h3 : ∀ t, qs_sm (fun j => if j < i + 1 then 1 else 0) t = if t < i + 1 then t else i + 1 := by
    intro t
    induction t with
    | zero => show 0 = _; split <;> omega
    | succ t ih =>
      show qs_sm (fun j => if j < i + 1 then 1 else 0) t + (if t < i + 1 then 1 else 0) = _
      rw [ih]
      split <;> split <;> omega
  rw [h3] at h1
  split at h1 <;> omega
theorem so_eq {a b : Nat → Nat} {t : Nat} (ha : ∀ x y, x ≤ y → y < t → a x ≤ a y) (hb : ∀ x y, x ≤ y → y < t → b x ≤ b y) (h : ∀ g : Nat → Nat, qs_sm (fun i => g (a i)) t = qs_sm (fun i => g (b i)) t) : ∀ i, i < t → a i = b i := by
  intro i hi
  have e1 := h (fun x => if x ≤ a i then 1 else 0)
  have e2 := h (fun x => if x ≤ b i then 1 else 0)
  (try dsimp only at e1 e2)
  rcases Nat.lt_trichotomy (a i) (b i) with hl | he | hg
  · have h1 := so_count hb hi (a i) hl
    have h2 := so_count' ha hi (a i) (Nat.le_refl _)
    omega
  · exact he
  · have h1 := so_count ha hi (b i) hg
    have h2 := so_count' hb hi (b i) (Nat.le_refl _)
    omega
/-- a swap keeps the sums -/
theorem sw_sum (g : Nat → Nat) {a b : Nat → Nat} {t i j : Nat} (hi : i < t) (hj : j < t) (h1 : b i = a j) (h2 : b j = a i) (h : ∀ x, x < t → x ≠ i → x ≠ j → b x = a x) : qs_sm (fun x => g (b x)) t = qs_sm (fun x => g (a x)) t := by
  by_cases e : i = j
  · subst e
    exact qs_congr (fun x hx => by
      by_cases ex : x = i
      · rw [ex, h1]
      · rw [h x hx ex ex])
  · have u1 := qs_upd (f := fun x => if x = i then g (b i) else g (a x)) (g := fun x => g (a x)) hi (fun x _ hne => if_neg hne)
    have u2 := qs_upd (f := fun x => g (b x)) (g := fun x => if x = i then g (b i) else g (a x)) hj (fun x hx hne => by
      by_cases ex : x = i
      · rw [ex, if_pos rfl]
      · (try dsimp only); rw [if_neg ex, h x hx ex hne])
    (try dsimp only at u1 u2)
    rw [if_pos rfl] at u1
    rw [if_neg (fun z => e z.symm), h2] at u2
    rw [h1] at u1
    rw [show (fun x => if x = i then g (b i) else g (a x)) = (fun x => if x = i then g (a j) else g (a x)) by rw [h1]] at u2
    omega
end
section
/-! the polar transform, the tree of values, the running sums: plain mathematics -/
/-- the codeword of the low 2^s bits -/
def dc_EN : Nat → Nat → Nat
  | 0, w => w % 2
  | s + 1, w => (dc_EN s w ^^^ dc_EN s (w / 2 ^ (2 ^ s))) + dc_EN s (w / 2 ^ (2 ^ s)) * 2 ^ (2 ^ s)
/-- agreement of the bits below c -/
def dc_ag (c w v : Nat) : Prop := ∀ j, j < c → w.testBit j = v.testBit j
theorem ag_div {c d w v : Nat} (h : dc_ag (c + d) w v) : dc_ag c (w / 2 ^ d) (v / 2 ^ d) := by
  intro j hj
  rw [Nat.testBit_div_two_pow, Nat.testBit_div_two_pow]
  exact h _ (by omega)
theorem ag_le {c d w v : Nat} (h : dc_ag c w v) (hd : d ≤ c) : dc_ag d w v := fun j hj => h j (by omega)
theorem ag_symm {c w v : Nat} (h : dc_ag c w v) : dc_ag c v w := fun j hj => (h j hj).symm
theorem EN_lt : ∀ s w, dc_EN s w < 2 ^ (2 ^ s) := by
  intro s
  induction s with
  | zero => intro w; show w % 2 < 2; omega
  | succ s ih =>
    intro w
    show (dc_EN s w ^^^ dc_EN s (w / 2 ^ (2 ^ s))) + dc_EN s (w / 2 ^ (2 ^ s)) * 2 ^ (2 ^ s) < 2 ^ (2 ^ (s + 1))
    have h1 := Nat.xor_lt_two_pow (ih w) (ih (w / 2 ^ (2 ^ s)))
    have h2 := ih (w / 2 ^ (2 ^ s))
    have e : 2 ^ (2 ^ (s + 1)) = 2 ^ (2 ^ s) * 2 ^ (2 ^ s) := by rw [← Nat.pow_add]; congr 1; omega
    rw [e]
    generalize 2 ^ (2 ^ s) = q at *
    generalize dc_EN s w ^^^ dc_EN s (w / q) = x at *
    generalize dc_EN s (w / q) = y at *
    have h3 : (y + 1) * q ≤ q * q := Nat.mul_le_mul_right q h2
    rw [Nat.add_mul] at h3
    omega
theorem EN_ag : ∀ s w v, dc_ag (2 ^ s) w v → dc_EN s w = dc_EN s v := by
  intro s
  induction s with
  | zero =>
    intro w v h
    have := h 0 (by decide)
    show w % 2 = v % 2
    rw [Nat.testBit_zero, Nat.testBit_zero] at this
    have h2 := decide_eq_decide.mp this
    omega
  | succ s ih =>
    intro w v h
    have e : 2 ^ (s + 1) = 2 ^ s + 2 ^ s := by omega
    rw [e] at h
    show (dc_EN s w ^^^ dc_EN s (w / 2 ^ (2 ^ s))) + dc_EN s (w / 2 ^ (2 ^ s)) * 2 ^ (2 ^ s) = _
    rw [ih w v (ag_le h (Nat.le_add_right _ _)), ih _ _ (ag_div h)]
    rfl
theorem EN_lo {s w k : Nat} (hk : k < 2 ^ s) : (dc_EN (s + 1) w).testBit k = ((dc_EN s w).testBit k ^^ (dc_EN s (w / 2 ^ (2 ^ s))).testBit k) := by
  show ((dc_EN s w ^^^ dc_EN s (w / 2 ^ (2 ^ s))) + dc_EN s (w / 2 ^ (2 ^ s)) * 2 ^ (2 ^ s)).testBit k = _
  have h1 := Nat.xor_lt_two_pow (EN_lt s w) (EN_lt s (w / 2 ^ (2 ^ s)))
  rw [Nat.add_comm, Nat.mul_comm, Nat.testBit_two_pow_mul_add _ h1, if_pos hk, Nat.testBit_xor]
theorem EN_hi {s w k : Nat} : (dc_EN (s + 1) w).testBit (2 ^ s + k) = (dc_EN s (w / 2 ^ (2 ^ s))).testBit k := by
  show ((dc_EN s w ^^^ dc_EN s (w / 2 ^ (2 ^ s))) + dc_EN s (w / 2 ^ (2 ^ s)) * 2 ^ (2 ^ s)).testBit (2 ^ s + k) = _
  have h1 := Nat.xor_lt_two_pow (EN_lt s w) (EN_lt s (w / 2 ^ (2 ^ s)))
  rw [Nat.add_comm, Nat.mul_comm, Nat.testBit_two_pow_mul_add _ h1, if_neg (by omega), Nat.add_sub_cancel_left]
/-! whole numbers -/
def im_pen (b : Bool) (v : Int) : Int := if b then (if 0 < v then v else 0) else (if v < 0 then -v else 0)
def im_ms (a b : Int) : Int :=
  let x := if 0 ≤ a then a else -a
  let y := if 0 ≤ b then b else -b
  let z := if y ≤ x then y else x
  if (0 ≤ a ↔ 0 ≤ b) then z else -z
theorem pen_split (l r : Bool) (a b : Int) : im_pen (l ^^ r) a + im_pen r b = im_pen l (im_ms a b) + im_pen r (if l then b - a else b + a) := by
  have hms : im_ms a b = if 0 ≤ a then (if 0 ≤ b then (if b ≤ a then b else a) else (if -b ≤ a then b else -a)) else (if 0 ≤ b then (if b ≤ -a then -b else a) else (if -b ≤ -a then -b else -a)) := by
    unfold im_ms
    by_cases h1 : 0 ≤ a <;> by_cases h2 : 0 ≤ b <;> simp [h1, h2] <;> split <;> omega
  rw [hms]
  unfold im_pen
  cases l <;> cases r <;> simp only [Bool.xor_false, Bool.xor_true, Bool.false_xor, Bool.true_xor, Bool.not_false, Bool.not_true, if_true, if_false, Bool.false_eq_true] <;> (repeat' split) <;> omega
def im_fL (s : Nat) (a : Nat → Int) : Nat → Int := fun k => im_ms (a k) (a (2 ^ s + k))
def im_fR (s : Nat) (a : Nat → Int) (L : Nat) : Nat → Int := fun k => if L.testBit k then a (2 ^ s + k) - a k else a (2 ^ s + k) + a k
def im_nd : Nat → Nat → (Nat → Int) → Nat → Nat → (Nat → Int)
  | 0, _, a, _, _ => a
  | s + 1, t, a, w, i => if s + 1 ≤ t then a else if i < 2 ^ s then im_nd s t (im_fL s a) w i else im_nd s t (im_fR s a (dc_EN s w)) (w / 2 ^ (2 ^ s)) (i - 2 ^ s)
def im_sm (f : Nat → Int) : Nat → Int
  | 0 => 0
  | n + 1 => im_sm f n + f n
theorem im_congr {f g : Nat → Int} {n : Nat} (h : ∀ i, i < n → f i = g i) : im_sm f n = im_sm g n := by
  induction n with
  | zero => rfl
  | succ n ih =>
    show im_sm f n + f n = im_sm g n + g n
    rw [ih (fun i hi => h i (by omega)), h n (by omega)]
theorem im_add (f g : Nat → Int) (n : Nat) : im_sm (fun i => f i + g i) n = im_sm f n + im_sm g n := by
  induction n with
  | zero => rfl
  | succ n ih =>
    show im_sm (fun i => f i + g i) n + (f n + g n) = (im_sm f n + f n) + (im_sm g n + g n)
    rw [ih]; omega
theorem im_cat (f : Nat → Int) (a b : Nat) : im_sm f (a + b) = im_sm f a + im_sm (fun i => f (a + i)) b := by
  induction b with
  | zero => show im_sm f a = im_sm f a + 0; omega
  | succ b ih =>
    show im_sm f (a + b) + f (a + b) = im_sm f a + (im_sm (fun i => f (a + i)) b + f (a + b))
    rw [ih]; omega
/-- the weight of the codeword is the sum of what the leaves cost -/
theorem im_main : ∀ s a w, im_sm (fun k => im_pen ((dc_EN s w).testBit k) (a k)) (2 ^ s) = im_sm (fun i => im_pen (w.testBit i) (im_nd s 0 a w i 0)) (2 ^ s) := by
  intro s
  induction s with
  | zero =>
    intro a w
    show (0 : Int) + im_pen ((w % 2).testBit 0) (a 0) = 0 + im_pen (w.testBit 0) (a 0)
    rw [Nat.testBit_zero, Nat.testBit_zero, Nat.mod_mod]
  | succ s ih =>
    intro a w
    rw [show 2 ^ (s + 1) = 2 ^ s + 2 ^ s by omega, im_cat, im_cat, ← im_add]
    have e1 : im_sm (fun i => im_pen ((dc_EN (s + 1) w).testBit i) (a i) + im_pen ((dc_EN (s + 1) w).testBit (2 ^ s + i)) (a (2 ^ s + i))) (2 ^ s) = im_sm (fun i => im_pen ((dc_EN s w).testBit i) (im_fL s a i) + im_pen ((dc_EN s (w / 2 ^ (2 ^ s))).testBit i) (im_fR s a (dc_EN s w) i)) (2 ^ s) := im_congr (fun i hi => by
      rw [EN_lo hi, EN_hi, pen_split]; rfl)
    rw [e1, im_add, ih (im_fL s a) w, ih (im_fR s a (dc_EN s w)) (w / 2 ^ (2 ^ s))]
    congr 1
    · exact im_congr (fun i hi => by
        show _ = im_pen (w.testBit i) (im_nd (s + 1) 0 a w i 0)
        rw [im_nd, if_neg (by omega), if_pos hi])
    · exact im_congr (fun i hi => by
        (try dsimp only)
        rw [im_nd, if_neg (by omega), if_neg (by omega), Nat.testBit_div_two_pow, Nat.add_comm i, Nat.add_sub_cancel_left])
/-- the running sum -/
def im_M (n : Nat) (a : Nat → Int) (w m : Nat) : Int := im_sm (fun i => im_pen (w.testBit i) (im_nd n 0 a w i 0)) m
theorem pen_nn (b : Bool) (v : Int) : 0 ≤ im_pen b v := by
  unfold im_pen
  repeat' split
  all_goals omega
theorem M_mono (n : Nat) (a : Nat → Int) (w : Nat) : ∀ d m, im_M n a w m ≤ im_M n a w (m + d) := by
  intro d
  induction d with
  | zero => intro m; exact Int.le_refl _
  | succ d ih =>
    intro m
    have h1 := ih m
    have h2 : im_M n a w (m + (d + 1)) = im_M n a w (m + d) + im_pen (w.testBit (m + d)) (im_nd n 0 a w (m + d) 0) := rfl
    have h3 := pen_nn (w.testBit (m + d)) (im_nd n 0 a w (m + d) 0)
    omega
/-- the values at level t at position i hang on the bits below the node's first position -/
theorem im_ag : ∀ s t a w v i j, t ≤ s → i / 2 ^ t = j / 2 ^ t → i < 2 ^ s → j < 2 ^ s → dc_ag (i / 2 ^ t * 2 ^ t) w v → im_nd s t a w i = im_nd s t a v j := by
  intro s
  induction s with
  | zero => intro t a w v i j _ _ _ _ _; rfl
  | succ s ih =>
    intro t a w v i j ht hij hi hj hag
    by_cases hts : s + 1 ≤ t
    · rw [im_nd, im_nd, if_pos hts, if_pos hts]
    · have htp : 2 ^ s = 2 ^ (s - t) * 2 ^ t := by rw [← Nat.pow_add]; congr 1; omega
      have hpos : 0 < 2 ^ t := Nat.two_pow_pos t
      have key : ∀ x, x < 2 ^ s ↔ x / 2 ^ t < 2 ^ (s - t) := by
        intro x
        rw [Nat.div_lt_iff_lt_mul hpos, ← htp]
      have key2 : ∀ x, (x - 2 ^ s) / 2 ^ t = x / 2 ^ t - 2 ^ (s - t) := by
        intro x
        rw [htp, Nat.mul_comm]
        exact Nat.sub_mul_div x (2 ^ t) (2 ^ (s - t))
      rw [im_nd, im_nd, if_neg hts, if_neg hts]
      by_cases h1 : i < 2 ^ s
      · have h2 : j < 2 ^ s := by rw [key] at h1 ⊢; omega
        rw [if_pos h1, if_pos h2]
        exact ih t _ w v i j (by omega) hij h1 h2 hag
      · have h2 : ¬ j < 2 ^ s := by rw [key] at h1 ⊢; omega
        have e2 : 2 ^ (s + 1) = 2 ^ s + 2 ^ s := by omega
        have hge : 2 ^ (s - t) ≤ i / 2 ^ t := by rw [key] at h1; omega
        have hsp : (i / 2 ^ t - 2 ^ (s - t)) * 2 ^ t + 2 ^ s = i / 2 ^ t * 2 ^ t := by
          rw [htp, ← Nat.add_mul]; congr 1; omega
        rw [if_neg h1, if_neg h2, EN_ag s w v (ag_le hag (by omega))]
        refine ih t _ _ _ _ _ (by omega) (by rw [key2, key2, hij]) (by omega) (by omega) ?_
        rw [key2]
        exact ag_div (by rw [hsp]; exact hag)
theorem M_ag {n : Nat} {a : Nat → Int} {w v m : Nat} (h : dc_ag m w v) (hm : m ≤ 2 ^ n) : im_M n a w m = im_M n a v m := by
  refine im_congr (fun i hi => ?_)
  rw [h i hi, im_ag n 0 a w v i i (by omega) rfl (by omega) (by omega) (by rw [Nat.pow_zero, Nat.div_one, Nat.mul_one]; exact ag_le h (by omega))]
/-- a completion that costs nothing more -/
theorem M_greedy (n : Nat) (a : Nat → Int) : ∀ d m w, m + d = 2 ^ n → w < 2 ^ m → ∃ v, v < 2 ^ (2 ^ n) ∧ v % 2 ^ m = w ∧ im_M n a v (2 ^ n) = im_M n a w m := by
  intro d
  induction d with
  | zero =>
    intro m w hm hw
    have e : m = 2 ^ n := by omega
    subst e
    exact ⟨w, hw, Nat.mod_eq_of_lt hw, rfl⟩
  | succ d ih =>
    intro m w hm hw
    have hp : 2 ^ (m + 1) = 2 * 2 ^ m := by rw [Nat.pow_succ]; omega
    have step : ∀ b : Bool, im_pen b (im_nd n 0 a w m 0) = 0 → ∃ v, v < 2 ^ (2 ^ n) ∧ v % 2 ^ m = w ∧ im_M n a v (2 ^ n) = im_M n a w m := by
      intro b hb
      have hbl : b.toNat ≤ 1 := Bool.toNat_le b
      have hw2 : w + 2 ^ m * b.toNat < 2 ^ (m + 1) := by cases b <;> simp only [Bool.toNat_true, Bool.toNat_false] <;> omega
      obtain ⟨v, h1, h2, h3⟩ := ih (m + 1) (w + 2 ^ m * b.toNat) (by omega) hw2
      refine ⟨v, h1, ?_, ?_⟩
      · have : v % 2 ^ m = v % 2 ^ (m + 1) % 2 ^ m := by rw [hp, Nat.mod_mul_left_mod]
        rw [this, h2, Nat.add_mul_mod_self_left, Nat.mod_eq_of_lt hw]
      · rw [h3]
        have hag : dc_ag m (w + 2 ^ m * b.toNat) w := by
          intro j hj
          rw [Nat.add_comm, Nat.testBit_two_pow_mul_add _ hw, if_pos hj]
        have hbit : (w + 2 ^ m * b.toNat).testBit m = b := by
          rw [Nat.add_comm, Nat.testBit_two_pow_mul_add _ hw, if_neg (by omega), Nat.sub_self]
          cases b <;> rfl
        show im_M n a (w + 2 ^ m * b.toNat) m + im_pen ((w + 2 ^ m * b.toNat).testBit m) (im_nd n 0 a (w + 2 ^ m * b.toNat) m 0) = im_M n a w m
        rw [M_ag hag (by omega), hbit, im_ag n 0 a _ w m m (by omega) rfl (by omega) (by omega) (by rw [Nat.pow_zero, Nat.div_one, Nat.mul_one]; exact hag), hb]
        omega
    by_cases hv : 0 ≤ im_nd n 0 a w m 0
    · exact step false (by unfold im_pen; rw [if_neg (by decide), if_neg (by omega)])
    · exact step true (by unfold im_pen; rw [if_pos rfl, if_neg (by omega)])
end
section
/-! the same in Int32 -/
theorem ia_add {a b : Int32} {x y : Int} (ha : a.toInt = x) (hb : b.toInt = y) (h1 : -2000000000 ≤ x + y) (h2 : x + y ≤ 2000000000) : (a + b).toInt = x + y := by
  rw [Int32.toInt_add, ha, hb]
  exact Int.bmod_eq_of_le (by omega) (by omega)
theorem ia_sub {a b : Int32} {x y : Int} (ha : a.toInt = x) (hb : b.toInt = y) (h1 : -2000000000 ≤ x - y) (h2 : x - y ≤ 2000000000) : (a - b).toInt = x - y := by
  rw [Int32.toInt_sub, ha, hb]
  exact Int.bmod_eq_of_le (by omega) (by omega)
theorem ia_neg {a : Int32} {x : Int} (ha : a.toInt = x) (h1 : -2000000000 ≤ x) (h2 : x ≤ 2000000000) : (-a).toInt = -x := by
  rw [Int32.toInt_neg, ha]
  exact Int.bmod_eq_of_le (by omega) (by omega)
theorem ia_0 : (0 : Int32).toInt = 0 := by decide
theorem ia_le {a b : Int32} : a ≤ b ↔ a.toInt ≤ b.toInt := Int32.le_iff_toInt_le
theorem ia_le0 {a : Int32} : a ≤ 0 ↔ a.toInt ≤ 0 := by rw [ia_le, ia_0]
theorem ia_0le {a : Int32} : 0 ≤ a ↔ 0 ≤ a.toInt := by rw [ia_le, ia_0]
def dc_ab (a : Int32) : Int32 := if 0 ≤ a then a else -a
def dc_mn (x y : Int32) : Int32 := if y ≤ x then y else x
def dc_ms (a b : Int32) : Int32 := if (0 ≤ a ↔ 0 ≤ b) then dc_mn (dc_ab a) (dc_ab b) else -(dc_mn (dc_ab a) (dc_ab b))
theorem ab_toInt {a : Int32} (h1 : -8000 ≤ a.toInt) (h2 : a.toInt ≤ 8000) : (dc_ab a).toInt = if 0 ≤ a.toInt then a.toInt else -a.toInt := by
  unfold dc_ab
  by_cases h : 0 ≤ a
  · rw [if_pos h, if_pos (ia_0le.mp h)]
  · rw [if_neg h, if_neg (fun z => h (ia_0le.mpr z)), ia_neg rfl (by omega) (by omega)]
theorem mn_toInt (x y : Int32) : (dc_mn x y).toInt = if y.toInt ≤ x.toInt then y.toInt else x.toInt := by
  unfold dc_mn
  by_cases h : y ≤ x
  · rw [if_pos h, if_pos (ia_le.mp h)]
  · rw [if_neg h, if_neg (fun z => h (ia_le.mpr z))]
theorem ms_toInt {a b : Int32} (h1 : -8000 ≤ a.toInt) (h2 : a.toInt ≤ 8000) (h3 : -8000 ≤ b.toInt) (h4 : b.toInt ≤ 8000) : (dc_ms a b).toInt = im_ms a.toInt b.toInt := by
  have e : (dc_mn (dc_ab a) (dc_ab b)).toInt = if (if 0 ≤ b.toInt then b.toInt else -b.toInt) ≤ (if 0 ≤ a.toInt then a.toInt else -a.toInt) then (if 0 ≤ b.toInt then b.toInt else -b.toInt) else (if 0 ≤ a.toInt then a.toInt else -a.toInt) := by
    rw [mn_toInt, ab_toInt h1 h2, ab_toInt h3 h4]
  unfold dc_ms im_ms
  (try dsimp only)
  by_cases h : (0 ≤ a ↔ 0 ≤ b)
  · rw [if_pos h, if_pos (by rw [← ia_0le, ← ia_0le]; exact h), e]
  · rw [if_neg h, if_neg (by rw [← ia_0le, ← ia_0le]; exact h), ia_neg e (by (repeat' split) <;> omega) (by (repeat' split) <;> omega)]
theorem ms_bound {a b A : Int} (h1 : -A ≤ a) (h2 : a ≤ A) (h3 : -A ≤ b) (h4 : b ≤ A) : -A ≤ im_ms a b ∧ im_ms a b ≤ A := by
  unfold im_ms
  (try dsimp only)
  (repeat' split) <;> omega
def dc_fL (s : Nat) (a : Nat → Int32) : Nat → Int32 := fun k => dc_ms (a k) (a (2 ^ s + k))
def dc_fR (s : Nat) (a : Nat → Int32) (L : Nat) : Nat → Int32 := fun k => if L.testBit k then a (2 ^ s + k) - a k else a (2 ^ s + k) + a k
/-- the values at level t of the path w at position i, of a tree of s levels over a -/
def dc_nd : Nat → Nat → (Nat → Int32) → Nat → Nat → (Nat → Int32)
  | 0, _, a, _, _ => a
  | s + 1, t, a, w, i => if s + 1 ≤ t then a else if i < 2 ^ s then dc_nd s t (dc_fL s a) w i else dc_nd s t (dc_fR s a (dc_EN s w)) (w / 2 ^ (2 ^ s)) (i - 2 ^ s)
def dc_I (a : Nat → Int32) : Nat → Int := fun k => (a k).toInt
theorem fL_toInt {s A : Nat} {a : Nat → Int32} (h : ∀ k, -(A : Int) ≤ (a k).toInt ∧ (a k).toInt ≤ A) (hA : A ≤ 4000) : dc_I (dc_fL s a) = im_fL s (dc_I a) ∧ ∀ k, -(A : Int) ≤ (dc_fL s a k).toInt ∧ (dc_fL s a k).toInt ≤ A := by
  have e : ∀ k, (dc_fL s a k).toInt = im_ms (a k).toInt (a (2 ^ s + k)).toInt := by
    intro k
    have h1 := h k
    have h2 := h (2 ^ s + k)
    exact ms_toInt (by omega) (by omega) (by omega) (by omega)
  refine ⟨funext e, fun k => ?_⟩
  rw [e]
  exact ms_bound (h k).1 (h k).2 (h (2 ^ s + k)).1 (h (2 ^ s + k)).2
theorem fR_toInt {s A L : Nat} {a : Nat → Int32} (h : ∀ k, -(A : Int) ≤ (a k).toInt ∧ (a k).toInt ≤ A) (hA : A ≤ 4000) : dc_I (dc_fR s a L) = im_fR s (dc_I a) L ∧ ∀ k, -((2 * A : Nat) : Int) ≤ (dc_fR s a L k).toInt ∧ (dc_fR s a L k).toInt ≤ ((2 * A : Nat) : Int) := by
  have e : ∀ k, (dc_fR s a L k).toInt = if L.testBit k then (a (2 ^ s + k)).toInt - (a k).toInt else (a (2 ^ s + k)).toInt + (a k).toInt := by
    intro k
    have h1 := h k
    have h2 := h (2 ^ s + k)
    unfold dc_fR
    cases L.testBit k with
    | true => rw [if_pos rfl, if_pos rfl]; exact ia_sub rfl rfl (by omega) (by omega)
    | false => rw [if_neg Bool.false_ne_true, if_neg Bool.false_ne_true]; exact ia_add rfl rfl (by omega) (by omega)
  refine ⟨funext e, fun k => ?_⟩
  rw [e]
  have h1 := h k
  have h2 := h (2 ^ s + k)
  split <;> omega
theorem nd_toInt : ∀ s t (a : Nat → Int32) w i (A : Nat), (∀ k, -(A : Int) ≤ (a k).toInt ∧ (a k).toInt ≤ A) → A * 2 ^ s ≤ 8000 → dc_I (dc_nd s t a w i) = im_nd s t (dc_I a) w i ∧ ∀ k, -8000 ≤ (dc_nd s t a w i k).toInt ∧ (dc_nd s t a w i k).toInt ≤ 8000 := by
  intro s
  induction s with
  | zero =>
    intro t a w i A h hA
    refine ⟨rfl, fun k => ?_⟩
    show -8000 ≤ (a k).toInt ∧ (a k).toInt ≤ 8000
    have := h k
    omega
  | succ s ih =>
    intro t a w i A h hA
    have hA2 : 2 * A * 2 ^ s ≤ 8000 := by
      have : 2 * A * 2 ^ s = A * 2 ^ (s + 1) := by rw [Nat.pow_succ, Nat.mul_comm 2 A, Nat.mul_assoc, Nat.mul_comm 2]
      omega
    have hA3 : 2 * A ≤ 2 * A * 2 ^ s := Nat.le_mul_of_pos_right _ (Nat.two_pow_pos s)
    have hA1 : A * 2 ^ s ≤ 8000 := Nat.le_trans (Nat.mul_le_mul_right _ (by omega)) hA2
    rw [dc_nd, im_nd]
    by_cases h1 : s + 1 ≤ t
    · rw [if_pos h1, if_pos h1]
      refine ⟨rfl, fun k => ?_⟩
      have := h k
      omega
    · rw [if_neg h1, if_neg h1]
      by_cases h2 : i < 2 ^ s
      · rw [if_pos h2, if_pos h2]
        obtain ⟨e, b⟩ := fL_toInt (s := s) h (by omega)
        rw [← e]
        exact ih t _ w i A b hA1
      · rw [if_neg h2, if_neg h2]
        obtain ⟨e, b⟩ := fR_toInt (s := s) (L := dc_EN s w) h (by omega)
        rw [← e]
        exact ih t _ _ _ (2 * A) b hA2
/-- a bit's cost added -/
def dc_pn (c : Int32) (b : Bool) (v : Int32) : Int32 := if b then (if v ≤ 0 then c else c + v) else (if 0 ≤ v then c else c - v)
theorem pn_toInt {c v : Int32} {b : Bool} (h1 : 0 ≤ c.toInt) (h2 : c.toInt ≤ 100000) (h3 : -8000 ≤ v.toInt) (h4 : v.toInt ≤ 8000) : (dc_pn c b v).toInt = c.toInt + im_pen b v.toInt := by
  unfold dc_pn im_pen
  cases b with
  | true =>
    rw [if_pos rfl, if_pos rfl]
    by_cases h : v ≤ 0
    · have := ia_le0.mp h
      rw [if_pos h, if_neg (by omega)]; omega
    · have : ¬ v.toInt ≤ 0 := fun z => h (ia_le0.mpr z)
      rw [if_neg h, if_pos (by omega), ia_add rfl rfl (by omega) (by omega)]
  | false =>
    rw [if_neg Bool.false_ne_true, if_neg Bool.false_ne_true]
    by_cases h : 0 ≤ v
    · have := ia_0le.mp h
      rw [if_pos h, if_neg (by omega)]; omega
    · have : ¬ 0 ≤ v.toInt := fun z => h (ia_0le.mpr z)
      rw [if_neg h, if_pos (by omega), ia_sub rfl rfl (by omega) (by omega)]
      omega
theorem pen_le (b : Bool) {v A : Int} (h0 : 0 ≤ A) (h1 : -A ≤ v) (h2 : v ≤ A) : im_pen b v ≤ A := by
  unfold im_pen
  (repeat' split) <;> omega
def dc_M (n : Nat) (a : Nat → Int32) (w : Nat) : Nat → Int32
  | 0 => 0
  | m + 1 => dc_pn (dc_M n a w m) (w.testBit m) (dc_nd n 0 a w m 0)
/-- soft values within their range -/
def dc_so (a : Nat → Int32) : Prop := ∀ k, -1000 ≤ (a k).toInt ∧ (a k).toInt ≤ 1000
theorem so_nd {n : Nat} {a : Nat → Int32} (hn : n ≤ 3) (h : dc_so a) (t w i : Nat) : dc_I (dc_nd n t a w i) = im_nd n t (dc_I a) w i ∧ ∀ k, -8000 ≤ (dc_nd n t a w i k).toInt ∧ (dc_nd n t a w i k).toInt ≤ 8000 :=
  nd_toInt n t a w i 1000 h (by
    have : 2 ^ n ≤ 2 ^ 3 := Nat.pow_le_pow_right (by decide) hn
    omega)
theorem M_toInt {n : Nat} {a : Nat → Int32} (hn : n ≤ 3) (h : dc_so a) (w : Nat) : ∀ m, m ≤ 8 → (dc_M n a w m).toInt = im_M n (dc_I a) w m ∧ 0 ≤ im_M n (dc_I a) w m ∧ im_M n (dc_I a) w m ≤ m * 8000 := by
  intro m
  induction m with
  | zero => intro _; exact ⟨ia_0, Int.le_refl _, Int.le_refl _⟩
  | succ m ih =>
    intro hm
    obtain ⟨e, b1, b2⟩ := ih (by omega)
    obtain ⟨e2, b3⟩ := so_nd hn h 0 w m
    have b4 := b3 0
    have e3 : (dc_nd n 0 a w m 0).toInt = im_nd n 0 (dc_I a) w m 0 := congrFun e2 0
    have hM : im_M n (dc_I a) w (m + 1) = im_M n (dc_I a) w m + im_pen (w.testBit m) (im_nd n 0 (dc_I a) w m 0) := rfl
    have p1 := pen_nn (w.testBit m) (im_nd n 0 (dc_I a) w m 0)
    have p2 := pen_le (w.testBit m) (v := im_nd n 0 (dc_I a) w m 0) (A := 8000) (by omega) (by rw [← e3]; exact b4.1) (by rw [← e3]; exact b4.2)
    refine ⟨?_, by omega, by omega⟩
    show (dc_pn (dc_M n a w m) (w.testBit m) (dc_nd n 0 a w m 0)).toInt = _
    rw [pn_toInt (by omega) (by omega) b4.1 b4.2, e, e3, hM]
def dc_W (a : Nat → Int32) (x : Nat) : Nat → Int32
  | 0 => 0
  | j + 1 => dc_pn (dc_W a x j) (x.testBit j) (a j)
theorem W_toInt {a : Nat → Int32} (h : dc_so a) (x : Nat) : ∀ m, m ≤ 8 → (dc_W a x m).toInt = im_sm (fun k => im_pen (x.testBit k) (dc_I a k)) m ∧ 0 ≤ im_sm (fun k => im_pen (x.testBit k) (dc_I a k)) m ∧ im_sm (fun k => im_pen (x.testBit k) (dc_I a k)) m ≤ m * 1000 := by
  intro m
  induction m with
  | zero => intro _; exact ⟨ia_0, Int.le_refl _, Int.le_refl _⟩
  | succ m ih =>
    intro hm
    obtain ⟨e, b1, b2⟩ := ih (by omega)
    have b4 := h m
    have hM : im_sm (fun k => im_pen (x.testBit k) (dc_I a k)) (m + 1) = im_sm (fun k => im_pen (x.testBit k) (dc_I a k)) m + im_pen (x.testBit m) (dc_I a m) := rfl
    have p1 := pen_nn (x.testBit m) (dc_I a m)
    have p2 := pen_le (x.testBit m) (v := dc_I a m) (A := 1000) (by omega) b4.1 b4.2
    refine ⟨?_, by omega, by omega⟩
    show (dc_pn (dc_W a x m) (x.testBit m) (a m)).toInt = _
    rw [pn_toInt (by omega) (by omega) (by omega) (by omega), e, hM]
    rfl
theorem dc_two8 {n : Nat} (hn : n ≤ 3) : 2 ^ n ≤ 8 := Nat.pow_le_pow_right (n := 2) (by decide) hn
theorem W_M {n : Nat} {a : Nat → Int32} (hn : n ≤ 3) (h : dc_so a) (w : Nat) : dc_W a (dc_EN n w) (2 ^ n) = dc_M n a w (2 ^ n) := by
  apply Int32.toInt_inj.mp
  rw [(W_toInt h _ _ (dc_two8 hn)).1, (M_toInt hn h w _ (dc_two8 hn)).1]
  exact im_main n (dc_I a) w
theorem nd_ag : ∀ s t (a : Nat → Int32) w v i j, t ≤ s → i / 2 ^ t = j / 2 ^ t → i < 2 ^ s → j < 2 ^ s → dc_ag (i / 2 ^ t * 2 ^ t) w v → dc_nd s t a w i = dc_nd s t a v j := by
  intro s
  induction s with
  | zero => intro t a w v i j _ _ _ _ _; rfl
  | succ s ih =>
    intro t a w v i j ht hij hi hj hag
    by_cases hts : s + 1 ≤ t
    · rw [dc_nd, dc_nd, if_pos hts, if_pos hts]
    · have htp : 2 ^ s = 2 ^ (s - t) * 2 ^ t := by rw [← Nat.pow_add]; congr 1; omega
      have hpos : 0 < 2 ^ t := Nat.two_pow_pos t
      have key : ∀ x, x < 2 ^ s ↔ x / 2 ^ t < 2 ^ (s - t) := by
        intro x
        rw [Nat.div_lt_iff_lt_mul hpos, ← htp]
      have key2 : ∀ x, (x - 2 ^ s) / 2 ^ t = x / 2 ^ t - 2 ^ (s - t) := by
        intro x
        rw [htp, Nat.mul_comm]
        exact Nat.sub_mul_div x (2 ^ t) (2 ^ (s - t))
      rw [dc_nd, dc_nd, if_neg hts, if_neg hts]
      by_cases h1 : i < 2 ^ s
      · have h2 : j < 2 ^ s := by rw [key] at h1 ⊢; omega
        rw [if_pos h1, if_pos h2]
        exact ih t _ w v i j (by omega) hij h1 h2 hag
      · have h2 : ¬ j < 2 ^ s := by rw [key] at h1 ⊢; omega
        have e2 : 2 ^ (s + 1) = 2 ^ s + 2 ^ s := by omega
        have hge : 2 ^ (s - t) ≤ i / 2 ^ t := by rw [key] at h1; omega
        have hsp : (i / 2 ^ t - 2 ^ (s - t)) * 2 ^ t + 2 ^ s = i / 2 ^ t * 2 ^ t := by
          rw [htp, ← Nat.add_mul]; congr 1; omega
        rw [if_neg h1, if_neg h2, EN_ag s w v (ag_le hag (by omega))]
        refine ih t _ _ _ _ _ (by omega) (by rw [key2, key2, hij]) (by omega) (by omega) ?_
        rw [key2]
        exact ag_div (by rw [hsp]; exact hag)
theorem dM_ag {n : Nat} {a : Nat → Int32} {w v : Nat} : ∀ m, m ≤ 2 ^ n → dc_ag m w v → dc_M n a w m = dc_M n a v m := by
  intro m
  induction m with
  | zero => intro _ _; rfl
  | succ m ih =>
    intro hm h
    show dc_pn (dc_M n a w m) (w.testBit m) (dc_nd n 0 a w m 0) = dc_pn (dc_M n a v m) (v.testBit m) (dc_nd n 0 a v m 0)
    rw [ih (by omega) (ag_le h (by omega)), h m (by omega), nd_ag n 0 a w v m m (by omega) rfl (by omega) (by omega) (by rw [Nat.pow_zero, Nat.div_one, Nat.mul_one]; exact ag_le h (by omega))]
/-- no completion costs less, and one costs the same -/
theorem cost_ge {n : Nat} {a : Nat → Int32} (hn : n ≤ 3) (h : dc_so a) {w m : Nat} (hm : m ≤ 2 ^ n) (hw : w < 2 ^ m) (r : Nat) : dc_M n a w m ≤ dc_W a (dc_EN n (w + 2 ^ m * r)) (2 ^ n) := by
  have h8 := dc_two8 hn
  rw [W_M hn h, ia_le, (M_toInt hn h w m (by omega)).1, (M_toInt hn h _ _ h8).1]
  have hag : dc_ag m (w + 2 ^ m * r) w := by
    intro j hj
    rw [Nat.add_comm, Nat.testBit_two_pow_mul_add _ hw, if_pos hj]
  rw [← M_ag hag hm]
  have := M_mono n (dc_I a) (w + 2 ^ m * r) (2 ^ n - m) m
  rw [show m + (2 ^ n - m) = 2 ^ n by omega] at this
  exact this
theorem cost_ex {n : Nat} {a : Nat → Int32} (hn : n ≤ 3) (h : dc_so a) {w m : Nat} (hm : m ≤ 2 ^ n) (hw : w < 2 ^ m) : ∃ r, r < 2 ^ (2 ^ n - m) ∧ dc_W a (dc_EN n (w + 2 ^ m * r)) (2 ^ n) = dc_M n a w m := by
  have h8 := dc_two8 hn
  obtain ⟨v, h1, h2, h3⟩ := M_greedy n (dc_I a) (2 ^ n - m) m w (by omega) hw
  refine ⟨v / 2 ^ m, ?_, ?_⟩
  · rw [Nat.div_lt_iff_lt_mul (Nat.two_pow_pos m), ← Nat.pow_add, show 2 ^ n - m + m = 2 ^ n by omega]
    exact h1
  · have e : w + 2 ^ m * (v / 2 ^ m) = v := by rw [← h2]; exact Nat.mod_add_div v (2 ^ m)
    rw [e, W_M hn h]
    apply Int32.toInt_inj.mp
    rw [(M_toInt hn h w m (by omega)).1, (M_toInt hn h _ _ h8).1, h3]
theorem nd_lo {s t : Nat} {a : Nat → Int32} {w i : Nat} (h : t ≤ s) (hi : i < 2 ^ s) : dc_nd (s + 1) t a w i = dc_nd s t (dc_fL s a) w i := by
  rw [dc_nd, if_neg (show ¬ s + 1 ≤ t by omega), if_pos hi]
theorem nd_hi {s t : Nat} {a : Nat → Int32} {w i : Nat} (h : t ≤ s) (hi : ¬ i < 2 ^ s) : dc_nd (s + 1) t a w i = dc_nd s t (dc_fR s a (dc_EN s w)) (w / 2 ^ (2 ^ s)) (i - 2 ^ s) := by
  rw [dc_nd, if_neg (show ¬ s + 1 ≤ t by omega), if_neg hi]
theorem nd_id (t : Nat) (b : Nat → Int32) (v x : Nat) : dc_nd t t b v x = b := by
  cases t with
  | zero => rfl
  | succ t => rw [dc_nd, if_pos (Nat.le_refl _)]
/-- one level down: a left node, a right node -/
theorem nd_step : ∀ s t (a : Nat → Int32) w i, t < s → s ≤ 3 → i < 2 ^ s → dc_nd s t a w i = if i / 2 ^ t % 2 = 0 then dc_fL t (dc_nd s (t + 1) a w i) else dc_fR t (dc_nd s (t + 1) a w i) (dc_EN t (w / 2 ^ ((i / 2 ^ t - 1) * 2 ^ t))) := by
  intro s
  induction s with
  | zero => intro t a w i ht; omega
  | succ s ih =>
    intro t a w i ht hs hi
    have e2 : 2 ^ (s + 1) = 2 ^ s + 2 ^ s := by omega
    by_cases hts : t = s
    · subst hts
      rw [nd_id (t + 1)]
      by_cases h1 : i < 2 ^ t
      · rw [nd_lo (Nat.le_refl _) h1, nd_id, if_pos (by rw [Nat.div_eq_of_lt h1])]
      · have h2 : i / 2 ^ t = 1 := by
          rw [show i = i - 2 ^ t + 2 ^ t by omega, Nat.add_div_right _ (Nat.two_pow_pos t), Nat.div_eq_of_lt (by omega)]
        rw [nd_hi (Nat.le_refl _) h1, nd_id, h2, if_neg (by decide), Nat.sub_self, Nat.zero_mul, Nat.pow_zero, Nat.div_one]
    · have htp : 2 ^ s = 2 * 2 ^ (s - t - 1) * 2 ^ t := by
        rw [Nat.mul_comm 2, ← Nat.pow_succ, ← Nat.pow_add]; congr 1; omega
      have hpos : 0 < 2 ^ t := Nat.two_pow_pos t
      by_cases h1 : i < 2 ^ s
      · rw [nd_lo (by omega) h1, nd_lo (by omega) h1]
        exact ih t _ w i (by omega) (by omega) h1
      · have key : (i - 2 ^ s) / 2 ^ t = i / 2 ^ t - 2 * 2 ^ (s - t - 1) := by
          rw [htp, Nat.mul_comm _ (2 ^ t)]
          exact Nat.sub_mul_div i (2 ^ t) (2 * 2 ^ (s - t - 1))
        have hge : 2 * 2 ^ (s - t - 1) ≤ i / 2 ^ t := by
          rw [Nat.le_div_iff_mul_le hpos, ← htp]; omega
        rw [nd_hi (by omega) h1, nd_hi (by omega) h1, ih t _ _ _ (by omega) (by omega) (by omega), key]
        by_cases h3 : i / 2 ^ t % 2 = 0
        · rw [if_pos h3, if_pos (show (i / 2 ^ t - 2 * 2 ^ (s - t - 1)) % 2 = 0 by omega)]
        · rw [if_neg h3, if_neg (show ¬ (i / 2 ^ t - 2 * 2 ^ (s - t - 1)) % 2 = 0 by omega)]
          rw [Nat.div_div_eq_div_mul, ← Nat.pow_add]
          have e3 : 2 ^ s + (i / 2 ^ t - 2 * 2 ^ (s - t - 1) - 1) * 2 ^ t = (i / 2 ^ t - 1) * 2 ^ t := by
            rw [htp, ← Nat.add_mul]
            congr 1
            omega
          rw [e3]
end
section
/-! numbers as the walks print them -/
theorem wk_shl {a i : Nat} (hi : i < 32) (h : a * 2 ^ i < 2 ^ 32) : nI a <<< (nI i &&& 31) = nI (a * 2 ^ i) := pk_shlN _ i (s_l i hi) h
theorem wk_1s {i : Nat} (hi : i < 31) : (1 : Int32) <<< (nI i &&& 31) = nI (2 ^ i) := by
  have h2 : 2 ^ i < 2 ^ 32 := Nat.pow_lt_pow_right (by decide) (by omega)
  have := wk_shl (a := 1) (i := i) (by omega) (by omega)
  rw [Nat.one_mul] at this
  exact this
theorem wk_s5 {a : Nat} (h : a < 1000000) : nI a <<< ((5 : Int32) &&& 31) = nI (32 * a) := by
  rw [pk_shlN ((5 : Int32) &&& 31) 5 (by decide) (by omega)]
  exact congrArg nI (by omega)
theorem wk_shr {a i : Nat} (hi : i < 32) (h : a < 2 ^ 31) : nI a >>> (nI i &&& 31) = nI (a / 2 ^ i) := pk_shrN h _ i (s_l i hi)
theorem wk_pm1 {a : Nat} (h : 0 < a) : nI a - 1 = nI (a - 1) := by
  obtain ⟨b, rfl⟩ : ∃ b, a = b + 1 := ⟨a - 1, by omega⟩
  exact nI_pred b
theorem wk_mk {i : Nat} (hi : i < 31) : ((1 : Int32) <<< (nI i &&& 31)) - 1 = nI (2 ^ i - 1) := by
  rw [wk_1s hi]
  exact wk_pm1 (Nat.two_pow_pos i)
theorem bt_nI {w i : Nat} (hi : i < 32) : bt (nI w) i = w.testBit i := by
  show (BitVec.ofNat 32 w).getLsbD i = _
  rw [BitVec.getLsbD_ofNat, decide_eq_true hi, Bool.true_and]
theorem bt_tn (x : Int32) (i : Nat) : bt x i = x.toBitVec.toNat.testBit i := rfl
theorem wk_x (x : Int32) {i : Nat} (hi : i < 32) : (x >>> (nI i &&& 31)) &&& 1 = nI (bt x i).toNat := by
  refine b_ext (fun j hj => ?_)
  rw [b_and, b_sshr i hi x hj, bt_nI hj, show (1 : Int32) = nI 1 from rfl, bt_nI hj]
  cases j with
  | zero =>
    rw [Nat.add_zero, if_pos hi]
    cases bt x i <;> rfl
  | succ j =>
    rw [show (1 : Nat).testBit (j + 1) = false by rw [Nat.testBit_add_one]; exact Nat.zero_testBit j, Bool.and_false]
    cases bt x i
    · exact (Nat.zero_testBit _).symm
    · exact (by rw [Bool.toNat_true, Nat.testBit_add_one]; exact (Nat.zero_testBit j).symm)
theorem wk_b {w i : Nat} (hi : i < 32) : (nI w >>> (nI i &&& 31)) &&& 1 = nI (w.testBit i).toNat := by
  rw [wk_x _ hi, bt_nI hi]
theorem wk_n1 (b : Bool) : nI b.toNat = 1 ↔ b = true := by cases b <;> decide
theorem wk_n0 (b : Bool) : nI b.toNat = 0 ↔ b = false := by cases b <;> decide
theorem wk_b1 {w i : Nat} (hi : i < 32) : (nI w >>> (nI i &&& 31)) &&& 1 = 1 ↔ w.testBit i = true := by rw [wk_b hi]; exact wk_n1 _
theorem wk_b0 {w i : Nat} (hi : i < 32) : (nI w >>> (nI i &&& 31)) &&& 1 = 0 ↔ w.testBit i = false := by rw [wk_b hi]; exact wk_n0 _
theorem wk_x1 (x : Int32) {i : Nat} (hi : i < 32) : (x >>> (nI i &&& 31)) &&& 1 = 1 ↔ bt x i = true := by rw [wk_x x hi]; exact wk_n1 _
theorem wk_x0 (x : Int32) {i : Nat} (hi : i < 32) : (x >>> (nI i &&& 31)) &&& 1 = 0 ↔ bt x i = false := by rw [wk_x x hi]; exact wk_n0 _
theorem nx_or (a b : Nat) : nI a ||| nI b = nI (a ||| b) := by
  apply Int32.toBitVec_inj.1
  show BitVec.ofNat 32 a ||| BitVec.ofNat 32 b = BitVec.ofNat 32 (a ||| b)
  apply BitVec.eq_of_getLsbD_eq
  intro i hi
  simp [hi]
theorem wk_or {w m : Nat} (hw : w < 2 ^ m) (b : Nat) : w ||| b * 2 ^ m = w + 2 ^ m * b := by
  rw [Nat.or_comm, Nat.mul_comm b, Nat.add_comm]
  exact (Nat.two_pow_add_eq_or_of_lt hw b).symm
/-- first bits and later bits: as a number -/
theorem wk_ext {w m b : Nat} (hm : m < 31) (hw : w < 2 ^ m) (h : b * 2 ^ m < 2 ^ 32) : nI w ||| (nI b <<< (nI m &&& 31)) = nI (w + 2 ^ m * b) := by
  rw [wk_shl (by omega) h, nx_or, wk_or hw]
theorem wk_pow : ∀ i, i ≤ 16 → 2 ^ i ≤ 65536 := fun i hi => Nat.pow_le_pow_right (n := 2) (by decide) hi
theorem wk_2n {n : Nat} (hn : n ≤ 3) : 2 ^ (2 ^ n) ≤ 256 := by
  have h := dc_two8 hn
  exact Nat.pow_le_pow_right (n := 2) (by decide) h
theorem wk_tbp {w : Nat} (h : w < 256) {i : Nat} (hi : 8 ≤ i) : w.testBit i = false := Nat.testBit_lt_two_pow (Nat.lt_of_lt_of_le (m := 2 ^ 8) h (Nat.pow_le_pow_right (n := 2) (by decide) hi))
theorem tb_lt {w m i : Nat} (h : w < 2 ^ m) (hi : m ≤ i) : w.testBit i = false := Nat.testBit_lt_two_pow (Nat.lt_of_lt_of_le h (Nat.pow_le_pow_right (n := 2) (by decide) hi))
theorem tb_or (w b m i : Nat) (hb : b ≤ 1) : (w ||| b * 2 ^ m).testBit i = (w.testBit i || (decide (i = m) && decide (b = 1))) := by
  rw [Nat.testBit_or]
  congr 1
  rcases (show b = 0 ∨ b = 1 by omega) with rfl | rfl
  · rw [Nat.zero_mul, Nat.zero_testBit]; simp
  · rw [Nat.one_mul, Nat.testBit_two_pow]
    by_cases e : m = i
    · simp [e]
    · simp [e]; omega
theorem tb_n (w i : Nat) : w / 2 ^ i % 2 = (w.testBit i).toNat := (Nat.toNat_testBit w i).symm
theorem tb_ltp {w m : Nat} (h : ∀ i, m ≤ i → w.testBit i = false) : w < 2 ^ m := Nat.lt_pow_two_of_testBit w (fun i hi => h i hi)
theorem cl_0 : (0 : Int32).toNatClampNeg = 0 := by decide
/-- clamp -/
def dc_cl (v lo hi : Int32) : Int32 := if lo ≤ v then (if v ≤ hi then v else hi) else lo
theorem cl_cases {v lo hi : Int32} (h : lo ≤ hi) : lo ≤ dc_cl v lo hi ∧ dc_cl v lo hi ≤ hi := by
  unfold dc_cl
  by_cases h1 : lo ≤ v
  · rw [if_pos h1]
    by_cases h2 : v ≤ hi
    · rw [if_pos h2]; exact ⟨h1, h2⟩
    · rw [if_neg h2]; exact ⟨h, Int32.le_refl _⟩
  · rw [if_neg h1]; exact ⟨Int32.le_refl _, h⟩
theorem cl_nat {v : Int32} {lo hi : Nat} (h : lo ≤ hi) (hh : hi < 2 ^ 31) : ∃ x, lo ≤ x ∧ x ≤ hi ∧ dc_cl v (nI lo) (nI hi) = nI x := by
  obtain ⟨h1, h2⟩ := cl_cases (v := v) (nI_le h hh)
  have h3 := ia_le.mp h1
  have h4 := ia_le.mp h2
  rw [nI_toInt (by omega)] at h3
  rw [nI_toInt (by omega)] at h4
  obtain ⟨x, hx, e⟩ := nI_of (x := dc_cl v (nI lo) (nI hi)) (fun z => by
    have := Int32.lt_iff_toInt_lt.mp z
    rw [ia_0] at this
    omega)
  rw [e, nI_toInt hx] at h3 h4
  exact ⟨x, by omega, by omega, e⟩
end
section
/-! the store of X, level by level -/
def sv_off (lv : Nat → Bool) (j : Nat) : Nat → Bool := fun i => if i = j then false else lv i
def sv_on (lv : Nat → Bool) (j : Nat) : Nat → Bool := fun i => if i = j then true else lv i
theorem off_s (lv : Nat → Bool) (j : Nat) : sv_off lv j j = false := if_pos rfl
theorem off_n {lv : Nat → Bool} {i j : Nat} (h : i ≠ j) : sv_off lv j i = lv i := if_neg h
theorem on_s (lv : Nat → Bool) (j : Nat) : sv_on lv j j = true := if_pos rfl
theorem on_n {lv : Nat → Bool} {i j : Nat} (h : i ≠ j) : sv_on lv j i = lv i := if_neg h
def sv_LV (lv : Nat → Bool) (B R F : Nat → Int32) (c : Int32) : Prop :=
  ∃ (b f : Nat → Nat) (k : Nat),
    (∀ j, j < 32 → lv j = true → b j < 32 ∧ B j = nI (b j)) ∧
    (∀ x, x < 32 → R x = nI (qs_ct lv b x 32)) ∧
    c = nI k ∧
    (∀ i, i < k → f i < 32 ∧ F i = nI (f i) ∧ qs_ct lv b (f i) 32 = 0) ∧
    (∀ i j, i < k → j < k → f i = f j → i = j) ∧
    qs_cn (fun x => decide (0 < qs_ct lv b x 32)) 32 + k = 32
theorem ct_bool (l : Bool) (y x : Nat) : (l && (y == x)).toNat = if l = true ∧ y = x then 1 else 0 := by
  by_cases h : y = x
  · cases l <;> simp [h]
  · cases l <;> simp [h]
theorem ct_chg {lv lv' : Nat → Bool} {b b' : Nat → Nat} {N j : Nat} (hj : j < N) (h : ∀ i, i < N → i ≠ j → lv' i = lv i ∧ b' i = b i) (x : Nat) : qs_ct lv' b' x N + (if lv j = true ∧ b j = x then 1 else 0) = qs_ct lv b x N + (if lv' j = true ∧ b' j = x then 1 else 0) := by
  have := qs_upd (f := fun i => (lv' i && (b' i == x)).toNat) (g := fun i => (lv i && (b i == x)).toNat) hj (fun i hi hne => by rw [(h i hi hne).1, (h i hi hne).2])
  (try dsimp only at this)
  rw [ct_bool, ct_bool] at this
  exact this
theorem ct_ge1 {lv : Nat → Bool} {b : Nat → Nat} {N j : Nat} (hj : j < N) (hl : lv j = true) : 0 < qs_ct lv b (b j) N := cn_pos (p := fun i => lv i && (b i == b j)) hj (by (try dsimp only); rw [hl]; simp)
theorem ct_ge2 {lv : Nat → Bool} {b : Nat → Nat} {N i j : Nat} (hi : i < N) (hj : j < N) (hne : i ≠ j) (hli : lv i = true) (hl : lv j = true) (e : b i = b j) : 2 ≤ qs_ct lv b (b j) N := cn_two (p := fun i => lv i && (b i == b j)) hi hj hne (by (try dsimp only); rw [hli, e]; simp) (by (try dsimp only); rw [hl]; simp)
theorem sv_cg {lv : Nat → Bool} {B R F B' R' F' : Nat → Int32} {c c' : Int32} (h : sv_LV lv B R F c) (hB : ∀ x, x < 32 → B' x = B x) (hR : ∀ x, x < 32 → R' x = R x) (hF : ∀ x, x < 32 → F' x = F x) (hc : c' = c) : sv_LV lv B' R' F' c' := by
  obtain ⟨b, f, k, h1, h2, h3, h4, h5, h6⟩ := h
  refine ⟨b, f, k, fun j hj hl => ⟨(h1 j hj hl).1, by rw [hB j hj]; exact (h1 j hj hl).2⟩, fun x hx => by rw [hR x hx]; exact h2 x hx, hc.trans h3, fun i hi => ⟨(h4 i hi).1, by rw [hF i (by omega)]; exact (h4 i hi).2.1, (h4 i hi).2.2⟩, h5, h6⟩
theorem sv_rel {lv : Nat → Bool} {B R F : Nat → Int32} {c : Int32} (h : sv_LV lv B R F c) {j : Nat} (hj : j < 32) (hl : lv j = true) : ∃ b0 q k, b0 < 32 ∧ B j = nI b0 ∧ q < 32 ∧ R b0 = nI (q + 1) ∧ c = nI k ∧ (q = 0 → k < 32 ∧ sv_LV (sv_off lv j) B (upd R b0 (nI q)) (upd F k (nI b0)) (nI (k + 1))) ∧ (q ≠ 0 → sv_LV (sv_off lv j) B (upd R b0 (nI q)) F c) := by
  obtain ⟨b, f, k, h1, h2, h3, h4, h5, h6⟩ := h
  obtain ⟨hb, eB⟩ := h1 j hj hl
  have hp := ct_ge1 (b := b) hj hl
  have hle : qs_ct lv b (b j) 32 ≤ 32 := cn_le _ 32
  have chg := fun x => ct_chg (lv := lv) (lv' := sv_off lv j) (b := b) (b' := b) hj (fun i _ hne => ⟨off_n hne, rfl⟩) x
  have chg0 : qs_ct (sv_off lv j) b (b j) 32 + 1 = qs_ct lv b (b j) 32 := by
    have := chg (b j)
    rw [if_pos ⟨hl, rfl⟩, if_neg (fun z => by rw [off_s] at z; exact Bool.false_ne_true z.1)] at this
    exact this
  have chgn : ∀ x, x ≠ b j → qs_ct (sv_off lv j) b x 32 = qs_ct lv b x 32 := by
    intro x hx
    have := chg x
    rw [if_neg (fun z => hx z.2.symm), if_neg (fun z => hx z.2.symm)] at this
    exact this
  have hB : ∀ i, i < 32 → sv_off lv j i = true → b i < 32 ∧ B i = nI (b i) := by
    intro i hi hli
    by_cases e : i = j
    · rw [e, off_s] at hli; exact absurd hli Bool.false_ne_true
    · rw [off_n e] at hli; exact h1 i hi hli
  have hR : ∀ x, x < 32 → upd R (b j) (nI (qs_ct (sv_off lv j) b (b j) 32)) x = nI (qs_ct (sv_off lv j) b x 32) := by
    intro x hx
    by_cases e : x = b j
    · rw [e, pk_us]
    · rw [pk_un e, chgn x e]; exact h2 x hx
  refine ⟨b j, qs_ct (sv_off lv j) b (b j) 32, k, hb, eB, by omega, by rw [h2 _ hb, chg0], h3, fun hq => ?_, fun hq => ?_⟩
  · have hk : qs_cn (fun x => decide (0 < qs_ct lv b x 32)) 32 = qs_cn (fun x => decide (0 < qs_ct (sv_off lv j) b x 32)) 32 + 1 := by
      refine cn_set hb (fun i _ hne => by rw [chgn i hne]) ?_ ?_
      · (try dsimp only); rw [hq]; rfl
      · exact decide_eq_true hp
    refine ⟨by omega, b, (fun i => if i = k then b j else f i), k + 1, hB, hR, rfl, ?_, ?_, by omega⟩
    · intro i hi
      (try dsimp only)
      by_cases e : i = k
      · rw [if_pos e, e, pk_us]; exact ⟨hb, rfl, hq⟩
      · rw [if_neg e, pk_un e]
        obtain ⟨g1, g2, g3⟩ := h4 i (by omega)
        refine ⟨g1, g2, ?_⟩
        rw [chgn _ (fun z => by rw [z] at g3; omega)]
        exact g3
    · intro i i' hi hi' he
      (try dsimp only at he)
      by_cases e : i = k
      · by_cases e' : i' = k
        · omega
        · rw [if_pos e, if_neg e'] at he
          have := (h4 i' (by omega)).2.2
          rw [← he] at this
          omega
      · by_cases e' : i' = k
        · rw [if_neg e, if_pos e'] at he
          have := (h4 i (by omega)).2.2
          rw [he] at this
          omega
        · rw [if_neg e, if_neg e'] at he
          exact h5 i i' (by omega) (by omega) he
  · have hk : qs_cn (fun x => decide (0 < qs_ct lv b x 32)) 32 = qs_cn (fun x => decide (0 < qs_ct (sv_off lv j) b x 32)) 32 := cn_congr (fun i _ => by
      by_cases e : i = b j
      · rw [e, decide_eq_true hp, decide_eq_true (by omega)]
      · rw [chgn i e])
    refine ⟨b, f, k, hB, hR, h3, ?_, h5, by omega⟩
    intro i hi
    obtain ⟨g1, g2, g3⟩ := h4 i hi
    refine ⟨g1, g2, ?_⟩
    rw [chgn _ (fun z => by rw [z] at g3; omega)]
    exact g3
theorem sv_cln {lv : Nat → Bool} {B R F : Nat → Int32} {c : Int32} (h : sv_LV lv B R F c) {p q : Nat} (hp : p < 32) (hlp : lv p = true) (hq : q < 32) (hlq : lv q = false) : ∃ b0 r, b0 < 32 ∧ B p = nI b0 ∧ r < 33 ∧ R b0 = nI r ∧ sv_LV (sv_on lv q) (upd B q (nI b0)) (upd R b0 (nI (r + 1))) F c := by
  obtain ⟨b, f, k, h1, h2, h3, h4, h5, h6⟩ := h
  obtain ⟨hb, eB⟩ := h1 p hp hlp
  have hpq : p ≠ q := fun z => by rw [z, hlq] at hlp; exact Bool.false_ne_true hlp
  have hp0 := ct_ge1 (b := b) hp hlp
  have hle : qs_ct lv b (b p) 32 ≤ 32 := cn_le _ 32
  have chg := fun x => ct_chg (lv := lv) (lv' := sv_on lv q) (b := b) (b' := fun i => if i = q then b p else b i) hq (fun i _ hne => ⟨on_n hne, if_neg hne⟩) x
  have hf : ¬ lv q = true := by rw [hlq]; exact Bool.false_ne_true
  have chg0 : qs_ct (sv_on lv q) (fun i => if i = q then b p else b i) (b p) 32 = qs_ct lv b (b p) 32 + 1 := by
    have := chg (b p)
    rw [if_neg (fun z => hf z.1), if_pos ⟨on_s lv q, if_pos rfl⟩] at this
    exact this
  have chgn : ∀ x, x ≠ b p → qs_ct (sv_on lv q) (fun i => if i = q then b p else b i) x 32 = qs_ct lv b x 32 := by
    intro x hx
    have := chg x
    rw [if_neg (fun z => hf z.1), if_neg (fun z => by have := z.2; rw [if_pos rfl] at this; exact hx this.symm)] at this
    exact this
  refine ⟨b p, qs_ct lv b (b p) 32, hb, eB, by omega, h2 _ hb, (fun i => if i = q then b p else b i), f, k, ?_, ?_, h3, ?_, h5, ?_⟩
  · intro i hi hli
    (try dsimp only)
    by_cases e : i = q
    · rw [if_pos e, e, pk_us]; exact ⟨hb, rfl⟩
    · rw [if_neg e, pk_un e]
      rw [on_n e] at hli
      exact h1 i hi hli
  · intro x hx
    by_cases e : x = b p
    · rw [e, pk_us, chg0]
    · rw [pk_un e, chgn x e]; exact h2 x hx
  · intro i hi
    obtain ⟨g1, g2, g3⟩ := h4 i hi
    refine ⟨g1, g2, ?_⟩
    rw [chgn _ (fun z => by rw [z] at g3; omega)]
    exact g3
  · have hk : qs_cn (fun x => decide (0 < qs_ct (sv_on lv q) (fun i => if i = q then b p else b i) x 32)) 32 = qs_cn (fun x => decide (0 < qs_ct lv b x 32)) 32 := cn_congr (fun i _ => by
      by_cases e : i = b p
      · rw [e, chg0, decide_eq_true hp0, decide_eq_true (by omega)]
      · rw [chgn i e])
    rw [hk]; exact h6
/-- a block of its own: the block is the slot's alone, or a fresh one is taken -/
theorem sv_own {lv : Nat → Bool} {B R F : Nat → Int32} {c : Int32} (h : sv_LV lv B R F c) {j : Nat} (hj : j < 32) (hl : lv j = true) : ∃ b0 r, b0 < 32 ∧ B j = nI b0 ∧ r < 33 ∧ R b0 = nI r ∧
    (r ≤ 1 → ∀ i, i < 32 → lv i = true → i ≠ j → B i ≠ nI b0) ∧
    (1 < r → ∃ k x, c = nI (k + 1) ∧ k < 32 ∧ x < 32 ∧ F k = nI x ∧ sv_LV lv (upd B j (nI x)) (upd (upd R b0 (nI (r - 1))) x 1) F (nI k) ∧ ∀ i, i < 32 → lv i = true → i ≠ j → B i ≠ nI x) := by
  obtain ⟨b, f, k, h1, h2, h3, h4, h5, h6⟩ := h
  obtain ⟨hb, eB⟩ := h1 j hj hl
  have hle : qs_ct lv b (b j) 32 ≤ 32 := cn_le _ 32
  refine ⟨b j, qs_ct lv b (b j) 32, hb, eB, by omega, h2 _ hb, ?_, ?_⟩
  · intro hr i hi hli hne e
    rw [(h1 i hi hli).2, nI_eq (by have := (h1 i hi hli).1; omega) (by omega)] at e
    have := ct_ge2 hi hj hne hli hl e
    omega
  · intro hr
    have hsh := ct_share (M := 32) (fun i hi hli => (h1 i hi hli).1) hb hr
    have hcl := cn_le lv 32
    obtain ⟨k', rfl⟩ : ∃ k', k = k' + 1 := ⟨k - 1, by omega⟩
    obtain ⟨g1, g2, g3⟩ := h4 k' (by omega)
    have hxb : f k' ≠ b j := fun z => by rw [z] at g3; omega
    have chg := fun x => ct_chg (lv := lv) (lv' := lv) (b := b) (b' := fun i => if i = j then f k' else b i) hj (fun i _ hne => ⟨rfl, if_neg hne⟩) x
    have c1 : qs_ct lv (fun i => if i = j then f k' else b i) (b j) 32 + 1 = qs_ct lv b (b j) 32 := by
      have := chg (b j)
      rw [if_pos ⟨hl, rfl⟩, if_neg (fun z => by have := z.2; rw [if_pos rfl] at this; exact hxb this)] at this
      exact this
    have c2 : qs_ct lv (fun i => if i = j then f k' else b i) (f k') 32 = 1 := by
      have := chg (f k')
      rw [if_neg (fun z => hxb z.2.symm), if_pos ⟨hl, if_pos rfl⟩, g3] at this
      exact this
    have c3 : ∀ x, x ≠ b j → x ≠ f k' → qs_ct lv (fun i => if i = j then f k' else b i) x 32 = qs_ct lv b x 32 := by
      intro x hx1 hx2
      have := chg x
      rw [if_neg (fun z => hx1 z.2.symm), if_neg (fun z => by have := z.2; rw [if_pos rfl] at this; exact hx2 this.symm)] at this
      exact this
    have hkl : k' + 1 ≤ 32 := by omega
    refine ⟨k', f k', h3, by omega, g1, g2, ⟨(fun i => if i = j then f k' else b i), f, k', ?_, ?_, rfl, ?_, fun i i' hi hi' => h5 i i' (by omega) (by omega), ?_⟩, ?_⟩
    · intro i hi hli
      (try dsimp only)
      by_cases e : i = j
      · rw [if_pos e, e, pk_us]; exact ⟨g1, rfl⟩
      · rw [if_neg e, pk_un e]; exact h1 i hi hli
    · intro x hx
      by_cases e : x = f k'
      · rw [e, pk_us, c2]; rfl
      · rw [pk_un e]
        by_cases e2 : x = b j
        · rw [e2, pk_us]; exact congrArg nI (by omega)
        · rw [pk_un e2, c3 x e2 e]; exact h2 x hx
    · intro i hi
      obtain ⟨m1, m2, m3⟩ := h4 i (by omega)
      refine ⟨m1, m2, ?_⟩
      rw [c3 _ (fun z => by rw [z] at m3; omega) (fun z => by have := h5 i k' (by omega) (by omega) z; omega)]
      exact m3
    · have hk : qs_cn (fun x => decide (0 < qs_ct lv (fun i => if i = j then f k' else b i) x 32)) 32 = qs_cn (fun x => decide (0 < qs_ct lv b x 32)) 32 + 1 := by
        refine cn_set g1 (fun i _ hne => ?_) ?_ ?_
        · (try dsimp only)
          by_cases e : i = b j
          · rw [e, decide_eq_true (by omega), decide_eq_true (by omega)]
          · rw [c3 i e hne]
        · (try dsimp only); rw [g3]; rfl
        · (try dsimp only); rw [c2]; rfl
      omega
    · intro i hi hli hne e
      rw [(h1 i hi hli).2, nI_eq (by have := (h1 i hi hli).1; omega) (by omega)] at e
      have := ct_ge1 (b := b) hi hli
      rw [e] at this
      omega
/-- the first path alone -/
theorem sv_new {B R F : Nat → Int32} (hB : B 0 = 0) (hR0 : R 0 = 1) (hR : ∀ x, 0 < x → x < 32 → R x = 0) (hF : ∀ i, i < 31 → F i = nI (31 - i)) : sv_LV (fun j => decide (j = 0)) B R F (nI 31) := by
  have z0 : qs_ct (fun j => decide (j = 0)) (fun _ => 0) 0 32 = 1 := by decide +kernel
  have zn : ∀ x, x ≠ 0 → qs_ct (fun j => decide (j = 0)) (fun _ => 0) x 32 = 0 := by
    intro x hx
    refine cn_zero (fun i _ => ?_)
    (try dsimp only)
    rw [show ((0 : Nat) == x) = false by simp; omega, Bool.and_false]
  refine ⟨(fun _ => 0), (fun i => 31 - i), 31, ?_, ?_, rfl, ?_, ?_, ?_⟩
  · intro j _ hl
    have : j = 0 := of_decide_eq_true hl
    rw [this]
    exact ⟨by decide, hB⟩
  · intro x hx
    by_cases e : x = 0
    · rw [e, z0]; exact hR0
    · rw [zn x e]; exact hR x (by omega) hx
  · intro i hi
    exact ⟨show 31 - i < 32 by omega, hF i hi, zn _ (show 31 - i ≠ 0 by omega)⟩
  · intro i j hi hj e
    (try dsimp only at e)
    omega
  · have : qs_cn (fun x => decide (0 < qs_ct (fun j => decide (j = 0)) (fun _ => 0) x 32)) 32 = qs_cn (fun _ => false) 32 + 1 := by
      refine cn_set (i0 := 0) (by decide) (fun i _ hne => ?_) rfl ?_
      · (try dsimp only); rw [zn i hne]; rfl
      · (try dsimp only); rw [z0]; rfl
    rw [this, cn_zero (fun _ _ => rfl)]
/-! the slots -/
def sv_SL (lv : Nat → Bool) (S : Nat → Int32) (c : Int32) : Prop :=
  ∃ (f : Nat → Nat) (k : Nat), c = nI k ∧ (∀ i, i < k → f i < 32 ∧ S i = nI (f i) ∧ lv (f i) = false) ∧ (∀ i j, i < k → j < k → f i = f j → i = j) ∧ qs_cn lv 32 + k = 32
theorem sl_rel {lv : Nat → Bool} {S : Nat → Int32} {c : Int32} (h : sv_SL lv S c) {j : Nat} (hj : j < 32) (hl : lv j = true) : ∃ k, c = nI k ∧ k < 32 ∧ sv_SL (sv_off lv j) (upd S k (nI j)) (nI (k + 1)) := by
  obtain ⟨f, k, h1, h2, h3, h4⟩ := h
  have hc : qs_cn lv 32 = qs_cn (sv_off lv j) 32 + 1 := cn_set hj (fun i _ hne => (off_n hne).symm) (off_s lv j) hl
  refine ⟨k, h1, by omega, (fun i => if i = k then j else f i), k + 1, rfl, ?_, ?_, by omega⟩
  · intro i hi
    (try dsimp only)
    by_cases e : i = k
    · rw [if_pos e, e, pk_us]; exact ⟨hj, rfl, off_s lv j⟩
    · rw [if_neg e, pk_un e]
      obtain ⟨g1, g2, g3⟩ := h2 i (by omega)
      refine ⟨g1, g2, ?_⟩
      unfold sv_off
      split
      · rfl
      · exact g3
  · intro i i' hi hi' he
    (try dsimp only at he)
    by_cases e : i = k
    · by_cases e' : i' = k
      · omega
      · rw [if_pos e, if_neg e'] at he
        have := (h2 i' (by omega)).2.2
        rw [← he, hl] at this
        exact absurd this (by decide)
    · by_cases e' : i' = k
      · rw [if_neg e, if_pos e'] at he
        have := (h2 i (by omega)).2.2
        rw [he, hl] at this
        exact absurd this (by decide)
      · rw [if_neg e, if_neg e'] at he
        exact h3 i i' (by omega) (by omega) he
theorem sl_cln {lv : Nat → Bool} {S : Nat → Int32} {c : Int32} (h : sv_SL lv S c) (hc : qs_cn lv 32 < 32) : ∃ k q, c = nI (k + 1) ∧ k < 32 ∧ q < 32 ∧ S k = nI q ∧ lv q = false ∧ sv_SL (sv_on lv q) S (nI k) := by
  obtain ⟨f, k, h1, h2, h3, h4⟩ := h
  obtain ⟨k', rfl⟩ : ∃ k', k = k' + 1 := ⟨k - 1, by omega⟩
  obtain ⟨g1, g2, g3⟩ := h2 k' (by omega)
  have hc : qs_cn (sv_on lv (f k')) 32 = qs_cn lv 32 + 1 := cn_set g1 (fun i _ hne => on_n hne) g3 (on_s lv _)
  refine ⟨k', f k', h1, by omega, g1, g2, g3, f, k', rfl, ?_, fun i i' hi hi' => h3 i i' (by omega) (by omega), by omega⟩
  intro i hi
  obtain ⟨m1, m2, m3⟩ := h2 i (by omega)
  refine ⟨m1, m2, ?_⟩
  rw [on_n (fun z => by have := h3 i k' (by omega) (by omega) z; omega)]
  exact m3
theorem sl_new {S : Nat → Int32} (hS : ∀ i, i < 31 → S i = nI (31 - i)) : sv_SL (fun j => decide (j = 0)) S (nI 31) := by
  refine ⟨(fun i => 31 - i), 31, rfl, ?_, ?_, by decide +kernel⟩
  · intro i hi
    exact ⟨show 31 - i < 32 by omega, hS i hi, decide_eq_false (show ¬ 31 - i = 0 by omega)⟩
  · intro i j hi hj e
    (try dsimp only at e)
    omega
/-! the whole store: views by level -/
def sv_vw (a : Nat → Int32) (s : Nat) : Nat → Int32 := fun x => a (32 * s + x)
theorem vw_same (a : Nat → Int32) (s x : Nat) (v : Int32) : sv_vw (upd a (32 * s + x) v) s = upd (sv_vw a s) x v := by
  funext y
  unfold sv_vw upd
  by_cases e : y = x
  · rw [if_pos e, if_pos (by omega)]
  · rw [if_neg e, if_neg (by omega)]
theorem vw_other {a : Nat → Int32} {s s' x y : Nat} {v : Int32} (hs : s' ≠ s) (hx : x < 32) (hy : y < 32) : sv_vw (upd a (32 * s + x) v) s' y = sv_vw a s' y := by
  unfold sv_vw
  exact pk_un (by omega)
/-- the store's levels below n, level s with the live slots lv s -/
def sv_ST (n : Nat) (lv : Nat → Nat → Bool) (BO RF FB FC : Nat → Int32) : Prop := ∀ s, s < n → sv_LV (lv s) (sv_vw BO s) (sv_vw RF s) (sv_vw FB s) (FC s)
end
section
/-! the values' places, and the view of the memory by level and slot -/
def al_ix (s b k : Nat) : Nat := 32 * (2 ^ s - 1) + b * 2 ^ s + k
def al_vw (BO al : Nat → Int32) (s j k : Nat) : Int32 := al (al_ix s (BO (32 * s + j)).toNatClampNeg k)
theorem ix_lt {s b k : Nat} (hs : s ≤ 3) (hb : b < 32) (h3 : s = 3 → b = 0) (hk : k < 2 ^ s) : al_ix s b k < 232 := by
  unfold al_ix
  rcases (show s = 0 ∨ s = 1 ∨ s = 2 ∨ s = 3 by omega) with rfl | rfl | rfl | rfl
  · omega
  · omega
  · omega
  · have := h3 rfl
    omega
theorem ix_inj {s b k s' b' k' : Nat} (hs : s ≤ 3) (hb : b < 32) (hk : k < 2 ^ s) (hs' : s' ≤ 3) (hb' : b' < 32) (hk' : k' < 2 ^ s') (h : al_ix s b k = al_ix s' b' k') : s = s' ∧ b = b' ∧ k = k' := by
  unfold al_ix at h
  rcases (show s = 0 ∨ s = 1 ∨ s = 2 ∨ s = 3 by omega) with rfl | rfl | rfl | rfl <;> rcases (show s' = 0 ∨ s' = 1 ∨ s' = 2 ∨ s' = 3 by omega) with rfl | rfl | rfl | rfl <;> omega
theorem ix_above {s b b' : Nat} (hs : s ≤ 2) (hb : b < 32) : al_ix s b 0 + 2 ^ s ≤ al_ix (s + 1) b' 0 := by
  unfold al_ix
  rcases (show s = 0 ∨ s = 1 ∨ s = 2 by omega) with rfl | rfl | rfl <;> omega
theorem ix_k (s b k : Nat) : al_ix s b k = al_ix s b 0 + k := by unfold al_ix; omega
/-- what the store keeps: the levels below n, and zeros at the channel's level -/
def me_ok (n : Nat) (lv : Nat → Bool) (BO RF FB FC : Nat → Int32) : Prop := sv_ST n (fun _ => lv) BO RF FB FC ∧ ∀ j, j < 32 → BO (32 * n + j) = 0
theorem me_blk {n : Nat} {lv : Nat → Bool} {BO RF FB FC : Nat → Int32} (h : me_ok n lv BO RF FB FC) {s j : Nat} (hs : s ≤ n) (hj : j < 32) (hl : lv j = true) : ∃ b, b < 32 ∧ (s = n → b = 0) ∧ BO (32 * s + j) = nI b := by
  by_cases e : s = n
  · exact ⟨0, by decide, fun _ => rfl, by rw [e, h.2 j hj]; rfl⟩
  · obtain ⟨b, f, k, h1, _⟩ := h.1 s (by omega)
    exact ⟨b j, (h1 j hj hl).1, fun z => absurd z e, (h1 j hj hl).2⟩
/-- what taking an own block at level s for slot j gives -/
def ob_ok (lv : Nat → Bool) (s j b : Nat) (BO RF FB FC BO' RF' FC' : Nat → Int32) : Prop :=
  b < 32 ∧ BO' (32 * s + j) = nI b ∧ sv_LV lv (sv_vw BO' s) (sv_vw RF' s) (sv_vw FB s) (FC' s) ∧
  (∀ i, i < 32 → lv i = true → i ≠ j → BO' (32 * s + i) ≠ nI b) ∧
  (∀ s' i, i < 32 → (s' ≠ s ∨ i ≠ j) → BO' (32 * s' + i) = BO (32 * s' + i)) ∧
  (∀ s' x, x < 32 → s' ≠ s → RF' (32 * s' + x) = RF (32 * s' + x)) ∧
  (∀ s', s' ≠ s → FC' s' = FC s')
/-- the memory after a change of the view at (s, j) alone: it is v there -/
def ms_ok (n : Nat) (lv : Nat → Bool) (s j : Nat) (v : Nat → Int32) (FB BO al BO' RF' FC' al' : Nat → Int32) : Prop :=
  me_ok n lv BO' RF' FB FC' ∧ (∀ s' i k, s' ≤ n → i < 32 → lv i = true → (s' ≠ s ∨ i ≠ j) → k < 2 ^ s' → al_vw BO' al' s' i k = al_vw BO al s' i k) ∧ (∀ k, k < 2 ^ s → al_vw BO' al' s j k = v k)
theorem ms_of {n : Nat} {lv : Nat → Bool} {s j b : Nat} {v : Nat → Int32} {FB BO RF FC al BO' RF' FC' al' : Nat → Int32} (hn : n ≤ 3) (hs : s < n) (hj : j < 32) (hM : me_ok n lv BO RF FB FC) (hO : ob_ok lv s j b BO RF FB FC BO' RF' FC') (h1 : ∀ k, k < 2 ^ s → al' (al_ix s b k) = v k) (h2 : ∀ i, (i < al_ix s b 0 ∨ al_ix s b 0 + 2 ^ s ≤ i) → al' i = al i) : ms_ok n lv s j v FB BO al BO' RF' FC' al' := by
  obtain ⟨o1, o2, o3, o4, o5, o6, o7⟩ := hO
  refine ⟨⟨?_, ?_⟩, ?_, ?_⟩
  · intro s' hs'
    by_cases e : s' = s
    · rw [e]; exact o3
    · exact sv_cg (hM.1 s' hs') (fun x hx => o5 s' x hx (Or.inl e)) (fun x hx => o6 s' x hx e) (fun _ _ => rfl) (o7 s' e)
  · intro i hi
    rw [o5 n i hi (Or.inl (by omega))]
    exact hM.2 i hi
  · intro s' i k hs' hi hli hne hk
    have hB := o5 s' i hi hne
    obtain ⟨b', g1, g2, g3⟩ := me_blk hM hs' hi hli
    unfold al_vw
    rw [hB, g3, nI_clamp (by omega)]
    refine h2 _ ?_
    by_cases hc : al_ix s' b' k < al_ix s b 0
    · exact Or.inl hc
    · by_cases hd : al_ix s b 0 + 2 ^ s ≤ al_ix s' b' k
      · exact Or.inr hd
      · have e : al_ix s' b' k = al_ix s b (al_ix s' b' k - al_ix s b 0) := by
          rw [ix_k s b (al_ix s' b' k - al_ix s b 0)]; omega
        obtain ⟨e1, e2, _⟩ := ix_inj (by omega) g1 hk (by omega) o1 (by omega) e
        subst e1
        have hij : i ≠ j := by
          rcases hne with z | z
          · exact absurd rfl z
          · exact z
        exact absurd (by rw [hB, g3, e2]) (o4 i hi hli hij)
  · intro k hk
    unfold al_vw
    rw [o2, nI_clamp (by omega)]
    exact h1 k hk
end
section
/-! the ORDER as an order of numbers -/
def kz_rv (w : Nat) : Nat := (w / 2 ^ 0 % 2) * 128 + (w / 2 ^ 1 % 2) * 64 + (w / 2 ^ 2 % 2) * 32 + (w / 2 ^ 3 % 2) * 16 + (w / 2 ^ 4 % 2) * 8 + (w / 2 ^ 5 % 2) * 4 + (w / 2 ^ 6 % 2) * 2 + (w / 2 ^ 7 % 2) * 1
theorem rv_lin {a0 a1 a2 a3 a4 a5 a6 a7 b0 b1 b2 b3 b4 b5 b6 b7 i : Nat} (hi : i < 8) (u0 : a0 < 2) (u1 : a1 < 2) (u2 : a2 < 2) (u3 : a3 < 2) (u4 : a4 < 2) (u5 : a5 < 2) (u6 : a6 < 2) (u7 : a7 < 2) (v0 : b0 < 2) (v1 : b1 < 2) (v2 : b2 < 2) (v3 : b3 < 2) (v4 : b4 < 2) (v5 : b5 < 2) (v6 : b6 < 2) (v7 : b7 < 2)
    (e0 : 0 < i → a0 = b0) (e1 : 1 < i → a1 = b1) (e2 : 2 < i → a2 = b2) (e3 : 3 < i → a3 = b3) (e4 : 4 < i → a4 = b4) (e5 : 5 < i → a5 = b5) (e6 : 6 < i → a6 = b6)
    (z : (i = 0 → a0 = 0 ∧ b0 = 1) ∧ (i = 1 → a1 = 0 ∧ b1 = 1) ∧ (i = 2 → a2 = 0 ∧ b2 = 1) ∧ (i = 3 → a3 = 0 ∧ b3 = 1) ∧ (i = 4 → a4 = 0 ∧ b4 = 1) ∧ (i = 5 → a5 = 0 ∧ b5 = 1) ∧ (i = 6 → a6 = 0 ∧ b6 = 1) ∧ (i = 7 → a7 = 0 ∧ b7 = 1)) :
    a0 * 128 + a1 * 64 + a2 * 32 + a3 * 16 + a4 * 8 + a5 * 4 + a6 * 2 + a7 * 1 < b0 * 128 + b1 * 64 + b2 * 32 + b3 * 16 + b4 * 8 + b5 * 4 + b6 * 2 + b7 * 1 := by
  obtain ⟨z0, z1, z2, z3, z4, z5, z6, z7⟩ := z
  rcases (show i = 0 ∨ i = 1 ∨ i = 2 ∨ i = 3 ∨ i = 4 ∨ i = 5 ∨ i = 6 ∨ i = 7 by omega) with rfl | rfl | rfl | rfl | rfl | rfl | rfl | rfl
  · have y := z0 rfl; clear z0 z1 z2 z3 z4 z5 z6 z7 e0 e1 e2 e3 e4 e5 e6; omega
  · have y := z1 rfl; have x0 := e0 (by decide); clear z0 z1 z2 z3 z4 z5 z6 z7 e0 e1 e2 e3 e4 e5 e6; omega
  · have y := z2 rfl; have x0 := e0 (by decide); have x1 := e1 (by decide); clear z0 z1 z2 z3 z4 z5 z6 z7 e0 e1 e2 e3 e4 e5 e6; omega
  · have y := z3 rfl; have x0 := e0 (by decide); have x1 := e1 (by decide); have x2 := e2 (by decide); clear z0 z1 z2 z3 z4 z5 z6 z7 e0 e1 e2 e3 e4 e5 e6; omega
  · have y := z4 rfl; have x0 := e0 (by decide); have x1 := e1 (by decide); have x2 := e2 (by decide); have x3 := e3 (by decide); clear z0 z1 z2 z3 z4 z5 z6 z7 e0 e1 e2 e3 e4 e5 e6; omega
  · have y := z5 rfl; have x0 := e0 (by decide); have x1 := e1 (by decide); have x2 := e2 (by decide); have x3 := e3 (by decide); have x4 := e4 (by decide); clear z0 z1 z2 z3 z4 z5 z6 z7 e0 e1 e2 e3 e4 e5 e6; omega
  · have y := z6 rfl; have x0 := e0 (by decide); have x1 := e1 (by decide); have x2 := e2 (by decide); have x3 := e3 (by decide); have x4 := e4 (by decide); have x5 := e5 (by decide); clear z0 z1 z2 z3 z4 z5 z6 z7 e0 e1 e2 e3 e4 e5 e6; omega
  · have y := z7 rfl; have x0 := e0 (by decide); have x1 := e1 (by decide); have x2 := e2 (by decide); have x3 := e3 (by decide); have x4 := e4 (by decide); have x5 := e5 (by decide); have x6 := e6 (by decide); clear z0 z1 z2 z3 z4 z5 z6 z7 e0 e1 e2 e3 e4 e5 e6; omega
theorem rv_b2 (x : Nat) : x % 2 < 2 := Nat.mod_lt _ (by decide)
theorem rv_bnd {a0 a1 a2 a3 a4 a5 a6 a7 : Nat} (u0 : a0 < 2) (u1 : a1 < 2) (u2 : a2 < 2) (u3 : a3 < 2) (u4 : a4 < 2) (u5 : a5 < 2) (u6 : a6 < 2) (u7 : a7 < 2) : a0 * 128 + a1 * 64 + a2 * 32 + a3 * 16 + a4 * 8 + a5 * 4 + a6 * 2 + a7 * 1 < 256 := by omega
theorem rv_lt (w : Nat) : kz_rv w < 256 := rv_bnd (rv_b2 _) (rv_b2 _) (rv_b2 _) (rv_b2 _) (rv_b2 _) (rv_b2 _) (rv_b2 _) (rv_b2 _)
theorem rv_rv : ∀ w, w < 256 → kz_rv (kz_rv w) = w := by decide +kernel
theorem rv_less {p q i : Nat} (hi : i < 8) (h : ∀ j, j < i → p / 2 ^ j % 2 = q / 2 ^ j % 2) (h0 : p / 2 ^ i % 2 = 0) (h1 : q / 2 ^ i % 2 = 1) : kz_rv p < kz_rv q :=
  rv_lin hi (rv_b2 _) (rv_b2 _) (rv_b2 _) (rv_b2 _) (rv_b2 _) (rv_b2 _) (rv_b2 _) (rv_b2 _) (rv_b2 _) (rv_b2 _) (rv_b2 _) (rv_b2 _) (rv_b2 _) (rv_b2 _) (rv_b2 _) (rv_b2 _) (h 0) (h 1) (h 2) (h 3) (h 4) (h 5) (h 6)
    ⟨fun e => by subst e; exact ⟨h0, h1⟩, fun e => by subst e; exact ⟨h0, h1⟩, fun e => by subst e; exact ⟨h0, h1⟩, fun e => by subst e; exact ⟨h0, h1⟩, fun e => by subst e; exact ⟨h0, h1⟩, fun e => by subst e; exact ⟨h0, h1⟩, fun e => by subst e; exact ⟨h0, h1⟩, fun e => by subst e; exact ⟨h0, h1⟩⟩
theorem rv_bits {p q i : Nat} (hi : i < 8) (h : ∀ j, j < i → p.testBit j = q.testBit j) (h0 : p.testBit i = false) (h1 : q.testBit i = true) : kz_rv p < kz_rv q :=
  rv_less hi (fun j hj => by rw [tb_n, tb_n, h j hj]) (by rw [tb_n, h0]; rfl) (by rw [tb_n, h1]; rfl)
theorem kz_low : ∀ d, d < 256 → d ≠ 0 → ∃ i, i < 8 ∧ (nI d &&& -(nI d)) = nI (2 ^ i) ∧ d.testBit i = true ∧ ∀ j, j < i → d.testBit j = false := by decide +kernel
theorem kz_and : ∀ p, p < 256 → ∀ i, i < 8 → ((nI p &&& nI (2 ^ i)) = 0 ↔ p.testBit i = false) := by decide +kernel
/-- candidate c of cost and word: by its key -/
def kz_at (cost pre : Nat → Int32) (c K : Nat) : Prop := K < 2 ^ 28 ∧ cost c = nI (K / 256) ∧ pre c = nI (kz_rv (K % 256))
def kz_key (n : Nat) (so : Nat → Int32) (w m : Nat) : Nat := (dc_M n so w m).toNatClampNeg * 256 + kz_rv w
theorem M_nI {n : Nat} {so : Nat → Int32} (hn : n ≤ 3) (h : dc_so so) (w : Nat) {m : Nat} (hm : m ≤ 8) : (dc_M n so w m).toNatClampNeg < 64001 ∧ dc_M n so w m = nI (dc_M n so w m).toNatClampNeg := by
  obtain ⟨e, h1, h2⟩ := M_toInt hn h w m hm
  obtain ⟨x, hx, ex⟩ := nI_of (x := dc_M n so w m) (fun z => by
    have := Int32.lt_iff_toInt_lt.mp z
    rw [ia_0, e] at this
    omega)
  rw [ex, nI_toInt hx] at e
  rw [ex, nI_clamp hx]
  exact ⟨by omega, rfl⟩
theorem key_at {n : Nat} {so cost pre : Nat → Int32} {w m c : Nat} (hn : n ≤ 3) (h : dc_so so) (hm : m ≤ 8) (hw : w < 256) (h1 : cost c = dc_M n so w m) (h2 : pre c = nI w) : kz_at cost pre c (kz_key n so w m) := by
  obtain ⟨b, e⟩ := M_nI hn h w hm
  have hr := rv_lt w
  have e1 : kz_key n so w m / 256 = (dc_M n so w m).toNatClampNeg := by unfold kz_key; omega
  have e2 : kz_key n so w m % 256 = kz_rv w := by unfold kz_key; omega
  refine ⟨by unfold kz_key; omega, ?_, ?_⟩
  · rw [e1, ← e]; exact h1
  · rw [e2, rv_rv w hw]; exact h2
/-- the key's parts again -/
theorem key_cost {n : Nat} {so : Nat → Int32} {w m : Nat} (hn : n ≤ 3) (h : dc_so so) (hm : m ≤ 8) : nI (kz_key n so w m / 256) = dc_M n so w m := by
  obtain ⟨b, e⟩ := M_nI hn h w hm
  have hr := rv_lt w
  have e1 : kz_key n so w m / 256 = (dc_M n so w m).toNatClampNeg := by unfold kz_key; omega
  rw [e1, ← e]
theorem key_word {n : Nat} {so : Nat → Int32} {w m : Nat} (hw : w < 256) : kz_rv (kz_key n so w m % 256) = w := by
  have hr := rv_lt w
  have e2 : kz_key n so w m % 256 = kz_rv w := by unfold kz_key; omega
  rw [e2, rv_rv w hw]
/-- the next position -/
theorem M_next {n : Nat} {so : Nat → Int32} {w m b : Nat} (hm : m < 2 ^ n) (hw : w < 2 ^ m) (hb : b ≤ 1) : dc_M n so (w + 2 ^ m * b) (m + 1) = dc_pn (dc_M n so w m) (decide (b = 1)) (dc_nd n 0 so w m 0) := by
  have hag : dc_ag m (w + 2 ^ m * b) w := by
    intro j hj
    rw [Nat.add_comm, Nat.testBit_two_pow_mul_add _ hw, if_pos hj]
  have hbit : (w + 2 ^ m * b).testBit m = decide (b = 1) := by
    rw [Nat.add_comm, Nat.testBit_two_pow_mul_add _ hw, if_neg (by omega), Nat.sub_self]
    rcases (show b = 0 ∨ b = 1 by omega) with rfl | rfl <;> rfl
  show dc_pn (dc_M n so (w + 2 ^ m * b) m) ((w + 2 ^ m * b).testBit m) (dc_nd n 0 so (w + 2 ^ m * b) m 0) = _
  rw [dM_ag m (by omega) hag, hbit, nd_ag n 0 so _ w m m (by omega) rfl (by omega) (by omega) (by rw [Nat.pow_zero, Nat.div_one, Nat.mul_one]; exact hag)]
theorem w_next {w m b : Nat} (hw : w < 2 ^ m) (hb : b ≤ 1) : w + 2 ^ m * b < 2 ^ (m + 1) := by
  rw [Nat.pow_succ]
  rcases (show b = 0 ∨ b = 1 by omega) with rfl | rfl <;> omega
/-- both comparisons, by the keys -/
theorem key_lt {k l : Nat} : k < l ↔ (k / 256 < l / 256 ∨ (k / 256 = l / 256 ∧ k % 256 < l % 256)) := by omega
end
section
/-! X: small methods -/
section
variable {f_levels f_length f_fullMask f_listSize f_checkLength f_checkMask f_polynomial f_freeMask f_oneMask f_freeCount f_position f_pathTotal f_least f_freeSlotCount f_candTotal : Int32} {a_soft a_rankSlot a_prefix a_metric a_freeSlots a_alpha a_blockOf a_refs a_freeBlocks a_freeBlockCount a_leftSum a_candCost a_candPrefix a_candSlot a_candOrder a_uses : Nat → Int32}
theorem bi_if {α : Type} {c : Prop} [Decidable c] {P : α → Prop} {a b : α} {A B : Prop} (h : P (if c then a else b)) (f : P a → A) (g : P b → B) : (c → A) ∧ (¬ c → B) := ⟨fun z => f (by rw [if_pos z] at h; exact h), fun z => g (by rw [if_neg z] at h; exact h)⟩
theorem x_clamp {post : Int32 → Prop} {u : SX} {p0 p1 p2 : Int32} (h : post (dc_cl p0 p1 p2)) : wpX_clamp post u p0 p1 p2 := by
  obtain ⟨f_levels, f_length, f_fullMask, f_listSize, f_checkLength, f_checkMask, f_polynomial, f_freeMask, f_oneMask, f_freeCount, f_position, f_pathTotal, f_least, f_freeSlotCount, f_candTotal, a_soft, a_rankSlot, a_prefix, a_metric, a_freeSlots, a_alpha, a_blockOf, a_refs, a_freeBlocks, a_freeBlockCount, a_leftSum, a_candCost, a_candPrefix, a_candSlot, a_candOrder, a_uses⟩ := u
  exact bi_if (P := post) h (fun h => bi_if (P := post) h id id) id
theorem x_isPos {post : Int32 → Prop} {p0 : Int32} {N : Nat} (hN : N < 2 ^ 31) (hL : f_length = nI N) (h0 : (∀ j, j < N → p0 ≠ nI j) → post 0) (h1 : ∀ j, j < N → p0 = nI j → post 1) : wpX_isPosition post (f_levels, f_length, f_fullMask, f_listSize, f_checkLength, f_checkMask, f_polynomial, f_freeMask, f_oneMask, f_freeCount, f_position, f_pathTotal, f_least, f_freeSlotCount, f_candTotal, a_soft, a_rankSlot, a_prefix, a_metric, a_freeSlots, a_alpha, a_blockOf, a_refs, a_freeBlocks, a_freeBlockCount, a_leftSum, a_candCost, a_candPrefix, a_candSlot, a_candOrder, a_uses) p0 := by
  subst hL
  unfold wpX_isPosition
  (try dsimp only)
  rcases pk_ix p0 hN with h | h | ⟨j, hj, rfl⟩
  · exact br_t h (h0 (fun j hj e => by rw [e] at h; exact nI_pos (by omega) h))
  · have hz : ¬ p0 < 0 := fun z => by
      have a := ia_le.mp h
      have b := Int32.lt_iff_toInt_lt.mp z
      rw [nI_toInt hN] at a
      rw [ia_0] at b
      omega
    exact br_f hz (br_t h (h0 (fun j hj e => by rw [e] at h; exact nI_ge hj hN h)))
  · exact br_f (nI_pos (by omega)) (br_f (nI_ge hj hN) (h1 j hj rfl))
theorem x_isRank {post : Int32 → Prop} {p0 : Int32} {N : Nat} (hN : N < 2 ^ 31) (hL : f_pathTotal = nI N) (h0 : (∀ j, j < N → p0 ≠ nI j) → post 0) (h1 : ∀ j, j < N → p0 = nI j → post 1) : wpX_isRank post (f_levels, f_length, f_fullMask, f_listSize, f_checkLength, f_checkMask, f_polynomial, f_freeMask, f_oneMask, f_freeCount, f_position, f_pathTotal, f_least, f_freeSlotCount, f_candTotal, a_soft, a_rankSlot, a_prefix, a_metric, a_freeSlots, a_alpha, a_blockOf, a_refs, a_freeBlocks, a_freeBlockCount, a_leftSum, a_candCost, a_candPrefix, a_candSlot, a_candOrder, a_uses) p0 := by
  subst hL
  unfold wpX_isRank
  (try dsimp only)
  rcases pk_ix p0 hN with h | h | ⟨j, hj, rfl⟩
  · exact br_t h (h0 (fun j hj e => by rw [e] at h; exact nI_pos (by omega) h))
  · have hz : ¬ p0 < 0 := fun z => by
      have a := ia_le.mp h
      have b := Int32.lt_iff_toInt_lt.mp z
      rw [nI_toInt hN] at a
      rw [ia_0] at b
      omega
    exact br_f hz (br_t h (h0 (fun j hj e => by rw [e] at h; exact nI_ge hj hN h)))
  · exact br_f (nI_pos (by omega)) (br_f (nI_ge hj hN) (h1 j hj rfl))
theorem x_usable {post : Int32 → Prop} {A C : Nat} (hA : A < 2 ^ 31) (hC : C < 2 ^ 31) (eA : f_freeCount = nI A) (eC : f_checkLength = nI C) (h0 : A ≤ C → post 0) (h1 : C < A → post 1) : wpX_usable post (f_levels, f_length, f_fullMask, f_listSize, f_checkLength, f_checkMask, f_polynomial, f_freeMask, f_oneMask, f_freeCount, f_position, f_pathTotal, f_least, f_freeSlotCount, f_candTotal, a_soft, a_rankSlot, a_prefix, a_metric, a_freeSlots, a_alpha, a_blockOf, a_refs, a_freeBlocks, a_freeBlockCount, a_leftSum, a_candCost, a_candPrefix, a_candSlot, a_candOrder, a_uses) := by
  subst eA eC
  exact pk_le A C h0 h1
/-- number of ones among the low bits -/
def dc_pc (w : Nat) (i : Nat) : Nat := qs_cn (fun j => w.testBit j) i
theorem x_countOnes {post : Int32 → Prop} {w : Nat} (h : post (nI (dc_pc w 8))) : wpX_countOnes post (f_levels, f_length, f_fullMask, f_listSize, f_checkLength, f_checkMask, f_polynomial, f_freeMask, f_oneMask, f_freeCount, f_position, f_pathTotal, f_least, f_freeSlotCount, f_candTotal, a_soft, a_rankSlot, a_prefix, a_metric, a_freeSlots, a_alpha, a_blockOf, a_refs, a_freeBlocks, a_freeBlockCount, a_leftSum, a_candCost, a_candPrefix, a_candSlot, a_candOrder, a_uses) (nI w) := by
  unfold wpX_countOnes
  (try dsimp only)
  refine pk_loop (fun n i (s : Int32) => wX_countOnes_4 post (nI w) f_levels f_length f_fullMask f_listSize f_checkLength f_checkMask f_polynomial f_freeMask f_oneMask f_freeCount f_position f_pathTotal f_least f_freeSlotCount f_candTotal a_soft a_rankSlot a_prefix a_metric a_freeSlots a_alpha a_blockOf a_refs a_freeBlocks a_freeBlockCount a_leftSum a_candCost a_candPrefix a_candSlot a_candOrder a_uses n s (nI i)) (fun i s => s = nI (dc_pc w i)) 8 0 0 (by omega) rfl ?_ ?_
  · intro n s hs
    exact br_t (by decide) (by rw [hs]; exact h)
  · intro n i s hi hs k
    refine br_f (nI_ge (b := 8) hi (by decide)) (nm_r (e' := nI (dc_pc w (i + 1))) ?_ (nm_r (nI_1 i) (k _ rfl)))
    rw [hs, wk_b (by omega), nI_add]
    rfl
theorem x_ms35 {post : Int32 → Prop} {x1 x2 z : Int32} (h : post (if (0 ≤ x1 ↔ 0 ≤ x2) then z else -z)) : wX_minSum_35 post x1 x2 z f_levels f_length f_fullMask f_listSize f_checkLength f_checkMask f_polynomial f_freeMask f_oneMask f_freeCount f_position f_pathTotal f_least f_freeSlotCount f_candTotal a_soft a_rankSlot a_prefix a_metric a_freeSlots a_alpha a_blockOf a_refs a_freeBlocks a_freeBlockCount a_leftSum a_candCost a_candPrefix a_candSlot a_candOrder a_uses := by
  by_cases h1 : 0 ≤ x1
  · by_cases h2 : 0 ≤ x2
    · rw [if_pos ⟨fun _ => h2, fun _ => h1⟩] at h
      exact br_t h1 (br_t h2 (br_t rfl h))
    · rw [if_neg (fun z => h2 (z.mp h1))] at h
      exact br_t h1 (br_f h2 (br_f (by decide) h))
  · by_cases h2 : 0 ≤ x2
    · rw [if_neg (fun z => h1 (z.mpr h2))] at h
      exact br_f h1 (br_t h2 (br_f (by decide) h))
    · rw [if_pos ⟨fun z => absurd z h1, fun z => absurd z h2⟩] at h
      exact br_f h1 (br_f h2 (br_t rfl h))
theorem x_minSum {post : Int32 → Prop} {p0 p1 : Int32} (h : post (dc_ms p0 p1)) : wpX_minSum post (f_levels, f_length, f_fullMask, f_listSize, f_checkLength, f_checkMask, f_polynomial, f_freeMask, f_oneMask, f_freeCount, f_position, f_pathTotal, f_least, f_freeSlotCount, f_candTotal, a_soft, a_rankSlot, a_prefix, a_metric, a_freeSlots, a_alpha, a_blockOf, a_refs, a_freeBlocks, a_freeBlockCount, a_leftSum, a_candCost, a_candPrefix, a_candSlot, a_candOrder, a_uses) p0 p1 := by
  have h21 : ∀ a b : Int32, post (if (0 ≤ p0 ↔ 0 ≤ p1) then dc_mn a b else -(dc_mn a b)) → wX_minSum_21 post p0 p1 a b f_levels f_length f_fullMask f_listSize f_checkLength f_checkMask f_polynomial f_freeMask f_oneMask f_freeCount f_position f_pathTotal f_least f_freeSlotCount f_candTotal a_soft a_rankSlot a_prefix a_metric a_freeSlots a_alpha a_blockOf a_refs a_freeBlocks a_freeBlockCount a_leftSum a_candCost a_candPrefix a_candSlot a_candOrder a_uses := by
    intro a b hh
    unfold dc_mn at hh
    by_cases e : b ≤ a
    · rw [if_pos e] at hh
      exact br_t e (x_ms35 hh)
    · rw [if_neg e] at hh
      exact br_f e (x_ms35 hh)
  unfold dc_ms dc_ab at h
  unfold wpX_minSum
  (try dsimp only)
  by_cases h0 : 0 ≤ p0 <;> by_cases h1 : 0 ≤ p1
  · rw [if_pos h0, if_pos h1] at h
    exact br_t h0 (br_t h1 (h21 _ _ h))
  · rw [if_pos h0, if_neg h1] at h
    exact br_t h0 (br_f h1 (h21 _ _ h))
  · rw [if_neg h0, if_pos h1] at h
    exact br_f h0 (br_t h1 (h21 _ _ h))
  · rw [if_neg h0, if_neg h1] at h
    exact br_f h0 (br_f h1 (h21 _ _ h))
theorem x_leaf {post : Int32 → Prop} {j b : Nat} (hj : j < 32) (hb : b < 32) (hB : a_blockOf (32 * 0 + j) = nI b) (h : post (al_vw a_blockOf a_alpha 0 j 0)) : wpX_leafValue post (f_levels, f_length, f_fullMask, f_listSize, f_checkLength, f_checkMask, f_polynomial, f_freeMask, f_oneMask, f_freeCount, f_position, f_pathTotal, f_least, f_freeSlotCount, f_candTotal, a_soft, a_rankSlot, a_prefix, a_metric, a_freeSlots, a_alpha, a_blockOf, a_refs, a_freeBlocks, a_freeBlockCount, a_leftSum, a_candCost, a_candPrefix, a_candSlot, a_candOrder, a_uses) (nI j) := by
  have hB' : a_blockOf j = nI b := by rw [← hB]; congr 1; omega
  unfold wpX_leafValue
  (try dsimp only)
  refine ⟨vp_in_nI (by omega) (by decide), ?_⟩
  rw [nI_clamp (by omega), hB', nI_clamp (by omega)]
  refine ⟨vp_in_nI (by omega) (by decide), ?_⟩
  unfold al_vw al_ix at h
  rw [hB, nI_clamp (by omega)] at h
  have e : 32 * (2 ^ 0 - 1) + b * 2 ^ 0 + 0 = b := by omega
  rw [e] at h
  exact h
end
end
section
/-! X: blocks and steps of the tree -/
section
variable {f_levels f_length f_fullMask f_listSize f_checkLength f_checkMask f_polynomial f_freeMask f_oneMask f_freeCount f_position f_pathTotal f_least f_freeSlotCount f_candTotal : Int32} {a_soft a_rankSlot a_prefix a_metric a_freeSlots a_alpha a_blockOf a_refs a_freeBlocks a_freeBlockCount a_leftSum a_candCost a_candPrefix a_candSlot a_candOrder a_uses : Nat → Int32}
theorem x_blockStart {post : Int32 → Prop} {s j b : Nat} (hs : s ≤ 3) (hj : j < 32) (hb : b < 32) (hB : a_blockOf (32 * s + j) = nI b) (h : post (nI (al_ix s b 0))) : wpX_blockStart post (f_levels, f_length, f_fullMask, f_listSize, f_checkLength, f_checkMask, f_polynomial, f_freeMask, f_oneMask, f_freeCount, f_position, f_pathTotal, f_least, f_freeSlotCount, f_candTotal, a_soft, a_rankSlot, a_prefix, a_metric, a_freeSlots, a_alpha, a_blockOf, a_refs, a_freeBlocks, a_freeBlockCount, a_leftSum, a_candCost, a_candPrefix, a_candSlot, a_candOrder, a_uses) (nI s) (nI j) := by
  have hp : 2 ^ s ≤ 8 := dc_two8 hs
  have hp0 : 0 < 2 ^ s := Nat.two_pow_pos s
  have hbp : b * 2 ^ s ≤ 31 * 8 := Nat.mul_le_mul (by omega) hp
  unfold wpX_blockStart
  (try dsimp only)
  refine nm_r (e' := nI (32 * (2 ^ s - 1))) (by rw [wk_mk (by omega), wk_s5 (by omega)]) ?_
  rw [wk_s5 (by omega), nI_add]
  refine ⟨vp_in_nI (by omega) (by decide), ?_⟩
  rw [nI_clamp (by omega), hB, wk_shl (by omega) (by omega), nI_add]
  exact h
theorem x_own94 {post : Int32 → SX → Prop} {s j b : Nat} (hs : s ≤ 3) (hj : j < 32) (hb : b < 32) (hB : a_blockOf (32 * s + j) = nI b) (h : post (nI (al_ix s b 0)) (f_levels, f_length, f_fullMask, f_listSize, f_checkLength, f_checkMask, f_polynomial, f_freeMask, f_oneMask, f_freeCount, f_position, f_pathTotal, f_least, f_freeSlotCount, f_candTotal, a_soft, a_rankSlot, a_prefix, a_metric, a_freeSlots, a_alpha, a_blockOf, a_refs, a_freeBlocks, a_freeBlockCount, a_leftSum, a_candCost, a_candPrefix, a_candSlot, a_candOrder, a_uses)) : wX_ownBlock_94 post (nI s) (nI j) f_levels f_length f_fullMask f_listSize f_checkLength f_checkMask f_polynomial f_freeMask f_oneMask f_freeCount f_position f_pathTotal f_least f_freeSlotCount f_candTotal a_soft a_rankSlot a_prefix a_metric a_freeSlots a_alpha a_blockOf a_refs a_freeBlocks a_freeBlockCount a_leftSum a_candCost a_candPrefix a_candSlot a_candOrder a_uses :=
  x_blockStart (post := fun r => post r (f_levels, f_length, f_fullMask, f_listSize, f_checkLength, f_checkMask, f_polynomial, f_freeMask, f_oneMask, f_freeCount, f_position, f_pathTotal, f_least, f_freeSlotCount, f_candTotal, a_soft, a_rankSlot, a_prefix, a_metric, a_freeSlots, a_alpha, a_blockOf, a_refs, a_freeBlocks, a_freeBlockCount, a_leftSum, a_candCost, a_candPrefix, a_candSlot, a_candOrder, a_uses)) hs hj hb hB h
theorem x_ownBlock {post : Int32 → SX → Prop} {lv : Nat → Bool} {s j : Nat} (hs : s < 3) (hj : j < 32) (hl : lv j = true) (hL : sv_LV lv (sv_vw a_blockOf s) (sv_vw a_refs s) (sv_vw a_freeBlocks s) (a_freeBlockCount s)) (h : ∀ b BO' RF' FC', ob_ok lv s j b a_blockOf a_refs a_freeBlocks a_freeBlockCount BO' RF' FC' → post (nI (al_ix s b 0)) (f_levels, f_length, f_fullMask, f_listSize, f_checkLength, f_checkMask, f_polynomial, f_freeMask, f_oneMask, f_freeCount, f_position, f_pathTotal, f_least, f_freeSlotCount, f_candTotal, a_soft, a_rankSlot, a_prefix, a_metric, a_freeSlots, a_alpha, BO', RF', a_freeBlocks, FC', a_leftSum, a_candCost, a_candPrefix, a_candSlot, a_candOrder, a_uses)) : wpX_ownBlock post (f_levels, f_length, f_fullMask, f_listSize, f_checkLength, f_checkMask, f_polynomial, f_freeMask, f_oneMask, f_freeCount, f_position, f_pathTotal, f_least, f_freeSlotCount, f_candTotal, a_soft, a_rankSlot, a_prefix, a_metric, a_freeSlots, a_alpha, a_blockOf, a_refs, a_freeBlocks, a_freeBlockCount, a_leftSum, a_candCost, a_candPrefix, a_candSlot, a_candOrder, a_uses) (nI s) (nI j) := by
  obtain ⟨b0, r, hb0, eB, hr, eR, hle, hgt⟩ := sv_own hL hj hl
  have eB' : a_blockOf (32 * s + j) = nI b0 := eB
  have eR' : a_refs (32 * s + b0) = nI r := eR
  unfold wpX_ownBlock
  (try dsimp only)
  refine nm_r (wk_s5 (by omega)) ?_
  rw [nI_add]
  refine ⟨vp_in_nI (by omega) (by decide), ?_⟩
  refine nm_r (e' := nI b0) (by rw [nI_clamp (by omega)]; exact eB') ?_
  have hi : nI (32 * s) + nI b0 = nI (32 * s + b0) := nI_add _ _
  have hc : (nI (32 * s) + nI b0).toNatClampNeg = 32 * s + b0 := by rw [hi]; exact nI_clamp (by omega)
  refine ⟨pk_in (32 * s + b0) 96 (by omega) hi, ?_⟩
  rw [hc, eR']
  by_cases hr1 : r ≤ 1
  · refine br_t (nI_le (b := 1) hr1 (by decide)) (x_own94 (by omega) hj hb0 eB' (h b0 a_blockOf a_refs a_freeBlockCount ⟨hb0, eB', hL, hle hr1, fun _ _ _ _ => rfl, fun _ _ _ _ => rfl, fun _ _ => rfl⟩))
  · obtain ⟨k, x, eC, hk, hx, eF, hLV, hne⟩ := hgt (by omega)
    have eF' : a_freeBlocks (32 * s + k) = nI x := eF
    have hxs : vp_in (nI s) 3 := vp_in_nI hs (by decide)
    have hcs : (nI s).toNatClampNeg = s := nI_clamp (by omega)
    have hb96 : vp_in (nI (32 * s) + nI b0) 96 := pk_in (32 * s + b0) 96 (by omega) hi
    have hx' : nI (32 * s) + nI x = nI (32 * s + x) := nI_add _ _
    have hxc : (nI (32 * s) + nI x).toNatClampNeg = 32 * s + x := by rw [hx']; exact nI_clamp (by omega)
    have hk' : nI (32 * s) + nI k = nI (32 * s + k) := nI_add _ _
    have hkc : (nI (32 * s) + nI k).toNatClampNeg = 32 * s + k := by rw [hk']; exact nI_clamp (by omega)
    refine br_f (nI_ge (a := 1) (by omega) (by omega)) ⟨hxs, ?_⟩
    rw [hcs, eC]
    refine br_f (nI_ge (a := 0) (by omega) (by omega)) ⟨hb96, hb96, ?_⟩
    refine nm_r (e' := upd a_refs (32 * s + b0) (nI (r - 1))) (by rw [wk_pm1 (by omega)]) ⟨hxs, hxs, ?_⟩
    refine nm_r (e' := upd a_freeBlockCount s (nI k)) (by rw [nI_pred]) ⟨hxs, ?_⟩
    rw [pk_us]
    refine ⟨pk_in (32 * s + k) 96 (by omega) hk', nm_r (e' := nI x) (by rw [hkc]; exact eF') ⟨pk_in (32 * s + x) 96 (by omega) hx', ?_⟩⟩
    refine nm_r (e' := upd (upd a_refs (32 * s + b0) (nI (r - 1))) (32 * s + x) 1) (by rw [hxc]) ?_
    refine ⟨vp_in_nI (by omega) (by decide), ?_⟩
    refine nm_r (e' := upd a_blockOf (32 * s + j) (nI x)) (by rw [nI_clamp (by omega)]) ?_
    refine x_own94 (by omega) hj hx pk_us (h x _ _ _ ⟨hx, pk_us, ?_, ?_, ?_, ?_, ?_⟩)
    · rw [vw_same, vw_same, vw_same, pk_us]; exact hLV
    · intro i hi hli hij
      rw [pk_un (by omega)]
      exact hne i hi hli hij
    · intro s' i hi hor
      exact pk_un (by omega)
    · intro s' y hy hs'
      rw [pk_un (by omega), pk_un (by omega)]
    · intro s' hs'
      exact pk_un hs'
/-- the loop of stepLeft -/
theorem x_left25 {post : SX → Prop} {S T z : Nat} (hTS : T + z ≤ S) (hS : S + 2 * z ≤ 232) (al : Nat → Int32)
    (h : ∀ al', (∀ k, k < z → al' (T + k) = dc_ms (al (S + k)) (al (S + z + k))) → (∀ i, (i < T ∨ T + z ≤ i) → al' i = al i) → post (f_levels, f_length, f_fullMask, f_listSize, f_checkLength, f_checkMask, f_polynomial, f_freeMask, f_oneMask, f_freeCount, f_position, f_pathTotal, f_least, f_freeSlotCount, f_candTotal, a_soft, a_rankSlot, a_prefix, a_metric, a_freeSlots, al', a_blockOf, a_refs, a_freeBlocks, a_freeBlockCount, a_leftSum, a_candCost, a_candPrefix, a_candSlot, a_candOrder, a_uses)) :
    ∀ d k n al', k + d = z → d < n → (∀ k', k' < k → al' (T + k') = dc_ms (al (S + k')) (al (S + z + k'))) → (∀ i, (i < T ∨ T + k ≤ i) → al' i = al i) → wX_stepLeft_25 post (nI S) (nI T) (nI z) f_levels f_length f_fullMask f_listSize f_checkLength f_checkMask f_polynomial f_freeMask f_oneMask f_freeCount f_position f_pathTotal f_least f_freeSlotCount f_candTotal n (nI k) a_soft a_rankSlot a_prefix a_metric a_freeSlots al' a_blockOf a_refs a_freeBlocks a_freeBlockCount a_leftSum a_candCost a_candPrefix a_candSlot a_candOrder a_uses := by
  intro d
  induction d with
  | zero =>
    intro k n al' hk hn h1 h2
    obtain ⟨n, rfl⟩ : ∃ n', n = n' + 1 := ⟨n - 1, by omega⟩
    have e : k = z := by omega
    subst e
    exact br_t (Int32.le_refl _) (h al' h1 h2)
  | succ d ih =>
    intro k n al' hk hn h1 h2
    obtain ⟨n, rfl⟩ : ∃ n', n = n' + 1 := ⟨n - 1, by omega⟩
    unfold wX_stepLeft_25
    refine br_f (nI_ge (by omega) (by omega)) ?_
    rw [nI_add, nI_add, nI_add, nI_add]
    refine ⟨vp_in_nI (by omega) (by decide), vp_in_nI (by omega) (by decide), ?_⟩
    rw [nI_clamp (by omega), nI_clamp (by omega)]
    refine x_minSum ⟨vp_in_nI (by omega) (by decide), ?_⟩
    rw [nI_clamp (by omega)]
    refine nm_e (nm_r (nI_1 k) (ih (k + 1) n _ (by omega) (by omega) ?_ ?_))
    · intro k' hk'
      by_cases e : k' = k
      · rw [e, pk_us, h2 _ (by omega), h2 _ (by omega)]
      · rw [pk_un (by omega)]; exact h1 k' (by omega)
    · intro i hi
      rw [pk_un (by omega)]
      exact h2 i (by omega)
theorem x_right37 {post : SX → Prop} {S T z L : Nat} (hz : z ≤ 8) (hTS : T + z ≤ S) (hS : S + 2 * z ≤ 232) (al : Nat → Int32)
    (h : ∀ al', (∀ k, k < z → al' (T + k) = if L.testBit k then al (S + z + k) - al (S + k) else al (S + z + k) + al (S + k)) → (∀ i, (i < T ∨ T + z ≤ i) → al' i = al i) → post (f_levels, f_length, f_fullMask, f_listSize, f_checkLength, f_checkMask, f_polynomial, f_freeMask, f_oneMask, f_freeCount, f_position, f_pathTotal, f_least, f_freeSlotCount, f_candTotal, a_soft, a_rankSlot, a_prefix, a_metric, a_freeSlots, al', a_blockOf, a_refs, a_freeBlocks, a_freeBlockCount, a_leftSum, a_candCost, a_candPrefix, a_candSlot, a_candOrder, a_uses)) :
    ∀ d k n al', k + d = z → d < n → (∀ k', k' < k → al' (T + k') = if L.testBit k' then al (S + z + k') - al (S + k') else al (S + z + k') + al (S + k')) → (∀ i, (i < T ∨ T + k ≤ i) → al' i = al i) → wX_stepRight_37 post (nI S) (nI T) (nI z) (nI L) f_levels f_length f_fullMask f_listSize f_checkLength f_checkMask f_polynomial f_freeMask f_oneMask f_freeCount f_position f_pathTotal f_least f_freeSlotCount f_candTotal n (nI k) a_soft a_rankSlot a_prefix a_metric a_freeSlots al' a_blockOf a_refs a_freeBlocks a_freeBlockCount a_leftSum a_candCost a_candPrefix a_candSlot a_candOrder a_uses := by
  intro d
  induction d with
  | zero =>
    intro k n al' hk hn h1 h2
    obtain ⟨n, rfl⟩ : ∃ n', n = n' + 1 := ⟨n - 1, by omega⟩
    have e : k = z := by omega
    subst e
    exact br_t (Int32.le_refl _) (h al' h1 h2)
  | succ d ih =>
    intro k n al' hk hn h1 h2
    obtain ⟨n, rfl⟩ : ∃ n', n = n' + 1 := ⟨n - 1, by omega⟩
    have go : ∀ v, v = (if L.testBit k then al (S + z + k) - al (S + k) else al (S + z + k) + al (S + k)) → wX_stepRight_37 post (nI S) (nI T) (nI z) (nI L) f_levels f_length f_fullMask f_listSize f_checkLength f_checkMask f_polynomial f_freeMask f_oneMask f_freeCount f_position f_pathTotal f_least f_freeSlotCount f_candTotal n (nI (k + 1)) a_soft a_rankSlot a_prefix a_metric a_freeSlots (upd al' (T + k) v) a_blockOf a_refs a_freeBlocks a_freeBlockCount a_leftSum a_candCost a_candPrefix a_candSlot a_candOrder a_uses := by
      intro v hv
      refine ih (k + 1) n _ (by omega) (by omega) ?_ ?_
      · intro k' hk'
        by_cases e : k' = k
        · rw [e, pk_us]; exact hv
        · rw [pk_un (by omega)]; exact h1 k' (by omega)
      · intro i hi
        rw [pk_un (by omega)]
        exact h2 i (by omega)
    unfold wX_stepRight_37
    refine br_f (nI_ge (by omega) (by omega)) ?_
    rw [nI_add, nI_add, nI_add, nI_add]
    refine ⟨vp_in_nI (by omega) (by decide), nm_r (e' := al (S + k)) (by rw [nI_clamp (by omega)]; exact h2 _ (by omega)) ⟨vp_in_nI (by omega) (by decide), nm_r (e' := al (S + z + k)) (by rw [nI_clamp (by omega)]; exact h2 _ (by omega)) ?_⟩⟩
    rw [nI_clamp (by omega)]
    by_cases hb : L.testBit k = true
    · exact br_t ((wk_b1 (by omega)).mpr hb) ⟨vp_in_nI (by omega) (by decide), nm_e (nm_r (nI_1 k) (go _ (by rw [if_pos hb])))⟩
    · exact br_f (fun z => hb ((wk_b1 (by omega)).mp z)) ⟨vp_in_nI (by omega) (by decide), nm_e (nm_r (nI_1 k) (go _ (by rw [if_neg hb])))⟩
theorem x_stepLeft {post : SX → Prop} {lv : Nat → Bool} {n s j : Nat} (hn : n ≤ 3) (hs : s < n) (hj : j < 32) (hl : lv j = true) (hM : me_ok n lv a_blockOf a_refs a_freeBlocks a_freeBlockCount)
    (h : ∀ BO' RF' FC' al', ms_ok n lv s j (dc_fL s (al_vw a_blockOf a_alpha (s + 1) j)) a_freeBlocks a_blockOf a_alpha BO' RF' FC' al' → post (f_levels, f_length, f_fullMask, f_listSize, f_checkLength, f_checkMask, f_polynomial, f_freeMask, f_oneMask, f_freeCount, f_position, f_pathTotal, f_least, f_freeSlotCount, f_candTotal, a_soft, a_rankSlot, a_prefix, a_metric, a_freeSlots, al', BO', RF', a_freeBlocks, FC', a_leftSum, a_candCost, a_candPrefix, a_candSlot, a_candOrder, a_uses)) : wpX_stepLeft post (f_levels, f_length, f_fullMask, f_listSize, f_checkLength, f_checkMask, f_polynomial, f_freeMask, f_oneMask, f_freeCount, f_position, f_pathTotal, f_least, f_freeSlotCount, f_candTotal, a_soft, a_rankSlot, a_prefix, a_metric, a_freeSlots, a_alpha, a_blockOf, a_refs, a_freeBlocks, a_freeBlockCount, a_leftSum, a_candCost, a_candPrefix, a_candSlot, a_candOrder, a_uses) (nI s) (nI j) := by
  obtain ⟨b1, hb1, hz1, eB1⟩ := me_blk hM (s := s + 1) (by omega) hj hl
  have hp : 2 ^ s ≤ 4 := Nat.pow_le_pow_right (n := 2) (by decide) (show s ≤ 2 by omega)
  have hp2 : 2 ^ (s + 1) = 2 * 2 ^ s := by omega
  have hp0 : 0 < 2 ^ s := Nat.two_pow_pos s
  unfold wpX_stepLeft
  (try dsimp only)
  rw [nI_1]
  refine x_blockStart (by omega) hj hb1 eB1 ?_
  refine x_ownBlock (by omega) hj hl (hM.1 s hs) ?_
  intro b BO' RF' FC' hO
  (try dsimp only)
  refine nm_r (wk_1s (by omega)) ⟨2 ^ s + 1, ?_⟩
  have hTS := ix_above (s := s) (b := b) (b' := b1) (by omega) hO.1
  have hS : al_ix (s + 1) b1 0 + 2 * 2 ^ s ≤ 232 := by
    have := ix_lt (s := s + 1) (b := b1) (k := 2 ^ (s + 1) - 1) (by omega) hb1 (fun z => hz1 (by omega)) (by omega)
    rw [ix_k] at this
    omega
  refine x_left25 hTS hS a_alpha ?_ (2 ^ s) 0 _ a_alpha (by omega) (by omega) (fun k hk => by omega) (fun _ _ => rfl)
  intro al' h1 h2
  refine h BO' RF' FC' al' (ms_of hn hs hj hM hO ?_ h2)
  intro k hk
  rw [ix_k, h1 k hk]
  unfold dc_fL al_vw
  rw [eB1, nI_clamp (by omega), ix_k (s + 1) b1 k, ix_k (s + 1) b1 (2 ^ s + k), Nat.add_assoc]
theorem x_stepRight {post : SX → Prop} {lv : Nat → Bool} {n s j L : Nat} (hn : n ≤ 3) (hs : s < n) (hj : j < 32) (hl : lv j = true) (hM : me_ok n lv a_blockOf a_refs a_freeBlocks a_freeBlockCount) (hLS : a_leftSum (32 * s + j) = nI L)
    (h : ∀ BO' RF' FC' al', ms_ok n lv s j (dc_fR s (al_vw a_blockOf a_alpha (s + 1) j) L) a_freeBlocks a_blockOf a_alpha BO' RF' FC' al' → post (f_levels, f_length, f_fullMask, f_listSize, f_checkLength, f_checkMask, f_polynomial, f_freeMask, f_oneMask, f_freeCount, f_position, f_pathTotal, f_least, f_freeSlotCount, f_candTotal, a_soft, a_rankSlot, a_prefix, a_metric, a_freeSlots, al', BO', RF', a_freeBlocks, FC', a_leftSum, a_candCost, a_candPrefix, a_candSlot, a_candOrder, a_uses)) : wpX_stepRight post (f_levels, f_length, f_fullMask, f_listSize, f_checkLength, f_checkMask, f_polynomial, f_freeMask, f_oneMask, f_freeCount, f_position, f_pathTotal, f_least, f_freeSlotCount, f_candTotal, a_soft, a_rankSlot, a_prefix, a_metric, a_freeSlots, a_alpha, a_blockOf, a_refs, a_freeBlocks, a_freeBlockCount, a_leftSum, a_candCost, a_candPrefix, a_candSlot, a_candOrder, a_uses) (nI s) (nI j) := by
  obtain ⟨b1, hb1, hz1, eB1⟩ := me_blk hM (s := s + 1) (by omega) hj hl
  have hp : 2 ^ s ≤ 4 := Nat.pow_le_pow_right (n := 2) (by decide) (show s ≤ 2 by omega)
  have hp2 : 2 ^ (s + 1) = 2 * 2 ^ s := by omega
  have hp0 : 0 < 2 ^ s := Nat.two_pow_pos s
  unfold wpX_stepRight
  (try dsimp only)
  rw [nI_1]
  refine x_blockStart (by omega) hj hb1 eB1 ?_
  refine x_ownBlock (by omega) hj hl (hM.1 s hs) ?_
  intro b BO' RF' FC' hO
  (try dsimp only)
  refine nm_r (wk_1s (by omega)) ?_
  rw [wk_s5 (by omega), nI_add]
  refine ⟨vp_in_nI (by omega) (by decide), nm_r (e' := nI L) (by rw [nI_clamp (by omega)]; exact hLS) ⟨2 ^ s + 1, ?_⟩⟩
  have hTS := ix_above (s := s) (b := b) (b' := b1) (by omega) hO.1
  have hS : al_ix (s + 1) b1 0 + 2 * 2 ^ s ≤ 232 := by
    have := ix_lt (s := s + 1) (b := b1) (k := 2 ^ (s + 1) - 1) (by omega) hb1 (fun z => hz1 (by omega)) (by omega)
    rw [ix_k] at this
    omega
  refine x_right37 (by omega) hTS hS a_alpha ?_ (2 ^ s) 0 _ a_alpha (by omega) (by omega) (fun k hk => by omega) (fun _ _ => rfl)
  intro al' h1 h2
  refine h BO' RF' FC' al' (ms_of hn hs hj hM hO ?_ h2)
  intro k hk
  rw [ix_k, h1 k hk]
  unfold dc_fR al_vw
  rw [eB1, nI_clamp (by omega), ix_k (s + 1) b1 k, ix_k (s + 1) b1 (2 ^ s + k), Nat.add_assoc]
end
end
section
/-! X: the leaf values brought to the position now -/
def pv_at (n : Nat) (so : Nat → Int32) (w m : Nat) (BO al : Nat → Int32) (j s : Nat) : Prop := ∀ k, k < 2 ^ s → al_vw BO al s j k = dc_nd n s so w m k
def pv_pre (n : Nat) (so : Nat → Int32) (w m : Nat) (BO al : Nat → Int32) (j : Nat) : Prop := ∀ s, s ≤ n → (s = n ∨ m % 2 ^ s ≠ 0) → pv_at n so w m BO al j s
def pv_all (n : Nat) (so : Nat → Int32) (w m : Nat) (BO al : Nat → Int32) (j : Nat) : Prop := ∀ s, s ≤ n → pv_at n so w m BO al j s
/-- the other slots' views stay -/
def pv_oth (n : Nat) (lv : Nat → Bool) (j : Nat) (BO al BO' al' : Nat → Int32) : Prop := ∀ s' i k, s' ≤ n → i < 32 → lv i = true → i ≠ j → k < 2 ^ s' → al_vw BO' al' s' i k = al_vw BO al s' i k
def ls_ok (n w m : Nat) (LS : Nat → Int32) (j : Nat) : Prop := ∀ s, s < n → m / 2 ^ s % 2 = 1 → LS (32 * s + j) = nI (dc_EN s (w / 2 ^ ((m / 2 ^ s - 1) * 2 ^ s)))
theorem md_s (m t : Nat) : m % 2 ^ (t + 1) = m % 2 ^ t + 2 ^ t * (m / 2 ^ t % 2) := by rw [Nat.pow_succ, Nat.mod_mul]
theorem md_d {a b m : Nat} (h : a ≤ b) (hb : m % 2 ^ b = 0) : m % 2 ^ a = 0 := by
  rw [← Nat.mod_mod_of_dvd m (Nat.pow_dvd_pow 2 h), hb, Nat.zero_mod]
theorem oth_of {n s j : Nat} {lv : Nat → Bool} {v FB BO al BO' RF' FC' al' : Nat → Int32} (h : ms_ok n lv s j v FB BO al BO' RF' FC' al') : pv_oth n lv j BO al BO' al' := fun s' i k hs hi hl hne hk => h.2.1 s' i k hs hi hl (Or.inr hne) hk
theorem oth_tr {n j : Nat} {lv : Nat → Bool} {BO al BO1 al1 BO2 al2 : Nat → Int32} (h1 : pv_oth n lv j BO al BO1 al1) (h2 : pv_oth n lv j BO1 al1 BO2 al2) : pv_oth n lv j BO al BO2 al2 := fun s' i k hs hi hl hne hk => (h2 s' i k hs hi hl hne hk).trans (h1 s' i k hs hi hl hne hk)
theorem pt_keep {n m w j s t : Nat} {so : Nat → Int32} {lv : Nat → Bool} {v FB BO al BO' RF' FC' al' : Nat → Int32} (hj : j < 32) (hl : lv j = true) (h : ms_ok n lv s j v FB BO al BO' RF' FC' al') (ht : t ≤ n) (hne : t ≠ s) (hp : pv_at n so w m BO al j t) : pv_at n so w m BO' al' j t := fun k hk => (h.2.1 t j k ht hj hl (Or.inl hne) hk).trans (hp k hk)
theorem pt_left {n m w j t : Nat} {so : Nat → Int32} {lv : Nat → Bool} {FB BO al BO' RF' FC' al' : Nat → Int32} (hn : n ≤ 3) (ht : t < n) (hm : m < 2 ^ n) (he : m / 2 ^ t % 2 = 0) (hp : pv_at n so w m BO al j (t + 1)) (h : ms_ok n lv t j (dc_fL t (al_vw BO al (t + 1) j)) FB BO al BO' RF' FC' al') : pv_at n so w m BO' al' j t := by
  intro k hk
  have e : 2 ^ (t + 1) = 2 ^ t + 2 ^ t := by omega
  rw [h.2.2 k hk, nd_step n t so w m ht hn hm, if_pos he]
  unfold dc_fL
  rw [hp k (by omega), hp (2 ^ t + k) (by omega)]
theorem pt_right {n m w j t : Nat} {so : Nat → Int32} {lv : Nat → Bool} {FB BO al BO' RF' FC' al' : Nat → Int32} (hn : n ≤ 3) (ht : t < n) (hm : m < 2 ^ n) (he : m / 2 ^ t % 2 = 1) (hp : pv_at n so w m BO al j (t + 1)) (h : ms_ok n lv t j (dc_fR t (al_vw BO al (t + 1) j) (dc_EN t (w / 2 ^ ((m / 2 ^ t - 1) * 2 ^ t)))) FB BO al BO' RF' FC' al') : pv_at n so w m BO' al' j t := by
  intro k hk
  have e : 2 ^ (t + 1) = 2 ^ t + 2 ^ t := by omega
  rw [h.2.2 k hk, nd_step n t so w m ht hn hm, if_neg (by omega)]
  unfold dc_fR
  rw [hp k (by omega), hp (2 ^ t + k) (by omega)]
section
variable {f_levels f_length f_fullMask f_listSize f_checkLength f_checkMask f_polynomial f_freeMask f_oneMask f_freeCount f_position f_pathTotal f_least f_freeSlotCount f_candTotal : Int32} {a_soft a_rankSlot a_prefix a_metric a_freeSlots a_alpha a_blockOf a_refs a_freeBlocks a_freeBlockCount a_leftSum a_candCost a_candPrefix a_candSlot a_candOrder a_uses : Nat → Int32}
theorem x_rp53 {post : SX → Prop} {lv : Nat → Bool} {n m w j : Nat} {so : Nat → Int32} (hn : n ≤ 3) (hm : m < 2 ^ n) (hj : j < 32) (hl : lv j = true) (BO0 al0 : Nat → Int32)
    (h : ∀ BO' RF' FC' al', me_ok n lv BO' RF' a_freeBlocks FC' → pv_all n so w m BO' al' j → pv_oth n lv j BO0 al0 BO' al' → post (f_levels, f_length, f_fullMask, f_listSize, f_checkLength, f_checkMask, f_polynomial, f_freeMask, f_oneMask, f_freeCount, f_position, f_pathTotal, f_least, f_freeSlotCount, f_candTotal, a_soft, a_rankSlot, a_prefix, a_metric, a_freeSlots, al', BO', RF', a_freeBlocks, FC', a_leftSum, a_candCost, a_candPrefix, a_candSlot, a_candOrder, a_uses)) :
    ∀ t fuel BO RF FC al, t ≤ n → t < fuel → m % 2 ^ t = 0 → me_ok n lv BO RF a_freeBlocks FC → (∀ s, t ≤ s → s ≤ n → pv_at n so w m BO al j s) → pv_oth n lv j BO0 al0 BO al → wX_refreshPath_53 post (nI j) fuel (nI t - 1) f_levels f_length f_fullMask f_listSize f_checkLength f_checkMask f_polynomial f_freeMask f_oneMask f_freeCount f_position f_pathTotal f_least f_freeSlotCount f_candTotal a_soft a_rankSlot a_prefix a_metric a_freeSlots al BO RF a_freeBlocks FC a_leftSum a_candCost a_candPrefix a_candSlot a_candOrder a_uses := by
  intro t
  induction t with
  | zero =>
    intro fuel BO RF FC al ht hf hmt hM hv ho
    obtain ⟨fuel, rfl⟩ : ∃ n', fuel = n' + 1 := ⟨fuel - 1, by omega⟩
    exact br_t (by decide) (h BO RF FC al hM (fun s hs => hv s (by omega) hs) ho)
  | succ t ih =>
    intro fuel BO RF FC al ht hf hmt hM hv ho
    obtain ⟨fuel, rfl⟩ : ∃ n', fuel = n' + 1 := ⟨fuel - 1, by omega⟩
    have hms := md_s m t
    rw [hmt] at hms
    have hp0 : 0 < 2 ^ t := Nat.two_pow_pos t
    have h0 : m % 2 ^ t = 0 := by omega
    have h1 : m / 2 ^ t % 2 = 0 := by
      rcases Nat.mod_two_eq_zero_or_one (m / 2 ^ t) with z | z
      · exact z
      · rw [z] at hms; omega
    rw [nI_pred]
    unfold wX_refreshPath_53
    refine br_f (nI_pos (by omega)) ?_
    refine x_stepLeft hn (by omega) hj hl hM ?_
    intro BO' RF' FC' al' hok
    (try dsimp only)
    refine nm_r (Int32.sub_eq_add_neg _ _).symm ?_
    refine ih fuel BO' RF' FC' al' (by omega) (by omega) h0 hok.1 ?_ (oth_tr ho (oth_of hok))
    intro s hs hsn
    by_cases e : s = t
    · subst e
      exact pt_left hn (by omega) hm h1 (hv (s + 1) (by omega) (by omega)) hok
    · exact pt_keep hj hl hok hsn e (hv s (by omega) hsn)
theorem x_rp34 {post : SX → Prop} {lv : Nat → Bool} {n m w j s : Nat} {so : Nat → Int32} (hn : n ≤ 3) (hm : m < 2 ^ n) (hj : j < 32) (hl : lv j = true) (hM : me_ok n lv a_blockOf a_refs a_freeBlocks a_freeBlockCount) (hL : f_levels = nI n) (hP : pv_pre n so w m a_blockOf a_alpha j) (hLS : ls_ok n w m a_leftSum j)
    (h : ∀ BO' RF' FC' al', me_ok n lv BO' RF' a_freeBlocks FC' → pv_all n so w m BO' al' j → pv_oth n lv j a_blockOf a_alpha BO' al' → post (f_levels, f_length, f_fullMask, f_listSize, f_checkLength, f_checkMask, f_polynomial, f_freeMask, f_oneMask, f_freeCount, f_position, f_pathTotal, f_least, f_freeSlotCount, f_candTotal, a_soft, a_rankSlot, a_prefix, a_metric, a_freeSlots, al', BO', RF', a_freeBlocks, FC', a_leftSum, a_candCost, a_candPrefix, a_candSlot, a_candOrder, a_uses))
    (hs : s ≤ n) (hms : m % 2 ^ s = 0) (hsb : s = n ∨ m / 2 ^ s % 2 = 1) : wX_refreshPath_34 post (nI j) (nI s) f_levels f_length f_fullMask f_listSize f_checkLength f_checkMask f_polynomial f_freeMask f_oneMask f_freeCount f_position f_pathTotal f_least f_freeSlotCount f_candTotal a_soft a_rankSlot a_prefix a_metric a_freeSlots a_alpha a_blockOf a_refs a_freeBlocks a_freeBlockCount a_leftSum a_candCost a_candPrefix a_candSlot a_candOrder a_uses := by
  subst hL
  unfold wX_refreshPath_34
  by_cases e : s = n
  · subst e
    refine br_t (Int32.le_refl _) (nm_e ⟨s + 1, ?_⟩)
    refine x_rp53 hn hm hj hl a_blockOf a_alpha h s (s + 1) a_blockOf a_refs a_freeBlockCount a_alpha (Nat.le_refl _) (by omega) hms hM ?_ (fun _ _ _ _ _ _ _ _ => rfl)
    intro s' h1 h2
    exact hP s' h2 (Or.inl (by omega))
  · have hb : m / 2 ^ s % 2 = 1 := by
      rcases hsb with z | z
      · exact absurd z e
      · exact z
    have hpre : ∀ s', s < s' → s' ≤ n → pv_at n so w m a_blockOf a_alpha j s' := by
      intro s' h1 h2
      refine hP s' h2 (Or.inr (fun z => ?_))
      have h3 := md_d (a := s + 1) h1 z
      have h4 := md_s m s
      have hp0 : 0 < 2 ^ s := Nat.two_pow_pos s
      rw [hb] at h4
      omega
    refine br_f (nI_ge (by omega) (by omega)) ?_
    refine x_stepRight hn (by omega) hj hl hM (hLS s (by omega) hb) ?_
    intro BO' RF' FC' al' hok
    (try dsimp only)
    refine nm_e ⟨s + 1, ?_⟩
    refine x_rp53 hn hm hj hl a_blockOf a_alpha h s (s + 1) BO' RF' FC' al' (by omega) (by omega) hms hok.1 ?_ (oth_of hok)
    intro s' h1 h2
    by_cases e' : s' = s
    · subst e'
      exact pt_right hn (by omega) hm hb (hpre (s' + 1) (by omega) (by omega)) hok
    · exact pt_keep hj hl hok h2 e' (hpre s' (by omega) h2)
theorem x_refreshPath {post : SX → Prop} {lv : Nat → Bool} {n m w j : Nat} {so : Nat → Int32} (hn : n ≤ 3) (hm : m < 2 ^ n) (hj : j < 32) (hl : lv j = true) (hM : me_ok n lv a_blockOf a_refs a_freeBlocks a_freeBlockCount) (hL : f_levels = nI n) (hP : pv_pre n so w m a_blockOf a_alpha j) (hLS : ls_ok n w m a_leftSum j)
    (h : ∀ BO' RF' FC' al', me_ok n lv BO' RF' a_freeBlocks FC' → pv_all n so w m BO' al' j → pv_oth n lv j a_blockOf a_alpha BO' al' → post (f_levels, f_length, f_fullMask, f_listSize, f_checkLength, f_checkMask, f_polynomial, f_freeMask, f_oneMask, f_freeCount, f_position, f_pathTotal, f_least, f_freeSlotCount, f_candTotal, a_soft, a_rankSlot, a_prefix, a_metric, a_freeSlots, al', BO', RF', a_freeBlocks, FC', a_leftSum, a_candCost, a_candPrefix, a_candSlot, a_candOrder, a_uses)) : wpX_refreshPath post (f_levels, f_length, f_fullMask, f_listSize, f_checkLength, f_checkMask, f_polynomial, f_freeMask, f_oneMask, f_freeCount, f_position, f_pathTotal, f_least, f_freeSlotCount, f_candTotal, a_soft, a_rankSlot, a_prefix, a_metric, a_freeSlots, a_alpha, a_blockOf, a_refs, a_freeBlocks, a_freeBlockCount, a_leftSum, a_candCost, a_candPrefix, a_candSlot, a_candOrder, a_uses) (nI j) (nI m) := by
  have h8 := dc_two8 hn
  have go : ∀ d s fuel, s + d = n → d < fuel → m % 2 ^ s = 0 → wX_refreshPath_5 post (nI j) (nI m) f_levels f_length f_fullMask f_listSize f_checkLength f_checkMask f_polynomial f_freeMask f_oneMask f_freeCount f_position f_pathTotal f_least f_freeSlotCount f_candTotal a_soft a_rankSlot a_prefix a_metric a_freeSlots a_alpha a_blockOf a_refs a_freeBlocks a_freeBlockCount a_leftSum a_candCost a_candPrefix a_candSlot a_candOrder a_uses fuel (nI s) (nI s) := by
    intro d
    induction d with
    | zero =>
      intro s fuel hs hf hms
      obtain ⟨fuel, rfl⟩ : ∃ n', fuel = n' + 1 := ⟨fuel - 1, by omega⟩
      have e : s = n := by omega
      refine br_t (by rw [hL, e]; exact Int32.le_refl _) (x_rp34 hn hm hj hl hM hL hP hLS h (by omega) hms (Or.inl e))
    | succ d ih =>
      intro s fuel hs hf hms
      obtain ⟨fuel, rfl⟩ : ∃ n', fuel = n' + 1 := ⟨fuel - 1, by omega⟩
      unfold wX_refreshPath_5
      refine br_f (by rw [hL]; exact nI_ge (by omega) (by omega)) ?_
      have ht := tb_n m s
      by_cases hb : m.testBit s = true
      · rw [hb] at ht
        exact br_f (fun z => by rw [wk_b0 (by omega)] at z; rw [z] at hb; exact Bool.false_ne_true hb) (x_rp34 hn hm hj hl hM hL hP hLS h (by omega) hms (Or.inr ht))
      · have hb' : m.testBit s = false := by cases hq : m.testBit s with
          | true => exact absurd hq hb
          | false => rfl
        rw [hb'] at ht
        have h4 := md_s m s
        rw [ht, hms] at h4
        exact br_t ((wk_b0 (by omega)).mpr hb') (nm_r (nI_1 s) (nm_r (nI_1 s) (ih (s + 1) fuel (by omega) (by omega) (by rw [h4]; rfl))))
  unfold wpX_refreshPath
  (try dsimp only)
  exact ⟨n + 1, go n 0 (n + 1) (by omega) (by omega) (Nat.mod_one m)⟩
theorem x_refreshAll {post : SX → Prop} {lv : Nat → Bool} {n m T : Nat} {so : Nat → Int32} {w sg : Nat → Nat} (hn : n ≤ 3) (hm : m < 2 ^ n) (hT : T ≤ 32) (hL : f_levels = nI n) (hTo : f_pathTotal = nI T) (hPo : f_position = nI m)
    (hsg : ∀ r, r < T → sg r < 32 ∧ lv (sg r) = true ∧ a_rankSlot r = nI (sg r)) (hinj : ∀ r r', r < T → r' < T → sg r = sg r' → r = r') (hM : me_ok n lv a_blockOf a_refs a_freeBlocks a_freeBlockCount)
    (hP : ∀ r, r < T → pv_pre n so (w r) m a_blockOf a_alpha (sg r)) (hLS : ∀ r, r < T → ls_ok n (w r) m a_leftSum (sg r))
    (h : ∀ BO' RF' FC' al', me_ok n lv BO' RF' a_freeBlocks FC' → (∀ r, r < T → pv_all n so (w r) m BO' al' (sg r)) → post (f_levels, f_length, f_fullMask, f_listSize, f_checkLength, f_checkMask, f_polynomial, f_freeMask, f_oneMask, f_freeCount, f_position, f_pathTotal, f_least, f_freeSlotCount, f_candTotal, a_soft, a_rankSlot, a_prefix, a_metric, a_freeSlots, al', BO', RF', a_freeBlocks, FC', a_leftSum, a_candCost, a_candPrefix, a_candSlot, a_candOrder, a_uses)) : wpX_refreshAll post (f_levels, f_length, f_fullMask, f_listSize, f_checkLength, f_checkMask, f_polynomial, f_freeMask, f_oneMask, f_freeCount, f_position, f_pathTotal, f_least, f_freeSlotCount, f_candTotal, a_soft, a_rankSlot, a_prefix, a_metric, a_freeSlots, a_alpha, a_blockOf, a_refs, a_freeBlocks, a_freeBlockCount, a_leftSum, a_candCost, a_candPrefix, a_candSlot, a_candOrder, a_uses) := by
  have go : ∀ d r fuel BO RF FC al, r + d = T → d < fuel → me_ok n lv BO RF a_freeBlocks FC → (∀ r', r' < r → pv_all n so (w r') m BO al (sg r')) → (∀ r', r ≤ r' → r' < T → pv_pre n so (w r') m BO al (sg r')) → wX_refreshAll_2 post fuel (nI r) f_levels f_length f_fullMask f_listSize f_checkLength f_checkMask f_polynomial f_freeMask f_oneMask f_freeCount f_position f_pathTotal f_least f_freeSlotCount f_candTotal a_soft a_rankSlot a_prefix a_metric a_freeSlots al BO RF a_freeBlocks FC a_leftSum a_candCost a_candPrefix a_candSlot a_candOrder a_uses := by
    intro d
    induction d with
    | zero =>
      intro r fuel BO RF FC al hr hf hM h1 h2
      obtain ⟨fuel, rfl⟩ : ∃ n', fuel = n' + 1 := ⟨fuel - 1, by omega⟩
      have e : r = T := by omega
      subst e
      exact br_t (by rw [hTo]; exact Int32.le_refl _) (h BO RF FC al hM h1)
    | succ d ih =>
      intro r fuel BO RF FC al hr hf hM h1 h2
      obtain ⟨fuel, rfl⟩ : ∃ n', fuel = n' + 1 := ⟨fuel - 1, by omega⟩
      obtain ⟨s1, s2, s3⟩ := hsg r (by omega)
      unfold wX_refreshAll_2
      refine br_f (by rw [hTo]; exact nI_ge (by omega) (by omega)) ⟨vp_in_nI (by omega) (by decide), ?_⟩
      rw [nI_clamp (by omega), s3, hPo]
      refine x_refreshPath hn hm s1 s2 hM hL (h2 r (Nat.le_refl _) (by omega)) (hLS r (by omega)) ?_
      intro BO' RF' FC' al' hM' hv ho
      (try dsimp only)
      refine nm_r (nI_1 r) ?_
      rw [← hPo]
      refine ih (r + 1) fuel BO' RF' FC' al' (by omega) (by omega) hM' ?_ ?_
      · intro r' hr'
        by_cases e : r' = r
        · rw [e]; exact hv
        · obtain ⟨q1, q2, _⟩ := hsg r' (by omega)
          intro s hs k hk
          rw [ho s (sg r') k hs q1 q2 (fun z => e (hinj r' r (by omega) (by omega) z)) hk]
          exact h1 r' (by omega) s hs k hk
      · intro r' hr' hr2
        obtain ⟨q1, q2, _⟩ := hsg r' hr2
        intro s hs hc k hk
        rw [ho s (sg r') k hs q1 q2 (fun z => by have := hinj r' r hr2 (by omega) z; omega) hk]
        exact h2 r' (by omega) hr2 s hs hc k hk
  unfold wpX_refreshAll
  (try dsimp only)
  exact ⟨T + 1, go T 0 (T + 1) a_blockOf a_refs a_freeBlockCount a_alpha (by omega) (by omega) hM (fun r' hr' => by omega) (fun r' _ hr2 => hP r' hr2)⟩
end
end
section
/-! X: the candidates of one step, sorted by insertion -/
/-- t candidates with the keys K from the slots sl; ord: the order -/
def ca_ok (t : Nat) (K sl ord : Nat → Nat) (cost pre slot order : Nat → Int32) : Prop :=
  (∀ c, c < t → kz_at cost pre c (K c) ∧ slot c = nI (sl c)) ∧ (∀ i, i < t → ord i < t ∧ order i = nI (ord i)) ∧ (∀ i j, i ≤ j → j < t → K (ord i) ≤ K (ord j)) ∧ (∀ g : Nat → Nat, qs_sm (fun i => g (K (ord i))) t = qs_sm (fun i => g (K i)) t)
section
variable {f_levels f_length f_fullMask f_listSize f_checkLength f_checkMask f_polynomial f_freeMask f_oneMask f_freeCount f_position f_pathTotal f_least f_freeSlotCount f_candTotal : Int32} {a_soft a_rankSlot a_prefix a_metric a_freeSlots a_alpha a_blockOf a_refs a_freeBlocks a_freeBlockCount a_leftSum a_candCost a_candPrefix a_candSlot a_candOrder a_uses : Nat → Int32}
theorem x_before {post : Int32 → Prop} {a b ka kb : Nat} (ha : a < 64) (hb : b < 64) (ea : kz_at a_candCost a_candPrefix a ka) (eb : kz_at a_candCost a_candPrefix b kb) (h : post (if ka < kb then 1 else 0)) : wpX_comesBefore post (f_levels, f_length, f_fullMask, f_listSize, f_checkLength, f_checkMask, f_polynomial, f_freeMask, f_oneMask, f_freeCount, f_position, f_pathTotal, f_least, f_freeSlotCount, f_candTotal, a_soft, a_rankSlot, a_prefix, a_metric, a_freeSlots, a_alpha, a_blockOf, a_refs, a_freeBlocks, a_freeBlockCount, a_leftSum, a_candCost, a_candPrefix, a_candSlot, a_candOrder, a_uses) (nI a) (nI b) := by
  obtain ⟨a1, a2, a3⟩ := ea
  obtain ⟨b1, b2, b3⟩ := eb
  have va : vp_in (nI a) 64 := vp_in_nI ha (by decide)
  have vb : vp_in (nI b) 64 := vp_in_nI hb (by decide)
  have ra := rv_lt (ka % 256)
  have rb := rv_lt (kb % 256)
  unfold wpX_comesBefore
  dsimp only
  rw [nI_clamp (show a < 2 ^ 31 by omega), nI_clamp (show b < 2 ^ 31 by omega), a2, b2, a3, b3]
  refine ⟨va, vb, ?_⟩
  refine pk_eq (ka / 256) (kb / 256) (fun e => ⟨va, vb, ?_⟩) (fun e => ⟨va, vb, ?_⟩)
  · refine nm_r (nx_xor _ _) (nm_e ?_)
    by_cases hd : kz_rv (ka % 256) ^^^ kz_rv (kb % 256) = 0
    · have he : kz_rv (ka % 256) = kz_rv (kb % 256) := Nat.eq_of_testBit_eq (fun i => by
        have := congrArg (fun x => Nat.testBit x i) hd
        simp only [Nat.testBit_xor, Nat.zero_testBit] at this
        cases h1 : (kz_rv (ka % 256)).testBit i <;> cases h2 : (kz_rv (kb % 256)).testBit i <;> rw [h1, h2] at this <;> first | rfl | exact absurd this (by decide))
      have he2 : ka % 256 = kb % 256 := by rw [← rv_rv (ka % 256) (by omega), he, rv_rv (kb % 256) (by omega)]
      rw [if_neg (by omega)] at h
      rw [hd]
      exact br_t (by decide) h
    · have hlt : kz_rv (ka % 256) ^^^ kz_rv (kb % 256) < 256 := Nat.xor_lt_two_pow (n := 8) ra rb
      obtain ⟨i, hi, e1, e2, e3⟩ := kz_low _ hlt hd
      rw [e1]
      have hp : 2 ^ i < 2 ^ 31 := Nat.pow_lt_pow_right (by decide) (by omega)
      refine br_f (nI_ne0 (Nat.two_pow_pos i) hp) ⟨va, ?_⟩
      rw [Nat.testBit_xor] at e2
      have e4 : ∀ j, j < i → (kz_rv (ka % 256)).testBit j = (kz_rv (kb % 256)).testBit j := by
        intro j hj
        have := e3 j hj
        rw [Nat.testBit_xor] at this
        cases h1 : (kz_rv (ka % 256)).testBit j <;> cases h2 : (kz_rv (kb % 256)).testBit j <;> rw [h1, h2] at this <;> first | rfl | exact absurd this (by decide)
      cases h1 : (kz_rv (ka % 256)).testBit i with
      | false =>
        rw [h1] at e2
        have h2 : (kz_rv (kb % 256)).testBit i = true := by cases hq : (kz_rv (kb % 256)).testBit i <;> rw [hq] at e2 <;> first | rfl | exact absurd e2 (by decide)
        have hl := rv_bits hi e4 h1 h2
        rw [rv_rv (ka % 256) (by omega), rv_rv (kb % 256) (by omega)] at hl
        rw [if_pos (by omega)] at h
        exact br_t ((kz_and _ ra i hi).mpr h1) h
      | true =>
        rw [h1] at e2
        have h2 : (kz_rv (kb % 256)).testBit i = false := by cases hq : (kz_rv (kb % 256)).testBit i <;> rw [hq] at e2 <;> first | rfl | exact absurd e2 (by decide)
        have hl := rv_bits hi (fun j hj => (e4 j hj).symm) h2 h1
        rw [rv_rv (ka % 256) (by omega), rv_rv (kb % 256) (by omega)] at hl
        rw [if_neg (by omega)] at h
        exact br_f (fun z => by rw [kz_and _ ra i hi, h1] at z; exact absurd z (by decide)) h
  · refine pk_le (kb / 256) (ka / 256) (fun hl => ?_) (fun hl => ?_)
    · rw [if_neg (by omega)] at h; exact h
    · rw [if_pos (by omega)] at h; exact h
theorem x_add99 {post : SX → Prop} {t : Nat} {K sl ord : Nat → Nat} (ht : t < 64) (hK : ∀ c, c < t + 1 → kz_at a_candCost a_candPrefix c (K c) ∧ a_candSlot c = nI (sl c)) (ho : ∀ i, i < t → ord i < t) (hso : ∀ i j, i ≤ j → j < t → K (ord i) ≤ K (ord j)) (hsum : ∀ g : Nat → Nat, qs_sm (fun i => g (K (ord i))) t = qs_sm (fun i => g (K i)) t)
    (h : ∀ ord' order', ca_ok (t + 1) K sl ord' a_candCost a_candPrefix a_candSlot order' → post (f_levels, f_length, f_fullMask, f_listSize, f_checkLength, f_checkMask, f_polynomial, f_freeMask, f_oneMask, f_freeCount, f_position, f_pathTotal, f_least, f_freeSlotCount, nI (t + 1), a_soft, a_rankSlot, a_prefix, a_metric, a_freeSlots, a_alpha, a_blockOf, a_refs, a_freeBlocks, a_freeBlockCount, a_leftSum, a_candCost, a_candPrefix, a_candSlot, order', a_uses)) :
    ∀ i fuel order, i ≤ t → i < fuel → (∀ j, j < i → order j = nI (ord j)) → (∀ j, i < j → j < t + 1 → order j = nI (ord (j - 1))) → (∀ j, i ≤ j → j < t → K t < K (ord j)) → wX_addCandidate_99 post (nI t) f_levels f_length f_fullMask f_listSize f_checkLength f_checkMask f_polynomial f_freeMask f_oneMask f_freeCount f_position f_pathTotal f_least f_freeSlotCount f_candTotal fuel (nI i) (nI i) a_soft a_rankSlot a_prefix a_metric a_freeSlots a_alpha a_blockOf a_refs a_freeBlocks a_freeBlockCount a_leftSum a_candCost a_candPrefix a_candSlot order a_uses := by
  have fin : ∀ i order, i ≤ t → (∀ j, j < i → order j = nI (ord j)) → (∀ j, i < j → j < t + 1 → order j = nI (ord (j - 1))) → (∀ j, i ≤ j → j < t → K t < K (ord j)) → (∀ j, j < i → K (ord j) ≤ K t) → wX_addCandidate_150 post (nI t) (nI i) f_levels f_length f_fullMask f_listSize f_checkLength f_checkMask f_polynomial f_freeMask f_oneMask f_freeCount f_position f_pathTotal f_least f_freeSlotCount f_candTotal a_soft a_rankSlot a_prefix a_metric a_freeSlots a_alpha a_blockOf a_refs a_freeBlocks a_freeBlockCount a_leftSum a_candCost a_candPrefix a_candSlot order a_uses := by
    intro i order hi h1 h2 h3 h4
    unfold wX_addCandidate_150
    refine ⟨vp_in_nI (by omega) (by decide), ?_⟩
    rw [nI_clamp (by omega)]
    refine nm_e (nm_r (nI_1 t) (h (qs_ins ord i t) _ ⟨hK, ?_, ?_, ?_⟩))
    · intro j hj
      unfold qs_ins
      by_cases e1 : j < i
      · rw [if_pos e1, pk_un (by omega)]
        exact ⟨by have := ho j (by omega); omega, h1 j e1⟩
      · rw [if_neg e1]
        by_cases e2 : j = i
        · rw [if_pos e2, e2, pk_us]
          exact ⟨by omega, rfl⟩
        · rw [if_neg e2, pk_un e2]
          exact ⟨by have := ho (j - 1) (by omega); omega, h2 j (by omega) hj⟩
    · intro x y hxy hy
      unfold qs_ins
      by_cases a1 : x < i
      · rw [if_pos a1]
        by_cases b1 : y < i
        · rw [if_pos b1]; exact hso x y hxy (by omega)
        · rw [if_neg b1]
          by_cases b2 : y = i
          · rw [if_pos b2]; exact h4 x a1
          · rw [if_neg b2]; exact hso x (y - 1) (by omega) (by omega)
      · rw [if_neg a1, if_neg (show ¬ y < i by omega)]
        by_cases a2 : x = i
        · rw [if_pos a2]
          by_cases b2 : y = i
          · rw [if_pos b2]; exact Nat.le_refl _
          · rw [if_neg b2]; exact Nat.le_of_lt (h3 (y - 1) (by omega) (by omega))
        · rw [if_neg a2, if_neg (show ¬ y = i by omega)]
          exact hso (x - 1) (y - 1) (by omega) (by omega)
    · intro g
      have := ins_sum (fun x => g (K x)) ord t (t - i) i t (by omega)
      rw [this, hsum g]
      rfl
  intro i
  induction i with
  | zero =>
    intro fuel order hi hf h1 h2 h3
    obtain ⟨fuel, rfl⟩ : ∃ n', fuel = n' + 1 := ⟨fuel - 1, by omega⟩
    exact br_t (by decide) (fin 0 order hi h1 h2 h3 (fun j hj => by omega))
  | succ i ih =>
    intro fuel order hi hf h1 h2 h3
    obtain ⟨fuel, rfl⟩ : ∃ n', fuel = n' + 1 := ⟨fuel - 1, by omega⟩
    unfold wX_addCandidate_99
    refine br_f (nI_nle (by omega) (by omega)) ?_
    rw [nI_pred, nI_clamp (show i < 2 ^ 31 by omega), h1 i (by omega)]
    refine ⟨vp_in_nI (by omega) (by decide), ?_⟩
    have hoi := ho i (by omega)
    refine x_before ht (by omega) (hK t (by omega)).1 (hK (ord i) (by omega)).1 ?_
    by_cases hl : K t < K (ord i)
    · rw [if_pos hl]
      refine br_f (by decide) ⟨vp_in_nI (by omega) (by decide), vp_in_nI (by omega) (by decide), ?_⟩
      rw [nI_clamp (by omega)]
      refine nm_e (nm_e (nm_r (pk_m1 i) (ih fuel _ (by omega) (by omega) ?_ ?_ ?_)))
      · intro j hj
        rw [pk_un (by omega)]
        exact h1 j (by omega)
      · intro j hj hj2
        by_cases e : j = i + 1
        · rw [e, pk_us, Nat.add_sub_cancel]
        · rw [pk_un e]; exact h2 j (by omega) hj2
      · intro j hj hj2
        by_cases e : j = i
        · rw [e]; exact hl
        · exact h3 j (by omega) hj2
    · rw [if_neg hl]
      refine br_t (by decide) (fin (i + 1) order hi h1 h2 h3 (fun j hj => ?_))
      have := hso j i (by omega) (by omega)
      omega
theorem x_add51 {post : SX → Prop} {t j w m b : Nat} {x5 : Int32} {K sl ord : Nat → Nat} (ht : t < 64) (hT : f_candTotal = nI t) (hj : j < 32) (hm : m < 8) (hw : w < 2 ^ m) (hb : b ≤ 1) (hP : a_prefix j = nI w) (hc : ca_ok t K sl ord a_candCost a_candPrefix a_candSlot a_candOrder) (hk : ∀ cost pre : Nat → Int32, cost t = x5 → pre t = nI (w + 2 ^ m * b) → kz_at cost pre t (K t)) (hs : sl t = j)
    (h : ∀ ord' cost' pre' slot' order', ca_ok (t + 1) K sl ord' cost' pre' slot' order' → post (f_levels, f_length, f_fullMask, f_listSize, f_checkLength, f_checkMask, f_polynomial, f_freeMask, f_oneMask, f_freeCount, f_position, f_pathTotal, f_least, f_freeSlotCount, nI (t + 1), a_soft, a_rankSlot, a_prefix, a_metric, a_freeSlots, a_alpha, a_blockOf, a_refs, a_freeBlocks, a_freeBlockCount, a_leftSum, cost', pre', slot', order', a_uses)) : wX_addCandidate_51 post (nI j) (nI b) (nI m) x5 f_levels f_length f_fullMask f_listSize f_checkLength f_checkMask f_polynomial f_freeMask f_oneMask f_freeCount f_position f_pathTotal f_least f_freeSlotCount f_candTotal a_soft a_rankSlot a_prefix a_metric a_freeSlots a_alpha a_blockOf a_refs a_freeBlocks a_freeBlockCount a_leftSum a_candCost a_candPrefix a_candSlot a_candOrder a_uses := by
  subst hT
  obtain ⟨c1, c2, c3, c4⟩ := hc
  have vt : vp_in (nI t) 64 := vp_in_nI ht (by decide)
  have hp : 2 ^ m < 2 ^ 31 := Nat.pow_lt_pow_right (by decide) (by omega)
  unfold wX_addCandidate_51
  rw [nI_clamp (show t < 2 ^ 31 by omega), nI_clamp (show j < 2 ^ 31 by omega), hP, wk_ext (by omega) hw (by rcases (show b = 0 ∨ b = 1 by omega) with rfl | rfl <;> omega)]
  refine ⟨vt, nm_e ⟨vp_in_nI hj (by decide), vt, nm_e ⟨vt, nm_e ⟨t + 1, ?_⟩⟩⟩⟩
  refine x_add99 ht ?_ (fun i hi => (c2 i hi).1) c3 c4 (fun ord' order' => h ord' _ _ _ order') t (t + 1) a_candOrder (Nat.le_refl _) (by omega) (fun i hi => (c2 i hi).2) (fun i hi hi2 => by omega) (fun i hi hi2 => by omega)
  intro c hc
  by_cases e : c = t
  · rw [e, pk_us, hs]
    exact ⟨hk _ _ pk_us pk_us, rfl⟩
  · obtain ⟨⟨d1, d2, d3⟩, d4⟩ := c1 c (by omega)
    exact ⟨⟨d1, by rw [pk_un e]; exact d2, by rw [pk_un e]; exact d3⟩, by rw [pk_un e]; exact d4⟩
theorem x_addCandidate {post : SX → Prop} {n t j w m b bl : Nat} {so : Nat → Int32} {K sl ord : Nat → Nat} (hn : n ≤ 3) (hso : dc_so so) (ht : t < 64) (hT : f_candTotal = nI t) (hj : j < 32) (hm : m < 2 ^ n) (hw : w < 2 ^ m) (hb : b ≤ 1) (hP : a_prefix j = nI w) (hMe : a_metric j = dc_M n so w m) (hbl : bl < 32) (hB : a_blockOf (32 * 0 + j) = nI bl) (hLf : al_vw a_blockOf a_alpha 0 j 0 = dc_nd n 0 so w m 0) (hc : ca_ok t K sl ord a_candCost a_candPrefix a_candSlot a_candOrder) (hk : K t = kz_key n so (w + 2 ^ m * b) (m + 1)) (hs : sl t = j)
    (h : ∀ ord' cost' pre' slot' order', ca_ok (t + 1) K sl ord' cost' pre' slot' order' → post (f_levels, f_length, f_fullMask, f_listSize, f_checkLength, f_checkMask, f_polynomial, f_freeMask, f_oneMask, f_freeCount, f_position, f_pathTotal, f_least, f_freeSlotCount, nI (t + 1), a_soft, a_rankSlot, a_prefix, a_metric, a_freeSlots, a_alpha, a_blockOf, a_refs, a_freeBlocks, a_freeBlockCount, a_leftSum, cost', pre', slot', order', a_uses)) : wpX_addCandidate post (f_levels, f_length, f_fullMask, f_listSize, f_checkLength, f_checkMask, f_polynomial, f_freeMask, f_oneMask, f_freeCount, f_position, f_pathTotal, f_least, f_freeSlotCount, f_candTotal, a_soft, a_rankSlot, a_prefix, a_metric, a_freeSlots, a_alpha, a_blockOf, a_refs, a_freeBlocks, a_freeBlockCount, a_leftSum, a_candCost, a_candPrefix, a_candSlot, a_candOrder, a_uses) (nI j) (nI b) (nI m) := by
  have h8 := dc_two8 hn
  have hw2 := w_next hw hb
  have hw3 : 2 ^ (m + 1) ≤ 2 ^ 8 := Nat.pow_le_pow_right (by decide) (by omega)
  have go : ∀ x5, x5 = dc_pn (dc_M n so w m) (decide (b = 1)) (dc_nd n 0 so w m 0) → wX_addCandidate_51 post (nI j) (nI b) (nI m) x5 f_levels f_length f_fullMask f_listSize f_checkLength f_checkMask f_polynomial f_freeMask f_oneMask f_freeCount f_position f_pathTotal f_least f_freeSlotCount f_candTotal a_soft a_rankSlot a_prefix a_metric a_freeSlots a_alpha a_blockOf a_refs a_freeBlocks a_freeBlockCount a_leftSum a_candCost a_candPrefix a_candSlot a_candOrder a_uses := by
    intro x5 e5
    refine x_add51 ht hT hj (by omega) hw hb hP hc ?_ hs h
    intro cost pre ec ep
    rw [hk]
    exact key_at hn hso (by omega) (by omega) (by rw [ec, e5, M_next hm hw hb]) ep
  unfold wpX_addCandidate
  dsimp only
  refine x_leaf hj hbl hB ⟨vp_in_nI hj (by decide), ?_⟩
  rw [nI_clamp (by omega), hMe, hLf]
  refine nm_e ?_
  rcases (show b = 0 ∨ b = 1 by omega) with rfl | rfl
  · have go' : ∀ x5, x5 = (if 0 ≤ dc_nd n 0 so w m 0 then dc_M n so w m else dc_M n so w m - dc_nd n 0 so w m 0) → wX_addCandidate_51 post (nI j) (nI 0) (nI m) x5 f_levels f_length f_fullMask f_listSize f_checkLength f_checkMask f_polynomial f_freeMask f_oneMask f_freeCount f_position f_pathTotal f_least f_freeSlotCount f_candTotal a_soft a_rankSlot a_prefix a_metric a_freeSlots a_alpha a_blockOf a_refs a_freeBlocks a_freeBlockCount a_leftSum a_candCost a_candPrefix a_candSlot a_candOrder a_uses := go
    refine br_f (by decide) ?_
    unfold wX_addCandidate_35
    refine br_t (by decide) ?_
    by_cases e : 0 ≤ dc_nd n 0 so w m 0
    · exact br_t e (go' _ (by rw [if_pos e]))
    · exact br_f e (nm_e (go' _ (by rw [if_neg e])))
  · have go' : ∀ x5, x5 = (if dc_nd n 0 so w m 0 ≤ 0 then dc_M n so w m else dc_M n so w m + dc_nd n 0 so w m 0) → wX_addCandidate_51 post (nI j) (nI 1) (nI m) x5 f_levels f_length f_fullMask f_listSize f_checkLength f_checkMask f_polynomial f_freeMask f_oneMask f_freeCount f_position f_pathTotal f_least f_freeSlotCount f_candTotal a_soft a_rankSlot a_prefix a_metric a_freeSlots a_alpha a_blockOf a_refs a_freeBlocks a_freeBlockCount a_leftSum a_candCost a_candPrefix a_candSlot a_candOrder a_uses := go
    refine br_t (by decide) ?_
    by_cases e : dc_nd n 0 so w m 0 ≤ 0
    · refine br_t e ?_
      unfold wX_addCandidate_35
      exact br_f (by decide) (go' _ (by rw [if_pos e]))
    · exact br_f e (nm_e (go' _ (by rw [if_neg e])))
end
/-- the candidates of a step: word, parent's rank, how many -/
def cz_w (fr : Bool) (fb m : Nat) (w : Nat → Nat) (c : Nat) : Nat := if fr then w (c / 2) + 2 ^ m * (c % 2) else w c + 2 ^ m * fb
def cz_r (fr : Bool) (c : Nat) : Nat := if fr then c / 2 else c
def cz_t (fr : Bool) (T : Nat) : Nat := if fr then 2 * T else T
def cz_K (n : Nat) (so : Nat → Int32) (fr : Bool) (fb m : Nat) (w : Nat → Nat) (c : Nat) : Nat := kz_key n so (cz_w fr fb m w c) (m + 1)
/-- a path as X holds it: slot j, word w, position m -/
def px_ok (n : Nat) (so : Nat → Int32) (m : Nat) (lv : Nat → Bool) (rs pre met BO al : Nat → Int32) (r j w : Nat) : Prop :=
  j < 32 ∧ lv j = true ∧ rs r = nI j ∧ w < 2 ^ m ∧ pre j = nI w ∧ met j = dc_M n so w m
section
variable {f_levels f_length f_fullMask f_listSize f_checkLength f_checkMask f_polynomial f_freeMask f_oneMask f_freeCount f_position f_pathTotal f_least f_freeSlotCount f_candTotal : Int32} {a_soft a_rankSlot a_prefix a_metric a_freeSlots a_alpha a_blockOf a_refs a_freeBlocks a_freeBlockCount a_leftSum a_candCost a_candPrefix a_candSlot a_candOrder a_uses : Nat → Int32}
theorem x_collect {post : SX → Prop} {n T m fm om : Nat} {lv : Nat → Bool} {so : Nat → Int32} {w sg : Nat → Nat} (hn : n ≤ 3) (hso : dc_so so) (hT : T ≤ 32) (hTo : f_pathTotal = nI T) (hm : m < 2 ^ n) (hfm : f_freeMask = nI fm) (hom : f_oneMask = nI om) (hM : me_ok n lv a_blockOf a_refs a_freeBlocks a_freeBlockCount)
    (hp : ∀ r, r < T → px_ok n so m lv a_rankSlot a_prefix a_metric a_blockOf a_alpha r (sg r) (w r)) (hv : ∀ r, r < T → pv_all n so (w r) m a_blockOf a_alpha (sg r))
    (h : ∀ ord cost' pre' slot' order', ca_ok (cz_t (fm.testBit m) T) (cz_K n so (fm.testBit m) (om.testBit m).toNat m w) (fun c => sg (cz_r (fm.testBit m) c)) ord cost' pre' slot' order' → post (f_levels, f_length, f_fullMask, f_listSize, f_checkLength, f_checkMask, f_polynomial, f_freeMask, f_oneMask, f_freeCount, f_position, f_pathTotal, f_least, f_freeSlotCount, nI (cz_t (fm.testBit m) T), a_soft, a_rankSlot, a_prefix, a_metric, a_freeSlots, a_alpha, a_blockOf, a_refs, a_freeBlocks, a_freeBlockCount, a_leftSum, cost', pre', slot', order', a_uses)) : wpX_collectCandidates post (f_levels, f_length, f_fullMask, f_listSize, f_checkLength, f_checkMask, f_polynomial, f_freeMask, f_oneMask, f_freeCount, f_position, f_pathTotal, f_least, f_freeSlotCount, f_candTotal, a_soft, a_rankSlot, a_prefix, a_metric, a_freeSlots, a_alpha, a_blockOf, a_refs, a_freeBlocks, a_freeBlockCount, a_leftSum, a_candCost, a_candPrefix, a_candSlot, a_candOrder, a_uses) (nI m) := by
  have h8 := dc_two8 hn
  have hbl : ∀ r, r < T → ∃ b, b < 32 ∧ a_blockOf (32 * 0 + sg r) = nI b := by
    intro r hr
    obtain ⟨p1, p2, _⟩ := hp r hr
    obtain ⟨b, b1, _, b2⟩ := me_blk hM (s := 0) (by omega) p1 p2
    exact ⟨b, b1, b2⟩
  have hlf : ∀ r, r < T → al_vw a_blockOf a_alpha 0 (sg r) 0 = dc_nd n 0 so (w r) m 0 := fun r hr => hv r hr 0 (by omega) 0 (by decide)
  unfold wpX_collectCandidates
  dsimp only
  by_cases hf : fm.testBit m = true
  · rw [hf] at h
    have go : ∀ d r fuel ord cost pre slot order, r + d = T → d < fuel → ca_ok (2 * r) (cz_K n so true (om.testBit m).toNat m w) (fun c => sg (cz_r true c)) ord cost pre slot order → wX_collectCandidates_35 post (nI m) 1 (nI (om.testBit m).toNat) fuel (nI r) f_levels f_length f_fullMask f_listSize f_checkLength f_checkMask f_polynomial f_freeMask f_oneMask f_freeCount f_position f_pathTotal f_least f_freeSlotCount (nI (2 * r)) a_soft a_rankSlot a_prefix a_metric a_freeSlots a_alpha a_blockOf a_refs a_freeBlocks a_freeBlockCount a_leftSum cost pre slot order a_uses := by
      intro d
      induction d with
      | zero =>
        intro r fuel ord cost pre slot order hr hf hc
        obtain ⟨fuel, rfl⟩ : ∃ n', fuel = n' + 1 := ⟨fuel - 1, by omega⟩
        have e : r = T := by omega
        subst e
        exact br_t (by rw [hTo]; exact Int32.le_refl _) (h ord cost pre slot order hc)
      | succ d ih =>
        intro r fuel ord cost pre slot order hr hf hc
        obtain ⟨fuel, rfl⟩ : ∃ n', fuel = n' + 1 := ⟨fuel - 1, by omega⟩
        obtain ⟨p1, p2, p3, p4, p5, p6⟩ := hp r (by omega)
        obtain ⟨bl, b1, b2⟩ := hbl r (by omega)
        unfold wX_collectCandidates_35
        refine br_f (by rw [hTo]; exact nI_ge (by omega) (by omega)) ⟨vp_in_nI (by omega) (by decide), ?_⟩
        rw [nI_clamp (by omega), p3]
        refine nm_e (br_f (by decide) ?_)
        refine x_addCandidate (b := 0) (K := cz_K n so true (om.testBit m).toNat m w) (sl := fun c => sg (cz_r true c)) hn hso (by omega) rfl p1 hm p4 (by decide) p5 p6 b1 b2 (hlf r (by omega)) hc ?_ ?_ ?_
        · unfold cz_K cz_w; rw [if_pos rfl, show 2 * r / 2 = r by omega, show 2 * r % 2 = 0 by omega]
        · show sg (2 * r / 2) = sg r; rw [show 2 * r / 2 = r by omega]
        · intro ord1 cost1 pre1 slot1 order1 hc1
          dsimp only
          refine x_addCandidate (b := 1) (K := cz_K n so true (om.testBit m).toNat m w) (sl := fun c => sg (cz_r true c)) hn hso (by omega) rfl p1 hm p4 (by decide) p5 p6 b1 b2 (hlf r (by omega)) hc1 ?_ ?_ ?_
          · unfold cz_K cz_w; rw [if_pos rfl, show (2 * r + 1) / 2 = r by omega, show (2 * r + 1) % 2 = 1 by omega]
          · show sg ((2 * r + 1) / 2) = sg r; rw [show (2 * r + 1) / 2 = r by omega]
          · intro ord2 cost2 pre2 slot2 order2 hc2
            dsimp only
            refine nm_r (nI_1 r) ?_
            rw [show 2 * r + 1 + 1 = 2 * (r + 1) by omega]
            exact ih (r + 1) fuel ord2 cost2 pre2 slot2 order2 (by omega) (by omega) (by rw [show 2 * (r + 1) = 2 * r + 1 + 1 by omega]; exact hc2)
    refine br_t (by rw [hfm]; exact (wk_b1 (by omega)).mpr hf) ?_
    unfold wX_collectCandidates_22
    refine nm_r (e' := nI (om.testBit m).toNat) (by rw [hom]; exact wk_b (by omega)) ⟨T + 1, ?_⟩
    exact go T 0 (T + 1) (fun _ => 0) a_candCost a_candPrefix a_candSlot a_candOrder (by omega) (by omega) ⟨fun c hc => by omega, fun i hi => by omega, fun i j _ hj => by omega, fun g => rfl⟩
  · have hf' : fm.testBit m = false := by cases hq : fm.testBit m with
      | true => exact absurd hq hf
      | false => rfl
    rw [hf'] at h
    have hfb : (om.testBit m).toNat ≤ 1 := Bool.toNat_le _
    have go : ∀ d r fuel ord cost pre slot order, r + d = T → d < fuel → ca_ok r (cz_K n so false (om.testBit m).toNat m w) (fun c => sg (cz_r false c)) ord cost pre slot order → wX_collectCandidates_35 post (nI m) 0 (nI (om.testBit m).toNat) fuel (nI r) f_levels f_length f_fullMask f_listSize f_checkLength f_checkMask f_polynomial f_freeMask f_oneMask f_freeCount f_position f_pathTotal f_least f_freeSlotCount (nI r) a_soft a_rankSlot a_prefix a_metric a_freeSlots a_alpha a_blockOf a_refs a_freeBlocks a_freeBlockCount a_leftSum cost pre slot order a_uses := by
      intro d
      induction d with
      | zero =>
        intro r fuel ord cost pre slot order hr hf hc
        obtain ⟨fuel, rfl⟩ : ∃ n', fuel = n' + 1 := ⟨fuel - 1, by omega⟩
        have e : r = T := by omega
        subst e
        exact br_t (by rw [hTo]; exact Int32.le_refl _) (h ord cost pre slot order hc)
      | succ d ih =>
        intro r fuel ord cost pre slot order hr hf hc
        obtain ⟨fuel, rfl⟩ : ∃ n', fuel = n' + 1 := ⟨fuel - 1, by omega⟩
        obtain ⟨p1, p2, p3, p4, p5, p6⟩ := hp r (by omega)
        obtain ⟨bl, b1, b2⟩ := hbl r (by omega)
        unfold wX_collectCandidates_35
        refine br_f (by rw [hTo]; exact nI_ge (by omega) (by omega)) ⟨vp_in_nI (by omega) (by decide), ?_⟩
        rw [nI_clamp (by omega), p3]
        refine nm_e (br_t rfl ?_)
        refine x_addCandidate (b := (om.testBit m).toNat) (K := cz_K n so false (om.testBit m).toNat m w) (sl := fun c => sg (cz_r false c)) hn hso (by omega) rfl p1 hm p4 hfb p5 p6 b1 b2 (hlf r (by omega)) hc ?_ rfl ?_
        · rfl
        · intro ord1 cost1 pre1 slot1 order1 hc1
          dsimp only
          exact nm_r (nI_1 r) (ih (r + 1) fuel ord1 cost1 pre1 slot1 order1 (by omega) (by omega) hc1)
    refine br_f (fun z => by rw [hfm] at z; exact hf ((wk_b1 (by omega)).mp z)) ?_
    unfold wX_collectCandidates_22
    refine nm_r (e' := nI (om.testBit m).toNat) (by rw [hom]; exact wk_b (by omega)) ⟨T + 1, ?_⟩
    exact go T 0 (T + 1) (fun _ => 0) a_candCost a_candPrefix a_candSlot a_candOrder (by omega) (by omega) ⟨fun c hc => by omega, fun i hi => by omega, fun i j _ hj => by omega, fun g => rfl⟩
end
end
section
/-! X: slots given back, cloned -/
section
variable {f_levels f_length f_fullMask f_listSize f_checkLength f_checkMask f_polynomial f_freeMask f_oneMask f_freeCount f_position f_pathTotal f_least f_freeSlotCount f_candTotal : Int32} {a_soft a_rankSlot a_prefix a_metric a_freeSlots a_alpha a_blockOf a_refs a_freeBlocks a_freeBlockCount a_leftSum a_candCost a_candPrefix a_candSlot a_candOrder a_uses : Nat → Int32}
theorem x_rel2 {post : SX → Prop} {lv : Nat → Bool} {n j k : Nat} (hn : n ≤ 3) (hL : f_levels = nI n) (hj : j < 32) (hl : lv j = true) (hk : k < 32) (hc : f_freeSlotCount = nI k)
    (h : ∀ RF' FB' FC', (∀ s, s < n → sv_LV (sv_off lv j) (sv_vw a_blockOf s) (sv_vw RF' s) (sv_vw FB' s) (FC' s)) → post (f_levels, f_length, f_fullMask, f_listSize, f_checkLength, f_checkMask, f_polynomial, f_freeMask, f_oneMask, f_freeCount, f_position, f_pathTotal, f_least, nI (k + 1), f_candTotal, a_soft, a_rankSlot, a_prefix, a_metric, upd a_freeSlots k (nI j), a_alpha, a_blockOf, RF', FB', FC', a_leftSum, a_candCost, a_candPrefix, a_candSlot, a_candOrder, a_uses)) :
    ∀ d s fuel RF FB FC, s + d = n → d < fuel → (∀ s', s' < s → sv_LV (sv_off lv j) (sv_vw a_blockOf s') (sv_vw RF s') (sv_vw FB s') (FC s')) → (∀ s', s ≤ s' → s' < n → sv_LV lv (sv_vw a_blockOf s') (sv_vw RF s') (sv_vw FB s') (FC s')) → wX_releaseSlot_2 post (nI j) f_levels f_length f_fullMask f_listSize f_checkLength f_checkMask f_polynomial f_freeMask f_oneMask f_freeCount f_position f_pathTotal f_least f_freeSlotCount f_candTotal fuel (nI s) a_soft a_rankSlot a_prefix a_metric a_freeSlots a_alpha a_blockOf RF FB FC a_leftSum a_candCost a_candPrefix a_candSlot a_candOrder a_uses := by
  intro d
  induction d with
  | zero =>
    intro s fuel RF FB FC hs hf h1 h2
    obtain ⟨fuel, rfl⟩ : ∃ n', fuel = n' + 1 := ⟨fuel - 1, by omega⟩
    have e : s = n := by omega
    subst e
    unfold wX_releaseSlot_2
    refine br_t (by rw [hL]; exact Int32.le_refl _) ?_
    rw [hc]
    refine ⟨vp_in_nI hk (by decide), ?_⟩
    rw [nI_clamp (by omega)]
    exact nm_e (nm_r (nI_1 k) (h RF FB FC h1))
  | succ d ih =>
    intro s fuel RF FB FC hs hf h1 h2
    obtain ⟨fuel, rfl⟩ : ∃ n', fuel = n' + 1 := ⟨fuel - 1, by omega⟩
    obtain ⟨b0, q, c, hb, eB, hq, eR, eC, hz, hnz⟩ := sv_rel (h2 s (Nat.le_refl _) (by omega)) hj hl
    have eB' : a_blockOf (32 * s + j) = nI b0 := eB
    have eR' : RF (32 * s + b0) = nI (q + 1) := eR
    have hi : nI (32 * s) + nI b0 = nI (32 * s + b0) := nI_add _ _
    have hcl : (nI (32 * s) + nI b0).toNatClampNeg = 32 * s + b0 := by rw [hi]; exact nI_clamp (by omega)
    have v96 : vp_in (nI (32 * s) + nI b0) 96 := pk_in (32 * s + b0) 96 (by omega) hi
    unfold wX_releaseSlot_2
    refine br_f (by rw [hL]; exact nI_ge (by omega) (by omega)) (nm_r (wk_s5 (by omega)) ?_)
    rw [nI_add (32 * s) j]
    refine ⟨vp_in_nI (by omega) (by decide), nm_r (e' := nI b0) (by rw [nI_clamp (by omega)]; exact eB') ⟨v96, v96, ?_⟩⟩
    rw [hcl, eR', nI_pred]
    refine nm_e ⟨v96, ?_⟩
    rw [pk_us]
    by_cases q0 : q = 0
    · subst q0
      obtain ⟨hk', hLV⟩ := hz rfl
      have hi2 : nI (32 * s) + nI c = nI (32 * s + c) := nI_add _ _
      have hcl2 : (nI (32 * s) + nI c).toNatClampNeg = 32 * s + c := by rw [hi2]; exact nI_clamp (by omega)
      have v3 : vp_in (nI s) 3 := vp_in_nI (by omega) (by decide)
      refine br_t rfl ⟨v3, ?_⟩
      rw [nI_clamp (show s < 2 ^ 31 by omega), eC, hcl2, nI_1 c]
      refine ⟨pk_in (32 * s + c) 96 (by omega) hi2, nm_e ⟨v3, v3, nm_e (nm_r (nI_1 s) (ih (s + 1) fuel _ _ _ (by omega) (by omega) ?_ ?_))⟩⟩
      · intro s' hs'
        by_cases e : s' = s
        · rw [e, vw_same, vw_same, pk_us]; exact hLV
        · refine sv_cg (h1 s' (by omega)) (fun _ _ => rfl) (fun x hx => vw_other e hb hx) (fun x hx => vw_other e hk' hx) (pk_un e)
      · intro s' hs' hs2
        have e : s' ≠ s := by omega
        exact sv_cg (h2 s' (by omega) hs2) (fun _ _ => rfl) (fun x hx => vw_other e hb hx) (fun x hx => vw_other e hk' hx) (pk_un e)
    · have hLV := hnz q0
      refine br_f (nI_ne0 (by omega) (by omega)) (nm_r (nI_1 s) (ih (s + 1) fuel _ _ _ (by omega) (by omega) ?_ ?_))
      · intro s' hs'
        by_cases e : s' = s
        · rw [e, vw_same]; exact hLV
        · exact sv_cg (h1 s' (by omega)) (fun _ _ => rfl) (fun x hx => vw_other e hb hx) (fun _ _ => rfl) rfl
      · intro s' hs' hs2
        have e : s' ≠ s := by omega
        exact sv_cg (h2 s' (by omega) hs2) (fun _ _ => rfl) (fun x hx => vw_other e hb hx) (fun _ _ => rfl) rfl
theorem x_release {post : SX → Prop} {lv : Nat → Bool} {n j : Nat} (hn : n ≤ 3) (hL : f_levels = nI n) (hj : j < 32) (hl : lv j = true) (hM : me_ok n lv a_blockOf a_refs a_freeBlocks a_freeBlockCount) (hS : sv_SL lv a_freeSlots f_freeSlotCount)
    (h : ∀ RF' FB' FC' FS' c', me_ok n (sv_off lv j) a_blockOf RF' FB' FC' → sv_SL (sv_off lv j) FS' c' → post (f_levels, f_length, f_fullMask, f_listSize, f_checkLength, f_checkMask, f_polynomial, f_freeMask, f_oneMask, f_freeCount, f_position, f_pathTotal, f_least, c', f_candTotal, a_soft, a_rankSlot, a_prefix, a_metric, FS', a_alpha, a_blockOf, RF', FB', FC', a_leftSum, a_candCost, a_candPrefix, a_candSlot, a_candOrder, a_uses)) : wpX_releaseSlot post (f_levels, f_length, f_fullMask, f_listSize, f_checkLength, f_checkMask, f_polynomial, f_freeMask, f_oneMask, f_freeCount, f_position, f_pathTotal, f_least, f_freeSlotCount, f_candTotal, a_soft, a_rankSlot, a_prefix, a_metric, a_freeSlots, a_alpha, a_blockOf, a_refs, a_freeBlocks, a_freeBlockCount, a_leftSum, a_candCost, a_candPrefix, a_candSlot, a_candOrder, a_uses) (nI j) := by
  obtain ⟨k, e, hk, hS'⟩ := sl_rel hS hj hl
  unfold wpX_releaseSlot
  dsimp only
  exact ⟨n + 1, x_rel2 hn hL hj hl hk e (fun RF' FB' FC' hST => h RF' FB' FC' _ _ ⟨hST, hM.2⟩ hS') n 0 (n + 1) a_refs a_freeBlocks a_freeBlockCount (by omega) (by omega) (fun s' hs' => by omega) (fun s' _ hs' => hM.1 s' hs')⟩
/-- what cloning p into q gives -/
def cl_ok (n p q : Nat) (BO LS BO' LS' : Nat → Int32) : Prop := (∀ s, s < n → BO' (32 * s + q) = BO (32 * s + p) ∧ LS' (32 * s + q) = LS (32 * s + p)) ∧ (∀ s i, i < 32 → i ≠ q → BO' (32 * s + i) = BO (32 * s + i) ∧ LS' (32 * s + i) = LS (32 * s + i))
theorem x_cln31 {post : Int32 → SX → Prop} {lv : Nat → Bool} {n p q : Nat} (hn : n ≤ 3) (hL : f_levels = nI n) (hp : p < 32) (hlp : lv p = true) (hq : q < 32) (hlq : lv q = false) (BO LS : Nat → Int32)
    (h : ∀ BO' RF' LS', (∀ s, s < n → sv_LV (sv_on lv q) (sv_vw BO' s) (sv_vw RF' s) (sv_vw a_freeBlocks s) (a_freeBlockCount s)) → (∀ s, s < n → BO' (32 * s + q) = BO (32 * s + p) ∧ LS' (32 * s + q) = LS (32 * s + p)) → (∀ s i, i < 32 → (n ≤ s ∨ i ≠ q) → BO' (32 * s + i) = BO (32 * s + i) ∧ LS' (32 * s + i) = LS (32 * s + i)) → post (nI q) (f_levels, f_length, f_fullMask, f_listSize, f_checkLength, f_checkMask, f_polynomial, f_freeMask, f_oneMask, f_freeCount, f_position, f_pathTotal, f_least, f_freeSlotCount, f_candTotal, a_soft, a_rankSlot, a_prefix, a_metric, a_freeSlots, a_alpha, BO', RF', a_freeBlocks, a_freeBlockCount, LS', a_candCost, a_candPrefix, a_candSlot, a_candOrder, a_uses)) :
    ∀ d s fuel BO' RF LS', s + d = n → d < fuel → (∀ s', s' < s → sv_LV (sv_on lv q) (sv_vw BO' s') (sv_vw RF s') (sv_vw a_freeBlocks s') (a_freeBlockCount s')) → (∀ s', s ≤ s' → s' < n → sv_LV lv (sv_vw BO' s') (sv_vw RF s') (sv_vw a_freeBlocks s') (a_freeBlockCount s')) → (∀ s', s' < s → BO' (32 * s' + q) = BO (32 * s' + p) ∧ LS' (32 * s' + q) = LS (32 * s' + p)) → (∀ s' i, i < 32 → (s ≤ s' ∨ i ≠ q) → BO' (32 * s' + i) = BO (32 * s' + i) ∧ LS' (32 * s' + i) = LS (32 * s' + i)) → wX_cloneSlot_31 post (nI p) (nI q) f_levels f_length f_fullMask f_listSize f_checkLength f_checkMask f_polynomial f_freeMask f_oneMask f_freeCount f_position f_pathTotal f_least f_freeSlotCount f_candTotal fuel (nI s) a_soft a_rankSlot a_prefix a_metric a_freeSlots a_alpha BO' RF a_freeBlocks a_freeBlockCount LS' a_candCost a_candPrefix a_candSlot a_candOrder a_uses := by
  have hpq : p ≠ q := fun z => by rw [z, hlq] at hlp; exact Bool.false_ne_true hlp
  intro d
  induction d with
  | zero =>
    intro s fuel BO' RF LS' hs hf h1 h2 h3 h4
    obtain ⟨fuel, rfl⟩ : ∃ n', fuel = n' + 1 := ⟨fuel - 1, by omega⟩
    have e : s = n := by omega
    subst e
    unfold wX_cloneSlot_31
    exact br_t (by rw [hL]; exact Int32.le_refl _) (h BO' RF LS' h1 h3 h4)
  | succ d ih =>
    intro s fuel BO' RF LS' hs hf h1 h2 h3 h4
    obtain ⟨fuel, rfl⟩ : ∃ n', fuel = n' + 1 := ⟨fuel - 1, by omega⟩
    obtain ⟨b0, r, hb, eB, hr, eR, hLV⟩ := sv_cln (h2 s (Nat.le_refl _) (by omega)) hp hlp hq hlq
    have eB' : BO' (32 * s + p) = nI b0 := eB
    have eR' : RF (32 * s + b0) = nI r := eR
    have hi : nI (32 * s) + nI b0 = nI (32 * s + b0) := nI_add _ _
    have v96 : vp_in (nI (32 * s + b0)) 96 := vp_in_nI (by omega) (by decide)
    unfold wX_cloneSlot_31
    refine br_f (by rw [hL]; exact nI_ge (by omega) (by omega)) (nm_r (wk_s5 (by omega)) ?_)
    rw [nI_add (32 * s) p, nI_add (32 * s) q, nI_clamp (show 32 * s + p < 2 ^ 31 by omega), nI_clamp (show 32 * s + q < 2 ^ 31 by omega), eB']
    refine ⟨vp_in_nI (by omega) (by decide), nm_e ⟨vp_in_nI (by omega) (by decide), nm_e ?_⟩⟩
    rw [hi, nI_clamp (show 32 * s + b0 < 2 ^ 31 by omega), eR', nI_1 r]
    refine ⟨v96, v96, nm_e ⟨vp_in_nI (by omega) (by decide), vp_in_nI (by omega) (by decide), nm_e (nm_r (nI_1 s) (ih (s + 1) fuel _ _ _ (by omega) (by omega) ?_ ?_ ?_ ?_))⟩⟩
    · intro s' hs'
      by_cases e : s' = s
      · rw [e, vw_same, vw_same]; exact hLV
      · exact sv_cg (h1 s' (by omega)) (fun x hx => vw_other e hq hx) (fun x hx => vw_other e hb hx) (fun _ _ => rfl) rfl
    · intro s' hs' hs2
      have e : s' ≠ s := by omega
      exact sv_cg (h2 s' (by omega) hs2) (fun x hx => vw_other e hq hx) (fun x hx => vw_other e hb hx) (fun _ _ => rfl) rfl
    · intro s' hs'
      by_cases e : s' = s
      · rw [e, pk_us, pk_us]
        obtain ⟨g1, g2⟩ := h4 s p hp (Or.inr hpq)
        exact ⟨by rw [← g1]; exact eB'.symm, g2⟩
      · rw [pk_un (by omega), pk_un (by omega)]
        exact h3 s' (by omega)
    · intro s' i hi' hor
      rw [pk_un (by omega), pk_un (by omega)]
      exact h4 s' i hi' (by omega)
theorem x_clone {post : Int32 → SX → Prop} {lv : Nat → Bool} {n p : Nat} (hn : n ≤ 3) (hL : f_levels = nI n) (hp : p < 32) (hlp : lv p = true) (hcn : qs_cn lv 32 < 32) (hM : me_ok n lv a_blockOf a_refs a_freeBlocks a_freeBlockCount) (hS : sv_SL lv a_freeSlots f_freeSlotCount)
    (h : ∀ q BO' RF' LS' c', q < 32 → lv q = false → me_ok n (sv_on lv q) BO' RF' a_freeBlocks a_freeBlockCount → sv_SL (sv_on lv q) a_freeSlots c' → cl_ok n p q a_blockOf a_leftSum BO' LS' → post (nI q) (f_levels, f_length, f_fullMask, f_listSize, f_checkLength, f_checkMask, f_polynomial, f_freeMask, f_oneMask, f_freeCount, f_position, f_pathTotal, f_least, c', f_candTotal, a_soft, a_rankSlot, a_prefix, a_metric, a_freeSlots, a_alpha, BO', RF', a_freeBlocks, a_freeBlockCount, LS', a_candCost, a_candPrefix, a_candSlot, a_candOrder, a_uses)) : wpX_cloneSlot post (f_levels, f_length, f_fullMask, f_listSize, f_checkLength, f_checkMask, f_polynomial, f_freeMask, f_oneMask, f_freeCount, f_position, f_pathTotal, f_least, f_freeSlotCount, f_candTotal, a_soft, a_rankSlot, a_prefix, a_metric, a_freeSlots, a_alpha, a_blockOf, a_refs, a_freeBlocks, a_freeBlockCount, a_leftSum, a_candCost, a_candPrefix, a_candSlot, a_candOrder, a_uses) (nI p) := by
  obtain ⟨k, q, e, hk, hq, eS, hlq, hS'⟩ := sl_cln hS hcn
  unfold wpX_cloneSlot
  dsimp only
  rw [e]
  refine br_f (nI_ne0 (by omega) (by omega)) (nm_r (nI_pred k) ⟨vp_in_nI hk (by decide), ?_⟩)
  rw [nI_clamp (by omega), eS]
  refine nm_e ⟨n + 1, x_cln31 hn hL hp hlp hq hlq a_blockOf a_leftSum ?_ n 0 (n + 1) a_blockOf a_refs a_leftSum (by omega) (by omega) (fun s' hs' => by omega) (fun s' _ hs' => hM.1 s' hs') (fun s' hs' => by omega) (fun _ _ _ _ => ⟨rfl, rfl⟩)⟩
  intro BO' RF' LS' g1 g2 g3
  refine h q BO' RF' LS' (nI k) hq hlq ⟨g1, ?_⟩ hS' ⟨g2, fun s i hi hne => g3 s i hi (Or.inr hne)⟩
  intro i hi
  rw [(g3 n i hi (Or.inl (Nat.le_refl _))).1]
  exact hM.2 i hi
end
end
section
/-! X: every kept candidate gets a slot -/
noncomputable def sz_b (p : Prop) : Bool := @decide p (Classical.propDecidable p)
theorem sz_iff {p : Prop} : sz_b p = true ↔ p := @decide_eq_true_iff p (Classical.propDecidable p)
theorem sz_f {p : Prop} : sz_b p = false ↔ ¬ p := by
  rw [← Bool.not_eq_true, sz_iff]
theorem bo_ext {a b : Bool} (h : a = true ↔ b = true) : a = b := Bool.eq_iff_iff.mpr h
/-- the image of t on the numbers below K -/
noncomputable def sz_im (t : Nat → Nat) (K : Nat) : Nat → Bool := fun j => sz_b (∃ i, i < K ∧ t i = j)
theorem im_iff {t : Nat → Nat} {K j : Nat} : sz_im t K j = true ↔ ∃ i, i < K ∧ t i = j := sz_iff
theorem ct_ex {lv : Nat → Bool} {b : Nat → Nat} {x N : Nat} : 0 < qs_ct lv b x N ↔ ∃ i, i < N ∧ lv i = true ∧ b i = x := by
  constructor
  · intro h
    apply Classical.byContradiction
    intro hn
    have : qs_ct lv b x N = 0 := cn_zero (fun i hi => by
      cases hl : lv i with
      | false => rfl
      | true =>
        have : b i ≠ x := fun z => hn ⟨i, hi, hl, z⟩
        simp [this])
    omega
  · rintro ⟨i, hi, hl, rfl⟩
    exact ct_ge1 hi hl
theorem im_cn {t : Nat → Nat} {K p : Nat} (ht : ∀ i, i < K → t i < 32) (h2 : 2 ≤ qs_ct (fun _ => true) t p K) : qs_cn (sz_im t K) 32 < K := by
  have hp : p < 32 := by
    obtain ⟨i, hi, _, e⟩ := ct_ex.mp (show 0 < qs_ct (fun _ => true) t p K by omega)
    rw [← e]; exact ht i hi
  have h := ct_share (lv := fun _ => true) (b := t) (N := K) (M := 32) (fun j hj _ => ht j hj) hp h2
  have e1 : qs_cn (fun _ => true) K = K := qs_ones K
  rw [e1] at h
  have e2 : qs_cn (sz_im t K) 32 = qs_cn (fun x => decide (0 < qs_ct (fun _ => true) t x K)) 32 := cn_congr (fun i _ => bo_ext (by
    rw [im_iff, decide_eq_true_iff, ct_ex]
    exact ⟨fun ⟨i, a, b⟩ => ⟨i, a, rfl, b⟩, fun ⟨i, a, _, b⟩ => ⟨i, a, b⟩⟩))
  rw [e2]; exact h
/-- how many of the ranks from r on below K have the parent x -/
def rm_ct (t : Nat → Nat) (r K x : Nat) : Nat := qs_ct (fun i => decide (r ≤ i)) t x K
theorem rm_s {t : Nat → Nat} {r K : Nat} (h : r < K) (x : Nat) : rm_ct t r K x = rm_ct t (r + 1) K x + (if t r = x then 1 else 0) := by
  have := ct_chg (lv := fun i => decide (r ≤ i)) (lv' := fun i => decide (r + 1 ≤ i)) (b := t) (b' := t) h (fun i _ hne => ⟨by
    by_cases e : r ≤ i
    · rw [decide_eq_true e, decide_eq_true (by omega)]
    · rw [decide_eq_false e, decide_eq_false (by omega)], rfl⟩) x
  (try dsimp only at this)
  rw [decide_eq_true (Nat.le_refl r), decide_eq_false (by omega)] at this
  rw [if_neg (show ¬ (false = true ∧ t r = x) from fun z => Bool.false_ne_true z.1)] at this
  unfold rm_ct
  by_cases e : t r = x
  · rw [if_pos ⟨rfl, e⟩] at this; rw [if_pos e]; omega
  · rw [if_neg (fun z => e z.2)] at this; rw [if_neg e]; omega
theorem rm_0 (t : Nat → Nat) (K x : Nat) : rm_ct t 0 K x = qs_ct (fun _ => true) t x K := by
  unfold rm_ct qs_ct
  exact cn_congr (fun i _ => by (try dsimp only); rw [decide_eq_true (Nat.zero_le i)])
theorem rm_cg {t t' : Nat → Nat} {r K x : Nat} (h : ∀ i, r ≤ i → i < K → t' i = t i) : rm_ct t' r K x = rm_ct t r K x := by
  unfold rm_ct qs_ct
  exact cn_congr (fun i hi => by
    by_cases e : r ≤ i
    · rw [h i e hi]
    · (try dsimp only); rw [decide_eq_false e]; rfl)
theorem rm_le {t : Nat → Nat} {r K x : Nat} : rm_ct t r K x ≤ K := cn_le _ K
theorem rm_le0 {t : Nat → Nat} {r K x : Nat} : rm_ct t r K x ≤ qs_ct (fun _ => true) t x K := by
  unfold rm_ct qs_ct
  refine qs_le (fun i _ => ?_)
  show (decide (r ≤ i) && (t i == x)).toNat ≤ (true && (t i == x)).toNat
  cases decide (r ≤ i) with
  | true => exact Nat.le_refl _
  | false => exact Nat.zero_le _
section
variable {f_levels f_length f_fullMask f_listSize f_checkLength f_checkMask f_polynomial f_freeMask f_oneMask f_freeCount f_position f_pathTotal f_least f_freeSlotCount f_candTotal : Int32} {a_soft a_rankSlot a_prefix a_metric a_freeSlots a_alpha a_blockOf a_refs a_freeBlocks a_freeBlockCount a_leftSum a_candCost a_candPrefix a_candSlot a_candOrder a_uses : Nat → Int32}
/-- what the slots' assignment gives -/
def as_ok (n K : Nat) (par t : Nat → Nat) (BO LS BO' LS' : Nat → Int32) : Prop := ∀ i s, i < K → s < n → BO' (32 * s + t i) = BO (32 * s + par i) ∧ LS' (32 * s + t i) = LS (32 * s + par i)
theorem x_as93 {post : SX → Prop} {n K : Nat} {par ord sl : Nat → Nat} (hn : n ≤ 3) (hL : f_levels = nI n) (hK : K ≤ 32) (hord : ∀ i, i < K → ord i < 64 ∧ a_candOrder i = nI (ord i) ∧ a_candSlot (ord i) = nI (par i)) (BO0 LS0 : Nat → Int32)
    (h : ∀ t RS US BO RF LS c, (∀ i, i < K → t i < 32 ∧ RS i = nI (t i)) → (∀ i i', i < K → i' < K → t i = t i' → i = i') → me_ok n (sz_im t K) BO RF a_freeBlocks a_freeBlockCount → sv_SL (sz_im t K) a_freeSlots c → as_ok n K par t BO0 LS0 BO LS → post (f_levels, f_length, f_fullMask, f_listSize, f_checkLength, f_checkMask, f_polynomial, f_freeMask, f_oneMask, f_freeCount, f_position, f_pathTotal, f_least, c, f_candTotal, a_soft, RS, a_prefix, a_metric, a_freeSlots, a_alpha, BO, RF, a_freeBlocks, a_freeBlockCount, LS, a_candCost, a_candPrefix, a_candSlot, a_candOrder, US)) :
    ∀ d r fuel t RS US BO RF LS c, r + d = K → d < fuel → (∀ i, i < K → t i < 32) → (∀ i, i < r → RS i = nI (t i)) → (∀ i, r ≤ i → i < K → t i = par i) → (∀ i i', i < r → i' < K → t i = t i' → i = i') → (∀ p, p < 32 → 0 < rm_ct t r K p → US p = nI (rm_ct t r K p)) → me_ok n (sz_im t K) BO RF a_freeBlocks a_freeBlockCount → sv_SL (sz_im t K) a_freeSlots c → as_ok n K par t BO0 LS0 BO LS → wX_assignSlots_93 post (nI K) fuel (nI r) f_levels f_length f_fullMask f_listSize f_checkLength f_checkMask f_polynomial f_freeMask f_oneMask f_freeCount f_position f_pathTotal f_least c f_candTotal a_soft RS a_prefix a_metric a_freeSlots a_alpha BO RF a_freeBlocks a_freeBlockCount LS a_candCost a_candPrefix a_candSlot a_candOrder US := by
  intro d
  induction d with
  | zero =>
    intro r fuel t RS US BO RF LS c hr hf h1 h2 h3 h4 h5 h6 h7 h8
    obtain ⟨fuel, rfl⟩ : ∃ n', fuel = n' + 1 := ⟨fuel - 1, by omega⟩
    have e : r = K := by omega
    subst e
    exact br_t (Int32.le_refl _) (h t RS US BO RF LS c (fun i hi => ⟨h1 i hi, h2 i hi⟩) h4 h6 h7 h8)
  | succ d ih =>
    intro r fuel t RS US BO RF LS c hr hf h1 h2 h3 h4 h5 h6 h7 h8
    obtain ⟨fuel, rfl⟩ : ∃ n', fuel = n' + 1 := ⟨fuel - 1, by omega⟩
    have hrK : r < K := by omega
    obtain ⟨o1, o2, o3⟩ := hord r hrK
    have htr : t r = par r := h3 r (Nat.le_refl _) hrK
    have hp32 : t r < 32 := h1 r hrK
    have hs := fun x => rm_s (t := t) hrK x
    have hsr := hs (t r)
    rw [if_pos rfl] at hsr
    have hrl := rm_le (t := t) (r := r) (K := K) (x := t r)
    have eU := h5 (t r) hp32 (by omega)
    have v32 : vp_in (nI (t r)) 32 := vp_in_nI hp32 (by decide)
    unfold wX_assignSlots_93
    refine br_f (nI_ge (by omega) (by omega)) ⟨vp_in_nI (by omega) (by decide), ?_⟩
    rw [nI_clamp (show r < 2 ^ 31 by omega), o2, nI_clamp (show ord r < 2 ^ 31 by omega), o3, ← htr]
    refine ⟨vp_in_nI o1 (by decide), nm_e ⟨v32, ?_⟩⟩
    rw [nI_clamp (show t r < 2 ^ 31 by omega), eU]
    by_cases hle : rm_ct t r K (t r) ≤ 1
    · refine br_t (nI_le (b := 1) hle (by decide)) ⟨vp_in_nI (by omega) (by decide), nm_e (nm_r (nI_1 r) (ih (r + 1) fuel t _ US BO RF LS c (by omega) (by omega) h1 ?_ (fun i hi hi2 => h3 i (by omega) hi2) ?_ ?_ h6 h7 h8))⟩
      · intro i hi
        by_cases e : i = r
        · rw [e, pk_us]
        · rw [pk_un e]; exact h2 i (by omega)
      · intro i i' hi hi' he
        by_cases e : i = r
        · subst e
          by_cases e2 : i' < i
          · exact (h4 i' i e2 hrK he.symm).symm
          · by_cases e3 : i' = i
            · exact e3.symm
            · exfalso
              have : 0 < rm_ct t (i + 1) K (t i) := ct_ex.mpr ⟨i', hi', decide_eq_true (by omega), he.symm⟩
              omega
        · exact h4 i i' (by omega) hi' he
      · intro p hp h0
        have := hs p
        by_cases e : t r = p
        · subst e; omega
        · rw [if_neg e] at this
          rw [h5 p hp (by omega)]
          exact congrArg nI (by omega)
    · refine br_f (nI_ge (a := 1) (by omega) (by omega)) ⟨v32, v32, ?_⟩
      rw [wk_pm1 (by omega)]
      refine nm_e ?_
      have hct : 2 ≤ qs_ct (fun _ => true) t (t r) K := by
        have := rm_le0 (t := t) (r := r) (K := K) (x := t r)
        omega
      have hcn := im_cn h1 hct
      refine x_clone (lv := sz_im t K) hn hL hp32 (im_iff.mpr ⟨r, hrK, rfl⟩) (by omega) h6 h7 ?_
      intro q BO' RF' LS' c' hq hlq hM' hS' hcl
      have hnq : ∀ i, i < K → t i ≠ q := fun i hi z => by
        have : sz_im t K q = true := im_iff.mpr ⟨i, hi, z⟩
        rw [hlq] at this
        exact Bool.false_ne_true this
      have him : sz_im (fun i => if i = r then q else t i) K = sv_on (sz_im t K) q := by
        funext j
        refine bo_ext ?_
        rw [im_iff]
        by_cases ej : j = q
        · rw [ej, on_s]
          exact ⟨fun _ => rfl, fun _ => ⟨r, hrK, if_pos rfl⟩⟩
        · rw [on_n ej, im_iff]
          constructor
          · rintro ⟨i, hi, e⟩
            by_cases ei : i = r
            · rw [if_pos ei] at e; exact absurd e.symm ej
            · rw [if_neg ei] at e; exact ⟨i, hi, e⟩
          · rintro ⟨i, hi, e⟩
            by_cases ei : i = r
            · have hex : 0 < rm_ct t (r + 1) K (t r) := by omega
              obtain ⟨i2, g1, g2, g3⟩ := ct_ex.mp hex
              have g2' : r + 1 ≤ i2 := of_decide_eq_true g2
              exact ⟨i2, g1, by rw [if_neg (by omega), g3, ← e, ei]⟩
            · exact ⟨i, hi, by rw [if_neg ei]; exact e⟩
      dsimp only
      refine ⟨vp_in_nI (by omega) (by decide), nm_e (nm_r (nI_1 r) ?_)⟩
      refine ih (r + 1) fuel (fun i => if i = r then q else t i) _ _ BO' RF' LS' c' (by omega) (by omega) ?_ ?_ ?_ ?_ ?_ (by rw [him]; exact hM') (by rw [him]; exact hS') ?_
      · intro i hi
        by_cases e : i = r
        · rw [if_pos e]; exact hq
        · rw [if_neg e]; exact h1 i hi
      · intro i hi
        by_cases e : i = r
        · rw [if_pos e, e, pk_us]
        · rw [if_neg e, pk_un e]; exact h2 i (by omega)
      · intro i hi hi2
        rw [if_neg (by omega)]
        exact h3 i (by omega) hi2
      · intro i i' hi hi' he
        by_cases e : i = r
        · by_cases e2 : i' = r
          · omega
          · rw [if_pos e, if_neg e2] at he
            exact absurd he.symm (hnq i' hi')
        · by_cases e2 : i' = r
          · rw [if_neg e, if_pos e2] at he
            exact absurd he (hnq i (by omega))
          · rw [if_neg e, if_neg e2] at he
            exact h4 i i' (by omega) hi' he
      · intro p hp h0
        rw [rm_cg (t := t) (fun i hi hi2 => if_neg (by omega))] at h0 ⊢
        have := hs p
        by_cases e : p = t r
        · rw [e, pk_us]
          exact congrArg nI (by omega)
        · rw [pk_un e]
          rw [if_neg (fun z => e z.symm)] at this
          rw [h5 p hp (by omega)]
          exact congrArg nI (by omega)
      · intro i s hi hsn
        (try dsimp only)
        by_cases e : i = r
        · rw [if_pos e, e]
          obtain ⟨g1, g2⟩ := hcl.1 s hsn
          rw [g1, g2]
          exact h8 r s hrK hsn
        · rw [if_neg e]
          obtain ⟨g1, g2⟩ := hcl.2 s (t i) (h1 i hi) (hnq i hi)
          rw [g1, g2]
          exact h8 i s hi hsn
/-- the slots live while those without a kept candidate are given back: r ranks are seen -/
noncomputable def lr_im (sg : Nat → Nat) (T : Nat) (up : Nat → Nat) (r : Nat) : Nat → Bool := fun j => sz_b (∃ i, i < T ∧ sg i = j ∧ (r ≤ i ∨ 0 < up j))
theorem x_as56 {post : SX → Prop} {n K T : Nat} {par ord sg : Nat → Nat} (hn : n ≤ 3) (hL : f_levels = nI n) (hK : K ≤ 32) (hT : T ≤ 32) (hTo : f_pathTotal = nI T) (hord : ∀ i, i < K → ord i < 64 ∧ a_candOrder i = nI (ord i) ∧ a_candSlot (ord i) = nI (par i)) (hsg : ∀ i, i < T → sg i < 32 ∧ a_rankSlot i = nI (sg i)) (hinj : ∀ i i', i < T → i' < T → sg i = sg i' → i = i') (hpar : ∀ i, i < K → ∃ i', i' < T ∧ sg i' = par i) (hU : ∀ p, p < 32 → a_uses p = nI (qs_ct (fun _ => true) par p K))
    (h : ∀ t RS US BO RF FB FC LS FS c, (∀ i, i < K → t i < 32 ∧ RS i = nI (t i)) → (∀ i i', i < K → i' < K → t i = t i' → i = i') → me_ok n (sz_im t K) BO RF FB FC → sv_SL (sz_im t K) FS c → as_ok n K par t a_blockOf a_leftSum BO LS → post (f_levels, f_length, f_fullMask, f_listSize, f_checkLength, f_checkMask, f_polynomial, f_freeMask, f_oneMask, f_freeCount, f_position, f_pathTotal, f_least, c, f_candTotal, a_soft, RS, a_prefix, a_metric, FS, a_alpha, BO, RF, FB, FC, LS, a_candCost, a_candPrefix, a_candSlot, a_candOrder, US)) :
    ∀ d r fuel RF FB FC FS c, r + d = T → d < fuel → me_ok n (lr_im sg T (fun p => qs_ct (fun _ => true) par p K) r) a_blockOf RF FB FC → sv_SL (lr_im sg T (fun p => qs_ct (fun _ => true) par p K) r) FS c → wX_assignSlots_56 post (nI K) fuel (nI r) f_levels f_length f_fullMask f_listSize f_checkLength f_checkMask f_polynomial f_freeMask f_oneMask f_freeCount f_position f_pathTotal f_least c f_candTotal a_soft a_rankSlot a_prefix a_metric FS a_alpha a_blockOf RF FB FC a_leftSum a_candCost a_candPrefix a_candSlot a_candOrder a_uses := by
  have hcK : ∀ p, qs_ct (fun _ => true) par p K ≤ K := fun p => cn_le _ K
  intro d
  induction d with
  | zero =>
    intro r fuel RF FB FC FS c hr hf hM hS
    obtain ⟨fuel, rfl⟩ : ∃ n', fuel = n' + 1 := ⟨fuel - 1, by omega⟩
    have e : r = T := by omega
    subst e
    have him : lr_im sg r (fun p => qs_ct (fun _ => true) par p K) r = sz_im par K := by
      funext j
      refine bo_ext ?_
      unfold lr_im
      rw [sz_iff, im_iff]
      constructor
      · rintro ⟨i, hi, e, hor⟩
        (try dsimp only at hor)
        obtain ⟨i2, g1, _, g2⟩ := ct_ex.mp (show 0 < qs_ct (fun _ => true) par j K by omega)
        exact ⟨i2, g1, g2⟩
      · rintro ⟨i, hi, e⟩
        obtain ⟨i', g1, g2⟩ := hpar i hi
        exact ⟨i', g1, g2.trans e, Or.inr (ct_ex.mpr ⟨i, hi, rfl, e⟩)⟩
    rw [him] at hM hS
    have hp32 : ∀ i, i < K → par i < 32 := fun i hi => by
      obtain ⟨i', g1, g2⟩ := hpar i hi
      rw [← g2]; exact (hsg i' g1).1
    refine br_t (by rw [hTo]; exact Int32.le_refl _) ⟨K + 1, ?_⟩
    refine x_as93 (par := par) (ord := ord) (sl := par) hn hL hK hord a_blockOf a_leftSum ?_ K 0 (K + 1) par a_rankSlot a_uses a_blockOf RF a_leftSum c (by omega) (by omega) hp32 (fun i hi => by omega) (fun _ _ _ => rfl) (fun i i' hi => by omega) ?_ hM hS (fun _ _ _ _ => ⟨rfl, rfl⟩)
    · intro t RS US BO RF' LS c'
      exact h t RS US BO RF' FB FC LS FS c'
    · intro p hp _
      rw [rm_0]; exact hU p hp
  | succ d ih =>
    intro r fuel RF FB FC FS c hr hf hM hS
    obtain ⟨fuel, rfl⟩ : ∃ n', fuel = n' + 1 := ⟨fuel - 1, by omega⟩
    obtain ⟨g1, g2⟩ := hsg r (by omega)
    have hc := hcK (sg r)
    unfold wX_assignSlots_56
    refine br_f (by rw [hTo]; exact nI_ge (by omega) (by omega)) ⟨vp_in_nI (by omega) (by decide), ?_⟩
    rw [nI_clamp (show r < 2 ^ 31 by omega), g2]
    refine nm_e ⟨vp_in_nI g1 (by decide), ?_⟩
    rw [nI_clamp (show sg r < 2 ^ 31 by omega), hU (sg r) g1]
    by_cases h0 : qs_ct (fun _ => true) par (sg r) K = 0
    · rw [h0]
      refine br_t rfl (x_release hn hL g1 ?_ hM hS ?_)
      · exact sz_iff.mpr ⟨r, by omega, rfl, Or.inl (Nat.le_refl _)⟩
      · intro RF' FB' FC' FS' c' hM' hS'
        have him : sv_off (lr_im sg T (fun p => qs_ct (fun _ => true) par p K) r) (sg r) = lr_im sg T (fun p => qs_ct (fun _ => true) par p K) (r + 1) := by
          funext j
          refine bo_ext ?_
          by_cases ej : j = sg r
          · rw [ej, off_s]
            constructor
            · intro z; exact absurd z Bool.false_ne_true
            · intro z
              obtain ⟨i, hi, e, hor⟩ := sz_iff.mp z
              have := hinj i r hi (by omega) e
              exfalso
              rcases hor with hor | hor
              · omega
              · (try dsimp only at hor); rw [h0] at hor; omega
          · rw [off_n ej]
            unfold lr_im
            rw [sz_iff, sz_iff]
            constructor
            · rintro ⟨i, hi, e, hor⟩
              refine ⟨i, hi, e, ?_⟩
              rcases hor with hor | hor
              · by_cases ei : i = r
                · rw [ei] at e; exact absurd e.symm ej
                · exact Or.inl (by omega)
              · exact Or.inr hor
            · rintro ⟨i, hi, e, hor⟩
              refine ⟨i, hi, e, ?_⟩
              rcases hor with hor | hor
              · exact Or.inl (by omega)
              · exact Or.inr hor
        rw [him] at hM' hS'
        dsimp only
        exact nm_r (nI_1 r) (ih (r + 1) fuel RF' FB' FC' FS' c' (by omega) (by omega) hM' hS')
    · have him : lr_im sg T (fun p => qs_ct (fun _ => true) par p K) r = lr_im sg T (fun p => qs_ct (fun _ => true) par p K) (r + 1) := by
        funext j
        refine bo_ext ?_
        unfold lr_im
        rw [sz_iff, sz_iff]
        constructor
        · rintro ⟨i, hi, e, hor⟩
          refine ⟨i, hi, e, ?_⟩
          rcases hor with hor | hor
          · by_cases ei : i = r
            · rw [ei] at e
              exact Or.inr (by (try dsimp only); rw [← e]; omega)
            · exact Or.inl (by omega)
          · exact Or.inr hor
        · rintro ⟨i, hi, e, hor⟩
          refine ⟨i, hi, e, ?_⟩
          rcases hor with hor | hor
          · exact Or.inl (by omega)
          · exact Or.inr hor
      rw [him] at hM hS
      exact br_f (nI_ne0 (by omega) (by omega)) (nm_r (nI_1 r) (ih (r + 1) fuel RF FB FC FS c (by omega) (by omega) hM hS))
theorem x_assign {post : SX → Prop} {n K T : Nat} {par ord sg : Nat → Nat} (hn : n ≤ 3) (hL : f_levels = nI n) (hK : K ≤ 32) (hT : T ≤ 32) (hTo : f_pathTotal = nI T) (hord : ∀ i, i < K → ord i < 64 ∧ a_candOrder i = nI (ord i) ∧ a_candSlot (ord i) = nI (par i)) (hsg : ∀ i, i < T → sg i < 32 ∧ a_rankSlot i = nI (sg i)) (hinj : ∀ i i', i < T → i' < T → sg i = sg i' → i = i') (hpar : ∀ i, i < K → ∃ i', i' < T ∧ sg i' = par i) (hM : me_ok n (sz_im sg T) a_blockOf a_refs a_freeBlocks a_freeBlockCount) (hS : sv_SL (sz_im sg T) a_freeSlots f_freeSlotCount)
    (h : ∀ t RS US BO RF FB FC LS FS c, (∀ i, i < K → t i < 32 ∧ RS i = nI (t i)) → (∀ i i', i < K → i' < K → t i = t i' → i = i') → me_ok n (sz_im t K) BO RF FB FC → sv_SL (sz_im t K) FS c → as_ok n K par t a_blockOf a_leftSum BO LS → post (f_levels, f_length, f_fullMask, f_listSize, f_checkLength, f_checkMask, f_polynomial, f_freeMask, f_oneMask, f_freeCount, f_position, f_pathTotal, f_least, c, f_candTotal, a_soft, RS, a_prefix, a_metric, FS, a_alpha, BO, RF, FB, FC, LS, a_candCost, a_candPrefix, a_candSlot, a_candOrder, US)) : wpX_assignSlots post (f_levels, f_length, f_fullMask, f_listSize, f_checkLength, f_checkMask, f_polynomial, f_freeMask, f_oneMask, f_freeCount, f_position, f_pathTotal, f_least, f_freeSlotCount, f_candTotal, a_soft, a_rankSlot, a_prefix, a_metric, a_freeSlots, a_alpha, a_blockOf, a_refs, a_freeBlocks, a_freeBlockCount, a_leftSum, a_candCost, a_candPrefix, a_candSlot, a_candOrder, a_uses) (nI K) := by
  have hp32 : ∀ i, i < K → par i < 32 := fun i hi => by
    obtain ⟨i', g1, g2⟩ := hpar i hi
    rw [← g2]; exact (hsg i' g1).1
  have him : sz_im sg T = lr_im sg T (fun p => qs_ct (fun _ => true) par p K) 0 := by
    funext j
    refine bo_ext ?_
    unfold lr_im
    rw [sz_iff, im_iff]
    exact ⟨fun ⟨i, a, b⟩ => ⟨i, a, b, Or.inl (Nat.zero_le _)⟩, fun ⟨i, a, b, _⟩ => ⟨i, a, b⟩⟩
  rw [him] at hM hS
  have h23 : ∀ d r fuel US, r + d = K → d < fuel → (∀ p, p < 32 → US p = nI (qs_ct (fun _ => true) par p r)) → wX_assignSlots_23 post (nI K) f_levels f_length f_fullMask f_listSize f_checkLength f_checkMask f_polynomial f_freeMask f_oneMask f_freeCount f_position f_pathTotal f_least f_freeSlotCount f_candTotal fuel (nI r) a_soft a_rankSlot a_prefix a_metric a_freeSlots a_alpha a_blockOf a_refs a_freeBlocks a_freeBlockCount a_leftSum a_candCost a_candPrefix a_candSlot a_candOrder US := by
    intro d
    induction d with
    | zero =>
      intro r fuel US hr hf hU
      obtain ⟨fuel, rfl⟩ : ∃ n', fuel = n' + 1 := ⟨fuel - 1, by omega⟩
      have e : r = K := by omega
      subst e
      exact br_t (Int32.le_refl _) ⟨T + 1, x_as56 hn hL hK hT hTo hord hsg hinj hpar hU h T 0 (T + 1) a_refs a_freeBlocks a_freeBlockCount a_freeSlots f_freeSlotCount (by omega) (by omega) hM hS⟩
    | succ d ih =>
      intro r fuel US hr hf hU
      obtain ⟨fuel, rfl⟩ : ∃ n', fuel = n' + 1 := ⟨fuel - 1, by omega⟩
      obtain ⟨o1, o2, o3⟩ := hord r (by omega)
      have hp := hp32 r (by omega)
      have v32 : vp_in (nI (par r)) 32 := vp_in_nI hp (by decide)
      unfold wX_assignSlots_23
      refine br_f (nI_ge (by omega) (by omega)) ⟨vp_in_nI (by omega) (by decide), ?_⟩
      rw [nI_clamp (show r < 2 ^ 31 by omega), o2, nI_clamp (show ord r < 2 ^ 31 by omega), o3, nI_clamp (show par r < 2 ^ 31 by omega), hU _ hp, nI_1]
      refine ⟨vp_in_nI o1 (by decide), v32, v32, nm_e (nm_r (nI_1 r) (ih (r + 1) fuel _ (by omega) (by omega) ?_))⟩
      intro p hp2
      have e1 : qs_ct (fun _ => true) par p (r + 1) = qs_ct (fun _ => true) par p r + (true && (par r == p)).toNat := rfl
      rw [ct_bool] at e1
      by_cases e : p = par r
      · rw [if_pos ⟨rfl, e.symm⟩] at e1
        rw [e1, e, pk_us]
      · rw [if_neg (fun z => e z.2.symm)] at e1
        rw [pk_un e, e1]; exact hU p hp2
  have h2 : ∀ d r fuel US, r + d = 32 → d < fuel → (∀ p, p < r → US p = 0) → wX_assignSlots_2 post (nI K) f_levels f_length f_fullMask f_listSize f_checkLength f_checkMask f_polynomial f_freeMask f_oneMask f_freeCount f_position f_pathTotal f_least f_freeSlotCount f_candTotal fuel (nI r) a_soft a_rankSlot a_prefix a_metric a_freeSlots a_alpha a_blockOf a_refs a_freeBlocks a_freeBlockCount a_leftSum a_candCost a_candPrefix a_candSlot a_candOrder US := by
    intro d
    induction d with
    | zero =>
      intro r fuel US hr hf hU
      obtain ⟨fuel, rfl⟩ : ∃ n', fuel = n' + 1 := ⟨fuel - 1, by omega⟩
      have e : r = 32 := by omega
      subst e
      exact br_t (by decide) ⟨K + 1, h23 K 0 (K + 1) US (by omega) (by omega) (fun p hp => by rw [hU p hp]; rfl)⟩
    | succ d ih =>
      intro r fuel US hr hf hU
      obtain ⟨fuel, rfl⟩ : ∃ n', fuel = n' + 1 := ⟨fuel - 1, by omega⟩
      unfold wX_assignSlots_2
      refine br_f (nI_ge (b := 32) (by omega) (by decide)) ⟨vp_in_nI (by omega) (by decide), ?_⟩
      rw [nI_clamp (by omega)]
      refine nm_e (nm_r (nI_1 r) (ih (r + 1) fuel _ (by omega) (by omega) ?_))
      intro p hp
      by_cases e : p = r
      · rw [e, pk_us]
      · rw [pk_un e]; exact hU p (by omega)
  unfold wpX_assignSlots
  dsimp only
  exact ⟨33, h2 32 0 33 a_uses (by omega) (by omega) (fun p hp => by omega)⟩
end
end
section
/-! X: the running sums, the new list -/
theorem fb_lo {m s s' : Nat} (hs : s ≤ 3) (h : s' < s) (h1 : m % 2 ^ s = 2 ^ s - 1) : (m + 1) / 2 ^ s' % 2 = 0 := by
  rcases (show s = 0 ∨ s = 1 ∨ s = 2 ∨ s = 3 by omega) with rfl | rfl | rfl | rfl <;> rcases (show s' = 0 ∨ s' = 1 ∨ s' = 2 by omega) with rfl | rfl | rfl <;> omega
theorem fb_at {m s : Nat} (hs : s ≤ 3) (h1 : m % 2 ^ s = 2 ^ s - 1) : (m + 1) / 2 ^ s = m / 2 ^ s + 1 := by
  rcases (show s = 0 ∨ s = 1 ∨ s = 2 ∨ s = 3 by omega) with rfl | rfl | rfl | rfl <;> omega
theorem fb_hi {m s s' : Nat} (hs : s' ≤ 3) (h : s < s') (h1 : m % 2 ^ s = 2 ^ s - 1) (h0 : m / 2 ^ s % 2 = 0) : (m + 1) / 2 ^ s' = m / 2 ^ s' := by
  rcases (show s = 0 ∨ s = 1 ∨ s = 2 by omega) with rfl | rfl | rfl <;> rcases (show s' = 1 ∨ s' = 2 ∨ s' = 3 by omega) with rfl | rfl | rfl <;> omega
theorem fb_up {m s : Nat} (hs : s ≤ 2) (h1 : m % 2 ^ s = 2 ^ s - 1) (h0 : m / 2 ^ s % 2 = 1) : m % 2 ^ (s + 1) = 2 ^ (s + 1) - 1 := by
  rcases (show s = 0 ∨ s = 1 ∨ s = 2 by omega) with rfl | rfl | rfl <;> omega
theorem fb_q {m s : Nat} (hs : s ≤ 2) (h0 : m / 2 ^ s % 2 = 1) : (m / 2 ^ s - 1) * 2 ^ s = m / 2 ^ (s + 1) * 2 ^ (s + 1) ∧ (m / 2 ^ s - 1) * 2 ^ s + 2 ^ s = m / 2 ^ s * 2 ^ s := by
  rcases (show s = 0 ∨ s = 1 ∨ s = 2 by omega) with rfl | rfl | rfl <;> omega
theorem fb_le {m s : Nat} : m / 2 ^ s * 2 ^ s ≤ m := Nat.div_mul_le_self m (2 ^ s)
/-- the left node's codeword hangs on the bits below it end -/
theorem EN_part {s c d w v : Nat} (h : dc_ag c w v) (hd : d + 2 ^ s ≤ c) : dc_EN s (w / 2 ^ d) = dc_EN s (v / 2 ^ d) := EN_ag s _ _ (ag_div (ag_le h (by omega)))
section
variable {f_levels f_length f_fullMask f_listSize f_checkLength f_checkMask f_polynomial f_freeMask f_oneMask f_freeCount f_position f_pathTotal f_least f_freeSlotCount f_candTotal : Int32} {a_soft a_rankSlot a_prefix a_metric a_freeSlots a_alpha a_blockOf a_refs a_freeBlocks a_freeBlockCount a_leftSum a_candCost a_candPrefix a_candSlot a_candOrder a_uses : Nat → Int32}
theorem x_fold {post : SX → Prop} {n m j w v : Nat} (hn : n ≤ 3) (hL : f_levels = nI n) (hm : m < 2 ^ n) (hj : j < 32) (hag : dc_ag m v w) (hLS : ls_ok n w m a_leftSum j)
    (h : ∀ LS', ls_ok n v (m + 1) LS' j → (∀ s i, i < 32 → i ≠ j → LS' (32 * s + i) = a_leftSum (32 * s + i)) → post (f_levels, f_length, f_fullMask, f_listSize, f_checkLength, f_checkMask, f_polynomial, f_freeMask, f_oneMask, f_freeCount, f_position, f_pathTotal, f_least, f_freeSlotCount, f_candTotal, a_soft, a_rankSlot, a_prefix, a_metric, a_freeSlots, a_alpha, a_blockOf, a_refs, a_freeBlocks, a_freeBlockCount, LS', a_candCost, a_candPrefix, a_candSlot, a_candOrder, a_uses)) : wpX_foldBit post (f_levels, f_length, f_fullMask, f_listSize, f_checkLength, f_checkMask, f_polynomial, f_freeMask, f_oneMask, f_freeCount, f_position, f_pathTotal, f_least, f_freeSlotCount, f_candTotal, a_soft, a_rankSlot, a_prefix, a_metric, a_freeSlots, a_alpha, a_blockOf, a_refs, a_freeBlocks, a_freeBlockCount, a_leftSum, a_candCost, a_candPrefix, a_candSlot, a_candOrder, a_uses) (nI j) (nI (v.testBit m).toNat) (nI m) := by
  have h8 := dc_two8 hn
  have keepH : ∀ s s', s < s' → s' < n → m % 2 ^ s = 2 ^ s - 1 → m / 2 ^ s % 2 = 0 → (m + 1) / 2 ^ s' % 2 = 1 → a_leftSum (32 * s' + j) = nI (dc_EN s' (v / 2 ^ (((m + 1) / 2 ^ s' - 1) * 2 ^ s'))) := by
    intro s s' h1 h2 h3 h4 h5
    rw [fb_hi (by omega) h1 h3 h4] at h5 ⊢
    rw [hLS s' h2 h5]
    have hq := fb_q (show s' ≤ 2 by omega) h5
    have hle := fb_le (m := m) (s := s')
    rw [EN_part (ag_symm hag) (by omega)]
  have fin : ∀ s, s ≤ n → m % 2 ^ s = 2 ^ s - 1 → (s = n ∨ m / 2 ^ s % 2 = 0) → wX_foldBit_68 post (nI j) (nI (dc_EN s (v / 2 ^ (m / 2 ^ s * 2 ^ s)))) (nI s) f_levels f_length f_fullMask f_listSize f_checkLength f_checkMask f_polynomial f_freeMask f_oneMask f_freeCount f_position f_pathTotal f_least f_freeSlotCount f_candTotal a_soft a_rankSlot a_prefix a_metric a_freeSlots a_alpha a_blockOf a_refs a_freeBlocks a_freeBlockCount a_leftSum a_candCost a_candPrefix a_candSlot a_candOrder a_uses := by
    intro s hs h1 hor
    unfold wX_foldBit_68
    by_cases e : s = n
    · refine br_t (by rw [hL, e]; exact Int32.le_refl _) (h a_leftSum ?_ (fun _ _ _ _ => rfl))
      intro s' hs' h5
      rw [fb_lo (by omega) (show s' < s by omega) h1] at h5
      exact absurd h5 (by decide)
    · have h0 : m / 2 ^ s % 2 = 0 := by
        rcases hor with z | z
        · exact absurd z e
        · exact z
      refine br_f (by rw [hL]; exact nI_ge (by omega) (by omega)) ?_
      rw [wk_s5 (by omega), nI_add]
      refine ⟨vp_in_nI (by omega) (by decide), ?_⟩
      rw [nI_clamp (by omega)]
      refine nm_e (h _ ?_ ?_)
      · intro s' hs' h5
        rcases Nat.lt_trichotomy s' s with z | z | z
        · rw [fb_lo (by omega) z h1] at h5
          exact absurd h5 (by decide)
        · subst z
          rw [pk_us, fb_at (by omega) h1, Nat.add_sub_cancel]
        · rw [pk_un (by omega)]
          exact keepH s s' z hs' h1 h0 h5
      · intro s' i hi hne
        exact pk_un (by omega)
  have go : ∀ d s fuel, s + d = n → d < fuel → m % 2 ^ s = 2 ^ s - 1 → wX_foldBit_9 post (nI j) (nI m) f_levels f_length f_fullMask f_listSize f_checkLength f_checkMask f_polynomial f_freeMask f_oneMask f_freeCount f_position f_pathTotal f_least f_freeSlotCount f_candTotal a_soft a_rankSlot a_prefix a_metric a_freeSlots a_alpha a_blockOf a_refs a_freeBlocks a_freeBlockCount a_leftSum a_candCost a_candPrefix a_candSlot a_candOrder a_uses fuel (nI (dc_EN s (v / 2 ^ (m / 2 ^ s * 2 ^ s)))) (nI s) (nI s) := by
    intro d
    induction d with
    | zero =>
      intro s fuel hs hf h1
      obtain ⟨fuel, rfl⟩ : ∃ n', fuel = n' + 1 := ⟨fuel - 1, by omega⟩
      exact br_t (by rw [hL, show s = n by omega]; exact Int32.le_refl _) (fin s (by omega) h1 (Or.inl (by omega)))
    | succ d ih =>
      intro s fuel hs hf h1
      obtain ⟨fuel, rfl⟩ : ∃ n', fuel = n' + 1 := ⟨fuel - 1, by omega⟩
      have ht := tb_n m s
      unfold wX_foldBit_9
      refine br_f (by rw [hL]; exact nI_ge (by omega) (by omega)) ?_
      cases hb : m.testBit s with
      | false =>
        rw [hb] at ht
        exact br_f (fun z => by rw [wk_b1 (by omega), hb] at z; exact Bool.false_ne_true z) (fin s (by omega) h1 (Or.inr ht))
      | true =>
        rw [hb] at ht
        have ht' : m / 2 ^ s % 2 = 1 := ht
        have hq := fb_q (show s ≤ 2 by omega) ht'
        have hle := fb_le (m := m) (s := s)
        refine br_t ((wk_b1 (by omega)).mpr hb) ?_
        rw [wk_s5 (by omega), nI_add]
        refine ⟨vp_in_nI (by omega) (by decide), ?_⟩
        rw [nI_clamp (by omega), hLS s (by omega) ht', wk_1s (by omega)]
        have hp : 2 ^ s ≤ 4 := Nat.pow_le_pow_right (n := 2) (by decide) (show s ≤ 2 by omega)
        have hpp : 2 ^ (2 ^ s) ≤ 2 ^ 4 := Nat.pow_le_pow_right (n := 2) (by decide) hp
        have hc := EN_lt s (v / 2 ^ (m / 2 ^ s * 2 ^ s))
        have hcc : dc_EN s (v / 2 ^ (m / 2 ^ s * 2 ^ s)) * 2 ^ (2 ^ s) ≤ 16 * 16 := Nat.mul_le_mul (by omega) hpp
        refine nm_e (nm_r (e' := nI (dc_EN (s + 1) (v / 2 ^ (m / 2 ^ (s + 1) * 2 ^ (s + 1))))) ?_ (nm_r (nI_1 s) (nm_r (nI_1 s) (ih (s + 1) fuel (by omega) (by omega) (fb_up (by omega) h1 ht')))))
        rw [wk_shl (by omega) (by omega), nx_xor, nx_or, wk_or (Nat.xor_lt_two_pow (EN_lt s _) (EN_lt s _)), ← hq.1, EN_part (ag_symm hag) (by omega)]
        show _ = nI ((dc_EN s (v / 2 ^ ((m / 2 ^ s - 1) * 2 ^ s)) ^^^ dc_EN s (v / 2 ^ ((m / 2 ^ s - 1) * 2 ^ s) / 2 ^ (2 ^ s))) + dc_EN s (v / 2 ^ ((m / 2 ^ s - 1) * 2 ^ s) / 2 ^ (2 ^ s)) * 2 ^ (2 ^ s))
        rw [Nat.div_div_eq_div_mul, ← Nat.pow_add, hq.2, Nat.mul_comm (2 ^ (2 ^ s))]
  unfold wpX_foldBit
  dsimp only
  have e0 : (v.testBit m).toNat = dc_EN 0 (v / 2 ^ (m / 2 ^ 0 * 2 ^ 0)) := by
    show _ = v / 2 ^ (m / 1 * 1) % 2
    rw [Nat.div_one, Nat.mul_one, tb_n]
  rw [e0]
  exact ⟨n + 1, go n 0 (n + 1) (by omega) (by omega) (by rw [Nat.pow_zero, Nat.mod_one])⟩
theorem x_commit {post : SX → Prop} {n m K : Nat} {so : Nat → Int32} {t W pw ord : Nat → Nat} (hn : n ≤ 3) (hL : f_levels = nI n) (hm : m < 2 ^ n) (hK : K ≤ 32) (hord : ∀ i, i < K → ord i < 64 ∧ a_candOrder i = nI (ord i) ∧ a_candCost (ord i) = dc_M n so (W i) (m + 1) ∧ a_candPrefix (ord i) = nI (W i)) (ht : ∀ i, i < K → t i < 32 ∧ a_rankSlot i = nI (t i)) (hinj : ∀ i i', i < K → i' < K → t i = t i' → i = i') (hag : ∀ i, i < K → dc_ag m (W i) (pw i)) (hLS : ∀ i, i < K → ls_ok n (pw i) m a_leftSum (t i))
    (h : ∀ pre met LS, (∀ i, i < K → pre (t i) = nI (W i) ∧ met (t i) = dc_M n so (W i) (m + 1) ∧ ls_ok n (W i) (m + 1) LS (t i)) → post (f_levels, f_length, f_fullMask, f_listSize, f_checkLength, f_checkMask, f_polynomial, f_freeMask, f_oneMask, f_freeCount, f_position, nI K, f_least, f_freeSlotCount, f_candTotal, a_soft, a_rankSlot, pre, met, a_freeSlots, a_alpha, a_blockOf, a_refs, a_freeBlocks, a_freeBlockCount, LS, a_candCost, a_candPrefix, a_candSlot, a_candOrder, a_uses)) : wpX_commit post (f_levels, f_length, f_fullMask, f_listSize, f_checkLength, f_checkMask, f_polynomial, f_freeMask, f_oneMask, f_freeCount, f_position, f_pathTotal, f_least, f_freeSlotCount, f_candTotal, a_soft, a_rankSlot, a_prefix, a_metric, a_freeSlots, a_alpha, a_blockOf, a_refs, a_freeBlocks, a_freeBlockCount, a_leftSum, a_candCost, a_candPrefix, a_candSlot, a_candOrder, a_uses) (nI K) (nI m) := by
  have h8 := dc_two8 hn
  have go : ∀ d r fuel pre met LS, r + d = K → d < fuel → (∀ i, i < r → pre (t i) = nI (W i) ∧ met (t i) = dc_M n so (W i) (m + 1) ∧ ls_ok n (W i) (m + 1) LS (t i)) → (∀ i, r ≤ i → i < K → ls_ok n (pw i) m LS (t i)) → wX_commit_2 post (nI K) (nI m) fuel (nI r) f_levels f_length f_fullMask f_listSize f_checkLength f_checkMask f_polynomial f_freeMask f_oneMask f_freeCount f_position f_pathTotal f_least f_freeSlotCount f_candTotal a_soft a_rankSlot pre met a_freeSlots a_alpha a_blockOf a_refs a_freeBlocks a_freeBlockCount LS a_candCost a_candPrefix a_candSlot a_candOrder a_uses := by
    intro d
    induction d with
    | zero =>
      intro r fuel pre met LS hr hf h1 h2
      obtain ⟨fuel, rfl⟩ : ∃ n', fuel = n' + 1 := ⟨fuel - 1, by omega⟩
      have e : r = K := by omega
      subst e
      exact br_t (Int32.le_refl _) (h pre met LS h1)
    | succ d ih =>
      intro r fuel pre met LS hr hf h1 h2
      obtain ⟨fuel, rfl⟩ : ∃ n', fuel = n' + 1 := ⟨fuel - 1, by omega⟩
      obtain ⟨o1, o2, o3, o4⟩ := hord r (by omega)
      obtain ⟨t1, t2⟩ := ht r (by omega)
      unfold wX_commit_2
      refine br_f (nI_ge (by omega) (by omega)) ⟨vp_in_nI (by omega) (by decide), ?_⟩
      rw [nI_clamp (show r < 2 ^ 31 by omega), o2, t2]
      refine nm_e ⟨vp_in_nI (by omega) (by decide), nm_e ?_⟩
      rw [nI_clamp (show ord r < 2 ^ 31 by omega), nI_clamp (show t r < 2 ^ 31 by omega), o3, o4]
      refine ⟨vp_in_nI o1 (by decide), nm_e ⟨vp_in_nI t1 (by decide), nm_e ⟨vp_in_nI o1 (by decide), vp_in_nI t1 (by decide), nm_e (nm_r (wk_b (by omega)) ?_)⟩⟩⟩
      refine x_fold hn hL hm t1 (hag r (by omega)) (h2 r (Nat.le_refl _) (by omega)) ?_
      intro LS' g1 g2
      dsimp only
      refine nm_r (nI_1 r) (ih (r + 1) fuel _ _ LS' (by omega) (by omega) ?_ ?_)
      · intro i hi
        by_cases e : i = r
        · rw [e, pk_us, pk_us]; exact ⟨rfl, rfl, g1⟩
        · have hne : t i ≠ t r := fun z => e (hinj i r (by omega) (by omega) z)
          obtain ⟨q1, q2, q3⟩ := h1 i (by omega)
          rw [pk_un hne, pk_un hne]
          refine ⟨q1, q2, fun s hs h5 => ?_⟩
          rw [g2 s (t i) (ht i (by omega)).1 hne]
          exact q3 s hs h5
      · intro i hi hi2 s hs h5
        have hne : t i ≠ t r := fun z => by have := hinj i r hi2 (by omega) z; omega
        rw [g2 s (t i) (ht i hi2).1 hne]
        exact h2 i (by omega) hi2 s hs h5
  unfold wpX_commit
  dsimp only
  exact ⟨K + 1, go K 0 (K + 1) a_prefix a_metric a_leftSum (by omega) (by omega) (fun i hi => by omega) (fun i _ hi => hLS i hi)⟩
end
end
section
/-! X: its states, and one list step -/
/-- the paths' part of a state: T paths at position m, path r in slot sg r with the word w r -/
def xa_core (n : Nat) (so : Nat → Int32) (m T : Nat) (w sg : Nat → Nat) (rs pre met BO RF FB FC FS : Nat → Int32) (c : Int32) (LS al : Nat → Int32) : Prop :=
  (∀ r, r < T → sg r < 32 ∧ rs r = nI (sg r) ∧ w r < 2 ^ m ∧ pre (sg r) = nI (w r) ∧ met (sg r) = dc_M n so (w r) m) ∧
  (∀ r r', r < T → r' < T → sg r = sg r' → r = r') ∧ me_ok n (sz_im sg T) BO RF FB FC ∧ sv_SL (sz_im sg T) FS c ∧
  (∀ r, r < T → ls_ok n (w r) m LS (sg r)) ∧ (m < 2 ^ n → ∀ r, r < T → pv_all n so (w r) m BO al (sg r))
def xz_st (n ls C g fm om A : Nat) (so : Nat → Int32) (u : SX) : Prop := match u with
  | (f_levels, f_length, f_fullMask, f_listSize, f_checkLength, f_checkMask, f_polynomial, f_freeMask, f_oneMask, f_freeCount, f_position, f_pathTotal, f_least, f_freeSlotCount, f_candTotal, a_soft, a_rankSlot, a_prefix, a_metric, a_freeSlots, a_alpha, a_blockOf, a_refs, a_freeBlocks, a_freeBlockCount, a_leftSum, a_candCost, a_candPrefix, a_candSlot, a_candOrder, a_uses) => f_levels = nI n ∧ f_length = nI (2 ^ n) ∧ f_fullMask = nI (2 ^ (2 ^ n) - 1) ∧ f_listSize = nI ls ∧ f_checkLength = nI C ∧ f_checkMask = nI (2 ^ C - 1) ∧ f_polynomial = nI (g % 2 ^ C) ∧ f_freeMask = nI fm ∧ f_oneMask = nI om ∧ f_freeCount = nI A ∧ a_soft = so ∧ ∀ j, j < 32 → a_blockOf (32 * n + j) = 0
def xz_ac (n : Nat) (so : Nat → Int32) (m T : Nat) (w : Nat → Nat) (lst : Int32) (u : SX) : Prop := match u with
  | (f_levels, f_length, f_fullMask, f_listSize, f_checkLength, f_checkMask, f_polynomial, f_freeMask, f_oneMask, f_freeCount, f_position, f_pathTotal, f_least, f_freeSlotCount, f_candTotal, a_soft, a_rankSlot, a_prefix, a_metric, a_freeSlots, a_alpha, a_blockOf, a_refs, a_freeBlocks, a_freeBlockCount, a_leftSum, a_candCost, a_candPrefix, a_candSlot, a_candOrder, a_uses) => f_position = nI m ∧ f_pathTotal = nI T ∧ f_least = lst ∧ ∃ sg : Nat → Nat, xa_core n so m T w sg a_rankSlot a_prefix a_metric a_blockOf a_refs a_freeBlocks a_freeBlockCount a_freeSlots f_freeSlotCount a_leftSum a_alpha
theorem cz_fact {fr : Bool} {fb m T : Nat} {w : Nat → Nat} {c : Nat} (hfb : fb ≤ 1) (hc : c < cz_t fr T) : cz_r fr c < T ∧ ∃ b, b ≤ 1 ∧ cz_w fr fb m w c = w (cz_r fr c) + 2 ^ m * b := by
  cases fr with
  | true =>
    have h : c < 2 * T := hc
    exact ⟨show c / 2 < T by omega, c % 2, by omega, rfl⟩
  | false =>
    have h : c < T := hc
    exact ⟨h, fb, hfb, rfl⟩
theorem cz_ag {w m b : Nat} (hw : w < 2 ^ m) : dc_ag m (w + 2 ^ m * b) w := by
  intro j hj
  rw [Nat.add_comm, Nat.testBit_two_pow_mul_add _ hw, if_pos hj]
theorem dv_same {m s : Nat} (h : (m + 1) % 2 ^ s ≠ 0) : (m + 1) / 2 ^ s = m / 2 ^ s := by
  rw [Nat.succ_div, if_neg (fun z => h (Nat.mod_eq_zero_of_dvd z)), Nat.add_zero]
section
variable {f_levels f_length f_fullMask f_listSize f_checkLength f_checkMask f_polynomial f_freeMask f_oneMask f_freeCount f_position f_pathTotal f_least f_freeSlotCount f_candTotal : Int32} {a_soft a_rankSlot a_prefix a_metric a_freeSlots a_alpha a_blockOf a_refs a_freeBlocks a_freeBlockCount a_leftSum a_candCost a_candPrefix a_candSlot a_candOrder a_uses : Nat → Int32}
theorem x_adv81 {post : Int32 → SX → Prop} {n m T K : Nat} {so : Nat → Int32} {w sg ord : Nat → Nat} {fr : Bool} {fb : Nat} (hn : n ≤ 3) (hso : dc_so so) (hfb : fb ≤ 1) (hm : m < 2 ^ n) (hT : T ≤ 32) (hK : K ≤ 32) (hKt : K ≤ cz_t fr T) (hL : f_levels = nI n) (hLe : f_length = nI (2 ^ n)) (hTo : f_pathTotal = nI T)
    (hC : xa_core n so m T w sg a_rankSlot a_prefix a_metric a_blockOf a_refs a_freeBlocks a_freeBlockCount a_freeSlots f_freeSlotCount a_leftSum a_alpha)
    (hc : ca_ok (cz_t fr T) (cz_K n so fr fb m w) (fun c => sg (cz_r fr c)) ord a_candCost a_candPrefix a_candSlot a_candOrder)
    (h : ∀ tt RS US BO RF FB FC LS FS c pre met al, xa_core n so (m + 1) K (fun i => cz_w fr fb m w (ord i)) tt RS pre met BO RF FB FC FS c LS al → post (nI K) (f_levels, f_length, f_fullMask, f_listSize, f_checkLength, f_checkMask, f_polynomial, f_freeMask, f_oneMask, f_freeCount, nI (m + 1), nI K, f_least, c, f_candTotal, a_soft, RS, pre, met, FS, al, BO, RF, FB, FC, LS, a_candCost, a_candPrefix, a_candSlot, a_candOrder, US)) : wX_advance_81 post (nI m) (nI K) f_levels f_length f_fullMask f_listSize f_checkLength f_checkMask f_polynomial f_freeMask f_oneMask f_freeCount f_position f_pathTotal f_least f_freeSlotCount f_candTotal a_soft a_rankSlot a_prefix a_metric a_freeSlots a_alpha a_blockOf a_refs a_freeBlocks a_freeBlockCount a_leftSum a_candCost a_candPrefix a_candSlot a_candOrder a_uses := by
  have h8 := dc_two8 hn
  obtain ⟨k1, k2, k3, k4, k5, k6⟩ := hC
  obtain ⟨c1, c2, c3, c4⟩ := hc
  have hp8 : 2 ^ (m + 1) ≤ 2 ^ 8 := Nat.pow_le_pow_right (by decide) (by omega)
  have hT64 : cz_t fr T ≤ 64 := by unfold cz_t; split <;> omega
  have hrk : ∀ i, i < K → cz_r fr (ord i) < T := fun i hi => (cz_fact (m := m) (w := w) hfb (c2 i (by omega)).1).1
  have hwd : ∀ i, i < K → dc_ag m (cz_w fr fb m w (ord i)) (w (cz_r fr (ord i))) ∧ cz_w fr fb m w (ord i) < 2 ^ (m + 1) := by
    intro i hi
    obtain ⟨g1, b, g2, g3⟩ := cz_fact (m := m) (w := w) hfb (c2 i (by omega)).1
    rw [g3]
    exact ⟨cz_ag (k1 _ g1).2.2.1, w_next (k1 _ g1).2.2.1 g2⟩
  unfold wX_advance_81
  refine x_assign (T := T) (sg := sg) (ord := ord) (par := fun i => sg (cz_r fr (ord i))) hn hL hK hT hTo ?_ (fun i hi => ⟨(k1 i hi).1, (k1 i hi).2.1⟩) k2 (fun i hi => ⟨cz_r fr (ord i), hrk i hi, rfl⟩) k3 k4 ?_
  · intro i hi
    obtain ⟨g1, g2⟩ := c2 i (by omega)
    exact ⟨by omega, g2, (c1 (ord i) g1).2⟩
  intro tt RS US BO RF FB FC LS FS c ht hinj hM hS has
  dsimp only
  have hvw : ∀ i s k, i < K → s ≤ n → al_vw BO a_alpha s (tt i) k = al_vw a_blockOf a_alpha s (sg (cz_r fr (ord i))) k := by
    intro i s k hi hs
    unfold al_vw
    by_cases e : s = n
    · rw [e, hM.2 _ (ht i hi).1, k3.2 _ (k1 _ (hrk i hi)).1]
    · rw [(has i s hi (by omega)).1]
  refine x_commit (so := so) (t := tt) (W := fun i => cz_w fr fb m w (ord i)) (pw := fun i => w (cz_r fr (ord i))) (ord := ord) hn hL hm hK ?_ ht hinj (fun i hi => (hwd i hi).1) ?_ ?_
  · intro i hi
    obtain ⟨g1, g2⟩ := c2 i (by omega)
    obtain ⟨⟨q1, q2, q3⟩, _⟩ := c1 (ord i) g1
    refine ⟨by omega, g2, ?_, ?_⟩
    · rw [q2]; exact key_cost hn hso (by omega)
    · rw [q3]; exact congrArg nI (key_word (by have := (hwd i hi).2; omega))
  · intro i hi s hs h5
    rw [(has i s hi hs).2]
    exact k5 _ (hrk i hi) s hs h5
  intro pre met LS' hpm
  dsimp only
  refine nm_r (nI_1 m) ?_
  have core : ∀ BO' RF' FC' al', me_ok n (sz_im tt K) BO' RF' FB FC' → (m + 1 < 2 ^ n → ∀ r, r < K → pv_all n so (cz_w fr fb m w (ord r)) (m + 1) BO' al' (tt r)) → xa_core n so (m + 1) K (fun i => cz_w fr fb m w (ord i)) tt RS pre met BO' RF' FB FC' FS c LS' al' := by
    intro BO' RF' FC' al' hM' hv
    exact ⟨fun r hr => ⟨(ht r hr).1, (ht r hr).2, (hwd r hr).2, (hpm r hr).1, (hpm r hr).2.1⟩, hinj, hM', hS, fun r hr => (hpm r hr).2.2, hv⟩
  by_cases e : 2 ^ n ≤ m + 1
  · refine br_t (by rw [hLe]; exact nI_le e (by omega)) (h tt RS US BO RF FB FC LS' FS c pre met a_alpha (core BO RF FC a_alpha hM (fun z => by omega)))
  · refine br_f (by rw [hLe]; exact nI_ge (by omega) (by omega)) ?_
    refine x_refreshAll (so := so) (w := fun i => cz_w fr fb m w (ord i)) (sg := tt) (T := K) (m := m + 1) hn (by omega) hK hL rfl rfl (fun r hr => ⟨(ht r hr).1, im_iff.mpr ⟨r, hr, rfl⟩, (ht r hr).2⟩) hinj hM ?_ (fun r hr => (hpm r hr).2.2) ?_
    · intro r hr s hs hor k hk
      rw [hvw r s k hr hs, k6 hm _ (hrk r hr) s hs k hk]
      have hdv : m / 2 ^ s = (m + 1) / 2 ^ s := by
        rcases hor with z | z
        · rw [z, Nat.div_eq_of_lt hm, Nat.div_eq_of_lt (by omega)]
        · exact (dv_same z).symm
      exact congrFun (nd_ag n s so _ _ m (m + 1) hs hdv hm (by omega) (ag_le (ag_symm (hwd r hr).1) fb_le)) k
    · intro BO' RF' FC' al' hM' hv
      dsimp only
      exact h tt RS US BO' RF' FB FC' LS' FS c pre met al' (core BO' RF' FC' al' hM' (fun _ => hv))
end
def cz_k (t ls : Nat) : Nat := if t ≤ ls then t else ls
def ld_upd (lst c : Int32) : Int32 := if lst < 0 then c else if lst ≤ c then lst else c
def ld_new (t ls : Nat) (lst c : Int32) : Int32 := if t ≤ ls then lst else ld_upd lst c
/-- the order of the step's candidates -/
def or_ok (t : Nat) (K ord : Nat → Nat) : Prop := (∀ i, i < t → ord i < t) ∧ (∀ i j, i ≤ j → j < t → K (ord i) ≤ K (ord j)) ∧ (∀ g : Nat → Nat, qs_sm (fun i => g (K (ord i))) t = qs_sm (fun i => g (K i)) t)
theorem x_advance {post : Int32 → SX → Prop} {n ls C g fm om A m T : Nat} {so : Nat → Int32} {w : Nat → Nat} {lst : Int32} {u : SX} (hn : n ≤ 3) (hso : dc_so so) (hls : ls ≤ 32) (hT : T ≤ ls) (hm : m < 2 ^ n) (hS : xz_st n ls C g fm om A so u) (hA : xz_ac n so m T w lst u)
    (h : ∀ ord u', or_ok (cz_t (fm.testBit m) T) (cz_K n so (fm.testBit m) (om.testBit m).toNat m w) ord → xz_st n ls C g fm om A so u' → xz_ac n so (m + 1) (cz_k (cz_t (fm.testBit m) T) ls) (fun i => cz_w (fm.testBit m) (om.testBit m).toNat m w (ord i)) (ld_new (cz_t (fm.testBit m) T) ls lst (nI (cz_K n so (fm.testBit m) (om.testBit m).toNat m w (ord ls) / 256))) u' → post (nI (cz_k (cz_t (fm.testBit m) T) ls)) u') : wpX_advance post u := by
  have h8 := dc_two8 hn
  obtain ⟨f_levels, f_length, f_fullMask, f_listSize, f_checkLength, f_checkMask, f_polynomial, f_freeMask, f_oneMask, f_freeCount, f_position, f_pathTotal, f_least, f_freeSlotCount, f_candTotal, a_soft, a_rankSlot, a_prefix, a_metric, a_freeSlots, a_alpha, a_blockOf, a_refs, a_freeBlocks, a_freeBlockCount, a_leftSum, a_candCost, a_candPrefix, a_candSlot, a_candOrder, a_uses⟩ := u
  obtain ⟨rfl, rfl, rfl, rfl, rfl, rfl, rfl, rfl, rfl, rfl, rfl, hz⟩ := hS
  obtain ⟨rfl, rfl, rfl, sg, hC⟩ := hA
  have hC' := hC
  obtain ⟨k1, k2, k3, k4, k5, k6⟩ := hC
  have hT64 : cz_t (fm.testBit m) T ≤ 64 := by unfold cz_t; split <;> omega
  unfold wpX_advance
  dsimp only
  refine br_f (nI_pos (by omega)) (br_t (nI_lt hm (by omega)) ?_)
  refine x_collect (lv := sz_im sg T) (sg := sg) hn hso (by omega) rfl hm rfl rfl k3 (fun r hr => ⟨(k1 r hr).1, im_iff.mpr ⟨r, hr, rfl⟩, (k1 r hr).2.1, (k1 r hr).2.2.1, (k1 r hr).2.2.2.1, (k1 r hr).2.2.2.2⟩) (k6 hm) ?_
  intro ord cost' pre' slot' order' hc
  have hor : or_ok (cz_t (fm.testBit m) T) (cz_K n a_soft (fm.testBit m) (om.testBit m).toNat m w) ord := ⟨fun i hi => (hc.2.1 i hi).1, hc.2.2.1, hc.2.2.2⟩
  dsimp only
  refine pk_le (cz_t (fm.testBit m) T) ls (fun hle => ?_) (fun hlt => ?_)
  · refine x_adv81 (fr := fm.testBit m) (fb := (om.testBit m).toNat) (sg := sg) (w := w) hn hso (Bool.toNat_le _) hm (by omega) (by omega) (Nat.le_refl _) rfl rfl rfl hC' hc ?_
    intro tt RS US BO RF FB FC LS FS c pre met al hco
    have e1 : cz_k (cz_t (fm.testBit m) T) ls = cz_t (fm.testBit m) T := if_pos hle
    rw [e1] at h
    refine h ord _ hor ⟨rfl, rfl, rfl, rfl, rfl, rfl, rfl, rfl, rfl, rfl, rfl, hco.2.2.1.2⟩ ⟨rfl, rfl, ?_, tt, hco⟩
    exact (if_pos hle).symm
  · have e1 : cz_k (cz_t (fm.testBit m) T) ls = ls := if_neg (by omega)
    rw [e1] at h
    have key : ∀ l, l = ld_upd f_least (nI (cz_K n a_soft (fm.testBit m) (om.testBit m).toNat m w (ord ls) / 256)) → wX_advance_81 post (nI m) (nI ls) (nI n) (nI (2 ^ n)) (nI (2 ^ (2 ^ n) - 1)) (nI ls) (nI C) (nI (2 ^ C - 1)) (nI (g % 2 ^ C)) (nI fm) (nI om) (nI A) (nI m) (nI T) l f_freeSlotCount (nI (cz_t (fm.testBit m) T)) a_soft a_rankSlot a_prefix a_metric a_freeSlots a_alpha a_blockOf a_refs a_freeBlocks a_freeBlockCount a_leftSum cost' pre' slot' order' a_uses := by
      intro l el
      refine x_adv81 (fr := fm.testBit m) (fb := (om.testBit m).toNat) (sg := sg) (w := w) hn hso (Bool.toNat_le _) hm (by omega) (by omega) (by omega) rfl rfl rfl hC' hc ?_
      intro tt RS US BO RF FB FC LS FS c pre met al hco
      refine h ord _ hor ⟨rfl, rfl, rfl, rfl, rfl, rfl, rfl, rfl, rfl, rfl, rfl, hco.2.2.1.2⟩ ⟨rfl, rfl, ?_, tt, hco⟩
      rw [el]
      exact (if_neg (show ¬ cz_t (fm.testBit m) T ≤ ls by omega)).symm
    obtain ⟨o1, o2⟩ := hc.2.1 ls hlt
    obtain ⟨⟨q1, q2, q3⟩, _⟩ := hc.1 (ord ls) o1
    refine ⟨vp_in_nI (by omega) (by decide), ?_⟩
    rw [nI_clamp (show ls < 2 ^ 31 by omega), o2, nI_clamp (show ord ls < 2 ^ 31 by omega), q2]
    refine ⟨vp_in_nI (by omega) (by decide), nm_e ?_⟩
    by_cases a1 : f_least < 0
    · exact br_t a1 (key _ (if_pos a1).symm)
    · by_cases a2 : f_least ≤ nI (cz_K n a_soft (fm.testBit m) (om.testBit m).toNat m w (ord ls) / 256)
      · exact br_f a1 (br_t a2 (key _ (by unfold ld_upd; rw [if_neg a1, if_pos a2])))
      · exact br_f a1 (br_f a2 (key _ (by unfold ld_upd; rw [if_neg a1, if_neg a2])))
end
section
/-! X: a new decoding -/
def nl_ok (s : Nat) (BO RF FB FC LS : Nat → Int32) : Prop := BO (32 * s) = 0 ∧ RF (32 * s) = 1 ∧ (∀ x, 0 < x → x < 32 → RF (32 * s + x) = 0) ∧ (∀ i, i < 31 → FB (32 * s + i) = nI (31 - i)) ∧ FC s = nI 31 ∧ LS (32 * s) = 0
section
variable {f_levels f_length f_fullMask f_listSize f_checkLength f_checkMask f_polynomial f_freeMask f_oneMask f_freeCount f_position f_pathTotal f_least f_freeSlotCount f_candTotal : Int32} {a_soft a_rankSlot a_prefix a_metric a_freeSlots a_alpha a_blockOf a_refs a_freeBlocks a_freeBlockCount a_leftSum a_candCost a_candPrefix a_candSlot a_candOrder a_uses : Nat → Int32}
theorem x_rs59 {post : SX → Prop} {J : Int32 → (Nat → Int32) → (Nat → Int32) → (Nat → Int32) → (Nat → Int32) → (Nat → Int32) → (Nat → Int32) → (Nat → Int32) → (Nat → Int32) → (Nat → Int32) → (Nat → Int32) → (Nat → Int32) → (Nat → Int32) → (Nat → Int32) → (Nat → Int32) → (Nat → Int32) → (Nat → Int32) → Prop} {s : Nat} (hs : s < 3) (RF0 FB0 : Nat → Int32)
    (h : ∀ RF FB, (∀ x, 0 < x → x < 32 → RF (32 * s + x) = 0) → (∀ i, i < 31 → FB (32 * s + i) = nI (31 - i)) → (∀ s' x, s' ≠ s → x < 32 → RF (32 * s' + x) = RF0 (32 * s' + x) ∧ FB (32 * s' + x) = FB0 (32 * s' + x)) → J (nI (s + 1)) a_soft a_rankSlot a_prefix a_metric a_freeSlots a_alpha (upd a_blockOf (32 * s) 0) (upd RF (32 * s) 1) FB (upd a_freeBlockCount s (nI 31)) (upd a_leftSum (32 * s) 0) a_candCost a_candPrefix a_candSlot a_candOrder a_uses) :
    ∀ d fuel RF FB, d ≤ 31 → d < fuel → (∀ x, d < x → x < 32 → RF (32 * s + x) = 0) → (∀ i, i + d < 31 → FB (32 * s + i) = nI (31 - i)) → (∀ s' x, s' ≠ s → x < 32 → RF (32 * s' + x) = RF0 (32 * s' + x) ∧ FB (32 * s' + x) = FB0 (32 * s' + x)) → wX_resetStorage_59 post J (nI s) (nI (32 * s)) f_levels f_length f_fullMask f_listSize f_checkLength f_checkMask f_polynomial f_freeMask f_oneMask f_freeCount f_position f_pathTotal f_least f_freeSlotCount f_candTotal fuel (nI (31 - d)) (nI d) a_soft a_rankSlot a_prefix a_metric a_freeSlots a_alpha a_blockOf RF FB a_freeBlockCount a_leftSum a_candCost a_candPrefix a_candSlot a_candOrder a_uses := by
  intro d
  induction d with
  | zero =>
    intro fuel RF FB hd hf h1 h2 h3
    obtain ⟨fuel, rfl⟩ : ∃ n', fuel = n' + 1 := ⟨fuel - 1, by omega⟩
    unfold wX_resetStorage_59
    refine br_t (by decide) ?_
    rw [nI_clamp (show s < 2 ^ 31 by omega), nI_clamp (show 32 * s < 2 ^ 31 by omega)]
    exact ⟨vp_in_nI hs (by decide), nm_e ⟨vp_in_nI (by omega) (by decide), nm_e ⟨vp_in_nI (by omega) (by decide), nm_e ⟨vp_in_nI (by omega) (by decide), nm_e (nm_r (nI_1 s) (h RF FB h1 h2 h3))⟩⟩⟩⟩
  | succ d ih =>
    intro fuel RF FB hd hf h1 h2 h3
    obtain ⟨fuel, rfl⟩ : ∃ n', fuel = n' + 1 := ⟨fuel - 1, by omega⟩
    unfold wX_resetStorage_59
    refine br_f (nI_nlt (b := 1) (by omega) (by omega)) ?_
    rw [nI_add, nI_add, nI_clamp (show 32 * s + (d + 1) < 2 ^ 31 by omega), nI_clamp (show 32 * s + (31 - (d + 1)) < 2 ^ 31 by omega)]
    refine ⟨vp_in_nI (by omega) (by decide), nm_e ⟨vp_in_nI (by omega) (by decide), nm_e (nm_r (nI_1 _) (nm_r (pk_m1 d) ?_))⟩⟩
    rw [show 31 - (d + 1) + 1 = 31 - d by omega]
    refine ih fuel _ _ (by omega) (by omega) ?_ ?_ ?_
    · intro x hx hx2
      by_cases e : x = d + 1
      · rw [e, pk_us]
      · rw [pk_un (by omega)]; exact h1 x (by omega) hx2
    · intro i hi
      by_cases e : i = 31 - (d + 1)
      · rw [e, pk_us]; exact congrArg nI (by omega)
      · rw [pk_un (by omega)]; exact h2 i (by omega)
    · intro s' x hs' hx
      rw [pk_un (by omega), pk_un (by omega)]
      exact h3 s' x hs' hx
theorem x_rs140 {post : SX → Prop} {T N : Nat} (hN : N ≤ 8) (hT : T + N ≤ 232) (hL : f_length = nI N)
    (h : ∀ al, (∀ k, k < N → al (T + k) = a_soft k) → post (f_levels, f_length, f_fullMask, f_listSize, f_checkLength, f_checkMask, f_polynomial, f_freeMask, f_oneMask, f_freeCount, f_position, f_pathTotal, f_least, f_freeSlotCount, f_candTotal, a_soft, a_rankSlot, a_prefix, a_metric, a_freeSlots, al, a_blockOf, a_refs, a_freeBlocks, a_freeBlockCount, a_leftSum, a_candCost, a_candPrefix, a_candSlot, a_candOrder, a_uses)) : ∀ d k fuel al, k + d = N → d < fuel → (∀ k', k' < k → al (T + k') = a_soft k') → wX_resetStorage_140 post (nI T) f_levels f_length f_fullMask f_listSize f_checkLength f_checkMask f_polynomial f_freeMask f_oneMask f_freeCount f_position f_pathTotal f_least f_freeSlotCount f_candTotal fuel (nI k) a_soft a_rankSlot a_prefix a_metric a_freeSlots al a_blockOf a_refs a_freeBlocks a_freeBlockCount a_leftSum a_candCost a_candPrefix a_candSlot a_candOrder a_uses := by
  intro d
  induction d with
  | zero =>
    intro k fuel al hk hf h1
    obtain ⟨fuel, rfl⟩ : ∃ n', fuel = n' + 1 := ⟨fuel - 1, by omega⟩
    have e : k = N := by omega
    subst e
    exact br_t (by rw [hL]; exact Int32.le_refl _) (h al h1)
  | succ d ih =>
    intro k fuel al hk hf h1
    obtain ⟨fuel, rfl⟩ : ∃ n', fuel = n' + 1 := ⟨fuel - 1, by omega⟩
    unfold wX_resetStorage_140
    refine br_f (by rw [hL]; exact nI_ge (by omega) (by omega)) ?_
    rw [nI_add, nI_clamp (show k < 2 ^ 31 by omega), nI_clamp (show T + k < 2 ^ 31 by omega)]
    refine ⟨vp_in_nI (by omega) (by decide), vp_in_nI (by omega) (by decide), nm_e (nm_r (nI_1 k) (ih (k + 1) fuel _ (by omega) (by omega) ?_))⟩
    intro k' hk'
    by_cases e : k' = k
    · rw [e, pk_us]
    · rw [pk_un (by omega)]; exact h1 k' (by omega)
theorem x_rs41 {post : SX → Prop} {n : Nat} (hn : n ≤ 3) (hL : f_levels = nI n) (hLe : f_length = nI (2 ^ n))
    (h : ∀ BO RF FB FC LS al, (∀ s, s < n → nl_ok s BO RF FB FC LS) → (∀ j, j < 32 → BO (32 * n + j) = 0) → (∀ k, k < 2 ^ n → al (al_ix n 0 k) = a_soft k) → post (f_levels, f_length, f_fullMask, f_listSize, f_checkLength, f_checkMask, f_polynomial, f_freeMask, f_oneMask, f_freeCount, f_position, f_pathTotal, f_least, f_freeSlotCount, f_candTotal, a_soft, a_rankSlot, a_prefix, a_metric, a_freeSlots, al, BO, RF, FB, FC, LS, a_candCost, a_candPrefix, a_candSlot, a_candOrder, a_uses)) :
    ∀ d s fuel BO RF FB FC LS, s + d = n → d < fuel → (∀ s', s' < s → nl_ok s' BO RF FB FC LS) → (∀ j, j < 32 → BO (32 * n + j) = 0) → wX_resetStorage_41 post f_levels f_length f_fullMask f_listSize f_checkLength f_checkMask f_polynomial f_freeMask f_oneMask f_freeCount f_position f_pathTotal f_least f_freeSlotCount f_candTotal fuel (nI s) a_soft a_rankSlot a_prefix a_metric a_freeSlots a_alpha BO RF FB FC LS a_candCost a_candPrefix a_candSlot a_candOrder a_uses := by
  have h8 := dc_two8 hn
  intro d
  induction d with
  | zero =>
    intro s fuel BO RF FB FC LS hs hf h1 h2
    obtain ⟨fuel, rfl⟩ : ∃ n', fuel = n' + 1 := ⟨fuel - 1, by omega⟩
    have e : s = n := by omega
    subst e
    unfold wX_resetStorage_41
    refine br_t (by rw [hL]; exact Int32.le_refl _) ?_
    have hb := x_blockStart (f_levels := f_levels) (f_length := f_length) (f_fullMask := f_fullMask) (f_listSize := f_listSize) (f_checkLength := f_checkLength) (f_checkMask := f_checkMask) (f_polynomial := f_polynomial) (f_freeMask := f_freeMask) (f_oneMask := f_oneMask) (f_freeCount := f_freeCount) (f_position := f_position) (f_pathTotal := f_pathTotal) (f_least := f_least) (f_freeSlotCount := f_freeSlotCount) (f_candTotal := f_candTotal) (a_soft := a_soft) (a_rankSlot := a_rankSlot) (a_prefix := a_prefix) (a_metric := a_metric) (a_freeSlots := a_freeSlots) (a_alpha := a_alpha) (a_blockOf := BO) (a_refs := RF) (a_freeBlocks := FB) (a_freeBlockCount := FC) (a_leftSum := LS) (a_candCost := a_candCost) (a_candPrefix := a_candPrefix) (a_candSlot := a_candSlot) (a_candOrder := a_candOrder) (a_uses := a_uses) (post := fun r_3 => (∃ n140 : Nat, wX_resetStorage_140 post r_3 f_levels f_length f_fullMask f_listSize f_checkLength f_checkMask f_polynomial f_freeMask f_oneMask f_freeCount f_position f_pathTotal f_least f_freeSlotCount f_candTotal n140 0 a_soft a_rankSlot a_prefix a_metric a_freeSlots a_alpha BO RF FB FC LS a_candCost a_candPrefix a_candSlot a_candOrder a_uses)) (s := s) (j := 0) (b := 0) (by omega) (by decide) (by decide) (h2 0 (by decide))
    rw [hL] at hb ⊢
    refine hb ⟨2 ^ s + 1, ?_⟩
    rw [← hL]
    refine x_rs140 (T := al_ix s 0 0) (N := 2 ^ s) h8 ?_ hLe ?_ (2 ^ s) 0 (2 ^ s + 1) a_alpha (by omega) (by omega) (fun k' hk' => by omega)
    · have hp0 : 0 < 2 ^ s := Nat.two_pow_pos s
      have := ix_lt (s := s) (b := 0) (k := 2 ^ s - 1) (by omega) (by decide) (fun _ => rfl) (by omega)
      rw [ix_k] at this
      omega
    · intro al ha
      exact h BO RF FB FC LS al h1 h2 (fun k hk => by rw [ix_k]; exact ha k hk)
  | succ d ih =>
    intro s fuel BO RF FB FC LS hs hf h1 h2
    obtain ⟨fuel, rfl⟩ : ∃ n', fuel = n' + 1 := ⟨fuel - 1, by omega⟩
    unfold wX_resetStorage_41
    refine br_f (by rw [hL]; exact nI_ge (by omega) (by omega)) (nm_r (wk_s5 (by omega)) ⟨32, ?_⟩)
    refine x_rs59 (s := s) (by omega) RF FB ?_ 31 32 RF FB (by omega) (by omega) (fun x hx hx2 => by omega) (fun i hi => by omega) (fun _ _ _ _ => ⟨rfl, rfl⟩)
    intro RF' FB' g1 g2 g3
    refine ih (s + 1) fuel _ _ _ _ _ (by omega) (by omega) ?_ ?_
    · intro s' hs'
      by_cases e : s' = s
      · subst e
        exact ⟨pk_us, pk_us, fun x hx hx2 => by rw [pk_un (by omega)]; exact g1 x hx hx2, g2, pk_us, pk_us⟩
      · obtain ⟨q1, q2, q3, q4, q5, q6⟩ := h1 s' (by omega)
        refine ⟨?_, ?_, ?_, ?_, ?_, ?_⟩
        · rw [pk_un (by omega)]; exact q1
        · rw [pk_un (by omega)]
          exact (g3 s' 0 e (by decide)).1.trans q2
        · intro x hx hx2
          rw [pk_un (by omega)]
          exact (g3 s' x e hx2).1.trans (q3 x hx hx2)
        · intro i hi
          exact (g3 s' i e (by omega)).2.trans (q4 i hi)
        · rw [pk_un e]; exact q5
        · rw [pk_un (by omega)]; exact q6
    · intro j hj
      rw [pk_un (by omega)]
      exact h2 j hj
theorem x_reset {post : SX → Prop} {n : Nat} (hn : n ≤ 3) (hL : f_levels = nI n) (hLe : f_length = nI (2 ^ n)) (hz : ∀ j, j < 32 → a_blockOf (32 * n + j) = 0)
    (h : ∀ BO RF FB FC LS FS al, (∀ s, s < n → nl_ok s BO RF FB FC LS) → (∀ j, j < 32 → BO (32 * n + j) = 0) → (∀ k, k < 2 ^ n → al (al_ix n 0 k) = a_soft k) → (∀ i, i < 31 → FS i = nI (31 - i)) → post (f_levels, f_length, f_fullMask, f_listSize, f_checkLength, f_checkMask, f_polynomial, f_freeMask, f_oneMask, f_freeCount, f_position, f_pathTotal, f_least, nI 31, f_candTotal, a_soft, a_rankSlot, a_prefix, a_metric, FS, al, BO, RF, FB, FC, LS, a_candCost, a_candPrefix, a_candSlot, a_candOrder, a_uses)) : wpX_resetStorage post (f_levels, f_length, f_fullMask, f_listSize, f_checkLength, f_checkMask, f_polynomial, f_freeMask, f_oneMask, f_freeCount, f_position, f_pathTotal, f_least, f_freeSlotCount, f_candTotal, a_soft, a_rankSlot, a_prefix, a_metric, a_freeSlots, a_alpha, a_blockOf, a_refs, a_freeBlocks, a_freeBlockCount, a_leftSum, a_candCost, a_candPrefix, a_candSlot, a_candOrder, a_uses) := by
  have go : ∀ d fuel FS, d ≤ 31 → d < fuel → (∀ i, i + d < 31 → FS i = nI (31 - i)) → wX_resetStorage_8 post f_levels f_length f_fullMask f_listSize f_checkLength f_checkMask f_polynomial f_freeMask f_oneMask f_freeCount f_position f_pathTotal f_least f_candTotal fuel (nI d) (nI (31 - d)) a_soft a_rankSlot a_prefix a_metric FS a_alpha a_blockOf a_refs a_freeBlocks a_freeBlockCount a_leftSum a_candCost a_candPrefix a_candSlot a_candOrder a_uses := by
    intro d
    induction d with
    | zero =>
      intro fuel FS hd hf h1
      obtain ⟨fuel, rfl⟩ : ∃ n', fuel = n' + 1 := ⟨fuel - 1, by omega⟩
      exact br_t (by decide) ⟨n + 1, x_rs41 hn hL hLe (fun BO RF FB FC LS al a1 a2 a3 => h BO RF FB FC LS FS al a1 a2 a3 h1) n 0 (n + 1) a_blockOf a_refs a_freeBlocks a_freeBlockCount a_leftSum (by omega) (by omega) (fun s' hs' => by omega) hz⟩
    | succ d ih =>
      intro fuel FS hd hf h1
      obtain ⟨fuel, rfl⟩ : ∃ n', fuel = n' + 1 := ⟨fuel - 1, by omega⟩
      unfold wX_resetStorage_8
      refine br_f (nI_nlt (b := 1) (by omega) (by omega)) ⟨vp_in_nI (by omega) (by decide), ?_⟩
      rw [nI_clamp (by omega)]
      refine nm_e (nm_r (nI_1 _) (nm_r (pk_m1 d) ?_))
      rw [show 31 - (d + 1) + 1 = 31 - d by omega]
      refine ih fuel _ (by omega) (by omega) ?_
      intro i hi
      by_cases e : i = 31 - (d + 1)
      · rw [e, pk_us]; exact congrArg nI (by omega)
      · rw [pk_un e]; exact h1 i (by omega)
  unfold wpX_resetStorage
  dsimp only
  exact ⟨32, go 31 32 a_freeSlots (by omega) (by omega) (fun i hi => by omega)⟩
end
theorem im_first : sz_im (fun _ => 0) 1 = fun j => decide (j = 0) := by
  funext j
  refine bo_ext ?_
  rw [im_iff, decide_eq_true_iff]
  exact ⟨fun ⟨_, _, e⟩ => e.symm, fun e => ⟨0, by decide, e.symm⟩⟩
theorem x_start {post : Int32 → SX → Prop} {n ls C g fm om A : Nat} {so : Nat → Int32} {u : SX} (hn : n ≤ 3) (hC : C ≤ 3) (hA : A ≤ 8) (hS : xz_st n ls C g fm om A so u) (h0 : A ≤ C → post (-100001) u)
    (h1 : C < A → ∀ u', xz_st n ls C g fm om A so u' → xz_ac n so 0 1 (fun _ => 0) (-1) u' → post 0 u') : wpX_start post u := by
  obtain ⟨f_levels, f_length, f_fullMask, f_listSize, f_checkLength, f_checkMask, f_polynomial, f_freeMask, f_oneMask, f_freeCount, f_position, f_pathTotal, f_least, f_freeSlotCount, f_candTotal, a_soft, a_rankSlot, a_prefix, a_metric, a_freeSlots, a_alpha, a_blockOf, a_refs, a_freeBlocks, a_freeBlockCount, a_leftSum, a_candCost, a_candPrefix, a_candSlot, a_candOrder, a_uses⟩ := u
  obtain ⟨rfl, rfl, rfl, rfl, rfl, rfl, rfl, rfl, rfl, rfl, rfl, hz⟩ := hS
  have hp0 : 0 < 2 ^ n := Nat.two_pow_pos n
  unfold wpX_start
  dsimp only
  refine x_usable (A := A) (C := C) (by omega) (by omega) rfl rfl (fun hle => br_t rfl (h0 hle)) (fun hlt => br_f (by decide) ?_)
  refine x_reset hn rfl rfl hz ?_
  intro BO RF FB FC LS FS al hnl hz' hal hFS
  dsimp only
  have hM : me_ok n (sz_im (fun _ => 0) 1) BO RF FB FC := by
    rw [im_first]
    refine ⟨fun s hs => ?_, hz'⟩
    obtain ⟨q1, q2, q3, q4, q5, q6⟩ := hnl s hs
    rw [q5]
    exact sv_new (B := sv_vw BO s) (R := sv_vw RF s) (F := sv_vw FB s) q1 q2 q3 q4
  have hLS : ls_ok n 0 0 LS 0 := by
    intro s hs h5
    rw [Nat.zero_div] at h5
    exact absurd h5 (by decide)
  refine nm_e (nm_e (nm_e ?_))
  refine x_refreshAll (so := a_soft) (w := fun _ => 0) (sg := fun _ => 0) (T := 1) (m := 0) (lv := sz_im (fun _ => 0) 1) hn hp0 (by decide) rfl rfl rfl (fun r hr => ⟨by decide, im_iff.mpr ⟨0, by decide, rfl⟩, by rw [show r = 0 by omega, pk_us]; rfl⟩) (fun r r' hr hr' _ => by omega) hM ?_ (fun r hr => hLS) ?_
  · intro r hr s hs hor k hk
    have e : s = n := by
      rcases hor with z | z
      · exact z
      · exact absurd (Nat.zero_mod _) z
    subst e
    rw [nd_id]
    show al (al_ix s (BO (32 * s + 0)).toNatClampNeg k) = a_soft k
    rw [hz' 0 (by decide), cl_0]
    exact hal k hk
  · intro BO' RF' FC' al' hM' hv
    dsimp only
    refine h1 hlt _ ⟨rfl, rfl, rfl, rfl, rfl, rfl, rfl, rfl, rfl, rfl, rfl, hM'.2⟩ ⟨rfl, rfl, rfl, (fun _ => 0), ?_, (fun r r' hr hr' _ => by omega), hM', ?_, fun r hr => hLS, fun _ => hv⟩
    · intro r hr
      refine ⟨show 0 < 32 by decide, by rw [show r = 0 by omega, pk_us]; rfl, Nat.two_pow_pos _, pk_us, pk_us⟩
    · rw [im_first]
      exact sl_new hFS
end
section
/-! codeword and weight, both sides -/
def wz_n (x : Int32) : Nat := x.toBitVec.toNat
theorem wz_nI {w : Nat} (h : w < 2 ^ 32) : wz_n (nI w) = w := pk_tn h
theorem wz_bt (x : Int32) (i : Nat) : bt x i = (wz_n x).testBit i := rfl
theorem EN_mod (n w : Nat) : dc_EN n (w % 2 ^ (2 ^ n)) = dc_EN n w := EN_ag n _ _ (fun j hj => by rw [Nat.testBit_mod_two_pow, decide_eq_true hj, Bool.true_and])
theorem cw_x1 : ∀ w, w < 4 → (nI w ^^^ ((nI w >>> ((1 : Int32) &&& 31)) &&& 85)) = nI (dc_EN 1 w) := by decide +kernel
theorem cw_x2 : ∀ w, w < 16 → ((nI w ^^^ ((nI w >>> ((1 : Int32) &&& 31)) &&& 85)) ^^^ (((nI w ^^^ ((nI w >>> ((1 : Int32) &&& 31)) &&& 85)) >>> ((2 : Int32) &&& 31)) &&& 51)) = nI (dc_EN 2 w) := by decide +kernel
def cw_a (x : Int32) : Int32 := x ^^^ ((x >>> ((1 : Int32) &&& 31)) &&& 85)
def cw_b (x : Int32) : Int32 := x ^^^ ((x >>> ((2 : Int32) &&& 31)) &&& 51)
def cw_c (x : Int32) : Int32 := x ^^^ ((x >>> ((4 : Int32) &&& 31)) &&& 15)
theorem cw_x3 : ∀ w, w < 256 → cw_c (cw_b (cw_a (nI w))) = nI (dc_EN 3 w) := by decide +kernel
theorem wz_and {n : Nat} (hn : n ≤ 3) (x : Int32) : x &&& nI (2 ^ (2 ^ n) - 1) = nI (wz_n x % 2 ^ (2 ^ n)) := pk_and x (2 ^ n) (pk_tn (by have := wk_2n hn; omega))
section
variable {f_levels f_length f_fullMask f_listSize f_checkLength f_checkMask f_polynomial f_freeMask f_oneMask f_freeCount f_position f_pathTotal f_least f_freeSlotCount f_candTotal : Int32} {a_soft a_rankSlot a_prefix a_metric a_freeSlots a_alpha a_blockOf a_refs a_freeBlocks a_freeBlockCount a_leftSum a_candCost a_candPrefix a_candSlot a_candOrder a_uses : Nat → Int32}
theorem x_codeword {post : Int32 → Prop} {n : Nat} {p0 : Int32} (h1 : 1 ≤ n) (hn : n ≤ 3) (hL : f_levels = nI n) (hF : f_fullMask = nI (2 ^ (2 ^ n) - 1)) (h : post (nI (dc_EN n (wz_n p0)))) : wpX_codeword post (f_levels, f_length, f_fullMask, f_listSize, f_checkLength, f_checkMask, f_polynomial, f_freeMask, f_oneMask, f_freeCount, f_position, f_pathTotal, f_least, f_freeSlotCount, f_candTotal, a_soft, a_rankSlot, a_prefix, a_metric, a_freeSlots, a_alpha, a_blockOf, a_refs, a_freeBlocks, a_freeBlockCount, a_leftSum, a_candCost, a_candPrefix, a_candSlot, a_candOrder, a_uses) p0 := by
  subst hL hF
  rw [← EN_mod] at h
  unfold wpX_codeword
  dsimp only
  refine nm_r (wz_and hn p0) ?_
  have hlt : wz_n p0 % 2 ^ (2 ^ n) < 2 ^ (2 ^ n) := Nat.mod_lt _ (Nat.two_pow_pos _)
  generalize wz_n p0 % 2 ^ (2 ^ n) = w at h hlt ⊢
  rcases (show n = 1 ∨ n = 2 ∨ n = 3 by omega) with rfl | rfl | rfl
  · exact nm_r (cw_x1 w hlt) (br_t (by decide) (br_t (by decide) h))
  · exact nm_e (br_f (by decide) (nm_r (cw_x2 w hlt) (br_t (by decide) h)))
  · exact nm_e (br_f (by decide) (nm_e (br_f (by decide) (nm_r (cw_x3 w hlt) h))))
theorem x_weight {post : Int32 → Prop} {n : Nat} {p0 : Int32} (h1 : 1 ≤ n) (hn : n ≤ 3) (hL : f_levels = nI n) (hF : f_fullMask = nI (2 ^ (2 ^ n) - 1)) (hLe : f_length = nI (2 ^ n)) (h : post (dc_W a_soft (dc_EN n (wz_n p0)) (2 ^ n))) : wpX_weight post (f_levels, f_length, f_fullMask, f_listSize, f_checkLength, f_checkMask, f_polynomial, f_freeMask, f_oneMask, f_freeCount, f_position, f_pathTotal, f_least, f_freeSlotCount, f_candTotal, a_soft, a_rankSlot, a_prefix, a_metric, a_freeSlots, a_alpha, a_blockOf, a_refs, a_freeBlocks, a_freeBlockCount, a_leftSum, a_candCost, a_candPrefix, a_candSlot, a_candOrder, a_uses) p0 := by
  have h8 := dc_two8 hn
  unfold wpX_weight
  dsimp only
  refine x_codeword h1 hn hL hF ?_
  generalize dc_EN n (wz_n p0) = x at h ⊢
  refine pk_loop (fun fuel i (s : Int32) => wX_weight_11 post (nI x) f_levels f_length f_fullMask f_listSize f_checkLength f_checkMask f_polynomial f_freeMask f_oneMask f_freeCount f_position f_pathTotal f_least f_freeSlotCount f_candTotal a_soft a_rankSlot a_prefix a_metric a_freeSlots a_alpha a_blockOf a_refs a_freeBlocks a_freeBlockCount a_leftSum a_candCost a_candPrefix a_candSlot a_candOrder a_uses fuel s (nI i)) (fun i s => s = dc_W a_soft x i) (2 ^ n) 0 0 (Nat.zero_le _) rfl ?_ ?_
  · intro fuel s hs
    exact br_t (by rw [hLe]; exact Int32.le_refl _) (by rw [hs]; exact h)
  · intro fuel i s hi hs k
    subst hs
    have k' := k _ (rfl : dc_W a_soft x (i + 1) = _)
    have hW : dc_W a_soft x (i + 1) = dc_pn (dc_W a_soft x i) (x.testBit i) (a_soft i) := rfl
    rw [hW] at k'
    unfold dc_pn at k'
    unfold wX_weight_11
    refine br_f (by rw [hLe]; exact nI_ge hi (by omega)) ⟨vp_in_nI (by omega) (by decide), ?_⟩
    rw [nI_clamp (by omega)]
    refine nm_e ?_
    cases hb : x.testBit i with
    | true =>
      rw [hb, if_pos rfl] at k'
      refine br_t ((wk_b1 (by omega)).mpr hb) (br_f (by decide) ?_)
      by_cases e : a_soft i ≤ 0
      · rw [if_pos e] at k'
        exact br_t e (br_f (by decide) (nm_r (nI_1 i) k'))
      · rw [if_neg e] at k'
        exact br_f e (nm_e (nm_r (nI_1 i) k'))
    | false =>
      rw [hb, if_neg Bool.false_ne_true] at k'
      refine br_f (fun z => by rw [wk_b1 (by omega), hb] at z; exact Bool.false_ne_true z) (br_t rfl (br_t rfl ?_))
      by_cases e : 0 ≤ a_soft i
      · rw [if_pos e] at k'
        exact br_t e (nm_r (nI_1 i) k')
      · rw [if_neg e] at k'
        exact br_f e (nm_e (nm_r (nI_1 i) k'))
end
/-- Y's codeword: one bit, then all -/
def yc_b (w j : Nat) : Nat → Nat
  | 0 => 0
  | i + 1 => if i &&& j = j then yc_b w j i ^^^ (w.testBit i).toNat else yc_b w j i
def yc_x (N w : Nat) : Nat → Nat
  | 0 => 0
  | j + 1 => yc_x N w j ||| yc_b w j N * 2 ^ j
theorem yc_1 : ∀ w, w < 4 → yc_x 2 w 2 = dc_EN 1 w := by decide +kernel
theorem yc_2 : ∀ w, w < 16 → yc_x 4 w 4 = dc_EN 2 w := by decide +kernel
theorem yc_3 : ∀ w, w < 256 → yc_x 8 w 8 = dc_EN 3 w := by decide +kernel
theorem yc_le (w j : Nat) : ∀ i, yc_b w j i ≤ 1 := by
  intro i
  induction i with
  | zero => exact Nat.zero_le _
  | succ i ih =>
    show (if i &&& j = j then yc_b w j i ^^^ (w.testBit i).toNat else yc_b w j i) ≤ 1
    split
    · have h1 : yc_b w j i < 2 ^ 1 := by omega
      have h2 : (w.testBit i).toNat < 2 ^ 1 := by have := Bool.toNat_le (w.testBit i); omega
      have := Nat.xor_lt_two_pow h1 h2
      omega
    · exact ih
theorem yc_bcg {w v j N : Nat} : ∀ i, i ≤ N → (∀ k, k < N → w.testBit k = v.testBit k) → yc_b w j i = yc_b v j i := by
  intro i
  induction i with
  | zero => intro _ _; rfl
  | succ i ih =>
    intro hi h
    show (if i &&& j = j then yc_b w j i ^^^ (w.testBit i).toNat else yc_b w j i) = (if i &&& j = j then yc_b v j i ^^^ (v.testBit i).toNat else yc_b v j i)
    rw [ih (by omega) h, h i (by omega)]
theorem yc_xcg {w v N : Nat} (h : ∀ k, k < N → w.testBit k = v.testBit k) : ∀ j, yc_x N w j = yc_x N v j := by
  intro j
  induction j with
  | zero => rfl
  | succ j ih =>
    show yc_x N w j ||| yc_b w j N * 2 ^ j = yc_x N v j ||| yc_b v j N * 2 ^ j
    rw [ih, yc_bcg N (Nat.le_refl _) h]
theorem yc_EN {n : Nat} (h1 : 1 ≤ n) (hn : n ≤ 3) (w : Nat) : yc_x (2 ^ n) w (2 ^ n) = dc_EN n w := by
  rw [← EN_mod, yc_xcg (w := w) (v := w % 2 ^ (2 ^ n)) (fun k hk => by rw [Nat.testBit_mod_two_pow, decide_eq_true hk, Bool.true_and])]
  have hlt : w % 2 ^ (2 ^ n) < 2 ^ (2 ^ n) := Nat.mod_lt _ (Nat.two_pow_pos _)
  generalize w % 2 ^ (2 ^ n) = w at hlt ⊢
  rcases (show n = 1 ∨ n = 2 ∨ n = 3 by omega) with rfl | rfl | rfl
  · exact yc_1 w hlt
  · exact yc_2 w hlt
  · exact yc_3 w hlt
section
variable {y_size y_listSize y_checkLen y_poly y_pos y_count y_dropped : Int32} {y_kinds y_soft y_list y_cand y_candCost : Nat → Int32}
theorem y_codeword {post : Int32 → Prop} {n : Nat} {p0 : Int32} (h1 : 1 ≤ n) (hn : n ≤ 3) (hN : y_size = nI (2 ^ n)) (h : post (nI (dc_EN n (wz_n p0)))) : wpY_codeword post (y_size, y_listSize, y_checkLen, y_poly, y_pos, y_count, y_dropped, y_kinds, y_soft, y_list, y_cand, y_candCost) p0 := by
  have h8 := dc_two8 hn
  rw [← yc_EN h1 hn] at h
  unfold wpY_codeword
  dsimp only
  refine pk_loop (fun fuel j (s : Int32) => wY_codeword_4 post p0 y_size y_listSize y_checkLen y_poly y_pos y_count y_dropped y_kinds y_soft y_list y_cand y_candCost fuel s (nI j)) (fun j s => s = nI (yc_x (2 ^ n) (wz_n p0) j)) (2 ^ n) 0 0 (Nat.zero_le _) rfl ?_ ?_
  · intro fuel s hs
    exact br_t (by rw [hN]; exact Int32.le_refl _) (by rw [hs]; exact h)
  · intro fuel j s hj hs k
    subst hs
    unfold wY_codeword_4
    refine br_f (by rw [hN]; exact nI_ge hj (by omega)) ?_
    refine pk_loop (fun f2 i (b : Int32) => wY_codeword_18 post (wY_codeword_4 post p0 y_size y_listSize y_checkLen y_poly y_pos y_count y_dropped y_kinds y_soft y_list y_cand y_candCost fuel) p0 (nI (yc_x (2 ^ n) (wz_n p0) j)) (nI j) y_size y_listSize y_checkLen y_poly y_pos y_count y_dropped y_kinds y_soft y_list y_cand y_candCost f2 b (nI i)) (fun i b => b = nI (yc_b (wz_n p0) j i)) (2 ^ n) 0 0 (Nat.zero_le _) rfl ?_ ?_
    · intro f2 b hb
      subst hb
      have hle := yc_le (wz_n p0) j (2 ^ n)
      have hp : 2 ^ j ≤ 2 ^ 8 := Nat.pow_le_pow_right (by decide) (by omega)
      have hpp : yc_b (wz_n p0) j (2 ^ n) * 2 ^ j ≤ 1 * 2 ^ 8 := Nat.mul_le_mul hle hp
      refine br_t (by rw [hN]; exact Int32.le_refl _) (nm_r (e' := nI (yc_x (2 ^ n) (wz_n p0) (j + 1))) ?_ (nm_r (nI_1 j) (k _ rfl)))
      rw [wk_shl (by omega) (by omega), nx_or]
      rfl
    · intro f2 i b hi hb kk
      subst hb
      have hst : yc_b (wz_n p0) j (i + 1) = if i &&& j = j then yc_b (wz_n p0) j i ^^^ ((wz_n p0).testBit i).toNat else yc_b (wz_n p0) j i := rfl
      have hand : i &&& j ≤ i := Nat.and_le_left
      have hiff : (nI i &&& nI j = nI j) ↔ i &&& j = j := by rw [nx_and, nI_eq (by omega) (by omega)]
      unfold wY_codeword_18
      refine br_f (by rw [hN]; exact nI_ge hi (by omega)) ?_
      by_cases e : i &&& j = j
      · rw [if_pos e] at hst
        refine br_t (hiff.mpr e) (nm_r (e' := nI (yc_b (wz_n p0) j (i + 1))) ?_ (nm_r (nI_1 i) (kk _ rfl)))
        rw [wk_x p0 (by omega), nx_xor, hst]
        rfl
      · rw [if_neg e] at hst
        exact br_f (fun z => e (hiff.mp z)) (nm_r (nI_1 i) (kk _ (by rw [hst])))
theorem y_weight {post : Int32 → Prop} {n : Nat} {p0 : Int32} (h1 : 1 ≤ n) (hn : n ≤ 3) (hN : y_size = nI (2 ^ n)) (h : post (dc_W y_soft (dc_EN n (wz_n p0)) (2 ^ n))) : wpY_weight post (y_size, y_listSize, y_checkLen, y_poly, y_pos, y_count, y_dropped, y_kinds, y_soft, y_list, y_cand, y_candCost) p0 := by
  have h8 := dc_two8 hn
  unfold wpY_weight
  dsimp only
  refine y_codeword h1 hn hN ?_
  generalize dc_EN n (wz_n p0) = x at h ⊢
  refine pk_loop (fun fuel i (s : Int32) => wY_weight_11 post (nI x) y_size y_listSize y_checkLen y_poly y_pos y_count y_dropped y_kinds y_soft y_list y_cand y_candCost fuel s (nI i)) (fun i s => s = dc_W y_soft x i) (2 ^ n) 0 0 (Nat.zero_le _) rfl ?_ ?_
  · intro fuel s hs
    exact br_t (by rw [hN]; exact Int32.le_refl _) (by rw [hs]; exact h)
  · intro fuel i s hi hs k
    subst hs
    have k' := k _ (rfl : dc_W y_soft x (i + 1) = _)
    have hW : dc_W y_soft x (i + 1) = dc_pn (dc_W y_soft x i) (x.testBit i) (y_soft i) := rfl
    rw [hW] at k'
    unfold dc_pn at k'
    have v8 : vp_in (nI i) 8 := vp_in_nI (by omega) (by decide)
    unfold wY_weight_11
    refine br_f (by rw [hN]; exact nI_ge hi (by omega)) (nm_r (wk_b (by omega)) ?_)
    rw [nI_clamp (by omega)]
    cases hb : x.testBit i with
    | true =>
      rw [hb, if_pos rfl] at k'
      refine br_t rfl ⟨v8, ?_⟩
      by_cases e : y_soft i ≤ 0
      · rw [if_pos e] at k'
        exact br_t e (br_f (by decide) (nm_r (nI_1 i) k'))
      · rw [if_neg e] at k'
        exact br_f e ⟨v8, nm_e (br_f (by decide) (nm_r (nI_1 i) k'))⟩
    | false =>
      rw [hb, if_neg Bool.false_ne_true] at k'
      refine br_f (by decide) ?_
      unfold wY_weight_54
      rw [nI_clamp (by omega)]
      refine br_t rfl ⟨v8, ?_⟩
      by_cases e : 0 ≤ y_soft i
      · rw [if_pos e] at k'
        exact br_t e (nm_r (nI_1 i) k')
      · rw [if_neg e] at k'
        exact br_f e ⟨v8, nm_e (nm_r (nI_1 i) k')⟩
theorem y_cost {post : Int32 → Prop} {n w m : Nat} (h1 : 1 ≤ n) (hn : n ≤ 3) (hN : y_size = nI (2 ^ n)) (hso : dc_so y_soft) (hm : m ≤ 2 ^ n) (hw : w < 2 ^ m) (h : post (dc_M n y_soft w m)) : wpY_cost post (y_size, y_listSize, y_checkLen, y_poly, y_pos, y_count, y_dropped, y_kinds, y_soft, y_list, y_cand, y_candCost) (nI w) (nI m) := by
  have h8 := dc_two8 hn
  have hp8 : 2 ^ m ≤ 2 ^ 8 := Nat.pow_le_pow_right (by decide) (by omega)
  have hq8 : 2 ^ (2 ^ n - m) ≤ 2 ^ 8 := Nat.pow_le_pow_right (by decide) (by omega)
  have hpq : 2 ^ (2 ^ n - m) * 2 ^ m ≤ 2 ^ 8 := by
    rw [← Nat.pow_add, show 2 ^ n - m + m = 2 ^ n by omega]
    exact Nat.pow_le_pow_right (by decide) h8
  have hge := fun r => cost_ge hn hso hm hw r
  unfold wpY_cost
  dsimp only
  refine y_weight h1 hn hN ?_
  rw [wz_nI (by omega)]
  refine pk_loop (fun fuel r (s : Int32) => wY_cost_9 post (nI w) (nI m) y_size y_listSize y_checkLen y_poly y_pos y_count y_dropped y_kinds y_soft y_list y_cand y_candCost fuel s (nI r)) (fun r s => dc_M n y_soft w m ≤ s ∧ ∀ r', r' < r → s ≤ dc_W y_soft (dc_EN n (w + 2 ^ m * r')) (2 ^ n)) (2 ^ (2 ^ n - m)) 1 _ (Nat.two_pow_pos _) ?_ ?_ ?_
  · have := hge 0
    rw [Nat.mul_zero, Nat.add_zero] at this
    refine ⟨this, fun r' hr' => ?_⟩
    rw [show r' = 0 by omega, Nat.mul_zero, Nat.add_zero]
    exact Int32.le_refl _
  · intro fuel s hs
    refine br_t (by rw [hN, pk_sub hm, wk_1s (by omega)]; exact Int32.le_refl _) ?_
    obtain ⟨r, hr, e⟩ := cost_ex hn hso hm hw
    have := hs.2 r hr
    rw [e] at this
    rw [Int32.le_antisymm this hs.1]
    exact h
  · intro fuel r s hr hs k
    have hrm : r * 2 ^ m ≤ 2 ^ (2 ^ n - m) * 2 ^ m := Nat.mul_le_mul_right _ (by omega)
    have hrm2 : w + 2 ^ m * r < 2 ^ 32 := by rw [Nat.mul_comm]; omega
    unfold wY_cost_9
    refine br_f (by rw [hN, pk_sub hm, wk_1s (by omega)]; exact nI_ge hr (by omega)) ?_
    rw [wk_ext (by omega) hw (by omega)]
    refine y_weight h1 hn hN ?_
    rw [wz_nI hrm2]
    by_cases e : s ≤ dc_W y_soft (dc_EN n (w + 2 ^ m * r)) (2 ^ n)
    · refine br_t e (nm_r (nI_1 r) (k _ ⟨hs.1, fun r' hr' => ?_⟩))
      by_cases er : r' = r
      · rw [er]; exact e
      · exact hs.2 r' (by omega)
    · refine br_f e (nm_r (nI_1 r) (k _ ⟨hge r, fun r' hr' => ?_⟩))
      by_cases er : r' = r
      · rw [er]; exact Int32.le_refl _
      · have e2 := hs.2 r' (by omega)
        rw [ia_le] at e e2 ⊢
        omega
theorem y_before {post : Int32 → Prop} {N a b ka kb : Nat} (hN8 : N ≤ 8) (hN : y_size = nI N) (ha : a < 64) (hb : b < 64) (ea : kz_at y_candCost y_cand a ka) (eb : kz_at y_candCost y_cand b kb) (wa : kz_rv (ka % 256) < 2 ^ N) (wb : kz_rv (kb % 256) < 2 ^ N) (h : post (if ka < kb then 1 else 0)) : wpY_before post (y_size, y_listSize, y_checkLen, y_poly, y_pos, y_count, y_dropped, y_kinds, y_soft, y_list, y_cand, y_candCost) (nI a) (nI b) := by
  obtain ⟨a1, a2, a3⟩ := ea
  obtain ⟨b1, b2, b3⟩ := eb
  have va : vp_in (nI a) 64 := vp_in_nI ha (by decide)
  have vb : vp_in (nI b) 64 := vp_in_nI hb (by decide)
  unfold wpY_before
  dsimp only
  rw [nI_clamp (show a < 2 ^ 31 by omega), nI_clamp (show b < 2 ^ 31 by omega), a2, b2]
  refine ⟨va, vb, ?_⟩
  refine pk_eq (ka / 256) (kb / 256) (fun e => ⟨N + 1, ?_⟩) (fun e => ⟨va, vb, ?_⟩)
  · have go : ∀ d i fuel, i + d = N → d < fuel → (∀ j, j < i → (kz_rv (ka % 256)).testBit j = (kz_rv (kb % 256)).testBit j) → wY_before_38 post (nI a) (nI b) y_size y_listSize y_checkLen y_poly y_pos y_count y_dropped y_kinds y_soft y_list y_cand y_candCost fuel (nI i) := by
      intro d
      induction d with
      | zero =>
        intro i fuel hi hf h1
        obtain ⟨fuel, rfl⟩ : ∃ n', fuel = n' + 1 := ⟨fuel - 1, by omega⟩
        have he : kz_rv (ka % 256) = kz_rv (kb % 256) := Nat.eq_of_testBit_eq (fun j => by
          by_cases hj : j < i
          · exact h1 j hj
          · rw [tb_lt wa (by omega), tb_lt wb (by omega)])
        have he2 : ka % 256 = kb % 256 := by rw [← rv_rv (ka % 256) (by omega), he, rv_rv (kb % 256) (by omega)]
        rw [if_neg (by omega)] at h
        exact br_t (by rw [hN, show i = N by omega]; exact Int32.le_refl _) h
      | succ d ih =>
        intro i fuel hi hf h1
        obtain ⟨fuel, rfl⟩ : ∃ n', fuel = n' + 1 := ⟨fuel - 1, by omega⟩
        unfold wY_before_38
        refine br_f (by rw [hN]; exact nI_ge (by omega) (by omega)) ⟨va, ?_⟩
        rw [nI_clamp (show a < 2 ^ 31 by omega), nI_clamp (show b < 2 ^ 31 by omega), a3, b3]
        refine nm_r (wk_b (by omega)) ⟨vb, nm_r (wk_b (by omega)) ?_⟩
        cases q1 : (kz_rv (ka % 256)).testBit i <;> cases q2 : (kz_rv (kb % 256)).testBit i
        · refine br_t rfl (nm_r (nI_1 i) (ih (i + 1) fuel (by omega) (by omega) (fun j hj => ?_)))
          by_cases ej : j = i
          · rw [ej, q1, q2]
          · exact h1 j (by omega)
        · have hl := rv_bits (by omega) h1 q1 q2
          rw [rv_rv (ka % 256) (by omega), rv_rv (kb % 256) (by omega)] at hl
          rw [if_pos (by omega)] at h
          exact br_f (by decide) (br_t rfl h)
        · have hl := rv_bits (by omega) (fun j hj => (h1 j hj).symm) q2 q1
          rw [rv_rv (ka % 256) (by omega), rv_rv (kb % 256) (by omega)] at hl
          rw [if_neg (by omega)] at h
          exact br_f (by decide) (br_f (by decide) h)
        · refine br_t rfl (nm_r (nI_1 i) (ih (i + 1) fuel (by omega) (by omega) (fun j hj => ?_)))
          by_cases ej : j = i
          · rw [ej, q1, q2]
          · exact h1 j (by omega)
    exact go N 0 (N + 1) (by omega) (by omega) (fun j hj => by omega)
  · refine pk_le (kb / 256) (ka / 256) (fun hl => ?_) (fun hl => ?_)
    · rw [if_neg (by omega)] at h; exact h
    · rw [if_pos (by omega)] at h; exact h
end
end
section
/-! Y: its states, and one list step -/
def yz_st (n ls C g : Nat) (kd : Nat → Nat) (so : Nat → Int32) (v : SY) : Prop := match v with
  | (y_size, y_listSize, y_checkLen, y_poly, y_pos, y_count, y_dropped, y_kinds, y_soft, y_list, y_cand, y_candCost) => y_size = nI (2 ^ n) ∧ y_listSize = nI ls ∧ y_checkLen = nI C ∧ y_poly = nI g ∧ (∀ i, i < 2 ^ n → y_kinds i = nI (kd i)) ∧ y_soft = so
def yz_ac (m T : Nat) (w : Nat → Nat) (lst : Int32) (v : SY) : Prop := match v with
  | (y_size, y_listSize, y_checkLen, y_poly, y_pos, y_count, y_dropped, y_kinds, y_soft, y_list, y_cand, y_candCost) => y_pos = nI m ∧ y_count = nI T ∧ y_dropped = lst ∧ ∀ r, r < T → y_list r = nI (w r)
/-- t candidates by their keys -/
def ks_ok (t N : Nat) (Kc : Nat → Nat) (cost cand : Nat → Int32) : Prop := ∀ c, c < t → kz_at cost cand c (Kc c) ∧ kz_rv (Kc c % 256) < 2 ^ N
def ks_so (t : Nat) (Kc : Nat → Nat) : Prop := ∀ i j, i ≤ j → j < t → Kc i ≤ Kc j
theorem wk_ext1 {w m : Nat} (hm : m < 31) (hw : w < 2 ^ m) : nI w ||| ((1 : Int32) <<< (nI m &&& 31)) = nI (w + 2 ^ m * 1) := by
  have h2 : 2 ^ m < 2 ^ 31 := Nat.pow_lt_pow_right (by decide) hm
  exact wk_ext (b := 1) hm hw (by omega)
section
variable {y_size y_listSize y_checkLen y_poly y_pos y_count y_dropped : Int32} {y_kinds y_soft y_list y_cand y_candCost : Nat → Int32}
theorem y_adv252 {post : Int32 → SY → Prop} {t ls N : Nat} {Kc : Nat → Nat} (ht : t ≤ 64) (hls : ls ≤ 32) (hL : y_listSize = nI ls) (hk : ks_ok t N Kc y_candCost y_cand) (hs : ks_so t Kc) (lst : Int32)
    (h : ∀ list, (∀ r, r < cz_k t ls → list r = nI (kz_rv (Kc r % 256))) → post (nI (cz_k t ls)) (y_size, y_listSize, y_checkLen, y_poly, y_pos, nI (cz_k t ls), ld_new t ls lst (nI (Kc ls / 256)), y_kinds, y_soft, list, y_cand, y_candCost)) :
    ∀ d i fuel list, i + d = t → d < fuel → (∀ r, r < cz_k i ls → list r = nI (kz_rv (Kc r % 256))) → wY_advance_252 post (nI t) y_size y_listSize y_checkLen y_poly y_pos fuel (nI i) (nI (cz_k i ls)) (ld_new i ls lst (nI (Kc ls / 256))) y_kinds y_soft list y_cand y_candCost := by
  intro d
  induction d with
  | zero =>
    intro i fuel list hi hf h1
    obtain ⟨fuel, rfl⟩ : ∃ n', fuel = n' + 1 := ⟨fuel - 1, by omega⟩
    have e : i = t := by omega
    subst e
    exact br_t (Int32.le_refl _) (h list h1)
  | succ d ih =>
    intro i fuel list hi hf h1
    obtain ⟨fuel, rfl⟩ : ∃ n', fuel = n' + 1 := ⟨fuel - 1, by omega⟩
    have hit : i < t := by omega
    obtain ⟨⟨q1, q2, q3⟩, _⟩ := hk i hit
    have v64 : vp_in (nI i) 64 := vp_in_nI (by omega) (by decide)
    unfold wY_advance_252
    refine br_f (nI_ge (by omega) (by omega)) ?_
    rw [hL]
    refine pk_le ls i (fun hle => ?_) (fun hlt => ?_)
    · -- dropped
      have ek : cz_k i ls = ls := by unfold cz_k; split <;> omega
      have ek2 : cz_k (i + 1) ls = ls := if_neg (by omega)
      obtain ⟨⟨l1, l2, l3⟩, _⟩ := hk ls (by omega)
      have hcl : (nI (Kc ls / 256)).toInt = ((Kc ls / 256 : Nat) : Int) := nI_toInt (by omega)
      have hci : (nI (Kc i / 256)).toInt = ((Kc i / 256 : Nat) : Int) := nI_toInt (by omega)
      have hcle : Kc ls / 256 ≤ Kc i / 256 := Nat.div_le_div_right (hs ls i hle hit)
      have nxt : ∀ D, D = ld_upd lst (nI (Kc ls / 256)) → wY_advance_252 post (nI t) y_size y_listSize y_checkLen y_poly y_pos fuel (nI (i + 1)) (nI (cz_k i ls)) D y_kinds y_soft list y_cand y_candCost := by
        intro D hD
        have := ih (i + 1) fuel list (by omega) (by omega) (by rw [ek2]; rw [ek] at h1; exact h1)
        rw [ek2] at this
        rw [ek, hD]
        have e2 : ld_new (i + 1) ls lst (nI (Kc ls / 256)) = ld_upd lst (nI (Kc ls / 256)) := if_neg (by omega)
        rw [e2] at this
        exact this
      by_cases e : i = ls
      · have e3 : ld_new i ls lst (nI (Kc ls / 256)) = lst := if_pos (by omega)
        rw [e3]
        subst e
        have go310 : ld_upd lst (nI (Kc i / 256)) = nI (Kc i / 256) → wY_advance_310 post (wY_advance_252 post (nI t) y_size y_listSize y_checkLen y_poly y_pos fuel) (nI t) (nI i) y_size y_listSize y_checkLen y_poly y_pos (nI (cz_k i i)) lst y_kinds y_soft list y_cand y_candCost := by
          intro hD
          unfold wY_advance_310
          refine ⟨v64, ?_⟩
          rw [nI_clamp (by omega), q2]
          exact nm_e (nm_r (nI_1 i) (nxt _ hD.symm))
        rw [hL] at go310 nxt
        by_cases a1 : lst < 0
        · exact br_t a1 (go310 (if_pos a1))
        · refine br_f a1 ⟨v64, ?_⟩
          rw [nI_clamp (by omega), q2]
          by_cases a2 : lst ≤ nI (Kc i / 256)
          · exact br_t a2 (nm_r (nI_1 i) (nxt _ (by unfold ld_upd; rw [if_neg a1, if_pos a2])))
          · exact br_f a2 (go310 (by unfold ld_upd; rw [if_neg a1, if_neg a2]))
      · have e3 : ld_new i ls lst (nI (Kc ls / 256)) = ld_upd lst (nI (Kc ls / 256)) := if_neg (by omega)
        rw [e3]
        rw [hL] at nxt
        have hD : ¬ ld_upd lst (nI (Kc ls / 256)) < 0 ∧ ld_upd lst (nI (Kc ls / 256)) ≤ nI (Kc ls / 256) := by
          unfold ld_upd
          by_cases a1 : lst < 0
          · rw [if_pos a1]; exact ⟨nI_pos (by omega), Int32.le_refl _⟩
          · rw [if_neg a1]
            by_cases a2 : lst ≤ nI (Kc ls / 256)
            · rw [if_pos a2]; exact ⟨a1, a2⟩
            · rw [if_neg a2]; exact ⟨nI_pos (by omega), Int32.le_refl _⟩
        refine br_f hD.1 ⟨v64, ?_⟩
        rw [nI_clamp (by omega), q2]
        refine br_t ?_ (nm_r (nI_1 i) (nxt _ rfl))
        have := ia_le.mp hD.2
        rw [ia_le]
        omega
    · have ek : cz_k i ls = i := if_pos (by omega)
      have ek2 : cz_k (i + 1) ls = i + 1 := if_pos (by omega)
      have e3 : ld_new i ls lst (nI (Kc ls / 256)) = lst := if_pos (by omega)
      have e4 : ld_new (i + 1) ls lst (nI (Kc ls / 256)) = lst := if_pos (by omega)
      refine ⟨v64, vp_in_nI (by omega) (by decide), ?_⟩
      rw [nI_clamp (by omega), q3, ek, e3]
      have := ih (i + 1) fuel (upd list i (nI (kz_rv (Kc i % 256)))) (by omega) (by omega) (by
        rw [ek2]
        intro r hr
        by_cases e : r = i
        · rw [e, pk_us]
        · rw [pk_un e]; exact h1 r (by rw [ek]; omega))
      rw [ek2, e4, hL] at this
      exact nm_e (nm_r (nI_1 i) (nm_r (nI_1 i) this))
theorem y_sel158 {post : Int32 → SY → Prop} {J : Int32 → (Nat → Int32) → (Nat → Int32) → (Nat → Int32) → (Nat → Int32) → (Nat → Int32) → Prop} {t N i : Nat} {Kc : Nat → Nat} (ht : t ≤ 64) (hN8 : N ≤ 8) (hN : y_size = nI N) (hi : i < t) (hk : ks_ok t N Kc y_candCost y_cand)
    (h : ∀ fst cost cand, i ≤ fst → fst < t → (∀ b, i ≤ b → b < t → Kc fst ≤ Kc b) → ks_ok t N (fun x => if x = fst then Kc i else if x = i then Kc fst else Kc x) cost cand → J (nI (i + 1)) y_kinds y_soft y_list cand cost) :
    ∀ d j fuel fst, j + d = t → d < fuel → i < j → i ≤ fst → fst < j → (∀ b, i ≤ b → b < j → Kc fst ≤ Kc b) → wY_advance_158 post J (nI t) (nI i) y_size y_listSize y_checkLen y_poly y_pos y_count y_dropped y_kinds y_soft y_list y_cand y_candCost fuel (nI fst) (nI j) := by
  intro d
  induction d with
  | zero =>
    intro j fuel fst hj hf hij h1 h2 h3
    obtain ⟨fuel, rfl⟩ : ∃ n', fuel = n' + 1 := ⟨fuel - 1, by omega⟩
    have e : j = t := by omega
    subst e
    have vi : vp_in (nI i) 64 := vp_in_nI (by omega) (by decide)
    have vf : vp_in (nI fst) 64 := vp_in_nI (by omega) (by decide)
    unfold wY_advance_158
    refine br_t (Int32.le_refl _) ?_
    rw [nI_clamp (show i < 2 ^ 31 by omega), nI_clamp (show fst < 2 ^ 31 by omega)]
    refine ⟨vi, nm_e ⟨vi, nm_e ⟨vf, vi, nm_e ⟨vf, vi, nm_e ⟨vf, nm_e ⟨vf, nm_e (nm_r (nI_1 i) (h fst _ _ h1 h2 h3 ?_))⟩⟩⟩⟩⟩⟩
    intro c hc
    (try dsimp only)
    by_cases e1 : c = fst
    · rw [if_pos e1]
      obtain ⟨⟨a1, a2, a3⟩, a4⟩ := hk i hi
      exact ⟨⟨a1, by rw [e1, pk_us]; exact a2, by rw [e1, pk_us]; exact a3⟩, a4⟩
    · rw [if_neg e1]
      by_cases e2 : c = i
      · rw [if_pos e2]
        obtain ⟨⟨a1, a2, a3⟩, a4⟩ := hk fst h2
        exact ⟨⟨a1, by rw [pk_un e1, e2, pk_us]; exact a2, by rw [pk_un e1, e2, pk_us]; exact a3⟩, a4⟩
      · rw [if_neg e2]
        obtain ⟨⟨a1, a2, a3⟩, a4⟩ := hk c hc
        exact ⟨⟨a1, by rw [pk_un e1, pk_un e2]; exact a2, by rw [pk_un e1, pk_un e2]; exact a3⟩, a4⟩
  | succ d ih =>
    intro j fuel fst hj hf hij h1 h2 h3
    obtain ⟨fuel, rfl⟩ : ∃ n', fuel = n' + 1 := ⟨fuel - 1, by omega⟩
    obtain ⟨kj, wj⟩ := hk j (by omega)
    obtain ⟨kf, wf⟩ := hk fst (by omega)
    unfold wY_advance_158
    refine br_f (nI_ge (by omega) (by omega)) ?_
    refine y_before hN8 hN (by omega) (by omega) kj kf wj wf ?_
    by_cases e : Kc j < Kc fst
    · rw [if_pos e]
      refine br_f (by decide) (nm_r (nI_1 j) (ih (j + 1) fuel j (by omega) (by omega) (by omega) (by omega) (by omega) (fun b hb hb2 => ?_)))
      by_cases eb : b = j
      · rw [eb]; exact Nat.le_refl _
      · have := h3 b hb (by omega); omega
    · rw [if_neg e]
      refine br_t rfl (nm_r (nI_1 j) (ih (j + 1) fuel fst (by omega) (by omega) (by omega) h1 (by omega) (fun b hb hb2 => ?_)))
      by_cases eb : b = j
      · rw [eb]; omega
      · exact h3 b hb (by omega)
theorem y_sel146 {post : Int32 → SY → Prop} {t N ls : Nat} {K : Nat → Nat} {lst : Int32} (ht : t ≤ 64) (hN8 : N ≤ 8) (hN : y_size = nI N) (hls : ls ≤ 32) (hL : y_listSize = nI ls) (hD : y_dropped = lst)
    (h : ∀ Kc cost cand list, ks_so t Kc → (∀ g : Nat → Nat, qs_sm (fun i => g (Kc i)) t = qs_sm (fun i => g (K i)) t) → (∀ r, r < cz_k t ls → list r = nI (kz_rv (Kc r % 256))) → post (nI (cz_k t ls)) (y_size, y_listSize, y_checkLen, y_poly, y_pos, nI (cz_k t ls), ld_new t ls lst (nI (Kc ls / 256)), y_kinds, y_soft, list, cand, cost)) :
    ∀ d i fuel Kc cost cand, i + d = t → d < fuel → ks_ok t N Kc cost cand → (∀ a b, a < i → a ≤ b → b < t → Kc a ≤ Kc b) → (∀ g : Nat → Nat, qs_sm (fun i => g (Kc i)) t = qs_sm (fun i => g (K i)) t) → wY_advance_146 post (nI t) y_size y_listSize y_checkLen y_poly y_pos y_count y_dropped fuel (nI i) y_kinds y_soft y_list cand cost := by
  intro d
  induction d with
  | zero =>
    intro i fuel Kc cost cand hi hf hk h1 h2
    obtain ⟨fuel, rfl⟩ : ∃ n', fuel = n' + 1 := ⟨fuel - 1, by omega⟩
    have e : i = t := by omega
    subst e
    have hso : ks_so i Kc := fun a b hab hb => h1 a b (by omega) hab hb
    refine br_t (Int32.le_refl _) ⟨i + 1, ?_⟩
    rw [hD]
    have e0 : cz_k 0 ls = 0 := if_pos (Nat.zero_le _)
    have e1 : ld_new 0 ls lst (nI (Kc ls / 256)) = lst := if_pos (Nat.zero_le _)
    have := y_adv252 (y_size := y_size) (y_listSize := y_listSize) (y_checkLen := y_checkLen) (y_poly := y_poly) (y_pos := y_pos) (y_kinds := y_kinds) (y_soft := y_soft) (y_cand := cand) (y_candCost := cost) (post := post) ht hls hL hk hso lst (fun list hl => h Kc cost cand list hso h2 hl) i 0 (i + 1) y_list (by omega) (by omega) (fun r hr => by rw [e0] at hr; omega)
    rw [e0, e1] at this
    exact this
  | succ d ih =>
    intro i fuel Kc cost cand hi hf hk h1 h2
    obtain ⟨fuel, rfl⟩ : ∃ n', fuel = n' + 1 := ⟨fuel - 1, by omega⟩
    unfold wY_advance_146
    refine br_f (nI_ge (by omega) (by omega)) (nm_r (nI_1 i) ⟨t + 1, ?_⟩)
    refine y_sel158 ht hN8 hN (show i < t by omega) hk ?_ (t - (i + 1)) (i + 1) (t + 1) i (by omega) (by omega) (by omega) (Nat.le_refl _) (by omega) (fun b hb hb2 => by rw [show b = i by omega]; exact Nat.le_refl _)
    intro fst cost' cand' f1 f2 f3 hk'
    refine ih (i + 1) fuel _ cost' cand' (by omega) (by omega) hk' ?_ ?_
    · intro a b ha hab hb
      (try dsimp only)
      by_cases ea : a = i
      · subst ea
        by_cases e1 : a = fst
        · subst e1
          rw [if_pos rfl]
          by_cases e2 : b = a
          · rw [if_pos e2]; exact Nat.le_refl _
          · rw [if_neg e2, if_neg e2]; exact f3 b (by omega) hb
        · rw [if_neg e1, if_pos rfl]
          by_cases e2 : b = fst
          · rw [if_pos e2]; exact f3 a (Nat.le_refl _) (by omega)
          · rw [if_neg e2]
            by_cases e3 : b = a
            · rw [if_pos e3]; exact Nat.le_refl _
            · rw [if_neg e3]; exact f3 b (by omega) hb
      · have e1 : a ≠ fst := by omega
        rw [if_neg e1, if_neg ea]
        by_cases e2 : b = fst
        · rw [if_pos e2]; exact h1 a i (by omega) (by omega) (by omega)
        · rw [if_neg e2]
          by_cases e3 : b = i
          · rw [if_pos e3]; exact h1 a fst (by omega) (by omega) f2
          · rw [if_neg e3]; exact h1 a b (by omega) hab hb
    · intro g
      rw [← h2 g]
      refine sw_sum g (i := fst) (j := i) f2 (by omega) (if_pos rfl) ?_ (fun x _ x1 x2 => by (try dsimp only); rw [if_neg x1, if_neg x2])
      (try dsimp only)
      by_cases e : i = fst
      · rw [if_pos e, e]
      · rw [if_neg e, if_pos rfl]
theorem y_adv113 {post : Int32 → SY → Prop} {n t m ls : Nat} {W : Nat → Nat} {lst : Int32} (h1 : 1 ≤ n) (hn : n ≤ 3) (hso : dc_so y_soft) (ht : t ≤ 64) (hN : y_size = nI (2 ^ n)) (hm : m ≤ 2 ^ n) (hP : y_pos = nI m) (hls : ls ≤ 32) (hL : y_listSize = nI ls) (hD : y_dropped = lst) (hW : ∀ c, c < t → W c < 2 ^ m ∧ y_cand c = nI (W c))
    (h : ∀ Kc cost cand list, ks_so t Kc → (∀ g : Nat → Nat, qs_sm (fun i => g (Kc i)) t = qs_sm (fun i => g (kz_key n y_soft (W i) m)) t) → (∀ r, r < cz_k t ls → list r = nI (kz_rv (Kc r % 256))) → post (nI (cz_k t ls)) (y_size, y_listSize, y_checkLen, y_poly, y_pos, nI (cz_k t ls), ld_new t ls lst (nI (Kc ls / 256)), y_kinds, y_soft, list, cand, cost)) :
    ∀ d i fuel cost, i + d = t → d < fuel → (∀ c, c < i → cost c = dc_M n y_soft (W c) m) → wY_advance_113 post (nI t) y_size y_listSize y_checkLen y_poly y_pos y_count y_dropped fuel (nI i) y_kinds y_soft y_list y_cand cost := by
  have h8 := dc_two8 hn
  intro d
  induction d with
  | zero =>
    intro i fuel cost hi hf hc
    obtain ⟨fuel, rfl⟩ : ∃ n', fuel = n' + 1 := ⟨fuel - 1, by omega⟩
    have e : i = t := by omega
    subst e
    refine br_t (Int32.le_refl _) ⟨i + 1, ?_⟩
    refine y_sel146 (K := fun c => kz_key n y_soft (W c) m) ht h8 hN hls hL hD h i 0 (i + 1) (fun c => kz_key n y_soft (W c) m) cost y_cand (by omega) (by omega) ?_ (fun a b ha => by omega) (fun g => rfl)
    intro c hc2
    obtain ⟨w1, w2⟩ := hW c hc2
    have hp : 2 ^ m ≤ 2 ^ 8 := Nat.pow_le_pow_right (by decide) (by omega)
    refine ⟨key_at hn hso (by omega) (by omega) (hc c hc2) w2, ?_⟩
    (try dsimp only)
    rw [key_word (by omega)]
    exact Nat.lt_of_lt_of_le w1 (Nat.pow_le_pow_right (by decide) hm)
  | succ d ih =>
    intro i fuel cost hi hf hc
    obtain ⟨fuel, rfl⟩ : ∃ n', fuel = n' + 1 := ⟨fuel - 1, by omega⟩
    obtain ⟨w1, w2⟩ := hW i (by omega)
    have v64 : vp_in (nI i) 64 := vp_in_nI (by omega) (by decide)
    unfold wY_advance_113
    refine br_f (nI_ge (by omega) (by omega)) ⟨v64, ?_⟩
    rw [nI_clamp (by omega), w2, hP]
    refine y_cost h1 hn hN hso hm w1 ⟨v64, ?_⟩
    rw [← hP]
    refine nm_e (nm_r (nI_1 i) (ih (i + 1) fuel _ (by omega) (by omega) ?_))
    intro c hc2
    by_cases e : c = i
    · rw [e, pk_us]
    · rw [pk_un e]; exact hc c (by omega)
theorem y_adv25 {post : Int32 → SY → Prop} {n m T k : Nat} {w : Nat → Nat} (hn : n ≤ 3) (hm : m < 2 ^ n) (hT : T ≤ 32) (hTo : y_count = nI T) (hP : y_pos = nI m) (hkd : y_kinds m = nI k) (hk : k ≤ 2) (hw : ∀ r, r < T → w r < 2 ^ m ∧ y_list r = nI (w r))
    (h : ∀ cand, (∀ c, c < cz_t (decide (k = 2)) T → cand c = nI (cz_w (decide (k = 2)) (decide (k = 1)).toNat m w c)) → ∃ f, wY_advance_113 post (nI (cz_t (decide (k = 2)) T)) y_size y_listSize y_checkLen y_poly (nI (m + 1)) y_count y_dropped f 0 y_kinds y_soft y_list cand y_candCost) :
    ∀ d i fuel cand, i + d = T → d < fuel → (∀ c, c < cz_t (decide (k = 2)) i → cand c = nI (cz_w (decide (k = 2)) (decide (k = 1)).toNat m w c)) → wY_advance_25 post y_size y_listSize y_checkLen y_poly y_pos y_count y_dropped fuel (nI (cz_t (decide (k = 2)) i)) (nI i) y_kinds y_soft y_list cand y_candCost := by
  have h8 := dc_two8 hn
  have v8 : vp_in (nI m) 8 := vp_in_nI (by omega) (by decide)
  intro d
  induction d with
  | zero =>
    intro i fuel cand hi hf hc
    obtain ⟨fuel, rfl⟩ : ∃ n', fuel = n' + 1 := ⟨fuel - 1, by omega⟩
    have e : i = T := by omega
    subst e
    refine br_t (by rw [hTo]; exact Int32.le_refl _) (nm_r (e' := nI (m + 1)) (by rw [hP, nI_1]) (h cand hc))
  | succ d ih =>
    intro i fuel cand hi hf hc
    obtain ⟨fuel, rfl⟩ : ∃ n', fuel = n' + 1 := ⟨fuel - 1, by omega⟩
    obtain ⟨w1, w2⟩ := hw i (by omega)
    have hcm : (nI m).toNatClampNeg = m := nI_clamp (by omega)
    have hci : (nI i).toNatClampNeg = i := nI_clamp (by omega)
    have v32 : vp_in (nI i) 32 := vp_in_nI (by omega) (by decide)
    unfold wY_advance_25
    refine br_f (by rw [hTo]; exact nI_ge (by omega) (by omega)) ?_
    rcases (show k = 0 ∨ k = 1 ∨ k = 2 by omega) with rfl | rfl | rfl
    · -- frozen to 0
      have hc' : ∀ c, c < i → cand c = nI (w c + 2 ^ m * 0) := hc
      refine ⟨by rw [hP]; exact v8, br_f (by rw [hP, hcm, hkd]; decide) ⟨v32, ?_⟩⟩
      have ht : cz_t (decide (0 = 2)) i = i := rfl
      rw [ht, hci]
      refine ⟨vp_in_nI (by omega) (by decide), nm_e (nm_r (nI_1 i) ?_)⟩
      unfold wY_advance_61
      refine ⟨by rw [hP]; exact v8, br_t (by rw [hP, hcm, hkd]; rfl) (nm_r (nI_1 i) ?_)⟩
      refine ih (i + 1) fuel _ (by omega) (by omega) ?_
      intro c hc2
      have hc3 : c < i + 1 := hc2
      show _ = nI (w c + 2 ^ m * 0)
      by_cases e : c = i
      · rw [e, pk_us, w2]; rfl
      · rw [pk_un e]; exact hc' c (by omega)
    · -- frozen to 1
      have hc' : ∀ c, c < i → cand c = nI (w c + 2 ^ m * 1) := hc
      refine ⟨by rw [hP]; exact v8, br_t (by rw [hP, hcm, hkd]; rfl) ?_⟩
      unfold wY_advance_61
      refine ⟨by rw [hP]; exact v8, br_f (by rw [hP, hcm, hkd]; decide) ⟨v32, ?_⟩⟩
      have ht : cz_t (decide (1 = 2)) i = i := rfl
      rw [ht, hci]
      refine ⟨vp_in_nI (by omega) (by decide), nm_e (nm_r (nI_1 i) (nm_r (nI_1 i) ?_))⟩
      refine ih (i + 1) fuel _ (by omega) (by omega) ?_
      intro c hc2
      have hc3 : c < i + 1 := hc2
      show _ = nI (w c + 2 ^ m * 1)
      by_cases e : c = i
      · rw [e, pk_us, w2, hP, wk_ext1 (by omega) w1]
      · rw [pk_un e]; exact hc' c (by omega)
    · -- free
      have hc' : ∀ c, c < 2 * i → cand c = nI (w (c / 2) + 2 ^ m * (c % 2)) := hc
      refine ⟨by rw [hP]; exact v8, br_f (by rw [hP, hcm, hkd]; decide) ⟨v32, ?_⟩⟩
      have ht : cz_t (decide (2 = 2)) i = 2 * i := rfl
      have ht' : cz_t (decide (2 = 2)) (i + 1) = 2 * (i + 1) := rfl
      rw [ht, hci, nI_clamp (show 2 * i < 2 ^ 31 by omega)]
      refine ⟨vp_in_nI (by omega) (by decide), nm_e (nm_r (nI_1 _) ?_)⟩
      unfold wY_advance_61
      refine ⟨by rw [hP]; exact v8, br_f (by rw [hP, hcm, hkd]; decide) ⟨v32, ?_⟩⟩
      rw [hci, nI_clamp (show 2 * i + 1 < 2 ^ 31 by omega)]
      refine ⟨vp_in_nI (by omega) (by decide), nm_e (nm_r (nI_1 _) (nm_r (nI_1 i) ?_))⟩
      have := ih (i + 1) fuel (upd (upd cand (2 * i) (y_list i)) (2 * i + 1) (y_list i ||| ((1 : Int32) <<< (y_pos &&& 31)))) (by omega) (by omega) (by
        intro c hc2
        have hc3 : c < 2 * (i + 1) := hc2
        show _ = nI (w (c / 2) + 2 ^ m * (c % 2))
        by_cases e : c = 2 * i + 1
        · rw [e, pk_us, w2, hP, wk_ext1 (by omega) w1, show (2 * i + 1) / 2 = i by omega, show (2 * i + 1) % 2 = 1 by omega]
        · rw [pk_un e]
          by_cases e2 : c = 2 * i
          · rw [e2, pk_us, w2, show 2 * i / 2 = i by omega, show 2 * i % 2 = 0 by omega]; rfl
          · rw [pk_un e2]; exact hc' c (by omega))
      exact this
end
theorem y_advance {post : Int32 → SY → Prop} {n ls C g m T : Nat} {kd : Nat → Nat} {so : Nat → Int32} {w : Nat → Nat} {lst : Int32} {v : SY} (h1 : 1 ≤ n) (hn : n ≤ 3) (hso : dc_so so) (hls : ls ≤ 32) (hT : T ≤ ls) (hm : m < 2 ^ n) (hkd : kd m ≤ 2) (hw : ∀ r, r < T → w r < 2 ^ m) (hS : yz_st n ls C g kd so v) (hA : yz_ac m T w lst v)
    (h : ∀ Kc v', ks_so (cz_t (decide (kd m = 2)) T) Kc → (∀ g : Nat → Nat, qs_sm (fun i => g (Kc i)) (cz_t (decide (kd m = 2)) T) = qs_sm (fun i => g (cz_K n so (decide (kd m = 2)) (decide (kd m = 1)).toNat m w i)) (cz_t (decide (kd m = 2)) T)) → yz_st n ls C g kd so v' → yz_ac (m + 1) (cz_k (cz_t (decide (kd m = 2)) T) ls) (fun i => kz_rv (Kc i % 256)) (ld_new (cz_t (decide (kd m = 2)) T) ls lst (nI (Kc ls / 256))) v' → post (nI (cz_k (cz_t (decide (kd m = 2)) T) ls)) v') : wpY_advance post v := by
  have h8 := dc_two8 hn
  obtain ⟨y_size, y_listSize, y_checkLen, y_poly, y_pos, y_count, y_dropped, y_kinds, y_soft, y_list, y_cand, y_candCost⟩ := v
  obtain ⟨rfl, rfl, rfl, rfl, hkn, rfl⟩ := hS
  obtain ⟨rfl, rfl, rfl, hl⟩ := hA
  have hT64 : cz_t (decide (kd m = 2)) T ≤ 64 := by unfold cz_t; split <;> omega
  unfold wpY_advance
  dsimp only
  refine br_f (nI_pos (by omega)) (br_t (nI_lt hm (by omega)) ⟨T + 1, ?_⟩)
  have e0 : cz_t (decide (kd m = 2)) 0 = 0 := by unfold cz_t; split <;> rfl
  have := y_adv25 (post := post) (n := n) (m := m) (T := T) (k := kd m) (w := w) (y_size := nI (2 ^ n)) (y_listSize := nI ls) (y_checkLen := nI C) (y_poly := nI g) (y_pos := nI m) (y_count := nI T) (y_dropped := y_dropped) (y_kinds := y_kinds) (y_soft := y_soft) (y_list := y_list) (y_candCost := y_candCost) hn hm (by omega) rfl rfl (hkn m hm) hkd (fun r hr => ⟨hw r hr, hl r hr⟩) (fun cand hc => ⟨cz_t (decide (kd m = 2)) T + 1, ?_⟩) T 0 (T + 1) y_cand (by omega) (by omega) (fun c hc => by rw [e0] at hc; omega)
  · rw [e0] at this
    exact this
  · refine y_adv113 (W := fun c => cz_w (decide (kd m = 2)) (decide (kd m = 1)).toNat m w c) (m := m + 1) h1 hn hso hT64 rfl (by omega) rfl hls rfl rfl ?_ ?_ (cz_t (decide (kd m = 2)) T) 0 (cz_t (decide (kd m = 2)) T + 1) y_candCost (by omega) (by omega) (fun c hc => by omega)
    · intro c hc2
      refine ⟨?_, hc c hc2⟩
      obtain ⟨g1, b, g2, g3⟩ := cz_fact (m := m) (w := w) (Bool.toNat_le (decide (kd m = 1))) hc2
      (try dsimp only)
      rw [g3]
      exact w_next (hw _ g1) g2
    · intro Kc cost cand list q1 q2 q3
      exact h Kc _ q1 q2 ⟨rfl, rfl, rfl, rfl, hkn, rfl⟩ ⟨rfl, rfl, rfl, q3⟩
end
section
/-! data, checks, words: plain functions -/
def rk_n (kd : Nat → Nat) (p : Nat) : Nat := qs_cn (fun i => decide (kd i = 2)) p
theorem rk_t {kd : Nat → Nat} {p : Nat} (h : kd p = 2) : rk_n kd (p + 1) = rk_n kd p + 1 := cn_t (decide_eq_true h)
theorem rk_f {kd : Nat → Nat} {p : Nat} (h : kd p ≠ 2) : rk_n kd (p + 1) = rk_n kd p := cn_f (decide_eq_false h)
theorem rk_le (kd : Nat → Nat) (p : Nat) : rk_n kd p ≤ p := cn_le _ p
theorem rk_mono (kd : Nat → Nat) {p q : Nat} (h : p ≤ q) : rk_n kd p ≤ rk_n kd q := cn_mono _ h
theorem rk_lt {kd : Nat → Nat} {p q : Nat} (h : p < q) (hk : kd p = 2) : rk_n kd p < rk_n kd q := by
  have := rk_mono kd (show p + 1 ≤ q from h)
  rw [rk_t hk] at this
  exact this
/-- the check register after j data bits -/
def rg_n (C g : Nat) (b : Nat → Bool) : Nat → Nat
  | 0 => 0
  | j + 1 => if ((rg_n C g b j).testBit (C - 1) ^^ b j) = true then (2 * rg_n C g b j % 2 ^ C) ^^^ (g % 2 ^ C) else 2 * rg_n C g b j % 2 ^ C
theorem rg_lt (C g : Nat) (b : Nat → Bool) : ∀ j, rg_n C g b j < 2 ^ C := by
  intro j
  cases j with
  | zero => exact Nat.two_pow_pos C
  | succ j =>
    have h1 : 2 * rg_n C g b j % 2 ^ C < 2 ^ C := Nat.mod_lt _ (Nat.two_pow_pos C)
    have h2 : g % 2 ^ C < 2 ^ C := Nat.mod_lt _ (Nat.two_pow_pos C)
    show (if ((rg_n C g b j).testBit (C - 1) ^^ b j) = true then (2 * rg_n C g b j % 2 ^ C) ^^^ (g % 2 ^ C) else 2 * rg_n C g b j % 2 ^ C) < 2 ^ C
    split
    · exact Nat.xor_lt_two_pow h1 h2
    · exact h1
theorem rg_cg {C g K : Nat} {b b' : Nat → Bool} (h : ∀ j, j < K → b j = b' j) : ∀ j, j ≤ K → rg_n C g b j = rg_n C g b' j := by
  intro j
  induction j with
  | zero => intro _; rfl
  | succ j ih =>
    intro hj
    show (if ((rg_n C g b j).testBit (C - 1) ^^ b j) = true then (2 * rg_n C g b j % 2 ^ C) ^^^ (g % 2 ^ C) else 2 * rg_n C g b j % 2 ^ C) = (if ((rg_n C g b' j).testBit (C - 1) ^^ b' j) = true then (2 * rg_n C g b' j % 2 ^ C) ^^^ (g % 2 ^ C) else 2 * rg_n C g b' j % 2 ^ C)
    rw [ih (by omega), h j (by omega)]
/-- a number by its bits -/
def wd_o (f : Nat → Bool) : Nat → Nat
  | 0 => 0
  | i + 1 => wd_o f i ||| (f i).toNat * 2 ^ i
theorem b1_dec (b : Bool) : decide (b.toNat = 1) = b := by cases b <;> rfl
theorem wo_tb (f : Nat → Bool) (i : Nat) : ∀ N, (wd_o f N).testBit i = (decide (i < N) && f i) := by
  intro N
  induction N with
  | zero => rw [show wd_o f 0 = 0 from rfl, Nat.zero_testBit, decide_eq_false (by omega)]; rfl
  | succ N ih =>
    show (wd_o f N ||| (f N).toNat * 2 ^ N).testBit i = _
    rw [tb_or _ _ _ _ (Bool.toNat_le _), ih, b1_dec]
    by_cases e : i = N
    · subst e; simp
    · by_cases e2 : i < N
      · simp [e, e2, show i < N + 1 by omega]
      · simp [e, e2, show ¬ i < N + 1 by omega]
theorem wo_lt (f : Nat → Bool) (N : Nat) : wd_o f N < 2 ^ N := tb_ltp (fun i hi => by rw [wo_tb, decide_eq_false (by omega)]; rfl)
/-- bit j of data and checks together -/
def wd_ib (C K : Nat) (b : Nat → Bool) (r j : Nat) : Bool := if j < K then b j else r.testBit (C - 1 - (j - K))
def wd_at (kd : Nat → Nat) (C K : Nat) (b : Nat → Bool) (r i : Nat) : Bool := if kd i = 2 then wd_ib C K b r (rk_n kd i) else decide (kd i = 1)
/-- the word of the data bits b -/
def wd_w (N C g : Nat) (kd : Nat → Nat) (b : Nat → Bool) : Nat := wd_o (wd_at kd C (rk_n kd N - C) b (rg_n C g b (rk_n kd N - C))) N
theorem ww_cg {N C g : Nat} {kd : Nat → Nat} {b b' : Nat → Bool} (h : ∀ j, j < rk_n kd N - C → b j = b' j) : wd_w N C g kd b = wd_w N C g kd b' := by
  unfold wd_w
  rw [rg_cg h _ (Nat.le_refl _)]
  refine Nat.eq_of_testBit_eq (fun i => ?_)
  rw [wo_tb, wo_tb]
  congr 1
  unfold wd_at wd_ib
  by_cases e : kd i = 2
  · rw [if_pos e, if_pos e]
    by_cases e2 : rk_n kd i < rk_n kd N - C
    · rw [if_pos e2, if_pos e2, h _ e2]
    · rw [if_neg e2, if_neg e2]
  · rw [if_neg e, if_neg e]
/-- the bits at the free positions -/
def gt_o (kd : Nat → Nat) (w : Nat) : Nat → Nat
  | 0 => 0
  | p + 1 => if kd p = 2 then gt_o kd w p ||| (w.testBit p).toNat * 2 ^ (rk_n kd p) else gt_o kd w p
theorem gt_t {kd : Nat → Nat} {w p : Nat} (h : kd p = 2) : gt_o kd w (p + 1) = gt_o kd w p ||| (w.testBit p).toNat * 2 ^ (rk_n kd p) := if_pos h
theorem gt_f {kd : Nat → Nat} {w p : Nat} (h : kd p ≠ 2) : gt_o kd w (p + 1) = gt_o kd w p := if_neg h
theorem gt_tb {kd : Nat → Nat} {w : Nat} {bb : Nat → Bool} : ∀ P, (∀ p, p < P → kd p = 2 → w.testBit p = bb (rk_n kd p)) → ∀ j, (gt_o kd w P).testBit j = (decide (j < rk_n kd P) && bb j) := by
  intro P
  induction P with
  | zero => intro _ j; rw [show gt_o kd w 0 = 0 from rfl, Nat.zero_testBit, show rk_n kd 0 = 0 from rfl, decide_eq_false (by omega)]; rfl
  | succ P ih =>
    intro h j
    have ih' := ih (fun p hp => h p (by omega)) j
    by_cases e : kd P = 2
    · rw [gt_t e, rk_t e, tb_or _ _ _ _ (Bool.toNat_le _), ih', b1_dec, h P (by omega) e]
      by_cases e1 : j = rk_n kd P
      · rw [e1]; simp
      · by_cases e2 : j < rk_n kd P
        · simp [e1, e2, show j < rk_n kd P + 1 by omega]
        · simp [e1, e2, show ¬ j < rk_n kd P + 1 by omega]
    · rw [gt_f e, rk_f e]; exact ih'
theorem gt_lt (kd : Nat → Nat) (w : Nat) : ∀ P, gt_o kd w P < 2 ^ (rk_n kd P) := by
  intro P
  induction P with
  | zero => exact Nat.two_pow_pos _
  | succ P ih =>
    by_cases e : kd P = 2
    · rw [gt_t e, rk_t e]
      have h1 : (w.testBit P).toNat * 2 ^ (rk_n kd P) < 2 ^ (rk_n kd P + 1) := by
        have hp := Nat.two_pow_pos (rk_n kd P)
        rw [Nat.pow_succ]
        cases w.testBit P <;> simp only [Bool.toNat_true, Bool.toNat_false] <;> omega
      exact Nat.or_lt_two_pow (Nat.lt_trans ih (by rw [Nat.pow_succ]; have hp := Nat.two_pow_pos (rk_n kd P); omega)) h1
    · rw [gt_f e, rk_f e]; exact ih
theorem gt_cg {kd : Nat → Nat} {w w' : Nat} : ∀ P, (∀ p, p < P → w.testBit p = w'.testBit p) → gt_o kd w P = gt_o kd w' P := by
  intro P
  induction P with
  | zero => intro _; rfl
  | succ P ih =>
    intro h
    by_cases e : kd P = 2
    · rw [gt_t e, gt_t e, ih (fun p hp => h p (by omega)), h P (by omega)]
    · rw [gt_f e, gt_f e, ih (fun p hp => h p (by omega))]
/-- the data of a word -/
def gd_n (N C : Nat) (kd : Nat → Nat) (w : Nat) : Nat := gt_o kd w N % 2 ^ (rk_n kd N - C)
theorem gd_lt (N C : Nat) (kd : Nat → Nat) (w : Nat) : gd_n N C kd w < 2 ^ (rk_n kd N - C) := Nat.mod_lt _ (Nat.two_pow_pos _)
theorem gd_mod (N C : Nat) (kd : Nat → Nat) (w : Nat) : gd_n N C kd (w % 2 ^ N) = gd_n N C kd w := by
  unfold gd_n
  rw [gt_cg (w := w % 2 ^ N) (w' := w) N (fun p hp => by rw [Nat.testBit_mod_two_pow, decide_eq_true hp, Bool.true_and])]
/-- the data of the data's word -/
theorem gd_wd {N C g : Nat} {kd : Nat → Nat} {d : Nat} (hd : d < 2 ^ (rk_n kd N - C)) : gd_n N C kd (wd_w N C g kd (fun j => d.testBit j)) = d := by
  unfold gd_n
  refine Nat.eq_of_testBit_eq (fun j => ?_)
  rw [Nat.testBit_mod_two_pow, gt_tb (bb := wd_ib C (rk_n kd N - C) (fun j => d.testBit j) (rg_n C g (fun j => d.testBit j) (rk_n kd N - C))) N ?_ j]
  · by_cases e : j < rk_n kd N - C
    · rw [decide_eq_true e, decide_eq_true (by omega)]
      unfold wd_ib
      rw [if_pos e]; rfl
    · rw [decide_eq_false e, tb_lt hd (by omega)]; rfl
  · intro p hp hk
    unfold wd_w
    rw [wo_tb, decide_eq_true hp, Bool.true_and]
    unfold wd_at
    rw [if_pos hk]
theorem wd_lt (N C g : Nat) (kd : Nat → Nat) (b : Nat → Bool) : wd_w N C g kd b < 2 ^ N := wo_lt _ N
/-- masks and kinds -/
def mk_ok (N fm om : Nat) (kd : Nat → Nat) : Prop := fm < 2 ^ N ∧ om < 2 ^ N ∧ ∀ i, i < N → kd i ≤ 2 ∧ fm.testBit i = decide (kd i = 2) ∧ om.testBit i = decide (kd i = 1)
/-- the check row -/
def cr_n (C r : Nat) : Nat → Nat := wd_o (fun k => r.testBit (C - 1 - k))
theorem wk_xx (x y : Int32) {i j : Nat} (hi : i < 32) (hj : j < 32) : ((x >>> (nI i &&& 31)) ^^^ (y >>> (nI j &&& 31))) &&& 1 = nI (bt x i ^^ bt y j).toNat := by
  have e : ((x >>> (nI i &&& 31)) ^^^ (y >>> (nI j &&& 31))) &&& 1 = ((x >>> (nI i &&& 31)) &&& 1) ^^^ ((y >>> (nI j &&& 31)) &&& 1) := b_ext (fun k _ => by
    rw [b_and, b_xor, b_xor, b_and, b_and]
    cases bt (x >>> (nI i &&& 31)) k <;> cases bt (y >>> (nI j &&& 31)) k <;> cases bt 1 k <;> rfl)
  rw [e, wk_x x hi, wk_x y hj, nx_xor]
  cases bt x i <;> cases bt y j <;> rfl
theorem wk_x2 (x y : Int32) {i j : Nat} (hi : i < 32) (hj : j < 32) : ((x >>> (nI i &&& 31)) &&& 1) ^^^ ((y >>> (nI j &&& 31)) &&& 1) = nI (bt x i ^^ bt y j).toNat := by
  rw [wk_x x hi, wk_x y hj, nx_xor]
  cases bt x i <;> cases bt y j <;> rfl
theorem wk_and {a k : Nat} (ha : a < 2 ^ 32) (hk : k < 32) : nI a &&& nI (2 ^ k - 1) = nI (a % 2 ^ k) := by
  have h2 : 2 ^ k < 2 ^ 32 := Nat.pow_lt_pow_right (by decide) hk
  exact pk_andN ha k (pk_tn (by omega))
theorem wk_andx (x : Int32) {k : Nat} (hk : k < 32) : x &&& nI (2 ^ k - 1) = nI (wz_n x % 2 ^ k) := by
  have h2 : 2 ^ k < 2 ^ 32 := Nat.pow_lt_pow_right (by decide) hk
  exact pk_and x k (pk_tn (by omega))
end
section
/-! X: checks, words, data -/
section
variable {f_levels f_length f_fullMask f_listSize f_checkLength f_checkMask f_polynomial f_freeMask f_oneMask f_freeCount f_position f_pathTotal f_least f_freeSlotCount f_candTotal : Int32} {a_soft a_rankSlot a_prefix a_metric a_freeSlots a_alpha a_blockOf a_refs a_freeBlocks a_freeBlockCount a_leftSum a_candCost a_candPrefix a_candSlot a_candOrder a_uses : Nat → Int32}
theorem x_checkRow {post : Int32 → Prop} {C g A D : Nat} (hC : C ≤ 3) (hA : A ≤ 8) (hCA : C < A) (eC : f_checkLength = nI C) (eM : f_checkMask = nI (2 ^ C - 1)) (eP : f_polynomial = nI (g % 2 ^ C)) (eA : f_freeCount = nI A) (h : post (nI (cr_n C (rg_n C g (fun j => D.testBit j) (A - C)) C))) : wpX_checkRow post (f_levels, f_length, f_fullMask, f_listSize, f_checkLength, f_checkMask, f_polynomial, f_freeMask, f_oneMask, f_freeCount, f_position, f_pathTotal, f_least, f_freeSlotCount, f_candTotal, a_soft, a_rankSlot, a_prefix, a_metric, a_freeSlots, a_alpha, a_blockOf, a_refs, a_freeBlocks, a_freeBlockCount, a_leftSum, a_candCost, a_candPrefix, a_candSlot, a_candOrder, a_uses) (nI D) := by
  have hp8 : 2 ^ C ≤ 8 := dc_two8 hC
  unfold wpX_checkRow
  dsimp only
  by_cases e0 : C = 0
  · subst e0
    exact br_t eC h
  · refine br_f (by rw [eC]; exact nI_ne0 (by omega) (by omega)) (nm_r (e' := nI (C - 1)) (by rw [eC]; exact wk_pm1 (by omega)) (nm_r (e' := nI (A - C)) (by rw [eA, eC]; exact pk_sub (by omega)) ?_))
    refine pk_loop (fun fuel j (s : Int32) => wX_checkRow_32 post (nI D) (nI (C - 1)) (nI (A - C)) f_levels f_length f_fullMask f_listSize f_checkLength f_checkMask f_polynomial f_freeMask f_oneMask f_freeCount f_position f_pathTotal f_least f_freeSlotCount f_candTotal a_soft a_rankSlot a_prefix a_metric a_freeSlots a_alpha a_blockOf a_refs a_freeBlocks a_freeBlockCount a_leftSum a_candCost a_candPrefix a_candSlot a_candOrder a_uses fuel s (nI j)) (fun j s => s = nI (rg_n C g (fun j => D.testBit j) j)) (A - C) 0 0 (by omega) rfl ?_ ?_
    · intro fuel s hs
      subst hs
      refine br_t (Int32.le_refl _) ?_
      generalize rg_n C g (fun j => D.testBit j) (A - C) = r at h ⊢
      refine pk_loop (fun f2 k (s : Int32) => wX_checkRow_89 post (nI (C - 1)) (nI r) f_levels f_length f_fullMask f_listSize f_checkLength f_checkMask f_polynomial f_freeMask f_oneMask f_freeCount f_position f_pathTotal f_least f_freeSlotCount f_candTotal a_soft a_rankSlot a_prefix a_metric a_freeSlots a_alpha a_blockOf a_refs a_freeBlocks a_freeBlockCount a_leftSum a_candCost a_candPrefix a_candSlot a_candOrder a_uses f2 s (nI k)) (fun k s => s = nI (cr_n C r k)) C 0 0 (by omega) rfl ?_ ?_
      · intro f2 s hs
        exact br_t (by rw [eC]; exact Int32.le_refl _) (by rw [hs]; exact h)
      · intro f2 k s hk hs kk
        subst hs
        have hp : 2 ^ k ≤ 2 ^ 3 := Nat.pow_le_pow_right (by decide) (by omega)
        refine br_f (by rw [eC]; exact nI_ge hk (by omega)) (nm_r (e' := nI (cr_n C r (k + 1))) ?_ (nm_r (nI_1 k) (kk _ rfl)))
        rw [pk_sub (by omega), wk_b (by omega), wk_shl (by omega) (by have := Bool.toNat_le (r.testBit (C - 1 - k)); have hq : (r.testBit (C - 1 - k)).toNat * 2 ^ k ≤ 1 * 2 ^ 3 := Nat.mul_le_mul this hp; omega), nx_or]
        rfl
    · intro fuel j s hj hs kk
      subst hs
      have hlt := rg_lt C g (fun j => D.testBit j) j
      have hst : rg_n C g (fun j => D.testBit j) (j + 1) = if ((rg_n C g (fun j => D.testBit j) j).testBit (C - 1) ^^ D.testBit j) = true then (2 * rg_n C g (fun j => D.testBit j) j % 2 ^ C) ^^^ (g % 2 ^ C) else 2 * rg_n C g (fun j => D.testBit j) j % 2 ^ C := rfl
      unfold wX_checkRow_32
      refine br_f (nI_ge hj (by omega)) (nm_r (e' := nI ((rg_n C g (fun j => D.testBit j) j).testBit (C - 1) ^^ D.testBit j).toNat) (by rw [wk_xx _ _ (by omega) (by omega), bt_nI (by omega), bt_nI (by omega)]) (nm_r (e' := nI (2 * rg_n C g (fun j => D.testBit j) j % 2 ^ C)) (by rw [eM, pk_shlN ((1 : Int32) &&& 31) 1 (by decide) (by omega), wk_and (by omega) (by omega), Nat.pow_one, Nat.mul_comm]) ?_))
      cases hb : ((rg_n C g (fun j => D.testBit j) j).testBit (C - 1) ^^ D.testBit j) with
      | true =>
        rw [hb, if_pos rfl] at hst
        exact br_t rfl (nm_r (e' := nI (rg_n C g (fun j => D.testBit j) (j + 1))) (by rw [eP, nx_xor, hst]) (nm_r (nI_1 j) (kk _ rfl)))
      | false =>
        rw [hb, if_neg Bool.false_ne_true] at hst
        exact br_f (by decide) (nm_r (nI_1 j) (kk _ (by rw [hst])))
theorem x_placeWord {post : Int32 → Prop} {n C g A fm om : Nat} {kd : Nat → Nat} {p0 : Int32} (hn : n ≤ 3) (hC : C ≤ 3) (hCA : C < A) (hAk : A = rk_n kd (2 ^ n)) (hmk : mk_ok (2 ^ n) fm om kd) (eL : f_length = nI (2 ^ n)) (eC : f_checkLength = nI C) (eM : f_checkMask = nI (2 ^ C - 1)) (eP : f_polynomial = nI (g % 2 ^ C)) (eA : f_freeCount = nI A) (eF : f_freeMask = nI fm) (eO : f_oneMask = nI om) (h : post (nI (wd_w (2 ^ n) C g kd (bt p0)))) : wpX_placeWord post (f_levels, f_length, f_fullMask, f_listSize, f_checkLength, f_checkMask, f_polynomial, f_freeMask, f_oneMask, f_freeCount, f_position, f_pathTotal, f_least, f_freeSlotCount, f_candTotal, a_soft, a_rankSlot, a_prefix, a_metric, a_freeSlots, a_alpha, a_blockOf, a_refs, a_freeBlocks, a_freeBlockCount, a_leftSum, a_candCost, a_candPrefix, a_candSlot, a_candOrder, a_uses) p0 := by
  have h8 := dc_two8 hn
  have hA8 : A ≤ 8 := by rw [hAk]; exact Nat.le_trans (rk_le kd _) h8
  have hK : 2 ^ (A - C) ≤ 2 ^ 8 := Nat.pow_le_pow_right (by decide) (by omega)
  obtain ⟨m1, m2, m3⟩ := hmk
  have hDb : ∀ j, j < A - C → (wz_n p0 % 2 ^ (A - C)).testBit j = bt p0 j := fun j hj => by
    rw [Nat.testBit_mod_two_pow, decide_eq_true hj, Bool.true_and]; rfl
  have hD : wz_n p0 % 2 ^ (A - C) < 2 ^ (A - C) := Nat.mod_lt _ (Nat.two_pow_pos _)
  have hww : wd_w (2 ^ n) C g kd (bt p0) = wd_w (2 ^ n) C g kd (fun j => (wz_n p0 % 2 ^ (A - C)).testBit j) := ww_cg (fun j hj => (hDb j (by rw [hAk]; exact hj)).symm)
  rw [hww] at h
  unfold wpX_placeWord
  dsimp only
  refine nm_r (e' := nI (A - C)) (by rw [eA, eC]; exact pk_sub (by omega)) (nm_r (e' := nI (wz_n p0 % 2 ^ (A - C))) (by rw [wk_mk (by omega)]; exact wk_andx p0 (by omega)) ?_)
  generalize wz_n p0 % 2 ^ (A - C) = D at h hD ⊢
  refine x_checkRow hC hA8 hCA eC eM eP eA ?_
  have hrg : rg_n C g (fun j => D.testBit j) (rk_n kd (2 ^ n) - C) = rg_n C g (fun j => D.testBit j) (A - C) := by rw [hAk]
  unfold wd_w at h
  rw [hrg, ← hAk] at h
  generalize rg_n C g (fun j => D.testBit j) (A - C) = r at h ⊢
  have hrow : cr_n C r C < 2 ^ C := wo_lt _ C
  have hp8 : 2 ^ C ≤ 8 := dc_two8 hC
  have hrk : cr_n C r C * 2 ^ (A - C) ≤ 8 * 2 ^ 8 := Nat.mul_le_mul (by omega) hK
  have hrk2 : 2 ^ (A - C) * cr_n C r C ≤ 8 * 2 ^ 8 := by rw [Nat.mul_comm]; exact hrk
  refine nm_r (wk_ext (by omega) hD (by omega)) ?_
  have hI : ∀ j, j < A → (D + 2 ^ (A - C) * cr_n C r C).testBit j = wd_ib C (A - C) (fun j => D.testBit j) r j := by
    intro j hj
    unfold wd_ib
    rw [Nat.add_comm, Nat.testBit_two_pow_mul_add _ hD]
    by_cases e : j < A - C
    · rw [if_pos e, if_pos e]
    · rw [if_neg e, if_neg e]
      unfold cr_n
      rw [wo_tb, decide_eq_true (by omega), Bool.true_and]
  have hIlt : D + 2 ^ (A - C) * cr_n C r C < 2 ^ 31 := by omega
  generalize D + 2 ^ (A - C) * cr_n C r C = I at hI hIlt ⊢
  refine pk_loop (fun fuel p (s : Int32 × Int32) => wX_placeWord_41 post f_levels f_length f_fullMask f_listSize f_checkLength f_checkMask f_polynomial f_freeMask f_oneMask f_freeCount f_position f_pathTotal f_least f_freeSlotCount f_candTotal a_soft a_rankSlot a_prefix a_metric a_freeSlots a_alpha a_blockOf a_refs a_freeBlocks a_freeBlockCount a_leftSum a_candCost a_candPrefix a_candSlot a_candOrder a_uses fuel s.1 s.2 (nI p)) (fun p s => s.1 = nI (I / 2 ^ rk_n kd p) ∧ ∃ V, s.2 = nI V ∧ ∀ i, V.testBit i = (om.testBit i || (decide (i < p) && (decide (kd i = 2) && I.testBit (rk_n kd i))))) (2 ^ n) 0 (nI I, f_oneMask) (Nat.zero_le _) ?_ ?_ ?_
  · refine ⟨?_, om, eO, fun i => ?_⟩
    · show nI I = nI (I / 2 ^ 0)
      rw [Nat.pow_zero, Nat.div_one]
    · rw [decide_eq_false (by omega), Bool.false_and, Bool.or_false]
  · intro fuel s hs
    obtain ⟨_, V, e2, hV⟩ := hs
    refine br_t (by rw [eL]; exact Int32.le_refl _) ?_
    rw [e2]
    have eV : V = wd_o (wd_at kd C (A - C) (fun j => D.testBit j) r) (2 ^ n) := Nat.eq_of_testBit_eq (fun i => by
      rw [hV, wo_tb]
      by_cases e : i < 2 ^ n
      · obtain ⟨k1, k2, k3⟩ := m3 i e
        rw [k3, decide_eq_true e, Bool.true_and, Bool.true_and]
        unfold wd_at
        by_cases ek : kd i = 2
        · rw [if_pos ek, ek, hI _ (by rw [hAk]; exact rk_lt e ek)]; rfl
        · rw [if_neg ek, decide_eq_false ek, Bool.false_and, Bool.or_false]
      · rw [decide_eq_false e, Bool.false_and, Bool.false_and, Bool.or_false, tb_lt m2 (by omega)])
    rw [eV]; exact h
  · intro fuel p s hp hs kk
    obtain ⟨e1, V, e2, hV⟩ := hs
    obtain ⟨k1, k2, k3⟩ := m3 p hp
    have hdl : I / 2 ^ rk_n kd p ≤ I := Nat.div_le_self _ _
    unfold wX_placeWord_41
    refine br_f (by rw [eL]; exact nI_ge hp (by omega)) ?_
    rw [e1, e2, eF]
    by_cases ek : kd p = 2
    · rw [decide_eq_true ek] at k2
      have hpp : 2 ^ p ≤ 2 ^ 8 := Nat.pow_le_pow_right (by decide) (by omega)
      have hbit : nI (I / 2 ^ rk_n kd p) &&& 1 = nI (I.testBit (rk_n kd p)).toNat := by
        have := wk_and (a := I / 2 ^ rk_n kd p) (k := 1) (by omega) (by omega)
        rw [← tb_n]
        exact this
      have hbl : (I.testBit (rk_n kd p)).toNat * 2 ^ p ≤ 1 * 2 ^ 8 := Nat.mul_le_mul (Bool.toNat_le _) hpp
      refine br_t ((wk_b1 (by omega)).mpr k2) (nm_r (e' := nI (V ||| (I.testBit (rk_n kd p)).toNat * 2 ^ p)) (by rw [hbit, wk_shl (by omega) (by omega), nx_or]) (nm_r (e' := nI (I / 2 ^ rk_n kd (p + 1))) ?_ (nm_r (nI_1 p) ?_)))
      · rw [pk_shrN (by omega) ((1 : Int32) &&& 31) 1 (by decide), Nat.div_div_eq_div_mul, ← Nat.pow_add, rk_t ek]
      · rw [← eF]
        refine kk (nI (I / 2 ^ rk_n kd (p + 1)), nI (V ||| (I.testBit (rk_n kd p)).toNat * 2 ^ p)) ⟨rfl, _, rfl, fun i => ?_⟩
        rw [tb_or _ _ _ _ (Bool.toNat_le _), hV, b1_dec]
        by_cases e : i = p
        · subst e
          simp [ek]
        · by_cases e2 : i < p
          · simp [e, e2, show i < p + 1 by omega]
          · simp [e, e2, show ¬ i < p + 1 by omega]
    · rw [decide_eq_false ek] at k2
      refine br_f (fun z => by rw [wk_b1 (by omega), k2] at z; exact Bool.false_ne_true z) (nm_r (nI_1 p) ?_)
      rw [← eF]
      refine kk (nI (I / 2 ^ rk_n kd p), nI V) ⟨by rw [rk_f ek], _, rfl, fun i => ?_⟩
      rw [hV]
      by_cases e : i = p
      · subst e
        simp [ek]
      · by_cases e2 : i < p
        · simp [e2, show i < p + 1 by omega]
        · simp [e2, show ¬ i < p + 1 by omega]
theorem x_gather {post : Int32 → Prop} {n C A fm om : Nat} {kd : Nat → Nat} {p0 : Int32} (hn : n ≤ 3) (hCA : C < A) (hAk : A = rk_n kd (2 ^ n)) (hmk : mk_ok (2 ^ n) fm om kd) (eL : f_length = nI (2 ^ n)) (eC : f_checkLength = nI C) (eA : f_freeCount = nI A) (eF : f_freeMask = nI fm) (h : post (nI (gd_n (2 ^ n) C kd (wz_n p0)))) : wpX_gatherData post (f_levels, f_length, f_fullMask, f_listSize, f_checkLength, f_checkMask, f_polynomial, f_freeMask, f_oneMask, f_freeCount, f_position, f_pathTotal, f_least, f_freeSlotCount, f_candTotal, a_soft, a_rankSlot, a_prefix, a_metric, a_freeSlots, a_alpha, a_blockOf, a_refs, a_freeBlocks, a_freeBlockCount, a_leftSum, a_candCost, a_candPrefix, a_candSlot, a_candOrder, a_uses) p0 := by
  have h8 := dc_two8 hn
  have hA8 : A ≤ 8 := by rw [hAk]; exact Nat.le_trans (rk_le kd _) h8
  obtain ⟨m1, m2, m3⟩ := hmk
  have hK : 2 ^ A ≤ 2 ^ 8 := Nat.pow_le_pow_right (by decide) (by omega)
  unfold wpX_gatherData
  dsimp only
  refine nm_r (e' := nI (A - C)) (by rw [eA, eC]; exact pk_sub (by omega)) ?_
  refine pk_loop (fun fuel p (s : Int32 × Int32) => wX_gatherData_18 post p0 (nI (A - C)) f_levels f_length f_fullMask f_listSize f_checkLength f_checkMask f_polynomial f_freeMask f_oneMask f_freeCount f_position f_pathTotal f_least f_freeSlotCount f_candTotal a_soft a_rankSlot a_prefix a_metric a_freeSlots a_alpha a_blockOf a_refs a_freeBlocks a_freeBlockCount a_leftSum a_candCost a_candPrefix a_candSlot a_candOrder a_uses fuel s.1 s.2 (nI p)) (fun p s => s.1 = nI (gt_o kd (wz_n p0) p) ∧ s.2 = nI (rk_n kd p)) (2 ^ n) 0 (0, 0) (Nat.zero_le _) ⟨rfl, rfl⟩ ?_ ?_
  · intro fuel s hs
    refine br_t (by rw [eL]; exact Int32.le_refl _) ?_
    have hl := gt_lt kd (wz_n p0) (2 ^ n)
    rw [← hAk] at hl
    rw [hs.1, wk_mk (by omega), wk_and (by omega) (by omega), hAk]
    exact h
  · intro fuel p s hp hs kk
    obtain ⟨e1, e2⟩ := hs
    obtain ⟨k1, k2, k3⟩ := m3 p hp
    have hr := rk_le kd p
    unfold wX_gatherData_18
    refine br_f (by rw [eL]; exact nI_ge hp (by omega)) ?_
    rw [e1, e2, eF]
    by_cases ek : kd p = 2
    · rw [decide_eq_true ek] at k2
      have hpp : 2 ^ rk_n kd p ≤ 2 ^ 8 := Nat.pow_le_pow_right (by decide) (by omega)
      have hbl : ((wz_n p0).testBit p).toNat * 2 ^ rk_n kd p ≤ 1 * 2 ^ 8 := Nat.mul_le_mul (Bool.toNat_le _) hpp
      refine br_t ((wk_b1 (by omega)).mpr k2) (nm_r (e' := nI (gt_o kd (wz_n p0) (p + 1))) ?_ (nm_r (nI_1 _) (nm_r (nI_1 p) ?_)))
      · rw [wk_x p0 (by omega), wz_bt, wk_shl (by omega) (by omega), nx_or, gt_t ek]
      · rw [← eF]
        exact kk (nI (gt_o kd (wz_n p0) (p + 1)), nI (rk_n kd p + 1)) ⟨rfl, by rw [rk_t ek]⟩
    · rw [decide_eq_false ek] at k2
      refine br_f (fun z => by rw [wk_b1 (by omega), k2] at z; exact Bool.false_ne_true z) (nm_r (nI_1 p) ?_)
      rw [← eF]
      exact kk (nI (gt_o kd (wz_n p0) p), nI (rk_n kd p)) ⟨by rw [gt_f ek], by rw [rk_f ek]⟩
end
end
section
/-! Y: checks, words, data -/
section
variable {y_size y_listSize y_checkLen y_poly y_pos y_count y_dropped : Int32} {y_kinds y_soft y_list y_cand y_candCost : Nat → Int32}
theorem y_dataBits {post : Int32 → Prop} {n C : Nat} {kd : Nat → Nat} (hn : n ≤ 3) (hk : ∀ i, i < 2 ^ n → kd i ≤ 2 ∧ y_kinds i = nI (kd i)) (eN : y_size = nI (2 ^ n)) (eC : y_checkLen = nI C) (h : post (nI (rk_n kd (2 ^ n)) - nI C)) : wpY_dataBits post (y_size, y_listSize, y_checkLen, y_poly, y_pos, y_count, y_dropped, y_kinds, y_soft, y_list, y_cand, y_candCost) := by
  have h8 := dc_two8 hn
  unfold wpY_dataBits
  dsimp only
  refine pk_loop (fun fuel i (s : Int32) => wY_dataBits_4 post y_size y_listSize y_checkLen y_poly y_pos y_count y_dropped y_kinds y_soft y_list y_cand y_candCost fuel s (nI i)) (fun i s => s = nI (rk_n kd i)) (2 ^ n) 0 0 (Nat.zero_le _) rfl ?_ ?_
  · intro fuel s hs
    exact br_t (by rw [eN]; exact Int32.le_refl _) (by rw [hs, eC]; exact h)
  · intro fuel i s hi hs kk
    subst hs
    obtain ⟨k1, k2⟩ := hk i hi
    unfold wY_dataBits_4
    refine br_f (by rw [eN]; exact nI_ge hi (by omega)) ⟨vp_in_nI (by omega) (by decide), ?_⟩
    rw [nI_clamp (by omega), k2]
    refine pk_eq (kd i) 2 (fun e => ?_) (fun e => ?_)
    · exact nm_r (nI_1 _) (nm_r (nI_1 i) (kk _ (by rw [rk_t e])))
    · exact nm_r (nI_1 i) (kk _ (by rw [rk_f e]))
theorem y_checkReg {post : Int32 → Prop} {C g K : Nat} {p0 : Int32} (hC : C ≤ 3) (hK : K ≤ 8) (eC : y_checkLen = nI C) (eP : y_poly = nI g) (hg : g < 8) (h : post (nI (rg_n C g (bt p0) K))) : wpY_checkRegister post (y_size, y_listSize, y_checkLen, y_poly, y_pos, y_count, y_dropped, y_kinds, y_soft, y_list, y_cand, y_candCost) p0 (nI K) := by
  have hp8 : 2 ^ C ≤ 8 := dc_two8 hC
  unfold wpY_checkRegister
  dsimp only
  by_cases e0 : C = 0
  · subst e0
    have := rg_lt 0 g (bt p0) K
    rw [show rg_n 0 g (bt p0) K = 0 by omega] at h
    exact br_t eC h
  · refine br_f (by rw [eC]; exact nI_ne0 (by omega) (by omega)) (nm_r (e' := nI (2 ^ C - 1)) (by rw [eC]; exact wk_mk (by omega)) ?_)
    refine pk_loop (fun fuel j (s : Int32) => wY_checkRegister_24 post p0 (nI K) (nI (2 ^ C - 1)) y_size y_listSize y_checkLen y_poly y_pos y_count y_dropped y_kinds y_soft y_list y_cand y_candCost fuel s (nI j)) (fun j s => s = nI (rg_n C g (bt p0) j)) K 0 0 (Nat.zero_le _) rfl ?_ ?_
    · intro fuel s hs
      exact br_t (Int32.le_refl _) (by rw [hs]; exact h)
    · intro fuel j s hj hs kk
      subst hs
      have hlt := rg_lt C g (bt p0) j
      have hst : rg_n C g (bt p0) (j + 1) = if ((rg_n C g (bt p0) j).testBit (C - 1) ^^ bt p0 j) = true then (2 * rg_n C g (bt p0) j % 2 ^ C) ^^^ (g % 2 ^ C) else 2 * rg_n C g (bt p0) j % 2 ^ C := rfl
      unfold wY_checkRegister_24
      refine br_f (nI_ge hj (by omega)) (nm_r (e' := nI ((rg_n C g (bt p0) j).testBit (C - 1) ^^ bt p0 j).toNat) (by rw [eC, wk_pm1 (by omega), wk_x2 _ _ (by omega) (by omega), bt_nI (by omega)]) (nm_r (e' := nI (2 * rg_n C g (bt p0) j % 2 ^ C)) ?_ ?_))
      · rw [show (2 : Int32) = nI 2 from rfl, pk_mul, wk_and (by omega) (by omega)]
      · cases hb : ((rg_n C g (bt p0) j).testBit (C - 1) ^^ bt p0 j) with
        | true =>
          rw [hb, if_pos rfl] at hst
          exact br_t rfl (nm_r (e' := nI (rg_n C g (bt p0) (j + 1))) (by rw [eP, wk_and (by omega) (by omega), nx_xor, hst]) (nm_r (nI_1 j) (kk _ rfl)))
        | false =>
          rw [hb, if_neg Bool.false_ne_true] at hst
          exact br_f (by decide) (nm_r (nI_1 j) (kk _ (by rw [hst])))
theorem y_wordOf {post : Int32 → Prop} {n C g : Nat} {kd : Nat → Nat} {p0 : Int32} (hn : n ≤ 3) (hC : C ≤ 3) (hg : g < 8) (hCA : C < rk_n kd (2 ^ n)) (hk : ∀ i, i < 2 ^ n → kd i ≤ 2 ∧ y_kinds i = nI (kd i)) (eN : y_size = nI (2 ^ n)) (eC : y_checkLen = nI C) (eP : y_poly = nI g) (h : post (nI (wd_w (2 ^ n) C g kd (bt p0)))) : wpY_wordOf post (y_size, y_listSize, y_checkLen, y_poly, y_pos, y_count, y_dropped, y_kinds, y_soft, y_list, y_cand, y_candCost) p0 := by
  have h8 := dc_two8 hn
  have hA8 : rk_n kd (2 ^ n) ≤ 8 := Nat.le_trans (rk_le kd _) h8
  unfold wpY_wordOf
  dsimp only
  refine y_dataBits hn hk eN eC ?_
  rw [pk_sub (by omega)]
  refine y_checkReg hC (by omega) eC eP hg ?_
  unfold wd_w at h
  have hrl := rg_lt C g (bt p0) (rk_n kd (2 ^ n) - C)
  generalize rg_n C g (bt p0) (rk_n kd (2 ^ n) - C) = r at h hrl ⊢
  have step : ∀ (fuel i : Nat) (sn : Int32) (V : Nat) (b : Bool), i < 2 ^ n → (∀ s' : Int32 × Int32, s'.1 = sn ∧ s'.2 = nI (V ||| b.toNat * 2 ^ i) → wY_wordOf_21 post p0 (nI (rk_n kd (2 ^ n) - C)) (nI r) y_size y_listSize y_checkLen y_poly y_pos y_count y_dropped y_kinds y_soft y_list y_cand y_candCost fuel s'.1 s'.2 (nI (i + 1))) → wY_wordOf_98 post (wY_wordOf_21 post p0 (nI (rk_n kd (2 ^ n) - C)) (nI r) y_size y_listSize y_checkLen y_poly y_pos y_count y_dropped y_kinds y_soft y_list y_cand y_candCost fuel) p0 (nI (rk_n kd (2 ^ n) - C)) (nI r) sn (nI V) (nI i) (nI b.toNat) y_size y_listSize y_checkLen y_poly y_pos y_count y_dropped y_kinds y_soft y_list y_cand y_candCost := by
    intro fuel i sn V b hi kk
    have hp : 2 ^ i ≤ 2 ^ 8 := Nat.pow_le_pow_right (by decide) (by omega)
    have hq : b.toNat * 2 ^ i ≤ 1 * 2 ^ 8 := Nat.mul_le_mul (Bool.toNat_le _) hp
    exact nm_r (e' := nI (V ||| b.toNat * 2 ^ i)) (by rw [wk_shl (by omega) (by omega), nx_or]) (nm_r (nI_1 i) (kk (sn, nI (V ||| b.toNat * 2 ^ i)) ⟨rfl, rfl⟩))
  refine pk_loop (fun fuel i (s : Int32 × Int32) => wY_wordOf_21 post p0 (nI (rk_n kd (2 ^ n) - C)) (nI r) y_size y_listSize y_checkLen y_poly y_pos y_count y_dropped y_kinds y_soft y_list y_cand y_candCost fuel s.1 s.2 (nI i)) (fun i s => s.1 = nI (rk_n kd i) ∧ s.2 = nI (wd_o (wd_at kd C (rk_n kd (2 ^ n) - C) (bt p0) r) i)) (2 ^ n) 0 (0, 0) (Nat.zero_le _) ⟨rfl, rfl⟩ ?_ ?_
  · intro fuel s hs
    exact br_t (by rw [eN]; exact Int32.le_refl _) (by rw [hs.2]; exact h)
  · intro fuel i s hi hs kk
    obtain ⟨k1, k2⟩ := hk i hi
    have v8 : vp_in (nI i) 8 := vp_in_nI (by omega) (by decide)
    have hr8 := rk_le kd i
    have hwo : ∀ b, wd_at kd C (rk_n kd (2 ^ n) - C) (bt p0) r i = b → wd_o (wd_at kd C (rk_n kd (2 ^ n) - C) (bt p0) r) (i + 1) = wd_o (wd_at kd C (rk_n kd (2 ^ n) - C) (bt p0) r) i ||| b.toNat * 2 ^ i := by
      intro b hb
      rw [← hb]; rfl
    unfold wY_wordOf_21
    refine br_f (by rw [eN]; exact nI_ge hi (by omega)) ⟨v8, ?_⟩
    rw [nI_clamp (by omega), k2, hs.1, hs.2]
    refine pk_eq (kd i) 2 (fun e => ?_) (fun e => ⟨v8, ?_⟩)
    · have hrl2 := rk_lt hi e
      have at2 : wd_at kd C (rk_n kd (2 ^ n) - C) (bt p0) r i = wd_ib C (rk_n kd (2 ^ n) - C) (bt p0) r (rk_n kd i) := if_pos e
      refine pk_le (rk_n kd (2 ^ n) - C) (rk_n kd i) (fun hle => ?_) (fun hlt => ?_)
      · have ib : wd_ib C (rk_n kd (2 ^ n) - C) (bt p0) r (rk_n kd i) = r.testBit (C - 1 - (rk_n kd i - (rk_n kd (2 ^ n) - C))) := if_neg (by omega)
        refine nm_r (e' := nI (r.testBit (C - 1 - (rk_n kd i - (rk_n kd (2 ^ n) - C)))).toNat) ?_ (nm_r (nI_1 _) (step fuel i _ _ _ hi (fun s' hs' => kk s' ⟨by rw [hs'.1, rk_t e], ?_⟩)))
        · rw [eC, wk_pm1 (by omega), pk_sub (by omega), pk_sub (by omega), wk_b (by omega)]
        · rw [hs'.2, hwo _ (at2.trans ib)]
      · have ib : wd_ib C (rk_n kd (2 ^ n) - C) (bt p0) r (rk_n kd i) = bt p0 (rk_n kd i) := if_pos (by omega)
        refine nm_r (e' := nI (bt p0 (rk_n kd i)).toNat) (wk_x p0 (by omega)) (nm_r (nI_1 _) (step fuel i _ _ _ hi (fun s' hs' => kk s' ⟨by rw [hs'.1, rk_t e], ?_⟩)))
        rw [hs'.2, hwo _ (at2.trans ib)]
    · have at2 : wd_at kd C (rk_n kd (2 ^ n) - C) (bt p0) r i = decide (kd i = 1) := if_neg e
      refine pk_eq (kd i) 1 (fun e1 => ?_) (fun e1 => ?_)
      · exact step fuel i _ _ true hi (fun s' hs' => kk s' ⟨by rw [hs'.1, rk_f e], by rw [hs'.2, hwo true (by rw [at2, decide_eq_true e1])]⟩)
      · exact step fuel i _ _ false hi (fun s' hs' => kk s' ⟨by rw [hs'.1, rk_f e], by rw [hs'.2, hwo false (by rw [at2, decide_eq_false e1])]⟩)
/-- the least data whose word is wanted is the data read off it -/
theorem y_dataOf {post : Int32 → Prop} {n C g : Nat} {kd : Nat → Nat} {p0 : Int32} (hn : n ≤ 3) (hC : C ≤ 3) (hg : g < 8) (hk : ∀ i, i < 2 ^ n → kd i ≤ 2 ∧ y_kinds i = nI (kd i)) (eN : y_size = nI (2 ^ n)) (eC : y_checkLen = nI C) (eP : y_poly = nI g)
    (h0 : (rk_n kd (2 ^ n) ≤ C ∨ wd_w (2 ^ n) C g kd (fun j => (gd_n (2 ^ n) C kd (wz_n p0)).testBit j) ≠ wz_n p0 % 2 ^ (2 ^ n)) → post (-1))
    (h1 : C < rk_n kd (2 ^ n) → wd_w (2 ^ n) C g kd (fun j => (gd_n (2 ^ n) C kd (wz_n p0)).testBit j) = wz_n p0 % 2 ^ (2 ^ n) → post (nI (gd_n (2 ^ n) C kd (wz_n p0)))) : wpY_dataOf post (y_size, y_listSize, y_checkLen, y_poly, y_pos, y_count, y_dropped, y_kinds, y_soft, y_list, y_cand, y_candCost) p0 := by
  have h8 := dc_two8 hn
  have hA8 : rk_n kd (2 ^ n) ≤ 8 := Nat.le_trans (rk_le kd _) h8
  have h256 := wk_2n hn
  unfold wpY_dataOf
  dsimp only
  refine y_dataBits hn hk eN eC ?_
  by_cases hCA : rk_n kd (2 ^ n) ≤ C
  · refine br_f (fun z => ?_) (h0 (Or.inl hCA))
    have := ia_le.mp z
    rw [pk_sub_toInt (by omega) (by omega), show (1 : Int32).toInt = 1 by decide] at this
    omega
  · have hK8 : 2 ^ (rk_n kd (2 ^ n) - C) ≤ 2 ^ 8 := Nat.pow_le_pow_right (by decide) (by omega)
    rw [pk_sub (by omega)]
    refine br_t (nI_le (a := 1) (by omega) (by omega)) (nm_r (e' := nI (wz_n p0 % 2 ^ (2 ^ n))) (by rw [eN, wk_mk (by omega)]; exact wz_and hn p0) ⟨2 ^ (rk_n kd (2 ^ n) - C) + 1, ?_⟩)
    have hwl : wz_n p0 % 2 ^ (2 ^ n) < 2 ^ (2 ^ n) := Nat.mod_lt _ (Nat.two_pow_pos _)
    have go : ∀ q d fuel, d + q = 2 ^ (rk_n kd (2 ^ n) - C) → q < fuel → (∀ d', d' < d → wd_w (2 ^ n) C g kd (fun j => d'.testBit j) ≠ wz_n p0 % 2 ^ (2 ^ n)) → wY_dataOf_26 post (nI (rk_n kd (2 ^ n) - C)) (nI (wz_n p0 % 2 ^ (2 ^ n))) y_size y_listSize y_checkLen y_poly y_pos y_count y_dropped y_kinds y_soft y_list y_cand y_candCost fuel (nI d) := by
      intro q
      induction q with
      | zero =>
        intro d fuel hd hf hne
        obtain ⟨fuel, rfl⟩ : ∃ n', fuel = n' + 1 := ⟨fuel - 1, by omega⟩
        refine br_t (by rw [wk_1s (by omega)]; exact nI_le (by omega) (by omega)) (h0 (Or.inr (hne _ ?_)))
        have := gd_lt (2 ^ n) C kd (wz_n p0)
        omega
      | succ q ih =>
        intro d fuel hd hf hne
        obtain ⟨fuel, rfl⟩ : ∃ n', fuel = n' + 1 := ⟨fuel - 1, by omega⟩
        have hww : wd_w (2 ^ n) C g kd (bt (nI d)) = wd_w (2 ^ n) C g kd (fun j => d.testBit j) := ww_cg (fun j hj => bt_nI (by omega))
        have hwlt := wd_lt (2 ^ n) C g kd (fun j => d.testBit j)
        unfold wY_dataOf_26
        refine br_f (by rw [wk_1s (by omega)]; exact nI_ge (by omega) (by omega)) ?_
        refine y_wordOf hn hC hg (by omega) hk eN eC eP ?_
        rw [hww]
        refine pk_eq (wd_w (2 ^ n) C g kd (fun j => d.testBit j)) (wz_n p0 % 2 ^ (2 ^ n)) (fun e => ?_) (fun e => ?_)
        · have hgd : gd_n (2 ^ n) C kd (wz_n p0) = d := by
            rw [← gd_mod, ← e]
            exact gd_wd (by omega)
          rw [hgd] at h1
          exact h1 (by omega) e
        · refine nm_r (nI_1 d) (ih (d + 1) fuel (by omega) (by omega) (fun d' hd' => ?_))
          by_cases ed : d' = d
          · rw [ed]; exact e
          · exact hne d' (by omega)
    exact go (2 ^ (rk_n kd (2 ^ n) - C)) 0 _ (by omega) (by omega) (fun d' hd' => by omega)
theorem y_allowed {post : Int32 → Prop} {n C g : Nat} {kd : Nat → Nat} {p0 : Int32} (hn : n ≤ 3) (hC : C ≤ 3) (hg : g < 8) (hk : ∀ i, i < 2 ^ n → kd i ≤ 2 ∧ y_kinds i = nI (kd i)) (eN : y_size = nI (2 ^ n)) (eC : y_checkLen = nI C) (eP : y_poly = nI g)
    (h0 : (rk_n kd (2 ^ n) ≤ C ∨ wd_w (2 ^ n) C g kd (fun j => (gd_n (2 ^ n) C kd (wz_n p0)).testBit j) ≠ wz_n p0 % 2 ^ (2 ^ n)) → post 0)
    (h1 : C < rk_n kd (2 ^ n) → wd_w (2 ^ n) C g kd (fun j => (gd_n (2 ^ n) C kd (wz_n p0)).testBit j) = wz_n p0 % 2 ^ (2 ^ n) → post 1) : wpY_allowed post (y_size, y_listSize, y_checkLen, y_poly, y_pos, y_count, y_dropped, y_kinds, y_soft, y_list, y_cand, y_candCost) p0 := by
  have h8 := dc_two8 hn
  have hA8 : rk_n kd (2 ^ n) ≤ 8 := Nat.le_trans (rk_le kd _) h8
  have hK8 : 2 ^ (rk_n kd (2 ^ n) - C) ≤ 2 ^ 8 := Nat.pow_le_pow_right (by decide) (by omega)
  have hgl := gd_lt (2 ^ n) C kd (wz_n p0)
  unfold wpY_allowed
  dsimp only
  refine y_dataOf hn hC hg hk eN eC eP (fun z => br_t (by decide) (h0 z)) (fun z1 z2 => br_f (nI_pos (by omega)) (h1 z1 z2))
end
section
variable {f_levels f_length f_fullMask f_listSize f_checkLength f_checkMask f_polynomial f_freeMask f_oneMask f_freeCount f_position f_pathTotal f_least f_freeSlotCount f_candTotal : Int32} {a_soft a_rankSlot a_prefix a_metric a_freeSlots a_alpha a_blockOf a_refs a_freeBlocks a_freeBlockCount a_leftSum a_candCost a_candPrefix a_candSlot a_candOrder a_uses : Nat → Int32}
theorem x_allowed {post : Int32 → Prop} {n C g A fm om : Nat} {kd : Nat → Nat} {p0 : Int32} (hn : n ≤ 3) (hC : C ≤ 3) (hAk : A = rk_n kd (2 ^ n)) (hmk : mk_ok (2 ^ n) fm om kd) (eL : f_length = nI (2 ^ n)) (eFu : f_fullMask = nI (2 ^ (2 ^ n) - 1)) (eC : f_checkLength = nI C) (eM : f_checkMask = nI (2 ^ C - 1)) (eP : f_polynomial = nI (g % 2 ^ C)) (eA : f_freeCount = nI A) (eF : f_freeMask = nI fm) (eO : f_oneMask = nI om)
    (h0 : (rk_n kd (2 ^ n) ≤ C ∨ wd_w (2 ^ n) C g kd (fun j => (gd_n (2 ^ n) C kd (wz_n p0)).testBit j) ≠ wz_n p0 % 2 ^ (2 ^ n)) → post 0)
    (h1 : C < rk_n kd (2 ^ n) → wd_w (2 ^ n) C g kd (fun j => (gd_n (2 ^ n) C kd (wz_n p0)).testBit j) = wz_n p0 % 2 ^ (2 ^ n) → post 1) : wpX_allowed post (f_levels, f_length, f_fullMask, f_listSize, f_checkLength, f_checkMask, f_polynomial, f_freeMask, f_oneMask, f_freeCount, f_position, f_pathTotal, f_least, f_freeSlotCount, f_candTotal, a_soft, a_rankSlot, a_prefix, a_metric, a_freeSlots, a_alpha, a_blockOf, a_refs, a_freeBlocks, a_freeBlockCount, a_leftSum, a_candCost, a_candPrefix, a_candSlot, a_candOrder, a_uses) p0 := by
  have h8 := dc_two8 hn
  have h256 := wk_2n hn
  have hA8 : A ≤ 8 := by rw [hAk]; exact Nat.le_trans (rk_le kd _) h8
  have hwl : wz_n p0 % 2 ^ (2 ^ n) < 2 ^ (2 ^ n) := Nat.mod_lt _ (Nat.two_pow_pos _)
  have hwlt := wd_lt (2 ^ n) C g kd (fun j => (gd_n (2 ^ n) C kd (wz_n p0)).testBit j)
  unfold wpX_allowed
  dsimp only
  refine x_usable (A := A) (C := C) (by omega) (by omega) eA eC (fun hle => br_t rfl (h0 (Or.inl (by omega)))) (fun hlt => br_f (by decide) ?_)
  refine x_gather hn hlt hAk hmk eL eC eA eF ?_
  refine x_placeWord hn hC hlt hAk hmk eL eC eM eP eA eF eO ?_
  have hww : wd_w (2 ^ n) C g kd (bt (nI (gd_n (2 ^ n) C kd (wz_n p0)))) = wd_w (2 ^ n) C g kd (fun j => (gd_n (2 ^ n) C kd (wz_n p0)).testBit j) := ww_cg (fun j hj => bt_nI (by omega))
  rw [hww, eFu, wz_and hn p0]
  exact pk_eq (wd_w (2 ^ n) C g kd (fun j => (gd_n (2 ^ n) C kd (wz_n p0)).testBit j)) (wz_n p0 % 2 ^ (2 ^ n)) (fun e => h1 (by omega) e) (fun e => h0 (Or.inr e))
end
end
section
/-! the relation, and the methods that only read what is fixed -/
def rl_c (n ls C g A fm om : Nat) (kd : Nat → Nat) (so : Nat → Int32) : Prop := 1 ≤ n ∧ n ≤ 3 ∧ 1 ≤ ls ∧ ls ≤ 32 ∧ C ≤ 3 ∧ g < 8 ∧ A = rk_n kd (2 ^ n) ∧ mk_ok (2 ^ n) fm om kd ∧ dc_so so
def xz_id (u : SX) : Prop := match u with
  | (f_levels, f_length, f_fullMask, f_listSize, f_checkLength, f_checkMask, f_polynomial, f_freeMask, f_oneMask, f_freeCount, f_position, f_pathTotal, f_least, f_freeSlotCount, f_candTotal, a_soft, a_rankSlot, a_prefix, a_metric, a_freeSlots, a_alpha, a_blockOf, a_refs, a_freeBlocks, a_freeBlockCount, a_leftSum, a_candCost, a_candPrefix, a_candSlot, a_candOrder, a_uses) => f_position = -1 ∧ f_pathTotal = 0 ∧ f_least = -1
def yz_id (v : SY) : Prop := match v with
  | (y_size, y_listSize, y_checkLen, y_poly, y_pos, y_count, y_dropped, y_kinds, y_soft, y_list, y_cand, y_candCost) => y_pos = -1 ∧ y_count = 0 ∧ y_dropped = -1
/-- the relation at the head of a turn whose first cell is k -/
def i_Rel (k : Nat) (u : SX) (v : SY) : Prop := ∃ (n ls C g A fm om : Nat) (kd : Nat → Nat) (so : Nat → Int32), rl_c n ls C g A fm om kd so ∧ xz_st n ls C g fm om A so u ∧ yz_st n ls C g kd so v ∧ ((xz_id u ∧ yz_id v) ∨ ∃ (m T : Nat) (w : Nat → Nat) (lst : Int32), m ≤ 2 ^ n ∧ T ≤ ls ∧ xz_ac n so m T w lst u ∧ yz_ac m T w lst v)
theorem i_up {k : Nat} {u : SX} {v : SY} (h : i_Rel k u v) : i_Rel (k + 3) u v := h
/-! the position within, Y's way -/
section
variable {y_size y_listSize y_checkLen y_poly y_pos y_count y_dropped : Int32} {y_kinds y_soft y_list y_cand y_candCost : Nat → Int32}
theorem yp_lt {p0 : Int32} {N : Nat} {A B C : Prop} (hN : N < 2 ^ 31) (h0 : (∀ j, j < N → p0 ≠ nI j) → A ∧ C) (h1 : ∀ j, j < N → p0 = nI j → B) : (p0 < 0 → A) ∧ (¬ p0 < 0 → (p0 < nI N → B) ∧ (¬ p0 < nI N → C)) := by
  rcases pk_ix p0 hN with h | h | ⟨j, hj, rfl⟩
  · exact br_t h (h0 (fun j hj e => by rw [e] at h; exact nI_pos (by omega) h)).1
  · have hz : ¬ p0 < 0 := fun z => by
      have a := ia_le.mp h
      have b := Int32.lt_iff_toInt_lt.mp z
      rw [nI_toInt hN] at a
      rw [ia_0] at b
      omega
    exact br_f hz (br_f (Int32.not_lt.mpr h) (h0 (fun j hj e => by rw [e] at h; exact nI_ge hj hN h)).2)
  · exact br_f (nI_pos (by omega)) (br_t (nI_lt hj hN) (h1 j hj rfl))
theorem yp_le {p0 : Int32} {N : Nat} {A B C : Prop} (hN : N < 2 ^ 31) (h0 : (∀ j, j < N → p0 ≠ nI j) → A ∧ C) (h1 : ∀ j, j < N → p0 = nI j → B) : (p0 < 0 → A) ∧ (¬ p0 < 0 → (nI N ≤ p0 → C) ∧ (¬ nI N ≤ p0 → B)) := by
  rcases pk_ix p0 hN with h | h | ⟨j, hj, rfl⟩
  · exact br_t h (h0 (fun j hj e => by rw [e] at h; exact nI_pos (by omega) h)).1
  · have hz : ¬ p0 < 0 := fun z => by
      have a := ia_le.mp h
      have b := Int32.lt_iff_toInt_lt.mp z
      rw [nI_toInt hN] at a
      rw [ia_0] at b
      omega
    exact br_f hz (br_t h (h0 (fun j hj e => by rw [e] at h; exact nI_ge hj hN h)).2)
  · exact br_f (nI_pos (by omega)) (br_f (nI_ge hj hN) (h1 j hj rfl))
theorem y_clamp {post : Int32 → Prop} {u : SY} {p0 p1 p2 : Int32} (h : post (dc_cl p0 p1 p2)) : wpY_clamp post u p0 p1 p2 := by
  obtain ⟨y_size, y_listSize, y_checkLen, y_poly, y_pos, y_count, y_dropped, y_kinds, y_soft, y_list, y_cand, y_candCost⟩ := u
  exact bi_if (P := post) h (fun h => bi_if (P := post) h id id) id
end
theorem cl_so {v : Int32} : -1000 ≤ (dc_cl v (-1000) 1000).toInt ∧ (dc_cl v (-1000) 1000).toInt ≤ 1000 := by
  obtain ⟨h1, h2⟩ := cl_cases (v := v) (lo := -1000) (hi := 1000) (by decide)
  have h3 := ia_le.mp h1
  have h4 := ia_le.mp h2
  rw [show (-1000 : Int32).toInt = -1000 by decide] at h3
  rw [show (1000 : Int32).toInt = 1000 by decide] at h4
  exact ⟨h3, h4⟩
theorem so_upd {so : Nat → Int32} {j : Nat} {v : Int32} (h : dc_so so) (hv : -1000 ≤ v.toInt ∧ v.toInt ≤ 1000) : dc_so (upd so j v) := by
  intro k
  by_cases e : k = j
  · rw [e, pk_us]; exact hv
  · rw [pk_un e]; exact h k
end
section
/-! methods on channels, soft values and words -/
theorem i_vc_softAt {k : Nat} {u : SX} {v : SY} (I : i_Rel k u v) (hk : k + 3 ≤ 1540) (v1 : Int32) : wpX_softAt (fun r => wpY_softAt (fun r' => r' = r ∧ i_Rel (k + 3) u v) v v1) u v1 := by
  have I' : i_Rel (k + 3) u v := I
  obtain ⟨n, ls, C, g, A, fm, om, kd, so, hc, hX, hY, hor⟩ := I
  obtain ⟨c1, c2, c3, c4, c5, c6, c7, c8, c9⟩ := hc
  have h8 := dc_two8 c2
  obtain ⟨f_levels, f_length, f_fullMask, f_listSize, f_checkLength, f_checkMask, f_polynomial, f_freeMask, f_oneMask, f_freeCount, f_position, f_pathTotal, f_least, f_freeSlotCount, f_candTotal, a_soft, a_rankSlot, a_prefix, a_metric, a_freeSlots, a_alpha, a_blockOf, a_refs, a_freeBlocks, a_freeBlockCount, a_leftSum, a_candCost, a_candPrefix, a_candSlot, a_candOrder, a_uses⟩ := u
  obtain ⟨y_size, y_listSize, y_checkLen, y_poly, y_pos, y_count, y_dropped, y_kinds, y_soft, y_list, y_cand, y_candCost⟩ := v
  obtain ⟨x1, x2, x3, x4, x5, x6, x7, x8, x9, x10, x11, x12⟩ := hX
  obtain ⟨z1, z2, z3, z4, z5, z6⟩ := hY
  subst z1
  unfold wpX_softAt
  dsimp only
  refine x_isPos (N := 2 ^ n) (by omega) x2 (fun hn => br_t rfl ?_) (fun j hj e => br_f (by decide) ?_)
  · unfold wpY_softAt
    dsimp only
    exact yp_lt (by omega) (fun _ => ⟨⟨rfl, I'⟩, ⟨rfl, I'⟩⟩) (fun j hj e => absurd e (hn j hj))
  · subst e
    refine ⟨vp_in_nI (by omega) (by decide), ?_⟩
    unfold wpY_softAt
    dsimp only
    refine br_f (nI_pos (by omega)) (br_t (nI_lt hj (by omega)) ⟨vp_in_nI (by omega) (by decide), ?_, I'⟩)
    rw [x11, z6]
theorem i_vc_channelAt {k : Nat} {u : SX} {v : SY} (I : i_Rel k u v) (hk : k + 3 ≤ 1540) (v1 : Int32) : wpX_channelAt (fun r => wpY_channelAt (fun r' => r' = r ∧ i_Rel (k + 3) u v) v v1) u v1 := by
  have I' : i_Rel (k + 3) u v := I
  obtain ⟨n, ls, C, g, A, fm, om, kd, so, hc, hX, hY, hor⟩ := I
  obtain ⟨c1, c2, c3, c4, c5, c6, c7, c8, c9⟩ := hc
  have h8 := dc_two8 c2
  obtain ⟨f_levels, f_length, f_fullMask, f_listSize, f_checkLength, f_checkMask, f_polynomial, f_freeMask, f_oneMask, f_freeCount, f_position, f_pathTotal, f_least, f_freeSlotCount, f_candTotal, a_soft, a_rankSlot, a_prefix, a_metric, a_freeSlots, a_alpha, a_blockOf, a_refs, a_freeBlocks, a_freeBlockCount, a_leftSum, a_candCost, a_candPrefix, a_candSlot, a_candOrder, a_uses⟩ := u
  obtain ⟨y_size, y_listSize, y_checkLen, y_poly, y_pos, y_count, y_dropped, y_kinds, y_soft, y_list, y_cand, y_candCost⟩ := v
  obtain ⟨x1, x2, x3, x4, x5, x6, x7, x8, x9, x10, x11, x12⟩ := hX
  obtain ⟨z1, z2, z3, z4, z5, z6⟩ := hY
  subst z1
  obtain ⟨m1, m2, m3⟩ := c8
  unfold wpX_channelAt
  dsimp only
  refine x_isPos (N := 2 ^ n) (by omega) x2 (fun hn => br_t rfl ?_) (fun j hj e => br_f (by decide) ?_)
  · unfold wpY_channelAt
    dsimp only
    exact yp_lt (by omega) (fun _ => ⟨⟨rfl, I'⟩, ⟨rfl, I'⟩⟩) (fun j hj e => absurd e (hn j hj))
  · subst e
    obtain ⟨k1, k2, k3⟩ := m3 j hj
    have yy : ∀ r : Int32, nI (kd j) = r → wpY_channelAt (fun r' => r' = r ∧ i_Rel (k + 3) (f_levels, f_length, f_fullMask, f_listSize, f_checkLength, f_checkMask, f_polynomial, f_freeMask, f_oneMask, f_freeCount, f_position, f_pathTotal, f_least, f_freeSlotCount, f_candTotal, a_soft, a_rankSlot, a_prefix, a_metric, a_freeSlots, a_alpha, a_blockOf, a_refs, a_freeBlocks, a_freeBlockCount, a_leftSum, a_candCost, a_candPrefix, a_candSlot, a_candOrder, a_uses) (nI (2 ^ n), y_listSize, y_checkLen, y_poly, y_pos, y_count, y_dropped, y_kinds, y_soft, y_list, y_cand, y_candCost)) (nI (2 ^ n), y_listSize, y_checkLen, y_poly, y_pos, y_count, y_dropped, y_kinds, y_soft, y_list, y_cand, y_candCost) (nI j) := by
      intro r hr
      unfold wpY_channelAt
      dsimp only
      refine br_f (nI_pos (by omega)) (br_t (nI_lt hj (by omega)) ⟨vp_in_nI (by omega) (by decide), ?_, I'⟩)
      rw [nI_clamp (by omega), z5 j hj]; exact hr
    rw [show (f_freeMask >>> (nI j &&& 31)) &&& 1 = 1 ↔ (nI fm >>> (nI j &&& 31)) &&& 1 = 1 by rw [x8], show (f_oneMask >>> (nI j &&& 31)) &&& 1 = 1 ↔ (nI om >>> (nI j &&& 31)) &&& 1 = 1 by rw [x9], wk_b1 (by omega), wk_b1 (by omega), k2, k3]
    by_cases e2 : kd j = 2
    · exact br_t (decide_eq_true e2) (yy _ (by rw [e2]; rfl))
    · refine br_f (by rw [decide_eq_false e2]; exact Bool.false_ne_true) ?_
      by_cases e1 : kd j = 1
      · exact br_t (decide_eq_true e1) (yy _ (by rw [e1]; rfl))
      · exact br_f (by rw [decide_eq_false e1]; exact Bool.false_ne_true) (yy _ (by rw [show kd j = 0 by omega]; rfl))
theorem i_vc_setSoft {k : Nat} {u : SX} {v : SY} (I : i_Rel k u v) (hk : k + 3 ≤ 1540) (v1 : Int32) (v2 : Int32) : wpX_setSoft (fun r u' => wpY_setSoft (fun r' v' => r' = r ∧ i_Rel (k + 3) u' v') v v1 v2) u v1 v2 := by
  have I' : i_Rel (k + 3) u v := I
  obtain ⟨n, ls, C, g, A, fm, om, kd, so, hc, hX, hY, hor⟩ := I
  have hc' := hc
  obtain ⟨c1, c2, c3, c4, c5, c6, c7, c8, c9⟩ := hc
  have h8 := dc_two8 c2
  obtain ⟨f_levels, f_length, f_fullMask, f_listSize, f_checkLength, f_checkMask, f_polynomial, f_freeMask, f_oneMask, f_freeCount, f_position, f_pathTotal, f_least, f_freeSlotCount, f_candTotal, a_soft, a_rankSlot, a_prefix, a_metric, a_freeSlots, a_alpha, a_blockOf, a_refs, a_freeBlocks, a_freeBlockCount, a_leftSum, a_candCost, a_candPrefix, a_candSlot, a_candOrder, a_uses⟩ := u
  obtain ⟨y_size, y_listSize, y_checkLen, y_poly, y_pos, y_count, y_dropped, y_kinds, y_soft, y_list, y_cand, y_candCost⟩ := v
  obtain ⟨x1, x2, x3, x4, x5, x6, x7, x8, x9, x10, x11, x12⟩ := hX
  obtain ⟨z1, z2, z3, z4, z5, z6⟩ := hY
  subst z1
  unfold wpX_setSoft
  dsimp only
  refine x_isPos (N := 2 ^ n) (by omega) x2 (fun hn => br_t rfl ?_) (fun j hj e => br_f (by decide) ?_)
  · unfold wpY_setSoft
    dsimp only
    exact yp_lt (by omega) (fun _ => ⟨⟨rfl, I'⟩, ⟨rfl, I'⟩⟩) (fun j hj e => absurd e (hn j hj))
  · subst e
    refine x_clamp ⟨vp_in_nI (by omega) (by decide), nm_e ?_⟩
    unfold wpX_makeIdle
    dsimp only
    unfold wpY_setSoft
    dsimp only
    refine br_f (nI_pos (by omega)) (br_t (nI_lt hj (by omega)) (y_clamp ⟨vp_in_nI (by omega) (by decide), nm_e ?_⟩))
    unfold wpY_becomeIdle
    dsimp only
    rw [nI_clamp (by omega)]
    refine ⟨rfl, n, ls, C, g, A, fm, om, kd, upd so j (dc_cl v2 (-1000) 1000), ⟨c1, c2, c3, c4, c5, c6, c7, c8, so_upd c9 cl_so⟩, ⟨x1, x2, x3, x4, x5, x6, x7, x8, x9, x10, by rw [x11], x12⟩, ⟨rfl, z2, z3, z4, z5, by rw [z6]⟩, Or.inl ⟨⟨rfl, rfl, rfl⟩, ⟨rfl, rfl, rfl⟩⟩⟩
theorem i_vc_weight {k : Nat} {u : SX} {v : SY} (I : i_Rel k u v) (hk : k + 3 ≤ 1540) (v1 : Int32) : wpX_weight (fun r => wpY_weight (fun r' => r' = r ∧ i_Rel (k + 3) u v) v v1) u v1 := by
  have I' : i_Rel (k + 3) u v := I
  obtain ⟨n, ls, C, g, A, fm, om, kd, so, hc, hX, hY, hor⟩ := I
  obtain ⟨c1, c2, c3, c4, c5, c6, c7, c8, c9⟩ := hc
  obtain ⟨f_levels, f_length, f_fullMask, f_listSize, f_checkLength, f_checkMask, f_polynomial, f_freeMask, f_oneMask, f_freeCount, f_position, f_pathTotal, f_least, f_freeSlotCount, f_candTotal, a_soft, a_rankSlot, a_prefix, a_metric, a_freeSlots, a_alpha, a_blockOf, a_refs, a_freeBlocks, a_freeBlockCount, a_leftSum, a_candCost, a_candPrefix, a_candSlot, a_candOrder, a_uses⟩ := u
  obtain ⟨y_size, y_listSize, y_checkLen, y_poly, y_pos, y_count, y_dropped, y_kinds, y_soft, y_list, y_cand, y_candCost⟩ := v
  obtain ⟨x1, x2, x3, x4, x5, x6, x7, x8, x9, x10, x11, x12⟩ := hX
  obtain ⟨z1, z2, z3, z4, z5, z6⟩ := hY
  refine x_weight c1 c2 x1 x3 x2 (y_weight c1 c2 z1 ⟨?_, I'⟩)
  rw [x11, z6]
theorem i_vc_allowed {k : Nat} {u : SX} {v : SY} (I : i_Rel k u v) (hk : k + 3 ≤ 1540) (v1 : Int32) : wpX_allowed (fun r => wpY_allowed (fun r' => r' = r ∧ i_Rel (k + 3) u v) v v1) u v1 := by
  have I' : i_Rel (k + 3) u v := I
  obtain ⟨n, ls, C, g, A, fm, om, kd, so, hc, hX, hY, hor⟩ := I
  obtain ⟨c1, c2, c3, c4, c5, c6, c7, c8, c9⟩ := hc
  obtain ⟨f_levels, f_length, f_fullMask, f_listSize, f_checkLength, f_checkMask, f_polynomial, f_freeMask, f_oneMask, f_freeCount, f_position, f_pathTotal, f_least, f_freeSlotCount, f_candTotal, a_soft, a_rankSlot, a_prefix, a_metric, a_freeSlots, a_alpha, a_blockOf, a_refs, a_freeBlocks, a_freeBlockCount, a_leftSum, a_candCost, a_candPrefix, a_candSlot, a_candOrder, a_uses⟩ := u
  obtain ⟨y_size, y_listSize, y_checkLen, y_poly, y_pos, y_count, y_dropped, y_kinds, y_soft, y_list, y_cand, y_candCost⟩ := v
  obtain ⟨x1, x2, x3, x4, x5, x6, x7, x8, x9, x10, x11, x12⟩ := hX
  obtain ⟨z1, z2, z3, z4, z5, z6⟩ := hY
  have hkd : ∀ i, i < 2 ^ n → kd i ≤ 2 ∧ y_kinds i = nI (kd i) := fun i hi => ⟨(c8.2.2 i hi).1, z5 i hi⟩
  refine x_allowed c2 c5 c7 c8 x2 x3 x5 x6 x7 x10 x8 x9 (fun z => ?_) (fun q1 q2 => ?_)
  · exact y_allowed c2 c5 c6 hkd z1 z3 z4 (fun _ => ⟨rfl, I'⟩) (fun q1 q2 => by
      exfalso
      rcases z with z | z
      · omega
      · exact z q2)
  · exact y_allowed c2 c5 c6 hkd z1 z3 z4 (fun z => by
      exfalso
      rcases z with z | z
      · omega
      · exact z q2) (fun _ _ => ⟨rfl, I'⟩)
theorem i_vc_encode {k : Nat} {u : SX} {v : SY} (I : i_Rel k u v) (hk : k + 3 ≤ 1540) (v1 : Int32) : wpX_encode (fun r => wpY_encode (fun r' => r' = r ∧ i_Rel (k + 3) u v) v v1) u v1 := by
  have I' : i_Rel (k + 3) u v := I
  obtain ⟨n, ls, C, g, A, fm, om, kd, so, hc, hX, hY, hor⟩ := I
  obtain ⟨c1, c2, c3, c4, c5, c6, c7, c8, c9⟩ := hc
  have h8 := dc_two8 c2
  have hA8 : A ≤ 8 := by rw [c7]; exact Nat.le_trans (rk_le kd _) h8
  obtain ⟨f_levels, f_length, f_fullMask, f_listSize, f_checkLength, f_checkMask, f_polynomial, f_freeMask, f_oneMask, f_freeCount, f_position, f_pathTotal, f_least, f_freeSlotCount, f_candTotal, a_soft, a_rankSlot, a_prefix, a_metric, a_freeSlots, a_alpha, a_blockOf, a_refs, a_freeBlocks, a_freeBlockCount, a_leftSum, a_candCost, a_candPrefix, a_candSlot, a_candOrder, a_uses⟩ := u
  obtain ⟨y_size, y_listSize, y_checkLen, y_poly, y_pos, y_count, y_dropped, y_kinds, y_soft, y_list, y_cand, y_candCost⟩ := v
  obtain ⟨x1, x2, x3, x4, x5, x6, x7, x8, x9, x10, x11, x12⟩ := hX
  obtain ⟨z1, z2, z3, z4, z5, z6⟩ := hY
  have hkd : ∀ i, i < 2 ^ n → kd i ≤ 2 ∧ y_kinds i = nI (kd i) := fun i hi => ⟨(c8.2.2 i hi).1, z5 i hi⟩
  unfold wpX_encode
  dsimp only
  refine x_usable (A := A) (C := C) (by omega) (by omega) x10 x5 (fun hle => br_t rfl ?_) (fun hlt => br_f (by decide) ?_)
  · unfold wpY_encode
    dsimp only
    refine y_dataBits c2 hkd z1 z3 (br_f (fun z => ?_) ⟨rfl, I'⟩)
    have := ia_le.mp z
    rw [pk_sub_toInt (by omega) (by omega), show (1 : Int32).toInt = 1 by decide] at this
    omega
  · refine x_placeWord c2 c5 hlt c7 c8 x2 x5 x6 x7 x10 x8 x9 (x_codeword c1 c2 x1 x3 ?_)
    unfold wpY_encode
    dsimp only
    refine y_dataBits c2 hkd z1 z3 (br_t ?_ (y_wordOf c2 c5 c6 (by omega) hkd z1 z3 z4 (y_codeword c1 c2 z1 ⟨rfl, I'⟩)))
    rw [pk_sub (by omega)]
    exact nI_le (a := 1) (by omega) (by omega)
end
section
/-! the constructors, setChannel -/
theorem up_zero (i : Nat) : upd (fun _ => (0 : Int32)) i 0 = fun _ => 0 := by
  funext j
  unfold upd
  split <;> rfl
theorem i_vc0 (k0 : Int32) (k1 : Int32) (k2 : Int32) (k3 : Int32) : wpX_init (fun u => wpY_init (fun v => i_Rel 4 u v) k0 k1 k2 k3) k0 k1 k2 k3 := by
  obtain ⟨n, n1, n2, en⟩ := cl_nat (v := k0) (lo := 1) (hi := 3) (by decide) (by decide)
  obtain ⟨ls, l1, l2, el⟩ := cl_nat (v := k1) (lo := 1) (hi := 32) (by decide) (by decide)
  obtain ⟨C, _, C2, eC⟩ := cl_nat (v := k2) (lo := 0) (hi := 3) (by decide) (by decide)
  obtain ⟨g, _, g2, eg⟩ := cl_nat (v := k3) (lo := 0) (hi := 7) (by decide) (by decide)
  have en' : dc_cl k0 1 3 = nI n := en
  have el' : dc_cl k1 1 32 = nI ls := el
  have eC' : dc_cl k2 0 3 = nI C := eC
  have eg' : dc_cl k3 0 7 = nI g := eg
  have h8 := dc_two8 n2
  have yy : ∀ u : SX, (∀ v : SY, yz_st n ls C g (fun _ => 2) (fun _ => 0) v → yz_id v → i_Rel 4 u v) → wpY_init (fun v => i_Rel 4 u v) k0 k1 k2 k3 := by
    intro u hu
    unfold wpY_init
    refine y_clamp ?_
    rw [en']
    refine nm_r (wk_1s (by omega)) (y_clamp ?_)
    rw [el']
    refine y_clamp ?_
    rw [eC']
    refine y_clamp ?_
    rw [eg']
    have go : ∀ d i fuel kinds, i + d = 8 → d < fuel → (∀ j, j < i → kinds j = nI 2) → wY_init_100 (fun v => i_Rel 4 u v) (nI (2 ^ n)) (nI ls) (nI C) (nI g) 0 0 0 fuel (nI i) kinds (fun _ => 0) (fun _ => 0) (fun _ => 0) (fun _ => 0) := by
      intro d
      induction d with
      | zero =>
        intro i fuel kinds hi hf hki
        obtain ⟨fuel, rfl⟩ : ∃ n', fuel = n' + 1 := ⟨fuel - 1, by omega⟩
        have e : i = 8 := by omega
        subst e
        exact br_t (by decide) (hu _ ⟨rfl, rfl, rfl, rfl, fun j hj => hki j (by omega), rfl⟩ ⟨rfl, rfl, rfl⟩)
      | succ d ih =>
        intro i fuel kinds hi hf hki
        obtain ⟨fuel, rfl⟩ : ∃ n', fuel = n' + 1 := ⟨fuel - 1, by omega⟩
        have v8 : vp_in (nI i) 8 := vp_in_nI (by omega) (by decide)
        unfold wY_init_100
        refine br_f (nI_ge (b := 8) (by omega) (by decide)) ⟨v8, ?_⟩
        rw [nI_clamp (by omega)]
        refine nm_e ⟨v8, nm_r (up_zero i) (nm_r (nI_1 i) (ih (i + 1) fuel _ (by omega) (by omega) ?_))⟩
        intro j hj
        by_cases e : j = i
        · rw [e, pk_us]; rfl
        · rw [pk_un e]; exact hki j (by omega)
    exact ⟨9, go 8 0 9 _ (by omega) (by omega) (fun j hj => by omega)⟩
  unfold wpX_init
  refine x_clamp ?_
  rw [en']
  refine nm_r (wk_1s (by omega)) (nm_r (wk_mk (by omega)) (x_clamp ?_))
  rw [el']
  refine x_clamp ?_
  rw [eC']
  refine nm_r (wk_mk (by omega)) (x_clamp ?_)
  rw [eg']
  refine nm_r (wk_and (by omega) (by omega)) ?_
  unfold wpX_makeIdle
  dsimp only
  refine yy _ (fun v hv hi => ⟨n, ls, C, g, 2 ^ n, 2 ^ (2 ^ n) - 1, 0, (fun _ => 2), (fun _ => 0), ⟨n1, n2, l1, l2, C2, by omega, ?_, ?_, ?_⟩, ⟨rfl, rfl, rfl, rfl, rfl, rfl, rfl, rfl, rfl, rfl, rfl, fun _ _ => rfl⟩, hv, Or.inl ⟨⟨rfl, rfl, rfl⟩, hi⟩⟩)
  · exact (qs_ones (2 ^ n)).symm
  · have hp := Nat.two_pow_pos (2 ^ n)
    refine ⟨by omega, hp, fun i hi => ⟨Nat.le_refl _, ?_, ?_⟩⟩
    · rw [Nat.testBit_two_pow_sub_one, decide_eq_true hi]; rfl
    · exact Nat.zero_testBit i
  · intro j
    exact ⟨by rw [ia_0]; decide, by rw [ia_0]; decide⟩
/-- bit j cleared -/
def cb_n (w j : Nat) : Nat := w &&& (2 ^ j ^^^ (2 ^ 32 - 1))
theorem cb_tb {w N j : Nat} (hw : w < 2 ^ N) (hN : N ≤ 8) (i : Nat) : (cb_n w j).testBit i = (w.testBit i && !(decide (i = j))) := by
  unfold cb_n
  rw [Nat.testBit_and, Nat.testBit_xor, Nat.testBit_two_pow_sub_one, Nat.testBit_two_pow]
  by_cases e : i < 32
  · rw [decide_eq_true e]
    by_cases e2 : j = i
    · simp [e2]
    · simp [e2, show ¬ i = j from fun z => e2 z.symm]
  · rw [tb_lt hw (by omega)]; rfl
theorem cb_nI (w : Nat) {j : Nat} : nI w &&& (nI (2 ^ j) ^^^ (-1)) = nI (cb_n w j) := by
  rw [show (-1 : Int32) = nI (2 ^ 32 - 1) by decide, nx_xor, nx_and]
  rfl
/-- the masks after a new kind at j -/
def mf_n (w j k c : Nat) : Nat := if k = c then cb_n w j ||| 1 * 2 ^ j else cb_n w j
theorem mf_tb {w N j : Nat} (hw : w < 2 ^ N) (hN : N ≤ 8) (k c i : Nat) : (mf_n w j k c).testBit i = if i = j then decide (k = c) else w.testBit i := by
  unfold mf_n
  by_cases e : k = c
  · rw [if_pos e, tb_or _ _ _ _ (Nat.le_refl 1), cb_tb hw hN]
    by_cases e2 : i = j
    · rw [if_pos e2]; simp [e, e2]
    · rw [if_neg e2]; simp [e2]
  · rw [if_neg e, cb_tb hw hN]
    by_cases e2 : i = j
    · rw [if_pos e2]; simp [e, e2]
    · rw [if_neg e2]; simp [e2]
theorem mf_lt {w N j : Nat} (hw : w < 2 ^ N) (hN : N ≤ 8) (hj : j < N) (k c : Nat) : mf_n w j k c < 2 ^ N := tb_ltp (fun i hi => by
  rw [mf_tb hw hN, if_neg (by omega)]
  exact tb_lt hw hi)
theorem mk_set {N fm om j k : Nat} {kd : Nat → Nat} (hN : N ≤ 8) (h : mk_ok N fm om kd) (hj : j < N) (hk : k ≤ 2) : mk_ok N (mf_n fm j k 2) (mf_n om j k 1) (fun i => if i = j then k else kd i) := by
  obtain ⟨h1, h2, h3⟩ := h
  refine ⟨mf_lt h1 hN hj k 2, mf_lt h2 hN hj k 1, fun i hi => ?_⟩
  obtain ⟨q1, q2, q3⟩ := h3 i hi
  (try dsimp only)
  rw [mf_tb h1 hN, mf_tb h2 hN]
  by_cases e : i = j
  · simp [e, hk]
  · simp [e, q1, q2, q3]
theorem pc_rk {N fm om : Nat} {kd : Nat → Nat} (hN : N ≤ 8) (h : mk_ok N fm om kd) : dc_pc fm 8 = rk_n kd N := by
  have h1 : ∀ d, qs_cn (fun j => fm.testBit j) (N + d) = qs_cn (fun j => fm.testBit j) N := by
    intro d
    induction d with
    | zero => rfl
    | succ d ih =>
      rw [show N + (d + 1) = N + d + 1 by omega, cn_f (tb_lt h.1 (by omega)), ih]
  have h2 := h1 (8 - N)
  rw [show N + (8 - N) = 8 by omega] at h2
  exact h2.trans (cn_congr (fun i hi => (h.2.2 i hi).2.1))
theorem i_vc_setChannel {k : Nat} {u : SX} {v : SY} (I : i_Rel k u v) (hk : k + 3 ≤ 1540) (v1 : Int32) (v2 : Int32) : wpX_setChannel (fun r u' => wpY_setChannel (fun r' v' => r' = r ∧ i_Rel (k + 3) u' v') v v1 v2) u v1 v2 := by
  have I' : i_Rel (k + 3) u v := I
  obtain ⟨n, ls, C, g, A, fm, om, kd, so, hc, hX, hY, hor⟩ := I
  obtain ⟨c1, c2, c3, c4, c5, c6, c7, c8, c9⟩ := hc
  have h8 := dc_two8 c2
  obtain ⟨f_levels, f_length, f_fullMask, f_listSize, f_checkLength, f_checkMask, f_polynomial, f_freeMask, f_oneMask, f_freeCount, f_position, f_pathTotal, f_least, f_freeSlotCount, f_candTotal, a_soft, a_rankSlot, a_prefix, a_metric, a_freeSlots, a_alpha, a_blockOf, a_refs, a_freeBlocks, a_freeBlockCount, a_leftSum, a_candCost, a_candPrefix, a_candSlot, a_candOrder, a_uses⟩ := u
  obtain ⟨y_size, y_listSize, y_checkLen, y_poly, y_pos, y_count, y_dropped, y_kinds, y_soft, y_list, y_cand, y_candCost⟩ := v
  obtain ⟨x1, x2, x3, x4, x5, x6, x7, x8, x9, x10, x11, x12⟩ := hX
  obtain ⟨z1, z2, z3, z4, z5, z6⟩ := hY
  subst z1
  unfold wpX_setChannel
  dsimp only
  refine x_isPos (N := 2 ^ n) (by omega) x2 (fun hn => br_t rfl ?_) (fun j hj e => br_f (by decide) ?_)
  · unfold wpY_setChannel
    dsimp only
    exact yp_le (by omega) (fun _ => ⟨⟨rfl, I'⟩, ⟨rfl, I'⟩⟩) (fun j hj e => absurd e (hn j hj))
  · subst e
    have good : ∀ c, c ≤ 2 → wX_setChannel_28 (fun r u' => wpY_setChannel (fun r' v' => r' = r ∧ i_Rel (k + 3) u' v') (nI (2 ^ n), y_listSize, y_checkLen, y_poly, y_pos, y_count, y_dropped, y_kinds, y_soft, y_list, y_cand, y_candCost) (nI j) (nI c)) (nI j) (nI c) f_levels f_length f_fullMask f_listSize f_checkLength f_checkMask f_polynomial f_freeMask f_oneMask f_freeCount f_position f_pathTotal f_least f_freeSlotCount f_candTotal a_soft a_rankSlot a_prefix a_metric a_freeSlots a_alpha a_blockOf a_refs a_freeBlocks a_freeBlockCount a_leftSum a_candCost a_candPrefix a_candSlot a_candOrder a_uses := by
      intro c hc
      have fin : ∀ F O, F = nI (mf_n fm j c 2) → O = nI (mf_n om j c 1) → wX_setChannel_89 (fun r u' => wpY_setChannel (fun r' v' => r' = r ∧ i_Rel (k + 3) u' v') (nI (2 ^ n), y_listSize, y_checkLen, y_poly, y_pos, y_count, y_dropped, y_kinds, y_soft, y_list, y_cand, y_candCost) (nI j) (nI c)) f_levels f_length f_fullMask f_listSize f_checkLength f_checkMask f_polynomial F O f_freeCount f_position f_pathTotal f_least f_freeSlotCount f_candTotal a_soft a_rankSlot a_prefix a_metric a_freeSlots a_alpha a_blockOf a_refs a_freeBlocks a_freeBlockCount a_leftSum a_candCost a_candPrefix a_candSlot a_candOrder a_uses := by
        intro F O eF eO
        have hmk := mk_set h8 c8 hj hc
        unfold wX_setChannel_89
        rw [eF]
        refine x_countOnes ?_
        rw [pc_rk h8 hmk]
        unfold wpX_makeIdle
        dsimp only
        unfold wpY_setChannel
        dsimp only
        refine br_f (nI_pos (by omega)) (br_f (nI_ge hj (by omega)) (br_f (nI_pos (by omega)) (br_t (nI_le (b := 2) hc (by decide)) ⟨vp_in_nI (by omega) (by decide), nm_e ?_⟩)))
        unfold wpY_becomeIdle
        dsimp only
        rw [nI_clamp (by omega)]
        refine ⟨rfl, n, ls, C, g, _, _, _, (fun i => if i = j then c else kd i), so, ⟨c1, c2, c3, c4, c5, c6, rfl, hmk, c9⟩, ⟨x1, x2, x3, x4, x5, x6, x7, rfl, eO, rfl, x11, x12⟩, ⟨rfl, z2, z3, z4, ?_, z6⟩, Or.inl ⟨⟨rfl, rfl, rfl⟩, ⟨rfl, rfl, rfl⟩⟩⟩
        intro i hi
        (try dsimp only)
        by_cases e : i = j
        · rw [e, pk_us, if_pos rfl]
        · rw [pk_un e, if_neg e]; exact z5 i hi
      have eor : ∀ w, cb_n w j ||| 1 * 2 ^ j = cb_n w j ||| 2 ^ j := fun w => by rw [Nat.one_mul]
      unfold wX_setChannel_28
      refine nm_r (wk_1s (by omega)) (nm_r (e' := nI (cb_n fm j)) (by rw [x8]; exact cb_nI fm) (nm_r (e' := nI (cb_n om j)) (by rw [x9]; exact cb_nI om) ?_))
      rcases (show c = 0 ∨ c = 1 ∨ c = 2 by omega) with rfl | rfl | rfl
      · exact br_f (by decide) (br_f (by decide) (fin _ _ rfl rfl))
      · exact br_f (by decide) (br_t rfl (nm_r (nx_or _ _) (fin _ _ rfl (by rw [← eor]; rfl))))
      · exact br_t rfl (nm_r (nx_or _ _) (fin _ _ (by rw [← eor]; rfl) rfl))
    by_cases e0 : v2 = 0
    · rw [e0]; exact br_t rfl (good 0 (by decide))
    · refine br_f e0 ?_
      by_cases e1 : v2 = 1
      · rw [e1]; exact br_t rfl (good 1 (by decide))
      · refine br_f e1 ?_
        by_cases e2 : v2 = 2
        · rw [e2]; exact br_t rfl (good 2 (by decide))
        · refine br_f e2 ?_
          unfold wpY_setChannel
          dsimp only
          refine br_f (nI_pos (by omega)) (br_f (nI_ge hj (by omega)) ?_)
          by_cases a0 : v2 < 0
          · exact br_t a0 ⟨rfl, I'⟩
          · refine br_f a0 (br_f (fun z => ?_) ⟨rfl, I'⟩)
            obtain ⟨c, hc, ec⟩ := nI_of2 (M := 2) (n := 2) (by decide) a0 z
            rcases (show c = 0 ∨ c = 1 ∨ c = 2 by omega) with rfl | rfl | rfl
            · exact e0 ec
            · exact e1 ec
            · exact e2 ec
end
section
/-! design -/
/-- X's inner pass: positions P - 1 down to 0 with O ones -/
def ds_in (O : Nat) : Nat → Nat × Nat → Nat × Nat
  | 0, s => s
  | P + 1, s => ds_in O P (if dc_pc P 8 = O then (if s.2 = 0 then s else (s.1 ||| 2 ^ P, s.2 - 1)) else s)
/-- X's outer pass: numbers of ones O - 1 down to 0 -/
def ds_out (N : Nat) : Nat → Nat × Nat → Nat × Nat
  | 0, s => s
  | O + 1, s => ds_out N O (ds_in O N s)
/-- Y's count of the positions before p -/
def dh_n (p : Nat) : Nat → Nat
  | 0 => 0
  | q + 1 => if dc_pc p 8 < dc_pc q 8 then dh_n p q + 1 else if dc_pc q 8 = dc_pc p 8 then (if q ≤ p then dh_n p q else dh_n p q + 1) else dh_n p q
def dk_n (N c : Nat) : Nat → Nat := fun p => if c ≤ dh_n p N then 0 else 2
theorem ds_1 : ∀ c, c < 2 + 1 → 1 ≤ c → (ds_out 2 2 (0, c)).1 < 2 ^ 2 ∧ rk_n (dk_n 2 c) 2 = c ∧ ∀ p, p < 2 → (ds_out 2 2 (0, c)).1.testBit p = decide (dk_n 2 c p = 2) := by decide +kernel
theorem ds_2 : ∀ c, c < 4 + 1 → 1 ≤ c → (ds_out 4 3 (0, c)).1 < 2 ^ 4 ∧ rk_n (dk_n 4 c) 4 = c ∧ ∀ p, p < 4 → (ds_out 4 3 (0, c)).1.testBit p = decide (dk_n 4 c p = 2) := by decide +kernel
theorem ds_3 : ∀ c, c < 8 + 1 → 1 ≤ c → (ds_out 8 4 (0, c)).1 < 2 ^ 8 ∧ rk_n (dk_n 8 c) 8 = c ∧ ∀ p, p < 8 → (ds_out 8 4 (0, c)).1.testBit p = decide (dk_n 8 c p = 2) := by decide +kernel
theorem ds_ok {n c : Nat} (h1 : 1 ≤ n) (hn : n ≤ 3) (hc1 : 1 ≤ c) (hc : c ≤ 2 ^ n) : (ds_out (2 ^ n) (n + 1) (0, c)).1 < 2 ^ (2 ^ n) ∧ rk_n (dk_n (2 ^ n) c) (2 ^ n) = c ∧ ∀ p, p < 2 ^ n → (ds_out (2 ^ n) (n + 1) (0, c)).1.testBit p = decide (dk_n (2 ^ n) c p = 2) := by
  rcases (show n = 1 ∨ n = 2 ∨ n = 3 by omega) with rfl | rfl | rfl
  · exact ds_1 c (by omega) hc1
  · exact ds_2 c (by omega) hc1
  · exact ds_3 c (by omega) hc1
theorem ds_mk {n c : Nat} (h1 : 1 ≤ n) (hn : n ≤ 3) (hc1 : 1 ≤ c) (hc : c ≤ 2 ^ n) : mk_ok (2 ^ n) (ds_out (2 ^ n) (n + 1) (0, c)).1 0 (dk_n (2 ^ n) c) := by
  obtain ⟨a1, a2, a3⟩ := ds_ok h1 hn hc1 hc
  refine ⟨a1, Nat.two_pow_pos _, fun i hi => ⟨?_, a3 i hi, ?_⟩⟩
  · unfold dk_n; split <;> omega
  · rw [Nat.zero_testBit]
    symm
    refine decide_eq_false ?_
    unfold dk_n
    split <;> omega
theorem pc_le (w i : Nat) : dc_pc w i ≤ i := cn_le _ i
section
variable {f_levels f_length f_fullMask f_listSize f_checkLength f_checkMask f_polynomial f_freeMask f_oneMask f_freeCount f_position f_pathTotal f_least f_freeSlotCount f_candTotal : Int32} {a_soft a_rankSlot a_prefix a_metric a_freeSlots a_alpha a_blockOf a_refs a_freeBlocks a_freeBlockCount a_leftSum a_candCost a_candPrefix a_candSlot a_candOrder a_uses : Nat → Int32}
theorem x_des39 {post : Int32 → SX → Prop} {J : Int32 → Int32 → Int32 → Prop} {x1 : Int32} {O : Nat} (hO : O < 100) : ∀ P fuel (s : Nat × Nat), P ≤ 8 → s.2 < 100 → P < fuel → J (nI (ds_in O P s).1) (nI (ds_in O P s).2) (nI O + (-1)) → wX_design_39 post J x1 (nI O) f_levels f_length f_fullMask f_listSize f_checkLength f_checkMask f_polynomial f_freeMask f_oneMask f_freeCount f_position f_pathTotal f_least f_freeSlotCount f_candTotal a_soft a_rankSlot a_prefix a_metric a_freeSlots a_alpha a_blockOf a_refs a_freeBlocks a_freeBlockCount a_leftSum a_candCost a_candPrefix a_candSlot a_candOrder a_uses fuel (nI s.1) (nI s.2) (nI P - 1) := by
  intro P
  induction P with
  | zero =>
    intro fuel s hP hs hf h
    obtain ⟨fuel, rfl⟩ : ∃ n', fuel = n' + 1 := ⟨fuel - 1, by omega⟩
    exact br_t (by decide) (nm_e h)
  | succ P ih =>
    intro fuel s hP hs hf h
    obtain ⟨fuel, rfl⟩ : ∃ n', fuel = n' + 1 := ⟨fuel - 1, by omega⟩
    have hpc := pc_le P 8
    have hm : nI P + (-1) = nI P - 1 := (Int32.sub_eq_add_neg _ _).symm
    have h' : J (nI (ds_in O P (if dc_pc P 8 = O then (if s.2 = 0 then s else (s.1 ||| 2 ^ P, s.2 - 1)) else s)).1) (nI (ds_in O P (if dc_pc P 8 = O then (if s.2 = 0 then s else (s.1 ||| 2 ^ P, s.2 - 1)) else s)).2) (nI O + (-1)) := h
    rw [nI_pred]
    unfold wX_design_39
    refine br_f (nI_pos (by omega)) (x_countOnes ?_)
    refine pk_eq (dc_pc P 8) O (fun e => ?_) (fun e => ?_)
    · rw [if_pos e] at h'
      refine pk_le s.2 0 (fun e2 => ?_) (fun e2 => ?_)
      · rw [if_pos (show s.2 = 0 by omega)] at h'
        exact nm_r hm (ih fuel s (by omega) hs (by omega) h')
      · rw [if_neg (show ¬ s.2 = 0 by omega)] at h'
        refine nm_r (e' := nI (s.1 ||| 2 ^ P)) (by rw [wk_1s (by omega), nx_or]) (nm_r (sb_m1 e2) (nm_r hm ?_))
        exact ih fuel (s.1 ||| 2 ^ P, s.2 - 1) (by omega) (by show s.2 - 1 < 100; omega) (by omega) h'
    · rw [if_neg e] at h'
      exact nm_r hm (ih fuel s (by omega) hs (by omega) h')
theorem ds_in2 (O : Nat) : ∀ P (s : Nat × Nat), (ds_in O P s).2 ≤ s.2 := by
  intro P
  induction P with
  | zero => intro s; exact Nat.le_refl _
  | succ P ih =>
    intro s
    have := ih (if dc_pc P 8 = O then (if s.2 = 0 then s else (s.1 ||| 2 ^ P, s.2 - 1)) else s)
    refine Nat.le_trans this ?_
    split
    · split
      · exact Nat.le_refl _
      · exact Nat.sub_le _ _
    · exact Nat.le_refl _
theorem x_des26 {post : Int32 → SX → Prop} {x1 : Int32} {N : Nat} (hN : N ≤ 8) (eL : f_length = nI N) : ∀ O fuel (s : Nat × Nat), O < 100 → s.2 < 100 → O < fuel → post 0 (f_levels, f_length, f_fullMask, f_listSize, f_checkLength, f_checkMask, f_polynomial, nI (ds_out N O s).1, 0, x1, (-1), 0, (-1), f_freeSlotCount, f_candTotal, a_soft, a_rankSlot, a_prefix, a_metric, a_freeSlots, a_alpha, a_blockOf, a_refs, a_freeBlocks, a_freeBlockCount, a_leftSum, a_candCost, a_candPrefix, a_candSlot, a_candOrder, a_uses) → wX_design_26 post x1 f_levels f_length f_fullMask f_listSize f_checkLength f_checkMask f_polynomial f_freeMask f_oneMask f_freeCount f_position f_pathTotal f_least f_freeSlotCount f_candTotal a_soft a_rankSlot a_prefix a_metric a_freeSlots a_alpha a_blockOf a_refs a_freeBlocks a_freeBlockCount a_leftSum a_candCost a_candPrefix a_candSlot a_candOrder a_uses fuel (nI s.1) (nI s.2) (nI O - 1) := by
  intro O
  induction O with
  | zero =>
    intro fuel s hO hs hf h
    obtain ⟨fuel, rfl⟩ : ∃ n', fuel = n' + 1 := ⟨fuel - 1, by omega⟩
    exact br_t (by decide) h
  | succ O ih =>
    intro fuel s hO hs hf h
    obtain ⟨fuel, rfl⟩ : ∃ n', fuel = n' + 1 := ⟨fuel - 1, by omega⟩
    have hm : nI O + (-1) = nI O - 1 := (Int32.sub_eq_add_neg _ _).symm
    have h2 := ds_in2 O N s
    rw [nI_pred]
    unfold wX_design_26
    refine br_f (nI_pos (by omega)) (nm_r (e' := nI N - 1) (by rw [eL]) ⟨N + 1, x_des39 (by omega) N (N + 1) s hN hs (by omega) ?_⟩)
    rw [hm]
    exact ih fuel (ds_in O N s) (by omega) (by omega) (by omega) h
end
theorem yo_n : ∀ p, p < 8 → ((nI p &&& 1) + ((nI p >>> ((1 : Int32) &&& 31)) &&& 1)) + ((nI p >>> ((2 : Int32) &&& 31)) &&& 1) = nI (dc_pc p 8) := by decide +kernel
section
variable {y_size y_listSize y_checkLen y_poly y_pos y_count y_dropped : Int32} {y_kinds y_soft y_list y_cand y_candCost : Nat → Int32}
theorem y_ones {post : Int32 → Prop} {p : Nat} (hp : p < 8) (h : post (nI (dc_pc p 8))) : wpY_ones post (y_size, y_listSize, y_checkLen, y_poly, y_pos, y_count, y_dropped, y_kinds, y_soft, y_list, y_cand, y_candCost) (nI p) := by
  unfold wpY_ones
  dsimp only
  rw [yo_n p hp]
  exact h
theorem dh_le (p : Nat) : ∀ q, dh_n p q ≤ q := by
  intro q
  induction q with
  | zero => exact Nat.le_refl _
  | succ q ih =>
    show (if dc_pc p 8 < dc_pc q 8 then dh_n p q + 1 else if dc_pc q 8 = dc_pc p 8 then (if q ≤ p then dh_n p q else dh_n p q + 1) else dh_n p q) ≤ q + 1
    (repeat' split) <;> omega
theorem y_des38 {post : Int32 → SY → Prop} {J : Int32 → (Nat → Int32) → (Nat → Int32) → (Nat → Int32) → (Nat → Int32) → (Nat → Int32) → Prop} {c N p : Nat} (hN : N ≤ 8) (hp : p < N) (hc : c < 100) (eN : y_size = nI N) (h : J (nI (p + 1)) (upd y_kinds p (nI (dk_n N c p))) y_soft y_list y_cand y_candCost) : ∃ fuel, wY_design_38 post J (nI c) (nI p) (nI (dc_pc p 8)) y_size y_listSize y_checkLen y_poly y_pos y_count y_dropped y_kinds y_soft y_list y_cand y_candCost fuel 0 0 := by
  refine pk_loop (fun fuel q (s : Int32) => wY_design_38 post J (nI c) (nI p) (nI (dc_pc p 8)) y_size y_listSize y_checkLen y_poly y_pos y_count y_dropped y_kinds y_soft y_list y_cand y_candCost fuel s (nI q)) (fun q s => s = nI (dh_n p q)) N 0 0 (Nat.zero_le _) rfl ?_ ?_
  · intro fuel s hs
    subst hs
    have hd := dh_le p N
    unfold dk_n at h
    have v8 : vp_in (nI p) 8 := vp_in_nI (by omega) (by decide)
    have hcp : (nI p).toNatClampNeg = p := nI_clamp (by omega)
    unfold wY_design_38
    refine br_t (by rw [eN]; exact Int32.le_refl _) ?_
    refine pk_le c (dh_n p N) (fun e => ⟨v8, ?_⟩) (fun e => ⟨v8, ?_⟩)
    · rw [if_pos e] at h
      rw [hcp]
      exact nm_e (nm_r (nI_1 p) h)
    · rw [if_neg (show ¬ c ≤ dh_n p N by omega)] at h
      rw [hcp]
      exact nm_e (nm_r (nI_1 p) h)
  · intro fuel q s hq hs kk
    subst hs
    have hst : dh_n p (q + 1) = if dc_pc p 8 < dc_pc q 8 then dh_n p q + 1 else if dc_pc q 8 = dc_pc p 8 then (if q ≤ p then dh_n p q else dh_n p q + 1) else dh_n p q := rfl
    have h1 := pc_le p 8
    have h2 := pc_le q 8
    unfold wY_design_38
    refine br_f (by rw [eN]; exact nI_ge hq (by omega)) (y_ones (by omega) ?_)
    refine pk_lt (dc_pc p 8) (dc_pc q 8) (fun e => ?_) (fun e => ?_)
    · rw [if_pos e] at hst
      exact nm_r (nI_1 _) (nm_r (nI_1 q) (kk _ (by rw [hst])))
    · rw [if_neg (show ¬ dc_pc p 8 < dc_pc q 8 by omega)] at hst
      refine pk_eq (dc_pc q 8) (dc_pc p 8) (fun e2 => ?_) (fun e2 => ?_)
      · rw [if_pos e2] at hst
        refine pk_le q p (fun e3 => ?_) (fun e3 => ?_)
        · rw [if_pos e3] at hst
          exact nm_r (nI_1 q) (kk _ (by rw [hst]))
        · rw [if_neg (show ¬ q ≤ p by omega)] at hst
          exact nm_r (nI_1 _) (nm_r (nI_1 q) (kk _ (by rw [hst])))
      · rw [if_neg e2] at hst
        exact nm_r (nI_1 q) (kk _ (by rw [hst]))
theorem y_des18 {post : Int32 → SY → Prop} {c N : Nat} (hN : N ≤ 8) (hc : c < 100) (eN : y_size = nI N) (h : ∀ kinds, (∀ p, p < N → kinds p = nI (dk_n N c p)) → post 0 (y_size, y_listSize, y_checkLen, y_poly, (-1), 0, (-1), kinds, y_soft, y_list, y_cand, y_candCost)) : ∀ d p fuel kinds, p + d = N → d < fuel → (∀ q, q < p → kinds q = nI (dk_n N c q)) → wY_design_18 post (nI c) y_size y_listSize y_checkLen y_poly y_pos y_count y_dropped fuel (nI p) kinds y_soft y_list y_cand y_candCost := by
  intro d
  induction d with
  | zero =>
    intro p fuel kinds hp hf hk
    obtain ⟨fuel, rfl⟩ : ∃ n', fuel = n' + 1 := ⟨fuel - 1, by omega⟩
    have e : p = N := by omega
    subst e
    exact br_t (by rw [eN]; exact Int32.le_refl _) (h kinds hk)
  | succ d ih =>
    intro p fuel kinds hp hf hk
    obtain ⟨fuel, rfl⟩ : ∃ n', fuel = n' + 1 := ⟨fuel - 1, by omega⟩
    unfold wY_design_18
    refine br_f (by rw [eN]; exact nI_ge (by omega) (by omega)) (y_ones (by omega) (y_des38 hN (by omega) hc eN ?_))
    refine ih (p + 1) fuel _ (by omega) (by omega) ?_
    intro q hq
    by_cases e : q = p
    · rw [e, pk_us]
    · rw [pk_un e]; exact hk q (by omega)
end
theorem i_vc_design {k : Nat} {u : SX} {v : SY} (I : i_Rel k u v) (hk : k + 3 ≤ 1540) (v1 : Int32) : wpX_design (fun r u' => wpY_design (fun r' v' => r' = r ∧ i_Rel (k + 3) u' v') v v1) u v1 := by
  have I' : i_Rel (k + 3) u v := I
  obtain ⟨n, ls, C, g, A, fm, om, kd, so, hc, hX, hY, hor⟩ := I
  obtain ⟨c1, c2, c3, c4, c5, c6, c7, c8, c9⟩ := hc
  have h8 := dc_two8 c2
  obtain ⟨f_levels, f_length, f_fullMask, f_listSize, f_checkLength, f_checkMask, f_polynomial, f_freeMask, f_oneMask, f_freeCount, f_position, f_pathTotal, f_least, f_freeSlotCount, f_candTotal, a_soft, a_rankSlot, a_prefix, a_metric, a_freeSlots, a_alpha, a_blockOf, a_refs, a_freeBlocks, a_freeBlockCount, a_leftSum, a_candCost, a_candPrefix, a_candSlot, a_candOrder, a_uses⟩ := u
  obtain ⟨y_size, y_listSize, y_checkLen, y_poly, y_pos, y_count, y_dropped, y_kinds, y_soft, y_list, y_cand, y_candCost⟩ := v
  obtain ⟨x1, x2, x3, x4, x5, x6, x7, x8, x9, x10, x11, x12⟩ := hX
  obtain ⟨z1, z2, z3, z4, z5, z6⟩ := hY
  subst z1 x2
  unfold wpX_design
  dsimp only
  by_cases a1 : v1 < 1
  · refine br_t a1 ?_
    unfold wpY_design
    dsimp only
    exact br_t a1 ⟨rfl, I'⟩
  · refine br_f a1 ?_
    by_cases a2 : v1 ≤ nI (2 ^ n)
    · have a0 : ¬ v1 < 0 := fun z => a1 (by
        rw [Int32.lt_iff_toInt_lt] at z ⊢
        rw [ia_0] at z
        rw [show (1 : Int32).toInt = 1 by decide]
        omega)
      obtain ⟨c, hc, rfl⟩ := nI_of2 (M := nI (2 ^ n)) (n := 2 ^ n) (nI_toInt (by omega)) a0 a2
      have hc1 : 1 ≤ c := by
        have : ¬ nI c < nI 1 := a1
        rw [nI_ltI (by omega) (by omega)] at this
        omega
      obtain ⟨q1, q2, q3⟩ := ds_ok c1 c2 hc1 hc
      refine br_t a2 ⟨n + 2, ?_⟩
      rw [show f_levels = nI (n + 1) - 1 by rw [x1, nI_pred]]
      refine x_des26 h8 rfl (n + 1) (n + 2) (0, c) (by omega) (by show c < 100; omega) (by omega) ?_
      unfold wpY_design
      dsimp only
      refine br_f a1 (br_t a2 ⟨2 ^ n + 1, ?_⟩)
      refine y_des18 h8 (by omega) rfl ?_ (2 ^ n) 0 (2 ^ n + 1) y_kinds (by omega) (by omega) (fun q hq => by omega)
      intro kinds hkk
      exact ⟨rfl, n, ls, C, g, c, _, 0, dk_n (2 ^ n) c, so, ⟨c1, c2, c3, c4, c5, c6, q2.symm, ds_mk c1 c2 hc1 hc, c9⟩, ⟨by rw [nI_pred], rfl, x3, x4, x5, x6, x7, rfl, rfl, rfl, x11, x12⟩, ⟨rfl, z2, z3, z4, hkk, z6⟩, Or.inl ⟨⟨rfl, rfl, rfl⟩, ⟨rfl, rfl, rfl⟩⟩⟩
    · refine br_f a2 ?_
      unfold wpY_design
      dsimp only
      exact br_f a1 (br_f a2 ⟨rfl, I'⟩)
/-! transmit -/
def tr_so (so : Nat → Int32) (x : Nat) (z : Int32) : Nat → (Nat → Int32)
  | 0 => so
  | j + 1 => upd (tr_so so x z j) j (if x.testBit j then -z else z)
theorem tr_ok {so : Nat → Int32} {x : Nat} {z : Int32} (h : dc_so so) (h1 : 0 ≤ z.toInt) (h2 : z.toInt ≤ 1000) : ∀ j, dc_so (tr_so so x z j) := by
  intro j
  induction j with
  | zero => exact h
  | succ j ih =>
    refine so_upd ih ?_
    split
    · rw [ia_neg rfl (by omega) (by omega)]; omega
    · omega
section
variable {f_levels f_length f_fullMask f_listSize f_checkLength f_checkMask f_polynomial f_freeMask f_oneMask f_freeCount f_position f_pathTotal f_least f_freeSlotCount f_candTotal : Int32} {a_soft a_rankSlot a_prefix a_metric a_freeSlots a_alpha a_blockOf a_refs a_freeBlocks a_freeBlockCount a_leftSum a_candCost a_candPrefix a_candSlot a_candOrder a_uses : Nat → Int32}
theorem x_tr30 {post : Int32 → SX → Prop} {N x : Nat} {z : Int32} (hN : N ≤ 8) (eL : f_length = nI N) (so : Nat → Int32) (h : post 0 (f_levels, f_length, f_fullMask, f_listSize, f_checkLength, f_checkMask, f_polynomial, f_freeMask, f_oneMask, f_freeCount, (-1), 0, (-1), f_freeSlotCount, f_candTotal, tr_so so x z N, a_rankSlot, a_prefix, a_metric, a_freeSlots, a_alpha, a_blockOf, a_refs, a_freeBlocks, a_freeBlockCount, a_leftSum, a_candCost, a_candPrefix, a_candSlot, a_candOrder, a_uses)) : ∀ d j fuel, j + d = N → d < fuel → wX_transmit_30 post z (nI x) f_levels f_length f_fullMask f_listSize f_checkLength f_checkMask f_polynomial f_freeMask f_oneMask f_freeCount f_position f_pathTotal f_least f_freeSlotCount f_candTotal fuel (nI j) (tr_so so x z j) a_rankSlot a_prefix a_metric a_freeSlots a_alpha a_blockOf a_refs a_freeBlocks a_freeBlockCount a_leftSum a_candCost a_candPrefix a_candSlot a_candOrder a_uses := by
  intro d
  induction d with
  | zero =>
    intro j fuel hj hf
    obtain ⟨fuel, rfl⟩ : ∃ n', fuel = n' + 1 := ⟨fuel - 1, by omega⟩
    have e : j = N := by omega
    subst e
    exact br_t (by rw [eL]; exact Int32.le_refl _) h
  | succ d ih =>
    intro j fuel hj hf
    obtain ⟨fuel, rfl⟩ : ∃ n', fuel = n' + 1 := ⟨fuel - 1, by omega⟩
    have hst : tr_so so x z (j + 1) = upd (tr_so so x z j) j (if x.testBit j then -z else z) := rfl
    have ih' := ih (j + 1) fuel (by omega) (by omega)
    rw [hst] at ih'
    have v8 : vp_in (nI j) 8 := vp_in_nI (by omega) (by decide)
    unfold wX_transmit_30
    refine br_f (by rw [eL]; exact nI_ge (by omega) (by omega)) ?_
    rw [nI_clamp (by omega)]
    cases hb : x.testBit j with
    | true =>
      rw [hb, if_pos rfl] at ih'
      exact br_t ((wk_b1 (by omega)).mpr hb) ⟨v8, nm_e (nm_r (nI_1 j) ih')⟩
    | false =>
      rw [hb, if_neg Bool.false_ne_true] at ih'
      exact br_f (fun q => by rw [wk_b1 (by omega), hb] at q; exact Bool.false_ne_true q) ⟨v8, nm_e (nm_r (nI_1 j) ih')⟩
end
section
variable {y_size y_listSize y_checkLen y_poly y_pos y_count y_dropped : Int32} {y_kinds y_soft y_list y_cand y_candCost : Nat → Int32}
theorem y_tr29 {post : Int32 → SY → Prop} {N x : Nat} {z : Int32} (hN : N ≤ 8) (eN : y_size = nI N) (so : Nat → Int32) (h : post 0 (y_size, y_listSize, y_checkLen, y_poly, (-1), 0, (-1), y_kinds, tr_so so x z N, y_list, y_cand, y_candCost)) : ∀ d j fuel, j + d = N → d < fuel → wY_transmit_29 post (nI x) z y_size y_listSize y_checkLen y_poly y_pos y_count y_dropped fuel (nI j) y_kinds (tr_so so x z j) y_list y_cand y_candCost := by
  intro d
  induction d with
  | zero =>
    intro j fuel hj hf
    obtain ⟨fuel, rfl⟩ : ∃ n', fuel = n' + 1 := ⟨fuel - 1, by omega⟩
    have e : j = N := by omega
    subst e
    exact br_t (by rw [eN]; exact Int32.le_refl _) h
  | succ d ih =>
    intro j fuel hj hf
    obtain ⟨fuel, rfl⟩ : ∃ n', fuel = n' + 1 := ⟨fuel - 1, by omega⟩
    have hst : tr_so so x z (j + 1) = upd (tr_so so x z j) j (if x.testBit j then -z else z) := rfl
    have ih' := ih (j + 1) fuel (by omega) (by omega)
    rw [hst] at ih'
    have v8 : vp_in (nI j) 8 := vp_in_nI (by omega) (by decide)
    unfold wY_transmit_29
    refine br_f (by rw [eN]; exact nI_ge (by omega) (by omega)) ?_
    rw [nI_clamp (by omega)]
    cases hb : x.testBit j with
    | true =>
      rw [hb, if_pos rfl] at ih'
      exact br_f (fun q => by rw [wk_b0 (by omega), hb] at q; exact absurd q (by decide)) ⟨v8, nm_e (nm_r (nI_1 j) ih')⟩
    | false =>
      rw [hb, if_neg Bool.false_ne_true] at ih'
      exact br_t ((wk_b0 (by omega)).mpr hb) ⟨v8, nm_e (nm_r (nI_1 j) ih')⟩
end
theorem i_vc_transmit {k : Nat} {u : SX} {v : SY} (I : i_Rel k u v) (hk : k + 3 ≤ 1540) (v1 : Int32) (v2 : Int32) : wpX_transmit (fun r u' => wpY_transmit (fun r' v' => r' = r ∧ i_Rel (k + 3) u' v') v v1 v2) u v1 v2 := by
  have I' : i_Rel (k + 3) u v := I
  obtain ⟨n, ls, C, g, A, fm, om, kd, so, hc, hX, hY, hor⟩ := I
  obtain ⟨c1, c2, c3, c4, c5, c6, c7, c8, c9⟩ := hc
  have h8 := dc_two8 c2
  have h256 := wk_2n c2
  have hA8 : A ≤ 8 := by rw [c7]; exact Nat.le_trans (rk_le kd _) h8
  obtain ⟨f_levels, f_length, f_fullMask, f_listSize, f_checkLength, f_checkMask, f_polynomial, f_freeMask, f_oneMask, f_freeCount, f_position, f_pathTotal, f_least, f_freeSlotCount, f_candTotal, a_soft, a_rankSlot, a_prefix, a_metric, a_freeSlots, a_alpha, a_blockOf, a_refs, a_freeBlocks, a_freeBlockCount, a_leftSum, a_candCost, a_candPrefix, a_candSlot, a_candOrder, a_uses⟩ := u
  obtain ⟨y_size, y_listSize, y_checkLen, y_poly, y_pos, y_count, y_dropped, y_kinds, y_soft, y_list, y_cand, y_candCost⟩ := v
  obtain ⟨x1, x2, x3, x4, x5, x6, x7, x8, x9, x10, x11, x12⟩ := hX
  obtain ⟨z1, z2, z3, z4, z5, z6⟩ := hY
  have hkd : ∀ i, i < 2 ^ n → kd i ≤ 2 ∧ y_kinds i = nI (kd i) := fun i hi => ⟨(c8.2.2 i hi).1, z5 i hi⟩
  obtain ⟨a, a1, a2, ea⟩ := cl_nat (v := v2) (lo := 0) (hi := 1000) (by decide) (by decide)
  have ea' : dc_cl v2 0 1000 = nI a := ea
  have hEN := EN_lt n (wz_n (nI (wd_w (2 ^ n) C g kd (bt v1))))
  unfold wpX_transmit
  dsimp only
  refine x_usable (A := A) (C := C) (by omega) (by omega) x10 x5 (fun hle => br_t rfl ?_) (fun hlt => br_f (by decide) ?_)
  · unfold wpY_transmit
    dsimp only
    unfold wpY_encode
    dsimp only
    refine y_dataBits c2 hkd z1 z3 (br_f (fun z => ?_) (br_t rfl ⟨rfl, I'⟩))
    have := ia_le.mp z
    rw [pk_sub_toInt (by omega) (by omega), show (1 : Int32).toInt = 1 by decide] at this
    omega
  · refine x_clamp ?_
    rw [ea']
    unfold wpX_encode
    dsimp only
    refine x_usable (A := A) (C := C) (by omega) (by omega) x10 x5 (fun hle => by omega) (fun _ => br_f (by decide) ?_)
    refine x_placeWord c2 c5 hlt c7 c8 x2 x5 x6 x7 x10 x8 x9 (x_codeword c1 c2 x1 x3 ⟨2 ^ n + 1, ?_⟩)
    refine x_tr30 h8 x2 a_soft ?_ (2 ^ n) 0 (2 ^ n + 1) (by omega) (by omega)
    unfold wpY_transmit
    dsimp only
    unfold wpY_encode
    dsimp only
    refine y_dataBits c2 hkd z1 z3 (br_t ?_ (y_wordOf c2 c5 c6 (by omega) hkd z1 z3 z4 (y_codeword c1 c2 z1 (br_f (fun z => ?_) (y_clamp ?_)))))
    · rw [pk_sub (by omega)]
      exact nI_le (a := 1) (by omega) (by omega)
    · have := congrArg Int32.toInt z
      rw [nI_toInt (by omega), show (-100001 : Int32).toInt = -100001 by decide] at this
      omega
    · rw [ea']
      refine ⟨2 ^ n + 1, y_tr29 h8 z1 y_soft ?_ (2 ^ n) 0 (2 ^ n + 1) (by omega) (by omega)⟩
      refine ⟨rfl, n, ls, C, g, A, fm, om, kd, _, ⟨c1, c2, c3, c4, c5, c6, c7, c8, tr_ok (so := so) (x := dc_EN n (wz_n (nI (wd_w (2 ^ n) C g kd (bt v1))))) (z := nI a) c9 ?_ ?_ (2 ^ n)⟩, ⟨x1, x2, x3, x4, x5, x6, x7, x8, x9, x10, by rw [x11], x12⟩, ⟨z1, z2, z3, z4, z5, by rw [z6]⟩, Or.inl ⟨⟨rfl, rfl, rfl⟩, ⟨rfl, rfl, rfl⟩⟩⟩
      · rw [nI_toInt (by omega)]; omega
      · rw [nI_toInt (by omega)]; omega
end
section
/-! one list step of both: the same outcome -/
/-- the outcome of a step, by a sorted row of keys -/
def ad_st (n ls m : Nat) (so : Nat → Int32) (kd : Nat → Nat) (T : Nat) (w : Nat → Nat) (lst : Int32) (T1 : Nat) (w1 : Nat → Nat) (lst1 : Int32) : Prop :=
  ∃ Kc : Nat → Nat, ks_so (cz_t (decide (kd m = 2)) T) Kc ∧ (∀ g : Nat → Nat, qs_sm (fun i => g (Kc i)) (cz_t (decide (kd m = 2)) T) = qs_sm (fun i => g (cz_K n so (decide (kd m = 2)) (decide (kd m = 1)).toNat m w i)) (cz_t (decide (kd m = 2)) T)) ∧ T1 = cz_k (cz_t (decide (kd m = 2)) T) ls ∧ (∀ r, r < T1 → w1 r = kz_rv (Kc r % 256)) ∧ lst1 = ld_new (cz_t (decide (kd m = 2)) T) ls lst (nI (Kc ls / 256))
theorem czk_le (t ls : Nat) : cz_k t ls ≤ ls ∧ cz_k t ls ≤ t := by
  unfold cz_k
  split <;> omega
theorem ac_w {n m T : Nat} {so : Nat → Int32} {w : Nat → Nat} {lst : Int32} {u : SX} (h : xz_ac n so m T w lst u) : ∀ r, r < T → w r < 2 ^ m := by
  obtain ⟨f_levels, f_length, f_fullMask, f_listSize, f_checkLength, f_checkMask, f_polynomial, f_freeMask, f_oneMask, f_freeCount, f_position, f_pathTotal, f_least, f_freeSlotCount, f_candTotal, a_soft, a_rankSlot, a_prefix, a_metric, a_freeSlots, a_alpha, a_blockOf, a_refs, a_freeBlocks, a_freeBlockCount, a_leftSum, a_candCost, a_candPrefix, a_candSlot, a_candOrder, a_uses⟩ := u
  obtain ⟨_, _, _, sg, hC⟩ := h
  intro r hr
  exact (hC.1 r hr).2.2.1
theorem x_follow {post : Int32 → SX → Prop} {n ls C g A fm om m T : Nat} {kd : Nat → Nat} {so : Nat → Int32} {w : Nat → Nat} {lst : Int32} {u : SX} (hc : rl_c n ls C g A fm om kd so) (hT : T ≤ ls) (hm : m < 2 ^ n) (hS : xz_st n ls C g fm om A so u) (hA : xz_ac n so m T w lst u)
    (h : ∀ T1 w1 lst1 u', T1 ≤ ls → ad_st n ls m so kd T w lst T1 w1 lst1 → xz_st n ls C g fm om A so u' → xz_ac n so (m + 1) T1 w1 lst1 u' → post (nI T1) u') : wpX_advance post u := by
  obtain ⟨c1, c2, c3, c4, c5, c6, c7, c8, c9⟩ := hc
  have h8 := dc_two8 c2
  obtain ⟨q1, q2, q3⟩ := c8.2.2 m hm
  have hw := ac_w hA
  have hp8 : 2 ^ (m + 1) ≤ 2 ^ 8 := Nat.pow_le_pow_right (by decide) (by omega)
  refine x_advance c2 c9 c4 hT hm hS hA ?_
  intro ord u' hor hS' hA'
  rw [q2, q3] at hor hA'
  rw [q2]
  refine h _ _ _ u' (czk_le _ _).1 ⟨fun i => cz_K n so (decide (kd m = 2)) (decide (kd m = 1)).toNat m w (ord i), hor.2.1, hor.2.2, rfl, ?_, rfl⟩ hS' hA'
  intro r hr
  have hrt : r < cz_t (decide (kd m = 2)) T := Nat.lt_of_lt_of_le hr (czk_le _ _).2
  obtain ⟨g1, b, g2, g3⟩ := cz_fact (m := m) (w := w) (Bool.toNat_le (decide (kd m = 1))) (hor.1 r hrt)
  have hwn := w_next (hw _ g1) g2
  unfold cz_K
  rw [key_word (by rw [g3]; omega)]
theorem y_follow {post : Int32 → SY → Prop} {n ls C g A fm om m T T1 : Nat} {kd : Nat → Nat} {so : Nat → Int32} {w w1 : Nat → Nat} {lst lst1 : Int32} {v : SY} (hc : rl_c n ls C g A fm om kd so) (hT : T ≤ ls) (hm : m < 2 ^ n) (hw : ∀ r, r < T → w r < 2 ^ m) (hS : yz_st n ls C g kd so v) (hA : yz_ac m T w lst v) (ha : ad_st n ls m so kd T w lst T1 w1 lst1)
    (h : ∀ v', yz_st n ls C g kd so v' → yz_ac (m + 1) T1 w1 lst1 v' → post (nI T1) v') : wpY_advance post v := by
  obtain ⟨c1, c2, c3, c4, c5, c6, c7, c8, c9⟩ := hc
  obtain ⟨q1, q2, q3⟩ := c8.2.2 m hm
  obtain ⟨Kc, a1, a2, rfl, a4, rfl⟩ := ha
  refine y_advance c1 c2 c9 c4 hT hm q1 hw hS hA ?_
  intro Kc' v' b1 b2 hS' hA'
  have he := so_eq b1 a1 (fun g => (b2 g).trans (a2 g).symm)
  refine h v' hS' ?_
  obtain ⟨y_size, y_listSize, y_checkLen, y_poly, y_pos, y_count, y_dropped, y_kinds, y_soft, y_list, y_cand, y_candCost⟩ := v'
  obtain ⟨d1, d2, d3, d4⟩ := hA'
  refine ⟨d1, d2, ?_, fun r hr => ?_⟩
  · rw [d3]
    unfold ld_new
    by_cases e : cz_t (decide (kd m = 2)) T ≤ ls
    · rw [if_pos e, if_pos e]
    · rw [if_neg e, if_neg e, he ls (by omega)]
  · rw [d4 r hr, a4 r hr]
    (try dsimp only)
    rw [he r (Nat.lt_of_lt_of_le hr (czk_le _ _).2)]
/-! the choice among the ranks -/
def dc_al (n C g : Nat) (kd : Nat → Nat) (w : Nat) : Prop := C < rk_n kd (2 ^ n) ∧ wd_w (2 ^ n) C g kd (fun j => (gd_n (2 ^ n) C kd w).testBit j) = w % 2 ^ (2 ^ n)
def fa_ok (T : Nat) (P : Nat → Prop) (f0 : Nat) (res : Int32) : Prop := (res = -100002 ∧ ∀ r, f0 ≤ r → r < T → ¬ P r) ∨ (∃ r, f0 ≤ r ∧ r < T ∧ res = nI r ∧ P r ∧ ∀ r', f0 ≤ r' → r' < r → ¬ P r')
theorem fa_u {T : Nat} {P : Nat → Prop} {f0 : Nat} {a b : Int32} (ha : fa_ok T P f0 a) (hb : fa_ok T P f0 b) : b = a := by
  rcases ha with ⟨a1, a2⟩ | ⟨r, a1, a2, a3, a4, a5⟩ <;> rcases hb with ⟨b1, b2⟩ | ⟨q, b1, b2, b3, b4, b5⟩
  · rw [a1, b1]
  · exact absurd b4 (a2 q b1 b2)
  · exact absurd a4 (b2 r a1 a2)
  · have : r = q := by
      rcases Nat.lt_trichotomy r q with z | z | z
      · exact absurd a4 (b5 r a1 z)
      · exact z
      · exact absurd b4 (a5 q b1 z)
    rw [a3, b3, this]
theorem x_next {post : Int32 → Prop} {n ls C g A fm om T f0 : Nat} {kd : Nat → Nat} {so : Nat → Int32} {w : Nat → Nat} {lst : Int32} {u : SX} (hc : rl_c n ls C g A fm om kd so) (hT : T ≤ ls) (hf : f0 ≤ T) (hS : xz_st n ls C g fm om A so u) (hA : xz_ac n so (2 ^ n) T w lst u) (h : ∀ res, fa_ok T (fun r => dc_al n C g kd (w r)) f0 res → post res) : wpX_nextAllowedRank post u (nI f0) := by
  obtain ⟨c1, c2, c3, c4, c5, c6, c7, c8, c9⟩ := hc
  have h256 := wk_2n c2
  obtain ⟨f_levels, f_length, f_fullMask, f_listSize, f_checkLength, f_checkMask, f_polynomial, f_freeMask, f_oneMask, f_freeCount, f_position, f_pathTotal, f_least, f_freeSlotCount, f_candTotal, a_soft, a_rankSlot, a_prefix, a_metric, a_freeSlots, a_alpha, a_blockOf, a_refs, a_freeBlocks, a_freeBlockCount, a_leftSum, a_candCost, a_candPrefix, a_candSlot, a_candOrder, a_uses⟩ := u
  obtain ⟨x1, x2, x3, x4, x5, x6, x7, x8, x9, x10, x11, x12⟩ := hS
  obtain ⟨e1, e2, e3, sg, hC⟩ := hA
  obtain ⟨k1, _⟩ := hC
  have go : ∀ d r fuel, r + d = T → d < fuel → f0 ≤ r → (∀ r', f0 ≤ r' → r' < r → ¬ dc_al n C g kd (w r')) → wX_nextAllowedRank_2 post f_levels f_length f_fullMask f_listSize f_checkLength f_checkMask f_polynomial f_freeMask f_oneMask f_freeCount f_position f_pathTotal f_least f_freeSlotCount f_candTotal a_soft a_rankSlot a_prefix a_metric a_freeSlots a_alpha a_blockOf a_refs a_freeBlocks a_freeBlockCount a_leftSum a_candCost a_candPrefix a_candSlot a_candOrder a_uses fuel (nI r) := by
    intro d
    induction d with
    | zero =>
      intro r fuel hr hfu hf1 hne
      obtain ⟨fuel, rfl⟩ : ∃ n', fuel = n' + 1 := ⟨fuel - 1, by omega⟩
      have e : r = T := by omega
      subst e
      exact br_t (by rw [e2]; exact Int32.le_refl _) (h _ (Or.inl ⟨rfl, fun r' a b => hne r' a b⟩))
    | succ d ih =>
      intro r fuel hr hfu hf1 hne
      obtain ⟨fuel, rfl⟩ : ∃ n', fuel = n' + 1 := ⟨fuel - 1, by omega⟩
      obtain ⟨s1, s2, s3, s4, s5⟩ := k1 r (by omega)
      unfold wX_nextAllowedRank_2
      refine br_f (by rw [e2]; exact nI_ge (by omega) (by omega)) ⟨vp_in_nI (by omega) (by decide), ?_⟩
      rw [nI_clamp (show r < 2 ^ 31 by omega), s2, nI_clamp (show sg r < 2 ^ 31 by omega), s4]
      refine ⟨vp_in_nI s1 (by decide), ?_⟩
      have hwz : wz_n (nI (w r)) = w r := wz_nI (by omega)
      refine x_allowed c2 c5 c7 c8 x2 x3 x5 x6 x7 x10 x8 x9 (fun z => ?_) (fun q1 q2 => ?_)
      · rw [hwz] at z
        have hn : ¬ dc_al n C g kd (w r) := fun y => by
          rcases z with z | z
          · have := y.1; omega
          · exact z y.2
        refine br_t rfl (nm_r (nI_1 r) (ih (r + 1) fuel (by omega) (by omega) (by omega) (fun r' a b => ?_)))
        by_cases e : r' = r
        · rw [e]; exact hn
        · exact hne r' a (by omega)
      · rw [hwz] at q2
        exact br_f (by decide) (h _ (Or.inr ⟨r, hf1, by omega, rfl, ⟨q1, q2⟩, hne⟩))
  unfold wpX_nextAllowedRank
  dsimp only
  exact ⟨T + 1, go (T - f0) f0 (T + 1) (by omega) (by omega) (Nat.le_refl _) (fun r' a b => by omega)⟩
theorem y_from {post : Int32 → Prop} {n ls C g A fm om T f0 : Nat} {kd : Nat → Nat} {so : Nat → Int32} {w : Nat → Nat} {lst : Int32} {v : SY} (hc : rl_c n ls C g A fm om kd so) (hT : T ≤ ls) (hf : f0 ≤ T) (hw : ∀ r, r < T → w r < 2 ^ (2 ^ n)) (hS : yz_st n ls C g kd so v) (hA : yz_ac (2 ^ n) T w lst v) (h : ∀ res, fa_ok T (fun r => dc_al n C g kd (w r)) f0 res → post res) : wpY_allowedFrom post v (nI f0) := by
  obtain ⟨c1, c2, c3, c4, c5, c6, c7, c8, c9⟩ := hc
  have h256 := wk_2n c2
  obtain ⟨y_size, y_listSize, y_checkLen, y_poly, y_pos, y_count, y_dropped, y_kinds, y_soft, y_list, y_cand, y_candCost⟩ := v
  obtain ⟨z1, z2, z3, z4, z5, z6⟩ := hS
  obtain ⟨e1, e2, e3, hl⟩ := hA
  have hkd : ∀ i, i < 2 ^ n → kd i ≤ 2 ∧ y_kinds i = nI (kd i) := fun i hi => ⟨(c8.2.2 i hi).1, z5 i hi⟩
  have go : ∀ d r fuel, r + d = T → d < fuel → f0 ≤ r → (∀ r', f0 ≤ r' → r' < r → ¬ dc_al n C g kd (w r')) → wY_allowedFrom_2 post y_size y_listSize y_checkLen y_poly y_pos y_count y_dropped y_kinds y_soft y_list y_cand y_candCost fuel (nI r) := by
    intro d
    induction d with
    | zero =>
      intro r fuel hr hfu hf1 hne
      obtain ⟨fuel, rfl⟩ : ∃ n', fuel = n' + 1 := ⟨fuel - 1, by omega⟩
      have e : r = T := by omega
      subst e
      exact br_t (by rw [e2]; exact Int32.le_refl _) (h _ (Or.inl ⟨rfl, fun r' a b => hne r' a b⟩))
    | succ d ih =>
      intro r fuel hr hfu hf1 hne
      obtain ⟨fuel, rfl⟩ : ∃ n', fuel = n' + 1 := ⟨fuel - 1, by omega⟩
      have hwr := hw r (by omega)
      unfold wY_allowedFrom_2
      refine br_f (by rw [e2]; exact nI_ge (by omega) (by omega)) ⟨vp_in_nI (by omega) (by decide), ?_⟩
      rw [nI_clamp (show r < 2 ^ 31 by omega), hl r (by omega)]
      have hwz : wz_n (nI (w r)) = w r := wz_nI (by omega)
      refine y_allowed c2 c5 c6 hkd z1 z3 z4 (fun z => ?_) (fun q1 q2 => ?_)
      · rw [hwz] at z
        have hn : ¬ dc_al n C g kd (w r) := fun y => by
          rcases z with z | z
          · have := y.1; omega
          · exact z y.2
        refine br_t rfl (nm_r (nI_1 r) (ih (r + 1) fuel (by omega) (by omega) (by omega) (fun r' a b => ?_)))
        by_cases e : r' = r
        · rw [e]; exact hn
        · exact hne r' a (by omega)
      · rw [hwz] at q2
        exact br_f (by decide) (h _ (Or.inr ⟨r, hf1, by omega, rfl, ⟨q1, q2⟩, hne⟩))
  unfold wpY_allowedFrom
  dsimp only
  exact ⟨T + 1, go (T - f0) f0 (T + 1) (by omega) (by omega) (Nat.le_refl _) (fun r' a b => by omega)⟩
theorem x_chosen {post : Int32 → Prop} {n ls C g A fm om m T : Nat} {kd : Nat → Nat} {so : Nat → Int32} {w : Nat → Nat} {lst : Int32} {u : SX} (hc : rl_c n ls C g A fm om kd so) (hm : m ≤ 2 ^ n) (hT : T ≤ ls) (hS : xz_st n ls C g fm om A so u) (hA : xz_ac n so m T w lst u) (h0 : m ≠ 2 ^ n → post (-100000)) (h : m = 2 ^ n → ∀ res, fa_ok T (fun r => dc_al n C g kd (w r)) 0 res → post res) : wpX_chosen post u := by
  have h8 := dc_two8 hc.2.1
  by_cases e : m = 2 ^ n
  · subst e
    have hn := x_next (post := post) hc hT (Nat.zero_le _) hS hA (h rfl)
    obtain ⟨f_levels, f_length, f_fullMask, f_listSize, f_checkLength, f_checkMask, f_polynomial, f_freeMask, f_oneMask, f_freeCount, f_position, f_pathTotal, f_least, f_freeSlotCount, f_candTotal, a_soft, a_rankSlot, a_prefix, a_metric, a_freeSlots, a_alpha, a_blockOf, a_refs, a_freeBlocks, a_freeBlockCount, a_leftSum, a_candCost, a_candPrefix, a_candSlot, a_candOrder, a_uses⟩ := u
    obtain ⟨x1, x2, x3, x4, x5, x6, x7, x8, x9, x10, x11, x12⟩ := hS
    obtain ⟨e1, e2, e3, sg, hC⟩ := hA
    exact br_t (by rw [e1, x2]) hn
  · obtain ⟨f_levels, f_length, f_fullMask, f_listSize, f_checkLength, f_checkMask, f_polynomial, f_freeMask, f_oneMask, f_freeCount, f_position, f_pathTotal, f_least, f_freeSlotCount, f_candTotal, a_soft, a_rankSlot, a_prefix, a_metric, a_freeSlots, a_alpha, a_blockOf, a_refs, a_freeBlocks, a_freeBlockCount, a_leftSum, a_candCost, a_candPrefix, a_candSlot, a_candOrder, a_uses⟩ := u
    obtain ⟨x1, x2, x3, x4, x5, x6, x7, x8, x9, x10, x11, x12⟩ := hS
    obtain ⟨e1, e2, e3, sg, hC⟩ := hA
    exact br_f (by rw [e1, x2, nI_eq (by omega) (by omega)]; exact e) (h0 e)
theorem y_chosen {post : Int32 → Prop} {n ls C g A fm om m T : Nat} {kd : Nat → Nat} {so : Nat → Int32} {w : Nat → Nat} {lst : Int32} {v : SY} (hc : rl_c n ls C g A fm om kd so) (hm : m ≤ 2 ^ n) (hT : T ≤ ls) (hw : ∀ r, r < T → w r < 2 ^ m) (hS : yz_st n ls C g kd so v) (hA : yz_ac m T w lst v) (h0 : m ≠ 2 ^ n → post (-100000)) (h : m = 2 ^ n → ∀ res, fa_ok T (fun r => dc_al n C g kd (w r)) 0 res → post res) : wpY_chosen post v := by
  have h8 := dc_two8 hc.2.1
  by_cases e : m = 2 ^ n
  · subst e
    have hn := y_from (post := post) hc hT (Nat.zero_le _) hw hS hA (h rfl)
    obtain ⟨y_size, y_listSize, y_checkLen, y_poly, y_pos, y_count, y_dropped, y_kinds, y_soft, y_list, y_cand, y_candCost⟩ := v
    obtain ⟨z1, z2, z3, z4, z5, z6⟩ := hS
    obtain ⟨e1, e2, e3, hl⟩ := hA
    exact br_t (by rw [e1, z1]) hn
  · obtain ⟨y_size, y_listSize, y_checkLen, y_poly, y_pos, y_count, y_dropped, y_kinds, y_soft, y_list, y_cand, y_candCost⟩ := v
    obtain ⟨z1, z2, z3, z4, z5, z6⟩ := hS
    obtain ⟨e1, e2, e3, hl⟩ := hA
    exact br_f (by rw [e1, z1, nI_eq (by omega) (by omega)]; exact e) (h0 e)
theorem y_pathMetric {post : Int32 → Prop} {n ls C g A fm om m T j : Nat} {kd : Nat → Nat} {so : Nat → Int32} {w : Nat → Nat} {lst : Int32} {v : SY} (hc : rl_c n ls C g A fm om kd so) (hm : m ≤ 2 ^ n) (hT : T ≤ ls) (hw : ∀ r, r < T → w r < 2 ^ m) (hS : yz_st n ls C g kd so v) (hA : yz_ac m T w lst v) (hj : j < T) (h : post (dc_M n so (w j) m)) : wpY_pathMetric post v (nI j) := by
  obtain ⟨c1, c2, c3, c4, c5, c6, c7, c8, c9⟩ := hc
  have h8 := dc_two8 c2
  obtain ⟨y_size, y_listSize, y_checkLen, y_poly, y_pos, y_count, y_dropped, y_kinds, y_soft, y_list, y_cand, y_candCost⟩ := v
  obtain ⟨z1, z2, z3, z4, z5, z6⟩ := hS
  obtain ⟨e1, e2, e3, hl⟩ := hA
  subst e1 e2 z6
  unfold wpY_pathMetric
  dsimp only
  refine br_f (nI_pos (by omega)) (br_f (nI_pos (by omega)) (br_t (nI_lt hj (by omega)) ⟨vp_in_nI (by omega) (by decide), ?_⟩))
  rw [nI_clamp (by omega), hl j hj]
  exact y_cost c1 c2 z1 c9 hm (hw j hj) h
end
section
/-! reading the decoder -/
theorem id_pos : (-1 : Int32) < 0 := by decide
theorem i_vc_position {k : Nat} {u : SX} {v : SY} (I : i_Rel k u v) (hk : k + 3 ≤ 1540) : wpX_position (fun r => wpY_position (fun r' => r' = r ∧ i_Rel (k + 3) u v) v) u := by
  have I' : i_Rel (k + 3) u v := I
  obtain ⟨n, ls, C, g, A, fm, om, kd, so, hc, hX, hY, hor⟩ := I
  have hc' := hc
  obtain ⟨c1, c2, c3, c4, c5, c6, c7, c8, c9⟩ := hc
  have h8 := dc_two8 c2
  have hA8 : A ≤ 8 := by rw [c7]; exact Nat.le_trans (rk_le kd _) h8
  obtain ⟨f_levels, f_length, f_fullMask, f_listSize, f_checkLength, f_checkMask, f_polynomial, f_freeMask, f_oneMask, f_freeCount, f_position, f_pathTotal, f_least, f_freeSlotCount, f_candTotal, a_soft, a_rankSlot, a_prefix, a_metric, a_freeSlots, a_alpha, a_blockOf, a_refs, a_freeBlocks, a_freeBlockCount, a_leftSum, a_candCost, a_candPrefix, a_candSlot, a_candOrder, a_uses⟩ := u
  obtain ⟨y_size, y_listSize, y_checkLen, y_poly, y_pos, y_count, y_dropped, y_kinds, y_soft, y_list, y_cand, y_candCost⟩ := v
  rcases hor with ⟨hx, hy⟩ | ⟨m, T, w, lst, hm, hT, hx, hy⟩
  · exact ⟨hy.1.trans hx.1.symm, I'⟩
  · exact ⟨hy.1.trans hx.1.symm, I'⟩
theorem i_vc_pathCount {k : Nat} {u : SX} {v : SY} (I : i_Rel k u v) (hk : k + 3 ≤ 1540) : wpX_pathCount (fun r => wpY_pathCount (fun r' => r' = r ∧ i_Rel (k + 3) u v) v) u := by
  have I' : i_Rel (k + 3) u v := I
  obtain ⟨n, ls, C, g, A, fm, om, kd, so, hc, hX, hY, hor⟩ := I
  have hc' := hc
  obtain ⟨c1, c2, c3, c4, c5, c6, c7, c8, c9⟩ := hc
  have h8 := dc_two8 c2
  have hA8 : A ≤ 8 := by rw [c7]; exact Nat.le_trans (rk_le kd _) h8
  obtain ⟨f_levels, f_length, f_fullMask, f_listSize, f_checkLength, f_checkMask, f_polynomial, f_freeMask, f_oneMask, f_freeCount, f_position, f_pathTotal, f_least, f_freeSlotCount, f_candTotal, a_soft, a_rankSlot, a_prefix, a_metric, a_freeSlots, a_alpha, a_blockOf, a_refs, a_freeBlocks, a_freeBlockCount, a_leftSum, a_candCost, a_candPrefix, a_candSlot, a_candOrder, a_uses⟩ := u
  obtain ⟨y_size, y_listSize, y_checkLen, y_poly, y_pos, y_count, y_dropped, y_kinds, y_soft, y_list, y_cand, y_candCost⟩ := v
  rcases hor with ⟨hx, hy⟩ | ⟨m, T, w, lst, hm, hT, hx, hy⟩
  · exact br_f (by rw [hy.1]; decide) ⟨hx.2.1.symm, I'⟩
  · exact br_t (by rw [hy.1]; exact nI_pos' (by omega)) ⟨hy.2.1.trans hx.2.1.symm, I'⟩
theorem i_vc_leastDropped {k : Nat} {u : SX} {v : SY} (I : i_Rel k u v) (hk : k + 3 ≤ 1540) : wpX_leastDropped (fun r => wpY_leastDropped (fun r' => r' = r ∧ i_Rel (k + 3) u v) v) u := by
  have I' : i_Rel (k + 3) u v := I
  obtain ⟨n, ls, C, g, A, fm, om, kd, so, hc, hX, hY, hor⟩ := I
  have hc' := hc
  obtain ⟨c1, c2, c3, c4, c5, c6, c7, c8, c9⟩ := hc
  have h8 := dc_two8 c2
  have hA8 : A ≤ 8 := by rw [c7]; exact Nat.le_trans (rk_le kd _) h8
  obtain ⟨f_levels, f_length, f_fullMask, f_listSize, f_checkLength, f_checkMask, f_polynomial, f_freeMask, f_oneMask, f_freeCount, f_position, f_pathTotal, f_least, f_freeSlotCount, f_candTotal, a_soft, a_rankSlot, a_prefix, a_metric, a_freeSlots, a_alpha, a_blockOf, a_refs, a_freeBlocks, a_freeBlockCount, a_leftSum, a_candCost, a_candPrefix, a_candSlot, a_candOrder, a_uses⟩ := u
  obtain ⟨y_size, y_listSize, y_checkLen, y_poly, y_pos, y_count, y_dropped, y_kinds, y_soft, y_list, y_cand, y_candCost⟩ := v
  rcases hor with ⟨hx, hy⟩ | ⟨m, T, w, lst, hm, hT, hx, hy⟩
  · exact br_f (by rw [hx.1]; decide) (br_f (by rw [hy.1]; decide) ⟨rfl, I'⟩)
  · obtain ⟨e1, e2, e3, _⟩ := hx
    obtain ⟨d1, d2, d3, _⟩ := hy
    have he : y_dropped = f_least := d3.trans e3.symm
    refine br_t (by rw [e1]; exact nI_pos' (by omega)) ?_
    by_cases e : 0 ≤ f_least
    · exact br_t e (br_t (by rw [d1]; exact nI_pos' (by omega)) (br_t (by rw [he]; exact e) ⟨he, I'⟩))
    · exact br_f e (br_t (by rw [d1]; exact nI_pos' (by omega)) (br_f (by rw [he]; exact e) ⟨rfl, I'⟩))
theorem i_vc_pathMetric {k : Nat} {u : SX} {v : SY} (I : i_Rel k u v) (hk : k + 3 ≤ 1540) (v1 : Int32) : wpX_pathMetric (fun r => wpY_pathMetric (fun r' => r' = r ∧ i_Rel (k + 3) u v) v v1) u v1 := by
  have I' : i_Rel (k + 3) u v := I
  obtain ⟨n, ls, C, g, A, fm, om, kd, so, hc, hX, hY, hor⟩ := I
  have hc' := hc
  obtain ⟨c1, c2, c3, c4, c5, c6, c7, c8, c9⟩ := hc
  have h8 := dc_two8 c2
  have hA8 : A ≤ 8 := by rw [c7]; exact Nat.le_trans (rk_le kd _) h8
  rcases hor with ⟨hx, hy⟩ | ⟨m, T, w, lst, hm, hT, hx, hy⟩
  · obtain ⟨f_levels, f_length, f_fullMask, f_listSize, f_checkLength, f_checkMask, f_polynomial, f_freeMask, f_oneMask, f_freeCount, f_position, f_pathTotal, f_least, f_freeSlotCount, f_candTotal, a_soft, a_rankSlot, a_prefix, a_metric, a_freeSlots, a_alpha, a_blockOf, a_refs, a_freeBlocks, a_freeBlockCount, a_leftSum, a_candCost, a_candPrefix, a_candSlot, a_candOrder, a_uses⟩ := u
    obtain ⟨y_size, y_listSize, y_checkLen, y_poly, y_pos, y_count, y_dropped, y_kinds, y_soft, y_list, y_cand, y_candCost⟩ := v
    unfold wpX_pathMetric
    dsimp only
    refine x_isRank (N := 0) (by omega) hx.2.1 (fun _ => br_t rfl ?_) (fun j hj => by omega)
    exact br_t (by rw [hy.1]; decide) ⟨rfl, I'⟩
  · have hw := ac_w hx
    have hym := fun j hj (r : Int32) (hr : dc_M n so (w j) m = r) => y_pathMetric (post := fun r' => r' = r ∧ i_Rel (k + 3) u v) (j := j) hc' hm hT hw hY hy hj ⟨hr, I'⟩
    obtain ⟨f_levels, f_length, f_fullMask, f_listSize, f_checkLength, f_checkMask, f_polynomial, f_freeMask, f_oneMask, f_freeCount, f_position, f_pathTotal, f_least, f_freeSlotCount, f_candTotal, a_soft, a_rankSlot, a_prefix, a_metric, a_freeSlots, a_alpha, a_blockOf, a_refs, a_freeBlocks, a_freeBlockCount, a_leftSum, a_candCost, a_candPrefix, a_candSlot, a_candOrder, a_uses⟩ := u
    obtain ⟨y_size, y_listSize, y_checkLen, y_poly, y_pos, y_count, y_dropped, y_kinds, y_soft, y_list, y_cand, y_candCost⟩ := v
    obtain ⟨e1, e2, e3, sg, hC⟩ := hx
    obtain ⟨d1, d2, d3, hl⟩ := hy
    unfold wpX_pathMetric
    dsimp only
    refine x_isRank (N := T) (by omega) e2 (fun hn => br_t rfl ?_) (fun j hj e => br_f (by decide) ?_)
    · unfold wpY_pathMetric
      dsimp only
      subst d2
      exact br_f (by rw [d1]; exact nI_pos (by omega)) (yp_lt (by omega) (fun _ => ⟨⟨rfl, I'⟩, ⟨rfl, I'⟩⟩) (fun j hj e => absurd e (hn j hj)))
    · subst e
      obtain ⟨s1, s2, s3, s4, s5⟩ := hC.1 j hj
      refine ⟨vp_in_nI (by omega) (by decide), ?_⟩
      rw [nI_clamp (show j < 2 ^ 31 by omega), s2, nI_clamp (show sg j < 2 ^ 31 by omega), s5]
      exact ⟨vp_in_nI s1 (by decide), hym j hj _ rfl⟩
theorem i_vc_pathWord {k : Nat} {u : SX} {v : SY} (I : i_Rel k u v) (hk : k + 3 ≤ 1540) (v1 : Int32) : wpX_pathWord (fun r => wpY_pathWord (fun r' => r' = r ∧ i_Rel (k + 3) u v) v v1) u v1 := by
  have I' : i_Rel (k + 3) u v := I
  obtain ⟨n, ls, C, g, A, fm, om, kd, so, hc, hX, hY, hor⟩ := I
  have hc' := hc
  obtain ⟨c1, c2, c3, c4, c5, c6, c7, c8, c9⟩ := hc
  have h8 := dc_two8 c2
  have hA8 : A ≤ 8 := by rw [c7]; exact Nat.le_trans (rk_le kd _) h8
  obtain ⟨f_levels, f_length, f_fullMask, f_listSize, f_checkLength, f_checkMask, f_polynomial, f_freeMask, f_oneMask, f_freeCount, f_position, f_pathTotal, f_least, f_freeSlotCount, f_candTotal, a_soft, a_rankSlot, a_prefix, a_metric, a_freeSlots, a_alpha, a_blockOf, a_refs, a_freeBlocks, a_freeBlockCount, a_leftSum, a_candCost, a_candPrefix, a_candSlot, a_candOrder, a_uses⟩ := u
  obtain ⟨y_size, y_listSize, y_checkLen, y_poly, y_pos, y_count, y_dropped, y_kinds, y_soft, y_list, y_cand, y_candCost⟩ := v
  rcases hor with ⟨hx, hy⟩ | ⟨m, T, w, lst, hm, hT, hx, hy⟩
  · unfold wpX_pathWord
    dsimp only
    refine x_isRank (N := 0) (by omega) hx.2.1 (fun _ => br_t rfl ?_) (fun j hj => by omega)
    exact br_t (by rw [hy.1]; decide) ⟨rfl, I'⟩
  · obtain ⟨e1, e2, e3, sg, hC⟩ := hx
    obtain ⟨d1, d2, d3, hl⟩ := hy
    subst d2
    unfold wpX_pathWord
    dsimp only
    refine x_isRank (N := T) (by omega) e2 (fun hn => br_t rfl ?_) (fun j hj e => br_f (by decide) ?_)
    · unfold wpY_pathWord
      dsimp only
      exact br_f (by rw [d1]; exact nI_pos (by omega)) (yp_lt (by omega) (fun _ => ⟨⟨rfl, I'⟩, ⟨rfl, I'⟩⟩) (fun j hj e => absurd e (hn j hj)))
    · subst e
      obtain ⟨s1, s2, s3, s4, s5⟩ := hC.1 j hj
      refine ⟨vp_in_nI (by omega) (by decide), ?_⟩
      rw [nI_clamp (show j < 2 ^ 31 by omega), s2, nI_clamp (show sg j < 2 ^ 31 by omega), s4]
      refine ⟨vp_in_nI s1 (by decide), ?_⟩
      unfold wpY_pathWord
      dsimp only
      refine br_f (by rw [d1]; exact nI_pos (by omega)) (br_f (nI_pos (by omega)) (br_t (nI_lt hj (by omega)) ⟨vp_in_nI (by omega) (by decide), ?_, I'⟩))
      rw [nI_clamp (by omega)]
      exact hl j hj
theorem le_diff (M l : Int32) : dc_pn M true l - dc_pn M false l = l := by
  unfold dc_pn
  rw [if_pos rfl, if_neg Bool.false_ne_true]
  by_cases h1 : l ≤ 0
  · by_cases h2 : 0 ≤ l
    · have : l = 0 := Int32.le_antisymm h1 h2
      rw [if_pos h1, if_pos h2, this, Int32.sub_self]
    · rw [if_pos h1, if_neg h2]
      grind
  · have h2 : 0 ≤ l := by
      rw [ia_le, ia_0] at h1
      rw [ia_le, ia_0]
      omega
    rw [if_neg h1, if_pos h2]
    grind
theorem i_vc_lean {k : Nat} {u : SX} {v : SY} (I : i_Rel k u v) (hk : k + 3 ≤ 1540) (v1 : Int32) : wpX_lean (fun r => wpY_lean (fun r' => r' = r ∧ i_Rel (k + 3) u v) v v1) u v1 := by
  have I' : i_Rel (k + 3) u v := I
  obtain ⟨n, ls, C, g, A, fm, om, kd, so, hc, hX, hY, hor⟩ := I
  have hc' := hc
  obtain ⟨c1, c2, c3, c4, c5, c6, c7, c8, c9⟩ := hc
  have h8 := dc_two8 c2
  have hA8 : A ≤ 8 := by rw [c7]; exact Nat.le_trans (rk_le kd _) h8
  obtain ⟨f_levels, f_length, f_fullMask, f_listSize, f_checkLength, f_checkMask, f_polynomial, f_freeMask, f_oneMask, f_freeCount, f_position, f_pathTotal, f_least, f_freeSlotCount, f_candTotal, a_soft, a_rankSlot, a_prefix, a_metric, a_freeSlots, a_alpha, a_blockOf, a_refs, a_freeBlocks, a_freeBlockCount, a_leftSum, a_candCost, a_candPrefix, a_candSlot, a_candOrder, a_uses⟩ := u
  obtain ⟨y_size, y_listSize, y_checkLen, y_poly, y_pos, y_count, y_dropped, y_kinds, y_soft, y_list, y_cand, y_candCost⟩ := v
  obtain ⟨x1, x2, x3, x4, x5, x6, x7, x8, x9, x10, x11, x12⟩ := hX
  obtain ⟨z1, z2, z3, z4, z5, z6⟩ := hY
  rcases hor with ⟨hx, hy⟩ | ⟨m, T, w, lst, hm, hT, hx, hy⟩
  · have hp0 : 0 < 2 ^ n := Nat.two_pow_pos n
    unfold wpX_lean
    dsimp only
    refine br_f (fun z => ?_) (x_isRank (N := 0) (by omega) hx.2.1 (fun _ => br_t rfl ?_) (fun j hj => by omega))
    · rw [x2, hx.1] at z
      have := ia_le.mp z
      rw [nI_toInt (by omega), show (-1 : Int32).toInt = -1 by decide] at this
      omega
    · exact br_t (by rw [hy.1]; decide) ⟨rfl, I'⟩
  · obtain ⟨e1, e2, e3, sg, hC⟩ := hx
    obtain ⟨d1, d2, d3, hl⟩ := hy
    subst d1 d2 e1 x2 z1
    unfold wpX_lean
    dsimp only
    refine pk_le (2 ^ n) m (fun hle => ?_) (fun hlt => ?_)
    · unfold wpY_lean
      dsimp only
      exact br_f (nI_pos (by omega)) (br_t (nI_le hle (by omega)) ⟨rfl, I'⟩)
    · refine x_isRank (N := T) (by omega) e2 (fun hn => br_t rfl ?_) (fun j hj e => br_f (by decide) ?_)
      · unfold wpY_lean
        dsimp only
        exact br_f (nI_pos (by omega)) (br_f (nI_ge hlt (by omega)) (yp_lt (by omega) (fun _ => ⟨⟨rfl, I'⟩, ⟨rfl, I'⟩⟩) (fun j hj e => absurd e (hn j hj))))
      · subst e
        obtain ⟨s1, s2, s3, s4, s5⟩ := hC.1 j hj
        have hlv : sz_im sg T (sg j) = true := im_iff.mpr ⟨j, hj, rfl⟩
        obtain ⟨bl, b1, _, b2⟩ := me_blk hC.2.2.1 (s := 0) (by omega) s1 hlv
        refine ⟨vp_in_nI (by omega) (by decide), ?_⟩
        rw [nI_clamp (show j < 2 ^ 31 by omega), s2]
        refine x_leaf s1 b1 b2 ?_
        rw [hC.2.2.2.2.2 hlt j hj 0 (by omega) 0 (by decide)]
        have v32 : vp_in (nI j) 32 := vp_in_nI (by omega) (by decide)
        unfold wpY_lean
        dsimp only
        refine br_f (nI_pos (by omega)) (br_f (nI_ge hlt (by omega)) (br_f (nI_pos (by omega)) (br_t (nI_lt hj (by omega)) ⟨v32, ?_⟩)))
        subst z6
        rw [nI_clamp (show j < 2 ^ 31 by omega), hl j hj, wk_ext1 (by omega) s3, nI_1]
        refine y_cost c1 c2 rfl c9 (by omega) (w_next s3 (by decide)) ⟨v32, ?_⟩
        refine y_cost c1 c2 rfl c9 (by omega) (by have := w_next (b := 0) s3 (by decide); omega) ⟨?_, I'⟩
        have a1 := M_next (n := n) (so := y_soft) (b := 1) hlt s3 (by decide)
        have a0 := M_next (n := n) (so := y_soft) (b := 0) hlt s3 (by decide)
        rw [Nat.mul_zero, Nat.add_zero] at a0
        rw [a1, a0]
        exact le_diff _ _
theorem id_chX {post : Int32 → Prop} {n ls C g fm om A : Nat} {so : Nat → Int32} {u : SX} (hn : n ≤ 3) (hS : xz_st n ls C g fm om A so u) (hx : xz_id u) (h : post (-100000)) : wpX_chosen post u := by
  have h8 := dc_two8 hn
  have hp0 : 0 < 2 ^ n := Nat.two_pow_pos n
  obtain ⟨f_levels, f_length, f_fullMask, f_listSize, f_checkLength, f_checkMask, f_polynomial, f_freeMask, f_oneMask, f_freeCount, f_position, f_pathTotal, f_least, f_freeSlotCount, f_candTotal, a_soft, a_rankSlot, a_prefix, a_metric, a_freeSlots, a_alpha, a_blockOf, a_refs, a_freeBlocks, a_freeBlockCount, a_leftSum, a_candCost, a_candPrefix, a_candSlot, a_candOrder, a_uses⟩ := u
  obtain ⟨x1, x2, x3, x4, x5, x6, x7, x8, x9, x10, x11, x12⟩ := hS
  refine br_f (fun z => ?_) h
  rw [hx.1, x2] at z
  have := congrArg Int32.toInt z
  rw [nI_toInt (by omega), show (-1 : Int32).toInt = -1 by decide] at this
  omega
theorem id_chY {post : Int32 → Prop} {n ls C g : Nat} {kd : Nat → Nat} {so : Nat → Int32} {v : SY} (hn : n ≤ 3) (hS : yz_st n ls C g kd so v) (hy : yz_id v) (h : post (-100000)) : wpY_chosen post v := by
  have h8 := dc_two8 hn
  have hp0 : 0 < 2 ^ n := Nat.two_pow_pos n
  obtain ⟨y_size, y_listSize, y_checkLen, y_poly, y_pos, y_count, y_dropped, y_kinds, y_soft, y_list, y_cand, y_candCost⟩ := v
  obtain ⟨z1, z2, z3, z4, z5, z6⟩ := hS
  refine br_f (fun z => ?_) h
  rw [hy.1, z1] at z
  have := congrArg Int32.toInt z
  rw [nI_toInt (by omega), show (-1 : Int32).toInt = -1 by decide] at this
  omega
/-- both choose alike: refused, or one answer -/
theorem ch_both {pX pY : Int32 → Prop} {n ls C g A fm om : Nat} {kd : Nat → Nat} {so : Nat → Int32} {u : SX} {v : SY} (hc : rl_c n ls C g A fm om kd so) (hX : xz_st n ls C g fm om A so u) (hY : yz_st n ls C g kd so v) (hor : (xz_id u ∧ yz_id v) ∨ ∃ (m T : Nat) (w : Nat → Nat) (lst : Int32), m ≤ 2 ^ n ∧ T ≤ ls ∧ xz_ac n so m T w lst u ∧ yz_ac m T w lst v) (f : Int32 → Prop)
    (hX1 : ∀ r, (¬ 0 ≤ r ∨ ∃ (T : Nat) (w : Nat → Nat) (lst : Int32) (j : Nat), T ≤ ls ∧ xz_ac n so (2 ^ n) T w lst u ∧ yz_ac (2 ^ n) T w lst v ∧ r = nI j ∧ j < T ∧ dc_al n C g kd (w j)) → (∀ P : Int32 → Prop, P r → wpY_chosen P v) → pX r) : wpX_chosen pX u := by
  rcases hor with ⟨hx, hy⟩ | ⟨m, T, w, lst, hm, hT, hx, hy⟩
  · exact id_chX hc.2.1 hX hx (hX1 _ (Or.inl (by decide)) (fun P hP => id_chY hc.2.1 hY hy hP))
  · have hw := ac_w hx
    refine x_chosen hc hm hT hX hx (fun e => ?_) (fun e res hres => ?_)
    · exact hX1 _ (Or.inl (by decide)) (fun P hP => y_chosen hc hm hT hw hY hy (fun _ => hP) (fun z => absurd z e))
    · subst e
      refine hX1 res ?_ (fun P hP => y_chosen hc hm hT hw hY hy (fun z => absurd rfl z) (fun _ res' hres' => by rw [fa_u hres hres']; exact hP))
      rcases hres with ⟨a1, _⟩ | ⟨j, _, a2, a3, a4, _⟩
      · exact Or.inl (by rw [a1]; decide)
      · exact Or.inr ⟨T, w, lst, j, hT, hx, hy, a3, a2, a4⟩
theorem i_vc_chosen {k : Nat} {u : SX} {v : SY} (I : i_Rel k u v) (hk : k + 3 ≤ 1540) : wpX_chosen (fun r => wpY_chosen (fun r' => r' = r ∧ i_Rel (k + 3) u v) v) u := by
  have I' : i_Rel (k + 3) u v := I
  obtain ⟨n, ls, C, g, A, fm, om, kd, so, hc, hX, hY, hor⟩ := I
  have hc' := hc
  obtain ⟨c1, c2, c3, c4, c5, c6, c7, c8, c9⟩ := hc
  have h8 := dc_two8 c2
  have hA8 : A ≤ 8 := by rw [c7]; exact Nat.le_trans (rk_le kd _) h8
  exact ch_both (pY := fun _ => True) hc' hX hY hor (fun _ => True) (fun r _ hP => hP _ ⟨rfl, I'⟩)
theorem i_vc_resultData {k : Nat} {u : SX} {v : SY} (I : i_Rel k u v) (hk : k + 3 ≤ 1540) : wpX_resultData (fun r => wpY_resultData (fun r' => r' = r ∧ i_Rel (k + 3) u v) v) u := by
  have I' : i_Rel (k + 3) u v := I
  obtain ⟨n, ls, C, g, A, fm, om, kd, so, hc, hX, hY, hor⟩ := I
  have hc' := hc
  obtain ⟨c1, c2, c3, c4, c5, c6, c7, c8, c9⟩ := hc
  have h8 := dc_two8 c2
  have hA8 : A ≤ 8 := by rw [c7]; exact Nat.le_trans (rk_le kd _) h8
  have h256 := wk_2n c2
  have hb := fun (pX : Int32 → Prop) => ch_both (pX := pX) (pY := fun _ => True) hc' hX hY hor (fun _ => True)
  obtain ⟨f_levels, f_length, f_fullMask, f_listSize, f_checkLength, f_checkMask, f_polynomial, f_freeMask, f_oneMask, f_freeCount, f_position, f_pathTotal, f_least, f_freeSlotCount, f_candTotal, a_soft, a_rankSlot, a_prefix, a_metric, a_freeSlots, a_alpha, a_blockOf, a_refs, a_freeBlocks, a_freeBlockCount, a_leftSum, a_candCost, a_candPrefix, a_candSlot, a_candOrder, a_uses⟩ := u
  obtain ⟨y_size, y_listSize, y_checkLen, y_poly, y_pos, y_count, y_dropped, y_kinds, y_soft, y_list, y_cand, y_candCost⟩ := v
  obtain ⟨x1, x2, x3, x4, x5, x6, x7, x8, x9, x10, x11, x12⟩ := hX
  obtain ⟨z1, z2, z3, z4, z5, z6⟩ := hY
  have hkd : ∀ i, i < 2 ^ n → kd i ≤ 2 ∧ y_kinds i = nI (kd i) := fun i hi => ⟨(c8.2.2 i hi).1, z5 i hi⟩
  unfold wpX_resultData
  dsimp only
  refine hb _ (fun r hr hP => ?_)
  rcases hr with hr | ⟨T, w, lst, j, hT, hx, hy, rfl, hj, hal⟩
  · refine br_f hr ?_
    unfold wpY_resultData
    dsimp only
    exact hP _ (br_f hr ⟨rfl, I'⟩)
  · obtain ⟨e1, e2, e3, sg, hC⟩ := hx
    obtain ⟨d1, d2, d3, hl⟩ := hy
    obtain ⟨s1, s2, s3, s4, s5⟩ := hC.1 j hj
    have hwz : wz_n (nI (w j)) = w j := wz_nI (by omega)
    refine br_t (nI_pos' (by omega)) ⟨vp_in_nI (by omega) (by decide), ?_⟩
    rw [nI_clamp (show j < 2 ^ 31 by omega), s2, nI_clamp (show sg j < 2 ^ 31 by omega), s4]
    refine ⟨vp_in_nI s1 (by decide), x_gather c2 (by rw [c7]; exact hal.1) c7 c8 x2 x5 x10 x8 ?_⟩
    unfold wpY_resultData
    dsimp only
    refine hP _ (br_t (nI_pos' (by omega)) ⟨vp_in_nI (by omega) (by decide), ?_⟩)
    rw [nI_clamp (show j < 2 ^ 31 by omega), hl j hj]
    refine y_dataOf c2 c5 c6 hkd z1 z3 z4 (fun z => ?_) (fun _ _ => ⟨rfl, I'⟩)
    exfalso
    rw [hwz] at z
    rcases z with z | z
    · have := hal.1; omega
    · exact z hal.2
theorem i_vc_certified {k : Nat} {u : SX} {v : SY} (I : i_Rel k u v) (hk : k + 3 ≤ 1540) : wpX_certified (fun r => wpY_certified (fun r' => r' = r ∧ i_Rel (k + 3) u v) v) u := by
  have I' : i_Rel (k + 3) u v := I
  obtain ⟨n, ls, C, g, A, fm, om, kd, so, hc, hX, hY, hor⟩ := I
  have hc' := hc
  obtain ⟨c1, c2, c3, c4, c5, c6, c7, c8, c9⟩ := hc
  have h8 := dc_two8 c2
  have hA8 : A ≤ 8 := by rw [c7]; exact Nat.le_trans (rk_le kd _) h8
  have hb := fun (pX : Int32 → Prop) => ch_both (pX := pX) (pY := fun _ => True) hc' hX hY hor (fun _ => True)
  have hym := fun (P : Int32 → Prop) T w lst j (hT : T ≤ ls) (hx : xz_ac n so (2 ^ n) T w lst u) (hy : yz_ac (2 ^ n) T w lst v) (hj : j < T) (hr : P (dc_M n so (w j) (2 ^ n))) => y_pathMetric (post := P) (j := j) hc' (Nat.le_refl _) hT (ac_w hx) hY hy hj hr
  obtain ⟨f_levels, f_length, f_fullMask, f_listSize, f_checkLength, f_checkMask, f_polynomial, f_freeMask, f_oneMask, f_freeCount, f_position, f_pathTotal, f_least, f_freeSlotCount, f_candTotal, a_soft, a_rankSlot, a_prefix, a_metric, a_freeSlots, a_alpha, a_blockOf, a_refs, a_freeBlocks, a_freeBlockCount, a_leftSum, a_candCost, a_candPrefix, a_candSlot, a_candOrder, a_uses⟩ := u
  obtain ⟨y_size, y_listSize, y_checkLen, y_poly, y_pos, y_count, y_dropped, y_kinds, y_soft, y_list, y_cand, y_candCost⟩ := v
  unfold wpX_certified
  dsimp only
  refine hb _ (fun r hr hP => ?_)
  rcases hr with hr | ⟨T, w, lst, j, hT, hx, hy, rfl, hj, hal⟩
  · refine br_f hr ?_
    unfold wpY_certified
    dsimp only
    exact hP _ (br_f hr ⟨rfl, I'⟩)
  · have hym' := fun P => hym P T w lst j hT hx hy hj
    obtain ⟨e1, e2, e3, sg, hC⟩ := hx
    obtain ⟨d1, d2, d3, hl⟩ := hy
    obtain ⟨s1, s2, s3, s4, s5⟩ := hC.1 j hj
    have he : y_dropped = f_least := d3.trans e3.symm
    refine br_t (nI_pos' (by omega)) ?_
    by_cases a1 : f_least < 0
    · refine br_t a1 ?_
      unfold wpY_certified
      dsimp only
      exact hP _ (br_t (nI_pos' (by omega)) (br_f (by rw [he]; exact Int32.not_le.mpr a1) ⟨rfl, I'⟩))
    · refine br_f a1 ⟨vp_in_nI (by omega) (by decide), ?_⟩
      rw [nI_clamp (show j < 2 ^ 31 by omega), s2, nI_clamp (show sg j < 2 ^ 31 by omega), s5]
      refine ⟨vp_in_nI s1 (by decide), ?_⟩
      have a1' : 0 ≤ y_dropped := by rw [he]; exact Int32.not_lt.mp a1
      by_cases a2 : f_least ≤ dc_M n so (w j) (2 ^ n)
      · refine br_t a2 ?_
        unfold wpY_certified
        dsimp only
        exact hP _ (br_t (nI_pos' (by omega)) (br_t a1' (hym' _ (br_t (by rw [he]; exact a2) ⟨rfl, I'⟩))))
      · refine br_f a2 ?_
        unfold wpY_certified
        dsimp only
        exact hP _ (br_t (nI_pos' (by omega)) (br_t a1' (hym' _ (br_f (by rw [he]; exact a2) ⟨rfl, I'⟩))))
theorem i_vc_margin {k : Nat} {u : SX} {v : SY} (I : i_Rel k u v) (hk : k + 3 ≤ 1540) : wpX_margin (fun r => wpY_margin (fun r' => r' = r ∧ i_Rel (k + 3) u v) v) u := by
  have I' : i_Rel (k + 3) u v := I
  obtain ⟨n, ls, C, g, A, fm, om, kd, so, hc, hX, hY, hor⟩ := I
  have hc' := hc
  obtain ⟨c1, c2, c3, c4, c5, c6, c7, c8, c9⟩ := hc
  have h8 := dc_two8 c2
  have hA8 : A ≤ 8 := by rw [c7]; exact Nat.le_trans (rk_le kd _) h8
  have hb := fun (pX : Int32 → Prop) => ch_both (pX := pX) (pY := fun _ => True) hc' hX hY hor (fun _ => True)
  have hym := fun (P : Int32 → Prop) T w lst j (hT : T ≤ ls) (hx : xz_ac n so (2 ^ n) T w lst u) (hy : yz_ac (2 ^ n) T w lst v) (hj : j < T) (hr : P (dc_M n so (w j) (2 ^ n))) => y_pathMetric (post := P) (j := j) hc' (Nat.le_refl _) hT (ac_w hx) hY hy hj hr
  have hxn := fun (P : Int32 → Prop) T w lst f0 (hT : T ≤ ls) (hf : f0 ≤ T) (hx : xz_ac n so (2 ^ n) T w lst u) => x_next (post := P) hc' hT hf hX hx
  have hyn := fun (P : Int32 → Prop) T w lst f0 (hT : T ≤ ls) (hf : f0 ≤ T) (hx : xz_ac n so (2 ^ n) T w lst u) (hy : yz_ac (2 ^ n) T w lst v) => y_from (post := P) hc' hT hf (ac_w hx) hY hy
  obtain ⟨f_levels, f_length, f_fullMask, f_listSize, f_checkLength, f_checkMask, f_polynomial, f_freeMask, f_oneMask, f_freeCount, f_position, f_pathTotal, f_least, f_freeSlotCount, f_candTotal, a_soft, a_rankSlot, a_prefix, a_metric, a_freeSlots, a_alpha, a_blockOf, a_refs, a_freeBlocks, a_freeBlockCount, a_leftSum, a_candCost, a_candPrefix, a_candSlot, a_candOrder, a_uses⟩ := u
  obtain ⟨y_size, y_listSize, y_checkLen, y_poly, y_pos, y_count, y_dropped, y_kinds, y_soft, y_list, y_cand, y_candCost⟩ := v
  unfold wpX_margin
  dsimp only
  refine hb _ (fun r hr hP => ?_)
  rcases hr with hr | ⟨T, w, lst, j, hT, hx, hy, rfl, hj, hal⟩
  · refine br_f hr ?_
    unfold wpY_margin
    dsimp only
    exact hP _ (br_f hr ⟨rfl, I'⟩)
  · have hym' := fun P j => hym P T w lst j hT hx hy
    refine br_t (nI_pos' (by omega)) ?_
    rw [nI_1]
    refine hxn _ T w lst (j + 1) hT hj hx (fun res hres => ?_)
    have hy1 : ∀ P : Int32 → Prop, P res → wpY_allowedFrom P (y_size, y_listSize, y_checkLen, y_poly, y_pos, y_count, y_dropped, y_kinds, y_soft, y_list, y_cand, y_candCost) (nI (j + 1)) := fun P hPr => hyn P T w lst (j + 1) hT hj hx hy (fun res' hres' => by rw [fa_u hres hres']; exact hPr)
    obtain ⟨e1, e2, e3, sg, hC⟩ := hx
    obtain ⟨d1, d2, d3, hl⟩ := hy
    obtain ⟨s1, s2, s3, s4, s5⟩ := hC.1 j hj
    rcases hres with ⟨a1, _⟩ | ⟨q, _, a2, a3, _, _⟩
    · subst a1
      refine br_f (by decide) ?_
      unfold wpY_margin
      dsimp only
      refine hP _ (br_t (nI_pos' (by omega)) ?_)
      rw [nI_1]
      exact hy1 _ (br_f (by decide) ⟨rfl, I'⟩)
    · subst a3
      obtain ⟨t1, t2, t3, t4, t5⟩ := hC.1 q a2
      refine br_t (nI_pos' (by omega)) ⟨vp_in_nI (by omega) (by decide), ?_⟩
      rw [nI_clamp (show q < 2 ^ 31 by omega), nI_clamp (show j < 2 ^ 31 by omega), s2, t2, nI_clamp (show sg j < 2 ^ 31 by omega), nI_clamp (show sg q < 2 ^ 31 by omega), s5, t5]
      refine ⟨vp_in_nI t1 (by decide), vp_in_nI (by omega) (by decide), vp_in_nI s1 (by decide), ?_⟩
      unfold wpY_margin
      dsimp only
      refine hP _ (br_t (nI_pos' (by omega)) ?_)
      rw [nI_1]
      exact hy1 _ (br_t (nI_pos' (by omega)) (hym' _ q a2 (hym' _ j hj ⟨rfl, I'⟩)))
end
section
/-! start, advance, decode -/
theorem y_start {post : Int32 → SY → Prop} {n ls C g : Nat} {kd : Nat → Nat} {so : Nat → Int32} {v : SY} (hn : n ≤ 3) (hC : C ≤ 3) (hk : ∀ i, i < 2 ^ n → kd i ≤ 2) (hS : yz_st n ls C g kd so v) (h0 : rk_n kd (2 ^ n) ≤ C → post (-100001) v) (h1 : C < rk_n kd (2 ^ n) → ∀ v', yz_st n ls C g kd so v' → yz_ac 0 1 (fun _ => 0) (-1) v' → post 0 v') : wpY_start post v := by
  have h8 := dc_two8 hn
  have hA8 : rk_n kd (2 ^ n) ≤ 8 := Nat.le_trans (rk_le kd _) h8
  obtain ⟨y_size, y_listSize, y_checkLen, y_poly, y_pos, y_count, y_dropped, y_kinds, y_soft, y_list, y_cand, y_candCost⟩ := v
  obtain ⟨z1, z2, z3, z4, z5, z6⟩ := hS
  unfold wpY_start
  dsimp only
  refine y_dataBits hn (fun i hi => ⟨hk i hi, z5 i hi⟩) z1 z3 ?_
  by_cases e : rk_n kd (2 ^ n) ≤ C
  · refine br_f (fun z => ?_) (h0 e)
    have := ia_le.mp z
    rw [pk_sub_toInt (by omega) (by omega), show (1 : Int32).toInt = 1 by decide] at this
    omega
  · refine br_t ?_ (nm_e (h1 (by omega) _ ⟨z1, z2, z3, z4, z5, z6⟩ ⟨rfl, rfl, rfl, fun r hr => ?_⟩))
    · rw [pk_sub (by omega)]
      exact nI_le (a := 1) (by omega) (by omega)
    · rw [show r = 0 by omega, pk_us]; rfl
theorem i_vc_start {k : Nat} {u : SX} {v : SY} (I : i_Rel k u v) (hk : k + 3 ≤ 1540) : wpX_start (fun r u' => wpY_start (fun r' v' => r' = r ∧ i_Rel (k + 3) u' v') v) u := by
  have I' : i_Rel (k + 3) u v := I
  obtain ⟨n, ls, C, g, A, fm, om, kd, so, hc, hX, hY, hor⟩ := I
  have hc' := hc
  obtain ⟨c1, c2, c3, c4, c5, c6, c7, c8, c9⟩ := hc
  have h8 := dc_two8 c2
  have hA8 : A ≤ 8 := by rw [c7]; exact Nat.le_trans (rk_le kd _) h8
  have hkd : ∀ i, i < 2 ^ n → kd i ≤ 2 := fun i hi => (c8.2.2 i hi).1
  refine x_start c2 c5 hA8 hX (fun hle => ?_) (fun hlt u' hS' hA' => ?_)
  · exact y_start c2 c5 hkd hY (fun _ => ⟨rfl, I'⟩) (fun z => by omega)
  · refine y_start c2 c5 hkd hY (fun z => by omega) (fun _ v' hS2 hA2 => ⟨rfl, n, ls, C, g, A, fm, om, kd, so, hc', hS', hS2, Or.inr ⟨0, 1, _, _, Nat.zero_le _, c3, hA', hA2⟩⟩)
theorem i_vc_advance {k : Nat} {u : SX} {v : SY} (I : i_Rel k u v) (hk : k + 3 ≤ 1540) : wpX_advance (fun r u' => wpY_advance (fun r' v' => r' = r ∧ i_Rel (k + 3) u' v') v) u := by
  have I' : i_Rel (k + 3) u v := I
  obtain ⟨n, ls, C, g, A, fm, om, kd, so, hc, hX, hY, hor⟩ := I
  have hc' := hc
  obtain ⟨c1, c2, c3, c4, c5, c6, c7, c8, c9⟩ := hc
  have h8 := dc_two8 c2
  have hA8 : A ≤ 8 := by rw [c7]; exact Nat.le_trans (rk_le kd _) h8
  rcases hor with ⟨hx, hy⟩ | ⟨m, T, w, lst, hm, hT, hx, hy⟩
  · obtain ⟨f_levels, f_length, f_fullMask, f_listSize, f_checkLength, f_checkMask, f_polynomial, f_freeMask, f_oneMask, f_freeCount, f_position, f_pathTotal, f_least, f_freeSlotCount, f_candTotal, a_soft, a_rankSlot, a_prefix, a_metric, a_freeSlots, a_alpha, a_blockOf, a_refs, a_freeBlocks, a_freeBlockCount, a_leftSum, a_candCost, a_candPrefix, a_candSlot, a_candOrder, a_uses⟩ := u
    obtain ⟨y_size, y_listSize, y_checkLen, y_poly, y_pos, y_count, y_dropped, y_kinds, y_soft, y_list, y_cand, y_candCost⟩ := v
    unfold wpX_advance
    dsimp only
    refine br_t (by rw [hx.1]; decide) ?_
    unfold wpY_advance
    dsimp only
    exact br_t (by rw [hy.1]; decide) ⟨rfl, I'⟩
  · by_cases e : m < 2 ^ n
    · refine x_follow hc' hT e hX hx (fun T1 w1 lst1 u' hT1 ha hS' hA' => ?_)
      exact y_follow hc' hT e (ac_w hx) hY hy ha (fun v' hS2 hA2 => ⟨rfl, n, ls, C, g, A, fm, om, kd, so, hc', hS', hS2, Or.inr ⟨m + 1, T1, w1, lst1, e, hT1, hA', hA2⟩⟩)
    · obtain ⟨f_levels, f_length, f_fullMask, f_listSize, f_checkLength, f_checkMask, f_polynomial, f_freeMask, f_oneMask, f_freeCount, f_position, f_pathTotal, f_least, f_freeSlotCount, f_candTotal, a_soft, a_rankSlot, a_prefix, a_metric, a_freeSlots, a_alpha, a_blockOf, a_refs, a_freeBlocks, a_freeBlockCount, a_leftSum, a_candCost, a_candPrefix, a_candSlot, a_candOrder, a_uses⟩ := u
      obtain ⟨y_size, y_listSize, y_checkLen, y_poly, y_pos, y_count, y_dropped, y_kinds, y_soft, y_list, y_cand, y_candCost⟩ := v
      obtain ⟨x1, x2, x3, x4, x5, x6, x7, x8, x9, x10, x11, x12⟩ := hX
      obtain ⟨z1, z2, z3, z4, z5, z6⟩ := hY
      obtain ⟨e1, e2, e3, sg, hC⟩ := hx
      obtain ⟨d1, d2, d3, hl⟩ := hy
      unfold wpX_advance
      dsimp only
      refine br_f (by rw [e1]; exact nI_pos (by omega)) (br_f (by rw [e1, x2]; exact nI_nlt (by omega) (by omega)) ?_)
      unfold wpY_advance
      dsimp only
      exact br_f (by rw [d1]; exact nI_pos (by omega)) (br_f (by rw [d1, z1]; exact nI_nlt (by omega) (by omega)) ⟨rfl, I'⟩)
/-- d steps on: the outcomes of a run of steps -/
def tr_n (n ls : Nat) (so : Nat → Int32) (kd : Nat → Nat) : Nat → Nat → Nat → (Nat → Nat) → Int32 → Nat → (Nat → Nat) → Int32 → Prop
  | 0, _, T, w, lst, T1, w1, lst1 => T = T1 ∧ w = w1 ∧ lst = lst1
  | d + 1, m, T, w, lst, T1, w1, lst1 => ∃ T2 w2 lst2, T2 ≤ ls ∧ (∀ r, r < T2 → w2 r < 2 ^ (m + 1)) ∧ ad_st n ls m so kd T w lst T2 w2 lst2 ∧ tr_n n ls so kd d (m + 1) T2 w2 lst2 T1 w1 lst1
theorem x_run {post : Int32 → SX → Prop} {n ls C g A fm om : Nat} {kd : Nat → Nat} {so : Nat → Int32} (hc : rl_c n ls C g A fm om kd so) : ∀ d m fuel T w lst (u : SX), m + d = 2 ^ n → d < fuel → T ≤ ls → xz_st n ls C g fm om A so u → xz_ac n so m T w lst u → (∀ T1 w1 lst1 u1, T1 ≤ ls → tr_n n ls so kd d m T w lst T1 w1 lst1 → xz_st n ls C g fm om A so u1 → xz_ac n so (2 ^ n) T1 w1 lst1 u1 → wpX_chosen (fun r => post r u1) u1) → (match u with | (f_levels, f_length, f_fullMask, f_listSize, f_checkLength, f_checkMask, f_polynomial, f_freeMask, f_oneMask, f_freeCount, f_position, f_pathTotal, f_least, f_freeSlotCount, f_candTotal, a_soft, a_rankSlot, a_prefix, a_metric, a_freeSlots, a_alpha, a_blockOf, a_refs, a_freeBlocks, a_freeBlockCount, a_leftSum, a_candCost, a_candPrefix, a_candSlot, a_candOrder, a_uses) => wX_decode_23 post fuel (nI m) f_levels f_length f_fullMask f_listSize f_checkLength f_checkMask f_polynomial f_freeMask f_oneMask f_freeCount f_position f_pathTotal f_least f_freeSlotCount f_candTotal a_soft a_rankSlot a_prefix a_metric a_freeSlots a_alpha a_blockOf a_refs a_freeBlocks a_freeBlockCount a_leftSum a_candCost a_candPrefix a_candSlot a_candOrder a_uses) := by
  have h8 := dc_two8 hc.2.1
  intro d
  induction d with
  | zero =>
    intro m fuel T w lst u hm hf hT hS hA h
    obtain ⟨fuel, rfl⟩ : ∃ n', fuel = n' + 1 := ⟨fuel - 1, by omega⟩
    have e : m = 2 ^ n := by omega
    subst e
    have := h T w lst u hT ⟨rfl, rfl, rfl⟩ hS hA
    obtain ⟨f_levels, f_length, f_fullMask, f_listSize, f_checkLength, f_checkMask, f_polynomial, f_freeMask, f_oneMask, f_freeCount, f_position, f_pathTotal, f_least, f_freeSlotCount, f_candTotal, a_soft, a_rankSlot, a_prefix, a_metric, a_freeSlots, a_alpha, a_blockOf, a_refs, a_freeBlocks, a_freeBlockCount, a_leftSum, a_candCost, a_candPrefix, a_candSlot, a_candOrder, a_uses⟩ := u
    obtain ⟨x1, x2, x3, x4, x5, x6, x7, x8, x9, x10, x11, x12⟩ := hS
    exact br_t (by rw [x2]; exact Int32.le_refl _) this
  | succ d ih =>
    intro m fuel T w lst u hm hf hT hS hA h
    obtain ⟨fuel, rfl⟩ : ∃ n', fuel = n' + 1 := ⟨fuel - 1, by omega⟩
    obtain ⟨f_levels, f_length, f_fullMask, f_listSize, f_checkLength, f_checkMask, f_polynomial, f_freeMask, f_oneMask, f_freeCount, f_position, f_pathTotal, f_least, f_freeSlotCount, f_candTotal, a_soft, a_rankSlot, a_prefix, a_metric, a_freeSlots, a_alpha, a_blockOf, a_refs, a_freeBlocks, a_freeBlockCount, a_leftSum, a_candCost, a_candPrefix, a_candSlot, a_candOrder, a_uses⟩ := u
    have hS0 := hS
    obtain ⟨x1, x2, x3, x4, x5, x6, x7, x8, x9, x10, x11, x12⟩ := hS
    show wX_decode_23 post (fuel + 1) (nI m) f_levels f_length f_fullMask f_listSize f_checkLength f_checkMask f_polynomial f_freeMask f_oneMask f_freeCount f_position f_pathTotal f_least f_freeSlotCount f_candTotal a_soft a_rankSlot a_prefix a_metric a_freeSlots a_alpha a_blockOf a_refs a_freeBlocks a_freeBlockCount a_leftSum a_candCost a_candPrefix a_candSlot a_candOrder a_uses
    unfold wX_decode_23
    refine br_f (by rw [x2]; exact nI_ge (by omega) (by omega)) ?_
    refine x_follow hc hT (by omega) hS0 hA (fun T2 w2 lst2 u2 hT2 ha hS2 hA2 => ?_)
    have hi := ih (m + 1) fuel T2 w2 lst2 u2 (by omega) (by omega) hT2 hS2 hA2 (fun T1 w1 lst1 u1 hT1 htr hS1 hA1 => h T1 w1 lst1 u1 hT1 ⟨T2, w2, lst2, hT2, ac_w hA2, ha, htr⟩ hS1 hA1)
    obtain ⟨f1, f2, f3, f4, f5, f6, f7, f8, f9, f10, f11, f12, f13, f14, f15, a1, a2, a3, a4, a5, a6, a7, a8, a9, a10, a11, a12, a13, a14, a15, a16⟩ := u2
    exact nm_r (nI_1 m) hi
theorem y_run {post : Int32 → SY → Prop} {n ls C g A fm om T1 : Nat} {kd : Nat → Nat} {so : Nat → Int32} {w1 : Nat → Nat} {lst1 : Int32} (hc : rl_c n ls C g A fm om kd so) (h : ∀ v1, yz_st n ls C g kd so v1 → yz_ac (2 ^ n) T1 w1 lst1 v1 → wpY_chosen (fun r => post r v1) v1) : ∀ e i d m fuel T w lst (v : SY), i + e = 2 ^ n → m + d = 2 ^ n → i ≤ m → e < fuel → T ≤ ls → (∀ r, r < T → w r < 2 ^ m) → yz_st n ls C g kd so v → yz_ac m T w lst v → tr_n n ls so kd d m T w lst T1 w1 lst1 → (match v with | (y_size, y_listSize, y_checkLen, y_poly, y_pos, y_count, y_dropped, y_kinds, y_soft, y_list, y_cand, y_candCost) => wY_decode_23 post fuel (nI i) y_size y_listSize y_checkLen y_poly y_pos y_count y_dropped y_kinds y_soft y_list y_cand y_candCost) := by
  have h8 := dc_two8 hc.2.1
  intro e
  induction e with
  | zero =>
    intro i d m fuel T w lst v hi hm him hf hT hw hS hA htr
    obtain ⟨fuel, rfl⟩ : ∃ n', fuel = n' + 1 := ⟨fuel - 1, by omega⟩
    have e1 : m = 2 ^ n := by omega
    have e2 : d = 0 := by omega
    subst e1 e2
    obtain ⟨rfl, rfl, rfl⟩ := htr
    have := h v hS hA
    obtain ⟨y_size, y_listSize, y_checkLen, y_poly, y_pos, y_count, y_dropped, y_kinds, y_soft, y_list, y_cand, y_candCost⟩ := v
    obtain ⟨z1, z2, z3, z4, z5, z6⟩ := hS
    exact br_t (by rw [z1]; exact nI_le (by omega) (by omega)) this
  | succ e ih =>
    intro i d m fuel T w lst v hi hm him hf hT hw hS hA htr
    obtain ⟨fuel, rfl⟩ : ∃ n', fuel = n' + 1 := ⟨fuel - 1, by omega⟩
    cases d with
    | zero =>
      have hi2 := ih (i + 1) 0 m fuel T w lst v (by omega) hm (by omega) (by omega) hT hw hS hA htr
      obtain ⟨y_size, y_listSize, y_checkLen, y_poly, y_pos, y_count, y_dropped, y_kinds, y_soft, y_list, y_cand, y_candCost⟩ := v
      obtain ⟨z1, z2, z3, z4, z5, z6⟩ := hS
      obtain ⟨d1, d2, d3, hl⟩ := hA
      show wY_decode_23 post (fuel + 1) (nI i) y_size y_listSize y_checkLen y_poly y_pos y_count y_dropped y_kinds y_soft y_list y_cand y_candCost
      unfold wY_decode_23
      exact br_f (by rw [z1]; exact nI_ge (by omega) (by omega)) (br_t (by rw [z1, d1]; exact nI_le (by omega) (by omega)) (nm_r (nI_1 i) hi2))
    | succ d =>
      obtain ⟨T2, w2, lst2, hT2, hw2, ha, htr2⟩ := htr
      obtain ⟨y_size, y_listSize, y_checkLen, y_poly, y_pos, y_count, y_dropped, y_kinds, y_soft, y_list, y_cand, y_candCost⟩ := v
      have hS0 := hS
      have hA0 := hA
      obtain ⟨z1, z2, z3, z4, z5, z6⟩ := hS
      obtain ⟨d1, d2, d3, hl⟩ := hA
      show wY_decode_23 post (fuel + 1) (nI i) y_size y_listSize y_checkLen y_poly y_pos y_count y_dropped y_kinds y_soft y_list y_cand y_candCost
      unfold wY_decode_23
      refine br_f (by rw [z1]; exact nI_ge (by omega) (by omega)) (br_f (by rw [z1, d1]; exact nI_ge (by omega) (by omega)) ?_)
      refine y_follow hc hT (by omega) hw hS0 hA0 ha (fun v2 hS2 hA2 => ?_)
      have hi2 := ih (i + 1) d (m + 1) fuel T2 w2 lst2 v2 (by omega) (by omega) (by omega) (by omega) hT2 hw2 hS2 hA2 htr2
      obtain ⟨f1, f2, f3, f4, f5, f6, f7, a1, a2, a3, a4, a5⟩ := v2
      exact nm_r (nI_1 i) hi2
/-- both runs from one point to the end, and the choice there -/
theorem run_both {k n ls C g A fm om m T : Nat} {kd : Nat → Nat} {so : Nat → Int32} {w : Nat → Nat} {lst : Int32} {u : SX} {Q : (Int32 → SY → Prop) → Prop} (hc : rl_c n ls C g A fm om kd so) (hm : m ≤ 2 ^ n) (hT : T ≤ ls) (hX : xz_st n ls C g fm om A so u) (hx : xz_ac n so m T w lst u) (hQ : ∀ post : Int32 → SY → Prop, (∀ v, yz_st n ls C g kd so v → yz_ac m T w lst v → (match v with | (y_size, y_listSize, y_checkLen, y_poly, y_pos, y_count, y_dropped, y_kinds, y_soft, y_list, y_cand, y_candCost) => wY_decode_23 post (2 ^ n + 1) 0 y_size y_listSize y_checkLen y_poly y_pos y_count y_dropped y_kinds y_soft y_list y_cand y_candCost)) → Q post) : (match u with | (f_levels, f_length, f_fullMask, f_listSize, f_checkLength, f_checkMask, f_polynomial, f_freeMask, f_oneMask, f_freeCount, f_position, f_pathTotal, f_least, f_freeSlotCount, f_candTotal, a_soft, a_rankSlot, a_prefix, a_metric, a_freeSlots, a_alpha, a_blockOf, a_refs, a_freeBlocks, a_freeBlockCount, a_leftSum, a_candCost, a_candPrefix, a_candSlot, a_candOrder, a_uses) => wX_decode_23 (fun r u' => Q (fun r' v' => r' = r ∧ i_Rel (k + 3) u' v')) (2 ^ n + 1) (nI m) f_levels f_length f_fullMask f_listSize f_checkLength f_checkMask f_polynomial f_freeMask f_oneMask f_freeCount f_position f_pathTotal f_least f_freeSlotCount f_candTotal a_soft a_rankSlot a_prefix a_metric a_freeSlots a_alpha a_blockOf a_refs a_freeBlocks a_freeBlockCount a_leftSum a_candCost a_candPrefix a_candSlot a_candOrder a_uses) := by
  refine x_run hc (2 ^ n - m) m (2 ^ n + 1) T w lst u (by omega) (by omega) hT hX hx ?_
  intro T1 w1 lst1 u1 hT1 htr hS1 hA1
  refine x_chosen hc (Nat.le_refl _) hT1 hS1 hA1 (fun z => absurd rfl z) (fun _ res hres => ?_)
  refine hQ _ (fun v hY hy => ?_)
  refine y_run (T1 := T1) (w1 := w1) (lst1 := lst1) hc ?_ (2 ^ n) 0 (2 ^ n - m) m (2 ^ n + 1) T w lst v (by omega) (by omega) (by omega) (by omega) hT (ac_w hx) hY hy htr
  intro v1 hS2 hA2
  refine y_chosen hc (Nat.le_refl _) hT1 (ac_w hA1) hS2 hA2 (fun z => absurd rfl z) (fun _ res' hres' => ?_)
  exact ⟨fa_u hres hres', n, ls, C, g, A, fm, om, kd, so, hc, hS1, hS2, Or.inr ⟨2 ^ n, T1, w1, lst1, Nat.le_refl _, hT1, hA1, hA2⟩⟩
theorem y_dec_id {post : Int32 → SY → Prop} {n ls C g : Nat} {kd : Nat → Nat} {so : Nat → Int32} {v : SY} (hn : n ≤ 3) (hC : C ≤ 3) (hk : ∀ i, i < 2 ^ n → kd i ≤ 2) (hS : yz_st n ls C g kd so v) (hy : yz_id v) (h0 : rk_n kd (2 ^ n) ≤ C → post (-100001) v) (h1 : C < rk_n kd (2 ^ n) → ∀ v', yz_st n ls C g kd so v' → yz_ac 0 1 (fun _ => 0) (-1) v' → (match v' with | (y_size, y_listSize, y_checkLen, y_poly, y_pos, y_count, y_dropped, y_kinds, y_soft, y_list, y_cand, y_candCost) => wY_decode_23 post (2 ^ n + 1) 0 y_size y_listSize y_checkLen y_poly y_pos y_count y_dropped y_kinds y_soft y_list y_cand y_candCost)) : wpY_decode post v := by
  obtain ⟨y_size, y_listSize, y_checkLen, y_poly, y_pos, y_count, y_dropped, y_kinds, y_soft, y_list, y_cand, y_candCost⟩ := v
  unfold wpY_decode
  dsimp only
  refine br_f (by rw [hy.1]; decide) (y_start hn hC hk hS (fun z => br_t rfl (h0 z)) (fun z v' hS' hA' => ?_))
  have h2 := h1 z v' hS' hA'
  obtain ⟨y_size, y_listSize, y_checkLen, y_poly, y_pos, y_count, y_dropped, y_kinds, y_soft, y_list, y_cand, y_candCost⟩ := v'
  exact br_f (by decide) ⟨_, h2⟩
theorem x_dec_id {post : Int32 → SX → Prop} {n ls C g fm om A : Nat} {so : Nat → Int32} {u : SX} (hn : n ≤ 3) (hC : C ≤ 3) (hA : A ≤ 8) (hS : xz_st n ls C g fm om A so u) (hx : xz_id u) (h0 : A ≤ C → post (-100001) u) (h1 : C < A → ∀ u', xz_st n ls C g fm om A so u' → xz_ac n so 0 1 (fun _ => 0) (-1) u' → (match u' with | (f_levels, f_length, f_fullMask, f_listSize, f_checkLength, f_checkMask, f_polynomial, f_freeMask, f_oneMask, f_freeCount, f_position, f_pathTotal, f_least, f_freeSlotCount, f_candTotal, a_soft, a_rankSlot, a_prefix, a_metric, a_freeSlots, a_alpha, a_blockOf, a_refs, a_freeBlocks, a_freeBlockCount, a_leftSum, a_candCost, a_candPrefix, a_candSlot, a_candOrder, a_uses) => wX_decode_23 post (2 ^ n + 1) (nI 0) f_levels f_length f_fullMask f_listSize f_checkLength f_checkMask f_polynomial f_freeMask f_oneMask f_freeCount f_position f_pathTotal f_least f_freeSlotCount f_candTotal a_soft a_rankSlot a_prefix a_metric a_freeSlots a_alpha a_blockOf a_refs a_freeBlocks a_freeBlockCount a_leftSum a_candCost a_candPrefix a_candSlot a_candOrder a_uses)) : wpX_decode post u := by
  obtain ⟨f_levels, f_length, f_fullMask, f_listSize, f_checkLength, f_checkMask, f_polynomial, f_freeMask, f_oneMask, f_freeCount, f_position, f_pathTotal, f_least, f_freeSlotCount, f_candTotal, a_soft, a_rankSlot, a_prefix, a_metric, a_freeSlots, a_alpha, a_blockOf, a_refs, a_freeBlocks, a_freeBlockCount, a_leftSum, a_candCost, a_candPrefix, a_candSlot, a_candOrder, a_uses⟩ := u
  unfold wpX_decode
  dsimp only
  refine br_f (by rw [hx.1]; decide) (x_start hn hC hA hS (fun z => br_f (by decide) (h0 z)) (fun z u' hS' hA' => ?_))
  have h2 := h1 z u' hS' hA'
  obtain ⟨f_levels, f_length, f_fullMask, f_listSize, f_checkLength, f_checkMask, f_polynomial, f_freeMask, f_oneMask, f_freeCount, f_position, f_pathTotal, f_least, f_freeSlotCount, f_candTotal, a_soft, a_rankSlot, a_prefix, a_metric, a_freeSlots, a_alpha, a_blockOf, a_refs, a_freeBlocks, a_freeBlockCount, a_leftSum, a_candCost, a_candPrefix, a_candSlot, a_candOrder, a_uses⟩ := u'
  obtain ⟨e1, _⟩ := hA'
  subst e1
  exact br_t rfl ⟨_, h2⟩
theorem i_vc_decode {k : Nat} {u : SX} {v : SY} (I : i_Rel k u v) (hk : k + 3 ≤ 1540) : wpX_decode (fun r u' => wpY_decode (fun r' v' => r' = r ∧ i_Rel (k + 3) u' v') v) u := by
  have I' : i_Rel (k + 3) u v := I
  obtain ⟨n, ls, C, g, A, fm, om, kd, so, hc, hX, hY, hor⟩ := I
  have hc' := hc
  obtain ⟨c1, c2, c3, c4, c5, c6, c7, c8, c9⟩ := hc
  have h8 := dc_two8 c2
  have hA8 : A ≤ 8 := by rw [c7]; exact Nat.le_trans (rk_le kd _) h8
  have hkd : ∀ i, i < 2 ^ n → kd i ≤ 2 := fun i hi => (c8.2.2 i hi).1
  rcases hor with ⟨hx, hy⟩ | ⟨m, T, w, lst, hm, hT, hx, hy⟩
  · refine x_dec_id c2 c5 hA8 hX hx (fun hle => ?_) (fun hlt u' hS' hA' => ?_)
    · exact y_dec_id c2 c5 hkd hY hy (fun _ => ⟨rfl, I'⟩) (fun z => absurd z (by omega))
    · exact run_both (k := k) (Q := fun post => wpY_decode post v) hc' (Nat.zero_le _) c3 hS' hA' (fun post hp => y_dec_id c2 c5 hkd hY hy (fun z => absurd z (by omega)) (fun _ v' hS2 hA2 => hp v' hS2 hA2))
  · have hr := run_both (k := k) (Q := fun post => wpY_decode post v) hc' hm hT hX hx (fun post hp => by
      have hp' := hp v hY hy
      obtain ⟨y_size, y_listSize, y_checkLen, y_poly, y_pos, y_count, y_dropped, y_kinds, y_soft, y_list, y_cand, y_candCost⟩ := v
      exact br_t (by rw [hy.1]; exact nI_pos' (by omega)) ⟨2 ^ n + 1, hp'⟩)
    obtain ⟨f_levels, f_length, f_fullMask, f_listSize, f_checkLength, f_checkMask, f_polynomial, f_freeMask, f_oneMask, f_freeCount, f_position, f_pathTotal, f_least, f_freeSlotCount, f_candTotal, a_soft, a_rankSlot, a_prefix, a_metric, a_freeSlots, a_alpha, a_blockOf, a_refs, a_freeBlocks, a_freeBlockCount, a_leftSum, a_candCost, a_candPrefix, a_candSlot, a_candOrder, a_uses⟩ := u
    obtain ⟨e1, _⟩ := hx
    subst e1
    exact br_t (nI_pos' (by omega)) ⟨2 ^ n + 1, hr⟩
end
