section
theorem pk_us {f : Nat → Int32} {k : Nat} {x : Int32} : upd f k x k = x := if_pos rfl
theorem pk_un {f : Nat → Int32} {k j : Nat} {x : Int32} (h : j ≠ k) : upd f k x j = f j := if_neg h
theorem pk_uLs {f : Nat → Int64} {k : Nat} {x : Int64} : vp_updL f k x k = x := if_pos rfl
theorem pk_uLn {f : Nat → Int64} {k j : Nat} {x : Int64} (h : j ≠ k) : vp_updL f k x j = f j := if_neg h
theorem pk_sub {a b : Nat} (h : b ≤ a) : nI a - nI b = nI (a - b) := by
  obtain ⟨c, rfl⟩ : ∃ c, a = c + b := ⟨a - b, by omega⟩
  rw [← nI_add, Int32.add_sub_cancel, Nat.add_sub_cancel]
theorem pk_m1 (n : Nat) : nI (n + 1) + (-1) = nI n := by
  rw [← nI_1, Int32.add_assoc, show (1 : Int32) + (-1) = 0 from rfl, Int32.add_zero]
theorem pk_mul (a b : Nat) : nI a * nI b = nI (a * b) := (Int32.ofNat_mul a b).symm
theorem pk_div {a d : Nat} (ha : a < 2 ^ 31) (h0 : 0 < d) (hd : d < 2 ^ 31) : nI a / nI d = nI (a / d) := by
  apply Int32.toInt_inj.mp
  rw [lg_idiv_nonneg (by rw [nI_toInt ha]; omega) (by rw [nI_toInt hd]; omega), nI_toInt ha, nI_toInt hd, nI_toInt (Nat.lt_of_le_of_lt (Nat.div_le_self a d) ha)]
  first | rfl | exact (Int.natCast_ediv _ _).symm
theorem pk_rem {a d : Nat} (ha : a < 2 ^ 31) (h0 : 0 < d) (hd : d < 2 ^ 31) : nI a - nI a / nI d * nI d = nI (a % d) := by
  rw [pk_div ha h0 hd, pk_mul, pk_sub (Nat.div_mul_le_self a d)]
  exact congrArg nI (by have := Nat.div_add_mod' a d; omega)
theorem pk_sub_toInt {a b : Nat} (ha : a < 2 ^ 30) (hb : b < 2 ^ 30) : (nI a - nI b).toInt = (a : Int) - b := by
  rw [Int32.toInt_sub, nI_toInt (by omega), nI_toInt (by omega)]
  exact Int.bmod_eq_of_le (by omega) (by omega)
theorem pk_sneg {a b : Nat} (hb : b < 2 ^ 30) (h : a < b) : nI a - nI b < 0 := by
  rw [Int32.lt_iff_toInt_lt, pk_sub_toInt (by omega) hb, show (0 : Int32).toInt = 0 from by decide]
  omega
theorem pk_ix (x : Int32) {n : Nat} (hn : n < 2 ^ 31) : x < 0 ∨ nI n ≤ x ∨ ∃ j : Nat, j < n ∧ x = nI j := by
  by_cases h : x < 0
  · exact Or.inl h
  · obtain ⟨j, hj, rfl⟩ := nI_of h
    by_cases h2 : j < n
    · exact Or.inr (Or.inr ⟨j, h2, rfl⟩)
    · exact Or.inr (Or.inl (nI_le (by omega) hj))
theorem pk_le {x y : Int32} {A B : Prop} (a b : Nat) (f : a ≤ b → A) (g : b < a → B) (hx : x = nI a := by rfl) (hy : y = nI b := by rfl) (ha : a < 2 ^ 31 := by omega) (hb : b < 2 ^ 31 := by omega) : (x ≤ y → A) ∧ (¬ x ≤ y → B) := by
  subst hx hy
  rw [nI_leI ha hb]
  exact ⟨f, fun z => g (by omega)⟩
theorem pk_lt {x y : Int32} {A B : Prop} (a b : Nat) (f : a < b → A) (g : b ≤ a → B) (hx : x = nI a := by rfl) (hy : y = nI b := by rfl) (ha : a < 2 ^ 31 := by omega) (hb : b < 2 ^ 31 := by omega) : (x < y → A) ∧ (¬ x < y → B) := by
  subst hx hy
  rw [nI_ltI ha hb]
  exact ⟨f, fun z => g (by omega)⟩
theorem pk_eq {x y : Int32} {A B : Prop} (a b : Nat) (f : a = b → A) (g : a ≠ b → B) (hx : x = nI a := by rfl) (hy : y = nI b := by rfl) (ha : a < 2 ^ 31 := by omega) (hb : b < 2 ^ 31 := by omega) : (x = y → A) ∧ (¬ x = y → B) := by
  subst hx hy
  rw [nI_eq ha hb]
  exact ⟨f, g⟩
theorem pk_in {x : Int32} (n N : Nat) (h : n < N) (hx : x = nI n := by rfl) (hN : N < 2 ^ 31 := by omega) : vp_in x N := by
  subst hx
  exact vp_in_nI h hN
theorem pk_cl {x : Int32} (n : Nat) (hx : x = nI n := by rfl) (h : n < 2 ^ 31 := by omega) : x.toNatClampNeg = n := by
  subst hx
  exact nI_clamp h
theorem pk_tn {n : Nat} (h : n < 2 ^ 32) : (nI n).toBitVec.toNat = n := Nat.mod_eq_of_lt h
theorem pk_and (x : Int32) {m : Int32} (k : Nat) (hm : m.toBitVec.toNat = 2 ^ k - 1) : x &&& m = nI (x.toBitVec.toNat % 2 ^ k) := by
  apply Int32.toBitVec_inj.mp
  apply BitVec.eq_of_toNat_eq
  rw [Int32.toBitVec_and, BitVec.toNat_and, hm, Nat.and_two_pow_sub_one_eq_mod]
  show _ = (BitVec.ofNat 32 _).toNat
  rw [BitVec.toNat_ofNat]
  exact (Nat.mod_eq_of_lt (Nat.lt_of_le_of_lt (Nat.mod_le _ _) x.toBitVec.isLt)).symm
theorem pk_andN {n : Nat} (h : n < 2 ^ 32) {m : Int32} (k : Nat) (hm : m.toBitVec.toNat = 2 ^ k - 1) : nI n &&& m = nI (n % 2 ^ k) := by
  rw [pk_and _ k hm, pk_tn h]
theorem pk_andE (x : Int32) {m : Int32} (k : Nat) (hm : m.toBitVec.toNat = 2 ^ k - 1) : ∃ j : Nat, j < 2 ^ k ∧ x &&& m = nI j := ⟨_, Nat.mod_lt _ (Nat.two_pow_pos k), pk_and x k hm⟩
theorem pk_andIn (x : Int32) {m : Int32} (k : Nat) (hm : m.toBitVec.toNat = 2 ^ k - 1) (hk : k ≤ 30) : vp_in (x &&& m) (2 ^ k) := by
  obtain ⟨j, hj, e⟩ := pk_andE x k hm
  rw [e]
  exact vp_in_nI hj (Nat.lt_of_le_of_lt (Nat.pow_le_pow_right (by decide) hk) (by decide))
theorem pk_shl (a s : Int32) (k : Nat) (hs : (s.toBitVec.smod 32).toNat = k) : (a <<< s).toBitVec.toNat = a.toBitVec.toNat * 2 ^ k % 2 ^ 32 := by
  show (a.toBitVec <<< (s.toBitVec.smod 32).toNat).toNat = _
  rw [hs, BitVec.toNat_shiftLeft, Nat.shiftLeft_eq]
theorem pk_shlN {n : Nat} (s : Int32) (k : Nat) (hs : (s.toBitVec.smod 32).toNat = k) (h : n * 2 ^ k < 2 ^ 32) : nI n <<< s = nI (n * 2 ^ k) := by
  apply Int32.toBitVec_inj.mp
  apply BitVec.eq_of_toNat_eq
  have hn : n < 2 ^ 32 := Nat.lt_of_le_of_lt (Nat.le_mul_of_pos_right n (Nat.two_pow_pos k)) h
  rw [pk_shl _ _ k hs, pk_tn hn, pk_tn h, Nat.mod_eq_of_lt h]
theorem pk_shr (a s : Int32) (k : Nat) (hs : (s.toBitVec.smod 32).toNat = k) : (a >>> s).toInt = a.toInt >>> k := by
  show (a.toBitVec.sshiftRight (s.toBitVec.smod 32).toNat).toInt = _
  rw [hs, BitVec.toInt_sshiftRight]
  rfl
theorem pk_shrN {n : Nat} (h : n < 2 ^ 31) (s : Int32) (k : Nat) (hs : (s.toBitVec.smod 32).toNat = k) : nI n >>> s = nI (n / 2 ^ k) := by
  apply Int32.toInt_inj.mp
  have h2 : n / 2 ^ k ≤ n := Nat.div_le_self _ _
  rw [pk_shr _ _ k hs, nI_toInt h, nI_toInt (by omega), Int.shiftRight_eq_div_pow]
  rfl
theorem pk_vb (z : Int32) : vp_nar .byte z.toInt8.toInt32 = z.toInt8.toInt32 := by rw [vp_nar_byte]; simp
end
section
/-- the number of cells ahead of c that aren't 0 -/
def sk_ct (M : Nat → Int32) : Nat → Nat
  | 0 => 0
  | c + 1 => if M c = 0 then sk_ct M c else sk_ct M c + 1
theorem sk_ct0 (M : Nat → Int32) : sk_ct M 0 = 0 := rfl
theorem sk_ctz {M : Nat → Int32} {c : Nat} (h : M c = 0) : sk_ct M (c + 1) = sk_ct M c := if_pos h
theorem sk_ctn {M : Nat → Int32} {c : Nat} (h : ¬ M c = 0) : sk_ct M (c + 1) = sk_ct M c + 1 := if_neg h
theorem sk_step (M : Nat → Int32) (c : Nat) : sk_ct M c ≤ sk_ct M (c + 1) ∧ sk_ct M (c + 1) ≤ sk_ct M c + 1 := by
  by_cases h : M c = 0
  · rw [sk_ctz h]; omega
  · rw [sk_ctn h]; omega
theorem sk_span (M : Nat → Int32) (a : Nat) : ∀ d, sk_ct M a ≤ sk_ct M (a + d) ∧ sk_ct M (a + d) ≤ sk_ct M a + d := by
  intro d
  induction d with
  | zero => exact ⟨Nat.le_refl _, Nat.le_refl _⟩
  | succ d ih =>
    have h := sk_step M (a + d)
    have e : sk_ct M (a + (d + 1)) = sk_ct M (a + d + 1) := rfl
    omega
theorem sk_mono {M : Nat → Int32} {a b : Nat} (h : a ≤ b) : sk_ct M a ≤ sk_ct M b := by
  obtain ⟨d, rfl⟩ : ∃ d, b = a + d := ⟨b - a, by omega⟩
  exact (sk_span M a d).1
theorem sk_ctle (M : Nat → Int32) (c : Nat) : sk_ct M c ≤ c := by
  have h := (sk_span M 0 c).2
  rw [sk_ct0, Nat.zero_add] at h
  exact h
theorem sk_lt {M : Nat → Int32} {c e : Nat} (h : c < e) (hn : ¬ M c = 0) : sk_ct M c < sk_ct M e := by
  have h1 := sk_ctn hn
  have h2 := sk_mono (M := M) (show c + 1 ≤ e from h)
  omega
theorem sk_inv {M : Nat → Int32} : ∀ e k, k < sk_ct M e → ∃ c, c < e ∧ ¬ M c = 0 ∧ sk_ct M c = k := by
  intro e
  induction e with
  | zero => intro k h; rw [sk_ct0] at h; omega
  | succ e ih =>
    intro k h
    by_cases z : M e = 0
    · rw [sk_ctz z] at h
      obtain ⟨c, h1, h2, h3⟩ := ih k h
      exact ⟨c, by omega, h2, h3⟩
    · rw [sk_ctn z] at h
      by_cases hk : k = sk_ct M e
      · exact ⟨e, by omega, z, hk.symm⟩
      · obtain ⟨c, h1, h2, h3⟩ := ih k (by omega)
        exact ⟨c, by omega, h2, h3⟩
theorem sk_congr {M N : Nat → Int32} : ∀ e, (∀ c, c < e → M c = N c) → sk_ct M e = sk_ct N e := by
  intro e
  induction e with
  | zero => intro _; rfl
  | succ e ih =>
    intro h
    have i1 := ih (fun c hc => h c (by omega))
    have i2 := h e (by omega)
    by_cases z : M e = 0
    · rw [sk_ctz z, sk_ctz (i2 ▸ z), i1]
    · rw [sk_ctn z, sk_ctn (i2 ▸ z), i1]
/-- the entry at place k of row i -/
theorem sk_rinv {M : Nat → Int32} {i k : Nat} (h1 : sk_ct M (6 * i) ≤ k) (h2 : k < sk_ct M (6 * i + 6)) : ∃ d, d < 6 ∧ ¬ M (6 * i + d) = 0 ∧ sk_ct M (6 * i + d) = k := by
  obtain ⟨c, hc, hn, he⟩ := sk_inv _ k h2
  by_cases hl : c < 6 * i
  · have := sk_lt hl hn; omega
  · have e : 6 * i + (c - 6 * i) = c := by omega
    refine ⟨c - 6 * i, by omega, ?_, ?_⟩
    · rw [e]; exact hn
    · rw [e]; exact he
/-- the next entry behind a zero cell -/
theorem sk_next {M : Nat → Int32} {i d : Nat} (hd : d < 6) (z : M (6 * i + d) = 0) (h2 : sk_ct M (6 * i + d) < sk_ct M (6 * i + 6)) : ∃ q, d < q ∧ q < 6 ∧ ¬ M (6 * i + q) = 0 ∧ sk_ct M (6 * i + q) = sk_ct M (6 * i + d) := by
  obtain ⟨q, hq, hn, he⟩ := sk_rinv (sk_span M (6 * i) d).1 h2
  have h3 : q ≠ d := fun e => hn (e ▸ z)
  have h4 : ¬ q < d := fun hl => by
    have := sk_lt (M := M) (show 6 * i + q < 6 * i + d by omega) hn
    omega
  exact ⟨q, by omega, hq, hn, he⟩
/-- a loop over the entries of a stretch, walked by cells -/
theorem sk_loop {σ : Type} (M : Nat → Int32) (b e : Nat) (W : Nat → Nat → σ → Prop) (I : Nat → σ → Prop)
    (hx : ∀ n s, I e s → W (n + 1) (sk_ct M (b + e)) s)
    (hz : ∀ d s, d < e → M (b + d) = 0 → I d s → I (d + 1) s)
    (hs : ∀ n d s, d < e → ¬ M (b + d) = 0 → I d s → (∀ s', I (d + 1) s' → W n (sk_ct M (b + d) + 1) s') → W (n + 1) (sk_ct M (b + d)) s) :
    ∀ m d n s, d + m = e → m < n → I d s → W n (sk_ct M (b + d)) s := by
  intro m
  induction m with
  | zero =>
    intro d n s h1 h2 h3
    obtain ⟨n, rfl⟩ : ∃ k, n = k + 1 := ⟨n - 1, by omega⟩
    obtain rfl : d = e := by omega
    exact hx n s h3
  | succ m ih =>
    intro d n s h1 h2 h3
    obtain ⟨n, rfl⟩ : ∃ k, n = k + 1 := ⟨n - 1, by omega⟩
    by_cases z : M (b + d) = 0
    · have e1 : sk_ct M (b + (d + 1)) = sk_ct M (b + d) := sk_ctz z
      have h4 := ih (d + 1) (n + 1) s (by omega) (by omega) (hz d s (by omega) z h3)
      rw [e1] at h4
      exact h4
    · have e1 : sk_ct M (b + (d + 1)) = sk_ct M (b + d) + 1 := sk_ctn z
      refine hs n d s (by omega) z h3 (fun s' h' => ?_)
      have h4 := ih (d + 1) n s' (by omega) (by omega) h'
      rw [e1] at h4
      exact h4
theorem sk_loopE {σ : Type} (M : Nat → Int32) (b e : Nat) (W : Nat → Nat → σ → Prop) (I : Nat → σ → Prop) (s : σ) (h0 : I 0 s)
    (hx : ∀ n s, I e s → W (n + 1) (sk_ct M (b + e)) s)
    (hz : ∀ d s, d < e → M (b + d) = 0 → I d s → I (d + 1) s)
    (hs : ∀ n d s, d < e → ¬ M (b + d) = 0 → I d s → (∀ s', I (d + 1) s' → W n (sk_ct M (b + d) + 1) s') → W (n + 1) (sk_ct M (b + d)) s) :
    ∃ n, W n (sk_ct M b) s := ⟨e + 1, sk_loop M b e W I hx hz hs e 0 (e + 1) s (Nat.zero_add e) (Nat.lt_succ_self e) h0⟩
/-! numbers -/
theorem sk_i7 (s i : Nat) : nI s * 7 + nI i = nI (s * 7 + i) := by rw [show (7 : Int32) = nI 7 from rfl, pk_mul, nI_add]
theorem sk_i36 (s : Nat) : nI s * 36 = nI (s * 36) := by rw [show (36 : Int32) = nI 36 from rfl, pk_mul]
theorem sk_j36 (s : Nat) : 36 * nI s = nI (36 * s) := by rw [show (36 : Int32) = nI 36 from rfl, pk_mul]
theorem sk_j6 (s : Nat) : 6 * nI s = nI (6 * s) := by rw [show (6 : Int32) = nI 6 from rfl, pk_mul]
theorem sk_b8 : ∀ q, q < 64 → (nI q).toInt8.toInt32 = nI q := by decide +kernel
theorem sk_nar {q : Nat} (h : q < 64) : vp_nar .byte (nI q) = nI q := by rw [vp_nar_byte]; exact sk_b8 q h
theorem sk_nar2 {q : Nat} (h : q < 64) : vp_nar .byte (nI q).toInt8.toInt32 = nI q := by rw [sk_b8 q h]; exact sk_nar h
theorem sk_c5 (p : Int32) : (p < 0 ∨ 5 ≤ p) ∨ ∃ s : Nat, s < 5 ∧ p = nI s := by
  rcases pk_ix p (n := 5) (by decide) with h | h | h
  · exact Or.inl (Or.inl h)
  · exact Or.inl (Or.inr h)
  · exact Or.inr h
theorem sk_c6 (p : Int32) : (p < 0 ∨ 6 ≤ p) ∨ ∃ s : Nat, s < 6 ∧ p = nI s := by
  rcases pk_ix p (n := 6) (by decide) with h | h | h
  · exact Or.inl (Or.inl h)
  · exact Or.inl (Or.inr h)
  · exact Or.inr h
theorem sk_and1 (y : Int32) : y &&& 1 = 0 ∨ y &&& 1 = 1 := by
  obtain ⟨j, hj, e⟩ := pk_andE y (m := 1) 1 (by decide)
  have h : j = 0 ∨ j = 1 := by omega
  rcases h with rfl | rfl
  · exact Or.inl e
  · exact Or.inr e
theorem sk_and1t {y : Int32} (h : y &&& 1 = 0) : ¬ y &&& 1 = 1 := by rw [h]; decide
theorem sk_and1f {y : Int32} (h : ¬ y &&& 1 = 0) : y &&& 1 = 1 := (sk_and1 y).resolve_left h
/-! branches of the checks -/
theorem sk_isT {post : Int32 → Prop} {s : Nat} (hs : s < 5) (h : post 1) : wpX_isSlot post (nI s) :=
  br_f (nI_pos (by omega)) (br_f (nI_ge (b := 5) hs (by decide)) h)
theorem sk_isF {post : Int32 → Prop} {p : Int32} (hp : p < 0 ∨ 5 ≤ p) (h : post 0) : wpX_isSlot post p := by
  by_cases h0 : p < 0
  · exact br_t h0 h
  · exact br_f h0 (br_t (hp.resolve_left h0) h)
theorem sk_ixT {post : Int32 → Prop} {s : Nat} (hs : s < 6) (h : post 1) : wpX_isIndex post (nI s) :=
  br_f (nI_pos (by omega)) (br_f (nI_ge (b := 6) hs (by decide)) h)
theorem sk_ixF {post : Int32 → Prop} {p : Int32} (hp : p < 0 ∨ 6 ≤ p) (h : post 0) : wpX_isIndex post p := by
  by_cases h0 : p < 0
  · exact br_t h0 h
  · exact br_f h0 (br_t (hp.resolve_left h0) h)
theorem sk_slT {post : Int32 → Prop} {v : SY} {s : Nat} (hs : s < 5) (h : post 1) : wpY_slot post v (nI s) := by
  obtain ⟨a, b⟩ := v
  refine br_f (nI_pos (by omega)) (br_f ?_ h)
  show ¬ (nI 4 < nI s)
  rw [nI_ltI (by decide) (by omega)]; omega
theorem sk_slF {post : Int32 → Prop} {v : SY} {p : Int32} (hp : p < 0 ∨ 5 ≤ p) (h : post 0) : wpY_slot post v p := by
  obtain ⟨a, b⟩ := v
  by_cases h0 : p < 0
  · exact br_t h0 h
  · refine br_f h0 (br_t ?_ h)
    have h5 := hp.resolve_left h0
    rw [Int32.le_iff_toInt_le, show (5 : Int32).toInt = 5 by decide] at h5
    rw [Int32.lt_iff_toInt_lt, show (4 : Int32).toInt = 4 by decide]
    omega
theorem sk_lnT {post : Int32 → Prop} {v : SY} {s : Nat} (hs : s < 6) (h : post 1) : wpY_line post v (nI s) := by
  obtain ⟨a, b⟩ := v
  refine br_f (nI_pos (by omega)) (br_f ?_ h)
  show ¬ (nI 5 < nI s)
  rw [nI_ltI (by decide) (by omega)]; omega
theorem sk_lnF {post : Int32 → Prop} {v : SY} {p : Int32} (hp : p < 0 ∨ 6 ≤ p) (h : post 0) : wpY_line post v p := by
  obtain ⟨a, b⟩ := v
  by_cases h0 : p < 0
  · exact br_t h0 h
  · refine br_f h0 (br_t ?_ h)
    have h5 := hp.resolve_left h0
    rw [Int32.le_iff_toInt_le, show (6 : Int32).toInt = 6 by decide] at h5
    rw [Int32.lt_iff_toInt_lt, show (5 : Int32).toInt = 5 by decide]
    omega
end
section
/-- slot s of the lists holds matrix M -/
def sk_Rep (s : Nat) (M st co va : Nat → Int32) : Prop :=
  (∀ i, i ≤ 6 → st (s * 7 + i) = nI (sk_ct M (6 * i))) ∧
  (∀ c, c < 36 → ¬ M c = 0 → co (s * 36 + sk_ct M c) = nI (c % 6) ∧ va (s * 36 + sk_ct M c) = M c)
def sk_RX (Ms : Nat → Nat → Int32) (st co va : Nat → Int32) : Prop := ∀ s, s < 5 → sk_Rep s (Ms s) st co va
def sk_RY (Ms : Nat → Nat → Int32) (al : Nat → Int32) : Prop := ∀ s, s < 5 → ∀ c, c < 36 → al (36 * s + c) = Ms s c
/-- the matrix N goes into slot t -/
def sk_set (Ms : Nat → Nat → Int32) (t : Nat) (N : Nat → Int32) : Nat → Nat → Int32 := fun s => if s = t then N else Ms s
theorem sk_setS {Ms : Nat → Nat → Int32} {t : Nat} {N : Nat → Int32} : sk_set Ms t N t = N := if_pos rfl
theorem sk_setN {Ms : Nat → Nat → Int32} {t s : Nat} {N : Nat → Int32} (h : s ≠ t) : sk_set Ms t N s = Ms s := if_neg h
/-- the matrix that is being made: its first p cells, and the starts of rows 0 .. i -/
def sk_NW (N : Nat → Int32) (i p : Nat) (f : Int32) (ns nc nv : Nat → Int32) : Prop :=
  f = nI (sk_ct N p) ∧ (∀ c, c < p → ¬ N c = 0 → nc (sk_ct N c) = nI (c % 6) ∧ nv (sk_ct N c) = N c) ∧ (∀ q, q ≤ i → ns q = nI (sk_ct N (6 * q)))
/-- the entry at column d of row i -/
theorem sk_col {s i d : Nat} {M st co va : Nat → Int32} (R : sk_Rep s M st co va) (hi : i < 6) (hd : d < 6) (hn : ¬ M (6 * i + d) = 0) : co (s * 36 + sk_ct M (6 * i + d)) = nI d ∧ va (s * 36 + sk_ct M (6 * i + d)) = M (6 * i + d) := by
  have h := R.2 (6 * i + d) (by omega) hn
  have e : (6 * i + d) % 6 = d := by omega
  rw [e] at h
  exact h
theorem sk_bd (M : Nat → Int32) {c : Nat} (h : c ≤ 36) : sk_ct M c ≤ 36 := Nat.le_trans (sk_ctle M c) h
theorem sk_from {post : Int32 → Prop} {f : Int32} {st co va ns nc nv wk M : Nat → Int32} {s i : Nat} (R : sk_Rep s M st co va) (hs : s < 5) (hi : i ≤ 6) (h : post (nI (s * 36 + sk_ct M (6 * i)))) : wpX_from post (f, st, co, va, ns, nc, nv, wk) (nI s) (nI i) := by
  unfold wpX_from
  dsimp only
  rw [sk_i7, nI_clamp (by omega), R.1 i hi, sk_i36, nI_add]
  exact ⟨vp_in_nI (by omega) (by decide), h⟩
theorem sk_upTo {post : Int32 → Prop} {f : Int32} {st co va ns nc nv wk M : Nat → Int32} {s i : Nat} (R : sk_Rep s M st co va) (hs : s < 5) (hi : i < 6) (h : post (nI (s * 36 + sk_ct M (6 * i + 6)))) : wpX_upTo post (f, st, co, va, ns, nc, nv, wk) (nI s) (nI i) := by
  have e : st (s * 7 + i + 1) = nI (sk_ct M (6 * i + 6)) := R.1 (i + 1) (by omega)
  unfold wpX_upTo
  dsimp only
  rw [sk_i7, nI_1, nI_clamp (by omega), e, sk_i36, nI_add]
  exact ⟨vp_in_nI (by omega) (by decide), h⟩
theorem sk_begin {post : SX → Prop} {f : Int32} {st co va ns nc nv wk : Nat → Int32} {N : Nat → Int32} (K : ∀ f' ns', sk_NW N 0 0 f' ns' nc nv → post (f', st, co, va, ns', nc, nv, wk)) : wpX_begin post (f, st, co, va, ns, nc, nv, wk) := by
  unfold wpX_begin
  dsimp only
  intro y ey
  refine K 0 y ⟨rfl, fun c hc => absurd hc (Nat.not_lt_zero c), fun q hq => ?_⟩
  obtain rfl : q = 0 := by omega
  rw [ey, pk_us]
  exact sk_nar (q := 0) (by decide)
theorem sk_NWz {N : Nat → Int32} {i p : Nat} {f : Int32} {ns nc nv : Nat → Int32} (h : sk_NW N i p f ns nc nv) (z : N p = 0) : sk_NW N i (p + 1) f ns nc nv := by
  obtain ⟨h1, h2, h3⟩ := h
  refine ⟨by rw [sk_ctz z]; exact h1, fun c hc hn => h2 c ?_ hn, h3⟩
  have : c ≠ p := fun e => hn (e ▸ z)
  omega
theorem sk_NWzs {N : Nat → Int32} {i : Nat} {f : Int32} {ns nc nv : Nat → Int32} : ∀ m p, sk_NW N i p f ns nc nv → (∀ c, p ≤ c → c < p + m → N c = 0) → sk_NW N i (p + m) f ns nc nv := by
  intro m
  induction m with
  | zero => intro p h _; exact h
  | succ m ih =>
    intro p h z
    exact sk_NWz (ih p h (fun c h1 h2 => z c h1 (by omega))) (z (p + m) (by omega) (by omega))
theorem sk_emit {post : SX → Prop} {N : Nat → Int32} {i p : Nat} {f : Int32} {st co va ns nc nv wk : Nat → Int32} {x y : Int32} (h : sk_NW N i p f ns nc nv) (hp : p < 36) (hx : x = nI (p % 6)) (hy : y = N p)
    (K : ∀ f' nc' nv', sk_NW N i (p + 1) f' ns nc' nv' → post (f', st, co, va, ns, nc', nv', wk)) : wpX_emit post (f, st, co, va, ns, nc, nv, wk) x y := by
  subst hx hy
  unfold wpX_emit
  dsimp only
  refine br_c (fun z => K _ _ _ (sk_NWz h z)) (fun hn => ?_)
  obtain ⟨rfl, h2, h3⟩ := h
  have hl : sk_ct N p < 36 := Nat.lt_of_le_of_lt (sk_ctle N p) hp
  have hv : vp_in (nI (sk_ct N p)) 36 := vp_in_nI hl (by decide)
  refine ⟨hv, fun a ea => ⟨hv, fun b eb => fun g eg => K g a b ⟨?_, ?_, h3⟩⟩⟩
  · rw [eg, nI_1, sk_ctn hn]
  · intro c hc hcn
    rw [nI_clamp (by omega)] at ea eb
    by_cases e : c = p
    · subst e
      rw [ea, eb, pk_us, pk_us]
      exact ⟨sk_nar2 (by omega), rfl⟩
    · have hlt := sk_lt (M := N) (show c < p by omega) hcn
      rw [ea, eb, pk_un (by omega), pk_un (by omega)]
      exact h2 c (by omega) hcn
theorem sk_endRow {post : SX → Prop} {N : Nat → Int32} {i : Nat} {f : Int32} {st co va ns nc nv wk : Nat → Int32} (h : sk_NW N i (6 * i + 6) f ns nc nv) (hi : i < 6)
    (K : ∀ ns', sk_NW N (i + 1) (6 * (i + 1)) f ns' nc nv → post (f, st, co, va, ns', nc, nv, wk)) : wpX_endRow post (f, st, co, va, ns, nc, nv, wk) (nI i) := by
  obtain ⟨rfl, h2, h3⟩ := h
  have hb := sk_bd N (show 6 * i + 6 ≤ 36 by omega)
  unfold wpX_endRow
  dsimp only
  rw [nI_1, nI_clamp (by omega), sk_nar2 (by omega)]
  refine ⟨vp_in_nI (by omega) (by decide), fun a ea => K a ⟨rfl, h2, fun q hq => ?_⟩⟩
  rw [ea]
  by_cases e : q = i + 1
  · subst e
    exact pk_us
  · rw [pk_un e]
    exact h3 q (by omega)
theorem sk_clear {post : SX → Prop} {f : Int32} {st co va ns nc nv wk : Nat → Int32} (K : ∀ wk', (∀ j, j < 6 → wk' j = 0) → post (f, st, co, va, ns, nc, nv, wk')) : wpX_clearWork post (f, st, co, va, ns, nc, nv, wk) := by
  unfold wpX_clearWork
  dsimp only
  refine loop_0 (fun n i s => wX_clearWork_2 post f n (nI i) st co va ns nc nv s) (fun i s => ∀ j, j < i → s j = 0) 6 wk (fun j hj => absurd hj (Nat.not_lt_zero j)) ?_ ?_
  · intro n s h
    exact br_t (nI_le (a := 6) (b := 6) (Nat.le_refl 6) (by decide)) (K s h)
  · intro n i s hi h hk
    refine br_f (nI_ge (b := 6) hi (by decide)) ⟨vp_in_nI hi (by decide), fun a ea => nm_r (nI_1 i) (hk a (fun j hj => ?_))⟩
    rw [nI_clamp (by omega)] at ea
    rw [ea]
    by_cases e : j = i
    · subst e; exact pk_us
    · rw [pk_un e]; exact h j (by omega)
theorem sk_emitWork {post : SX → Prop} {N : Nat → Int32} {i : Nat} {f : Int32} {st co va ns nc nv wk : Nat → Int32} (h : sk_NW N i (6 * i) f ns nc nv) (hi : i < 6) (hw : ∀ j, j < 6 → wk j = N (6 * i + j))
    (K : ∀ f' nc' nv', sk_NW N i (6 * i + 6) f' ns nc' nv' → post (f', st, co, va, ns, nc', nv', wk)) : wpX_emitWork post (f, st, co, va, ns, nc, nv, wk) := by
  unfold wpX_emitWork
  dsimp only
  refine loop_0 (σ := Int32 × (Nat → Int32) × (Nat → Int32)) (fun n j s => wX_emitWork_2 post n (nI j) s.1 st co va ns s.2.1 s.2.2 wk) (fun j s => sk_NW N i (6 * i + j) s.1 ns s.2.1 s.2.2) 6 (f, nc, nv) h ?_ ?_
  · intro n s h
    exact br_t (nI_le (a := 6) (b := 6) (Nat.le_refl 6) (by decide)) (K _ _ _ h)
  · intro n j s hj h hk
    refine br_f (nI_ge (b := 6) hj (by decide)) ⟨vp_in_nI hj (by decide), sk_emit h (by omega) (congrArg nI (by omega)) ?_ ?_⟩
    · rw [nI_clamp (by omega)]; exact hw j hj
    · intro f' nc' nv' h'
      dsimp only
      exact nm_r (nI_1 j) (hk (f', nc', nv') h')
end
section
theorem sk_store2 {post : Int32 → SX → Prop} {N : Nat → Int32} {Ms : Nat → Nat → Int32} {t : Nat} {f : Int32} {st st' co va ns nc nv wk : Nat → Int32} (h : sk_NW N 6 36 f ns nc nv) (ht : t < 5) (R : sk_RX Ms st co va)
    (hst : (∀ q, q < 7 → st' (t * 7 + q) = nI (sk_ct N (6 * q))) ∧ (∀ x, (x < t * 7 ∨ t * 7 + 7 ≤ x) → st' x = st x))
    (K : ∀ st' co' va', sk_RX (sk_set Ms t N) st' co' va' → post (nI (sk_ct N 36)) (f, st', co', va', ns, nc, nv, wk)) : ∃ n, wX_store_33 post (nI t) f n 0 st' co va ns nc nv wk := by
  obtain ⟨rfl, h2, h3⟩ := h
  have hb := sk_bd N (Nat.le_refl 36)
  refine loop_0 (σ := (Nat → Int32) × (Nat → Int32)) (fun n k s => wX_store_33 post (nI t) (nI (sk_ct N 36)) n (nI k) st' s.1 s.2 ns nc nv wk)
    (fun k s => (∀ q, q < k → s.1 (t * 36 + q) = nc q ∧ s.2 (t * 36 + q) = nv q) ∧ (∀ x, (x < t * 36 ∨ t * 36 + 36 ≤ x) → s.1 x = co x ∧ s.2 x = va x))
    (sk_ct N 36) (co, va) ⟨fun q hq => absurd hq (Nat.not_lt_zero q), fun x _ => ⟨rfl, rfl⟩⟩ ?_ ?_
  · intro n s hI
    refine br_t (nI_le (Nat.le_refl _) (by omega)) (K st' s.1 s.2 ?_)
    intro u hu
    by_cases e : u = t
    · subst e
      rw [sk_setS]
      refine ⟨fun i hi => hst.1 i (by omega), fun c hc hn => ?_⟩
      have hl := sk_lt (M := N) hc hn
      rw [(hI.1 _ hl).1, (hI.1 _ hl).2]
      exact h2 c hc hn
    · rw [sk_setN e]
      have R' := R u hu
      refine ⟨fun i hi => ?_, fun c hc hn => ?_⟩
      · rw [hst.2 _ (by omega)]
        exact R'.1 i hi
      · have hl := Nat.lt_of_le_of_lt (sk_ctle (Ms u) c) hc
        have g := hI.2 (u * 36 + sk_ct (Ms u) c) (by omega)
        rw [g.1, g.2]
        exact R'.2 c hc hn
  · intro n k s hk hI hn
    obtain ⟨c, hc, hcn, rfl⟩ := sk_inv 36 k hk
    have e1 : nI t * 36 + nI (sk_ct N c) = nI (t * 36 + sk_ct N c) := by rw [sk_i36, nI_add]
    have v1 : vp_in (nI (sk_ct N c)) 36 := vp_in_nI (by omega) (by decide)
    have v2 : vp_in (nI t * 36 + nI (sk_ct N c)) 180 := by rw [e1]; exact vp_in_nI (by omega) (by decide)
    have c1 : (nI (sk_ct N c)).toNatClampNeg = sk_ct N c := nI_clamp (by omega)
    have c2 : (nI t * 36 + nI (sk_ct N c)).toNatClampNeg = t * 36 + sk_ct N c := by rw [e1]; exact nI_clamp (by omega)
    refine br_f (nI_ge hk (by omega)) ⟨v1, v2, fun a ea => ⟨v1, v2, fun b eb => nm_r (nI_1 _) (hn (a, b) ⟨?_, ?_⟩)⟩⟩
    · intro q hq
      dsimp only
      rw [c1, c2] at ea eb
      have hx := h2 c hc hcn
      rw [hx.1, sk_nar (by omega)] at ea
      by_cases e : q = sk_ct N c
      · subst e
        rw [ea, eb, pk_us, pk_us]
        exact ⟨hx.1.symm, rfl⟩
      · rw [ea, eb, pk_un (by omega), pk_un (by omega)]
        exact hI.1 q (by omega)
    · intro x hx
      dsimp only
      rw [c2] at ea eb
      rw [ea, eb, pk_un (by omega), pk_un (by omega)]
      exact hI.2 x hx
theorem sk_store {post : Int32 → SX → Prop} {N : Nat → Int32} {Ms : Nat → Nat → Int32} {t : Nat} {f : Int32} {st co va ns nc nv wk : Nat → Int32} (h : sk_NW N 6 36 f ns nc nv) (ht : t < 5) (R : sk_RX Ms st co va)
    (K : ∀ st' co' va', sk_RX (sk_set Ms t N) st' co' va' → post (nI (sk_ct N 36)) (f, st', co', va', ns, nc, nv, wk)) : wpX_store post (f, st, co, va, ns, nc, nv, wk) (nI t) := by
  unfold wpX_store
  dsimp only
  refine loop_0 (fun n i s => wX_store_2 post (nI t) f n (nI i) s co va ns nc nv wk)
    (fun i s => (∀ q, q < i → s (t * 7 + q) = nI (sk_ct N (6 * q))) ∧ (∀ x, (x < t * 7 ∨ t * 7 + 7 ≤ x) → s x = st x)) 7 st ⟨fun q hq => absurd hq (Nat.not_lt_zero q), fun x _ => rfl⟩ ?_ ?_
  · intro n s hI
    exact br_t (nI_lt (a := 6) (b := 7) (by decide) (by decide)) (sk_store2 h ht R hI K)
  · intro n i s hi hI hk
    have e1 : nI t * 7 + nI i = nI (t * 7 + i) := sk_i7 t i
    have v1 : vp_in (nI i) 7 := vp_in_nI hi (by decide)
    have v2 : vp_in (nI t * 7 + nI i) 35 := by rw [e1]; exact vp_in_nI (by omega) (by decide)
    have c1 : (nI i).toNatClampNeg = i := nI_clamp (by omega)
    have c2 : (nI t * 7 + nI i).toNatClampNeg = t * 7 + i := by rw [e1]; exact nI_clamp (by omega)
    have hb := sk_bd N (show 6 * i ≤ 36 by omega)
    refine br_f ?_ ⟨v1, v2, fun a ea => nm_r (nI_1 i) (hk a ⟨?_, ?_⟩)⟩
    · show ¬ (nI 6 < nI i)
      rw [nI_ltI (by decide) (by omega)]; omega
    · intro q hq
      rw [c1, c2, h.2.2 i (by omega), sk_nar (by omega)] at ea
      rw [ea]
      by_cases e : q = i
      · subst e; exact pk_us
      · rw [pk_un (by omega)]; exact hI.1 q (by omega)
    · intro x hx
      rw [c2] at ea
      rw [ea, pk_un (by omega)]
      exact hI.2 x hx
end
section
theorem sk_at {s i d : Nat} {M st co va : Nat → Int32} (R : sk_Rep s M st co va) (hs : s < 5) (hi : i < 6) (hd : d < 6) (hn : ¬ M (6 * i + d) = 0) :
    vp_in (nI (s * 36 + sk_ct M (6 * i + d))) 180 ∧ co (nI (s * 36 + sk_ct M (6 * i + d))).toNatClampNeg = nI d ∧ va (nI (s * 36 + sk_ct M (6 * i + d))).toNatClampNeg = M (6 * i + d) ∧ sk_ct M (6 * i + d) < sk_ct M (6 * i + 6) ∧ sk_ct M (6 * i + 6) ≤ 36 := by
  have h1 := sk_lt (M := M) (show 6 * i + d < 6 * i + 6 by omega) hn
  have h2 := sk_bd M (show 6 * i + 6 ≤ 36 by omega)
  rw [nI_clamp (by omega)]
  exact ⟨vp_in_nI (by omega) (by decide), (sk_col R hi hd hn).1, (sk_col R hi hd hn).2, h1, h2⟩
theorem sk_p1 (b k : Nat) : nI (b * 36 + k) + 1 = nI (b * 36 + (k + 1)) := nI_1 _
theorem sk_md {i d : Nat} (hd : d < 6) : nI d = nI ((6 * i + d) % 6) := congrArg nI (by omega)
/-- the head of the rest of row i at cell d: behind the row's end, or at a column q -/
theorem sk_hd {s i d : Nat} {M st co va : Nat → Int32} (R : sk_Rep s M st co va) (hs : s < 5) (hi : i < 6) (hd : d ≤ 6) :
    (sk_ct M (6 * i + 6) ≤ sk_ct M (6 * i + d) ∧ ∀ x, d ≤ x → x < 6 → M (6 * i + x) = 0) ∨
    (sk_ct M (6 * i + d) < sk_ct M (6 * i + 6) ∧ ∃ q, d ≤ q ∧ q < 6 ∧ (q = d ↔ ¬ M (6 * i + d) = 0) ∧ vp_in (nI (s * 36 + sk_ct M (6 * i + d))) 180 ∧ co (nI (s * 36 + sk_ct M (6 * i + d))).toNatClampNeg = nI q) := by
  by_cases h : sk_ct M (6 * i + 6) ≤ sk_ct M (6 * i + d)
  · refine Or.inl ⟨h, fun x h1 h2 => ?_⟩
    by_cases z : M (6 * i + x) = 0
    · exact z
    · have a := sk_lt (M := M) (show 6 * i + x < 6 * i + 6 by omega) z
      have b := sk_mono (M := M) (show 6 * i + d ≤ 6 * i + x by omega)
      omega
  · refine Or.inr ⟨by omega, ?_⟩
    obtain ⟨q, hq, hn, he⟩ := sk_rinv (M := M) (i := i) (sk_span M (6 * i) d).1 (by omega)
    have h3 : ¬ q < d := fun hl => by
      have := sk_lt (M := M) (show 6 * i + q < 6 * i + d by omega) hn
      omega
    have A := sk_at R hs hi hq hn
    rw [he] at A
    refine ⟨q, by omega, hq, ⟨fun e => e ▸ hn, fun hm => ?_⟩, A.1, A.2.1⟩
    by_cases e : q = d
    · exact e
    · have := sk_lt (M := M) (show 6 * i + d < 6 * i + q by omega) hm
      omega
theorem sk_lo {a b : Nat} (h : b ≤ a) (ha : a < 2 ^ 30) : nI b - 1 < nI a := by
  rw [Int32.lt_iff_toInt_lt, show nI b - 1 = nI b - nI 1 from rfl, pk_sub_toInt (by omega) (by decide), nI_toInt (by omega)]
  omega
theorem sk_nlo {a b : Nat} (h : a < b) (hb : b < 2 ^ 30) : ¬ nI b - 1 < nI a := by
  rw [Int32.lt_iff_toInt_lt, show nI b - 1 = nI b - nI 1 from rfl, pk_sub_toInt (by omega) (by decide), nI_toInt (by omega)]
  omega
theorem sk_mid {s a b : Nat} (h : a < b) (hs : s * 36 + b < 2 ^ 29) : (nI (s * 36 + a) + (nI (s * 36 + b) - 1)) >>> ((1 : Int32) &&& 31) = nI (s * 36 + (a + b - 1) / 2) := by
  rw [show nI (s * 36 + b) - 1 = nI (s * 36 + b) - nI 1 from rfl, pk_sub (by omega), nI_add, pk_shrN (by omega) _ 1 (by decide)]
  exact congrArg nI (by omega)
section
variable {post : Int32 → Prop} {s i j : Nat} {M : Nat → Int32} {f : Int32} {st co va ns nc nv wk : Nat → Int32}
theorem sk_findL (R : sk_Rep s M st co va) (hs : s < 5) (hi : i < 6) (hj : j < 6)
    (h1 : ¬ M (6 * i + j) = 0 → post (nI (s * 36 + sk_ct M (6 * i + j)))) (h0 : M (6 * i + j) = 0 → post (-1)) :
    ∀ m lo hh, m ≤ 3 → sk_ct M (6 * i) ≤ lo → hh ≤ sk_ct M (6 * i + 6) → lo ≤ sk_ct M (6 * i + j) → sk_ct M (6 * i + j) ≤ hh → (¬ M (6 * i + j) = 0 → sk_ct M (6 * i + j) < hh) → hh - lo < 2 ^ m →
    wX_find_21 post (nI j) f st co va ns nc nv wk (m + 1) (nI (s * 36 + lo)) (nI (s * 36 + hh) - 1) (nI (3 - m)) := by
  have hB := sk_bd M (show 6 * i + 6 ≤ 36 by omega)
  have fin : ∀ m lo hh, hh ≤ lo → lo ≤ 36 → lo ≤ sk_ct M (6 * i + j) → (¬ M (6 * i + j) = 0 → sk_ct M (6 * i + j) < hh) →
      wX_find_21 post (nI j) f st co va ns nc nv wk (m + 1) (nI (s * 36 + lo)) (nI (s * 36 + hh) - 1) (nI (3 - m)) := by
    intro m lo hh a1 a2 a3 a4
    have z : M (6 * i + j) = 0 := by
      by_cases z : M (6 * i + j) = 0
      · exact z
      · have := a4 z; omega
    exact br_f (nI_ge (b := 4) (by omega) (by decide)) (br_t (sk_lo (by omega) (by omega)) (h0 z))
  intro m
  induction m with
  | zero =>
    intro lo hh a0 a1 a2 a3 a4 a5 a6
    have h36 := sk_mono (M := M) (show 6 * i + j ≤ 6 * i + 6 by omega)
    exact fin 0 lo hh (by omega) (by omega) a3 a5
  | succ m ih =>
    intro lo hh a0 a1 a2 a3 a4 a5 a6
    have h36 := sk_mono (M := M) (show 6 * i + j ≤ 6 * i + 6 by omega)
    by_cases hl : hh ≤ lo
    · exact fin (m + 1) lo hh hl (by omega) a3 a5
    · have hp : 2 ^ (m + 1) = 2 * 2 ^ m := by rw [Nat.pow_succ]; omega
      rw [hp] at a6
      generalize 2 ^ m = w at a6 ih
      have em := sk_mid (s := s) (show lo < hh by omega) (by omega)
      have ek : ∃ k, (lo + hh - 1) / 2 = k := ⟨_, rfl⟩
      obtain ⟨k, ek⟩ := ek
      rw [ek] at em
      have hk1 : lo ≤ k := by omega
      have hk2 : k < hh := by omega
      obtain ⟨d, hd, hn, he⟩ := sk_rinv (M := M) (i := i) (k := k) (by omega) (by omega)
      have A := sk_at R hs hi hd hn
      rw [he] at A
      obtain ⟨A1, A2, A3, A4, A5⟩ := A
      refine br_f (nI_ge (b := 4) (by omega) (by decide)) (br_f (sk_nlo (by omega) (by omega)) (nm_r em ⟨A1, ?_⟩))
      by_cases e : d = j
      · subst e
        have h2 := h1 hn
        rw [he] at h2
        exact br_t A2 h2
      · refine br_f (by rw [A2, nI_eq (by omega) (by omega)]; exact e) ⟨A1, ?_⟩
        by_cases l : j ≤ d
        · refine br_t (by rw [A2]; exact nI_le l (by omega)) (fun y ey z ez => ?_)
          rw [ey, ez, nI_1, show 3 - (m + 1) + 1 = 3 - m by omega]
          have hm := sk_mono (M := M) (show 6 * i + j ≤ 6 * i + d by omega)
          refine ih lo k (by omega) a1 (by omega) a3 (by omega) (fun hz => ?_) (by omega)
          have := sk_lt (M := M) (show 6 * i + j < 6 * i + d by omega) hz
          omega
        · refine br_f (by rw [A2, nI_leI (by omega) (by omega)]; exact l) (fun y ey z ez => ?_)
          rw [ey, ez, nI_1, nI_1, show 3 - (m + 1) + 1 = 3 - m by omega]
          have hm := sk_lt (M := M) (show 6 * i + d < 6 * i + j by omega) hn
          exact ih (k + 1) hh (by omega) (by omega) a2 (by omega) a4 a5 (by omega)
theorem sk_find (R : sk_Rep s M st co va) (hs : s < 5) (hi : i < 6) (hj : j < 6)
    (h1 : ¬ M (6 * i + j) = 0 → post (nI (s * 36 + sk_ct M (6 * i + j)))) (h0 : M (6 * i + j) = 0 → post (-1)) :
    wpX_find post (f, st, co, va, ns, nc, nv, wk) (nI s) (nI i) (nI j) := by
  unfold wpX_find
  dsimp only
  have b1 := sk_span M (6 * i) j
  have b2 := sk_span M (6 * i) 6
  have b3 := sk_mono (M := M) (show 6 * i + j ≤ 6 * i + 6 by omega)
  refine sk_from R hs (by omega) (sk_upTo R hs hi (nm_e ⟨4, ?_⟩))
  exact sk_findL R hs hi hj h1 h0 3 _ _ (Nat.le_refl 3) (Nat.le_refl _) (Nat.le_refl _) b1.1 b3 (fun hz => sk_lt (by omega) hz) (by omega)
theorem sk_xat (R : sk_Rep s M st co va) (hs : s < 5) (hi : i < 6) (hj : j < 6) (K : post (M (6 * i + j))) : wpX_at post (f, st, co, va, ns, nc, nv, wk) (nI s) (nI i) (nI j) := by
  have o : ¬ (1 : Int32) = 0 := by decide
  unfold wpX_at
  dsimp only
  refine sk_isT hs (br_f o (sk_ixT hi (br_f o (sk_ixT hj (br_f o (sk_find R hs hi hj (fun hn => ?_) (fun z => ?_)))))))
  · have A := sk_at R hs hi hj hn
    refine br_t (nI_pos' (by omega)) ⟨A.1, ?_⟩
    rw [A.2.2.1]
    exact K
  · rw [z] at K
    exact br_f (by decide) K
theorem sk_xcount (R : sk_Rep s M st co va) (hs : s < 5) (K : post (nI (sk_ct M 36))) : wpX_count post (f, st, co, va, ns, nc, nv, wk) (nI s) := by
  have o : ¬ (1 : Int32) = 0 := by decide
  have e : nI s * 7 + 6 = nI (s * 7 + 6) := sk_i7 s 6
  unfold wpX_count
  dsimp only
  refine sk_isT hs (br_f o ?_)
  rw [e, nI_clamp (by omega), R.1 6 (Nat.le_refl 6)]
  exact ⟨vp_in_nI (by omega) (by decide), K⟩
end
end
section
/-- what a storing method of the lists asks for: the matrix N in slot t, the count as the answer -/
def sk_KX (post : Int32 → SX → Prop) (Ms : Nat → Nat → Int32) (t : Nat) (N : Nat → Int32) : Prop :=
  ∀ f st co va ns nc nv wk, sk_RX (sk_set Ms t N) st co va → post (nI (sk_ct N 36)) (f, st, co, va, ns, nc, nv, wk)
theorem sk_NWy {N : Nat → Int32} {i b d : Nat} {f : Int32} {ns nc nv : Nat → Int32} (h : sk_NW N i (b + d) f ns nc nv) (z : N (b + d) = 0) : sk_NW N i (b + (d + 1)) f ns nc nv := sk_NWz h z
theorem sk_66 : (6 : Int32) ≤ nI 6 := nI_le (a := 6) (b := 6) (Nat.le_refl 6) (by decide)
theorem sk_6i {i : Nat} (h : i < 6) : ¬ (6 : Int32) ≤ nI i := nI_ge (b := 6) h (by decide)
theorem sk_o : ¬ (1 : Int32) = 0 := by decide
section
variable {post : Int32 → SX → Prop} {Ms : Nat → Nat → Int32} {t a i : Nat} {f : Int32} {st co va ns nc nv wk : Nat → Int32}
/-! scale -/
theorem sk_scaleI {J : Int32 → Int32 → (Nat → Int32) → (Nat → Int32) → (Nat → Int32) → (Nat → Int32) → (Nat → Int32) → (Nat → Int32) → (Nat → Int32) → Prop} {A N : Nat → Int32} {x1 x3 : Int32}
    (R : sk_Rep a A st co va) (ha : a < 5) (hi : i < 6) (hN : ∀ c, N c = A c * x3) (h : sk_NW N i (6 * i) f ns nc nv)
    (K : ∀ f' ns' nc' nv', sk_NW N (i + 1) (6 * (i + 1)) f' ns' nc' nv' → J (nI (i + 1)) f' st co va ns' nc' nv' wk) :
    ∃ n, wX_scale_39 post J x1 (nI a) x3 (nI i) n (nI (a * 36 + sk_ct A (6 * i))) f st co va ns nc nv wk := by
  refine sk_loopE (σ := Int32 × (Nat → Int32) × (Nat → Int32)) A (6 * i) 6 (fun n k s => wX_scale_39 post J x1 (nI a) x3 (nI i) n (nI (a * 36 + k)) s.1 st co va ns s.2.1 s.2.2 wk)
    (fun d s => sk_NW N i (6 * i + d) s.1 ns s.2.1 s.2.2) (f, nc, nv) h ?_ ?_ ?_
  · intro n s h
    have hb := sk_bd A (show 6 * i + 6 ≤ 36 by omega)
    rw [wX_scale_39]
    refine sk_upTo R ha hi (br_t (nI_le (Nat.le_refl _) (by omega)) (sk_endRow h hi (fun ns' h' => ?_)))
    dsimp only
    exact nm_r (nI_1 i) (K _ _ _ _ h')
  · intro d s hd z h
    exact sk_NWy h (by rw [hN, z, Int32.zero_mul])
  · intro n d s hd hn h hk
    obtain ⟨A1, A2, A3, A4, A5⟩ := sk_at R ha hi hd hn
    rw [wX_scale_39]
    refine sk_upTo R ha hi (br_f (nI_ge (by omega) (by omega)) ⟨A1, A1, sk_emit h (by omega) (A2.trans (sk_md hd)) (by rw [A3, hN]) (fun f' nc' nv' h' => ?_)⟩)
    dsimp only
    exact nm_r (sk_p1 _ _) (hk (f', nc', nv') h')
theorem sk_xscale {k : Int32} (R : sk_RX Ms st co va) (ht : t < 5) (ha : a < 5) (K : sk_KX post Ms t (fun c => Ms a c * k)) : wpX_scale post (f, st, co, va, ns, nc, nv, wk) (nI t) (nI a) k := by
  unfold wpX_scale
  dsimp only
  refine sk_isT ht (br_f sk_o (sk_isT ha (br_f sk_o (sk_begin (N := fun c => Ms a c * k) (fun f' ns' h => ?_)))))
  dsimp only
  refine loop_0 (σ := Int32 × (Nat → Int32) × (Nat → Int32) × (Nat → Int32)) (fun n i s => wX_scale_23 post (nI t) (nI a) k n (nI i) s.1 st co va s.2.1 s.2.2.1 s.2.2.2 wk)
    (fun i s => sk_NW (fun c => Ms a c * k) i (6 * i) s.1 s.2.1 s.2.2.1 s.2.2.2) 6 (f', ns', nc, nv) h ?_ ?_
  · intro n s h
    exact br_t sk_66 (sk_store h ht R (fun st' co' va' R' => K _ _ _ _ _ _ _ _ R'))
  · intro n i s hi h hk
    exact br_f (sk_6i hi) (sk_from (R a ha) ha (by omega) (sk_scaleI (R a ha) ha hi (fun c => rfl) h (fun f' ns' nc' nv' h' => hk (f', ns', nc', nv') h')))
/-! select -/
/-- a bit of the packed rows and columns -/
def sk_bit (p : Int32) (q : Nat) : Int32 := (p >>> (nI q &&& 31)) &&& 1
def sk_sel (A : Nat → Int32) (p : Int32) : Nat → Int32 := fun c => if sk_bit p (c / 6) = 0 then 0 else if sk_bit p (6 + c % 6) = 0 then 0 else A c
theorem sk_sel0 {A : Nat → Int32} {p : Int32} {i d : Nat} (hd : d < 6) (h : sk_bit p i = 0) : sk_sel A p (6 * i + d) = 0 := by
  have e : (6 * i + d) / 6 = i := by omega
  unfold sk_sel
  rw [e]
  exact if_pos h
theorem sk_sel1 {A : Nat → Int32} {p : Int32} {i d : Nat} (hd : d < 6) (h : sk_bit p (6 + d) = 0) : sk_sel A p (6 * i + d) = 0 := by
  have e : (6 * i + d) % 6 = d := by omega
  unfold sk_sel
  rw [e, if_pos h]
  exact ite_self 0
theorem sk_sel2 {A : Nat → Int32} {p : Int32} {i d : Nat} (hd : d < 6) (h : ¬ sk_bit p i = 0) (h' : ¬ sk_bit p (6 + d) = 0) : sk_sel A p (6 * i + d) = A (6 * i + d) := by
  have e1 : (6 * i + d) / 6 = i := by omega
  have e2 : (6 * i + d) % 6 = d := by omega
  unfold sk_sel
  rw [e1, e2, if_neg h, if_neg h']
theorem sk_selZ {A : Nat → Int32} {p : Int32} {c : Nat} (h : A c = 0) : sk_sel A p c = 0 := by
  unfold sk_sel
  rw [h, ite_self, ite_self]
theorem sk_6p (d : Nat) : 6 + nI d = nI (6 + d) := by rw [show (6 : Int32) = nI 6 from rfl, nI_add]
theorem sk_selI {J : Int32 → Int32 → (Nat → Int32) → (Nat → Int32) → (Nat → Int32) → (Nat → Int32) → (Nat → Int32) → (Nat → Int32) → (Nat → Int32) → Prop} {A : Nat → Int32} {x1 p : Int32}
    (R : sk_Rep a A st co va) (ha : a < 5) (hi : i < 6) (hb : ¬ sk_bit p i = 0) (h : sk_NW (sk_sel A p) i (6 * i) f ns nc nv)
    (K : ∀ f' ns' nc' nv', sk_NW (sk_sel A p) (i + 1) (6 * (i + 1)) f' ns' nc' nv' → J (nI (i + 1)) f' st co va ns' nc' nv' wk) :
    ∃ n, wX_select_66 post J x1 (nI a) p (nI i) 1 n (nI (a * 36 + sk_ct A (6 * i))) f st co va ns nc nv wk := by
  refine sk_loopE (σ := Int32 × (Nat → Int32) × (Nat → Int32)) A (6 * i) 6 (fun n k s => wX_select_66 post J x1 (nI a) p (nI i) 1 n (nI (a * 36 + k)) s.1 st co va ns s.2.1 s.2.2 wk)
    (fun d s => sk_NW (sk_sel A p) i (6 * i + d) s.1 ns s.2.1 s.2.2) (f, nc, nv) h ?_ ?_ ?_
  · intro n s h
    have hb := sk_bd A (show 6 * i + 6 ≤ 36 by omega)
    rw [wX_select_66]
    refine sk_upTo R ha hi (br_t (nI_le (Nat.le_refl _) (by omega)) ?_)
    unfold wX_select_124
    refine sk_endRow h hi (fun ns' h' => ?_)
    dsimp only
    exact nm_r (nI_1 i) (K _ _ _ _ h')
  · intro d s hd z h
    exact sk_NWy h (sk_selZ z)
  · intro n d s hd hn h hk
    obtain ⟨A1, A2, A3, A4, A5⟩ := sk_at R ha hi hd hn
    rw [wX_select_66]
    refine sk_upTo R ha hi (br_f (nI_ge (by omega) (by omega)) (br_f sk_o ⟨A1, ?_⟩))
    rw [A2, sk_6p]
    by_cases z : sk_bit p (6 + d) = 0
    · exact br_t z (nm_r (sk_p1 _ _) (hk s (sk_NWy h (sk_sel1 hd z))))
    · refine br_f z ⟨A1, A1, sk_emit h (by omega) (sk_md hd) (by rw [A3, sk_sel2 hd hb z]) (fun f' nc' nv' h' => ?_)⟩
      dsimp only
      exact nm_r (sk_p1 _ _) (hk (f', nc', nv') h')
theorem sk_selI0 {J : Int32 → Int32 → (Nat → Int32) → (Nat → Int32) → (Nat → Int32) → (Nat → Int32) → (Nat → Int32) → (Nat → Int32) → (Nat → Int32) → Prop} {A : Nat → Int32} {x1 p x6 : Int32}
    (R : sk_Rep a A st co va) (ha : a < 5) (hi : i < 6) (hb : sk_bit p i = 0) (h : sk_NW (sk_sel A p) i (6 * i) f ns nc nv)
    (K : ∀ f' ns' nc' nv', sk_NW (sk_sel A p) (i + 1) (6 * (i + 1)) f' ns' nc' nv' → J (nI (i + 1)) f' st co va ns' nc' nv' wk) :
    ∃ n, wX_select_66 post J x1 (nI a) p (nI i) 0 n x6 f st co va ns nc nv wk := by
  have h2 : sk_NW (sk_sel A p) i (6 * i + 6) f ns nc nv := sk_NWzs 6 (6 * i) h (fun c h1 h2 => by
    have e : c = 6 * i + (c - 6 * i) := by omega
    rw [e]
    exact sk_sel0 (by omega) hb)
  have E : wX_select_124 post J x1 (nI a) p (nI i) f st co va ns nc nv wk := by
    unfold wX_select_124
    refine sk_endRow h2 hi (fun ns' h' => ?_)
    dsimp only
    exact nm_r (nI_1 i) (K _ _ _ _ h')
  refine ⟨1, ?_⟩
  rw [wX_select_66]
  exact sk_upTo R ha hi (br_c (fun _ => E) (fun _ => br_t rfl E))
theorem sk_xselect {p : Int32} (R : sk_RX Ms st co va) (ht : t < 5) (ha : a < 5) (hp0 : ¬ p < 0) (hp1 : p ≤ 4095) (K : sk_KX post Ms t (sk_sel (Ms a) p)) : wpX_select post (f, st, co, va, ns, nc, nv, wk) (nI t) (nI a) p := by
  unfold wpX_select
  dsimp only
  refine sk_isT ht (br_f sk_o (sk_isT ha (br_f sk_o (br_f hp0 (br_t hp1 (sk_begin (N := sk_sel (Ms a) p) (fun f' ns' h => ?_)))))))
  dsimp only
  refine loop_0 (σ := Int32 × (Nat → Int32) × (Nat → Int32) × (Nat → Int32)) (fun n i s => wX_select_34 post (nI t) (nI a) p n (nI i) s.1 st co va s.2.1 s.2.2.1 s.2.2.2 wk)
    (fun i s => sk_NW (sk_sel (Ms a) p) i (6 * i) s.1 s.2.1 s.2.2.1 s.2.2.2) 6 (f', ns', nc, nv) h ?_ ?_
  · intro n s h
    exact br_t sk_66 (sk_store h ht R (fun st' co' va' R' => K _ _ _ _ _ _ _ _ R'))
  · intro n i s hi h hk
    refine br_f (sk_6i hi) (br_c (fun z => ?_) (fun z => ?_))
    · unfold wX_select_55
      exact sk_from (R a ha) ha (by omega) (sk_selI0 (R a ha) ha hi z h (fun f' ns' nc' nv' h' => hk (f', ns', nc', nv') h'))
    · unfold wX_select_55
      exact sk_from (R a ha) ha (by omega) (sk_selI (R a ha) ha hi z h (fun f' ns' nc' nv' h' => hk (f', ns', nc', nv') h'))
end
end
section
theorem sk_hd6 {s i d : Nat} {M st co va : Nat → Int32} (R : sk_Rep s M st co va) (hs : s < 5) (hi : i < 6) (hd : d < 6) :
    ∃ q, d ≤ q ∧ q ≤ 6 ∧ (q = d ↔ ¬ M (6 * i + d) = 0) ∧ ((sk_ct M (6 * i + 6) ≤ sk_ct M (6 * i + d) ∧ q = 6) ∨ (sk_ct M (6 * i + d) < sk_ct M (6 * i + 6) ∧ vp_in (nI (s * 36 + sk_ct M (6 * i + d))) 180 ∧ co (nI (s * 36 + sk_ct M (6 * i + d))).toNatClampNeg = nI q)) := by
  rcases sk_hd (d := d) R hs hi (by omega) with ⟨h1, h2⟩ | ⟨h1, q, h2, h3, h4, h5, h6⟩
  · refine ⟨6, by omega, Nat.le_refl 6, ⟨fun e => ?_, fun e => absurd (h2 d (Nat.le_refl d) hd) e⟩, Or.inl ⟨h1, rfl⟩⟩
    omega
  · exact ⟨q, h2, by omega, h4, Or.inr ⟨h1, h5, h6⟩⟩
section
variable {post : SX → Prop} {a b i d : Nat} {A B N : Nat → Int32} {f : Int32} {st co va ns nc nv wk : Nat → Int32}
theorem sk_mstep {J : Int32 → Int32 → Int32 → (Nat → Int32) → (Nat → Int32) → (Nat → Int32) → (Nat → Int32) → (Nat → Int32) → (Nat → Int32) → (Nat → Int32) → Prop}
    (RA : sk_Rep a A st co va) (RB : sk_Rep b B st co va) (ha : a < 5) (hb : b < 5) (hi : i < 6) (hd : d < 6) (hne : A (6 * i + d) = 0 → ¬ B (6 * i + d) = 0) (hN : ∀ c, N c = A c + B c) (h : sk_NW N i (6 * i + d) f ns nc nv)
    (K : ∀ f' nc' nv', sk_NW N i (6 * i + (d + 1)) f' ns nc' nv' → J (nI (a * 36 + sk_ct A (6 * i + (d + 1)))) (nI (b * 36 + sk_ct B (6 * i + (d + 1)))) f' st co va ns nc' nv' wk) :
    wX_mergeRow_46 post J (nI (a * 36 + sk_ct A (6 * i + d))) (nI (b * 36 + sk_ct B (6 * i + d))) (nI (a * 36 + sk_ct A (6 * i + 6))) (nI (b * 36 + sk_ct B (6 * i + 6))) f st co va ns nc nv wk := by
  have hA := sk_bd A (show 6 * i + 6 ≤ 36 by omega)
  have hB := sk_bd B (show 6 * i + 6 ≤ 36 by omega)
  have mA := sk_mono (M := A) (show 6 * i + d ≤ 6 * i + 6 by omega)
  have mB := sk_mono (M := B) (show 6 * i + d ≤ 6 * i + 6 by omega)
  obtain ⟨qA, a1, a2, a3, a4⟩ := sk_hd6 RA ha hi hd
  obtain ⟨qB, b1, b2, b3, b4⟩ := sk_hd6 RB hb hi hd
  have E151 : ∀ x4 x5 y, x4 = nI (a * 36 + sk_ct A (6 * i + (d + 1))) → x5 = nI (b * 36 + sk_ct B (6 * i + (d + 1))) → y = N (6 * i + d) →
      wX_mergeRow_151 post J x4 x5 (nI (a * 36 + sk_ct A (6 * i + 6))) (nI (b * 36 + sk_ct B (6 * i + 6))) (nI d) y f st co va ns nc nv wk := by
    intro x4 x5 y e4 e5 ey
    subst e4 e5
    unfold wX_mergeRow_151
    refine sk_emit h (by omega) (sk_md hd) ey (fun f' nc' nv' h' => ?_)
    dsimp only
    exact K _ _ _ h'
  have E129 : ∀ x4 y, x4 = nI (a * 36 + sk_ct A (6 * i + (d + 1))) → y = A (6 * i + d) →
      wX_mergeRow_129 post J x4 (nI (b * 36 + sk_ct B (6 * i + d))) (nI (a * 36 + sk_ct A (6 * i + 6))) (nI (b * 36 + sk_ct B (6 * i + 6))) (nI qB) (nI d) y f st co va ns nc nv wk := by
    intro x4 y e4 ey
    unfold wX_mergeRow_129
    by_cases z : B (6 * i + d) = 0
    · have e1 : sk_ct B (6 * i + (d + 1)) = sk_ct B (6 * i + d) := sk_ctz z
      have hq : ¬ qB = d := fun e => (b3.mp e) z
      refine br_f (by rw [nI_eq (by omega) (by omega)]; exact hq) (E151 _ _ _ e4 (by rw [e1]) ?_)
      rw [ey, hN, z, Int32.add_zero]
    · have e1 : sk_ct B (6 * i + (d + 1)) = sk_ct B (6 * i + d) + 1 := sk_ctn z
      obtain ⟨A1, A2, A3, A4, A5⟩ := sk_at RB hb hi hd z
      refine br_t (congrArg nI (b3.mpr z)) ⟨A1, fun y' ey' x5 e5 => E151 _ _ _ e4 (by rw [e5, e1]; exact sk_p1 _ _) ?_⟩
      rw [ey', A3, ey, hN]
  have E102 : ∀ z0, z0 = nI d →
      wX_mergeRow_102 post J (nI (a * 36 + sk_ct A (6 * i + d))) (nI (b * 36 + sk_ct B (6 * i + d))) (nI (a * 36 + sk_ct A (6 * i + 6))) (nI (b * 36 + sk_ct B (6 * i + 6))) (nI qA) (nI qB) z0 f st co va ns nc nv wk := by
    intro z0 e0
    subst e0
    unfold wX_mergeRow_102
    by_cases z : A (6 * i + d) = 0
    · have e1 : sk_ct A (6 * i + (d + 1)) = sk_ct A (6 * i + d) := sk_ctz z
      have hq : ¬ qA = d := fun e => (a3.mp e) z
      exact br_f (by rw [nI_eq (by omega) (by omega)]; exact hq) (E129 _ _ (by rw [e1]) z.symm)
    · have e1 : sk_ct A (6 * i + (d + 1)) = sk_ct A (6 * i + d) + 1 := sk_ctn z
      obtain ⟨A1, A2, A3, A4, A5⟩ := sk_at RA ha hi hd z
      refine br_t (congrArg nI (a3.mpr z)) ⟨A1, fun y' ey' x4 e4 => E129 _ _ (by rw [e4, e1]; exact sk_p1 _ _) ?_⟩
      rw [ey', A3, Int32.zero_add]
  have E86 : wX_mergeRow_86 post J (nI (a * 36 + sk_ct A (6 * i + d))) (nI (b * 36 + sk_ct B (6 * i + d))) (nI (a * 36 + sk_ct A (6 * i + 6))) (nI (b * 36 + sk_ct B (6 * i + 6))) (nI qA) (nI qB) f st co va ns nc nv wk := by
    have hq : qA = d ∨ qB = d := by
      by_cases z : A (6 * i + d) = 0
      · exact Or.inr (b3.mpr (hne z))
      · exact Or.inl (a3.mpr z)
    unfold wX_mergeRow_86
    by_cases l : qB ≤ qA
    · exact br_t (nI_le l (by omega)) (E102 _ (congrArg nI (by omega)))
    · exact br_f (nI_ge (by omega) (by omega)) (E102 _ (congrArg nI (by omega)))
  have E65 : wX_mergeRow_65 post J (nI (a * 36 + sk_ct A (6 * i + d))) (nI (b * 36 + sk_ct B (6 * i + d))) (nI (a * 36 + sk_ct A (6 * i + 6))) (nI (b * 36 + sk_ct B (6 * i + 6))) (nI qA) f st co va ns nc nv wk := by
    unfold wX_mergeRow_65
    rcases b4 with ⟨g1, g2⟩ | ⟨g1, g2, g3⟩
    · refine br_t (nI_le (by omega) (by omega)) ?_
      rw [g2] at E86
      exact E86
    · refine br_f (nI_ge (by omega) (by omega)) ⟨g2, ?_⟩
      rw [g3]
      exact E86
  unfold wX_mergeRow_46
  rcases a4 with ⟨g1, g2⟩ | ⟨g1, g2, g3⟩
  · refine br_t (nI_le (by omega) (by omega)) ?_
    rw [g2] at E65
    exact E65
  · refine br_f (nI_ge (by omega) (by omega)) ⟨g2, ?_⟩
    rw [g3]
    exact E65
theorem sk_mloop (RA : sk_Rep a A st co va) (RB : sk_Rep b B st co va) (ha : a < 5) (hb : b < 5) (hi : i < 6) (hN : ∀ c, N c = A c + B c)
    (K : ∀ f' nc' nv', sk_NW N i (6 * i + 6) f' ns nc' nv' → post (f', st, co, va, ns, nc', nv', wk)) :
    ∀ m d n f nc nv, d + m = 6 → m < n → sk_NW N i (6 * i + d) f ns nc nv →
    wX_mergeRow_32 post (nI (a * 36 + sk_ct A (6 * i + 6))) (nI (b * 36 + sk_ct B (6 * i + 6))) n (nI (a * 36 + sk_ct A (6 * i + d))) (nI (b * 36 + sk_ct B (6 * i + d))) f st co va ns nc nv wk := by
  have hA := sk_bd A (show 6 * i + 6 ≤ 36 by omega)
  have hB := sk_bd B (show 6 * i + 6 ≤ 36 by omega)
  intro m
  induction m with
  | zero =>
    intro d n f nc nv h1 h2 h
    obtain ⟨n, rfl⟩ : ∃ k, n = k + 1 := ⟨n - 1, by omega⟩
    obtain rfl : d = 6 := by omega
    exact br_f (nI_nlt (Nat.le_refl _) (by omega)) (br_t (nI_le (Nat.le_refl _) (by omega)) (K _ _ _ h))
  | succ m ih =>
    intro d n f nc nv h1 h2 h
    obtain ⟨n, rfl⟩ : ∃ k, n = k + 1 := ⟨n - 1, by omega⟩
    have S46 := fun hne => sk_mstep (post := post) (J := wX_mergeRow_32 post (nI (a * 36 + sk_ct A (6 * i + 6))) (nI (b * 36 + sk_ct B (6 * i + 6))) n) (wk := wk) RA RB ha hb hi (show d < 6 by omega) hne hN h (fun f' nc' nv' h' => ih (d + 1) n f' nc' nv' (by omega) (by omega) h')
    by_cases zB : B (6 * i + d) = 0
    · by_cases zA : A (6 * i + d) = 0
      · have e1 : sk_ct A (6 * i + (d + 1)) = sk_ct A (6 * i + d) := sk_ctz zA
        have e2 : sk_ct B (6 * i + (d + 1)) = sk_ct B (6 * i + d) := sk_ctz zB
        have h4 := ih (d + 1) (n + 1) f nc nv (by omega) (by omega) (sk_NWy h (by rw [hN, zA, zB, Int32.add_zero]))
        rw [e1, e2] at h4
        exact h4
      · have l := sk_lt (M := A) (show 6 * i + d < 6 * i + 6 by omega) zA
        exact br_t (nI_lt (by omega) (by omega)) (S46 (fun z => absurd z zA))
    · have l := sk_lt (M := B) (show 6 * i + d < 6 * i + 6 by omega) zB
      exact br_c (fun _ => S46 (fun _ => zB)) (fun _ => br_f (nI_ge (by omega) (by omega)) (S46 (fun _ => zB)))
theorem sk_xmerge (RA : sk_Rep a A st co va) (RB : sk_Rep b B st co va) (ha : a < 5) (hb : b < 5) (hi : i < 6) (hN : ∀ c, N c = A c + B c) (h : sk_NW N i (6 * i) f ns nc nv)
    (K : ∀ f' nc' nv', sk_NW N i (6 * i + 6) f' ns nc' nv' → post (f', st, co, va, ns, nc', nv', wk)) : wpX_mergeRow post (f, st, co, va, ns, nc, nv, wk) (nI a) (nI b) (nI i) := by
  unfold wpX_mergeRow
  dsimp only
  refine sk_from RA ha (by omega) (sk_from RB hb (by omega) (sk_upTo RA ha hi (sk_upTo RB hb hi ⟨7, ?_⟩)))
  exact sk_mloop RA RB ha hb hi hN K 6 0 7 f nc nv rfl (by decide) h
theorem sk_cloop (RA : sk_Rep a A st co va) (RB : sk_Rep b B st co va) (ha : a < 5) (hb : b < 5) (hi : i < 6) (hN : ∀ c, N c = A c * B c)
    (K : ∀ f' nc' nv', sk_NW N i (6 * i + 6) f' ns nc' nv' → post (f', st, co, va, ns, nc', nv', wk)) :
    ∀ m d n f nc nv, d + m = 6 → m < n → sk_NW N i (6 * i + d) f ns nc nv →
    wX_crossRow_32 post (nI (a * 36 + sk_ct A (6 * i + 6))) (nI (b * 36 + sk_ct B (6 * i + 6))) n (nI (a * 36 + sk_ct A (6 * i + d))) (nI (b * 36 + sk_ct B (6 * i + d))) f st co va ns nc nv wk := by
  have hA := sk_bd A (show 6 * i + 6 ≤ 36 by omega)
  have hB := sk_bd B (show 6 * i + 6 ≤ 36 by omega)
  intro m
  induction m with
  | zero =>
    intro d n f nc nv h1 h2 h
    obtain ⟨n, rfl⟩ : ∃ k, n = k + 1 := ⟨n - 1, by omega⟩
    obtain rfl : d = 6 := by omega
    exact br_t (nI_le (Nat.le_refl _) (by omega)) (K _ _ _ h)
  | succ m ih =>
    intro d n f nc nv h1 h2 h
    obtain ⟨n, rfl⟩ : ∃ k, n = k + 1 := ⟨n - 1, by omega⟩
    have hd : d < 6 := by omega
    have mA := sk_mono (M := A) (show 6 * i + d ≤ 6 * i + 6 by omega)
    have mB := sk_mono (M := B) (show 6 * i + d ≤ 6 * i + 6 by omega)
    have rest : (∀ x, d ≤ x → x < 6 → A (6 * i + x) = 0 ∨ B (6 * i + x) = 0) → post (f, st, co, va, ns, nc, nv, wk) := by
      intro hz
      refine K _ _ _ ?_
      have h3 := sk_NWzs (6 - d) (6 * i + d) h (fun c g1 g2 => by
        have e : c = 6 * i + (c - 6 * i) := by omega
        rw [e, hN]
        rcases hz (c - 6 * i) (by omega) (by omega) with z | z
        · rw [z, Int32.zero_mul]
        · rw [z, Int32.mul_zero])
      rw [show 6 * i + d + (6 - d) = 6 * i + 6 by omega] at h3
      exact h3
    by_cases zA : A (6 * i + d) = 0
    · have e1 : sk_ct A (6 * i + (d + 1)) = sk_ct A (6 * i + d) := sk_ctz zA
      have hz := sk_NWy h (by rw [hN, zA, Int32.zero_mul])
      by_cases zB : B (6 * i + d) = 0
      · have e2 : sk_ct B (6 * i + (d + 1)) = sk_ct B (6 * i + d) := sk_ctz zB
        have h4 := ih (d + 1) (n + 1) f nc nv (by omega) (by omega) hz
        rw [e1, e2] at h4
        exact h4
      · have e2 : sk_ct B (6 * i + (d + 1)) = sk_ct B (6 * i + d) + 1 := sk_ctn zB
        obtain ⟨B1, B2, B3, B4, B5⟩ := sk_at RB hb hi hd zB
        rcases sk_hd (d := d) RA ha hi (by omega) with ⟨g1, g2⟩ | ⟨g1, q, g2, g3, g4, g5, g6⟩
        · exact br_t (nI_le (by omega) (by omega)) (rest (fun x x1 x2 => Or.inl (g2 x x1 x2)))
        · have hq : ¬ q = d := fun e => (g4.mp e) zA
          have h4 := ih (d + 1) n f nc nv (by omega) (by omega) hz
          rw [e1, e2] at h4
          refine br_f (nI_ge (by omega) (by omega)) (br_f (nI_ge (by omega) (by omega)) ⟨g5, B1, br_f ?_ ⟨g5, B1, br_t ?_ (nm_r (sk_p1 _ _) h4)⟩⟩)
          · rw [g6, B2, nI_eq (by omega) (by omega)]; exact hq
          · rw [g6, B2]; exact nI_le (by omega) (by omega)
    · have e1 : sk_ct A (6 * i + (d + 1)) = sk_ct A (6 * i + d) + 1 := sk_ctn zA
      obtain ⟨A1, A2, A3, A4, A5⟩ := sk_at RA ha hi hd zA
      by_cases zB : B (6 * i + d) = 0
      · have e2 : sk_ct B (6 * i + (d + 1)) = sk_ct B (6 * i + d) := sk_ctz zB
        have hz := sk_NWy h (by rw [hN, zB, Int32.mul_zero])
        rcases sk_hd (d := d) RB hb hi (by omega) with ⟨g1, g2⟩ | ⟨g1, q, g2, g3, g4, g5, g6⟩
        · exact br_f (nI_ge (by omega) (by omega)) (br_t (nI_le (by omega) (by omega)) (rest (fun x x1 x2 => Or.inr (g2 x x1 x2))))
        · have hq : ¬ q = d := fun e => (g4.mp e) zB
          have h4 := ih (d + 1) n f nc nv (by omega) (by omega) hz
          rw [e1, e2] at h4
          refine br_f (nI_ge (by omega) (by omega)) (br_f (nI_ge (by omega) (by omega)) ⟨A1, g5, br_f ?_ ⟨A1, g5, br_f ?_ (nm_r (sk_p1 _ _) h4)⟩⟩)
          · rw [g6, A2, nI_eq (by omega) (by omega)]; exact fun e => hq e.symm
          · rw [g6, A2]; exact nI_ge (by omega) (by omega)
      · have e2 : sk_ct B (6 * i + (d + 1)) = sk_ct B (6 * i + d) + 1 := sk_ctn zB
        obtain ⟨B1, B2, B3, B4, B5⟩ := sk_at RB hb hi hd zB
        refine br_f (nI_ge (by omega) (by omega)) (br_f (nI_ge (by omega) (by omega)) ⟨A1, B1, br_t (A2.trans B2.symm) ⟨A1, A1, B1, sk_emit h (by omega) (A2.trans (sk_md hd)) (by rw [A3, B3, hN]) (fun f' nc' nv' h' => ?_)⟩⟩)
        have h4 := ih (d + 1) n f' nc' nv' (by omega) (by omega) h'
        rw [e1, e2] at h4
        dsimp only
        exact nm_r (sk_p1 _ _) (nm_r (sk_p1 _ _) h4)
theorem sk_xcross (RA : sk_Rep a A st co va) (RB : sk_Rep b B st co va) (ha : a < 5) (hb : b < 5) (hi : i < 6) (hN : ∀ c, N c = A c * B c) (h : sk_NW N i (6 * i) f ns nc nv)
    (K : ∀ f' nc' nv', sk_NW N i (6 * i + 6) f' ns nc' nv' → post (f', st, co, va, ns, nc', nv', wk)) : wpX_crossRow post (f, st, co, va, ns, nc, nv, wk) (nI a) (nI b) (nI i) := by
  unfold wpX_crossRow
  dsimp only
  refine sk_from RA ha (by omega) (sk_from RB hb (by omega) (sk_upTo RA ha hi (sk_upTo RB hb hi ⟨7, ?_⟩)))
  exact sk_cloop RA RB ha hb hi hN K 6 0 7 f nc nv rfl (by decide) h
end
section
variable {post : Int32 → SX → Prop} {Ms : Nat → Nat → Int32} {t a b : Nat} {f : Int32} {st co va ns nc nv wk : Nat → Int32}
theorem sk_xadd (R : sk_RX Ms st co va) (ht : t < 5) (ha : a < 5) (hb : b < 5) (K : sk_KX post Ms t (fun c => Ms a c + Ms b c)) : wpX_add post (f, st, co, va, ns, nc, nv, wk) (nI t) (nI a) (nI b) := by
  unfold wpX_add
  dsimp only
  refine sk_isT ht (br_f sk_o (sk_isT ha (br_f sk_o (sk_isT hb (br_f sk_o (sk_begin (N := fun c => Ms a c + Ms b c) (fun f' ns' h => ?_)))))))
  dsimp only
  refine loop_0 (σ := Int32 × (Nat → Int32) × (Nat → Int32) × (Nat → Int32)) (fun n i s => wX_add_30 post (nI t) (nI a) (nI b) n (nI i) s.1 st co va s.2.1 s.2.2.1 s.2.2.2 wk)
    (fun i s => sk_NW (fun c => Ms a c + Ms b c) i (6 * i) s.1 s.2.1 s.2.2.1 s.2.2.2) 6 (f', ns', nc, nv) h ?_ ?_
  · intro n s h
    exact br_t sk_66 (sk_store h ht R (fun st' co' va' R' => K _ _ _ _ _ _ _ _ R'))
  · intro n i s hi h hk
    refine br_f (sk_6i hi) (sk_xmerge (R a ha) (R b hb) ha hb hi (fun c => rfl) h (fun f' nc' nv' h' => ?_))
    dsimp only
    refine sk_endRow h' hi (fun ns' h'' => ?_)
    dsimp only
    exact nm_r (nI_1 i) (hk (f', ns', nc', nv') h'')
theorem sk_xentry (R : sk_RX Ms st co va) (ht : t < 5) (ha : a < 5) (hb : b < 5) (K : sk_KX post Ms t (fun c => Ms a c * Ms b c)) : wpX_entrywise post (f, st, co, va, ns, nc, nv, wk) (nI t) (nI a) (nI b) := by
  unfold wpX_entrywise
  dsimp only
  refine sk_isT ht (br_f sk_o (sk_isT ha (br_f sk_o (sk_isT hb (br_f sk_o (sk_begin (N := fun c => Ms a c * Ms b c) (fun f' ns' h => ?_)))))))
  dsimp only
  refine loop_0 (σ := Int32 × (Nat → Int32) × (Nat → Int32) × (Nat → Int32)) (fun n i s => wX_entrywise_30 post (nI t) (nI a) (nI b) n (nI i) s.1 st co va s.2.1 s.2.2.1 s.2.2.2 wk)
    (fun i s => sk_NW (fun c => Ms a c * Ms b c) i (6 * i) s.1 s.2.1 s.2.2.1 s.2.2.2) 6 (f', ns', nc, nv) h ?_ ?_
  · intro n s h
    exact br_t sk_66 (sk_store h ht R (fun st' co' va' R' => K _ _ _ _ _ _ _ _ R'))
  · intro n i s hi h hk
    refine br_f (sk_6i hi) (sk_xcross (R a ha) (R b hb) ha hb hi (fun c => rfl) h (fun f' nc' nv' h' => ?_))
    dsimp only
    refine sk_endRow h' hi (fun ns' h'' => ?_)
    dsimp only
    exact nm_r (nI_1 i) (hk (f', ns', nc', nv') h'')
end
end
section
/-- the first n terms of entry (i, j) of a product -/
def sk_ps (A B : Nat → Int32) (i j : Nat) : Nat → Int32
  | 0 => 0
  | n + 1 => sk_ps A B i j n + A (6 * i + n) * B (6 * n + j)
def sk_pm (A B : Nat → Int32) : Nat → Int32 := fun c => sk_ps A B (c / 6) (c % 6) 6
theorem sk_pmE {A B : Nat → Int32} {i j : Nat} (hj : j < 6) : sk_pm A B (6 * i + j) = sk_ps A B i j 6 := by
  have e1 : (6 * i + j) / 6 = i := by omega
  have e2 : (6 * i + j) % 6 = j := by omega
  unfold sk_pm
  rw [e1, e2]
section
variable {post : SX → Prop} {a b i d : Nat} {A B : Nat → Int32} {f : Int32} {st co va ns nc nv wk : Nat → Int32}
theorem sk_prI {J : Int32 → (Nat → Int32) → (Nat → Int32) → (Nat → Int32) → (Nat → Int32) → (Nat → Int32) → (Nat → Int32) → (Nat → Int32) → Prop} {P : Nat → Int32}
    (RA : sk_Rep a A st co va) (RB : sk_Rep b B st co va) (ha : a < 5) (hb : b < 5) (hi : i < 6) (hd : d < 6) (hn : ¬ A (6 * i + d) = 0) (hw : ∀ j, j < 6 → wk j = P j)
    (K : ∀ wk', (∀ j, j < 6 → wk' j = P j + A (6 * i + d) * B (6 * d + j)) → J (nI (a * 36 + (sk_ct A (6 * i + d) + 1))) st co va ns nc nv wk') :
    ∃ n, wX_productRow_41 post J (nI a) (nI b) (nI i) (nI (a * 36 + sk_ct A (6 * i + d))) (nI d) f n (nI (b * 36 + sk_ct B (6 * d))) st co va ns nc nv wk := by
  obtain ⟨A1, A2, A3, A4, A5⟩ := sk_at RA ha hi hd hn
  refine sk_loopE (σ := Nat → Int32) B (6 * d) 6 (fun n k s => wX_productRow_41 post J (nI a) (nI b) (nI i) (nI (a * 36 + sk_ct A (6 * i + d))) (nI d) f n (nI (b * 36 + k)) st co va ns nc nv s)
    (fun e s => ∀ j, j < 6 → s j = if j < e then P j + A (6 * i + d) * B (6 * d + j) else P j) wk (fun j hj => ?_) ?_ ?_ ?_
  · rw [if_neg (Nat.not_lt_zero j)]; exact hw j hj
  · intro n s h
    have hB := sk_bd B (show 6 * d + 6 ≤ 36 by omega)
    rw [wX_productRow_41]
    refine sk_upTo RB hb hd (br_t (nI_le (Nat.le_refl _) (by omega)) (nm_r (sk_p1 _ _) (K s (fun j hj => ?_))))
    rw [h j hj, if_pos hj]
  · intro e s he z h j hj
    rw [h j hj]
    by_cases l : j < e
    · rw [if_pos l, if_pos (by omega)]
    · rw [if_neg l]
      by_cases q : j = e
      · subst q
        rw [if_pos (by omega), z, Int32.mul_zero, Int32.add_zero]
      · rw [if_neg (by omega)]
  · intro n e s he hn' h hk
    obtain ⟨B1, B2, B3, B4, B5⟩ := sk_at RB hb hd he hn'
    have v : vp_in (co (nI (b * 36 + sk_ct B (6 * d + e))).toNatClampNeg) 6 := by rw [B2]; exact vp_in_nI he (by decide)
    rw [wX_productRow_41]
    refine sk_upTo RB hb hd (br_f (nI_ge (by omega) (by omega)) ⟨B1, v, A1, B1, v, fun wk' ew => nm_r (sk_p1 _ _) (hk wk' (fun j hj => ?_))⟩)
    rw [B2, nI_clamp (n := e) (by omega), A3, B3] at ew
    rw [ew]
    by_cases q : j = e
    · subst q
      rw [pk_us, if_pos (by omega), h j hj, if_neg (by omega)]
    · rw [pk_un q, h j hj]
      by_cases l : j < e
      · rw [if_pos l, if_pos (by omega)]
      · rw [if_neg l, if_neg (by omega)]
theorem sk_prod (RA : sk_Rep a A st co va) (RB : sk_Rep b B st co va) (ha : a < 5) (hb : b < 5) (hi : i < 6)
    (K : ∀ wk', (∀ j, j < 6 → wk' j = sk_ps A B i j 6) → post (f, st, co, va, ns, nc, nv, wk')) : wpX_productRow post (f, st, co, va, ns, nc, nv, wk) (nI a) (nI b) (nI i) := by
  unfold wpX_productRow
  dsimp only
  refine sk_clear (fun w0 hw => ?_)
  dsimp only
  refine sk_from RA ha (by omega) ?_
  refine sk_loopE (σ := Nat → Int32) A (6 * i) 6 (fun n k s => wX_productRow_12 post (nI a) (nI b) (nI i) f n (nI (a * 36 + k)) st co va ns nc nv s)
    (fun d s => ∀ j, j < 6 → s j = sk_ps A B i j d) w0 hw ?_ ?_ ?_
  · intro n s h
    have hA := sk_bd A (show 6 * i + 6 ≤ 36 by omega)
    rw [wX_productRow_12]
    exact sk_upTo RA ha hi (br_t (nI_le (Nat.le_refl _) (by omega)) (K s h))
  · intro d s hd z h j hj
    rw [h j hj, sk_ps, z, Int32.zero_mul, Int32.add_zero]
  · intro n d s hd hn h hk
    obtain ⟨A1, A2, A3, A4, A5⟩ := sk_at RA ha hi hd hn
    rw [wX_productRow_12]
    refine sk_upTo RA ha hi (br_f (nI_ge (by omega) (by omega)) ⟨A1, nm_r A2 (sk_from RB hb (by omega) ?_)⟩)
    exact sk_prI (P := fun j => sk_ps A B i j d) RA RB ha hb hi hd hn h (fun wk' hw' => hk wk' hw')
end
section
variable {post : Int32 → SX → Prop} {Ms : Nat → Nat → Int32} {t a b c i : Nat} {f : Int32} {st co va ns nc nv wk : Nat → Int32}
theorem sk_xproduct (R : sk_RX Ms st co va) (ht : t < 5) (ha : a < 5) (hb : b < 5) (K : sk_KX post Ms t (sk_pm (Ms a) (Ms b))) : wpX_product post (f, st, co, va, ns, nc, nv, wk) (nI t) (nI a) (nI b) := by
  unfold wpX_product
  dsimp only
  refine sk_isT ht (br_f sk_o (sk_isT ha (br_f sk_o (sk_isT hb (br_f sk_o (sk_begin (N := sk_pm (Ms a) (Ms b)) (fun f' ns' h => ?_)))))))
  dsimp only
  refine loop_0 (σ := Int32 × (Nat → Int32) × (Nat → Int32) × (Nat → Int32) × (Nat → Int32)) (fun n i s => wX_product_30 post (nI t) (nI a) (nI b) n (nI i) s.1 st co va s.2.1 s.2.2.1 s.2.2.2.1 s.2.2.2.2)
    (fun i s => sk_NW (sk_pm (Ms a) (Ms b)) i (6 * i) s.1 s.2.1 s.2.2.1 s.2.2.2.1) 6 (f', ns', nc, nv, wk) h ?_ ?_
  · intro n s h
    exact br_t sk_66 (sk_store h ht R (fun st' co' va' R' => K _ _ _ _ _ _ _ _ R'))
  · intro n i s hi h hk
    refine br_f (sk_6i hi) (sk_prod (R a ha) (R b hb) ha hb hi (fun wk' hw => ?_))
    dsimp only
    refine sk_emitWork h hi (fun j hj => (hw j hj).trans (sk_pmE hj).symm) (fun f' nc' nv' h' => ?_)
    dsimp only
    refine sk_endRow h' hi (fun ns' h'' => ?_)
    dsimp only
    exact nm_r (nI_1 i) (hk (f', ns', nc', nv', wk') h'')
/-! masked -/
def sk_mk (A B C : Nat → Int32) : Nat → Int32 := fun c => if C c = 0 then 0 else sk_pm A B c
theorem sk_maskI {J : Int32 → Int32 → (Nat → Int32) → (Nat → Int32) → (Nat → Int32) → (Nat → Int32) → (Nat → Int32) → (Nat → Int32) → (Nat → Int32) → Prop} {A B C : Nat → Int32} {x1 x3 x4 : Int32}
    (R : sk_Rep c C st co va) (hc : c < 5) (hi : i < 6) (hw : ∀ j, j < 6 → wk j = sk_ps A B i j 6) (h : sk_NW (sk_mk A B C) i (6 * i) f ns nc nv)
    (K : ∀ f' ns' nc' nv', sk_NW (sk_mk A B C) (i + 1) (6 * (i + 1)) f' ns' nc' nv' → J (nI (i + 1)) f' st co va ns' nc' nv' wk) :
    ∃ n, wX_masked_84 post J x1 x3 x4 (nI c) (nI i) n (nI (c * 36 + sk_ct C (6 * i))) f st co va ns nc nv wk := by
  refine sk_loopE (σ := Int32 × (Nat → Int32) × (Nat → Int32)) C (6 * i) 6 (fun n k s => wX_masked_84 post J x1 x3 x4 (nI c) (nI i) n (nI (c * 36 + k)) s.1 st co va ns s.2.1 s.2.2 wk)
    (fun d s => sk_NW (sk_mk A B C) i (6 * i + d) s.1 ns s.2.1 s.2.2) (f, nc, nv) h ?_ ?_ ?_
  · intro n s h
    have hb := sk_bd C (show 6 * i + 6 ≤ 36 by omega)
    rw [wX_masked_84]
    refine sk_upTo R hc hi (br_t (nI_le (Nat.le_refl _) (by omega)) (sk_endRow h hi (fun ns' h' => ?_)))
    dsimp only
    exact nm_r (nI_1 i) (K _ _ _ _ h')
  · intro d s hd z h
    exact sk_NWy h (if_pos z)
  · intro n d s hd hn h hk
    obtain ⟨A1, A2, A3, A4, A5⟩ := sk_at R hc hi hd hn
    have ev : wk (nI d).toNatClampNeg = sk_mk A B C (6 * i + d) := by
      have e : sk_mk A B C (6 * i + d) = sk_pm A B (6 * i + d) := if_neg hn
      rw [nI_clamp (by omega), hw d hd, e, sk_pmE hd]
    rw [wX_masked_84]
    refine sk_upTo R hc hi (br_f (nI_ge (by omega) (by omega)) ⟨A1, nm_r A2 ⟨vp_in_nI hd (by decide), sk_emit h (by omega) (sk_md hd) ev (fun f' nc' nv' h' => ?_)⟩⟩)
    dsimp only
    exact nm_r (sk_p1 _ _) (hk (f', nc', nv') h')
theorem sk_xmasked {p : Int32} (R : sk_RX Ms st co va) (e1 : p &&& 7 = nI a) (e2 : (p >>> ((3 : Int32) &&& 31)) &&& 7 = nI b) (e3 : p >>> ((6 : Int32) &&& 31) = nI c) (ht : t < 5) (ha : a < 5) (hb : b < 5) (hc : c < 5)
    (K : sk_KX post Ms t (sk_mk (Ms a) (Ms b) (Ms c))) : wpX_masked post (f, st, co, va, ns, nc, nv, wk) (nI t) p := by
  unfold wpX_masked
  dsimp only
  refine nm_r e1 (nm_r e2 (nm_r e3 (sk_isT ht (br_f sk_o (sk_isT ha (br_f sk_o (sk_isT hb (br_f sk_o (sk_isT hc (br_f sk_o (sk_begin (N := sk_mk (Ms a) (Ms b) (Ms c)) (fun f' ns' h => ?_))))))))))))
  dsimp only
  refine loop_0 (σ := Int32 × (Nat → Int32) × (Nat → Int32) × (Nat → Int32) × (Nat → Int32)) (fun n i s => wX_masked_58 post (nI t) (nI a) (nI b) (nI c) n (nI i) s.1 st co va s.2.1 s.2.2.1 s.2.2.2.1 s.2.2.2.2)
    (fun i s => sk_NW (sk_mk (Ms a) (Ms b) (Ms c)) i (6 * i) s.1 s.2.1 s.2.2.1 s.2.2.2.1) 6 (f', ns', nc, nv, wk) h ?_ ?_
  · intro n s h
    exact br_t sk_66 (sk_store h ht R (fun st' co' va' R' => K _ _ _ _ _ _ _ _ R'))
  · intro n i s hi h hk
    refine br_f (sk_6i hi) (sk_prod (R a ha) (R b hb) ha hb hi (fun wk' hw => ?_))
    dsimp only
    exact sk_from (R c hc) hc (by omega) (sk_maskI (R c hc) hc hi hw h (fun f' ns' nc' nv' h' => hk (f', ns', nc', nv', wk') h'))
end
end
section
section
variable {post : Int32 → SX → Prop} {Ms : Nat → Nat → Int32} {t a s i j r : Nat} {f : Int32} {st co va ns nc nv wk : Nat → Int32}
def sk_pt (M : Nat → Int32) (k : Nat) (v : Int32) : Nat → Int32 := fun c => if c = k then v else M c
theorem sk_put101 {J : Int32 → Int32 → (Nat → Int32) → (Nat → Int32) → (Nat → Int32) → (Nat → Int32) → (Nat → Int32) → (Nat → Int32) → (Nat → Int32) → Prop} {N : Nat → Int32} {x1 x2 x3 x4 : Int32}
    (hr : r < 6) (hw : ∀ q, q < 6 → wk q = N (6 * r + q)) (h : sk_NW N r (6 * r) f ns nc nv)
    (K : ∀ f' ns' nc' nv', sk_NW N (r + 1) (6 * (r + 1)) f' ns' nc' nv' → J (nI (r + 1)) f' st co va ns' nc' nv' wk) :
    wX_put_101 post J x1 x2 x3 x4 (nI r) f st co va ns nc nv wk := by
  unfold wX_put_101
  refine sk_emitWork h hr hw (fun f' nc' nv' h' => ?_)
  dsimp only
  refine sk_endRow h' hr (fun ns' h'' => ?_)
  dsimp only
  exact nm_r (nI_1 r) (K _ _ _ _ h'')
theorem sk_putI {J : Int32 → Int32 → (Nat → Int32) → (Nat → Int32) → (Nat → Int32) → (Nat → Int32) → (Nat → Int32) → (Nat → Int32) → (Nat → Int32) → Prop} {M : Nat → Int32} {v : Int32}
    (R : sk_Rep s M st co va) (hs : s < 5) (hi : i < 6) (hj : j < 6) (hr : r < 6) (hw : ∀ q, q < 6 → wk q = 0) (h : sk_NW (sk_pt M (6 * i + j) v) r (6 * r) f ns nc nv)
    (K : ∀ f' ns' nc' nv' wk', sk_NW (sk_pt M (6 * i + j) v) (r + 1) (6 * (r + 1)) f' ns' nc' nv' → J (nI (r + 1)) f' st co va ns' nc' nv' wk') :
    ∃ n, wX_put_50 post J (nI s) (nI i) (nI j) v (nI r) f n (nI (s * 36 + sk_ct M (6 * r))) st co va ns nc nv wk := by
  refine sk_loopE (σ := Nat → Int32) M (6 * r) 6 (fun n k w => wX_put_50 post J (nI s) (nI i) (nI j) v (nI r) f n (nI (s * 36 + k)) st co va ns nc nv w)
    (fun d w => ∀ q, q < 6 → w q = if q < d then M (6 * r + q) else 0) wk (fun q hq => ?_) ?_ ?_ ?_
  · rw [if_neg (Nat.not_lt_zero q)]; exact hw q hq
  · intro n w hI
    have hB := sk_bd M (show 6 * r + 6 ≤ 36 by omega)
    rw [wX_put_50]
    refine sk_upTo R hs hr (br_t (nI_le (Nat.le_refl _) (by omega)) ?_)
    by_cases e : r = i
    · subst e
      refine br_t rfl ⟨vp_in_nI hj (by decide), fun w' ew => sk_put101 hr (fun q hq => ?_) h (fun f' ns' nc' nv' h' => K _ _ _ _ _ h')⟩
      rw [nI_clamp (by omega)] at ew
      rw [ew]
      unfold sk_pt
      by_cases e : q = j
      · subst e; rw [pk_us, if_pos rfl]
      · rw [pk_un e, if_neg (by omega), hI q hq, if_pos hq]
    · refine br_f (by rw [nI_eq (by omega) (by omega)]; exact e) (sk_put101 hr (fun q hq => ?_) h (fun f' ns' nc' nv' h' => K _ _ _ _ _ h'))
      unfold sk_pt
      rw [if_neg (by omega), hI q hq, if_pos hq]
  · intro d w hd z hI q hq
    rw [hI q hq]
    by_cases l : q < d
    · rw [if_pos l, if_pos (by omega)]
    · rw [if_neg l]
      by_cases e : q = d
      · subst e; rw [if_pos (by omega), z]
      · rw [if_neg (by omega)]
  · intro n d w hd hn hI hk
    obtain ⟨A1, A2, A3, A4, A5⟩ := sk_at R hs hr hd hn
    have v6 : vp_in (co (nI (s * 36 + sk_ct M (6 * r + d))).toNatClampNeg) 6 := by rw [A2]; exact vp_in_nI hd (by decide)
    rw [wX_put_50]
    refine sk_upTo R hs hr (br_f (nI_ge (by omega) (by omega)) ⟨A1, A1, v6, fun w' ew => nm_r (sk_p1 _ _) (hk w' (fun q hq => ?_))⟩)
    rw [A2, nI_clamp (n := d) (by omega), A3] at ew
    rw [ew]
    by_cases e : q = d
    · subst e; rw [pk_us, if_pos (by omega)]
    · rw [pk_un e, hI q hq]
      by_cases l : q < d
      · rw [if_pos l, if_pos (by omega)]
      · rw [if_neg l, if_neg (by omega)]
theorem sk_xput {v : Int32} (R : sk_RX Ms st co va) (hs : s < 5) (hi : i < 6) (hj : j < 6)
    (K : ∀ f st co va ns nc nv wk, sk_RX (sk_set Ms s (sk_pt (Ms s) (6 * i + j) v)) st co va → post 1 (f, st, co, va, ns, nc, nv, wk)) : wpX_put post (f, st, co, va, ns, nc, nv, wk) (nI s) (nI i) (nI j) v := by
  unfold wpX_put
  dsimp only
  refine sk_isT hs (br_f sk_o (sk_ixT hi (br_f sk_o (sk_ixT hj (br_f sk_o (sk_begin (N := sk_pt (Ms s) (6 * i + j) v) (fun f' ns' h => ?_)))))))
  dsimp only
  refine loop_0 (σ := Int32 × (Nat → Int32) × (Nat → Int32) × (Nat → Int32) × (Nat → Int32)) (fun n r z => wX_put_30 post (nI s) (nI i) (nI j) v n (nI r) z.1 st co va z.2.1 z.2.2.1 z.2.2.2.1 z.2.2.2.2)
    (fun r z => sk_NW (sk_pt (Ms s) (6 * i + j) v) r (6 * r) z.1 z.2.1 z.2.2.1 z.2.2.2.1) 6 (f', ns', nc, nv, wk) h ?_ ?_
  · intro n z h
    exact br_t sk_66 (sk_store h hs R (fun st' co' va' R' => K _ _ _ _ _ _ _ _ R'))
  · intro n r z hr h hk
    refine br_f (sk_6i hr) (sk_clear (fun wk' hw => ?_))
    dsimp only
    exact sk_from (R s hs) hs (by omega) (sk_putI (R s hs) hs hi hj hr hw h (fun f' ns' nc' nv' wk' h' => hk (f', ns', nc', nv', wk') h'))
/-! transpose -/
def sk_tr (A : Nat → Int32) : Nat → Int32 := fun c => A (6 * (c % 6) + c / 6)
theorem sk_trE {A : Nat → Int32} {i j : Nat} (hi : i < 6) : sk_tr A (6 * j + i) = A (6 * i + j) := by
  have e1 : (6 * j + i) / 6 = j := by omega
  have e2 : (6 * j + i) % 6 = i := by omega
  unfold sk_tr
  rw [e1, e2]
theorem sk_trI {J : Int32 → Int32 → (Nat → Int32) → (Nat → Int32) → (Nat → Int32) → (Nat → Int32) → (Nat → Int32) → (Nat → Int32) → (Nat → Int32) → Prop} {A : Nat → Int32} {x1 : Int32}
    (R : sk_Rep a A st co va) (ha : a < 5) (hj : j < 6) (h : sk_NW (sk_tr A) j (6 * j) f ns nc nv)
    (K : ∀ f' ns' nc' nv', sk_NW (sk_tr A) (j + 1) (6 * (j + 1)) f' ns' nc' nv' → J (nI (j + 1)) f' st co va ns' nc' nv' wk) :
    ∃ n, wX_transpose_31 post J x1 (nI a) (nI j) n 0 f st co va ns nc nv wk := by
  refine loop_0 (σ := Int32 × (Nat → Int32) × (Nat → Int32)) (fun n i s => wX_transpose_31 post J x1 (nI a) (nI j) n (nI i) s.1 st co va ns s.2.1 s.2.2 wk)
    (fun i s => sk_NW (sk_tr A) j (6 * j + i) s.1 ns s.2.1 s.2.2) 6 (f, nc, nv) h ?_ ?_
  · intro n s h
    refine br_t sk_66 (sk_endRow h hj (fun ns' h' => ?_))
    dsimp only
    exact nm_r (nI_1 j) (K _ _ _ _ h')
  · intro n i s hi h hk
    refine br_f (sk_6i hi) (sk_find R ha hi hj (fun hn => ?_) (fun z => ?_))
    · obtain ⟨A1, A2, A3, A4, A5⟩ := sk_at R ha hi hj hn
      refine br_f (nI_pos (by omega)) ⟨A1, sk_emit h (by omega) (sk_md hi) (by rw [A3, sk_trE hi]) (fun f' nc' nv' h' => ?_)⟩
      dsimp only
      exact nm_r (nI_1 i) (hk (f', nc', nv') h')
    · exact br_t (by decide) (nm_r (nI_1 i) (hk s (sk_NWy h ((sk_trE hi).trans z))))
theorem sk_xtrans (R : sk_RX Ms st co va) (ht : t < 5) (ha : a < 5) (K : sk_KX post Ms t (sk_tr (Ms a))) : wpX_transpose post (f, st, co, va, ns, nc, nv, wk) (nI t) (nI a) := by
  unfold wpX_transpose
  dsimp only
  refine sk_isT ht (br_f sk_o (sk_isT ha (br_f sk_o (sk_begin (N := sk_tr (Ms a)) (fun f' ns' h => ?_)))))
  dsimp only
  refine loop_0 (σ := Int32 × (Nat → Int32) × (Nat → Int32) × (Nat → Int32)) (fun n i s => wX_transpose_22 post (nI t) (nI a) n (nI i) s.1 st co va s.2.1 s.2.2.1 s.2.2.2 wk)
    (fun i s => sk_NW (sk_tr (Ms a)) i (6 * i) s.1 s.2.1 s.2.2.1 s.2.2.2) 6 (f', ns', nc, nv) h ?_ ?_
  · intro n s h
    exact br_t sk_66 (sk_store h ht R (fun st' co' va' R' => K _ _ _ _ _ _ _ _ R'))
  · intro n j s hj h hk
    exact br_f (sk_6i hj) (sk_trI (R a ha) ha hj h (fun f' ns' nc' nv' h' => hk (f', ns', nc', nv') h'))
end
end
section
/-- the answer of next from column d on, m columns left -/
def sk_nx (M : Nat → Int32) (i : Nat) (j : Int32) : Nat → Nat → Int32
  | 0, _ => -1
  | m + 1, d => if M (6 * i + d) = 0 then sk_nx M i j m (d + 1) else if nI d < j then sk_nx M i j m (d + 1) else nI d
theorem sk_nxZ {M : Nat → Int32} {i : Nat} {j : Int32} {m d : Nat} (h : M (6 * i + d) = 0) : sk_nx M i j (m + 1) d = sk_nx M i j m (d + 1) := if_pos h
theorem sk_nxL {M : Nat → Int32} {i : Nat} {j : Int32} {m d : Nat} (h : nI d < j) : sk_nx M i j (m + 1) d = sk_nx M i j m (d + 1) := by
  by_cases z : M (6 * i + d) = 0
  · exact sk_nxZ z
  · exact (if_neg z).trans (if_pos h)
theorem sk_nxN {M : Nat → Int32} {i : Nat} {j : Int32} {m d : Nat} (z : ¬ M (6 * i + d) = 0) (h : ¬ nI d < j) : sk_nx M i j (m + 1) d = nI d := (if_neg z).trans (if_neg h)
def sk_rp (A B : Nat → Int32) (i j : Nat) : Nat → Int32
  | 0 => 0
  | n + 1 => sk_rp A B i j n + A (6 * i + n) * B (6 * j + n)
section
variable {post : Int32 → Prop} {s a b i j d : Nat} {M A B : Nat → Int32} {f : Int32} {st co va ns nc nv wk : Nat → Int32}
theorem sk_nextL {p : Int32} (R : sk_Rep s M st co va) (hs : s < 5) (hi : i < 6) :
    ∀ m d n, d + m = 6 → m < n → post (sk_nx M i p m d) → wX_next_24 post (nI s) (nI i) p f st co va ns nc nv wk n (nI (s * 36 + sk_ct M (6 * i + d))) := by
  have hB := sk_bd M (show 6 * i + 6 ≤ 36 by omega)
  intro m
  induction m with
  | zero =>
    intro d n h1 h2 K
    obtain ⟨n, rfl⟩ : ∃ k, n = k + 1 := ⟨n - 1, by omega⟩
    obtain rfl : d = 6 := by omega
    rw [wX_next_24]
    exact sk_upTo R hs hi (br_t (nI_le (Nat.le_refl _) (by omega)) K)
  | succ m ih =>
    intro d n h1 h2 K
    obtain ⟨n, rfl⟩ : ∃ k, n = k + 1 := ⟨n - 1, by omega⟩
    by_cases z : M (6 * i + d) = 0
    · have e1 : sk_ct M (6 * i + (d + 1)) = sk_ct M (6 * i + d) := sk_ctz z
      rw [sk_nxZ z] at K
      have h4 := ih (d + 1) (n + 1) (by omega) (by omega) K
      rw [e1] at h4
      exact h4
    · have e1 : sk_ct M (6 * i + (d + 1)) = sk_ct M (6 * i + d) + 1 := sk_ctn z
      obtain ⟨A1, A2, A3, A4, A5⟩ := sk_at R hs hi (show d < 6 by omega) z
      rw [wX_next_24]
      refine sk_upTo R hs hi (br_f (nI_ge (by omega) (by omega)) ⟨A1, ?_⟩)
      rw [A2]
      by_cases l : nI d < p
      · rw [sk_nxL l] at K
        have h4 := ih (d + 1) n (by omega) (by omega) K
        rw [e1] at h4
        exact br_t l (nm_r (sk_p1 _ _) h4)
      · rw [sk_nxN z l] at K
        exact br_f l ⟨A1, K⟩
theorem sk_xnext {p : Int32} (R : sk_Rep s M st co va) (hs : s < 5) (hi : i < 6) (K : post (sk_nx M i p 6 0)) : wpX_next post (f, st, co, va, ns, nc, nv, wk) (nI s) (nI i) p := by
  unfold wpX_next
  dsimp only
  exact sk_isT hs (br_f sk_o (sk_ixT hi (br_f sk_o (sk_from R hs (by omega) ⟨7, sk_nextL R hs hi 6 0 7 rfl (by decide) K⟩))))
/-! rowsProduct -/
theorem sk_rp97 {J : Int32 → Int32 → Int32 → Prop} {y : Int32} (RA : sk_Rep a A st co va) (RB : sk_Rep b B st co va) (ha : a < 5) (hb : b < 5) (hi : i < 6) (hj : j < 6) (hd : d < 6) (hn : ¬ A (6 * i + d) = 0)
    (K : J (y + A (6 * i + d) * B (6 * j + d)) (nI (b * 36 + sk_ct B (6 * j + d))) (nI (a * 36 + (sk_ct A (6 * i + d) + 1)))) :
    wX_rowsProduct_97 post J (nI a) (nI i) (nI b) (nI j) y (nI (b * 36 + sk_ct B (6 * j + d))) (nI (a * 36 + sk_ct A (6 * i + d))) f st co va ns nc nv wk := by
  have hB := sk_bd B (show 6 * j + 6 ≤ 36 by omega)
  have mB := sk_mono (M := B) (show 6 * j + d ≤ 6 * j + 6 by omega)
  obtain ⟨A1, A2, A3, A4, A5⟩ := sk_at RA ha hi hd hn
  unfold wX_rowsProduct_97
  rcases sk_hd (d := d) RB hb hj (by omega) with ⟨g1, g2⟩ | ⟨g1, q, g2, g3, g4, g5, g6⟩
  · rw [g2 d (Nat.le_refl d) hd, Int32.mul_zero, Int32.add_zero] at K
    exact sk_upTo RB hb hj (br_t (nI_le (by omega) (by omega)) (nm_r (sk_p1 _ _) K))
  · refine sk_upTo RB hb hj (br_f (nI_ge (by omega) (by omega)) ⟨g5, A1, ?_⟩)
    rw [g6, A2]
    by_cases z : B (6 * j + d) = 0
    · rw [z, Int32.mul_zero, Int32.add_zero] at K
      have hq : ¬ q = d := fun e => (g4.mp e) z
      exact br_f (by rw [nI_eq (by omega) (by omega)]; exact hq) (nm_r (sk_p1 _ _) K)
    · obtain ⟨B1, B2, B3, B4, B5⟩ := sk_at RB hb hj hd z
      exact br_t (congrArg nI (g4.mpr z)) ⟨A1, g5, nm_r (by rw [A3, B3]) (nm_r (sk_p1 _ _) K)⟩
theorem sk_rp62 {J : Int32 → Int32 → Int32 → Prop} {y : Int32} (RA : sk_Rep a A st co va) (RB : sk_Rep b B st co va) (ha : a < 5) (hb : b < 5) (hi : i < 6) (hj : j < 6) (hd : d < 6) (hn : ¬ A (6 * i + d) = 0)
    (K : J (y + A (6 * i + d) * B (6 * j + d)) (nI (b * 36 + sk_ct B (6 * j + d))) (nI (a * 36 + (sk_ct A (6 * i + d) + 1)))) :
    ∀ m e n, e + m = d → m < n → wX_rowsProduct_62 post J (nI a) (nI i) (nI b) (nI j) y (nI (a * 36 + sk_ct A (6 * i + d))) f st co va ns nc nv wk n (nI (b * 36 + sk_ct B (6 * j + e))) := by
  have hB := sk_bd B (show 6 * j + 6 ≤ 36 by omega)
  have E97 := sk_rp97 (post := post) (f := f) (ns := ns) (nc := nc) (nv := nv) (wk := wk) RA RB ha hb hi hj hd hn K
  obtain ⟨A1, A2, A3, A4, A5⟩ := sk_at RA ha hi hd hn
  intro m
  induction m with
  | zero =>
    intro e n h1 h2
    obtain ⟨n, rfl⟩ : ∃ k, n = k + 1 := ⟨n - 1, by omega⟩
    obtain rfl : e = d := by omega
    have mB := sk_mono (M := B) (show 6 * j + e ≤ 6 * j + 6 by omega)
    rcases sk_hd (d := e) RB hb hj (by omega) with ⟨g1, g2⟩ | ⟨g1, q, g2, g3, g4, g5, g6⟩
    · rw [wX_rowsProduct_62]
      exact sk_upTo RB hb hj (br_t (nI_le (by omega) (by omega)) E97)
    · rw [wX_rowsProduct_62]
      exact sk_upTo RB hb hj (br_f (nI_ge (by omega) (by omega)) ⟨g5, A1, br_t (by rw [g6, A2]; exact nI_le g2 (by omega)) E97⟩)
  | succ m ih =>
    intro e n h1 h2
    obtain ⟨n, rfl⟩ : ∃ k, n = k + 1 := ⟨n - 1, by omega⟩
    by_cases z : B (6 * j + e) = 0
    · have e1 : sk_ct B (6 * j + (e + 1)) = sk_ct B (6 * j + e) := sk_ctz z
      have h4 := ih (e + 1) (n + 1) (by omega) (by omega)
      rw [e1] at h4
      exact h4
    · have e1 : sk_ct B (6 * j + (e + 1)) = sk_ct B (6 * j + e) + 1 := sk_ctn z
      obtain ⟨B1, B2, B3, B4, B5⟩ := sk_at RB hb hj (show e < 6 by omega) z
      have h4 := ih (e + 1) n (by omega) (by omega)
      rw [e1] at h4
      rw [wX_rowsProduct_62]
      exact sk_upTo RB hb hj (br_f (nI_ge (by omega) (by omega)) ⟨B1, A1, br_f (by rw [A2, B2]; exact nI_ge (by omega) (by omega)) (nm_r (sk_p1 _ _) h4)⟩)
theorem sk_xrows (RA : sk_Rep a A st co va) (RB : sk_Rep b B st co va) (ha : a < 5) (hb : b < 5) (hi : i < 6) (hj : j < 6) (K : post (sk_rp A B i j 6)) :
    wpX_rowsProduct post (f, st, co, va, ns, nc, nv, wk) (nI a) (nI i) (nI b) (nI j) := by
  unfold wpX_rowsProduct
  dsimp only
  refine sk_isT ha (br_f sk_o (sk_ixT hi (br_f sk_o (sk_isT hb (br_f sk_o (sk_ixT hj (br_f sk_o (sk_from RB hb (by omega) (sk_from RA ha (by omega) ?_)))))))))
  refine sk_loopE (σ := Int32 × Int32) A (6 * i) 6 (fun n k z => wX_rowsProduct_51 post (nI a) (nI i) (nI b) (nI j) f st co va ns nc nv wk n z.1 z.2 (nI (a * 36 + k)))
    (fun d z => z.1 = sk_rp A B i j d ∧ ∃ e, e ≤ d ∧ z.2 = nI (b * 36 + sk_ct B (6 * j + e))) (0, nI (b * 36 + sk_ct B (6 * j))) ⟨rfl, 0, Nat.le_refl 0, rfl⟩ ?_ ?_ ?_
  · intro n z h
    have hA := sk_bd A (show 6 * i + 6 ≤ 36 by omega)
    rw [wX_rowsProduct_51]
    refine sk_upTo RA ha hi (br_t (nI_le (Nat.le_refl _) (by omega)) ?_)
    rw [h.1]
    exact K
  · intro d z hd zz h
    obtain ⟨h1, e, he, h2⟩ := h
    refine ⟨?_, e, by omega, h2⟩
    rw [h1, sk_rp, zz, Int32.zero_mul, Int32.add_zero]
  · intro n d z hd hn h hk
    obtain ⟨y, x6⟩ := z
    obtain ⟨h1, e, he, h2⟩ := h
    dsimp only at h1 h2
    subst h1 h2
    obtain ⟨A1, A2, A3, A4, A5⟩ := sk_at RA ha hi hd hn
    rw [wX_rowsProduct_51]
    refine sk_upTo RA ha hi (br_f (nI_ge (by omega) (by omega)) ⟨d - e + 1, ?_⟩)
    exact sk_rp62 RA RB ha hb hi hj hd hn (hk (_, _) ⟨rfl, d, by omega, rfl⟩) (d - e) e (d - e + 1) (by omega) (by omega)
/-! sum -/
def sk_is (g : Nat → Int32) : Nat → Int32
  | 0 => 0
  | n + 1 => sk_is g n + g n
def sk_g (w p : Int32) (M : Nat → Int32) (r d : Nat) : Int32 := if w = 0 then (if nI r = p then M (6 * r + d) else 0) else if w = 1 then (if nI d = p then M (6 * r + d) else 0) else (if nI d = nI r then M (6 * r + d) else 0)
theorem sk_gz {w p : Int32} {r : Nat} (z : M (6 * r + d) = 0) : sk_g w p M r d = 0 := by
  unfold sk_g
  rw [z, ite_self, ite_self, ite_self, ite_self, ite_self]
theorem sk_isC {g h : Nat → Int32} : ∀ n, (∀ q, q < n → g q = h q) → sk_is g n = sk_is h n := by
  intro n
  induction n with
  | zero => intro _; rfl
  | succ n ih =>
    intro e
    rw [sk_is, sk_is, ih (fun q hq => e q (by omega)), e n (by omega)]
theorem sk_is0 {g : Nat → Int32} : ∀ n, (∀ q, q < n → g q = 0) → sk_is g n = 0 := by
  intro n
  induction n with
  | zero => intro _; rfl
  | succ n ih =>
    intro e
    rw [sk_is, ih (fun q hq => e q (by omega)), e n (by omega), Int32.add_zero]
theorem sk_is1 {g : Nat → Int32} {i : Nat} : ∀ n, i < n → (∀ q, q < n → q ≠ i → g q = 0) → sk_is g n = g i := by
  intro n
  induction n with
  | zero => intro h; omega
  | succ n ih =>
    intro h e
    rw [sk_is]
    by_cases q : i = n
    · subst q
      rw [sk_is0 i (fun q hq => e q (by omega) (by omega)), Int32.zero_add]
    · rw [ih (by omega) (fun q hq hn => e q (by omega) hn), e n (by omega) (by omega), Int32.add_zero]
def sk_tot (w p : Int32) (M : Nat → Int32) : Int32 := sk_is (fun r => sk_is (sk_g w p M r) 6) 6
theorem sk_tot0 (hi : i < 6) : sk_tot 0 (nI i) M = sk_is (fun k => M (6 * i + k)) 6 := by
  unfold sk_tot
  rw [sk_is1 (i := i) 6 hi]
  · exact sk_isC 6 (fun q _ => (if_pos rfl).trans (if_pos rfl))
  · intro q hq hn
    refine sk_is0 6 (fun d _ => (if_pos rfl).trans (if_neg ?_))
    rw [nI_eq (by omega) (by omega)]
    exact hn
theorem sk_tot1 (hi : i < 6) : sk_tot 1 (nI i) M = sk_is (fun k => M (6 * k + i)) 6 := by
  unfold sk_tot
  refine sk_isC 6 (fun r hr => ?_)
  rw [sk_is1 (i := i) 6 hi]
  · exact (if_neg (by decide)).trans ((if_pos rfl).trans (if_pos rfl))
  · intro q hq hn
    refine (if_neg (by decide)).trans ((if_pos rfl).trans (if_neg ?_))
    rw [nI_eq (by omega) (by omega)]
    exact hn
theorem sk_tot2 {p : Int32} : sk_tot 2 p M = sk_is (fun k => M (6 * k + k)) 6 := by
  unfold sk_tot
  refine sk_isC 6 (fun r hr => ?_)
  rw [sk_is1 (i := r) 6 hr]
  · exact (if_neg (by decide)).trans ((if_neg (by decide)).trans (if_pos rfl))
  · intro q hq hn
    refine (if_neg (by decide)).trans ((if_neg (by decide)).trans (if_neg ?_))
    rw [nI_eq (by omega) (by omega)]
    exact hn
theorem sk_sumI {J : Int32 → Int32 → Prop} {w p y : Int32} {r : Nat} (R : sk_Rep s M st co va) (hs : s < 5) (hr : r < 6) (K : J (y + sk_is (sk_g w p M r) 6) (nI (r + 1))) :
    ∃ n, wX_sum_52 post J (nI s) w p (nI r) f st co va ns nc nv wk n y (nI (s * 36 + sk_ct M (6 * r))) := by
  refine sk_loopE (σ := Int32) M (6 * r) 6 (fun n k z => wX_sum_52 post J (nI s) w p (nI r) f st co va ns nc nv wk n z (nI (s * 36 + k)))
    (fun d z => z = y + sk_is (sk_g w p M r) d) y (Int32.add_zero y).symm ?_ ?_ ?_
  · intro n z h
    have hB := sk_bd M (show 6 * r + 6 ≤ 36 by omega)
    subst h
    rw [wX_sum_52]
    exact sk_upTo R hs hr (br_t (nI_le (Nat.le_refl _) (by omega)) (nm_r (nI_1 r) K))
  · intro d z hd zz h
    rw [h, sk_is, sk_gz zz, Int32.add_zero]
  · intro n d z hd hn h hk
    obtain ⟨A1, A2, A3, A4, A5⟩ := sk_at R hs hr hd hn
    have hk' : ∀ x, x = sk_g w p M r d → wX_sum_52 post J (nI s) w p (nI r) f st co va ns nc nv wk n (z + x) (nI (s * 36 + (sk_ct M (6 * r + d) + 1))) := by
      intro x ex
      refine hk _ ?_
      rw [h, sk_is, ex, Int32.add_assoc]
    have E1 : M (6 * r + d) = sk_g w p M r d → wX_sum_123 post J (wX_sum_52 post J (nI s) w p (nI r) f st co va ns nc nv wk n) (nI s) w p z (nI r) (nI (s * 36 + sk_ct M (6 * r + d))) 1 f st co va ns nc nv wk := by
      intro ex
      exact br_f sk_o ⟨A1, nm_r (by rw [A3]) (nm_r (sk_p1 _ _) (hk' _ ex))⟩
    have E0 : 0 = sk_g w p M r d → wX_sum_123 post J (wX_sum_52 post J (nI s) w p (nI r) f st co va ns nc nv wk n) (nI s) w p z (nI r) (nI (s * 36 + sk_ct M (6 * r + d))) 0 f st co va ns nc nv wk := by
      intro ex
      exact br_t rfl (nm_e (nm_r (sk_p1 _ _) (hk' _ ex)))
    rw [wX_sum_52]
    refine sk_upTo R hs hr (br_f (nI_ge (by omega) (by omega)) ?_)
    refine br_c (fun w0 => br_c (fun e => E1 ?_) (fun e => E0 ?_)) (fun w0 => br_c (fun w1 => ⟨A1, ?_⟩) (fun w1 => ⟨A1, ?_⟩))
    · exact ((if_pos w0).trans (if_pos e)).symm
    · exact ((if_pos w0).trans (if_neg e)).symm
    · rw [A2]
      exact br_c (fun e => E1 ((if_neg w0).trans ((if_pos w1).trans (if_pos e))).symm) (fun e => E0 ((if_neg w0).trans ((if_pos w1).trans (if_neg e))).symm)
    · rw [A2]
      exact br_c (fun e => E1 ((if_neg w0).trans ((if_neg w1).trans (if_pos e))).symm) (fun e => E0 ((if_neg w0).trans ((if_neg w1).trans (if_neg e))).symm)
theorem sk_sum36 {w p : Int32} (R : sk_Rep s M st co va) (hs : s < 5) (K : post (sk_tot w p M)) : ∃ n, wX_sum_36 post (nI s) w p f st co va ns nc nv wk n 0 0 := by
  refine loop_0 (σ := Int32) (fun n r z => wX_sum_36 post (nI s) w p f st co va ns nc nv wk n z (nI r)) (fun r z => z = sk_is (fun r => sk_is (sk_g w p M r) 6) r) 6 0 rfl ?_ ?_
  · intro n z h
    subst h
    exact br_t sk_66 K
  · intro n r z hr h hk
    refine br_f (sk_6i hr) (sk_from R hs (by omega) (sk_sumI R hs hr (hk _ ?_)))
    rw [h]
    rfl
theorem sk_xsum {w p : Int32} (R : sk_Rep s M st co va) (hs : s < 5) (w0 : ¬ w < 0) (w2 : ¬ 2 < w) (hp : 2 ≤ w ∨ ∃ i, i < 6 ∧ p = nI i) (K : post (sk_tot w p M)) : wpX_sum post (f, st, co, va, ns, nc, nv, wk) (nI s) w p := by
  unfold wpX_sum
  dsimp only
  refine sk_isT hs (br_f sk_o (br_f w0 (br_f w2 (br_c (fun _ => sk_sum36 R hs K) (fun l => ?_)))))
  obtain ⟨i, hi, rfl⟩ := hp.resolve_left l
  exact sk_ixT hi (br_f sk_o (sk_sum36 R hs K))
end
end
section
section
variable {post : Int32 → Prop} {s a b i j d : Nat} {M A B : Nat → Int32} {f : Int32} {st co va ns nc nv wk : Nat → Int32}
theorem sk_same1 {n : Nat} (RA : sk_Rep a A st co va) (RB : sk_Rep b B st co va) (h1 : ∀ q, q < 7 → sk_ct A (6 * q) = sk_ct B (6 * q))
    (h2 : ∀ k, k < sk_ct A 36 → co (a * 36 + k) = co (b * 36 + k) ∧ va (a * 36 + k) = va (b * 36 + k)) (hn : n < 36) (e : sk_ct A n = sk_ct B n) (hz : ¬ A n = 0) : A n = B n := by
  have hd : n % 6 < 6 := Nat.mod_lt _ (by decide)
  have en : n = 6 * (n / 6) + n % 6 := by omega
  have hi : n / 6 < 6 := by omega
  generalize n / 6 = i at en hi
  generalize n % 6 = d at en hd
  subst en
  have l1 := sk_lt (M := A) (show 6 * i + d < 6 * i + 6 by omega) hz
  have l2 := (sk_span A (6 * i) d).1
  have s1 := h1 i (by omega)
  have s2 : sk_ct A (6 * i + 6) = sk_ct B (6 * i + 6) := h1 (i + 1) (by omega)
  have l3 := sk_lt (M := A) hn hz
  obtain ⟨q, hq, hqn, he⟩ := sk_rinv (M := B) (i := i) (k := sk_ct A (6 * i + d)) (by omega) (by omega)
  have CA := sk_col RA hi hd hz
  have CB := sk_col RB hi hq hqn
  have E := h2 _ l3
  rw [CA.1, CA.2, ← he, CB.1, CB.2, nI_eq (by omega) (by omega)] at E
  obtain ⟨rfl, E2⟩ := E
  exact E2
theorem sk_same (RA : sk_Rep a A st co va) (RB : sk_Rep b B st co va) (h1 : ∀ q, q < 7 → sk_ct A (6 * q) = sk_ct B (6 * q))
    (h2 : ∀ k, k < sk_ct A 36 → co (a * 36 + k) = co (b * 36 + k) ∧ va (a * 36 + k) = va (b * 36 + k)) : ∀ n, n ≤ 36 → ∀ c, c < n → A c = B c := by
  intro n
  induction n with
  | zero => intro _ c hc; omega
  | succ n ih =>
    intro hn c hc
    have ih' := ih (by omega)
    by_cases e : c = n
    · subst e
      have ec := sk_congr c ih'
      by_cases zA : A c = 0
      · by_cases zB : B c = 0
        · rw [zA, zB]
        · have e36 : sk_ct A 36 = sk_ct B 36 := h1 6 (by decide)
          exact (sk_same1 RB RA (fun q hq => (h1 q hq).symm) (fun k hk => ⟨(h2 k (by omega)).1.symm, (h2 k (by omega)).2.symm⟩) (by omega) ec.symm zB).symm
      · exact sk_same1 RA RB h1 h2 (by omega) ec zA
    · exact ih' c (by omega)
theorem sk_same59 (RA : sk_Rep a A st co va) (RB : sk_Rep b B st co va) (ha : a < 5) (hb : b < 5) (h1 : ∀ q, q < 7 → sk_ct A (6 * q) = sk_ct B (6 * q))
    (K1 : (∀ c, c < 36 → A c = B c) → post 1) (K0 : ¬ (∀ c, c < 36 → A c = B c) → post 0) : ∃ n, wX_same_59 post (nI a) (nI b) f st co va ns nc nv wk n 0 := by
  have hA := sk_bd A (Nat.le_refl 36)
  have e7 : nI a * 7 + 6 = nI (a * 7 + 6) := sk_i7 a 6
  have v7 : vp_in (nI a * 7 + 6) 35 := by rw [e7]; exact vp_in_nI (by omega) (by decide)
  have s7 : st (nI a * 7 + 6).toNatClampNeg = nI (sk_ct A 36) := by rw [e7, nI_clamp (by omega)]; exact RA.1 6 (Nat.le_refl 6)
  refine loop_0 (σ := Unit) (fun n k _ => wX_same_59 post (nI a) (nI b) f st co va ns nc nv wk n (nI k))
    (fun k _ => ∀ q, q < k → co (a * 36 + q) = co (b * 36 + q) ∧ va (a * 36 + q) = va (b * 36 + q)) (sk_ct A 36) () (fun q hq => absurd hq (Nat.not_lt_zero q)) ?_ ?_
  · intro n _ h
    refine ⟨v7, br_t ?_ (K1 (sk_same RA RB h1 h 36 (Nat.le_refl 36)))⟩
    rw [s7]
    exact nI_le (Nat.le_refl _) (by omega)
  · intro n k _ hk h hn
    have e1 : nI a * 36 + nI k = nI (a * 36 + k) := by rw [sk_i36, nI_add]
    have e2 : nI b * 36 + nI k = nI (b * 36 + k) := by rw [sk_i36, nI_add]
    have v1 : vp_in (nI (a * 36 + k)) 180 := vp_in_nI (by omega) (by decide)
    have v2 : vp_in (nI (b * 36 + k)) 180 := vp_in_nI (by omega) (by decide)
    have c1 : (nI (a * 36 + k)).toNatClampNeg = a * 36 + k := nI_clamp (by omega)
    have c2 : (nI (b * 36 + k)).toNatClampNeg = b * 36 + k := nI_clamp (by omega)
    have al : (∀ c, c < 36 → A c = B c) → co (a * 36 + k) = co (b * 36 + k) ∧ va (a * 36 + k) = va (b * 36 + k) := by
      intro hq
      obtain ⟨c, hc, hcn, rfl⟩ := sk_inv 36 k hk
      have ec := sk_congr c (fun x hx => hq x (by omega))
      have CA := RA.2 c hc hcn
      have CB := RB.2 c hc (by rw [← hq c hc]; exact hcn)
      rw [← ec] at CB
      exact ⟨CA.1.trans CB.1.symm, CA.2.trans ((hq c hc).trans CB.2.symm)⟩
    refine ⟨v7, br_f (by rw [s7]; exact nI_ge hk (by omega)) (nm_r e1 (nm_r e2 ⟨v1, v2, ?_⟩))⟩
    rw [c1, c2]
    by_cases ec : co (a * 36 + k) = co (b * 36 + k)
    · refine br_t ec ⟨v1, v2, ?_⟩
      by_cases ev : va (a * 36 + k) = va (b * 36 + k)
      · refine br_t ev (nm_r (nI_1 k) (hn () (fun q hq => ?_)))
        by_cases e : q = k
        · subst e; exact ⟨ec, ev⟩
        · exact h q (by omega)
      · exact br_f ev (K0 (fun hq => ev (al hq).2))
    · exact br_f ec (K0 (fun hq => ec (al hq).1))
theorem sk_xsame (RA : sk_Rep a A st co va) (RB : sk_Rep b B st co va) (ha : a < 5) (hb : b < 5)
    (K1 : (∀ c, c < 36 → A c = B c) → post 1) (K0 : ¬ (∀ c, c < 36 → A c = B c) → post 0) : wpX_same post (f, st, co, va, ns, nc, nv, wk) (nI a) (nI b) := by
  unfold wpX_same
  dsimp only
  refine sk_isT ha (br_f sk_o (sk_isT hb (br_f sk_o ?_)))
  refine loop_0 (σ := Unit) (fun n k _ => wX_same_18 post (nI a) (nI b) f st co va ns nc nv wk n (nI k))
    (fun k _ => ∀ q, q < k → sk_ct A (6 * q) = sk_ct B (6 * q)) 7 () (fun q hq => absurd hq (Nat.not_lt_zero q)) ?_ ?_
  · intro n _ h
    exact br_t (nI_lt (a := 6) (b := 7) (by decide) (by decide)) (sk_same59 RA RB ha hb h K1 K0)
  · intro n k _ hk h hn
    have e1 := sk_i7 a k
    have e2 := sk_i7 b k
    have bA := sk_bd A (show 6 * k ≤ 36 by omega)
    have bB := sk_bd B (show 6 * k ≤ 36 by omega)
    refine br_f ?_ ?_
    · show ¬ (nI 6 < nI k)
      rw [nI_ltI (by decide) (by omega)]; omega
    · rw [e1, e2, nI_clamp (n := a * 7 + k) (by omega), nI_clamp (n := b * 7 + k) (by omega), RA.1 k (by omega), RB.1 k (by omega)]
      refine ⟨vp_in_nI (by omega) (by decide), vp_in_nI (by omega) (by decide), ?_⟩
      by_cases e : sk_ct A (6 * k) = sk_ct B (6 * k)
      · refine br_t (congrArg nI e) (nm_r (nI_1 k) (hn () (fun q hq => ?_)))
        by_cases e' : q = k
        · subst e'; exact e
        · exact h q (by omega)
      · refine br_f (by rw [nI_eq (by omega) (by omega)]; exact e) (K0 (fun hq => e (sk_congr _ (fun c hc => hq c (by omega)))))
/-! symmetric -/
theorem sk_symI {J : Int32 → Prop} (R : sk_Rep s M st co va) (hs : s < 5) (hi : i < 6) (K0 : ¬ (∀ r j, r < 6 → j < 6 → M (6 * r + j) = M (6 * j + r)) → post 0)
    (K : (∀ j, j < 6 → ¬ M (6 * i + j) = 0 → M (6 * j + i) = M (6 * i + j)) → J (nI (i + 1))) : ∃ n, wX_symmetric_24 post J (nI s) (nI i) f st co va ns nc nv wk n (nI (s * 36 + sk_ct M (6 * i))) := by
  refine sk_loopE (σ := Unit) M (6 * i) 6 (fun n k _ => wX_symmetric_24 post J (nI s) (nI i) f st co va ns nc nv wk n (nI (s * 36 + k)))
    (fun d _ => ∀ j, j < d → ¬ M (6 * i + j) = 0 → M (6 * j + i) = M (6 * i + j)) () (fun q hq => absurd hq (Nat.not_lt_zero q)) ?_ ?_ ?_
  · intro n _ h
    have hB := sk_bd M (show 6 * i + 6 ≤ 36 by omega)
    rw [wX_symmetric_24]
    exact sk_upTo R hs hi (br_t (nI_le (Nat.le_refl _) (by omega)) (nm_r (nI_1 i) (K h)))
  · intro d _ hd z h j hj hn
    have : j ≠ d := fun e => hn (e ▸ z)
    exact h j (by omega) hn
  · intro n d _ hd hn h hk
    obtain ⟨A1, A2, A3, A4, A5⟩ := sk_at R hs hi hd hn
    rw [wX_symmetric_24]
    refine sk_upTo R hs hi (br_f (nI_ge (by omega) (by omega)) ⟨A1, ?_⟩)
    rw [A2]
    refine sk_find R hs hd hi (fun hm => ?_) (fun z => ?_)
    · obtain ⟨B1, B2, B3, B4, B5⟩ := sk_at R hs hd hi hm
      refine br_f (nI_pos (by omega)) ⟨B1, A1, ?_⟩
      rw [A3, B3]
      refine br_c (fun e => nm_r (sk_p1 _ _) (hk () (fun j hj hjn => ?_))) (fun e => K0 (fun hq => e (hq d i hd hi)))
      by_cases e' : j = d
      · subst e'; exact e
      · exact h j (by omega) hjn
    · exact br_t (by decide) (K0 (fun hq => hn ((hq i d hi hd).trans z)))
theorem sk_xsym (R : sk_Rep s M st co va) (hs : s < 5) (K1 : (∀ r j, r < 6 → j < 6 → M (6 * r + j) = M (6 * j + r)) → post 1) (K0 : ¬ (∀ r j, r < 6 → j < 6 → M (6 * r + j) = M (6 * j + r)) → post 0) :
    wpX_symmetric post (f, st, co, va, ns, nc, nv, wk) (nI s) := by
  unfold wpX_symmetric
  dsimp only
  refine sk_isT hs (br_f sk_o ?_)
  refine loop_0 (σ := Unit) (fun n k _ => wX_symmetric_11 post (nI s) f st co va ns nc nv wk n (nI k))
    (fun r _ => ∀ q, q < r → ∀ j, j < 6 → ¬ M (6 * q + j) = 0 → M (6 * j + q) = M (6 * q + j)) 6 () (fun q hq => absurd hq (Nat.not_lt_zero q)) ?_ ?_
  · intro n _ h
    refine br_t sk_66 (K1 (fun r j hr hj => ?_))
    by_cases z : M (6 * r + j) = 0
    · by_cases z' : M (6 * j + r) = 0
      · rw [z, z']
      · exact h j hj r hr z'
    · exact (h r hr j hj z).symm
  · intro n i _ hi h hk
    refine br_f (sk_6i hi) (sk_from R hs (by omega) (sk_symI R hs hi K0 (fun hq => hk () (fun q hq' j hj hn => ?_))))
    by_cases e : q = i
    · subst e; exact hq j hj hn
    · exact h q (by omega) j hj hn
end
end
section
/-- what a storing method of the plain form asks for -/
def sk_KY (post : Int32 → SY → Prop) (Ms : Nat → Nat → Int32) (t : Nat) (N : Nat → Int32) : Prop :=
  ∀ al md, sk_RY (sk_set Ms t N) al → post (nI (sk_ct N 36)) (al, md)
theorem sk_3636 : (36 : Int32) ≤ nI 36 := nI_le (a := 36) (b := 36) (Nat.le_refl 36) (by decide)
theorem sk_36i {i : Nat} (h : i < 36) : ¬ (36 : Int32) ≤ nI i := nI_ge (b := 36) h (by decide)
theorem sk_d6 {c : Nat} (h : c < 36) : nI c / 6 = nI (c / 6) := pk_div (d := 6) (by omega) (by decide) (by decide)
theorem sk_r6 {c : Nat} (h : c < 36) : nI c - nI c / 6 * 6 = nI (c % 6) := pk_rem (d := 6) (by omega) (by decide) (by decide)
theorem sk_6n : ¬ (6 : Int32) = 0 := by decide
theorem sk_yi (s c : Nat) : 36 * nI s + nI c = nI (36 * s + c) := by rw [sk_j36, nI_add]
theorem sk_ya {Ms : Nat → Nat → Int32} {al : Nat → Int32} {s c : Nat} (R : sk_RY Ms al) (hs : s < 5) (hc : c < 36) : vp_in (36 * nI s + nI c) 180 ∧ al (36 * nI s + nI c).toNatClampNeg = Ms s c := by
  rw [sk_yi, nI_clamp (by omega)]
  exact ⟨vp_in_nI (by omega) (by decide), R s hs c hc⟩
theorem sk_ym {m N : Nat → Int32} {c : Nat} {v : Int32} (h : ∀ q, q < c → m q = N q) (hc : c < 36) (hv : v = N c) : ∀ q, q < c + 1 → upd m (nI c).toNatClampNeg v q = N q := by
  intro q hq
  rw [nI_clamp (by omega)]
  by_cases e : q = c
  · subst e; rw [pk_us, hv]
  · rw [pk_un e]; exact h q (by omega)
section
variable {post : Int32 → Prop} {Ms : Nat → Nat → Int32} {s a b i j : Nat} {al md : Nat → Int32}
theorem sk_yc (R : sk_RY Ms al) (hs : s < 5) (hi : i < 6) (hj : j < 6) (K : post (Ms s (6 * i + j))) : wpY_cell post (al, md) (nI s) (nI i) (nI j) := by
  have e : (36 * nI s + 6 * nI i) + nI j = nI (36 * s + (6 * i + j)) := by rw [sk_j36, sk_j6, nI_add, nI_add, Nat.add_assoc]
  unfold wpY_cell
  dsimp only
  rw [e, nI_clamp (by omega), R s hs (6 * i + j) (by omega)]
  exact ⟨vp_in_nI (by omega) (by decide), K⟩
theorem sk_ye (R : sk_RY Ms al) (ha : a < 5) (hb : b < 5) (hi : i < 6) (hj : j < 6) (K : post (sk_ps (Ms a) (Ms b) i j 6)) : wpY_entry post (al, md) (nI a) (nI b) (nI i) (nI j) := by
  unfold wpY_entry
  dsimp only
  refine loop_0 (σ := Int32) (fun n k y => wY_entry_6 post (nI a) (nI b) (nI i) (nI j) al md n y (nI k)) (fun k y => y = sk_ps (Ms a) (Ms b) i j k) 6 0 rfl ?_ ?_
  · intro n y h
    subst h
    exact br_t sk_66 K
  · intro n k y hk h hn
    refine br_f (sk_6i hk) (sk_yc R ha hi hk (sk_yc R hb hk hj (nm_e (nm_r (nI_1 k) (hn _ ?_)))))
    rw [h, sk_ps]
theorem sk_ycount {M : Nat → Int32} (hM : ∀ c, c < 36 → al (36 * s + c) = M c) (hs : s < 5) (K : post (nI (sk_ct M 36))) : wpY_count post (al, md) (nI s) := by
  unfold wpY_count
  dsimp only
  refine loop_0 (σ := Int32) (fun n c y => wY_count_4 post (nI s) al md n y (nI c)) (fun c y => y = nI (sk_ct M c)) 36 0 rfl ?_ ?_
  · intro n y h
    subst h
    refine br_t sk_3636 ?_
    unfold wY_count_46
    exact sk_slT hs (br_f sk_o K)
  · intro n c y hc h hn
    refine br_f (sk_36i hc) (sk_slT hs (br_f sk_o ?_))
    rw [sk_yi, nI_clamp (n := 36 * s + c) (by omega), hM c hc]
    refine ⟨vp_in_nI (by omega) (by decide), br_c (fun z => nm_r (nI_1 c) (hn _ ?_)) (fun z => nm_e (nm_r (nI_1 c) (hn _ ?_)))⟩
    · rw [h, sk_ctz z]
    · rw [h, nI_1, sk_ctn z]
theorem sk_yat (R : sk_RY Ms al) (hs : s < 5) (hi : i < 6) (hj : j < 6) (K : post (Ms s (6 * i + j))) : wpY_at post (al, md) (nI s) (nI i) (nI j) := by
  unfold wpY_at
  dsimp only
  exact sk_slT hs (br_f sk_o (sk_lnT hi (br_f sk_o (sk_lnT hj (br_f sk_o (sk_yc R hs hi hj K))))))
theorem sk_ynextL {p : Int32} (R : sk_RY Ms al) (hs : s < 5) (hi : i < 6) : ∀ m d n, d + m = 6 → m < n → post (sk_nx (Ms s) i p m d) → wY_next_3 post (nI s) (nI i) p al md n (nI d) := by
  intro m
  induction m with
  | zero =>
    intro d n h1 h2 K
    obtain ⟨n, rfl⟩ : ∃ k, n = k + 1 := ⟨n - 1, by omega⟩
    obtain rfl : d = 6 := by omega
    exact br_t sk_66 K
  | succ m ih =>
    intro d n h1 h2 K
    obtain ⟨n, rfl⟩ : ∃ k, n = k + 1 := ⟨n - 1, by omega⟩
    have hd : d < 6 := by omega
    refine br_f (sk_6i hd) (sk_slT hs (br_f sk_o (sk_lnT hi (br_f sk_o (br_c (fun l => ?_) (fun l => sk_yc R hs hi hd (br_c (fun z => ?_) (fun z => ?_))))))))
    · rw [sk_nxL l] at K
      exact nm_r (nI_1 d) (ih (d + 1) n (by omega) (by omega) K)
    · rw [sk_nxZ z] at K
      exact nm_r (nI_1 d) (ih (d + 1) n (by omega) (by omega) K)
    · rw [sk_nxN z l] at K
      exact K
theorem sk_ynext {p : Int32} (R : sk_RY Ms al) (hs : s < 5) (hi : i < 6) (K : post (sk_nx (Ms s) i p 6 0)) : wpY_next post (al, md) (nI s) (nI i) p := by
  unfold wpY_next
  dsimp only
  exact ⟨7, sk_ynextL R hs hi 6 0 7 rfl (by decide) K⟩
theorem sk_yrows (R : sk_RY Ms al) (ha : a < 5) (hb : b < 5) (hi : i < 6) (hj : j < 6) (K : post (sk_rp (Ms a) (Ms b) i j 6)) : wpY_rowsProduct post (al, md) (nI a) (nI i) (nI b) (nI j) := by
  unfold wpY_rowsProduct
  dsimp only
  refine loop_0 (σ := Int32) (fun n k y => wY_rowsProduct_6 post (nI a) (nI i) (nI b) (nI j) al md n y (nI k)) (fun k y => y = sk_rp (Ms a) (Ms b) i j k) 6 0 rfl ?_ ?_
  · intro n y h
    subst h
    exact br_t sk_66 K
  · intro n k y hk h hn
    refine br_f (sk_6i hk) (sk_slT ha (br_f sk_o (sk_slT hb (br_f sk_o (sk_lnT hi (br_f sk_o (sk_lnT hj (br_f sk_o (sk_yc R ha hi hk (sk_yc R hb hj hk (nm_e (nm_r (nI_1 k) (hn _ ?_)))))))))))))
    rw [h, sk_rp]
theorem sk_ysum0 (R : sk_RY Ms al) (hs : s < 5) (hi : i < 6) (K : post (sk_is (fun k => Ms s (6 * i + k)) 6)) : ∃ n, wY_sum_38 post (nI s) 0 (nI i) al md n 0 0 := by
  refine loop_0 (σ := Int32) (fun n k y => wY_sum_38 post (nI s) 0 (nI i) al md n y (nI k)) (fun k y => y = sk_is (fun k => Ms s (6 * i + k)) k) 6 0 rfl ?_ ?_
  · intro n y h
    subst h
    exact br_t sk_66 K
  · intro n k y hk h hn
    refine br_f (sk_6i hk) (br_t rfl (sk_yc R hs hi hk (nm_e (nm_r (nI_1 k) (hn _ ?_)))))
    rw [h, sk_is]
theorem sk_ysum1 (R : sk_RY Ms al) (hs : s < 5) (hi : i < 6) (K : post (sk_is (fun k => Ms s (6 * k + i)) 6)) : ∃ n, wY_sum_38 post (nI s) 1 (nI i) al md n 0 0 := by
  refine loop_0 (σ := Int32) (fun n k y => wY_sum_38 post (nI s) 1 (nI i) al md n y (nI k)) (fun k y => y = sk_is (fun k => Ms s (6 * k + i)) k) 6 0 rfl ?_ ?_
  · intro n y h
    subst h
    exact br_t sk_66 K
  · intro n k y hk h hn
    refine br_f (sk_6i hk) (br_f sk_o (br_t rfl (sk_yc R hs hk hi (nm_e (nm_r (nI_1 k) (hn _ ?_))))))
    rw [h, sk_is]
theorem sk_ysum2 {p : Int32} (R : sk_RY Ms al) (hs : s < 5) (K : post (sk_is (fun k => Ms s (6 * k + k)) 6)) : ∃ n, wY_sum_38 post (nI s) 2 p al md n 0 0 := by
  refine loop_0 (σ := Int32) (fun n k y => wY_sum_38 post (nI s) 2 p al md n y (nI k)) (fun k y => y = sk_is (fun k => Ms s (6 * k + k)) k) 6 0 rfl ?_ ?_
  · intro n y h
    subst h
    exact br_t sk_66 K
  · intro n k y hk h hn
    refine br_f (sk_6i hk) (br_f (by decide) (br_f (by decide) (sk_yc R hs hk hk (nm_e (nm_r (nI_1 k) (hn _ ?_))))))
    rw [h, sk_is]
theorem sk_w012 {w : Int32} (w0 : ¬ w < 0) (w2 : ¬ 2 < w) : w = 0 ∨ w = 1 ∨ w = 2 := by
  obtain ⟨k, hk, rfl⟩ := nI_of w0
  have h : ¬ (nI 2 < nI k) := w2
  rw [nI_ltI (by decide) hk] at h
  have h3 : k = 0 ∨ k = 1 ∨ k = 2 := by omega
  rcases h3 with rfl | rfl | rfl
  · exact Or.inl rfl
  · exact Or.inr (Or.inl rfl)
  · exact Or.inr (Or.inr rfl)
theorem sk_ysum {w p : Int32} (R : sk_RY Ms al) (hs : s < 5) (w0 : ¬ w < 0) (w2 : ¬ 2 < w) (hp : 2 ≤ w ∨ ∃ i, i < 6 ∧ p = nI i) (K : post (sk_tot w p (Ms s))) : wpY_sum post (al, md) (nI s) w p := by
  unfold wpY_sum
  dsimp only
  refine sk_slT hs (br_f sk_o (br_f w0 (br_f w2 ?_)))
  rcases sk_w012 w0 w2 with rfl | rfl | rfl
  · obtain ⟨i, hi, rfl⟩ := hp.resolve_left (by decide)
    rw [sk_tot0 hi] at K
    exact br_f (by decide) (sk_lnT hi (br_f sk_o (sk_ysum0 R hs hi K)))
  · obtain ⟨i, hi, rfl⟩ := hp.resolve_left (by decide)
    rw [sk_tot1 hi] at K
    exact br_f (by decide) (sk_lnT hi (br_f sk_o (sk_ysum1 R hs hi K)))
  · rw [sk_tot2] at K
    exact br_t rfl (sk_ysum2 R hs K)
theorem sk_ysame (R : sk_RY Ms al) (ha : a < 5) (hb : b < 5) (K1 : (∀ c, c < 36 → Ms a c = Ms b c) → post 1) (K0 : ¬ (∀ c, c < 36 → Ms a c = Ms b c) → post 0) : wpY_same post (al, md) (nI a) (nI b) := by
  unfold wpY_same
  dsimp only
  refine sk_slT ha (br_f sk_o (sk_slT hb (br_f sk_o ?_)))
  refine loop_0 (σ := Int32) (fun n c y => wY_same_25 post (nI a) (nI b) al md n y (nI c)) (fun c y => (y = 1 ∧ ∀ q, q < c → Ms a q = Ms b q) ∨ (y = 0 ∧ ¬ (∀ q, q < 36 → Ms a q = Ms b q))) 36 1 (Or.inl ⟨rfl, fun q hq => absurd hq (Nat.not_lt_zero q)⟩) ?_ ?_
  · intro n y h
    rcases h with ⟨rfl, h⟩ | ⟨rfl, h⟩
    · exact br_t sk_3636 ⟨rfl, K1 h⟩
    · exact br_t sk_3636 ⟨rfl, K0 h⟩
  · intro n c y hc h hn
    rcases h with ⟨rfl, h⟩ | ⟨rfl, h⟩
    · have E1 := sk_ya R ha hc
      have E2 := sk_ya R hb hc
      refine br_f (sk_36i hc) (br_f sk_o ⟨E1.1, E2.1, ?_⟩)
      rw [E1.2, E2.2]
      refine br_c (fun e => nm_r (nI_1 c) (hn 1 (Or.inl ⟨rfl, fun q hq => ?_⟩))) (fun e => nm_r (nI_1 c) (hn 0 (Or.inr ⟨rfl, fun hq => e (hq c hc)⟩)))
      by_cases e' : q = c
      · subst e'; exact e
      · exact h q (by omega)
    · exact br_f (sk_36i hc) (br_t rfl ⟨rfl, K0 h⟩)
theorem sk_ysym (R : sk_RY Ms al) (hs : s < 5) (K1 : (∀ r j, r < 6 → j < 6 → Ms s (6 * r + j) = Ms s (6 * j + r)) → post 1) (K0 : ¬ (∀ r j, r < 6 → j < 6 → Ms s (6 * r + j) = Ms s (6 * j + r)) → post 0) :
    wpY_symmetric post (al, md) (nI s) := by
  unfold wpY_symmetric
  dsimp only
  refine sk_slT hs ?_
  refine loop_0 (σ := Int32) (fun n c y => wY_symmetric_8 post (nI s) al md n y (nI c)) (fun c y => (y = 1 ∧ ∀ q, q < c → Ms s (6 * (q / 6) + q % 6) = Ms s (6 * (q % 6) + q / 6)) ∨ (y = 0 ∧ ¬ (∀ r j, r < 6 → j < 6 → Ms s (6 * r + j) = Ms s (6 * j + r)))) 36 1 (Or.inl ⟨rfl, fun q hq => absurd hq (Nat.not_lt_zero q)⟩) ?_ ?_
  · intro n y h
    rcases h with ⟨rfl, h⟩ | ⟨rfl, h⟩
    · refine br_t sk_3636 ⟨rfl, K1 (fun r j hr hj => ?_)⟩
      have h2 := h (6 * r + j) (by omega)
      rw [show (6 * r + j) / 6 = r by omega, show (6 * r + j) % 6 = j by omega] at h2
      exact h2
    · exact br_t sk_3636 ⟨rfl, K0 h⟩
  · intro n c y hc h hn
    rcases h with ⟨rfl, h⟩ | ⟨rfl, h⟩
    · refine br_f (sk_36i hc) (br_f sk_o ⟨sk_6n, sk_6n, ?_⟩)
      rw [sk_r6 hc, sk_d6 hc]
      refine sk_yc R hs (by omega) (by omega) ⟨sk_6n, sk_6n, sk_yc R hs (by omega) (by omega) ?_⟩
      refine br_c (fun e => nm_r (nI_1 c) (hn 1 (Or.inl ⟨rfl, fun q hq => ?_⟩))) (fun e => nm_r (nI_1 c) (hn 0 (Or.inr ⟨rfl, fun hq => e (hq _ _ (by omega) (by omega))⟩)))
      by_cases e' : q = c
      · subst e'; exact e
      · exact h q (by omega)
    · exact br_f (sk_36i hc) (br_t rfl ⟨rfl, K0 h⟩)
end
end
section
section
variable {post : Int32 → SY → Prop} {Ms : Nat → Nat → Int32} {t a b c s i j : Nat} {al md : Nat → Int32}
theorem sk_keep {N : Nat → Int32} (R : sk_RY Ms al) (ht : t < 5) (hm : ∀ q, q < 36 → md q = N q) (K : sk_KY post Ms t N) : wpY_keep post (al, md) (nI t) := by
  unfold wpY_keep
  dsimp only
  refine loop_0 (σ := Nat → Int32) (fun n c z => wY_keep_2 post (nI t) n (nI c) z md)
    (fun c z => (∀ q, q < c → z (36 * t + q) = N q) ∧ (∀ x, (x < 36 * t ∨ 36 * t + 36 ≤ x) → z x = al x)) 36 al ⟨fun q hq => absurd hq (Nat.not_lt_zero q), fun x _ => rfl⟩ ?_ ?_
  · intro n z h
    refine br_t sk_3636 (sk_ycount (M := N) h.1 ht (K z md ?_))
    intro u hu c hc
    by_cases e : u = t
    · subst e
      rw [sk_setS]
      exact h.1 c hc
    · rw [sk_setN e, h.2 _ (by omega)]
      exact R u hu c hc
  · intro n c z hc h hn
    refine br_f (sk_36i hc) ⟨vp_in_nI hc (by decide), by rw [sk_yi]; exact vp_in_nI (by omega) (by decide), fun y ey => nm_r (nI_1 c) (hn y ⟨fun q hq => ?_, fun x hx => ?_⟩)⟩
    · rw [sk_yi, nI_clamp (n := 36 * t + c) (by omega), nI_clamp (n := c) (by omega), hm c hc] at ey
      rw [ey]
      by_cases e : q = c
      · subst e; exact pk_us
      · rw [pk_un (by omega)]; exact h.1 q (by omega)
    · rw [sk_yi, nI_clamp (n := 36 * t + c) (by omega)] at ey
      rw [ey, pk_un (by omega)]
      exact h.2 x hx
theorem sk_yput {v : Int32} (R : sk_RY Ms al) (hs : s < 5) (hi : i < 6) (hj : j < 6) (K : ∀ al md, sk_RY (sk_set Ms s (sk_pt (Ms s) (6 * i + j) v)) al → post 1 (al, md)) : wpY_put post (al, md) (nI s) (nI i) (nI j) v := by
  have e : (36 * nI s + 6 * nI i) + nI j = nI (36 * s + (6 * i + j)) := by rw [sk_j36, sk_j6, nI_add, nI_add, Nat.add_assoc]
  unfold wpY_put
  dsimp only
  refine sk_slT hs (br_f sk_o (sk_lnT hi (br_f sk_o (sk_lnT hj (br_f sk_o ?_)))))
  rw [e, nI_clamp (by omega)]
  refine ⟨vp_in_nI (by omega) (by decide), fun y ey => K y md ?_⟩
  intro u hu c hc
  rw [ey]
  by_cases e : u = s
  · subst e
    rw [sk_setS]
    unfold sk_pt
    by_cases e : c = 6 * i + j
    · subst e; rw [pk_us, if_pos rfl]
    · rw [pk_un (by omega), if_neg e]
      exact R u hu c hc
  · rw [sk_setN e, pk_un (by omega)]
    exact R u hu c hc
theorem sk_yadd (R : sk_RY Ms al) (ht : t < 5) (ha : a < 5) (hb : b < 5) (K : sk_KY post Ms t (fun c => Ms a c + Ms b c)) : wpY_add post (al, md) (nI t) (nI a) (nI b) := by
  unfold wpY_add
  dsimp only
  refine sk_slT ht (br_f sk_o (sk_slT ha (br_f sk_o (sk_slT hb (br_f sk_o ?_)))))
  refine loop_0 (σ := Nat → Int32) (fun n c m => wY_add_29 post (nI t) (nI a) (nI b) n (nI c) al m) (fun c m => ∀ q, q < c → m q = Ms a q + Ms b q) 36 md (fun q hq => absurd hq (Nat.not_lt_zero q)) ?_ ?_
  · intro n m h
    exact br_t sk_3636 (sk_keep (N := fun c => Ms a c + Ms b c) R ht h (fun al' md' R' => K al' md' R'))
  · intro n c m hc h hn
    have E1 := sk_ya R ha hc
    have E2 := sk_ya R hb hc
    exact br_f (sk_36i hc) ⟨E1.1, E2.1, vp_in_nI hc (by decide), nm_e (nm_r (nI_1 c) (hn _ (sk_ym h hc (by rw [E1.2, E2.2]))))⟩
theorem sk_yentry (R : sk_RY Ms al) (ht : t < 5) (ha : a < 5) (hb : b < 5) (K : sk_KY post Ms t (fun c => Ms a c * Ms b c)) : wpY_entrywise post (al, md) (nI t) (nI a) (nI b) := by
  unfold wpY_entrywise
  dsimp only
  refine sk_slT ht (br_f sk_o (sk_slT ha (br_f sk_o (sk_slT hb (br_f sk_o ?_)))))
  refine loop_0 (σ := Nat → Int32) (fun n c m => wY_entrywise_29 post (nI t) (nI a) (nI b) n (nI c) al m) (fun c m => ∀ q, q < c → m q = Ms a q * Ms b q) 36 md (fun q hq => absurd hq (Nat.not_lt_zero q)) ?_ ?_
  · intro n m h
    exact br_t sk_3636 (sk_keep (N := fun c => Ms a c * Ms b c) R ht h (fun al' md' R' => K al' md' R'))
  · intro n c m hc h hn
    have E1 := sk_ya R ha hc
    have E2 := sk_ya R hb hc
    exact br_f (sk_36i hc) ⟨E1.1, E2.1, vp_in_nI hc (by decide), nm_e (nm_r (nI_1 c) (hn _ (sk_ym h hc (by rw [E1.2, E2.2]))))⟩
theorem sk_yscale {k : Int32} (R : sk_RY Ms al) (ht : t < 5) (ha : a < 5) (K : sk_KY post Ms t (fun c => Ms a c * k)) : wpY_scale post (al, md) (nI t) (nI a) k := by
  unfold wpY_scale
  dsimp only
  refine sk_slT ht (br_f sk_o (sk_slT ha (br_f sk_o ?_)))
  refine loop_0 (σ := Nat → Int32) (fun n c m => wY_scale_21 post (nI t) (nI a) k n (nI c) al m) (fun c m => ∀ q, q < c → m q = Ms a q * k) 36 md (fun q hq => absurd hq (Nat.not_lt_zero q)) ?_ ?_
  · intro n m h
    exact br_t sk_3636 (sk_keep (N := fun c => Ms a c * k) R ht h (fun al' md' R' => K al' md' R'))
  · intro n c m hc h hn
    have E1 := sk_ya R ha hc
    exact br_f (sk_36i hc) ⟨E1.1, vp_in_nI hc (by decide), nm_e (nm_r (nI_1 c) (hn _ (sk_ym (N := fun c => Ms a c * k) h hc (by rw [E1.2]))))⟩
theorem sk_yproduct (R : sk_RY Ms al) (ht : t < 5) (ha : a < 5) (hb : b < 5) (K : sk_KY post Ms t (sk_pm (Ms a) (Ms b))) : wpY_product post (al, md) (nI t) (nI a) (nI b) := by
  unfold wpY_product
  dsimp only
  refine sk_slT ht (br_f sk_o (sk_slT ha (br_f sk_o (sk_slT hb (br_f sk_o ?_)))))
  refine loop_0 (σ := Nat → Int32) (fun n c m => wY_product_29 post (nI t) (nI a) (nI b) n (nI c) al m) (fun c m => ∀ q, q < c → m q = sk_pm (Ms a) (Ms b) q) 36 md (fun q hq => absurd hq (Nat.not_lt_zero q)) ?_ ?_
  · intro n m h
    exact br_t sk_3636 (sk_keep R ht h (fun al' md' R' => K al' md' R'))
  · intro n c m hc h hn
    refine br_f (sk_36i hc) ⟨sk_6n, sk_6n, ?_⟩
    rw [sk_r6 hc, sk_d6 hc]
    exact sk_ye R ha hb (by omega) (by omega) ⟨vp_in_nI hc (by decide), nm_e (nm_r (nI_1 c) (hn _ (sk_ym h hc rfl)))⟩
theorem sk_ymasked {p : Int32} (R : sk_RY Ms al) (e1 : p &&& 7 = nI a) (e2 : (p >>> ((3 : Int32) &&& 31)) &&& 7 = nI b) (e3 : p >>> ((6 : Int32) &&& 31) = nI c) (ht : t < 5) (ha : a < 5) (hb : b < 5) (hc : c < 5)
    (K : sk_KY post Ms t (sk_mk (Ms a) (Ms b) (Ms c))) : wpY_masked post (al, md) (nI t) p := by
  unfold wpY_masked
  dsimp only
  refine nm_r e1 (nm_r e2 (nm_r e3 (sk_slT ht (br_f sk_o (sk_slT ha (br_f sk_o (sk_slT hb (br_f sk_o (sk_slT hc (br_f sk_o ?_))))))))))
  refine loop_0 (σ := Nat → Int32) (fun n q m => wY_masked_58 post (nI t) (nI a) (nI b) (nI c) n (nI q) al m) (fun c' m => ∀ q, q < c' → m q = sk_mk (Ms a) (Ms b) (Ms c) q) 36 md (fun q hq => absurd hq (Nat.not_lt_zero q)) ?_ ?_
  · intro n m h
    exact br_t sk_3636 (sk_keep R ht h (fun al' md' R' => K al' md' R'))
  · intro n q m hq h hn
    have E1 := sk_ya R hc hq
    refine br_f (sk_36i hq) ⟨E1.1, ?_⟩
    rw [E1.2]
    refine br_c (fun z => ⟨vp_in_nI hq (by decide), nm_e (nm_r (nI_1 q) (hn _ (sk_ym h hq (if_pos z).symm)))⟩) (fun z => ⟨sk_6n, sk_6n, ?_⟩)
    rw [sk_r6 hq, sk_d6 hq]
    exact sk_ye R ha hb (by omega) (by omega) ⟨vp_in_nI hq (by decide), nm_e (nm_r (nI_1 q) (hn _ (sk_ym h hq (if_neg z).symm)))⟩
theorem sk_ytrans (R : sk_RY Ms al) (ht : t < 5) (ha : a < 5) (K : sk_KY post Ms t (sk_tr (Ms a))) : wpY_transpose post (al, md) (nI t) (nI a) := by
  unfold wpY_transpose
  dsimp only
  refine sk_slT ht (br_f sk_o (sk_slT ha (br_f sk_o ?_)))
  refine loop_0 (σ := Nat → Int32) (fun n c m => wY_transpose_20 post (nI t) (nI a) n (nI c) al m) (fun c m => ∀ q, q < c → m q = sk_tr (Ms a) q) 36 md (fun q hq => absurd hq (Nat.not_lt_zero q)) ?_ ?_
  · intro n m h
    exact br_t sk_3636 (sk_keep R ht h (fun al' md' R' => K al' md' R'))
  · intro n c m hc h hn
    refine br_f (sk_36i hc) ⟨sk_6n, sk_6n, ?_⟩
    rw [sk_r6 hc, sk_d6 hc]
    exact sk_yc R ha (by omega) (by omega) ⟨vp_in_nI hc (by decide), nm_e (nm_r (nI_1 c) (hn _ (sk_ym h hc rfl)))⟩
theorem sk_yselect {p : Int32} (R : sk_RY Ms al) (ht : t < 5) (ha : a < 5) (hp0 : ¬ p < 0) (hp1 : p ≤ 4095) (K : sk_KY post Ms t (sk_sel (Ms a) p)) : wpY_select post (al, md) (nI t) (nI a) p := by
  unfold wpY_select
  dsimp only
  refine sk_slT ht (br_f sk_o (sk_slT ha (br_f sk_o (br_f hp0 (br_t hp1 ?_)))))
  refine loop_0 (σ := Nat → Int32) (fun n c m => wY_select_32 post (nI t) (nI a) p n (nI c) al m) (fun c m => ∀ q, q < c → m q = sk_sel (Ms a) p q) 36 md (fun q hq => absurd hq (Nat.not_lt_zero q)) ?_ ?_
  · intro n m h
    exact br_t sk_3636 (sk_keep R ht h (fun al' md' R' => K al' md' R'))
  · intro n c m hc h hn
    have E1 := sk_ya R ha hc
    have E72 : sk_sel (Ms a) p c = 0 → wY_select_72 post (wY_select_32 post (nI t) (nI a) p n) (nI t) (nI a) p (nI c) al m := by
      intro z
      exact br_t rfl ⟨vp_in_nI hc (by decide), nm_e (nm_r (nI_1 c) (hn _ (sk_ym h hc z.symm)))⟩
    have E73 : sk_sel (Ms a) p c = Ms a c → wY_select_73 post (wY_select_32 post (nI t) (nI a) p n) (nI t) (nI a) p (nI c) 1 al m := by
      intro z
      exact br_f sk_o ⟨E1.1, vp_in_nI hc (by decide), nm_e (nm_r (nI_1 c) (hn _ (sk_ym h hc (by rw [E1.2, z]))))⟩
    refine br_f (sk_36i hc) ⟨sk_6n, ?_⟩
    rw [sk_r6 hc, sk_d6 hc, sk_6p]
    by_cases b1 : sk_bit p (c / 6) = 0
    · exact br_f (sk_and1t b1) (E72 (if_pos b1))
    · refine br_t (sk_and1f b1) ⟨sk_6n, ?_⟩
      by_cases b2 : sk_bit p (6 + c % 6) = 0
      · exact br_f (sk_and1t b2) (E72 ((if_neg b1).trans (if_pos b2)))
      · exact br_t (sk_and1f b2) (E73 ((if_neg b1).trans (if_neg b2)))
end
end
section
theorem sk_isG {post : Int32 → Prop} {p : Int32} (h : ∃ s : Nat, s < 5 ∧ p = nI s) (k : post 1) : wpX_isSlot post p := by obtain ⟨s, g, rfl⟩ := h; exact sk_isT g k
theorem sk_ixG {post : Int32 → Prop} {p : Int32} (h : ∃ s : Nat, s < 6 ∧ p = nI s) (k : post 1) : wpX_isIndex post p := by obtain ⟨s, g, rfl⟩ := h; exact sk_ixT g k
theorem sk_slG {post : Int32 → Prop} {v : SY} {p : Int32} (h : ∃ s : Nat, s < 5 ∧ p = nI s) (k : post 1) : wpY_slot post v p := by obtain ⟨s, g, rfl⟩ := h; exact sk_slT g k
theorem sk_lnG {post : Int32 → Prop} {v : SY} {p : Int32} (h : ∃ s : Nat, s < 6 ∧ p = nI s) (k : post 1) : wpY_line post v p := by obtain ⟨s, g, rfl⟩ := h; exact sk_lnT g k
theorem sk_n6 : ¬ (6 : Int32) ≤ 0 := by decide
theorem sk_n36 : ¬ (36 : Int32) ≤ 0 := by decide
theorem sk_xF_put {post : Int32 → SX → Prop} {f : Int32} {st co va ns nc nv wk : Nat → Int32} {p0 p1 p2 p3 : Int32} (hg : ¬ ((∃ s : Nat, s < 5 ∧ p0 = nI s) ∧ (∃ s : Nat, s < 6 ∧ p1 = nI s) ∧ (∃ s : Nat, s < 6 ∧ p2 = nI s))) (K : post (0) (f, st, co, va, ns, nc, nv, wk)) : wpX_put post (f, st, co, va, ns, nc, nv, wk) p0 p1 p2 p3 := by
  unfold wpX_put
  dsimp only
  rcases sk_c5 (p0) with h0 | h0
  · exact sk_isF h0 (br_t rfl (K))
  refine sk_isG h0 (br_f sk_o ?_)
  rcases sk_c6 (p1) with h1 | h1
  · exact sk_ixF h1 (br_t rfl (K))
  refine sk_ixG h1 (br_f sk_o ?_)
  rcases sk_c6 (p2) with h2 | h2
  · exact sk_ixF h2 (br_t rfl (K))
  refine sk_ixG h2 (br_f sk_o ?_)
  exact absurd ⟨h0, h1, h2⟩ hg
theorem sk_yF_put {post : Int32 → SY → Prop} {al md : Nat → Int32} {p0 p1 p2 p3 : Int32} (hg : ¬ ((∃ s : Nat, s < 5 ∧ p0 = nI s) ∧ (∃ s : Nat, s < 6 ∧ p1 = nI s) ∧ (∃ s : Nat, s < 6 ∧ p2 = nI s))) (K : post (0) (al, md)) : wpY_put post (al, md) p0 p1 p2 p3 := by
  unfold wpY_put
  dsimp only
  rcases sk_c5 (p0) with h0 | h0
  · exact sk_slF h0 (br_t rfl (K))
  refine sk_slG h0 (br_f sk_o ?_)
  rcases sk_c6 (p1) with h1 | h1
  · exact sk_lnF h1 (br_t rfl (K))
  refine sk_lnG h1 (br_f sk_o ?_)
  rcases sk_c6 (p2) with h2 | h2
  · exact sk_lnF h2 (br_t rfl (K))
  refine sk_lnG h2 (br_f sk_o ?_)
  exact absurd ⟨h0, h1, h2⟩ hg
theorem sk_xF_add {post : Int32 → SX → Prop} {f : Int32} {st co va ns nc nv wk : Nat → Int32} {p0 p1 p2 : Int32} (hg : ¬ ((∃ s : Nat, s < 5 ∧ p0 = nI s) ∧ (∃ s : Nat, s < 5 ∧ p1 = nI s) ∧ (∃ s : Nat, s < 5 ∧ p2 = nI s))) (K : post (-1) (f, st, co, va, ns, nc, nv, wk)) : wpX_add post (f, st, co, va, ns, nc, nv, wk) p0 p1 p2 := by
  unfold wpX_add
  dsimp only
  rcases sk_c5 (p0) with h0 | h0
  · exact sk_isF h0 (br_t rfl (K))
  refine sk_isG h0 (br_f sk_o ?_)
  rcases sk_c5 (p1) with h1 | h1
  · exact sk_isF h1 (br_t rfl (K))
  refine sk_isG h1 (br_f sk_o ?_)
  rcases sk_c5 (p2) with h2 | h2
  · exact sk_isF h2 (br_t rfl (K))
  refine sk_isG h2 (br_f sk_o ?_)
  exact absurd ⟨h0, h1, h2⟩ hg
theorem sk_yF_add {post : Int32 → SY → Prop} {al md : Nat → Int32} {p0 p1 p2 : Int32} (hg : ¬ ((∃ s : Nat, s < 5 ∧ p0 = nI s) ∧ (∃ s : Nat, s < 5 ∧ p1 = nI s) ∧ (∃ s : Nat, s < 5 ∧ p2 = nI s))) (K : post (-1) (al, md)) : wpY_add post (al, md) p0 p1 p2 := by
  unfold wpY_add
  dsimp only
  rcases sk_c5 (p0) with h0 | h0
  · exact sk_slF h0 (br_t rfl (K))
  refine sk_slG h0 (br_f sk_o ?_)
  rcases sk_c5 (p1) with h1 | h1
  · exact sk_slF h1 (br_t rfl (K))
  refine sk_slG h1 (br_f sk_o ?_)
  rcases sk_c5 (p2) with h2 | h2
  · exact sk_slF h2 (br_t rfl (K))
  refine sk_slG h2 (br_f sk_o ?_)
  exact absurd ⟨h0, h1, h2⟩ hg
theorem sk_xF_entrywise {post : Int32 → SX → Prop} {f : Int32} {st co va ns nc nv wk : Nat → Int32} {p0 p1 p2 : Int32} (hg : ¬ ((∃ s : Nat, s < 5 ∧ p0 = nI s) ∧ (∃ s : Nat, s < 5 ∧ p1 = nI s) ∧ (∃ s : Nat, s < 5 ∧ p2 = nI s))) (K : post (-1) (f, st, co, va, ns, nc, nv, wk)) : wpX_entrywise post (f, st, co, va, ns, nc, nv, wk) p0 p1 p2 := by
  unfold wpX_entrywise
  dsimp only
  rcases sk_c5 (p0) with h0 | h0
  · exact sk_isF h0 (br_t rfl (K))
  refine sk_isG h0 (br_f sk_o ?_)
  rcases sk_c5 (p1) with h1 | h1
  · exact sk_isF h1 (br_t rfl (K))
  refine sk_isG h1 (br_f sk_o ?_)
  rcases sk_c5 (p2) with h2 | h2
  · exact sk_isF h2 (br_t rfl (K))
  refine sk_isG h2 (br_f sk_o ?_)
  exact absurd ⟨h0, h1, h2⟩ hg
theorem sk_yF_entrywise {post : Int32 → SY → Prop} {al md : Nat → Int32} {p0 p1 p2 : Int32} (hg : ¬ ((∃ s : Nat, s < 5 ∧ p0 = nI s) ∧ (∃ s : Nat, s < 5 ∧ p1 = nI s) ∧ (∃ s : Nat, s < 5 ∧ p2 = nI s))) (K : post (-1) (al, md)) : wpY_entrywise post (al, md) p0 p1 p2 := by
  unfold wpY_entrywise
  dsimp only
  rcases sk_c5 (p0) with h0 | h0
  · exact sk_slF h0 (br_t rfl (K))
  refine sk_slG h0 (br_f sk_o ?_)
  rcases sk_c5 (p1) with h1 | h1
  · exact sk_slF h1 (br_t rfl (K))
  refine sk_slG h1 (br_f sk_o ?_)
  rcases sk_c5 (p2) with h2 | h2
  · exact sk_slF h2 (br_t rfl (K))
  refine sk_slG h2 (br_f sk_o ?_)
  exact absurd ⟨h0, h1, h2⟩ hg
theorem sk_xF_product {post : Int32 → SX → Prop} {f : Int32} {st co va ns nc nv wk : Nat → Int32} {p0 p1 p2 : Int32} (hg : ¬ ((∃ s : Nat, s < 5 ∧ p0 = nI s) ∧ (∃ s : Nat, s < 5 ∧ p1 = nI s) ∧ (∃ s : Nat, s < 5 ∧ p2 = nI s))) (K : post (-1) (f, st, co, va, ns, nc, nv, wk)) : wpX_product post (f, st, co, va, ns, nc, nv, wk) p0 p1 p2 := by
  unfold wpX_product
  dsimp only
  rcases sk_c5 (p0) with h0 | h0
  · exact sk_isF h0 (br_t rfl (K))
  refine sk_isG h0 (br_f sk_o ?_)
  rcases sk_c5 (p1) with h1 | h1
  · exact sk_isF h1 (br_t rfl (K))
  refine sk_isG h1 (br_f sk_o ?_)
  rcases sk_c5 (p2) with h2 | h2
  · exact sk_isF h2 (br_t rfl (K))
  refine sk_isG h2 (br_f sk_o ?_)
  exact absurd ⟨h0, h1, h2⟩ hg
theorem sk_yF_product {post : Int32 → SY → Prop} {al md : Nat → Int32} {p0 p1 p2 : Int32} (hg : ¬ ((∃ s : Nat, s < 5 ∧ p0 = nI s) ∧ (∃ s : Nat, s < 5 ∧ p1 = nI s) ∧ (∃ s : Nat, s < 5 ∧ p2 = nI s))) (K : post (-1) (al, md)) : wpY_product post (al, md) p0 p1 p2 := by
  unfold wpY_product
  dsimp only
  rcases sk_c5 (p0) with h0 | h0
  · exact sk_slF h0 (br_t rfl (K))
  refine sk_slG h0 (br_f sk_o ?_)
  rcases sk_c5 (p1) with h1 | h1
  · exact sk_slF h1 (br_t rfl (K))
  refine sk_slG h1 (br_f sk_o ?_)
  rcases sk_c5 (p2) with h2 | h2
  · exact sk_slF h2 (br_t rfl (K))
  refine sk_slG h2 (br_f sk_o ?_)
  exact absurd ⟨h0, h1, h2⟩ hg
theorem sk_xF_masked {post : Int32 → SX → Prop} {f : Int32} {st co va ns nc nv wk : Nat → Int32} {p0 p1 : Int32} (hg : ¬ ((∃ s : Nat, s < 5 ∧ p0 = nI s) ∧ (∃ s : Nat, s < 5 ∧ p1 &&& 7 = nI s) ∧ (∃ s : Nat, s < 5 ∧ (p1 >>> ((3 : Int32) &&& 31)) &&& 7 = nI s) ∧ (∃ s : Nat, s < 5 ∧ p1 >>> ((6 : Int32) &&& 31) = nI s))) (K : post (-1) (f, st, co, va, ns, nc, nv, wk)) : wpX_masked post (f, st, co, va, ns, nc, nv, wk) p0 p1 := by
  unfold wpX_masked
  dsimp only
  refine nm_e (nm_e (nm_e ?_))
  rcases sk_c5 (p0) with h0 | h0
  · exact sk_isF h0 (br_t rfl (K))
  refine sk_isG h0 (br_f sk_o ?_)
  rcases sk_c5 (p1 &&& 7) with h1 | h1
  · exact sk_isF h1 (br_t rfl (K))
  refine sk_isG h1 (br_f sk_o ?_)
  rcases sk_c5 ((p1 >>> ((3 : Int32) &&& 31)) &&& 7) with h2 | h2
  · exact sk_isF h2 (br_t rfl (K))
  refine sk_isG h2 (br_f sk_o ?_)
  rcases sk_c5 (p1 >>> ((6 : Int32) &&& 31)) with h3 | h3
  · exact sk_isF h3 (br_t rfl (K))
  refine sk_isG h3 (br_f sk_o ?_)
  exact absurd ⟨h0, h1, h2, h3⟩ hg
theorem sk_yF_masked {post : Int32 → SY → Prop} {al md : Nat → Int32} {p0 p1 : Int32} (hg : ¬ ((∃ s : Nat, s < 5 ∧ p0 = nI s) ∧ (∃ s : Nat, s < 5 ∧ p1 &&& 7 = nI s) ∧ (∃ s : Nat, s < 5 ∧ (p1 >>> ((3 : Int32) &&& 31)) &&& 7 = nI s) ∧ (∃ s : Nat, s < 5 ∧ p1 >>> ((6 : Int32) &&& 31) = nI s))) (K : post (-1) (al, md)) : wpY_masked post (al, md) p0 p1 := by
  unfold wpY_masked
  dsimp only
  refine nm_e (nm_e (nm_e ?_))
  rcases sk_c5 (p0) with h0 | h0
  · exact sk_slF h0 (br_t rfl (K))
  refine sk_slG h0 (br_f sk_o ?_)
  rcases sk_c5 (p1 &&& 7) with h1 | h1
  · exact sk_slF h1 (br_t rfl (K))
  refine sk_slG h1 (br_f sk_o ?_)
  rcases sk_c5 ((p1 >>> ((3 : Int32) &&& 31)) &&& 7) with h2 | h2
  · exact sk_slF h2 (br_t rfl (K))
  refine sk_slG h2 (br_f sk_o ?_)
  rcases sk_c5 (p1 >>> ((6 : Int32) &&& 31)) with h3 | h3
  · exact sk_slF h3 (br_t rfl (K))
  refine sk_slG h3 (br_f sk_o ?_)
  exact absurd ⟨h0, h1, h2, h3⟩ hg
theorem sk_xF_transpose {post : Int32 → SX → Prop} {f : Int32} {st co va ns nc nv wk : Nat → Int32} {p0 p1 : Int32} (hg : ¬ ((∃ s : Nat, s < 5 ∧ p0 = nI s) ∧ (∃ s : Nat, s < 5 ∧ p1 = nI s))) (K : post (-1) (f, st, co, va, ns, nc, nv, wk)) : wpX_transpose post (f, st, co, va, ns, nc, nv, wk) p0 p1 := by
  unfold wpX_transpose
  dsimp only
  rcases sk_c5 (p0) with h0 | h0
  · exact sk_isF h0 (br_t rfl (K))
  refine sk_isG h0 (br_f sk_o ?_)
  rcases sk_c5 (p1) with h1 | h1
  · exact sk_isF h1 (br_t rfl (K))
  refine sk_isG h1 (br_f sk_o ?_)
  exact absurd ⟨h0, h1⟩ hg
theorem sk_yF_transpose {post : Int32 → SY → Prop} {al md : Nat → Int32} {p0 p1 : Int32} (hg : ¬ ((∃ s : Nat, s < 5 ∧ p0 = nI s) ∧ (∃ s : Nat, s < 5 ∧ p1 = nI s))) (K : post (-1) (al, md)) : wpY_transpose post (al, md) p0 p1 := by
  unfold wpY_transpose
  dsimp only
  rcases sk_c5 (p0) with h0 | h0
  · exact sk_slF h0 (br_t rfl (K))
  refine sk_slG h0 (br_f sk_o ?_)
  rcases sk_c5 (p1) with h1 | h1
  · exact sk_slF h1 (br_t rfl (K))
  refine sk_slG h1 (br_f sk_o ?_)
  exact absurd ⟨h0, h1⟩ hg
theorem sk_xF_scale {post : Int32 → SX → Prop} {f : Int32} {st co va ns nc nv wk : Nat → Int32} {p0 p1 p2 : Int32} (hg : ¬ ((∃ s : Nat, s < 5 ∧ p0 = nI s) ∧ (∃ s : Nat, s < 5 ∧ p1 = nI s))) (K : post (-1) (f, st, co, va, ns, nc, nv, wk)) : wpX_scale post (f, st, co, va, ns, nc, nv, wk) p0 p1 p2 := by
  unfold wpX_scale
  dsimp only
  rcases sk_c5 (p0) with h0 | h0
  · exact sk_isF h0 (br_t rfl (K))
  refine sk_isG h0 (br_f sk_o ?_)
  rcases sk_c5 (p1) with h1 | h1
  · exact sk_isF h1 (br_t rfl (K))
  refine sk_isG h1 (br_f sk_o ?_)
  exact absurd ⟨h0, h1⟩ hg
theorem sk_yF_scale {post : Int32 → SY → Prop} {al md : Nat → Int32} {p0 p1 p2 : Int32} (hg : ¬ ((∃ s : Nat, s < 5 ∧ p0 = nI s) ∧ (∃ s : Nat, s < 5 ∧ p1 = nI s))) (K : post (-1) (al, md)) : wpY_scale post (al, md) p0 p1 p2 := by
  unfold wpY_scale
  dsimp only
  rcases sk_c5 (p0) with h0 | h0
  · exact sk_slF h0 (br_t rfl (K))
  refine sk_slG h0 (br_f sk_o ?_)
  rcases sk_c5 (p1) with h1 | h1
  · exact sk_slF h1 (br_t rfl (K))
  refine sk_slG h1 (br_f sk_o ?_)
  exact absurd ⟨h0, h1⟩ hg
theorem sk_xF_at {post : Int32 → Prop} {f : Int32} {st co va ns nc nv wk : Nat → Int32} {p0 p1 p2 : Int32} (hg : ¬ ((∃ s : Nat, s < 5 ∧ p0 = nI s) ∧ (∃ s : Nat, s < 6 ∧ p1 = nI s) ∧ (∃ s : Nat, s < 6 ∧ p2 = nI s))) (K : post (0)) : wpX_at post (f, st, co, va, ns, nc, nv, wk) p0 p1 p2 := by
  unfold wpX_at
  dsimp only
  rcases sk_c5 (p0) with h0 | h0
  · exact sk_isF h0 (br_t rfl (K))
  refine sk_isG h0 (br_f sk_o ?_)
  rcases sk_c6 (p1) with h1 | h1
  · exact sk_ixF h1 (br_t rfl (K))
  refine sk_ixG h1 (br_f sk_o ?_)
  rcases sk_c6 (p2) with h2 | h2
  · exact sk_ixF h2 (br_t rfl (K))
  refine sk_ixG h2 (br_f sk_o ?_)
  exact absurd ⟨h0, h1, h2⟩ hg
theorem sk_yF_at {post : Int32 → Prop} {al md : Nat → Int32} {p0 p1 p2 : Int32} (hg : ¬ ((∃ s : Nat, s < 5 ∧ p0 = nI s) ∧ (∃ s : Nat, s < 6 ∧ p1 = nI s) ∧ (∃ s : Nat, s < 6 ∧ p2 = nI s))) (K : post (0)) : wpY_at post (al, md) p0 p1 p2 := by
  unfold wpY_at
  dsimp only
  rcases sk_c5 (p0) with h0 | h0
  · exact sk_slF h0 (br_t rfl (K))
  refine sk_slG h0 (br_f sk_o ?_)
  rcases sk_c6 (p1) with h1 | h1
  · exact sk_lnF h1 (br_t rfl (K))
  refine sk_lnG h1 (br_f sk_o ?_)
  rcases sk_c6 (p2) with h2 | h2
  · exact sk_lnF h2 (br_t rfl (K))
  refine sk_lnG h2 (br_f sk_o ?_)
  exact absurd ⟨h0, h1, h2⟩ hg
theorem sk_xF_count {post : Int32 → Prop} {f : Int32} {st co va ns nc nv wk : Nat → Int32} {p0 : Int32} (hg : ¬ ((∃ s : Nat, s < 5 ∧ p0 = nI s))) (K : post (-1)) : wpX_count post (f, st, co, va, ns, nc, nv, wk) p0 := by
  unfold wpX_count
  dsimp only
  rcases sk_c5 (p0) with h0 | h0
  · exact sk_isF h0 (br_t rfl (K))
  refine sk_isG h0 (br_f sk_o ?_)
  exact absurd h0 hg
theorem sk_yF_count {post : Int32 → Prop} {al md : Nat → Int32} {p0 : Int32} (hg : ¬ ((∃ s : Nat, s < 5 ∧ p0 = nI s))) (K : post (-1)) : wpY_count post (al, md) p0 := by
  unfold wpY_count
  dsimp only
  refine ⟨1, br_f sk_n36 ?_⟩
  rcases sk_c5 (p0) with h0 | h0
  · exact sk_slF h0 (br_t rfl (sk_slF h0 (br_t rfl K)))
  refine sk_slG h0 (br_f sk_o ?_)
  exact absurd h0 hg
theorem sk_xF_next {post : Int32 → Prop} {f : Int32} {st co va ns nc nv wk : Nat → Int32} {p0 p1 p2 : Int32} (hg : ¬ ((∃ s : Nat, s < 5 ∧ p0 = nI s) ∧ (∃ s : Nat, s < 6 ∧ p1 = nI s))) (K : post (-1)) : wpX_next post (f, st, co, va, ns, nc, nv, wk) p0 p1 p2 := by
  unfold wpX_next
  dsimp only
  rcases sk_c5 (p0) with h0 | h0
  · exact sk_isF h0 (br_t rfl (K))
  refine sk_isG h0 (br_f sk_o ?_)
  rcases sk_c6 (p1) with h1 | h1
  · exact sk_ixF h1 (br_t rfl (K))
  refine sk_ixG h1 (br_f sk_o ?_)
  exact absurd ⟨h0, h1⟩ hg
theorem sk_yF_next {post : Int32 → Prop} {al md : Nat → Int32} {p0 p1 p2 : Int32} (hg : ¬ ((∃ s : Nat, s < 5 ∧ p0 = nI s) ∧ (∃ s : Nat, s < 6 ∧ p1 = nI s))) (K : post (-1)) : wpY_next post (al, md) p0 p1 p2 := by
  unfold wpY_next
  dsimp only
  refine ⟨1, br_f sk_n6 ?_⟩
  rcases sk_c5 (p0) with h0 | h0
  · exact sk_slF h0 (br_t rfl (K))
  refine sk_slG h0 (br_f sk_o ?_)
  rcases sk_c6 (p1) with h1 | h1
  · exact sk_lnF h1 (br_t rfl (K))
  refine sk_lnG h1 (br_f sk_o ?_)
  exact absurd ⟨h0, h1⟩ hg
theorem sk_xF_rowsProduct {post : Int32 → Prop} {f : Int32} {st co va ns nc nv wk : Nat → Int32} {p0 p1 p2 p3 : Int32} (hg : ¬ ((∃ s : Nat, s < 5 ∧ p0 = nI s) ∧ (∃ s : Nat, s < 6 ∧ p1 = nI s) ∧ (∃ s : Nat, s < 5 ∧ p2 = nI s) ∧ (∃ s : Nat, s < 6 ∧ p3 = nI s))) (K : post (0)) : wpX_rowsProduct post (f, st, co, va, ns, nc, nv, wk) p0 p1 p2 p3 := by
  unfold wpX_rowsProduct
  dsimp only
  rcases sk_c5 (p0) with h0 | h0
  · exact sk_isF h0 (br_t rfl (K))
  refine sk_isG h0 (br_f sk_o ?_)
  rcases sk_c6 (p1) with h1 | h1
  · exact sk_ixF h1 (br_t rfl (K))
  refine sk_ixG h1 (br_f sk_o ?_)
  rcases sk_c5 (p2) with h2 | h2
  · exact sk_isF h2 (br_t rfl (K))
  refine sk_isG h2 (br_f sk_o ?_)
  rcases sk_c6 (p3) with h3 | h3
  · exact sk_ixF h3 (br_t rfl (K))
  refine sk_ixG h3 (br_f sk_o ?_)
  exact absurd ⟨h0, h1, h2, h3⟩ hg
theorem sk_yF_rowsProduct {post : Int32 → Prop} {al md : Nat → Int32} {p0 p1 p2 p3 : Int32} (hg : ¬ ((∃ s : Nat, s < 5 ∧ p0 = nI s) ∧ (∃ s : Nat, s < 6 ∧ p1 = nI s) ∧ (∃ s : Nat, s < 5 ∧ p2 = nI s) ∧ (∃ s : Nat, s < 6 ∧ p3 = nI s))) (K : post (0)) : wpY_rowsProduct post (al, md) p0 p1 p2 p3 := by
  unfold wpY_rowsProduct
  dsimp only
  refine ⟨1, br_f sk_n6 ?_⟩
  rcases sk_c5 (p0) with h0 | h0
  · exact sk_slF h0 (br_t rfl (K))
  refine sk_slG h0 (br_f sk_o ?_)
  rcases sk_c5 (p2) with h1 | h1
  · exact sk_slF h1 (br_t rfl (K))
  refine sk_slG h1 (br_f sk_o ?_)
  rcases sk_c6 (p1) with h2 | h2
  · exact sk_lnF h2 (br_t rfl (K))
  refine sk_lnG h2 (br_f sk_o ?_)
  rcases sk_c6 (p3) with h3 | h3
  · exact sk_lnF h3 (br_t rfl (K))
  refine sk_lnG h3 (br_f sk_o ?_)
  exact absurd ⟨h0, h2, h1, h3⟩ hg
theorem sk_xF_same {post : Int32 → Prop} {f : Int32} {st co va ns nc nv wk : Nat → Int32} {p0 p1 : Int32} (hg : ¬ ((∃ s : Nat, s < 5 ∧ p0 = nI s) ∧ (∃ s : Nat, s < 5 ∧ p1 = nI s))) (K : post (0)) : wpX_same post (f, st, co, va, ns, nc, nv, wk) p0 p1 := by
  unfold wpX_same
  dsimp only
  rcases sk_c5 (p0) with h0 | h0
  · exact sk_isF h0 (br_t rfl (K))
  refine sk_isG h0 (br_f sk_o ?_)
  rcases sk_c5 (p1) with h1 | h1
  · exact sk_isF h1 (br_t rfl (K))
  refine sk_isG h1 (br_f sk_o ?_)
  exact absurd ⟨h0, h1⟩ hg
theorem sk_yF_same {post : Int32 → Prop} {al md : Nat → Int32} {p0 p1 : Int32} (hg : ¬ ((∃ s : Nat, s < 5 ∧ p0 = nI s) ∧ (∃ s : Nat, s < 5 ∧ p1 = nI s))) (K : post 0) : wpY_same post (al, md) p0 p1 := by
  have E : ∃ n, wY_same_25 post p0 p1 al md n 0 0 := ⟨1, br_f sk_n36 (br_t rfl ⟨rfl, K⟩)⟩
  unfold wpY_same
  dsimp only
  rcases sk_c5 p0 with h0 | h0
  · exact sk_slF h0 (br_t rfl E)
  refine sk_slG h0 (br_f sk_o ?_)
  rcases sk_c5 p1 with h1 | h1
  · exact sk_slF h1 (br_t rfl E)
  exact absurd ⟨h0, h1⟩ hg
theorem sk_xF_symmetric {post : Int32 → Prop} {f : Int32} {st co va ns nc nv wk : Nat → Int32} {p0 : Int32} (hg : ¬ ((∃ s : Nat, s < 5 ∧ p0 = nI s))) (K : post (0)) : wpX_symmetric post (f, st, co, va, ns, nc, nv, wk) p0 := by
  unfold wpX_symmetric
  dsimp only
  rcases sk_c5 (p0) with h0 | h0
  · exact sk_isF h0 (br_t rfl (K))
  refine sk_isG h0 (br_f sk_o ?_)
  exact absurd h0 hg
theorem sk_yF_symmetric {post : Int32 → Prop} {al md : Nat → Int32} {p0 : Int32} (hg : ¬ ((∃ s : Nat, s < 5 ∧ p0 = nI s))) (K : post 0) : wpY_symmetric post (al, md) p0 := by
  unfold wpY_symmetric
  dsimp only
  rcases sk_c5 p0 with h0 | h0
  · exact sk_slF h0 ⟨1, br_f sk_n36 (br_t rfl ⟨rfl, K⟩)⟩
  exact absurd h0 hg
theorem sk_xF_select {post : Int32 → SX → Prop} {f : Int32} {st co va ns nc nv wk : Nat → Int32} {p0 p1 p2 : Int32} (hg : ¬ ((∃ s : Nat, s < 5 ∧ p0 = nI s) ∧ (∃ s : Nat, s < 5 ∧ p1 = nI s) ∧ ¬ p2 < 0 ∧ p2 ≤ 4095)) (K : post (-1) (f, st, co, va, ns, nc, nv, wk)) : wpX_select post (f, st, co, va, ns, nc, nv, wk) p0 p1 p2 := by
  unfold wpX_select
  dsimp only
  rcases sk_c5 p0 with h0 | h0
  · exact sk_isF h0 (br_t rfl K)
  refine sk_isG h0 (br_f sk_o ?_)
  rcases sk_c5 p1 with h1 | h1
  · exact sk_isF h1 (br_t rfl K)
  refine sk_isG h1 (br_f sk_o ?_)
  exact br_c (fun _ => K) (fun h2 => br_c (fun h3 => absurd ⟨h0, h1, h2, h3⟩ hg) (fun _ => K))
theorem sk_yF_select {post : Int32 → SY → Prop} {al md : Nat → Int32} {p0 p1 p2 : Int32} (hg : ¬ ((∃ s : Nat, s < 5 ∧ p0 = nI s) ∧ (∃ s : Nat, s < 5 ∧ p1 = nI s) ∧ ¬ p2 < 0 ∧ p2 ≤ 4095)) (K : post (-1) (al, md)) : wpY_select post (al, md) p0 p1 p2 := by
  unfold wpY_select
  dsimp only
  rcases sk_c5 p0 with h0 | h0
  · exact sk_slF h0 (br_t rfl K)
  refine sk_slG h0 (br_f sk_o ?_)
  rcases sk_c5 p1 with h1 | h1
  · exact sk_slF h1 (br_t rfl K)
  refine sk_slG h1 (br_f sk_o ?_)
  exact br_c (fun _ => K) (fun h2 => br_c (fun h3 => absurd ⟨h0, h1, h2, h3⟩ hg) (fun _ => K))
theorem sk_xF_sum {post : Int32 → Prop} {f : Int32} {st co va ns nc nv wk : Nat → Int32} {p0 p1 p2 : Int32} (hg : ¬ ((∃ s : Nat, s < 5 ∧ p0 = nI s) ∧ ¬ p1 < 0 ∧ ¬ 2 < p1 ∧ (2 ≤ p1 ∨ ∃ s : Nat, s < 6 ∧ p2 = nI s))) (K : post 0) : wpX_sum post (f, st, co, va, ns, nc, nv, wk) p0 p1 p2 := by
  unfold wpX_sum
  dsimp only
  rcases sk_c5 p0 with h0 | h0
  · exact sk_isF h0 (br_t rfl K)
  refine sk_isG h0 (br_f sk_o (br_c (fun _ => K) (fun h1 => br_c (fun _ => K) (fun h2 => ?_))))
  refine br_c (fun h3 => absurd ⟨h0, h1, h2, Or.inl h3⟩ hg) (fun _ => ?_)
  rcases sk_c6 p2 with h4 | h4
  · exact sk_ixF h4 (br_t rfl K)
  exact absurd ⟨h0, h1, h2, Or.inr h4⟩ hg
theorem sk_yF_sum {post : Int32 → Prop} {al md : Nat → Int32} {p0 p1 p2 : Int32} (hg : ¬ ((∃ s : Nat, s < 5 ∧ p0 = nI s) ∧ ¬ p1 < 0 ∧ ¬ 2 < p1 ∧ (2 ≤ p1 ∨ ∃ s : Nat, s < 6 ∧ p2 = nI s))) (K : post 0) : wpY_sum post (al, md) p0 p1 p2 := by
  unfold wpY_sum
  dsimp only
  rcases sk_c5 p0 with h0 | h0
  · exact sk_slF h0 (br_t rfl K)
  refine sk_slG h0 (br_f sk_o (br_c (fun _ => K) (fun h1 => br_c (fun _ => K) (fun h2 => ?_))))
  refine br_c (fun h3 => absurd ⟨h0, h1, h2, Or.inl (by rw [h3]; decide)⟩ hg) (fun _ => ?_)
  rcases sk_c6 p2 with h4 | h4
  · exact sk_lnF h4 (br_t rfl K)
  exact absurd ⟨h0, h1, h2, Or.inr h4⟩ hg
end
section
/-- one abstract state Ms (a matrix a slot): the lists hold its entries that aren't 0, the plain form all its cells -/
def i_Rel (k : Nat) (u : SX) (v : SY) : Prop := ∃ Ms : Nat → Nat → Int32, sk_RX Ms u.2.1 u.2.2.1 u.2.2.2.1 ∧ sk_RY Ms v.1
theorem i_up {k : Nat} {u : SX} {v : SY} (h : i_Rel k u v) : i_Rel (k + 5) u v := h
theorem sk_ct00 : ∀ c, sk_ct (fun _ => 0) c = 0 := by
  intro c
  induction c with
  | zero => rfl
  | succ c ih => rw [sk_ctz rfl, ih]
theorem i_vc0 : wpX_init (fun u => wpY_init (fun v => i_Rel 0 u v)) := by
  unfold wpX_init wpY_init
  refine ⟨fun _ _ => 0, fun s hs => ⟨fun i hi => ?_, fun c hc hn => absurd rfl hn⟩, fun s hs c hc => rfl⟩
  rw [sk_ct00]
  rfl
theorem i_vc_put {k : Nat} {u : SX} {v : SY} (I : i_Rel k u v) (hk : k + 5 ≤ 2560) (v1 : Int32) (v2 : Int32) (v3 : Int32) (v4 : Int32) : wpX_put (fun r u' => wpY_put (fun r' v' => r' = r ∧ i_Rel (k + 5) u' v') v v1 v2 v3 v4) u v1 v2 v3 v4 := by
  obtain ⟨f, st, co, va, ns, nc, nv, wk⟩ := u
  obtain ⟨al, md⟩ := v
  by_cases hg : (∃ s : Nat, s < 5 ∧ v1 = nI s) ∧ (∃ s : Nat, s < 6 ∧ v2 = nI s) ∧ (∃ s : Nat, s < 6 ∧ v3 = nI s)
  · obtain ⟨⟨s, hs, rfl⟩, ⟨i, hi, rfl⟩, ⟨j, hj, rfl⟩⟩ := hg
    obtain ⟨Ms, RX, RY⟩ := I
    exact sk_xput RX hs hi hj (fun f' st' co' va' ns' nc' nv' wk' R' => sk_yput RY hs hi hj (fun al' md' R'' => ⟨rfl, _, R', R''⟩))
  · exact sk_xF_put hg (sk_yF_put hg ⟨rfl, I⟩)
theorem i_vc_add {k : Nat} {u : SX} {v : SY} (I : i_Rel k u v) (hk : k + 5 ≤ 2560) (v1 : Int32) (v2 : Int32) (v3 : Int32) : wpX_add (fun r u' => wpY_add (fun r' v' => r' = r ∧ i_Rel (k + 5) u' v') v v1 v2 v3) u v1 v2 v3 := by
  obtain ⟨f, st, co, va, ns, nc, nv, wk⟩ := u
  obtain ⟨al, md⟩ := v
  by_cases hg : (∃ s : Nat, s < 5 ∧ v1 = nI s) ∧ (∃ s : Nat, s < 5 ∧ v2 = nI s) ∧ (∃ s : Nat, s < 5 ∧ v3 = nI s)
  · obtain ⟨⟨t, ht, rfl⟩, ⟨a, ha, rfl⟩, ⟨b, hb, rfl⟩⟩ := hg
    obtain ⟨Ms, RX, RY⟩ := I
    exact sk_xadd RX ht ha hb (fun f' st' co' va' ns' nc' nv' wk' R' => sk_yadd RY ht ha hb (fun al' md' R'' => ⟨rfl, _, R', R''⟩))
  · exact sk_xF_add hg (sk_yF_add hg ⟨rfl, I⟩)
theorem i_vc_entrywise {k : Nat} {u : SX} {v : SY} (I : i_Rel k u v) (hk : k + 5 ≤ 2560) (v1 : Int32) (v2 : Int32) (v3 : Int32) : wpX_entrywise (fun r u' => wpY_entrywise (fun r' v' => r' = r ∧ i_Rel (k + 5) u' v') v v1 v2 v3) u v1 v2 v3 := by
  obtain ⟨f, st, co, va, ns, nc, nv, wk⟩ := u
  obtain ⟨al, md⟩ := v
  by_cases hg : (∃ s : Nat, s < 5 ∧ v1 = nI s) ∧ (∃ s : Nat, s < 5 ∧ v2 = nI s) ∧ (∃ s : Nat, s < 5 ∧ v3 = nI s)
  · obtain ⟨⟨t, ht, rfl⟩, ⟨a, ha, rfl⟩, ⟨b, hb, rfl⟩⟩ := hg
    obtain ⟨Ms, RX, RY⟩ := I
    exact sk_xentry RX ht ha hb (fun f' st' co' va' ns' nc' nv' wk' R' => sk_yentry RY ht ha hb (fun al' md' R'' => ⟨rfl, _, R', R''⟩))
  · exact sk_xF_entrywise hg (sk_yF_entrywise hg ⟨rfl, I⟩)
theorem i_vc_product {k : Nat} {u : SX} {v : SY} (I : i_Rel k u v) (hk : k + 5 ≤ 2560) (v1 : Int32) (v2 : Int32) (v3 : Int32) : wpX_product (fun r u' => wpY_product (fun r' v' => r' = r ∧ i_Rel (k + 5) u' v') v v1 v2 v3) u v1 v2 v3 := by
  obtain ⟨f, st, co, va, ns, nc, nv, wk⟩ := u
  obtain ⟨al, md⟩ := v
  by_cases hg : (∃ s : Nat, s < 5 ∧ v1 = nI s) ∧ (∃ s : Nat, s < 5 ∧ v2 = nI s) ∧ (∃ s : Nat, s < 5 ∧ v3 = nI s)
  · obtain ⟨⟨t, ht, rfl⟩, ⟨a, ha, rfl⟩, ⟨b, hb, rfl⟩⟩ := hg
    obtain ⟨Ms, RX, RY⟩ := I
    exact sk_xproduct RX ht ha hb (fun f' st' co' va' ns' nc' nv' wk' R' => sk_yproduct RY ht ha hb (fun al' md' R'' => ⟨rfl, _, R', R''⟩))
  · exact sk_xF_product hg (sk_yF_product hg ⟨rfl, I⟩)
theorem i_vc_masked {k : Nat} {u : SX} {v : SY} (I : i_Rel k u v) (hk : k + 5 ≤ 2560) (v1 : Int32) (v2 : Int32) : wpX_masked (fun r u' => wpY_masked (fun r' v' => r' = r ∧ i_Rel (k + 5) u' v') v v1 v2) u v1 v2 := by
  obtain ⟨f, st, co, va, ns, nc, nv, wk⟩ := u
  obtain ⟨al, md⟩ := v
  by_cases hg : (∃ s : Nat, s < 5 ∧ v1 = nI s) ∧ (∃ s : Nat, s < 5 ∧ v2 &&& 7 = nI s) ∧ (∃ s : Nat, s < 5 ∧ (v2 >>> ((3 : Int32) &&& 31)) &&& 7 = nI s) ∧ (∃ s : Nat, s < 5 ∧ v2 >>> ((6 : Int32) &&& 31) = nI s)
  · obtain ⟨⟨t, ht, rfl⟩, ⟨a, ha, e1⟩, ⟨b, hb, e2⟩, ⟨c, hc, e3⟩⟩ := hg
    obtain ⟨Ms, RX, RY⟩ := I
    exact sk_xmasked RX e1 e2 e3 ht ha hb hc (fun f' st' co' va' ns' nc' nv' wk' R' => sk_ymasked RY e1 e2 e3 ht ha hb hc (fun al' md' R'' => ⟨rfl, _, R', R''⟩))
  · exact sk_xF_masked hg (sk_yF_masked hg ⟨rfl, I⟩)
theorem i_vc_transpose {k : Nat} {u : SX} {v : SY} (I : i_Rel k u v) (hk : k + 5 ≤ 2560) (v1 : Int32) (v2 : Int32) : wpX_transpose (fun r u' => wpY_transpose (fun r' v' => r' = r ∧ i_Rel (k + 5) u' v') v v1 v2) u v1 v2 := by
  obtain ⟨f, st, co, va, ns, nc, nv, wk⟩ := u
  obtain ⟨al, md⟩ := v
  by_cases hg : (∃ s : Nat, s < 5 ∧ v1 = nI s) ∧ (∃ s : Nat, s < 5 ∧ v2 = nI s)
  · obtain ⟨⟨t, ht, rfl⟩, ⟨a, ha, rfl⟩⟩ := hg
    obtain ⟨Ms, RX, RY⟩ := I
    exact sk_xtrans RX ht ha (fun f' st' co' va' ns' nc' nv' wk' R' => sk_ytrans RY ht ha (fun al' md' R'' => ⟨rfl, _, R', R''⟩))
  · exact sk_xF_transpose hg (sk_yF_transpose hg ⟨rfl, I⟩)
theorem i_vc_scale {k : Nat} {u : SX} {v : SY} (I : i_Rel k u v) (hk : k + 5 ≤ 2560) (v1 : Int32) (v2 : Int32) (v3 : Int32) : wpX_scale (fun r u' => wpY_scale (fun r' v' => r' = r ∧ i_Rel (k + 5) u' v') v v1 v2 v3) u v1 v2 v3 := by
  obtain ⟨f, st, co, va, ns, nc, nv, wk⟩ := u
  obtain ⟨al, md⟩ := v
  by_cases hg : (∃ s : Nat, s < 5 ∧ v1 = nI s) ∧ (∃ s : Nat, s < 5 ∧ v2 = nI s)
  · obtain ⟨⟨t, ht, rfl⟩, ⟨a, ha, rfl⟩⟩ := hg
    obtain ⟨Ms, RX, RY⟩ := I
    exact sk_xscale RX ht ha (fun f' st' co' va' ns' nc' nv' wk' R' => sk_yscale RY ht ha (fun al' md' R'' => ⟨rfl, _, R', R''⟩))
  · exact sk_xF_scale hg (sk_yF_scale hg ⟨rfl, I⟩)
theorem i_vc_select {k : Nat} {u : SX} {v : SY} (I : i_Rel k u v) (hk : k + 5 ≤ 2560) (v1 : Int32) (v2 : Int32) (v3 : Int32) : wpX_select (fun r u' => wpY_select (fun r' v' => r' = r ∧ i_Rel (k + 5) u' v') v v1 v2 v3) u v1 v2 v3 := by
  obtain ⟨f, st, co, va, ns, nc, nv, wk⟩ := u
  obtain ⟨al, md⟩ := v
  by_cases hg : (∃ s : Nat, s < 5 ∧ v1 = nI s) ∧ (∃ s : Nat, s < 5 ∧ v2 = nI s) ∧ ¬ v3 < 0 ∧ v3 ≤ 4095
  · obtain ⟨⟨t, ht, rfl⟩, ⟨a, ha, rfl⟩, h0, h1⟩ := hg
    obtain ⟨Ms, RX, RY⟩ := I
    exact sk_xselect RX ht ha h0 h1 (fun f' st' co' va' ns' nc' nv' wk' R' => sk_yselect RY ht ha h0 h1 (fun al' md' R'' => ⟨rfl, _, R', R''⟩))
  · exact sk_xF_select hg (sk_yF_select hg ⟨rfl, I⟩)
theorem i_vc_at {k : Nat} {u : SX} {v : SY} (I : i_Rel k u v) (hk : k + 5 ≤ 2560) (v1 : Int32) (v2 : Int32) (v3 : Int32) : wpX_at (fun r => wpY_at (fun r' => r' = r ∧ i_Rel (k + 5) u v) v v1 v2 v3) u v1 v2 v3 := by
  obtain ⟨f, st, co, va, ns, nc, nv, wk⟩ := u
  obtain ⟨al, md⟩ := v
  by_cases hg : (∃ s : Nat, s < 5 ∧ v1 = nI s) ∧ (∃ s : Nat, s < 6 ∧ v2 = nI s) ∧ (∃ s : Nat, s < 6 ∧ v3 = nI s)
  · obtain ⟨⟨s, hs, rfl⟩, ⟨i, hi, rfl⟩, ⟨j, hj, rfl⟩⟩ := hg
    have I' := I
    obtain ⟨Ms, RX, RY⟩ := I'
    exact sk_xat (RX s hs) hs hi hj (sk_yat RY hs hi hj ⟨rfl, I⟩)
  · exact sk_xF_at hg (sk_yF_at hg ⟨rfl, I⟩)
theorem i_vc_count {k : Nat} {u : SX} {v : SY} (I : i_Rel k u v) (hk : k + 5 ≤ 2560) (v1 : Int32) : wpX_count (fun r => wpY_count (fun r' => r' = r ∧ i_Rel (k + 5) u v) v v1) u v1 := by
  obtain ⟨f, st, co, va, ns, nc, nv, wk⟩ := u
  obtain ⟨al, md⟩ := v
  by_cases hg : ∃ s : Nat, s < 5 ∧ v1 = nI s
  · obtain ⟨s, hs, rfl⟩ := hg
    have I' := I
    obtain ⟨Ms, RX, RY⟩ := I'
    exact sk_xcount (RX s hs) hs (sk_ycount (RY s hs) hs ⟨rfl, I⟩)
  · exact sk_xF_count hg (sk_yF_count hg ⟨rfl, I⟩)
theorem i_vc_next {k : Nat} {u : SX} {v : SY} (I : i_Rel k u v) (hk : k + 5 ≤ 2560) (v1 : Int32) (v2 : Int32) (v3 : Int32) : wpX_next (fun r => wpY_next (fun r' => r' = r ∧ i_Rel (k + 5) u v) v v1 v2 v3) u v1 v2 v3 := by
  obtain ⟨f, st, co, va, ns, nc, nv, wk⟩ := u
  obtain ⟨al, md⟩ := v
  by_cases hg : (∃ s : Nat, s < 5 ∧ v1 = nI s) ∧ (∃ s : Nat, s < 6 ∧ v2 = nI s)
  · obtain ⟨⟨s, hs, rfl⟩, ⟨i, hi, rfl⟩⟩ := hg
    have I' := I
    obtain ⟨Ms, RX, RY⟩ := I'
    exact sk_xnext (RX s hs) hs hi (sk_ynext RY hs hi ⟨rfl, I⟩)
  · exact sk_xF_next hg (sk_yF_next hg ⟨rfl, I⟩)
theorem i_vc_rowsProduct {k : Nat} {u : SX} {v : SY} (I : i_Rel k u v) (hk : k + 5 ≤ 2560) (v1 : Int32) (v2 : Int32) (v3 : Int32) (v4 : Int32) : wpX_rowsProduct (fun r => wpY_rowsProduct (fun r' => r' = r ∧ i_Rel (k + 5) u v) v v1 v2 v3 v4) u v1 v2 v3 v4 := by
  obtain ⟨f, st, co, va, ns, nc, nv, wk⟩ := u
  obtain ⟨al, md⟩ := v
  by_cases hg : (∃ s : Nat, s < 5 ∧ v1 = nI s) ∧ (∃ s : Nat, s < 6 ∧ v2 = nI s) ∧ (∃ s : Nat, s < 5 ∧ v3 = nI s) ∧ (∃ s : Nat, s < 6 ∧ v4 = nI s)
  · obtain ⟨⟨a, ha, rfl⟩, ⟨i, hi, rfl⟩, ⟨b, hb, rfl⟩, ⟨j, hj, rfl⟩⟩ := hg
    have I' := I
    obtain ⟨Ms, RX, RY⟩ := I'
    exact sk_xrows (RX a ha) (RX b hb) ha hb hi hj (sk_yrows RY ha hb hi hj ⟨rfl, I⟩)
  · exact sk_xF_rowsProduct hg (sk_yF_rowsProduct hg ⟨rfl, I⟩)
theorem i_vc_sum {k : Nat} {u : SX} {v : SY} (I : i_Rel k u v) (hk : k + 5 ≤ 2560) (v1 : Int32) (v2 : Int32) (v3 : Int32) : wpX_sum (fun r => wpY_sum (fun r' => r' = r ∧ i_Rel (k + 5) u v) v v1 v2 v3) u v1 v2 v3 := by
  obtain ⟨f, st, co, va, ns, nc, nv, wk⟩ := u
  obtain ⟨al, md⟩ := v
  by_cases hg : (∃ s : Nat, s < 5 ∧ v1 = nI s) ∧ ¬ v2 < 0 ∧ ¬ 2 < v2 ∧ (2 ≤ v2 ∨ ∃ s : Nat, s < 6 ∧ v3 = nI s)
  · obtain ⟨⟨s, hs, rfl⟩, h0, h2, hp⟩ := hg
    have I' := I
    obtain ⟨Ms, RX, RY⟩ := I'
    exact sk_xsum (RX s hs) hs h0 h2 hp (sk_ysum RY hs h0 h2 hp ⟨rfl, I⟩)
  · exact sk_xF_sum hg (sk_yF_sum hg ⟨rfl, I⟩)
theorem i_vc_same {k : Nat} {u : SX} {v : SY} (I : i_Rel k u v) (hk : k + 5 ≤ 2560) (v1 : Int32) (v2 : Int32) : wpX_same (fun r => wpY_same (fun r' => r' = r ∧ i_Rel (k + 5) u v) v v1 v2) u v1 v2 := by
  obtain ⟨f, st, co, va, ns, nc, nv, wk⟩ := u
  obtain ⟨al, md⟩ := v
  by_cases hg : (∃ s : Nat, s < 5 ∧ v1 = nI s) ∧ (∃ s : Nat, s < 5 ∧ v2 = nI s)
  · obtain ⟨⟨a, ha, rfl⟩, ⟨b, hb, rfl⟩⟩ := hg
    have I' := I
    obtain ⟨Ms, RX, RY⟩ := I'
    exact sk_xsame (RX a ha) (RX b hb) ha hb (fun h => sk_ysame RY ha hb (fun _ => ⟨rfl, I⟩) (fun hn => absurd h hn)) (fun hn => sk_ysame RY ha hb (fun h => absurd h hn) (fun _ => ⟨rfl, I⟩))
  · exact sk_xF_same hg (sk_yF_same hg ⟨rfl, I⟩)
theorem i_vc_symmetric {k : Nat} {u : SX} {v : SY} (I : i_Rel k u v) (hk : k + 5 ≤ 2560) (v1 : Int32) : wpX_symmetric (fun r => wpY_symmetric (fun r' => r' = r ∧ i_Rel (k + 5) u v) v v1) u v1 := by
  obtain ⟨f, st, co, va, ns, nc, nv, wk⟩ := u
  obtain ⟨al, md⟩ := v
  by_cases hg : ∃ s : Nat, s < 5 ∧ v1 = nI s
  · obtain ⟨s, hs, rfl⟩ := hg
    have I' := I
    obtain ⟨Ms, RX, RY⟩ := I'
    exact sk_xsym (RX s hs) hs (fun h => sk_ysym RY hs (fun _ => ⟨rfl, I⟩) (fun hn => absurd h hn)) (fun hn => sk_ysym RY hs (fun h => absurd h hn) (fun _ => ⟨rfl, I⟩))
  · exact sk_xF_symmetric hg (sk_yF_symmetric hg ⟨rfl, I⟩)
end
