section
/-! rows of kit/rows (starting texts), taken by name -/
theorem pk_us {f : Nat → Int32} {k : Nat} {x : Int32} : upd f k x k = x := if_pos rfl
theorem pk_un {f : Nat → Int32} {k j : Nat} {x : Int32} (h : j ≠ k) : upd f k x j = f j := if_neg h
theorem pk_sub {a b : Nat} (h : b ≤ a) : nI a - nI b = nI (a - b) := by
  obtain ⟨c, rfl⟩ : ∃ c, a = c + b := ⟨a - b, by omega⟩
  rw [← nI_add, Int32.add_sub_cancel, Nat.add_sub_cancel]
theorem pk_m1 (n : Nat) : nI (n + 1) + (-1) = nI n := by
  rw [← nI_1, Int32.add_assoc, show (1 : Int32) + (-1) = 0 from rfl, Int32.add_zero]
theorem pk_mul (a b : Nat) : nI a * nI b = nI (a * b) := (Int32.ofNat_mul a b).symm
theorem pk_div {a d : Nat} (ha : a < 2 ^ 31) (h0 : 0 < d) (hd : d < 2 ^ 31) : nI a / nI d = nI (a / d) := by
  apply Int32.toInt_inj.mp
  rw [lg_idiv_nonneg (by rw [nI_toInt ha]; omega) (by rw [nI_toInt hd]; omega), nI_toInt ha, nI_toInt hd, nI_toInt (Nat.lt_of_le_of_lt (Nat.div_le_self a d) ha)]
  first | rfl | exact (Int.natCast_ediv _ _).symm
theorem pk_rem {a d : Nat} (ha : a < 2 ^ 31) (h0 : 0 < d) (hd : d < 2 ^ 31) : nI a - nI a / nI d * nI d = nI (a % d) := by
  rw [pk_div ha h0 hd, pk_mul, pk_sub (Nat.div_mul_le_self a d)]
  exact congrArg nI (by have := Nat.div_add_mod' a d; omega)
theorem pk_sub_toInt {a b : Nat} (ha : a < 2 ^ 30) (hb : b < 2 ^ 30) : (nI a - nI b).toInt = (a : Int) - b := by
  rw [Int32.toInt_sub, nI_toInt (by omega), nI_toInt (by omega)]
  exact Int.bmod_eq_of_le (by omega) (by omega)
theorem pk_ix (x : Int32) {n : Nat} (hn : n < 2 ^ 31) : x < 0 ∨ nI n ≤ x ∨ ∃ j : Nat, j < n ∧ x = nI j := by
  by_cases h : x < 0
  · exact Or.inl h
  · obtain ⟨j, hj, rfl⟩ := nI_of h
    by_cases h2 : j < n
    · exact Or.inr (Or.inr ⟨j, h2, rfl⟩)
    · exact Or.inr (Or.inl (nI_le (by omega) hj))
theorem pk_le {x y : Int32} {A B : Prop} (a b : Nat) (f : a ≤ b → A) (g : b < a → B) (hx : x = nI a := by rfl) (hy : y = nI b := by rfl) (ha : a < 2 ^ 31 := by omega) (hb : b < 2 ^ 31 := by omega) : (x ≤ y → A) ∧ (¬ x ≤ y → B) := by
  subst hx hy
  rw [nI_leI ha hb]
  exact ⟨f, fun z => g (by omega)⟩
theorem pk_lt {x y : Int32} {A B : Prop} (a b : Nat) (f : a < b → A) (g : b ≤ a → B) (hx : x = nI a := by rfl) (hy : y = nI b := by rfl) (ha : a < 2 ^ 31 := by omega) (hb : b < 2 ^ 31 := by omega) : (x < y → A) ∧ (¬ x < y → B) := by
  subst hx hy
  rw [nI_ltI ha hb]
  exact ⟨f, fun z => g (by omega)⟩
theorem pk_eq {x y : Int32} {A B : Prop} (a b : Nat) (f : a = b → A) (g : a ≠ b → B) (hx : x = nI a := by rfl) (hy : y = nI b := by rfl) (ha : a < 2 ^ 31 := by omega) (hb : b < 2 ^ 31 := by omega) : (x = y → A) ∧ (¬ x = y → B) := by
  subst hx hy
  rw [nI_eq ha hb]
  exact ⟨f, g⟩
theorem pk_in {x : Int32} (n N : Nat) (h : n < N) (hx : x = nI n := by rfl) (hN : N < 2 ^ 31 := by omega) : vp_in x N := by
  subst hx
  exact vp_in_nI h hN
theorem pk_cl {x : Int32} (n : Nat) (hx : x = nI n := by rfl) (h : n < 2 ^ 31 := by omega) : x.toNatClampNeg = n := by
  subst hx
  exact nI_clamp h
theorem pk_tn {n : Nat} (h : n < 2 ^ 32) : (nI n).toBitVec.toNat = n := Nat.mod_eq_of_lt h
theorem pk_and (x : Int32) {m : Int32} (k : Nat) (hm : m.toBitVec.toNat = 2 ^ k - 1) : x &&& m = nI (x.toBitVec.toNat % 2 ^ k) := by
  apply Int32.toBitVec_inj.mp
  apply BitVec.eq_of_toNat_eq
  rw [Int32.toBitVec_and, BitVec.toNat_and, hm, Nat.and_two_pow_sub_one_eq_mod]
  show _ = (BitVec.ofNat 32 _).toNat
  rw [BitVec.toNat_ofNat]
  exact (Nat.mod_eq_of_lt (Nat.lt_of_le_of_lt (Nat.mod_le _ _) x.toBitVec.isLt)).symm
theorem pk_andN {n : Nat} (h : n < 2 ^ 32) {m : Int32} (k : Nat) (hm : m.toBitVec.toNat = 2 ^ k - 1) : nI n &&& m = nI (n % 2 ^ k) := by
  rw [pk_and _ k hm, pk_tn h]
theorem pk_shl (a s : Int32) (k : Nat) (hs : (s.toBitVec.smod 32).toNat = k) : (a <<< s).toBitVec.toNat = a.toBitVec.toNat * 2 ^ k % 2 ^ 32 := by
  show (a.toBitVec <<< (s.toBitVec.smod 32).toNat).toNat = _
  rw [hs, BitVec.toNat_shiftLeft, Nat.shiftLeft_eq]
theorem pk_shlN {n : Nat} (s : Int32) (k : Nat) (hs : (s.toBitVec.smod 32).toNat = k) (h : n * 2 ^ k < 2 ^ 32) : nI n <<< s = nI (n * 2 ^ k) := by
  apply Int32.toBitVec_inj.mp
  apply BitVec.eq_of_toNat_eq
  have hn : n < 2 ^ 32 := Nat.lt_of_le_of_lt (Nat.le_mul_of_pos_right n (Nat.two_pow_pos k)) h
  rw [pk_shl _ _ k hs, pk_tn hn, pk_tn h, Nat.mod_eq_of_lt h]
theorem pk_shr (a s : Int32) (k : Nat) (hs : (s.toBitVec.smod 32).toNat = k) : (a >>> s).toInt = a.toInt >>> k := by
  show (a.toBitVec.sshiftRight (s.toBitVec.smod 32).toNat).toInt = _
  rw [hs, BitVec.toInt_sshiftRight]
  rfl
theorem pk_shrN {n : Nat} (h : n < 2 ^ 31) (s : Int32) (k : Nat) (hs : (s.toBitVec.smod 32).toNat = k) : nI n >>> s = nI (n / 2 ^ k) := by
  apply Int32.toInt_inj.mp
  have h2 : n / 2 ^ k ≤ n := Nat.div_le_self _ _
  rw [pk_shr _ _ k hs, nI_toInt h, nI_toInt (by omega), Int.shiftRight_eq_div_pow]
  rfl
theorem pk_loop {σ : Type} (W : Nat → Nat → σ → Prop) (I : Nat → σ → Prop) (e i0 : Nat) (s : σ) (hi : i0 ≤ e) (h0 : I i0 s) (hx : ∀ n s, I e s → W (n + 1) e s)
    (hs : ∀ n i s, i < e → I i s → (∀ s', I (i + 1) s' → W n (i + 1) s') → W (n + 1) i s) : ∃ n, W n i0 s :=
  ⟨e + 1, loop_i W I e hx hs (e + 1) i0 s hi (by omega) h0⟩
theorem pk_loopD {σ : Type} (W : Nat → Nat → σ → Prop) (I : Nat → σ → Prop) (hx : ∀ n s, I 0 s → W (n + 1) 0 s)
    (hs : ∀ n i s, I (i + 1) s → (∀ s', I i s' → W n i s') → W (n + 1) (i + 1) s) : ∀ (e : Nat) (s : σ), I e s → W (e + 1) e s := by
  intro e
  induction e with
  | zero => exact fun s h => hx 0 s h
  | succ e ih => exact fun s h => hs (e + 1) e s h (fun s' h' => ih s' h')
theorem s_l : ∀ n, n < 32 → ((nI n &&& 31).toBitVec.smod 32).toNat = n := by decide +kernel
theorem nx_and (a b : Nat) : nI a &&& nI b = nI (a &&& b) := by
  apply Int32.toBitVec_inj.1
  show BitVec.ofNat 32 a &&& BitVec.ofNat 32 b = BitVec.ofNat 32 (a &&& b)
  apply BitVec.eq_of_getLsbD_eq
  intro i hi
  simp [hi]
theorem nx_xor (a b : Nat) : nI a ^^^ nI b = nI (a ^^^ b) := by
  apply Int32.toBitVec_inj.1
  show BitVec.ofNat 32 a ^^^ BitVec.ofNat 32 b = BitVec.ofNat 32 (a ^^^ b)
  apply BitVec.eq_of_getLsbD_eq
  intro i hi
  simp [hi]
end
section
/-! numbers, bits, arrays as images of naturals -/
theorem nx_or (a b : Nat) : nI a ||| nI b = nI (a ||| b) := by
  apply Int32.toBitVec_inj.1
  show BitVec.ofNat 32 a ||| BitVec.ofNat 32 b = BitVec.ofNat 32 (a ||| b)
  apply BitVec.eq_of_getLsbD_eq
  intro i hi
  simp [hi]
theorem ms_shr {a b : Nat} (ha : a < 2 ^ 31) (hb : b < 32) : nI a >>> (nI b &&& 31) = nI (a / 2 ^ b) := pk_shrN ha _ b (s_l b hb)
theorem ms_shl {a b : Nat} (hb : b < 32) (h : a * 2 ^ b < 2 ^ 32) : nI a <<< (nI b &&& 31) = nI (a * 2 ^ b) := pk_shlN _ b (s_l b hb) h
theorem ms_p31 {b : Nat} (hb : b < 31) : 2 ^ b < 2 ^ 31 := Nat.pow_lt_pow_right (by decide) hb
theorem ms_shl1 {b : Nat} (hb : b < 31) : (1 : Int32) <<< (nI b &&& 31) = nI (2 ^ b) := by
  have h := ms_p31 hb
  have e := ms_shl (a := 1) (b := b) (by omega) (by omega)
  rw [Nat.one_mul] at e
  exact e
theorem ms_bit {a b : Nat} (ha : a < 2 ^ 31) (hb : b < 32) : (nI a >>> (nI b &&& 31)) &&& 1 = nI (a / 2 ^ b % 2) := by
  have h : a / 2 ^ b ≤ a := Nat.div_le_self _ _
  rw [ms_shr ha hb]
  exact pk_andN (m := 1) (by omega) 1 (by decide)
theorem ms_tb (a b : Nat) : a / 2 ^ b % 2 = (a.testBit b).toNat := by
  rw [Nat.testBit_eq_decide_div_mod_eq]
  rcases Nat.mod_two_eq_zero_or_one (a / 2 ^ b) with h | h <;> rw [h] <;> rfl
theorem ms_bitB {a b : Nat} (ha : a < 2 ^ 31) (hb : b < 32) : (nI a >>> (nI b &&& 31)) &&& 1 = nI (a.testBit b).toNat := by
  rw [ms_bit ha hb, ms_tb]
theorem ms_n1 (b : Bool) : nI b.toNat = 1 ↔ b = true := by cases b <;> decide
theorem ms_n0 (b : Bool) : nI b.toNat = 0 ↔ b = false := by cases b <;> decide
/-- a branch on a bit -/
theorem ms_brb {x : Int32} {A B : Prop} (b : Bool) (hx : x = nI b.toNat) (f : b = true → A) (g : b = false → B) : (x = 1 → A) ∧ (¬ x = 1 → B) := by
  subst hx
  rw [ms_n1]
  exact ⟨f, fun h => g (by cases b <;> simp_all)⟩
theorem ms_brz {x : Int32} {A B : Prop} (b : Bool) (hx : x = nI b.toNat) (f : b = false → A) (g : b = true → B) : (x = 0 → A) ∧ (¬ x = 0 → B) := by
  subst hx
  rw [ms_n0]
  exact ⟨f, fun h => g (by cases b <;> simp_all)⟩
theorem ms_vb (b : Bool) : vp_nar .boolean (nI b.toNat) = nI b.toNat := by cases b <;> decide
theorem ms_at {x y : Int32} (P : Int32 → Prop) (e : x = y) (h : P y) : P x := by rw [e]; exact h
def ms_F (A : Nat → Nat) : Nat → Int32 := fun j => nI (A j)
def ms_U (A : Nat → Nat) (k v : Nat) : Nat → Nat := fun j => if j = k then v else A j
theorem ms_Us {A : Nat → Nat} {k v : Nat} : ms_U A k v k = v := if_pos rfl
theorem ms_Un {A : Nat → Nat} {k v j : Nat} (h : j ≠ k) : ms_U A k v j = A j := if_neg h
theorem ms_up {A : Nat → Nat} {x y : Int32} {n v : Nat} (hx : x = nI n) (hn : n < 2 ^ 31) (hy : y = nI v) : upd (ms_F A) x.toNatClampNeg y = ms_F (ms_U A n v) := by
  subst hx hy
  rw [nI_clamp hn]
  funext j
  unfold upd ms_F ms_U
  split <;> rfl
theorem ms_upk {A : Nat → Nat} {y : Int32} {n v : Nat} (hy : y = nI v) : upd (ms_F A) n y = ms_F (ms_U A n v) := by
  subst hy
  funext j
  unfold upd ms_F ms_U
  split <;> rfl
theorem ms_rd {A : Nat → Nat} {x : Int32} {n : Nat} (hx : x = nI n) (hn : n < 2 ^ 31) : ms_F A x.toNatClampNeg = nI (A n) := by
  subst hx
  rw [nI_clamp hn]
  rfl
theorem ms_in {x : Int32} {n N : Nat} (hx : x = nI n) (h : n < N) (hN : N < 2 ^ 31) : vp_in x N := by
  subst hx
  exact vp_in_nI h hN
theorem ms_rdn {A : Nat → Nat} {n : Nat} (hn : n < 2 ^ 31) : ms_F A (nI n).toNatClampNeg = nI (A n) := ms_rd rfl hn
theorem ms_256 (l s : Nat) : nI l * 256 + nI s = nI (l * 256 + s) := by
  rw [show (256 : Int32) = nI 256 from rfl, pk_mul, nI_add]
theorem ms_256' (l s : Nat) : (nI l + 1) * 256 + nI s = nI ((l + 1) * 256 + s) := by
  rw [nI_1, ms_256]
theorem ms_8 (l s c : Nat) : (nI l * 256 + nI s) * 8 + nI c = nI ((l * 256 + s) * 8 + c) := by
  rw [ms_256, show (8 : Int32) = nI 8 from rfl, pk_mul, nI_add]
theorem ms_12 (l s : Nat) : nI l * 12 + nI s = nI (l * 12 + s) := by
  rw [show (12 : Int32) = nI 12 from rfl, pk_mul, nI_add]
theorem ms_12' (l s : Nat) : (nI l + 1) * 12 + nI s = nI ((l + 1) * 12 + s) := by
  rw [nI_1, ms_12]
theorem ms_7 (l s : Nat) : nI l * 7 + nI s = nI (l * 7 + s) := by
  rw [show (7 : Int32) = nI 7 from rfl, pk_mul, nI_add]
theorem ms_576 (l s : Nat) : nI l * 576 + nI s = nI (l * 576 + s) := by
  rw [show (576 : Int32) = nI 576 from rfl, pk_mul, nI_add]
theorem ms_4096 (l s : Nat) : nI l * 4096 + nI s = nI (l * 4096 + s) := by
  rw [show (4096 : Int32) = nI 4096 from rfl, pk_mul, nI_add]
theorem ms_N (s l q c : Nat) : (((nI s * 6) + nI l) * 12 + nI q) * 8 + nI c = nI (((s * 6 + l) * 12 + q) * 8 + c) := by
  rw [show (6 : Int32) = nI 6 from rfl, pk_mul, nI_add, ms_12, show (8 : Int32) = nI 8 from rfl, pk_mul, nI_add]
theorem ms_W (c : Nat) : (16384 : Int32) + nI c = nI (16384 + c) := nI_add 16384 c
theorem ms_pred {a : Nat} (h : 0 < a) : nI a - 1 = nI (a - 1) := pk_sub (b := 1) h
theorem ms_pred' {a : Nat} (h : 0 < a) : nI a + (-1) = nI (a - 1) := by
  obtain ⟨m, rfl⟩ : ∃ m, a = m + 1 := ⟨a - 1, by omega⟩
  exact pk_m1 m
theorem ms_subm (a : Nat) : nI a - 1 = nI a + (-1) := Int32.sub_eq_add_neg _ _
theorem ms_m1lt {a : Nat} (h : a < 2 ^ 31) : nI a + (-1) < nI a := by
  rcases Nat.eq_zero_or_pos a with rfl | h0
  · decide
  · rw [ms_pred' h0]
    exact nI_lt (by omega) h
/-- reading the top of a stack -/
theorem ms_top {ht k : Nat} (h : k < ht) : (nI ht - 1) - nI k = nI (ht - 1 - k) := by
  rw [ms_pred (by omega), pk_sub (by omega)]
theorem ms_pw (a b : Nat) : (2 ^ a) ^ b = 2 ^ (a * b) := (Nat.pow_mul 2 a b).symm
end
section
/-! runs of levelled automata; words as numbers in base K, the first column the most significant -/
def ms_rn (K : Nat) (d : Nat → Nat → Nat → Nat) (i q : Nat) : Nat → Nat → Nat
  | 0, _ => q
  | n + 1, r => d (i + n) (ms_rn K d i q n (r / K)) (r % K)
theorem ms_rn_s {K : Nat} {d : Nat → Nat → Nat → Nat} {i q n r : Nat} : ms_rn K d i q (n + 1) r = d (i + n) (ms_rn K d i q n (r / K)) (r % K) := rfl
theorem ms_rn_0 {K : Nat} {d : Nat → Nat → Nat → Nat} {i q r : Nat} : ms_rn K d i q 0 r = q := rfl
theorem ms_dvs {K b r : Nat} (hr : r < K ^ (b + 1)) : r / K < K ^ b := by
  apply Nat.div_lt_of_lt_mul
  rw [Nat.mul_comm, ← Nat.pow_succ]
  exact hr
theorem ms_dvc {K b p r : Nat} (hK : 0 < K) : (p * K ^ (b + 1) + r) / K = p * K ^ b + r / K ∧ (p * K ^ (b + 1) + r) % K = r % K := by
  have e : p * K ^ (b + 1) + r = r + (p * K ^ b) * K := by rw [Nat.pow_succ, ← Nat.mul_assoc, Nat.add_comm]
  rw [e, Nat.add_mul_div_right _ _ hK, Nat.add_mul_mod_self_right]
  exact ⟨Nat.add_comm _ _, rfl⟩
theorem ms_rn_app {K : Nat} {d : Nat → Nat → Nat → Nat} {i q a : Nat} (hK : 0 < K) : ∀ b p r, r < K ^ b → ms_rn K d i q (a + b) (p * K ^ b + r) = ms_rn K d (i + a) (ms_rn K d i q a p) b r := by
  intro b
  induction b with
  | zero =>
    intro p r hr
    have h0 : r = 0 := by simpa using hr
    subst h0
    simp [ms_rn_0]
  | succ b ih =>
    intro p r hr
    have e := ms_dvc (b := b) (p := p) (r := r) hK
    show ms_rn K d i q (a + b + 1) (p * K ^ (b + 1) + r) = _
    rw [ms_rn_s, ms_rn_s, e.1, e.2, ih p (r / K) (ms_dvs hr), Nat.add_assoc]
theorem ms_rn_1 {K : Nat} {d : Nat → Nat → Nat → Nat} {i q c : Nat} (hc : c < K) : ms_rn K d i q 1 c = d i q c := by
  show d (i + 0) q (c % K) = _
  rw [Nat.mod_eq_of_lt hc, Nat.add_zero]
theorem ms_rn_cons {K : Nat} {d : Nat → Nat → Nat → Nat} {i q b c r : Nat} (hc : c < K) (hr : r < K ^ b) : ms_rn K d i q (b + 1) (c * K ^ b + r) = ms_rn K d (i + 1) (d i q c) b r := by
  rw [Nat.add_comm b 1, ms_rn_app (by omega) b c r hr, ms_rn_1 hc]
theorem ms_rn_lt {K h : Nat} {d : Nat → Nat → Nat → Nat} {w : Nat → Nat} (hK : 0 < K) (hd : ∀ i q c, i < h → q < w i → c < K → d i q c < w (i + 1)) {i q : Nat} (hq : q < w i) : ∀ n r, i + n ≤ h → ms_rn K d i q n r < w (i + n) := by
  intro n
  induction n with
  | zero => intro r _; exact hq
  | succ n ih =>
    intro r hn
    exact hd (i + n) _ _ (by omega) (ih (r / K) (by omega)) (Nat.mod_lt _ hK)
theorem ms_rn_congr {K h : Nat} {d d' : Nat → Nat → Nat → Nat} {w : Nat → Nat} (hK : 0 < K) (hd : ∀ i q c, i < h → q < w i → c < K → d i q c < w (i + 1)) (he : ∀ i q c, i < h → q < w i → c < K → d i q c = d' i q c) {i q : Nat} (hq : q < w i) : ∀ n r, i + n ≤ h → ms_rn K d i q n r = ms_rn K d' i q n r := by
  intro n
  induction n with
  | zero => intro r _; rfl
  | succ n ih =>
    intro r hn
    rw [ms_rn_s, ms_rn_s, ← ih (r / K) (by omega)]
    exact he _ _ _ (by omega) (ms_rn_lt hK hd hq n (r / K) (by omega)) (Nat.mod_lt _ hK)
theorem ms_rn_map {K h : Nat} {e d : Nat → Nat → Nat → Nat} {w : Nat → Nat} {f : Nat → Nat → Nat} (hK : 0 < K) (he : ∀ i q c, i < h → q < w i → c < K → e i q c < w (i + 1)) (hf : ∀ j s c, j < h → s < w j → c < K → f (j + 1) (e j s c) = d j (f j s) c) {i s : Nat} (hs : s < w i) : ∀ n r, i + n ≤ h → f (i + n) (ms_rn K e i s n r) = ms_rn K d i (f i s) n r := by
  intro n
  induction n with
  | zero => intro r _; rfl
  | succ n ih =>
    intro r hn
    rw [ms_rn_s, ms_rn_s, ← ih (r / K) (by omega)]
    exact hf (i + n) _ _ (by omega) (ms_rn_lt hK he hs n (r / K) (by omega)) (Nat.mod_lt _ hK)
/-- any word splits -/
theorem ms_split {K r : Nat} (b : Nat) (hK : 0 < K) {a : Nat} (hr : r < K ^ (a + b)) : r / K ^ b < K ^ a ∧ r % K ^ b < K ^ b ∧ (r / K ^ b) * K ^ b + r % K ^ b = r := by
  have hb : 0 < K ^ b := Nat.pow_pos hK
  refine ⟨?_, Nat.mod_lt _ hb, Nat.div_add_mod' r _⟩
  apply Nat.div_lt_of_lt_mul
  rw [← Nat.pow_add, Nat.add_comm b a]
  exact hr
theorem ms_join {K a b p r : Nat} (hp : p < K ^ a) (hr : r < K ^ b) : p * K ^ b + r < K ^ (a + b) := by
  have h : (p + 1) * K ^ b ≤ K ^ a * K ^ b := Nat.mul_le_mul_right _ hp
  rw [Nat.add_mul, Nat.one_mul, ← Nat.pow_add] at h
  omega
theorem ms_php : ∀ (n k : Nat) (f : Nat → Nat), (∀ i, i < k → f i < n) → (∀ i j, i < k → j < k → f i = f j → i = j) → k ≤ n := by
  intro n
  induction n with
  | zero =>
    intro k f hf _
    rcases Nat.eq_zero_or_pos k with h | h
    · omega
    · have := hf 0 h; omega
  | succ n ih =>
    intro k f hf hi
    by_cases hx : ∃ i, i < k ∧ f i = n
    · obtain ⟨i0, h0, e0⟩ := hx
      obtain ⟨k', rfl⟩ : ∃ k', k = k' + 1 := ⟨k - 1, by omega⟩
      have hne : ∀ i, i < k' + 1 → i ≠ i0 → f i < n := by
        intro i hik hii
        have h1 := hf i hik
        have h2 : f i ≠ n := fun e => hii (hi i i0 hik h0 (by omega))
        omega
      have := ih k' (fun i => if i < i0 then f i else f (i + 1)) (by
        intro i hik
        split
        · exact hne i (by omega) (by omega)
        · exact hne (i + 1) (by omega) (by omega)) (by
        intro i j hik hjk he
        split at he <;> split at he
        · exact hi i j (by omega) (by omega) he
        · have := hi i (j + 1) (by omega) (by omega) he; omega
        · have := hi (i + 1) j (by omega) (by omega) he; omega
        · have := hi (i + 1) (j + 1) (by omega) (by omega) he; omega)
      omega
    · have := ih k f (fun i hik => by
        have h1 := hf i hik
        have h2 : f i ≠ n := fun e => hx ⟨i, hik, e⟩
        omega) hi
      omega
/-- w is the number of classes of R below N -/
def ms_isW (R : Nat → Nat → Prop) (N w : Nat) : Prop := ∃ g : Nat → Nat, (∀ p, p < N → g p < w) ∧ (∀ p q, p < N → q < N → (g p = g q ↔ R p q)) ∧ (∀ k, k < w → ∃ p, p < N ∧ g p = k)
theorem ms_isW_ge {R : Nat → Nat → Prop} {N w k : Nat} (h : ms_isW R N w) (a : Nat → Nat) (ha : ∀ i, i < k → a i < N) (hn : ∀ i j, i < k → j < k → R (a i) (a j) → i = j) : k ≤ w := by
  obtain ⟨g, g1, g2, g3⟩ := h
  exact ms_php w k (fun i => g (a i)) (fun i hi => g1 _ (ha i hi)) (fun i j hi hj e => hn i j hi hj ((g2 _ _ (ha i hi) (ha j hj)).mp e))
theorem ms_ch {k : Nat} {Q : Nat → Nat → Prop} (h : ∀ i, i < k → ∃ p, Q i p) : ∃ a : Nat → Nat, ∀ i, i < k → Q i (a i) := by
  refine ⟨fun i => if hi : i < k then (h i hi).choose else 0, fun i hi => ?_⟩
  dsimp only
  rw [dif_pos hi]
  exact (h i hi).choose_spec
theorem ms_isW_le {R : Nat → Nat → Prop} {N w w' : Nat} (h : ms_isW R N w) (h' : ms_isW R N w') : w ≤ w' := by
  obtain ⟨g, g1, g2, g3⟩ := h
  obtain ⟨a, ha⟩ := ms_ch g3
  refine ms_isW_ge h' a (fun i hi => (ha i hi).1) (fun i j hi hj r => ?_)
  have e := (g2 _ _ (ha i hi).1 (ha j hj).1).mpr r
  rw [(ha i hi).2, (ha j hj).2] at e
  exact e
theorem ms_isW_un {R : Nat → Nat → Prop} {N w w' : Nat} (h : ms_isW R N w) (h' : ms_isW R N w') : w = w' := Nat.le_antisymm (ms_isW_le h h') (ms_isW_le h' h)
/-- two prefixes alike for the language L -/
def ms_eqv (K h : Nat) (L : Nat → Bool) (j p q : Nat) : Prop := ∀ r, r < K ^ (h - j) → L (p * K ^ (h - j) + r) = L (q * K ^ (h - j) + r)
/-- two states alike -/
def ms_EqS (K h : Nat) (e : Nat → Nat → Nat → Nat) (G : Nat → Bool) (j s s' : Nat) : Prop := ∀ r, r < K ^ (h - j) → G (ms_rn K e j s (h - j) r) = G (ms_rn K e j s' (h - j) r)
theorem ms_EqS_rfl {K h : Nat} {e : Nat → Nat → Nat → Nat} {G : Nat → Bool} {j s : Nat} : ms_EqS K h e G j s s := fun _ _ => rfl
theorem ms_EqS_sym {K h : Nat} {e : Nat → Nat → Nat → Nat} {G : Nat → Bool} {j s s' : Nat} (H : ms_EqS K h e G j s s') : ms_EqS K h e G j s' s := fun r hr => (H r hr).symm
theorem ms_EqS_tr {K h : Nat} {e : Nat → Nat → Nat → Nat} {G : Nat → Bool} {j s s' s'' : Nat} (H : ms_EqS K h e G j s s') (H' : ms_EqS K h e G j s' s'') : ms_EqS K h e G j s s'' := fun r hr => (H r hr).trans (H' r hr)
theorem ms_EqS_h {K h : Nat} {e : Nat → Nat → Nat → Nat} {G : Nat → Bool} {s s' : Nat} : ms_EqS K h e G h s s' ↔ G s = G s' := by
  unfold ms_EqS
  rw [Nat.sub_self]
  constructor
  · intro H; exact H 0 (by simp)
  · intro H r _; exact H
theorem ms_EqS_s {K h : Nat} {e : Nat → Nat → Nat → Nat} {G : Nat → Bool} {j s s' : Nat} (hK : 0 < K) (hj : j < h) : ms_EqS K h e G j s s' ↔ ∀ c, c < K → ms_EqS K h e G (j + 1) (e j s c) (e j s' c) := by
  unfold ms_EqS
  obtain ⟨b, hb⟩ : ∃ b, h - j = b + 1 := ⟨h - j - 1, by omega⟩
  have hb' : h - (j + 1) = b := by omega
  rw [hb, hb']
  constructor
  · intro H c hc r hr
    have := H (c * K ^ b + r) (by rw [Nat.add_comm b 1]; exact ms_join (a := 1) (by simpa using hc) hr)
    rw [ms_rn_cons hc hr, ms_rn_cons hc hr] at this
    exact this
  · intro H r hr
    obtain ⟨h1, h2, h3⟩ := ms_split (K := K) (r := r) b hK (a := 1) (by rw [Nat.add_comm]; exact hr)
    rw [Nat.pow_one] at h1
    rw [← h3, ms_rn_cons h1 h2, ms_rn_cons h1 h2]
    exact H _ h1 _ h2
/-- a work automaton for the language L -/
def ms_WA (K h : Nat) (n : Nat → Nat) (e : Nat → Nat → Nat → Nat) (G L : Nat → Bool) : Prop :=
  n 0 = 1 ∧ (∀ j, j ≤ h → n j ≤ 256) ∧ (∀ j s c, j < h → s < n j → c < K → e j s c < n (j + 1)) ∧ (∀ j s, j ≤ h → s < n j → ∃ p, p < K ^ j ∧ ms_rn K e 0 0 j p = s) ∧ (∀ c, c < K ^ h → G (ms_rn K e 0 0 h c) = L c)
theorem ms_WA_eqv {K h : Nat} {n : Nat → Nat} {e : Nat → Nat → Nat → Nat} {G L : Nat → Bool} (hK : 0 < K) (H : ms_WA K h n e G L) {j p q : Nat} (hj : j ≤ h) (hp : p < K ^ j) (hq : q < K ^ j) : ms_eqv K h L j p q ↔ ms_EqS K h e G j (ms_rn K e 0 0 j p) (ms_rn K e 0 0 j q) := by
  obtain ⟨_, _, _, _, hL⟩ := H
  have key : ∀ p, p < K ^ j → ∀ r, r < K ^ (h - j) → L (p * K ^ (h - j) + r) = G (ms_rn K e j (ms_rn K e 0 0 j p) (h - j) r) := by
    intro p hp r hr
    have hc := ms_join hp hr
    rw [Nat.add_sub_cancel' hj] at hc
    rw [← hL _ hc]
    have := ms_rn_app (d := e) (i := 0) (q := 0) (a := j) hK (h - j) p r hr
    rw [Nat.add_sub_cancel' hj, Nat.zero_add] at this
    rw [this]
  unfold ms_eqv ms_EqS
  constructor
  · intro H r hr; rw [← key p hp r hr, ← key q hq r hr]; exact H r hr
  · intro H r hr; rw [key p hp r hr, key q hq r hr]; exact H r hr
/-- more than k classes of states: more than k widths -/
theorem ms_WA_wide {K h : Nat} {n : Nat → Nat} {e : Nat → Nat → Nat → Nat} {G L : Nat → Bool} (hK : 0 < K) (H : ms_WA K h n e G L) {j k w : Nat} (hj : j ≤ h) (a : Nat → Nat) (ha : ∀ i, i < k → a i < n j) (hn : ∀ i i', i < k → i' < k → ms_EqS K h e G j (a i) (a i') → i = i') (hw : ms_isW (ms_eqv K h L j) (K ^ j) w) : k ≤ w := by
  obtain ⟨b, hb⟩ := ms_ch (fun i hi => H.2.2.2.1 j (a i) hj (ha i hi))
  refine ms_isW_ge hw b (fun i hi => (hb i hi).1) (fun i i' hi hi' r => hn i i' hi hi' ?_)
  have := (ms_WA_eqv hK H hj (hb i hi).1 (hb i' hi').1).mp r
  rw [(hb i hi).2, (hb i' hi').2] at this
  exact this
/-- the sorts of a level: c the sort, r the representative, m their number -/
def ms_CL (K h M : Nat) (n : Nat → Nat) (e : Nat → Nat → Nat → Nat) (G : Nat → Bool) (c r m : Nat → Nat) (j : Nat) : Prop :=
  m j ≤ M ∧ (∀ s, s < n j → c (j * 256 + s) < m j) ∧ (∀ s s', s < n j → s' < n j → (c (j * 256 + s) = c (j * 256 + s') ↔ ms_EqS K h e G j s s')) ∧ (∀ k, k < m j → r (j * 12 + k) < n j ∧ c (j * 256 + r (j * 12 + k)) = k)
theorem ms_CL_w {K h M : Nat} {n : Nat → Nat} {e : Nat → Nat → Nat → Nat} {G L : Nat → Bool} {c r m : Nat → Nat} (hK : 0 < K) (H : ms_WA K h n e G L) {j : Nat} (hj : j ≤ h) (C : ms_CL K h M n e G c r m j) : ms_isW (ms_eqv K h L j) (K ^ j) (m j) := by
  obtain ⟨c1, c2, c3, c4⟩ := C
  have hn : ∀ p, ms_rn K e 0 0 j p < n j := by
    intro p
    have := ms_rn_lt (h := h) (i := 0) (q := 0) hK H.2.2.1 (by rw [H.1]; omega) j p (by omega)
    rw [Nat.zero_add] at this
    exact this
  refine ⟨fun p => c (j * 256 + ms_rn K e 0 0 j p), fun p _ => c2 _ (hn p), fun p q hp hq => ?_, fun k hk => ?_⟩
  · rw [ms_WA_eqv hK H hj hp hq]
    exact c3 _ _ (hn p) (hn q)
  · obtain ⟨p, hp, ep⟩ := H.2.2.2.1 j _ hj (c4 k hk).1
    exact ⟨p, hp, by dsimp only; rw [ep]; exact (c4 k hk).2⟩
/-- a minimal automaton for L -/
def ms_Aut (K h M : Nat) (w : Nat → Nat) (d : Nat → Nat → Nat → Nat) (F : Nat) (L : Nat → Bool) : Prop :=
  w 0 = 1 ∧ (∀ j, j ≤ h → w j ≤ M) ∧ F < 2 ^ w h ∧ (∀ j s c, j < h → s < w j → c < K → d j s c < w (j + 1)) ∧ (∀ j s, j ≤ h → s < w j → ∃ p, p < K ^ j ∧ ms_rn K d 0 0 j p = s)
  ∧ (∀ j s s', j ≤ h → s < w j → s' < w j → ms_EqS K h d (fun q => F.testBit q) j s s' → s = s') ∧ (∀ c, c < K ^ h → F.testBit (ms_rn K d 0 0 h c) = L c)
theorem ms_Aut_congr {K h M : Nat} {w w' : Nat → Nat} {d d' : Nat → Nat → Nat → Nat} {F : Nat} {L : Nat → Bool} (hK : 0 < K) (A : ms_Aut K h M w d F L) (hw : ∀ j, j ≤ h → w j = w' j) (hd : ∀ j s c, j < h → s < w j → c < K → d j s c = d' j s c) : ms_Aut K h M w' d' F L := by
  obtain ⟨a0, a1, a2, a3, a4, a5, a6⟩ := A
  have hrn : ∀ i q n r, i + n ≤ h → q < w i → ms_rn K d i q n r = ms_rn K d' i q n r := fun i q n r hn hq => ms_rn_congr hK a3 hd hq n r hn
  have w0 : 0 < w 0 := by omega
  refine ⟨by rw [← hw 0 (by omega)]; exact a0, fun j hj => by rw [← hw j hj]; exact a1 j hj, by rw [← hw h (Nat.le_refl h)]; exact a2, ?_, ?_, ?_, ?_⟩
  · intro j s c hj hs hc
    rw [← hw j (by omega)] at hs
    rw [← hd j s c hj hs hc, ← hw (j + 1) (by omega)]
    exact a3 j s c hj hs hc
  · intro j s hj hs
    rw [← hw j hj] at hs
    obtain ⟨p, hp, e⟩ := a4 j s hj hs
    exact ⟨p, hp, by rw [← hrn 0 0 j p (by omega) w0]; exact e⟩
  · intro j s s' hj hs hs' E
    rw [← hw j hj] at hs hs'
    refine a5 j s s' hj hs hs' (fun r hr => ?_)
    have := E r hr
    rw [← hrn j s _ r (by omega) hs, ← hrn j s' _ r (by omega) hs'] at this
    exact this
  · intro c hc
    rw [← hrn 0 0 h c (by omega) w0]
    exact a6 c hc
theorem ms_Aut_L {K h M : Nat} {w : Nat → Nat} {d : Nat → Nat → Nat → Nat} {F : Nat} {L L' : Nat → Bool} (A : ms_Aut K h M w d F L) (hl : ∀ c, c < K ^ h → L c = L' c) : ms_Aut K h M w d F L' := by
  obtain ⟨a0, a1, a2, a3, a4, a5, a6⟩ := A
  exact ⟨a0, a1, a2, a3, a4, a5, fun c hc => by rw [← hl c hc]; exact a6 c hc⟩
/-- minimisation -/
theorem ms_min {K h M : Nat} {n : Nat → Nat} {e : Nat → Nat → Nat → Nat} {G L : Nat → Bool} {c r m : Nat → Nat} {F : Nat} (hK : 0 < K) (H : ms_WA K h n e G L) (C : ∀ j, j ≤ h → ms_CL K h M n e G c r m j) (hF : F < 2 ^ m h) (hG : ∀ k, k < m h → F.testBit k = G (r (h * 12 + k))) : ms_Aut K h M m (fun j k x => c ((j + 1) * 256 + e j (r (j * 12 + k)) x)) F L := by
  have hWA := H
  obtain ⟨h0, h1, h2, h3, h4⟩ := H
  have cc : ∀ j, j ≤ h → ∀ s, s < n j → c (j * 256 + s) < m j := fun j hj => (C j hj).2.1
  have cr : ∀ j, j ≤ h → ∀ s, s < n j → r (j * 12 + c (j * 256 + s)) < n j ∧ ms_EqS K h e G j s (r (j * 12 + c (j * 256 + s))) := by
    intro j hj s hs
    obtain ⟨_, c2, c3, c4⟩ := C j hj
    obtain ⟨x1, x2⟩ := c4 _ (c2 s hs)
    exact ⟨x1, (c3 s _ hs x1).mp x2.symm⟩
  have hmap : ∀ j s x, j < h → s < n j → x < K → c ((j + 1) * 256 + e j s x) = c ((j + 1) * 256 + e j (r (j * 12 + c (j * 256 + s))) x) := by
    intro j s x hj hs hx
    obtain ⟨x1, x2⟩ := cr j (by omega) s hs
    obtain ⟨_, _, c3, _⟩ := C (j + 1) (by omega)
    exact (c3 _ _ (h2 j s x hj hs hx) (h2 j _ x hj x1 hx)).mpr ((ms_EqS_s hK hj).mp x2 x hx)
  have hrn : ∀ i s n', i + n' ≤ h → s < n i → ∀ x, c ((i + n') * 256 + ms_rn K e i s n' x) = ms_rn K (fun j k x => c ((j + 1) * 256 + e j (r (j * 12 + k)) x)) i (c (i * 256 + s)) n' x := by
    intro i s n' hn hs x
    exact ms_rn_map (h := h) (w := n) (f := fun j s => c (j * 256 + s)) hK h2 hmap hs n' x hn
  have hG' : ∀ s, s < n h → F.testBit (c (h * 256 + s)) = G s := by
    intro s hs
    rw [hG _ (cc h (Nat.le_refl h) s hs)]
    exact (ms_EqS_h.mp (cr h (Nat.le_refl h) s hs).2).symm
  have n0 : 0 < n 0 := by omega
  have k0 : c (0 * 256 + 0) = 0 := by
    obtain ⟨_, c2, c3, c4⟩ := C 0 (by omega)
    have hm : 0 < m 0 := Nat.lt_of_le_of_lt (Nat.zero_le _) (c2 0 n0)
    obtain ⟨x1, x2⟩ := c4 0 hm
    have : r (0 * 12 + 0) = 0 := by omega
    rw [this] at x2
    exact x2
  have run0 : ∀ j, j ≤ h → ∀ p, ms_rn K (fun j k x => c ((j + 1) * 256 + e j (r (j * 12 + k)) x)) 0 0 j p = c (j * 256 + ms_rn K e 0 0 j p) := by
    intro j hj p
    have := hrn 0 0 j (by omega) n0 p
    rw [k0, Nat.zero_add] at this
    exact this.symm
  have hlt : ∀ j, j ≤ h → ∀ p, ms_rn K e 0 0 j p < n j := by
    intro j hj p
    have := ms_rn_lt hK h2 n0 j p (by omega)
    rw [Nat.zero_add] at this
    exact this
  have hsuf : ∀ j s, j ≤ h → s < n j → ∀ x, F.testBit (ms_rn K (fun j k x => c ((j + 1) * 256 + e j (r (j * 12 + k)) x)) j (c (j * 256 + s)) (h - j) x) = G (ms_rn K e j s (h - j) x) := by
    intro j s hj hs x
    have hl := ms_rn_lt hK h2 hs (h - j) x (by omega)
    rw [← hrn j s (h - j) (by omega) hs x]
    rw [Nat.add_sub_cancel' hj] at hl ⊢
    exact hG' _ hl
  refine ⟨?_, fun j hj => (C j hj).1, hF, ?_, ?_, ?_, ?_⟩
  · obtain ⟨_, c2, c3, c4⟩ := C 0 (by omega)
    have hm : 0 < m 0 := Nat.lt_of_le_of_lt (Nat.zero_le _) (c2 0 n0)
    rcases Nat.lt_or_ge 1 (m 0) with g | g
    · obtain ⟨x1, x2⟩ := c4 1 g
      have : r (0 * 12 + 1) = 0 := by omega
      rw [this, k0] at x2
      omega
    · omega
  · intro j k x hj hk hx
    exact cc (j + 1) (by omega) _ (h2 j _ x hj ((C j (by omega)).2.2.2 k hk).1 hx)
  · intro j k hj hk
    obtain ⟨x1, x2⟩ := (C j hj).2.2.2 k hk
    obtain ⟨p, hp, ep⟩ := h3 j _ hj x1
    exact ⟨p, hp, by rw [run0 j hj p, ep]; exact x2⟩
  · intro j k k' hj hk hk' E
    obtain ⟨x1, x2⟩ := (C j hj).2.2.2 k hk
    obtain ⟨y1, y2⟩ := (C j hj).2.2.2 k' hk'
    rw [← x2, ← y2]
    refine ((C j hj).2.2.1 _ _ x1 y1).mpr (fun x hx => ?_)
    rw [← hsuf j _ hj x1 x, ← hsuf j _ hj y1 x, x2, y2]
    exact E x hx
  · intro x hx
    rw [run0 h (Nat.le_refl h) x, hG' _ (hlt h (Nat.le_refl h) x)]
    exact h4 x hx
end
section
/-! unfolding, pure: keys and links level by level -/
def ms_dn (L S C j s c : Nat) : Prop := j < L ∨ (j = L ∧ (s < S ∨ (s = S ∧ c < C)))
def ms_UI (K h : Nat) (g : Nat → Nat → Nat → Nat) (k0 : Nat) (P : Nat → Nat → Prop) (L S C : Nat) (wc wk wn : Nat → Nat) : Prop :=
  (wc 0 = 1 ∧ wk 0 = k0) ∧ (∀ j, j ≤ h → wc j ≤ 256) ∧ (∀ j, L + 1 < j → j ≤ h → wc j = 0)
  ∧ (∀ j s, j ≤ h → s < wc j → P j (wk (j * 256 + s)))
  ∧ (∀ j s c, j < h → ms_dn L S C j s c → s < wc j → c < K → wn ((j * 256 + s) * 8 + c) < wc (j + 1) ∧ wk ((j + 1) * 256 + wn ((j * 256 + s) * 8 + c)) = g j (wk (j * 256 + s)) c)
  ∧ (∀ j s', j < h → s' < wc (j + 1) → ∃ s c, s < wc j ∧ c < K ∧ ms_dn L S C j s c ∧ wn ((j * 256 + s) * 8 + c) = s')
def ms_KI (N L1 : Nat) (wk ki : Nat → Nat) : Prop := (∀ s, s < N → ki (wk (L1 * 256 + s)) = s + 1) ∧ (∀ k, k < 4096 → ki k ≠ 0 → ∃ s, s < N ∧ wk (L1 * 256 + s) = k)
section UNF
variable {K h : Nat} {g : Nat → Nat → Nat → Nat} {k0 : Nat} {P : Nat → Nat → Prop} {L S C : Nat} {wc wk wn ki : Nat → Nat}
theorem ms_UI_mono {L' S' C' : Nat} (U : ms_UI K h g k0 P L S C wc wk wn) (hL : L ≤ L') (hd : ∀ j s c, s < wc j → c < K → (ms_dn L S C j s c ↔ ms_dn L' S' C' j s c)) : ms_UI K h g k0 P L' S' C' wc wk wn := by
  obtain ⟨u1, u2, u3, u4, u5, u6⟩ := U
  refine ⟨u1, u2, fun j h1 h2 => u3 j (by omega) h2, u4, fun j s c hj hd' hs hc => u5 j s c hj ((hd j s c hs hc).mpr hd') hs hc, fun j s' hj hs' => ?_⟩
  obtain ⟨s, c, x1, x2, x3, x4⟩ := u6 j s' hj hs'
  exact ⟨s, c, x1, x2, (hd j s c x1 x2).mp x3, x4⟩
theorem ms_UI_row (U : ms_UI K h g k0 P L S K wc wk wn) : ms_UI K h g k0 P L (S + 1) 0 wc wk wn := by
  refine ms_UI_mono U (Nat.le_refl L) (fun j s c _ hc => ?_)
  unfold ms_dn
  omega
theorem ms_UI_lev (U : ms_UI K h g k0 P L (wc L) 0 wc wk wn) : ms_UI K h g k0 P (L + 1) 0 0 wc wk wn := by
  refine ms_UI_mono U (by omega) (fun j s c hs hc => ?_)
  unfold ms_dn
  constructor
  · intro h; omega
  · intro h
    have h1 : j < L ∨ j = L := by omega
    rcases h1 with h1 | h1
    · exact Or.inl h1
    · subst h1; exact Or.inr ⟨rfl, Or.inl hs⟩
theorem ms_KI_at {N L1 key i : Nat} (H : ms_KI N L1 wk ki) (hk : key < 4096) (hi : ki key = i + 1) : i < N ∧ wk (L1 * 256 + i) = key := by
  obtain ⟨s, h1, h2⟩ := H.2 key hk (by omega)
  have h3 := H.1 s h1
  rw [h2] at h3
  have e : s = i := by omega
  subst e
  exact ⟨h1, h2⟩
theorem ms_UI_known {key i : Nat} (hK : K ≤ 8) (hL : L < h) (U : ms_UI K h g k0 P L S C wc wk wn) (hS : S < wc L) (hC : C < K) (hi : i < wc (L + 1)) (hk : wk ((L + 1) * 256 + i) = key) (hg : g L (wk (L * 256 + S)) C = key) : ms_UI K h g k0 P L S (C + 1) wc wk (ms_U wn ((L * 256 + S) * 8 + C) i) := by
  obtain ⟨u1, u2, u3, u4, u5, u6⟩ := U
  have uS := u2 L (by omega)
  refine ⟨u1, u2, u3, u4, fun j s c hj hd hs hc => ?_, fun j s' hj hs' => ?_⟩
  · have us := u2 j (by omega)
    by_cases e : j = L ∧ s = S ∧ c = C
    · obtain ⟨e1, e2, e3⟩ := e
      subst e1 e2 e3
      rw [ms_Us]
      exact ⟨hi, hk.trans hg.symm⟩
    · have hd' : ms_dn L S C j s c := by
        unfold ms_dn at hd ⊢
        omega
      rw [ms_Un (by omega)]
      exact u5 j s c hj hd' hs hc
  · obtain ⟨s, c, x1, x2, x3, x4⟩ := u6 j s' hj hs'
    have us := u2 j (by omega)
    refine ⟨s, c, x1, x2, ?_, ?_⟩
    · unfold ms_dn at x3 ⊢; omega
    · rw [ms_Un (by unfold ms_dn at x3; omega)]
      exact x4
theorem ms_UI_fresh {key : Nat} (hK : K ≤ 8) (hL : L < h) (U : ms_UI K h g k0 P L S C wc wk wn) (hS : S < wc L) (hC : C < K) (hN : wc (L + 1) < 256) (hg : g L (wk (L * 256 + S)) C = key) (hP : P (L + 1) key) : ms_UI K h g k0 P L S (C + 1) (ms_U wc (L + 1) (wc (L + 1) + 1)) (ms_U wk ((L + 1) * 256 + wc (L + 1)) key) (ms_U wn ((L * 256 + S) * 8 + C) (wc (L + 1))) := by
  obtain ⟨u1, u2, u3, u4, u5, u6⟩ := U
  have uS := u2 L (by omega)
  have wc_o : ∀ j, j ≠ L + 1 → ms_U wc (L + 1) (wc (L + 1) + 1) j = wc j := fun j hj => ms_Un hj
  have wc_n : ms_U wc (L + 1) (wc (L + 1) + 1) (L + 1) = wc (L + 1) + 1 := ms_Us
  have wk_o : ∀ j s, s < 256 → ¬ (j = L + 1 ∧ s = wc (L + 1)) → ms_U wk ((L + 1) * 256 + wc (L + 1)) key (j * 256 + s) = wk (j * 256 + s) := fun j s h1 h2 => ms_Un (by omega)
  have wk_n : ms_U wk ((L + 1) * 256 + wc (L + 1)) key ((L + 1) * 256 + wc (L + 1)) = key := ms_Us
  have wc_ge : ∀ j, wc j ≤ ms_U wc (L + 1) (wc (L + 1) + 1) j := by
    intro j
    by_cases e : j = L + 1
    · subst e; rw [wc_n]; omega
    · rw [wc_o j e]; exact Nat.le_refl _
  refine ⟨⟨?_, ?_⟩, fun j hj => ?_, fun j h1 h2 => ?_, fun j s hj hs => ?_, fun j s c hj hd hs hc => ?_, fun j s' hj hs' => ?_⟩
  · rw [wc_o 0 (by omega)]; exact u1.1
  · rw [ms_Un (by omega)]; exact u1.2
  · by_cases e : j = L + 1
    · subst e; rw [wc_n]; omega
    · rw [wc_o j e]; exact u2 j hj
  · rw [wc_o j (by omega)]; exact u3 j h1 h2
  · by_cases e : j = L + 1
    · subst e
      rw [wc_n] at hs
      by_cases e2 : s = wc (L + 1)
      · subst e2; rw [wk_n]; exact hP
      · rw [wk_o _ s (by omega) (by omega)]; exact u4 _ s hj (by omega)
    · rw [wc_o j e] at hs
      have := u2 j hj
      rw [wk_o j s (by omega) (by omega)]; exact u4 j s hj hs
  · have hjL : j ≤ L := by unfold ms_dn at hd; omega
    rw [wc_o j (by omega)] at hs
    have us := u2 j (by omega)
    rw [wk_o j s (by omega) (by omega)]
    by_cases e : j = L ∧ s = S ∧ c = C
    · obtain ⟨e1, e2, e3⟩ := e
      subst e1 e2 e3
      rw [ms_Us, wc_n, wk_n]
      exact ⟨by omega, hg.symm⟩
    · have hd' : ms_dn L S C j s c := by
        unfold ms_dn at hd ⊢
        omega
      rw [ms_Un (by omega)]
      obtain ⟨y1, y2⟩ := u5 j s c hj hd' hs hc
      have y3 := u2 (j + 1) (by omega)
      refine ⟨Nat.lt_of_lt_of_le y1 (wc_ge _), ?_⟩
      rw [wk_o (j + 1) _ (by omega) (by intro hh; obtain ⟨z1, z2⟩ := hh; have : j = L := by omega
                                        subst this; omega)]
      exact y2
  · have old : ∀ s0, s0 < wc (j + 1) → ∃ s c, s < ms_U wc (L + 1) (wc (L + 1) + 1) j ∧ c < K ∧ ms_dn L S (C + 1) j s c ∧ ms_U wn ((L * 256 + S) * 8 + C) (wc (L + 1)) ((j * 256 + s) * 8 + c) = s0 := by
      intro s0 hs0
      obtain ⟨s, c, x1, x2, x3, x4⟩ := u6 j s0 hj hs0
      have us := u2 j (by omega)
      refine ⟨s, c, Nat.lt_of_lt_of_le x1 (wc_ge _), x2, ?_, ?_⟩
      · unfold ms_dn at x3 ⊢; omega
      · rw [ms_Un (by unfold ms_dn at x3; omega)]
        exact x4
    by_cases e : j = L
    · subst e
      rw [wc_n] at hs'
      by_cases e2 : s' = wc (j + 1)
      · subst e2
        exact ⟨S, C, Nat.lt_of_lt_of_le hS (wc_ge _), hC, Or.inr ⟨rfl, Or.inr ⟨rfl, by omega⟩⟩, ms_Us⟩
      · exact old s' (by omega)
    · rw [wc_o (j + 1) (by omega)] at hs'
      exact old s' hs'
theorem ms_KI_fresh {N L1 key : Nat} (hN : N < 256) (H : ms_KI N L1 wk ki) (hi : ki key = 0) : ms_KI (N + 1) L1 (ms_U wk (L1 * 256 + N) key) (ms_U ki key (N + 1)) := by
  obtain ⟨k1, k2⟩ := H
  refine ⟨fun s hs => ?_, fun k hk hne => ?_⟩
  · by_cases e : s = N
    · subst e; rw [ms_Us, ms_Us]
    · rw [ms_Un (by omega : L1 * 256 + s ≠ L1 * 256 + N)]
      have hs' : s < N := by omega
      have h3 := k1 s hs'
      have hne : wk (L1 * 256 + s) ≠ key := by
        intro e3; rw [e3] at h3; omega
      rw [ms_Un hne]; exact h3
  · by_cases e : k = key
    · subst e; exact ⟨N, by omega, ms_Us⟩
    · rw [ms_Un e] at hne
      obtain ⟨s, h1, h2⟩ := k2 k hk hne
      exact ⟨s, by omega, by rw [ms_Un (by omega)]; exact h2⟩
theorem ms_KI_0 {L1 : Nat} (H : ∀ k, k < 4096 → ki k = 0) : ms_KI 0 L1 wk ki := ⟨fun s hs => absurd hs (Nat.not_lt_zero s), fun k hk hne => absurd (H k hk) hne⟩
/-- at most B states if the keys lie below B -/
theorem ms_KI_bd {N L1 B : Nat} (H : ms_KI N L1 wk ki) (hb : ∀ s, s < N → wk (L1 * 256 + s) < B) : N ≤ B :=
  ms_php B N (fun s => wk (L1 * 256 + s)) hb (fun i j hi hj e => by
    have h1 := H.1 i hi
    have h2 := H.1 j hj
    try dsimp only at e
    rw [e] at h1
    omega)
/-- room for one more -/
theorem ms_KI_room {N L1 B key : Nat} (hB : key < B) (hk : key < 4096) (H : ms_KI N L1 wk ki) (hN : N < 256) (hi : ki key = 0) (hb : ∀ s, s < N → wk (L1 * 256 + s) < B) : N + 1 ≤ B := by
  refine ms_KI_bd (ms_KI_fresh (key := key) hN H hi) (fun s hs => ?_)
  by_cases e : s = N
  · subst e; rw [ms_Us]; exact hB
  · rw [ms_Un (by omega)]; exact hb s (by omega)
theorem ms_UI_WA {A G Lg : Nat → Bool} (hK0 : 0 < K) (U : ms_UI K h g k0 P h 0 0 wc wk wn) (hG : ∀ s, s < wc h → G s = A (wk (h * 256 + s))) (hL : ∀ c, c < K ^ h → Lg c = A (ms_rn K g 0 k0 h c)) : ms_WA K h wc (fun j s c => wn ((j * 256 + s) * 8 + c)) G Lg := by
  obtain ⟨u1, u2, u3, u4, u5, u6⟩ := U
  have hcl : ∀ j s c, j < h → s < wc j → c < K → wn ((j * 256 + s) * 8 + c) < wc (j + 1) := fun j s c hj hs hc => (u5 j s c hj (Or.inl hj) hs hc).1
  refine ⟨u1.1, u2, hcl, ?_, ?_⟩
  · intro j
    induction j with
    | zero =>
      intro s _ hs
      rw [u1.1] at hs
      exact ⟨0, by simp, by show 0 = s; omega⟩
    | succ j ih =>
      intro s hj hs
      obtain ⟨s0, c, x1, x2, x3, x4⟩ := u6 j s (by omega) hs
      obtain ⟨p, hp, ep⟩ := ih s0 (by omega) x1
      refine ⟨p * K + c, ?_, ?_⟩
      · have := ms_join (a := j) (b := 1) (K := K) hp (r := c) (by simpa using x2)
        simpa using this
      · rw [ms_rn_s]
        have e1 : (p * K + c) / K = p := by
          rw [Nat.add_comm, Nat.add_mul_div_right _ _ hK0, Nat.div_eq_of_lt x2, Nat.zero_add]
        have e2 : (p * K + c) % K = c := by
          rw [Nat.add_comm, Nat.add_mul_mod_self_right, Nat.mod_eq_of_lt x2]
        rw [e1, e2, ep, Nat.zero_add]
        exact x4
  · intro c hc
    have n0 : 0 < wc 0 := by omega
    have hm := ms_rn_map (h := h) (w := wc) (e := fun j s c => wn ((j * 256 + s) * 8 + c)) (d := g) (f := fun j s => wk (j * 256 + s)) hK0 hcl (fun j s c hj hs hc => (u5 j s c hj (Or.inl hj) hs hc).2) n0 h c (by omega)
    have hl := ms_rn_lt hK0 hcl n0 h c (by omega)
    try dsimp only at hm
    rw [Nat.zero_add] at hm hl
    rw [hG _ hl, hL c hc, hm, show (0 * 256 + 0 : Nat) = 0 from rfl, u1.2]
end UNF
end
section
/-! the component: small helpers, openWork, link, closeLevel -/
section XS
variable {tr hz lm K ht rd : Nat} {pl nx wd fi wo wc wk wn wg ki wl cc cr mo zm re fo : Nat → Nat}
theorem ms_step {post : Int32 → Prop} {s l q c : Nat} (hs : s < 4) (hl : l < 6) (hq : q < 12) (hc : c < 8) (H : post (nI (nx (((s * 6 + l) * 12 + q) * 8 + c)))) : wpX_step post ((nI tr), (nI hz), (nI lm), (nI K), (nI ht), (nI rd), (ms_F pl), (ms_F nx), (ms_F wd), (ms_F fi), (ms_F wo), (ms_F wc), (ms_F wk), (ms_F wn), (ms_F wg), (ms_F ki), (ms_F wl), (ms_F cc), (ms_F cr), (ms_F mo), (ms_F zm), (ms_F re), (ms_F fo)) (nI s) (nI l) (nI q) (nI c) :=
  And.intro (ms_in (ms_N s l q c) (by omega) (by decide)) (ms_at post (ms_rd (ms_N s l q c) (by omega)) H)
theorem ms_slotAt {post : Int32 → Prop} {k : Nat} (hk : k < ht) (h4 : ht ≤ 4) (H : post (nI (pl (ht - 1 - k)))) : wpX_slotAt post ((nI tr), (nI hz), (nI lm), (nI K), (nI ht), (nI rd), (ms_F pl), (ms_F nx), (ms_F wd), (ms_F fi), (ms_F wo), (ms_F wc), (ms_F wk), (ms_F wn), (ms_F wg), (ms_F ki), (ms_F wl), (ms_F cc), (ms_F cr), (ms_F mo), (ms_F zm), (ms_F re), (ms_F fo)) (nI k) :=
  And.intro (ms_in (ms_top hk) (by omega) (by decide)) (ms_at post (ms_rd (ms_top hk) (by omega)) H)
theorem ms_targetClass {post : Int32 → Prop} {l s c : Nat} (hl : l < 6) (hs : s < 256) (hc : c < 8) (hw : wn ((l * 256 + s) * 8 + c) < 256) (H : post (nI (wl ((l + 1) * 256 + wn ((l * 256 + s) * 8 + c))))) : wpX_targetClass post ((nI tr), (nI hz), (nI lm), (nI K), (nI ht), (nI rd), (ms_F pl), (ms_F nx), (ms_F wd), (ms_F fi), (ms_F wo), (ms_F wc), (ms_F wk), (ms_F wn), (ms_F wg), (ms_F ki), (ms_F wl), (ms_F cc), (ms_F cr), (ms_F mo), (ms_F zm), (ms_F re), (ms_F fo)) (nI l) (nI s) (nI c) :=
  And.intro (ms_in (ms_8 l s c) (by omega) (by decide)) (nm_r (ms_rd (ms_8 l s c) (by omega)) (And.intro (ms_in (ms_256' l _) (by omega) (by decide)) (ms_at post (ms_rd (ms_256' l _) (by omega)) H)))
theorem ms_isVariable {post : Int32 → Prop} {x : Int32} (ht3 : tr ≤ 3) (H1 : ∀ v, v < tr → x = nI v → post 1) (H0 : (x < 0 ∨ nI tr ≤ x) → post 0) : wpX_isVariable post ((nI tr), (nI hz), (nI lm), (nI K), (nI ht), (nI rd), (ms_F pl), (ms_F nx), (ms_F wd), (ms_F fi), (ms_F wo), (ms_F wc), (ms_F wk), (ms_F wn), (ms_F wg), (ms_F ki), (ms_F wl), (ms_F cc), (ms_F cr), (ms_F mo), (ms_F zm), (ms_F re), (ms_F fo)) x := by
  refine br_c (fun h => H0 (Or.inl h)) (fun h => br_c (fun h2 => H0 (Or.inr h2)) (fun h2 => ?_))
  rcases pk_ix x (n := tr) (by omega) with h3 | h3 | ⟨v, hv, e⟩
  · exact absurd h3 h
  · exact absurd h3 h2
  · exact H1 v hv e
theorem ms_openWork {post : SX → Prop} {k0 : Nat} (hh : hz ≤ 6) (H : ∀ wc' : Nat → Nat, wc' 0 = 1 → (∀ j, 1 ≤ j → j ≤ hz → wc' j = 0) → post ((nI tr), (nI hz), (nI lm), (nI K), (nI ht), (nI rd), (ms_F pl), (ms_F nx), (ms_F wd), (ms_F fi), (ms_F wo), (ms_F wc'), (ms_F (ms_U wk 0 k0)), (ms_F wn), (ms_F wg), (ms_F ki), (ms_F wl), (ms_F cc), (ms_F cr), (ms_F mo), (ms_F zm), (ms_F re), (ms_F fo))) : wpX_openWork post ((nI tr), (nI hz), (nI lm), (nI K), (nI ht), (nI rd), (ms_F pl), (ms_F nx), (ms_F wd), (ms_F fi), (ms_F wo), (ms_F wc), (ms_F wk), (ms_F wn), (ms_F wg), (ms_F ki), (ms_F wl), (ms_F cc), (ms_F cr), (ms_F mo), (ms_F zm), (ms_F re), (ms_F fo)) (nI k0) := by
  have Lp : ∃ n, wX_openWork_2 post (nI k0) (nI tr) (nI hz) (nI lm) (nI K) (nI ht) (nI rd) n (nI 0) (ms_F pl) (ms_F nx) (ms_F wd) (ms_F fi) (ms_F wo) (ms_F wc) (ms_F wk) (ms_F wn) (ms_F wg) (ms_F ki) (ms_F wl) (ms_F cc) (ms_F cr) (ms_F mo) (ms_F zm) (ms_F re) (ms_F fo) :=
    loop_0 (fun n i (s : Nat → Nat) => wX_openWork_2 post (nI k0) (nI tr) (nI hz) (nI lm) (nI K) (nI ht) (nI rd) n (nI i) (ms_F pl) (ms_F nx) (ms_F wd) (ms_F fi) (ms_F wo) (ms_F s) (ms_F wk) (ms_F wn) (ms_F wg) (ms_F ki) (ms_F wl) (ms_F cc) (ms_F cr) (ms_F mo) (ms_F zm) (ms_F re) (ms_F fo)) (fun i s => ∀ j, j < i → s j = 0) (hz + 1) wc (fun j hj => absurd hj (Nat.not_lt_zero j))
      (fun n s hI => br_t (nI_lt (by omega) (by omega)) (nm_r (ms_upk (v := 1) rfl) (nm_r (ms_upk rfl) (H _ ms_Us (fun j h1 h2 => (ms_Un (by omega)).trans (hI j (by omega)))))))
      (fun n i s hi hI k => br_f (nI_nlt (by omega) (by omega)) (And.intro (ms_in rfl (by omega) (by decide)) (nm_r (ms_up rfl (by omega) (v := 0) rfl) (nm_r (nI_1 i) (k _ (fun j hj => by
        by_cases e : j = i
        · subst e; exact ms_Us
        · rw [ms_Un e]; exact hI j (by omega)))))))
  exact Lp
theorem ms_intern_known {post : Int32 → SX → Prop} {key i : Nat} {p0 : Int32} (hk : key < 4096) (hi : ki key = i + 1) (hb : i < 256) (H : post (nI i) ((nI tr), (nI hz), (nI lm), (nI K), (nI ht), (nI rd), (ms_F pl), (ms_F nx), (ms_F wd), (ms_F fi), (ms_F wo), (ms_F wc), (ms_F wk), (ms_F wn), (ms_F wg), (ms_F ki), (ms_F wl), (ms_F cc), (ms_F cr), (ms_F mo), (ms_F zm), (ms_F re), (ms_F fo))) : wpX_intern post ((nI tr), (nI hz), (nI lm), (nI K), (nI ht), (nI rd), (ms_F pl), (ms_F nx), (ms_F wd), (ms_F fi), (ms_F wo), (ms_F wc), (ms_F wk), (ms_F wn), (ms_F wg), (ms_F ki), (ms_F wl), (ms_F cc), (ms_F cr), (ms_F mo), (ms_F zm), (ms_F re), (ms_F fo)) p0 (nI key) :=
  br_f (nI_pos (by omega)) (br_t (nI_lt (b := 4096) hk (by decide)) (And.intro (ms_in rfl hk (by decide)) (nm_r (ms_rd (A := ki) rfl (by omega)) (br_f (by rw [hi]; exact nI_nle (by omega) (by omega)) (ms_at (fun r => post r ((nI tr), (nI hz), (nI lm), (nI K), (nI ht), (nI rd), (ms_F pl), (ms_F nx), (ms_F wd), (ms_F fi), (ms_F wo), (ms_F wc), (ms_F wk), (ms_F wn), (ms_F wg), (ms_F ki), (ms_F wl), (ms_F cc), (ms_F cr), (ms_F mo), (ms_F zm), (ms_F re), (ms_F fo))) (by rw [hi]; exact nI_pred i) H)))))
theorem ms_intern_fresh {post : Int32 → SX → Prop} {key l : Nat} (hl : l ≤ 6) (hk : key < 4096) (hi : ki key = 0) (hb : wc l < 256) (H : post (nI (wc l)) ((nI tr), (nI hz), (nI lm), (nI K), (nI ht), (nI rd), (ms_F pl), (ms_F nx), (ms_F wd), (ms_F fi), (ms_F wo), (ms_F (ms_U wc l (wc l + 1))), (ms_F (ms_U wk (l * 256 + wc l) key)), (ms_F wn), (ms_F wg), (ms_F (ms_U ki key (wc l + 1))), (ms_F wl), (ms_F cc), (ms_F cr), (ms_F mo), (ms_F zm), (ms_F re), (ms_F fo))) : wpX_intern post ((nI tr), (nI hz), (nI lm), (nI K), (nI ht), (nI rd), (ms_F pl), (ms_F nx), (ms_F wd), (ms_F fi), (ms_F wo), (ms_F wc), (ms_F wk), (ms_F wn), (ms_F wg), (ms_F ki), (ms_F wl), (ms_F cc), (ms_F cr), (ms_F mo), (ms_F zm), (ms_F re), (ms_F fo)) (nI l) (nI key) :=
  br_f (nI_pos (by omega)) (br_t (nI_lt (b := 4096) hk (by decide)) (And.intro (ms_in rfl hk (by decide)) (nm_r (ms_rd (A := ki) rfl (by omega)) (br_t (by rw [hi]; decide)
    (And.intro (ms_in rfl (by omega) (by decide)) (nm_r (ms_rd (A := wc) rfl (by omega)) (br_t (nI_lt (b := 256) hb (by decide))
      (And.intro (ms_in (ms_256 l _) (by omega) (by decide)) (nm_r (ms_up (ms_256 l _) (by omega) rfl)
        (And.intro (ms_in rfl (by omega) (by decide)) (nm_r (ms_up rfl (by omega) (nI_1 _))
          (And.intro (ms_in rfl hk (by decide)) (nm_r (ms_up rfl (by omega) (nI_1 _)) H)))))))))))))
theorem ms_link_known {post : SX → Prop} {l s c key i : Nat} (hl : l < 6) (hs : s < 256) (hc : c < 8) (hk : key < 4096) (hi : ki key = i + 1) (hb : i < 256) (H : post ((nI tr), (nI hz), (nI lm), (nI K), (nI ht), (nI rd), (ms_F pl), (ms_F nx), (ms_F wd), (ms_F fi), (ms_F wo), (ms_F wc), (ms_F wk), (ms_F (ms_U wn ((l * 256 + s) * 8 + c) i)), (ms_F wg), (ms_F ki), (ms_F wl), (ms_F cc), (ms_F cr), (ms_F mo), (ms_F zm), (ms_F re), (ms_F fo))) : wpX_link post ((nI tr), (nI hz), (nI lm), (nI K), (nI ht), (nI rd), (ms_F pl), (ms_F nx), (ms_F wd), (ms_F fi), (ms_F wo), (ms_F wc), (ms_F wk), (ms_F wn), (ms_F wg), (ms_F ki), (ms_F wl), (ms_F cc), (ms_F cr), (ms_F mo), (ms_F zm), (ms_F re), (ms_F fo)) (nI l) (nI s) (nI c) (nI key) := by
  unfold wpX_link
  try dsimp only
  refine ms_intern_known hk hi hb ?_
  exact And.intro (ms_in (ms_8 l s c) (by omega) (by decide)) (nm_r (ms_up (ms_8 l s c) (by omega) rfl) H)
theorem ms_link_fresh {post : SX → Prop} {l s c key : Nat} (hl : l < 6) (hs : s < 256) (hc : c < 8) (hk : key < 4096) (hi : ki key = 0) (hb : wc (l + 1) < 256) (H : post ((nI tr), (nI hz), (nI lm), (nI K), (nI ht), (nI rd), (ms_F pl), (ms_F nx), (ms_F wd), (ms_F fi), (ms_F wo), (ms_F (ms_U wc (l + 1) (wc (l + 1) + 1))), (ms_F (ms_U wk ((l + 1) * 256 + wc (l + 1)) key)), (ms_F (ms_U wn ((l * 256 + s) * 8 + c) (wc (l + 1)))), (ms_F wg), (ms_F (ms_U ki key (wc (l + 1) + 1))), (ms_F wl), (ms_F cc), (ms_F cr), (ms_F mo), (ms_F zm), (ms_F re), (ms_F fo))) : wpX_link post ((nI tr), (nI hz), (nI lm), (nI K), (nI ht), (nI rd), (ms_F pl), (ms_F nx), (ms_F wd), (ms_F fi), (ms_F wo), (ms_F wc), (ms_F wk), (ms_F wn), (ms_F wg), (ms_F ki), (ms_F wl), (ms_F cc), (ms_F cr), (ms_F mo), (ms_F zm), (ms_F re), (ms_F fo)) (nI l) (nI s) (nI c) (nI key) := by
  unfold wpX_link
  try dsimp only
  rw [nI_1 l]
  refine ms_intern_fresh (by omega) hk hi hb ?_
  exact And.intro (ms_in (ms_8 l s c) (by omega) (by decide)) (nm_r (ms_up (ms_8 l s c) (by omega) rfl) H)
theorem ms_closeLevel {post : SX → Prop} {l : Nat} (hl : l ≤ 6) (hN : wc l ≤ 256) (hk : ∀ s, s < wc l → wk (l * 256 + s) < 4096) (hki : ∀ k, k < 4096 → ki k ≠ 0 → ∃ s, s < wc l ∧ wk (l * 256 + s) = k) (H : ∀ ki' : Nat → Nat, (∀ k, k < 4096 → ki' k = 0) → post ((nI tr), (nI hz), (nI lm), (nI K), (nI ht), (nI rd), (ms_F pl), (ms_F nx), (ms_F wd), (ms_F fi), (ms_F wo), (ms_F wc), (ms_F wk), (ms_F wn), (ms_F wg), (ms_F ki'), (ms_F wl), (ms_F cc), (ms_F cr), (ms_F mo), (ms_F zm), (ms_F re), (ms_F fo))) : wpX_closeLevel post ((nI tr), (nI hz), (nI lm), (nI K), (nI ht), (nI rd), (ms_F pl), (ms_F nx), (ms_F wd), (ms_F fi), (ms_F wo), (ms_F wc), (ms_F wk), (ms_F wn), (ms_F wg), (ms_F ki), (ms_F wl), (ms_F cc), (ms_F cr), (ms_F mo), (ms_F zm), (ms_F re), (ms_F fo)) (nI l) := by
  have Lp : ∃ n, wX_closeLevel_9 post (nI l) (nI (wc l)) (nI tr) (nI hz) (nI lm) (nI K) (nI ht) (nI rd) n (nI 0) (ms_F pl) (ms_F nx) (ms_F wd) (ms_F fi) (ms_F wo) (ms_F wc) (ms_F wk) (ms_F wn) (ms_F wg) (ms_F ki) (ms_F wl) (ms_F cc) (ms_F cr) (ms_F mo) (ms_F zm) (ms_F re) (ms_F fo) :=
    loop_0 (fun n i (s : Nat → Nat) => wX_closeLevel_9 post (nI l) (nI (wc l)) (nI tr) (nI hz) (nI lm) (nI K) (nI ht) (nI rd) n (nI i) (ms_F pl) (ms_F nx) (ms_F wd) (ms_F fi) (ms_F wo) (ms_F wc) (ms_F wk) (ms_F wn) (ms_F wg) (ms_F s) (ms_F wl) (ms_F cc) (ms_F cr) (ms_F mo) (ms_F zm) (ms_F re) (ms_F fo)) (fun i s => ∀ k, k < 4096 → s k ≠ 0 → ∃ x, i ≤ x ∧ x < wc l ∧ wk (l * 256 + x) = k) (wc l) ki
      (fun k hk hne => by
        obtain ⟨s, h1, h2⟩ := hki k hk hne
        exact ⟨s, by omega, h1, h2⟩)
      (fun n s hI => br_t (nI_le (by omega) (by omega)) (H s (fun k hk => by
        by_cases e : s k = 0
        · exact e
        · obtain ⟨x, h1, h2, _⟩ := hI k hk e
          omega)))
      (fun n i s hi hI k => br_f (nI_ge hi (by omega)) (And.intro (ms_in (ms_256 l i) (by omega) (by decide)) (And.intro (ms_in (ms_rd (ms_256 l i) (by omega)) (hk i hi) (by decide)) (nm_r (ms_up (ms_rd (ms_256 l i) (by omega)) (by have := hk i hi; omega) (v := 0) rfl) (nm_r (nI_1 i) (k _ (fun x hx hne => by
        by_cases e : x = wk (l * 256 + i)
        · subst e; rw [ms_Us] at hne; exact absurd rfl hne
        · rw [ms_Un e] at hne
          obtain ⟨y, y1, y2, y3⟩ := hI x hx hne
          have : y ≠ i := by intro e2; subst e2; exact e y3.symm
          exact ⟨y, by omega, y2, y3⟩)))))))
  exact And.intro (ms_in rfl (by omega) (by decide)) (nm_r (ms_rd (A := wc) rfl (by omega)) Lp)
/-- link under the invariant -/
theorem ms_link {post : SX → Prop} {L S C key k0 : Nat} {g : Nat → Nat → Nat → Nat} {P : Nat → Nat → Prop} (hh : hz ≤ 6) (hK : K ≤ 8) (hL : L < hz) (U : ms_UI K hz g k0 P L S C wc wk wn) (Q : ms_KI (wc (L + 1)) (L + 1) wk ki) (hS : S < wc L) (hC : C < K) (hg : g L (wk (L * 256 + S)) C = key) (hP : P (L + 1) key) (hk : key < 4096) (hroom : ki key = 0 → wc (L + 1) < 256)
    (H : ∀ wc' wk' wn' ki' : Nat → Nat, ms_UI K hz g k0 P L S (C + 1) wc' wk' wn' → ms_KI (wc' (L + 1)) (L + 1) wk' ki' → wc' L = wc L → (∀ s, s < wc L → wk' (L * 256 + s) = wk (L * 256 + s)) → ((wc' = wc ∧ ∃ s, s < wc (L + 1) ∧ wk ((L + 1) * 256 + s) = key) ∨ (wc' = ms_U wc (L + 1) (wc (L + 1) + 1) ∧ ∀ s, s < wc (L + 1) → wk ((L + 1) * 256 + s) ≠ key)) → post ((nI tr), (nI hz), (nI lm), (nI K), (nI ht), (nI rd), (ms_F pl), (ms_F nx), (ms_F wd), (ms_F fi), (ms_F wo), (ms_F wc'), (ms_F wk'), (ms_F wn'), (ms_F wg), (ms_F ki'), (ms_F wl), (ms_F cc), (ms_F cr), (ms_F mo), (ms_F zm), (ms_F re), (ms_F fo))) : wpX_link post ((nI tr), (nI hz), (nI lm), (nI K), (nI ht), (nI rd), (ms_F pl), (ms_F nx), (ms_F wd), (ms_F fi), (ms_F wo), (ms_F wc), (ms_F wk), (ms_F wn), (ms_F wg), (ms_F ki), (ms_F wl), (ms_F cc), (ms_F cr), (ms_F mo), (ms_F zm), (ms_F re), (ms_F fo)) (nI L) (nI S) (nI C) (nI key) := by
  have b0 := U.2.1 L (by omega)
  have b1 := U.2.1 (L + 1) (by omega)
  rcases Nat.eq_zero_or_pos (ki key) with e | e
  · have hr := hroom e
    refine ms_link_fresh (by omega) (by omega) (by omega) hk e hr (H _ _ _ _ (ms_UI_fresh hK hL U hS hC hr hg hP) ?_ (ms_Un (by omega)) (fun s hs => ms_Un (by omega)) (Or.inr ⟨rfl, fun s hs e2 => ?_⟩))
    · rw [ms_Us]
      exact ms_KI_fresh hr Q e
    · have := Q.1 s hs
      rw [e2] at this
      omega
  · obtain ⟨i, hi⟩ : ∃ i, ki key = i + 1 := ⟨ki key - 1, by omega⟩
    obtain ⟨q1, q2⟩ := ms_KI_at Q hk hi
    exact ms_link_known (by omega) (by omega) (by omega) hk hi (by omega) (H wc wk _ ki (ms_UI_known hK hL U hS hC q1 q2 hg) Q rfl (fun s _ => rfl) (Or.inl ⟨rfl, i, q1, q2⟩))
end XS
end
section
/-! the step of an atom, acceptance, connectives -/
def ms_as (kind key x y hr : Nat) : Nat :=
  if key = 2 then 2 else if kind = 0 then (if x = 1 ∧ y = 0 then 2 else 0) else if kind = 1 then (if x = y then 0 else 2) else if kind = 2 then (if x = 1 ∧ y = 1 then 2 else 0)
  else if kind = 3 then (if x = 0 ∧ y = 0 then 2 else 0) else if kind = 4 then (if y = key then x else 2) else if kind = 5 then (if x = 1 ∧ (y = 1 ∨ key = 1) then 2 else if y = 1 then 1 else key)
  else if kind = 6 then key + x else (if hr = 1 ∧ x = 0 then 2 else 0)
theorem ms_as_le {kind key x y hr : Nat} (hk : key ≤ 2) (hx : x ≤ 1) : ms_as kind key x y hr ≤ 2 := by
  unfold ms_as
  (repeat' split) <;> omega
def ms_acc (kind key : Nat) : Bool := if kind = 6 then decide (key = 1) else if kind = 4 then decide (key = 0) else decide (key ≠ 2)
section AS
variable {tr hz lm K ht rd : Nat} {pl nx wd fi wo wc wk wn wg ki wl cc cr mo zm re fo : Nat → Nat}
theorem ms_atomStep {post : Int32 → Prop} {kind key x y hr : Nat} (h1 : kind ≤ 7) (h2 : key ≤ 2) (h3 : x ≤ 1) (h4 : y ≤ 1) (h5 : hr ≤ 1) (H : post (nI (ms_as kind key x y hr))) : wpX_atomStep post ((nI tr), (nI hz), (nI lm), (nI K), (nI ht), (nI rd), (ms_F pl), (ms_F nx), (ms_F wd), (ms_F fi), (ms_F wo), (ms_F wc), (ms_F wk), (ms_F wn), (ms_F wg), (ms_F ki), (ms_F wl), (ms_F cc), (ms_F cr), (ms_F mo), (ms_F zm), (ms_F re), (ms_F fo)) (nI kind) (nI key) (nI x) (nI y) (nI hr) := by
  have lf : ∀ v : Nat, v = ms_as kind key x y hr → post (nI v) := fun v e => by rw [e]; exact H
  have L2 : 2 = ms_as kind key x y hr → post 2 := lf 2
  have L0 : 0 = ms_as kind key x y hr → post 0 := lf 0
  have L1 : 1 = ms_as kind key x y hr → post 1 := lf 1
  have J142 : ¬ key = 2 → kind = 5 → ¬ (x = 1 ∧ (y = 1 ∨ key = 1)) → wX_atomStep_142 post (nI key) (nI y) (nI tr) (nI hz) (nI lm) (nI K) (nI ht) (nI rd) (ms_F pl) (ms_F nx) (ms_F wd) (ms_F fi) (ms_F wo) (ms_F wc) (ms_F wk) (ms_F wn) (ms_F wg) (ms_F ki) (ms_F wl) (ms_F cc) (ms_F cr) (ms_F mo) (ms_F zm) (ms_F re) (ms_F fo) := fun a1 a2 a3 =>
    pk_eq y 1 (fun e => L1 (by unfold ms_as; (repeat' split) <;> omega)) (fun e => lf key (by unfold ms_as; (repeat' split) <;> omega))
  refine pk_eq key 2 (fun a1 => L2 (by unfold ms_as; (repeat' split) <;> omega)) (fun a1 => br_f (nI_pos (by omega)) ?_)
  refine pk_lt 6 kind (fun b1 => ?_) (fun b1 => ?_)
  · exact pk_eq hr 0 (fun c1 => L0 (by unfold ms_as; (repeat' split) <;> omega)) (fun c1 => pk_eq x 0 (fun c2 => L2 (by unfold ms_as; (repeat' split) <;> omega)) (fun c2 => L0 (by unfold ms_as; (repeat' split) <;> omega)))
  refine pk_eq kind 0 (fun d => pk_eq x 1 (fun c1 => pk_eq y 0 (fun c2 => L2 (by unfold ms_as; (repeat' split) <;> omega)) (fun c2 => L0 (by unfold ms_as; (repeat' split) <;> omega))) (fun c1 => L0 (by unfold ms_as; (repeat' split) <;> omega))) (fun d0 => ?_)
  refine pk_eq kind 1 (fun d => pk_eq x y (fun c1 => L0 (by unfold ms_as; (repeat' split) <;> omega)) (fun c1 => L2 (by unfold ms_as; (repeat' split) <;> omega))) (fun d1 => ?_)
  refine pk_eq kind 2 (fun d => pk_eq x 1 (fun c1 => pk_eq y 1 (fun c2 => L2 (by unfold ms_as; (repeat' split) <;> omega)) (fun c2 => L0 (by unfold ms_as; (repeat' split) <;> omega))) (fun c1 => L0 (by unfold ms_as; (repeat' split) <;> omega))) (fun d2 => ?_)
  refine pk_eq kind 3 (fun d => pk_eq x 0 (fun c1 => pk_eq y 0 (fun c2 => L2 (by unfold ms_as; (repeat' split) <;> omega)) (fun c2 => L0 (by unfold ms_as; (repeat' split) <;> omega))) (fun c1 => L0 (by unfold ms_as; (repeat' split) <;> omega))) (fun d3 => ?_)
  refine pk_eq kind 4 (fun d => pk_eq y key (fun c1 => lf x (by unfold ms_as; (repeat' split) <;> omega)) (fun c1 => L2 (by unfold ms_as; (repeat' split) <;> omega))) (fun d4 => ?_)
  refine pk_eq kind 5 (fun d => pk_eq x 1 (fun c1 => pk_eq y 1 (fun c2 => L2 (by unfold ms_as; (repeat' split) <;> omega)) (fun c2 => pk_eq key 1 (fun c3 => L2 (by unfold ms_as; (repeat' split) <;> omega)) (fun c3 => J142 a1 d (by omega)))) (fun c1 => J142 a1 d (by omega))) (fun d5 => ?_)
  refine pk_eq kind 6 (fun d => ?_) (fun d6 => trivial)
  rw [nI_add]
  exact lf (key + x) (by unfold ms_as; (repeat' split) <;> omega)
theorem ms_atomAccepts {post : Int32 → Prop} {kind key : Nat} (h1 : kind ≤ 7) (h2 : key ≤ 2) (H : post (nI (ms_acc kind key).toNat)) : wpX_atomAccepts post ((nI tr), (nI hz), (nI lm), (nI K), (nI ht), (nI rd), (ms_F pl), (ms_F nx), (ms_F wd), (ms_F fi), (ms_F wo), (ms_F wc), (ms_F wk), (ms_F wn), (ms_F wg), (ms_F ki), (ms_F wl), (ms_F cc), (ms_F cr), (ms_F mo), (ms_F zm), (ms_F re), (ms_F fo)) (nI kind) (nI key) := by
  have lf : ∀ b : Bool, b = ms_acc kind key → post (nI b.toNat) := fun b e => by rw [e]; exact H
  have L0 : false = ms_acc kind key → post 0 := lf false
  have L1 : true = ms_acc kind key → post 1 := lf true
  refine pk_eq kind 6 (fun e => pk_eq key 1 (fun c => L1 (by simp [ms_acc, e, c])) (fun c => L0 (by simp [ms_acc, e, c]))) (fun e => ?_)
  refine pk_eq kind 4 (fun e2 => pk_eq key 0 (fun c => L1 (by simp [ms_acc, e2, c])) (fun c => L0 (by simp [ms_acc, e2, c]))) (fun e2 => ?_)
  exact pk_eq key 2 (fun c => L0 (by simp [ms_acc, e, e2, c])) (fun c => L1 (by simp [ms_acc, e, e2, c]))
end AS
def ms_con (op : Nat) (l r : Bool) : Bool := if op = 0 then l && r else if op = 1 then l || r else if op = 2 then !l || r else l == r
section CN
variable {tr hz lm K ht rd : Nat} {pl nx wd fi wo wc wk wn wg ki wl cc cr mo zm re fo : Nat → Nat}
theorem ms_connect {post : Int32 → Prop} {op : Nat} {l r : Bool} (h : op ≤ 3) (H : post (nI (ms_con op l r).toNat)) : wpX_connect post ((nI tr), (nI hz), (nI lm), (nI K), (nI ht), (nI rd), (ms_F pl), (ms_F nx), (ms_F wd), (ms_F fi), (ms_F wo), (ms_F wc), (ms_F wk), (ms_F wn), (ms_F wg), (ms_F ki), (ms_F wl), (ms_F cc), (ms_F cr), (ms_F mo), (ms_F zm), (ms_F re), (ms_F fo)) (nI op) (nI l.toNat) (nI r.toNat) := by
  have lf : ∀ b : Bool, b = ms_con op l r → post (nI b.toNat) := fun b e => by rw [e]; exact H
  have L0 : false = ms_con op l r → post 0 := lf false
  have L1 : true = ms_con op l r → post 1 := lf true
  refine pk_eq op 0 (fun e => ms_brz l rfl (fun a => L0 (by simp [ms_con, e, a])) (fun a => ms_brz r rfl (fun b => L0 (by simp [ms_con, e, b])) (fun b => L1 (by simp [ms_con, e, a, b])))) (fun e0 => ?_)
  refine pk_eq op 1 (fun e => ms_brz l rfl (fun a => ms_brz r rfl (fun b => L0 (by simp [ms_con, e, a, b])) (fun b => L1 (by simp [ms_con, e, b]))) (fun a => L1 (by simp [ms_con, e, a]))) (fun e1 => ?_)
  refine pk_eq op 2 (fun e => ms_brz l rfl (fun a => L1 (by simp [ms_con, e, a])) (fun a => ms_brz r rfl (fun b => L0 (by simp [ms_con, e, a, b])) (fun b => L1 (by simp [ms_con, e, b])))) (fun e2 => ?_)
  refine pk_eq l.toNat r.toNat (fun a => L1 ?_) (fun a => L0 ?_) rfl rfl (by cases l <;> decide) (by cases r <;> decide)
  · cases l <;> cases r <;> simp_all [ms_con]
  · cases l <;> cases r <;> simp_all [ms_con]
end CN
end
section
/-! the three unfoldings: columns, states, levels (printed by mk_unf.py) -/
def ms_CI (K h : Nat) (g : Nat → Nat → Nat → Nat) (k0 : Nat) (P : Nat → Nat → Prop) (B : Nat → Nat → Nat → (Nat → Nat) → Prop) (L N0 S C : Nat) (wc wk wn ki : Nat → Nat) : Prop :=
  ms_UI K h g k0 P L S C wc wk wn ∧ ms_KI (wc (L + 1)) (L + 1) wk ki ∧ wc L = N0 ∧ B L S C wc
def ms_Bok (K h : Nat) (g : Nat → Nat → Nat → Nat) (k0 : Nat) (P : Nat → Nat → Prop) (B : Nat → Nat → Nat → (Nat → Nat) → Prop) (B0 : Nat → (Nat → Nat) → Prop) : Prop :=
  (∀ L S C wc wk wn ki, L < h → ms_UI K h g k0 P L S C wc wk wn → ms_KI (wc (L + 1)) (L + 1) wk ki → B L S C wc → S < wc L → C < K → (∀ s, s < wc (L + 1) → wk ((L + 1) * 256 + s) ≠ g L (wk (L * 256 + S)) C) → wc (L + 1) < 256 ∧ B L S (C + 1) (ms_U wc (L + 1) (wc (L + 1) + 1)))
  ∧ (∀ L S C wc wk wn, L < h → ms_UI K h g k0 P L S C wc wk wn → B L S C wc → S < wc L → C < K → (∃ s, s < wc (L + 1) ∧ wk ((L + 1) * 256 + s) = g L (wk (L * 256 + S)) C) → B L S (C + 1) wc)
  ∧ (∀ L S wc, B L S K wc → B L (S + 1) 0 wc) ∧ (∀ L wc, L < h → B L (wc L) 0 wc → B0 (L + 1) wc) ∧ (∀ L wc, L < h → B0 L wc → wc (L + 1) = 0 → B L 0 0 wc)
def ms_Pok (K h : Nat) (g : Nat → Nat → Nat → Nat) (k0 : Nat) (P : Nat → Nat → Prop) : Prop := P 0 k0 ∧ (∀ j k, P j k → k < 4096) ∧ (∀ j k c, j < h → P j k → c < K → P (j + 1) (g j k c))
def ms_VI (K h : Nat) (g : Nat → Nat → Nat → Nat) (k0 : Nat) (P : Nat → Nat → Prop) (B0 : Nat → (Nat → Nat) → Prop) (L : Nat) (wc wk wn ki : Nat → Nat) : Prop :=
  ms_UI K h g k0 P L 0 0 wc wk wn ∧ (L < h → wc (L + 1) = 0) ∧ (∀ k, k < 4096 → ki k = 0) ∧ B0 L wc
section VI
variable {K h : Nat} {g : Nat → Nat → Nat → Nat} {k0 : Nat} {P : Nat → Nat → Prop} {B : Nat → Nat → Nat → (Nat → Nat) → Prop} {B0 : Nat → (Nat → Nat) → Prop} {L : Nat} {wc wk wn ki : Nat → Nat}
theorem ms_VI_CI (hB : ms_Bok K h g k0 P B B0) (hL : L < h) (V : ms_VI K h g k0 P B0 L wc wk wn ki) : ms_CI K h g k0 P B L (wc L) 0 0 wc wk wn ki :=
  ⟨V.1, by rw [V.2.1 hL]; exact ms_KI_0 V.2.2.1, rfl, hB.2.2.2.2 L wc hL V.2.2.2 (V.2.1 hL)⟩
theorem ms_CI_VI {N0 : Nat} {ki' : Nat → Nat} (hB : ms_Bok K h g k0 P B B0) (hL : L < h) (C : ms_CI K h g k0 P B L N0 N0 0 wc wk wn ki) (hki : ∀ k, k < 4096 → ki' k = 0) : ms_VI K h g k0 P B0 (L + 1) wc wk wn ki' := by
  obtain ⟨c1, c2, c3, c4⟩ := C
  subst c3
  exact ⟨ms_UI_lev c1, fun h2 => c1.2.2.1 (L + 2) (by omega) (by omega), hki, hB.2.2.2.1 L wc hL c4⟩
theorem ms_VI_0 (hP : ms_Pok K h g k0 P) (h0 : wc 0 = 1) (h1 : ∀ j, 1 ≤ j → j ≤ h → wc j = 0) (hki : ∀ k, k < 4096 → ki k = 0) (hB : B0 0 wc) : ms_VI K h g k0 P B0 0 wc (ms_U wk 0 k0) wn ki := by
  refine ⟨⟨⟨h0, ms_Us⟩, fun j hj => ?_, fun j h2 h3 => h1 j (by omega) h3, fun j s hj hs => ?_, fun j s c hj hd => ?_, fun j s' hj hs => ?_⟩, fun h2 => h1 1 (by omega) (by omega), hki, hB⟩
  · rcases Nat.eq_zero_or_pos j with e | e
    · subst e; omega
    · rw [h1 j e hj]; omega
  · rcases Nat.eq_zero_or_pos j with e | e
    · subst e
      have e2 : s = 0 := by omega
      subst e2
      rw [show (0 * 256 + 0 : Nat) = 0 from rfl, ms_Us]
      exact hP.1
    · rw [h1 j e hj] at hs; omega
  · unfold ms_dn at hd; omega
  · rw [h1 (j + 1) (by omega) (by omega)] at hs; omega
end VI
section UW
variable {tr hz lm K ht rd : Nat} {pl nx wd fi wo wc wk wn wg ki wl cc cr mo zm re fo : Nat → Nat}
variable {g : Nat → Nat → Nat → Nat} {k0 : Nat} {P : Nat → Nat → Prop} {B : Nat → Nat → Nat → (Nat → Nat) → Prop} {B0 : Nat → (Nat → Nat) → Prop}
/-- link under the whole invariant -/
theorem ms_linkI {post : SX → Prop} {L N0 S C key : Nat} (hh : hz ≤ 6) (hK : K ≤ 8) (hL : L < hz) (hP : ms_Pok K hz g k0 P) (hB : ms_Bok K hz g k0 P B B0) (I : ms_CI K hz g k0 P B L N0 S C wc wk wn ki) (hS : S < N0) (hC : C < K) (hg : g L (wk (L * 256 + S)) C = key)
    (H : ∀ wc' wk' wn' ki' : Nat → Nat, ms_CI K hz g k0 P B L N0 S (C + 1) wc' wk' wn' ki' → wk' (L * 256 + S) = wk (L * 256 + S) → post ((nI tr), (nI hz), (nI lm), (nI K), (nI ht), (nI rd), (ms_F pl), (ms_F nx), (ms_F wd), (ms_F fi), (ms_F wo), (ms_F wc'), (ms_F wk'), (ms_F wn'), (ms_F wg), (ms_F ki'), (ms_F wl), (ms_F cc), (ms_F cr), (ms_F mo), (ms_F zm), (ms_F re), (ms_F fo))) : wpX_link post ((nI tr), (nI hz), (nI lm), (nI K), (nI ht), (nI rd), (ms_F pl), (ms_F nx), (ms_F wd), (ms_F fi), (ms_F wo), (ms_F wc), (ms_F wk), (ms_F wn), (ms_F wg), (ms_F ki), (ms_F wl), (ms_F cc), (ms_F cr), (ms_F mo), (ms_F zm), (ms_F re), (ms_F fo)) (nI L) (nI S) (nI C) (nI key) := by
  obtain ⟨c1, c2, c3, c4⟩ := I
  subst c3
  have hPk : P (L + 1) key := by
    rw [← hg]
    exact hP.2.2 L _ C hL (c1.2.2.2.1 L S (by omega) hS) hC
  refine ms_link hh hK hL c1 c2 hS hC hg hPk (hP.2.1 _ _ hPk) (fun e => ?_) (fun wc' wk' wn' ki' d1 d2 d3 d4 d5 => H wc' wk' wn' ki' ⟨d1, d2, d3, ?_⟩ (d4 S hS))
  · refine (hB.1 L S C wc wk wn ki hL c1 c2 c4 hS hC (fun s hs e2 => ?_)).1
    have := c2.1 s hs
    rw [e2, hg] at this
    omega
  · rcases d5 with ⟨e1, s, e2, e3⟩ | ⟨e1, e2⟩
    · rw [e1]
      exact hB.2.1 L S C wc wk wn hL c1 c4 hS hC ⟨s, e2, e3.trans hg.symm⟩
    · rw [e1]
      exact (hB.1 L S C wc wk wn ki hL c1 c2 c4 hS hC (fun s hs e3 => e2 s hs (e3.trans hg))).2
theorem ms_closeI {post : SX → Prop} {L N0 : Nat} (hh : hz ≤ 6) (hL : L < hz) (hP : ms_Pok K hz g k0 P) (hB : ms_Bok K hz g k0 P B B0) (I : ms_CI K hz g k0 P B L N0 N0 0 wc wk wn ki)
    (H : ∀ ki' : Nat → Nat, ms_VI K hz g k0 P B0 (L + 1) wc wk wn ki' → post ((nI tr), (nI hz), (nI lm), (nI K), (nI ht), (nI rd), (ms_F pl), (ms_F nx), (ms_F wd), (ms_F fi), (ms_F wo), (ms_F wc), (ms_F wk), (ms_F wn), (ms_F wg), (ms_F ki'), (ms_F wl), (ms_F cc), (ms_F cr), (ms_F mo), (ms_F zm), (ms_F re), (ms_F fo))) : wpX_closeLevel post ((nI tr), (nI hz), (nI lm), (nI K), (nI ht), (nI rd), (ms_F pl), (ms_F nx), (ms_F wd), (ms_F fi), (ms_F wo), (ms_F wc), (ms_F wk), (ms_F wn), (ms_F wg), (ms_F ki), (ms_F wl), (ms_F cc), (ms_F cr), (ms_F mo), (ms_F zm), (ms_F re), (ms_F fo)) (nI (L + 1)) :=
  ms_closeLevel (by omega) (I.1.2.1 (L + 1) (by omega)) (fun s hs => hP.2.1 _ _ (I.1.2.2.2.1 (L + 1) s (by omega) hs)) I.2.1.2 (fun ki' hk => H ki' (ms_CI_VI hB hL I hk))
theorem ms_uA_c {post : SX → Prop} {J8 J29 : Int32 → Int32 → Int32 → Int32 → Int32 → Int32 → Int32 → (Nat → Int32) → (Nat → Int32) → (Nat → Int32) → (Nat → Int32) → (Nat → Int32) → (Nat → Int32) → (Nat → Int32) → (Nat → Int32) → (Nat → Int32) → (Nat → Int32) → (Nat → Int32) → (Nat → Int32) → (Nat → Int32) → (Nat → Int32) → (Nat → Int32) → (Nat → Int32) → (Nat → Int32) → Prop} {kind a b : Nat} {L N0 S key : Nat} (hh : hz ≤ 6) (hK : K ≤ 8) (hP : ms_Pok K hz g k0 P) (hB : ms_Bok K hz g k0 P B B0) (h1 : kind ≤ 7) (ha : a < 32) (hb : b < 32) (hP2 : ∀ j k, P j k → k ≤ 2) (hgd : ∀ j k c, g j k c = ms_as kind k (c / 2 ^ a % 2) (c / 2 ^ b % 2) (if j = b then 1 else 0)) (hL : L < hz) (hS : S < N0)
    (Hj : ∀ wc wk wn ki : Nat → Nat, ms_CI K hz g k0 P B L N0 (S + 1) 0 wc wk wn ki → J29 (nI (S + 1)) (nI tr) (nI hz) (nI lm) (nI K) (nI ht) (nI rd) (ms_F pl) (ms_F nx) (ms_F wd) (ms_F fi) (ms_F wo) (ms_F wc) (ms_F wk) (ms_F wn) (ms_F wg) (ms_F ki) (ms_F wl) (ms_F cc) (ms_F cr) (ms_F mo) (ms_F zm) (ms_F re) (ms_F fo)) (I : ms_CI K hz g k0 P B L N0 S 0 wc wk wn ki) (hkey : wk (L * 256 + S) = key) : ∃ n, wX_unfoldAtom_55 post J8 J29 (nI kind) (nI a) (nI b) (nI L) (nI N0) (nI S) (nI key) n (nI 0) (nI tr) (nI hz) (nI lm) (nI K) (nI ht) (nI rd) (ms_F pl) (ms_F nx) (ms_F wd) (ms_F fi) (ms_F wo) (ms_F wc) (ms_F wk) (ms_F wn) (ms_F wg) (ms_F ki) (ms_F wl) (ms_F cc) (ms_F cr) (ms_F mo) (ms_F zm) (ms_F re) (ms_F fo) :=
  loop_0 (fun n i (s : (Nat → Nat) × (Nat → Nat) × (Nat → Nat) × (Nat → Nat)) => wX_unfoldAtom_55 post J8 J29 (nI kind) (nI a) (nI b) (nI L) (nI N0) (nI S) (nI key) n (nI i) (nI tr) (nI hz) (nI lm) (nI K) (nI ht) (nI rd) (ms_F pl) (ms_F nx) (ms_F wd) (ms_F fi) (ms_F wo) (ms_F s.1) (ms_F s.2.1) (ms_F s.2.2.1) (ms_F wg) (ms_F s.2.2.2) (ms_F wl) (ms_F cc) (ms_F cr) (ms_F mo) (ms_F zm) (ms_F re) (ms_F fo)) (fun i s => ms_CI K hz g k0 P B L N0 S i s.1 s.2.1 s.2.2.1 s.2.2.2 ∧ s.2.1 (L * 256 + S) = key) K (wc, wk, wn, ki) ⟨I, hkey⟩
    (fun n s hI => br_t (nI_le (Nat.le_refl K) (by omega)) (nm_r (nI_1 S) (Hj s.1 s.2.1 s.2.2.1 s.2.2.2 ⟨ms_UI_row hI.1.1, hI.1.2.1, hI.1.2.2.1, hB.2.2.1 L S _ hI.1.2.2.2⟩)))
    (fun n i s hi hI k => by
      have hg' : g L (s.2.1 (L * 256 + S)) i = g L key i := by rw [hI.2]
      have hkb : P L key := by
        rw [← hI.2]; exact hI.1.1.2.2.2.1 L S (by omega) (by rw [hI.1.2.2.1]; exact hS)
      refine br_f (nI_ge hi (by omega)) ?_
      have fin : ∀ z : Nat, (if L = b then 1 else 0) = z → wX_unfoldAtom_91 post J8 J29 (wX_unfoldAtom_55 post J8 J29 (nI kind) (nI a) (nI b) (nI L) (nI N0) (nI S) (nI key) n) (nI kind) (nI a) (nI b) (nI L) (nI N0) (nI S) (nI key) (nI i) (nI (i / 2 ^ a % 2)) (nI (i / 2 ^ b % 2)) (nI z) (nI tr) (nI hz) (nI lm) (nI K) (nI ht) (nI rd) (ms_F pl) (ms_F nx) (ms_F wd) (ms_F fi) (ms_F wo) (ms_F s.1) (ms_F s.2.1) (ms_F s.2.2.1) (ms_F wg) (ms_F s.2.2.2) (ms_F wl) (ms_F cc) (ms_F cr) (ms_F mo) (ms_F zm) (ms_F re) (ms_F fo) := by
        intro z hz1
        unfold wX_unfoldAtom_91
        refine ms_atomStep h1 (hP2 _ _ hkb) (by omega) (by omega) (by rw [← hz1]; split <;> omega) ?_
        refine ms_linkI hh hK hL hP hB hI.1 hS hi (by rw [hg', hgd, hz1]) (fun wc' wk' wn' ki' C e => nm_r (nI_1 i) (k (wc', wk', wn', ki') ⟨C, e.trans hI.2⟩))
      refine nm_r (ms_bit (by omega) ha) (nm_r (ms_bit (by omega) hb) (pk_eq L b (fun e => ?_) (fun e => ?_)))
      · exact fin 1 (if_pos e)
      · exact fin 0 (if_neg e))
theorem ms_uA_r {post : SX → Prop} {J8 : Int32 → Int32 → Int32 → Int32 → Int32 → Int32 → Int32 → (Nat → Int32) → (Nat → Int32) → (Nat → Int32) → (Nat → Int32) → (Nat → Int32) → (Nat → Int32) → (Nat → Int32) → (Nat → Int32) → (Nat → Int32) → (Nat → Int32) → (Nat → Int32) → (Nat → Int32) → (Nat → Int32) → (Nat → Int32) → (Nat → Int32) → (Nat → Int32) → (Nat → Int32) → Prop} {kind a b : Nat} {L N0 : Nat} (hh : hz ≤ 6) (hK : K ≤ 8) (hP : ms_Pok K hz g k0 P) (hB : ms_Bok K hz g k0 P B B0) (h1 : kind ≤ 7) (ha : a < 32) (hb : b < 32) (hP2 : ∀ j k, P j k → k ≤ 2) (hgd : ∀ j k c, g j k c = ms_as kind k (c / 2 ^ a % 2) (c / 2 ^ b % 2) (if j = b then 1 else 0)) (hL : L < hz)
    (Hj : ∀ wc wk wn ki : Nat → Nat, ms_VI K hz g k0 P B0 (L + 1) wc wk wn ki → J8 (nI (L + 1)) (nI tr) (nI hz) (nI lm) (nI K) (nI ht) (nI rd) (ms_F pl) (ms_F nx) (ms_F wd) (ms_F fi) (ms_F wo) (ms_F wc) (ms_F wk) (ms_F wn) (ms_F wg) (ms_F ki) (ms_F wl) (ms_F cc) (ms_F cr) (ms_F mo) (ms_F zm) (ms_F re) (ms_F fo)) (I : ms_CI K hz g k0 P B L N0 0 0 wc wk wn ki) : ∃ n, wX_unfoldAtom_29 post J8 (nI kind) (nI a) (nI b) (nI L) (nI N0) n (nI 0) (nI tr) (nI hz) (nI lm) (nI K) (nI ht) (nI rd) (ms_F pl) (ms_F nx) (ms_F wd) (ms_F fi) (ms_F wo) (ms_F wc) (ms_F wk) (ms_F wn) (ms_F wg) (ms_F ki) (ms_F wl) (ms_F cc) (ms_F cr) (ms_F mo) (ms_F zm) (ms_F re) (ms_F fo) :=
  have hN : N0 ≤ 256 := by rw [← I.2.2.1]; exact I.1.2.1 L (by omega)
  loop_0 (fun n i (s : (Nat → Nat) × (Nat → Nat) × (Nat → Nat) × (Nat → Nat)) => wX_unfoldAtom_29 post J8 (nI kind) (nI a) (nI b) (nI L) (nI N0) n (nI i) (nI tr) (nI hz) (nI lm) (nI K) (nI ht) (nI rd) (ms_F pl) (ms_F nx) (ms_F wd) (ms_F fi) (ms_F wo) (ms_F s.1) (ms_F s.2.1) (ms_F s.2.2.1) (ms_F wg) (ms_F s.2.2.2) (ms_F wl) (ms_F cc) (ms_F cr) (ms_F mo) (ms_F zm) (ms_F re) (ms_F fo)) (fun i s => ms_CI K hz g k0 P B L N0 i 0 s.1 s.2.1 s.2.2.1 s.2.2.2) N0 (wc, wk, wn, ki) I
    (fun n s hI => by
      refine br_t (nI_le (Nat.le_refl N0) (by omega)) ?_
      rw [nI_1 L]
      exact ms_closeI hh hL hP hB hI (fun ki' V => nm_e (Hj _ _ _ _ V)))
    (fun n i s hi hI k => br_f (nI_ge hi (by omega)) (And.intro (ms_in (ms_256 L i) (by omega) (by decide)) (nm_r (ms_rd (ms_256 L i) (by omega)) (ms_uA_c hh hK hP hB h1 ha hb hP2 hgd hL hi (fun wc wk wn ki C => k (wc, wk, wn, ki) C) hI rfl))))
theorem ms_uA_g {post : SX → Prop} {kind N : Nat} (hh : hz ≤ 6) (h1 : kind ≤ 7) (hN : N ≤ 256) (hk : ∀ s, s < N → wk (hz * 256 + s) ≤ 2)
    (H : ∀ wg : Nat → Nat, (∀ s, s < N → wg s = (ms_acc kind (wk (hz * 256 + s))).toNat) → post ((nI tr), (nI hz), (nI lm), (nI K), (nI ht), (nI rd), (ms_F pl), (ms_F nx), (ms_F wd), (ms_F fi), (ms_F wo), (ms_F wc), (ms_F wk), (ms_F wn), (ms_F wg), (ms_F ki), (ms_F wl), (ms_F cc), (ms_F cr), (ms_F mo), (ms_F zm), (ms_F re), (ms_F fo))) : ∃ n, wX_unfoldAtom_160 post (nI kind) (nI N) (nI tr) (nI hz) (nI lm) (nI K) (nI ht) (nI rd) n (nI 0) (ms_F pl) (ms_F nx) (ms_F wd) (ms_F fi) (ms_F wo) (ms_F wc) (ms_F wk) (ms_F wn) (ms_F wg) (ms_F ki) (ms_F wl) (ms_F cc) (ms_F cr) (ms_F mo) (ms_F zm) (ms_F re) (ms_F fo) :=
  loop_0 (fun n i (s : Nat → Nat) => wX_unfoldAtom_160 post (nI kind) (nI N) (nI tr) (nI hz) (nI lm) (nI K) (nI ht) (nI rd) n (nI i) (ms_F pl) (ms_F nx) (ms_F wd) (ms_F fi) (ms_F wo) (ms_F wc) (ms_F wk) (ms_F wn) (ms_F s) (ms_F ki) (ms_F wl) (ms_F cc) (ms_F cr) (ms_F mo) (ms_F zm) (ms_F re) (ms_F fo)) (fun i s => ∀ x, x < i → s x = (ms_acc kind (wk (hz * 256 + x))).toNat) N wg (fun x hx => absurd hx (Nat.not_lt_zero x))
    (fun n s hI => br_t (nI_le (Nat.le_refl N) (by omega)) (H s hI))
    (fun n i s hi hI k => br_f (nI_ge hi (by omega)) (And.intro (ms_in (ms_256 hz i) (by omega) (by decide)) (nm_r (ms_rd (ms_256 hz i) (by omega)) (ms_atomAccepts h1 (hk i hi) (And.intro (ms_in rfl (by omega) (by decide)) (nm_r (ms_up rfl (by omega) (ms_vb _)) (nm_r (nI_1 i) (k _ (fun x hx => by
      by_cases e : x = i
      · subst e; exact ms_Us
      · rw [ms_Un e]; exact hI x (by omega))))))))))
theorem ms_uA_v {post : SX → Prop} {kind a b : Nat} (hh : hz ≤ 6) (hK : K ≤ 8) (hP : ms_Pok K hz g k0 P) (hB : ms_Bok K hz g k0 P B B0) (h1 : kind ≤ 7) (ha : a < 32) (hb : b < 32) (hP2 : ∀ j k, P j k → k ≤ 2) (hgd : ∀ j k c, g j k c = ms_as kind k (c / 2 ^ a % 2) (c / 2 ^ b % 2) (if j = b then 1 else 0))
    (H : ∀ wc wk wn ki wg : Nat → Nat, ms_VI K hz g k0 P B0 hz wc wk wn ki → (∀ s, s < wc hz → wg s = (ms_acc kind (wk (hz * 256 + s))).toNat) → post ((nI tr), (nI hz), (nI lm), (nI K), (nI ht), (nI rd), (ms_F pl), (ms_F nx), (ms_F wd), (ms_F fi), (ms_F wo), (ms_F wc), (ms_F wk), (ms_F wn), (ms_F wg), (ms_F ki), (ms_F wl), (ms_F cc), (ms_F cr), (ms_F mo), (ms_F zm), (ms_F re), (ms_F fo))) (V : ms_VI K hz g k0 P B0 0 wc wk wn ki) : ∃ n, wX_unfoldAtom_8 post (nI kind) (nI a) (nI b) n (nI 0) (nI tr) (nI hz) (nI lm) (nI K) (nI ht) (nI rd) (ms_F pl) (ms_F nx) (ms_F wd) (ms_F fi) (ms_F wo) (ms_F wc) (ms_F wk) (ms_F wn) (ms_F wg) (ms_F ki) (ms_F wl) (ms_F cc) (ms_F cr) (ms_F mo) (ms_F zm) (ms_F re) (ms_F fo) :=
  loop_0 (fun n i (s : (Nat → Nat) × (Nat → Nat) × (Nat → Nat) × (Nat → Nat)) => wX_unfoldAtom_8 post (nI kind) (nI a) (nI b) n (nI i) (nI tr) (nI hz) (nI lm) (nI K) (nI ht) (nI rd) (ms_F pl) (ms_F nx) (ms_F wd) (ms_F fi) (ms_F wo) (ms_F s.1) (ms_F s.2.1) (ms_F s.2.2.1) (ms_F wg) (ms_F s.2.2.2) (ms_F wl) (ms_F cc) (ms_F cr) (ms_F mo) (ms_F zm) (ms_F re) (ms_F fo)) (fun i s => ms_VI K hz g k0 P B0 i s.1 s.2.1 s.2.2.1 s.2.2.2) hz (wc, wk, wn, ki) V
    (fun n s hI => br_t (nI_le (Nat.le_refl hz) (by omega)) (And.intro (ms_in rfl (by omega) (by decide)) (nm_r (ms_rd (A := s.1) rfl (by omega)) (ms_uA_g hh h1 (hI.1.2.1 hz (Nat.le_refl hz)) (fun x hx => hP2 _ _ (hI.1.2.2.2.1 hz x (Nat.le_refl hz) hx)) (fun wg hg => H _ _ _ _ wg hI hg)))))
    (fun n i s hi hI k => br_f (nI_ge hi (by omega)) (And.intro (ms_in rfl (by omega) (by decide)) (nm_r (ms_rd (A := s.1) rfl (by omega)) (ms_uA_r hh hK hP hB h1 ha hb hP2 hgd hi (fun wc wk wn ki C => k (wc, wk, wn, ki) C) (ms_VI_CI hB hi hI)))))
theorem ms_uP_c {post : SX → Prop} {J7 J26 : Int32 → Int32 → Int32 → Int32 → Int32 → Int32 → Int32 → (Nat → Int32) → (Nat → Int32) → (Nat → Int32) → (Nat → Int32) → (Nat → Int32) → (Nat → Int32) → (Nat → Int32) → (Nat → Int32) → (Nat → Int32) → (Nat → Int32) → (Nat → Int32) → (Nat → Int32) → (Nat → Int32) → (Nat → Int32) → (Nat → Int32) → (Nat → Int32) → (Nat → Int32) → Prop} {l r : Nat} {L N0 S key : Nat} (hh : hz ≤ 6) (hK : K ≤ 8) (hP : ms_Pok K hz g k0 P) (hB : ms_Bok K hz g k0 P B B0) (hl : l < 4) (hr : r < 4) (hPp : ∀ j k, P j k → k / 12 < 12) (hgd : ∀ j k c, g j k c = nx (((l * 6 + j) * 12 + k / 12) * 8 + c) * 12 + nx (((r * 6 + j) * 12 + k % 12) * 8 + c)) (hL : L < hz) (hS : S < N0)
    (Hj : ∀ wc wk wn ki : Nat → Nat, ms_CI K hz g k0 P B L N0 (S + 1) 0 wc wk wn ki → J26 (nI (S + 1)) (nI tr) (nI hz) (nI lm) (nI K) (nI ht) (nI rd) (ms_F pl) (ms_F nx) (ms_F wd) (ms_F fi) (ms_F wo) (ms_F wc) (ms_F wk) (ms_F wn) (ms_F wg) (ms_F ki) (ms_F wl) (ms_F cc) (ms_F cr) (ms_F mo) (ms_F zm) (ms_F re) (ms_F fo)) (I : ms_CI K hz g k0 P B L N0 S 0 wc wk wn ki) (hkey : wk (L * 256 + S) = key) : ∃ n, wX_unfoldProduct_65 post J7 J26 (nI l) (nI r) (nI L) (nI N0) (nI S) (nI (key / 12)) (nI (key % 12)) n (nI 0) (nI tr) (nI hz) (nI lm) (nI K) (nI ht) (nI rd) (ms_F pl) (ms_F nx) (ms_F wd) (ms_F fi) (ms_F wo) (ms_F wc) (ms_F wk) (ms_F wn) (ms_F wg) (ms_F ki) (ms_F wl) (ms_F cc) (ms_F cr) (ms_F mo) (ms_F zm) (ms_F re) (ms_F fo) :=
  loop_0 (fun n i (s : (Nat → Nat) × (Nat → Nat) × (Nat → Nat) × (Nat → Nat)) => wX_unfoldProduct_65 post J7 J26 (nI l) (nI r) (nI L) (nI N0) (nI S) (nI (key / 12)) (nI (key % 12)) n (nI i) (nI tr) (nI hz) (nI lm) (nI K) (nI ht) (nI rd) (ms_F pl) (ms_F nx) (ms_F wd) (ms_F fi) (ms_F wo) (ms_F s.1) (ms_F s.2.1) (ms_F s.2.2.1) (ms_F wg) (ms_F s.2.2.2) (ms_F wl) (ms_F cc) (ms_F cr) (ms_F mo) (ms_F zm) (ms_F re) (ms_F fo)) (fun i s => ms_CI K hz g k0 P B L N0 S i s.1 s.2.1 s.2.2.1 s.2.2.2 ∧ s.2.1 (L * 256 + S) = key) K (wc, wk, wn, ki) ⟨I, hkey⟩
    (fun n s hI => br_t (nI_le (Nat.le_refl K) (by omega)) (nm_r (nI_1 S) (Hj s.1 s.2.1 s.2.2.1 s.2.2.2 ⟨ms_UI_row hI.1.1, hI.1.2.1, hI.1.2.2.1, hB.2.2.1 L S _ hI.1.2.2.2⟩)))
    (fun n i s hi hI k => by
      have hg' : g L (s.2.1 (L * 256 + S)) i = g L key i := by rw [hI.2]
      have hkb : P L key := by
        rw [← hI.2]; exact hI.1.1.2.2.2.1 L S (by omega) (by rw [hI.1.2.2.1]; exact hS)
      refine br_f (nI_ge hi (by omega)) ?_
      refine ms_step hl (by omega) (hPp _ _ hkb) (by omega) (ms_step hr (by omega) (Nat.mod_lt _ (by decide)) (by omega) ?_)
      rw [ms_12]
      exact ms_linkI hh hK hL hP hB hI.1 hS hi (by rw [hg', hgd]) (fun wc' wk' wn' ki' C e => nm_r (nI_1 i) (k (wc', wk', wn', ki') ⟨C, e.trans hI.2⟩)))
theorem ms_uP_r {post : SX → Prop} {J7 : Int32 → Int32 → Int32 → Int32 → Int32 → Int32 → Int32 → (Nat → Int32) → (Nat → Int32) → (Nat → Int32) → (Nat → Int32) → (Nat → Int32) → (Nat → Int32) → (Nat → Int32) → (Nat → Int32) → (Nat → Int32) → (Nat → Int32) → (Nat → Int32) → (Nat → Int32) → (Nat → Int32) → (Nat → Int32) → (Nat → Int32) → (Nat → Int32) → (Nat → Int32) → Prop} {l r : Nat} {L N0 : Nat} (hh : hz ≤ 6) (hK : K ≤ 8) (hP : ms_Pok K hz g k0 P) (hB : ms_Bok K hz g k0 P B B0) (hl : l < 4) (hr : r < 4) (hPp : ∀ j k, P j k → k / 12 < 12) (hgd : ∀ j k c, g j k c = nx (((l * 6 + j) * 12 + k / 12) * 8 + c) * 12 + nx (((r * 6 + j) * 12 + k % 12) * 8 + c)) (hL : L < hz)
    (Hj : ∀ wc wk wn ki : Nat → Nat, ms_VI K hz g k0 P B0 (L + 1) wc wk wn ki → J7 (nI (L + 1)) (nI tr) (nI hz) (nI lm) (nI K) (nI ht) (nI rd) (ms_F pl) (ms_F nx) (ms_F wd) (ms_F fi) (ms_F wo) (ms_F wc) (ms_F wk) (ms_F wn) (ms_F wg) (ms_F ki) (ms_F wl) (ms_F cc) (ms_F cr) (ms_F mo) (ms_F zm) (ms_F re) (ms_F fo)) (I : ms_CI K hz g k0 P B L N0 0 0 wc wk wn ki) : ∃ n, wX_unfoldProduct_26 post J7 (nI l) (nI r) (nI L) (nI N0) n (nI 0) (nI tr) (nI hz) (nI lm) (nI K) (nI ht) (nI rd) (ms_F pl) (ms_F nx) (ms_F wd) (ms_F fi) (ms_F wo) (ms_F wc) (ms_F wk) (ms_F wn) (ms_F wg) (ms_F ki) (ms_F wl) (ms_F cc) (ms_F cr) (ms_F mo) (ms_F zm) (ms_F re) (ms_F fo) :=
  have hN : N0 ≤ 256 := by rw [← I.2.2.1]; exact I.1.2.1 L (by omega)
  loop_0 (fun n i (s : (Nat → Nat) × (Nat → Nat) × (Nat → Nat) × (Nat → Nat)) => wX_unfoldProduct_26 post J7 (nI l) (nI r) (nI L) (nI N0) n (nI i) (nI tr) (nI hz) (nI lm) (nI K) (nI ht) (nI rd) (ms_F pl) (ms_F nx) (ms_F wd) (ms_F fi) (ms_F wo) (ms_F s.1) (ms_F s.2.1) (ms_F s.2.2.1) (ms_F wg) (ms_F s.2.2.2) (ms_F wl) (ms_F cc) (ms_F cr) (ms_F mo) (ms_F zm) (ms_F re) (ms_F fo)) (fun i s => ms_CI K hz g k0 P B L N0 i 0 s.1 s.2.1 s.2.2.1 s.2.2.2) N0 (wc, wk, wn, ki) I
    (fun n s hI => by
      refine br_t (nI_le (Nat.le_refl N0) (by omega)) ?_
      rw [nI_1 L]
      exact ms_closeI hh hL hP hB hI (fun ki' V => nm_e (Hj _ _ _ _ V)))
    (fun n i s hi hI k => br_f (nI_ge hi (by omega)) (And.intro (ms_in (ms_256 L i) (by omega) (by decide)) (nm_r (ms_rd (ms_256 L i) (by omega)) (And.intro (by decide) (nm_r (pk_div (d := 12) (by have := hP.2.1 _ _ (hI.1.2.2.2.1 L i (by omega) (by rw [hI.2.2.1]; exact hi)); omega) (by decide) (by decide)) (And.intro (by decide) (nm_r (pk_rem (d := 12) (by have := hP.2.1 _ _ (hI.1.2.2.2.1 L i (by omega) (by rw [hI.2.2.1]; exact hi)); omega) (by decide) (by decide)) (ms_uP_c hh hK hP hB hl hr hPp hgd hL hi (fun wc wk wn ki C => k (wc, wk, wn, ki) C) hI rfl))))))))
theorem ms_uP_v {post : SX → Prop} {l r : Nat} (hh : hz ≤ 6) (hK : K ≤ 8) (hP : ms_Pok K hz g k0 P) (hB : ms_Bok K hz g k0 P B B0) (hl : l < 4) (hr : r < 4) (hPp : ∀ j k, P j k → k / 12 < 12) (hgd : ∀ j k c, g j k c = nx (((l * 6 + j) * 12 + k / 12) * 8 + c) * 12 + nx (((r * 6 + j) * 12 + k % 12) * 8 + c))
    (H : ∀ wc wk wn ki : Nat → Nat, ms_VI K hz g k0 P B0 hz wc wk wn ki → post ((nI tr), (nI hz), (nI lm), (nI K), (nI ht), (nI rd), (ms_F pl), (ms_F nx), (ms_F wd), (ms_F fi), (ms_F wo), (ms_F wc), (ms_F wk), (ms_F wn), (ms_F wg), (ms_F ki), (ms_F wl), (ms_F cc), (ms_F cr), (ms_F mo), (ms_F zm), (ms_F re), (ms_F fo))) (V : ms_VI K hz g k0 P B0 0 wc wk wn ki) : ∃ n, wX_unfoldProduct_7 post (nI l) (nI r) n (nI 0) (nI tr) (nI hz) (nI lm) (nI K) (nI ht) (nI rd) (ms_F pl) (ms_F nx) (ms_F wd) (ms_F fi) (ms_F wo) (ms_F wc) (ms_F wk) (ms_F wn) (ms_F wg) (ms_F ki) (ms_F wl) (ms_F cc) (ms_F cr) (ms_F mo) (ms_F zm) (ms_F re) (ms_F fo) :=
  loop_0 (fun n i (s : (Nat → Nat) × (Nat → Nat) × (Nat → Nat) × (Nat → Nat)) => wX_unfoldProduct_7 post (nI l) (nI r) n (nI i) (nI tr) (nI hz) (nI lm) (nI K) (nI ht) (nI rd) (ms_F pl) (ms_F nx) (ms_F wd) (ms_F fi) (ms_F wo) (ms_F s.1) (ms_F s.2.1) (ms_F s.2.2.1) (ms_F wg) (ms_F s.2.2.2) (ms_F wl) (ms_F cc) (ms_F cr) (ms_F mo) (ms_F zm) (ms_F re) (ms_F fo)) (fun i s => ms_VI K hz g k0 P B0 i s.1 s.2.1 s.2.2.1 s.2.2.2) hz (wc, wk, wn, ki) V
    (fun n s hI => br_t (nI_le (Nat.le_refl hz) (by omega)) (H _ _ _ _ hI))
    (fun n i s hi hI k => br_f (nI_ge hi (by omega)) (And.intro (ms_in rfl (by omega) (by decide)) (nm_r (ms_rd (A := s.1) rfl (by omega)) (ms_uP_r hh hK hP hB hl hr hPp hgd hi (fun wc wk wn ki C => k (wc, wk, wn, ki) C) (ms_VI_CI hB hi hI)))))
theorem ms_uS_c {post : SX → Prop} {J7 J26 : Int32 → Int32 → Int32 → Int32 → Int32 → Int32 → Int32 → (Nat → Int32) → (Nat → Int32) → (Nat → Int32) → (Nat → Int32) → (Nat → Int32) → (Nat → Int32) → (Nat → Int32) → (Nat → Int32) → (Nat → Int32) → (Nat → Int32) → (Nat → Int32) → (Nat → Int32) → (Nat → Int32) → (Nat → Int32) → (Nat → Int32) → (Nat → Int32) → (Nat → Int32) → Prop} {sl bit : Nat} {L N0 S key : Nat} (hh : hz ≤ 6) (hK : K ≤ 8) (hP : ms_Pok K hz g k0 P) (hB : ms_Bok K hz g k0 P B B0) (hsl : sl < 4) (hbit : bit < 8) (him : ∀ (post : Int32 → Prop) (wc wk wn ki : Nat → Nat) (j k c : Nat), j < hz → P j k → c < K → post (nI (g j k c)) → wpX_image post ((nI tr), (nI hz), (nI lm), (nI K), (nI ht), (nI rd), (ms_F pl), (ms_F nx), (ms_F wd), (ms_F fi), (ms_F wo), (ms_F wc), (ms_F wk), (ms_F wn), (ms_F wg), (ms_F ki), (ms_F wl), (ms_F cc), (ms_F cr), (ms_F mo), (ms_F zm), (ms_F re), (ms_F fo)) (nI sl) (nI j) (nI k) (nI c) (nI bit)) (hL : L < hz) (hS : S < N0)
    (Hj : ∀ wc wk wn ki : Nat → Nat, ms_CI K hz g k0 P B L N0 (S + 1) 0 wc wk wn ki → J26 (nI (S + 1)) (nI tr) (nI hz) (nI lm) (nI K) (nI ht) (nI rd) (ms_F pl) (ms_F nx) (ms_F wd) (ms_F fi) (ms_F wo) (ms_F wc) (ms_F wk) (ms_F wn) (ms_F wg) (ms_F ki) (ms_F wl) (ms_F cc) (ms_F cr) (ms_F mo) (ms_F zm) (ms_F re) (ms_F fo)) (I : ms_CI K hz g k0 P B L N0 S 0 wc wk wn ki) (hkey : wk (L * 256 + S) = key) : ∃ n, wX_unfoldSubsets_51 post J7 J26 (nI sl) (nI bit) (nI L) (nI N0) (nI S) (nI key) n (nI 0) (nI tr) (nI hz) (nI lm) (nI K) (nI ht) (nI rd) (ms_F pl) (ms_F nx) (ms_F wd) (ms_F fi) (ms_F wo) (ms_F wc) (ms_F wk) (ms_F wn) (ms_F wg) (ms_F ki) (ms_F wl) (ms_F cc) (ms_F cr) (ms_F mo) (ms_F zm) (ms_F re) (ms_F fo) :=
  loop_0 (fun n i (s : (Nat → Nat) × (Nat → Nat) × (Nat → Nat) × (Nat → Nat)) => wX_unfoldSubsets_51 post J7 J26 (nI sl) (nI bit) (nI L) (nI N0) (nI S) (nI key) n (nI i) (nI tr) (nI hz) (nI lm) (nI K) (nI ht) (nI rd) (ms_F pl) (ms_F nx) (ms_F wd) (ms_F fi) (ms_F wo) (ms_F s.1) (ms_F s.2.1) (ms_F s.2.2.1) (ms_F wg) (ms_F s.2.2.2) (ms_F wl) (ms_F cc) (ms_F cr) (ms_F mo) (ms_F zm) (ms_F re) (ms_F fo)) (fun i s => ms_CI K hz g k0 P B L N0 S i s.1 s.2.1 s.2.2.1 s.2.2.2 ∧ s.2.1 (L * 256 + S) = key) K (wc, wk, wn, ki) ⟨I, hkey⟩
    (fun n s hI => br_t (nI_le (Nat.le_refl K) (by omega)) (nm_r (nI_1 S) (Hj s.1 s.2.1 s.2.2.1 s.2.2.2 ⟨ms_UI_row hI.1.1, hI.1.2.1, hI.1.2.2.1, hB.2.2.1 L S _ hI.1.2.2.2⟩)))
    (fun n i s hi hI k => by
      have hg' : g L (s.2.1 (L * 256 + S)) i = g L key i := by rw [hI.2]
      have hkb : P L key := by
        rw [← hI.2]; exact hI.1.1.2.2.2.1 L S (by omega) (by rw [hI.1.2.2.1]; exact hS)
      refine br_f (nI_ge hi (by omega)) ?_
      refine him _ _ _ _ _ L key i hL hkb hi ?_
      exact ms_linkI hh hK hL hP hB hI.1 hS hi hg' (fun wc' wk' wn' ki' C e => nm_r (nI_1 i) (k (wc', wk', wn', ki') ⟨C, e.trans hI.2⟩)))
theorem ms_uS_r {post : SX → Prop} {J7 : Int32 → Int32 → Int32 → Int32 → Int32 → Int32 → Int32 → (Nat → Int32) → (Nat → Int32) → (Nat → Int32) → (Nat → Int32) → (Nat → Int32) → (Nat → Int32) → (Nat → Int32) → (Nat → Int32) → (Nat → Int32) → (Nat → Int32) → (Nat → Int32) → (Nat → Int32) → (Nat → Int32) → (Nat → Int32) → (Nat → Int32) → (Nat → Int32) → (Nat → Int32) → Prop} {sl bit : Nat} {L N0 : Nat} (hh : hz ≤ 6) (hK : K ≤ 8) (hP : ms_Pok K hz g k0 P) (hB : ms_Bok K hz g k0 P B B0) (hsl : sl < 4) (hbit : bit < 8) (him : ∀ (post : Int32 → Prop) (wc wk wn ki : Nat → Nat) (j k c : Nat), j < hz → P j k → c < K → post (nI (g j k c)) → wpX_image post ((nI tr), (nI hz), (nI lm), (nI K), (nI ht), (nI rd), (ms_F pl), (ms_F nx), (ms_F wd), (ms_F fi), (ms_F wo), (ms_F wc), (ms_F wk), (ms_F wn), (ms_F wg), (ms_F ki), (ms_F wl), (ms_F cc), (ms_F cr), (ms_F mo), (ms_F zm), (ms_F re), (ms_F fo)) (nI sl) (nI j) (nI k) (nI c) (nI bit)) (hL : L < hz)
    (Hj : ∀ wc wk wn ki : Nat → Nat, ms_VI K hz g k0 P B0 (L + 1) wc wk wn ki → J7 (nI (L + 1)) (nI tr) (nI hz) (nI lm) (nI K) (nI ht) (nI rd) (ms_F pl) (ms_F nx) (ms_F wd) (ms_F fi) (ms_F wo) (ms_F wc) (ms_F wk) (ms_F wn) (ms_F wg) (ms_F ki) (ms_F wl) (ms_F cc) (ms_F cr) (ms_F mo) (ms_F zm) (ms_F re) (ms_F fo)) (I : ms_CI K hz g k0 P B L N0 0 0 wc wk wn ki) : ∃ n, wX_unfoldSubsets_26 post J7 (nI sl) (nI bit) (nI L) (nI N0) n (nI 0) (nI tr) (nI hz) (nI lm) (nI K) (nI ht) (nI rd) (ms_F pl) (ms_F nx) (ms_F wd) (ms_F fi) (ms_F wo) (ms_F wc) (ms_F wk) (ms_F wn) (ms_F wg) (ms_F ki) (ms_F wl) (ms_F cc) (ms_F cr) (ms_F mo) (ms_F zm) (ms_F re) (ms_F fo) :=
  have hN : N0 ≤ 256 := by rw [← I.2.2.1]; exact I.1.2.1 L (by omega)
  loop_0 (fun n i (s : (Nat → Nat) × (Nat → Nat) × (Nat → Nat) × (Nat → Nat)) => wX_unfoldSubsets_26 post J7 (nI sl) (nI bit) (nI L) (nI N0) n (nI i) (nI tr) (nI hz) (nI lm) (nI K) (nI ht) (nI rd) (ms_F pl) (ms_F nx) (ms_F wd) (ms_F fi) (ms_F wo) (ms_F s.1) (ms_F s.2.1) (ms_F s.2.2.1) (ms_F wg) (ms_F s.2.2.2) (ms_F wl) (ms_F cc) (ms_F cr) (ms_F mo) (ms_F zm) (ms_F re) (ms_F fo)) (fun i s => ms_CI K hz g k0 P B L N0 i 0 s.1 s.2.1 s.2.2.1 s.2.2.2) N0 (wc, wk, wn, ki) I
    (fun n s hI => by
      refine br_t (nI_le (Nat.le_refl N0) (by omega)) ?_
      rw [nI_1 L]
      exact ms_closeI hh hL hP hB hI (fun ki' V => nm_e (Hj _ _ _ _ V)))
    (fun n i s hi hI k => br_f (nI_ge hi (by omega)) (And.intro (ms_in (ms_256 L i) (by omega) (by decide)) (nm_r (ms_rd (ms_256 L i) (by omega)) (ms_uS_c hh hK hP hB hsl hbit him hL hi (fun wc wk wn ki C => k (wc, wk, wn, ki) C) hI rfl))))
theorem ms_uS_v {post : SX → Prop} {sl bit : Nat} (hh : hz ≤ 6) (hK : K ≤ 8) (hP : ms_Pok K hz g k0 P) (hB : ms_Bok K hz g k0 P B B0) (hsl : sl < 4) (hbit : bit < 8) (him : ∀ (post : Int32 → Prop) (wc wk wn ki : Nat → Nat) (j k c : Nat), j < hz → P j k → c < K → post (nI (g j k c)) → wpX_image post ((nI tr), (nI hz), (nI lm), (nI K), (nI ht), (nI rd), (ms_F pl), (ms_F nx), (ms_F wd), (ms_F fi), (ms_F wo), (ms_F wc), (ms_F wk), (ms_F wn), (ms_F wg), (ms_F ki), (ms_F wl), (ms_F cc), (ms_F cr), (ms_F mo), (ms_F zm), (ms_F re), (ms_F fo)) (nI sl) (nI j) (nI k) (nI c) (nI bit))
    (H : ∀ wc wk wn ki : Nat → Nat, ms_VI K hz g k0 P B0 hz wc wk wn ki → post ((nI tr), (nI hz), (nI lm), (nI K), (nI ht), (nI rd), (ms_F pl), (ms_F nx), (ms_F wd), (ms_F fi), (ms_F wo), (ms_F wc), (ms_F wk), (ms_F wn), (ms_F wg), (ms_F ki), (ms_F wl), (ms_F cc), (ms_F cr), (ms_F mo), (ms_F zm), (ms_F re), (ms_F fo))) (V : ms_VI K hz g k0 P B0 0 wc wk wn ki) : ∃ n, wX_unfoldSubsets_7 post (nI sl) (nI bit) n (nI 0) (nI tr) (nI hz) (nI lm) (nI K) (nI ht) (nI rd) (ms_F pl) (ms_F nx) (ms_F wd) (ms_F fi) (ms_F wo) (ms_F wc) (ms_F wk) (ms_F wn) (ms_F wg) (ms_F ki) (ms_F wl) (ms_F cc) (ms_F cr) (ms_F mo) (ms_F zm) (ms_F re) (ms_F fo) :=
  loop_0 (fun n i (s : (Nat → Nat) × (Nat → Nat) × (Nat → Nat) × (Nat → Nat)) => wX_unfoldSubsets_7 post (nI sl) (nI bit) n (nI i) (nI tr) (nI hz) (nI lm) (nI K) (nI ht) (nI rd) (ms_F pl) (ms_F nx) (ms_F wd) (ms_F fi) (ms_F wo) (ms_F s.1) (ms_F s.2.1) (ms_F s.2.2.1) (ms_F wg) (ms_F s.2.2.2) (ms_F wl) (ms_F cc) (ms_F cr) (ms_F mo) (ms_F zm) (ms_F re) (ms_F fo)) (fun i s => ms_VI K hz g k0 P B0 i s.1 s.2.1 s.2.2.1 s.2.2.2) hz (wc, wk, wn, ki) V
    (fun n s hI => br_t (nI_le (Nat.le_refl hz) (by omega)) (H _ _ _ _ hI))
    (fun n i s hi hI k => br_f (nI_ge hi (by omega)) (And.intro (ms_in rfl (by omega) (by decide)) (nm_r (ms_rd (A := s.1) rfl (by omega)) (ms_uS_r hh hK hP hB hsl hbit him hi (fun wc wk wn ki C => k (wc, wk, wn, ki) C) (ms_VI_CI hB hi hI)))))
theorem ms_unfoldAtom {post : SX → Prop} {kind a b : Nat} (hk0 : k0 = 0) (hh : hz ≤ 6) (hK : K ≤ 8) (hP : ms_Pok K hz g k0 P) (hB : ms_Bok K hz g k0 P B B0) (h1 : kind ≤ 7) (ha : a < 32) (hb : b < 32) (hP2 : ∀ j k, P j k → k ≤ 2) (hgd : ∀ j k c, g j k c = ms_as kind k (c / 2 ^ a % 2) (c / 2 ^ b % 2) (if j = b then 1 else 0)) (hki : ∀ k, k < 4096 → ki k = 0) (hB0 : ∀ wc : Nat → Nat, wc 0 = 1 → (∀ j, 1 ≤ j → j ≤ hz → wc j = 0) → B0 0 wc)
    (H : ∀ wc wk wn ki wg : Nat → Nat, ms_VI K hz g k0 P B0 hz wc wk wn ki → (∀ s, s < wc hz → wg s = (ms_acc kind (wk (hz * 256 + s))).toNat) → post ((nI tr), (nI hz), (nI lm), (nI K), (nI ht), (nI rd), (ms_F pl), (ms_F nx), (ms_F wd), (ms_F fi), (ms_F wo), (ms_F wc), (ms_F wk), (ms_F wn), (ms_F wg), (ms_F ki), (ms_F wl), (ms_F cc), (ms_F cr), (ms_F mo), (ms_F zm), (ms_F re), (ms_F fo))) : wpX_unfoldAtom post ((nI tr), (nI hz), (nI lm), (nI K), (nI ht), (nI rd), (ms_F pl), (ms_F nx), (ms_F wd), (ms_F fi), (ms_F wo), (ms_F wc), (ms_F wk), (ms_F wn), (ms_F wg), (ms_F ki), (ms_F wl), (ms_F cc), (ms_F cr), (ms_F mo), (ms_F zm), (ms_F re), (ms_F fo)) (nI kind) (nI a) (nI b) := by
  subst hk0
  unfold wpX_unfoldAtom
  try dsimp only
  exact ms_openWork (k0 := 0) hh (fun wc' h2 h3 => ms_uA_v hh hK hP hB h1 ha hb hP2 hgd H (ms_VI_0 hP h2 h3 hki (hB0 wc' h2 h3)))
theorem ms_unfoldProduct {post : SX → Prop} {l r : Nat} (hk0 : k0 = 0) (hh : hz ≤ 6) (hK : K ≤ 8) (hP : ms_Pok K hz g k0 P) (hB : ms_Bok K hz g k0 P B B0) (hl : l < 4) (hr : r < 4) (hPp : ∀ j k, P j k → k / 12 < 12) (hgd : ∀ j k c, g j k c = nx (((l * 6 + j) * 12 + k / 12) * 8 + c) * 12 + nx (((r * 6 + j) * 12 + k % 12) * 8 + c)) (hki : ∀ k, k < 4096 → ki k = 0) (hB0 : ∀ wc : Nat → Nat, wc 0 = 1 → (∀ j, 1 ≤ j → j ≤ hz → wc j = 0) → B0 0 wc)
    (H : ∀ wc wk wn ki : Nat → Nat, ms_VI K hz g k0 P B0 hz wc wk wn ki → post ((nI tr), (nI hz), (nI lm), (nI K), (nI ht), (nI rd), (ms_F pl), (ms_F nx), (ms_F wd), (ms_F fi), (ms_F wo), (ms_F wc), (ms_F wk), (ms_F wn), (ms_F wg), (ms_F ki), (ms_F wl), (ms_F cc), (ms_F cr), (ms_F mo), (ms_F zm), (ms_F re), (ms_F fo))) : wpX_unfoldProduct post ((nI tr), (nI hz), (nI lm), (nI K), (nI ht), (nI rd), (ms_F pl), (ms_F nx), (ms_F wd), (ms_F fi), (ms_F wo), (ms_F wc), (ms_F wk), (ms_F wn), (ms_F wg), (ms_F ki), (ms_F wl), (ms_F cc), (ms_F cr), (ms_F mo), (ms_F zm), (ms_F re), (ms_F fo)) (nI l) (nI r) := by
  subst hk0
  unfold wpX_unfoldProduct
  try dsimp only
  exact ms_openWork (k0 := 0) hh (fun wc' h2 h3 => ms_uP_v hh hK hP hB hl hr hPp hgd H (ms_VI_0 hP h2 h3 hki (hB0 wc' h2 h3)))
theorem ms_unfoldSubsets {post : SX → Prop} {sl bit : Nat} (hk0 : k0 = 1) (hh : hz ≤ 6) (hK : K ≤ 8) (hP : ms_Pok K hz g k0 P) (hB : ms_Bok K hz g k0 P B B0) (hsl : sl < 4) (hbit : bit < 8) (him : ∀ (post : Int32 → Prop) (wc wk wn ki : Nat → Nat) (j k c : Nat), j < hz → P j k → c < K → post (nI (g j k c)) → wpX_image post ((nI tr), (nI hz), (nI lm), (nI K), (nI ht), (nI rd), (ms_F pl), (ms_F nx), (ms_F wd), (ms_F fi), (ms_F wo), (ms_F wc), (ms_F wk), (ms_F wn), (ms_F wg), (ms_F ki), (ms_F wl), (ms_F cc), (ms_F cr), (ms_F mo), (ms_F zm), (ms_F re), (ms_F fo)) (nI sl) (nI j) (nI k) (nI c) (nI bit)) (hki : ∀ k, k < 4096 → ki k = 0) (hB0 : ∀ wc : Nat → Nat, wc 0 = 1 → (∀ j, 1 ≤ j → j ≤ hz → wc j = 0) → B0 0 wc)
    (H : ∀ wc wk wn ki : Nat → Nat, ms_VI K hz g k0 P B0 hz wc wk wn ki → post ((nI tr), (nI hz), (nI lm), (nI K), (nI ht), (nI rd), (ms_F pl), (ms_F nx), (ms_F wd), (ms_F fi), (ms_F wo), (ms_F wc), (ms_F wk), (ms_F wn), (ms_F wg), (ms_F ki), (ms_F wl), (ms_F cc), (ms_F cr), (ms_F mo), (ms_F zm), (ms_F re), (ms_F fo))) : wpX_unfoldSubsets post ((nI tr), (nI hz), (nI lm), (nI K), (nI ht), (nI rd), (ms_F pl), (ms_F nx), (ms_F wd), (ms_F fi), (ms_F wo), (ms_F wc), (ms_F wk), (ms_F wn), (ms_F wg), (ms_F ki), (ms_F wl), (ms_F cc), (ms_F cr), (ms_F mo), (ms_F zm), (ms_F re), (ms_F fo)) (nI sl) (nI bit) := by
  subst hk0
  unfold wpX_unfoldSubsets
  try dsimp only
  exact ms_openWork (k0 := 1) hh (fun wc' h2 h3 => ms_uS_v hh hK hP hB hsl hbit him H (ms_VI_0 hP h2 h3 hki (hB0 wc' h2 h3)))
end UW
end
section
/-! minimisation: the walks of alike, classify, store, settle -/
def ms_KL (K h M : Nat) (e : Nat → Nat → Nat → Nat) (G : Nat → Bool) (j i k : Nat) (c r : Nat → Nat) : Prop :=
  k ≤ M ∧ (∀ s, s < i → c (j * 256 + s) < k) ∧ (∀ s s', s < i → s' < i → (c (j * 256 + s) = c (j * 256 + s') ↔ ms_EqS K h e G j s s')) ∧ (∀ x, x < k → r (j * 12 + x) < i ∧ c (j * 256 + r (j * 12 + x)) = x)
theorem ms_KL_old {K h M : Nat} {e : Nat → Nat → Nat → Nat} {G : Nat → Bool} {j i k k0 : Nat} {c r : Nat → Nat} (H : ms_KL K h M e G j i k c r) (hk : k0 < k) (hE : ms_EqS K h e G j (r (j * 12 + k0)) i) : ms_KL K h M e G j (i + 1) k (ms_U c (j * 256 + i) k0) r := by
  obtain ⟨h1, h2, h3, h4⟩ := H
  obtain ⟨r1, r2⟩ := h4 k0 hk
  have old : ∀ s, s < i → ms_U c (j * 256 + i) k0 (j * 256 + s) = c (j * 256 + s) := fun s hs => ms_Un (by omega)
  have new : ms_U c (j * 256 + i) k0 (j * 256 + i) = k0 := ms_Us
  have hx : ∀ s, s < i → (c (j * 256 + s) = k0 ↔ ms_EqS K h e G j s i) := by
    intro s hs
    rw [← r2, h3 s _ hs r1]
    exact ⟨fun a => ms_EqS_tr a hE, fun a => ms_EqS_tr a (ms_EqS_sym hE)⟩
  refine ⟨h1, fun s hs => ?_, fun s s' hs hs' => ?_, fun x hx => ?_⟩
  · by_cases e1 : s = i
    · subst e1; rw [new]; exact hk
    · rw [old s (by omega)]; exact h2 s (by omega)
  · by_cases e1 : s = i
    · subst e1
      by_cases e2 : s' = s
      · subst e2; exact ⟨fun _ => ms_EqS_rfl, fun _ => rfl⟩
      · rw [new, old s' (by omega)]
        exact ⟨fun a => ms_EqS_sym ((hx s' (by omega)).mp a.symm), fun a => ((hx s' (by omega)).mpr (ms_EqS_sym a)).symm⟩
    · by_cases e2 : s' = i
      · subst e2; rw [new, old s (by omega)]; exact hx s (by omega)
      · rw [old s (by omega), old s' (by omega)]; exact h3 s s' (by omega) (by omega)
  · obtain ⟨y1, y2⟩ := h4 x hx
    exact ⟨by omega, by rw [old _ y1]; exact y2⟩
theorem ms_KL_new {K h M : Nat} {e : Nat → Nat → Nat → Nat} {G : Nat → Bool} {j i k : Nat} {c r : Nat → Nat} (H : ms_KL K h M e G j i k c r) (hk : k < M) (hE : ∀ x, x < k → ¬ ms_EqS K h e G j (r (j * 12 + x)) i) : ms_KL K h M e G j (i + 1) (k + 1) (ms_U c (j * 256 + i) k) (ms_U r (j * 12 + k) i) := by
  obtain ⟨h1, h2, h3, h4⟩ := H
  have old : ∀ s, s < i → ms_U c (j * 256 + i) k (j * 256 + s) = c (j * 256 + s) := fun s hs => ms_Un (by omega)
  have new : ms_U c (j * 256 + i) k (j * 256 + i) = k := ms_Us
  have hno : ∀ s, s < i → ¬ ms_EqS K h e G j s i := by
    intro s hs E
    obtain ⟨y1, y2⟩ := h4 _ (h2 s hs)
    exact hE _ (h2 s hs) (ms_EqS_tr ((h3 _ s y1 hs).mp y2) E)
  refine ⟨by omega, fun s hs => ?_, fun s s' hs hs' => ?_, fun x hx => ?_⟩
  · by_cases e1 : s = i
    · subst e1; rw [new]; omega
    · rw [old s (by omega)]; have := h2 s (by omega); omega
  · by_cases e1 : s = i
    · subst e1
      by_cases e2 : s' = s
      · subst e2; exact ⟨fun _ => ms_EqS_rfl, fun _ => rfl⟩
      · rw [new, old s' (by omega)]
        have := h2 s' (by omega)
        exact ⟨fun a => by omega, fun a => absurd (ms_EqS_sym a) (hno s' (by omega))⟩
    · by_cases e2 : s' = i
      · subst e2; rw [new, old s (by omega)]
        have := h2 s (by omega)
        exact ⟨fun a => by omega, fun a => absurd a (hno s (by omega))⟩
      · rw [old s (by omega), old s' (by omega)]; exact h3 s s' (by omega) (by omega)
  · by_cases e1 : x = k
    · subst e1; rw [ms_Us]; exact ⟨by omega, new⟩
    · rw [ms_Un (by omega)]
      obtain ⟨y1, y2⟩ := h4 x (by omega)
      exact ⟨by omega, by rw [old _ y1]; exact y2⟩
theorem ms_KL_wide {K h M : Nat} {n : Nat → Nat} {e : Nat → Nat → Nat → Nat} {G L : Nat → Bool} {j i k w : Nat} {c r : Nat → Nat} (hK : 0 < K) (hj : j ≤ h) (A : ms_WA K h n e G L) (H : ms_KL K h M e G j i k c r) (hi : i < n j) (hk : M ≤ k) (hE : ∀ x, x < k → ¬ ms_EqS K h e G j (r (j * 12 + x)) i) (hw : ms_isW (ms_eqv K h L j) (K ^ j) w) : M < w := by
  obtain ⟨h1, h2, h3, h4⟩ := H
  have := ms_WA_wide (k := k + 1) hK A hj (fun x => if x < k then r (j * 12 + x) else i) (by
    intro x hx
    try dsimp only
    split
    · rename_i hxk
      have := (h4 x hxk).1; omega
    · exact hi) (by
    intro x y hx hy E
    try dsimp only at E
    split at E <;> split at E <;> rename_i a b
    · obtain ⟨x1, x2⟩ := h4 x a
      obtain ⟨y1, y2⟩ := h4 y b
      have := (h3 _ _ x1 y1).mpr E
      omega
    · exact absurd E (hE x a)
    · exact absurd (ms_EqS_sym E) (hE y b)
    · omega) hw
  omega
theorem ms_KL_CL {K h M : Nat} {n : Nat → Nat} {e : Nat → Nat → Nat → Nat} {G : Nat → Bool} {j k : Nat} {c r m : Nat → Nat} (H : ms_KL K h M e G j (n j) k c r) (hm : m j = k) : ms_CL K h M n e G c r m j := by
  subst hm; exact H
theorem ms_CL_fr {K h M : Nat} {n : Nat → Nat} {e : Nat → Nat → Nat → Nat} {G : Nat → Bool} {j : Nat} {c r m c' r' m' : Nat → Nat} (hM : M ≤ 12) (hn : n j ≤ 256) (C : ms_CL K h M n e G c r m j) (hc : ∀ s, s < 256 → c' (j * 256 + s) = c (j * 256 + s)) (hr : ∀ k, k < 12 → r' (j * 12 + k) = r (j * 12 + k)) (hm : m' j = m j) : ms_CL K h M n e G c' r' m' j := by
  obtain ⟨c1, c2, c3, c4⟩ := C
  refine ⟨by omega, fun s hs => ?_, fun s s' hs hs' => ?_, fun k hk => ?_⟩
  · rw [hc s (by omega), hm]; exact c2 s hs
  · rw [hc s (by omega), hc s' (by omega)]; exact c3 s s' hs hs'
  · rw [hm] at hk
    obtain ⟨x1, x2⟩ := c4 k hk
    rw [hr k (by omega), hc _ (by omega)]
    exact ⟨x1, x2⟩
section MIN
variable {tr hz lm K ht rd : Nat} {pl nx wd fi wo wc wk wn wg ki wl cc cr mo zm re fo : Nat → Nat}
variable {G Lg : Nat → Bool}
theorem ms_alike {post : Int32 → Prop} {j p q : Nat} (hh : hz ≤ 6) (hK0 : 0 < K) (hK : K ≤ 8) (hM : lm ≤ 12) (hj : j ≤ hz) (A : ms_WA K hz wc (fun j s c => wn ((j * 256 + s) * 8 + c)) G Lg) (hG : ∀ s, s < wc hz → wg s = (G s).toNat) (C : ∀ j', j < j' → j' ≤ hz → ms_CL K hz lm wc (fun j s c => wn ((j * 256 + s) * 8 + c)) G wl cr cc j') (hp : p < wc j) (hq : q < wc j) (h1 : ms_EqS K hz (fun j s c => wn ((j * 256 + s) * 8 + c)) G j p q → post 1) (h0 : ¬ ms_EqS K hz (fun j s c => wn ((j * 256 + s) * 8 + c)) G j p q → post 0) : wpX_alike post ((nI tr), (nI hz), (nI lm), (nI K), (nI ht), (nI rd), (ms_F pl), (ms_F nx), (ms_F wd), (ms_F fi), (ms_F wo), (ms_F wc), (ms_F wk), (ms_F wn), (ms_F wg), (ms_F ki), (ms_F wl), (ms_F cc), (ms_F cr), (ms_F mo), (ms_F zm), (ms_F re), (ms_F fo)) (nI j) (nI p) (nI q) := by
  have bj := A.2.1 j hj
  rcases Nat.lt_or_eq_of_le hj with hlt | heq
  · have bj1 := A.2.1 (j + 1) (by omega)
    obtain ⟨d1, d2, d3, _⟩ := C (j + 1) (by omega) (by omega)
    have tp : ∀ s c, s < wc j → c < K → wn ((j * 256 + s) * 8 + c) < wc (j + 1) := fun s c hs hc => A.2.2.1 j s c hlt hs hc
    have Lp : ∃ n, wX_alike_32 post (nI j) (nI p) (nI q) (nI tr) (nI hz) (nI lm) (nI K) (nI ht) (nI rd) (ms_F pl) (ms_F nx) (ms_F wd) (ms_F fi) (ms_F wo) (ms_F wc) (ms_F wk) (ms_F wn) (ms_F wg) (ms_F ki) (ms_F wl) (ms_F cc) (ms_F cr) (ms_F mo) (ms_F zm) (ms_F re) (ms_F fo) n (nI 0) :=
      loop_0 (fun n i (_ : Unit) => wX_alike_32 post (nI j) (nI p) (nI q) (nI tr) (nI hz) (nI lm) (nI K) (nI ht) (nI rd) (ms_F pl) (ms_F nx) (ms_F wd) (ms_F fi) (ms_F wo) (ms_F wc) (ms_F wk) (ms_F wn) (ms_F wg) (ms_F ki) (ms_F wl) (ms_F cc) (ms_F cr) (ms_F mo) (ms_F zm) (ms_F re) (ms_F fo) n (nI i)) (fun i _ => ∀ c, c < i → wl ((j + 1) * 256 + wn ((j * 256 + p) * 8 + c)) = wl ((j + 1) * 256 + wn ((j * 256 + q) * 8 + c))) K () (fun c hc => absurd hc (Nat.not_lt_zero c))
        (fun n _ hI => br_t (nI_le (Nat.le_refl K) (by omega)) (h1 ((ms_EqS_s hK0 hlt).mpr (fun c hc => (d3 _ _ (tp p c hp hc) (tp q c hq hc)).mp (hI c hc)))))
        (fun n i _ hi hI k => br_f (nI_ge hi (by omega)) (by
          have t1 := tp p i hp hi
          have t2 := tp q i hq hi
          have t3 := d2 _ t1
          have t4 := d2 _ t2
          refine ms_targetClass (by omega) (by omega) (by omega) (by omega) (ms_targetClass (by omega) (by omega) (by omega) (by omega) ?_)
          refine pk_eq _ _ (fun e => nm_r (nI_1 i) (k () (fun c hc => ?_))) (fun e => h0 (fun E => ?_)) rfl rfl (by omega) (by omega)
          · by_cases e2 : c = i
            · subst e2; exact e
            · exact hI c (by omega)
          · exact e ((d3 _ _ t1 t2).mpr ((ms_EqS_s hK0 hlt).mp E i hi))))
    exact br_t (nI_lt hlt (by omega)) Lp
  · subst heq
    refine br_f (nI_nlt (Nat.le_refl _) (by omega)) (And.intro (ms_in rfl (by omega) (by decide)) (And.intro (ms_in rfl (by omega) (by decide)) ?_))
    rw [ms_rdn (by omega), ms_rdn (by omega), hG p hp, hG q hq]
    refine br_c (fun e => h1 (ms_EqS_h.mpr ?_)) (fun e => h0 (fun E => e ?_))
    · cases hgp : G p <;> cases hgq : G q <;> rw [hgp, hgq] at e
      · exact absurd e (by decide)
      · exact absurd e (by decide)
    · rw [ms_EqS_h.mp E]
theorem ms_cl24 {post : Int32 → SX → Prop} {J12 : Int32 → Int32 → (Nat → Int32) → (Nat → Int32) → (Nat → Int32) → (Nat → Int32) → (Nat → Int32) → (Nat → Int32) → (Nat → Int32) → (Nat → Int32) → (Nat → Int32) → (Nat → Int32) → (Nat → Int32) → (Nat → Int32) → (Nat → Int32) → (Nat → Int32) → (Nat → Int32) → (Nat → Int32) → (Nat → Int32) → Prop} {j i k N : Nat} (hh : hz ≤ 6) (hK0 : 0 < K) (hK : K ≤ 8) (hM : lm ≤ 12) (hj : j ≤ hz) (A : ms_WA K hz wc (fun j s c => wn ((j * 256 + s) * 8 + c)) G Lg) (hG : ∀ s, s < wc hz → wg s = (G s).toNat) (C : ∀ j', j < j' → j' ≤ hz → ms_CL K hz lm wc (fun j s c => wn ((j * 256 + s) * 8 + c)) G wl cr cc j') (hi : i < wc j) (hk : k ≤ 12) (hr : ∀ x, x < k → cr (j * 12 + x) < wc j)
    (Hf : ∀ x, x < k → ms_EqS K hz (fun j s c => wn ((j * 256 + s) * 8 + c)) G j (cr (j * 12 + x)) i → wX_classify_71 post J12 (nI j) (nI k) (nI N) (nI i) (nI x) (nI tr) (nI hz) (nI lm) (nI K) (nI ht) (nI rd) (ms_F pl) (ms_F nx) (ms_F wd) (ms_F fi) (ms_F wo) (ms_F wc) (ms_F wk) (ms_F wn) (ms_F wg) (ms_F ki) (ms_F wl) (ms_F cc) (ms_F cr) (ms_F mo) (ms_F zm) (ms_F re) (ms_F fo)) (Hn : (∀ x, x < k → ¬ ms_EqS K hz (fun j s c => wn ((j * 256 + s) * 8 + c)) G j (cr (j * 12 + x)) i) → wX_classify_71 post J12 (nI j) (nI k) (nI N) (nI i) (-1) (nI tr) (nI hz) (nI lm) (nI K) (nI ht) (nI rd) (ms_F pl) (ms_F nx) (ms_F wd) (ms_F fi) (ms_F wo) (ms_F wc) (ms_F wk) (ms_F wn) (ms_F wg) (ms_F ki) (ms_F wl) (ms_F cc) (ms_F cr) (ms_F mo) (ms_F zm) (ms_F re) (ms_F fo)) : ∃ n, wX_classify_24 post J12 (nI j) (nI k) (nI N) (nI i) (nI tr) (nI hz) (nI lm) (nI K) (nI ht) (nI rd) (ms_F pl) (ms_F nx) (ms_F wd) (ms_F fi) (ms_F wo) (ms_F wc) (ms_F wk) (ms_F wn) (ms_F wg) (ms_F ki) (ms_F wl) (ms_F cc) (ms_F cr) (ms_F mo) (ms_F zm) (ms_F re) (ms_F fo) n (-1) (nI 0) :=
  have H71 : ∀ (y : Int32), (∃ x, x < k ∧ y = nI x ∧ ms_EqS K hz (fun j s c => wn ((j * 256 + s) * 8 + c)) G j (cr (j * 12 + x)) i) → wX_classify_71 post J12 (nI j) (nI k) (nI N) (nI i) y (nI tr) (nI hz) (nI lm) (nI K) (nI ht) (nI rd) (ms_F pl) (ms_F nx) (ms_F wd) (ms_F fi) (ms_F wo) (ms_F wc) (ms_F wk) (ms_F wn) (ms_F wg) (ms_F ki) (ms_F wl) (ms_F cc) (ms_F cr) (ms_F mo) (ms_F zm) (ms_F re) (ms_F fo) := fun y ⟨x, hx, e, E⟩ => by rw [e]; exact Hf x hx E
  loop_0 (fun n c (y : Int32) => wX_classify_24 post J12 (nI j) (nI k) (nI N) (nI i) (nI tr) (nI hz) (nI lm) (nI K) (nI ht) (nI rd) (ms_F pl) (ms_F nx) (ms_F wd) (ms_F fi) (ms_F wo) (ms_F wc) (ms_F wk) (ms_F wn) (ms_F wg) (ms_F ki) (ms_F wl) (ms_F cc) (ms_F cr) (ms_F mo) (ms_F zm) (ms_F re) (ms_F fo) n y (nI c)) (fun c y => (y = -1 ∧ ∀ x, x < c → ¬ ms_EqS K hz (fun j s c => wn ((j * 256 + s) * 8 + c)) G j (cr (j * 12 + x)) i) ∨ (∃ x, x < k ∧ y = nI x ∧ ms_EqS K hz (fun j s c => wn ((j * 256 + s) * 8 + c)) G j (cr (j * 12 + x)) i)) k (-1) (Or.inl ⟨rfl, fun x hx => absurd hx (Nat.not_lt_zero x)⟩)
    (fun n y hI => br_t (nI_le (Nat.le_refl k) (by omega)) (by
      rcases hI with ⟨e, h⟩ | h
      · rw [e]; exact Hn h
      · exact H71 y h))
    (fun n c y hc hI kk => br_f (nI_ge hc (by omega)) (by
      rcases hI with ⟨e, h⟩ | h
      · subst e
        refine br_f (by decide) (And.intro (ms_in (ms_12 j c) (by omega) (by decide)) (nm_r (ms_rd (ms_12 j c) (by omega)) ?_))
        refine ms_alike hh hK0 hK hM hj A hG C (hr c hc) hi (fun E => ?_) (fun E => ?_)
        · exact br_f (by decide) (nm_r (nI_1 c) (kk _ (Or.inr ⟨c, hc, rfl, E⟩)))
        · exact br_t rfl (nm_r (nI_1 c) (kk _ (Or.inl ⟨rfl, fun x hx => by
            by_cases e : x = c
            · subst e; exact E
            · exact h x (by omega)⟩)))
      · obtain ⟨x, hx, e, E⟩ := h
        refine br_t (by rw [e]; exact nI_pos' (by omega)) (H71 y ⟨x, hx, e, E⟩)))
theorem ms_classify {post : Int32 → SX → Prop} {j : Nat} (hh : hz ≤ 6) (hK0 : 0 < K) (hK : K ≤ 8) (hM : lm ≤ 12) (hj : j ≤ hz) (A : ms_WA K hz wc (fun j s c => wn ((j * 256 + s) * 8 + c)) G Lg) (hG : ∀ s, s < wc hz → wg s = (G s).toNat) (C : ∀ j', j < j' → j' ≤ hz → ms_CL K hz lm wc (fun j s c => wn ((j * 256 + s) * 8 + c)) G wl cr cc j')
    (Hok : ∀ wl cr cc : Nat → Nat, (∀ j', j ≤ j' → j' ≤ hz → ms_CL K hz lm wc (fun j s c => wn ((j * 256 + s) * 8 + c)) G wl cr cc j') → post 1 ((nI tr), (nI hz), (nI lm), (nI K), (nI ht), (nI rd), (ms_F pl), (ms_F nx), (ms_F wd), (ms_F fi), (ms_F wo), (ms_F wc), (ms_F wk), (ms_F wn), (ms_F wg), (ms_F ki), (ms_F wl), (ms_F cc), (ms_F cr), (ms_F mo), (ms_F zm), (ms_F re), (ms_F fo)))
    (Hno : ∀ wl cr : Nat → Nat, (∀ w, ms_isW (ms_eqv K hz Lg j) (K ^ j) w → lm < w) → post 0 ((nI tr), (nI hz), (nI lm), (nI K), (nI ht), (nI rd), (ms_F pl), (ms_F nx), (ms_F wd), (ms_F fi), (ms_F wo), (ms_F wc), (ms_F wk), (ms_F wn), (ms_F wg), (ms_F ki), (ms_F wl), (ms_F cc), (ms_F cr), (ms_F mo), (ms_F zm), (ms_F re), (ms_F fo))) : wpX_classify post ((nI tr), (nI hz), (nI lm), (nI K), (nI ht), (nI rd), (ms_F pl), (ms_F nx), (ms_F wd), (ms_F fi), (ms_F wo), (ms_F wc), (ms_F wk), (ms_F wn), (ms_F wg), (ms_F ki), (ms_F wl), (ms_F cc), (ms_F cr), (ms_F mo), (ms_F zm), (ms_F re), (ms_F fo)) (nI j) := by
  have bj := A.2.1 j hj
  have Lp : ∃ n, wX_classify_12 post (nI j) (nI (wc j)) (nI tr) (nI hz) (nI lm) (nI K) (nI ht) (nI rd) n (nI 0) (nI 0) (ms_F pl) (ms_F nx) (ms_F wd) (ms_F fi) (ms_F wo) (ms_F wc) (ms_F wk) (ms_F wn) (ms_F wg) (ms_F ki) (ms_F wl) (ms_F cc) (ms_F cr) (ms_F mo) (ms_F zm) (ms_F re) (ms_F fo) :=
    loop_0 (fun n i (s : Nat × (Nat → Nat) × (Nat → Nat)) => wX_classify_12 post (nI j) (nI (wc j)) (nI tr) (nI hz) (nI lm) (nI K) (nI ht) (nI rd) n (nI s.1) (nI i) (ms_F pl) (ms_F nx) (ms_F wd) (ms_F fi) (ms_F wo) (ms_F wc) (ms_F wk) (ms_F wn) (ms_F wg) (ms_F ki) (ms_F s.2.1) (ms_F cc) (ms_F s.2.2) (ms_F mo) (ms_F zm) (ms_F re) (ms_F fo)) (fun i s => ms_KL K hz lm (fun j s c => wn ((j * 256 + s) * 8 + c)) G j i s.1 s.2.1 s.2.2 ∧ ∀ j', j < j' → j' ≤ hz → ms_CL K hz lm wc (fun j s c => wn ((j * 256 + s) * 8 + c)) G s.2.1 s.2.2 cc j') (wc j) (0, wl, cr)
      ⟨⟨by omega, fun s hs => absurd hs (Nat.not_lt_zero s), fun s s' hs => absurd hs (Nat.not_lt_zero s), fun s hs => absurd hs (Nat.not_lt_zero s)⟩, C⟩
      (fun n s hI => br_t (nI_le (Nat.le_refl _) (by omega)) (And.intro (ms_in rfl (by omega) (by decide)) (nm_r (ms_up rfl (by omega) rfl) (Hok _ _ _ (fun j' h1 h2 => by
        by_cases e : j' = j
        · subst e; exact ms_KL_CL hI.1 ms_Us
        · exact ms_CL_fr hM (A.2.1 j' h2) (hI.2 j' (by omega) h2) (fun s _ => rfl) (fun k _ => rfl) (ms_Un e))))))
      (fun n i s hi hI k => br_f (nI_ge hi (by omega)) (by
        obtain ⟨kc, wl', cr'⟩ := s
        obtain ⟨I1, I2⟩ := hI
        try dsimp only at I1 I2 ⊢
        have hkc := I1.1
        refine ms_cl24 hh hK0 hK hM hj A hG I2 hi (by omega) (fun x hx => Nat.lt_trans (I1.2.2.2 x hx).1 hi) (fun x hx E => ?_) (fun E => ?_)
        · refine br_t (nI_pos' (by omega)) ?_
          refine And.intro (ms_in (ms_256 j i) (by omega) (by decide)) (nm_r (ms_up (ms_256 j i) (by omega) rfl) (nm_r (nI_1 i) (k (kc, _, _) ⟨ms_KL_old I1 hx E, fun j' h1 h2 => ?_⟩)))
          exact ms_CL_fr hM (A.2.1 j' h2) (I2 j' h1 h2) (fun s hs => ms_Un (by omega)) (fun k _ => rfl) rfl
        · refine br_f (by decide) (pk_lt kc lm (fun hlt => ?_) (fun hge => ?_))
          · refine And.intro (ms_in (ms_12 j kc) (by omega) (by decide)) (nm_r (ms_up (ms_12 j kc) (by omega) rfl) (nm_r (nI_1 kc) ?_))
            refine And.intro (ms_in (ms_256 j i) (by omega) (by decide)) (nm_r (ms_up (ms_256 j i) (by omega) rfl) (nm_r (nI_1 i) (k (kc + 1, _, _) ⟨ms_KL_new I1 hlt E, fun j' h1 h2 => ?_⟩)))
            exact ms_CL_fr hM (A.2.1 j' h2) (I2 j' h1 h2) (fun s hs => ms_Un (by omega)) (fun k hk => ms_Un (by omega)) rfl
          · exact Hno _ _ (fun w hw => ms_KL_wide hK0 hj A I1 hi hge E hw)))
  exact And.intro (ms_in rfl (by omega) (by decide)) (nm_r (ms_rd (A := wc) rfl (by omega)) Lp)
end MIN
end
section
/-! store and settle -/
def ms_Slot (K h M : Nat) (nx wd fi : Nat → Nat) (s : Nat) (L : Nat → Bool) : Prop := ms_Aut K h M (fun j => wd (s * 7 + j)) (fun j q c => nx (((s * 6 + j) * 12 + q) * 8 + c)) (fi s) L
def ms_fr (sl : Nat) (nx wd fi nx' wd' fi' : Nat → Nat) : Prop := (∀ x, ¬ (sl * 576 ≤ x ∧ x < sl * 576 + 576) → nx' x = nx x) ∧ (∀ x, ¬ (sl * 7 ≤ x ∧ x < sl * 7 + 7) → wd' x = wd x) ∧ (∀ x, x ≠ sl → fi' x = fi x)
theorem ms_Slot_fr {K h M : Nat} {nx wd fi nx' wd' fi' : Nat → Nat} {s sl : Nat} {L : Nat → Bool} (hK0 : 0 < K) (hK : K ≤ 8) (hh : h ≤ 6) (hM : M ≤ 12) (H : ms_Slot K h M nx wd fi s L) (F : ms_fr sl nx wd fi nx' wd' fi') (hs : s ≠ sl) : ms_Slot K h M nx' wd' fi' s L := by
  unfold ms_Slot at H ⊢
  rw [F.2.2 s hs]
  refine ms_Aut_congr hK0 H (fun j hj => (F.2.1 _ (by omega)).symm) (fun j q c hj hq hc => (F.1 _ ?_).symm)
  have := H.2.1 j (by omega)
  try dsimp only at this hq
  omega
def ms_NI (K h sl : Nat) (m : Nat → Nat) (T : Nat → Nat → Nat → Nat) (nx0 : Nat → Nat) (L S C : Nat) (nx : Nat → Nat) : Prop := (∀ j k c, ms_dn L S C j k c → j < h → k < m j → c < K → nx (((sl * 6 + j) * 12 + k) * 8 + c) = T j k c) ∧ (∀ x, ¬ (sl * 576 ≤ x ∧ x < sl * 576 + 576) → nx x = nx0 x)
section NI
variable {K h sl : Nat} {m : Nat → Nat} {T : Nat → Nat → Nat → Nat} {nx0 nx : Nat → Nat} {L S C : Nat}
theorem ms_NI_step (hK : K ≤ 8) (hh : h ≤ 6) (hm : ∀ j, j ≤ h → m j ≤ 12) (hL : L < h) (hS : S < m L) (hC : C < K) (N : ms_NI K h sl m T nx0 L S C nx) : ms_NI K h sl m T nx0 L S (C + 1) (ms_U nx (((sl * 6 + L) * 12 + S) * 8 + C) (T L S C)) := by
  have m1 := hm L (by omega)
  refine ⟨fun j k c hd hj hk hc => ?_, fun x hx => ?_⟩
  · have m2 := hm j (by omega)
    by_cases e : j = L ∧ k = S ∧ c = C
    · obtain ⟨e1, e2, e3⟩ := e
      subst e1 e2 e3
      exact ms_Us
    · rw [ms_Un (by omega)]
      exact N.1 j k c (by unfold ms_dn at hd ⊢; omega) hj hk hc
  · rw [ms_Un (by omega)]
    exact N.2 x hx
theorem ms_NI_row (N : ms_NI K h sl m T nx0 L S K nx) : ms_NI K h sl m T nx0 L (S + 1) 0 nx :=
  ⟨fun j k c hd hj hk hc => N.1 j k c (by unfold ms_dn at hd ⊢; omega) hj hk hc, N.2⟩
theorem ms_NI_lev (N : ms_NI K h sl m T nx0 L (m L) 0 nx) : ms_NI K h sl m T nx0 (L + 1) 0 0 nx :=
  ⟨fun j k c hd hj hk hc => N.1 j k c (by
    unfold ms_dn at hd ⊢
    have h1 : j < L ∨ j = L := by omega
    rcases h1 with h1 | h1
    · exact Or.inl h1
    · subst h1; exact Or.inr ⟨rfl, Or.inl hk⟩) hj hk hc, N.2⟩
end NI
section ST
variable {tr hz lm K ht rd : Nat} {pl nx wd fi wo wc wk wn wg ki wl cc cr mo zm re fo : Nat → Nat}
variable {G Lg : Nat → Bool}
theorem ms_st133 {post : SX → Prop} {sl N : Nat} (hh : hz ≤ 6) (hsl : sl < 4) (hN : N ≤ 12) (hr : ∀ k, k < N → cr (hz * 12 + k) < 256) (hg : ∀ k, k < N → wg (cr (hz * 12 + k)) = (G (cr (hz * 12 + k))).toNat)
    (H : ∀ F : Nat, F < 2 ^ N → (∀ k, k < N → F.testBit k = G (cr (hz * 12 + k))) → post ((nI tr), (nI hz), (nI lm), (nI K), (nI ht), (nI rd), (ms_F pl), (ms_F nx), (ms_F (ms_U wd (sl * 7 + hz) N)), (ms_F (ms_U fi sl F)), (ms_F wo), (ms_F wc), (ms_F wk), (ms_F wn), (ms_F wg), (ms_F ki), (ms_F wl), (ms_F cc), (ms_F cr), (ms_F mo), (ms_F zm), (ms_F re), (ms_F fo))) : ∃ n, wX_store_133 post (nI sl) (nI N) (nI tr) (nI hz) (nI lm) (nI K) (nI ht) (nI rd) (ms_F pl) (ms_F nx) (ms_F wd) (ms_F fi) (ms_F wo) (ms_F wc) (ms_F wk) (ms_F wn) (ms_F wg) (ms_F ki) (ms_F wl) (ms_F cc) (ms_F cr) (ms_F mo) (ms_F zm) (ms_F re) (ms_F fo) n (nI 0) (nI 0) :=
  loop_0 (fun n i (F : Nat) => wX_store_133 post (nI sl) (nI N) (nI tr) (nI hz) (nI lm) (nI K) (nI ht) (nI rd) (ms_F pl) (ms_F nx) (ms_F wd) (ms_F fi) (ms_F wo) (ms_F wc) (ms_F wk) (ms_F wn) (ms_F wg) (ms_F ki) (ms_F wl) (ms_F cc) (ms_F cr) (ms_F mo) (ms_F zm) (ms_F re) (ms_F fo) n (nI F) (nI i)) (fun i F => F < 2 ^ i ∧ ∀ k, k < i → F.testBit k = G (cr (hz * 12 + k))) N 0 ⟨by decide, fun k hk => absurd hk (Nat.not_lt_zero k)⟩
    (fun n F hI => br_t (nI_le (Nat.le_refl N) (by omega)) (And.intro (ms_in (ms_7 sl hz) (by omega) (by decide)) (nm_r (ms_up (ms_7 sl hz) (by omega) rfl) (And.intro (ms_in rfl hsl (by decide)) (nm_r (ms_up rfl (by omega) rfl) (H F hI.1 hI.2))))))
    (fun n i F hi hI k => br_f (nI_ge hi (by omega)) (And.intro (ms_in (ms_12 hz i) (by omega) (by decide)) (And.intro (ms_in (ms_rd (ms_12 hz i) (by omega)) (hr i hi) (by decide)) (by
      rw [ms_rd (ms_12 hz i) (by omega)]
      have e1 := hr i hi
      rw [ms_rdn (by omega), hg i hi]
      have hFi : F.testBit i = false := Nat.testBit_lt_two_pow hI.1
      refine ms_brz _ rfl (fun e => nm_r (nI_1 i) (k F ⟨?_, fun x hx => ?_⟩)) (fun e => nm_r (e' := nI (F ||| 2 ^ i)) (by rw [ms_shl1 (by omega), nx_or]) (nm_r (nI_1 i) (k _ ⟨?_, fun x hx => ?_⟩)))
      · rw [Nat.pow_succ]; omega
      · by_cases e2 : x = i
        · subst e2; rw [hFi, e]
        · exact hI.2 x (by omega)
      · refine Nat.or_lt_two_pow (by rw [Nat.pow_succ]; omega) (by rw [Nat.pow_succ]; have := Nat.two_pow_pos i; omega)
      · rw [Nat.testBit_or, Nat.testBit_two_pow]
        by_cases e2 : x = i
        · subst e2; rw [hFi, e]; simp
        · rw [hI.2 x (by omega)]
          have : decide (i = x) = false := by simp; omega
          rw [this, Bool.or_false]))))
theorem ms_st55 {post : SX → Prop} {J2 J32 : Int32 → (Nat → Int32) → (Nat → Int32) → (Nat → Int32) → (Nat → Int32) → (Nat → Int32) → (Nat → Int32) → (Nat → Int32) → (Nat → Int32) → (Nat → Int32) → (Nat → Int32) → (Nat → Int32) → (Nat → Int32) → (Nat → Int32) → (Nat → Int32) → (Nat → Int32) → (Nat → Int32) → (Nat → Int32) → Prop} {sl j N k : Nat} {nx0 : Nat → Nat} (hh : hz ≤ 6) (hK : K ≤ 8) (hsl : sl < 4) (hj : j < hz) (hm : ∀ j, j ≤ hz → cc j ≤ 12) (hk : k < cc j) (hr : cr (j * 12 + k) < 256) (htt : ∀ c, c < K → wn ((j * 256 + cr (j * 12 + k)) * 8 + c) < 256)
    (Hj : ∀ nx : Nat → Nat, ms_NI K hz sl cc (fun j k c => wl ((j + 1) * 256 + wn ((j * 256 + cr (j * 12 + k)) * 8 + c))) nx0 j (k + 1) 0 nx → J32 (nI (k + 1)) (ms_F pl) (ms_F nx) (ms_F wd) (ms_F fi) (ms_F wo) (ms_F wc) (ms_F wk) (ms_F wn) (ms_F wg) (ms_F ki) (ms_F wl) (ms_F cc) (ms_F cr) (ms_F mo) (ms_F zm) (ms_F re) (ms_F fo)) (I : ms_NI K hz sl cc (fun j k c => wl ((j + 1) * 256 + wn ((j * 256 + cr (j * 12 + k)) * 8 + c))) nx0 j k 0 nx) : ∃ n, wX_store_55 post J2 J32 (nI sl) (nI j) (nI N) (nI k) (nI (cr (j * 12 + k))) (nI tr) (nI hz) (nI lm) (nI K) (nI ht) (nI rd) n (nI 0) (ms_F pl) (ms_F nx) (ms_F wd) (ms_F fi) (ms_F wo) (ms_F wc) (ms_F wk) (ms_F wn) (ms_F wg) (ms_F ki) (ms_F wl) (ms_F cc) (ms_F cr) (ms_F mo) (ms_F zm) (ms_F re) (ms_F fo) :=
  have hm1 := hm j (by omega)
  loop_0 (fun n i (s : Nat → Nat) => wX_store_55 post J2 J32 (nI sl) (nI j) (nI N) (nI k) (nI (cr (j * 12 + k))) (nI tr) (nI hz) (nI lm) (nI K) (nI ht) (nI rd) n (nI i) (ms_F pl) (ms_F s) (ms_F wd) (ms_F fi) (ms_F wo) (ms_F wc) (ms_F wk) (ms_F wn) (ms_F wg) (ms_F ki) (ms_F wl) (ms_F cc) (ms_F cr) (ms_F mo) (ms_F zm) (ms_F re) (ms_F fo)) (fun i s => ms_NI K hz sl cc (fun j k c => wl ((j + 1) * 256 + wn ((j * 256 + cr (j * 12 + k)) * 8 + c))) nx0 j k i s) K nx I
    (fun n s hI => br_t (nI_le (Nat.le_refl K) (by omega)) (nm_r (nI_1 k) (Hj s (ms_NI_row hI))))
    (fun n i s hi hI kk => br_f (nI_ge hi (by omega)) (ms_targetClass (by omega) hr (by omega) (htt i hi) (And.intro (ms_in (ms_N sl j k i) (by omega) (by decide)) (nm_r (ms_up (ms_N sl j k i) (by omega) rfl) (nm_r (nI_1 i) (kk _ (ms_NI_step hK hh hm hj hk hi hI)))))))
theorem ms_st32 {post : SX → Prop} {J2 : Int32 → (Nat → Int32) → (Nat → Int32) → (Nat → Int32) → (Nat → Int32) → (Nat → Int32) → (Nat → Int32) → (Nat → Int32) → (Nat → Int32) → (Nat → Int32) → (Nat → Int32) → (Nat → Int32) → (Nat → Int32) → (Nat → Int32) → (Nat → Int32) → (Nat → Int32) → (Nat → Int32) → (Nat → Int32) → Prop} {sl j : Nat} {nx0 : Nat → Nat} (hh : hz ≤ 6) (hK : K ≤ 8) (hsl : sl < 4) (hj : j < hz) (hm : ∀ j, j ≤ hz → cc j ≤ 12) (hr : ∀ k, k < cc j → cr (j * 12 + k) < 256) (htt : ∀ k c, k < cc j → c < K → wn ((j * 256 + cr (j * 12 + k)) * 8 + c) < 256)
    (Hj : ∀ nx : Nat → Nat, ms_NI K hz sl cc (fun j k c => wl ((j + 1) * 256 + wn ((j * 256 + cr (j * 12 + k)) * 8 + c))) nx0 (j + 1) 0 0 nx → J2 (nI (j + 1)) (ms_F pl) (ms_F nx) (ms_F wd) (ms_F fi) (ms_F wo) (ms_F wc) (ms_F wk) (ms_F wn) (ms_F wg) (ms_F ki) (ms_F wl) (ms_F cc) (ms_F cr) (ms_F mo) (ms_F zm) (ms_F re) (ms_F fo)) (I : ms_NI K hz sl cc (fun j k c => wl ((j + 1) * 256 + wn ((j * 256 + cr (j * 12 + k)) * 8 + c))) nx0 j 0 0 nx) : ∃ n, wX_store_32 post J2 (nI sl) (nI j) (nI (cc j)) (nI tr) (nI hz) (nI lm) (nI K) (nI ht) (nI rd) n (nI 0) (ms_F pl) (ms_F nx) (ms_F wd) (ms_F fi) (ms_F wo) (ms_F wc) (ms_F wk) (ms_F wn) (ms_F wg) (ms_F ki) (ms_F wl) (ms_F cc) (ms_F cr) (ms_F mo) (ms_F zm) (ms_F re) (ms_F fo) :=
  have hm1 := hm j (by omega)
  loop_0 (fun n i (s : Nat → Nat) => wX_store_32 post J2 (nI sl) (nI j) (nI (cc j)) (nI tr) (nI hz) (nI lm) (nI K) (nI ht) (nI rd) n (nI i) (ms_F pl) (ms_F s) (ms_F wd) (ms_F fi) (ms_F wo) (ms_F wc) (ms_F wk) (ms_F wn) (ms_F wg) (ms_F ki) (ms_F wl) (ms_F cc) (ms_F cr) (ms_F mo) (ms_F zm) (ms_F re) (ms_F fo)) (fun i s => ms_NI K hz sl cc (fun j k c => wl ((j + 1) * 256 + wn ((j * 256 + cr (j * 12 + k)) * 8 + c))) nx0 j i 0 s) (cc j) nx I
    (fun n s hI => br_t (nI_le (Nat.le_refl _) (by omega)) (nm_r (nI_1 j) (Hj s (ms_NI_lev hI))))
    (fun n i s hi hI kk => br_f (nI_ge hi (by omega)) (And.intro (ms_in (ms_12 j i) (by omega) (by decide)) (nm_r (ms_rd (ms_12 j i) (by omega)) (ms_st55 hh hK hsl hj hm hi (hr i hi) (fun c hc => htt i c hi hc) (fun nx N => kk nx N) hI))))
theorem ms_store {post : SX → Prop} {sl : Nat} (hh : hz ≤ 6) (hK0 : 0 < K) (hK : K ≤ 8) (hM : lm ≤ 12) (hsl : sl < 4) (A : ms_WA K hz wc (fun j s c => wn ((j * 256 + s) * 8 + c)) G Lg) (hG : ∀ s, s < wc hz → wg s = (G s).toNat) (C : ∀ j', j' ≤ hz → ms_CL K hz lm wc (fun j s c => wn ((j * 256 + s) * 8 + c)) G wl cr cc j')
    (H : ∀ nx' wd' fi' : Nat → Nat, ms_Slot K hz lm nx' wd' fi' sl Lg → ms_fr sl nx wd fi nx' wd' fi' → post ((nI tr), (nI hz), (nI lm), (nI K), (nI ht), (nI rd), (ms_F pl), (ms_F nx'), (ms_F wd'), (ms_F fi'), (ms_F wo), (ms_F wc), (ms_F wk), (ms_F wn), (ms_F wg), (ms_F ki), (ms_F wl), (ms_F cc), (ms_F cr), (ms_F mo), (ms_F zm), (ms_F re), (ms_F fo))) : wpX_store post ((nI tr), (nI hz), (nI lm), (nI K), (nI ht), (nI rd), (ms_F pl), (ms_F nx), (ms_F wd), (ms_F fi), (ms_F wo), (ms_F wc), (ms_F wk), (ms_F wn), (ms_F wg), (ms_F ki), (ms_F wl), (ms_F cc), (ms_F cr), (ms_F mo), (ms_F zm), (ms_F re), (ms_F fo)) (nI sl) := by
  have hm : ∀ j, j ≤ hz → cc j ≤ 12 := fun j hj => Nat.le_trans (C j hj).1 hM
  have hr : ∀ j k, j ≤ hz → k < cc j → cr (j * 12 + k) < wc j := fun j k hj hk => ((C j hj).2.2.2 k hk).1
  have Lp : ∃ n, wX_store_2 post (nI sl) (nI tr) (nI hz) (nI lm) (nI K) (nI ht) (nI rd) n (nI 0) (ms_F pl) (ms_F nx) (ms_F wd) (ms_F fi) (ms_F wo) (ms_F wc) (ms_F wk) (ms_F wn) (ms_F wg) (ms_F ki) (ms_F wl) (ms_F cc) (ms_F cr) (ms_F mo) (ms_F zm) (ms_F re) (ms_F fo) :=
    loop_0 (fun n i (s : (Nat → Nat) × (Nat → Nat)) => wX_store_2 post (nI sl) (nI tr) (nI hz) (nI lm) (nI K) (nI ht) (nI rd) n (nI i) (ms_F pl) (ms_F s.1) (ms_F s.2) (ms_F fi) (ms_F wo) (ms_F wc) (ms_F wk) (ms_F wn) (ms_F wg) (ms_F ki) (ms_F wl) (ms_F cc) (ms_F cr) (ms_F mo) (ms_F zm) (ms_F re) (ms_F fo)) (fun i s => ms_NI K hz sl cc (fun j k c => wl ((j + 1) * 256 + wn ((j * 256 + cr (j * 12 + k)) * 8 + c))) nx i 0 0 s.1 ∧ (∀ j, j < i → s.2 (sl * 7 + j) = cc j) ∧ (∀ x, ¬ (sl * 7 ≤ x ∧ x < sl * 7 + 7) → s.2 x = wd x)) hz (nx, wd)
      ⟨⟨fun j k c hd => by unfold ms_dn at hd; omega, fun x _ => rfl⟩, fun j hj => absurd hj (Nat.not_lt_zero j), fun x _ => rfl⟩
      (fun n s hI => br_t (nI_le (Nat.le_refl hz) (by omega)) (And.intro (ms_in rfl (by omega) (by decide)) (nm_r (ms_rd (A := cc) rfl (by omega)) (ms_st133 (G := G) hh hsl (hm hz (Nat.le_refl hz)) (fun k hk => Nat.lt_of_lt_of_le (hr hz k (Nat.le_refl hz) hk) (A.2.1 hz (Nat.le_refl hz))) (fun k hk => hG _ (hr hz k (Nat.le_refl hz) hk)) (fun F hF hb => by
        refine H _ _ _ ?_ ⟨hI.1.2, fun x hx => ?_, fun x hx => ms_Un hx⟩
        · unfold ms_Slot
          rw [ms_Us]
          refine ms_Aut_congr hK0 (ms_min hK0 A C hF hb) (fun j hj => ?_) (fun j s c hj hs hc => ?_)
          · by_cases e : j = hz
            · subst e; rw [ms_Us]
            · try dsimp only
              rw [ms_Un (by omega)]
              exact (hI.2.1 j (by omega)).symm
          · exact (hI.1.1 j s c (Or.inl hj) hj hs hc).symm
        · rw [ms_Un (by omega)]; exact hI.2.2 x hx)))))
      (fun n i s hi hI k => br_f (nI_ge hi (by omega)) (And.intro (ms_in rfl (by omega) (by decide)) (nm_r (ms_rd (A := cc) rfl (by omega)) (And.intro (ms_in (ms_7 sl i) (by omega) (by decide)) (nm_r (ms_up (A := s.2) (ms_7 sl i) (by omega) rfl) (ms_st32 hh hK hsl hi hm (fun k hk => Nat.lt_of_lt_of_le (hr i k (by omega) hk) (A.2.1 i (by omega))) (fun k c hk hc => Nat.lt_of_lt_of_le (A.2.2.1 i _ c hi (hr i k (by omega) hk) hc) (A.2.1 (i + 1) (by omega))) (fun nx N => k (nx, ms_U s.2 (sl * 7 + i) (cc i)) ⟨N, fun j hj => by
        try dsimp only
        by_cases e : j = i
        · subst e; exact ms_Us
        · rw [ms_Un (by omega)]; exact hI.2.1 j (by omega), fun x hx => by
        try dsimp only
        rw [ms_Un (by omega)]; exact hI.2.2 x hx⟩) hI.1))))))
  exact Lp
theorem ms_settle {post : Int32 → SX → Prop} {sl : Nat} (hh : hz ≤ 6) (hK0 : 0 < K) (hK : K ≤ 8) (hM : lm ≤ 12) (hsl : sl < 4) (A : ms_WA K hz wc (fun j s c => wn ((j * 256 + s) * 8 + c)) G Lg) (hG : ∀ s, s < wc hz → wg s = (G s).toNat)
    (Hok : ∀ nx' wd' fi' wl cc cr : Nat → Nat, ms_Slot K hz lm nx' wd' fi' sl Lg → ms_fr sl nx wd fi nx' wd' fi' → post 0 ((nI tr), (nI hz), (nI lm), (nI K), (nI ht), (nI rd), (ms_F pl), (ms_F nx'), (ms_F wd'), (ms_F fi'), (ms_F wo), (ms_F wc), (ms_F wk), (ms_F wn), (ms_F wg), (ms_F ki), (ms_F wl), (ms_F cc), (ms_F cr), (ms_F mo), (ms_F zm), (ms_F re), (ms_F fo)))
    (Hno : ∀ wl cc cr : Nat → Nat, (∃ j, j ≤ hz ∧ ∀ w, ms_isW (ms_eqv K hz Lg j) (K ^ j) w → lm < w) → post (-4) ((nI tr), (nI hz), (nI lm), (nI K), (nI ht), (nI rd), (ms_F pl), (ms_F nx), (ms_F wd), (ms_F fi), (ms_F wo), (ms_F wc), (ms_F wk), (ms_F wn), (ms_F wg), (ms_F ki), (ms_F wl), (ms_F cc), (ms_F cr), (ms_F mo), (ms_F zm), (ms_F re), (ms_F fo))) : wpX_settle post ((nI tr), (nI hz), (nI lm), (nI K), (nI ht), (nI rd), (ms_F pl), (ms_F nx), (ms_F wd), (ms_F fi), (ms_F wo), (ms_F wc), (ms_F wk), (ms_F wn), (ms_F wg), (ms_F ki), (ms_F wl), (ms_F cc), (ms_F cr), (ms_F mo), (ms_F zm), (ms_F re), (ms_F fo)) (nI sl) := by
  have key : ∀ i, i ≤ hz + 1 → ∀ wl cc cr : Nat → Nat, (∀ j', i ≤ j' → j' ≤ hz → ms_CL K hz lm wc (fun j s c => wn ((j * 256 + s) * 8 + c)) G wl cr cc j') → wX_settle_5 post (nI sl) (i + 1) (nI i + (-1)) (nI tr) (nI hz) (nI lm) (nI K) (nI ht) (nI rd) (ms_F pl) (ms_F nx) (ms_F wd) (ms_F fi) (ms_F wo) (ms_F wc) (ms_F wk) (ms_F wn) (ms_F wg) (ms_F ki) (ms_F wl) (ms_F cc) (ms_F cr) (ms_F mo) (ms_F zm) (ms_F re) (ms_F fo) := by
    intro i
    induction i with
    | zero =>
      intro _ wl cc cr C
      refine br_t (by decide) ?_
      exact ms_store hh hK0 hK hM hsl A hG (fun j' hj' => C j' (by omega) hj') (fun nx' wd' fi' a b => Hok nx' wd' fi' wl cc cr a b)
    | succ i ih =>
      intro hi wl cc cr C
      rw [pk_m1 i]
      refine br_f (nI_pos (by omega)) ?_
      refine ms_classify hh hK0 hK hM (by omega) A hG (fun j' h1 h2 => C j' (by omega) h2) (fun wl cr cc C' => br_f (by decide) (nm_e (ih (by omega) wl cc cr C'))) (fun wl cr hw => br_t rfl (Hno wl cc cr ⟨i, by omega, hw⟩))
  have e := key (hz + 1) (Nat.le_refl _) wl cc cr (fun j' h1 h2 => by omega)
  rw [pk_m1] at e
  exact ⟨_, e⟩
end ST
end
section
/-! the reference: columns, sets, changed, copy, alike, widthAt, tooWide -/
def ms_col (K h c n : Nat) : Nat := c / K ^ (h - 1 - n) % K
theorem ms_vbn {v : Nat} (h : v ≤ 1) : vp_nar .boolean (nI v) = nI v := by
  have : v = 0 ∨ v = 1 := by omega
  rcases this with e | e <;> subst e <;> decide
theorem ms_neg1 : (-1 : Int32) = nI 4294967295 := by decide
theorem ms_anot (a b : Nat) : nI a &&& (nI b ^^^ (-1)) = nI (a &&& (b ^^^ 4294967295)) := by
  rw [ms_neg1, nx_xor, nx_and]
theorem ms_ones (i : Nat) : Nat.testBit 4294967295 i = decide (i < 32) := by
  have := Nat.testBit_two_pow_sub_one 32 i
  exact this
theorem ms_col_bit {t h c n b : Nat} (hb : b < t) : (ms_col (2 ^ t) h c n).testBit b = c.testBit (t * (h - 1 - n) + b) := by
  unfold ms_col
  rw [ms_pw, Nat.testBit_mod_two_pow, Nat.testBit_div_two_pow]
  simp [hb, Nat.add_comm]
theorem ms_col_lt {K h c n : Nat} (hK : 0 < K) : ms_col K h c n < K := Nat.mod_lt _ hK
/-- a code is its columns -/
theorem ms_col_ext {t h c c' : Nat} (hc : c < 2 ^ (t * h)) (hc' : c' < 2 ^ (t * h)) (ht : 0 < t) (H : ∀ n b, n < h → b < t → (ms_col (2 ^ t) h c n).testBit b = (ms_col (2 ^ t) h c' n).testBit b) : c = c' := by
  apply Nat.eq_of_testBit_eq
  intro i
  by_cases hi : i < t * h
  · have h1 : i / t < h := Nat.div_lt_of_lt_mul hi
    have h4 : i % t < t := Nat.mod_lt _ ht
    have h5 : t * (i / t) + i % t = i := Nat.div_add_mod i t
    generalize i / t = a at h1 h5
    generalize i % t = b at h4 h5
    have h2 := H (h - 1 - a) b (by omega) h4
    rw [ms_col_bit h4, ms_col_bit h4] at h2
    have h3 : h - 1 - (h - 1 - a) = a := by omega
    rw [h3, h5] at h2
    exact h2
  · have h1 : 2 ^ (t * h) ≤ 2 ^ i := Nat.pow_le_pow_right (by decide) (by omega)
    rw [Nat.testBit_lt_two_pow (by omega), Nat.testBit_lt_two_pow (by omega)]
section YB
variable {tr hz lm ht rd : Nat} {wo tb : Nat → Nat}
variable {K : Nat}
theorem ms_pwb (h12 : tr * hz ≤ 12) : 2 ^ (tr * hz) ≤ 4096 := Nat.pow_le_pow_right (n := 2) (by decide) h12
theorem ms_size {post : Int32 → Prop} (h12 : tr * hz ≤ 12) (hKd : K = 2 ^ tr) (H : post (nI (K ^ hz))) : wpY_size post ((nI tr), (nI hz), (nI lm), (nI ht), (nI rd), (ms_F wo), (ms_F tb)) :=
  ms_at post (by rw [pk_mul, ms_shl1 (by omega), hKd, ms_pw]) H
theorem ms_columnOf {post : Int32 → Prop} {c n : Nat} (ht3 : tr ≤ 3) (hh : hz ≤ 6) (hKd : K = 2 ^ tr) (hn : n < hz) (hc : c < 2 ^ 31) (H : post (nI (ms_col K hz c n))) : wpY_columnOf post ((nI tr), (nI hz), (nI lm), (nI ht), (nI rd), (ms_F wo), (ms_F tb)) (nI c) (nI n) := by
  have b1 : tr * (hz - 1 - n) ≤ 3 * 5 := Nat.mul_le_mul ht3 (by omega)
  have e : (nI c >>> ((nI tr * ((nI hz - 1) - nI n)) &&& 31)) &&& (((1 : Int32) <<< (nI tr &&& 31)) - 1) = nI (ms_col K hz c n) := by
    rw [ms_top hn, pk_mul, ms_shr hc (by omega), ms_shl1 (by omega), show (1 : Int32) = nI 1 from rfl, pk_sub (Nat.two_pow_pos tr), nx_and, Nat.and_two_pow_sub_one_eq_mod]
    unfold ms_col
    rw [hKd, ms_pw]
  exact ms_at post e H
theorem ms_setOf {post : Int32 → Prop} {c v : Nat} (ht3 : tr ≤ 3) (hh : hz ≤ 6) (hKd : K = 2 ^ tr) (hv : v < 32) (hc : c < 2 ^ 31) (H : ∀ M, M < 2 ^ hz → (∀ n, n < hz → M.testBit n = (ms_col K hz c n).testBit v) → post (nI M)) : wpY_setOf post ((nI tr), (nI hz), (nI lm), (nI ht), (nI rd), (ms_F wo), (ms_F tb)) (nI c) (nI v) := by
  have hK8 : K ≤ 8 := by rw [hKd]; exact Nat.pow_le_pow_right (n := 2) (by decide) ht3
  have hK0 : 0 < K := by rw [hKd]; exact Nat.two_pow_pos tr
  have Lp : ∃ n, wY_setOf_5 post (nI c) (nI v) (nI tr) (nI hz) (nI lm) (nI ht) (nI rd) (ms_F wo) (ms_F tb) n (nI 0) (nI 0) :=
    loop_0 (fun n i (M : Nat) => wY_setOf_5 post (nI c) (nI v) (nI tr) (nI hz) (nI lm) (nI ht) (nI rd) (ms_F wo) (ms_F tb) n (nI M) (nI i)) (fun i M => M < 2 ^ i ∧ ∀ n, n < i → M.testBit n = (ms_col K hz c n).testBit v) hz 0 ⟨by decide, fun n hn => absurd hn (Nat.not_lt_zero n)⟩
      (fun n M hI => br_t (nI_le (Nat.le_refl hz) (by omega)) (H M hI.1 hI.2))
      (fun n i M hi hI k => br_f (nI_ge hi (by omega)) (ms_columnOf ht3 hh hKd hi hc (by
        have hcl := ms_col_lt (h := hz) (c := c) (n := i) hK0
        have hMi : M.testBit i = false := Nat.testBit_lt_two_pow hI.1
        refine ms_brb _ (ms_bitB (by omega) hv) (fun e => nm_r (e' := nI (M ||| 2 ^ i)) (by rw [ms_shl1 (by omega), nx_or]) (nm_r (nI_1 i) (k _ ⟨?_, fun x hx => ?_⟩))) (fun e => nm_r (nI_1 i) (k M ⟨?_, fun x hx => ?_⟩))
        · refine Nat.or_lt_two_pow (by rw [Nat.pow_succ]; omega) (by rw [Nat.pow_succ]; have := Nat.two_pow_pos i; omega)
        · rw [Nat.testBit_or, Nat.testBit_two_pow]
          by_cases e2 : x = i
          · subst e2; rw [hMi, e]; simp
          · rw [hI.2 x (by omega)]
            have : decide (i = x) = false := by simp; omega
            rw [this, Bool.or_false]
        · rw [Nat.pow_succ]; omega
        · by_cases e2 : x = i
          · subst e2; rw [hMi, e]
          · exact hI.2 x (by omega))))
  exact Lp
theorem ms_setb {R p : Nat} (s : Bool) (hp : p < 31) : (∀ x, x < 32 → ((R &&& (2 ^ p ^^^ 4294967295)) ||| (if s then 2 ^ p else 0)).testBit x = if x = p then s else R.testBit x) := by
  intro x hx
  rw [Nat.testBit_or, Nat.testBit_and, Nat.testBit_xor, ms_ones, Nat.testBit_two_pow]
  by_cases e : x = p
  · subst e
    cases s <;> simp [hx]
  · have e2 : ¬ p = x := fun h => e h.symm
    cases s <;> simp [hx, e, e2]
theorem ms_changed {post : Int32 → Prop} {c v s : Nat} (ht3 : tr ≤ 3) (hh : hz ≤ 6) (h12 : tr * hz ≤ 12) (hKd : K = 2 ^ tr) (hv : v < tr) (hc : c < K ^ hz) (hs : s < 2 ^ 31) (H : ∀ R, R < K ^ hz → (∀ n b, n < hz → b < tr → (ms_col K hz R n).testBit b = if b = v then s.testBit n else (ms_col K hz c n).testBit b) → post (nI R)) : wpY_changed post ((nI tr), (nI hz), (nI lm), (nI ht), (nI rd), (ms_F wo), (ms_F tb)) (nI c) (nI v) (nI s) := by
  have h4096 := ms_pwb h12
  subst hKd
  rw [ms_pw] at hc H
  have Lp : ∃ n, wY_changed_6 post (nI v) (nI s) (nI tr) (nI hz) (nI lm) (nI ht) (nI rd) (ms_F wo) (ms_F tb) n (nI c) (nI 0) :=
    loop_0 (fun n i (R : Nat) => wY_changed_6 post (nI v) (nI s) (nI tr) (nI hz) (nI lm) (nI ht) (nI rd) (ms_F wo) (ms_F tb) n (nI R) (nI i)) (fun i R => R < 2 ^ (tr * hz) ∧ ∀ n b, n < hz → b < tr → R.testBit (tr * (hz - 1 - n) + b) = if b = v ∧ n < i then s.testBit n else c.testBit (tr * (hz - 1 - n) + b)) hz c ⟨hc, fun n b hn hb => by rw [if_neg (by omega)]⟩
      (fun n R hI => br_t (nI_le (Nat.le_refl hz) (by omega)) (H R hI.1 (fun n b hn hb => by
        rw [ms_col_bit hb, ms_col_bit hb, hI.2 n b hn hb]
        simp only [hn, and_true])))
      (fun n i R hi hI k => br_f (nI_ge hi (by omega)) (by
        have b1 : tr * (hz - 1 - i) + tr ≤ tr * hz := by
          have : hz - 1 - i + 1 ≤ hz := by omega
          have := Nat.mul_le_mul_left tr this
          rw [Nat.mul_add, Nat.mul_one] at this
          exact this
        have hpos : tr * (hz - 1 - i) + v < tr * hz := by omega
        have hp31 : tr * (hz - 1 - i) + v < 31 := by omega
        have e1 : (1 : Int32) <<< (((nI tr * ((nI hz - 1) - nI i)) + nI v) &&& 31) = nI (2 ^ (tr * (hz - 1 - i) + v)) := by
          rw [ms_top hi, pk_mul, nI_add, ms_shl1 hp31]
        have inj : ∀ n b, n < hz → b < tr → tr * (hz - 1 - n) + b = tr * (hz - 1 - i) + v → n = i ∧ b = v := by
          intro n b hn hb e
          have : tr = 1 ∨ tr = 2 ∨ tr = 3 := by omega
          rcases this with h | h | h <;> subst h <;> omega
        have stp : ∀ sb : Bool, s.testBit i = sb → ((R &&& (2 ^ (tr * (hz - 1 - i) + v) ^^^ 4294967295)) ||| (if sb then 2 ^ (tr * (hz - 1 - i) + v) else 0)) < 2 ^ (tr * hz) ∧ ∀ n b, n < hz → b < tr → ((R &&& (2 ^ (tr * (hz - 1 - i) + v) ^^^ 4294967295)) ||| (if sb then 2 ^ (tr * (hz - 1 - i) + v) else 0)).testBit (tr * (hz - 1 - n) + b) = if b = v ∧ n < i + 1 then s.testBit n else c.testBit (tr * (hz - 1 - n) + b) := by
          intro sb hsb
          refine ⟨Nat.or_lt_two_pow (Nat.lt_of_le_of_lt Nat.and_le_left hI.1) ?_, fun n b hn hb => ?_⟩
          · split
            · exact Nat.pow_lt_pow_right (by decide) hpos
            · exact Nat.two_pow_pos _
          · have b2 : tr * (hz - 1 - n) + tr ≤ tr * hz := by
              have : hz - 1 - n + 1 ≤ hz := by omega
              have := Nat.mul_le_mul_left tr this
              rw [Nat.mul_add, Nat.mul_one] at this
              exact this
            rw [ms_setb sb hp31 _ (by omega)]
            by_cases e : tr * (hz - 1 - n) + b = tr * (hz - 1 - i) + v
            · obtain ⟨n1, n2⟩ := inj n b hn hb e
              subst n1 n2
              rw [if_pos rfl, if_pos ⟨rfl, by omega⟩, hsb]
            · rw [if_neg e, hI.2 n b hn hb]
              by_cases e2 : b = v ∧ n < i
              · rw [if_pos e2, if_pos ⟨e2.1, by omega⟩]
              · rw [if_neg e2, if_neg (fun e3 => by
                  by_cases e4 : n = i
                  · subst e4; obtain ⟨e5, _⟩ := e3; subst e5; exact e rfl
                  · exact e2 ⟨e3.1, by omega⟩)]
        refine nm_r e1 (nm_r (ms_anot _ _) (ms_brb _ (ms_bitB hs (by omega)) (fun e => nm_r (nx_or _ _) (nm_r (nI_1 i) (k _ ?_))) (fun e => nm_r (nI_1 i) (k _ ?_))))
        · have := stp true e
          rw [if_pos rfl] at this
          exact this
        · have := stp false e
          simp only [Bool.false_eq_true, if_false, Nat.or_zero] at this
          exact this))
  exact Lp
theorem ms_copy {post : SY → Prop} {a b : Nat} (h12 : tr * hz ≤ 12) (hKd : K = 2 ^ tr) (ha : a + 4096 ≤ 20480) (hb : b + 4096 ≤ 20480) (hd : a + 4096 ≤ b ∨ b + 4096 ≤ a) (hv : ∀ c, c < K ^ hz → tb (a + c) ≤ 1)
    (H : ∀ tb' : Nat → Nat, (∀ c, c < K ^ hz → tb' (b + c) = tb (a + c)) → (∀ x, x < b ∨ b + 4096 ≤ x → tb' x = tb x) → post ((nI tr), (nI hz), (nI lm), (nI ht), (nI rd), (ms_F wo), (ms_F tb'))) : wpY_copy post ((nI tr), (nI hz), (nI lm), (nI ht), (nI rd), (ms_F wo), (ms_F tb)) (nI a) (nI b) := by
  have h4096 : K ^ hz ≤ 4096 := by rw [hKd, ms_pw]; exact ms_pwb h12
  unfold wpY_copy
  try dsimp only
  refine ms_size h12 hKd ?_
  exact loop_0 (fun n i (s : Nat → Nat) => wY_copy_8 post (nI a) (nI b) (nI (K ^ hz)) (nI tr) (nI hz) (nI lm) (nI ht) (nI rd) n (nI i) (ms_F wo) (ms_F s)) (fun i s => (∀ c, c < i → s (b + c) = tb (a + c)) ∧ (∀ x, x < b ∨ b + 4096 ≤ x → s x = tb x)) (K ^ hz) tb ⟨fun c hc => absurd hc (Nat.not_lt_zero c), fun x _ => rfl⟩
      (fun n s hI => br_t (nI_le (Nat.le_refl _) (by omega)) (H s hI.1 hI.2))
      (fun n i s hi hI k => br_f (nI_ge hi (by omega)) (And.intro (ms_in (nI_add a i) (by omega) (by decide)) (And.intro (ms_in (nI_add b i) (by omega) (by decide)) (nm_r (ms_up (v := tb (a + i)) (nI_add b i) (by omega) (by
        rw [ms_rd (nI_add a i) (by omega), hI.2 (a + i) (by omega)]
        exact ms_vbn (hv i hi))) (nm_r (nI_1 i) (k _ ⟨fun c hc => by
          by_cases e : c = i
          · subst e; exact ms_Us
          · rw [ms_Un (by omega)]; exact hI.1 c (by omega), fun x hx => by
          rw [ms_Un (by omega)]; exact hI.2 x hx⟩))))))
theorem ms_yalike {post : Int32 → Prop} {Lb : Nat → Bool} {base j p q : Nat} (ht3 : tr ≤ 3) (h12 : tr * hz ≤ 12) (hKd : K = 2 ^ tr) (hbs : base + 4096 ≤ 20480) (hL : ∀ c, c < K ^ hz → tb (base + c) = (Lb c).toNat) (hj : j ≤ hz) (hp : p < K ^ j) (hq : q < K ^ j) (h1 : ms_eqv K hz Lb j p q → post 1) (h0 : ¬ ms_eqv K hz Lb j p q → post 0) : wpY_alike post ((nI tr), (nI hz), (nI lm), (nI ht), (nI rd), (ms_F wo), (ms_F tb)) (nI base) (nI j) (nI p) (nI q) := by
  have h4096 : K ^ hz ≤ 4096 := by rw [hKd, ms_pw]; exact ms_pwb h12
  have b1 : tr * (hz - j) ≤ tr * hz := Nat.mul_le_mul_left _ (by omega)
  have e : (1 : Int32) <<< ((nI tr * (nI hz - nI j)) &&& 31) = nI (K ^ (hz - j)) := by
    rw [pk_sub hj, pk_mul, ms_shl1 (by omega), hKd, ms_pw]
  have cb : ∀ p, p < K ^ j → ∀ r, r < K ^ (hz - j) → p * K ^ (hz - j) + r < K ^ hz := by
    intro p hp r hr
    have := ms_join hp hr
    rw [Nat.add_sub_cancel' hj] at this
    exact this
  have ei : ∀ p r, (nI base + nI p * nI (K ^ (hz - j))) + nI r = nI (base + (p * K ^ (hz - j) + r)) := by
    intro p r
    rw [pk_mul, nI_add, nI_add, Nat.add_assoc]
  have hR : K ^ (hz - j) ≤ 4096 := by
    rw [hKd, ms_pw]
    exact Nat.pow_le_pow_right (n := 2) (j := 12) (by decide) (by omega)
  refine nm_r e ?_
  exact loop_0 (fun n i (_ : Unit) => wY_alike_18 post (nI base) (nI p) (nI q) (nI (K ^ (hz - j))) (nI tr) (nI hz) (nI lm) (nI ht) (nI rd) (ms_F wo) (ms_F tb) n (nI i)) (fun i _ => ∀ r, r < i → Lb (p * K ^ (hz - j) + r) = Lb (q * K ^ (hz - j) + r)) (K ^ (hz - j)) () (fun r hr => absurd hr (Nat.not_lt_zero r))
      (fun n _ hI => br_t (nI_le (Nat.le_refl _) (by omega)) (h1 hI))
      (fun n i _ hi hI k => by
        have c1 := cb p hp i hi
        have c2 := cb q hq i hi
        refine br_f (nI_ge hi (by omega)) (And.intro (ms_in (ei p i) (by omega) (by decide)) (And.intro (ms_in (ei q i) (by omega) (by decide)) ?_))
        rw [ms_rd (ei p i) (by omega), ms_rd (ei q i) (by omega), hL _ c1, hL _ c2]
        refine br_c (fun e => nm_r (nI_1 i) (k () (fun r hr => ?_))) (fun e => h0 (fun E => e ?_))
        · by_cases e2 : r = i
          · subst e2
            cases g1 : Lb (p * K ^ (hz - j) + r) <;> cases g2 : Lb (q * K ^ (hz - j) + r) <;> rw [g1, g2] at e
            · exact absurd e (by decide)
            · exact absurd e (by decide)
          · exact hI r (by omega)
        · rw [E i hi])
theorem ms_isW_0 {R : Nat → Nat → Prop} : ms_isW R 0 0 := ⟨fun _ => 0, fun p hp => absurd hp (Nat.not_lt_zero p), fun p q hp => absurd hp (Nat.not_lt_zero p), fun p hp => absurd hp (Nat.not_lt_zero p)⟩
theorem ms_isW_new {R : Nat → Nat → Prop} {N w : Nat} (hr : ∀ p, R p p) (hs : ∀ p q, R p q → R q p) (H : ms_isW R N w) (hn : ∀ q, q < N → ¬ R N q) : ms_isW R (N + 1) (w + 1) := by
  obtain ⟨g, g1, g2, g3⟩ := H
  have old : ∀ p, p < N → ms_U g N w p = g p := fun p hp => ms_Un (by omega)
  refine ⟨ms_U g N w, fun p hp => ?_, fun p q hp hq => ?_, fun k hk => ?_⟩
  · by_cases e : p = N
    · subst e; rw [ms_Us]; omega
    · rw [old p (by omega)]; have := g1 p (by omega); omega
  · by_cases e : p = N
    · subst e
      by_cases e2 : q = p
      · subst e2; exact ⟨fun _ => hr _, fun _ => rfl⟩
      · rw [ms_Us, old q (by omega)]
        have := g1 q (by omega)
        exact ⟨fun a => by omega, fun a => absurd a (hn q (by omega))⟩
    · by_cases e2 : q = N
      · subst e2
        rw [ms_Us, old p (by omega)]
        have := g1 p (by omega)
        exact ⟨fun a => by omega, fun a => absurd (hs _ _ a) (hn p (by omega))⟩
      · rw [old p (by omega), old q (by omega)]
        exact g2 p q (by omega) (by omega)
  · by_cases e : k = w
    · subst e; exact ⟨N, by omega, ms_Us⟩
    · obtain ⟨p, hp, ep⟩ := g3 k (by omega)
      exact ⟨p, by omega, by rw [old p hp]; exact ep⟩
theorem ms_isW_old {R : Nat → Nat → Prop} {N w q0 : Nat} (hr : ∀ p, R p p) (hs : ∀ p q, R p q → R q p) (htr : ∀ p q r, R p q → R q r → R p r) (H : ms_isW R N w) (hq : q0 < N) (hn : R N q0) : ms_isW R (N + 1) w := by
  obtain ⟨g, g1, g2, g3⟩ := H
  have old : ∀ p, p < N → ms_U g N (g q0) p = g p := fun p hp => ms_Un (by omega)
  refine ⟨ms_U g N (g q0), fun p hp => ?_, fun p q hp hq' => ?_, fun k hk => ?_⟩
  · by_cases e : p = N
    · subst e; rw [ms_Us]; exact g1 q0 hq
    · rw [old p (by omega)]; exact g1 p (by omega)
  · by_cases e : p = N
    · subst e
      by_cases e2 : q = p
      · subst e2; exact ⟨fun _ => hr _, fun _ => rfl⟩
      · rw [ms_Us, old q (by omega), g2 q0 q hq (by omega)]
        exact ⟨fun a => htr _ _ _ hn a, fun a => htr _ _ _ (hs _ _ hn) a⟩
    · by_cases e2 : q = N
      · subst e2
        rw [ms_Us, old p (by omega), g2 p q0 (by omega) hq]
        exact ⟨fun a => htr _ _ _ a (hs _ _ hn), fun a => htr _ _ _ a hn⟩
      · rw [old p (by omega), old q (by omega)]
        exact g2 p q (by omega) (by omega)
  · obtain ⟨p, hp, ep⟩ := g3 k hk
    exact ⟨p, by omega, by rw [old p hp]; exact ep⟩
theorem ms_widthAt {post : Int32 → Prop} {Lb : Nat → Bool} {base j : Nat} (ht3 : tr ≤ 3) (hh : hz ≤ 6) (h12 : tr * hz ≤ 12) (hKd : K = 2 ^ tr) (hbs : base + 4096 ≤ 20480) (hL : ∀ c, c < K ^ hz → tb (base + c) = (Lb c).toNat) (hj : j ≤ hz) (H : ∀ w, w ≤ 4096 → ms_isW (ms_eqv K hz Lb j) (K ^ j) w → post (nI w)) : wpY_widthAt post ((nI tr), (nI hz), (nI lm), (nI ht), (nI rd), (ms_F wo), (ms_F tb)) (nI base) (nI j) := by
  have b1 : tr * j ≤ tr * hz := Nat.mul_le_mul_left _ hj
  have hN : K ^ j ≤ 4096 := by
    rw [hKd, ms_pw]
    exact Nat.pow_le_pow_right (n := 2) (j := 12) (by decide) (by omega)
  have e : (1 : Int32) <<< ((nI tr * nI j) &&& 31) = nI (K ^ j) := by
    rw [pk_mul, ms_shl1 (by omega), hKd, ms_pw]
  have er : ∀ p, ms_eqv K hz Lb j p p := fun p r _ => rfl
  have es : ∀ p q, ms_eqv K hz Lb j p q → ms_eqv K hz Lb j q p := fun p q E r hr => (E r hr).symm
  have et : ∀ p q s, ms_eqv K hz Lb j p q → ms_eqv K hz Lb j q s → ms_eqv K hz Lb j p s := fun p q s E E' r hr => (E r hr).trans (E' r hr)
  refine nm_r e ?_
  exact loop_0 (fun n i (w : Nat) => wY_widthAt_15 post (nI base) (nI j) (nI (K ^ j)) (nI tr) (nI hz) (nI lm) (nI ht) (nI rd) (ms_F wo) (ms_F tb) n (nI w) (nI i)) (fun i w => w ≤ i ∧ ms_isW (ms_eqv K hz Lb j) i w) (K ^ j) 0 ⟨Nat.le_refl 0, ms_isW_0⟩
    (fun n w hI => br_t (nI_le (Nat.le_refl _) (by omega)) (H w (by omega) hI.2))
    (fun n p w hp hI k => by
      have f1 : ∀ (m : Nat) (y : Int32), (∃ q, q < p ∧ ms_eqv K hz Lb j p q) → wY_widthAt_30 post (wY_widthAt_15 post (nI base) (nI j) (nI (K ^ j)) (nI tr) (nI hz) (nI lm) (nI ht) (nI rd) (ms_F wo) (ms_F tb) n) (nI base) (nI j) (nI (K ^ j)) (nI w) (nI p) (nI tr) (nI hz) (nI lm) (nI ht) (nI rd) (ms_F wo) (ms_F tb) (m + 1) 1 y := by
        intro m y hx
        obtain ⟨q, hq, E⟩ := hx
        have g : wY_widthAt_58 post (wY_widthAt_15 post (nI base) (nI j) (nI (K ^ j)) (nI tr) (nI hz) (nI lm) (nI ht) (nI rd) (ms_F wo) (ms_F tb) n) (nI base) (nI j) (nI (K ^ j)) (nI w) (nI p) 1 (nI tr) (nI hz) (nI lm) (nI ht) (nI rd) (ms_F wo) (ms_F tb) :=
          br_f (by decide) (nm_r (nI_1 p) (k w ⟨by omega, ms_isW_old er es et hI.2 hq E⟩))
        exact br_c (fun _ => g) (fun _ => br_f (by decide) g)
      have f0 : ∀ i, i ≤ p → (∀ q, i ≤ q → q < p → ¬ ms_eqv K hz Lb j p q) → wY_widthAt_30 post (wY_widthAt_15 post (nI base) (nI j) (nI (K ^ j)) (nI tr) (nI hz) (nI lm) (nI ht) (nI rd) (ms_F wo) (ms_F tb) n) (nI base) (nI j) (nI (K ^ j)) (nI w) (nI p) (nI tr) (nI hz) (nI lm) (nI ht) (nI rd) (ms_F wo) (ms_F tb) (i + 2) 0 (nI i + (-1)) := by
        intro i
        induction i with
        | zero =>
          intro _ hn
          exact br_t (by decide) (br_t rfl (nm_r (nI_1 w) (nm_r (nI_1 p) (k (w + 1) ⟨by omega, ms_isW_new er es hI.2 (fun q hq => hn q (by omega) hq)⟩))))
        | succ i ih =>
          intro hi hn
          rw [pk_m1 i]
          refine br_f (nI_pos (by omega)) (br_t rfl (ms_yalike ht3 h12 hKd hbs hL hj hp (by omega) (fun E => ?_) (fun E => ?_)))
          · exact nm_e (f1 _ _ ⟨i, by omega, E⟩)
          · exact nm_e (ih (by omega) (fun q h1 h2 => by
              by_cases e : q = i
              · subst e; exact E
              · exact hn q (by omega) h2))
      refine br_f (nI_ge hp (by omega)) (nm_r (ms_subm p) ⟨_, f0 p (Nat.le_refl p) (fun q h1 h2 => by omega)⟩))
theorem ms_tooWide {post : Int32 → Prop} {Lb : Nat → Bool} (ht3 : tr ≤ 3) (hh : hz ≤ 6) (h12 : tr * hz ≤ 12) (hM : lm ≤ 12) (hKd : K = 2 ^ tr) (hL : ∀ c, c < K ^ hz → tb (16384 + c) = (Lb c).toNat) (H0 : (∀ j, j ≤ hz → ∃ w, ms_isW (ms_eqv K hz Lb j) (K ^ j) w ∧ w ≤ lm) → post 0) (H1 : (∃ j, j ≤ hz ∧ ∃ w, ms_isW (ms_eqv K hz Lb j) (K ^ j) w ∧ lm < w) → post 1) : wpY_tooWide post ((nI tr), (nI hz), (nI lm), (nI ht), (nI rd), (ms_F wo), (ms_F tb)) := by
  have Lp : ∃ n, wY_tooWide_2 post (nI tr) (nI hz) (nI lm) (nI ht) (nI rd) (ms_F wo) (ms_F tb) n (nI 0) :=
    loop_0 (fun n i (_ : Unit) => wY_tooWide_2 post (nI tr) (nI hz) (nI lm) (nI ht) (nI rd) (ms_F wo) (ms_F tb) n (nI i)) (fun i _ => ∀ j, j < i → ∃ w, ms_isW (ms_eqv K hz Lb j) (K ^ j) w ∧ w ≤ lm) (hz + 1) () (fun j hj => absurd hj (Nat.not_lt_zero j))
      (fun n _ hI => br_t (nI_lt (by omega) (by omega)) (H0 (fun j hj => hI j (by omega))))
      (fun n i _ hi hI k => br_f (nI_nlt (by omega) (by omega)) (by
        refine ms_widthAt (base := 16384) ht3 hh h12 hKd (by decide) hL (by omega) (fun w hw hW => pk_le w lm (fun e => nm_r (nI_1 i) (k () (fun j hj => ?_))) (fun e => H1 ⟨i, by omega, w, hW, e⟩))
        by_cases e2 : j = i
        · subst e2; exact ⟨w, hW, e⟩
        · exact hI j (by omega)))
  exact Lp
end YB
end
section
/-! atoms: what the component's automaton accepts, what the reference says -/
theorem ms_rn_col {K h : Nat} {d : Nat → Nat → Nat → Nat} {q c n : Nat} (hn : n < h) : ms_rn K d 0 q (n + 1) (c / K ^ (h - (n + 1))) = d n (ms_rn K d 0 q n (c / K ^ (h - n))) (ms_col K h c n) := by
  rw [ms_rn_s]
  have e : h - n = (h - (n + 1)) + 1 := by omega
  have e2 : h - 1 - n = h - (n + 1) := by omega
  rw [Nat.div_div_eq_div_mul, ← Nat.pow_succ, show (h - (n + 1)).succ = h - n from by omega, Nat.zero_add]
  unfold ms_col
  rw [e2]
def ms_ak (kind b : Nat) (A B : Nat → Bool) : Nat → Nat
  | 0 => 0
  | n + 1 => ms_as kind (ms_ak kind b A B n) (A n).toNat (B n).toNat (if n = b then 1 else 0)
theorem ms_ak_rn {K h kind a b c : Nat} {g : Nat → Nat → Nat → Nat} (hgd : ∀ j k c, g j k c = ms_as kind k (c / 2 ^ a % 2) (c / 2 ^ b % 2) (if j = b then 1 else 0)) : ∀ n, n ≤ h → ms_rn K g 0 0 n (c / K ^ (h - n)) = ms_ak kind b (fun n => (ms_col K h c n).testBit a) (fun n => (ms_col K h c n).testBit b) n := by
  intro n
  induction n with
  | zero => intro _; rfl
  | succ n ih =>
    intro hn
    rw [ms_rn_col (by omega), ih (by omega), hgd, ms_tb, ms_tb]
    rfl
section AK
variable {kind b : Nat} {A B : Nat → Bool}
theorem ms_ak_V (V : Nat → Bool → Bool → Bool) (hV : ∀ k n, (k = 0 ∨ k = 2) → ms_as kind k (A n).toNat (B n).toNat (if n = b then 1 else 0) = if k = 2 ∨ V n (A n) (B n) = true then 2 else 0) : ∀ n, (ms_ak kind b A B n = 2 ∧ ∃ j, j < n ∧ V j (A j) (B j) = true) ∨ (ms_ak kind b A B n = 0 ∧ ∀ j, j < n → V j (A j) (B j) = false) := by
  intro n
  induction n with
  | zero => exact Or.inr ⟨rfl, fun j hj => absurd hj (Nat.not_lt_zero j)⟩
  | succ n ih =>
    show (ms_as kind (ms_ak kind b A B n) (A n).toNat (B n).toNat (if n = b then 1 else 0) = 2 ∧ _) ∨ (ms_as kind (ms_ak kind b A B n) (A n).toNat (B n).toNat (if n = b then 1 else 0) = 0 ∧ _)
    rcases ih with ⟨e, j, hj, hv⟩ | ⟨e, hv⟩
    · rw [e, hV 2 n (Or.inr rfl), if_pos (Or.inl rfl)]
      exact Or.inl ⟨rfl, j, by omega, hv⟩
    · rw [e, hV 0 n (Or.inl rfl)]
      cases hx : V n (A n) (B n)
      · rw [if_neg (by simp)]
        refine Or.inr ⟨rfl, fun j hj => ?_⟩
        by_cases e2 : j = n
        · subst e2; exact hx
        · exact hv j (by omega)
      · rw [if_pos (Or.inr rfl)]
        exact Or.inl ⟨rfl, n, by omega, hx⟩
theorem ms_acc_V (hk : kind ≠ 6) (hk4 : kind ≠ 4) (V : Nat → Bool → Bool → Bool) (hV : ∀ k n, (k = 0 ∨ k = 2) → ms_as kind k (A n).toNat (B n).toNat (if n = b then 1 else 0) = if k = 2 ∨ V n (A n) (B n) = true then 2 else 0) (h : Nat) : ms_acc kind (ms_ak kind b A B h) = true ↔ ∀ j, j < h → V j (A j) (B j) = false := by
  unfold ms_acc
  rw [if_neg hk, if_neg hk4]
  rcases ms_ak_V V hV h with ⟨e, j, hj, hv⟩ | ⟨e, hv⟩
  · rw [e]
    constructor
    · intro x; simp at x
    · intro x; rw [x j hj] at hv; exact absurd hv (by decide)
  · rw [e]
    exact ⟨fun _ => hv, fun _ => by decide⟩
theorem ms_acc0 (hk : kind = 0) (h : Nat) : ms_acc kind (ms_ak kind b A B h) = true ↔ ∀ j, j < h → (A j && !B j) = false := by
  subst hk
  exact ms_acc_V (by decide) (by decide) (fun _ x y => x && !y) (fun k n hk => by
    rcases hk with e | e <;> subst e <;> cases A n <;> cases B n <;> simp [ms_as]) h
theorem ms_acc1 (hk : kind = 1) (h : Nat) : ms_acc kind (ms_ak kind b A B h) = true ↔ ∀ j, j < h → (A j != B j) = false := by
  subst hk
  exact ms_acc_V (by decide) (by decide) (fun _ x y => x != y) (fun k n hk => by
    rcases hk with e | e <;> subst e <;> cases A n <;> cases B n <;> simp [ms_as]) h
theorem ms_acc2 (hk : kind = 2) (h : Nat) : ms_acc kind (ms_ak kind b A B h) = true ↔ ∀ j, j < h → (A j && B j) = false := by
  subst hk
  exact ms_acc_V (by decide) (by decide) (fun _ x y => x && y) (fun k n hk => by
    rcases hk with e | e <;> subst e <;> cases A n <;> cases B n <;> simp [ms_as]) h
theorem ms_acc3 (hk : kind = 3) (h : Nat) : ms_acc kind (ms_ak kind b A B h) = true ↔ ∀ j, j < h → (!A j && !B j) = false := by
  subst hk
  exact ms_acc_V (by decide) (by decide) (fun _ x y => !x && !y) (fun k n hk => by
    rcases hk with e | e <;> subst e <;> cases A n <;> cases B n <;> simp [ms_as]) h
theorem ms_acc7 (hk : kind = 7) {h : Nat} (hb : b < h) : ms_acc kind (ms_ak kind b A B h) = A b := by
  subst hk
  have := ms_acc_V (A := A) (B := B) (b := b) (kind := 7) (by decide) (by decide) (fun n x _ => decide (n = b) && !x) (fun k n hk => by
    by_cases e2 : n = b <;> rcases hk with e | e <;> subst e <;> cases A n <;> cases B n <;> simp [ms_as, e2]) h
  cases hx : A b
  · cases hy : ms_acc 7 (ms_ak 7 b A B h)
    · rfl
    · have h2 := this.mp hy b hb
      rw [hx] at h2
      simp at h2
  · refine this.mpr (fun j hj => ?_)
    by_cases e : j = b
    · subst e; rw [hx]; simp
    · simp [e]
def ms_pv (A : Nat → Bool) : Nat → Bool
  | 0 => false
  | n + 1 => A n
theorem ms_ak4 : ∀ n, (ms_ak 4 b A B n = 2 ∧ ∃ j, j < n ∧ B j ≠ ms_pv A j) ∨ (ms_ak 4 b A B n = (ms_pv A n).toNat ∧ ∀ j, j < n → B j = ms_pv A j) := by
  intro n
  induction n with
  | zero => exact Or.inr ⟨rfl, fun j hj => absurd hj (Nat.not_lt_zero j)⟩
  | succ n ih =>
    show (ms_as 4 (ms_ak 4 b A B n) (A n).toNat (B n).toNat (if n = b then 1 else 0) = 2 ∧ _) ∨ (ms_as 4 (ms_ak 4 b A B n) (A n).toNat (B n).toNat (if n = b then 1 else 0) = (A n).toNat ∧ _)
    rcases ih with ⟨e, j, hj, hv⟩ | ⟨e, hv⟩
    · rw [e]
      exact Or.inl ⟨by simp [ms_as], j, by omega, hv⟩
    · rw [e]
      by_cases hx : B n = ms_pv A n
      · refine Or.inr ⟨?_, fun j hj => ?_⟩
        · rw [hx]; cases ms_pv A n <;> cases A n <;> simp [ms_as]
        · by_cases e2 : j = n
          · subst e2; exact hx
          · exact hv j (by omega)
      · refine Or.inl ⟨?_, n, by omega, hx⟩
        cases hp : ms_pv A n <;> cases hb : B n <;> rw [hp, hb] at hx <;> simp_all [ms_as]
theorem ms_acc4 (hk : kind = 4) (h : Nat) : ms_acc kind (ms_ak kind b A B h) = true ↔ (∀ j, j < h → B j = ms_pv A j) ∧ ms_pv A h = false := by
  subst hk
  unfold ms_acc
  rw [if_neg (by decide), if_pos rfl]
  rcases ms_ak4 (b := b) (A := A) (B := B) h with ⟨e, j, hj, hv⟩ | ⟨e, hv⟩
  · rw [e]
    exact ⟨fun x => by simp at x, fun x => absurd (x.1 j hj) hv⟩
  · rw [e]
    cases ms_pv A h
    · exact ⟨fun _ => ⟨hv, rfl⟩, fun _ => by decide⟩
    · exact ⟨fun x => by simp at x, fun x => absurd x.2 (by decide)⟩
theorem ms_ak5 : ∀ n, (ms_ak 5 b A B n = 2 ∧ ∃ x y, x < n ∧ y ≤ x ∧ A x = true ∧ B y = true) ∨ ((∀ x y, x < n → y ≤ x → A x = true → B y = true → False) ∧ ((ms_ak 5 b A B n = 1 ∧ ∃ y, y < n ∧ B y = true) ∨ (ms_ak 5 b A B n = 0 ∧ ∀ y, y < n → B y = false))) := by
  intro n
  induction n with
  | zero => exact Or.inr ⟨fun x y hx => absurd hx (Nat.not_lt_zero x), Or.inr ⟨rfl, fun j hj => absurd hj (Nat.not_lt_zero j)⟩⟩
  | succ n ih =>
    have st : ms_ak 5 b A B (n + 1) = ms_as 5 (ms_ak 5 b A B n) (A n).toNat (B n).toNat (if n = b then 1 else 0) := rfl
    rw [st]
    rcases ih with ⟨e, x, y, hx, hy, h1, h2⟩ | ⟨hv, ⟨e, y, hy, h2⟩ | ⟨e, h2⟩⟩
    · rw [e]
      exact Or.inl ⟨by simp [ms_as], x, y, by omega, hy, h1, h2⟩
    · rw [e]
      cases hA : A n
      · refine Or.inr ⟨fun x z hx hz a1 a2 => ?_, Or.inl ⟨?_, y, by omega, h2⟩⟩
        · by_cases e2 : x = n
          · subst e2; rw [hA] at a1; exact absurd a1 (by decide)
          · exact hv x z (by omega) hz a1 a2
        · cases B n <;> simp [ms_as]
      · refine Or.inl ⟨?_, n, y, by omega, by omega, hA, h2⟩
        cases B n <;> simp [ms_as]
    · rw [e]
      cases hB : B n
      · refine Or.inr ⟨fun x z hx hz a1 a2 => ?_, Or.inr ⟨?_, fun y hy => ?_⟩⟩
        · by_cases e2 : x = n
          · subst e2
            by_cases e3 : z = x
            · subst e3; rw [hB] at a2; exact absurd a2 (by decide)
            · rw [h2 z (by omega)] at a2; exact absurd a2 (by decide)
          · exact hv x z (by omega) hz a1 a2
        · cases A n <;> simp [ms_as]
        · by_cases e2 : y = n
          · subst e2; exact hB
          · exact h2 y (by omega)
      · cases hA : A n
        · refine Or.inr ⟨fun x z hx hz a1 a2 => ?_, Or.inl ⟨?_, n, by omega, hB⟩⟩
          · by_cases e2 : x = n
            · subst e2; rw [hA] at a1; exact absurd a1 (by decide)
            · exact hv x z (by omega) hz a1 a2
          · simp [ms_as]
        · exact Or.inl ⟨by simp [ms_as], n, n, by omega, by omega, hA, hB⟩
theorem ms_acc5 (hk : kind = 5) (h : Nat) : ms_acc kind (ms_ak kind b A B h) = true ↔ ∀ x y, x < h → y ≤ x → A x = true → B y = true → False := by
  subst hk
  unfold ms_acc
  rw [if_neg (by decide), if_neg (by decide)]
  rcases ms_ak5 (b := b) (A := A) (B := B) h with ⟨e, x, y, hx, hy, h1, h2⟩ | ⟨hv, ⟨e, _⟩ | ⟨e, _⟩⟩
  · rw [e]
    exact ⟨fun z => by simp at z, fun z => absurd (z x y hx hy h1 h2) id⟩
  · rw [e]; exact ⟨fun _ => hv, fun _ => by decide⟩
  · rw [e]; exact ⟨fun _ => hv, fun _ => by decide⟩
def ms_ct (A : Nat → Bool) : Nat → Nat
  | 0 => 0
  | n + 1 => ms_ct A n + (A n).toNat
theorem ms_ak6 : ∀ n, ms_ak 6 b A B n = if ms_ct A n ≤ 2 then ms_ct A n else 2 := by
  intro n
  induction n with
  | zero => rfl
  | succ n ih =>
    show ms_as 6 (ms_ak 6 b A B n) (A n).toNat (B n).toNat (if n = b then 1 else 0) = if ms_ct A n + (A n).toNat ≤ 2 then ms_ct A n + (A n).toNat else 2
    rw [ih]
    have : (A n).toNat ≤ 1 := Bool.toNat_le _
    unfold ms_as
    (repeat' split) <;> omega
theorem ms_acc6 (hk : kind = 6) (h : Nat) : ms_acc kind (ms_ak kind b A B h) = decide (ms_ct A h = 1) := by
  subst hk
  unfold ms_acc
  rw [if_pos rfl, ms_ak6]
  by_cases e : ms_ct A h = 1
  · rw [if_pos (by omega)]
  · have : ¬ (if ms_ct A h ≤ 2 then ms_ct A h else 2) = 1 := by split <;> omega
    simp [e, this]
end AK
theorem ms_ext2 {h X Y : Nat} (hX : X < 2 ^ h) (hY : Y < 2 ^ h) : X = Y ↔ ∀ n, n < h → X.testBit n = Y.testBit n := by
  constructor
  · intro e n _; rw [e]
  · intro H
    apply Nat.eq_of_testBit_eq
    intro i
    by_cases hi : i < h
    · exact H i hi
    · have h1 : 2 ^ h ≤ 2 ^ i := Nat.pow_le_pow_right (by decide) (by omega)
      rw [Nat.testBit_lt_two_pow (by omega), Nat.testBit_lt_two_pow (by omega)]
theorem ms_ext0 {h X : Nat} (hX : X < 2 ^ h) : X = 0 ↔ ∀ n, n < h → X.testBit n = false := by
  rw [ms_ext2 hX (Nat.two_pow_pos h)]
  simp only [Nat.zero_testBit]
theorem ms_brI {x y : Int32} {P A B : Prop} (e : x = y ↔ P) (f : P → A) (g : ¬ P → B) : (x = y → A) ∧ (¬ x = y → B) := by
  rw [e]; exact ⟨f, g⟩
section AH
variable {tr hz lm ht rd : Nat} {wo tb : Nat → Nat}
variable {K : Nat}
theorem ms_ah43 {post : Int32 → Prop} {M : Nat} {A : Nat → Bool} (hh : hz ≤ 6) (hM : M < 2 ^ hz) (hA : ∀ n, n < hz → M.testBit n = A n) (H : post (nI (decide (ms_ct A hz = 1)).toNat)) : ∃ n, wY_atomHolds_43 post (nI M) (nI tr) (nI hz) (nI lm) (nI ht) (nI rd) (ms_F wo) (ms_F tb) n (nI 0) (nI 0) := by
  have h64 : 2 ^ hz ≤ 2 ^ 6 := Nat.pow_le_pow_right (by decide) hh
  exact loop_0 (fun n i (s : Nat) => wY_atomHolds_43 post (nI M) (nI tr) (nI hz) (nI lm) (nI ht) (nI rd) (ms_F wo) (ms_F tb) n (nI s) (nI i)) (fun i s => s = ms_ct A i ∧ s ≤ i) hz 0 ⟨rfl, Nat.le_refl 0⟩
    (fun n s hI => br_t (nI_le (Nat.le_refl hz) (by omega)) (by
      rw [← hI.1] at H
      refine pk_eq s 1 (fun e => ?_) (fun e => ?_)
      · simp only [e, decide_true] at H; exact H
      · simp only [e, decide_false] at H; exact H))
    (fun n i s hi hI k => br_f (nI_ge hi (by omega)) (nm_r (e' := nI (s + (A i).toNat)) (by rw [ms_bitB (by omega) (by omega), hA i hi, nI_add]) (nm_r (nI_1 i) (k _ ⟨by rw [hI.1]; rfl, by have := Bool.toNat_le (A i); omega⟩))))
theorem ms_ah198 {post : Int32 → Prop} {MA MB : Nat} {A B : Nat → Bool} (hh : hz ≤ 6) (hMA : MA < 2 ^ hz) (hMB : MB < 2 ^ hz) (hA : ∀ n, n < hz → MA.testBit n = A n) (hB : ∀ n, n < hz → MB.testBit n = B n) (H1 : (∀ x y, x < hz → y ≤ x → A x = true → B y = true → False) → post 1) (H0 : ¬ (∀ x y, x < hz → y ≤ x → A x = true → B y = true → False) → post 0) : ∃ n, wY_atomHolds_198 post (nI MA) (nI MB) (nI tr) (nI hz) (nI lm) (nI ht) (nI rd) (ms_F wo) (ms_F tb) n (nI 0) := by
  have h64 : 2 ^ hz ≤ 2 ^ 6 := Nat.pow_le_pow_right (by decide) hh
  exact loop_0 (fun n i (_ : Unit) => wY_atomHolds_198 post (nI MA) (nI MB) (nI tr) (nI hz) (nI lm) (nI ht) (nI rd) (ms_F wo) (ms_F tb) n (nI i)) (fun i _ => ∀ x y, x < i → y ≤ x → A x = true → B y = true → False) hz () (fun x y hx => absurd hx (Nat.not_lt_zero x))
    (fun n s hI => br_t (nI_le (Nat.le_refl hz) (by omega)) (H1 hI))
    (fun n i s hi hI k => br_f (nI_ge hi (by omega)) (loop_0 (fun m j (_ : Unit) => wY_atomHolds_210 post (wY_atomHolds_198 post (nI MA) (nI MB) (nI tr) (nI hz) (nI lm) (nI ht) (nI rd) (ms_F wo) (ms_F tb) n) (nI MA) (nI MB) (nI i) (nI tr) (nI hz) (nI lm) (nI ht) (nI rd) (ms_F wo) (ms_F tb) m (nI j)) (fun j _ => ∀ y, y < j → A i = true → B y = true → False) (i + 1) () (fun y hy => absurd hy (Nat.not_lt_zero y))
      (fun m _ hJ => br_t (nI_lt (by omega) (by omega)) (nm_r (nI_1 i) (k () (fun x y hx hy a1 a2 => by
        by_cases e : x = i
        · subst e; exact hJ y (by omega) a1 a2
        · exact hI x y (by omega) hy a1 a2))))
      (fun m j _ hj hJ kk => br_f (nI_nlt (by omega) (by omega)) (by
        refine ms_brb _ (ms_bitB (by omega) (by omega)) (fun e => ms_brb _ (ms_bitB (by omega) (by omega)) (fun e2 => ?_) (fun e2 => nm_r (nI_1 j) (kk () (fun y hy a1 a2 => ?_)))) (fun e => nm_r (nI_1 j) (kk () (fun y hy a1 a2 => ?_)))
        · rw [hA i hi] at e
          rw [hB j (by omega)] at e2
          exact H0 (fun z => z i j hi (by omega) e e2)
        · by_cases e3 : y = j
          · subst e3; rw [hB y (by omega), a2] at e2; exact absurd e2 (by decide)
          · exact hJ y (by omega) a1 a2
        · rw [hA i hi, a1] at e; exact absurd e (by decide)))))
theorem ms_atomHolds {post : Int32 → Prop} {kind a b c : Nat} {p2 : Int32} (ht3 : tr ≤ 3) (hh : hz ≤ 6) (hKd : K = 2 ^ tr) (hk : kind ≤ 7) (ha : a < tr) (hb7 : kind = 7 → b < hz) (hbv : kind ≠ 7 → kind ≠ 6 → b < tr) (hp2 : kind ≠ 6 → p2 = nI b) (hc : c < 2 ^ 31)
    (H : post (nI (ms_acc kind (ms_ak kind b (fun n => (ms_col K hz c n).testBit a) (fun n => (ms_col K hz c n).testBit b) hz)).toNat)) : wpY_atomHolds post ((nI tr), (nI hz), (nI lm), (nI ht), (nI rd), (ms_F wo), (ms_F tb)) (nI kind) (nI a) p2 (nI c) := by
  have h64 : 2 ^ hz ≤ 2 ^ 6 := Nat.pow_le_pow_right (by decide) hh
  unfold wpY_atomHolds
  try dsimp only
  refine ms_setOf ht3 hh hKd (by omega) hc (fun MA hMA hA => ?_)
  have lf : ∀ x : Bool, x = ms_acc kind (ms_ak kind b (fun n => (ms_col K hz c n).testBit a) (fun n => (ms_col K hz c n).testBit b) hz) → post (nI x.toNat) := fun x e => by rw [e]; exact H
  have L1 : ms_acc kind (ms_ak kind b (fun n => (ms_col K hz c n).testBit a) (fun n => (ms_col K hz c n).testBit b) hz) = true → post 1 := fun e => lf true e.symm
  have L0 : ¬ ms_acc kind (ms_ak kind b (fun n => (ms_col K hz c n).testBit a) (fun n => (ms_col K hz c n).testBit b) hz) = true → post 0 := fun e => lf false (Bool.eq_false_iff.mpr e).symm
  refine pk_eq kind 7 (fun e7 => ?_) (fun e7 => ?_)
  · have hb := hb7 e7
    rw [hp2 (by omega)]
    have ee := ms_acc7 (A := fun n => (ms_col K hz c n).testBit a) (B := fun n => (ms_col K hz c n).testBit b) e7 hb
    refine ms_brb _ (ms_bitB (by omega) (by omega)) (fun e => L1 ?_) (fun e => L0 ?_)
    · rw [ee]; (try dsimp only); rw [← hA b hb]; exact e
    · rw [ee]; (try dsimp only); rw [← hA b hb, e]; decide
  refine pk_eq kind 6 (fun e6 => ?_) (fun e6 => ?_)
  · refine ms_ah43 (A := fun n => (ms_col K hz c n).testBit a) hh hMA hA ?_
    rw [← ms_acc6 (b := b) (B := fun n => (ms_col K hz c n).testBit b) e6]
    exact H
  have hb := hbv e7 e6
  rw [hp2 e6]
  refine ms_setOf ht3 hh hKd (by omega) hc (fun MB hMB hB => ?_)
  refine pk_eq kind 0 (fun e => ?_) (fun e0 => ?_)
  · rw [ms_anot]
    have hle : MA &&& (MB ^^^ 4294967295) ≤ MA := Nat.and_le_left
    refine ms_brI (P := ∀ n, n < hz → ((ms_col K hz c n).testBit a && !(ms_col K hz c n).testBit b) = false) ?_ (fun x => L1 ((ms_acc0 e hz).mpr x)) (fun x => L0 (fun y => x ((ms_acc0 e hz).mp y)))
    rw [show (0 : Int32) = nI 0 from rfl, nI_eq (by omega) (by omega), ms_ext0 (h := hz) (by omega)]
    refine forall_congr' (fun n => imp_congr_right (fun hn => ?_))
    rw [Nat.testBit_and, Nat.testBit_xor, ms_ones, hA n hn, hB n hn]
    have : n < 32 := by omega
    simp [this]
  refine pk_eq kind 1 (fun e => ?_) (fun e1 => ?_)
  · refine ms_brI (P := ∀ n, n < hz → ((ms_col K hz c n).testBit a != (ms_col K hz c n).testBit b) = false) ?_ (fun x => L1 ((ms_acc1 e hz).mpr x)) (fun x => L0 (fun y => x ((ms_acc1 e hz).mp y)))
    rw [nI_eq (by omega) (by omega), ms_ext2 hMA hMB]
    refine forall_congr' (fun n => imp_congr_right (fun hn => ?_))
    rw [hA n hn, hB n hn]
    simp
  refine pk_eq kind 2 (fun e => ?_) (fun e2 => ?_)
  · rw [nx_and]
    have hle : MA &&& MB ≤ MA := Nat.and_le_left
    refine ms_brI (P := ∀ n, n < hz → ((ms_col K hz c n).testBit a && (ms_col K hz c n).testBit b) = false) ?_ (fun x => L1 ((ms_acc2 e hz).mpr x)) (fun x => L0 (fun y => x ((ms_acc2 e hz).mp y)))
    rw [show (0 : Int32) = nI 0 from rfl, nI_eq (by omega) (by omega), ms_ext0 (h := hz) (by omega)]
    refine forall_congr' (fun n => imp_congr_right (fun hn => ?_))
    rw [Nat.testBit_and, hA n hn, hB n hn]
  refine pk_eq kind 3 (fun e => ?_) (fun e3 => ?_)
  · have hor : MA ||| MB < 2 ^ hz := Nat.or_lt_two_pow hMA hMB
    have hpp := Nat.two_pow_pos hz
    rw [nx_or, ms_shl1 (by omega), show (1 : Int32) = nI 1 from rfl, pk_sub hpp]
    refine ms_brI (P := ∀ n, n < hz → (!(ms_col K hz c n).testBit a && !(ms_col K hz c n).testBit b) = false) ?_ (fun x => L1 ((ms_acc3 e hz).mpr x)) (fun x => L0 (fun y => x ((ms_acc3 e hz).mp y)))
    rw [nI_eq (by omega) (by omega), ms_ext2 hor (by omega)]
    refine forall_congr' (fun n => imp_congr_right (fun hn => ?_))
    rw [Nat.testBit_or, hA n hn, hB n hn, Nat.testBit_two_pow_sub_one]
    simp only [hn, decide_true]
    cases (ms_col K hz c n).testBit a <;> cases (ms_col K hz c n).testBit b <;> decide
  refine pk_eq kind 4 (fun e => ?_) (fun e4 => ?_)
  · have e10 : nI MA <<< ((1 : Int32) &&& 31) = nI (MA * 2) := ms_shl (a := MA) (b := 1) (by decide) (by omega)
    rw [e10]
    refine ms_brI (P := (∀ j, j < hz → (ms_col K hz c j).testBit b = ms_pv (fun n => (ms_col K hz c n).testBit a) j) ∧ ms_pv (fun n => (ms_col K hz c n).testBit a) hz = false) ?_ (fun x => L1 ((ms_acc4 e hz).mpr x)) (fun x => L0 (fun y => x ((ms_acc4 e hz).mp y)))
    have hMB2 : MB < 2 ^ (hz + 1) := by rw [Nat.pow_succ]; omega
    have hMA2 : MA * 2 < 2 ^ (hz + 1) := by rw [Nat.pow_succ]; omega
    have bits : ∀ j, j ≤ hz → (MA * 2).testBit j = ms_pv (fun n => (ms_col K hz c n).testBit a) j := by
      intro j hj
      cases j with
      | zero => rw [Nat.testBit_zero]; simp [ms_pv]
      | succ j =>
        rw [Nat.testBit_succ, Nat.mul_div_cancel _ (by decide)]
        exact hA j (by omega)
    rw [nI_eq (by omega) (by omega), ms_ext2 hMB2 hMA2]
    constructor
    · intro x
      refine ⟨fun j hj => ?_, ?_⟩
      · rw [← bits j (by omega), ← hB j hj]; exact x j (by omega)
      · rw [← bits hz (Nat.le_refl hz), ← x hz (by omega)]; exact Nat.testBit_lt_two_pow hMB
    · intro x n hn
      rw [bits n (by omega)]
      by_cases e9 : n = hz
      · subst e9; rw [x.2]; exact Nat.testBit_lt_two_pow hMB
      · rw [hB n (by omega)]; exact x.1 n (by omega)
  · exact ms_ah198 (A := fun n => (ms_col K hz c n).testBit a) (B := fun n => (ms_col K hz c n).testBit b) hh hMA hMB hA hB (fun x => L1 ((ms_acc5 (by omega) hz).mpr x)) (fun x => L0 (fun y => x ((ms_acc5 (by omega) hz).mp y)))
end AH
end
section
/-! quantifiers: words that differ in one track; the subset construction; the reference's search -/
noncomputable def ms_B (P : Prop) : Bool := @decide P (Classical.propDecidable P)
theorem ms_Bt {P : Prop} : ms_B P = true ↔ P := by unfold ms_B; exact @decide_eq_true_iff P (Classical.propDecidable P)
theorem ms_Bf {P : Prop} : ms_B P = false ↔ ¬ P := by
  have h := ms_Bt (P := P)
  constructor
  · intro e p
    rw [h.mpr p] at e
    exact absurd e (by decide)
  · intro p
    exact Bool.eq_false_iff.mpr (fun e => p (h.mp e))
def ms_vr (K bit : Nat) : Nat → Nat → Nat → Prop
  | 0, _, p' => p' = 0
  | n + 1, p, p' => ms_vr K bit n (p / K) (p' / K) ∧ (p' % K = p % K ∨ p' % K = (p % K) ^^^ bit)
theorem ms_vr_lt {K bit : Nat} (hK : 0 < K) : ∀ n p p', ms_vr K bit n p p' → p' < K ^ n := by
  intro n
  induction n with
  | zero => intro p p' h; have : p' = 0 := h; subst this; simp
  | succ n ih =>
    intro p p' h
    have h1 := ih _ _ h.1
    rw [Nat.pow_succ]
    exact (Nat.div_lt_iff_lt_mul hK).mp h1
def ms_im (d : Nat → Nat → Nat) (bit c mask : Nat) : Nat → Nat
  | 0 => 0
  | n + 1 => if mask.testBit n then ms_im d bit c mask n ||| (2 ^ d n c ||| 2 ^ d n (c ^^^ bit)) else ms_im d bit c mask n
theorem ms_im_bit {d : Nat → Nat → Nat} {bit c mask : Nat} : ∀ n q, (ms_im d bit c mask n).testBit q = true ↔ ∃ s, s < n ∧ mask.testBit s = true ∧ (d s c = q ∨ d s (c ^^^ bit) = q) := by
  intro n
  induction n with
  | zero => intro q; simp [ms_im]
  | succ n ih =>
    intro q
    have st : ms_im d bit c mask (n + 1) = if mask.testBit n then ms_im d bit c mask n ||| (2 ^ d n c ||| 2 ^ d n (c ^^^ bit)) else ms_im d bit c mask n := rfl
    rw [st]
    cases hm : mask.testBit n
    · simp only [Bool.false_eq_true, if_false]
      rw [ih q]
      constructor
      · rintro ⟨s, h1, h2⟩; exact ⟨s, by omega, h2⟩
      · rintro ⟨s, h1, h2, h3⟩
        refine ⟨s, ?_, h2, h3⟩
        by_cases e : s = n
        · subst e; rw [hm] at h2; exact absurd h2 (by decide)
        · omega
    · simp only [if_true]
      rw [Nat.testBit_or, Nat.testBit_or, Nat.testBit_two_pow, Nat.testBit_two_pow, Bool.or_eq_true, Bool.or_eq_true, ih q, decide_eq_true_iff, decide_eq_true_iff]
      constructor
      · rintro (⟨s, h1, h2⟩ | h)
        · exact ⟨s, by omega, h2⟩
        · exact ⟨n, by omega, hm, h⟩
      · rintro ⟨s, h1, h2, h3⟩
        by_cases e : s = n
        · subst e; exact Or.inr h3
        · exact Or.inl ⟨s, by omega, h2, h3⟩
theorem ms_im_lt {d : Nat → Nat → Nat} {bit c mask W n : Nat} (hd : ∀ s, s < n → d s c < W ∧ d s (c ^^^ bit) < W) : ms_im d bit c mask n < 2 ^ W := by
  apply Nat.lt_pow_two_of_testBit
  intro i hi
  cases hx : (ms_im d bit c mask n).testBit i
  · rfl
  · obtain ⟨s, h1, _, h3⟩ := (ms_im_bit n i).mp hx
    have := hd s h1
    omega
theorem ms_xx (c bit : Nat) : (c ^^^ bit) ^^^ bit = c := by
  apply Nat.eq_of_testBit_eq
  intro i
  rw [Nat.testBit_xor, Nat.testBit_xor]
  cases c.testBit i <;> cases bit.testBit i <;> rfl
theorem ms_im_sym {d : Nat → Nat → Nat} {bit c mask : Nat} : ∀ n, ms_im d bit (c ^^^ bit) mask n = ms_im d bit c mask n := by
  intro n
  apply Nat.eq_of_testBit_eq
  intro i
  rw [Bool.eq_iff_iff, ms_im_bit, ms_im_bit, ms_xx]
  constructor
  · rintro ⟨s, h1, h2, h3⟩; exact ⟨s, h1, h2, h3.symm⟩
  · rintro ⟨s, h1, h2, h3⟩; exact ⟨s, h1, h2, h3.symm⟩
/-- the subset construction -/
theorem ms_sub {K h bit : Nat} {w : Nat → Nat} {d g : Nat → Nat → Nat → Nat} (hK : 0 < K) (hbit : ∀ c, c < K → c ^^^ bit < K) (hw : 0 < w 0) (hd : ∀ j s c, j < h → s < w j → c < K → d j s c < w (j + 1)) (hg : ∀ j m c, j < h → g j m c = ms_im (d j) bit c m (w j)) : ∀ n p, n ≤ h → ∀ q, (ms_rn K g 0 1 n p).testBit q = true ↔ ∃ p', ms_vr K bit n p p' ∧ ms_rn K d 0 0 n p' = q := by
  intro n
  induction n with
  | zero =>
    intro p _ q
    rw [ms_rn_0]
    constructor
    · intro hq
      refine ⟨0, rfl, ?_⟩
      rw [ms_rn_0]
      rw [Nat.testBit_one_eq_true_iff_self_eq_zero] at hq
      exact hq.symm
    · rintro ⟨p', _, e⟩
      rw [ms_rn_0] at e
      subst e
      decide
  | succ n ih =>
    intro p hn q
    rw [ms_rn_s, Nat.zero_add, hg n _ _ (by omega), ms_im_bit]
    have hpm : p % K < K := Nat.mod_lt _ hK
    constructor
    · rintro ⟨s, h1, h2, h3⟩
      obtain ⟨p0, hv, e0⟩ := (ih (p / K) (by omega) s).mp h2
      have mk : ∀ x, x < K → (x = p % K ∨ x = (p % K) ^^^ bit) → d n s x = q → ∃ p', ms_vr K bit (n + 1) p p' ∧ ms_rn K d 0 0 (n + 1) p' = q := by
        intro x hx hxx hq
        have e1 : (p0 * K + x) / K = p0 := by
          rw [Nat.add_comm, Nat.add_mul_div_right _ _ hK, Nat.div_eq_of_lt hx, Nat.zero_add]
        have e2 : (p0 * K + x) % K = x := by
          rw [Nat.add_comm, Nat.add_mul_mod_self_right, Nat.mod_eq_of_lt hx]
        refine ⟨p0 * K + x, ⟨by rw [e1]; exact hv, by rw [e2]; exact hxx⟩, ?_⟩
        rw [ms_rn_s, e1, e2, e0, Nat.zero_add]
        exact hq
      rcases h3 with h3 | h3
      · exact mk _ hpm (Or.inl rfl) h3
      · exact mk _ (hbit _ hpm) (Or.inr rfl) h3
    · rintro ⟨p', ⟨hv, hx⟩, e⟩
      rw [ms_rn_s, Nat.zero_add] at e
      have hlt := ms_rn_lt (i := 0) (q := 0) hK hd hw n (p' / K) (by omega)
      rw [Nat.zero_add] at hlt
      refine ⟨ms_rn K d 0 0 n (p' / K), hlt, (ih (p / K) (by omega) _).mpr ⟨_, hv, rfl⟩, ?_⟩
      rcases hx with hx | hx
      · left; rw [← hx]; exact e
      · right; rw [← hx]; exact e
/-- the relation by columns -/
theorem ms_vr_col {K bit h c c' : Nat} (hK : 0 < K) : ∀ n, n ≤ h → (ms_vr K bit n (c / K ^ (h - n)) (c' / K ^ (h - n)) ↔ c' < K ^ h ∧ ∀ i, i < n → (ms_col K h c' i = ms_col K h c i ∨ ms_col K h c' i = (ms_col K h c i) ^^^ bit)) := by
  intro n
  induction n with
  | zero =>
    intro _
    show c' / K ^ (h - 0) = 0 ↔ _
    rw [Nat.sub_zero, Nat.div_eq_zero_iff]
    have : 0 < K ^ h := Nat.pow_pos hK
    constructor
    · intro x; exact ⟨by omega, fun i hi => absurd hi (Nat.not_lt_zero i)⟩
    · intro x; exact Or.inr x.1
  | succ n ih =>
    intro hn
    have e : h - n = (h - (n + 1)) + 1 := by omega
    have e2 : h - 1 - n = h - (n + 1) := by omega
    show (ms_vr K bit n (c / K ^ (h - (n + 1)) / K) (c' / K ^ (h - (n + 1)) / K) ∧ _) ↔ _
    rw [Nat.div_div_eq_div_mul, Nat.div_div_eq_div_mul, ← Nat.pow_succ, show (h - (n + 1)).succ = h - n from by omega, ih (by omega)]
    have cc : ∀ x, ms_col K h x n = x / K ^ (h - (n + 1)) % K := by
      intro x; unfold ms_col; rw [e2]
    rw [← cc c, ← cc c']
    constructor
    · rintro ⟨⟨h1, h2⟩, h3⟩
      refine ⟨h1, fun i hi => ?_⟩
      by_cases e3 : i = n
      · subst e3; exact h3
      · exact h2 i (by omega)
    · rintro ⟨h1, h2⟩
      exact ⟨⟨h1, fun i hi => h2 i (by omega)⟩, h2 n (by omega)⟩
theorem ms_mkset (f : Nat → Bool) : ∀ h, ∃ s, s < 2 ^ h ∧ ∀ n, n < h → s.testBit n = f n := by
  intro h
  induction h with
  | zero => exact ⟨0, by decide, fun n hn => absurd hn (Nat.not_lt_zero n)⟩
  | succ h ih =>
    obtain ⟨s, h1, h2⟩ := ih
    have hs : s.testBit h = false := Nat.testBit_lt_two_pow h1
    cases hf : f h
    · refine ⟨s, by rw [Nat.pow_succ]; omega, fun n hn => ?_⟩
      by_cases e : n = h
      · subst e; rw [hs, hf]
      · exact h2 n (by omega)
    · refine ⟨s ||| 2 ^ h, Nat.or_lt_two_pow (by rw [Nat.pow_succ]; omega) (by rw [Nat.pow_succ]; have := Nat.two_pow_pos h; omega), fun n hn => ?_⟩
      rw [Nat.testBit_or, Nat.testBit_two_pow]
      by_cases e : n = h
      · subst e; rw [hs, hf]; simp
      · rw [h2 n (by omega)]
        have : decide (h = n) = false := by simp; omega
        rw [this, Bool.or_false]
theorem ms_bits_lt {t a b : Nat} (ha : a < 2 ^ t) (hb : b < 2 ^ t) (H : ∀ i, i < t → a.testBit i = b.testBit i) : a = b := (ms_ext2 ha hb).mpr H
theorem ms_col_or {t v x y : Nat} (hv : v < t) (hx : x < 2 ^ t) (hy : y < 2 ^ t) : (x = y ∨ x = y ^^^ 2 ^ v) ↔ ∀ b, b < t → b ≠ v → x.testBit b = y.testBit b := by
  constructor
  · rintro (e | e) b hb hbv
    · rw [e]
    · rw [e, Nat.testBit_xor, Nat.testBit_two_pow]
      have : decide (v = b) = false := by simp; omega
      rw [this]; simp
  · intro H
    by_cases e : x.testBit v = y.testBit v
    · left
      refine ms_bits_lt hx hy (fun i hi => ?_)
      by_cases e2 : i = v
      · subst e2; exact e
      · exact H i hi e2
    · right
      have hp : 2 ^ v < 2 ^ t := Nat.pow_lt_pow_right (by decide) hv
      refine ms_bits_lt hx (Nat.xor_lt_two_pow hy hp) (fun i hi => ?_)
      rw [Nat.testBit_xor, Nat.testBit_two_pow]
      by_cases e2 : i = v
      · subst e2
        cases h1 : x.testBit i <;> cases h2 : y.testBit i <;> simp_all
      · have : decide (v = i) = false := by simp; omega
        rw [this, H i hi e2]; simp
/-- what changed gives, and that it gives all -/
theorem ms_vr_of {t h v c R s : Nat} (hv : v < t) (hR : R < (2 ^ t) ^ h) (H : ∀ n b, n < h → b < t → (ms_col (2 ^ t) h R n).testBit b = if b = v then s.testBit n else (ms_col (2 ^ t) h c n).testBit b) : ms_vr (2 ^ t) (2 ^ v) h c R := by
  have := (ms_vr_col (K := 2 ^ t) (bit := 2 ^ v) (h := h) (c := c) (c' := R) (Nat.two_pow_pos t) h (Nat.le_refl h)).mpr ⟨hR, fun i hi => (ms_col_or hv (ms_col_lt (Nat.two_pow_pos t)) (ms_col_lt (Nat.two_pow_pos t))).mpr (fun b hb hbv => by rw [H i b hi hb, if_neg hbv])⟩
  rw [Nat.sub_self, Nat.pow_zero, Nat.div_one, Nat.div_one] at this
  exact this
theorem ms_vr_ex {t h v c c' : Nat} (hv : v < t) (V : ms_vr (2 ^ t) (2 ^ v) h c c') : ∃ s, s < 2 ^ h ∧ ∀ R, R < (2 ^ t) ^ h → (∀ n b, n < h → b < t → (ms_col (2 ^ t) h R n).testBit b = if b = v then s.testBit n else (ms_col (2 ^ t) h c n).testBit b) → R = c' := by
  have := (ms_vr_col (K := 2 ^ t) (bit := 2 ^ v) (h := h) (c := c) (c' := c') (Nat.two_pow_pos t) h (Nat.le_refl h)).mp (by
    rw [Nat.sub_self, Nat.pow_zero, Nat.div_one, Nat.div_one]; exact V)
  obtain ⟨h1, h2⟩ := this
  obtain ⟨s, s1, s2⟩ := ms_mkset (fun n => (ms_col (2 ^ t) h c' n).testBit v) h
  refine ⟨s, s1, fun R hR H => ?_⟩
  rw [ms_pw] at hR h1
  refine ms_col_ext hR h1 (by omega) (fun n b hn hb => ?_)
  rw [H n b hn hb]
  by_cases e : b = v
  · subst e; rw [if_pos rfl]; exact s2 n hn
  · rw [if_neg e]
    exact ((ms_col_or hv (ms_col_lt (Nat.two_pow_pos t)) (ms_col_lt (Nat.two_pow_pos t))).mp (h2 n hn) b hb e).symm
section IM
variable {tr hz lm K ht rd : Nat} {pl nx wd fi wo wc wk wn wg ki wl cc cr mo zm re fo : Nat → Nat}
theorem ms_image {post : Int32 → Prop} {sl j m c bit : Nat} (hsl : sl < 4) (hj : j < 6) (hw : wd (sl * 7 + j) ≤ 12) (hm : m < 4096) (hc : c < 8) (hcb : c ^^^ bit < 8) (hd : ∀ s, s < wd (sl * 7 + j) → nx (((sl * 6 + j) * 12 + s) * 8 + c) < 12 ∧ nx (((sl * 6 + j) * 12 + s) * 8 + (c ^^^ bit)) < 12) (H : post (nI (ms_im (fun s c => nx (((sl * 6 + j) * 12 + s) * 8 + c)) bit c m (wd (sl * 7 + j))))) : wpX_image post ((nI tr), (nI hz), (nI lm), (nI K), (nI ht), (nI rd), (ms_F pl), (ms_F nx), (ms_F wd), (ms_F fi), (ms_F wo), (ms_F wc), (ms_F wk), (ms_F wn), (ms_F wg), (ms_F ki), (ms_F wl), (ms_F cc), (ms_F cr), (ms_F mo), (ms_F zm), (ms_F re), (ms_F fo)) (nI sl) (nI j) (nI m) (nI c) (nI bit) := by
  refine And.intro (ms_in (ms_7 sl j) (by omega) (by decide)) (nm_r (ms_rd (ms_7 sl j) (by omega)) ?_)
  exact loop_0 (fun n i (r : Nat) => wX_image_19 post (nI sl) (nI j) (nI m) (nI c) (nI bit) (nI (wd (sl * 7 + j))) (nI tr) (nI hz) (nI lm) (nI K) (nI ht) (nI rd) (ms_F pl) (ms_F nx) (ms_F wd) (ms_F fi) (ms_F wo) (ms_F wc) (ms_F wk) (ms_F wn) (ms_F wg) (ms_F ki) (ms_F wl) (ms_F cc) (ms_F cr) (ms_F mo) (ms_F zm) (ms_F re) (ms_F fo) n (nI r) (nI i)) (fun i r => r = ms_im (fun s c => nx (((sl * 6 + j) * 12 + s) * 8 + c)) bit c m i) (wd (sl * 7 + j)) 0 rfl
    (fun n r hI => br_t (nI_le (Nat.le_refl _) (by omega)) (by rw [hI]; exact H))
    (fun n i r hi hI k => br_f (nI_ge hi (by omega)) (by
      have d1 := (hd i hi).1
      have d2 := (hd i hi).2
      refine ms_brb _ (ms_bitB (by omega) (by omega)) (fun e => ?_) (fun e => nm_r (nI_1 i) (k r ?_))
      · refine ms_step hsl hj (by omega) hc ?_
        rw [nx_xor]
        refine ms_step hsl hj (by omega) hcb ?_
        refine nm_r (by rw [ms_shl1 (by omega), ms_shl1 (by omega), nx_or, nx_or]) (nm_r (nI_1 i) (k _ ?_))
        rw [hI]
        show _ = if m.testBit i then _ else _
        rw [e]; rfl
      · rw [hI]
        show _ = if m.testBit i then _ else _
        rw [e]; rfl))
theorem ms_judgeSubsets {post : SX → Prop} {sl al : Nat} {F : Nat} (hh : hz ≤ 6) (hsl : sl < 4) (hal : al ≤ 1) (hF : fi sl = F) (hF2 : F < 2 ^ 12) (hN : wc hz ≤ 256) (hk : ∀ s, s < wc hz → wk (hz * 256 + s) < 4096)
    (H : ∀ wg : Nat → Nat, (∀ s, s < wc hz → wg s = (if al = 0 then decide (wk (hz * 256 + s) &&& F ≠ 0) else decide (wk (hz * 256 + s) &&& (F ^^^ 4294967295) = 0)).toNat) → post ((nI tr), (nI hz), (nI lm), (nI K), (nI ht), (nI rd), (ms_F pl), (ms_F nx), (ms_F wd), (ms_F fi), (ms_F wo), (ms_F wc), (ms_F wk), (ms_F wn), (ms_F wg), (ms_F ki), (ms_F wl), (ms_F cc), (ms_F cr), (ms_F mo), (ms_F zm), (ms_F re), (ms_F fo))) : wpX_judgeSubsets post ((nI tr), (nI hz), (nI lm), (nI K), (nI ht), (nI rd), (ms_F pl), (ms_F nx), (ms_F wd), (ms_F fi), (ms_F wo), (ms_F wc), (ms_F wk), (ms_F wn), (ms_F wg), (ms_F ki), (ms_F wl), (ms_F cc), (ms_F cr), (ms_F mo), (ms_F zm), (ms_F re), (ms_F fo)) (nI sl) (nI al) := by
  refine And.intro (ms_in rfl hsl (by decide)) (nm_r (ms_rd (A := fi) rfl (by omega)) (And.intro (ms_in rfl (by omega) (by decide)) (nm_r (ms_rd (A := wc) rfl (by omega)) ?_)))
  rw [hF]
  exact loop_0 (fun n i (s : Nat → Nat) => wX_judgeSubsets_21 post (nI al) (nI F) (nI (wc hz)) (nI tr) (nI hz) (nI lm) (nI K) (nI ht) (nI rd) n (nI i) (ms_F pl) (ms_F nx) (ms_F wd) (ms_F fi) (ms_F wo) (ms_F wc) (ms_F wk) (ms_F wn) (ms_F s) (ms_F ki) (ms_F wl) (ms_F cc) (ms_F cr) (ms_F mo) (ms_F zm) (ms_F re) (ms_F fo)) (fun i s => ∀ x, x < i → s x = (if al = 0 then decide (wk (hz * 256 + x) &&& F ≠ 0) else decide (wk (hz * 256 + x) &&& (F ^^^ 4294967295) = 0)).toNat) (wc hz) wg (fun x hx => absurd hx (Nat.not_lt_zero x))
    (fun n s hI => br_t (nI_le (Nat.le_refl _) (by omega)) (H s hI))
    (fun n i s hi hI k => br_f (nI_ge hi (by omega)) (And.intro (ms_in (ms_256 hz i) (by omega) (by decide)) (nm_r (ms_rd (ms_256 hz i) (by omega)) (by
      have hki := hk i hi
      have fin : ∀ b : Bool, b = (if al = 0 then decide (wk (hz * 256 + i) &&& F ≠ 0) else decide (wk (hz * 256 + i) &&& (F ^^^ 4294967295) = 0)) → ∀ x, x < i + 1 → ms_U s i b.toNat x = (if al = 0 then decide (wk (hz * 256 + x) &&& F ≠ 0) else decide (wk (hz * 256 + x) &&& (F ^^^ 4294967295) = 0)).toNat := by
        intro b hb x hx
        by_cases e : x = i
        · subst e; rw [ms_Us, hb]
        · rw [ms_Un e]; exact hI x (by omega)
      have l1 : wk (hz * 256 + i) &&& F ≤ wk (hz * 256 + i) := Nat.and_le_left
      have l2 : wk (hz * 256 + i) &&& (F ^^^ 4294967295) ≤ wk (hz * 256 + i) := Nat.and_le_left
      refine pk_eq al 0 (fun ea => ?_) (fun ea => ?_)
      · rw [nx_and]
        refine pk_eq _ 0 (fun e => And.intro (ms_in rfl (by omega) (by decide)) (nm_r (ms_up rfl (by omega) (ms_vb false)) (nm_r (nI_1 i) (k _ (fin false (by simp [ea, e])))))) (fun e => And.intro (ms_in rfl (by omega) (by decide)) (nm_r (ms_up rfl (by omega) (ms_vb true)) (nm_r (nI_1 i) (k _ (fin true (by simp [ea, e])))))) rfl rfl (by omega) (by omega)
      · rw [ms_anot]
        refine pk_eq _ 0 (fun e => And.intro (ms_in rfl (by omega) (by decide)) (nm_r (ms_up rfl (by omega) (ms_vb true)) (nm_r (nI_1 i) (k _ (fin true (by simp [ea, e])))))) (fun e => And.intro (ms_in rfl (by omega) (by decide)) (nm_r (ms_up rfl (by omega) (ms_vb false)) (nm_r (nI_1 i) (k _ (fin false (by simp [ea, e])))))) rfl rfl (by omega) (by omega)))))
theorem ms_judgeProduct {post : SX → Prop} {op l r : Nat} (hh : hz ≤ 6) (hop : op ≤ 3) (hl : l < 4) (hr : r < 4) (hFl : fi l < 2 ^ 12) (hFr : fi r < 2 ^ 12) (hN : wc hz ≤ 256) (hk : ∀ s, s < wc hz → wk (hz * 256 + s) < 144)
    (H : ∀ wg : Nat → Nat, (∀ s, s < wc hz → wg s = (ms_con op ((fi l).testBit (wk (hz * 256 + s) / 12)) ((fi r).testBit (wk (hz * 256 + s) % 12))).toNat) → post ((nI tr), (nI hz), (nI lm), (nI K), (nI ht), (nI rd), (ms_F pl), (ms_F nx), (ms_F wd), (ms_F fi), (ms_F wo), (ms_F wc), (ms_F wk), (ms_F wn), (ms_F wg), (ms_F ki), (ms_F wl), (ms_F cc), (ms_F cr), (ms_F mo), (ms_F zm), (ms_F re), (ms_F fo))) : wpX_judgeProduct post ((nI tr), (nI hz), (nI lm), (nI K), (nI ht), (nI rd), (ms_F pl), (ms_F nx), (ms_F wd), (ms_F fi), (ms_F wo), (ms_F wc), (ms_F wk), (ms_F wn), (ms_F wg), (ms_F ki), (ms_F wl), (ms_F cc), (ms_F cr), (ms_F mo), (ms_F zm), (ms_F re), (ms_F fo)) (nI op) (nI l) (nI r) := by
  refine And.intro (ms_in rfl (by omega) (by decide)) (nm_r (ms_rd (A := wc) rfl (by omega)) ?_)
  exact loop_0 (fun n i (s : Nat → Nat) => wX_judgeProduct_14 post (nI op) (nI l) (nI r) (nI (wc hz)) (nI tr) (nI hz) (nI lm) (nI K) (nI ht) (nI rd) n (nI i) (ms_F pl) (ms_F nx) (ms_F wd) (ms_F fi) (ms_F wo) (ms_F wc) (ms_F wk) (ms_F wn) (ms_F s) (ms_F ki) (ms_F wl) (ms_F cc) (ms_F cr) (ms_F mo) (ms_F zm) (ms_F re) (ms_F fo)) (fun i s => ∀ x, x < i → s x = (ms_con op ((fi l).testBit (wk (hz * 256 + x) / 12)) ((fi r).testBit (wk (hz * 256 + x) % 12))).toNat) (wc hz) wg (fun x hx => absurd hx (Nat.not_lt_zero x))
    (fun n s hI => br_t (nI_le (Nat.le_refl _) (by omega)) (H s hI))
    (fun n i s hi hI k => br_f (nI_ge hi (by omega)) (And.intro (ms_in (ms_256 hz i) (by omega) (by decide)) (nm_r (ms_rd (ms_256 hz i) (by omega)) (by
      have hki := hk i hi
      have ed : nI (wk (hz * 256 + i)) / 12 = nI (wk (hz * 256 + i) / 12) := pk_div (d := 12) (by omega) (by decide) (by decide)
      have em : nI (wk (hz * 256 + i)) - nI (wk (hz * 256 + i)) / 12 * 12 = nI (wk (hz * 256 + i) % 12) := pk_rem (d := 12) (by omega) (by decide) (by decide)
      have fin2 : wX_judgeProduct_87 post (wX_judgeProduct_14 post (nI op) (nI l) (nI r) (nI (wc hz)) (nI tr) (nI hz) (nI lm) (nI K) (nI ht) (nI rd) n) (nI op) (nI l) (nI r) (nI (wc hz)) (nI i) (nI ((fi l).testBit (wk (hz * 256 + i) / 12)).toNat) (nI ((fi r).testBit (wk (hz * 256 + i) % 12)).toNat) (nI tr) (nI hz) (nI lm) (nI K) (nI ht) (nI rd) (ms_F pl) (ms_F nx) (ms_F wd) (ms_F fi) (ms_F wo) (ms_F wc) (ms_F wk) (ms_F wn) (ms_F s) (ms_F ki) (ms_F wl) (ms_F cc) (ms_F cr) (ms_F mo) (ms_F zm) (ms_F re) (ms_F fo) := by
        unfold wX_judgeProduct_87
        refine ms_connect hop (And.intro (ms_in rfl (by omega) (by decide)) (nm_r (ms_up rfl (by omega) (ms_vb _)) (nm_r (nI_1 i) (k _ (fun x hx => ?_)))))
        by_cases e : x = i
        · subst e; exact ms_Us
        · rw [ms_Un e]; exact hI x (by omega)
      have fin1 : wX_judgeProduct_62 post (wX_judgeProduct_14 post (nI op) (nI l) (nI r) (nI (wc hz)) (nI tr) (nI hz) (nI lm) (nI K) (nI ht) (nI rd) n) (nI op) (nI l) (nI r) (nI (wc hz)) (nI i) (nI (wk (hz * 256 + i))) (nI ((fi l).testBit (wk (hz * 256 + i) / 12)).toNat) (nI tr) (nI hz) (nI lm) (nI K) (nI ht) (nI rd) (ms_F pl) (ms_F nx) (ms_F wd) (ms_F fi) (ms_F wo) (ms_F wc) (ms_F wk) (ms_F wn) (ms_F s) (ms_F ki) (ms_F wl) (ms_F cc) (ms_F cr) (ms_F mo) (ms_F zm) (ms_F re) (ms_F fo) := by
        refine And.intro (ms_in rfl hr (by decide)) (And.intro (by decide) ?_)
        rw [em, ms_rdn (by omega), ms_bitB (by omega) (by omega)]
        refine ms_brb _ rfl (fun e => ?_) (fun e => ?_)
        · rw [e] at fin2; exact fin2
        · rw [e] at fin2; exact fin2
      refine And.intro (ms_in rfl hl (by decide)) (And.intro (by decide) ?_)
      rw [ed, ms_rdn (by omega), ms_bitB (by omega) (by omega)]
      refine ms_brb _ rfl (fun e => ?_) (fun e => ?_)
      · rw [e] at fin1; exact fin1
      · rw [e] at fin1; exact fin1))))
end IM
end
section
/-! the reference: the writers -/
def ms_Lq (K bit h : Nat) (L : Nat → Bool) (wt : Bool) (c : Nat) : Prop := ∃ c', ms_vr K bit h c c' ∧ L c' = wt
noncomputable def ms_Lb (K bit h : Nat) (L : Nat → Bool) (wt : Bool) (c : Nat) : Bool := ms_B (ms_Lq K bit h L wt c) == wt
theorem ms_4096m (l : Nat) : nI l * 4096 = nI (l * 4096) := by
  rw [show (4096 : Int32) = nI 4096 from rfl, pk_mul]
section YW
variable {tr hz lm ht rd : Nat} {wo tb : Nat → Nat}
variable {K : Nat}
theorem ms_yfin {P : Int32 → Prop} {Lg : Nat → Bool} {tb1 : Nat → Nat} {d : Nat} (ht3 : tr ≤ 3) (hh : hz ≤ 6) (h12 : tr * hz ≤ 12) (hM : lm ≤ 12) (hKd : K = 2 ^ tr) (hL : ∀ c, c < K ^ hz → tb (16384 + c) = (Lg c).toNat)
    (H0 : (∀ j, j ≤ hz → ∃ w, ms_isW (ms_eqv K hz Lg j) (K ^ j) w ∧ w ≤ lm) → P 0) (H1 : (∃ j, j ≤ hz ∧ ∃ w, ms_isW (ms_eqv K hz Lg j) (K ^ j) w ∧ lm < w) → P 1) : wpY_tooWide P ((nI tr), (nI hz), (nI lm), (nI ht), (nI rd), (ms_F wo), (ms_F tb)) := ms_tooWide ht3 hh h12 hM hKd hL H0 H1
theorem ms_ycp {post : SY → Prop} {Lg : Nat → Bool} {d : Nat} (h12 : tr * hz ≤ 12) (hKd : K = 2 ^ tr) (hd : d < 4) (hL : ∀ c, c < K ^ hz → tb (16384 + c) = (Lg c).toNat)
    (H : ∀ tb' : Nat → Nat, (∀ c, c < K ^ hz → tb' (d * 4096 + c) = (Lg c).toNat) → (∀ x, x < 16384 → ¬ (d * 4096 ≤ x ∧ x < d * 4096 + 4096) → tb' x = tb x) → post ((nI tr), (nI hz), (nI lm), (nI ht), (nI rd), (ms_F wo), (ms_F tb'))) : wpY_copy post ((nI tr), (nI hz), (nI lm), (nI ht), (nI rd), (ms_F wo), (ms_F tb)) 16384 (nI (d * 4096)) :=
  ms_copy (a := 16384) (b := d * 4096) h12 hKd (by decide) (by omega) (by omega) (fun c hc => by rw [hL c hc]; exact Bool.toNat_le _) (fun tb' h1 h2 => H tb' (fun c hc => by rw [h1 c hc]; exact hL c hc) (fun x hx hn => h2 x (by omega)))
theorem ms_yatom95 {post : Int32 → SY → Prop} {Lg : Nat → Bool} {kind a : Nat} {p2 : Int32} (ht3 : tr ≤ 3) (hh : hz ≤ 6) (h12 : tr * hz ≤ 12) (hM : lm ≤ 12) (hKd : K = 2 ^ tr) (hht : ht < 4)
    (hA : ∀ (P : Int32 → Prop) (tb : Nat → Nat) (c : Nat), c < K ^ hz → P (nI (Lg c).toNat) → wpY_atomHolds P ((nI tr), (nI hz), (nI lm), (nI ht), (nI rd), (ms_F wo), (ms_F tb)) (nI kind) (nI a) p2 (nI c))
    (Hok : (∀ j, j ≤ hz → ∃ w, ms_isW (ms_eqv K hz Lg j) (K ^ j) w ∧ w ≤ lm) → ∀ tb' : Nat → Nat, (∀ c, c < K ^ hz → tb' (ht * 4096 + c) = (Lg c).toNat) → (∀ x, x < 16384 → ¬ (ht * 4096 ≤ x ∧ x < ht * 4096 + 4096) → tb' x = tb x) → post 0 ((nI tr), (nI hz), (nI lm), (nI (ht + 1)), (nI rd), (ms_F wo), (ms_F tb')))
    (Hno : (∃ j, j ≤ hz ∧ ∃ w, ms_isW (ms_eqv K hz Lg j) (K ^ j) w ∧ lm < w) → ∀ tb' : Nat → Nat, (∀ x, x < 16384 → tb' x = tb x) → post (-4) ((nI tr), (nI hz), (nI lm), (nI ht), (nI rd), (ms_F wo), (ms_F tb'))) : ∃ n, wY_atom_95 post (nI kind) (nI a) p2 (nI (K ^ hz)) (nI tr) (nI hz) (nI lm) (nI ht) (nI rd) n (nI 0) (ms_F wo) (ms_F tb) := by
  have h4096 : K ^ hz ≤ 4096 := by rw [hKd, ms_pw]; exact ms_pwb h12
  exact loop_0 (fun n i (s : Nat → Nat) => wY_atom_95 post (nI kind) (nI a) p2 (nI (K ^ hz)) (nI tr) (nI hz) (nI lm) (nI ht) (nI rd) n (nI i) (ms_F wo) (ms_F s)) (fun i s => (∀ c, c < i → s (16384 + c) = (Lg c).toNat) ∧ (∀ x, x < 16384 → s x = tb x)) (K ^ hz) tb ⟨fun c hc => absurd hc (Nat.not_lt_zero c), fun x _ => rfl⟩
    (fun n s hI => br_t (nI_le (Nat.le_refl _) (by omega)) (by
      refine ms_tooWide ht3 hh h12 hM hKd hI.1 (fun h0 => br_t rfl ?_) (fun h1 => br_f (by decide) (Hno h1 s hI.2))
      rw [ms_4096m]
      exact ms_ycp h12 hKd hht hI.1 (fun tb' t1 t2 => nm_r (nI_1 ht) (Hok h0 tb' t1 (fun x hx hn => (t2 x hx hn).trans (hI.2 x hx))))))
    (fun n i s hi hI k => br_f (nI_ge hi (by omega)) (hA _ s i hi (And.intro (ms_in (ms_W i) (by omega) (by decide)) (nm_r (ms_up (ms_W i) (by omega) (ms_vb _)) (nm_r (nI_1 i) (k _ ⟨fun c hc => by
      by_cases e : c = i
      · subst e; exact ms_Us
      · rw [ms_Un (by omega)]; exact hI.1 c (by omega), fun x hx => by
      rw [ms_Un (by omega)]; exact hI.2 x hx⟩))))))
theorem ms_yneg {post : Int32 → SY → Prop} {L : Nat → Bool} {d : Nat} (h12 : tr * hz ≤ 12) (hKd : K = 2 ^ tr) (hd : d < 4) (hL : ∀ c, c < K ^ hz → tb (d * 4096 + c) = (L c).toNat)
    (H : ∀ tb' : Nat → Nat, (∀ c, c < K ^ hz → tb' (d * 4096 + c) = (!L c).toNat) → (∀ x, ¬ (d * 4096 ≤ x ∧ x < d * 4096 + 4096) → tb' x = tb x) → post 0 ((nI tr), (nI hz), (nI lm), (nI ht), (nI rd), (ms_F wo), (ms_F tb'))) : ∃ n, wY_negate_29 post (nI (d * 4096)) (nI (K ^ hz)) (nI tr) (nI hz) (nI lm) (nI ht) (nI rd) n (nI 0) (ms_F wo) (ms_F tb) := by
  have h4096 : K ^ hz ≤ 4096 := by rw [hKd, ms_pw]; exact ms_pwb h12
  exact loop_0 (fun n i (s : Nat → Nat) => wY_negate_29 post (nI (d * 4096)) (nI (K ^ hz)) (nI tr) (nI hz) (nI lm) (nI ht) (nI rd) n (nI i) (ms_F wo) (ms_F s)) (fun i s => (∀ c, c < i → s (d * 4096 + c) = (!L c).toNat) ∧ (∀ c, i ≤ c → c < K ^ hz → s (d * 4096 + c) = (L c).toNat) ∧ (∀ x, ¬ (d * 4096 ≤ x ∧ x < d * 4096 + 4096) → s x = tb x)) (K ^ hz) tb ⟨fun c hc => absurd hc (Nat.not_lt_zero c), fun c _ hc => hL c hc, fun x _ => rfl⟩
    (fun n s hI => br_t (nI_le (Nat.le_refl _) (by omega)) (H s hI.1 hI.2.2))
    (fun n i s hi hI k => br_f (nI_ge hi (by omega)) (And.intro (ms_in (nI_add _ i) (by omega) (by decide)) (by
      rw [ms_rd (nI_add _ i) (by omega), hI.2.1 i (Nat.le_refl i) hi]
      have nxt : ∀ b : Bool, b = !L i → (∀ c, c < i + 1 → ms_U s (d * 4096 + i) b.toNat (d * 4096 + c) = (!L c).toNat) ∧ (∀ c, i + 1 ≤ c → c < K ^ hz → ms_U s (d * 4096 + i) b.toNat (d * 4096 + c) = (L c).toNat) ∧ (∀ x, ¬ (d * 4096 ≤ x ∧ x < d * 4096 + 4096) → ms_U s (d * 4096 + i) b.toNat x = tb x) := by
        intro b hb
        refine ⟨fun c hc => ?_, fun c hc hc2 => ?_, fun x hx => ?_⟩
        · by_cases e : c = i
          · subst e; rw [ms_Us, hb]
          · rw [ms_Un (by omega)]; exact hI.1 c (by omega)
        · rw [ms_Un (by omega)]; exact hI.2.1 c (by omega) hc2
        · rw [ms_Un (by omega)]; exact hI.2.2 x hx
      exact ms_brz _ rfl (fun e => And.intro (ms_in (nI_add _ i) (by omega) (by decide)) (nm_r (ms_up (nI_add _ i) (by omega) (ms_vb true)) (nm_r (nI_1 i) (k _ (nxt true (by rw [e]; rfl))))))
        (fun e => And.intro (ms_in (nI_add _ i) (by omega) (by decide)) (nm_r (ms_up (nI_add _ i) (by omega) (ms_vb false)) (nm_r (nI_1 i) (k _ (nxt false (by rw [e]; rfl)))))))))
theorem ms_y152 {post : Int32 → SY → Prop} {J30 : Int32 → (Nat → Int32) → (Nat → Int32) → Prop} {op : Nat} {x2 x3 : Int32} {l r : Bool} (hop : op ≤ 3) (H : wY_combine_152 post J30 (nI op) x2 x3 (nI (ms_con op l r).toNat) (nI tr) (nI hz) (nI lm) (nI ht) (nI rd) (ms_F wo) (ms_F tb)) : wY_combine_85 post J30 (nI op) x2 x3 (nI l.toNat) (nI r.toNat) (nI (l == r).toNat) (nI tr) (nI hz) (nI lm) (nI ht) (nI rd) (ms_F wo) (ms_F tb) := by
  have lf : ∀ b : Bool, b = ms_con op l r → wY_combine_152 post J30 (nI op) x2 x3 (nI b.toNat) (nI tr) (nI hz) (nI lm) (nI ht) (nI rd) (ms_F wo) (ms_F tb) := fun b e => by rw [e]; exact H
  have L0 : false = ms_con op l r → wY_combine_152 post J30 (nI op) x2 x3 0 (nI tr) (nI hz) (nI lm) (nI ht) (nI rd) (ms_F wo) (ms_F tb) := lf false
  have L1 : true = ms_con op l r → wY_combine_152 post J30 (nI op) x2 x3 1 (nI tr) (nI hz) (nI lm) (nI ht) (nI rd) (ms_F wo) (ms_F tb) := lf true
  have s130 : ∀ z : Int32, ¬ op = 2 → wY_combine_152 post J30 (nI op) x2 x3 z (nI tr) (nI hz) (nI lm) (nI ht) (nI rd) (ms_F wo) (ms_F tb) → wY_combine_130 post J30 (nI op) x2 x3 (nI l.toNat) (nI r.toNat) z (nI tr) (nI hz) (nI lm) (nI ht) (nI rd) (ms_F wo) (ms_F tb) := fun z h2 h => pk_eq op 2 (fun e => absurd e h2) (fun _ => h)
  have s108 : ∀ z : Int32, ¬ op = 1 → wY_combine_130 post J30 (nI op) x2 x3 (nI l.toNat) (nI r.toNat) z (nI tr) (nI hz) (nI lm) (nI ht) (nI rd) (ms_F wo) (ms_F tb) → wY_combine_108 post J30 (nI op) x2 x3 (nI l.toNat) (nI r.toNat) z (nI tr) (nI hz) (nI lm) (nI ht) (nI rd) (ms_F wo) (ms_F tb) := fun z h2 h => pk_eq op 1 (fun e => absurd e h2) (fun _ => h)
  refine pk_eq op 0 (fun e => ?_) (fun e0 => ?_)
  · have G0 : false = ms_con op l r → wY_combine_105 post J30 (nI op) x2 x3 (nI l.toNat) (nI r.toNat) (nI tr) (nI hz) (nI lm) (nI ht) (nI rd) (ms_F wo) (ms_F tb) := fun h => s108 0 (by omega) (s130 0 (by omega) (L0 h))
    have G1 : true = ms_con op l r → wY_combine_106 post J30 (nI op) x2 x3 (nI l.toNat) (nI r.toNat) 1 (nI tr) (nI hz) (nI lm) (nI ht) (nI rd) (ms_F wo) (ms_F tb) := fun h => s108 1 (by omega) (s130 1 (by omega) (L1 h))
    exact ms_brz l rfl (fun a => G0 (by simp [ms_con, e, a])) (fun a => ms_brz r rfl (fun b => G0 (by simp [ms_con, e, b])) (fun b => G1 (by simp [ms_con, e, a, b])))
  · refine pk_eq op 1 (fun e => ?_) (fun e1 => ?_)
    · have G0 : false = ms_con op l r → wY_combine_128 post J30 (nI op) x2 x3 (nI l.toNat) (nI r.toNat) 0 (nI tr) (nI hz) (nI lm) (nI ht) (nI rd) (ms_F wo) (ms_F tb) := fun h => s130 0 (by omega) (L0 h)
      have G1 : true = ms_con op l r → wY_combine_123 post J30 (nI op) x2 x3 (nI l.toNat) (nI r.toNat) (nI tr) (nI hz) (nI lm) (nI ht) (nI rd) (ms_F wo) (ms_F tb) := fun h => s130 1 (by omega) (L1 h)
      exact ms_brz l rfl (fun a => ms_brz r rfl (fun b => G0 (by simp [ms_con, e, a, b])) (fun b => G1 (by simp [ms_con, e, b]))) (fun a => G1 (by simp [ms_con, e, a]))
    · refine pk_eq op 2 (fun e => ?_) (fun e2 => ?_)
      · exact ms_brz l rfl (fun a => L1 (by simp [ms_con, e, a])) (fun a => ms_brz r rfl (fun b => L0 (by simp [ms_con, e, a, b])) (fun b => L1 (by simp [ms_con, e, b])))
      · exact lf _ (by simp [ms_con, e0, e1, e2])
theorem ms_ycomb30 {post : Int32 → SY → Prop} {Ll Lr : Nat → Bool} {op : Nat} (ht3 : tr ≤ 3) (hh : hz ≤ 6) (h12 : tr * hz ≤ 12) (hM : lm ≤ 12) (hKd : K = 2 ^ tr) (hop : op ≤ 3) (hht : 2 ≤ ht) (hh4 : ht ≤ 4)
    (hLl : ∀ c, c < K ^ hz → tb ((ht - 2) * 4096 + c) = (Ll c).toNat) (hLr : ∀ c, c < K ^ hz → tb ((ht - 1) * 4096 + c) = (Lr c).toNat)
    (Hok : (∀ j, j ≤ hz → ∃ w, ms_isW (ms_eqv K hz (fun c => ms_con op (Ll c) (Lr c)) j) (K ^ j) w ∧ w ≤ lm) → ∀ tb' : Nat → Nat, (∀ c, c < K ^ hz → tb' ((ht - 2) * 4096 + c) = (ms_con op (Ll c) (Lr c)).toNat) → (∀ x, x < 16384 → ¬ ((ht - 2) * 4096 ≤ x ∧ x < (ht - 2) * 4096 + 4096) → tb' x = tb x) → post 0 ((nI tr), (nI hz), (nI lm), (nI (ht - 1)), (nI rd), (ms_F wo), (ms_F tb')))
    (Hno : (∃ j, j ≤ hz ∧ ∃ w, ms_isW (ms_eqv K hz (fun c => ms_con op (Ll c) (Lr c)) j) (K ^ j) w ∧ lm < w) → ∀ tb' : Nat → Nat, (∀ x, x < 16384 → tb' x = tb x) → post (-4) ((nI tr), (nI hz), (nI lm), (nI ht), (nI rd), (ms_F wo), (ms_F tb'))) : ∃ n, wY_combine_30 post (nI op) (nI (K ^ hz)) (nI tr) (nI hz) (nI lm) (nI ht) (nI rd) n (nI 0) (ms_F wo) (ms_F tb) := by
  have h4096 : K ^ hz ≤ 4096 := by rw [hKd, ms_pw]; exact ms_pwb h12
  have e2 : nI ht - 2 = nI (ht - 2) := pk_sub (b := 2) hht
  have e1 : nI ht - 1 = nI (ht - 1) := pk_sub (b := 1) (by omega)
  have i2 : ∀ i, (nI ht - 2) * 4096 + nI i = nI ((ht - 2) * 4096 + i) := fun i => by rw [e2, ms_4096]
  have i1 : ∀ i, (nI ht - 1) * 4096 + nI i = nI ((ht - 1) * 4096 + i) := fun i => by rw [e1, ms_4096]
  exact loop_0 (fun n i (s : Nat → Nat) => wY_combine_30 post (nI op) (nI (K ^ hz)) (nI tr) (nI hz) (nI lm) (nI ht) (nI rd) n (nI i) (ms_F wo) (ms_F s)) (fun i s => (∀ c, c < i → s (16384 + c) = (ms_con op (Ll c) (Lr c)).toNat) ∧ (∀ x, x < 16384 → s x = tb x)) (K ^ hz) tb ⟨fun c hc => absurd hc (Nat.not_lt_zero c), fun x _ => rfl⟩
    (fun n s hI => br_t (nI_le (Nat.le_refl _) (by omega)) (by
      refine ms_tooWide (Lb := fun c => ms_con op (Ll c) (Lr c)) ht3 hh h12 hM hKd hI.1 (fun h0 => br_t rfl (nm_r e1 ?_)) (fun h1 => br_f (by decide) (Hno h1 s hI.2))
      rw [ms_pred (a := ht - 1) (by omega), show ht - 1 - 1 = ht - 2 from by omega, ms_4096m]
      exact ms_ycp (Lg := fun c => ms_con op (Ll c) (Lr c)) h12 hKd (by omega) hI.1 (fun tb' t1 t2 => Hok h0 tb' t1 (fun x hx hn => (t2 x hx hn).trans (hI.2 x hx)))))
    (fun n i s hi hI k => br_f (nI_ge hi (by omega)) (And.intro (ms_in (i2 i) (by omega) (by decide)) (nm_r (e' := nI (Ll i).toNat) (by rw [ms_rd (i2 i) (by omega), hI.2 _ (by omega), hLl i hi]) (And.intro (ms_in (i1 i) (by omega) (by decide)) (nm_r (e' := nI (Lr i).toNat) (by rw [ms_rd (i1 i) (by omega), hI.2 _ (by omega), hLr i hi]) (by
      have fin : wY_combine_85 post (wY_combine_30 post (nI op) (nI (K ^ hz)) (nI tr) (nI hz) (nI lm) (nI ht) (nI rd) n) (nI op) (nI (K ^ hz)) (nI i) (nI (Ll i).toNat) (nI (Lr i).toNat) (nI (Ll i == Lr i).toNat) (nI tr) (nI hz) (nI lm) (nI ht) (nI rd) (ms_F wo) (ms_F s) := by
        refine ms_y152 hop (And.intro (ms_in (ms_W i) (by omega) (by decide)) (nm_r (ms_up (ms_W i) (by omega) (ms_vb _)) (nm_r (nI_1 i) (k _ ⟨fun c hc => ?_, fun x hx => ?_⟩))))
        · by_cases e : c = i
          · subst e; exact ms_Us
          · rw [ms_Un (by omega)]; exact hI.1 c (by omega)
        · rw [ms_Un (by omega)]; exact hI.2 x hx
      refine ms_brI (P := Ll i = Lr i) ?_ (fun e => ?_) (fun e => ?_)
      · cases Ll i <;> cases Lr i <;> decide
      · rw [show (Ll i == Lr i) = true from by rw [e]; exact beq_self_eq_true _] at fin; exact fin
      · rw [show (Ll i == Lr i) = false from by cases h1 : Ll i <;> cases h2 : Lr i <;> simp_all] at fin; exact fin))))))
theorem ms_yq67 {post : Int32 → SY → Prop} {J54 : Int32 → (Nat → Int32) → (Nat → Int32) → Prop} {L : Nat → Bool} {v d c : Nat} {wt : Bool} (ht3 : tr ≤ 3) (hh : hz ≤ 6) (h12 : tr * hz ≤ 12) (hKd : K = 2 ^ tr) (hv : v < tr) (hd : d < 4) (hL : ∀ c, c < K ^ hz → tb (d * 4096 + c) = (L c).toNat) (hc : c < K ^ hz)
    (H : wY_quantify_116 post J54 (nI v) (nI wt.toNat) (nI (d * 4096)) (nI (K ^ hz)) (nI (2 ^ hz)) (nI c) (nI (ms_B (ms_Lq K (2 ^ v) hz L wt c)).toNat) (nI tr) (nI hz) (nI lm) (nI ht) (nI rd) (ms_F wo) (ms_F tb)) : ∃ n, wY_quantify_67 post J54 (nI v) (nI wt.toNat) (nI (d * 4096)) (nI (K ^ hz)) (nI (2 ^ hz)) (nI c) (nI tr) (nI hz) (nI lm) (nI ht) (nI rd) (ms_F wo) (ms_F tb) n (nI 0) (nI 0) := by
  have h4096 : K ^ hz ≤ 4096 := by rw [hKd, ms_pw]; exact ms_pwb h12
  have h64 : 2 ^ hz ≤ 2 ^ 6 := Nat.pow_le_pow_right (by decide) hh
  have H1 : ms_Lq K (2 ^ v) hz L wt c → wY_quantify_116 post J54 (nI v) (nI wt.toNat) (nI (d * 4096)) (nI (K ^ hz)) (nI (2 ^ hz)) (nI c) 1 (nI tr) (nI hz) (nI lm) (nI ht) (nI rd) (ms_F wo) (ms_F tb) := fun h => by
    rw [ms_Bt.mpr h] at H; exact H
  have H0 : ¬ ms_Lq K (2 ^ v) hz L wt c → wY_quantify_116 post J54 (nI v) (nI wt.toNat) (nI (d * 4096)) (nI (K ^ hz)) (nI (2 ^ hz)) (nI c) 0 (nI tr) (nI hz) (nI lm) (nI ht) (nI rd) (ms_F wo) (ms_F tb) := fun h => by
    rw [ms_Bf.mpr h] at H; exact H
  exact loop_0 (fun n i (x : Int32) => wY_quantify_67 post J54 (nI v) (nI wt.toNat) (nI (d * 4096)) (nI (K ^ hz)) (nI (2 ^ hz)) (nI c) (nI tr) (nI hz) (nI lm) (nI ht) (nI rd) (ms_F wo) (ms_F tb) n x (nI i))
    (fun i x => (x = 0 ∧ ∀ s, s < i → ∃ R, R < K ^ hz ∧ (∀ n b, n < hz → b < tr → (ms_col K hz R n).testBit b = if b = v then s.testBit n else (ms_col K hz c n).testBit b) ∧ L R ≠ wt) ∨ (x = 1 ∧ ms_Lq K (2 ^ v) hz L wt c)) (2 ^ hz) 0 (Or.inl ⟨rfl, fun s hs => absurd hs (Nat.not_lt_zero s)⟩)
    (fun n x hI => br_t (nI_le (Nat.le_refl _) (by omega)) (by
      rcases hI with ⟨e, h⟩ | ⟨e, h⟩
      · subst e
        refine H0 (fun hq => ?_)
        obtain ⟨c', V, hc'⟩ := hq
        subst hKd
        obtain ⟨s, s1, s2⟩ := ms_vr_ex hv V
        obtain ⟨R, r1, r2, r3⟩ := h s s1
        rw [s2 R r1 r2] at r3
        exact r3 hc'
      · subst e; exact H1 h))
    (fun n i x hi hI k => br_f (nI_ge hi (by omega)) (by
      rcases hI with ⟨e, h⟩ | ⟨e, h⟩
      · subst e
        refine br_t rfl (ms_changed ht3 hh h12 hKd hv hc (by omega) (fun R hR hs => And.intro (ms_in (nI_add _ R) (by omega) (by decide)) ?_))
        rw [ms_rd (nI_add _ R) (by omega), hL R hR]
        refine ms_brI (P := L R = wt) (by cases L R <;> cases wt <;> decide) (fun e => nm_r (nI_1 i) (k _ (Or.inr ⟨rfl, R, ?_, e⟩))) (fun e => nm_r (nI_1 i) (k _ (Or.inl ⟨rfl, fun s hs' => ?_⟩)))
        · subst hKd
          exact ms_vr_of hv hR hs
        · by_cases e2 : s = i
          · subst e2; exact ⟨R, hR, hs, e⟩
          · exact h s (by omega)
      · subst e
        exact br_f (by decide) (H1 h)))
theorem ms_yq54 {post : Int32 → SY → Prop} {L : Nat → Bool} {v d : Nat} {wt : Bool} (ht3 : tr ≤ 3) (hh : hz ≤ 6) (h12 : tr * hz ≤ 12) (hM : lm ≤ 12) (hKd : K = 2 ^ tr) (hv : v < tr) (hd : d < 4) (hL : ∀ c, c < K ^ hz → tb (d * 4096 + c) = (L c).toNat)
    (Hok : (∀ j, j ≤ hz → ∃ w, ms_isW (ms_eqv K hz (ms_Lb K (2 ^ v) hz L wt) j) (K ^ j) w ∧ w ≤ lm) → ∀ tb' : Nat → Nat, (∀ c, c < K ^ hz → tb' (d * 4096 + c) = (ms_Lb K (2 ^ v) hz L wt c).toNat) → (∀ x, x < 16384 → ¬ (d * 4096 ≤ x ∧ x < d * 4096 + 4096) → tb' x = tb x) → post 0 ((nI tr), (nI hz), (nI lm), (nI ht), (nI rd), (ms_F wo), (ms_F tb')))
    (Hno : (∃ j, j ≤ hz ∧ ∃ w, ms_isW (ms_eqv K hz (ms_Lb K (2 ^ v) hz L wt) j) (K ^ j) w ∧ lm < w) → ∀ tb' : Nat → Nat, (∀ x, x < 16384 → tb' x = tb x) → post (-4) ((nI tr), (nI hz), (nI lm), (nI ht), (nI rd), (ms_F wo), (ms_F tb'))) : ∃ n, wY_quantify_54 post (nI v) (nI wt.toNat) (nI (d * 4096)) (nI (K ^ hz)) (nI (2 ^ hz)) (nI tr) (nI hz) (nI lm) (nI ht) (nI rd) n (nI 0) (ms_F wo) (ms_F tb) := by
  have h4096 : K ^ hz ≤ 4096 := by rw [hKd, ms_pw]; exact ms_pwb h12
  exact loop_0 (fun n i (s : Nat → Nat) => wY_quantify_54 post (nI v) (nI wt.toNat) (nI (d * 4096)) (nI (K ^ hz)) (nI (2 ^ hz)) (nI tr) (nI hz) (nI lm) (nI ht) (nI rd) n (nI i) (ms_F wo) (ms_F s)) (fun i s => (∀ c, c < i → s (16384 + c) = (ms_Lb K (2 ^ v) hz L wt c).toNat) ∧ (∀ x, x < 16384 → s x = tb x)) (K ^ hz) tb ⟨fun c hc => absurd hc (Nat.not_lt_zero c), fun x _ => rfl⟩
    (fun n s hI => br_t (nI_le (Nat.le_refl _) (by omega)) (by
      refine ms_tooWide ht3 hh h12 hM hKd hI.1 (fun h0 => br_t rfl ?_) (fun h1 => br_f (by decide) (Hno h1 s hI.2))
      exact ms_ycp h12 hKd hd hI.1 (fun tb' t1 t2 => Hok h0 tb' t1 (fun x hx hn => (t2 x hx hn).trans (hI.2 x hx)))))
    (fun n i s hi hI k => br_f (nI_ge hi (by omega)) (by
      refine ms_yq67 (L := L) ht3 hh h12 hKd hv hd (fun c hc => by rw [hI.2 _ (by omega)]; exact hL c hc) hi ?_
      have nxt : ∀ b : Bool, b = ms_Lb K (2 ^ v) hz L wt i → (∀ c, c < i + 1 → ms_U s (16384 + i) b.toNat (16384 + c) = (ms_Lb K (2 ^ v) hz L wt c).toNat) ∧ (∀ x, x < 16384 → ms_U s (16384 + i) b.toNat x = tb x) := by
        intro b hb
        refine ⟨fun c hc => ?_, fun x hx => ?_⟩
        · by_cases e : c = i
          · subst e; rw [ms_Us, hb]
          · rw [ms_Un (by omega)]; exact hI.1 c (by omega)
        · rw [ms_Un (by omega)]; exact hI.2 x hx
      refine ms_brI (P := ms_B (ms_Lq K (2 ^ v) hz L wt i) = wt) (by cases ms_B (ms_Lq K (2 ^ v) hz L wt i) <;> cases wt <;> decide)
        (fun e => And.intro (ms_in (ms_W i) (by omega) (by decide)) (nm_r (ms_up (ms_W i) (by omega) (ms_vb true)) (nm_r (nI_1 i) (k _ (nxt true (by unfold ms_Lb; rw [e]; exact (beq_self_eq_true wt).symm))))))
        (fun e => And.intro (ms_in (ms_W i) (by omega) (by decide)) (nm_r (ms_up (ms_W i) (by omega) (ms_vb false)) (nm_r (nI_1 i) (k _ (nxt false (by unfold ms_Lb; cases hx : ms_B (ms_Lq K (2 ^ v) hz L wt i) <;> cases wt <;> simp_all))))))))
end YW
end
section
/-! questions, pure: the read word, counts, lengths, products, independence -/
def ms_wd (K : Nat) (f : Nat → Nat) : Nat → Nat
  | 0 => 0
  | n + 1 => ms_wd K f n * K + f n
theorem ms_wd_congr {K : Nat} {f f' : Nat → Nat} : ∀ n, (∀ i, i < n → f i = f' i) → ms_wd K f n = ms_wd K f' n := by
  intro n
  induction n with
  | zero => intro _; rfl
  | succ n ih =>
    intro H
    show ms_wd K f n * K + f n = ms_wd K f' n * K + f' n
    rw [ih (fun i hi => H i (by omega)), H n (by omega)]
theorem ms_dm {K p c : Nat} (hc : c < K) : (p * K + c) / K = p ∧ (p * K + c) % K = c := by
  have hK : 0 < K := by omega
  constructor
  · rw [Nat.add_comm, Nat.add_mul_div_right _ _ hK, Nat.div_eq_of_lt hc, Nat.zero_add]
  · rw [Nat.add_comm, Nat.add_mul_mod_self_right, Nat.mod_eq_of_lt hc]
theorem ms_wd_lt {K : Nat} {f : Nat → Nat} : ∀ n, (∀ i, i < n → f i < K) → ms_wd K f n < K ^ n := by
  intro n
  induction n with
  | zero => intro _; show 0 < 1; decide
  | succ n ih =>
    intro H
    have h1 := ih (fun i hi => H i (by omega))
    have := ms_join (a := n) (b := 1) (K := K) h1 (r := f n) (by simpa using H n (by omega))
    rw [Nat.pow_one] at this
    exact this
theorem ms_wd_rn {K : Nat} {f : Nat → Nat} {d : Nat → Nat → Nat → Nat} {n q : Nat} (hf : f n < K) : ms_rn K d 0 q (n + 1) (ms_wd K f (n + 1)) = d n (ms_rn K d 0 q n (ms_wd K f n)) (f n) := by
  have e := ms_dm (p := ms_wd K f n) hf
  rw [ms_rn_s, Nat.zero_add]
  show d n (ms_rn K d 0 q n ((ms_wd K f n * K + f n) / K)) ((ms_wd K f n * K + f n) % K) = _
  rw [e.1, e.2]
theorem ms_div_col {K h c n : Nat} (hn : n < h) : c / K ^ (h - (n + 1)) = c / K ^ (h - n) * K + ms_col K h c n := by
  have e : h - n = (h - (n + 1)) + 1 := by omega
  have e2 : h - 1 - n = h - (n + 1) := by omega
  unfold ms_col
  rw [e2, e, Nat.pow_succ, ← Nat.div_div_eq_div_mul]
  exact (Nat.div_add_mod' _ _).symm
theorem ms_ext_iff {K h c : Nat} {f : Nat → Nat} (hK : 0 < K) (hc : c < K ^ h) : ∀ n, n ≤ h → (∀ i, i < n → f i < K) → (c / K ^ (h - n) = ms_wd K f n ↔ ∀ i, i < n → ms_col K h c i = f i) := by
  intro n
  induction n with
  | zero =>
    intro _ _
    rw [Nat.sub_zero, Nat.div_eq_of_lt hc]
    exact ⟨fun _ i hi => absurd hi (Nat.not_lt_zero i), fun _ => rfl⟩
  | succ n ih =>
    intro hn hf
    have h1 := ih (by omega) (fun i hi => hf i (by omega))
    have h2 := ms_div_col (K := K) (c := c) (h := h) (n := n) (by omega)
    have h3 := ms_dm (p := c / K ^ (h - n)) (ms_col_lt (h := h) (c := c) (n := n) hK)
    have h4 := ms_dm (p := ms_wd K f n) (hf n (by omega))
    rw [h2]
    show _ = ms_wd K f n * K + f n ↔ _
    constructor
    · intro e i hi
      have e1 : c / K ^ (h - n) = ms_wd K f n := by rw [← h3.1, ← h4.1, e]
      have e2 : ms_col K h c n = f n := by rw [← h3.2, ← h4.2, e]
      by_cases e3 : i = n
      · subst e3; exact e2
      · exact (h1.mp e1) i (by omega)
    · intro H
      rw [h1.mpr (fun i hi => H i (by omega)), H n (by omega)]
theorem ms_wd_col {K h : Nat} {f : Nat → Nat} (hK : 0 < K) (hf : ∀ i, i < h → f i < K) : ∀ i, i < h → ms_col K h (ms_wd K f h) i = f i := by
  have h1 := ms_wd_lt h hf
  have := (ms_ext_iff (f := f) hK h1 h (Nat.le_refl h) hf).mp (by rw [Nat.sub_self, Nat.pow_zero, Nat.div_one])
  exact this
/-- zero columns from e on -/
theorem ms_zero_iff {K h c : Nat} : ∀ k, k ≤ h → ((∀ n, h - k ≤ n → n < h → ms_col K h c n = 0) → c % K ^ k = 0) := by
  intro k
  induction k with
  | zero => intro _ _; rw [Nat.pow_zero, Nat.mod_one]
  | succ k ih =>
    intro hk H
    rw [Nat.mod_pow_succ, ih (by omega) (fun n h1 h2 => H n (by omega) h2)]
    have := H (h - 1 - k) (by omega) (by omega)
    unfold ms_col at this
    rw [show h - 1 - (h - 1 - k) = k from by omega] at this
    rw [this]
    simp
theorem ms_wd_zero {K : Nat} {f : Nat → Nat} {e : Nat} : ∀ k, (∀ n, e ≤ n → n < e + k → f n = 0) → ms_wd K f (e + k) = ms_wd K f e * K ^ k := by
  intro k
  induction k with
  | zero => intro _; simp
  | succ k ih =>
    intro H
    show ms_wd K f (e + k) * K + f (e + k) = _
    rw [ih (fun n h1 h2 => H n h1 (by omega)), H (e + k) (by omega) (by omega), Nat.pow_succ, Nat.mul_assoc]
    rfl
def ms_ln (f : Nat → Nat) : Nat → Nat
  | 0 => 0
  | n + 1 => if f n = 0 then ms_ln f n else n + 1
theorem ms_ln_le (f : Nat → Nat) : ∀ n, ms_ln f n ≤ n := by
  intro n
  induction n with
  | zero => exact Nat.le_refl 0
  | succ n ih =>
    show (if f n = 0 then ms_ln f n else n + 1) ≤ n + 1
    split <;> omega
theorem ms_ln_iff (f : Nat → Nat) (e : Nat) : ∀ n, ms_ln f n ≤ e ↔ ∀ i, e ≤ i → i < n → f i = 0 := by
  intro n
  induction n with
  | zero => exact ⟨fun _ i _ hi => absurd hi (Nat.not_lt_zero i), fun _ => Nat.zero_le e⟩
  | succ n ih =>
    show (if f n = 0 then ms_ln f n else n + 1) ≤ e ↔ _
    by_cases h0 : f n = 0
    · rw [if_pos h0, ih]
      constructor
      · intro H i h1 h2
        by_cases e2 : i = n
        · subst e2; exact h0
        · exact H i h1 (by omega)
      · intro H i h1 h2; exact H i h1 (by omega)
    · rw [if_neg h0]
      constructor
      · intro h1 i h2 h3; omega
      · intro H
        rcases Nat.lt_or_ge n e with h1 | h1
        · omega
        · exact absurd (H n h1 (by omega)) h0
theorem ms_ln_congr {f f' : Nat → Nat} : ∀ n, (∀ i, i < n → f i = f' i) → ms_ln f n = ms_ln f' n := by
  intro n
  induction n with
  | zero => intro _; rfl
  | succ n ih =>
    intro H
    show (if f n = 0 then ms_ln f n else n + 1) = (if f' n = 0 then ms_ln f' n else n + 1)
    rw [ih (fun i hi => H i (by omega)), H n (by omega)]
/-- counting -/
def ms_cn (P : Nat → Bool) : Nat → Nat
  | 0 => 0
  | n + 1 => ms_cn P n + (P n).toNat
theorem ms_cn_le (P : Nat → Bool) : ∀ n, ms_cn P n ≤ n := by
  intro n
  induction n with
  | zero => exact Nat.le_refl 0
  | succ n ih =>
    show ms_cn P n + (P n).toNat ≤ n + 1
    have := Bool.toNat_le (P n)
    omega
theorem ms_cn_congr {P Q : Nat → Bool} : ∀ n, (∀ i, i < n → P i = Q i) → ms_cn P n = ms_cn Q n := by
  intro n
  induction n with
  | zero => intro _; rfl
  | succ n ih =>
    intro H
    show ms_cn P n + (P n).toNat = ms_cn Q n + (Q n).toNat
    rw [ih (fun i hi => H i (by omega)), H n (by omega)]
theorem ms_cn_add {P : Nat → Bool} {a : Nat} : ∀ b, ms_cn P (a + b) = ms_cn P a + ms_cn (fun r => P (a + r)) b := by
  intro b
  induction b with
  | zero => rfl
  | succ b ih =>
    show ms_cn P (a + b) + (P (a + b)).toNat = ms_cn P a + (ms_cn (fun r => P (a + r)) b + (P (a + b)).toNat)
    rw [ih]; omega
theorem ms_cn_0 {P : Nat → Bool} {n : Nat} (H : ∀ i, i < n → P i = false) : ms_cn P n = 0 := by
  rw [ms_cn_congr (Q := fun _ => false) n H]
  clear H
  induction n with
  | zero => rfl
  | succ n ih => show ms_cn (fun _ => false) n + 0 = 0; rw [ih]
theorem ms_cn_0iff {P : Nat → Bool} : ∀ n, ms_cn P n = 0 ↔ ∀ i, i < n → P i = false := by
  intro n
  refine ⟨?_, ms_cn_0⟩
  induction n with
  | zero => intro _ i hi; exact absurd hi (Nat.not_lt_zero i)
  | succ n ih =>
    intro h i hi
    have h' : ms_cn P n + (P n).toNat = 0 := h
    by_cases e : i = n
    · subst e
      cases hx : P i
      · rfl
      · rw [hx] at h'; simp at h'
    · exact ih (by omega) i (by omega)
theorem ms_cn_all {P : Nat → Bool} : ∀ n, ms_cn P n = n ↔ ∀ i, i < n → P i = true := by
  intro n
  induction n with
  | zero => exact ⟨fun _ i hi => absurd hi (Nat.not_lt_zero i), fun _ => rfl⟩
  | succ n ih =>
    have h1 : ms_cn P (n + 1) = ms_cn P n + (P n).toNat := rfl
    have h2 := ms_cn_le P n
    rw [h1]
    constructor
    · intro h i hi
      cases hx : P n
      · rw [hx] at h; simp at h; omega
      · rw [hx] at h
        have h3 : ms_cn P n = n := by simp at h; exact h
        by_cases e : i = n
        · subst e; exact hx
        · exact ih.mp h3 i (by omega)
    · intro H
      rw [ih.mpr (fun i hi => H i (by omega)), H n (by omega)]
      rfl
theorem ms_cn_blk {P : Nat → Bool} {B : Nat} : ∀ n, ms_cn P (n * B) = (fun m => ms_cn P (m * B)) n := fun _ => rfl
/-- a block of a count -/
theorem ms_cn_one {P : Nat → Bool} {N a B : Nat} (hN : a * B + B ≤ N) (H : ∀ c, c < N → P c = true → c / B = a) (hB : 0 < B) : ms_cn P N = ms_cn (fun r => P (a * B + r)) B := by
  obtain ⟨z, hz⟩ : ∃ z, N = a * B + B + z := ⟨N - (a * B + B), by omega⟩
  have nf : ∀ c, c < N → c / B ≠ a → P c = false := by
    intro c hc hne
    cases hx : P c
    · rfl
    · exact absurd (H c hc hx) hne
  subst hz
  rw [ms_cn_add, ms_cn_add, ms_cn_0 (P := P) (n := a * B), ms_cn_0 (n := z)]
  · omega
  · intro i hi
    refine nf _ (by omega) (fun e => ?_)
    have h1 : (a * B + B + i) / B = i / B + (a + 1) := by
      rw [show a * B + B + i = i + (a + 1) * B from by rw [Nat.add_mul, Nat.one_mul]; omega, Nat.add_mul_div_right _ _ hB]
    rw [h1] at e
    have h2 := Nat.zero_le (i / B)
    generalize i / B = t at e h2
    omega
  · intro i hi
    refine nf _ (by omega) (fun e => ?_)
    have h1 : i / B < a := (Nat.div_lt_iff_lt_mul hB).mpr hi
    rw [e] at h1
    exact Nat.lt_irrefl _ h1
/-- the words of a sum -/
theorem ms_cn_rn {K b i q : Nat} {d : Nat → Nat → Nat → Nat} {G : Nat → Bool} (hK : 0 < K) : ∀ n, n ≤ K → ms_cn (fun r => G (ms_rn K d i q (b + 1) r)) (n * K ^ b) = Nat.rec 0 (fun c s => s + ms_cn (fun r => G (ms_rn K d (i + 1) (d i q c) b r)) (K ^ b)) n := by
  intro n
  induction n with
  | zero => intro _; rw [Nat.zero_mul]; rfl
  | succ n ih =>
    intro hn
    rw [Nat.add_mul, Nat.one_mul, ms_cn_add, ih (by omega)]
    show _ = Nat.rec 0 (fun c s => s + ms_cn (fun r => G (ms_rn K d (i + 1) (d i q c) b r)) (K ^ b)) n + ms_cn (fun r => G (ms_rn K d (i + 1) (d i q n) b r)) (K ^ b)
    rw [ms_cn_congr (P := fun r => G (ms_rn K d i q (b + 1) (n * K ^ b + r))) (Q := fun r => G (ms_rn K d (i + 1) (d i q n) b r)) (K ^ b) (fun r hr => by (try dsimp only); rw [ms_rn_cons (by omega) hr])]
theorem ms_cn_step {K b i q : Nat} {d : Nat → Nat → Nat → Nat} {G : Nat → Bool} {n : Nat} (hn : n < K) : ms_cn (fun r => G (ms_rn K d i q (b + 1) r)) ((n + 1) * K ^ b) = ms_cn (fun r => G (ms_rn K d i q (b + 1) r)) (n * K ^ b) + ms_cn (fun r => G (ms_rn K d (i + 1) (d i q n) b r)) (K ^ b) := by
  rw [Nat.add_mul, Nat.one_mul, ms_cn_add]
  rw [ms_cn_congr (P := fun r => G (ms_rn K d i q (b + 1) (n * K ^ b + r))) (Q := fun r => G (ms_rn K d (i + 1) (d i q n) b r)) (K ^ b) (fun r hr => by (try dsimp only); rw [ms_rn_cons (by omega) hr])]
/-- a suffix of the read word -/
theorem ms_suf {K h M : Nat} {w : Nat → Nat} {d : Nat → Nat → Nat → Nat} {F : Nat} {L : Nat → Bool} (hK : 0 < K) (A : ms_Aut K h M w d F L) {n p r : Nat} (hn : n ≤ h) (hp : p < K ^ n) (hr : r < K ^ (h - n)) : F.testBit (ms_rn K d n (ms_rn K d 0 0 n p) (h - n) r) = L (p * K ^ (h - n) + r) := by
  have hc := ms_join hp hr
  rw [Nat.add_sub_cancel' hn] at hc
  have e := ms_rn_app (d := d) (i := 0) (q := 0) (a := n) hK (h - n) p r hr
  rw [Nat.add_sub_cancel' hn, Nat.zero_add] at e
  rw [← e]
  exact A.2.2.2.2.2.2 _ hc
/-- Aut gives a width -/
theorem ms_Aut_run {K h M : Nat} {w : Nat → Nat} {d : Nat → Nat → Nat → Nat} {F : Nat} {L : Nat → Bool} (hK : 0 < K) (A : ms_Aut K h M w d F L) {j : Nat} (hj : j ≤ h) (p : Nat) : ms_rn K d 0 0 j p < w j := by
  have := ms_rn_lt (i := 0) (q := 0) hK A.2.2.2.1 (by rw [A.1]; decide) j p (by omega)
  rw [Nat.zero_add] at this
  exact this
theorem ms_Aut_isW {K h M : Nat} {w : Nat → Nat} {d : Nat → Nat → Nat → Nat} {F : Nat} {L : Nat → Bool} (hK : 0 < K) (A : ms_Aut K h M w d F L) {j : Nat} (hj : j ≤ h) : ms_isW (ms_eqv K h L j) (K ^ j) (w j) := by
  refine ⟨fun p => ms_rn K d 0 0 j p, fun p _ => ms_Aut_run hK A hj p, fun p q hp hq => ?_, fun k hk => A.2.2.2.2.1 j k hj hk⟩
  constructor
  · intro e r hr
    rw [← ms_suf hK A hj hp hr, ← ms_suf hK A hj hq hr]
    try dsimp only at e
    rw [e]
  · intro E
    refine A.2.2.2.2.2.1 j _ _ hj (ms_Aut_run hK A hj p) (ms_Aut_run hK A hj q) (fun r hr => ?_)
    try dsimp only
    rw [ms_suf hK A hj hp hr, ms_suf hK A hj hq hr]
    exact E r hr
/-- negation -/
theorem ms_Aut_neg {K h M : Nat} {w : Nat → Nat} {d : Nat → Nat → Nat → Nat} {F : Nat} {L : Nat → Bool} (hK : 0 < K) (A : ms_Aut K h M w d F L) : ms_Aut K h M w d (F ^^^ (2 ^ w h - 1)) (fun c => !L c) := by
  have hb : ∀ q, q < w h → (F ^^^ (2 ^ w h - 1)).testBit q = !F.testBit q := by
    intro q hq
    rw [Nat.testBit_xor, Nat.testBit_two_pow_sub_one]
    simp [hq]
  have hr := A
  obtain ⟨a0, a1, a2, a3, a4, a5, a6⟩ := A
  have hl : ∀ j s, j ≤ h → s < w j → ∀ x, ms_rn K d j s (h - j) x < w h := by
    intro j s hj hs x
    have := ms_rn_lt hK a3 hs (h - j) x (by omega)
    rw [Nat.add_sub_cancel' hj] at this
    exact this
  refine ⟨a0, a1, Nat.xor_lt_two_pow a2 (by have := Nat.two_pow_pos (w h); omega), a3, a4, fun j s s' hj hs hs' E => a5 j s s' hj hs hs' (fun r hrr => ?_), fun c hc => ?_⟩
  · have := E r hrr
    try dsimp only at this ⊢
    rw [hb _ (hl j s hj hs r), hb _ (hl j s' hj hs' r)] at this
    cases h1 : F.testBit (ms_rn K d j s (h - j) r) <;> cases h2 : F.testBit (ms_rn K d j s' (h - j) r) <;> rw [h1, h2] at this <;> first | rfl | exact absurd this (by decide)
  · rw [hb _ (ms_Aut_run hK hr (Nat.le_refl h) c), a6 c hc]
/-- products -/
theorem ms_rn_prod {K h : Nat} {dl dr g : Nat → Nat → Nat → Nat} {wl wr : Nat → Nat} (hK : 0 < K) (hl : ∀ i q c, i < h → q < wl i → c < K → dl i q c < wl (i + 1)) (hr : ∀ i q c, i < h → q < wr i → c < K → dr i q c < wr (i + 1)) (h0 : 0 < wl 0) (h1 : 0 < wr 0) (hw : ∀ j, j ≤ h → wr j ≤ 12) (hg : ∀ j k c, g j k c = dl j (k / 12) c * 12 + dr j (k % 12) c) : ∀ n p, n ≤ h → ms_rn K g 0 0 n p / 12 = ms_rn K dl 0 0 n p ∧ ms_rn K g 0 0 n p % 12 = ms_rn K dr 0 0 n p := by
  intro n
  induction n with
  | zero => intro p _; rw [ms_rn_0, ms_rn_0, ms_rn_0]; exact ⟨by decide, by decide⟩
  | succ n ih =>
    intro p hn
    rw [ms_rn_s, ms_rn_s, ms_rn_s, hg, (ih (p / K) (by omega)).1, (ih (p / K) (by omega)).2]
    have b := ms_rn_lt hK hr h1 (n + 1) p (by omega)
    rw [ms_rn_s] at b
    have b2 := hw (0 + (n + 1)) (by omega)
    exact ms_dm (by omega)
theorem ms_WA_ex {K h : Nat} {n : Nat → Nat} {e : Nat → Nat → Nat → Nat} {G L : Nat → Bool} (hK : 0 < K) (H : ms_WA K h n e G L) : (∃ s, s < n h ∧ G s = true) ↔ ∃ c, c < K ^ h ∧ L c = true := by
  constructor
  · rintro ⟨s, hs, g⟩
    obtain ⟨p, hp, ep⟩ := H.2.2.2.1 h s (Nat.le_refl h) hs
    exact ⟨p, hp, by rw [← H.2.2.2.2 p hp, ep]; exact g⟩
  · rintro ⟨c, hc, g⟩
    have hl := ms_rn_lt (i := 0) (q := 0) hK H.2.2.1 (by rw [H.1]; decide) h c (by omega)
    rw [Nat.zero_add] at hl
    exact ⟨_, hl, by rw [H.2.2.2.2 c hc]; exact g⟩
/-- independence of a track -/
theorem ms_vr_rfl {K bit : Nat} (hK : 0 < K) : ∀ n p, p < K ^ n → ms_vr K bit n p p := by
  intro n
  induction n with
  | zero => intro p hp; show p = 0; simpa using hp
  | succ n ih => intro p hp; exact ⟨ih _ (ms_dvs hp), Or.inl rfl⟩
theorem ms_vr_app {K bit a p p' : Nat} (hK : 0 < K) (V : ms_vr K bit a p p') : ∀ b r, r < K ^ b → ms_vr K bit (a + b) (p * K ^ b + r) (p' * K ^ b + r) := by
  intro b
  induction b with
  | zero =>
    intro r hr
    have h0 : r = 0 := by simpa using hr
    subst h0
    simpa using V
  | succ b ih =>
    intro r hr
    have e := ms_dvc (b := b) (p := p) (r := r) hK
    have e' := ms_dvc (b := b) (p := p') (r := r) hK
    show ms_vr K bit (a + b) ((p * K ^ (b + 1) + r) / K) ((p' * K ^ (b + 1) + r) / K) ∧ _
    rw [e.1, e'.1, e.2, e'.2]
    exact ⟨ih _ (ms_dvs hr), Or.inl rfl⟩
theorem ms_dep {K h M bit : Nat} {w : Nat → Nat} {d : Nat → Nat → Nat → Nat} {F : Nat} {L : Nat → Bool} (hK : 0 < K) (hbit : ∀ c, c < K → c ^^^ bit < K) (A : ms_Aut K h M w d F L) : (∃ j s c, j < h ∧ s < w j ∧ c < K ∧ d j s c ≠ d j s (c ^^^ bit)) ↔ ∃ c c', c < K ^ h ∧ ms_vr K bit h c c' ∧ L c ≠ L c' := by
  constructor
  · rintro ⟨j, s, c, hj, hs, hc, hne⟩
    obtain ⟨p, hp, ep⟩ := A.2.2.2.2.1 j s (by omega) hs
    have hcb := hbit c hc
    apply Classical.byContradiction
    intro hno
    refine hne (A.2.2.2.2.2.1 (j + 1) _ _ (by omega) (A.2.2.2.1 j s c hj hs hc) (A.2.2.2.1 j s _ hj hs hcb) (fun r hr => ?_))
    try dsimp only
    have run : ∀ x, x < K → ms_rn K d 0 0 (j + 1) (p * K + x) = d j s x := by
      intro x hx
      have := ms_dm (p := p) hx
      rw [ms_rn_s, this.1, this.2, ep, Nat.zero_add]
    have hlt : ∀ x, x < K → p * K + x < K ^ (j + 1) := by
      intro x hx
      have := ms_join (a := j) (b := 1) (K := K) hp (r := x) (by simpa using hx)
      rw [Nat.pow_one] at this
      exact this
    rw [← run c hc, ← run _ hcb, ms_suf hK A (by omega) (hlt c hc) hr, ms_suf hK A (by omega) (hlt _ hcb) hr]
    apply Classical.byContradiction
    intro hl
    refine hno ⟨_, _, ?_, ?_, hl⟩
    · have := ms_join (hlt c hc) hr
      rw [Nat.add_sub_cancel' (by omega : j + 1 ≤ h)] at this
      exact this
    · have V : ms_vr K bit (j + 1) (p * K + c) (p * K + (c ^^^ bit)) := by
        have e1 := ms_dm (p := p) hc
        have e2 := ms_dm (p := p) hcb
        show ms_vr K bit j ((p * K + c) / K) ((p * K + (c ^^^ bit)) / K) ∧ _
        rw [e1.1, e2.1, e1.2, e2.2]
        exact ⟨ms_vr_rfl hK j p hp, Or.inr rfl⟩
      have := ms_vr_app hK V (h - (j + 1)) r hr
      rw [Nat.add_sub_cancel' (by omega : j + 1 ≤ h)] at this
      exact this
  · rintro ⟨c, c', hc, V, hne⟩
    apply Classical.byContradiction
    intro hno
    have same : ∀ j s c, j < h → s < w j → c < K → d j s c = d j s (c ^^^ bit) := by
      intro j s c h1 h2 h3
      apply Classical.byContradiction
      intro h4
      exact hno ⟨j, s, c, h1, h2, h3, h4⟩
    have runs : ∀ n p p', n ≤ h → ms_vr K bit n p p' → ms_rn K d 0 0 n p = ms_rn K d 0 0 n p' := by
      intro n
      induction n with
      | zero => intro p p' _ _; rfl
      | succ n ih =>
        intro p p' hn V
        rw [ms_rn_s, ms_rn_s, ← ih _ _ (by omega) V.1, Nat.zero_add]
        rcases V.2 with e | e
        · rw [e]
        · rw [e]
          exact same n _ _ (by omega) (ms_Aut_run hK A (by omega) _) (Nat.mod_lt _ hK)
    apply hne
    rw [← A.2.2.2.2.2.2 c hc, ← A.2.2.2.2.2.2 c' (ms_vr_lt hK _ _ _ V), runs h c c' (Nat.le_refl h) V]
/-- the reach of an end -/
def ms_Z (K h : Nat) (d : Nat → Nat → Nat → Nat) (F j s : Nat) : Bool := F.testBit (ms_rn K d j s (h - j) 0)
theorem ms_Z_s {K h : Nat} {d : Nat → Nat → Nat → Nat} {F j s : Nat} (hK : 0 < K) (hj : j < h) : ms_Z K h d F j s = ms_Z K h d F (j + 1) (d j s 0) := by
  unfold ms_Z
  obtain ⟨b, hb⟩ : ∃ b, h - j = b + 1 := ⟨h - j - 1, by omega⟩
  rw [hb, show h - (j + 1) = b from by omega]
  have := ms_rn_cons (d := d) (i := j) (q := s) (b := b) (c := 0) (r := 0) hK (Nat.pow_pos hK)
  rw [Nat.zero_mul, Nat.zero_add] at this
  rw [this]
theorem ms_Z_h {K h : Nat} {d : Nat → Nat → Nat → Nat} {F s : Nat} : ms_Z K h d F h s = F.testBit s := by
  unfold ms_Z
  rw [Nat.sub_self]; rfl
def ms_RE (K h : Nat) (d : Nat → Nat → Nat → Nat) (F e j s : Nat) : Prop := ∃ r, r < K ^ (e - j) ∧ ms_Z K h d F e (ms_rn K d j s (e - j) r) = true
theorem ms_RE_e {K h : Nat} {d : Nat → Nat → Nat → Nat} {F e s : Nat} : ms_RE K h d F e e s ↔ ms_Z K h d F e s = true := by
  unfold ms_RE
  rw [Nat.sub_self]
  constructor
  · rintro ⟨r, _, h⟩; exact h
  · intro h; exact ⟨0, by simp, h⟩
theorem ms_RE_s {K h : Nat} {d : Nat → Nat → Nat → Nat} {F e j s : Nat} (hK : 0 < K) (hj : j < e) : ms_RE K h d F e j s ↔ ∃ c, c < K ∧ ms_RE K h d F e (j + 1) (d j s c) := by
  unfold ms_RE
  obtain ⟨b, hb⟩ : ∃ b, e - j = b + 1 := ⟨e - j - 1, by omega⟩
  rw [hb, show e - (j + 1) = b from by omega]
  constructor
  · rintro ⟨r, hr, h⟩
    obtain ⟨h1, h2, h3⟩ := ms_split (K := K) (r := r) b hK (a := 1) (by rw [Nat.add_comm]; exact hr)
    rw [Nat.pow_one] at h1
    rw [← h3, ms_rn_cons h1 h2] at h
    exact ⟨_, h1, _, h2, h⟩
  · rintro ⟨c, hc, r, hr, h⟩
    refine ⟨c * K ^ b + r, by rw [Nat.add_comm b 1]; exact ms_join (a := 1) (by simpa using hc) hr, ?_⟩
    rw [ms_rn_cons hc hr]
    exact h
end
section
/-! the component: the questions -/
section XQ
variable {tr hz lm K ht rd : Nat} {pl nx wd fi wo wc wk wn wg ki wl cc cr mo zm re fo : Nat → Nat}
variable {L : Nat → Bool} {sl : Nat}
theorem ms_Sl_w (hM : lm ≤ 12) (S : ms_Slot K hz lm nx wd fi sl L) {j : Nat} (hj : j ≤ hz) : wd (sl * 7 + j) ≤ 12 := Nat.le_trans (S.2.1 j hj) hM
theorem ms_Sl_d (hM : lm ≤ 12) (S : ms_Slot K hz lm nx wd fi sl L) {j s c : Nat} (hj : j < hz) (hs : s < wd (sl * 7 + j)) (hc : c < K) : nx (((sl * 6 + j) * 12 + s) * 8 + c) < wd (sl * 7 + (j + 1)) := S.2.2.2.1 j s c hj hs hc
theorem ms_Sl_F (hM : lm ≤ 12) (S : ms_Slot K hz lm nx wd fi sl L) : fi sl < 2 ^ 12 := Nat.lt_of_lt_of_le S.2.2.1 (Nat.pow_le_pow_right (by decide) (ms_Sl_w hM S (Nat.le_refl hz)))
theorem ms_readState {post : Int32 → Prop} (hh : hz ≤ 6) (hK0 : 0 < K) (hK : K ≤ 8) (hM : lm ≤ 12) (hsl : sl < 4) (S : ms_Slot K hz lm nx wd fi sl L) (hrd : rd ≤ hz) (hwo : ∀ i, i < rd → wo i < K) (H : post (nI (ms_rn K (fun j q c => nx (((sl * 6 + j) * 12 + q) * 8 + c)) 0 0 rd (ms_wd K wo rd)))) : wpX_readState post ((nI tr), (nI hz), (nI lm), (nI K), (nI ht), (nI rd), (ms_F pl), (ms_F nx), (ms_F wd), (ms_F fi), (ms_F wo), (ms_F wc), (ms_F wk), (ms_F wn), (ms_F wg), (ms_F ki), (ms_F wl), (ms_F cc), (ms_F cr), (ms_F mo), (ms_F zm), (ms_F re), (ms_F fo)) (nI sl) := by
  have Lp : ∃ n, wX_readState_4 post (nI sl) (nI tr) (nI hz) (nI lm) (nI K) (nI ht) (nI rd) (ms_F pl) (ms_F nx) (ms_F wd) (ms_F fi) (ms_F wo) (ms_F wc) (ms_F wk) (ms_F wn) (ms_F wg) (ms_F ki) (ms_F wl) (ms_F cc) (ms_F cr) (ms_F mo) (ms_F zm) (ms_F re) (ms_F fo) n (nI (ms_rn K (fun j q c => nx (((sl * 6 + j) * 12 + q) * 8 + c)) 0 0 0 (ms_wd K wo 0))) (nI 0) :=
    loop_0 (fun n i (_ : Unit) => wX_readState_4 post (nI sl) (nI tr) (nI hz) (nI lm) (nI K) (nI ht) (nI rd) (ms_F pl) (ms_F nx) (ms_F wd) (ms_F fi) (ms_F wo) (ms_F wc) (ms_F wk) (ms_F wn) (ms_F wg) (ms_F ki) (ms_F wl) (ms_F cc) (ms_F cr) (ms_F mo) (ms_F zm) (ms_F re) (ms_F fo) n (nI (ms_rn K (fun j q c => nx (((sl * 6 + j) * 12 + q) * 8 + c)) 0 0 i (ms_wd K wo i))) (nI i)) (fun i _ => True) rd () trivial
      (fun n _ _ => br_t (nI_le (Nat.le_refl rd) (by omega)) H)
      (fun n i _ hi _ k => br_f (nI_ge hi (by omega)) (And.intro (ms_in rfl (by omega) (by decide)) (by
        have hst := ms_Aut_run hK0 S (j := i) (by omega) (ms_wd K wo i)
        have hw := ms_Sl_w hM S (j := i) (by omega)
        have hc := hwo i hi
        rw [ms_rdn (by omega)]
        refine ms_step hsl (by omega) (by omega) (by omega) (nm_r (nI_1 i) ?_)
        have := k () trivial
        rw [ms_wd_rn hc] at this
        exact this)))
  exact Lp
theorem ms_preimage {post : Int32 → Prop} {j m tried : Nat} (hj : j < 6) (hsl : sl < 4) (htr : tried ≤ 8) (hw : wd (sl * 7 + j) ≤ 12) (hd : ∀ s c, s < wd (sl * 7 + j) → c < tried → nx (((sl * 6 + j) * 12 + s) * 8 + c) < 12) (hm : m < 2 ^ 31)
    (H : ∀ M, M < 2 ^ 12 → (∀ s, s < wd (sl * 7 + j) → (M.testBit s = true ↔ ∃ c, c < tried ∧ m.testBit (nx (((sl * 6 + j) * 12 + s) * 8 + c)) = true)) → post (nI M)) : wpX_preimage post ((nI tr), (nI hz), (nI lm), (nI K), (nI ht), (nI rd), (ms_F pl), (ms_F nx), (ms_F wd), (ms_F fi), (ms_F wo), (ms_F wc), (ms_F wk), (ms_F wn), (ms_F wg), (ms_F ki), (ms_F wl), (ms_F cc), (ms_F cr), (ms_F mo), (ms_F zm), (ms_F re), (ms_F fo)) (nI sl) (nI j) (nI m) (nI tried) := by
  refine And.intro (ms_in (ms_7 sl j) (by omega) (by decide)) (nm_r (ms_rd (ms_7 sl j) (by omega)) ?_)
  exact loop_0 (fun n i (M : Nat) => wX_preimage_19 post (nI sl) (nI j) (nI m) (nI tried) (nI (wd (sl * 7 + j))) (nI tr) (nI hz) (nI lm) (nI K) (nI ht) (nI rd) (ms_F pl) (ms_F nx) (ms_F wd) (ms_F fi) (ms_F wo) (ms_F wc) (ms_F wk) (ms_F wn) (ms_F wg) (ms_F ki) (ms_F wl) (ms_F cc) (ms_F cr) (ms_F mo) (ms_F zm) (ms_F re) (ms_F fo) n (nI M) (nI i)) (fun i M => M < 2 ^ i ∧ ∀ s, s < i → (M.testBit s = true ↔ ∃ c, c < tried ∧ m.testBit (nx (((sl * 6 + j) * 12 + s) * 8 + c)) = true)) (wd (sl * 7 + j)) 0 ⟨by decide, fun s hs => absurd hs (Nat.not_lt_zero s)⟩
    (fun n M hI => br_t (nI_le (Nat.le_refl _) (by omega)) (H M (Nat.lt_of_lt_of_le hI.1 (Nat.pow_le_pow_right (by decide) hw)) hI.2))
    (fun n i M hi hI k => br_f (nI_ge hi (by omega)) (by
      exact loop_0 (fun n' c (M' : Nat) => wX_preimage_29 post (wX_preimage_19 post (nI sl) (nI j) (nI m) (nI tried) (nI (wd (sl * 7 + j))) (nI tr) (nI hz) (nI lm) (nI K) (nI ht) (nI rd) (ms_F pl) (ms_F nx) (ms_F wd) (ms_F fi) (ms_F wo) (ms_F wc) (ms_F wk) (ms_F wn) (ms_F wg) (ms_F ki) (ms_F wl) (ms_F cc) (ms_F cr) (ms_F mo) (ms_F zm) (ms_F re) (ms_F fo) n) (nI sl) (nI j) (nI m) (nI tried) (nI (wd (sl * 7 + j))) (nI i) (nI tr) (nI hz) (nI lm) (nI K) (nI ht) (nI rd) (ms_F pl) (ms_F nx) (ms_F wd) (ms_F fi) (ms_F wo) (ms_F wc) (ms_F wk) (ms_F wn) (ms_F wg) (ms_F ki) (ms_F wl) (ms_F cc) (ms_F cr) (ms_F mo) (ms_F zm) (ms_F re) (ms_F fo) n' (nI M') (nI c)) (fun c M' => M' < 2 ^ (i + 1) ∧ (∀ s, s < i → M'.testBit s = M.testBit s) ∧ (M'.testBit i = true ↔ ∃ c', c' < c ∧ m.testBit (nx (((sl * 6 + j) * 12 + i) * 8 + c')) = true)) tried M
        ⟨by rw [Nat.pow_succ]; omega, fun s _ => rfl, by
          rw [Nat.testBit_lt_two_pow hI.1]
          exact ⟨fun e => absurd e (by decide), fun ⟨c', h1, _⟩ => absurd h1 (Nat.not_lt_zero c')⟩⟩
        (fun n' M' hJ => br_t (nI_le (Nat.le_refl _) (by omega)) (nm_r (nI_1 i) (k M' ⟨hJ.1, fun s hs => by
          by_cases e : s = i
          · subst e; exact hJ.2.2
          · rw [hJ.2.1 s (by omega)]; exact hI.2 s (by omega)⟩)))
        (fun n' c M' hc hJ kk => br_f (nI_ge hc (by omega)) (by
          have hdc := hd i c hi hc
          refine ms_step hsl hj (by omega) (by omega) ?_
          refine ms_brb _ (ms_bitB hm (by omega)) (fun e => nm_r (e' := nI (M' ||| 2 ^ i)) (by rw [ms_shl1 (by omega), nx_or]) (nm_r (nI_1 c) (kk _ ⟨?_, fun s hs => ?_, ?_⟩))) (fun e => nm_r (nI_1 c) (kk _ ⟨hJ.1, hJ.2.1, ?_⟩))
          · exact Nat.or_lt_two_pow hJ.1 (Nat.pow_lt_pow_right (by decide) (by omega))
          · rw [Nat.testBit_or, Nat.testBit_two_pow, hJ.2.1 s hs]
            have : decide (i = s) = false := by simp; omega
            rw [this, Bool.or_false]
          · rw [Nat.testBit_or, Nat.testBit_two_pow]
            exact ⟨fun _ => ⟨c, by omega, e⟩, fun _ => by simp⟩
          · rw [hJ.2.2]
            constructor
            · rintro ⟨c', h1, h2⟩; exact ⟨c', by omega, h2⟩
            · rintro ⟨c', h1, h2⟩
              by_cases e3 : c' = c
              · subst e3; rw [e] at h2; exact absurd h2 (by decide)
              · exact ⟨c', by omega, h2⟩))))
theorem ms_fillZero {post : SX → Prop} (hh : hz ≤ 6) (hK0 : 0 < K) (hK : K ≤ 8) (hM : lm ≤ 12) (hsl : sl < 4) (S : ms_Slot K hz lm nx wd fi sl L)
    (H : ∀ zm : Nat → Nat, (∀ j, j ≤ hz → zm j < 2 ^ 12 ∧ ∀ s, s < wd (sl * 7 + j) → (zm j).testBit s = ms_Z K hz (fun j q c => nx (((sl * 6 + j) * 12 + q) * 8 + c)) (fi sl) j s) → post ((nI tr), (nI hz), (nI lm), (nI K), (nI ht), (nI rd), (ms_F pl), (ms_F nx), (ms_F wd), (ms_F fi), (ms_F wo), (ms_F wc), (ms_F wk), (ms_F wn), (ms_F wg), (ms_F ki), (ms_F wl), (ms_F cc), (ms_F cr), (ms_F mo), (ms_F zm), (ms_F re), (ms_F fo))) : wpX_fillZeroMasks post ((nI tr), (nI hz), (nI lm), (nI K), (nI ht), (nI rd), (ms_F pl), (ms_F nx), (ms_F wd), (ms_F fi), (ms_F wo), (ms_F wc), (ms_F wk), (ms_F wn), (ms_F wg), (ms_F ki), (ms_F wl), (ms_F cc), (ms_F cr), (ms_F mo), (ms_F zm), (ms_F re), (ms_F fo)) (nI sl) := by
  have hF := ms_Sl_F hM S
  have key : ∀ i, i ≤ hz → ∀ zm : Nat → Nat, (∀ j, i ≤ j → j ≤ hz → zm j < 2 ^ 12 ∧ ∀ s, s < wd (sl * 7 + j) → (zm j).testBit s = ms_Z K hz (fun j q c => nx (((sl * 6 + j) * 12 + q) * 8 + c)) (fi sl) j s) → wX_fillZeroMasks_22 post (nI sl) (nI tr) (nI hz) (nI lm) (nI K) (nI ht) (nI rd) (i + 1) (nI i + (-1)) (ms_F pl) (ms_F nx) (ms_F wd) (ms_F fi) (ms_F wo) (ms_F wc) (ms_F wk) (ms_F wn) (ms_F wg) (ms_F ki) (ms_F wl) (ms_F cc) (ms_F cr) (ms_F mo) (ms_F zm) (ms_F re) (ms_F fo) := by
    intro i
    induction i with
    | zero => intro _ zm hz'; exact br_t (by decide) (H zm (fun j hj => hz' j (by omega) hj))
    | succ i ih =>
      intro hi zm hz'
      rw [pk_m1 i]
      refine br_f (nI_pos (by omega)) (And.intro (ms_in (nI_1 i) (by omega) (by decide)) ?_)
      rw [ms_rd (nI_1 i) (by omega)]
      have g := hz' (i + 1) (Nat.le_refl _) hi
      refine ms_preimage (tried := 1) (by omega) hsl (by decide) (ms_Sl_w hM S (by omega)) (fun s c hs hc => Nat.lt_of_lt_of_le (ms_Sl_d hM S (by omega) hs (by omega)) (ms_Sl_w hM S (by omega))) (by omega) (fun M hM12 hb => ?_)
      refine And.intro (ms_in rfl (by omega) (by decide)) (nm_r (ms_up rfl (by omega) rfl) (nm_e (ih (by omega) _ (fun j h1 h2 => ?_))))
      by_cases e : j = i
      · subst e
        rw [ms_Us]
        refine ⟨hM12, fun s hs => ?_⟩
        have hd := ms_Sl_d hM S (c := 0) (by omega : j < hz) hs hK0
        rw [ms_Z_s hK0 (by omega : j < hz), ← g.2 _ hd]
        rw [Bool.eq_iff_iff, hb s hs]
        constructor
        · rintro ⟨c, h1, h2⟩
          have : c = 0 := by omega
          subst this; exact h2
        · intro h2; exact ⟨0, by decide, h2⟩
      · rw [ms_Un e]; exact hz' j (by omega) h2
  refine And.intro (ms_in rfl hsl (by decide)) (And.intro (ms_in rfl (by omega) (by decide)) (nm_r (ms_up (v := fi sl) rfl (by omega) (ms_rdn (by omega))) (nm_r (ms_subm hz) ⟨_, key hz (Nat.le_refl hz) _ (fun j h1 h2 => ?_)⟩)))
  have e : j = hz := by omega
  subst e
  rw [ms_Us]
  exact ⟨hF, fun s _ => ms_Z_h.symm⟩
theorem ms_ce102 {post : Int32 → SX → Prop} {J65 J89 : Int32 → (Nat → Int32) → (Nat → Int32) → (Nat → Int32) → (Nat → Int32) → (Nat → Int32) → (Nat → Int32) → (Nat → Int32) → (Nat → Int32) → (Nat → Int32) → (Nat → Int32) → (Nat → Int32) → (Nat → Int32) → (Nat → Int32) → (Nat → Int32) → (Nat → Int32) → (Nat → Int32) → (Nat → Int32) → Prop} {j s : Nat} {x4 : Int32} (hh : hz ≤ 6) (hK0 : 0 < K) (hK : K ≤ 8) (hM : lm ≤ 12) (hsl : sl < 4) (S : ms_Slot K hz lm nx wd fi sl L) (hj : j < hz) (hs : s < wd (sl * 7 + j))
    (hm : ∀ q, q < wd (sl * 7 + (j + 1)) → mo ((j + 1) * 12 + q) = ms_cn (fun r => (fi sl).testBit (ms_rn K (fun j q c => nx (((sl * 6 + j) * 12 + q) * 8 + c)) (j + 1) q (hz - (j + 1)) r)) (K ^ (hz - (j + 1))))
    (H : J89 (nI (s + 1)) (ms_F pl) (ms_F nx) (ms_F wd) (ms_F fi) (ms_F wo) (ms_F wc) (ms_F wk) (ms_F wn) (ms_F wg) (ms_F ki) (ms_F wl) (ms_F cc) (ms_F cr) (ms_F (ms_U mo (j * 12 + s) (ms_cn (fun r => (fi sl).testBit (ms_rn K (fun j q c => nx (((sl * 6 + j) * 12 + q) * 8 + c)) j s (hz - j) r)) (K ^ (hz - j))))) (ms_F zm) (ms_F re) (ms_F fo)) : ∃ n, wX_countExtensions_102 post J65 J89 (nI sl) (nI j) x4 (nI s) (nI tr) (nI hz) (nI lm) (nI K) (nI ht) (nI rd) (ms_F pl) (ms_F nx) (ms_F wd) (ms_F fi) (ms_F wo) (ms_F wc) (ms_F wk) (ms_F wn) (ms_F wg) (ms_F ki) (ms_F wl) (ms_F cc) (ms_F cr) (ms_F mo) (ms_F zm) (ms_F re) (ms_F fo) n (nI 0) (nI 0) := by
  obtain ⟨b, hb⟩ : ∃ b, hz - j = b + 1 := ⟨hz - j - 1, by omega⟩
  have hb' : hz - (j + 1) = b := by omega
  rw [hb'] at hm
  rw [hb] at H
  have hw := ms_Sl_w hM S (j := j) (by omega)
  have hw1 := ms_Sl_w hM S (j := j + 1) (by omega)
  exact loop_0 (fun n c (x : Nat) => wX_countExtensions_102 post J65 J89 (nI sl) (nI j) x4 (nI s) (nI tr) (nI hz) (nI lm) (nI K) (nI ht) (nI rd) (ms_F pl) (ms_F nx) (ms_F wd) (ms_F fi) (ms_F wo) (ms_F wc) (ms_F wk) (ms_F wn) (ms_F wg) (ms_F ki) (ms_F wl) (ms_F cc) (ms_F cr) (ms_F mo) (ms_F zm) (ms_F re) (ms_F fo) n (nI x) (nI c)) (fun c x => x = ms_cn (fun r => (fi sl).testBit (ms_rn K (fun j q c => nx (((sl * 6 + j) * 12 + q) * 8 + c)) j s (b + 1) r)) (c * K ^ b)) K 0 (by rw [Nat.zero_mul]; rfl)
    (fun n x hI => br_t (nI_le (Nat.le_refl K) (by omega)) (And.intro (ms_in (ms_12 j s) (by omega) (by decide)) (nm_r (ms_up (ms_12 j s) (by omega) rfl) (nm_r (nI_1 s) (by
      rw [hI, Nat.mul_comm K (K ^ b), ← Nat.pow_succ]
      exact H)))))
    (fun n c x hc hI k => br_f (nI_ge hc (by omega)) (by
      have hd := ms_Sl_d hM S hj hs hc
      refine ms_step hsl (by omega) (by omega) (by omega) (And.intro (ms_in (ms_12' j _) (by omega) (by decide)) (nm_r (by rw [ms_rd (ms_12' j _) (by omega), nI_add]) (nm_r (nI_1 c) (k _ ?_))))
      rw [hm _ hd, hI, ms_cn_step hc]))
theorem ms_ce89 {post : Int32 → SX → Prop} {J65 : Int32 → (Nat → Int32) → (Nat → Int32) → (Nat → Int32) → (Nat → Int32) → (Nat → Int32) → (Nat → Int32) → (Nat → Int32) → (Nat → Int32) → (Nat → Int32) → (Nat → Int32) → (Nat → Int32) → (Nat → Int32) → (Nat → Int32) → (Nat → Int32) → (Nat → Int32) → (Nat → Int32) → (Nat → Int32) → Prop} {j : Nat} (hh : hz ≤ 6) (hK0 : 0 < K) (hK : K ≤ 8) (hM : lm ≤ 12) (hsl : sl < 4) (S : ms_Slot K hz lm nx wd fi sl L) (hj : j < hz)
    (hm : ∀ j', j < j' → j' ≤ hz → ∀ q, q < wd (sl * 7 + j') → mo (j' * 12 + q) = ms_cn (fun r => (fi sl).testBit (ms_rn K (fun j q c => nx (((sl * 6 + j) * 12 + q) * 8 + c)) j' q (hz - j') r)) (K ^ (hz - j')))
    (H : ∀ mo : Nat → Nat, (∀ j', j ≤ j' → j' ≤ hz → ∀ q, q < wd (sl * 7 + j') → mo (j' * 12 + q) = ms_cn (fun r => (fi sl).testBit (ms_rn K (fun j q c => nx (((sl * 6 + j) * 12 + q) * 8 + c)) j' q (hz - j') r)) (K ^ (hz - j'))) → J65 (nI j + (-1)) (ms_F pl) (ms_F nx) (ms_F wd) (ms_F fi) (ms_F wo) (ms_F wc) (ms_F wk) (ms_F wn) (ms_F wg) (ms_F ki) (ms_F wl) (ms_F cc) (ms_F cr) (ms_F mo) (ms_F zm) (ms_F re) (ms_F fo)) : ∃ n, wX_countExtensions_89 post J65 (nI sl) (nI j) (nI (wd (sl * 7 + j))) (nI tr) (nI hz) (nI lm) (nI K) (nI ht) (nI rd) n (nI 0) (ms_F pl) (ms_F nx) (ms_F wd) (ms_F fi) (ms_F wo) (ms_F wc) (ms_F wk) (ms_F wn) (ms_F wg) (ms_F ki) (ms_F wl) (ms_F cc) (ms_F cr) (ms_F mo) (ms_F zm) (ms_F re) (ms_F fo) := by
  have hw := ms_Sl_w hM S (j := j) (by omega)
  exact loop_0 (fun n i (m : Nat → Nat) => wX_countExtensions_89 post J65 (nI sl) (nI j) (nI (wd (sl * 7 + j))) (nI tr) (nI hz) (nI lm) (nI K) (nI ht) (nI rd) n (nI i) (ms_F pl) (ms_F nx) (ms_F wd) (ms_F fi) (ms_F wo) (ms_F wc) (ms_F wk) (ms_F wn) (ms_F wg) (ms_F ki) (ms_F wl) (ms_F cc) (ms_F cr) (ms_F m) (ms_F zm) (ms_F re) (ms_F fo)) (fun i m => (∀ q, q < i → m (j * 12 + q) = ms_cn (fun r => (fi sl).testBit (ms_rn K (fun j q c => nx (((sl * 6 + j) * 12 + q) * 8 + c)) j q (hz - j) r)) (K ^ (hz - j))) ∧ (∀ j', j < j' → j' ≤ hz → ∀ q, q < wd (sl * 7 + j') → m (j' * 12 + q) = ms_cn (fun r => (fi sl).testBit (ms_rn K (fun j q c => nx (((sl * 6 + j) * 12 + q) * 8 + c)) j' q (hz - j') r)) (K ^ (hz - j')))) (wd (sl * 7 + j)) mo ⟨fun q hq => absurd hq (Nat.not_lt_zero q), hm⟩
    (fun n m hI => br_t (nI_le (Nat.le_refl _) (by omega)) (nm_e (H m (fun j' h1 h2 q hq => by
      by_cases e : j' = j
      · subst e; exact hI.1 q hq
      · exact hI.2 j' (by omega) h2 q hq))))
    (fun n i m hi hI k => br_f (nI_ge hi (by omega)) (ms_ce102 hh hK0 hK hM hsl S hj hi (hI.2 (j + 1) (by omega) (by omega)) (k _ ⟨fun q hq => by
      by_cases e : q = i
      · subst e; exact ms_Us
      · rw [ms_Un (by omega)]; exact hI.1 q (by omega), fun j' h1 h2 q hq => by
      rw [ms_Un (by omega)]; exact hI.2 j' h1 h2 q hq⟩)))
theorem ms_countExt {post : Int32 → SX → Prop} (hh : hz ≤ 6) (hK0 : 0 < K) (hK : K ≤ 8) (hM : lm ≤ 12) (hht : 0 < ht) (hh4 : ht ≤ 4) (hpl : pl (ht - 1) = sl) (hsl : sl < 4) (S : ms_Slot K hz lm nx wd fi sl L) (hrd : rd ≤ hz) (hwo : ∀ i, i < rd → wo i < K)
    (H : ∀ mo : Nat → Nat, post (nI (ms_cn (fun r => L (ms_wd K wo rd * K ^ (hz - rd) + r)) (K ^ (hz - rd)))) ((nI tr), (nI hz), (nI lm), (nI K), (nI ht), (nI rd), (ms_F pl), (ms_F nx), (ms_F wd), (ms_F fi), (ms_F wo), (ms_F wc), (ms_F wk), (ms_F wn), (ms_F wg), (ms_F ki), (ms_F wl), (ms_F cc), (ms_F cr), (ms_F mo), (ms_F zm), (ms_F re), (ms_F fo))) : wpX_countExtensions post ((nI tr), (nI hz), (nI lm), (nI K), (nI ht), (nI rd), (ms_F pl), (ms_F nx), (ms_F wd), (ms_F fi), (ms_F wo), (ms_F wc), (ms_F wk), (ms_F wn), (ms_F wg), (ms_F ki), (ms_F wl), (ms_F cc), (ms_F cr), (ms_F mo), (ms_F zm), (ms_F re), (ms_F fo)) := by
  have hF := ms_Sl_F hM S
  have hwh := ms_Sl_w hM S (Nat.le_refl hz)
  have key : ∀ k, rd + k ≤ hz → ∀ mo : Nat → Nat, (∀ j', rd + k ≤ j' → j' ≤ hz → ∀ q, q < wd (sl * 7 + j') → mo (j' * 12 + q) = ms_cn (fun r => (fi sl).testBit (ms_rn K (fun j q c => nx (((sl * 6 + j) * 12 + q) * 8 + c)) j' q (hz - j') r)) (K ^ (hz - j'))) → wX_countExtensions_65 post (nI sl) (nI tr) (nI hz) (nI lm) (nI K) (nI ht) (nI rd) (k + 1) (nI (rd + k) + (-1)) (ms_F pl) (ms_F nx) (ms_F wd) (ms_F fi) (ms_F wo) (ms_F wc) (ms_F wk) (ms_F wn) (ms_F wg) (ms_F ki) (ms_F wl) (ms_F cc) (ms_F cr) (ms_F mo) (ms_F zm) (ms_F re) (ms_F fo) := by
    intro k
    induction k with
    | zero =>
      intro _ mo hm
      refine br_t (ms_m1lt (by omega)) (ms_readState hh hK0 hK hM hsl S hrd hwo ?_)
      have hst := ms_Aut_run hK0 S hrd (ms_wd K wo rd)
      have hw := ms_Sl_w hM S hrd
      refine And.intro (ms_in (ms_12 rd _) (by omega) (by decide)) ?_
      rw [ms_rd (ms_12 rd _) (by omega), hm rd (by omega) hrd _ hst]
      have e := ms_cn_congr (P := fun r => (fi sl).testBit (ms_rn K (fun j q c => nx (((sl * 6 + j) * 12 + q) * 8 + c)) rd (ms_rn K (fun j q c => nx (((sl * 6 + j) * 12 + q) * 8 + c)) 0 0 rd (ms_wd K wo rd)) (hz - rd) r)) (Q := fun r => L (ms_wd K wo rd * K ^ (hz - rd) + r)) (K ^ (hz - rd)) (fun r hr => ms_suf hK0 S hrd (ms_wd_lt rd hwo) hr)
      rw [e]
      exact H mo
    | succ k ih =>
      intro hk mo hm
      rw [show rd + (k + 1) = (rd + k) + 1 from rfl, pk_m1]
      refine br_f (nI_nlt (by omega) (by omega)) (And.intro (ms_in (ms_7 sl (rd + k)) (by omega) (by decide)) (nm_r (ms_rd (ms_7 sl (rd + k)) (by omega)) (ms_ce89 hh hK0 hK hM hsl S (by omega) (fun j' h1 h2 => hm j' (by omega) h2) (fun mo hm' => ih (by omega) mo hm'))))
  have L23 : ∃ n, wX_countExtensions_23 post (nI sl) (nI (wd (sl * 7 + hz))) (nI tr) (nI hz) (nI lm) (nI K) (nI ht) (nI rd) n (nI 0) (ms_F pl) (ms_F nx) (ms_F wd) (ms_F fi) (ms_F wo) (ms_F wc) (ms_F wk) (ms_F wn) (ms_F wg) (ms_F ki) (ms_F wl) (ms_F cc) (ms_F cr) (ms_F mo) (ms_F zm) (ms_F re) (ms_F fo) :=
    loop_0 (fun n i (m : Nat → Nat) => wX_countExtensions_23 post (nI sl) (nI (wd (sl * 7 + hz))) (nI tr) (nI hz) (nI lm) (nI K) (nI ht) (nI rd) n (nI i) (ms_F pl) (ms_F nx) (ms_F wd) (ms_F fi) (ms_F wo) (ms_F wc) (ms_F wk) (ms_F wn) (ms_F wg) (ms_F ki) (ms_F wl) (ms_F cc) (ms_F cr) (ms_F m) (ms_F zm) (ms_F re) (ms_F fo)) (fun i m => ∀ q, q < i → m (hz * 12 + q) = ((fi sl).testBit q).toNat) (wd (sl * 7 + hz)) mo (fun q hq => absurd hq (Nat.not_lt_zero q))
      (fun n m hI => br_t (nI_le (Nat.le_refl _) (by omega)) (nm_r (ms_subm hz) (by
        have := key (hz - rd) (by omega) m (fun j' h1 h2 q hq => by
          have e : j' = hz := by omega
          subst e
          rw [hI q hq, Nat.sub_self]
          show _ = 0 + ((fi sl).testBit q).toNat
          omega)
        rw [show rd + (hz - rd) = hz from by omega] at this
        exact ⟨_, this⟩)))
      (fun n i m hi hI k => br_f (nI_ge hi (by omega)) (And.intro (ms_in rfl hsl (by decide)) (And.intro (ms_in (ms_12 hz i) (by omega) (by decide)) (nm_r (ms_up (ms_12 hz i) (by omega) (by rw [ms_rdn (by omega)]; exact ms_bitB (by omega) (by omega))) (nm_r (nI_1 i) (k _ (fun q hq => by
        by_cases e : q = i
        · subst e; exact ms_Us
        · rw [ms_Un (by omega)]; exact hI q (by omega))))))))
  unfold wpX_countExtensions
  try dsimp only
  refine ms_slotAt (k := 0) hht hh4 ?_
  rw [Nat.sub_zero, hpl]
  exact And.intro (ms_in (ms_7 sl hz) (by omega) (by decide)) (nm_r (ms_rd (ms_7 sl hz) (by omega)) L23)
end XQ
end
section
/-! the component: the witness -/
/-- what the spelled word is -/
def ms_Sp (K h rd e : Nat) (d : Nat → Nat → Nat → Nat) (F : Nat) (wo fo : Nat → Nat) : Prop :=
  (∀ n, n < rd → fo n = wo n) ∧ (∀ n, e ≤ n → n < h → fo n = 0) ∧ (∀ n, n < h → fo n < K) ∧ ms_Z K h d F e (ms_rn K d 0 0 e (ms_wd K fo e)) = true
  ∧ (∀ c, c < K ^ h → c / K ^ (h - rd) = ms_wd K wo rd → ms_Z K h d F e (ms_rn K d 0 0 e (c / K ^ (h - e))) = true → ms_wd K fo e ≤ c / K ^ (h - e))
def ms_SI (K h rd e : Nat) (d : Nat → Nat → Nat → Nat) (F : Nat) (wo : Nat → Nat) (j : Nat) (fo : Nat → Nat) : Prop :=
  (∀ n, n < rd → fo n = wo n) ∧ (∀ n, j ≤ n → n < h → fo n = 0) ∧ (∀ n, n < h → fo n < K) ∧ ms_RE K h d F e j (ms_rn K d 0 0 j (ms_wd K fo j))
  ∧ (∀ c, c < K ^ h → c / K ^ (h - rd) = ms_wd K wo rd → ms_Z K h d F e (ms_rn K d 0 0 e (c / K ^ (h - e))) = true → ms_wd K fo j ≤ c / K ^ (h - j))
theorem ms_SI_Sp {K h rd e : Nat} {d : Nat → Nat → Nat → Nat} {F : Nat} {wo fo : Nat → Nat} (I : ms_SI K h rd e d F wo e fo) : ms_Sp K h rd e d F wo fo := ⟨I.1, I.2.1, I.2.2.1, ms_RE_e.mp I.2.2.2.1, I.2.2.2.2⟩
theorem ms_SI_0 {K h rd e : Nat} {d : Nat → Nat → Nat → Nat} {F : Nat} {wo fo : Nat → Nat} (h1 : ∀ n, n < rd → fo n = wo n) (h2 : ∀ n, rd ≤ n → n < h → fo n = 0) (h3 : ∀ n, n < h → fo n < K) (R : ms_RE K h d F e rd (ms_rn K d 0 0 rd (ms_wd K wo rd))) : ms_SI K h rd e d F wo rd fo := by
  have ew := ms_wd_congr (K := K) rd h1
  refine ⟨h1, h2, h3, by rw [ew]; exact R, fun c hc he _ => ?_⟩
  rw [ew, he]; exact Nat.le_refl _
theorem ms_SI_s {K h rd e j c : Nat} {d : Nat → Nat → Nat → Nat} {F : Nat} {wo fo : Nat → Nat} (hK : 0 < K) (he : e ≤ h) (hj : j < e) (hr : rd ≤ j) (I : ms_SI K h rd e d F wo j fo) (hc : c < K) (R : ms_RE K h d F e (j + 1) (d j (ms_rn K d 0 0 j (ms_wd K fo j)) c)) (hl : ∀ c', c' < c → ¬ ms_RE K h d F e (j + 1) (d j (ms_rn K d 0 0 j (ms_wd K fo j)) c')) : ms_SI K h rd e d F wo (j + 1) (ms_U fo j c) ∧ ms_rn K d 0 0 (j + 1) (ms_wd K (ms_U fo j c) (j + 1)) = d j (ms_rn K d 0 0 j (ms_wd K fo j)) c := by
  obtain ⟨i1, i2, i3, i4, i5⟩ := I
  have ew : ms_wd K (ms_U fo j c) j = ms_wd K fo j := ms_wd_congr j (fun i hi => ms_Un (by omega))
  have en : ms_U fo j c j = c := ms_Us
  have er : ms_rn K d 0 0 (j + 1) (ms_wd K (ms_U fo j c) (j + 1)) = d j (ms_rn K d 0 0 j (ms_wd K fo j)) c := by
    rw [ms_wd_rn (by rw [en]; exact hc), ew, en]
  refine ⟨⟨fun n hn => ?_, fun n h1 h2 => ?_, fun n hn => ?_, by rw [er]; exact R, fun x hx he1 hz => ?_⟩, er⟩
  · rw [ms_Un (by omega)]; exact i1 n hn
  · rw [ms_Un (by omega)]; exact i2 n (by omega) h2
  · by_cases e1 : n = j
    · subst e1; rw [en]; exact hc
    · rw [ms_Un e1]; exact i3 n hn
  · have hle := i5 x hx he1 hz
    show ms_wd K (ms_U fo j c) j * K + ms_U fo j c j ≤ _
    rw [ew, en, ms_div_col (K := K) (c := x) (h := h) (n := j) (by omega)]
    rcases Nat.lt_or_eq_of_le hle with hlt | heq
    · have : (ms_wd K fo j + 1) * K ≤ x / K ^ (h - j) * K := Nat.mul_le_mul_right K hlt
      rw [Nat.add_mul, Nat.one_mul] at this
      omega
    · rw [heq]
      have hcol : ms_col K h x j < K := ms_col_lt hK
      rcases Nat.lt_or_ge (ms_col K h x j) c with hlt | hge
      · refine absurd ?_ (hl _ hlt)
        have hq : x / K ^ (h - e) / K ^ (e - (j + 1)) = x / K ^ (h - (j + 1)) := by
          rw [Nat.div_div_eq_div_mul, ← Nat.pow_add, show h - e + (e - (j + 1)) = h - (j + 1) from by omega]
        have hb : x / K ^ (h - e) < K ^ ((j + 1) + (e - (j + 1))) := by
          apply Nat.div_lt_of_lt_mul
          rw [← Nat.pow_add, show h - e + (j + 1 + (e - (j + 1))) = h from by omega]
          exact hx
        obtain ⟨s1, s2, s3⟩ := ms_split (K := K) (e - (j + 1)) hK hb
        refine ⟨_, s2, ?_⟩
        have ea := ms_rn_app (d := d) (i := 0) (q := 0) (a := j + 1) hK (e - (j + 1)) (x / K ^ (h - e) / K ^ (e - (j + 1))) (x / K ^ (h - e) % K ^ (e - (j + 1))) s2
        rw [s3, Nat.zero_add, hq, show j + 1 + (e - (j + 1)) = e from by omega] at ea
        rw [ea, ms_rn_col (by omega), ← heq] at hz
        exact hz
      · exact Nat.add_le_add_left hge _
section XWI
variable {tr hz lm K ht rd : Nat} {pl nx wd fi wo wc wk wn wg ki wl cc cr mo zm re fo : Nat → Nat}
variable {L : Nat → Bool} {sl : Nat}
theorem ms_fillReach {post : SX → Prop} {e : Nat} (hh : hz ≤ 6) (hK0 : 0 < K) (hK : K ≤ 8) (hM : lm ≤ 12) (hsl : sl < 4) (S : ms_Slot K hz lm nx wd fi sl L) (hr : rd ≤ e) (he : e ≤ hz) (hZ : ∀ j, j ≤ hz → zm j < 2 ^ 12 ∧ ∀ s, s < wd (sl * 7 + j) → (zm j).testBit s = ms_Z K hz (fun j q c => nx (((sl * 6 + j) * 12 + q) * 8 + c)) (fi sl) j s)
    (H : ∀ re : Nat → Nat, (∀ j, rd ≤ j → j ≤ e → re j < 2 ^ 12 ∧ ∀ s, s < wd (sl * 7 + j) → ((re j).testBit s = true ↔ ms_RE K hz (fun j q c => nx (((sl * 6 + j) * 12 + q) * 8 + c)) (fi sl) e j s)) → post ((nI tr), (nI hz), (nI lm), (nI K), (nI ht), (nI rd), (ms_F pl), (ms_F nx), (ms_F wd), (ms_F fi), (ms_F wo), (ms_F wc), (ms_F wk), (ms_F wn), (ms_F wg), (ms_F ki), (ms_F wl), (ms_F cc), (ms_F cr), (ms_F mo), (ms_F zm), (ms_F re), (ms_F fo))) : wpX_fillReach post ((nI tr), (nI hz), (nI lm), (nI K), (nI ht), (nI rd), (ms_F pl), (ms_F nx), (ms_F wd), (ms_F fi), (ms_F wo), (ms_F wc), (ms_F wk), (ms_F wn), (ms_F wg), (ms_F ki), (ms_F wl), (ms_F cc), (ms_F cr), (ms_F mo), (ms_F zm), (ms_F re), (ms_F fo)) (nI sl) (nI e) := by
  have key : ∀ k, rd + k ≤ e → ∀ re : Nat → Nat, (∀ j, rd + k ≤ j → j ≤ e → re j < 2 ^ 12 ∧ ∀ s, s < wd (sl * 7 + j) → ((re j).testBit s = true ↔ ms_RE K hz (fun j q c => nx (((sl * 6 + j) * 12 + q) * 8 + c)) (fi sl) e j s)) → wX_fillReach_16 post (nI sl) (nI tr) (nI hz) (nI lm) (nI K) (nI ht) (nI rd) (k + 1) (nI (rd + k) + (-1)) (ms_F pl) (ms_F nx) (ms_F wd) (ms_F fi) (ms_F wo) (ms_F wc) (ms_F wk) (ms_F wn) (ms_F wg) (ms_F ki) (ms_F wl) (ms_F cc) (ms_F cr) (ms_F mo) (ms_F zm) (ms_F re) (ms_F fo) := by
    intro k
    induction k with
    | zero => intro _ re hre; exact br_t (ms_m1lt (by omega)) (H re hre)
    | succ k ih =>
      intro hk re hre
      rw [show rd + (k + 1) = (rd + k) + 1 from rfl, pk_m1]
      refine br_f (nI_nlt (by omega) (by omega)) (And.intro (ms_in (nI_1 (rd + k)) (by omega) (by decide)) ?_)
      rw [ms_rd (nI_1 (rd + k)) (by omega)]
      have g := hre (rd + k + 1) (Nat.le_refl _) (by omega)
      refine ms_preimage (tried := K) (by omega) hsl hK (ms_Sl_w hM S (by omega)) (fun s c hs hc => Nat.lt_of_lt_of_le (ms_Sl_d hM S (by omega) hs hc) (ms_Sl_w hM S (by omega))) (by omega) (fun M hM12 hb => ?_)
      refine And.intro (ms_in rfl (by omega) (by decide)) (nm_r (ms_up rfl (by omega) rfl) (nm_e (ih (by omega) _ (fun j h1 h2 => ?_))))
      by_cases e1 : j = rd + k
      · subst e1
        rw [ms_Us]
        refine ⟨hM12, fun s hs => ?_⟩
        rw [hb s hs, ms_RE_s hK0 (by omega)]
        constructor
        · rintro ⟨c, h1, h2⟩
          exact ⟨c, h1, (g.2 _ (ms_Sl_d hM S (by omega) hs h1)).mp h2⟩
        · rintro ⟨c, h1, h2⟩
          exact ⟨c, h1, (g.2 _ (ms_Sl_d hM S (by omega) hs h1)).mpr h2⟩
      · rw [ms_Un e1]; exact hre j (by omega) h2
  have k0 := key (e - rd) (by omega)
  rw [show rd + (e - rd) = e from by omega] at k0
  refine And.intro (ms_in rfl (by omega) (by decide)) (And.intro (ms_in rfl (by omega) (by decide)) (nm_r (ms_up (v := zm e) rfl (by omega) (ms_rdn (by omega))) (nm_r (ms_subm e) ⟨_, k0 _ (fun j h1 h2 => ?_)⟩)))
  have e1 : j = e := by omega
  subst e1
  rw [ms_Us]
  have z := hZ j he
  refine ⟨z.1, fun s hs => ?_⟩
  rw [z.2 s hs, ms_RE_e]
theorem ms_least {post : Int32 → Prop} {j s : Nat} (hh : hz ≤ 6) (hK : K ≤ 8) (hM : lm ≤ 12) (hsl : sl < 4) (S : ms_Slot K hz lm nx wd fi sl L) (hj : j < hz) (hs : s < wd (sl * 7 + j)) (hre : re (j + 1) < 2 ^ 12) (hex : ∃ c, c < K ∧ (re (j + 1)).testBit (nx (((sl * 6 + j) * 12 + s) * 8 + c)) = true)
    (H : ∀ c, c < K → (re (j + 1)).testBit (nx (((sl * 6 + j) * 12 + s) * 8 + c)) = true → (∀ c', c' < c → (re (j + 1)).testBit (nx (((sl * 6 + j) * 12 + s) * 8 + c')) = false) → post (nI c)) : wpX_leastColumn post ((nI tr), (nI hz), (nI lm), (nI K), (nI ht), (nI rd), (ms_F pl), (ms_F nx), (ms_F wd), (ms_F fi), (ms_F wo), (ms_F wc), (ms_F wk), (ms_F wn), (ms_F wg), (ms_F ki), (ms_F wl), (ms_F cc), (ms_F cr), (ms_F mo), (ms_F zm), (ms_F re), (ms_F fo)) (nI sl) (nI j) (nI s) := by
  have hw := ms_Sl_w hM S (j := j) (by omega)
  have hw1 := ms_Sl_w hM S (j := j + 1) (by omega)
  have Lp : ∃ n, wX_leastColumn_3 post (nI sl) (nI j) (nI s) (nI tr) (nI hz) (nI lm) (nI K) (nI ht) (nI rd) (ms_F pl) (ms_F nx) (ms_F wd) (ms_F fi) (ms_F wo) (ms_F wc) (ms_F wk) (ms_F wn) (ms_F wg) (ms_F ki) (ms_F wl) (ms_F cc) (ms_F cr) (ms_F mo) (ms_F zm) (ms_F re) (ms_F fo) n (nI 0) :=
    loop_0 (fun n i (_ : Unit) => wX_leastColumn_3 post (nI sl) (nI j) (nI s) (nI tr) (nI hz) (nI lm) (nI K) (nI ht) (nI rd) (ms_F pl) (ms_F nx) (ms_F wd) (ms_F fi) (ms_F wo) (ms_F wc) (ms_F wk) (ms_F wn) (ms_F wg) (ms_F ki) (ms_F wl) (ms_F cc) (ms_F cr) (ms_F mo) (ms_F zm) (ms_F re) (ms_F fo) n (nI i)) (fun i _ => ∀ c, c < i → (re (j + 1)).testBit (nx (((sl * 6 + j) * 12 + s) * 8 + c)) = false) K () (fun c hc => absurd hc (Nat.not_lt_zero c))
      (fun n _ hI => by
        obtain ⟨c, h1, h2⟩ := hex
        rw [hI c h1] at h2
        exact absurd h2 (by decide))
      (fun n i _ hi hI k => br_f (nI_ge hi (by omega)) (by
        have hd := ms_Sl_d hM S hj hs hi
        refine ms_step hsl (by omega) (by omega) (by omega) (And.intro (ms_in (nI_1 j) (by omega) (by decide)) ?_)
        rw [ms_rd (nI_1 j) (by omega)]
        refine ms_brb _ (ms_bitB (by omega) (by omega)) (fun e => H i hi e hI) (fun e => nm_r (nI_1 i) (k () (fun c hc => ?_)))
        by_cases e1 : c = i
        · subst e1; exact e
        · exact hI c (by omega)))
  exact Lp
theorem ms_spell {post : SX → Prop} {e : Nat} (hh : hz ≤ 6) (hK0 : 0 < K) (hK : K ≤ 8) (hM : lm ≤ 12) (hsl : sl < 4) (S : ms_Slot K hz lm nx wd fi sl L) (hr : rd ≤ e) (he : e ≤ hz) (hwo : ∀ i, i < rd → wo i < K) (hre : ∀ j, rd ≤ j → j ≤ e → re j < 2 ^ 12 ∧ ∀ s, s < wd (sl * 7 + j) → ((re j).testBit s = true ↔ ms_RE K hz (fun j q c => nx (((sl * 6 + j) * 12 + q) * 8 + c)) (fi sl) e j s))
    (R : ms_RE K hz (fun j q c => nx (((sl * 6 + j) * 12 + q) * 8 + c)) (fi sl) e rd (ms_rn K (fun j q c => nx (((sl * 6 + j) * 12 + q) * 8 + c)) 0 0 rd (ms_wd K wo rd)))
    (H : ∀ fo : Nat → Nat, ms_Sp K hz rd e (fun j q c => nx (((sl * 6 + j) * 12 + q) * 8 + c)) (fi sl) wo fo → post ((nI tr), (nI hz), (nI lm), (nI K), (nI ht), (nI rd), (ms_F pl), (ms_F nx), (ms_F wd), (ms_F fi), (ms_F wo), (ms_F wc), (ms_F wk), (ms_F wn), (ms_F wg), (ms_F ki), (ms_F wl), (ms_F cc), (ms_F cr), (ms_F mo), (ms_F zm), (ms_F re), (ms_F fo))) : wpX_spell post ((nI tr), (nI hz), (nI lm), (nI K), (nI ht), (nI rd), (ms_F pl), (ms_F nx), (ms_F wd), (ms_F fi), (ms_F wo), (ms_F wc), (ms_F wk), (ms_F wn), (ms_F wg), (ms_F ki), (ms_F wl), (ms_F cc), (ms_F cr), (ms_F mo), (ms_F zm), (ms_F re), (ms_F fo)) (nI sl) (nI (ms_rn K (fun j q c => nx (((sl * 6 + j) * 12 + q) * 8 + c)) 0 0 rd (ms_wd K wo rd))) (nI e) := by
  have L54 : ∀ fo : Nat → Nat, ms_SI K hz rd e (fun j q c => nx (((sl * 6 + j) * 12 + q) * 8 + c)) (fi sl) wo rd fo → ∃ n, wX_spell_54 post (nI sl) (nI e) (nI tr) (nI hz) (nI lm) (nI K) (nI ht) (nI rd) n (nI (ms_rn K (fun j q c => nx (((sl * 6 + j) * 12 + q) * 8 + c)) 0 0 rd (ms_wd K fo rd))) (nI rd) (ms_F pl) (ms_F nx) (ms_F wd) (ms_F fi) (ms_F wo) (ms_F wc) (ms_F wk) (ms_F wn) (ms_F wg) (ms_F ki) (ms_F wl) (ms_F cc) (ms_F cr) (ms_F mo) (ms_F zm) (ms_F re) (ms_F fo) := by
    intro fo I0
    exact pk_loop (fun n i (s : Nat → Nat) => wX_spell_54 post (nI sl) (nI e) (nI tr) (nI hz) (nI lm) (nI K) (nI ht) (nI rd) n (nI (ms_rn K (fun j q c => nx (((sl * 6 + j) * 12 + q) * 8 + c)) 0 0 i (ms_wd K s i))) (nI i) (ms_F pl) (ms_F nx) (ms_F wd) (ms_F fi) (ms_F wo) (ms_F wc) (ms_F wk) (ms_F wn) (ms_F wg) (ms_F ki) (ms_F wl) (ms_F cc) (ms_F cr) (ms_F mo) (ms_F zm) (ms_F re) (ms_F s)) (fun i s => rd ≤ i ∧ ms_SI K hz rd e (fun j q c => nx (((sl * 6 + j) * 12 + q) * 8 + c)) (fi sl) wo i s) e rd fo hr ⟨Nat.le_refl rd, I0⟩
      (fun n s hI => br_t (nI_le (Nat.le_refl e) (by omega)) (H s (ms_SI_Sp hI.2)))
      (fun n i s hi hI k => br_f (nI_ge hi (by omega)) (by
        obtain ⟨hI1, hI2⟩ := hI
        have hst := ms_Aut_run hK0 S (j := i) (by omega) (ms_wd K s i)
        have hw := ms_Sl_w hM S (j := i) (by omega)
        have g := hre (i + 1) (by omega) (by omega)
        have hx := (ms_RE_s hK0 hi).mp hI2.2.2.2.1
        refine ms_least hh hK hM hsl S (by omega) hst g.1 ?_ (fun c hc hb hl => ?_)
        · obtain ⟨c, h1, h2⟩ := hx
          exact ⟨c, h1, (g.2 _ (ms_Sl_d hM S (by omega) hst h1)).mpr h2⟩
        · have stp := ms_SI_s hK0 he hi hI1 hI2 hc ((g.2 _ (ms_Sl_d hM S (by omega) hst hc)).mp hb) (fun c' hc' R' => by
            have := (g.2 _ (ms_Sl_d hM S (by omega) hst (by omega : c' < K))).mpr R'
            rw [hl c' hc'] at this
            exact absurd this (by decide))
          refine And.intro (ms_in rfl (by omega) (by decide)) (nm_r (ms_up rfl (by omega) rfl) (ms_step hsl (by omega) (by omega) (by omega) (nm_r (nI_1 i) ?_)))
          have kk := k (ms_U s i c) ⟨by omega, stp.1⟩
          rw [stp.2] at kk
          exact kk))
  have L3 : ∃ n, wX_spell_3 post (nI sl) (nI (ms_rn K (fun j q c => nx (((sl * 6 + j) * 12 + q) * 8 + c)) 0 0 rd (ms_wd K wo rd))) (nI e) (nI tr) (nI hz) (nI lm) (nI K) (nI ht) (nI rd) n (nI 0) (ms_F pl) (ms_F nx) (ms_F wd) (ms_F fi) (ms_F wo) (ms_F wc) (ms_F wk) (ms_F wn) (ms_F wg) (ms_F ki) (ms_F wl) (ms_F cc) (ms_F cr) (ms_F mo) (ms_F zm) (ms_F re) (ms_F fo) :=
    loop_0 (fun n i (s : Nat → Nat) => wX_spell_3 post (nI sl) (nI (ms_rn K (fun j q c => nx (((sl * 6 + j) * 12 + q) * 8 + c)) 0 0 rd (ms_wd K wo rd))) (nI e) (nI tr) (nI hz) (nI lm) (nI K) (nI ht) (nI rd) n (nI i) (ms_F pl) (ms_F nx) (ms_F wd) (ms_F fi) (ms_F wo) (ms_F wc) (ms_F wk) (ms_F wn) (ms_F wg) (ms_F ki) (ms_F wl) (ms_F cc) (ms_F cr) (ms_F mo) (ms_F zm) (ms_F re) (ms_F s)) (fun i s => ∀ n, n < i → s n = if n < rd then wo n else 0) hz fo (fun n hn => absurd hn (Nat.not_lt_zero n))
      (fun n s hI => br_t (nI_le (Nat.le_refl hz) (by omega)) (by
        have h1 : ∀ n, n < rd → s n = wo n := fun n hn => by rw [hI n (by omega), if_pos hn]
        have := L54 s (ms_SI_0 h1 (fun n a b => by rw [hI n b, if_neg (by omega)]) (fun n hn => by
          rw [hI n hn]
          split
          · rename_i hnr; exact hwo n hnr
          · exact hK0) R)
        rw [ms_wd_congr (K := K) rd h1] at this
        exact this))
      (fun n i s hi hI k => br_f (nI_ge hi (by omega)) (pk_le rd i
        (fun e1 => And.intro (ms_in rfl (by omega) (by decide)) (nm_r (ms_up (v := 0) rfl (by omega) rfl) (nm_r (nI_1 i) (k _ (fun x hx => by
          by_cases e2 : x = i
          · subst e2; rw [ms_Us, if_neg (by omega)]
          · rw [ms_Un e2]; exact hI x (by omega))))))
        (fun e1 => And.intro (ms_in rfl (by omega) (by decide)) (And.intro (ms_in rfl (by omega) (by decide)) (nm_r (ms_up (v := wo i) rfl (by omega) (ms_rdn (by omega))) (nm_r (nI_1 i) (k _ (fun x hx => by
          by_cases e2 : x = i
          · subst e2; rw [ms_Us, if_pos e1]
          · rw [ms_Un e2]; exact hI x (by omega)))))))))
  exact L3
theorem ms_findWit {post : Int32 → SX → Prop} (hh : hz ≤ 6) (hK0 : 0 < K) (hK : K ≤ 8) (hM : lm ≤ 12) (hht : 0 < ht) (hh4 : ht ≤ 4) (hpl : pl (ht - 1) = sl) (hsl : sl < 4) (S : ms_Slot K hz lm nx wd fi sl L) (hrd : rd ≤ hz) (hwo : ∀ i, i < rd → wo i < K)
    (H1 : ∀ (zm re fo : Nat → Nat) (e : Nat), rd ≤ e → e ≤ hz → (∀ e', rd ≤ e' → e' < e → ¬ ms_RE K hz (fun j q c => nx (((sl * 6 + j) * 12 + q) * 8 + c)) (fi sl) e' rd (ms_rn K (fun j q c => nx (((sl * 6 + j) * 12 + q) * 8 + c)) 0 0 rd (ms_wd K wo rd))) → ms_Sp K hz rd e (fun j q c => nx (((sl * 6 + j) * 12 + q) * 8 + c)) (fi sl) wo fo → post 1 ((nI tr), (nI hz), (nI lm), (nI K), (nI ht), (nI rd), (ms_F pl), (ms_F nx), (ms_F wd), (ms_F fi), (ms_F wo), (ms_F wc), (ms_F wk), (ms_F wn), (ms_F wg), (ms_F ki), (ms_F wl), (ms_F cc), (ms_F cr), (ms_F mo), (ms_F zm), (ms_F re), (ms_F fo)))
    (H0 : ∀ zm re : Nat → Nat, (∀ e', rd ≤ e' → e' ≤ hz → ¬ ms_RE K hz (fun j q c => nx (((sl * 6 + j) * 12 + q) * 8 + c)) (fi sl) e' rd (ms_rn K (fun j q c => nx (((sl * 6 + j) * 12 + q) * 8 + c)) 0 0 rd (ms_wd K wo rd))) → post 0 ((nI tr), (nI hz), (nI lm), (nI K), (nI ht), (nI rd), (ms_F pl), (ms_F nx), (ms_F wd), (ms_F fi), (ms_F wo), (ms_F wc), (ms_F wk), (ms_F wn), (ms_F wg), (ms_F ki), (ms_F wl), (ms_F cc), (ms_F cr), (ms_F mo), (ms_F zm), (ms_F re), (ms_F fo))) : wpX_findWitness post ((nI tr), (nI hz), (nI lm), (nI K), (nI ht), (nI rd), (ms_F pl), (ms_F nx), (ms_F wd), (ms_F fi), (ms_F wo), (ms_F wc), (ms_F wk), (ms_F wn), (ms_F wg), (ms_F ki), (ms_F wl), (ms_F cc), (ms_F cr), (ms_F mo), (ms_F zm), (ms_F re), (ms_F fo)) := by
  have hst := ms_Aut_run hK0 S hrd (ms_wd K wo rd)
  have hw := ms_Sl_w hM S hrd
  unfold wpX_findWitness
  try dsimp only
  refine ms_slotAt (k := 0) hht hh4 ?_
  rw [Nat.sub_zero, hpl]
  refine ms_readState hh hK0 hK hM hsl S hrd hwo (ms_fillZero hh hK0 hK hM hsl S (fun zm hZ => ?_))
  exact pk_loop (fun n i (s : Nat → Nat) => wX_findWitness_22 post (nI sl) (nI (ms_rn K (fun j q c => nx (((sl * 6 + j) * 12 + q) * 8 + c)) 0 0 rd (ms_wd K wo rd))) n (nI i) (nI tr) (nI hz) (nI lm) (nI K) (nI ht) (nI rd) (ms_F pl) (ms_F nx) (ms_F wd) (ms_F fi) (ms_F wo) (ms_F wc) (ms_F wk) (ms_F wn) (ms_F wg) (ms_F ki) (ms_F wl) (ms_F cc) (ms_F cr) (ms_F mo) (ms_F zm) (ms_F s) (ms_F fo)) (fun i _ => rd ≤ i ∧ ∀ e', rd ≤ e' → e' < i → ¬ ms_RE K hz (fun j q c => nx (((sl * 6 + j) * 12 + q) * 8 + c)) (fi sl) e' rd (ms_rn K (fun j q c => nx (((sl * 6 + j) * 12 + q) * 8 + c)) 0 0 rd (ms_wd K wo rd))) (hz + 1) rd re (by omega) ⟨Nat.le_refl rd, fun e' a b => by omega⟩
    (fun n s hI => br_t (nI_lt (by omega) (by omega)) (H0 zm s (fun e' a b => hI.2 e' a (by omega))))
    (fun n i s hi hI k => br_f (nI_nlt (by omega) (by omega)) (by
      refine ms_fillReach hh hK0 hK hM hsl S hI.1 (by omega) hZ (fun re hre => And.intro (ms_in rfl (by omega) (by decide)) ?_)
      have g := hre rd (Nat.le_refl rd) hI.1
      rw [ms_rdn (by omega)]
      refine ms_brb _ (ms_bitB (by omega) (by omega)) (fun e => ?_) (fun e => ?_)
      · exact ms_spell hh hK0 hK hM hsl S hI.1 (by omega) hwo hre ((g.2 _ hst).mp e) (fun fo hfo => H1 zm re fo i hI.1 (by omega) hI.2 hfo)
      · refine nm_r (nI_1 i) (k re ⟨by omega, fun e' a b R => ?_⟩)
        by_cases e1 : e' = i
        · subst e1
          have := (g.2 _ hst).mpr R
          rw [e] at this
          exact absurd this (by decide)
        · exact hI.2 e' a (by omega) R))
theorem ms_wl25 {post : Int32 → SX → Prop} (hh : hz ≤ 6) (hfo : ∀ n, n < hz → fo n < 8) (H : post (nI (ms_ln fo hz)) ((nI tr), (nI hz), (nI lm), (nI K), (nI ht), (nI rd), (ms_F pl), (ms_F nx), (ms_F wd), (ms_F fi), (ms_F wo), (ms_F wc), (ms_F wk), (ms_F wn), (ms_F wg), (ms_F ki), (ms_F wl), (ms_F cc), (ms_F cr), (ms_F mo), (ms_F zm), (ms_F re), (ms_F fo))) : ∃ n, wX_witnessLength_25 post (nI tr) (nI hz) (nI lm) (nI K) (nI ht) (nI rd) (ms_F pl) (ms_F nx) (ms_F wd) (ms_F fi) (ms_F wo) (ms_F wc) (ms_F wk) (ms_F wn) (ms_F wg) (ms_F ki) (ms_F wl) (ms_F cc) (ms_F cr) (ms_F mo) (ms_F zm) (ms_F re) (ms_F fo) n (nI 0) (nI 0) :=
  loop_0 (fun n i (_ : Unit) => wX_witnessLength_25 post (nI tr) (nI hz) (nI lm) (nI K) (nI ht) (nI rd) (ms_F pl) (ms_F nx) (ms_F wd) (ms_F fi) (ms_F wo) (ms_F wc) (ms_F wk) (ms_F wn) (ms_F wg) (ms_F ki) (ms_F wl) (ms_F cc) (ms_F cr) (ms_F mo) (ms_F zm) (ms_F re) (ms_F fo) n (nI (ms_ln fo i)) (nI i)) (fun _ _ => True) hz () trivial
    (fun n _ _ => br_t (nI_le (Nat.le_refl hz) (by omega)) H)
    (fun n i _ hi _ k => br_f (nI_ge hi (by omega)) (And.intro (ms_in rfl (by omega) (by decide)) (by
      have hf := hfo i hi
      rw [ms_rdn (by omega)]
      have kk := k () trivial
      refine pk_eq (fo i) 0 (fun e => nm_r (nI_1 i) ?_) (fun e => nm_r (nI_1 i) (nm_r (nI_1 i) ?_))
      · rw [show ms_ln fo (i + 1) = ms_ln fo i from if_pos e] at kk; exact kk
      · rw [show ms_ln fo (i + 1) = i + 1 from if_neg e] at kk; exact kk)))
theorem ms_wi36 {post : Int32 → SX → Prop} {v : Nat} (hh : hz ≤ 6) (hv : v < 3) (hfo : ∀ n, n < hz → fo n < 8) (H : ∀ M, M < 2 ^ hz → (∀ n, n < hz → M.testBit n = (fo n).testBit v) → post (nI M) ((nI tr), (nI hz), (nI lm), (nI K), (nI ht), (nI rd), (ms_F pl), (ms_F nx), (ms_F wd), (ms_F fi), (ms_F wo), (ms_F wc), (ms_F wk), (ms_F wn), (ms_F wg), (ms_F ki), (ms_F wl), (ms_F cc), (ms_F cr), (ms_F mo), (ms_F zm), (ms_F re), (ms_F fo))) : ∃ n, wX_witness_36 post (nI v) (nI tr) (nI hz) (nI lm) (nI K) (nI ht) (nI rd) (ms_F pl) (ms_F nx) (ms_F wd) (ms_F fi) (ms_F wo) (ms_F wc) (ms_F wk) (ms_F wn) (ms_F wg) (ms_F ki) (ms_F wl) (ms_F cc) (ms_F cr) (ms_F mo) (ms_F zm) (ms_F re) (ms_F fo) n (nI 0) (nI 0) :=
  loop_0 (fun n i (M : Nat) => wX_witness_36 post (nI v) (nI tr) (nI hz) (nI lm) (nI K) (nI ht) (nI rd) (ms_F pl) (ms_F nx) (ms_F wd) (ms_F fi) (ms_F wo) (ms_F wc) (ms_F wk) (ms_F wn) (ms_F wg) (ms_F ki) (ms_F wl) (ms_F cc) (ms_F cr) (ms_F mo) (ms_F zm) (ms_F re) (ms_F fo) n (nI M) (nI i)) (fun i M => M < 2 ^ i ∧ ∀ n, n < i → M.testBit n = (fo n).testBit v) hz 0 ⟨by decide, fun n hn => absurd hn (Nat.not_lt_zero n)⟩
    (fun n M hI => br_t (nI_le (Nat.le_refl hz) (by omega)) (H M hI.1 hI.2))
    (fun n i M hi hI k => br_f (nI_ge hi (by omega)) (And.intro (ms_in rfl (by omega) (by decide)) (by
      have hf := hfo i hi
      have hp : 2 ^ i < 2 ^ 31 := ms_p31 (by omega)
      have hbl := Bool.toNat_le ((fo i).testBit v)
      have hmul : ((fo i).testBit v).toNat * 2 ^ i ≤ 1 * 2 ^ i := Nat.mul_le_mul_right _ hbl
      refine nm_r (e' := nI (M ||| ((fo i).testBit v).toNat * 2 ^ i)) (by rw [ms_rdn (by omega), ms_bitB (by omega) (by omega), ms_shl (by omega) (by omega), nx_or]) (nm_r (nI_1 i) (k _ ?_))
      have hMi : M.testBit i = false := Nat.testBit_lt_two_pow hI.1
      cases hb : (fo i).testBit v
      · rw [show (false.toNat * 2 ^ i) = 0 from Nat.zero_mul _, Nat.or_zero]
        refine ⟨by rw [Nat.pow_succ]; omega, fun x hx => ?_⟩
        by_cases e : x = i
        · subst e; rw [hMi, hb]
        · exact hI.2 x (by omega)
      · rw [show (true.toNat * 2 ^ i) = 2 ^ i from Nat.one_mul _]
        refine ⟨Nat.or_lt_two_pow (by rw [Nat.pow_succ]; omega) (Nat.pow_lt_pow_right (by decide) (by omega)), fun x hx => ?_⟩
        rw [Nat.testBit_or, Nat.testBit_two_pow]
        by_cases e : x = i
        · subst e; rw [hMi, hb]; simp
        · rw [hI.2 x (by omega)]
          have : decide (i = x) = false := by simp; omega
          rw [this, Bool.or_false])))
end XWI
end
section
/-! the reference: the questions -/
def ms_opt (K h rd : Nat) (L : Nat → Bool) (W : Nat) (N b : Nat) : Prop := L b = true ∧ b / K ^ (h - rd) = W ∧ ∀ c, c < N → L c = true → c / K ^ (h - rd) = W → (ms_ln (fun n => ms_col K h b n) h < ms_ln (fun n => ms_col K h c n) h ∨ (ms_ln (fun n => ms_col K h b n) h = ms_ln (fun n => ms_col K h c n) h ∧ b ≤ c))
section YQ
variable {tr hz lm ht rd : Nat} {wo tb : Nat → Nat}
variable {K : Nat} {L : Nat → Bool}
theorem ms_extension {post : Int32 → Prop} {c : Nat} (ht3 : tr ≤ 3) (hh : hz ≤ 6) (h12 : tr * hz ≤ 12) (hKd : K = 2 ^ tr) (hrd : rd ≤ hz) (hwo : ∀ i, i < rd → wo i < K) (hc : c < K ^ hz) (H1 : c / K ^ (hz - rd) = ms_wd K wo rd → post 1) (H0 : ¬ c / K ^ (hz - rd) = ms_wd K wo rd → post 0) : wpY_extension post ((nI tr), (nI hz), (nI lm), (nI ht), (nI rd), (ms_F wo), (ms_F tb)) (nI c) := by
  have h4096 : K ^ hz ≤ 4096 := by rw [hKd, ms_pw]; exact ms_pwb h12
  have hK8 : K ≤ 8 := by rw [hKd]; exact Nat.pow_le_pow_right (n := 2) (by decide) ht3
  have hK0 : 0 < K := by rw [hKd]; exact Nat.two_pow_pos tr
  have ei := ms_ext_iff (f := wo) hK0 hc rd hrd hwo
  have Lp : ∃ n, wY_extension_2 post (nI c) (nI tr) (nI hz) (nI lm) (nI ht) (nI rd) (ms_F wo) (ms_F tb) n (nI 0) :=
    loop_0 (fun n i (_ : Unit) => wY_extension_2 post (nI c) (nI tr) (nI hz) (nI lm) (nI ht) (nI rd) (ms_F wo) (ms_F tb) n (nI i)) (fun i _ => ∀ x, x < i → ms_col K hz c x = wo x) rd () (fun x hx => absurd hx (Nat.not_lt_zero x))
      (fun n _ hI => br_t (nI_le (Nat.le_refl rd) (by omega)) (H1 (ei.mpr hI)))
      (fun n i _ hi hI k => br_f (nI_ge hi (by omega)) (ms_columnOf ht3 hh hKd (by omega) (by omega) (And.intro (ms_in rfl (by omega) (by decide)) (by
        have hcl := ms_col_lt (h := hz) (c := c) (n := i) hK0
        have hw := hwo i hi
        rw [ms_rdn (by omega)]
        refine pk_eq _ _ (fun e => nm_r (nI_1 i) (k () (fun x hx => ?_))) (fun e => H0 (fun z => e (ei.mp z i hi))) rfl rfl (by omega) (by omega)
        by_cases e2 : x = i
        · subst e2; exact e
        · exact hI x (by omega)))))
  exact Lp
theorem ms_lengthOf {post : Int32 → Prop} {c : Nat} (ht3 : tr ≤ 3) (hh : hz ≤ 6) (hKd : K = 2 ^ tr) (hc : c < 2 ^ 31) (H : post (nI (ms_ln (fun n => ms_col K hz c n) hz))) : wpY_lengthOf post ((nI tr), (nI hz), (nI lm), (nI ht), (nI rd), (ms_F wo), (ms_F tb)) (nI c) := by
  have hK8 : K ≤ 8 := by rw [hKd]; exact Nat.pow_le_pow_right (n := 2) (by decide) ht3
  have hK0 : 0 < K := by rw [hKd]; exact Nat.two_pow_pos tr
  have Lp : ∃ n, wY_lengthOf_4 post (nI c) (nI tr) (nI hz) (nI lm) (nI ht) (nI rd) (ms_F wo) (ms_F tb) n (nI (ms_ln (fun n => ms_col K hz c n) 0)) (nI 0) :=
    loop_0 (fun n i (_ : Unit) => wY_lengthOf_4 post (nI c) (nI tr) (nI hz) (nI lm) (nI ht) (nI rd) (ms_F wo) (ms_F tb) n (nI (ms_ln (fun n => ms_col K hz c n) i)) (nI i)) (fun _ _ => True) hz () trivial
      (fun n _ _ => br_t (nI_le (Nat.le_refl hz) (by omega)) H)
      (fun n i _ hi _ k => br_f (nI_ge hi (by omega)) (ms_columnOf ht3 hh hKd hi hc (by
        have hcl := ms_col_lt (h := hz) (c := c) (n := i) hK0
        have kk := k () trivial
        refine pk_eq (ms_col K hz c i) 0 (fun e => nm_r (nI_1 i) ?_) (fun e => nm_r (nI_1 i) (nm_r (nI_1 i) ?_))
        · rw [show ms_ln (fun n => ms_col K hz c n) (i + 1) = ms_ln (fun n => ms_col K hz c n) i from if_pos e] at kk; exact kk
        · rw [show ms_ln (fun n => ms_col K hz c n) (i + 1) = i + 1 from if_neg e] at kk; exact kk)))
  exact Lp
theorem ms_yfindWit {post : Int32 → Prop} (ht3 : tr ≤ 3) (hh : hz ≤ 6) (h12 : tr * hz ≤ 12) (hKd : K = 2 ^ tr) (hht : 0 < ht) (hh4 : ht ≤ 4) (hL : ∀ c, c < K ^ hz → tb ((ht - 1) * 4096 + c) = (L c).toNat) (hrd : rd ≤ hz) (hwo : ∀ i, i < rd → wo i < K)
    (H1 : ∀ b, b < K ^ hz → ms_opt K hz rd L (ms_wd K wo rd) (K ^ hz) b → post (nI b)) (H0 : (∀ c, c < K ^ hz → L c = true → ¬ c / K ^ (hz - rd) = ms_wd K wo rd) → post (-1)) : wpY_findWitness post ((nI tr), (nI hz), (nI lm), (nI ht), (nI rd), (ms_F wo), (ms_F tb)) := by
  have h4096 : K ^ hz ≤ 4096 := by rw [hKd, ms_pw]; exact ms_pwb h12
  have e1 : (nI ht - 1) * 4096 = nI ((ht - 1) * 4096) := by rw [ms_pred hht, ms_4096m]
  unfold wpY_findWitness
  try dsimp only
  refine nm_r e1 (ms_size h12 hKd (nm_r (nI_1 hz) ?_))
  have bln : ∀ c, ms_ln (fun n => ms_col K hz c n) hz ≤ hz := fun c => ms_ln_le _ hz
  exact loop_0 (fun n i (s : Int32 × Int32) => wY_findWitness_29 post (nI ((ht - 1) * 4096)) (nI (K ^ hz)) (nI tr) (nI hz) (nI lm) (nI ht) (nI rd) (ms_F wo) (ms_F tb) n s.1 s.2 (nI i)) (fun i s => (s.1 = -1 ∧ s.2 = nI (hz + 1) ∧ ∀ c, c < i → L c = true → ¬ c / K ^ (hz - rd) = ms_wd K wo rd) ∨ (∃ b, b < i ∧ s.1 = nI b ∧ s.2 = nI (ms_ln (fun n => ms_col K hz b n) hz) ∧ ms_opt K hz rd L (ms_wd K wo rd) i b)) (K ^ hz) (-1, nI (hz + 1)) (Or.inl ⟨rfl, rfl, fun c hc => absurd hc (Nat.not_lt_zero c)⟩)
    (fun n s hI => br_t (nI_le (Nat.le_refl _) (by omega)) (by
      rcases hI with ⟨a1, a2, a3⟩ | ⟨b, b1, b2, b3, b4⟩
      · rw [a1]; exact H0 a3
      · rw [b2]; exact H1 b b1 b4))
    (fun n i s hi hI k => br_f (nI_ge hi (by omega)) (And.intro (ms_in (nI_add _ i) (by omega) (by decide)) (by
      have keep : ¬ (L i = true ∧ i / K ^ (hz - rd) = ms_wd K wo rd) → wY_findWitness_29 post (nI ((ht - 1) * 4096)) (nI (K ^ hz)) (nI tr) (nI hz) (nI lm) (nI ht) (nI rd) (ms_F wo) (ms_F tb) n s.1 s.2 (nI (i + 1)) := by
        intro hno
        refine k s ?_
        rcases hI with ⟨a1, a2, a3⟩ | ⟨b, b1, b2, b3, b4⟩
        · refine Or.inl ⟨a1, a2, fun c hc hl he => ?_⟩
          by_cases e : c = i
          · subst e; exact hno ⟨hl, he⟩
          · exact a3 c (by omega) hl he
        · refine Or.inr ⟨b, by omega, b2, b3, b4.1, b4.2.1, fun c hc hl he => ?_⟩
          by_cases e : c = i
          · subst e; exact absurd ⟨hl, he⟩ hno
          · exact b4.2.2 c (by omega) hl he
      rw [ms_rd (nI_add _ i) (by omega), hL i hi]
      refine ms_brz _ rfl (fun e => nm_r (nI_1 i) (keep (fun z => by rw [e] at z; exact absurd z.1 (by decide)))) (fun hLi => ?_)
      refine ms_extension ht3 hh h12 hKd hrd hwo hi (fun hE => br_f (by decide) ?_) (fun hE => br_t rfl (nm_r (nI_1 i) (keep (fun z => hE z.2))))
      refine ms_lengthOf ht3 hh hKd (by omega) ?_
      have bi := bln i
      rcases hI with ⟨a1, a2, a3⟩ | ⟨b, b1, b2, b3, b4⟩
      · rw [a2]
        refine br_f (nI_ge (by omega) (by omega)) (nm_r (nI_1 i) (k (nI i, nI (ms_ln (fun n => ms_col K hz i n) hz)) (Or.inr ⟨i, by omega, rfl, rfl, hLi, hE, fun c hc hl he => ?_⟩)))
        by_cases e : c = i
        · subst e; exact Or.inr ⟨rfl, Nat.le_refl _⟩
        · exact absurd he (a3 c (by omega) hl)
      · have bb := bln b
        rw [b3]
        refine pk_le _ _ (fun hle => nm_r (nI_1 i) ?_) (fun hlt => nm_r (nI_1 i) (k (nI i, nI (ms_ln (fun n => ms_col K hz i n) hz)) (Or.inr ⟨i, by omega, rfl, rfl, hLi, hE, fun c hc hl he => ?_⟩))) rfl rfl (by omega) (by omega)
        · have kk := k s (Or.inr ⟨b, by omega, b2, b3, b4.1, b4.2.1, fun c hc hl he => by
            by_cases e : c = i
            · subst e
              rcases Nat.lt_or_eq_of_le hle with h1 | h1
              · exact Or.inl h1
              · exact Or.inr ⟨h1, by omega⟩
            · exact b4.2.2 c (by omega) hl he⟩)
          rw [b3] at kk
          exact kk
        · by_cases e : c = i
          · subst e; exact Or.inr ⟨rfl, Nat.le_refl _⟩
          · rcases b4.2.2 c (by omega) hl he with h1 | ⟨h1, _⟩
            · exact Or.inl (by omega)
            · exact Or.inl (by omega))))
theorem ms_yaccepts {post : Int32 → Prop} (ht3 : tr ≤ 3) (hh : hz ≤ 6) (h12 : tr * hz ≤ 12) (hKd : K = 2 ^ tr) (hht : 0 < ht) (hh4 : ht ≤ 4) (hL : ∀ c, c < K ^ hz → tb ((ht - 1) * 4096 + c) = (L c).toNat) (hrd : rd ≤ hz) (hwo : ∀ i, i < rd → wo i < K)
    (H : post (nI (L (ms_wd K wo rd * K ^ (hz - rd))).toNat)) : ∃ n, wY_accepts_15 post (nI tr) (nI hz) (nI lm) (nI ht) (nI rd) (ms_F wo) (ms_F tb) n (nI 0) (nI 0) := by
  have h4096 : K ^ hz ≤ 4096 := by rw [hKd, ms_pw]; exact ms_pwb h12
  have hK8 : K ≤ 8 := by rw [hKd]; exact Nat.pow_le_pow_right (n := 2) (by decide) ht3
  have hK0 : 0 < K := by rw [hKd]; exact Nat.two_pow_pos tr
  have ei : ∀ c, (nI ht - 1) * 4096 + nI c = nI ((ht - 1) * 4096 + c) := fun c => by rw [ms_pred hht, ms_4096]
  have hcl : ms_wd K wo rd * K ^ (hz - rd) < K ^ hz := by
    have := ms_join (K := K) (b := hz - rd) (ms_wd_lt rd hwo) (r := 0) (Nat.pow_pos hK0)
    rw [Nat.add_sub_cancel' hrd] at this
    exact this
  refine loop_0 (fun n i (x : Nat) => wY_accepts_15 post (nI tr) (nI hz) (nI lm) (nI ht) (nI rd) (ms_F wo) (ms_F tb) n (nI x) (nI i)) (fun i x => x = ms_wd K wo i * K ^ (hz - i)) rd 0 (by show 0 = 0 * _; omega) (fun n x hI => ?_) (fun n i x hi hI k => ?_)
  · refine br_t (nI_le (Nat.le_refl rd) (by omega)) ?_
    subst hI
    refine And.intro (ms_in (ei _) (by omega) (by decide)) ?_
    rw [ms_rd (ei _) (by omega), hL _ hcl]
    refine ms_brz _ rfl (fun e => ?_) (fun e => ?_)
    · rw [e] at H; exact H
    · rw [e] at H; exact H
  · have hw := hwo i hi
    have b1 : tr * (hz - 1 - i) ≤ 3 * 5 := Nat.mul_le_mul ht3 (by omega)
    have hp15 : 2 ^ (tr * (hz - 1 - i)) ≤ 2 ^ 15 := Nat.pow_le_pow_right (by decide) (by omega)
    have hsm : wo i * 2 ^ (tr * (hz - 1 - i)) ≤ 8 * 2 ^ 15 := Nat.mul_le_mul (by omega) hp15
    refine br_f (nI_ge hi (by omega)) (And.intro (ms_in rfl (by omega) (by decide)) (nm_r (e' := nI (x ||| wo i * 2 ^ (tr * (hz - 1 - i)))) (by
      rw [ms_rdn (by omega), ms_top (by omega), pk_mul, ms_shl (by omega) (by omega), nx_or]) (nm_r (nI_1 i) (k _ ?_))))
    rw [hI]
    show _ = (ms_wd K wo i * K + wo i) * K ^ (hz - (i + 1))
    have e1 : hz - (i + 1) = hz - 1 - i := by omega
    have e2 : hz - i = (hz - 1 - i) + 1 := by omega
    rw [e1, e2, ← ms_pw, ← hKd]
    have hlt : wo i * K ^ (hz - 1 - i) < K ^ (hz - 1 - i + 1) := by
      rw [Nat.pow_succ, Nat.mul_comm]
      exact Nat.mul_lt_mul_of_pos_left hw (Nat.pow_pos hK0)
    have hor := Nat.two_pow_add_eq_or_of_lt (i := tr * (hz - 1 - i + 1)) (b := wo i * K ^ (hz - 1 - i)) (by rw [← ms_pw, ← hKd]; exact hlt) (ms_wd K wo i)
    rw [← ms_pw, ← hKd, Nat.mul_comm] at hor
    rw [← hor, Nat.pow_succ, Nat.add_mul, Nat.mul_assoc, Nat.mul_comm K]
theorem ms_yverdict {post : Int32 → Prop} (ht3 : tr ≤ 3) (hh : hz ≤ 6) (h12 : tr * hz ≤ 12) (hKd : K = 2 ^ tr) (hht : 0 < ht) (hh4 : ht ≤ 4) (hL : ∀ c, c < K ^ hz → tb ((ht - 1) * 4096 + c) = (L c).toNat) (hrd : rd ≤ hz) (hwo : ∀ i, i < rd → wo i < K)
    (H : ∀ a b : Bool, (a = true ↔ ∃ c, c < K ^ hz ∧ c / K ^ (hz - rd) = ms_wd K wo rd ∧ L c = true) → (b = true ↔ ∃ c, c < K ^ hz ∧ c / K ^ (hz - rd) = ms_wd K wo rd ∧ L c = false) → post (if a = false then 0 else if b = false then 1 else 2)) : ∃ n, wY_verdict_23 post (nI (K ^ hz)) (nI tr) (nI hz) (nI lm) (nI ht) (nI rd) (ms_F wo) (ms_F tb) n (nI 0) (nI 0) (nI 0) := by
  have h4096 : K ^ hz ≤ 4096 := by rw [hKd, ms_pw]; exact ms_pwb h12
  have ei : ∀ c, (nI ht - 1) * 4096 + nI c = nI ((ht - 1) * 4096 + c) := fun c => by rw [ms_pred hht, ms_4096]
  exact loop_0 (fun n i (s : Bool × Bool) => wY_verdict_23 post (nI (K ^ hz)) (nI tr) (nI hz) (nI lm) (nI ht) (nI rd) (ms_F wo) (ms_F tb) n (nI s.1.toNat) (nI s.2.toNat) (nI i)) (fun i s => (s.1 = true ↔ ∃ c, c < i ∧ c / K ^ (hz - rd) = ms_wd K wo rd ∧ L c = true) ∧ (s.2 = true ↔ ∃ c, c < i ∧ c / K ^ (hz - rd) = ms_wd K wo rd ∧ L c = false)) (K ^ hz) (false, false)
    ⟨⟨fun e => absurd e (by decide), fun ⟨c, hc, _⟩ => absurd hc (Nat.not_lt_zero c)⟩, ⟨fun e => absurd e (by decide), fun ⟨c, hc, _⟩ => absurd hc (Nat.not_lt_zero c)⟩⟩
    (fun n s hI => br_t (nI_le (Nat.le_refl _) (by omega)) (by
      have h := H s.1 s.2 hI.1 hI.2
      refine ms_brz _ rfl (fun e => ?_) (fun e => ms_brz _ rfl (fun e2 => ?_) (fun e2 => ?_))
      · rw [if_pos e] at h; exact h
      · rw [if_neg (by rw [e]; decide), if_pos e2] at h; exact h
      · rw [if_neg (by rw [e]; decide), if_neg (by rw [e2]; decide)] at h; exact h))
    (fun n i s hi hI k => br_f (nI_ge hi (by omega)) (by
      refine ms_extension ht3 hh h12 hKd hrd hwo hi (fun hE => br_f (by decide) (And.intro (ms_in (ei i) (by omega) (by decide)) ?_)) (fun hE => br_t rfl (nm_r (nI_1 i) (k s ⟨?_, ?_⟩)))
      · rw [ms_rd (ei i) (by omega), hL i hi]
        refine ms_brz _ rfl (fun e => nm_r (nI_1 i) (k (s.1, true) ⟨?_, ?_⟩)) (fun e => nm_r (nI_1 i) (k (true, s.2) ⟨?_, ?_⟩))
        · rw [hI.1]
          constructor
          · rintro ⟨c, c1, c2⟩; exact ⟨c, by omega, c2⟩
          · rintro ⟨c, c1, c2, c3⟩
            by_cases e2 : c = i
            · subst e2; rw [e] at c3; exact absurd c3 (by decide)
            · exact ⟨c, by omega, c2, c3⟩
        · exact ⟨fun _ => ⟨i, by omega, hE, e⟩, fun _ => rfl⟩
        · exact ⟨fun _ => ⟨i, by omega, hE, e⟩, fun _ => rfl⟩
        · rw [hI.2]
          constructor
          · rintro ⟨c, c1, c2⟩; exact ⟨c, by omega, c2⟩
          · rintro ⟨c, c1, c2, c3⟩
            by_cases e2 : c = i
            · subst e2; rw [e] at c3; exact absurd c3 (by decide)
            · exact ⟨c, by omega, c2, c3⟩
      · rw [hI.1]
        constructor
        · rintro ⟨c, c1, c2⟩; exact ⟨c, by omega, c2⟩
        · rintro ⟨c, c1, c2, c3⟩
          by_cases e2 : c = i
          · subst e2; exact absurd c2 hE
          · exact ⟨c, by omega, c2, c3⟩
      · rw [hI.2]
        constructor
        · rintro ⟨c, c1, c2⟩; exact ⟨c, by omega, c2⟩
        · rintro ⟨c, c1, c2, c3⟩
          by_cases e2 : c = i
          · subst e2; exact absurd c2 hE
          · exact ⟨c, by omega, c2, c3⟩))
theorem ms_ycount {post : Int32 → Prop} (ht3 : tr ≤ 3) (hh : hz ≤ 6) (h12 : tr * hz ≤ 12) (hKd : K = 2 ^ tr) (hht : 0 < ht) (hh4 : ht ≤ 4) (hL : ∀ c, c < K ^ hz → tb ((ht - 1) * 4096 + c) = (L c).toNat) (hrd : rd ≤ hz) (hwo : ∀ i, i < rd → wo i < K)
    (H : post (nI (ms_cn (fun c => L c && decide (c / K ^ (hz - rd) = ms_wd K wo rd)) (K ^ hz)))) : ∃ n, wY_count_20 post (nI (K ^ hz)) (nI tr) (nI hz) (nI lm) (nI ht) (nI rd) (ms_F wo) (ms_F tb) n (nI 0) (nI 0) := by
  have h4096 : K ^ hz ≤ 4096 := by rw [hKd, ms_pw]; exact ms_pwb h12
  have ei : ∀ c, (nI ht - 1) * 4096 + nI c = nI ((ht - 1) * 4096 + c) := fun c => by rw [ms_pred hht, ms_4096]
  exact loop_0 (fun n i (x : Nat) => wY_count_20 post (nI (K ^ hz)) (nI tr) (nI hz) (nI lm) (nI ht) (nI rd) (ms_F wo) (ms_F tb) n (nI x) (nI i)) (fun i x => x = ms_cn (fun c => L c && decide (c / K ^ (hz - rd) = ms_wd K wo rd)) i) (K ^ hz) 0 rfl
    (fun n x hI => br_t (nI_le (Nat.le_refl _) (by omega)) (by rw [hI]; exact H))
    (fun n i x hi hI k => br_f (nI_ge hi (by omega)) (And.intro (ms_in (ei i) (by omega) (by decide)) (by
      rw [ms_rd (ei i) (by omega), hL i hi]
      have st : ms_cn (fun c => L c && decide (c / K ^ (hz - rd) = ms_wd K wo rd)) (i + 1) = ms_cn (fun c => L c && decide (c / K ^ (hz - rd) = ms_wd K wo rd)) i + (L i && decide (i / K ^ (hz - rd) = ms_wd K wo rd)).toNat := rfl
      refine ms_brz _ rfl (fun e => nm_r (nI_1 i) (k x ?_)) (fun e => ?_)
      · rw [st, hI, e]; rfl
      · refine ms_extension ht3 hh h12 hKd hrd hwo hi (fun hE => br_f (by decide) (nm_r (nI_1 x) (nm_r (nI_1 i) (k _ ?_)))) (fun hE => br_t rfl (nm_r (nI_1 i) (k x ?_)))
        · rw [st, ← hI, e, decide_eq_true hE]; rfl
        · rw [st, ← hI, e, decide_eq_false hE]; rfl)))
theorem ms_ycompare {post : Int32 → Prop} {Ll Lr : Nat → Bool} (h12 : tr * hz ≤ 12) (hKd : K = 2 ^ tr) (hht : 2 ≤ ht) (hh4 : ht ≤ 4) (hLl : ∀ c, c < K ^ hz → tb ((ht - 2) * 4096 + c) = (Ll c).toNat) (hLr : ∀ c, c < K ^ hz → tb ((ht - 1) * 4096 + c) = (Lr c).toNat)
    (H : ∀ a b : Bool, (a = true ↔ ∀ c, c < K ^ hz → Ll c = true → Lr c = true) → (b = true ↔ ∀ c, c < K ^ hz → Lr c = true → Ll c = true) → post (if a = true then (if b = true then 0 else 1) else (if b = true then 2 else 3))) : ∃ n, wY_compare_23 post (nI (K ^ hz)) (nI tr) (nI hz) (nI lm) (nI ht) (nI rd) (ms_F wo) (ms_F tb) n (nI 1) (nI 1) (nI 0) := by
  have h4096 : K ^ hz ≤ 4096 := by rw [hKd, ms_pw]; exact ms_pwb h12
  have i2 : ∀ i, (nI ht - 2) * 4096 + nI i = nI ((ht - 2) * 4096 + i) := fun i => by rw [show nI ht - 2 = nI (ht - 2) from pk_sub (b := 2) hht, ms_4096]
  have i1 : ∀ i, (nI ht - 1) * 4096 + nI i = nI ((ht - 1) * 4096 + i) := fun i => by rw [ms_pred (by omega), ms_4096]
  exact loop_0 (fun n i (s : Bool × Bool) => wY_compare_23 post (nI (K ^ hz)) (nI tr) (nI hz) (nI lm) (nI ht) (nI rd) (ms_F wo) (ms_F tb) n (nI s.1.toNat) (nI s.2.toNat) (nI i)) (fun i s => (s.1 = true ↔ ∀ c, c < i → Ll c = true → Lr c = true) ∧ (s.2 = true ↔ ∀ c, c < i → Lr c = true → Ll c = true)) (K ^ hz) (true, true)
    ⟨⟨fun _ c hc => absurd hc (Nat.not_lt_zero c), fun _ => rfl⟩, ⟨fun _ c hc => absurd hc (Nat.not_lt_zero c), fun _ => rfl⟩⟩
    (fun n s hI => br_t (nI_le (Nat.le_refl _) (by omega)) (by
      have h := H s.1 s.2 hI.1 hI.2
      obtain ⟨s1, s2⟩ := s
      cases s1 <;> cases s2
      · exact br_t rfl (br_t rfl (br_t rfl h))
      · exact br_t rfl (br_t rfl (br_f (by decide) h))
      · exact br_f (by decide) (br_t rfl (br_f (by decide) h))
      · exact br_f (by decide) (br_f (by decide) h)))
    (fun n i s hi hI k => br_f (nI_ge hi (by omega)) (And.intro (ms_in (i2 i) (by omega) (by decide)) (nm_r (e' := nI (Ll i).toNat) (by rw [ms_rd (i2 i) (by omega), hLl i hi]) (And.intro (ms_in (i1 i) (by omega) (by decide)) (nm_r (e' := nI (Lr i).toNat) (by rw [ms_rd (i1 i) (by omega), hLr i hi]) (by
      have stp : ∀ a b : Bool, a = (s.1 && (!Ll i || Lr i)) → b = (s.2 && (!Lr i || Ll i)) → wY_compare_23 post (nI (K ^ hz)) (nI tr) (nI hz) (nI lm) (nI ht) (nI rd) (ms_F wo) (ms_F tb) n (nI a.toNat) (nI b.toNat) (nI (i + 1)) := by
        intro a b ha hb
        refine k (a, b) ⟨?_, ?_⟩
        · rw [show (a, b).1 = a from rfl, ha, Bool.and_eq_true, hI.1]
          constructor
          · rintro ⟨h1, h2⟩ c hc hl
            by_cases e : c = i
            · subst e; rw [hl] at h2; simpa using h2
            · exact h1 c (by omega) hl
          · intro h
            refine ⟨fun c hc hl => h c (by omega) hl, ?_⟩
            cases hx : Ll i
            · rfl
            · rw [h i (by omega) hx]; rfl
        · rw [show (a, b).2 = b from rfl, hb, Bool.and_eq_true, hI.2]
          constructor
          · rintro ⟨h1, h2⟩ c hc hl
            by_cases e : c = i
            · subst e; rw [hl] at h2; simpa using h2
            · exact h1 c (by omega) hl
          · intro h
            refine ⟨fun c hc hl => h c (by omega) hl, ?_⟩
            cases hx : Lr i
            · rfl
            · rw [h i (by omega) hx]; rfl
      refine ms_brz _ rfl (fun e1 => ms_brz _ rfl (fun e2 => ?_) (fun e2 => ms_brz _ rfl (fun _ => ?_) (fun e3 => ?_))) (fun e1 => ms_brz _ rfl (fun e2 => ms_brz _ rfl (fun _ => ?_) (fun e3 => ?_)) (fun e2 => ms_brz _ rfl (fun e3 => ?_) (fun _ => ms_brz _ rfl (fun e3 => ?_) (fun _ => ?_))))
      · exact nm_r (nI_1 i) (stp s.1 s.2 (by rw [e1, e2]; simp) (by rw [e1, e2]; simp))
      · exact nm_r (nI_1 i) (stp s.1 false (by rw [e1, e2]; simp) (by rw [e1, e2]; simp))
      · rw [e1] at e3; exact absurd e3 (by decide)
      · exact nm_r (nI_1 i) (stp false s.2 (by rw [e1, e2]; simp) (by rw [e1, e2]; simp))
      · rw [e2] at e3; exact absurd e3 (by decide)
      · rw [e2] at e3; exact absurd e3 (by decide)
      · rw [e1] at e3; exact absurd e3 (by decide)
      · exact nm_r (nI_1 i) (stp s.1 s.2 (by rw [e1, e2]; simp) (by rw [e1, e2]; simp))))))))
theorem ms_ydepends {post : Int32 → Prop} {v d : Nat} (ht3 : tr ≤ 3) (hh : hz ≤ 6) (h12 : tr * hz ≤ 12) (hKd : K = 2 ^ tr) (hv : v < tr) (hd : d < 4) (hL : ∀ c, c < K ^ hz → tb (d * 4096 + c) = (L c).toNat)
    (H1 : (∃ c c', c < K ^ hz ∧ ms_vr K (2 ^ v) hz c c' ∧ L c ≠ L c') → post 1) (H0 : ¬ (∃ c c', c < K ^ hz ∧ ms_vr K (2 ^ v) hz c c' ∧ L c ≠ L c') → post 0) : ∃ n, wY_depends_53 post (nI v) (nI (d * 4096)) (nI (K ^ hz)) (nI (2 ^ hz)) (nI tr) (nI hz) (nI lm) (nI ht) (nI rd) (ms_F wo) (ms_F tb) n (nI 0) := by
  have h4096 : K ^ hz ≤ 4096 := by rw [hKd, ms_pw]; exact ms_pwb h12
  have h64 : 2 ^ hz ≤ 2 ^ 6 := Nat.pow_le_pow_right (by decide) hh
  exact loop_0 (fun n i (_ : Unit) => wY_depends_53 post (nI v) (nI (d * 4096)) (nI (K ^ hz)) (nI (2 ^ hz)) (nI tr) (nI hz) (nI lm) (nI ht) (nI rd) (ms_F wo) (ms_F tb) n (nI i)) (fun i _ => ∀ c c', c < i → ms_vr K (2 ^ v) hz c c' → L c = L c') (K ^ hz) () (fun c c' hc => absurd hc (Nat.not_lt_zero c))
    (fun n _ hI => br_t (nI_le (Nat.le_refl _) (by omega)) (H0 (fun ⟨c, c', a1, a2, a3⟩ => a3 (hI c c' a1 a2))))
    (fun n c _ hc hI k => br_f (nI_ge hc (by omega)) (by
      exact loop_0 (fun n' i (_ : Unit) => wY_depends_62 post (wY_depends_53 post (nI v) (nI (d * 4096)) (nI (K ^ hz)) (nI (2 ^ hz)) (nI tr) (nI hz) (nI lm) (nI ht) (nI rd) (ms_F wo) (ms_F tb) n) (nI v) (nI (d * 4096)) (nI (K ^ hz)) (nI (2 ^ hz)) (nI c) (nI tr) (nI hz) (nI lm) (nI ht) (nI rd) (ms_F wo) (ms_F tb) n' (nI i)) (fun i _ => ∀ s, s < i → ∃ R, R < K ^ hz ∧ (∀ n b, n < hz → b < tr → (ms_col K hz R n).testBit b = if b = v then s.testBit n else (ms_col K hz c n).testBit b) ∧ L c = L R) (2 ^ hz) () (fun s hs => absurd hs (Nat.not_lt_zero s))
        (fun n' _ hJ => br_t (nI_le (Nat.le_refl _) (by omega)) (nm_r (nI_1 c) (k () (fun x c' hx V => by
          by_cases e : x = c
          · subst e
            subst hKd
            obtain ⟨s, s1, s2⟩ := ms_vr_ex hv V
            obtain ⟨R, r1, r2, r3⟩ := hJ s s1
            rw [s2 R r1 r2] at r3
            exact r3
          · exact hI x c' (by omega) V))))
        (fun n' i _ hi hJ kk => br_f (nI_ge hi (by omega)) (ms_changed ht3 hh h12 hKd hv hc (by omega) (fun R hR hs => And.intro (ms_in (nI_add _ c) (by omega) (by decide)) (And.intro (ms_in (nI_add _ R) (by omega) (by decide)) (by
          rw [ms_rd (nI_add _ c) (by omega), ms_rd (nI_add _ R) (by omega), hL c hc, hL R hR]
          refine ms_brI (P := L c = L R) (by cases L c <;> cases L R <;> decide) (fun e => nm_r (nI_1 i) (kk () (fun s hs' => ?_))) (fun e => H1 ⟨c, R, hc, ?_, e⟩)
          · by_cases e2 : s = i
            · subst e2; exact ⟨R, hR, hs, e⟩
            · exact hJ s (by omega)
          · subst hKd
            exact ms_vr_of hv hR hs)))))))
theorem ms_yholds80 {post : Int32 → Prop} {k s0 s1 s2 : Nat} {p2 p3 : Int32} (ht1 : 1 ≤ tr) (ht3 : tr ≤ 3) (hh : hz ≤ 6) (h12 : tr * hz ≤ 12) (hKd : K = 2 ^ tr) (hk : k < ht) (hh4 : ht ≤ 4) (hL : ∀ c, c < K ^ hz → tb ((ht - 1 - k) * 4096 + c) = (L c).toNat) (hs0 : s0 < 2 ^ 31) (hs1 : s1 < 2 ^ 31) (hs2 : s2 < 2 ^ 31) (hp2 : 2 ≤ tr → p2 = nI s1) (hp3 : tr = 3 → p3 = nI s2)
    (H : ∀ R, R < K ^ hz → (∀ n b, n < hz → b < tr → (ms_col K hz R n).testBit b = (if b = 0 then s0 else if b = 1 then s1 else s2).testBit n) → post (nI (L R).toNat)) : wY_holds_80 post (nI k) (nI s0) p2 p3 (nI tr) (nI hz) (nI lm) (nI ht) (nI rd) (ms_F wo) (ms_F tb) := by
  have h4096 : K ^ hz ≤ 4096 := by rw [hKd, ms_pw]; exact ms_pwb h12
  have hK0 : 0 < K := by rw [hKd]; exact Nat.two_pow_pos tr
  have f126 : ∀ R, R < K ^ hz → (∀ n b, n < hz → b < tr → (ms_col K hz R n).testBit b = (if b = 0 then s0 else if b = 1 then s1 else s2).testBit n) → wY_holds_126 post (nI k) (nI R) (nI tr) (nI hz) (nI lm) (nI ht) (nI rd) (ms_F wo) (ms_F tb) := by
    intro R hR hs
    have ei : ((nI ht - 1) - nI k) * 4096 + nI R = nI ((ht - 1 - k) * 4096 + R) := by rw [ms_top hk, ms_4096]
    refine And.intro (ms_in ei (by omega) (by decide)) ?_
    rw [ms_rd ei (by omega), hL R hR]
    have h := H R hR hs
    refine ms_brz _ rfl (fun e => ?_) (fun e => ?_)
    · rw [e] at h; exact h
    · rw [e] at h; exact h
  have f107 : ∀ R, R < K ^ hz → (∀ n b, n < hz → b < tr → b < 2 → (ms_col K hz R n).testBit b = (if b = 0 then s0 else if b = 1 then s1 else s2).testBit n) → wY_holds_107 post (nI k) p3 (nI R) (nI tr) (nI hz) (nI lm) (nI ht) (nI rd) (ms_F wo) (ms_F tb) := by
    intro R hR hs
    refine pk_eq tr 3 (fun e => ?_) (fun e => f126 R hR (fun n b hn hb => hs n b hn hb (by omega)))
    rw [hp3 e]
    refine ms_changed (v := 2) ht3 hh h12 hKd (by omega) hR hs2 (fun R' hR' hs' => f126 R' hR' (fun n b hn hb => ?_))
    rw [hs' n b hn hb]
    by_cases e2 : b = 2
    · subst e2; rw [if_pos rfl, if_neg (by decide), if_neg (by decide)]
    · rw [if_neg e2]; exact hs n b hn hb (by omega)
  refine ms_changed (c := 0) (v := 0) ht3 hh h12 hKd (by omega) (Nat.pow_pos hK0) hs0 (fun R hR hs => ?_)
  refine pk_lt tr 2 (fun e => f107 R hR (fun n b hn hb hb2 => ?_)) (fun e => ?_)
  · have e2 : b = 0 := by omega
    subst e2
    rw [hs n 0 hn hb, if_pos rfl, if_pos rfl]
  · rw [hp2 e]
    refine ms_changed (v := 1) ht3 hh h12 hKd (by omega) hR hs1 (fun R' hR' hs' => f107 R' hR' (fun n b hn hb hb2 => ?_))
    rw [hs' n b hn hb]
    by_cases e2 : b = 1
    · subst e2; rw [if_pos rfl, if_neg (by decide), if_pos rfl]
    · have e3 : b = 0 := by omega
      subst e3
      rw [if_neg (by decide), hs n 0 hn hb, if_pos rfl, if_pos rfl]
end YQ
end
section
/-! the component: compare, depends, holds -/
/-- the column of three sets -/
def ms_fx (t s0 s1 s2 n : Nat) : Nat := if t = 3 then ((s0.testBit n).toNat ||| (s1.testBit n).toNat * 2) ||| (s2.testBit n).toNat * 4 else if t = 2 then (s0.testBit n).toNat ||| (s1.testBit n).toNat * 2 else (s0.testBit n).toNat
theorem ms_fx_lt {t s0 s1 s2 n : Nat} (h1 : 1 ≤ t) (h3 : t ≤ 3) : ms_fx t s0 s1 s2 n < 2 ^ t := by
  have : t = 1 ∨ t = 2 ∨ t = 3 := by omega
  unfold ms_fx
  rcases this with e | e | e <;> subst e <;> cases s0.testBit n <;> cases s1.testBit n <;> cases s2.testBit n <;> decide
theorem ms_fx_bit {t s0 s1 s2 n b : Nat} (h3 : t ≤ 3) (hb : b < t) : (ms_fx t s0 s1 s2 n).testBit b = (if b = 0 then s0 else if b = 1 then s1 else s2).testBit n := by
  have : (t = 1 ∧ b = 0) ∨ (t = 2 ∧ b = 0) ∨ (t = 2 ∧ b = 1) ∨ (t = 3 ∧ b = 0) ∨ (t = 3 ∧ b = 1) ∨ (t = 3 ∧ b = 2) := by omega
  unfold ms_fx
  rcases this with ⟨e1, e2⟩ | ⟨e1, e2⟩ | ⟨e1, e2⟩ | ⟨e1, e2⟩ | ⟨e1, e2⟩ | ⟨e1, e2⟩ <;> subst e1 e2 <;> simp only [if_true, if_false, Nat.reduceEqDiff, reduceIte] <;> cases s0.testBit n <;> cases s1.testBit n <;> cases s2.testBit n <;> decide
section XM
variable {tr hz lm K ht rd : Nat} {pl nx wd fi wo wc wk wn wg ki wl cc cr mo zm re fo : Nat → Nat}
variable {L : Nat → Bool} {sl : Nat}
theorem ms_holds78 {post : Int32 → Prop} {s0 s1 s2 : Nat} {p2 p3 : Int32} (ht1 : 1 ≤ tr) (ht3 : tr ≤ 3) (hKd : K = 2 ^ tr) (hh : hz ≤ 6) (hM : lm ≤ 12) (hsl : sl < 4) (S : ms_Slot K hz lm nx wd fi sl L) (hs0 : s0 < 2 ^ 31) (hs1 : s1 < 2 ^ 31) (hs2 : s2 < 2 ^ 31) (hp2 : 2 ≤ tr → p2 = nI s1) (hp3 : tr = 3 → p3 = nI s2)
    (H : post (nI (L (ms_wd K (ms_fx tr s0 s1 s2) hz)).toNat)) : ∃ n, wX_holds_78 post (nI s0) p2 p3 (nI sl) (nI tr) (nI hz) (nI lm) (nI K) (nI ht) (nI rd) (ms_F pl) (ms_F nx) (ms_F wd) (ms_F fi) (ms_F wo) (ms_F wc) (ms_F wk) (ms_F wn) (ms_F wg) (ms_F ki) (ms_F wl) (ms_F cc) (ms_F cr) (ms_F mo) (ms_F zm) (ms_F re) (ms_F fo) n (nI 0) (nI 0) := by
  have hK8 : K ≤ 8 := by rw [hKd]; exact Nat.pow_le_pow_right (n := 2) (by decide) ht3
  have hK0 : 0 < K := by rw [hKd]; exact Nat.two_pow_pos tr
  have hf : ∀ i, ms_fx tr s0 s1 s2 i < K := fun i => by rw [hKd]; exact ms_fx_lt ht1 ht3
  have hF := ms_Sl_F hM S
  refine loop_0 (fun n i (_ : Unit) => wX_holds_78 post (nI s0) p2 p3 (nI sl) (nI tr) (nI hz) (nI lm) (nI K) (nI ht) (nI rd) (ms_F pl) (ms_F nx) (ms_F wd) (ms_F fi) (ms_F wo) (ms_F wc) (ms_F wk) (ms_F wn) (ms_F wg) (ms_F ki) (ms_F wl) (ms_F cc) (ms_F cr) (ms_F mo) (ms_F zm) (ms_F re) (ms_F fo) n (nI (ms_rn K (fun j q c => nx (((sl * 6 + j) * 12 + q) * 8 + c)) 0 0 i (ms_wd K (ms_fx tr s0 s1 s2) i))) (nI i)) (fun _ _ => True) hz () trivial (fun n _ _ => ?_) (fun n i _ hi _ k => ?_)
  · have hst := ms_Aut_run hK0 S (Nat.le_refl hz) (ms_wd K (ms_fx tr s0 s1 s2) hz)
    have hw := ms_Sl_w hM S (Nat.le_refl hz)
    refine br_t (nI_le (Nat.le_refl hz) (by omega)) (And.intro (ms_in rfl hsl (by decide)) ?_)
    rw [ms_rdn (by omega), ms_bitB (by omega) (by omega)]
    rw [← S.2.2.2.2.2.2 _ (ms_wd_lt hz (fun i _ => hf i))] at H
    exact H
  · have hst := ms_Aut_run hK0 S (j := i) (by omega) (ms_wd K (ms_fx tr s0 s1 s2) i)
    have hw := ms_Sl_w hM S (j := i) (by omega)
    have hfi := hf i
    have f138 : wX_holds_138 post (wX_holds_78 post (nI s0) p2 p3 (nI sl) (nI tr) (nI hz) (nI lm) (nI K) (nI ht) (nI rd) (ms_F pl) (ms_F nx) (ms_F wd) (ms_F fi) (ms_F wo) (ms_F wc) (ms_F wk) (ms_F wn) (ms_F wg) (ms_F ki) (ms_F wl) (ms_F cc) (ms_F cr) (ms_F mo) (ms_F zm) (ms_F re) (ms_F fo) n) (nI s0) p2 p3 (nI sl) (nI (ms_rn K (fun j q c => nx (((sl * 6 + j) * 12 + q) * 8 + c)) 0 0 i (ms_wd K (ms_fx tr s0 s1 s2) i))) (nI i) (nI (ms_fx tr s0 s1 s2 i)) (nI tr) (nI hz) (nI lm) (nI K) (nI ht) (nI rd) (ms_F pl) (ms_F nx) (ms_F wd) (ms_F fi) (ms_F wo) (ms_F wc) (ms_F wk) (ms_F wn) (ms_F wg) (ms_F ki) (ms_F wl) (ms_F cc) (ms_F cr) (ms_F mo) (ms_F zm) (ms_F re) (ms_F fo) := by
      unfold wX_holds_138
      refine ms_step hsl (by omega) (by omega) (by omega) (nm_r (nI_1 i) ?_)
      have kk := k () trivial
      rw [ms_wd_rn hfi] at kk
      exact kk
    have b1 := Bool.toNat_le (s1.testBit i)
    have b2 := Bool.toNat_le (s2.testBit i)
    refine br_f (nI_ge hi (by omega)) (nm_r (ms_bitB hs0 (by omega)) (pk_lt tr 2 (fun e => ?_) (fun e => nm_r (e' := nI ((s0.testBit i).toNat ||| (s1.testBit i).toNat * 2)) (by
      rw [hp2 e, ms_bitB hs1 (by omega)]
      rw [show nI (s1.testBit i).toNat <<< ((1 : Int32) &&& 31) = nI ((s1.testBit i).toNat * 2) from ms_shl (b := 1) (by decide) (by omega), nx_or]) ?_)))
    · refine br_f (fun e3 => ?_) ?_
      · have := (nI_eq (a := tr) (b := 3) (by omega) (by omega)).mp e3; omega
      · rw [show ms_fx tr s0 s1 s2 i = (s0.testBit i).toNat from by unfold ms_fx; rw [if_neg (by omega), if_neg (by omega)]] at f138
        exact f138
    · refine pk_eq tr 3 (fun e3 => nm_r (e' := nI (((s0.testBit i).toNat ||| (s1.testBit i).toNat * 2) ||| (s2.testBit i).toNat * 4)) (by
        rw [hp3 e3, ms_bitB hs2 (by omega)]
        rw [show nI (s2.testBit i).toNat <<< ((2 : Int32) &&& 31) = nI ((s2.testBit i).toNat * 4) from ms_shl (b := 2) (by decide) (by omega), nx_or]) ?_) (fun e3 => ?_)
      · rw [show ms_fx tr s0 s1 s2 i = (((s0.testBit i).toNat ||| (s1.testBit i).toNat * 2) ||| (s2.testBit i).toNat * 4) from by unfold ms_fx; rw [if_pos e3]] at f138
        exact f138
      · rw [show ms_fx tr s0 s1 s2 i = ((s0.testBit i).toNat ||| (s1.testBit i).toNat * 2) from by unfold ms_fx; rw [if_neg e3, if_pos (by omega)]] at f138
        exact f138
theorem ms_compare48 {post : Int32 → SX → Prop} {l r : Nat} (hh : hz ≤ 6) (hl : l < 4) (hr : r < 4) (hFl : fi l < 2 ^ 12) (hFr : fi r < 2 ^ 12) (hN : wc hz ≤ 256) (hk : ∀ s, s < wc hz → wk (hz * 256 + s) < 144)
    (H : ∀ a b : Bool, (a = true ↔ ∃ s, s < wc hz ∧ ((fi l).testBit (wk (hz * 256 + s) / 12) && !(fi r).testBit (wk (hz * 256 + s) % 12)) = true) → (b = true ↔ ∃ s, s < wc hz ∧ ((fi r).testBit (wk (hz * 256 + s) % 12) && !(fi l).testBit (wk (hz * 256 + s) / 12)) = true) → post (if a = true then (if b = true then 3 else 2) else (if b = true then 1 else 0)) ((nI tr), (nI hz), (nI lm), (nI K), (nI ht), (nI rd), (ms_F pl), (ms_F nx), (ms_F wd), (ms_F fi), (ms_F wo), (ms_F wc), (ms_F wk), (ms_F wn), (ms_F wg), (ms_F ki), (ms_F wl), (ms_F cc), (ms_F cr), (ms_F mo), (ms_F zm), (ms_F re), (ms_F fo))) : ∃ n, wX_compare_48 post (nI l) (nI r) (nI (wc hz)) (nI tr) (nI hz) (nI lm) (nI K) (nI ht) (nI rd) (ms_F pl) (ms_F nx) (ms_F wd) (ms_F fi) (ms_F wo) (ms_F wc) (ms_F wk) (ms_F wn) (ms_F wg) (ms_F ki) (ms_F wl) (ms_F cc) (ms_F cr) (ms_F mo) (ms_F zm) (ms_F re) (ms_F fo) n (nI 0) (nI 0) (nI 0) :=
  loop_0 (fun n i (s : Bool × Bool) => wX_compare_48 post (nI l) (nI r) (nI (wc hz)) (nI tr) (nI hz) (nI lm) (nI K) (nI ht) (nI rd) (ms_F pl) (ms_F nx) (ms_F wd) (ms_F fi) (ms_F wo) (ms_F wc) (ms_F wk) (ms_F wn) (ms_F wg) (ms_F ki) (ms_F wl) (ms_F cc) (ms_F cr) (ms_F mo) (ms_F zm) (ms_F re) (ms_F fo) n (nI s.1.toNat) (nI s.2.toNat) (nI i)) (fun i s => (s.1 = true ↔ ∃ x, x < i ∧ ((fi l).testBit (wk (hz * 256 + x) / 12) && !(fi r).testBit (wk (hz * 256 + x) % 12)) = true) ∧ (s.2 = true ↔ ∃ x, x < i ∧ ((fi r).testBit (wk (hz * 256 + x) % 12) && !(fi l).testBit (wk (hz * 256 + x) / 12)) = true)) (wc hz) (false, false)
    ⟨⟨fun e => absurd e (by decide), fun ⟨c, hc, _⟩ => absurd hc (Nat.not_lt_zero c)⟩, ⟨fun e => absurd e (by decide), fun ⟨c, hc, _⟩ => absurd hc (Nat.not_lt_zero c)⟩⟩
    (fun n s hI => br_t (nI_le (Nat.le_refl _) (by omega)) (by
      have h := H s.1 s.2 hI.1 hI.2
      obtain ⟨s1, s2⟩ := s
      cases s1 <;> cases s2
      · exact br_t rfl (br_t rfl h)
      · exact br_t rfl (br_f (by decide) h)
      · exact br_f (by decide) (br_t rfl h)
      · exact br_f (by decide) (br_f (by decide) h)))
    (fun n i s hi hI k => br_f (nI_ge hi (by omega)) (And.intro (ms_in (ms_256 hz i) (by omega) (by decide)) (nm_r (ms_rd (ms_256 hz i) (by omega)) (by
      have hki := hk i hi
      have ed : nI (wk (hz * 256 + i)) / 12 = nI (wk (hz * 256 + i) / 12) := pk_div (d := 12) (by omega) (by decide) (by decide)
      have em : nI (wk (hz * 256 + i)) - nI (wk (hz * 256 + i)) / 12 * 12 = nI (wk (hz * 256 + i) % 12) := pk_rem (d := 12) (by omega) (by decide) (by decide)
      have e1 : (ms_F fi (nI l).toNatClampNeg >>> ((nI (wk (hz * 256 + i)) / 12) &&& 31)) &&& 1 = nI ((fi l).testBit (wk (hz * 256 + i) / 12)).toNat := by
        rw [ed, ms_rdn (by omega), ms_bitB (by omega) (by omega)]
      have e2 : (ms_F fi (nI r).toNatClampNeg >>> ((nI (wk (hz * 256 + i)) - nI (wk (hz * 256 + i)) / 12 * 12) &&& 31)) &&& 1 = nI ((fi r).testBit (wk (hz * 256 + i) % 12)).toNat := by
        rw [em, ms_rdn (by omega), ms_bitB (by omega) (by omega)]
      have stp : ∀ a b : Bool, a = (s.1 || ((fi l).testBit (wk (hz * 256 + i) / 12) && !(fi r).testBit (wk (hz * 256 + i) % 12))) → b = (s.2 || ((fi r).testBit (wk (hz * 256 + i) % 12) && !(fi l).testBit (wk (hz * 256 + i) / 12))) → wX_compare_48 post (nI l) (nI r) (nI (wc hz)) (nI tr) (nI hz) (nI lm) (nI K) (nI ht) (nI rd) (ms_F pl) (ms_F nx) (ms_F wd) (ms_F fi) (ms_F wo) (ms_F wc) (ms_F wk) (ms_F wn) (ms_F wg) (ms_F ki) (ms_F wl) (ms_F cc) (ms_F cr) (ms_F mo) (ms_F zm) (ms_F re) (ms_F fo) n (nI a.toNat) (nI b.toNat) (nI (i + 1)) := by
        intro a b ha hb
        refine k (a, b) ⟨?_, ?_⟩
        · rw [show (a, b).1 = a from rfl, ha, Bool.or_eq_true, hI.1]
          constructor
          · rintro (⟨x, x1, x2⟩ | h)
            · exact ⟨x, by omega, x2⟩
            · exact ⟨i, by omega, h⟩
          · rintro ⟨x, x1, x2⟩
            by_cases e : x = i
            · subst e; exact Or.inr x2
            · exact Or.inl ⟨x, by omega, x2⟩
        · rw [show (a, b).2 = b from rfl, hb, Bool.or_eq_true, hI.2]
          constructor
          · rintro (⟨x, x1, x2⟩ | h)
            · exact ⟨x, by omega, x2⟩
            · exact ⟨i, by omega, h⟩
          · rintro ⟨x, x1, x2⟩
            by_cases e : x = i
            · subst e; exact Or.inr x2
            · exact Or.inl ⟨x, by omega, x2⟩
      refine And.intro (ms_in rfl hl (by decide)) (And.intro (by decide) (nm_r e1 (And.intro (ms_in rfl hr (by decide)) (And.intro (by decide) (nm_r e2 ?_)))))
      cases hb1 : (fi l).testBit (wk (hz * 256 + i) / 12) <;> cases hb2 : (fi r).testBit (wk (hz * 256 + i) % 12) <;> rw [hb1, hb2] at stp
      · exact br_t (by decide) (br_t (by decide) (nm_r (nI_1 i) (stp s.1 s.2 (by simp) (by simp))))
      · exact br_t (by decide) (br_f (by decide) (nm_r (nI_1 i) (stp s.1 true (by simp) (by simp))))
      · exact br_f (by decide) (br_t (by decide) (nm_r (nI_1 i) (stp true s.2 (by simp) (by simp))))
      · exact br_t (by decide) (br_t (by decide) (nm_r (nI_1 i) (stp s.1 s.2 (by simp) (by simp))))))))
theorem ms_xdepends {post : Int32 → Prop} {bit : Nat} (hh : hz ≤ 6) (hK : K ≤ 8) (hM : lm ≤ 12) (hsl : sl < 4) (hbit : ∀ c, c < K → c ^^^ bit < K) (S : ms_Slot K hz lm nx wd fi sl L)
    (H1 : (∃ j s c, j < hz ∧ s < wd (sl * 7 + j) ∧ c < K ∧ nx (((sl * 6 + j) * 12 + s) * 8 + c) ≠ nx (((sl * 6 + j) * 12 + s) * 8 + (c ^^^ bit))) → post 1) (H0 : ¬ (∃ j s c, j < hz ∧ s < wd (sl * 7 + j) ∧ c < K ∧ nx (((sl * 6 + j) * 12 + s) * 8 + c) ≠ nx (((sl * 6 + j) * 12 + s) * 8 + (c ^^^ bit))) → post 0) : ∃ n, wX_depends_35 post (nI sl) (nI bit) (nI tr) (nI hz) (nI lm) (nI K) (nI ht) (nI rd) (ms_F pl) (ms_F nx) (ms_F wd) (ms_F fi) (ms_F wo) (ms_F wc) (ms_F wk) (ms_F wn) (ms_F wg) (ms_F ki) (ms_F wl) (ms_F cc) (ms_F cr) (ms_F mo) (ms_F zm) (ms_F re) (ms_F fo) n (nI 0) :=
  loop_0 (fun n j (_ : Unit) => wX_depends_35 post (nI sl) (nI bit) (nI tr) (nI hz) (nI lm) (nI K) (nI ht) (nI rd) (ms_F pl) (ms_F nx) (ms_F wd) (ms_F fi) (ms_F wo) (ms_F wc) (ms_F wk) (ms_F wn) (ms_F wg) (ms_F ki) (ms_F wl) (ms_F cc) (ms_F cr) (ms_F mo) (ms_F zm) (ms_F re) (ms_F fo) n (nI j)) (fun j _ => ∀ j' s c, j' < j → s < wd (sl * 7 + j') → c < K → nx (((sl * 6 + j') * 12 + s) * 8 + c) = nx (((sl * 6 + j') * 12 + s) * 8 + (c ^^^ bit))) hz () (fun j' s c hj => absurd hj (Nat.not_lt_zero j'))
    (fun n _ hI => br_t (nI_le (Nat.le_refl hz) (by omega)) (H0 (fun ⟨j, s, c, a1, a2, a3, a4⟩ => a4 (hI j s c a1 a2 a3))))
    (fun n j _ hj hI k => br_f (nI_ge hj (by omega)) (And.intro (ms_in (ms_7 sl j) (by omega) (by decide)) (nm_r (ms_rd (ms_7 sl j) (by omega)) (by
      have hw := ms_Sl_w hM S (j := j) (by omega)
      have hw1 := ms_Sl_w hM S (j := j + 1) (by omega)
      exact loop_0 (fun n' s (_ : Unit) => wX_depends_61 post (wX_depends_35 post (nI sl) (nI bit) (nI tr) (nI hz) (nI lm) (nI K) (nI ht) (nI rd) (ms_F pl) (ms_F nx) (ms_F wd) (ms_F fi) (ms_F wo) (ms_F wc) (ms_F wk) (ms_F wn) (ms_F wg) (ms_F ki) (ms_F wl) (ms_F cc) (ms_F cr) (ms_F mo) (ms_F zm) (ms_F re) (ms_F fo) n) (nI sl) (nI bit) (nI j) (nI (wd (sl * 7 + j))) (nI tr) (nI hz) (nI lm) (nI K) (nI ht) (nI rd) (ms_F pl) (ms_F nx) (ms_F wd) (ms_F fi) (ms_F wo) (ms_F wc) (ms_F wk) (ms_F wn) (ms_F wg) (ms_F ki) (ms_F wl) (ms_F cc) (ms_F cr) (ms_F mo) (ms_F zm) (ms_F re) (ms_F fo) n' (nI s)) (fun s _ => ∀ s' c, s' < s → c < K → nx (((sl * 6 + j) * 12 + s') * 8 + c) = nx (((sl * 6 + j) * 12 + s') * 8 + (c ^^^ bit))) (wd (sl * 7 + j)) () (fun s' c hs => absurd hs (Nat.not_lt_zero s'))
        (fun n' _ hJ => br_t (nI_le (Nat.le_refl _) (by omega)) (nm_r (nI_1 j) (k () (fun j' s c h1 h2 h3 => by
          by_cases e : j' = j
          · subst e; exact hJ s c h2 h3
          · exact hI j' s c (by omega) h2 h3))))
        (fun n' s _ hs hJ kk => br_f (nI_ge hs (by omega)) (loop_0 (fun n'' c (_ : Unit) => wX_depends_71 post (wX_depends_35 post (nI sl) (nI bit) (nI tr) (nI hz) (nI lm) (nI K) (nI ht) (nI rd) (ms_F pl) (ms_F nx) (ms_F wd) (ms_F fi) (ms_F wo) (ms_F wc) (ms_F wk) (ms_F wn) (ms_F wg) (ms_F ki) (ms_F wl) (ms_F cc) (ms_F cr) (ms_F mo) (ms_F zm) (ms_F re) (ms_F fo) n) (wX_depends_61 post (wX_depends_35 post (nI sl) (nI bit) (nI tr) (nI hz) (nI lm) (nI K) (nI ht) (nI rd) (ms_F pl) (ms_F nx) (ms_F wd) (ms_F fi) (ms_F wo) (ms_F wc) (ms_F wk) (ms_F wn) (ms_F wg) (ms_F ki) (ms_F wl) (ms_F cc) (ms_F cr) (ms_F mo) (ms_F zm) (ms_F re) (ms_F fo) n) (nI sl) (nI bit) (nI j) (nI (wd (sl * 7 + j))) (nI tr) (nI hz) (nI lm) (nI K) (nI ht) (nI rd) (ms_F pl) (ms_F nx) (ms_F wd) (ms_F fi) (ms_F wo) (ms_F wc) (ms_F wk) (ms_F wn) (ms_F wg) (ms_F ki) (ms_F wl) (ms_F cc) (ms_F cr) (ms_F mo) (ms_F zm) (ms_F re) (ms_F fo) n') (nI sl) (nI bit) (nI j) (nI (wd (sl * 7 + j))) (nI s) (nI tr) (nI hz) (nI lm) (nI K) (nI ht) (nI rd) (ms_F pl) (ms_F nx) (ms_F wd) (ms_F fi) (ms_F wo) (ms_F wc) (ms_F wk) (ms_F wn) (ms_F wg) (ms_F ki) (ms_F wl) (ms_F cc) (ms_F cr) (ms_F mo) (ms_F zm) (ms_F re) (ms_F fo) n'' (nI c)) (fun c _ => ∀ c', c' < c → nx (((sl * 6 + j) * 12 + s) * 8 + c') = nx (((sl * 6 + j) * 12 + s) * 8 + (c' ^^^ bit))) K () (fun c' hc => absurd hc (Nat.not_lt_zero c'))
          (fun n'' _ hH => br_t (nI_le (Nat.le_refl K) (by omega)) (nm_r (nI_1 s) (kk () (fun s' c h1 h2 => by
            by_cases e : s' = s
            · subst e; exact hH c h2
            · exact hJ s' c (by omega) h2))))
          (fun n'' c _ hc hH kkk => br_f (nI_ge hc (by omega)) (by
            have hcb := hbit c hc
            have d1 := ms_Sl_d hM S hj hs hc
            have d2 := ms_Sl_d hM S hj hs hcb
            refine ms_step hsl (by omega) (by omega) (by omega) ?_
            rw [nx_xor]
            refine ms_step hsl (by omega) (by omega) (by omega) ?_
            refine pk_eq _ _ (fun e => nm_r (nI_1 c) (kkk () (fun c' hc' => ?_))) (fun e => H1 ⟨j, s, c, hj, hs, hc, e⟩) rfl rfl (by omega) (by omega)
            by_cases e2 : c' = c
            · subst e2; exact e
            · exact hH c' (by omega)))))))))
end XM
end
section
/-! the witness of both is one -/
section JN
variable {K h M rd e : Nat} {w : Nat → Nat} {d : Nat → Nat → Nat → Nat} {F : Nat} {L : Nat → Bool} {wo fo : Nat → Nat}
theorem ms_Zc (hK : 0 < K) (A : ms_Aut K h M w d F L) (he : e ≤ h) {c : Nat} (hc : c < K ^ h) (hl : L c = true) (hz : ms_ln (fun n => ms_col K h c n) h ≤ e) : ms_Z K h d F e (ms_rn K d 0 0 e (c / K ^ (h - e))) = true := by
  have h0 : c % K ^ (h - e) = 0 := ms_zero_iff (h - e) (by omega) (fun n h1 h2 => (ms_ln_iff _ e h).mp hz n (by omega) h2)
  have hp : c / K ^ (h - e) < K ^ e := by
    apply Nat.div_lt_of_lt_mul
    rw [← Nat.pow_add, show h - e + e = h from by omega]
    exact hc
  have := ms_suf hK A he hp (r := 0) (Nat.pow_pos hK)
  have e1 : c / K ^ (h - e) * K ^ (h - e) + 0 = c := by
    have := Nat.div_add_mod' c (K ^ (h - e))
    rw [h0] at this
    exact this
  rw [e1, hl] at this
  exact this
theorem ms_REc (hK : 0 < K) (A : ms_Aut K h M w d F L) (hr : rd ≤ e) (he : e ≤ h) {c : Nat} (hc : c < K ^ h) (hl : L c = true) (hx : c / K ^ (h - rd) = ms_wd K wo rd) (hz : ms_ln (fun n => ms_col K h c n) h ≤ e) : ms_RE K h d F e rd (ms_rn K d 0 0 rd (ms_wd K wo rd)) := by
  have z := ms_Zc hK A he hc hl hz
  have hq : c / K ^ (h - e) / K ^ (e - rd) = c / K ^ (h - rd) := by
    rw [Nat.div_div_eq_div_mul, ← Nat.pow_add, show h - e + (e - rd) = h - rd from by omega]
  have hb : c / K ^ (h - e) < K ^ (rd + (e - rd)) := by
    apply Nat.div_lt_of_lt_mul
    rw [← Nat.pow_add, show h - e + (rd + (e - rd)) = h from by omega]
    exact hc
  obtain ⟨s1, s2, s3⟩ := ms_split (K := K) (e - rd) hK hb
  refine ⟨_, s2, ?_⟩
  have ea := ms_rn_app (d := d) (i := 0) (q := 0) (a := rd) hK (e - rd) (c / K ^ (h - e) / K ^ (e - rd)) (c / K ^ (h - e) % K ^ (e - rd)) s2
  rw [s3, Nat.zero_add, hq, hx, show rd + (e - rd) = e from by omega] at ea
  rw [ea] at z
  exact z
theorem ms_wit0 (hK : 0 < K) (A : ms_Aut K h M w d F L) (hr : rd ≤ h) (H : ∀ e', rd ≤ e' → e' ≤ h → ¬ ms_RE K h d F e' rd (ms_rn K d 0 0 rd (ms_wd K wo rd))) : ∀ c, c < K ^ h → L c = true → ¬ c / K ^ (h - rd) = ms_wd K wo rd :=
  fun _ hc hl hx => H h hr (Nat.le_refl h) (ms_REc hK A hr (Nat.le_refl h) hc hl hx (ms_ln_le _ h))
theorem ms_wit1 (hK : 0 < K) (A : ms_Aut K h M w d F L) (hr : rd ≤ e) (he : e ≤ h) (hwo : ∀ i, i < rd → wo i < K) (hf : ∀ e', rd ≤ e' → e' < e → ¬ ms_RE K h d F e' rd (ms_rn K d 0 0 rd (ms_wd K wo rd))) (S : ms_Sp K h rd e d F wo fo) : ms_wd K fo h < K ^ h ∧ (∀ n, n < h → ms_col K h (ms_wd K fo h) n = fo n) ∧ ms_opt K h rd L (ms_wd K wo rd) (K ^ h) (ms_wd K fo h) := by
  obtain ⟨s1, s2, s3, s4, s5⟩ := S
  have hlt := ms_wd_lt h s3
  have hcol := ms_wd_col hK s3
  have hln : ms_ln (fun n => ms_col K h (ms_wd K fo h) n) h ≤ e := (ms_ln_iff _ e h).mpr (fun i h1 h2 => by
    rw [hcol i h2]; exact s2 i h1 h2)
  have hext : ms_wd K fo h / K ^ (h - rd) = ms_wd K wo rd := (ms_ext_iff hK hlt rd (by omega) hwo).mpr (fun i hi => by rw [hcol i (by omega)]; exact s1 i hi)
  have hwz : ms_wd K fo h = ms_wd K fo e * K ^ (h - e) := by
    have := ms_wd_zero (K := K) (f := fo) (e := e) (h - e) (fun n h1 h2 => s2 n h1 (by omega))
    rw [show e + (h - e) = h from by omega] at this
    exact this
  have hL : L (ms_wd K fo h) = true := by
    have := ms_suf hK A he (ms_wd_lt e (fun i hi => s3 i (by omega))) (r := 0) (Nat.pow_pos hK)
    rw [Nat.add_zero, ← hwz] at this
    rw [← this]
    exact s4
  refine ⟨hlt, hcol, hL, hext, fun c hc hl hx => ?_⟩
  have lower : rd < e → ∀ c, c < K ^ h → L c = true → c / K ^ (h - rd) = ms_wd K wo rd → e ≤ ms_ln (fun n => ms_col K h c n) h := by
    intro hre c hc hl hx
    rcases Nat.lt_or_ge (ms_ln (fun n => ms_col K h c n) h) e with g | g
    · exact absurd (ms_REc (e := e - 1) hK A (by omega) (by omega) hc hl hx (by omega)) (hf (e - 1) (by omega) (by omega))
    · exact g
  rcases Nat.lt_or_ge e (ms_ln (fun n => ms_col K h c n) h) with g | g
  · exact Or.inl (by omega)
  · right
    have hz := ms_Zc hK A he hc hl g
    have h5 := s5 c hc hx hz
    have hle : ms_wd K fo h ≤ c := by
      rw [hwz]
      exact Nat.le_trans (Nat.mul_le_mul_right _ h5) (Nat.div_mul_le_self c _)
    rcases Nat.lt_or_eq_of_le hr with hre | hre
    · have l1 := lower hre c hc hl hx
      have l2 := lower hre _ hlt hL hext
      exact ⟨by omega, hle⟩
    · subst hre
      have h0 : c % K ^ (h - rd) = 0 := ms_zero_iff (h - rd) (by omega) (fun n h1 h2 => (ms_ln_iff _ rd h).mp g n (by omega) h2)
      have hc2 := Nat.div_add_mod' c (K ^ (h - rd))
      rw [h0, hx, Nat.add_zero] at hc2
      have hw2 : ms_wd K fo rd = ms_wd K wo rd := ms_wd_congr rd s1
      have : ms_wd K fo h = c := by rw [hwz, hw2]; exact hc2
      rw [this]
      exact ⟨rfl, Nat.le_refl _⟩
theorem ms_opt_un {W N b b' : Nat} (hb : b < N) (hb' : b' < N) (H : ms_opt K h rd L W N b) (H' : ms_opt K h rd L W N b') : b = b' := by
  have h1 := H.2.2 b' hb' H'.1 H'.2.1
  have h2 := H'.2.2 b hb H.1 H.2.1
  omega
end JN
end
section
/-! the relation; the simple calls -/
def ms_R (tr hz lm K ht rd : Nat) (pl nx wd fi wo ki tb : Nat → Nat) (Lg : Nat → Nat → Bool) : Prop :=
  (1 ≤ tr ∧ tr ≤ 3 ∧ 1 ≤ hz ∧ hz ≤ 6 ∧ tr * hz ≤ 12 ∧ 2 ≤ lm ∧ lm ≤ 12 ∧ K = 2 ^ tr ∧ ht ≤ 4 ∧ rd ≤ hz)
  ∧ (∀ i, i < 4 → pl i < 4) ∧ (∀ i j, i < 4 → j < 4 → pl i = pl j → i = j) ∧ (∀ i, i < rd → wo i < K) ∧ (∀ k, k < 4096 → ki k = 0)
  ∧ (∀ p, p < ht → ms_Slot K hz lm nx wd fi (pl p) (Lg p)) ∧ (∀ p c, p < ht → c < K ^ hz → tb (p * 4096 + c) = (Lg p c).toNat)
/-- both states are images of naturals; a minimal automaton in each slot, the truth table of the same language at each place -/
def i_Rel (_ : Nat) (u : SX) (v : SY) : Prop := ∃ (tr hz lm K ht rd : Nat) (pl nx wd fi wo wc wk wn wg ki wl cc cr mo zm re fo tb : Nat → Nat) (Lg : Nat → Nat → Bool), ms_R tr hz lm K ht rd pl nx wd fi wo ki tb Lg ∧ u = ((nI tr), (nI hz), (nI lm), (nI K), (nI ht), (nI rd), (ms_F pl), (ms_F nx), (ms_F wd), (ms_F fi), (ms_F wo), (ms_F wc), (ms_F wk), (ms_F wn), (ms_F wg), (ms_F ki), (ms_F wl), (ms_F cc), (ms_F cr), (ms_F mo), (ms_F zm), (ms_F re), (ms_F fo)) ∧ v = ((nI tr), (nI hz), (nI lm), (nI ht), (nI rd), (ms_F wo), (ms_F tb))
theorem i_up {k : Nat} {u : SX} {v : SY} (h : i_Rel k u v) : i_Rel (k + 5) u v := h
theorem ms_el {P : SX → SY → Prop} {k : Nat} {u : SX} {v : SY} (H : ∀ (tr hz lm K ht rd : Nat) (pl nx wd fi wo wc wk wn wg ki wl cc cr mo zm re fo tb : Nat → Nat) (Lg : Nat → Nat → Bool), ms_R tr hz lm K ht rd pl nx wd fi wo ki tb Lg → P ((nI tr), (nI hz), (nI lm), (nI K), (nI ht), (nI rd), (ms_F pl), (ms_F nx), (ms_F wd), (ms_F fi), (ms_F wo), (ms_F wc), (ms_F wk), (ms_F wn), (ms_F wg), (ms_F ki), (ms_F wl), (ms_F cc), (ms_F cr), (ms_F mo), (ms_F zm), (ms_F re), (ms_F fo)) ((nI tr), (nI hz), (nI lm), (nI ht), (nI rd), (ms_F wo), (ms_F tb))) (I : i_Rel k u v) : P u v :=
  Exists.elim I (fun tr I => Exists.elim I (fun hz I => Exists.elim I (fun lm I => Exists.elim I (fun K I => Exists.elim I (fun ht I => Exists.elim I (fun rd I => Exists.elim I (fun pl I => Exists.elim I (fun nx I => Exists.elim I (fun wd I => Exists.elim I (fun fi I => Exists.elim I (fun wo I => Exists.elim I (fun wc I => Exists.elim I (fun wk I => Exists.elim I (fun wn I => Exists.elim I (fun wg I => Exists.elim I (fun ki I => Exists.elim I (fun wl I => Exists.elim I (fun cc I => Exists.elim I (fun cr I => Exists.elim I (fun mo I => Exists.elim I (fun zm I => Exists.elim I (fun re I => Exists.elim I (fun fo I => Exists.elim I (fun tb I => Exists.elim I (fun Lg I => by rw [I.2.1, I.2.2]; exact H tr hz lm K ht rd pl nx wd fi wo wc wk wn wg ki wl cc cr mo zm re fo tb Lg I.1)))))))))))))))))))))))))
section RL
variable {tr hz lm K ht rd : Nat} {pl nx wd fi wo wc wk wn wg ki wl cc cr mo zm re fo : Nat → Nat}
variable {tb : Nat → Nat} {Lg : Nat → Nat → Bool} {k : Nat}
theorem ms_mk (R : ms_R tr hz lm K ht rd pl nx wd fi wo ki tb Lg) : i_Rel k ((nI tr), (nI hz), (nI lm), (nI K), (nI ht), (nI rd), (ms_F pl), (ms_F nx), (ms_F wd), (ms_F fi), (ms_F wo), (ms_F wc), (ms_F wk), (ms_F wn), (ms_F wg), (ms_F ki), (ms_F wl), (ms_F cc), (ms_F cr), (ms_F mo), (ms_F zm), (ms_F re), (ms_F fo)) ((nI tr), (nI hz), (nI lm), (nI ht), (nI rd), (ms_F wo), (ms_F tb)) := ⟨tr, hz, lm, K, ht, rd, pl, nx, wd, fi, wo, wc, wk, wn, wg, ki, wl, cc, cr, mo, zm, re, fo, tb, Lg, R, rfl, rfl⟩
theorem ms_R_K (R : ms_R tr hz lm K ht rd pl nx wd fi wo ki tb Lg) : 0 < K ∧ K ≤ 8 := by
  obtain ⟨⟨a1, a2, a3, a4, a5, a6, a7, a8, a9, a10⟩, _⟩ := R
  rw [a8]
  exact ⟨Nat.two_pow_pos tr, Nat.pow_le_pow_right (n := 2) (j := 3) (by decide) a2⟩
theorem ms_vc_depth (R : ms_R tr hz lm K ht rd pl nx wd fi wo ki tb Lg) : wpX_depth (fun r => wpY_depth (fun r' => r' = r ∧ i_Rel (k + 5) ((nI tr), (nI hz), (nI lm), (nI K), (nI ht), (nI rd), (ms_F pl), (ms_F nx), (ms_F wd), (ms_F fi), (ms_F wo), (ms_F wc), (ms_F wk), (ms_F wn), (ms_F wg), (ms_F ki), (ms_F wl), (ms_F cc), (ms_F cr), (ms_F mo), (ms_F zm), (ms_F re), (ms_F fo)) ((nI tr), (nI hz), (nI lm), (nI ht), (nI rd), (ms_F wo), (ms_F tb))) ((nI tr), (nI hz), (nI lm), (nI ht), (nI rd), (ms_F wo), (ms_F tb))) ((nI tr), (nI hz), (nI lm), (nI K), (nI ht), (nI rd), (ms_F pl), (ms_F nx), (ms_F wd), (ms_F fi), (ms_F wo), (ms_F wc), (ms_F wk), (ms_F wn), (ms_F wg), (ms_F ki), (ms_F wl), (ms_F cc), (ms_F cr), (ms_F mo), (ms_F zm), (ms_F re), (ms_F fo)) := And.intro rfl (ms_mk R)
theorem ms_vc_length (R : ms_R tr hz lm K ht rd pl nx wd fi wo ki tb Lg) : wpX_length (fun r => wpY_length (fun r' => r' = r ∧ i_Rel (k + 5) ((nI tr), (nI hz), (nI lm), (nI K), (nI ht), (nI rd), (ms_F pl), (ms_F nx), (ms_F wd), (ms_F fi), (ms_F wo), (ms_F wc), (ms_F wk), (ms_F wn), (ms_F wg), (ms_F ki), (ms_F wl), (ms_F cc), (ms_F cr), (ms_F mo), (ms_F zm), (ms_F re), (ms_F fo)) ((nI tr), (nI hz), (nI lm), (nI ht), (nI rd), (ms_F wo), (ms_F tb))) ((nI tr), (nI hz), (nI lm), (nI ht), (nI rd), (ms_F wo), (ms_F tb))) ((nI tr), (nI hz), (nI lm), (nI K), (nI ht), (nI rd), (ms_F pl), (ms_F nx), (ms_F wd), (ms_F fi), (ms_F wo), (ms_F wc), (ms_F wk), (ms_F wn), (ms_F wg), (ms_F ki), (ms_F wl), (ms_F cc), (ms_F cr), (ms_F mo), (ms_F zm), (ms_F re), (ms_F fo)) := And.intro rfl (ms_mk R)
theorem ms_vc_rewind (R : ms_R tr hz lm K ht rd pl nx wd fi wo ki tb Lg) : wpX_rewind (fun u' => wpY_rewind (fun v' => i_Rel (k + 5) u' v') ((nI tr), (nI hz), (nI lm), (nI ht), (nI rd), (ms_F wo), (ms_F tb))) ((nI tr), (nI hz), (nI lm), (nI K), (nI ht), (nI rd), (ms_F pl), (ms_F nx), (ms_F wd), (ms_F fi), (ms_F wo), (ms_F wc), (ms_F wk), (ms_F wn), (ms_F wg), (ms_F ki), (ms_F wl), (ms_F cc), (ms_F cr), (ms_F mo), (ms_F zm), (ms_F re), (ms_F fo)) := by
  obtain ⟨⟨a1, a2, a3, a4, a5, a6, a7, a8, a9, a10⟩, r2, r3, r4, r5, r6, r7⟩ := R
  exact ms_mk (k := k + 5) (rd := 0) ⟨⟨a1, a2, a3, a4, a5, a6, a7, a8, a9, by omega⟩, r2, r3, fun i hi => absurd hi (Nat.not_lt_zero i), r5, r6, r7⟩
theorem ms_vc_drop (R : ms_R tr hz lm K ht rd pl nx wd fi wo ki tb Lg) : wpX_drop (fun r u' => wpY_drop (fun r' v' => r' = r ∧ i_Rel (k + 5) u' v') ((nI tr), (nI hz), (nI lm), (nI ht), (nI rd), (ms_F wo), (ms_F tb))) ((nI tr), (nI hz), (nI lm), (nI K), (nI ht), (nI rd), (ms_F pl), (ms_F nx), (ms_F wd), (ms_F fi), (ms_F wo), (ms_F wc), (ms_F wk), (ms_F wn), (ms_F wg), (ms_F ki), (ms_F wl), (ms_F cc), (ms_F cr), (ms_F mo), (ms_F zm), (ms_F re), (ms_F fo)) := by
  have R' := R
  obtain ⟨⟨a1, a2, a3, a4, a5, a6, a7, a8, a9, a10⟩, r2, r3, r4, r5, r6, r7⟩ := R
  refine pk_le 1 ht (fun h => nm_r (ms_pred h) (br_t (nI_le h (by omega)) (nm_r (ms_pred h) (And.intro rfl ?_)))) (fun h => br_f (nI_ge (b := 1) h (by decide)) (And.intro rfl (ms_mk R')))
  exact ms_mk ⟨⟨a1, a2, a3, a4, a5, a6, a7, a8, by omega, a10⟩, r2, r3, r4, r5, fun p hp => r6 p (by omega), fun p c hp hc => r7 p c (by omega) hc⟩
theorem ms_vc_column (v1 : Int32) (R : ms_R tr hz lm K ht rd pl nx wd fi wo ki tb Lg) : wpX_column (fun r => wpY_column (fun r' => r' = r ∧ i_Rel (k + 5) ((nI tr), (nI hz), (nI lm), (nI K), (nI ht), (nI rd), (ms_F pl), (ms_F nx), (ms_F wd), (ms_F fi), (ms_F wo), (ms_F wc), (ms_F wk), (ms_F wn), (ms_F wg), (ms_F ki), (ms_F wl), (ms_F cc), (ms_F cr), (ms_F mo), (ms_F zm), (ms_F re), (ms_F fo)) ((nI tr), (nI hz), (nI lm), (nI ht), (nI rd), (ms_F wo), (ms_F tb))) ((nI tr), (nI hz), (nI lm), (nI ht), (nI rd), (ms_F wo), (ms_F tb)) v1) ((nI tr), (nI hz), (nI lm), (nI K), (nI ht), (nI rd), (ms_F pl), (ms_F nx), (ms_F wd), (ms_F fi), (ms_F wo), (ms_F wc), (ms_F wk), (ms_F wn), (ms_F wg), (ms_F ki), (ms_F wl), (ms_F cc), (ms_F cr), (ms_F mo), (ms_F zm), (ms_F re), (ms_F fo)) v1 := by
  have hrd : rd ≤ 6 := by have := R.1; omega
  refine br_c (fun h => br_t h (And.intro rfl (ms_mk R))) (fun h => br_c (fun h2 => ?_) (fun h2 => br_f h (br_f h2 (And.intro rfl (ms_mk R)))))
  have hin : vp_in v1 6 := by
    obtain ⟨j, hj, rfl⟩ := nI_of h
    have := (nI_ltI hj (by omega)).mp h2
    exact vp_in_nI (by omega) (by decide)
  exact And.intro hin (br_f h (br_t h2 (And.intro hin (And.intro rfl (ms_mk R)))))
theorem ms_vc_feed (v1 : Int32) (R : ms_R tr hz lm K ht rd pl nx wd fi wo ki tb Lg) : wpX_feed (fun r u' => wpY_feed (fun r' v' => r' = r ∧ i_Rel (k + 5) u' v') ((nI tr), (nI hz), (nI lm), (nI ht), (nI rd), (ms_F wo), (ms_F tb)) v1) ((nI tr), (nI hz), (nI lm), (nI K), (nI ht), (nI rd), (ms_F pl), (ms_F nx), (ms_F wd), (ms_F fi), (ms_F wo), (ms_F wc), (ms_F wk), (ms_F wn), (ms_F wg), (ms_F ki), (ms_F wl), (ms_F cc), (ms_F cr), (ms_F mo), (ms_F zm), (ms_F re), (ms_F fo)) v1 := by
  have R' := R
  obtain ⟨⟨a1, a2, a3, a4, a5, a6, a7, a8, a9, a10⟩, r2, r3, r4, r5, r6, r7⟩ := R
  have eK : (1 : Int32) <<< (nI tr &&& 31) = nI K := by rw [ms_shl1 (by omega), a8]
  have hK8 := (ms_R_K R').2
  refine br_c (fun h => br_t h (And.intro rfl (ms_mk R'))) (fun h => ?_)
  have yv : ∀ {post : Int32 → SY → Prop}, (v1 < nI K → ((nI rd < nI hz → vp_in (nI rd) 6 ∧ ∀ a_word_5 : Nat → Int32, a_word_5 = upd (ms_F wo) (nI rd).toNatClampNeg v1 → ∀ f_read_6 : Int32, f_read_6 = nI rd + 1 → post 0 (nI tr, nI hz, nI lm, nI ht, f_read_6, a_word_5, ms_F tb)) ∧ (¬ nI rd < nI hz → post (-1) ((nI tr), (nI hz), (nI lm), (nI ht), (nI rd), (ms_F wo), (ms_F tb))))) → (¬ v1 < nI K → post (-3) ((nI tr), (nI hz), (nI lm), (nI ht), (nI rd), (ms_F wo), (ms_F tb))) → wpY_feed post ((nI tr), (nI hz), (nI lm), (nI ht), (nI rd), (ms_F wo), (ms_F tb)) v1 := by
    intro post h1 h2
    refine br_f h ?_
    rw [eK]
    exact ⟨h1, h2⟩
  refine br_c (fun h2 => ?_) (fun h2 => yv (fun z => absurd z h2) (fun _ => And.intro rfl (ms_mk R')))
  obtain ⟨c, hc, rfl⟩ := nI_of h
  have hcK := (nI_ltI hc (by omega)).mp h2
  refine pk_lt rd hz (fun e => And.intro (ms_in rfl (by omega) (by decide)) (nm_r (ms_up rfl (by omega) rfl) (nm_r (nI_1 rd) ?_))) (fun e => yv (fun _ => br_f (nI_nlt e (by omega)) (And.intro rfl (ms_mk R'))) (fun z => absurd h2 z))
  refine yv (fun _ => br_t (nI_lt e (by omega)) (And.intro (ms_in rfl (by omega) (by decide)) (nm_r (ms_up rfl (by omega) rfl) (nm_r (nI_1 rd) (And.intro rfl ?_))))) (fun z => absurd h2 z)
  refine ms_mk ⟨⟨a1, a2, a3, a4, a5, a6, a7, a8, a9, by omega⟩, r2, r3, fun i hi => ?_, r5, r6, r7⟩
  by_cases e2 : i = rd
  · subst e2; rw [ms_Us]; exact hcK
  · rw [ms_Un e2]; exact r4 i (by omega)
theorem ms_vc_width (v1 : Int32) (R : ms_R tr hz lm K ht rd pl nx wd fi wo ki tb Lg) : wpX_width (fun r => wpY_width (fun r' => r' = r ∧ i_Rel (k + 5) ((nI tr), (nI hz), (nI lm), (nI K), (nI ht), (nI rd), (ms_F pl), (ms_F nx), (ms_F wd), (ms_F fi), (ms_F wo), (ms_F wc), (ms_F wk), (ms_F wn), (ms_F wg), (ms_F ki), (ms_F wl), (ms_F cc), (ms_F cr), (ms_F mo), (ms_F zm), (ms_F re), (ms_F fo)) ((nI tr), (nI hz), (nI lm), (nI ht), (nI rd), (ms_F wo), (ms_F tb))) ((nI tr), (nI hz), (nI lm), (nI ht), (nI rd), (ms_F wo), (ms_F tb)) v1) ((nI tr), (nI hz), (nI lm), (nI K), (nI ht), (nI rd), (ms_F pl), (ms_F nx), (ms_F wd), (ms_F fi), (ms_F wo), (ms_F wc), (ms_F wk), (ms_F wn), (ms_F wg), (ms_F ki), (ms_F wl), (ms_F cc), (ms_F cr), (ms_F mo), (ms_F zm), (ms_F re), (ms_F fo)) v1 := by
  have R' := R
  obtain ⟨hK0, hK8⟩ := ms_R_K R
  obtain ⟨⟨a1, a2, a3, a4, a5, a6, a7, a8, a9, a10⟩, r2, r3, r4, r5, r6, r7⟩ := R
  refine br_c (fun h => br_t h (And.intro rfl (ms_mk R'))) (fun h => br_c (fun h2 => ?_) (fun h2 => br_f h (br_f h2 (And.intro rfl (ms_mk R')))))
  refine pk_le 1 ht (fun e => ?_) (fun e => br_f h (br_t h2 (br_f (nI_ge (b := 1) e (by decide)) (And.intro rfl (ms_mk R')))))
  obtain ⟨j, hj, rfl⟩ := nI_of h
  have hjz := (nI_leI hj (by omega)).mp h2
  refine ms_slotAt (k := 0) e a9 ?_
  rw [Nat.sub_zero]
  have hsl := r2 (ht - 1) (by omega)
  have S := r6 (ht - 1) (by omega)
  refine And.intro (ms_in (ms_7 _ j) (by omega) (by decide)) ?_
  rw [ms_rd (ms_7 _ j) (by omega)]
  refine br_f h (br_t h2 (br_t (nI_le e (by omega)) ?_))
  rw [ms_pred e, ms_4096m]
  refine ms_widthAt (Lb := Lg (ht - 1)) a2 a4 a5 a8 (by omega) (fun c hc => r7 (ht - 1) c (by omega) hc) hjz (fun w _ hW => And.intro ?_ (ms_mk R'))
  rw [ms_isW_un hW (ms_Aut_isW hK0 S hjz)]
theorem ms_vc_swap (R : ms_R tr hz lm K ht rd pl nx wd fi wo ki tb Lg) : wpX_swap (fun r u' => wpY_swap (fun r' v' => r' = r ∧ i_Rel (k + 5) u' v') ((nI tr), (nI hz), (nI lm), (nI ht), (nI rd), (ms_F wo), (ms_F tb))) ((nI tr), (nI hz), (nI lm), (nI K), (nI ht), (nI rd), (ms_F pl), (ms_F nx), (ms_F wd), (ms_F fi), (ms_F wo), (ms_F wc), (ms_F wk), (ms_F wn), (ms_F wg), (ms_F ki), (ms_F wl), (ms_F cc), (ms_F cr), (ms_F mo), (ms_F zm), (ms_F re), (ms_F fo)) := by
  have R' := R
  obtain ⟨⟨a1, a2, a3, a4, a5, a6, a7, a8, a9, a10⟩, r2, r3, r4, r5, r6, r7⟩ := R
  refine pk_le 2 ht (fun h => ?_) (fun h => br_f (nI_ge (b := 2) h (by decide)) (And.intro rfl (ms_mk R')))
  have e1 : nI ht - 1 = nI (ht - 1) := ms_pred (by omega)
  have e2 : nI ht - 2 = nI (ht - 2) := pk_sub (b := 2) h
  refine And.intro (ms_in e1 (by omega) (by decide)) (nm_r (ms_rd e1 (by omega)) (And.intro (ms_in e2 (by omega) (by decide)) (And.intro (ms_in e1 (by omega) (by decide)) (nm_r (ms_up e1 (by omega) (ms_rd e2 (by omega))) (And.intro (ms_in e2 (by omega) (by decide)) (nm_r (ms_up e2 (by omega) rfl) ?_))))))
  refine br_t (nI_le h (by omega)) ?_
  rw [e1, ms_4096m]
  have hb : ∀ p c, p < ht → c < K ^ hz → tb (p * 4096 + c) ≤ 1 := fun p c hp hc => by rw [r7 p c hp hc]; exact Bool.toNat_le _
  refine ms_copy (a := (ht - 1) * 4096) (b := 16384) a5 a8 (by omega) (by decide) (by omega) (fun c hc => hb _ c (by omega) hc) (fun t1 p1 q1 => ?_)
  dsimp only
  rw [e1, e2, ms_4096m, ms_4096m]
  refine ms_copy (a := (ht - 2) * 4096) (b := (ht - 1) * 4096) a5 a8 (by omega) (by omega) (by omega) (fun c hc => ?_) (fun t2 p2 q2 => ?_)
  · rw [q1 _ (by have h4096 : K ^ hz ≤ 4096 := by rw [a8, ms_pw]; exact ms_pwb a5
                 omega)]
    exact hb _ c (by omega) hc
  have h4096 : K ^ hz ≤ 4096 := by rw [a8, ms_pw]; exact ms_pwb a5
  have t2w : ∀ c, c < K ^ hz → t2 (16384 + c) = (Lg (ht - 1) c).toNat := fun c hc => by
    rw [q2 _ (by omega), p1 c hc]; exact r7 _ c (by omega) hc
  dsimp only
  rw [e2, ms_4096m]
  refine ms_copy (a := 16384) (b := (ht - 2) * 4096) a5 a8 (by decide) (by omega) (by omega) (fun c hc => by rw [t2w c hc]; exact Bool.toNat_le _) (fun t3 p3 q3 => And.intro rfl ?_)
  have u1 : ms_U (ms_U pl (ht - 1) (pl (ht - 2))) (ht - 2) (pl (ht - 1)) (ht - 2) = pl (ht - 1) := ms_Us
  have u2 : ms_U (ms_U pl (ht - 1) (pl (ht - 2))) (ht - 2) (pl (ht - 1)) (ht - 1) = pl (ht - 2) := by
    rw [ms_Un (by omega)]; exact ms_Us
  have u3 : ∀ i, i ≠ ht - 1 → i ≠ ht - 2 → ms_U (ms_U pl (ht - 1) (pl (ht - 2))) (ht - 2) (pl (ht - 1)) i = pl i := fun i i1 i2 => by
    rw [ms_Un i2, ms_Un i1]
  have u4 : ∀ i, ms_U (ms_U pl (ht - 1) (pl (ht - 2))) (ht - 2) (pl (ht - 1)) i = pl (if i = ht - 1 then ht - 2 else if i = ht - 2 then ht - 1 else i) := by
    intro i
    by_cases i1 : i = ht - 1
    · rw [if_pos i1, i1, u2]
    · by_cases i2 : i = ht - 2
      · rw [if_neg i1, if_pos i2, i2, u1]
      · rw [if_neg i1, if_neg i2, u3 i i1 i2]
  refine ms_mk (Lg := fun p => Lg (if p = ht - 1 then ht - 2 else if p = ht - 2 then ht - 1 else p)) ⟨⟨a1, a2, a3, a4, a5, a6, a7, a8, a9, a10⟩, fun i hi => ?_, fun i j hi hj e => ?_, r4, r5, fun p hp => ?_, fun p c hp hc => ?_⟩
  · rw [u4 i]; exact r2 _ (by split <;> (try split) <;> omega)
  · rw [u4 i, u4 j] at e
    have := r3 _ _ (by split <;> (try split) <;> omega) (by split <;> (try split) <;> omega) e
    revert this
    (repeat' split) <;> omega
  · rw [u4 p]
    exact r6 _ (by split <;> (try split) <;> omega)
  · dsimp only
    by_cases i2 : p = ht - 2
    · subst i2
      rw [p3 c hc, t2w c hc, if_neg (by omega), if_pos rfl]
    · by_cases i1 : p = ht - 1
      · subst i1
        rw [q3 _ (by omega), p2 c hc, q1 _ (by omega), if_pos rfl]
        exact r7 _ c (by omega) hc
      · rw [q3 _ (by omega), q2 _ (by omega), q1 _ (by omega), if_neg i1, if_neg i2]
        exact r7 p c hp hc
end RL
end
section
/-! calls that write: pick, negate, atom, combine, exists, forall -/
section CL
variable {tr hz lm K ht rd : Nat} {pl nx wd fi wo wc wk wn wg ki wl cc cr mo zm re fo : Nat → Nat}
variable {tb : Nat → Nat} {Lg : Nat → Nat → Bool} {k : Nat}
theorem ms_R_put {nx' wd' fi' ki' tb' : Nat → Nat} {p0 ht' : Nat} {L' : Nat → Bool} (R : ms_R tr hz lm K ht rd pl nx wd fi wo ki tb Lg) (hp0 : p0 < 4) (ht4 : ht' ≤ 4) (hht : ∀ p, p < ht' → p ≠ p0 → p < ht) (S : ms_Slot K hz lm nx' wd' fi' (pl p0) L') (F : ms_fr (pl p0) nx wd fi nx' wd' fi') (hki : ∀ k, k < 4096 → ki' k = 0) (hT : ∀ c, c < K ^ hz → tb' (p0 * 4096 + c) = (L' c).toNat) (hF : ∀ x, x < 16384 → ¬ (p0 * 4096 ≤ x ∧ x < p0 * 4096 + 4096) → tb' x = tb x) : ms_R tr hz lm K (ht') rd pl (nx') (wd') (fi') wo (ki') (tb') (fun p => if p = p0 then L' else Lg p) := by
  obtain ⟨hK0, hK8⟩ := ms_R_K (R := R)
  obtain ⟨⟨a1, a2, a3, a4, a5, a6, a7, a8, a9, a10⟩, r2, r3, r4, r5, r6, r7⟩ := R
  have h4096 : K ^ hz ≤ 4096 := by rw [a8, ms_pw]; exact ms_pwb a5
  refine ⟨⟨a1, a2, a3, a4, a5, a6, a7, a8, ht4, a10⟩, r2, r3, r4, hki, fun p hp => ?_, fun p c hp hc => ?_⟩
  · dsimp only
    by_cases e : p = p0
    · rw [if_pos e, e]; exact S
    · rw [if_neg e]
      exact ms_Slot_fr hK0 hK8 a4 a7 (r6 p (hht p hp e)) F (fun e2 => e (r3 p p0 (by omega) hp0 e2))
  · dsimp only
    by_cases e : p = p0
    · rw [if_pos e, e]; exact hT c hc
    · rw [if_neg e, hF _ (by omega) (by omega)]
      exact r7 p c (hht p hp e) hc
theorem ms_R_keep {ki' tb' : Nat → Nat} (R : ms_R tr hz lm K ht rd pl nx wd fi wo ki tb Lg) (hki : ∀ k, k < 4096 → ki' k = 0) (hF : ∀ x, x < 16384 → tb' x = tb x) : ms_R tr hz lm K ht rd pl nx wd fi wo (ki') (tb') Lg := by
  obtain ⟨⟨a1, a2, a3, a4, a5, a6, a7, a8, a9, a10⟩, r2, r3, r4, r5, r6, r7⟩ := R
  have h4096 : K ^ hz ≤ 4096 := by rw [a8, ms_pw]; exact ms_pwb a5
  exact ⟨⟨a1, a2, a3, a4, a5, a6, a7, a8, a9, a10⟩, r2, r3, r4, hki, r6, fun p c hp hc => by rw [hF _ (by omega)]; exact r7 p c hp hc⟩
theorem ms_copySlot {post : SX → Prop} {a b : Nat} (ha : a < 4) (hb : b < 4) (hab : a ≠ b) (H : ∀ nx' wd' fi' : Nat → Nat, (∀ i, i < 576 → nx' (b * 576 + i) = nx (a * 576 + i)) → (∀ i, i < 7 → wd' (b * 7 + i) = wd (a * 7 + i)) → fi' b = fi a → ms_fr b nx wd fi nx' wd' fi' → post ((nI tr), (nI hz), (nI lm), (nI K), (nI ht), (nI rd), (ms_F pl), (ms_F nx'), (ms_F wd'), (ms_F fi'), (ms_F wo), (ms_F wc), (ms_F wk), (ms_F wn), (ms_F wg), (ms_F ki), (ms_F wl), (ms_F cc), (ms_F cr), (ms_F mo), (ms_F zm), (ms_F re), (ms_F fo))) : wpX_copySlot post ((nI tr), (nI hz), (nI lm), (nI K), (nI ht), (nI rd), (ms_F pl), (ms_F nx), (ms_F wd), (ms_F fi), (ms_F wo), (ms_F wc), (ms_F wk), (ms_F wn), (ms_F wg), (ms_F ki), (ms_F wl), (ms_F cc), (ms_F cr), (ms_F mo), (ms_F zm), (ms_F re), (ms_F fo)) (nI a) (nI b) := by
  have L41 : ∀ nx' : Nat → Nat, (∀ i, i < 576 → nx' (b * 576 + i) = nx (a * 576 + i)) → (∀ x, ¬ (b * 576 ≤ x ∧ x < b * 576 + 576) → nx' x = nx x) → ∃ n, wX_copySlot_41 post (nI a) (nI b) (nI tr) (nI hz) (nI lm) (nI K) (nI ht) (nI rd) n (nI 0) (ms_F pl) (ms_F nx') (ms_F wd) (ms_F fi) (ms_F wo) (ms_F wc) (ms_F wk) (ms_F wn) (ms_F wg) (ms_F ki) (ms_F wl) (ms_F cc) (ms_F cr) (ms_F mo) (ms_F zm) (ms_F re) (ms_F fo) := by
    intro nx' n1 n2
    exact loop_0 (fun n i (s : Nat → Nat) => wX_copySlot_41 post (nI a) (nI b) (nI tr) (nI hz) (nI lm) (nI K) (nI ht) (nI rd) n (nI i) (ms_F pl) (ms_F nx') (ms_F s) (ms_F fi) (ms_F wo) (ms_F wc) (ms_F wk) (ms_F wn) (ms_F wg) (ms_F ki) (ms_F wl) (ms_F cc) (ms_F cr) (ms_F mo) (ms_F zm) (ms_F re) (ms_F fo)) (fun i s => (∀ x, x < i → s (b * 7 + x) = wd (a * 7 + x)) ∧ (∀ x, ¬ (b * 7 ≤ x ∧ x < b * 7 + 7) → s x = wd x)) 7 wd ⟨fun x hx => absurd hx (Nat.not_lt_zero x), fun x _ => rfl⟩
      (fun n s hI => br_t (by decide) (And.intro (ms_in rfl ha (by decide)) (And.intro (ms_in rfl hb (by decide)) (nm_r (ms_up (v := fi a) rfl (by omega) (ms_rdn (by omega))) (H nx' s _ n1 hI.1 ms_Us ⟨n2, hI.2, fun x hx => ms_Un hx⟩)))))
      (fun n i s hi hI kk => br_f (nI_ge (b := 7) hi (by decide)) (And.intro (ms_in (ms_7 a i) (by omega) (by decide)) (And.intro (ms_in (ms_7 b i) (by omega) (by decide)) (nm_r (ms_up (v := wd (a * 7 + i)) (ms_7 b i) (by omega) (by rw [ms_rd (ms_7 a i) (by omega), hI.2 _ (by omega)])) (nm_r (nI_1 i) (kk _ ⟨fun x hx => by
        by_cases e : x = i
        · subst e; exact ms_Us
        · rw [ms_Un (by omega)]; exact hI.1 x (by omega), fun x hx => by
        rw [ms_Un (by omega)]; exact hI.2 x hx⟩))))))
  have L2 : ∃ n, wX_copySlot_2 post (nI a) (nI b) (nI tr) (nI hz) (nI lm) (nI K) (nI ht) (nI rd) n (nI 0) (ms_F pl) (ms_F nx) (ms_F wd) (ms_F fi) (ms_F wo) (ms_F wc) (ms_F wk) (ms_F wn) (ms_F wg) (ms_F ki) (ms_F wl) (ms_F cc) (ms_F cr) (ms_F mo) (ms_F zm) (ms_F re) (ms_F fo) :=
    loop_0 (fun n i (s : Nat → Nat) => wX_copySlot_2 post (nI a) (nI b) (nI tr) (nI hz) (nI lm) (nI K) (nI ht) (nI rd) n (nI i) (ms_F pl) (ms_F s) (ms_F wd) (ms_F fi) (ms_F wo) (ms_F wc) (ms_F wk) (ms_F wn) (ms_F wg) (ms_F ki) (ms_F wl) (ms_F cc) (ms_F cr) (ms_F mo) (ms_F zm) (ms_F re) (ms_F fo)) (fun i s => (∀ x, x < i → s (b * 576 + x) = nx (a * 576 + x)) ∧ (∀ x, ¬ (b * 576 ≤ x ∧ x < b * 576 + 576) → s x = nx x)) 576 nx ⟨fun x hx => absurd hx (Nat.not_lt_zero x), fun x _ => rfl⟩
      (fun n s hI => br_t (by decide) (L41 s hI.1 hI.2))
      (fun n i s hi hI kk => br_f (nI_ge (b := 576) hi (by decide)) (And.intro (ms_in (ms_576 a i) (by omega) (by decide)) (And.intro (ms_in (ms_576 b i) (by omega) (by decide)) (nm_r (ms_up (v := nx (a * 576 + i)) (ms_576 b i) (by omega) (by rw [ms_rd (ms_576 a i) (by omega), hI.2 _ (by omega)])) (nm_r (nI_1 i) (kk _ ⟨fun x hx => by
        by_cases e : x = i
        · subst e; exact ms_Us
        · rw [ms_Un (by omega)]; exact hI.1 x (by omega), fun x hx => by
        rw [ms_Un (by omega)]; exact hI.2 x hx⟩))))))
  exact L2
theorem ms_Slot_cp {nx' wd' fi' : Nat → Nat} {a b : Nat} {L : Nat → Bool} (hK0 : 0 < K) (hK : K ≤ 8) (hh : hz ≤ 6) (hM : lm ≤ 12) (S : ms_Slot K hz lm nx wd fi a L) (h1 : ∀ i, i < 576 → nx' (b * 576 + i) = nx (a * 576 + i)) (h2 : ∀ i, i < 7 → wd' (b * 7 + i) = wd (a * 7 + i)) (h3 : fi' b = fi a) : ms_Slot K hz lm nx' wd' fi' b L := by
  unfold ms_Slot at S ⊢
  rw [h3]
  refine ms_Aut_congr hK0 S (fun j hj => (h2 j (by omega)).symm) (fun j q c hj hq hc => ?_)
  have hw := S.2.1 j (by omega)
  dsimp only at hw hq ⊢
  have := h1 (j * 96 + q * 8 + c) (by omega)
  rw [show ((b * 6 + j) * 12 + q) * 8 + c = b * 576 + (j * 96 + q * 8 + c) from by omega, show ((a * 6 + j) * 12 + q) * 8 + c = a * 576 + (j * 96 + q * 8 + c) from by omega]
  exact this.symm
theorem ms_vc_pick (v1 : Int32) (R : ms_R tr hz lm K ht rd pl nx wd fi wo ki tb Lg) : wpX_pick (fun r u' => wpY_pick (fun r' v' => r' = r ∧ i_Rel (k + 5) u' v') ((nI tr), (nI hz), (nI lm), (nI ht), (nI rd), (ms_F wo), (ms_F tb)) v1) ((nI tr), (nI hz), (nI lm), (nI K), (nI ht), (nI rd), (ms_F pl), (ms_F nx), (ms_F wd), (ms_F fi), (ms_F wo), (ms_F wc), (ms_F wk), (ms_F wn), (ms_F wg), (ms_F ki), (ms_F wl), (ms_F cc), (ms_F cr), (ms_F mo), (ms_F zm), (ms_F re), (ms_F fo)) v1 := by
  have R' := R
  obtain ⟨hK0, hK8⟩ := ms_R_K R
  obtain ⟨⟨a1, a2, a3, a4, a5, a6, a7, a8, a9, a10⟩, r2, r3, r4, r5, r6, r7⟩ := R
  refine br_c (fun h => br_t h (And.intro rfl (ms_mk R'))) (fun h => br_c (fun h2 => ?_) (fun h2 => br_f h (br_f h2 (And.intro rfl (ms_mk R')))))
  refine pk_lt ht 4 (fun e => ?_) (fun e => br_f h (br_t h2 (br_f (nI_nlt (b := 4) e (by omega)) (And.intro rfl (ms_mk R')))))
  obtain ⟨j, hj, rfl⟩ := nI_of h
  have hjh := (nI_ltI hj (by omega)).mp h2
  refine ms_slotAt hjh a9 (And.intro (ms_in rfl e (by decide)) ?_)
  rw [ms_rdn (by omega)]
  have hne : pl (ht - 1 - j) ≠ pl ht := fun z => by
    have := r3 _ _ (by omega) e z; omega
  refine ms_copySlot (r2 _ (by omega)) (r2 _ e) hne (fun nx' wd' fi' n1 n2 n3 F => nm_r (nI_1 ht) ?_)
  refine br_f h (br_t h2 (br_t (nI_lt (b := 4) e (by decide)) ?_))
  rw [ms_top hjh, ms_4096m, ms_4096m]
  have hT : ∀ c, c < K ^ hz → tb ((ht - 1 - j) * 4096 + c) = (Lg (ht - 1 - j) c).toNat := fun c hc => r7 _ c (by omega) hc
  refine ms_copy a5 a8 (by omega) (by omega) (by omega) (fun c hc => by rw [hT c hc]; exact Bool.toNat_le _) (fun tb' t1 t2 => nm_r (nI_1 ht) (And.intro rfl (ms_mk (ms_R_put (L' := Lg (ht - 1 - j)) R' e (by omega) (fun p hp hne => by omega) (ms_Slot_cp hK0 hK8 a4 a7 (r6 _ (by omega)) n1 n2 n3) F r5 (fun c hc => by rw [t1 c hc]; exact hT c hc) (fun x hx hn => t2 x (by omega))))))
theorem ms_vc_negate (R : ms_R tr hz lm K ht rd pl nx wd fi wo ki tb Lg) : wpX_negate (fun r u' => wpY_negate (fun r' v' => r' = r ∧ i_Rel (k + 5) u' v') ((nI tr), (nI hz), (nI lm), (nI ht), (nI rd), (ms_F wo), (ms_F tb))) ((nI tr), (nI hz), (nI lm), (nI K), (nI ht), (nI rd), (ms_F pl), (ms_F nx), (ms_F wd), (ms_F fi), (ms_F wo), (ms_F wc), (ms_F wk), (ms_F wn), (ms_F wg), (ms_F ki), (ms_F wl), (ms_F cc), (ms_F cr), (ms_F mo), (ms_F zm), (ms_F re), (ms_F fo)) := by
  have R' := R
  obtain ⟨hK0, hK8⟩ := ms_R_K R
  obtain ⟨⟨a1, a2, a3, a4, a5, a6, a7, a8, a9, a10⟩, r2, r3, r4, r5, r6, r7⟩ := R
  refine pk_le 1 ht (fun h => ?_) (fun h => br_f (nI_ge (b := 1) h (by decide)) (And.intro rfl (ms_mk R')))
  refine ms_slotAt (k := 0) h a9 ?_
  rw [Nat.sub_zero]
  have S := r6 (ht - 1) (by omega)
  have hsl := r2 (ht - 1) (by omega)
  have hw := ms_Sl_w a7 S (Nat.le_refl hz)
  have hp := Nat.two_pow_pos (wd (pl (ht - 1) * 7 + hz))
  refine And.intro (ms_in (ms_7 _ hz) (by omega) (by decide)) (nm_r (e' := nI (2 ^ wd (pl (ht - 1) * 7 + hz) - 1)) (by rw [ms_rd (ms_7 _ hz) (by omega), ms_shl1 (by omega)]; exact pk_sub (b := 1) hp) (And.intro (ms_in rfl hsl (by decide)) (And.intro (ms_in rfl hsl (by decide)) (nm_r (ms_up rfl (by omega) (by rw [ms_rdn (by omega), nx_xor])) ?_))))
  refine br_t (nI_le h (by omega)) (nm_r (e' := nI ((ht - 1) * 4096)) (by rw [ms_pred h, ms_4096m]) (ms_size a5 a8 ?_))
  refine ms_yneg (L := Lg (ht - 1)) a5 a8 (by omega) (fun c hc => r7 _ c (by omega) hc) (fun tb' t1 t2 => And.intro rfl (ms_mk (ms_R_put (p0 := ht - 1) (L' := fun c => !Lg (ht - 1) c) R' (by omega) a9 (fun p hp _ => hp) ?_ ⟨fun x _ => rfl, fun x _ => rfl, fun x hx => ms_Un hx⟩ r5 t1 (fun x _ hn => t2 x hn))))
  unfold ms_Slot at S ⊢
  rw [ms_Us]
  exact ms_Aut_neg hK0 S
end CL
end
section
/-! atom, combine, exists, forall -/
theorem ms_Bok_t {K h : Nat} {g : Nat → Nat → Nat → Nat} {k0 : Nat} {P : Nat → Nat → Prop} {Bd : Nat} (hP : ∀ j k, P j k → k < Bd) (hB : Bd < 256) : ms_Bok K h g k0 P (fun _ _ _ _ => True) (fun _ _ => True) := by
  refine ⟨fun L S C wc wk wn ki hL U Q _ hS hC hn => ⟨?_, trivial⟩, fun _ _ _ _ _ _ _ _ _ _ _ _ => trivial, fun _ _ _ _ => trivial, fun _ _ _ _ => trivial, fun _ _ _ _ _ => trivial⟩
  have := ms_KI_bd Q (fun s hs => hP _ _ (U.2.2.2.1 (L + 1) s (by omega) hs))
  omega
section AT
variable {tr hz lm K ht rd : Nat} {pl nx wd fi wo wc wk wn wg ki wl cc cr mo zm re fo : Nat → Nat}
variable {tb : Nat → Nat} {Lg : Nat → Nat → Bool} {k : Nat}
theorem ms_xatom89 {post : Int32 → SX → Prop} {kind a b : Nat} (R : ms_R tr hz lm K ht rd pl nx wd fi wo ki tb Lg) (hk : kind ≤ 7) (ha : a < tr) (hb : b < 32) (hht : ht < 4)
    (Hok : ∀ nx' wd' fi' wc wk wn wg ki wl cc cr : Nat → Nat, ms_Slot K hz lm nx' wd' fi' (pl ht) (fun c => ms_acc kind (ms_ak kind b (fun n => (ms_col K hz c n).testBit a) (fun n => (ms_col K hz c n).testBit b) hz)) → ms_fr (pl ht) nx wd fi nx' wd' fi' → (∀ k, k < 4096 → ki k = 0) → post 0 ((nI tr), (nI hz), (nI lm), (nI K), (nI (ht + 1)), (nI rd), (ms_F pl), (ms_F nx'), (ms_F wd'), (ms_F fi'), (ms_F wo), (ms_F wc), (ms_F wk), (ms_F wn), (ms_F wg), (ms_F ki), (ms_F wl), (ms_F cc), (ms_F cr), (ms_F mo), (ms_F zm), (ms_F re), (ms_F fo)))
    (Hno : ∀ wc wk wn wg ki wl cc cr : Nat → Nat, (∀ k, k < 4096 → ki k = 0) → (∃ j, j ≤ hz ∧ ∀ w, ms_isW (ms_eqv K hz (fun c => ms_acc kind (ms_ak kind b (fun n => (ms_col K hz c n).testBit a) (fun n => (ms_col K hz c n).testBit b) hz)) j) (K ^ j) w → lm < w) → post (-4) ((nI tr), (nI hz), (nI lm), (nI K), (nI ht), (nI rd), (ms_F pl), (ms_F nx), (ms_F wd), (ms_F fi), (ms_F wo), (ms_F wc), (ms_F wk), (ms_F wn), (ms_F wg), (ms_F ki), (ms_F wl), (ms_F cc), (ms_F cr), (ms_F mo), (ms_F zm), (ms_F re), (ms_F fo))) : wX_atom_89 post (nI kind) (nI a) (nI b) (nI tr) (nI hz) (nI lm) (nI K) (nI ht) (nI rd) (ms_F pl) (ms_F nx) (ms_F wd) (ms_F fi) (ms_F wo) (ms_F wc) (ms_F wk) (ms_F wn) (ms_F wg) (ms_F ki) (ms_F wl) (ms_F cc) (ms_F cr) (ms_F mo) (ms_F zm) (ms_F re) (ms_F fo) := by
  obtain ⟨hK0, hK8⟩ := ms_R_K R
  obtain ⟨⟨a1, a2, a3, a4, a5, a6, a7, a8, a9, a10⟩, r2, r3, r4, r5, r6, r7⟩ := R
  unfold wX_atom_89
  refine ms_unfoldAtom (g := fun j k c => ms_as kind k (c / 2 ^ a % 2) (c / 2 ^ b % 2) (if j = b then 1 else 0)) (k0 := 0) (P := fun _ k => k ≤ 2) (B := fun _ _ _ _ => True) (B0 := fun _ _ => True) rfl a4 hK8 ⟨by decide, fun j k h => by omega, fun j k c _ h _ => ms_as_le h (by omega)⟩ (ms_Bok_t (Bd := 3) (fun j k h => by omega) (by decide)) hk (by omega) hb (fun j k h => h) (fun _ _ _ => rfl) r5 (fun _ _ _ => trivial) (fun wc wk wn ki wg V hg => ?_)
  refine And.intro (ms_in rfl hht (by decide)) ?_
  dsimp only
  rw [ms_rdn (by omega)]
  refine ms_settle (G := fun s => ms_acc kind (wk (hz * 256 + s))) (Lg := fun c => ms_acc kind (ms_ak kind b (fun n => (ms_col K hz c n).testBit a) (fun n => (ms_col K hz c n).testBit b) hz)) a4 hK0 hK8 a7 (r2 ht hht) (ms_UI_WA (A := ms_acc kind) hK0 V.1 (fun s _ => rfl) (fun c hc => ?_)) hg (fun nx' wd' fi' wl cc cr S F => ?_) (fun wl cc cr hw => ?_)
  · have := ms_ak_rn (K := K) (h := hz) (kind := kind) (a := a) (b := b) (c := c) (g := fun j k c => ms_as kind k (c / 2 ^ a % 2) (c / 2 ^ b % 2) (if j = b then 1 else 0)) (fun _ _ _ => rfl) hz (Nat.le_refl hz)
    rw [Nat.sub_self, Nat.pow_zero, Nat.div_one] at this
    rw [this]
  · exact br_t rfl (nm_r (nI_1 ht) (Hok nx' wd' fi' wc wk wn wg ki wl cc cr S F V.2.2.1))
  · exact br_f (by decide) (Hno wc wk wn wg ki wl cc cr V.2.2.1 hw)
theorem ms_isW_no {L : Nat → Bool} {nx' wd' fi' : Nat → Nat} {sl : Nat} (hK0 : 0 < K) (S : ms_Slot K hz lm nx' wd' fi' sl L) (H : ∃ j, j ≤ hz ∧ ∃ w, ms_isW (ms_eqv K hz L j) (K ^ j) w ∧ lm < w) : False := by
  obtain ⟨j, hj, w, hw, hl⟩ := H
  have e := ms_isW_un hw (ms_Aut_isW hK0 S hj)
  have h3 : wd' (sl * 7 + j) ≤ lm := S.2.1 j hj
  have h4 : w = wd' (sl * 7 + j) := e
  omega
theorem ms_isW_no' {L : Nat → Bool} (H : ∃ j, j ≤ hz ∧ ∀ w, ms_isW (ms_eqv K hz L j) (K ^ j) w → lm < w) (H' : ∀ j, j ≤ hz → ∃ w, ms_isW (ms_eqv K hz L j) (K ^ j) w ∧ w ≤ lm) : False := by
  obtain ⟨j, hj, h⟩ := H
  obtain ⟨w, hw, hl⟩ := H' j hj
  have := h w hw
  omega
theorem ms_atom_fin {kind a b : Nat} {v3 : Int32} (R : ms_R tr hz lm K ht rd pl nx wd fi wo ki tb Lg) (hk : kind ≤ 7) (ha : a < tr) (hb : b < 32) (hb7 : kind = 7 → b < hz) (hbv : kind ≠ 7 → kind ≠ 6 → b < tr) (hp2 : kind ≠ 6 → v3 = nI b) (hht : ht < 4)
    (yf : ∀ post : Int32 → SY → Prop, wY_atom_76 post (nI kind) (nI a) v3 (nI tr) (nI hz) (nI lm) (nI ht) (nI rd) (ms_F wo) (ms_F tb) → wpY_atom post ((nI tr), (nI hz), (nI lm), (nI ht), (nI rd), (ms_F wo), (ms_F tb)) (nI kind) (nI a) v3) : wX_atom_89 (fun r u' => wpY_atom (fun r' v' => r' = r ∧ i_Rel (k + 5) u' v') ((nI tr), (nI hz), (nI lm), (nI ht), (nI rd), (ms_F wo), (ms_F tb)) (nI kind) (nI a) v3) (nI kind) (nI a) (nI b) (nI tr) (nI hz) (nI lm) (nI K) (nI ht) (nI rd) (ms_F pl) (ms_F nx) (ms_F wd) (ms_F fi) (ms_F wo) (ms_F wc) (ms_F wk) (ms_F wn) (ms_F wg) (ms_F ki) (ms_F wl) (ms_F cc) (ms_F cr) (ms_F mo) (ms_F zm) (ms_F re) (ms_F fo) := by
  have R' := R
  obtain ⟨hK0, hK8⟩ := ms_R_K R
  obtain ⟨⟨a1, a2, a3, a4, a5, a6, a7, a8, a9, a10⟩, r2, r3, r4, r5, r6, r7⟩ := R
  have h4096 : K ^ hz ≤ 4096 := by rw [a8, ms_pw]; exact ms_pwb a5
  refine ms_xatom89 R' hk ha hb hht (fun nx' wd' fi' wc wk wn wg ki wl cc cr S F hki => yf _ ?_) (fun wc wk wn wg ki wl cc cr hki hw => yf _ ?_)
  · refine br_t (nI_lt (b := 4) hht (by decide)) (ms_size a5 a8 ?_)
    exact ms_yatom95 (Lg := fun c => ms_acc kind (ms_ak kind b (fun n => (ms_col K hz c n).testBit a) (fun n => (ms_col K hz c n).testBit b) hz)) a2 a4 a5 a7 a8 hht (fun P tb c hc hP => ms_atomHolds a2 a4 a8 hk ha hb7 hbv hp2 (by omega) hP) (fun _ tb' t1 t2 => And.intro rfl (ms_mk (ms_R_put R' hht (by omega) (fun p hp hne => by omega) S F hki t1 t2))) (fun h => absurd (ms_isW_no hK0 S h) id)
  · refine br_t (nI_lt (b := 4) hht (by decide)) (ms_size a5 a8 ?_)
    exact ms_yatom95 (Lg := fun c => ms_acc kind (ms_ak kind b (fun n => (ms_col K hz c n).testBit a) (fun n => (ms_col K hz c n).testBit b) hz)) a2 a4 a5 a7 a8 hht (fun P tb c hc hP => ms_atomHolds a2 a4 a8 hk ha hb7 hbv hp2 (by omega) hP) (fun h => absurd (ms_isW_no' hw h) id) (fun _ tb' t1 => And.intro rfl (ms_mk (ms_R_keep R' hki t1)))
theorem ms_vc_atom (v1 v2 v3 : Int32) (R : ms_R tr hz lm K ht rd pl nx wd fi wo ki tb Lg) : wpX_atom (fun r u' => wpY_atom (fun r' v' => r' = r ∧ i_Rel (k + 5) u' v') ((nI tr), (nI hz), (nI lm), (nI ht), (nI rd), (ms_F wo), (ms_F tb)) v1 v2 v3) ((nI tr), (nI hz), (nI lm), (nI K), (nI ht), (nI rd), (ms_F pl), (ms_F nx), (ms_F wd), (ms_F fi), (ms_F wo), (ms_F wc), (ms_F wk), (ms_F wn), (ms_F wg), (ms_F ki), (ms_F wl), (ms_F cc), (ms_F cr), (ms_F mo), (ms_F zm), (ms_F re), (ms_F fo)) v1 v2 v3 := by
  have R' := R
  obtain ⟨⟨a1, a2, a3, a4, a5, a6, a7, a8, a9, a10⟩, r2, r3, r4, r5, r6, r7⟩ := R
  refine br_c (fun h => br_t h (And.intro rfl (ms_mk R'))) (fun h => br_c (fun h2 => ?_) (fun h2 => br_f h (br_f h2 (And.intro rfl (ms_mk R')))))
  obtain ⟨kind, hk, rfl⟩ := nI_of2 (M := 7) (n := 7) (by decide) h h2
  refine ms_isVariable a2 (fun a ha ea => br_f (by decide) ?_) (fun hbad => br_t rfl (br_f h (br_t h2 (br_c (fun _ => And.intro rfl (ms_mk R')) (fun h3 => br_f (fun h4 => ?_) (And.intro rfl (ms_mk R'))))))
    )
  · subst ea
    have yA : ∀ post : Int32 → SY → Prop, ((nI kind = 7 → ((v3 < 0 → post (-3) ((nI tr), (nI hz), (nI lm), (nI ht), (nI rd), (ms_F wo), (ms_F tb))) ∧ (¬ v3 < 0 → ((v3 < nI hz → wY_atom_49 post (nI kind) (nI a) v3 (nI tr) (nI hz) (nI lm) (nI ht) (nI rd) (ms_F wo) (ms_F tb)) ∧ (¬ v3 < nI hz → post (-3) ((nI tr), (nI hz), (nI lm), (nI ht), (nI rd), (ms_F wo), (ms_F tb))))))) ∧ (¬ nI kind = 7 → wY_atom_49 post (nI kind) (nI a) v3 (nI tr) (nI hz) (nI lm) (nI ht) (nI rd) (ms_F wo) (ms_F tb))) → wpY_atom post ((nI tr), (nI hz), (nI lm), (nI ht), (nI rd), (ms_F wo), (ms_F tb)) (nI kind) (nI a) v3 :=
      fun post H => br_f h (br_t h2 (br_f (nI_pos (by omega)) (br_t (nI_lt ha (by omega)) H)))
    have n7 : ∀ {A B : Prop}, (kind = 7 → A) → (kind ≠ 7 → B) → (nI kind = 7 → A) ∧ (¬ nI kind = 7 → B) := fun f g => pk_eq kind 7 f g
    -- the stack is full, or the atom is built
    have x68 : ∀ b : Nat, b < 32 → (kind = 7 → b < hz) → (kind ≠ 7 → kind ≠ 6 → b < tr) → (kind ≠ 6 → v3 = nI b) → (kind = 6 → b = 0) → (∀ post : Int32 → SY → Prop, wY_atom_76 post (nI kind) (nI a) v3 (nI tr) (nI hz) (nI lm) (nI ht) (nI rd) (ms_F wo) (ms_F tb) → wpY_atom post ((nI tr), (nI hz), (nI lm), (nI ht), (nI rd), (ms_F wo), (ms_F tb)) (nI kind) (nI a) v3) → wX_atom_68 (fun r u' => wpY_atom (fun r' v' => r' = r ∧ i_Rel (k + 5) u' v') ((nI tr), (nI hz), (nI lm), (nI ht), (nI rd), (ms_F wo), (ms_F tb)) (nI kind) (nI a) v3) (nI kind) (nI a) v3 (nI tr) (nI hz) (nI lm) (nI K) (nI ht) (nI rd) (ms_F pl) (ms_F nx) (ms_F wd) (ms_F fi) (ms_F wo) (ms_F wc) (ms_F wk) (ms_F wn) (ms_F wg) (ms_F ki) (ms_F wl) (ms_F cc) (ms_F cr) (ms_F mo) (ms_F zm) (ms_F re) (ms_F fo) := by
      intro b hb hb7 hbv hp2 hb6 yf
      refine pk_lt ht 4 (fun e => ?_) (fun e => yf _ (br_f (nI_nlt (b := 4) e (by omega)) (And.intro rfl (ms_mk R'))))
      have fin := ms_atom_fin (k := k) (wc := wc) (wk := wk) (wn := wn) (wg := wg) (wl := wl) (cc := cc) (cr := cr) (mo := mo) (zm := zm) (re := re) (fo := fo) R' hk ha hb hb7 hbv hp2 e yf
      refine pk_eq kind 6 (fun e6 => ?_) (fun e6 => ?_)
      · rw [hb6 e6] at fin; exact fin
      · rw [hp2 e6] at fin ⊢; exact fin
    refine pk_eq kind 7 (fun e7 => ?_) (fun e7 => ?_)
    · refine br_c (fun h3 => yA _ (n7 (fun _ => br_t h3 (And.intro rfl (ms_mk R'))) (fun e => absurd e7 e))) (fun h3 => br_c (fun h4 => ?_) (fun h4 => yA _ (n7 (fun _ => br_f h3 (br_f h4 (And.intro rfl (ms_mk R')))) (fun e => absurd e7 e))))
      obtain ⟨b, hb, rfl⟩ := nI_of h3
      have hbz := (nI_ltI hb (by omega)).mp h4
      refine pk_eq kind 7 (fun _ => x68 b (by omega) (fun _ => hbz) (fun e _ => absurd e7 e) (fun _ => rfl) (fun e => by omega) (fun post H => yA post (n7 (fun _ => br_f h3 (br_t h4 (pk_eq kind 7 (fun _ => H) (fun e => absurd e7 e)))) (fun e => absurd e7 e)))) (fun e => absurd e7 e)
    · refine pk_eq kind 7 (fun e => absurd e e7) (fun _ => pk_eq kind 6 (fun e6 => ?_) (fun e6 => ?_))
      · exact x68 0 (by decide) (fun e => absurd e e7) (fun _ e => absurd e6 e) (fun e => absurd e6 e) (fun _ => rfl) (fun post H => yA post (n7 (fun e => absurd e e7) (fun _ => pk_eq kind 7 (fun e => absurd e e7) (fun _ => pk_eq kind 6 (fun _ => H) (fun e => absurd e6 e)))))
      · have y3 : ∀ post : Int32 → SY → Prop, ((v3 < 0 → post (-3) ((nI tr), (nI hz), (nI lm), (nI ht), (nI rd), (ms_F wo), (ms_F tb))) ∧ (¬ v3 < 0 → ((v3 < nI tr → wY_atom_76 post (nI kind) (nI a) v3 (nI tr) (nI hz) (nI lm) (nI ht) (nI rd) (ms_F wo) (ms_F tb)) ∧ (¬ v3 < nI tr → post (-3) ((nI tr), (nI hz), (nI lm), (nI ht), (nI rd), (ms_F wo), (ms_F tb)))))) → wpY_atom post ((nI tr), (nI hz), (nI lm), (nI ht), (nI rd), (ms_F wo), (ms_F tb)) (nI kind) (nI a) v3 :=
          fun post H => yA post (n7 (fun e => absurd e e7) (fun _ => pk_eq kind 7 (fun e => absurd e e7) (fun _ => pk_eq kind 6 (fun e => absurd e e6) (fun _ => H))))
        refine ms_isVariable a2 (fun b hb eb => br_f (by decide) ?_) (fun hbad => br_t rfl (y3 _ (br_c (fun _ => And.intro rfl (ms_mk R')) (fun h3 => br_f (fun h4 => ?_) (And.intro rfl (ms_mk R'))))))
        · exact x68 b (by omega) (fun e => absurd e e7) (fun _ _ => hb) (fun _ => eb) (fun e => absurd e e6) (fun post H => y3 post (br_f (by rw [eb]; exact nI_pos (by omega)) (br_t (by rw [eb]; exact nI_lt hb (by omega)) H)))
        · rcases hbad with z | z
          · exact h3 z
          · exact Int32.not_lt.mpr z h4
  · rcases hbad with z | z
    · exact h3 z
    · exact Int32.not_lt.mpr z h4
end AT
end
section
/-! combine, exists, forall -/
section CB
variable {tr hz lm K ht rd : Nat} {pl nx wd fi wo wc wk wn wg ki wl cc cr mo zm re fo : Nat → Nat}
variable {tb : Nat → Nat} {Lg : Nat → Nat → Bool} {k : Nat}
def ms_gp (nx : Nat → Nat) (l r : Nat) : Nat → Nat → Nat → Nat := fun j k c => nx (((l * 6 + j) * 12 + k / 12) * 8 + c) * 12 + nx (((r * 6 + j) * 12 + k % 12) * 8 + c)
/-- the product, under the relation: its keys, and what the runs are -/
theorem ms_prod {post : SX → Prop} {l r : Nat} {Ll Lr : Nat → Bool} (hh : hz ≤ 6) (hK0 : 0 < K) (hK : K ≤ 8) (hM : lm ≤ 12) (hl : l < 4) (hr : r < 4) (Sl : ms_Slot K hz lm nx wd fi l Ll) (Sr : ms_Slot K hz lm nx wd fi r Lr) (hki : ∀ k, k < 4096 → ki k = 0)
    (H : ∀ wc wk wn ki : Nat → Nat, wc hz ≤ 256 → (∀ s, s < wc hz → wk (hz * 256 + s) < 144) → (∀ k, k < 4096 → ki k = 0) → (∀ Gf : Bool → Bool → Bool, ms_WA K hz wc (fun j s c => wn ((j * 256 + s) * 8 + c)) (fun s => Gf ((fi l).testBit (wk (hz * 256 + s) / 12)) ((fi r).testBit (wk (hz * 256 + s) % 12))) (fun c => Gf (Ll c) (Lr c))) → post ((nI tr), (nI hz), (nI lm), (nI K), (nI ht), (nI rd), (ms_F pl), (ms_F nx), (ms_F wd), (ms_F fi), (ms_F wo), (ms_F wc), (ms_F wk), (ms_F wn), (ms_F wg), (ms_F ki), (ms_F wl), (ms_F cc), (ms_F cr), (ms_F mo), (ms_F zm), (ms_F re), (ms_F fo))) : wpX_unfoldProduct post ((nI tr), (nI hz), (nI lm), (nI K), (nI ht), (nI rd), (ms_F pl), (ms_F nx), (ms_F wd), (ms_F fi), (ms_F wo), (ms_F wc), (ms_F wk), (ms_F wn), (ms_F wg), (ms_F ki), (ms_F wl), (ms_F cc), (ms_F cr), (ms_F mo), (ms_F zm), (ms_F re), (ms_F fo)) (nI l) (nI r) := by
  have dl : ∀ i q c, i < hz → q < wd (l * 7 + i) → c < K → nx (((l * 6 + i) * 12 + q) * 8 + c) < wd (l * 7 + (i + 1)) := Sl.2.2.2.1
  have dr : ∀ i q c, i < hz → q < wd (r * 7 + i) → c < K → nx (((r * 6 + i) * 12 + q) * 8 + c) < wd (r * 7 + (i + 1)) := Sr.2.2.2.1
  have wl12 : ∀ j, j ≤ hz → wd (l * 7 + j) ≤ 12 := fun j hj => Nat.le_trans (Sl.2.1 j hj) hM
  have wr12 : ∀ j, j ≤ hz → wd (r * 7 + j) ≤ 12 := fun j hj => Nat.le_trans (Sr.2.1 j hj) hM
  have l0 : wd (l * 7 + 0) = 1 := Sl.1
  have r0 : wd (r * 7 + 0) = 1 := Sr.1
  refine ms_unfoldProduct (g := ms_gp nx l r) (k0 := 0) (P := fun j k => k < 144 ∧ k / 12 < wd (l * 7 + j) ∧ k % 12 < wd (r * 7 + j)) (B := fun _ _ _ _ => True) (B0 := fun _ _ => True) rfl hh hK ⟨⟨by decide, by rw [l0]; decide, by rw [r0]; decide⟩, fun j k h => by omega, fun j k c hj h hc => ?_⟩ (ms_Bok_t (Bd := 144) (fun j k h => h.1) (by decide)) hl hr (fun j k h => by omega) (fun _ _ _ => rfl) hki (fun _ _ _ => trivial) (fun wc wk wn ki V => ?_)
  · have x1 := dl j _ c hj h.2.1 hc
    have x2 := dr j _ c hj h.2.2 hc
    have x3 := wl12 (j + 1) (by omega)
    have x4 := wr12 (j + 1) (by omega)
    show nx (((l * 6 + j) * 12 + k / 12) * 8 + c) * 12 + nx (((r * 6 + j) * 12 + k % 12) * 8 + c) < 144 ∧ _
    have x5 := ms_dm (K := 12) (p := nx (((l * 6 + j) * 12 + k / 12) * 8 + c)) (c := nx (((r * 6 + j) * 12 + k % 12) * 8 + c)) (by omega)
    refine ⟨by omega, ?_, ?_⟩
    · show (nx (((l * 6 + j) * 12 + k / 12) * 8 + c) * 12 + nx (((r * 6 + j) * 12 + k % 12) * 8 + c)) / 12 < _
      rw [x5.1]; exact x1
    · show (nx (((l * 6 + j) * 12 + k / 12) * 8 + c) * 12 + nx (((r * 6 + j) * 12 + k % 12) * 8 + c)) % 12 < _
      rw [x5.2]; exact x2
  · refine H wc wk wn ki (V.1.2.1 hz (Nat.le_refl hz)) (fun s hs => (V.1.2.2.2.1 hz s (Nat.le_refl hz) hs).1) V.2.2.1 (fun Gf => ?_)
    refine ms_UI_WA (A := fun key => Gf ((fi l).testBit (key / 12)) ((fi r).testBit (key % 12))) hK0 V.1 (fun s _ => rfl) (fun c hc => ?_)
    have hp := ms_rn_prod (K := K) (h := hz) (dl := fun j q c => nx (((l * 6 + j) * 12 + q) * 8 + c)) (dr := fun j q c => nx (((r * 6 + j) * 12 + q) * 8 + c)) (g := ms_gp nx l r) (wl := fun j => wd (l * 7 + j)) (wr := fun j => wd (r * 7 + j)) hK0 dl dr (by omega) (by omega) wr12 (fun _ _ _ => rfl) hz c (Nat.le_refl hz)
    rw [hp.1, hp.2, ← Sl.2.2.2.2.2.2 c hc, ← Sr.2.2.2.2.2.2 c hc]
theorem ms_vc_combine (v1 : Int32) (R : ms_R tr hz lm K ht rd pl nx wd fi wo ki tb Lg) : wpX_combine (fun r u' => wpY_combine (fun r' v' => r' = r ∧ i_Rel (k + 5) u' v') ((nI tr), (nI hz), (nI lm), (nI ht), (nI rd), (ms_F wo), (ms_F tb)) v1) ((nI tr), (nI hz), (nI lm), (nI K), (nI ht), (nI rd), (ms_F pl), (ms_F nx), (ms_F wd), (ms_F fi), (ms_F wo), (ms_F wc), (ms_F wk), (ms_F wn), (ms_F wg), (ms_F ki), (ms_F wl), (ms_F cc), (ms_F cr), (ms_F mo), (ms_F zm), (ms_F re), (ms_F fo)) v1 := by
  have R' := R
  obtain ⟨hK0, hK8⟩ := ms_R_K R
  obtain ⟨⟨a1, a2, a3, a4, a5, a6, a7, a8, a9, a10⟩, r2, r3, r4, r5, r6, r7⟩ := R
  refine br_c (fun h => br_t h (And.intro rfl (ms_mk R'))) (fun h => br_c (fun h2 => ?_) (fun h2 => br_f h (br_f h2 (And.intro rfl (ms_mk R')))))
  refine pk_le 2 ht (fun e => ?_) (fun e => br_f h (br_t h2 (br_f (nI_ge (b := 2) e (by decide)) (And.intro rfl (ms_mk R')))))
  obtain ⟨op, hop, rfl⟩ := nI_of2 (M := 3) (n := 3) (by decide) h h2
  refine ms_slotAt (k := 1) (by omega) a9 (ms_slotAt (k := 0) (by omega) a9 ?_)
  rw [Nat.sub_zero, show ht - 1 - 1 = ht - 2 from by omega]
  have Sl := r6 (ht - 2) (by omega)
  have Sr := r6 (ht - 1) (by omega)
  have hl := r2 (ht - 2) (by omega)
  have hr := r2 (ht - 1) (by omega)
  refine ms_prod a4 hK0 hK8 a7 hl hr Sl Sr r5 (fun wc wk wn ki h256 h144 hki hWA => ?_)
  refine ms_judgeProduct a4 hop hl hr (ms_Sl_F a7 Sl) (ms_Sl_F a7 Sr) h256 h144 (fun wg hg => ?_)
  have yf : ∀ post : Int32 → SY → Prop, (∃ n, wY_combine_30 post (nI op) (nI (K ^ hz)) (nI tr) (nI hz) (nI lm) (nI ht) (nI rd) n (nI 0) (ms_F wo) (ms_F tb)) → wpY_combine post ((nI tr), (nI hz), (nI lm), (nI ht), (nI rd), (ms_F wo), (ms_F tb)) (nI op) := fun post H => br_f h (br_t h2 (br_t (nI_le e (by omega)) (ms_size a5 a8 H)))
  refine ms_settle (Lg := fun c => ms_con op (Lg (ht - 2) c) (Lg (ht - 1) c)) a4 hK0 hK8 a7 hl (hWA (ms_con op)) hg (fun nx' wd' fi' wl cc cr S F => br_t rfl (nm_r (ms_pred (by omega)) (yf _ ?_))) (fun wl cc cr hw => br_f (by decide) (yf _ ?_))
  · refine ms_ycomb30 (Ll := Lg (ht - 2)) (Lr := Lg (ht - 1)) a2 a4 a5 a7 a8 hop e a9 (fun c hc => r7 _ c (by omega) hc) (fun c hc => r7 _ c (by omega) hc) (fun _ tb' t1 t2 => And.intro rfl (ms_mk (ms_R_put (p0 := ht - 2) (L' := fun c => ms_con op (Lg (ht - 2) c) (Lg (ht - 1) c)) R' (by omega) (by omega) (fun p hp hne => by omega) S F hki t1 t2))) (fun h => absurd (ms_isW_no hK0 S h) id)
  · refine ms_ycomb30 (Ll := Lg (ht - 2)) (Lr := Lg (ht - 1)) a2 a4 a5 a7 a8 hop e a9 (fun c hc => r7 _ c (by omega) hc) (fun c hc => r7 _ c (by omega) hc) (fun h => absurd (ms_isW_no' hw h) id) (fun _ tb' t1 => And.intro rfl (ms_mk (ms_R_keep R' hki t1)))
end CB
/-! the subset construction's room -/
theorem ms_hcK : ∀ t, t < 4 → ∀ v, v < t → ms_cn (fun c => !c.testBit v) (2 ^ t) = 2 ^ (t - 1) := by decide +kernel
theorem ms_xlt {t v c : Nat} (hv : v < t) (hc : c < 2 ^ t) : c ^^^ 2 ^ v < 2 ^ t := Nat.xor_lt_two_pow hc (Nat.pow_lt_pow_right (by decide) hv)
theorem ms_xdec : ∀ t, t < 4 → ∀ v, v < t → ∀ c, c < 2 ^ t → c.testBit v = true → c ^^^ 2 ^ v < c := by decide +kernel
theorem ms_cn_mono {P : Nat → Bool} {a b : Nat} (h : a ≤ b) : ms_cn P a ≤ ms_cn P b := by
  obtain ⟨z, rfl⟩ : ∃ z, b = a + z := ⟨b - a, by omega⟩
  rw [ms_cn_add]; omega
def ms_Bs (t v : Nat) : Nat → Nat → Nat → (Nat → Nat) → Prop := fun L S C wc => (∀ j, j ≤ L → wc j ≤ (2 ^ (t - 1)) ^ j) ∧ wc (L + 1) ≤ S * 2 ^ (t - 1) + ms_cn (fun c => !c.testBit v) C
theorem ms_Bok_s {t v h : Nat} {g : Nat → Nat → Nat → Nat} {k0 : Nat} {P : Nat → Nat → Prop} (ht3 : t ≤ 3) (hv : v < t) (hh : h ≤ 6) (h12 : t * h ≤ 12) (hg : ∀ j m c, g j m (c ^^^ 2 ^ v) = g j m c) : ms_Bok (2 ^ t) h g k0 P (ms_Bs t v) (fun L wc => ∀ j, j ≤ L → wc j ≤ (2 ^ (t - 1)) ^ j) := by
  have hK := ms_hcK t (by omega) v hv
  have hp : ∀ L, L < h → (2 ^ (t - 1)) ^ (L + 1) ≤ 256 := by
    intro L hL
    rw [ms_pw]
    refine Nat.pow_le_pow_right (n := 2) (j := 8) (by decide) ?_
    have : t = 1 ∨ t = 2 ∨ t = 3 := by omega
    rcases this with e | e | e <;> subst e <;> omega
  refine ⟨fun L S C wc wk wn ki hL U Q B hS hC hn => ?_, fun L S C wc wk wn hL U B hS hC hx => ?_, fun L S wc B => ?_, fun L wc hL B j hj => ?_, fun L wc hL B h0 => ?_⟩
  · obtain ⟨b1, b2⟩ := B
    have hcv : C.testBit v = false := by
      cases hx : C.testBit v
      · rfl
      · exfalso
        have hlt := ms_xdec t (by omega) v hv C hC hx
        obtain ⟨y1, y2⟩ := U.2.2.2.2.1 L S (C ^^^ 2 ^ v) hL (Or.inr ⟨rfl, Or.inr ⟨rfl, hlt⟩⟩) hS (by omega)
        rw [hg] at y2
        exact hn _ y1 y2
    have c1 : ms_cn (fun c => !c.testBit v) (C + 1) = ms_cn (fun c => !c.testBit v) C + 1 := by
      show ms_cn (fun c => !c.testBit v) C + (!C.testBit v).toNat = _
      rw [hcv]; rfl
    have c2 : ms_cn (fun c => !c.testBit v) (C + 1) ≤ 2 ^ (t - 1) := by
      rw [← hK]; exact ms_cn_mono (by omega)
    have c3 : (S + 1) * 2 ^ (t - 1) ≤ wc L * 2 ^ (t - 1) := Nat.mul_le_mul_right _ hS
    have c4 : wc L * 2 ^ (t - 1) ≤ (2 ^ (t - 1)) ^ L * 2 ^ (t - 1) := Nat.mul_le_mul_right _ (b1 L (Nat.le_refl L))
    rw [← Nat.pow_succ] at c4
    have c5 := hp L hL
    rw [Nat.add_mul, Nat.one_mul] at c3
    have c6 : (2 ^ (t - 1)) ^ L.succ = (2 ^ (t - 1)) ^ (L + 1) := rfl
    rw [c6] at c4
    refine ⟨by omega, fun j hj => ?_, ?_⟩
    · rw [ms_Un (by omega)]; exact b1 j hj
    · rw [ms_Us, c1]; omega
  · obtain ⟨b1, b2⟩ := B
    refine ⟨b1, Nat.le_trans b2 (Nat.add_le_add_left (ms_cn_mono (by omega)) _)⟩
  · obtain ⟨b1, b2⟩ := B
    refine ⟨b1, ?_⟩
    rw [hK] at b2
    show wc (L + 1) ≤ (S + 1) * 2 ^ (t - 1) + 0
    rw [Nat.add_mul, Nat.one_mul]
    omega
  · obtain ⟨b1, b2⟩ := B
    by_cases e : j = L + 1
    · subst e
      have c4 : wc L * 2 ^ (t - 1) ≤ (2 ^ (t - 1)) ^ L * 2 ^ (t - 1) := Nat.mul_le_mul_right _ (b1 L (Nat.le_refl L))
      rw [← Nat.pow_succ] at c4
      have b3 : wc (L + 1) ≤ wc L * 2 ^ (t - 1) + 0 := b2
      exact Nat.le_trans b3 c4
    · exact b1 j (by omega)
  · exact ⟨B, by rw [h0]; omega⟩
section QU
variable {tr hz lm K ht rd : Nat} {pl nx wd fi wo wc wk wn wg ki wl cc cr mo zm re fo : Nat → Nat}
variable {tb : Nat → Nat} {Lg : Nat → Nat → Bool} {k : Nat}
theorem ms_subL {v F : Nat} {w : Nat → Nat} {d g : Nat → Nat → Nat → Nat} {L : Nat → Bool} {al : Nat} (hal : al ≤ 1) (hv : v < tr) (hM : lm ≤ 12) (A : ms_Aut (2 ^ tr) hz lm w d F L) (hg : ∀ j m c, j < hz → g j m c = ms_im (d j) (2 ^ v) c m (w j)) : ∀ c, c < (2 ^ tr) ^ hz → ms_Lb (2 ^ tr) (2 ^ v) hz L (decide (al = 0)) c = (if al = 0 then decide (ms_rn (2 ^ tr) g 0 1 hz c &&& F ≠ 0) else decide (ms_rn (2 ^ tr) g 0 1 hz c &&& (F ^^^ 4294967295) = 0)) := by
  intro c hc
  have hK0 := Nat.two_pow_pos tr
  have sb := ms_sub (h := hz) (K := 2 ^ tr) (bit := 2 ^ v) hK0 (fun c hc => ms_xlt hv hc) (by rw [A.1]; decide) A.2.2.2.1 hg hz c (Nat.le_refl hz)
  have run : ∀ p, ms_rn (2 ^ tr) d 0 0 hz p < 12 := fun p => Nat.lt_of_lt_of_le (ms_Aut_run hK0 A (Nat.le_refl hz) p) (Nat.le_trans (A.2.1 hz (Nat.le_refl hz)) hM)
  have snd : ∀ p, ms_vr (2 ^ tr) (2 ^ v) hz c p → F.testBit (ms_rn (2 ^ tr) d 0 0 hz p) = L p := fun p V => A.2.2.2.2.2.2 p (ms_vr_lt hK0 _ _ _ V)
  rw [Bool.eq_iff_iff]
  unfold ms_Lb
  by_cases e : al = 0
  · rw [if_pos e, decide_eq_true e, decide_eq_true_iff]
    have h1 : (ms_B (ms_Lq (2 ^ tr) (2 ^ v) hz L true c) == true) = ms_B (ms_Lq (2 ^ tr) (2 ^ v) hz L true c) := by cases ms_B (ms_Lq (2 ^ tr) (2 ^ v) hz L true c) <;> rfl
    rw [h1, ms_Bt]
    constructor
    · rintro ⟨p, V, hp⟩ h0
      have b1 := (sb _).mpr ⟨p, V, rfl⟩
      have b2 := snd p V
      rw [hp] at b2
      have : (ms_rn (2 ^ tr) g 0 1 hz c &&& F).testBit (ms_rn (2 ^ tr) d 0 0 hz p) = true := by rw [Nat.testBit_and, b1, b2]; rfl
      rw [h0, Nat.zero_testBit] at this
      exact absurd this (by decide)
    · intro h0
      obtain ⟨q, hq⟩ := Nat.exists_testBit_of_ne_zero h0
      rw [Nat.testBit_and, Bool.and_eq_true] at hq
      obtain ⟨p, V, ep⟩ := (sb q).mp hq.1
      refine ⟨p, V, ?_⟩
      rw [← snd p V, ep]; exact hq.2
  · rw [if_neg e, decide_eq_false e, decide_eq_true_iff]
    have h1 : (ms_B (ms_Lq (2 ^ tr) (2 ^ v) hz L false c) == false) = true ↔ ¬ ms_Lq (2 ^ tr) (2 ^ v) hz L false c := by
      rw [← ms_Bf]
      cases ms_B (ms_Lq (2 ^ tr) (2 ^ v) hz L false c) <;> decide
    rw [h1]
    constructor
    · intro hn
      apply Nat.eq_of_testBit_eq
      intro q
      rw [Nat.zero_testBit, Nat.testBit_and]
      cases hx : (ms_rn (2 ^ tr) g 0 1 hz c).testBit q
      · rfl
      · obtain ⟨p, V, ep⟩ := (sb q).mp hx
        have hq := run p
        rw [ep] at hq
        have hLp : L p = true := by
          cases hl : L p
          · exact absurd ⟨p, V, hl⟩ hn
          · rfl
        have b2 := snd p V
        rw [ep, hLp] at b2
        rw [Nat.testBit_xor, ms_ones, b2]
        have : q < 32 := by omega
        simp [this]
    · intro h0 hq
      obtain ⟨p, V, hp⟩ := hq
      have b1 := (sb _).mpr ⟨p, V, rfl⟩
      have b2 := snd p V
      rw [hp] at b2
      have hr := run p
      have : (ms_rn (2 ^ tr) g 0 1 hz c &&& (F ^^^ 4294967295)).testBit (ms_rn (2 ^ tr) d 0 0 hz p) = true := by
        rw [Nat.testBit_and, b1, Nat.testBit_xor, b2, ms_ones]
        have : ms_rn (2 ^ tr) d 0 0 hz p < 32 := by omega
        simp [this]
      rw [h0, Nat.zero_testBit] at this
      exact absurd this (by decide)
theorem ms_quant {al : Nat} (hal : al ≤ 1) (v1 : Int32) (R : ms_R tr hz lm K ht rd pl nx wd fi wo ki tb Lg) : wpX_quantify (fun r u' => wpY_quantify (fun r' v' => r' = r ∧ i_Rel (k + 5) u' v') ((nI tr), (nI hz), (nI lm), (nI ht), (nI rd), (ms_F wo), (ms_F tb)) v1 (nI (decide (al = 0)).toNat)) ((nI tr), (nI hz), (nI lm), (nI K), (nI ht), (nI rd), (ms_F pl), (ms_F nx), (ms_F wd), (ms_F fi), (ms_F wo), (ms_F wc), (ms_F wk), (ms_F wn), (ms_F wg), (ms_F ki), (ms_F wl), (ms_F cc), (ms_F cr), (ms_F mo), (ms_F zm), (ms_F re), (ms_F fo)) v1 (nI al) := by
  have R' := R
  obtain ⟨hK0, hK8⟩ := ms_R_K R
  obtain ⟨⟨a1, a2, a3, a4, a5, a6, a7, a8, a9, a10⟩, r2, r3, r4, r5, r6, r7⟩ := R
  unfold wpX_quantify
  dsimp only
  refine ms_isVariable a2 (fun v hv ev => br_f (by decide) ?_) (fun hbad => br_t rfl (br_c (fun _ => And.intro rfl (ms_mk R')) (fun h3 => br_f (fun h4 => ?_) (And.intro rfl (ms_mk R')))))
  · subst ev
    have yA : ∀ post : Int32 → SY → Prop, ((1 ≤ nI ht → (∀ x3_4 : Int32, x3_4 = (nI ht - 1) * 4096 → wpY_size (fun r_5 => (∀ x5_13 : Int32, x5_13 = (1 : Int32) <<< (nI hz &&& 31) → ∃ n54 : Nat, wY_quantify_54 post (nI v) (nI (decide (al = 0)).toNat) x3_4 r_5 x5_13 (nI tr) (nI hz) (nI lm) (nI ht) (nI rd) n54 0 (ms_F wo) (ms_F tb))) ((nI tr), (nI hz), (nI lm), (nI ht), (nI rd), (ms_F wo), (ms_F tb)))) ∧ (¬ 1 ≤ nI ht → post (-2) ((nI tr), (nI hz), (nI lm), (nI ht), (nI rd), (ms_F wo), (ms_F tb)))) → wpY_quantify post ((nI tr), (nI hz), (nI lm), (nI ht), (nI rd), (ms_F wo), (ms_F tb)) (nI v) (nI (decide (al = 0)).toNat) := fun post H => br_f (nI_pos (by omega)) (br_t (nI_lt hv (by omega)) H)
    refine pk_le 1 ht (fun e => ?_) (fun e => yA _ (br_f (nI_ge (b := 1) e (by decide)) (And.intro rfl (ms_mk R'))))
    have yf : ∀ post : Int32 → SY → Prop, (∃ n, wY_quantify_54 post (nI v) (nI (decide (al = 0)).toNat) (nI ((ht - 1) * 4096)) (nI (K ^ hz)) (nI (2 ^ hz)) (nI tr) (nI hz) (nI lm) (nI ht) (nI rd) n (nI 0) (ms_F wo) (ms_F tb)) → wpY_quantify post ((nI tr), (nI hz), (nI lm), (nI ht), (nI rd), (ms_F wo), (ms_F tb)) (nI v) (nI (decide (al = 0)).toNat) := fun post H => yA post (br_t (nI_le e (by omega)) (nm_r (e' := nI ((ht - 1) * 4096)) (by rw [ms_pred e, ms_4096m]) (ms_size a5 a8 (nm_r (ms_shl1 (by omega)) H))))
    refine ms_slotAt (k := 0) e a9 ?_
    rw [Nat.sub_zero, ms_shl1 (by omega)]
    have S := r6 (ht - 1) (by omega)
    have hsl := r2 (ht - 1) (by omega)
    subst a8
    have hbit : 2 ^ v < 8 := Nat.lt_of_lt_of_le (Nat.pow_lt_pow_right (by decide) hv) hK8
    have hw12 : ∀ j, j ≤ hz → wd (pl (ht - 1) * 7 + j) ≤ 12 := fun j hj => ms_Sl_w a7 S hj
    have hp12 : ∀ j, j ≤ hz → 2 ^ wd (pl (ht - 1) * 7 + j) ≤ 4096 := fun j hj => Nat.pow_le_pow_right (n := 2) (j := 12) (by decide) (hw12 j hj)
    have h0 : wd (pl (ht - 1) * 7 + 0) = 1 := S.1
    have hgl : ∀ j m c, j < hz → c < 2 ^ tr → ms_im (fun s c => nx (((pl (ht - 1) * 6 + j) * 12 + s) * 8 + c)) (2 ^ v) c m (wd (pl (ht - 1) * 7 + j)) < 2 ^ wd (pl (ht - 1) * 7 + (j + 1)) := fun j m c hj hc => ms_im_lt (fun s hs => ⟨S.2.2.2.1 j s c hj hs hc, S.2.2.2.1 j s _ hj hs (ms_xlt hv hc)⟩)
    refine ms_unfoldSubsets (g := fun j m c => ms_im (fun s c => nx (((pl (ht - 1) * 6 + j) * 12 + s) * 8 + c)) (2 ^ v) c m (wd (pl (ht - 1) * 7 + j))) (k0 := 1) (P := fun j m => m < 4096 ∧ (j ≤ hz → m < 2 ^ wd (pl (ht - 1) * 7 + j))) (B := ms_Bs tr v) (B0 := fun L wc => ∀ j, j ≤ L → wc j ≤ (2 ^ (tr - 1)) ^ j) rfl a4 hK8 ⟨⟨by decide, fun _ => by rw [h0]; decide⟩, fun j k h => h.1, fun j m c hj h hc => ⟨Nat.lt_of_lt_of_le (hgl j m c hj hc) (hp12 (j + 1) (by omega)), fun _ => hgl j m c hj hc⟩⟩ (ms_Bok_s a2 hv a4 a5 (fun j m c => ms_im_sym _)) hsl hbit (fun post wc wk wn ki j m c hj hP hc hpost => ms_image hsl (by omega) (hw12 j (by omega)) hP.1 (by omega) (by have := ms_xlt hv hc; omega) (fun s hs => ⟨Nat.lt_of_lt_of_le (S.2.2.2.1 j s c hj hs hc) (hw12 (j + 1) (by omega)), Nat.lt_of_lt_of_le (S.2.2.2.1 j s _ hj hs (ms_xlt hv hc)) (hw12 (j + 1) (by omega))⟩) hpost) r5 (fun wc h1 h2 j hj => by
      have : j = 0 := by omega
      subst this
      rw [h1, Nat.pow_zero]
      exact Nat.le_refl 1) (fun wc wk wn ki V => ?_)
    refine ms_judgeSubsets a4 hsl hal rfl (ms_Sl_F a7 S) (V.1.2.1 hz (Nat.le_refl hz)) (fun s hs => (V.1.2.2.2.1 hz s (Nat.le_refl hz) hs).1) (fun wg hg => ?_)
    refine ms_settle (G := fun s => if al = 0 then decide (wk (hz * 256 + s) &&& fi (pl (ht - 1)) ≠ 0) else decide (wk (hz * 256 + s) &&& (fi (pl (ht - 1)) ^^^ 4294967295) = 0)) (Lg := ms_Lb (2 ^ tr) (2 ^ v) hz (Lg (ht - 1)) (decide (al = 0))) a4 hK0 hK8 a7 hsl (ms_UI_WA (A := fun key => if al = 0 then decide (key &&& fi (pl (ht - 1)) ≠ 0) else decide (key &&& (fi (pl (ht - 1)) ^^^ 4294967295) = 0)) hK0 V.1 (fun s _ => rfl) (ms_subL hal hv a7 S (fun j m c hj => rfl))) hg (fun nx' wd' fi' wl cc cr S' F => yf _ ?_) (fun wl cc cr hw => yf _ ?_)
    · exact ms_yq54 (L := Lg (ht - 1)) a2 a4 a5 a7 rfl hv (by omega) (fun c hc => r7 _ c (by omega) hc) (fun _ tb' t1 t2 => And.intro rfl (ms_mk (ms_R_put (p0 := ht - 1) R' (by omega) a9 (fun p hp _ => hp) S' F V.2.2.1 t1 t2))) (fun h => absurd (ms_isW_no hK0 S' h) id)
    · exact ms_yq54 (L := Lg (ht - 1)) a2 a4 a5 a7 rfl hv (by omega) (fun c hc => r7 _ c (by omega) hc) (fun h => absurd (ms_isW_no' hw h) id) (fun _ tb' t1 => And.intro rfl (ms_mk (ms_R_keep R' V.2.2.1 t1)))
  · rcases hbad with z | z
    · exact h3 z
    · exact Int32.not_lt.mpr z h4
theorem ms_vc_exists (v1 : Int32) (R : ms_R tr hz lm K ht rd pl nx wd fi wo ki tb Lg) : wpX_exists (fun r u' => wpY_exists (fun r' v' => r' = r ∧ i_Rel (k + 5) u' v') ((nI tr), (nI hz), (nI lm), (nI ht), (nI rd), (ms_F wo), (ms_F tb)) v1) ((nI tr), (nI hz), (nI lm), (nI K), (nI ht), (nI rd), (ms_F pl), (ms_F nx), (ms_F wd), (ms_F fi), (ms_F wo), (ms_F wc), (ms_F wk), (ms_F wn), (ms_F wg), (ms_F ki), (ms_F wl), (ms_F cc), (ms_F cr), (ms_F mo), (ms_F zm), (ms_F re), (ms_F fo)) v1 := ms_quant (al := 0) (by decide) v1 R
theorem ms_vc_forall (v1 : Int32) (R : ms_R tr hz lm K ht rd pl nx wd fi wo ki tb Lg) : wpX_forall (fun r u' => wpY_forall (fun r' v' => r' = r ∧ i_Rel (k + 5) u' v') ((nI tr), (nI hz), (nI lm), (nI ht), (nI rd), (ms_F wo), (ms_F tb)) v1) ((nI tr), (nI hz), (nI lm), (nI K), (nI ht), (nI rd), (ms_F pl), (ms_F nx), (ms_F wd), (ms_F fi), (ms_F wo), (ms_F wc), (ms_F wk), (ms_F wn), (ms_F wg), (ms_F ki), (ms_F wl), (ms_F cc), (ms_F cr), (ms_F mo), (ms_F zm), (ms_F re), (ms_F fo)) v1 := ms_quant (al := 1) (by decide) v1 R
end QU
end
section
/-! the questions, joined -/
theorem ms_bad {x : Int32} {N : Nat} {A B : Prop} (h : x < 0 ∨ nI N ≤ x) (a : A) : (x < 0 → A) ∧ (¬ x < 0 → ((x < nI N → B) ∧ (¬ x < nI N → A))) :=
  br_c (fun _ => a) (fun h3 => br_f (fun h4 => by
    rcases h with z | z
    · exact h3 z
    · exact Int32.not_lt.mpr z h4) a)
theorem ms_good {s N : Nat} {A B : Prop} (hs : s < N) (hN : N < 2 ^ 31) (b : B) : (nI s < 0 → A) ∧ (¬ nI s < 0 → ((nI s < nI N → B) ∧ (¬ nI s < nI N → A))) :=
  br_f (nI_pos (by omega)) (br_t (nI_lt hs hN) b)
section AK
variable {tr hz lm K ht rd : Nat} {pl nx wd fi wo wc wk wn wg ki wl cc cr mo zm re fo : Nat → Nat}
variable {tb : Nat → Nat} {Lg : Nat → Nat → Bool} {k : Nat}
theorem ms_isSet {post : Int32 → Prop} {x : Int32} (hh : hz ≤ 6) (H1 : ∀ s, s < 2 ^ hz → x = nI s → post 1) (H0 : (x < 0 ∨ nI (2 ^ hz) ≤ x) → post 0) : wpX_isSet post ((nI tr), (nI hz), (nI lm), (nI K), (nI ht), (nI rd), (ms_F pl), (ms_F nx), (ms_F wd), (ms_F fi), (ms_F wo), (ms_F wc), (ms_F wk), (ms_F wn), (ms_F wg), (ms_F ki), (ms_F wl), (ms_F cc), (ms_F cr), (ms_F mo), (ms_F zm), (ms_F re), (ms_F fo)) x := by
  have h64 : 2 ^ hz ≤ 2 ^ 6 := Nat.pow_le_pow_right (by decide) hh
  refine br_c (fun h => H0 (Or.inl h)) (fun h => ?_)
  rw [ms_shl1 (by omega)]
  refine br_c (fun h2 => H0 (Or.inr h2)) (fun h2 => ?_)
  rcases pk_ix x (n := 2 ^ hz) (by omega) with h3 | h3 | ⟨v, hv, e⟩
  · exact absurd h3 h
  · exact absurd h3 h2
  · exact H1 v hv e
theorem ms_vc_holds (v1 v2 v3 v4 : Int32) (R : ms_R tr hz lm K ht rd pl nx wd fi wo ki tb Lg) : wpX_holds (fun r => wpY_holds (fun r' => r' = r ∧ i_Rel (k + 5) ((nI tr), (nI hz), (nI lm), (nI K), (nI ht), (nI rd), (ms_F pl), (ms_F nx), (ms_F wd), (ms_F fi), (ms_F wo), (ms_F wc), (ms_F wk), (ms_F wn), (ms_F wg), (ms_F ki), (ms_F wl), (ms_F cc), (ms_F cr), (ms_F mo), (ms_F zm), (ms_F re), (ms_F fo)) ((nI tr), (nI hz), (nI lm), (nI ht), (nI rd), (ms_F wo), (ms_F tb))) ((nI tr), (nI hz), (nI lm), (nI ht), (nI rd), (ms_F wo), (ms_F tb)) v1 v2 v3 v4) ((nI tr), (nI hz), (nI lm), (nI K), (nI ht), (nI rd), (ms_F pl), (ms_F nx), (ms_F wd), (ms_F fi), (ms_F wo), (ms_F wc), (ms_F wk), (ms_F wn), (ms_F wg), (ms_F ki), (ms_F wl), (ms_F cc), (ms_F cr), (ms_F mo), (ms_F zm), (ms_F re), (ms_F fo)) v1 v2 v3 v4 := by
  have R' := R
  obtain ⟨hK0, hK8⟩ := ms_R_K R
  obtain ⟨⟨a1, a2, a3, a4, a5, a6, a7, a8, a9, a10⟩, r2, r3, r4, r5, r6, r7⟩ := R
  have h64 : 2 ^ hz ≤ 2 ^ 6 := Nat.pow_le_pow_right (by decide) a4
  have eh : (1 : Int32) <<< (nI hz &&& 31) = nI (2 ^ hz) := ms_shl1 (by omega)
  refine br_c (fun h => nm_r eh (br_t h (And.intro rfl (ms_mk R')))) (fun h => br_c (fun h2 => ?_) (fun h2 => nm_r eh (br_f h (br_f h2 (And.intro rfl (ms_mk R'))))))
  obtain ⟨j, hj, rfl⟩ := nI_of h
  have hjh := (nI_ltI hj (by omega)).mp h2
  have y0 : ∀ post : Int32 → Prop, ((v2 < 0 → post (-3)) ∧ (¬ v2 < 0 → ((v2 < nI (2 ^ hz) → ((nI tr < 2 → wY_holds_57 post (nI j) v2 v3 v4 (nI (2 ^ hz)) (nI tr) (nI hz) (nI lm) (nI ht) (nI rd) (ms_F wo) (ms_F tb)) ∧ (¬ nI tr < 2 → ((v3 < 0 → post (-3)) ∧ (¬ v3 < 0 → ((v3 < nI (2 ^ hz) → wY_holds_57 post (nI j) v2 v3 v4 (nI (2 ^ hz)) (nI tr) (nI hz) (nI lm) (nI ht) (nI rd) (ms_F wo) (ms_F tb)) ∧ (¬ v3 < nI (2 ^ hz) → post (-3)))))))) ∧ (¬ v2 < nI (2 ^ hz) → post (-3))))) → wpY_holds post ((nI tr), (nI hz), (nI lm), (nI ht), (nI rd), (ms_F wo), (ms_F tb)) (nI j) v2 v3 v4 := fun post H => nm_r eh (br_f h (br_t h2 H))
  refine ms_isSet a4 (fun s0 hs0 e0 => br_f (by decide) ?_) (fun hb => br_t rfl (y0 _ (ms_bad hb (And.intro rfl (ms_mk R')))))
  subst e0
  have y1 : ∀ post : Int32 → Prop, ((nI tr < 2 → wY_holds_57 post (nI j) (nI s0) v3 v4 (nI (2 ^ hz)) (nI tr) (nI hz) (nI lm) (nI ht) (nI rd) (ms_F wo) (ms_F tb)) ∧ (¬ nI tr < 2 → ((v3 < 0 → post (-3)) ∧ (¬ v3 < 0 → ((v3 < nI (2 ^ hz) → wY_holds_57 post (nI j) (nI s0) v3 v4 (nI (2 ^ hz)) (nI tr) (nI hz) (nI lm) (nI ht) (nI rd) (ms_F wo) (ms_F tb)) ∧ (¬ v3 < nI (2 ^ hz) → post (-3))))))) → wpY_holds post ((nI tr), (nI hz), (nI lm), (nI ht), (nI rd), (ms_F wo), (ms_F tb)) (nI j) (nI s0) v3 v4 := fun post H => y0 post (ms_good hs0 (by omega) H)
  have S := r6 (ht - 1 - j) (by omega)
  have hsl := r2 (ht - 1 - j) (by omega)
  -- the end of both
  have x65 : ∀ s1 s2 : Nat, s1 < 2 ^ 31 → s2 < 2 ^ 31 → (2 ≤ tr → v3 = nI s1) → (tr = 3 → v4 = nI s2) → (∀ post : Int32 → Prop, wY_holds_80 post (nI j) (nI s0) v3 v4 (nI tr) (nI hz) (nI lm) (nI ht) (nI rd) (ms_F wo) (ms_F tb) → wpY_holds post ((nI tr), (nI hz), (nI lm), (nI ht), (nI rd), (ms_F wo), (ms_F tb)) (nI j) (nI s0) v3 v4) → wX_holds_65 (fun r => wpY_holds (fun r' => r' = r ∧ i_Rel (k + 5) ((nI tr), (nI hz), (nI lm), (nI K), (nI ht), (nI rd), (ms_F pl), (ms_F nx), (ms_F wd), (ms_F fi), (ms_F wo), (ms_F wc), (ms_F wk), (ms_F wn), (ms_F wg), (ms_F ki), (ms_F wl), (ms_F cc), (ms_F cr), (ms_F mo), (ms_F zm), (ms_F re), (ms_F fo)) ((nI tr), (nI hz), (nI lm), (nI ht), (nI rd), (ms_F wo), (ms_F tb))) ((nI tr), (nI hz), (nI lm), (nI ht), (nI rd), (ms_F wo), (ms_F tb)) (nI j) (nI s0) v3 v4) (nI j) (nI s0) v3 v4 (nI tr) (nI hz) (nI lm) (nI K) (nI ht) (nI rd) (ms_F pl) (ms_F nx) (ms_F wd) (ms_F fi) (ms_F wo) (ms_F wc) (ms_F wk) (ms_F wn) (ms_F wg) (ms_F ki) (ms_F wl) (ms_F cc) (ms_F cr) (ms_F mo) (ms_F zm) (ms_F re) (ms_F fo) := by
    intro s1 s2 hs1 hs2 hp2 hp3 yf
    unfold wX_holds_65
    refine ms_slotAt hjh a9 (ms_holds78 a1 a2 a8 a4 a7 hsl S (by omega) hs1 hs2 hp2 hp3 (yf _ ?_))
    refine ms_yholds80 (L := Lg (ht - 1 - j)) a1 a2 a4 a5 a8 hjh a9 (fun c hc => r7 _ c (by omega) hc) (by omega) hs1 hs2 hp2 hp3 (fun Q hQ hs => And.intro ?_ (ms_mk R'))
    have hf : ∀ i, ms_fx tr s0 s1 s2 i < K := fun i => by rw [a8]; exact ms_fx_lt a1 a2
    have hlt := ms_wd_lt hz (fun i _ => hf i)
    have hcol := ms_wd_col hK0 (fun i (_ : i < hz) => hf i)
    have e : Q = ms_wd K (ms_fx tr s0 s1 s2) hz := by
      subst a8
      rw [ms_pw] at hQ hlt
      refine ms_col_ext hQ hlt (by omega) (fun n b hn hb => ?_)
      rw [hs n b hn hb, hcol n hn, ms_fx_bit a2 hb]
    rw [e]
  -- the third set
  have x45 : ∀ s1 : Nat, s1 < 2 ^ 31 → (2 ≤ tr → v3 = nI s1) → (∀ post : Int32 → Prop, wY_holds_57 post (nI j) (nI s0) v3 v4 (nI (2 ^ hz)) (nI tr) (nI hz) (nI lm) (nI ht) (nI rd) (ms_F wo) (ms_F tb) → wpY_holds post ((nI tr), (nI hz), (nI lm), (nI ht), (nI rd), (ms_F wo), (ms_F tb)) (nI j) (nI s0) v3 v4) → wX_holds_45 (fun r => wpY_holds (fun r' => r' = r ∧ i_Rel (k + 5) ((nI tr), (nI hz), (nI lm), (nI K), (nI ht), (nI rd), (ms_F pl), (ms_F nx), (ms_F wd), (ms_F fi), (ms_F wo), (ms_F wc), (ms_F wk), (ms_F wn), (ms_F wg), (ms_F ki), (ms_F wl), (ms_F cc), (ms_F cr), (ms_F mo), (ms_F zm), (ms_F re), (ms_F fo)) ((nI tr), (nI hz), (nI lm), (nI ht), (nI rd), (ms_F wo), (ms_F tb))) ((nI tr), (nI hz), (nI lm), (nI ht), (nI rd), (ms_F wo), (ms_F tb)) (nI j) (nI s0) v3 v4) (nI j) (nI s0) v3 v4 (nI tr) (nI hz) (nI lm) (nI K) (nI ht) (nI rd) (ms_F pl) (ms_F nx) (ms_F wd) (ms_F fi) (ms_F wo) (ms_F wc) (ms_F wk) (ms_F wn) (ms_F wg) (ms_F ki) (ms_F wl) (ms_F cc) (ms_F cr) (ms_F mo) (ms_F zm) (ms_F re) (ms_F fo) := by
    intro s1 hs1 hp2 yf
    refine pk_eq tr 3 (fun e => ?_) (fun e => x65 s1 0 hs1 (by decide) hp2 (fun z => absurd z e) (fun post H => yf post (pk_eq tr 3 (fun z => absurd z e) (fun _ => H))))
    refine ms_isSet a4 (fun s2 hs2 e2 => br_f (by decide) ?_) (fun hb => br_t rfl (yf _ (pk_eq tr 3 (fun _ => ms_bad hb (And.intro rfl (ms_mk R'))) (fun z => absurd e z))))
    exact x65 s1 s2 hs1 (by omega) hp2 (fun _ => e2) (fun post H => yf post (pk_eq tr 3 (fun _ => by rw [e2] at H ⊢; exact ms_good hs2 (by omega) H) (fun z => absurd e z)))
  refine pk_lt tr 2 (fun e => x45 0 (by decide) (fun z => by omega) (fun post H => y1 post (pk_lt tr 2 (fun _ => H) (fun z => by omega)))) (fun e => ?_)
  refine ms_isSet a4 (fun s1 hs1 e1 => br_f (by decide) ?_) (fun hb => br_t rfl (y1 _ (pk_lt tr 2 (fun z => by omega) (fun _ => ms_bad hb (And.intro rfl (ms_mk R'))))))
  exact x45 s1 (by omega) (fun _ => e1) (fun post H => y1 post (pk_lt tr 2 (fun z => by omega) (fun _ => by rw [e1] at H ⊢; exact ms_good hs1 (by omega) H)))
theorem ms_vc_compare (R : ms_R tr hz lm K ht rd pl nx wd fi wo ki tb Lg) : wpX_compare (fun r u' => wpY_compare (fun r' => r' = r ∧ i_Rel (k + 5) u' ((nI tr), (nI hz), (nI lm), (nI ht), (nI rd), (ms_F wo), (ms_F tb))) ((nI tr), (nI hz), (nI lm), (nI ht), (nI rd), (ms_F wo), (ms_F tb))) ((nI tr), (nI hz), (nI lm), (nI K), (nI ht), (nI rd), (ms_F pl), (ms_F nx), (ms_F wd), (ms_F fi), (ms_F wo), (ms_F wc), (ms_F wk), (ms_F wn), (ms_F wg), (ms_F ki), (ms_F wl), (ms_F cc), (ms_F cr), (ms_F mo), (ms_F zm), (ms_F re), (ms_F fo)) := by
  have R' := R
  obtain ⟨hK0, hK8⟩ := ms_R_K R
  obtain ⟨⟨a1, a2, a3, a4, a5, a6, a7, a8, a9, a10⟩, r2, r3, r4, r5, r6, r7⟩ := R
  refine pk_le 2 ht (fun e => ?_) (fun e => br_f (nI_ge (b := 2) e (by decide)) (And.intro rfl (ms_mk R')))
  refine ms_slotAt (k := 1) (by omega) a9 (ms_slotAt (k := 0) (by omega) a9 ?_)
  rw [Nat.sub_zero, show ht - 1 - 1 = ht - 2 from by omega]
  have Sl := r6 (ht - 2) (by omega)
  have Sr := r6 (ht - 1) (by omega)
  have hl := r2 (ht - 2) (by omega)
  have hr := r2 (ht - 1) (by omega)
  refine ms_prod a4 hK0 hK8 a7 hl hr Sl Sr r5 (fun wc wk wn ki h256 h144 hki hWA => ?_)
  refine And.intro (ms_in rfl (by omega) (by decide)) (nm_r (ms_rd (A := wc) rfl (by omega)) ?_)
  have w1 := ms_WA_ex hK0 (hWA (fun x y => x && !y))
  have w2 := ms_WA_ex hK0 (hWA (fun x y => y && !x))
  refine ms_compare48 a4 hl hr (ms_Sl_F a7 Sl) (ms_Sl_F a7 Sr) h256 h144 (fun a b ha hb => ?_)
  rw [w1] at ha
  rw [w2] at hb
  refine br_t (nI_le e (by omega)) (ms_size a5 a8 ?_)
  refine ms_ycompare (Ll := Lg (ht - 2)) (Lr := Lg (ht - 1)) a5 a8 e a9 (fun c hc => r7 _ c (by omega) hc) (fun c hc => r7 _ c (by omega) hc) (fun a' b' ha' hb' => And.intro ?_ (ms_mk (ms_R_keep R' hki (fun _ _ => rfl))))
  have ea : a = !a' := by
    cases hx : a'
    · rw [show (!false) = true from rfl, ha]
      apply Classical.byContradiction
      intro hn
      rw [hx] at ha'
      refine absurd (ha'.mpr (fun c hc h1 => ?_)) (by decide)
      cases h2 : Lg (ht - 1) c
      · exact absurd ⟨c, hc, by rw [h1, h2]; rfl⟩ hn
      · rfl
    · cases hy : a
      · rfl
      · obtain ⟨c, hc, h1⟩ := ha.mp hy
        rw [Bool.and_eq_true] at h1
        have h2 := ha'.mp hx c hc h1.1
        rw [h2] at h1
        exact absurd h1.2 (by decide)
  have eb : b = !b' := by
    cases hx : b'
    · rw [show (!false) = true from rfl, hb]
      apply Classical.byContradiction
      intro hn
      rw [hx] at hb'
      refine absurd (hb'.mpr (fun c hc h1 => ?_)) (by decide)
      cases h2 : Lg (ht - 2) c
      · exact absurd ⟨c, hc, by rw [h1, h2]; rfl⟩ hn
      · rfl
    · cases hy : b
      · rfl
      · obtain ⟨c, hc, h1⟩ := hb.mp hy
        rw [Bool.and_eq_true] at h1
        have h2 := hb'.mp hx c hc h1.1
        rw [h2] at h1
        exact absurd h1.2 (by decide)
  rw [ea, eb]
  cases a' <;> cases b' <;> rfl
theorem ms_vc_depends (v1 : Int32) (R : ms_R tr hz lm K ht rd pl nx wd fi wo ki tb Lg) : wpX_depends (fun r => wpY_depends (fun r' => r' = r ∧ i_Rel (k + 5) ((nI tr), (nI hz), (nI lm), (nI K), (nI ht), (nI rd), (ms_F pl), (ms_F nx), (ms_F wd), (ms_F fi), (ms_F wo), (ms_F wc), (ms_F wk), (ms_F wn), (ms_F wg), (ms_F ki), (ms_F wl), (ms_F cc), (ms_F cr), (ms_F mo), (ms_F zm), (ms_F re), (ms_F fo)) ((nI tr), (nI hz), (nI lm), (nI ht), (nI rd), (ms_F wo), (ms_F tb))) ((nI tr), (nI hz), (nI lm), (nI ht), (nI rd), (ms_F wo), (ms_F tb)) v1) ((nI tr), (nI hz), (nI lm), (nI K), (nI ht), (nI rd), (ms_F pl), (ms_F nx), (ms_F wd), (ms_F fi), (ms_F wo), (ms_F wc), (ms_F wk), (ms_F wn), (ms_F wg), (ms_F ki), (ms_F wl), (ms_F cc), (ms_F cr), (ms_F mo), (ms_F zm), (ms_F re), (ms_F fo)) v1 := by
  have R' := R
  obtain ⟨hK0, hK8⟩ := ms_R_K R
  obtain ⟨⟨a1, a2, a3, a4, a5, a6, a7, a8, a9, a10⟩, r2, r3, r4, r5, r6, r7⟩ := R
  unfold wpX_depends
  try dsimp only
  refine ms_isVariable a2 (fun v hv ev => br_f (by decide) ?_) (fun hbad => br_t rfl (ms_bad hbad (And.intro rfl (ms_mk R'))))
  subst ev
  refine pk_le 1 ht (fun e => ?_) (fun e => ms_good hv (by omega) (br_f (nI_ge (b := 1) e (by decide)) (And.intro rfl (ms_mk R'))))
  refine ms_slotAt (k := 0) e a9 ?_
  rw [Nat.sub_zero]
  have S := r6 (ht - 1) (by omega)
  have hsl := r2 (ht - 1) (by omega)
  have hbit : ∀ c, c < K → c ^^^ 2 ^ v < K := fun c hc => by rw [a8] at hc ⊢; exact ms_xlt hv hc
  have dep := ms_dep hK0 hbit S
  have yf : ∀ post : Int32 → Prop, (∃ n, wY_depends_53 post (nI v) (nI ((ht - 1) * 4096)) (nI (K ^ hz)) (nI (2 ^ hz)) (nI tr) (nI hz) (nI lm) (nI ht) (nI rd) (ms_F wo) (ms_F tb) n (nI 0)) → wpY_depends post ((nI tr), (nI hz), (nI lm), (nI ht), (nI rd), (ms_F wo), (ms_F tb)) (nI v) := fun post H => ms_good hv (by omega) (br_t (nI_le e (by omega)) (nm_r (e' := nI ((ht - 1) * 4096)) (by rw [ms_pred e, ms_4096m]) (ms_size a5 a8 (nm_r (ms_shl1 (by omega)) H))))
  refine nm_r (ms_shl1 (by omega)) (ms_xdepends a4 hK8 a7 hsl hbit S (fun h1 => yf _ ?_) (fun h0 => yf _ ?_))
  · exact ms_ydepends (L := Lg (ht - 1)) a2 a4 a5 a8 hv (by omega) (fun c hc => r7 _ c (by omega) hc) (fun _ => And.intro rfl (ms_mk R')) (fun h => absurd (dep.mp h1) h)
  · exact ms_ydepends (L := Lg (ht - 1)) a2 a4 a5 a8 hv (by omega) (fun c hc => r7 _ c (by omega) hc) (fun h => absurd (dep.mpr h) h0) (fun _ => And.intro rfl (ms_mk R'))
theorem ms_vc_accepts (R : ms_R tr hz lm K ht rd pl nx wd fi wo ki tb Lg) : wpX_accepts (fun r u' => wpY_accepts (fun r' => r' = r ∧ i_Rel (k + 5) u' ((nI tr), (nI hz), (nI lm), (nI ht), (nI rd), (ms_F wo), (ms_F tb))) ((nI tr), (nI hz), (nI lm), (nI ht), (nI rd), (ms_F wo), (ms_F tb))) ((nI tr), (nI hz), (nI lm), (nI K), (nI ht), (nI rd), (ms_F pl), (ms_F nx), (ms_F wd), (ms_F fi), (ms_F wo), (ms_F wc), (ms_F wk), (ms_F wn), (ms_F wg), (ms_F ki), (ms_F wl), (ms_F cc), (ms_F cr), (ms_F mo), (ms_F zm), (ms_F re), (ms_F fo)) := by
  have R' := R
  obtain ⟨hK0, hK8⟩ := ms_R_K R
  obtain ⟨⟨a1, a2, a3, a4, a5, a6, a7, a8, a9, a10⟩, r2, r3, r4, r5, r6, r7⟩ := R
  refine pk_le 1 ht (fun e => ?_) (fun e => br_f (nI_ge (b := 1) e (by decide)) (And.intro rfl (ms_mk R')))
  refine ms_slotAt (k := 0) e a9 ?_
  rw [Nat.sub_zero]
  have S := r6 (ht - 1) (by omega)
  have hsl := r2 (ht - 1) (by omega)
  have hst := ms_Aut_run hK0 S a10 (ms_wd K wo rd)
  have hw := ms_Sl_w a7 S a10
  refine ms_readState a4 hK0 hK8 a7 hsl S a10 r4 (ms_fillZero a4 hK0 hK8 a7 hsl S (fun zm hZ => ?_))
  refine And.intro (ms_in rfl (by omega) (by decide)) ?_
  try dsimp only
  have hz1 := (hZ rd a10).1
  rw [ms_rdn (by omega), ms_bitB (by omega) (by omega), (hZ rd a10).2 _ hst]
  have e1 : ms_Z K hz (fun j q c => nx (((pl (ht - 1) * 6 + j) * 12 + q) * 8 + c)) (fi (pl (ht - 1))) rd (ms_rn K (fun j q c => nx (((pl (ht - 1) * 6 + j) * 12 + q) * 8 + c)) 0 0 rd (ms_wd K wo rd)) = Lg (ht - 1) (ms_wd K wo rd * K ^ (hz - rd)) := ms_suf hK0 S a10 (ms_wd_lt rd r4) (r := 0) (Nat.pow_pos hK0)
  rw [e1]
  exact br_t (nI_le e (by omega)) (ms_yaccepts (L := Lg (ht - 1)) a2 a4 a5 a8 e a9 (fun c hc => r7 _ c (by omega) hc) a10 r4 (And.intro rfl (ms_mk R')))
theorem ms_blk {W B : Nat} {c N : Nat} (hB : 0 < B) (hN : W * B + B ≤ N) : (c < N ∧ c / B = W) ↔ ∃ r, r < B ∧ c = W * B + r := by
  constructor
  · rintro ⟨_, h2⟩
    refine ⟨c % B, Nat.mod_lt _ hB, ?_⟩
    rw [← h2]; exact (Nat.div_add_mod' c B).symm
  · rintro ⟨r, hr, e⟩
    subst e
    exact ⟨by omega, by rw [Nat.add_comm, Nat.add_mul_div_right _ _ hB, Nat.div_eq_of_lt hr, Nat.zero_add]⟩
theorem ms_vc_count (R : ms_R tr hz lm K ht rd pl nx wd fi wo ki tb Lg) : wpX_count (fun r u' => wpY_count (fun r' => r' = r ∧ i_Rel (k + 5) u' ((nI tr), (nI hz), (nI lm), (nI ht), (nI rd), (ms_F wo), (ms_F tb))) ((nI tr), (nI hz), (nI lm), (nI ht), (nI rd), (ms_F wo), (ms_F tb))) ((nI tr), (nI hz), (nI lm), (nI K), (nI ht), (nI rd), (ms_F pl), (ms_F nx), (ms_F wd), (ms_F fi), (ms_F wo), (ms_F wc), (ms_F wk), (ms_F wn), (ms_F wg), (ms_F ki), (ms_F wl), (ms_F cc), (ms_F cr), (ms_F mo), (ms_F zm), (ms_F re), (ms_F fo)) := by
  have R' := R
  obtain ⟨hK0, hK8⟩ := ms_R_K R
  obtain ⟨⟨a1, a2, a3, a4, a5, a6, a7, a8, a9, a10⟩, r2, r3, r4, r5, r6, r7⟩ := R
  refine pk_le 1 ht (fun e => ?_) (fun e => br_f (nI_ge (b := 1) e (by decide)) (And.intro rfl (ms_mk R')))
  have S := r6 (ht - 1) (by omega)
  have hsl := r2 (ht - 1) (by omega)
  have hB : 0 < K ^ (hz - rd) := Nat.pow_pos hK0
  have hN : ms_wd K wo rd * K ^ (hz - rd) + K ^ (hz - rd) ≤ K ^ hz := by
    have h1 : (ms_wd K wo rd + 1) * K ^ (hz - rd) ≤ K ^ rd * K ^ (hz - rd) := Nat.mul_le_mul_right _ (ms_wd_lt rd r4)
    rw [Nat.add_mul, Nat.one_mul, ← Nat.pow_add, show rd + (hz - rd) = hz from by omega] at h1
    exact h1
  refine ms_countExt a4 hK0 hK8 a7 e a9 rfl hsl S a10 r4 (fun mo => br_t (nI_le e (by omega)) (ms_size a5 a8 ?_))
  refine ms_ycount (L := Lg (ht - 1)) a2 a4 a5 a8 e a9 (fun c hc => r7 _ c (by omega) hc) a10 r4 (And.intro ?_ (ms_mk R'))
  rw [ms_cn_one (a := ms_wd K wo rd) (B := K ^ (hz - rd)) hN (fun c hc h => by
    rw [Bool.and_eq_true, decide_eq_true_iff] at h
    exact h.2) hB]
  refine congrArg nI (ms_cn_congr _ (fun r hr => ?_))
  have := ((ms_blk (c := ms_wd K wo rd * K ^ (hz - rd) + r) hB hN).mpr ⟨r, hr, rfl⟩).2
  try dsimp only
  rw [decide_eq_true this, Bool.and_true]
theorem ms_vc_verdict (R : ms_R tr hz lm K ht rd pl nx wd fi wo ki tb Lg) : wpX_verdict (fun r u' => wpY_verdict (fun r' => r' = r ∧ i_Rel (k + 5) u' ((nI tr), (nI hz), (nI lm), (nI ht), (nI rd), (ms_F wo), (ms_F tb))) ((nI tr), (nI hz), (nI lm), (nI ht), (nI rd), (ms_F wo), (ms_F tb))) ((nI tr), (nI hz), (nI lm), (nI K), (nI ht), (nI rd), (ms_F pl), (ms_F nx), (ms_F wd), (ms_F fi), (ms_F wo), (ms_F wc), (ms_F wk), (ms_F wn), (ms_F wg), (ms_F ki), (ms_F wl), (ms_F cc), (ms_F cr), (ms_F mo), (ms_F zm), (ms_F re), (ms_F fo)) := by
  have R' := R
  obtain ⟨hK0, hK8⟩ := ms_R_K R
  obtain ⟨⟨a1, a2, a3, a4, a5, a6, a7, a8, a9, a10⟩, r2, r3, r4, r5, r6, r7⟩ := R
  refine pk_le 1 ht (fun e => ?_) (fun e => br_f (nI_ge (b := 1) e (by decide)) (And.intro rfl (ms_mk R')))
  have S := r6 (ht - 1) (by omega)
  have hsl := r2 (ht - 1) (by omega)
  have hB : 0 < K ^ (hz - rd) := Nat.pow_pos hK0
  have h4096 : K ^ hz ≤ 4096 := by rw [a8, ms_pw]; exact ms_pwb a5
  have hN : ms_wd K wo rd * K ^ (hz - rd) + K ^ (hz - rd) ≤ K ^ hz := by
    have h1 : (ms_wd K wo rd + 1) * K ^ (hz - rd) ≤ K ^ rd * K ^ (hz - rd) := Nat.mul_le_mul_right _ (ms_wd_lt rd r4)
    rw [Nat.add_mul, Nat.one_mul, ← Nat.pow_add, show rd + (hz - rd) = hz from by omega] at h1
    exact h1
  have b1 : tr * (hz - rd) ≤ tr * hz := Nat.mul_le_mul_left _ (by omega)
  have et : (1 : Int32) <<< ((nI tr * (nI hz - nI rd)) &&& 31) = nI (K ^ (hz - rd)) := by
    rw [pk_sub a10, pk_mul, ms_shl1 (by omega), a8, ms_pw]
  have hcn := ms_cn_le (fun r => Lg (ht - 1) (ms_wd K wo rd * K ^ (hz - rd) + r)) (K ^ (hz - rd))
  have c0 := ms_cn_0iff (P := fun r => Lg (ht - 1) (ms_wd K wo rd * K ^ (hz - rd) + r)) (K ^ (hz - rd))
  have c1 := ms_cn_all (P := fun r => Lg (ht - 1) (ms_wd K wo rd * K ^ (hz - rd) + r)) (K ^ (hz - rd))
  have yf : ∀ (u' : SX) (z : Int32), (∀ a b : Bool, (a = true ↔ ∃ c, c < K ^ hz ∧ c / K ^ (hz - rd) = ms_wd K wo rd ∧ Lg (ht - 1) c = true) → (b = true ↔ ∃ c, c < K ^ hz ∧ c / K ^ (hz - rd) = ms_wd K wo rd ∧ Lg (ht - 1) c = false) → (if a = false then (0 : Int32) else if b = false then 1 else 2) = z) → i_Rel (k + 5) u' ((nI tr), (nI hz), (nI lm), (nI ht), (nI rd), (ms_F wo), (ms_F tb)) → wpY_verdict (fun r' => r' = z ∧ i_Rel (k + 5) u' ((nI tr), (nI hz), (nI lm), (nI ht), (nI rd), (ms_F wo), (ms_F tb))) ((nI tr), (nI hz), (nI lm), (nI ht), (nI rd), (ms_F wo), (ms_F tb)) := fun u' z H hR => br_t (nI_le e (by omega)) (ms_size a5 a8 (ms_yverdict (L := Lg (ht - 1)) a2 a4 a5 a8 e a9 (fun c hc => r7 _ c (by omega) hc) a10 r4 (fun a b ha hb => And.intro (H a b ha hb) hR)))
  refine ms_countExt a4 hK0 hK8 a7 e a9 rfl hsl S a10 r4 (fun mo => nm_r et ?_)
  try dsimp only
  refine pk_eq _ 0 (fun e0 => yf _ _ (fun a b ha hb => ?_) (ms_mk R')) (fun e0 => pk_eq _ _ (fun e1 => yf _ _ (fun a b ha hb => ?_) (ms_mk R')) (fun e1 => yf _ _ (fun a b ha hb => ?_) (ms_mk R')) rfl rfl (by omega) (by omega)) rfl rfl (by omega) (by omega)
  · rw [if_pos]
    refine Bool.eq_false_iff.mpr (fun h => ?_)
    obtain ⟨c, x1, x2, x3⟩ := ha.mp h
    obtain ⟨r, hr, er⟩ := (ms_blk hB hN).mp ⟨x1, x2⟩
    have := c0.mp e0 r hr
    try dsimp only at this
    rw [← er, x3] at this
    exact absurd this (by decide)
  · have hat : a = true := by
      refine ha.mpr ⟨ms_wd K wo rd * K ^ (hz - rd) + 0, ((ms_blk hB hN).mpr ⟨0, hB, rfl⟩).1, ((ms_blk hB hN).mpr ⟨0, hB, rfl⟩).2, c1.mp e1 0 hB⟩
    have hbf : b = false := by
      refine Bool.eq_false_iff.mpr (fun h => ?_)
      obtain ⟨c, x1, x2, x3⟩ := hb.mp h
      obtain ⟨r, hr, er⟩ := (ms_blk hB hN).mp ⟨x1, x2⟩
      have := c1.mp e1 r hr
      try dsimp only at this
      rw [← er, x3] at this
      exact absurd this (by decide)
    rw [if_neg (by rw [hat]; decide), if_pos hbf]
  · have hat : a = true := by
      apply Classical.byContradiction
      intro hn
      refine e0 (c0.mpr (fun r hr => Bool.eq_false_iff.mpr (fun hx => hn (ha.mpr ⟨_, ((ms_blk hB hN).mpr ⟨r, hr, rfl⟩).1, ((ms_blk hB hN).mpr ⟨r, hr, rfl⟩).2, hx⟩))))
    have hbt : b = true := by
      apply Classical.byContradiction
      intro hn
      refine e1 (c1.mpr (fun r hr => ?_))
      try dsimp only
      cases hx : Lg (ht - 1) (ms_wd K wo rd * K ^ (hz - rd) + r)
      · exact absurd (hb.mpr ⟨_, ((ms_blk hB hN).mpr ⟨r, hr, rfl⟩).1, ((ms_blk hB hN).mpr ⟨r, hr, rfl⟩).2, hx⟩) hn
      · rfl
    rw [if_neg (by rw [hat]; decide), if_neg (by rw [hbt]; decide)]
theorem ms_vc_witnessLength (R : ms_R tr hz lm K ht rd pl nx wd fi wo ki tb Lg) : wpX_witnessLength (fun r u' => wpY_witnessLength (fun r' => r' = r ∧ i_Rel (k + 5) u' ((nI tr), (nI hz), (nI lm), (nI ht), (nI rd), (ms_F wo), (ms_F tb))) ((nI tr), (nI hz), (nI lm), (nI ht), (nI rd), (ms_F wo), (ms_F tb))) ((nI tr), (nI hz), (nI lm), (nI K), (nI ht), (nI rd), (ms_F pl), (ms_F nx), (ms_F wd), (ms_F fi), (ms_F wo), (ms_F wc), (ms_F wk), (ms_F wn), (ms_F wg), (ms_F ki), (ms_F wl), (ms_F cc), (ms_F cr), (ms_F mo), (ms_F zm), (ms_F re), (ms_F fo)) := by
  have R' := R
  obtain ⟨hK0, hK8⟩ := ms_R_K R
  obtain ⟨⟨a1, a2, a3, a4, a5, a6, a7, a8, a9, a10⟩, r2, r3, r4, r5, r6, r7⟩ := R
  have h4096 : K ^ hz ≤ 4096 := by rw [a8, ms_pw]; exact ms_pwb a5
  refine pk_le 1 ht (fun e => ?_) (fun e => br_f (nI_ge (b := 1) e (by decide)) (And.intro rfl (ms_mk R')))
  have S := r6 (ht - 1) (by omega)
  have hsl := r2 (ht - 1) (by omega)
  refine ms_findWit a4 hK0 hK8 a7 e a9 rfl hsl S a10 r4 (fun zm re fo ee he1 he2 hf hS => br_f (by decide) ?_) (fun zm re hn => br_t rfl ?_)
  · obtain ⟨w1, w2, w3⟩ := ms_wit1 hK0 S he1 he2 r4 hf hS
    refine ms_wl25 a4 (fun n hn => Nat.lt_of_lt_of_le (hS.2.2.1 n hn) hK8) (br_t (nI_le e (by omega)) ?_)
    refine ms_yfindWit (L := Lg (ht - 1)) a2 a4 a5 a8 e a9 (fun c hc => r7 _ c (by omega) hc) a10 r4 (fun b hb ho => br_t (nI_pos' (by omega)) (ms_lengthOf a2 a4 a8 (by omega) (And.intro ?_ (ms_mk R')))) (fun h => absurd w3.2.1 (h _ w1 w3.1))
    rw [ms_opt_un hb w1 ho w3, ms_ln_congr hz (fun i hi => w2 i hi)]
  · refine br_t (nI_le e (by omega)) (ms_yfindWit (L := Lg (ht - 1)) a2 a4 a5 a8 e a9 (fun c hc => r7 _ c (by omega) hc) a10 r4 (fun b hb ho => absurd ho.2.1 (ms_wit0 hK0 S a10 hn b hb ho.1)) (fun _ => br_f (by decide) (And.intro rfl (ms_mk R'))))
theorem ms_vc_witness (v1 : Int32) (R : ms_R tr hz lm K ht rd pl nx wd fi wo ki tb Lg) : wpX_witness (fun r u' => wpY_witness (fun r' => r' = r ∧ i_Rel (k + 5) u' ((nI tr), (nI hz), (nI lm), (nI ht), (nI rd), (ms_F wo), (ms_F tb))) ((nI tr), (nI hz), (nI lm), (nI ht), (nI rd), (ms_F wo), (ms_F tb)) v1) ((nI tr), (nI hz), (nI lm), (nI K), (nI ht), (nI rd), (ms_F pl), (ms_F nx), (ms_F wd), (ms_F fi), (ms_F wo), (ms_F wc), (ms_F wk), (ms_F wn), (ms_F wg), (ms_F ki), (ms_F wl), (ms_F cc), (ms_F cr), (ms_F mo), (ms_F zm), (ms_F re), (ms_F fo)) v1 := by
  have R' := R
  obtain ⟨hK0, hK8⟩ := ms_R_K R
  obtain ⟨⟨a1, a2, a3, a4, a5, a6, a7, a8, a9, a10⟩, r2, r3, r4, r5, r6, r7⟩ := R
  have h4096 : K ^ hz ≤ 4096 := by rw [a8, ms_pw]; exact ms_pwb a5
  have h64 : 2 ^ hz ≤ 2 ^ 6 := Nat.pow_le_pow_right (by decide) a4
  unfold wpX_witness
  try dsimp only
  refine ms_isVariable a2 (fun v hv ev => br_f (by decide) ?_) (fun hbad => br_t rfl (ms_bad hbad (And.intro rfl (ms_mk R'))))
  subst ev
  refine pk_le 1 ht (fun e => ?_) (fun e => ms_good hv (by omega) (br_f (nI_ge (b := 1) e (by decide)) (And.intro rfl (ms_mk R'))))
  have S := r6 (ht - 1) (by omega)
  have hsl := r2 (ht - 1) (by omega)
  refine ms_findWit a4 hK0 hK8 a7 e a9 rfl hsl S a10 r4 (fun zm re fo ee he1 he2 hf hS => br_f (by decide) ?_) (fun zm re hn => br_t rfl ?_)
  · obtain ⟨w1, w2, w3⟩ := ms_wit1 hK0 S he1 he2 r4 hf hS
    refine ms_wi36 a4 (by omega) (fun n hn => Nat.lt_of_lt_of_le (hS.2.2.1 n hn) hK8) (fun M hM hb => ms_good hv (by omega) (br_t (nI_le e (by omega)) ?_))
    refine ms_yfindWit (L := Lg (ht - 1)) a2 a4 a5 a8 e a9 (fun c hc => r7 _ c (by omega) hc) a10 r4 (fun b hbl ho => br_t (nI_pos' (by omega)) (ms_setOf a2 a4 a8 (by omega) (by omega) (fun M' hM' hb' => And.intro ?_ (ms_mk R')))) (fun h => absurd w3.2.1 (h _ w1 w3.1))
    rw [(ms_ext2 hM' hM).mpr (fun n hn => by
      rw [hb' n hn, hb n hn, ms_opt_un hbl w1 ho w3, w2 n hn])]
  · refine ms_good hv (by omega) (br_t (nI_le e (by omega)) (ms_yfindWit (L := Lg (ht - 1)) a2 a4 a5 a8 e a9 (fun c hc => r7 _ c (by omega) hc) a10 r4 (fun b hb ho => absurd ho.2.1 (ms_wit0 hK0 S a10 hn b hb ho.1)) (fun _ => br_f (by decide) (And.intro rfl (ms_mk R')))))
end AK
end
section
/-! the constructors and the owed rows (statements of claim/defs.txt) -/
section IN
variable {f1 f2 f3 f4 f5 f6 : Int32} {b1 b2 b3 b4 b5 b6 b7 b8 b9 b10 b11 b12 b13 b14 b15 b16 b17 : Nat → Int32}
theorem ms_clamp (x : Int32) {a b : Nat} (hab : a ≤ b) (hb : b < 2 ^ 31) : ∃ c, a ≤ c ∧ c ≤ b ∧ (∀ (post : Int32 → Prop) (f1 f2 f3 f4 f5 f6 : Int32) (b1 b2 b3 b4 b5 b6 b7 b8 b9 b10 b11 b12 b13 b14 b15 b16 b17 : Nat → Int32), post (nI c) → wpX_clamp post (f1, f2, f3, f4, f5, f6, b1, b2, b3, b4, b5, b6, b7, b8, b9, b10, b11, b12, b13, b14, b15, b16, b17) x (nI a) (nI b)) ∧ (∀ A : Int32 → Prop, A (nI c) → ((nI a ≤ x → ((x ≤ nI b → A x) ∧ (¬ x ≤ nI b → A (nI b)))) ∧ (¬ nI a ≤ x → ((nI a ≤ nI b → A (nI a)) ∧ (¬ nI a ≤ nI b → A (nI b)))))) := by
  by_cases h1 : nI a ≤ x
  · by_cases h2 : x ≤ nI b
    · obtain ⟨j, hj, rfl⟩ := nI_of (x := x) (fun h => absurd (Int32.lt_of_le_of_lt h1 h) (nI_pos (by omega)))
      have e1 := (nI_leI (by omega) hj).mp h1
      have e2 := (nI_leI hj hb).mp h2
      exact ⟨j, e1, e2, fun post _ _ _ _ _ _ _ _ _ _ _ _ _ _ _ _ _ _ _ _ _ _ _ H => br_t h1 (br_t h2 H), fun A H => br_t h1 (br_t h2 H)⟩
    · exact ⟨b, hab, Nat.le_refl b, fun post _ _ _ _ _ _ _ _ _ _ _ _ _ _ _ _ _ _ _ _ _ _ _ H => br_t h1 (br_f h2 H), fun A H => br_t h1 (br_f h2 H)⟩
  · exact ⟨a, Nat.le_refl a, hab, fun post _ _ _ _ _ _ _ _ _ _ _ _ _ _ _ _ _ _ _ _ _ _ _ H => br_f h1 H, fun A H => br_f h1 (br_t (nI_le hab hb) H)⟩
end IN
theorem ms_in208 {post : SX → Prop} {tr hz lm K : Nat} (H : ∀ pl : Nat → Nat, (∀ i, i < 4 → pl i = i) → post (nI tr, nI hz, nI lm, nI K, nI 0, nI 0, ms_F pl, ms_F (fun _ => 0), ms_F (fun _ => 0), ms_F (fun _ => 0), ms_F (fun _ => 0), ms_F (fun _ => 0), ms_F (fun _ => 0), ms_F (fun _ => 0), ms_F (fun _ => 0), ms_F (fun _ => 0), ms_F (fun _ => 0), ms_F (fun _ => 0), ms_F (fun _ => 0), ms_F (fun _ => 0), ms_F (fun _ => 0), ms_F (fun _ => 0), ms_F (fun _ => 0))) : ∃ n, wX_init_208 post (nI tr) (nI hz) (nI lm) (nI K) (nI 0) (nI 0) n (nI 0) (ms_F (fun _ => 0)) (ms_F (fun _ => 0)) (ms_F (fun _ => 0)) (ms_F (fun _ => 0)) (ms_F (fun _ => 0)) (ms_F (fun _ => 0)) (ms_F (fun _ => 0)) (ms_F (fun _ => 0)) (ms_F (fun _ => 0)) (ms_F (fun _ => 0)) (ms_F (fun _ => 0)) (ms_F (fun _ => 0)) (ms_F (fun _ => 0)) (ms_F (fun _ => 0)) (ms_F (fun _ => 0)) (ms_F (fun _ => 0)) (ms_F (fun _ => 0)) :=
  loop_0 (fun n i (s : Nat → Nat) => wX_init_208 post (nI tr) (nI hz) (nI lm) (nI K) (nI 0) (nI 0) n (nI i) (ms_F s) (ms_F (fun _ => 0)) (ms_F (fun _ => 0)) (ms_F (fun _ => 0)) (ms_F (fun _ => 0)) (ms_F (fun _ => 0)) (ms_F (fun _ => 0)) (ms_F (fun _ => 0)) (ms_F (fun _ => 0)) (ms_F (fun _ => 0)) (ms_F (fun _ => 0)) (ms_F (fun _ => 0)) (ms_F (fun _ => 0)) (ms_F (fun _ => 0)) (ms_F (fun _ => 0)) (ms_F (fun _ => 0)) (ms_F (fun _ => 0))) (fun i s => ∀ x, x < i → s x = x) 4 (fun _ => 0) (fun x hx => absurd hx (Nat.not_lt_zero x))
    (fun n s hI => br_t (by decide) (H s hI))
    (fun n i s hi hI k => br_f (nI_ge (b := 4) hi (by decide)) (And.intro (ms_in rfl hi (by decide)) (nm_r (ms_up rfl (by omega) rfl) (nm_r (nI_1 i) (k _ (fun x hx => by
      by_cases e : x = i
      · subst e; exact ms_Us
      · rw [ms_Un e]; exact hI x (by omega)))))))
theorem i_vc0 (k0 : Int32) (k1 : Int32) (k2 : Int32) : wpX_init (fun u => wpY_init (fun v => i_Rel 3 u v) k0 k1 k2) k0 k1 k2 := by
  obtain ⟨tr, t1, t2, tX, tY⟩ := ms_clamp k0 (a := 1) (b := 3) (by decide) (by decide)
  have main : ∀ most : Nat, 1 ≤ most → most ≤ 6 → tr * most ≤ 12 → (∀ post : SY → Prop, wY_init_67 post k1 k2 (nI most) (nI tr) 0 0 0 0 (fun _ => 0) (fun _ => 0) → wpY_init post k0 k1 k2) → wX_init_169 (fun u => wpY_init (fun v => i_Rel 3 u v) k0 k1 k2) k1 k2 (nI most) (nI tr) 0 0 0 0 0 (fun _ => 0) (fun _ => 0) (fun _ => 0) (fun _ => 0) (fun _ => 0) (fun _ => 0) (fun _ => 0) (fun _ => 0) (fun _ => 0) (fun _ => 0) (fun _ => 0) (fun _ => 0) (fun _ => 0) (fun _ => 0) (fun _ => 0) (fun _ => 0) (fun _ => 0) := by
    intro most m1 m2 m3 yf
    obtain ⟨hz, h1, h2, hX, hY⟩ := ms_clamp k1 (a := 1) (b := most) m1 (by omega)
    obtain ⟨lm, l1, l2, lX, lY⟩ := ms_clamp k2 (a := 2) (b := 12) (by decide) (by decide)
    unfold wX_init_169
    refine hX _ _ _ _ _ _ _ _ _ _ _ _ _ _ _ _ _ _ _ _ _ _ _ _ (lX _ _ _ _ _ _ _ _ _ _ _ _ _ _ _ _ _ _ _ _ _ _ _ _ (nm_r (ms_shl1 (by omega)) (ms_in208 (fun pl hpl => yf _ ?_))))
    refine hY (fun x => wY_init_100 (fun v => i_Rel 3 _ v) k2 (nI tr) x 0 0 0 (fun _ => 0) (fun _ => 0)) (lY (fun x => i_Rel 3 _ (nI tr, nI hz, x, 0, 0, (fun _ => 0), (fun _ => 0))) ?_)
    have R : ms_R tr hz lm (2 ^ tr) 0 0 pl (fun _ => 0) (fun _ => 0) (fun _ => 0) (fun _ => 0) (fun _ => 0) (fun _ => 0) (fun _ _ => false) := by
      have h12 : tr * hz ≤ tr * most := Nat.mul_le_mul_left _ h2
      refine ⟨⟨t1, t2, h1, by omega, by omega, l1, l2, rfl, by decide, by omega⟩, fun i hi => by rw [hpl i hi]; exact hi, fun i j hi hj e => ?_, fun i hi => absurd hi (Nat.not_lt_zero i), fun k _ => rfl, fun p hp => absurd hp (Nat.not_lt_zero p), fun p c hp => absurd hp (Nat.not_lt_zero p)⟩
      rw [hpl i hi, hpl j hj] at e
      exact e
    exact ms_mk (k := 3) R
  refine tX _ _ _ _ _ _ _ _ _ _ _ _ _ _ _ _ _ _ _ _ _ _ _ _ ?_
  have y52 : ∀ post : SY → Prop, wY_init_52 post k1 k2 (nI tr) 0 0 0 0 (fun _ => 0) (fun _ => 0) → wpY_init post k0 k1 k2 := fun post H => tY (fun x => wY_init_52 post k1 k2 x 0 0 0 0 (fun _ => 0) (fun _ => 0)) H
  refine pk_eq tr 3 (fun e => main 4 (by decide) (by decide) (by omega) (fun post H => y52 post (pk_eq tr 3 (fun _ => H) (fun z => absurd e z)))) (fun e => main 6 (by decide) (by decide) (by omega) (fun post H => y52 post (pk_eq tr 3 (fun z => absurd z e) (fun _ => H))))
theorem i_vc_atom {k : Nat} {u : SX} {v : SY} (I : i_Rel k u v) (hk : k + 5 ≤ 2563) (v1 : Int32) (v2 : Int32) (v3 : Int32) : wpX_atom (fun r u' => wpY_atom (fun r' v' => r' = r ∧ i_Rel (k + 5) u' v') v v1 v2 v3) u v1 v2 v3 :=
  ms_el (P := fun u v => wpX_atom (fun r u' => wpY_atom (fun r' v' => r' = r ∧ i_Rel (k + 5) u' v') v v1 v2 v3) u v1 v2 v3) (fun _ _ _ _ _ _ _ _ _ _ _ _ _ _ _ _ _ _ _ _ _ _ _ _ _ R => ms_vc_atom v1 v2 v3 R) I
theorem i_vc_negate {k : Nat} {u : SX} {v : SY} (I : i_Rel k u v) (hk : k + 5 ≤ 2563) : wpX_negate (fun r u' => wpY_negate (fun r' v' => r' = r ∧ i_Rel (k + 5) u' v') v) u :=
  ms_el (P := fun u v => wpX_negate (fun r u' => wpY_negate (fun r' v' => r' = r ∧ i_Rel (k + 5) u' v') v) u) (fun _ _ _ _ _ _ _ _ _ _ _ _ _ _ _ _ _ _ _ _ _ _ _ _ _ R => ms_vc_negate R) I
theorem i_vc_combine {k : Nat} {u : SX} {v : SY} (I : i_Rel k u v) (hk : k + 5 ≤ 2563) (v1 : Int32) : wpX_combine (fun r u' => wpY_combine (fun r' v' => r' = r ∧ i_Rel (k + 5) u' v') v v1) u v1 :=
  ms_el (P := fun u v => wpX_combine (fun r u' => wpY_combine (fun r' v' => r' = r ∧ i_Rel (k + 5) u' v') v v1) u v1) (fun _ _ _ _ _ _ _ _ _ _ _ _ _ _ _ _ _ _ _ _ _ _ _ _ _ R => ms_vc_combine v1 R) I
theorem i_vc_exists {k : Nat} {u : SX} {v : SY} (I : i_Rel k u v) (hk : k + 5 ≤ 2563) (v1 : Int32) : wpX_exists (fun r u' => wpY_exists (fun r' v' => r' = r ∧ i_Rel (k + 5) u' v') v v1) u v1 :=
  ms_el (P := fun u v => wpX_exists (fun r u' => wpY_exists (fun r' v' => r' = r ∧ i_Rel (k + 5) u' v') v v1) u v1) (fun _ _ _ _ _ _ _ _ _ _ _ _ _ _ _ _ _ _ _ _ _ _ _ _ _ R => ms_vc_exists v1 R) I
theorem i_vc_forall {k : Nat} {u : SX} {v : SY} (I : i_Rel k u v) (hk : k + 5 ≤ 2563) (v1 : Int32) : wpX_forall (fun r u' => wpY_forall (fun r' v' => r' = r ∧ i_Rel (k + 5) u' v') v v1) u v1 :=
  ms_el (P := fun u v => wpX_forall (fun r u' => wpY_forall (fun r' v' => r' = r ∧ i_Rel (k + 5) u' v') v v1) u v1) (fun _ _ _ _ _ _ _ _ _ _ _ _ _ _ _ _ _ _ _ _ _ _ _ _ _ R => ms_vc_forall v1 R) I
theorem i_vc_pick {k : Nat} {u : SX} {v : SY} (I : i_Rel k u v) (hk : k + 5 ≤ 2563) (v1 : Int32) : wpX_pick (fun r u' => wpY_pick (fun r' v' => r' = r ∧ i_Rel (k + 5) u' v') v v1) u v1 :=
  ms_el (P := fun u v => wpX_pick (fun r u' => wpY_pick (fun r' v' => r' = r ∧ i_Rel (k + 5) u' v') v v1) u v1) (fun _ _ _ _ _ _ _ _ _ _ _ _ _ _ _ _ _ _ _ _ _ _ _ _ _ R => ms_vc_pick v1 R) I
theorem i_vc_swap {k : Nat} {u : SX} {v : SY} (I : i_Rel k u v) (hk : k + 5 ≤ 2563) : wpX_swap (fun r u' => wpY_swap (fun r' v' => r' = r ∧ i_Rel (k + 5) u' v') v) u :=
  ms_el (P := fun u v => wpX_swap (fun r u' => wpY_swap (fun r' v' => r' = r ∧ i_Rel (k + 5) u' v') v) u) (fun _ _ _ _ _ _ _ _ _ _ _ _ _ _ _ _ _ _ _ _ _ _ _ _ _ R => ms_vc_swap R) I
theorem i_vc_drop {k : Nat} {u : SX} {v : SY} (I : i_Rel k u v) (hk : k + 5 ≤ 2563) : wpX_drop (fun r u' => wpY_drop (fun r' v' => r' = r ∧ i_Rel (k + 5) u' v') v) u :=
  ms_el (P := fun u v => wpX_drop (fun r u' => wpY_drop (fun r' v' => r' = r ∧ i_Rel (k + 5) u' v') v) u) (fun _ _ _ _ _ _ _ _ _ _ _ _ _ _ _ _ _ _ _ _ _ _ _ _ _ R => ms_vc_drop R) I
theorem i_vc_depth {k : Nat} {u : SX} {v : SY} (I : i_Rel k u v) (hk : k + 5 ≤ 2563) : wpX_depth (fun r => wpY_depth (fun r' => r' = r ∧ i_Rel (k + 5) u v) v) u :=
  ms_el (P := fun u v => wpX_depth (fun r => wpY_depth (fun r' => r' = r ∧ i_Rel (k + 5) u v) v) u) (fun _ _ _ _ _ _ _ _ _ _ _ _ _ _ _ _ _ _ _ _ _ _ _ _ _ R => ms_vc_depth R) I
theorem i_vc_holds {k : Nat} {u : SX} {v : SY} (I : i_Rel k u v) (hk : k + 5 ≤ 2563) (v1 : Int32) (v2 : Int32) (v3 : Int32) (v4 : Int32) : wpX_holds (fun r => wpY_holds (fun r' => r' = r ∧ i_Rel (k + 5) u v) v v1 v2 v3 v4) u v1 v2 v3 v4 :=
  ms_el (P := fun u v => wpX_holds (fun r => wpY_holds (fun r' => r' = r ∧ i_Rel (k + 5) u v) v v1 v2 v3 v4) u v1 v2 v3 v4) (fun _ _ _ _ _ _ _ _ _ _ _ _ _ _ _ _ _ _ _ _ _ _ _ _ _ R => ms_vc_holds v1 v2 v3 v4 R) I
theorem i_vc_compare {k : Nat} {u : SX} {v : SY} (I : i_Rel k u v) (hk : k + 5 ≤ 2563) : wpX_compare (fun r u' => wpY_compare (fun r' => r' = r ∧ i_Rel (k + 5) u' v) v) u :=
  ms_el (P := fun u v => wpX_compare (fun r u' => wpY_compare (fun r' => r' = r ∧ i_Rel (k + 5) u' v) v) u) (fun _ _ _ _ _ _ _ _ _ _ _ _ _ _ _ _ _ _ _ _ _ _ _ _ _ R => ms_vc_compare R) I
theorem i_vc_depends {k : Nat} {u : SX} {v : SY} (I : i_Rel k u v) (hk : k + 5 ≤ 2563) (v1 : Int32) : wpX_depends (fun r => wpY_depends (fun r' => r' = r ∧ i_Rel (k + 5) u v) v v1) u v1 :=
  ms_el (P := fun u v => wpX_depends (fun r => wpY_depends (fun r' => r' = r ∧ i_Rel (k + 5) u v) v v1) u v1) (fun _ _ _ _ _ _ _ _ _ _ _ _ _ _ _ _ _ _ _ _ _ _ _ _ _ R => ms_vc_depends v1 R) I
theorem i_vc_width {k : Nat} {u : SX} {v : SY} (I : i_Rel k u v) (hk : k + 5 ≤ 2563) (v1 : Int32) : wpX_width (fun r => wpY_width (fun r' => r' = r ∧ i_Rel (k + 5) u v) v v1) u v1 :=
  ms_el (P := fun u v => wpX_width (fun r => wpY_width (fun r' => r' = r ∧ i_Rel (k + 5) u v) v v1) u v1) (fun _ _ _ _ _ _ _ _ _ _ _ _ _ _ _ _ _ _ _ _ _ _ _ _ _ R => ms_vc_width v1 R) I
theorem i_vc_feed {k : Nat} {u : SX} {v : SY} (I : i_Rel k u v) (hk : k + 5 ≤ 2563) (v1 : Int32) : wpX_feed (fun r u' => wpY_feed (fun r' v' => r' = r ∧ i_Rel (k + 5) u' v') v v1) u v1 :=
  ms_el (P := fun u v => wpX_feed (fun r u' => wpY_feed (fun r' v' => r' = r ∧ i_Rel (k + 5) u' v') v v1) u v1) (fun _ _ _ _ _ _ _ _ _ _ _ _ _ _ _ _ _ _ _ _ _ _ _ _ _ R => ms_vc_feed v1 R) I
theorem i_vc_rewind {k : Nat} {u : SX} {v : SY} (I : i_Rel k u v) (hk : k + 5 ≤ 2563) : wpX_rewind (fun u' => wpY_rewind (fun v' => i_Rel (k + 5) u' v') v) u :=
  ms_el (P := fun u v => wpX_rewind (fun u' => wpY_rewind (fun v' => i_Rel (k + 5) u' v') v) u) (fun _ _ _ _ _ _ _ _ _ _ _ _ _ _ _ _ _ _ _ _ _ _ _ _ _ R => ms_vc_rewind R) I
theorem i_vc_length {k : Nat} {u : SX} {v : SY} (I : i_Rel k u v) (hk : k + 5 ≤ 2563) : wpX_length (fun r => wpY_length (fun r' => r' = r ∧ i_Rel (k + 5) u v) v) u :=
  ms_el (P := fun u v => wpX_length (fun r => wpY_length (fun r' => r' = r ∧ i_Rel (k + 5) u v) v) u) (fun _ _ _ _ _ _ _ _ _ _ _ _ _ _ _ _ _ _ _ _ _ _ _ _ _ R => ms_vc_length R) I
theorem i_vc_column {k : Nat} {u : SX} {v : SY} (I : i_Rel k u v) (hk : k + 5 ≤ 2563) (v1 : Int32) : wpX_column (fun r => wpY_column (fun r' => r' = r ∧ i_Rel (k + 5) u v) v v1) u v1 :=
  ms_el (P := fun u v => wpX_column (fun r => wpY_column (fun r' => r' = r ∧ i_Rel (k + 5) u v) v v1) u v1) (fun _ _ _ _ _ _ _ _ _ _ _ _ _ _ _ _ _ _ _ _ _ _ _ _ _ R => ms_vc_column v1 R) I
theorem i_vc_accepts {k : Nat} {u : SX} {v : SY} (I : i_Rel k u v) (hk : k + 5 ≤ 2563) : wpX_accepts (fun r u' => wpY_accepts (fun r' => r' = r ∧ i_Rel (k + 5) u' v) v) u :=
  ms_el (P := fun u v => wpX_accepts (fun r u' => wpY_accepts (fun r' => r' = r ∧ i_Rel (k + 5) u' v) v) u) (fun _ _ _ _ _ _ _ _ _ _ _ _ _ _ _ _ _ _ _ _ _ _ _ _ _ R => ms_vc_accepts R) I
theorem i_vc_verdict {k : Nat} {u : SX} {v : SY} (I : i_Rel k u v) (hk : k + 5 ≤ 2563) : wpX_verdict (fun r u' => wpY_verdict (fun r' => r' = r ∧ i_Rel (k + 5) u' v) v) u :=
  ms_el (P := fun u v => wpX_verdict (fun r u' => wpY_verdict (fun r' => r' = r ∧ i_Rel (k + 5) u' v) v) u) (fun _ _ _ _ _ _ _ _ _ _ _ _ _ _ _ _ _ _ _ _ _ _ _ _ _ R => ms_vc_verdict R) I
theorem i_vc_count {k : Nat} {u : SX} {v : SY} (I : i_Rel k u v) (hk : k + 5 ≤ 2563) : wpX_count (fun r u' => wpY_count (fun r' => r' = r ∧ i_Rel (k + 5) u' v) v) u :=
  ms_el (P := fun u v => wpX_count (fun r u' => wpY_count (fun r' => r' = r ∧ i_Rel (k + 5) u' v) v) u) (fun _ _ _ _ _ _ _ _ _ _ _ _ _ _ _ _ _ _ _ _ _ _ _ _ _ R => ms_vc_count R) I
theorem i_vc_witnessLength {k : Nat} {u : SX} {v : SY} (I : i_Rel k u v) (hk : k + 5 ≤ 2563) : wpX_witnessLength (fun r u' => wpY_witnessLength (fun r' => r' = r ∧ i_Rel (k + 5) u' v) v) u :=
  ms_el (P := fun u v => wpX_witnessLength (fun r u' => wpY_witnessLength (fun r' => r' = r ∧ i_Rel (k + 5) u' v) v) u) (fun _ _ _ _ _ _ _ _ _ _ _ _ _ _ _ _ _ _ _ _ _ _ _ _ _ R => ms_vc_witnessLength R) I
theorem i_vc_witness {k : Nat} {u : SX} {v : SY} (I : i_Rel k u v) (hk : k + 5 ≤ 2563) (v1 : Int32) : wpX_witness (fun r u' => wpY_witness (fun r' => r' = r ∧ i_Rel (k + 5) u' v) v v1) u v1 :=
  ms_el (P := fun u v => wpX_witness (fun r u' => wpY_witness (fun r' => r' = r ∧ i_Rel (k + 5) u' v) v v1) u v1) (fun _ _ _ _ _ _ _ _ _ _ _ _ _ _ _ _ _ _ _ _ _ _ _ _ _ R => ms_vc_witness v1 R) I
end
