section
/-! rows pasted from kit/rows (starting text) -/
theorem pk_us {f : Nat → Int32} {k : Nat} {x : Int32} : upd f k x k = x := if_pos rfl
theorem pk_un {f : Nat → Int32} {k j : Nat} {x : Int32} (h : j ≠ k) : upd f k x j = f j := if_neg h
theorem pk_sub {a b : Nat} (h : b ≤ a) : nI a - nI b = nI (a - b) := by
  obtain ⟨c, rfl⟩ : ∃ c, a = c + b := ⟨a - b, by omega⟩
  rw [← nI_add, Int32.add_sub_cancel, Nat.add_sub_cancel]
theorem pk_m1 (n : Nat) : nI (n + 1) + (-1) = nI n := by
  rw [← nI_1, Int32.add_assoc, show (1 : Int32) + (-1) = 0 from rfl, Int32.add_zero]
theorem pk_mul (a b : Nat) : nI a * nI b = nI (a * b) := (Int32.ofNat_mul a b).symm
theorem pk_div {a d : Nat} (ha : a < 2 ^ 31) (h0 : 0 < d) (hd : d < 2 ^ 31) : nI a / nI d = nI (a / d) := by
  apply Int32.toInt_inj.mp
  rw [lg_idiv_nonneg (by rw [nI_toInt ha]; omega) (by rw [nI_toInt hd]; omega), nI_toInt ha, nI_toInt hd, nI_toInt (Nat.lt_of_le_of_lt (Nat.div_le_self a d) ha)]
  first | rfl | exact (Int.natCast_ediv _ _).symm
theorem pk_rem {a d : Nat} (ha : a < 2 ^ 31) (h0 : 0 < d) (hd : d < 2 ^ 31) : nI a - nI a / nI d * nI d = nI (a % d) := by
  rw [pk_div ha h0 hd, pk_mul, pk_sub (Nat.div_mul_le_self a d)]
  exact congrArg nI (by have := Nat.div_add_mod' a d; omega)
theorem pk_sub_toInt {a b : Nat} (ha : a < 2 ^ 30) (hb : b < 2 ^ 30) : (nI a - nI b).toInt = (a : Int) - b := by
  rw [Int32.toInt_sub, nI_toInt (by omega), nI_toInt (by omega)]
  exact Int.bmod_eq_of_le (by omega) (by omega)
theorem pk_sneg {a b : Nat} (hb : b < 2 ^ 30) (h : a < b) : nI a - nI b < 0 := by
  rw [Int32.lt_iff_toInt_lt, pk_sub_toInt (by omega) hb, show (0 : Int32).toInt = 0 from by decide]
  omega
theorem pk_ix (x : Int32) {n : Nat} (hn : n < 2 ^ 31) : x < 0 ∨ nI n ≤ x ∨ ∃ j : Nat, j < n ∧ x = nI j := by
  by_cases h : x < 0
  · exact Or.inl h
  · obtain ⟨j, hj, rfl⟩ := nI_of h
    by_cases h2 : j < n
    · exact Or.inr (Or.inr ⟨j, h2, rfl⟩)
    · exact Or.inr (Or.inl (nI_le (by omega) hj))
theorem pk_le {x y : Int32} {A B : Prop} (a b : Nat) (f : a ≤ b → A) (g : b < a → B) (hx : x = nI a := by rfl) (hy : y = nI b := by rfl) (ha : a < 2 ^ 31 := by omega) (hb : b < 2 ^ 31 := by omega) : (x ≤ y → A) ∧ (¬ x ≤ y → B) := by
  subst hx hy
  rw [nI_leI ha hb]
  exact ⟨f, fun z => g (by omega)⟩
theorem pk_lt {x y : Int32} {A B : Prop} (a b : Nat) (f : a < b → A) (g : b ≤ a → B) (hx : x = nI a := by rfl) (hy : y = nI b := by rfl) (ha : a < 2 ^ 31 := by omega) (hb : b < 2 ^ 31 := by omega) : (x < y → A) ∧ (¬ x < y → B) := by
  subst hx hy
  rw [nI_ltI ha hb]
  exact ⟨f, fun z => g (by omega)⟩
theorem pk_eq {x y : Int32} {A B : Prop} (a b : Nat) (f : a = b → A) (g : a ≠ b → B) (hx : x = nI a := by rfl) (hy : y = nI b := by rfl) (ha : a < 2 ^ 31 := by omega) (hb : b < 2 ^ 31 := by omega) : (x = y → A) ∧ (¬ x = y → B) := by
  subst hx hy
  rw [nI_eq ha hb]
  exact ⟨f, g⟩
theorem pk_in {x : Int32} (n N : Nat) (h : n < N) (hx : x = nI n := by rfl) (hN : N < 2 ^ 31 := by omega) : vp_in x N := by
  subst hx
  exact vp_in_nI h hN
theorem pk_cl {x : Int32} (n : Nat) (hx : x = nI n := by rfl) (h : n < 2 ^ 31 := by omega) : x.toNatClampNeg = n := by
  subst hx
  exact nI_clamp h
theorem pk_tn {n : Nat} (h : n < 2 ^ 32) : (nI n).toBitVec.toNat = n := Nat.mod_eq_of_lt h
theorem pk_and (x : Int32) {m : Int32} (k : Nat) (hm : m.toBitVec.toNat = 2 ^ k - 1) : x &&& m = nI (x.toBitVec.toNat % 2 ^ k) := by
  apply Int32.toBitVec_inj.mp
  apply BitVec.eq_of_toNat_eq
  rw [Int32.toBitVec_and, BitVec.toNat_and, hm, Nat.and_two_pow_sub_one_eq_mod]
  show _ = (BitVec.ofNat 32 _).toNat
  rw [BitVec.toNat_ofNat]
  exact (Nat.mod_eq_of_lt (Nat.lt_of_le_of_lt (Nat.mod_le _ _) x.toBitVec.isLt)).symm
theorem pk_andN {n : Nat} (h : n < 2 ^ 32) {m : Int32} (k : Nat) (hm : m.toBitVec.toNat = 2 ^ k - 1) : nI n &&& m = nI (n % 2 ^ k) := by
  rw [pk_and _ k hm, pk_tn h]
theorem pk_shl (a s : Int32) (k : Nat) (hs : (s.toBitVec.smod 32).toNat = k) : (a <<< s).toBitVec.toNat = a.toBitVec.toNat * 2 ^ k % 2 ^ 32 := by
  show (a.toBitVec <<< (s.toBitVec.smod 32).toNat).toNat = _
  rw [hs, BitVec.toNat_shiftLeft, Nat.shiftLeft_eq]
theorem pk_shlN {n : Nat} (s : Int32) (k : Nat) (hs : (s.toBitVec.smod 32).toNat = k) (h : n * 2 ^ k < 2 ^ 32) : nI n <<< s = nI (n * 2 ^ k) := by
  apply Int32.toBitVec_inj.mp
  apply BitVec.eq_of_toNat_eq
  have hn : n < 2 ^ 32 := Nat.lt_of_le_of_lt (Nat.le_mul_of_pos_right n (Nat.two_pow_pos k)) h
  rw [pk_shl _ _ k hs, pk_tn hn, pk_tn h, Nat.mod_eq_of_lt h]
theorem pk_shr (a s : Int32) (k : Nat) (hs : (s.toBitVec.smod 32).toNat = k) : (a >>> s).toInt = a.toInt >>> k := by
  show (a.toBitVec.sshiftRight (s.toBitVec.smod 32).toNat).toInt = _
  rw [hs, BitVec.toInt_sshiftRight]
  rfl
theorem pk_shrN {n : Nat} (h : n < 2 ^ 31) (s : Int32) (k : Nat) (hs : (s.toBitVec.smod 32).toNat = k) : nI n >>> s = nI (n / 2 ^ k) := by
  apply Int32.toInt_inj.mp
  have h2 : n / 2 ^ k ≤ n := Nat.div_le_self _ _
  rw [pk_shr _ _ k hs, nI_toInt h, nI_toInt (by omega), Int.shiftRight_eq_div_pow]
  rfl
theorem pk_vs (z : Int32) : vp_nar .short z.toInt16.toInt32 = z.toInt16.toInt32 := by rw [vp_nar_short]; simp
theorem sb_m1 {p : Nat} (h : 0 < p) : nI p + (-1) = nI (p - 1) := by
  obtain ⟨q, rfl⟩ : ∃ q, p = q + 1 := ⟨p - 1, by omega⟩
  exact pk_m1 q
theorem sb_shr0 (x : Int32) : x >>> ((0 : Int32) &&& 31) = x := by
  rw [show ((0 : Int32) &&& 31) = 0 by decide]
  simp
theorem sb_shl0 (x : Int32) : x <<< ((0 : Int32) &&& 31) = x := by
  rw [show ((0 : Int32) &&& 31) = 0 by decide]
  simp
theorem sb_cl0 : (0 : Int32).toNatClampNeg = 0 := by decide
theorem s_l : ∀ n, n < 32 → ((nI n &&& 31).toBitVec.smod 32).toNat = n := by decide +kernel
theorem nx_and (a b : Nat) : nI a &&& nI b = nI (a &&& b) := by
  apply Int32.toBitVec_inj.1
  show BitVec.ofNat 32 a &&& BitVec.ofNat 32 b = BitVec.ofNat 32 (a &&& b)
  apply BitVec.eq_of_getLsbD_eq
  intro i hi
  simp [hi]
theorem nx_xor (a b : Nat) : nI a ^^^ nI b = nI (a ^^^ b) := by
  apply Int32.toBitVec_inj.1
  show BitVec.ofNat 32 a ^^^ BitVec.ofNat 32 b = BitVec.ofNat 32 (a ^^^ b)
  apply BitVec.eq_of_getLsbD_eq
  intro i hi
  simp [hi]
end
section
/-! numbers: shifts, masks, ors over naturals; log2 -/
theorem na_if {c d A B : Prop} (e : c ↔ d) (f : d → A) (g : ¬ d → B) : (c → A) ∧ (¬ c → B) := ⟨fun h => f (e.mp h), fun h => g (fun z => h (e.mpr z))⟩
theorem na_v {α : Sort _} {P : α → Prop} {a b : α} (e : a = b) (h : P b) : P a := e ▸ h
theorem na_pow {a b : Nat} (h : a ≤ b) : 2 ^ a ≤ 2 ^ b := Nat.pow_le_pow_right (by decide) h
theorem na_plt {a b : Nat} (h : a < b) : 2 ^ a < 2 ^ b := Nat.pow_lt_pow_right (by decide) h
theorem na_pps (a : Nat) : 0 < 2 ^ a := Nat.two_pow_pos a
theorem na_ps (a : Nat) : 2 ^ (a + 1) = 2 * 2 ^ a := by rw [Nat.pow_succ, Nat.mul_comm]
theorem na_padd {a b : Nat} (h : a ≤ b) : 2 ^ b = 2 ^ a * 2 ^ (b - a) := by
  rw [← Nat.pow_add]; congr 1; omega
theorem na_shr {c i : Nat} (hc : c < 2 ^ 31) (hi : i < 32) : nI c >>> (nI i &&& 31) = nI (c / 2 ^ i) := pk_shrN hc _ i (s_l i hi)
theorem na_shl {c i : Nat} (hi : i < 32) (h : c * 2 ^ i < 2 ^ 32) : nI c <<< (nI i &&& 31) = nI (c * 2 ^ i) := pk_shlN _ i (s_l i hi) h
theorem na_one {i : Nat} (hi : i < 31) : (1 : Int32) <<< (nI i &&& 31) = nI (2 ^ i) := by
  have h := na_shl (c := 1) (i := i) (by omega) (by have := na_plt (a := i) (b := 32) (by omega); omega)
  rw [Nat.one_mul] at h
  exact h
theorem na_m1 {a : Nat} (h : 1 ≤ a) : nI a - 1 = nI (a - 1) := pk_sub (b := 1) h
theorem na_mask {a s : Nat} (hs : s < 31) : nI a &&& (((1 : Int32) <<< (nI s &&& 31)) - 1) = nI (a % 2 ^ s) := by
  rw [na_one hs, na_m1 (na_pps s), nx_and, Nat.and_two_pow_sub_one_eq_mod]
theorem na_or (a b : Nat) : nI a ||| nI b = nI (a ||| b) := by
  apply Int32.toBitVec_inj.1
  show BitVec.ofNat 32 a ||| BitVec.ofNat 32 b = BitVec.ofNat 32 (a ||| b)
  apply BitVec.eq_of_getLsbD_eq
  intro i hi
  simp [hi]
theorem na_orp {a s : Nat} (h : a < 2 ^ s) : nI a ||| nI (2 ^ s) = nI (a + 2 ^ s) := by
  rw [na_or, Nat.or_two_pow_eq_add_of_lt h]
theorem na_orm {a b s : Nat} (h : b < 2 ^ s) : nI (a * 2 ^ s) ||| nI b = nI (a * 2 ^ s + b) := by
  rw [na_or, Nat.mul_comm a, Nat.two_pow_add_eq_or_of_lt h]
theorem na_por {a s : Nat} (h : a < 2 ^ s) : nI (2 ^ s) ||| nI a = nI (2 ^ s + a) := by
  have := na_orm (a := 1) h
  rw [Nat.one_mul] at this
  exact this
theorem na_lg {c : Nat} (h : 1 ≤ c) : 2 ^ c.log2 ≤ c ∧ c < 2 ^ (c.log2 + 1) := ⟨Nat.log2_self_le (by omega), Nat.lt_log2_self⟩
theorem na_lgu {c k : Nat} (h1 : 2 ^ k ≤ c) (h2 : c < 2 ^ (k + 1)) : c.log2 = k :=
  (Nat.log2_eq_iff (by have := na_pps k; omega)).mpr ⟨h1, h2⟩
theorem na_lglt {c k : Nat} (h : c < 2 ^ (k + 1)) : c.log2 ≤ k := by
  by_cases hc : c = 0
  · subst hc; rw [Nat.log2_zero]; omega
  · have := (Nat.log2_lt (k := k + 1) hc).mpr h
    omega
theorem na_lgge {c k : Nat} (h : 2 ^ k ≤ c) : k ≤ c.log2 := (Nat.le_log2 (by have := na_pps k; omega)).mpr h
theorem na_lg6 {c : Nat} (h : c < 128) : c.log2 ≤ 6 := na_lglt (k := 6) h
theorem na_lg1 {c : Nat} (h : 2 ≤ c) : 1 ≤ c.log2 := na_lgge (k := 1) h
theorem na_lg0 : Nat.log2 0 = 0 := Nat.log2_zero
theorem na_lgh {c : Nat} (h : 2 ≤ c) : c.log2 = (c / 2).log2 + 1 := by
  rw [Nat.log2_def c, if_pos h]
theorem na_lgs {c : Nat} (h : c < 2) : c.log2 = 0 := by
  rw [Nat.log2_def c, if_neg (by omega)]
theorem na_lgm {a b : Nat} (h : a ≤ b) : a.log2 ≤ b.log2 := na_lglt (Nat.lt_of_le_of_lt h Nat.lt_log2_self)
theorem na_sh : ∀ c, c < 128 → vp_nar .short (nI c) = nI c ∧ (nI c).toInt16.toInt32 = nI c := by
  intro c hc
  rw [vp_nar_short]
  have h : ∀ c, c < 128 → (nI c).toInt16.toInt32 = nI c := by decide +kernel
  exact ⟨h c hc, h c hc⟩
theorem na_sh2 {c : Nat} (hc : c < 128) : vp_nar .short (nI c).toInt16.toInt32 = nI c := by
  rw [(na_sh c hc).2, (na_sh c hc).1]
theorem na_vb0 : vp_nar .boolean 0 = 0 := by decide
theorem na_vb1 : vp_nar .boolean 1 = 1 := by decide
theorem na_2m (a : Nat) : 2 * nI a = nI (2 * a) := pk_mul 2 a
theorem na_half {a : Nat} (h : a < 2 ^ 31) : nI a / 2 = nI (a / 2) := pk_div h (by decide) (by decide)
theorem na_rem2 {a : Nat} (h : a < 2 ^ 31) : nI a - nI a / 2 * 2 = nI (a % 2) := pk_rem h (by decide) (by decide)
theorem na_and1 (a : Nat) : nI a &&& 1 = nI (a % 2) := by
  have h : nI a &&& nI 1 = nI (a &&& 1) := nx_and a 1
  rw [Nat.and_one_is_mod] at h
  exact h
theorem na_and3 (a : Nat) : nI a &&& 3 = nI (a % 4) := by
  have h : nI a &&& nI (2 ^ 2 - 1) = nI (a &&& (2 ^ 2 - 1)) := nx_and a _
  rw [Nat.and_two_pow_sub_one_eq_mod] at h
  exact h
theorem na_and63 (a : Nat) : nI a &&& 63 = nI (a % 64) := by
  have h : nI a &&& nI (2 ^ 6 - 1) = nI (a &&& (2 ^ 6 - 1)) := nx_and a _
  rw [Nat.and_two_pow_sub_one_eq_mod] at h
  exact h
theorem na_and1023 (a : Nat) : nI a &&& 1023 = nI (a % 1024) := by
  have h : nI a &&& nI (2 ^ 10 - 1) = nI (a &&& (2 ^ 10 - 1)) := nx_and a _
  rw [Nat.and_two_pow_sub_one_eq_mod] at h
  exact h
theorem na_ex1 {n : Nat} (h : 0 < n) : ∃ m, n = m + 1 := ⟨n - 1, by omega⟩
theorem na_xor : ∀ c, c < 128 → 1 ≤ c → c ^^^ 2 ^ c.log2 = c - 2 ^ c.log2 := by decide +kernel
end
section
/-! sizeOf and length are log2 -/
section
variable {xc xl xb xf xt : Int32} {ao au aw ae asx am ap aq az ah ad : Nat → Int32} {yc yr : Int32} {vw vy vl va : Nat → Int32}
theorem xs_sz4 {c : Nat} (hc : c < 128) {post : Int32 → Prop} (h : post (nI c.log2)) : ∀ d i n z, i + d = 8 → 1 ≤ i → d < n → z = min c.log2 (i - 1) → wX_sizeOf_4 post (nI c) xc xl xb xf xt ao au aw ae asx am ap aq az ah ad n (nI z) (nI i) := by
  have h6 := na_lg6 hc
  intro d
  induction d with
  | zero =>
    intro i n z hi h1 hn hz
    obtain ⟨m, rfl⟩ := na_ex1 hn
    refine pk_le 8 i (fun _ => ?_) (fun h8 => absurd h8 (by omega))
    have e : z = c.log2 := by omega
    rw [e]
    exact h
  | succ d ih =>
    intro i n z hi h1 hn hz
    obtain ⟨m, rfl⟩ := na_ex1 (n := n) (by omega)
    refine pk_le 8 i (fun h8 => absurd h8 (by omega)) (fun _ => ?_)
    refine pk_le (c / 2 ^ i) 0 (fun hy => nm_r (nI_1 i) (ih (i + 1) m z (by omega) (by omega) (by omega) ?_)) (fun hy => nm_r (nI_1 i) (ih (i + 1) m i (by omega) (by omega) (by omega) ?_)) (hx := na_shr (by omega) (by omega)) (ha := Nat.lt_of_le_of_lt (Nat.div_le_self _ _) (by omega))
    · have hl : c < 2 ^ i := by
        rcases Nat.lt_or_ge c (2 ^ i) with h | h
        · exact h
        · have := Nat.div_pos h (na_pps i); omega
      have hl2 : c.log2 ≤ i - 1 := na_lglt (by rw [Nat.sub_add_cancel h1]; exact hl)
      omega
    · have hl : 2 ^ i ≤ c := by
        rcases Nat.lt_or_ge c (2 ^ i) with h | h
        · rw [Nat.div_eq_of_lt h] at hy; omega
        · exact h
      have hl2 : i ≤ c.log2 := na_lgge hl
      omega
theorem xs_size {c : Nat} (hc : c < 128) {post : Int32 → Prop} (h : post (nI c.log2)) : wpX_sizeOf post (xc, xl, xb, xf, xt, ao, au, aw, ae, asx, am, ap, aq, az, ah, ad) (nI c) :=
  ⟨8, xs_sz4 hc h 7 1 8 0 (by omega) (by omega) (by omega) (by omega)⟩
theorem ys_len4 {post : Int32 → Prop} : ∀ f c s n, c < 2 ^ f → f < n → f ≤ 31 → post (nI (s + c.log2)) → wY_length_4 post yc yr vw vy vl va n (nI s) (nI c) := by
  intro f
  induction f with
  | zero =>
    intro c s n hc hn hf h
    obtain ⟨m, rfl⟩ := na_ex1 hn
    have e : c = 0 := by omega
    subst e
    rw [na_lg0] at h
    exact pk_le 0 1 (fun _ => h) (fun h8 => absurd h8 (by omega))
  | succ f ih =>
    intro c s n hc hn hf h
    obtain ⟨m, rfl⟩ := na_ex1 (n := n) (by omega)
    have h31 : c < 2 ^ 31 := Nat.lt_of_lt_of_le hc (na_pow hf)
    refine pk_le c 1 (fun h1 => ?_) (fun h1 => nm_r (nI_1 s) ⟨by decide, nm_r (na_half h31) ?_⟩) (ha := h31)
    · rw [na_lgs (by omega)] at h
      exact h
    · refine ih (c / 2) (s + 1) m ?_ (by omega) (by omega) ?_
      · rw [na_ps] at hc; omega
      · rw [na_lgh (by omega)] at h
        rw [show s + 1 + (c / 2).log2 = s + ((c / 2).log2 + 1) from by omega]
        exact h
theorem ys_len {c : Nat} (hc : c < 2 ^ 31) {post : Int32 → Prop} (h : post (nI c.log2)) : wpY_length post (yc, yr, vw, vy, vl, va) (nI c) := by
  refine ⟨32, ys_len4 31 c 0 32 hc (by omega) (by omega) ?_⟩
  rw [Nat.zero_add]
  exact h
end
end
section
/-! sums over naturals -/
def ps_sm (g : Nat → Nat) : Nat → Nat
  | 0 => 0
  | n + 1 => ps_sm g n + g n
theorem ps_s (g : Nat → Nat) (n : Nat) : ps_sm g (n + 1) = ps_sm g n + g n := rfl
theorem ps_congr {f g : Nat → Nat} {n : Nat} (h : ∀ k, k < n → f k = g k) : ps_sm f n = ps_sm g n := by
  induction n with
  | zero => rfl
  | succ n ih => rw [ps_s, ps_s, ih (fun k hk => h k (by omega)), h n (by omega)]
theorem ps_le {f g : Nat → Nat} {n : Nat} (h : ∀ k, k < n → f k ≤ g k) : ps_sm f n ≤ ps_sm g n := by
  induction n with
  | zero => exact Nat.le_refl _
  | succ n ih =>
    have h1 := ih (fun k hk => h k (by omega))
    have h2 := h n (by omega)
    rw [ps_s, ps_s]; omega
theorem ps_add (f g : Nat → Nat) (n : Nat) : ps_sm (fun k => f k + g k) n = ps_sm f n + ps_sm g n := by
  induction n with
  | zero => rfl
  | succ n ih => rw [ps_s, ps_s, ps_s, ih]; omega
theorem ps_mul (c : Nat) (f : Nat → Nat) (n : Nat) : ps_sm (fun k => c * f k) n = c * ps_sm f n := by
  induction n with
  | zero => rfl
  | succ n ih => rw [ps_s, ps_s, ih, Nat.mul_add]
theorem ps_mulr (c : Nat) (f : Nat → Nat) (n : Nat) : ps_sm (fun k => f k * c) n = ps_sm f n * c := by
  induction n with
  | zero => rw [show ps_sm f 0 = 0 from rfl, Nat.zero_mul]; rfl
  | succ n ih => rw [ps_s, ps_s, ih, Nat.add_mul]
theorem ps_zero {f : Nat → Nat} {n : Nat} (h : ∀ k, k < n → f k = 0) : ps_sm f n = 0 := by
  induction n with
  | zero => rfl
  | succ n ih => rw [ps_s, ih (fun k hk => h k (by omega)), h n (by omega)]
theorem ps_mono (f : Nat → Nat) {m n : Nat} (h : m ≤ n) : ps_sm f m ≤ ps_sm f n := by
  induction n with
  | zero => rw [show m = 0 from by omega]; exact Nat.le_refl _
  | succ n ih =>
    by_cases e : m = n + 1
    · rw [e]; exact Nat.le_refl _
    · rw [ps_s]; have := ih (by omega); omega
theorem ps_swap (f : Nat → Nat → Nat) (m n : Nat) : ps_sm (fun i => ps_sm (fun j => f i j) m) n = ps_sm (fun j => ps_sm (fun i => f i j) n) m := by
  induction n with
  | zero => exact (ps_zero (fun _ _ => rfl)).symm
  | succ n ih =>
    rw [ps_s, ih, ← ps_add]
    exact ps_congr (fun k _ => rfl)
theorem ps_two (f : Nat → Nat) (n : Nat) : ps_sm f (2 * n) = ps_sm (fun k => f (2 * k) + f (2 * k + 1)) n := by
  induction n with
  | zero => rfl
  | succ n ih =>
    rw [show 2 * (n + 1) = 2 * n + 1 + 1 from by omega, ps_s, ps_s, ps_s, ih]; omega
theorem ps_cut (h : Nat → Nat) (s L m : Nat) : ps_sm (fun p => if p + s ≤ L then h p else 0) m = ps_sm h (min m (L + 1 - s)) := by
  induction m with
  | zero => rw [Nat.zero_min]; rfl
  | succ m ih =>
    rw [ps_s, ih]
    by_cases c : m + s ≤ L
    · rw [if_pos c, show min (m + 1) (L + 1 - s) = min m (L + 1 - s) + 1 from by omega, ps_s, show min m (L + 1 - s) = m from by omega]
    · rw [if_neg c, show min (m + 1) (L + 1 - s) = min m (L + 1 - s) from by omega, Nat.add_zero]
theorem ps_cut2 (h : Nat → Nat) (s m : Nat) : ps_sm (fun e => if s ≤ e then h (e - s) else 0) m = ps_sm h (m - s) := by
  induction m with
  | zero => rw [Nat.zero_sub]; rfl
  | succ m ih =>
    rw [ps_s, ih]
    by_cases c : s ≤ m
    · rw [if_pos c, show m + 1 - s = (m - s) + 1 from by omega, ps_s]
    · rw [if_neg c, show m + 1 - s = m - s from by omega, Nat.add_zero]
theorem ps_shift (h : Nat → Nat) (s L : Nat) : ps_sm (fun p => if p + s ≤ L then h p else 0) (L + 1) = ps_sm (fun e => if s ≤ e then h (e - s) else 0) (L + 1) := by
  rw [ps_cut, ps_cut2, show min (L + 1) (L + 1 - s) = L + 1 - s from by omega]
theorem ps_rows (g : Nat → Nat) (i : Nat) : ps_sm (fun j => g (2 ^ (i + 1) + j)) (2 ^ (i + 1)) = ps_sm (fun j => g (2 * (2 ^ i + j)) + g (2 * (2 ^ i + j) + 1)) (2 ^ i) := by
  rw [na_ps, ps_two]
  refine ps_congr (fun k _ => ?_)
  rw [show 2 * 2 ^ i + 2 * k = 2 * (2 ^ i + k) from by omega, show 2 * 2 ^ i + (2 * k + 1) = 2 * (2 ^ i + k) + 1 from by omega]
theorem ps_const (c n : Nat) : ps_sm (fun _ => c) n = n * c := by
  induction n with
  | zero => rw [Nat.zero_mul]; rfl
  | succ n ih => rw [ps_s, ih, Nat.succ_mul]
theorem ps_ge {f : Nat → Nat} {n k : Nat} (hk : k < n) : f k ≤ ps_sm f n := by
  have h1 := ps_mono f (show k + 1 ≤ n from hk)
  rw [ps_s] at h1
  omega
/-- one value changed -/
theorem ps_put {f g : Nat → Nat} {n k d : Nat} (hk : k < n) (he : ∀ j, j < n → j ≠ k → g j = f j) (hd : g k = f k + d) : ps_sm g n = ps_sm f n + d := by
  induction n with
  | zero => omega
  | succ n ih =>
    rw [ps_s, ps_s]
    by_cases e : k = n
    · subst e
      rw [hd, ps_congr (g := f) (fun j hj => he j (by omega) (by omega))]; omega
    · rw [ih (by omega) (fun j hj => he j (by omega)), he n (by omega) (by omega)]; omega
/-! a table filled from its end -/
def ps_tb (a : Nat) (F : (Nat → Nat) → Nat → Nat) (L : Nat) : Nat → Nat → Nat
  | 0 => fun _ => a
  | d + 1 => fun p => if p + (d + 1) = L then F (ps_tb a F L d) p else ps_tb a F L d p
def ps_fx (a : Nat) (F : (Nat → Nat) → Nat → Nat) (L p : Nat) : Nat := ps_tb a F L L p
def ps_Dep (F : (Nat → Nat) → Nat → Nat) (L : Nat) : Prop := ∀ f g p, p < L → (∀ q, p < q → q ≤ L → f q = g q) → F f p = F g p
theorem ps_tb_s {a : Nat} {F : (Nat → Nat) → Nat → Nat} {L d p : Nat} : ps_tb a F L (d + 1) p = if p + (d + 1) = L then F (ps_tb a F L d) p else ps_tb a F L d p := rfl
theorem ps_tb_up {a : Nat} {F : (Nat → Nat) → Nat → Nat} {L d p : Nat} (h : L ≤ p + d) : ∀ e, ps_tb a F L (d + e) p = ps_tb a F L d p := by
  intro e
  induction e with
  | zero => rfl
  | succ e ih => rw [← Nat.add_assoc, ps_tb_s, if_neg (by omega), ih]
theorem ps_tb_at {a : Nat} {F : (Nat → Nat) → Nat → Nat} {L d p : Nat} (h : L ≤ p + d) (hd : d ≤ L) : ps_fx a F L p = ps_tb a F L d p := by
  have := ps_tb_up (a := a) (F := F) h (L - d)
  rw [show d + (L - d) = L from by omega] at this
  exact this
theorem ps_fx_end (a : Nat) (F : (Nat → Nat) → Nat → Nat) (L : Nat) : ps_fx a F L L = a := by
  rw [ps_tb_at (d := 0) (by omega) (by omega)]; rfl
theorem ps_fx_step {a : Nat} {F : (Nat → Nat) → Nat → Nat} {L p : Nat} (hF : ps_Dep F L) (hp : p < L) : ps_fx a F L p = F (ps_fx a F L) p := by
  rw [ps_tb_at (d := L - p - 1 + 1) (by omega) (by omega), ps_tb_s, if_pos (by omega)]
  refine hF _ _ p hp (fun q h1 h2 => ?_)
  exact (ps_tb_at (by omega) (by omega)).symm
/-! a table filled from its beginning -/
def ps_up (F : (Nat → Nat) → Nat → Nat) : Nat → Nat → Nat
  | 0 => fun _ => 1
  | d + 1 => fun p => if p = d + 1 then F (ps_up F d) p else ps_up F d p
theorem ps_up_s {F : (Nat → Nat) → Nat → Nat} {d p : Nat} : ps_up F (d + 1) p = if p = d + 1 then F (ps_up F d) p else ps_up F d p := rfl
def ps_ux (F : (Nat → Nat) → Nat → Nat) (p : Nat) : Nat := ps_up F p p
theorem ps_up_at {F : (Nat → Nat) → Nat → Nat} {p : Nat} : ∀ e, ps_up F (p + e) p = ps_ux F p := by
  intro e
  induction e with
  | zero => rfl
  | succ e ih => rw [← Nat.add_assoc, ps_up_s, if_neg (by omega), ih]
theorem ps_ux_0 (F : (Nat → Nat) → Nat → Nat) : ps_ux F 0 = 1 := rfl
theorem ps_ux_s {F : (Nat → Nat) → Nat → Nat} {p : Nat} (hF : ∀ f g p, (∀ q, q < p → f q = g q) → F f p = F g p) : ps_ux F (p + 1) = F (ps_ux F) (p + 1) := by
  show ps_up F (p + 1) (p + 1) = _
  rw [ps_up_s, if_pos rfl]
  refine hF _ _ _ (fun q hq => ?_)
  have := ps_up_at (F := F) (p := q) (p - q)
  rw [show q + (p - q) = p from by omega] at this
  exact this
end
section
/-! readings of a row, pure: w the words (n of them), R the row's code, L its bits -/
def rd_W (n : Nat) (w : Nat → Nat) : Prop := (∀ k, k < n → 2 ≤ w k ∧ w k < 128) ∧ (∀ i j, i < j → j < n → w i < w j)
def rd_st (R L p c : Nat) : Bool := decide (p + c.log2 ≤ L ∧ R / 2 ^ (L - (p + c.log2)) % 2 ^ c.log2 + 2 ^ c.log2 = c)
theorem rd_st_le {R L p c : Nat} (h : rd_st R L p c = true) : p + c.log2 ≤ L := (of_decide_eq_true h).1
def rd_t (w : Nat → Nat) (R L : Nat) (f : Nat → Nat) (p k : Nat) : Nat := if rd_st R L p (w k) = true then f (p + (w k).log2) else 0
def rd_F (n : Nat) (w : Nat → Nat) (R L : Nat) (f : Nat → Nat) (p : Nat) : Nat := ps_sm (rd_t w R L f p) n
theorem rd_F_dep {n : Nat} {w : Nat → Nat} (hw : rd_W n w) (R L : Nat) : ps_Dep (rd_F n w R L) L := by
  intro f g p hp h
  refine ps_congr (fun k hk => ?_)
  unfold rd_t
  by_cases c : rd_st R L p (w k) = true
  · rw [if_pos c, if_pos c]
    have h1 := rd_st_le c
    have h2 := na_lg1 (hw.1 k hk).1
    exact h _ (by omega) h1
  · rw [if_neg c, if_neg c]
/-- the readings from place p on -/
def rd_w (n : Nat) (w : Nat → Nat) (R L p : Nat) : Nat := ps_fx 1 (rd_F n w R L) L p
theorem rd_w_end (n : Nat) (w : Nat → Nat) (R L : Nat) : rd_w n w R L L = 1 := ps_fx_end _ _ _
theorem rd_w_step {n : Nat} {w : Nat → Nat} (hw : rd_W n w) {R L p : Nat} (hp : p < L) : rd_w n w R L p = ps_sm (rd_t w R L (rd_w n w R L) p) n := ps_fx_step (rd_F_dep hw R L) hp
/-- X's fewest, from place p on, after k words -/
def rd_g (w : Nat → Nat) (R L : Nat) (f : Nat → Nat) (p : Nat) : Nat → Nat
  | 0 => 10000
  | k + 1 => if rd_st R L p (w k) = true then (if rd_g w R L f p k ≤ f (p + (w k).log2) + 1 then rd_g w R L f p k else f (p + (w k).log2) + 1) else rd_g w R L f p k
theorem rd_g_s {w : Nat → Nat} {R L : Nat} {f : Nat → Nat} {p k : Nat} : rd_g w R L f p (k + 1) = if rd_st R L p (w k) = true then (if rd_g w R L f p k ≤ f (p + (w k).log2) + 1 then rd_g w R L f p k else f (p + (w k).log2) + 1) else rd_g w R L f p k := rfl
theorem rd_g_dep {n : Nat} {w : Nat → Nat} (hw : rd_W n w) (R L : Nat) : ps_Dep (fun f p => rd_g w R L f p n) L := by
  intro f g p hp h
  have H : ∀ m, m ≤ n → rd_g w R L f p m = rd_g w R L g p m := by
    intro m
    induction m with
    | zero => intro _; rfl
    | succ m ih =>
      intro hm
      rw [rd_g_s, rd_g_s, ih (by omega)]
      by_cases c : rd_st R L p (w m) = true
      · have h1 := rd_st_le c
        have h2 := na_lg1 (hw.1 m hm).1
        rw [if_pos c, if_pos c, h _ (by omega) h1]
      · rw [if_neg c, if_neg c]
  exact H n (Nat.le_refl _)
def rd_x (n : Nat) (w : Nat → Nat) (R L p : Nat) : Nat := ps_fx 0 (fun f p => rd_g w R L f p n) L p
theorem rd_x_end (n : Nat) (w : Nat → Nat) (R L : Nat) : rd_x n w R L L = 0 := ps_fx_end _ _ _
theorem rd_x_step {n : Nat} {w : Nat → Nat} (hw : rd_W n w) {R L p : Nat} (hp : p < L) : rd_x n w R L p = rd_g w R L (rd_x n w R L) p n := ps_fx_step (rd_g_dep hw R L) hp
/-- Y's least -/
def rd_h (w : Nat → Nat) (R L : Nat) (v f : Nat → Nat) (p : Nat) : Nat → Nat
  | 0 => 99
  | k + 1 => if rd_st R L p (w k) = true then (if v (p + (w k).log2) ≤ 0 then rd_h w R L v f p k else (if rd_h w R L v f p k ≤ f (p + (w k).log2) + 1 then rd_h w R L v f p k else f (p + (w k).log2) + 1)) else rd_h w R L v f p k
theorem rd_h_s {w : Nat → Nat} {R L : Nat} {v f : Nat → Nat} {p k : Nat} : rd_h w R L v f p (k + 1) = if rd_st R L p (w k) = true then (if v (p + (w k).log2) ≤ 0 then rd_h w R L v f p k else (if rd_h w R L v f p k ≤ f (p + (w k).log2) + 1 then rd_h w R L v f p k else f (p + (w k).log2) + 1)) else rd_h w R L v f p k := rfl
theorem rd_h_dep {n : Nat} {w : Nat → Nat} (hw : rd_W n w) (R L : Nat) (v : Nat → Nat) : ps_Dep (fun f p => rd_h w R L v f p n) L := by
  intro f g p hp h
  have H : ∀ m, m ≤ n → rd_h w R L v f p m = rd_h w R L v g p m := by
    intro m
    induction m with
    | zero => intro _; rfl
    | succ m ih =>
      intro hm
      rw [rd_h_s, rd_h_s, ih (by omega)]
      by_cases c : rd_st R L p (w m) = true
      · have h1 := rd_st_le c
        have h2 := na_lg1 (hw.1 m hm).1
        rw [if_pos c, if_pos c, h _ (by omega) h1]
      · rw [if_neg c, if_neg c]
  exact H n (Nat.le_refl _)
def rd_y (n : Nat) (w : Nat → Nat) (R L p : Nat) : Nat := ps_fx 0 (fun f p => rd_h w R L (rd_w n w R L) f p n) L p
theorem rd_y_end (n : Nat) (w : Nat → Nat) (R L : Nat) : rd_y n w R L L = 0 := ps_fx_end _ _ _
theorem rd_y_step {n : Nat} {w : Nat → Nat} (hw : rd_W n w) {R L p : Nat} (hp : p < L) : rd_y n w R L p = rd_h w R L (rd_w n w R L) (rd_y n w R L) p n := ps_fx_step (rd_h_dep hw R L _) hp
/-- how X's fewest and Y's least agree -/
theorem rd_agree {n : Nat} {w : Nat → Nat} (hw : rd_W n w) {R L : Nat} (hL : L ≤ 16) : ∀ d p, p + d = L →
    (rd_w n w R L p = 0 ∧ rd_x n w R L p = 10000) ∨ (0 < rd_w n w R L p ∧ rd_x n w R L p = rd_y n w R L p ∧ rd_y n w R L p ≤ d) := by
  intro d
  induction d using Nat.strongRecOn with
  | ind d ih =>
    intro p hp
    by_cases e : d = 0
    · have : p = L := by omega
      subst this
      rw [rd_w_end, rd_x_end, rd_y_end]
      exact Or.inr ⟨by decide, rfl, by omega⟩
    · rw [rd_w_step hw (by omega), rd_x_step hw (by omega), rd_y_step hw (by omega)]
      have H : ∀ m, m ≤ n → (ps_sm (rd_t w R L (rd_w n w R L) p) m = 0 ∧ rd_g w R L (rd_x n w R L) p m = 10000 ∧ rd_h w R L (rd_w n w R L) (rd_y n w R L) p m = 99) ∨ (0 < ps_sm (rd_t w R L (rd_w n w R L) p) m ∧ rd_g w R L (rd_x n w R L) p m = rd_h w R L (rd_w n w R L) (rd_y n w R L) p m ∧ rd_h w R L (rd_w n w R L) (rd_y n w R L) p m ≤ d) := by
        intro m
        induction m with
        | zero => intro _; exact Or.inl ⟨rfl, rfl, rfl⟩
        | succ m ihm =>
          intro hm
          have I := ihm (by omega)
          rw [ps_s, rd_g_s, rd_h_s]
          unfold rd_t
          by_cases c : rd_st R L p (w m) = true
          · have h1 := rd_st_le c
            have h2 := na_lg1 (hw.1 m hm).1
            rw [if_pos c, if_pos c, if_pos c]
            have J := ih (d - (w m).log2) (by omega) (p + (w m).log2) (by omega)
            rcases J with ⟨j1, j2⟩ | ⟨j1, j2, j3⟩
            · rw [j1, j2, if_pos (Nat.le_refl 0)]
              rcases I with ⟨i1, i2, i3⟩ | ⟨i1, i2, i3⟩
              · refine Or.inl ⟨by exact i1, ?_, i3⟩
                rw [i2]; rfl
              · refine Or.inr ⟨by exact i1, ?_, i3⟩
                rw [if_pos (by omega)]; exact i2
            · rw [if_neg (c := rd_w n w R L (p + (w m).log2) ≤ 0) (by omega), j2]
              refine Or.inr ⟨by omega, ?_, ?_⟩
              · rcases I with ⟨i1, i2, i3⟩ | ⟨i1, i2, i3⟩
                · rw [i2, i3, if_neg (by omega), if_neg (by omega)]
                · rw [i2]
              · rcases I with ⟨i1, i2, i3⟩ | ⟨i1, i2, i3⟩
                · rw [i3, if_neg (by omega)]; omega
                · by_cases q : rd_h w R L (rd_w n w R L) (rd_y n w R L) p m ≤ rd_y n w R L (p + (w m).log2) + 1
                  · rw [if_pos q]; exact i3
                  · rw [if_neg q]; omega
          · rw [if_neg c, if_neg c, if_neg c]
            exact I
      rcases H n (Nat.le_refl _) with ⟨a, b, _⟩ | h
      · exact Or.inl ⟨a, b⟩
      · exact Or.inr h
/-- different words that stand at one place have different sizes -/
theorem rd_st_inj {R L p c d : Nat} (hc : rd_st R L p c = true) (hd : rd_st R L p d = true) (h : c.log2 = d.log2) : c = d := by
  have h1 := (of_decide_eq_true hc).2
  have h2 := (of_decide_eq_true hd).2
  rw [h] at h1
  exact h1.symm.trans h2
theorem rd_bound {n : Nat} {w : Nat → Nat} (hw : rd_W n w) {R L : Nat} : ∀ d p, p + d = L → rd_w n w R L p ≤ 2 ^ d := by
  intro d
  induction d using Nat.strongRecOn with
  | ind d ih =>
    intro p hp
    by_cases e : d = 0
    · have : p = L := by omega
      subst this
      rw [rd_w_end]
      exact na_pps d
    · rw [rd_w_step hw (by omega)]
      have H : ∀ m, m ≤ n → ∃ t, t ≤ d ∧ (∀ k, k < m → rd_st R L p (w k) = true → (w k).log2 ≤ t) ∧ ps_sm (rd_t w R L (rd_w n w R L) p) m + 2 ^ (d - t) ≤ 2 ^ d ∧ (t = 0 ∨ ∃ k, k < m ∧ rd_st R L p (w k) = true ∧ (w k).log2 = t) := by
        intro m
        induction m with
        | zero =>
          intro _
          refine ⟨0, by omega, fun k hk => absurd hk (by omega), ?_, Or.inl rfl⟩
          show 0 + 2 ^ (d - 0) ≤ 2 ^ d
          rw [Nat.zero_add]
          exact Nat.le_refl _
        | succ m ihm =>
          intro hm
          obtain ⟨t, t1, t2, t3, t4⟩ := ihm (by omega)
          by_cases c : rd_st R L p (w m) = true
          · have h1 := rd_st_le c
            have h2 := na_lg1 (hw.1 m hm).1
            have ht : t < (w m).log2 := by
              rcases t4 with t4 | ⟨k, k1, k2, k3⟩
              · omega
              · have a := hw.2 k m k1 hm
                have b := na_lgm (Nat.le_of_lt a)
                rcases Nat.lt_or_ge t (w m).log2 with g | g
                · exact g
                · have := rd_st_inj k2 c (by omega)
                  omega
            refine ⟨(w m).log2, by omega, ?_, ?_, Or.inr ⟨m, by omega, c, rfl⟩⟩
            · intro k hk hs
              by_cases q : k = m
              · subst q; exact Nat.le_refl _
              · have := t2 k (by omega) hs; omega
            · rw [ps_s]
              unfold rd_t
              rw [if_pos c]
              have J := ih (d - (w m).log2) (by omega) (p + (w m).log2) (by omega)
              have a : 2 * 2 ^ (d - (w m).log2) ≤ 2 ^ (d - t) := by
                rw [← na_ps]; exact na_pow (by omega)
              unfold rd_t at t3
              omega
          · refine ⟨t, t1, ?_, ?_, ?_⟩
            · intro k hk hs
              by_cases q : k = m
              · subst q; exact absurd hs c
              · exact t2 k (by omega) hs
            · rw [ps_s]
              have z : rd_t w R L (rd_w n w R L) p m = 0 := if_neg c
              omega
            · rcases t4 with t4 | ⟨k, k1, k2, k3⟩
              · exact Or.inl t4
              · exact Or.inr ⟨k, by omega, k2, k3⟩
      obtain ⟨t, _, _, h, _⟩ := H n (Nat.le_refl _)
      exact Nat.le_trans (Nat.le_add_right _ _) h
theorem rd_small {n : Nat} {w : Nat → Nat} (hw : rd_W n w) {R L p : Nat} (hL : L ≤ 16) (hp : p ≤ L) : rd_w n w R L p ≤ 65536 := by
  have h := rd_bound hw (R := R) (L := L) (L - p) p (by omega)
  have h2 := na_pow (show L - p ≤ 16 from by omega)
  omega
/-- the word of a reading -/
theorem rd_pick {w : Nat → Nat} {R L : Nat} {f : Nat → Nat} {p left : Nat} : ∀ m, left < ps_sm (rd_t w R L f p) m → ∃ k, k < m ∧ ps_sm (rd_t w R L f p) k ≤ left ∧ left < ps_sm (rd_t w R L f p) k + rd_t w R L f p k := by
  intro m
  induction m with
  | zero => intro h; exact absurd h (Nat.not_lt_zero _)
  | succ m ih =>
    intro h
    by_cases c : left < ps_sm (rd_t w R L f p) m
    · obtain ⟨k, a, b⟩ := ih c
      exact ⟨k, by omega, b⟩
    · rw [ps_s] at h
      exact ⟨m, by omega, by omega, h⟩
end
section
/-! readings counted from the front: a function of the row's code alone -/
def fr_e (R c : Nat) : Bool := decide (c.log2 ≤ R.log2 ∧ R % 2 ^ c.log2 + 2 ^ c.log2 = c)
def fr_d (n : Nat) (w : Nat → Nat) : Nat → Nat → Nat
  | 0 => fun R => if R = 1 then 1 else 0
  | d + 1 => fun R => if R = 1 then 1 else ps_sm (fun k => if fr_e R (w k) = true then fr_d n w d (R / 2 ^ (w k).log2) else 0) n
theorem fr_d_s {n : Nat} {w : Nat → Nat} {d R : Nat} : fr_d n w (d + 1) R = if R = 1 then 1 else ps_sm (fun k => if fr_e R (w k) = true then fr_d n w d (R / 2 ^ (w k).log2) else 0) n := rfl
theorem fr_div {R s : Nat} (h : s ≤ R.log2) (hR : 1 ≤ R) : (R / 2 ^ s).log2 = R.log2 - s ∧ 1 ≤ R / 2 ^ s := by
  have ⟨a, b⟩ := na_lg hR
  have p := na_pps s
  have e1 := na_padd h
  have e2 := na_padd (show s ≤ R.log2 + 1 from by omega)
  have a' : 2 ^ (R.log2 - s) ≤ R / 2 ^ s := by
    rw [Nat.le_div_iff_mul_le p, Nat.mul_comm, ← e1]; exact a
  have b' : R / 2 ^ s < 2 ^ (R.log2 - s + 1) := by
    rw [Nat.div_lt_iff_lt_mul p, Nat.mul_comm, show R.log2 - s + 1 = R.log2 + 1 - s from by omega, ← e2]; exact b
  exact ⟨na_lgu a' b', Nat.le_trans (na_pps _) a'⟩
theorem fr_d_up {n : Nat} {w : Nat → Nat} (hw : rd_W n w) : ∀ d R, 1 ≤ R → R.log2 ≤ d → fr_d n w d R = fr_d n w (d + 1) R := by
  intro d
  induction d with
  | zero =>
    intro R h1 h2
    have : R = 1 := by
      have := (na_lg h1).2
      rw [show R.log2 = 0 from by omega] at this
      omega
    subst this
    rfl
  | succ d ih =>
    intro R h1 h2
    rw [fr_d_s, fr_d_s]
    by_cases e : R = 1
    · rw [if_pos e, if_pos e]
    · rw [if_neg e, if_neg e]
      refine ps_congr (fun k hk => ?_)
      by_cases c : fr_e R (w k) = true
      · rw [if_pos c, if_pos c]
        have a := (of_decide_eq_true c).1
        have b := na_lg1 (hw.1 k hk).1
        have ⟨u, v⟩ := fr_div a h1
        exact ih _ v (by omega)
      · rw [if_neg c, if_neg c]
theorem fr_d_le {n : Nat} {w : Nat → Nat} (hw : rd_W n w) {R : Nat} (h1 : 1 ≤ R) : ∀ e, fr_d n w (R.log2 + e) R = fr_d n w R.log2 R := by
  intro e
  induction e with
  | zero => rfl
  | succ e ih => rw [← Nat.add_assoc, ← fr_d_up hw _ R h1 (by omega), ih]
def fr_r (n : Nat) (w : Nat → Nat) (R : Nat) : Nat := fr_d n w R.log2 R
theorem fr_0 (n : Nat) (w : Nat → Nat) : fr_r n w 0 = 0 := by
  unfold fr_r
  rw [na_lg0]; rfl
theorem fr_1 (n : Nat) (w : Nat → Nat) : fr_r n w 1 = 1 := by
  unfold fr_r
  rw [na_lgs (by decide)]; rfl
theorem fr_s {n : Nat} {w : Nat → Nat} (hw : rd_W n w) {R : Nat} (h : 2 ≤ R) : fr_r n w R = ps_sm (fun k => if fr_e R (w k) = true then fr_r n w (R / 2 ^ (w k).log2) else 0) n := by
  have a := na_lg1 h
  obtain ⟨d, hd⟩ := na_ex1 (n := R.log2) (by omega)
  show fr_d n w R.log2 R = _
  rw [hd, fr_d_s, if_neg (by omega)]
  refine ps_congr (fun k hk => ?_)
  by_cases c : fr_e R (w k) = true
  · rw [if_pos c, if_pos c]
    have a := (of_decide_eq_true c).1
    have b := na_lg1 (hw.1 k hk).1
    have ⟨u, v⟩ := fr_div a (by omega)
    have g := fr_d_le hw v (d - (R / 2 ^ (w k).log2).log2)
    rw [show (R / 2 ^ (w k).log2).log2 + (d - (R / 2 ^ (w k).log2).log2) = d from by omega] at g
    exact g
  · rw [if_neg c, if_neg c]
/-- counting from the end and from the front gives one number -/
theorem fr_back {n : Nat} {w : Nat → Nat} (hw : rd_W n w) {R L : Nat} (h1 : 1 ≤ R) (hL : R.log2 = L) : rd_w n w R L 0 = fr_r n w R := by
  have sz : ∀ k, k < n → 1 ≤ (w k).log2 := fun k hk => na_lg1 (hw.1 k hk).1
  -- f: from the front; b: from the end; T: word k ends at e
  let f : Nat → Nat := fun e => fr_r n w (R / 2 ^ (L - e))
  let b : Nat → Nat := rd_w n w R L
  let T : Nat → Nat → Nat → Nat := fun k p e => if decide (R / 2 ^ (L - e) % 2 ^ (w k).log2 + 2 ^ (w k).log2 = w k) = true then f p * b e else 0
  have bL : b L = 1 := rd_w_end _ _ _ _
  have f0 : f 0 = 1 := by
    show fr_r n w (R / 2 ^ (L - 0)) = 1
    have ⟨u, v⟩ := fr_div (R := R) (s := L) (by omega) h1
    have g := (na_lg v).2
    rw [u, hL, Nat.sub_self] at g
    rw [Nat.sub_zero, show R / 2 ^ L = 1 from by omega, fr_1]
  have A : ps_sm (fun p => f p * b p) (L + 1) = f L + ps_sm (fun p => ps_sm (fun k => if p + (w k).log2 ≤ L then T k p (p + (w k).log2) else 0) n) (L + 1) := by
    rw [ps_s, ps_s, bL, Nat.mul_one]
    have z : ps_sm (fun k => if L + (w k).log2 ≤ L then T k L (L + (w k).log2) else 0) n = 0 := ps_zero (fun k hk => if_neg (by have := sz k hk; omega))
    rw [z]
    have y : ps_sm (fun p => f p * b p) L = ps_sm (fun p => ps_sm (fun k => if p + (w k).log2 ≤ L then T k p (p + (w k).log2) else 0) n) L := by
      refine ps_congr (fun p hp => ?_)
      have s : b p = ps_sm (rd_t w R L b p) n := rd_w_step hw hp
      rw [s, ← ps_mul]
      refine ps_congr (fun k hk => ?_)
      show f p * (if rd_st R L p (w k) = true then b (p + (w k).log2) else 0) = if p + (w k).log2 ≤ L then (if decide (R / 2 ^ (L - (p + (w k).log2)) % 2 ^ (w k).log2 + 2 ^ (w k).log2 = w k) = true then f p * b (p + (w k).log2) else 0) else 0
      unfold rd_st
      by_cases c1 : p + (w k).log2 ≤ L
      · rw [if_pos c1]
        by_cases c2 : R / 2 ^ (L - (p + (w k).log2)) % 2 ^ (w k).log2 + 2 ^ (w k).log2 = w k
        · rw [if_pos (decide_eq_true ⟨c1, c2⟩), if_pos (decide_eq_true c2)]
        · rw [if_neg (fun h => c2 (of_decide_eq_true h).2), if_neg (fun h => c2 (of_decide_eq_true h)), Nat.mul_zero]
      · rw [if_neg c1, if_neg (fun h => c1 (of_decide_eq_true h).1), Nat.mul_zero]
    rw [y]; omega
  have B : ps_sm (fun p => f p * b p) (L + 1) = b 0 + ps_sm (fun e => ps_sm (fun k => if (w k).log2 ≤ e then T k (e - (w k).log2) e else 0) n) (L + 1) := by
    have y : ∀ m, m ≤ L → ps_sm (fun p => f p * b p) (m + 1) = b 0 + ps_sm (fun e => ps_sm (fun k => if (w k).log2 ≤ e then T k (e - (w k).log2) e else 0) n) (m + 1) := by
      intro m
      induction m with
      | zero =>
        intro _
        rw [ps_s, ps_s, f0, Nat.one_mul]
        have z : ps_sm (fun k => if (w k).log2 ≤ 0 then T k (0 - (w k).log2) 0 else 0) n = 0 := ps_zero (fun k hk => if_neg (by have := sz k hk; omega))
        rw [z]
        show 0 + b 0 = b 0 + (0 + 0)
        omega
      | succ m ih =>
        intro hm
        rw [ps_s, ih (by omega), ps_s _ (m + 1)]
        have q : f (m + 1) * b (m + 1) = ps_sm (fun k => if (w k).log2 ≤ m + 1 then T k (m + 1 - (w k).log2) (m + 1) else 0) n := by
          have ⟨u, v⟩ := fr_div (R := R) (s := L - (m + 1)) (by omega) h1
          have u' : (R / 2 ^ (L - (m + 1))).log2 = m + 1 := by omega
          have v2 : 2 ≤ R / 2 ^ (L - (m + 1)) := by
            have := (na_lg v).1
            rw [u', na_ps] at this
            have := na_pps m
            omega
          have s : f (m + 1) = _ := fr_s hw v2
          rw [s, ← ps_mulr]
          refine ps_congr (fun k hk => ?_)
          show (if fr_e (R / 2 ^ (L - (m + 1))) (w k) = true then fr_r n w (R / 2 ^ (L - (m + 1)) / 2 ^ (w k).log2) else 0) * b (m + 1) = if (w k).log2 ≤ m + 1 then (if decide (R / 2 ^ (L - (m + 1)) % 2 ^ (w k).log2 + 2 ^ (w k).log2 = w k) = true then fr_r n w (R / 2 ^ (L - (m + 1 - (w k).log2))) * b (m + 1) else 0) else 0
          unfold fr_e
          rw [u']
          by_cases c1 : (w k).log2 ≤ m + 1
          · rw [if_pos c1]
            by_cases c2 : R / 2 ^ (L - (m + 1)) % 2 ^ (w k).log2 + 2 ^ (w k).log2 = w k
            · rw [if_pos (decide_eq_true ⟨c1, c2⟩), if_pos (decide_eq_true c2), Nat.div_div_eq_div_mul, ← Nat.pow_add, show L - (m + 1) + (w k).log2 = L - (m + 1 - (w k).log2) from by omega]
            · rw [if_neg (fun h => c2 (of_decide_eq_true h).2), if_neg (fun h => c2 (of_decide_eq_true h)), Nat.zero_mul]
          · rw [if_neg c1, if_neg (fun h => c1 (of_decide_eq_true h).1), Nat.zero_mul]
        rw [q]; omega
    exact y L (Nat.le_refl _)
  have C : ps_sm (fun p => ps_sm (fun k => if p + (w k).log2 ≤ L then T k p (p + (w k).log2) else 0) n) (L + 1) = ps_sm (fun e => ps_sm (fun k => if (w k).log2 ≤ e then T k (e - (w k).log2) e else 0) n) (L + 1) := by
    rw [ps_swap, ps_swap (fun e k => if (w k).log2 ≤ e then T k (e - (w k).log2) e else 0)]
    refine ps_congr (fun k hk => ?_)
    rw [ps_shift (fun p => T k p (p + (w k).log2))]
    refine ps_congr (fun e he => ?_)
    show (if (w k).log2 ≤ e then T k (e - (w k).log2) (e - (w k).log2 + (w k).log2) else 0) = if (w k).log2 ≤ e then T k (e - (w k).log2) e else 0
    by_cases c : (w k).log2 ≤ e
    · rw [if_pos c, if_pos c, Nat.sub_add_cancel c]
    · rw [if_neg c, if_neg c]
  have fL : f L = fr_r n w R := by
    show fr_r n w (R / 2 ^ (L - L)) = _
    rw [Nat.sub_self, Nat.pow_zero, Nat.div_one]
  have e : b 0 = f L := by omega
  rw [← fL, ← e]
end
section
/-! X's states of rows -/
def so_m (x : Nat) : Nat := if x ≤ 2 then x else 2
def so_l (R : Nat) : Nat := if R < 128 then R else R % 64 + 64
def so_c (n : Nat) (w : Nat → Nat) (R i : Nat) : Nat := so_m (fr_r n w (R / 2 ^ i))
def so_st (n : Nat) (w : Nat → Nat) (R : Nat) : Nat := so_l R * 4096 + (so_c n w R 0 + 4 * so_c n w R 1 + 16 * so_c n w R 2 + 64 * so_c n w R 3 + 256 * so_c n w R 4 + 1024 * so_c n w R 5)
/-- the sum of oneMore after k words -/
def so_sum (w : Nat → Nat) (s a : Nat) : Nat → Nat
  | 0 => 0
  | k + 1 => if fr_e a (w k) = true then so_sum w s a k + s / 2 ^ (2 * ((w k).log2 - 1)) % 4 else so_sum w s a k
theorem so_sum_s {w : Nat → Nat} {s a k : Nat} : so_sum w s a (k + 1) = if fr_e a (w k) = true then so_sum w s a k + s / 2 ^ (2 * ((w k).log2 - 1)) % 4 else so_sum w s a k := rfl
def so_all (s b : Nat) : Nat := if 2 * (s / 4096) + b < 128 then 2 * (s / 4096) + b else (2 * (s / 4096) + b) % 64 + 64
def so_one (n : Nat) (w : Nat → Nat) (s b : Nat) : Nat := so_all s b * 4096 + (s % 1024) * 4 + so_m (so_sum w s (so_all s b) n)
theorem so_m2 (x : Nat) : so_m x ≤ 2 := by
  unfold so_m
  by_cases h : x ≤ 2
  · rw [if_pos h]; exact h
  · rw [if_neg h]; exact Nat.le_refl _
theorem so_c2 (n : Nat) (w : Nat → Nat) (R i : Nat) : so_c n w R i ≤ 2 := so_m2 _
theorem so_dig {c0 c1 c2 c3 c4 c5 l s : Nat} (h0 : c0 ≤ 2) (h1 : c1 ≤ 2) (h2 : c2 ≤ 2) (h3 : c3 ≤ 2) (h4 : c4 ≤ 2) (h5 : c5 ≤ 2) (hs : s = l * 4096 + (c0 + 4 * c1 + 16 * c2 + 64 * c3 + 256 * c4 + 1024 * c5)) :
    s / 4096 = l ∧ s % 1024 = c0 + 4 * c1 + 16 * c2 + 64 * c3 + 256 * c4 ∧ s % 4 = c0 ∧ s / 4 % 4 = c1 ∧ s / 16 % 4 = c2 ∧ s / 64 % 4 = c3 ∧ s / 256 % 4 = c4 ∧ s / 1024 % 4 = c5 := by
  refine ⟨?_, ?_, ?_, ?_, ?_, ?_, ?_, ?_⟩ <;> omega
theorem so_st_at (n : Nat) (w : Nat → Nat) (R : Nat) {i : Nat} (hi : i < 6) : so_st n w R / 2 ^ (2 * i) % 4 = so_c n w R i := by
  have D := so_dig (so_c2 n w R 0) (so_c2 n w R 1) (so_c2 n w R 2) (so_c2 n w R 3) (so_c2 n w R 4) (so_c2 n w R 5) (l := so_l R) (s := so_st n w R) rfl
  obtain ⟨_, _, d0, d1, d2, d3, d4, d5⟩ := D
  match i, hi with
  | 0, _ => rw [show 2 ^ (2 * 0) = 1 from rfl, Nat.div_one]; exact d0
  | 1, _ => exact d1
  | 2, _ => exact d2
  | 3, _ => exact d3
  | 4, _ => exact d4
  | 5, _ => exact d5
theorem so_st_l (n : Nat) (w : Nat → Nat) (R : Nat) : so_st n w R / 4096 = so_l R :=
  (so_dig (so_c2 n w R 0) (so_c2 n w R 1) (so_c2 n w R 2) (so_c2 n w R 3) (so_c2 n w R 4) (so_c2 n w R 5) (l := so_l R) (s := so_st n w R) rfl).1
theorem so_l_lt (R : Nat) : so_l R < 128 := by
  unfold so_l
  by_cases h : R < 128
  · rw [if_pos h]; exact h
  · rw [if_neg h]; omega
theorem so_all_l (n : Nat) (w : Nat → Nat) (R : Nat) {b : Nat} (hb : b < 2) : so_all (so_st n w R) b = so_l (2 * R + b) := by
  unfold so_all
  rw [so_st_l]
  unfold so_l
  by_cases h : R < 128
  · rw [if_pos h]
  · rw [if_neg h, if_neg (by omega), if_neg (by omega)]
    omega
theorem so_mod64 {R s : Nat} (hs : s ≤ 6) : (R % 64 + 64) % 2 ^ s = R % 2 ^ s := by
  match s, hs with
  | 0, _ => omega
  | 1, _ => omega
  | 2, _ => omega
  | 3, _ => omega
  | 4, _ => omega
  | 5, _ => omega
  | 6, _ => omega
theorem so_ends {R c : Nat} (hc : c < 128) (hR : 1 ≤ R) : fr_e (so_l R) c = fr_e R c := by
  have h6 := na_lg6 hc
  unfold so_l
  by_cases h : R < 128
  · rw [if_pos h]
  · rw [if_neg h]
    unfold fr_e
    rw [so_mod64 h6]
    have a : c.log2 ≤ (R % 64 + 64).log2 := Nat.le_trans h6 (na_lgge (k := 6) (by omega))
    have b : c.log2 ≤ R.log2 := Nat.le_trans h6 (na_lgge (k := 6) (by omega))
    by_cases e : R % 2 ^ c.log2 + 2 ^ c.log2 = c
    · rw [decide_eq_true (show _ ∧ _ from ⟨a, e⟩), decide_eq_true (show _ ∧ _ from ⟨b, e⟩)]
    · rw [decide_eq_false (fun h : _ ∧ _ => e h.2), decide_eq_false (fun h : _ ∧ _ => e h.2)]
theorem so_half {R b s : Nat} (hb : b < 2) (hs : 1 ≤ s) : (2 * R + b) / 2 ^ s = R / 2 ^ (s - 1) := by
  obtain ⟨t, rfl⟩ := na_ex1 hs
  rw [na_ps, ← Nat.div_div_eq_div_mul, show (2 * R + b) / 2 = R from by omega, Nat.add_sub_cancel]
/-- the step of a state is the state of the longer row -/
theorem so_step {n : Nat} {w : Nat → Nat} (hw : rd_W n w) {R b : Nat} (hR : 1 ≤ R) (hb : b < 2) : so_one n w (so_st n w R) b = so_st n w (2 * R + b) := by
  have E : so_m (so_sum w (so_st n w R) (so_l (2 * R + b)) n) = so_c n w (2 * R + b) 0 := by
    unfold so_c
    rw [Nat.pow_zero, Nat.div_one, fr_s hw (by omega)]
    have H : ∀ m, m ≤ n → so_m (so_sum w (so_st n w R) (so_l (2 * R + b)) m) = so_m (ps_sm (fun k => if fr_e (2 * R + b) (w k) = true then fr_r n w ((2 * R + b) / 2 ^ (w k).log2) else 0) m) := by
      intro m
      induction m with
      | zero => intro _; rfl
      | succ m ih =>
        intro hm
        have I := ih (by omega)
        have ⟨c1, c2⟩ := hw.1 m hm
        have l1 := na_lg1 c1
        have l6 := na_lg6 c2
        rw [so_sum_s, ps_s, so_ends c2 (by omega)]
        by_cases c : fr_e (2 * R + b) (w m) = true
        · rw [if_pos c, if_pos c, so_st_at n w R (by omega), so_half hb l1]
          unfold so_c so_m at *
          revert I
          generalize so_sum w (so_st n w R) (so_l (2 * R + b)) m = x
          generalize ps_sm (fun k => if fr_e (2 * R + b) (w k) = true then fr_r n w ((2 * R + b) / 2 ^ (w k).log2) else 0) m = y
          generalize fr_r n w (R / 2 ^ ((w m).log2 - 1)) = z
          intro I
          split at I <;> split at I <;> split <;> split <;> split <;> omega
        · rw [if_neg c, if_neg c, Nat.add_zero]
          exact I
    exact H n (Nat.le_refl _)
  have S : ∀ i, so_c n w (2 * R + b) (i + 1) = so_c n w R i := by
    intro i
    unfold so_c
    rw [so_half hb (by omega), Nat.add_sub_cancel]
  obtain ⟨_, d, _⟩ := so_dig (so_c2 n w R 0) (so_c2 n w R 1) (so_c2 n w R 2) (so_c2 n w R 3) (so_c2 n w R 4) (so_c2 n w R 5) (l := so_l R) (s := so_st n w R) rfl
  unfold so_one
  rw [so_all_l n w R hb, E, d]
  show _ = so_l (2 * R + b) * 4096 + (so_c n w (2 * R + b) 0 + 4 * so_c n w (2 * R + b) (0 + 1) + 16 * so_c n w (2 * R + b) (1 + 1) + 64 * so_c n w (2 * R + b) (2 + 1) + 256 * so_c n w (2 * R + b) (3 + 1) + 1024 * so_c n w (2 * R + b) (4 + 1))
  rw [S, S, S, S, S]
  omega
theorem so_first (n : Nat) (w : Nat → Nat) : so_st n w 1 = 4097 := by
  have h : ∀ i, 1 ≤ i → so_c n w 1 i = 0 := by
    intro i hi
    unfold so_c
    rw [Nat.div_eq_of_lt (Nat.lt_of_lt_of_le (by decide) (na_pow hi)), fr_0]
    rfl
  have h0 : so_c n w 1 0 = 1 := by
    unfold so_c
    rw [Nat.pow_zero, Nat.div_one, fr_1]; rfl
  unfold so_st
  rw [h0, h 1 (by omega), h 2 (by omega), h 3 (by omega), h 4 (by omega), h 5 (by omega)]
  rfl
theorem so_mod4 (n : Nat) (w : Nat → Nat) (R : Nat) : so_st n w R % 4 = so_m (fr_r n w R) := by
  have h := so_st_at n w R (i := 0) (by omega)
  rw [show 2 ^ (2 * 0) = 1 from rfl, Nat.div_one] at h
  rw [h]
  unfold so_c
  rw [Nat.pow_zero, Nat.div_one]
theorem so_lt (n : Nat) (w : Nat → Nat) (R : Nat) : so_st n w R < 524288 := by
  have a := so_c2 n w R 0
  have b := so_c2 n w R 1
  have c := so_c2 n w R 2
  have d := so_c2 n w R 3
  have e := so_c2 n w R 4
  have f := so_c2 n w R 5
  have g := so_l_lt R
  unfold so_st
  omega
end
section
/-! two readings: what one is ahead of the other -/
def dj_lf (a b : Nat) : Nat := if b.log2 ≤ a.log2 ∧ a / 2 ^ (a.log2 - b.log2) = b then 2 ^ (a.log2 - b.log2) + a % 2 ^ (a.log2 - b.log2) else 0
theorem dj_lf_t {a b : Nat} (h1 : b.log2 ≤ a.log2) (h2 : a / 2 ^ (a.log2 - b.log2) = b) : dj_lf a b = 2 ^ (a.log2 - b.log2) + a % 2 ^ (a.log2 - b.log2) := if_pos ⟨h1, h2⟩
theorem dj_lf_f {a b : Nat} (h : ¬ (b.log2 ≤ a.log2 ∧ a / 2 ^ (a.log2 - b.log2) = b)) : dj_lf a b = 0 := if_neg h
theorem dj_lf_c {a b : Nat} (h : 1 ≤ dj_lf a b) : b.log2 ≤ a.log2 ∧ a / 2 ^ (a.log2 - b.log2) = b := by
  by_cases c : b.log2 ≤ a.log2 ∧ a / 2 ^ (a.log2 - b.log2) = b
  · exact c
  · rw [dj_lf_f c] at h; omega
theorem dj_lf_p {a b : Nat} (h1 : b.log2 ≤ a.log2) (h2 : a / 2 ^ (a.log2 - b.log2) = b) : 1 ≤ dj_lf a b := by
  rw [dj_lf_t h1 h2]
  have := na_pps (a.log2 - b.log2)
  omega
theorem dj_lf_lg {a b : Nat} (h : 1 ≤ dj_lf a b) : (dj_lf a b).log2 = a.log2 - b.log2 := by
  have ⟨c, d⟩ := dj_lf_c h
  rw [dj_lf_t c d]
  have := Nat.mod_lt a (na_pps (a.log2 - b.log2))
  refine na_lgu (by omega) ?_
  rw [na_ps]; omega
theorem dj_lf_eq {a b : Nat} (h : 1 ≤ dj_lf a b) (e : a.log2 = b.log2) : a = b := by
  have ⟨c, d⟩ := dj_lf_c h
  rw [e, Nat.sub_self, Nat.pow_zero, Nat.div_one] at d
  exact d
theorem dj_lf_self (a : Nat) : dj_lf a a = 1 := by
  rw [dj_lf_t (Nat.le_refl _) (by rw [Nat.sub_self, Nat.pow_zero, Nat.div_one]), Nat.sub_self, Nat.pow_zero, Nat.mod_one]
theorem dj_lf_ge2 {a b : Nat} (h : 1 ≤ dj_lf a b) (e : b.log2 < a.log2) : 2 ≤ dj_lf a b := by
  have l := dj_lf_lg h
  have g := (na_lg h).1
  rw [l] at g
  have := na_pow (show 1 ≤ a.log2 - b.log2 from by omega)
  omega
theorem dj_lf_one {a b : Nat} (h : dj_lf a b = 1) : a = b := by
  have ⟨c, d⟩ := dj_lf_c (a := a) (b := b) (by omega)
  by_cases e : b.log2 < a.log2
  · have := dj_lf_ge2 (by omega) e; omega
  · exact dj_lf_eq (by omega) (by omega)
theorem dj_lf_lt {a b : Nat} (ha : a < 128) (hb : 2 ≤ b) : dj_lf a b < 64 := by
  by_cases h : 1 ≤ dj_lf a b
  · have l := dj_lf_lg h
    have g := (na_lg h).2
    rw [l] at g
    have := na_lg6 ha
    have := na_lg1 hb
    have := na_pow (show a.log2 - b.log2 + 1 ≤ 6 from by omega)
    omega
  · omega
theorem dj_lf_not {a b : Nat} (h : 1 ≤ dj_lf a b) : dj_lf b a ≤ 1 := by
  by_cases c : 1 ≤ dj_lf b a
  · have ⟨c1, _⟩ := dj_lf_c h
    have ⟨c2, _⟩ := dj_lf_c c
    have := dj_lf_eq h (by omega)
    subst this
    rw [dj_lf_self]
    exact Nat.le_refl _
  · omega
def dj_r (A : Nat → Nat) (v d : Nat) : Nat → Nat := fun j => if j = v ∧ 0 < v ∧ d < A v then d else A j
theorem dj_r_t {A : Nat → Nat} {v d : Nat} (h0 : 0 < v) (h : d < A v) : dj_r A v d v = d := if_pos ⟨rfl, h0, h⟩
theorem dj_r_n {A : Nat → Nat} {v d j : Nat} (h : ¬ (j = v ∧ 0 < v ∧ d < A v)) : dj_r A v d j = A j := if_neg h
theorem dj_r_le (A : Nat → Nat) (v d j : Nat) : dj_r A v d j ≤ A j := by
  by_cases c : j = v ∧ 0 < v ∧ d < A v
  · obtain ⟨c1, c2, c3⟩ := c
    subst c1
    rw [dj_r_t c2 c3]; omega
  · rw [dj_r_n c]; exact Nat.le_refl _
theorem dj_r_at {A : Nat → Nat} {v d : Nat} (h0 : 0 < v) : dj_r A v d v ≤ d := by
  by_cases c : d < A v
  · rw [dj_r_t h0 c]; exact Nat.le_refl _
  · rw [dj_r_n (fun h => c h.2.2)]; omega
theorem dj_r_or (A : Nat → Nat) (v d j : Nat) : dj_r A v d j = A j ∨ (j = v ∧ 0 < v ∧ d < A v ∧ dj_r A v d j = d) := by
  by_cases c : j = v ∧ 0 < v ∧ d < A v
  · obtain ⟨c1, c2, c3⟩ := c
    subst c1
    exact Or.inr ⟨rfl, c2, c3, dj_r_t c2 c3⟩
  · exact Or.inl (dj_r_n c)
theorem dj_r_0 (A : Nat → Nat) (d : Nat) : dj_r A 0 d = A := by
  funext j
  exact dj_r_n (fun h => absurd h.2.1 (by omega))
theorem dj_r_ge {A : Nat → Nat} {v d : Nat} (h : A v ≤ d) : dj_r A v d = A := by
  funext j
  exact dj_r_n (fun g => absurd g.2.2 (by omega))
def dj_tv (u c : Nat) : Nat := if 1 ≤ dj_lf u c then dj_lf u c else dj_lf c u
def dj_td (u c : Nat) : Nat := if 1 ≤ dj_lf u c then 0 else (dj_lf c u).log2
def dj_x (A : Nat → Nat) (u c : Nat) : Nat → Nat := dj_r A (dj_tv u c) (A u + dj_td u c)
theorem dj_x_le (A : Nat → Nat) (u c v : Nat) : dj_x A u c v ≤ A v := dj_r_le _ _ _ _
theorem dj_x_u (A : Nat → Nat) (u c : Nat) : dj_x A u c u = A u := by
  rcases dj_r_or A (dj_tv u c) (A u + dj_td u c) u with h | ⟨h1, h2, h3, h4⟩
  · exact h
  · rw [← h1] at h3; omega
theorem dj_tv_lt {u c : Nat} (hu : 2 ≤ u) (hu2 : u < 128) (hc : 2 ≤ c) (hc2 : c < 128) : dj_tv u c < 64 := by
  unfold dj_tv
  by_cases h : 1 ≤ dj_lf u c
  · rw [if_pos h]; exact dj_lf_lt hu2 hc
  · rw [if_neg h]; exact dj_lf_lt hc2 hu
theorem dj_td_le {u c : Nat} (hu : 2 ≤ u) (hc2 : c < 128) : dj_td u c ≤ 6 := by
  unfold dj_td
  by_cases h : 1 ≤ dj_lf u c
  · rw [if_pos h]; omega
  · rw [if_neg h]
    have := dj_lf_lt hc2 hu
    exact na_lg6 (by omega)
def dj_xs (w : Nat → Nat) (A : Nat → Nat) (u : Nat) : Nat → Nat → Nat
  | 0 => A
  | k + 1 => dj_x (dj_xs w A u k) u (w k)
theorem dj_xs_s {w A : Nat → Nat} {u k : Nat} : dj_xs w A u (k + 1) = dj_x (dj_xs w A u k) u (w k) := rfl
theorem dj_xs_le (w A : Nat → Nat) (u : Nat) : ∀ m v, dj_xs w A u m v ≤ A v := by
  intro m
  induction m with
  | zero => intro v; exact Nat.le_refl _
  | succ m ih => intro v; exact Nat.le_trans (dj_x_le _ _ _ _) (ih v)
theorem dj_xs_u (w A : Nat → Nat) (u : Nat) : ∀ m, dj_xs w A u m u = A u := by
  intro m
  induction m with
  | zero => rfl
  | succ m ih => rw [dj_xs_s, dj_x_u, ih]
theorem dj_xs_at (w A : Nat → Nat) (u : Nat) : ∀ m k, k < m → 1 ≤ dj_tv u (w k) → dj_xs w A u m (dj_tv u (w k)) ≤ A u + dj_td u (w k) := by
  intro m
  induction m with
  | zero => intro k hk; omega
  | succ m ih =>
    intro k hk h1
    by_cases e : k = m
    · subst e
      rw [dj_xs_s]
      have := dj_r_at (A := dj_xs w A u k) (v := dj_tv u (w k)) (d := dj_xs w A u k u + dj_td u (w k)) h1
      rw [dj_xs_u] at this
      unfold dj_x
      rw [dj_xs_u]
      exact this
    · exact Nat.le_trans (dj_x_le _ _ _ _) (ih k (by omega) h1)
theorem dj_xs_or (w A : Nat → Nat) (u : Nat) : ∀ m v, dj_xs w A u m v = A v ∨ ∃ k, k < m ∧ v = dj_tv u (w k) ∧ 1 ≤ v ∧ dj_xs w A u m v = A u + dj_td u (w k) := by
  intro m
  induction m with
  | zero => intro v; exact Or.inl rfl
  | succ m ih =>
    intro v
    rw [dj_xs_s]
    unfold dj_x
    rcases dj_r_or (dj_xs w A u m) (dj_tv u (w m)) (dj_xs w A u m u + dj_td u (w m)) v with h | ⟨h1, h2, h3, h4⟩
    · rw [h]
      rcases ih v with g | ⟨k, g1, g2⟩
      · exact Or.inl g
      · exact Or.inr ⟨k, by omega, g2⟩
    · refine Or.inr ⟨m, by omega, h1, by omega, ?_⟩
      rw [h4, dj_xs_u]
/-- Y's round over the codes 2 .. -/
def dj_rd (n : Nat) (w D : Nat → Nat) : Nat → Nat → Nat
  | 0 => D
  | j + 1 => dj_xs w (dj_rd n w D j) (j + 2) n
theorem dj_rd_s {n : Nat} {w D : Nat → Nat} {j : Nat} : dj_rd n w D (j + 1) = dj_xs w (dj_rd n w D j) (j + 2) n := rfl
theorem dj_rd_le (n : Nat) (w D : Nat → Nat) : ∀ j v, dj_rd n w D j v ≤ D v := by
  intro j
  induction j with
  | zero => intro v; exact Nat.le_refl _
  | succ j ih => intro v; exact Nat.le_trans (dj_xs_le _ _ _ _ _) (ih v)
theorem dj_rd_at {n : Nat} {w D : Nat → Nat} {x k : Nat} (hx : 2 ≤ x) (hk : k < n) (ht : 1 ≤ dj_tv x (w k)) : ∀ j, x < j + 2 → dj_rd n w D j (dj_tv x (w k)) ≤ D x + dj_td x (w k) := by
  intro j
  induction j with
  | zero => intro h; omega
  | succ j ih =>
    intro h
    rw [dj_rd_s]
    by_cases e : x = j + 2
    · subst e
      have a := dj_xs_at w (dj_rd n w D j) (j + 2) n k hk ht
      have b := dj_rd_le n w D j (j + 2)
      omega
    · exact Nat.le_trans (dj_xs_le _ _ _ _ _) (ih (by omega))
def dj_yr (n : Nat) (w D : Nat → Nat) : Nat → Nat → Nat
  | 0 => D
  | r + 1 => dj_rd n w (dj_yr n w D r) 62
theorem dj_yr_s {n : Nat} {w D : Nat → Nat} {r : Nat} : dj_yr n w D (r + 1) = dj_rd n w (dj_yr n w D r) 62 := rfl
theorem dj_yr_le (n : Nat) (w D : Nat → Nat) (r : Nat) : ∀ e v, dj_yr n w D (r + e) v ≤ dj_yr n w D r v := by
  intro e
  induction e with
  | zero => intro v; exact Nat.le_refl _
  | succ e ih => intro v; exact Nat.le_trans (dj_rd_le _ _ _ _ _) (ih v)
/-- what the pairs of words give at first: P the pairs gone through -/
def dj_In (n : Nat) (w : Nat → Nat) (far : Nat) (P : Nat → Nat → Prop) (A : Nat → Nat) : Prop :=
  (∀ v, A v = far ∨ ∃ i j, i < n ∧ j < n ∧ w i ≠ w j ∧ 1 ≤ v ∧ v = dj_lf (w i) (w j) ∧ A v = (w i).log2) ∧
  (∀ i j, i < n → j < n → P i j → w i ≠ w j → 1 ≤ dj_lf (w i) (w j) → A (dj_lf (w i) (w j)) ≤ (w i).log2)
theorem dj_In_0 (n : Nat) (w : Nat → Nat) (far : Nat) {P : Nat → Nat → Prop} (hP : ∀ i j, i < n → j < n → ¬ P i j) : dj_In n w far P (fun _ => far) :=
  ⟨fun _ => Or.inl rfl, fun i j hi hj h => absurd h (hP i j hi hj)⟩
theorem dj_In_r {n : Nat} {w : Nat → Nat} {far : Nat} {P P' : Nat → Nat → Prop} {A : Nat → Nat} {i j : Nat} (h : dj_In n w far P A) (hi : i < n) (hj : j < n) (hn : w i ≠ w j) (hP : ∀ a b, a < n → b < n → P' a b → P a b ∨ (a = i ∧ b = j)) : dj_In n w far P' (dj_r A (dj_lf (w i) (w j)) (w i).log2) := by
  refine ⟨fun v => ?_, fun a b ha hb hp hne h1 => ?_⟩
  · rcases dj_r_or A (dj_lf (w i) (w j)) (w i).log2 v with g | ⟨g1, g2, g3, g4⟩
    · rw [g]; exact h.1 v
    · exact Or.inr ⟨i, j, hi, hj, hn, by omega, g1, g4⟩
  · rcases hP a b ha hb hp with q | ⟨q1, q2⟩
    · exact Nat.le_trans (dj_r_le _ _ _ _) (h.2 a b ha hb q hne h1)
    · subst q1 q2
      exact dj_r_at h1
theorem dj_In_n {n : Nat} {w : Nat → Nat} {far : Nat} {P P' : Nat → Nat → Prop} {A : Nat → Nat} {i j : Nat} (h : dj_In n w far P A) (hn : w i = w j ∨ dj_lf (w i) (w j) = 0) (hP : ∀ a b, a < n → b < n → P' a b → P a b ∨ (a = i ∧ b = j)) : dj_In n w far P' A := by
  refine ⟨h.1, fun a b ha hb hp hne h1 => ?_⟩
  rcases hP a b ha hb hp with q | ⟨q1, q2⟩
  · exact h.2 a b ha hb q hne h1
  · subst q1 q2
    rcases hn with hn | hn
    · exact absurd hn hne
    · omega
def dj_b (b : Bool) : Nat := if b = true then 1 else 0
def dj_I (n : Nat) (w D : Nat → Nat) (r : Nat) (A : Nat → Nat) (dn : Nat → Bool) : Prop :=
  (∀ i j, i < n → j < n → w i ≠ w j → 1 ≤ dj_lf (w i) (w j) → A (dj_lf (w i) (w j)) ≤ (w i).log2) ∧
  (∀ u, dn u = true → 2 ≤ u ∧ u < 64 ∧ A u < 10000) ∧
  (∀ u v, dn u = true → dn v = false → A u ≤ A v) ∧
  (∀ u k, dn u = true → k < n → 1 ≤ dj_tv u (w k) → A (dj_tv u (w k)) ≤ A u + dj_td u (w k)) ∧
  (∀ v, A v < 10000 → 1 ≤ v ∧ v < 64 ∧ dj_yr n w D r v ≤ A v ∧ A v ≤ 6 + 6 * r) ∧
  (∀ v, A v ≤ 10000) ∧
  ps_sm (fun v => dj_b (dn v)) 64 = r
theorem dj_cnt (dn : Nat → Bool) : ∀ m, ps_sm (fun v => dj_b (dn v)) m ≤ m := by
  intro m
  induction m with
  | zero => exact Nat.le_refl _
  | succ m ih =>
    rw [ps_s]
    have : dj_b (dn m) ≤ 1 := by
      unfold dj_b
      by_cases c : dn m = true
      · rw [if_pos c]; exact Nat.le_refl _
      · rw [if_neg c]; omega
    omega
theorem dj_I_r {n : Nat} {w D : Nat → Nat} {r : Nat} {A : Nat → Nat} {dn : Nat → Bool} (h : dj_I n w D r A dn) : r ≤ 64 := by
  have := dj_cnt dn 64
  rw [h.2.2.2.2.2.2] at this
  exact this
def dj_p (dn : Nat → Bool) (x : Nat) : Nat → Bool := fun v => if v = x then true else dn v
theorem dj_p_x (dn : Nat → Bool) (x : Nat) : dj_p dn x x = true := if_pos rfl
theorem dj_p_n {dn : Nat → Bool} {x v : Nat} (h : v ≠ x) : dj_p dn x v = dn v := if_neg h
theorem dj_p_t {dn : Nat → Bool} {x v : Nat} (h : dj_p dn x v = true) : v = x ∨ dn v = true := by
  by_cases c : v = x
  · exact Or.inl c
  · rw [dj_p_n c] at h; exact Or.inr h
theorem dj_p_f {dn : Nat → Bool} {x v : Nat} (h : dj_p dn x v = false) : v ≠ x ∧ dn v = false := by
  by_cases c : v = x
  · subst c; rw [dj_p_x] at h; exact absurd h (by decide)
  · rw [dj_p_n c] at h; exact ⟨c, h⟩
theorem dj_step {n : Nat} {w D : Nat → Nat} (hw : rd_W n w) {r : Nat} {A : Nat → Nat} {dn : Nat → Bool} {x : Nat} (h : dj_I n w D r A dn) (h2 : 2 ≤ x) (hd : dn x = false) (hf : A x < 10000) (hm : ∀ v, dn v = false → A v < 10000 → A x ≤ A v) : dj_I n w D (r + 1) (dj_xs w A x n) (dj_p dn x) := by
  obtain ⟨i1, i2, i3, i4, i5, i6, i7⟩ := h
  have x64 : x < 64 := (i5 x hf).2.1
  have R : ∀ v, dj_xs w A x n v = A v ∨ A x ≤ dj_xs w A x n v := by
    intro v
    rcases dj_xs_or w A x n v with g | ⟨k, g1, g2, g3, g4⟩
    · exact Or.inl g
    · right; omega
  have U : ∀ u, dn u = true → dj_xs w A x n u = A u := by
    intro u hu
    have a := i3 u x hu hd
    have b := dj_xs_le w A x n u
    rcases R u with g | g
    · exact g
    · omega
  have X : dj_xs w A x n x = A x := dj_xs_u w A x n
  refine ⟨?_, ?_, ?_, ?_, ?_, ?_, ?_⟩
  · intro i j hi hj hn h1
    exact Nat.le_trans (dj_xs_le _ _ _ _ _) (i1 i j hi hj hn h1)
  · intro u hu
    rcases dj_p_t hu with e | e
    · subst e; rw [X]; exact ⟨h2, x64, hf⟩
    · rw [U u e]; exact i2 u e
  · intro u v hu hv
    have ⟨v1, v2⟩ := dj_p_f hv
    rcases dj_p_t hu with e | e
    · subst e
      rw [X]
      rcases R v with g | g
      · rw [g]
        by_cases q : A v < 10000
        · exact hm v v2 q
        · omega
      · exact g
    · rw [U u e]
      rcases R v with g | g
      · rw [g]; exact i3 u v e v2
      · have := i3 u x e hd
        omega
  · intro u k hu hk h1
    rcases dj_p_t hu with e | e
    · subst e
      rw [X]
      exact dj_xs_at w A u n k hk h1
    · rw [U u e]
      exact Nat.le_trans (dj_xs_le _ _ _ _ _) (i4 u k e hk h1)
  · intro v hv
    rcases dj_xs_or w A x n v with g | ⟨k, g1, g2, g3, g4⟩
    · rw [g] at hv ⊢
      have ⟨a, b, c, d⟩ := i5 v hv
      refine ⟨a, b, Nat.le_trans (dj_yr_le n w D r 1 v) c, by omega⟩
    · have ⟨a, b, c, d⟩ := i5 x hf
      have ⟨w1, w2⟩ := hw.1 k g1
      have e1 := dj_tv_lt h2 (by omega) w1 w2
      have e2 := dj_td_le (u := x) h2 w2
      refine ⟨g3, by omega, ?_, by omega⟩
      have e3 := dj_rd_at (w := w) (D := dj_yr n w D r) h2 g1 (by omega) 62 (by omega)
      rw [dj_yr_s, g4, g2]
      omega
  · intro v
    exact Nat.le_trans (dj_xs_le _ _ _ _ _) (i6 v)
  · rw [← i7]
    refine ps_put x64 (fun j _ hj => ?_) ?_
    · rw [dj_p_n hj]
    · rw [dj_p_x, hd]; rfl
theorem dj_fin {n : Nat} {w D : Nat → Nat} {r : Nat} {A : Nat → Nat} {dn : Nat → Bool} {P : Nat → Nat → Prop} (h : dj_I n w D r A dn) (hD : dj_In n w 999 P D) (he : ∀ v, dn v = false → A v < 10000 → A 1 ≤ A v) :
    (A 1 < 10000 ∧ dj_yr n w D 64 1 = A 1 ∧ A 1 < 999) ∨ (A 1 = 10000 ∧ dj_yr n w D 64 1 = 999) := by
  have hr := dj_I_r h
  obtain ⟨i1, i2, i3, i4, i5, i6, i7⟩ := h
  have lo : ∀ E : Nat → Nat, (∀ v, E v < 999 → A v ≤ E v ∨ A 1 ≤ E v) → ∀ u c, c < n → ∀ v, dj_x E u (w c) v < 999 → A v ≤ dj_x E u (w c) v ∨ A 1 ≤ dj_x E u (w c) v := by
    intro E hE u c hc v hv
    unfold dj_x at hv ⊢
    rcases dj_r_or E (dj_tv u (w c)) (E u + dj_td u (w c)) v with g | ⟨g1, g2, g3, g4⟩
    · rw [g] at hv ⊢; exact hE v hv
    · rw [g4] at hv ⊢
      rcases hE u (by omega) with q | q
      · by_cases z : A 1 ≤ A u
        · right; omega
        · have f := i6 1
          have du : dn u = true := by
            cases e : dn u with
            | true => rfl
            | false => exact absurd (he u e (by omega)) z
          have := i4 u c du hc g2
          left
          rw [← g1] at this
          omega
      · right; omega
  have los : ∀ E : Nat → Nat, (∀ v, E v < 999 → A v ≤ E v ∨ A 1 ≤ E v) → ∀ u m, m ≤ n → ∀ v, dj_xs w E u m v < 999 → A v ≤ dj_xs w E u m v ∨ A 1 ≤ dj_xs w E u m v := by
    intro E hE u m
    induction m with
    | zero => intro _; exact hE
    | succ m ih =>
      intro hm
      exact lo _ (ih (by omega)) u m (by omega)
  have lord : ∀ E : Nat → Nat, (∀ v, E v < 999 → A v ≤ E v ∨ A 1 ≤ E v) → ∀ j v, dj_rd n w E j v < 999 → A v ≤ dj_rd n w E j v ∨ A 1 ≤ dj_rd n w E j v := by
    intro E hE j
    induction j with
    | zero => exact hE
    | succ j ih => exact los _ ih (j + 2) n (Nat.le_refl _)
  have loyr : ∀ s v, dj_yr n w D s v < 999 → A v ≤ dj_yr n w D s v ∨ A 1 ≤ dj_yr n w D s v := by
    intro s
    induction s with
    | zero =>
      intro v hv
      show A v ≤ D v ∨ A 1 ≤ D v
      have hv' : D v < 999 := hv
      rcases hD.1 v with g | ⟨i, j, hi, hj, hn, h1, hl, g⟩
      · omega
      · left
        rw [g, hl]
        exact i1 i j hi hj hn (by omega)
    | succ s ih => exact lord _ ih 62
  have top : dj_yr n w D 64 1 ≤ 999 := by
    have a := dj_yr_le n w D 0 64 1
    have b : D 1 ≤ 999 := by
      rcases hD.1 1 with g | ⟨i, j, hi, hj, hn, h1, hl, g⟩
      · omega
      · exact absurd (dj_lf_one hl.symm) hn
    rw [Nat.zero_add] at a
    exact Nat.le_trans a b
  have L := loyr 64 1
  by_cases c : A 1 < 10000
  · left
    have ⟨a1, a2, a3, a4⟩ := i5 1 c
    have m := dj_yr_le n w D r (64 - r) 1
    rw [show r + (64 - r) = 64 from by omega] at m
    refine ⟨c, ?_, by omega⟩
    rcases L (by omega) with q | q <;> omega
  · right
    have := i6 1
    refine ⟨by omega, ?_⟩
    by_cases z : dj_yr n w D 64 1 < 999
    · rcases L z with q | q <;> omega
    · omega
end
section
/-! words in order, pure -/
def so_Mem (n : Nat) (a b : Nat → Nat) : Prop := ∀ x, (∃ k, k < n ∧ a k = x) ↔ (∃ k, k < n ∧ b k = x)
def so_Str (n : Nat) (a : Nat → Nat) : Prop := ∀ i j, i < j → j < n → a i < a j
def so_Inj (n : Nat) (a : Nat → Nat) : Prop := ∀ i j, i < n → j < n → a i = a j → i = j
theorem so_Str_inj {n : Nat} {a : Nat → Nat} (h : so_Str n a) : so_Inj n a := by
  intro i j hi hj e
  rcases Nat.lt_trichotomy i j with g | g | g
  · have := h i j g hj; omega
  · exact g
  · have := h j i g hi; omega
theorem so_uniq {n : Nat} {a b : Nat → Nat} (ha : so_Str n a) (hb : so_Str n b) (h : so_Mem n a b) : ∀ k, k < n → a k = b k := by
  intro k
  induction k using Nat.strongRecOn with
  | ind k ih =>
    intro hk
    have A : b k ≤ a k := by
      obtain ⟨j, hj, e⟩ := (h (a k)).mp ⟨k, hk, rfl⟩
      rcases Nat.lt_or_ge j k with g | g
      · have i1 := ih j g hj
        have i2 := ha j k g hk
        omega
      · by_cases q : j = k
        · subst q; omega
        · have := hb k j (by omega) hj
          omega
    have B : a k ≤ b k := by
      obtain ⟨j, hj, e⟩ := (h (b k)).mpr ⟨k, hk, rfl⟩
      rcases Nat.lt_or_ge j k with g | g
      · have i1 := ih j g hj
        have i2 := hb j k g hk
        omega
      · by_cases q : j = k
        · subst q; omega
        · have := ha k j (by omega) hj
          omega
    omega
def so_sw (a : Nat → Nat) (i j : Nat) : Nat → Nat := fun k => if k = j then a i else if k = i then a j else a k
theorem so_sw_j (a : Nat → Nat) (i j : Nat) : so_sw a i j j = a i := if_pos rfl
theorem so_sw_i {a : Nat → Nat} {i j : Nat} (h : i ≠ j) : so_sw a i j i = a j := by
  unfold so_sw
  rw [if_neg h, if_pos rfl]
theorem so_sw_k {a : Nat → Nat} {i j k : Nat} (h1 : k ≠ i) (h2 : k ≠ j) : so_sw a i j k = a k := by
  unfold so_sw
  rw [if_neg h2, if_neg h1]
theorem so_sw_mem {n : Nat} {a : Nat → Nat} {i j : Nat} (hi : i < n) (hj : j < n) (hij : i ≠ j) : so_Mem n a (so_sw a i j) := by
  intro x
  constructor
  · rintro ⟨k, hk, e⟩
    by_cases c1 : k = i
    · subst c1; exact ⟨j, hj, by rw [so_sw_j]; exact e⟩
    · by_cases c2 : k = j
      · subst c2; exact ⟨i, hi, by rw [so_sw_i hij]; exact e⟩
      · exact ⟨k, hk, by rw [so_sw_k c1 c2]; exact e⟩
  · rintro ⟨k, hk, e⟩
    by_cases c1 : k = i
    · subst c1; exact ⟨j, hj, by rw [so_sw_i hij] at e; exact e⟩
    · by_cases c2 : k = j
      · subst c2; exact ⟨i, hi, by rw [so_sw_j] at e; exact e⟩
      · exact ⟨k, hk, by rw [so_sw_k c1 c2] at e; exact e⟩
theorem so_sw_inj {n : Nat} {a : Nat → Nat} {i j : Nat} (hi : i < n) (hj : j < n) (hij : i ≠ j) (h : so_Inj n a) : so_Inj n (so_sw a i j) := by
  have P : ∀ k, k < n → ∃ q, q < n ∧ so_sw a i j k = a q ∧ (k = i → q = j) ∧ (k = j → q = i) ∧ (k ≠ i → k ≠ j → q = k) := by
    intro k hk
    by_cases c1 : k = i
    · subst c1; exact ⟨j, hj, so_sw_i hij, fun _ => rfl, fun g => absurd g hij, fun g => absurd rfl g⟩
    · by_cases c2 : k = j
      · subst c2; exact ⟨i, hi, so_sw_j _ _ _, fun g => absurd g c1, fun _ => rfl, fun _ g => absurd rfl g⟩
      · exact ⟨k, hk, so_sw_k c1 c2, fun g => absurd g c1, fun g => absurd g c2, fun _ _ => rfl⟩
  intro x y hx hy e
  obtain ⟨p, p1, p2, p3, p4, p5⟩ := P x hx
  obtain ⟨q, q1, q2, q3, q4, q5⟩ := P y hy
  have := h p q p1 q1 (by rw [← p2, ← q2]; exact e)
  by_cases c1 : x = i
  · by_cases c2 : y = i
    · omega
    · by_cases c3 : y = j
      · have := p3 c1; have := q4 c3; omega
      · have := p3 c1; have := q5 c2 c3; omega
  · by_cases c2 : x = j
    · by_cases c3 : y = i
      · have := p4 c2; have := q3 c3; omega
      · by_cases c4 : y = j
        · omega
        · have := p4 c2; have := q5 c3 c4; omega
    · have hp := p5 c1 c2
      by_cases c3 : y = i
      · have := q3 c3; omega
      · by_cases c4 : y = j
        · have := q4 c4; omega
        · have := q5 c3 c4; omega
theorem so_Mem_r {n : Nat} (a : Nat → Nat) : so_Mem n a a := fun _ => Iff.rfl
theorem so_Mem_t {n : Nat} {a b c : Nat → Nat} (h : so_Mem n a b) (g : so_Mem n b c) : so_Mem n a c := fun x => (h x).trans (g x)
theorem so_Mem_s {n : Nat} {a b : Nat → Nat} (h : so_Mem n a b) : so_Mem n b a := fun x => (h x).symm
/-- the sort's state: i the outer, j the inner counter -/
def so_S (n : Nat) (a0 : Nat → Nat) (i j : Nat) (a : Nat → Nat) : Prop :=
  so_Mem n a0 a ∧ so_Inj n a ∧ (∀ p q, p < i → p < q → q < n → a p ≤ a q) ∧ (∀ q, i < q → q < j → a i ≤ a q)
theorem so_S_keep {n : Nat} {a0 a : Nat → Nat} {i j : Nat} (h : so_S n a0 i j a) (hl : a i ≤ a j) : so_S n a0 i (j + 1) a := by
  obtain ⟨h1, h2, h3, h4⟩ := h
  refine ⟨h1, h2, h3, fun q q1 q2 => ?_⟩
  by_cases e : q = j
  · subst e; exact hl
  · exact h4 q q1 (by omega)
theorem so_S_swap {n : Nat} {a0 a : Nat → Nat} {i j : Nat} (h : so_S n a0 i j a) (hij : i < j) (hj : j < n) (hl : a j < a i) : so_S n a0 i (j + 1) (so_sw a i j) := by
  obtain ⟨h1, h2, h3, h4⟩ := h
  have hne : i ≠ j := by omega
  refine ⟨so_Mem_t h1 (so_sw_mem (by omega) hj hne), so_sw_inj (by omega) hj hne h2, ?_, ?_⟩
  · intro p q hp hpq hq
    rw [so_sw_k (k := p) (by omega) (by omega)]
    by_cases c1 : q = i
    · subst c1; rw [so_sw_i hne]; exact h3 p j hp (by omega) hj
    · by_cases c2 : q = j
      · subst c2; rw [so_sw_j]; exact h3 p i hp (by omega) (by omega)
      · rw [so_sw_k c1 c2]; exact h3 p q hp hpq hq
  · intro q q1 q2
    rw [so_sw_i hne]
    by_cases e : q = j
    · subst e; rw [so_sw_j]; omega
    · rw [so_sw_k (by omega) e]
      have := h4 q q1 (by omega)
      omega
theorem so_S_next {n : Nat} {a0 a : Nat → Nat} {i j : Nat} (h : so_S n a0 i j a) (hj : n ≤ j) : so_S n a0 (i + 1) (i + 1 + 1) a := by
  obtain ⟨h1, h2, h3, h4⟩ := h
  refine ⟨h1, h2, ?_, fun q q1 q2 => absurd q2 (by omega)⟩
  intro p q hp hpq hq
  by_cases e : p = i
  · subst e; exact h4 q hpq (by omega)
  · exact h3 p q (by omega) hpq hq
theorem so_S_end {n : Nat} {a0 a : Nat → Nat} {i j : Nat} (h : so_S n a0 i j a) (hi : n ≤ i) : so_Str n a ∧ so_Mem n a0 a := by
  obtain ⟨h1, h2, h3, h4⟩ := h
  refine ⟨fun p q hpq hq => ?_, h1⟩
  have := h3 p q (by omega) hpq hq
  rcases Nat.lt_or_ge (a p) (a q) with g | g
  · exact g
  · have := h2 p q (by omega) hq (by omega)
    omega
theorem so_S_0 {n : Nat} {a0 : Nat → Nat} (h : so_Inj n a0) : so_S n a0 0 1 a0 :=
  ⟨so_Mem_r _, h, fun p q hp => absurd hp (by omega), fun q q1 q2 => absurd q2 (by omega)⟩
/-! one word more, one word less -/
def so_ins (w : Nat → Nat) (k c : Nat) : Nat → Nat := fun j => if j < k then w j else if j = k then c else w (j - 1)
def so_del (w : Nat → Nat) (k : Nat) : Nat → Nat := fun j => if j < k then w j else w (j + 1)
theorem so_ins_lt {w : Nat → Nat} {k c j : Nat} (h : j < k) : so_ins w k c j = w j := if_pos h
theorem so_ins_k {w : Nat → Nat} {k c : Nat} : so_ins w k c k = c := by
  unfold so_ins
  rw [if_neg (by omega), if_pos rfl]
theorem so_ins_gt {w : Nat → Nat} {k c j : Nat} (h : k < j) : so_ins w k c j = w (j - 1) := by
  unfold so_ins
  rw [if_neg (by omega), if_neg (by omega)]
theorem so_del_lt {w : Nat → Nat} {k j : Nat} (h : j < k) : so_del w k j = w j := if_pos h
theorem so_del_ge {w : Nat → Nat} {k j : Nat} (h : k ≤ j) : so_del w k j = w (j + 1) := if_neg (by omega)
/-- where a word belongs -/
theorem so_pos {n : Nat} {w : Nat → Nat} (hs : so_Str n w) (c : Nat) : ∃ k, k ≤ n ∧ (∀ j, j < k → w j < c) ∧ (k < n → c ≤ w k) := by
  induction n with
  | zero => exact ⟨0, by omega, fun j hj => absurd hj (by omega), fun h => absurd h (by omega)⟩
  | succ n ih =>
    obtain ⟨k, k1, k2, k3⟩ := ih (fun i j hij hj => hs i j hij (by omega))
    by_cases e : k < n
    · exact ⟨k, by omega, k2, fun _ => k3 e⟩
    · by_cases g : c ≤ w n
      · refine ⟨n, by omega, fun j hj => k2 j (by omega), fun _ => g⟩
      · refine ⟨n + 1, by omega, fun j hj => ?_, fun h => absurd h (by omega)⟩
        by_cases q : j = n
        · subst q; omega
        · exact k2 j (by omega)
theorem so_ins_str {n : Nat} {w : Nat → Nat} {k c : Nat} (hs : so_Str n w) (k1 : k ≤ n) (k2 : ∀ j, j < k → w j < c) (k3 : k < n → c < w k) : so_Str (n + 1) (so_ins w k c) := by
  intro i j hij hj
  have mono : ∀ a b, a ≤ b → b < n → w a ≤ w b := by
    intro a b hab hb
    by_cases e : a = b
    · subst e; exact Nat.le_refl _
    · have := hs a b (by omega) hb; omega
  rcases Nat.lt_trichotomy j k with g | g | g
  · rw [so_ins_lt g, so_ins_lt (by omega)]; exact hs i j hij (by omega)
  · subst g; rw [so_ins_k, so_ins_lt hij]; exact k2 i hij
  · rw [so_ins_gt g]
    rcases Nat.lt_trichotomy i k with q | q | q
    · rw [so_ins_lt q]; exact hs i (j - 1) (by omega) (by omega)
    · subst q
      rw [so_ins_k]
      have a := k3 (by omega)
      have b := mono i (j - 1) (by omega) (by omega)
      omega
    · rw [so_ins_gt q]; exact hs (i - 1) (j - 1) (by omega) (by omega)
theorem so_ins_mem {n : Nat} {w : Nat → Nat} {k c : Nat} (k1 : k ≤ n) (x : Nat) : (∃ j, j < n + 1 ∧ so_ins w k c j = x) ↔ (x = c ∨ ∃ j, j < n ∧ w j = x) := by
  constructor
  · rintro ⟨j, hj, e⟩
    rcases Nat.lt_trichotomy j k with g | g | g
    · rw [so_ins_lt g] at e; exact Or.inr ⟨j, by omega, e⟩
    · subst g; rw [so_ins_k] at e; exact Or.inl e.symm
    · rw [so_ins_gt g] at e; exact Or.inr ⟨j - 1, by omega, e⟩
  · rintro (e | ⟨j, hj, e⟩)
    · subst e; exact ⟨k, by omega, so_ins_k⟩
    · by_cases g : j < k
      · exact ⟨j, by omega, by rw [so_ins_lt g]; exact e⟩
      · exact ⟨j + 1, by omega, by rw [so_ins_gt (by omega), Nat.add_sub_cancel]; exact e⟩
theorem so_put_mem {n : Nat} {w b : Nat → Nat} {c : Nat} (hb : ∀ j, j < n → b j = w j) (hc : b n = c) (x : Nat) : (∃ j, j < n + 1 ∧ b j = x) ↔ (x = c ∨ ∃ j, j < n ∧ w j = x) := by
  constructor
  · rintro ⟨j, hj, e⟩
    by_cases g : j = n
    · subst g; exact Or.inl (by rw [← e, hc])
    · exact Or.inr ⟨j, by omega, by rw [← hb j (by omega)]; exact e⟩
  · rintro (e | ⟨j, hj, e⟩)
    · subst e; exact ⟨n, by omega, hc⟩
    · exact ⟨j, by omega, by rw [hb j hj]; exact e⟩
theorem so_put_inj {n : Nat} {w b : Nat → Nat} {c : Nat} (hs : so_Str n w) (hb : ∀ j, j < n → b j = w j) (hc : b n = c) (hn : ∀ j, j < n → w j ≠ c) : so_Inj (n + 1) b := by
  intro i j hi hj e
  by_cases c1 : i = n
  · by_cases c2 : j = n
    · omega
    · subst c1
      rw [hc, hb j (by omega)] at e
      exact absurd e.symm (hn j (by omega))
  · by_cases c2 : j = n
    · subst c2
      rw [hc, hb i (by omega)] at e
      exact absurd e (hn i (by omega))
    · rw [hb i (by omega), hb j (by omega)] at e
      exact so_Str_inj hs i j (by omega) (by omega) e
theorem so_del_str {n : Nat} {w : Nat → Nat} {k : Nat} (hs : so_Str (n + 1) w) : so_Str n (so_del w k) := by
  intro i j hij hj
  by_cases g : j < k
  · rw [so_del_lt g, so_del_lt (by omega)]; exact hs i j hij (by omega)
  · rw [so_del_ge (k := k) (j := j) (by omega)]
    by_cases q : i < k
    · rw [so_del_lt q]; exact hs i (j + 1) (by omega) (by omega)
    · rw [so_del_ge (k := k) (j := i) (by omega)]; exact hs (i + 1) (j + 1) (by omega) (by omega)
/-! a word turned round -/
def so_tn : Nat → Nat → Nat → Nat
  | 0 => fun _ o => o
  | f + 1 => fun r o => if r ≤ 1 then o else so_tn f (r / 2) (2 * o + r % 2)
theorem so_tn_s {f r o : Nat} : so_tn (f + 1) r o = if r ≤ 1 then o else so_tn f (r / 2) (2 * o + r % 2) := rfl
theorem so_tn_1 {f r o : Nat} (h : r ≤ 1) : so_tn f r o = o := by
  cases f with
  | zero => rfl
  | succ f => rw [so_tn_s, if_pos h]
def so_rv (c : Nat) : Nat := so_tn 6 c 1
theorem so_rv_in : ∀ c, c < 128 → 2 ≤ c → 2 ≤ so_rv c ∧ so_rv c < 128 := by decide +kernel
theorem so_rv_rv : ∀ c, c < 128 → 2 ≤ c → so_rv (so_rv c) = c := by decide +kernel
end
section
/-! the relation -/
def re_A (n : Nat) (w : Nat → Nat) (a : Nat → Int32) : Prop := ∀ k, k < n → a k = nI (w k)
def i_Rel (k : Nat) (u : SX) (v : SY) : Prop := ∃ (n L B : Nat) (w : Nat → Nat), n ≤ 6 ∧ L ≤ 16 ∧ B < 2 ^ L ∧ rd_W n w ∧ u.1 = nI n ∧ u.2.1 = nI L ∧ u.2.2.1 = nI B ∧ re_A n w u.2.2.2.2.2.1 ∧ v.1 = nI n ∧ v.2.1 = nI (2 ^ L + B) ∧ re_A n w v.2.2.1 ∧ k = k
section
variable {xc xl xb xf xt : Int32} {ao au aw ae asx am ap aq az ah ad : Nat → Int32} {yc yr : Int32} {vw vy vl va : Nat → Int32}
theorem re_mk {k n L B : Nat} {w : Nat → Nat} (hn : n ≤ 6) (hL : L ≤ 16) (hB : B < 2 ^ L) (hW : rd_W n w) (hx : re_A n w ao) (hy : re_A n w vw) : i_Rel k (nI n, nI L, nI B, xf, xt, ao, au, aw, ae, asx, am, ap, aq, az, ah, ad) (nI n, nI (2 ^ L + B), vw, vy, vl, va) :=
  ⟨n, L, B, w, hn, hL, hB, hW, rfl, rfl, rfl, hx, rfl, rfl, hy, rfl⟩
end
theorem re_el {P : SX → SY → Prop} (h : ∀ (n L B : Nat) (w : Nat → Nat) (xf xt : Int32) (ao au aw ae asx am ap aq az ah ad : Nat → Int32) (vw vy vl va : Nat → Int32), n ≤ 6 → L ≤ 16 → B < 2 ^ L → rd_W n w → re_A n w ao → re_A n w vw → P (nI n, nI L, nI B, xf, xt, ao, au, aw, ae, asx, am, ap, aq, az, ah, ad) (nI n, nI (2 ^ L + B), vw, vy, vl, va)) {k : Nat} {u : SX} {v : SY} (I : i_Rel k u v) : P u v := by
  obtain ⟨xc, xl, xb, xf, xt, ao, au, aw, ae, asx, am, ap, aq, az, ah, ad⟩ := u
  obtain ⟨yc, yr, vw, vy, vl, va⟩ := v
  obtain ⟨n, L, B, w, hn, hL, hB, hW, e1, e2, e3, hx, e4, e5, hy, _⟩ := I
  have H := h n L B w xf xt ao au aw ae asx am ap aq az ah ad vw vy vl va hn hL hB hW hx hy
  have e1 : xc = nI n := e1
  have e2 : xl = nI L := e2
  have e3 : xb = nI B := e3
  have e4 : yc = nI n := e4
  have e5 : yr = nI (2 ^ L + B) := e5
  rw [e1, e2, e3, e4, e5]
  exact H
theorem i_up {k : Nat} {u : SX} {v : SY} (h : i_Rel k u v) : i_Rel (k + 3) u v := by
  obtain ⟨n, L, B, w, hn, hL, hB, hW, e1, e2, e3, hx, e4, e5, hy, _⟩ := h
  exact ⟨n, L, B, w, hn, hL, hB, hW, e1, e2, e3, hx, e4, e5, hy, rfl⟩
theorem i_vc0 : wpX_init (fun u => wpY_init (fun v => i_Rel 0 u v)) :=
  ⟨0, 0, 0, fun _ => 0, by omega, by omega, by decide, ⟨fun k hk => absurd hk (by omega), fun i j _ hj => absurd hj (by omega)⟩, rfl, rfl, rfl, fun k hk => absurd hk (by omega), rfl, rfl, fun k hk => absurd hk (by omega), rfl⟩
section
variable {xc xl xb xf xt : Int32} {ao au aw ae asx am ap aq az ah ad : Nat → Int32} {yc yr : Int32} {vw vy vl va : Nat → Int32}
/-! X: numberOf, add, remove -/
theorem xw_num {n k : Nat} {c : Int32} (hn : n ≤ 6) (k1 : k ≤ n) (k2 : ∀ j, j < k → ¬ c ≤ ao j) (k3 : k < n → c ≤ ao k) {post : Int32 → Prop} (h : post (nI k)) : wpX_numberOf post (nI n, xl, xb, xf, xt, ao, au, aw, ae, asx, am, ap, aq, az, ah, ad) c := by
  have H : ∀ d i, i + d = k → wX_numberOf_2 post c (nI n) xl xb xf xt ao au aw ae asx am ap aq az ah ad (d + 1) (nI i) := by
    intro d
    induction d with
    | zero =>
      intro i hi
      have e : i = k := by omega
      subst e
      refine pk_le n i (fun _ => h) (fun q => ⟨vp_in_nI (by omega) (by omega), br_t ?_ h⟩)
      rw [nI_clamp (by omega)]
      exact k3 q
    | succ d ih =>
      intro i hi
      refine pk_le n i (fun q => absurd q (by omega)) (fun q => ⟨vp_in_nI (by omega) (by omega), br_f ?_ (nm_r (nI_1 i) (ih (i + 1) (by omega)))⟩)
      rw [nI_clamp (by omega)]
      exact k2 i (by omega)
  exact ⟨k + 1, H k 0 (by omega)⟩
theorem xw_add57 {n k c : Nat} {w : Nat → Nat} (hn : n < 6) (hc : c < 128) (hw : ∀ k, k < n → w k < 128) {post : Int32 → SX → Prop} (h : ∀ ao', re_A (n + 1) (so_ins w k c) ao' → post (nI k) (nI (n + 1), xl, xb, xf, xt, ao', au, aw, ae, asx, am, ap, aq, az, ah, ad)) : ∀ d ao fuel, k + d ≤ n → d < fuel → (∀ j, j < k + d → ao j = nI (w j)) → (∀ j, k + d < j → j ≤ n → ao j = nI (w (j - 1))) → wX_add_57 post (nI c) (nI k) (nI n) xl xb xf xt fuel (nI (k + d)) ao au aw ae asx am ap aq az ah ad := by
  intro d
  induction d with
  | zero =>
    intro ao fuel hd hf h1 h2
    obtain ⟨m, rfl⟩ := na_ex1 hf
    refine pk_le (k + 0) k (fun _ => ⟨vp_in_nI (by omega) (by omega), fun a ea => nm_r (nI_1 n) (h a ?_)⟩) (fun q => absurd q (by omega))
    intro j hj
    rw [ea, nI_clamp (by omega), na_sh2 hc]
    rcases Nat.lt_trichotomy j k with g | g | g
    · rw [pk_un (by omega), so_ins_lt g]; exact h1 j (by omega)
    · subst g; rw [pk_us, so_ins_k]
    · rw [pk_un (by omega), so_ins_gt g]; exact h2 j (by omega) (by omega)
  | succ d ih =>
    intro ao fuel hd hf h1 h2
    obtain ⟨m, rfl⟩ := na_ex1 (n := fuel) (by omega)
    have e1 : nI (k + (d + 1)) - 1 = nI (k + d) := nI_pred (k + d)
    have e2 : nI (k + (d + 1)) + (-1) = nI (k + d) := pk_m1 (k + d)
    refine pk_le (k + (d + 1)) k (fun q => absurd q (by omega)) (fun _ => ⟨?_, vp_in_nI (by omega) (by omega), fun a ea => nm_r e2 (ih a m (by omega) (by omega) ?_ ?_)⟩)
    · rw [e1]; exact vp_in_nI (by omega) (by omega)
    · intro j hj
      rw [ea, nI_clamp (by omega), pk_un (by omega)]
      exact h1 j (by omega)
    · intro j hj hj2
      rw [ea, nI_clamp (by omega), e1, nI_clamp (by omega)]
      by_cases g : j = k + (d + 1)
      · subst g
        rw [pk_us, h1 (k + d) (by omega), (na_sh _ (hw (k + d) (by omega))).1]
        rfl
      · rw [pk_un g]; exact h2 j (by omega) hj2
theorem xw_add_mem {n c j : Nat} {w : Nat → Nat} (hn : n ≤ 6) (hW : rd_W n w) (hA : re_A n w ao) (hj : j < n) (hc : w j = c) {post : Int32 → SX → Prop} (h : post (nI j) (nI n, xl, xb, xf, xt, ao, au, aw, ae, asx, am, ap, aq, az, ah, ad)) : wpX_add post (nI n, xl, xb, xf, xt, ao, au, aw, ae, asx, am, ap, aq, az, ah, ad) (nI c) := by
  have ⟨c2, c128⟩ := hW.1 j hj
  refine pk_lt c 2 (fun q => absurd q (by omega)) (fun _ => pk_lt c 128 (fun _ => ?_) (fun q => absurd q (by omega)))
  refine xw_num (k := j) hn (by omega) ?_ ?_ ?_
  · intro i hi
    have a := hW.2 i j hi hj
    rw [hA i (by omega), nI_leI (by omega) (by omega)]
    omega
  · intro _
    rw [hA j hj, nI_leI (by omega) (by omega)]
    omega
  · refine pk_le n j (fun q => absurd q (by omega)) (fun _ => ⟨vp_in_nI (by omega) (by omega), br_t ?_ h⟩)
    rw [nI_clamp (by omega), hA j hj, hc]
theorem xw_add_non {n c k : Nat} {w : Nat → Nat} (hn : n ≤ 6) (hW : rd_W n w) (hA : re_A n w ao) (c2 : 2 ≤ c) (c128 : c < 128) (k1 : k ≤ n) (k2 : ∀ j, j < k → w j < c) (k3 : k < n → c < w k) {post : Int32 → SX → Prop} (hf : n = 6 → post (-2) (nI n, xl, xb, xf, xt, ao, au, aw, ae, asx, am, ap, aq, az, ah, ad)) (h : n < 6 → ∀ ao', re_A (n + 1) (so_ins w k c) ao' → post (nI k) (nI (n + 1), xl, xb, xf, xt, ao', au, aw, ae, asx, am, ap, aq, az, ah, ad)) : wpX_add post (nI n, xl, xb, xf, xt, ao, au, aw, ae, asx, am, ap, aq, az, ah, ad) (nI c) := by
  refine pk_lt c 2 (fun q => absurd q (by omega)) (fun _ => pk_lt c 128 (fun _ => ?_) (fun q => absurd q (by omega)))
  have T : wX_add_40 post (nI c) (nI k) (nI n) xl xb xf xt ao au aw ae asx am ap aq az ah ad := by
    refine pk_eq n 6 hf (fun q => ?_)
    obtain ⟨d, rfl⟩ : ∃ d, n = k + d := ⟨n - k, by omega⟩
    exact ⟨d + 1, xw_add57 (by omega) c128 (fun i hi => (hW.1 i hi).2) (h (by omega)) d ao (d + 1) (Nat.le_refl _) (by omega) (fun j hj => hA j hj) (fun j h1 h2 => absurd h1 (by omega))⟩
  refine xw_num (k := k) hn k1 ?_ ?_ ?_
  · intro i hi
    have a := k2 i hi
    rw [hA i (by omega), nI_leI (by have := hW.1 i (by omega); omega) (by have := hW.1 i (by omega); omega)]
    omega
  · intro q
    have a := k3 q
    have b := hW.1 k q
    rw [hA k q, nI_leI (by omega) (by omega)]
    omega
  · refine pk_le n k (fun _ => T) (fun q => ⟨vp_in_nI (by omega) (by omega), br_f ?_ T⟩)
    have a := k3 q
    have b := hW.1 k q
    rw [nI_clamp (by omega), hA k q, nI_eq (by omega) (by omega)]
    omega
theorem xw_rem39 {n k : Nat} {w : Nat → Nat} (hn : n < 6) (hw : ∀ k, k < n + 1 → w k < 128) {post : Int32 → SX → Prop} (h : ∀ ao', re_A n (so_del w k) ao' → post (nI n) (nI n, xl, xb, xf, xt, ao', au, aw, ae, asx, am, ap, aq, az, ah, ad)) : ∀ d i ao fuel, i + d = n → k ≤ i → d < fuel → (∀ j, j < i → ao j = nI (so_del w k j)) → (∀ j, i ≤ j → j < n + 1 → ao j = nI (w j)) → wX_remove_39 post (nI n) xl xb xf xt fuel (nI i) ao au aw ae asx am ap aq az ah ad := by
  intro d
  induction d with
  | zero =>
    intro i ao fuel hd hk hf h1 h2
    obtain ⟨m, rfl⟩ := na_ex1 hf
    refine pk_le n i (fun _ => h ao (fun j hj => h1 j (by omega))) (fun q => absurd q (by omega))
  | succ d ih =>
    intro i ao fuel hd hk hf h1 h2
    obtain ⟨m, rfl⟩ := na_ex1 (n := fuel) (by omega)
    refine pk_le n i (fun q => absurd q (by omega)) (fun _ => ⟨?_, vp_in_nI (by omega) (by omega), fun a ea => nm_r (nI_1 i) (ih (i + 1) a m (by omega) (by omega) (by omega) ?_ ?_)⟩)
    · rw [nI_1]; exact vp_in_nI (by omega) (by omega)
    · intro j hj
      rw [ea, nI_clamp (by omega), nI_1, nI_clamp (by omega)]
      by_cases g : j = i
      · subst g
        rw [pk_us, h2 (j + 1) (by omega) (by omega), (na_sh _ (hw (j + 1) (by omega))).1, so_del_ge hk]
      · rw [pk_un g]; exact h1 j (by omega)
    · intro j hj hj2
      rw [ea, nI_clamp (by omega), pk_un (by omega)]
      exact h2 j (by omega) hj2
/-! Y: find, sort -/
theorem yw_find_t {n j : Nat} {c : Int32} (hn : n ≤ 7) (hj : j < n) (h1 : vw j = c) (h2 : ∀ i, i < j → ¬ vw i = c) {post : Int32 → Prop} (h : post (nI j)) : wpY_find post (nI n, yr, vw, vy, vl, va) c := by
  have H : ∀ d i, i + d = j → wY_find_2 post c (nI n) yr vw vy vl va (d + 1) (nI i) := by
    intro d
    induction d with
    | zero =>
      intro i hi
      have e : i = j := by omega
      subst e
      refine pk_le n i (fun q => absurd q (by omega)) (fun q => ⟨vp_in_nI (by omega) (by omega), br_t ?_ h⟩)
      rw [nI_clamp (by omega)]
      exact h1
    | succ d ih =>
      intro i hi
      refine pk_le n i (fun q => absurd q (by omega)) (fun q => ⟨vp_in_nI (by omega) (by omega), br_f ?_ (nm_r (nI_1 i) (ih (i + 1) (by omega)))⟩)
      rw [nI_clamp (by omega)]
      exact h2 i (by omega)
  exact ⟨j + 1, H j 0 (by omega)⟩
theorem yw_find_f {n : Nat} {c : Int32} (hn : n ≤ 7) (h2 : ∀ i, i < n → ¬ vw i = c) {post : Int32 → Prop} (h : post (-1)) : wpY_find post (nI n, yr, vw, vy, vl, va) c := by
  have H : ∀ d i, i + d = n → wY_find_2 post c (nI n) yr vw vy vl va (d + 1) (nI i) := by
    intro d
    induction d with
    | zero =>
      intro i hi
      exact pk_le n i (fun q => h) (fun q => absurd q (by omega))
    | succ d ih =>
      intro i hi
      refine pk_le n i (fun q => absurd q (by omega)) (fun q => ⟨vp_in_nI (by omega) (by omega), br_f ?_ (nm_r (nI_1 i) (ih (i + 1) (by omega)))⟩)
      rw [nI_clamp (by omega)]
      exact h2 i (by omega)
  exact ⟨n + 1, H n 0 (by omega)⟩
theorem so_S_b {n : Nat} {a0 a : Nat → Nat} {i j M : Nat} (hb : ∀ k, k < n → a0 k < M) (h : so_S n a0 i j a) : ∀ k, k < n → a k < M := by
  intro k hk
  obtain ⟨q, q1, q2⟩ := (h.1 (a k)).mpr ⟨k, hk, rfl⟩
  rw [← q2]
  exact hb q q1
theorem yw_sort14 {n i : Nat} {a0 : Nat → Nat} (hn : n ≤ 7) (hi : i < n) (hb : ∀ k, k < n → a0 k < 128) {post : SY → Prop} {J : Int32 → (Nat → Int32) → (Nat → Int32) → (Nat → Int32) → (Nat → Int32) → Prop} (hJ : ∀ vw' a', re_A n a' vw' → so_S n a0 (i + 1) (i + 1 + 1) a' → J (nI (i + 1)) vw' vy vl va) : ∀ d j vw a fuel, j + d = n → i < j → d < fuel → re_A n a vw → so_S n a0 i j a → wY_sort_14 post J (nI i) (nI n) yr fuel (nI j) vw vy vl va := by
  intro d
  induction d with
  | zero =>
    intro j vw a fuel hj hij hf hA hS
    obtain ⟨m, rfl⟩ := na_ex1 hf
    exact pk_le n j (fun _ => nm_r (nI_1 i) (hJ vw a hA (so_S_next hS (by omega)))) (fun q => absurd q (by omega))
  | succ d ih =>
    intro j vw a fuel hj hij hf hA hS
    obtain ⟨m, rfl⟩ := na_ex1 (n := fuel) (by omega)
    have B := so_S_b hb hS
    have b1 := B i (by omega)
    have b2 := B j (by omega)
    have v1 : vw (nI i).toNatClampNeg = nI (a i) := by rw [nI_clamp (by omega)]; exact hA i (by omega)
    have v2 : vw (nI j).toNatClampNeg = nI (a j) := by rw [nI_clamp (by omega)]; exact hA j (by omega)
    have i1 : vp_in (nI i) 7 := vp_in_nI (by omega) (by omega)
    have i2 : vp_in (nI j) 7 := vp_in_nI (by omega) (by omega)
    refine pk_le n j (fun q => absurd q (by omega)) (fun _ => ⟨i2, i1, pk_le (a i) (a j) (fun q => nm_r (nI_1 j) (ih (j + 1) vw a m (by omega) (by omega) (by omega) hA (so_S_keep hS q))) (fun q => ⟨i1, fun x ex => ⟨i2, i1, fun y ey => ⟨i2, fun z ez => nm_r (nI_1 j) (ih (j + 1) z (so_sw a i j) m (by omega) (by omega) (by omega) ?_ (so_S_swap hS hij (by omega) q))⟩⟩⟩) v1 v2⟩)
    intro k hk
    rw [ez, ey, ex, v1, v2, nI_clamp (by omega), nI_clamp (by omega)]
    by_cases c1 : k = j
    · subst c1; rw [pk_us, so_sw_j]
    · by_cases c2 : k = i
      · subst c2; rw [pk_un c1, pk_us, so_sw_i c1]
      · rw [pk_un c1, pk_un c2, so_sw_k c2 c1]; exact hA k hk
theorem yw_sort {n : Nat} {a0 : Nat → Nat} (hn : n ≤ 7) (hb : ∀ k, k < n → a0 k < 128) (hI : so_Inj n a0) (hA : re_A n a0 vw) {post : SY → Prop} (h : ∀ vw' a', re_A n a' vw' → so_Str n a' → so_Mem n a0 a' → post (nI n, yr, vw', vy, vl, va)) : wpY_sort post (nI n, yr, vw, vy, vl, va) := by
  have H : ∀ d i vw a fuel, i + d = n → d < fuel → re_A n a vw → so_S n a0 i (i + 1) a → wY_sort_2 post (nI n) yr fuel (nI i) vw vy vl va := by
    intro d
    induction d with
    | zero =>
      intro i vw a fuel hi hf hA hS
      obtain ⟨m, rfl⟩ := na_ex1 hf
      have ⟨e1, e2⟩ := so_S_end hS (by omega)
      exact pk_le n i (fun _ => h vw a hA e1 e2) (fun q => absurd q (by omega))
    | succ d ih =>
      intro i vw a fuel hi hf hA hS
      obtain ⟨m, rfl⟩ := na_ex1 (n := fuel) (by omega)
      exact pk_le n i (fun q => absurd q (by omega)) (fun _ => nm_r (nI_1 i) ⟨d + 1, yw_sort14 hn (by omega) hb (fun vw' a' h1 h2 => ih (i + 1) vw' a' m (by omega) (by omega) h1 h2) d (i + 1) vw a (d + 1) (by omega) (by omega) (by omega) hA hS⟩)
  exact ⟨n + 1, H n 0 vw a0 (n + 1) (by omega) (by omega) hA (so_S_0 hI)⟩
end
end
section
/-! add, remove, reverse -/
theorem rw_str {n : Nat} {w : Nat → Nat} (h : rd_W n w) : so_Str n w := h.2
theorem rw_ins {n k c : Nat} {w : Nat → Nat} (h : rd_W n w) (c2 : 2 ≤ c) (c128 : c < 128) (k1 : k ≤ n) (k2 : ∀ j, j < k → w j < c) (k3 : k < n → c < w k) : rd_W (n + 1) (so_ins w k c) := by
  refine ⟨fun j hj => ?_, so_ins_str h.2 k1 k2 k3⟩
  rcases Nat.lt_trichotomy j k with g | g | g
  · rw [so_ins_lt g]; exact h.1 j (by omega)
  · subst g; rw [so_ins_k]; exact ⟨c2, c128⟩
  · rw [so_ins_gt g]; exact h.1 (j - 1) (by omega)
theorem rw_del {n k : Nat} {w : Nat → Nat} (h : rd_W (n + 1) w) : rd_W n (so_del w k) := by
  refine ⟨fun j hj => ?_, so_del_str h.2⟩
  by_cases g : j < k
  · rw [so_del_lt g]; exact h.1 j (by omega)
  · rw [so_del_ge (by omega)]; exact h.1 (j + 1) (by omega)
theorem rw_pos {n c : Nat} {w : Nat → Nat} (h : rd_W n w) (hn : ∀ j, j < n → w j ≠ c) : ∃ k, k ≤ n ∧ (∀ j, j < k → w j < c) ∧ (k < n → c < w k) := by
  obtain ⟨k, k1, k2, k3⟩ := so_pos h.2 c
  refine ⟨k, k1, k2, fun q => ?_⟩
  have a := k3 q
  have b := hn k q
  omega
theorem rw_scan (P : Nat → Prop) (n : Nat) : ∃ k, k ≤ n ∧ (∀ j, j < k → ¬ P j) ∧ (k < n → P k) := by
  induction n with
  | zero => exact ⟨0, by omega, fun j hj => absurd hj (by omega), fun h => absurd h (by omega)⟩
  | succ n ih =>
    obtain ⟨k, k1, k2, k3⟩ := ih
    by_cases e : k < n
    · exact ⟨k, by omega, k2, fun _ => k3 e⟩
    · by_cases g : P n
      · exact ⟨n, by omega, fun j hj => k2 j (by omega), fun _ => g⟩
      · refine ⟨n + 1, by omega, fun j hj => ?_, fun h => absurd h (by omega)⟩
        by_cases q : j = n
        · subst q; exact g
        · exact k2 j (by omega)
section
variable {xc xl xb xf xt : Int32} {ao au aw ae asx am ap aq az ah ad : Nat → Int32} {yc yr : Int32} {vw vy vl va : Nat → Int32}
theorem yw_add_mem {n c j : Nat} {w : Nat → Nat} (hn : n ≤ 6) (hW : rd_W n w) (hA : re_A n w vw) (hj : j < n) (hc : w j = c) {post : Int32 → SY → Prop} (h : post (nI j) (nI n, yr, vw, vy, vl, va)) : wpY_add post (nI n, yr, vw, vy, vl, va) (nI c) := by
  have ⟨c2, c128⟩ := hW.1 j hj
  refine pk_lt c 2 (fun q => absurd q (by omega)) (fun _ => pk_le c 127 (fun _ => ?_) (fun q => absurd q (by omega)))
  refine yw_find_t (j := j) (by omega) hj (by rw [hA j hj, hc]) ?_ ?_
  · intro i hi
    have a := hW.2 i j hi hj
    rw [hA i (by omega), nI_eq (by omega) (by omega)]
    omega
  · exact br_f (nI_pos (by omega)) h
theorem yw_add_non {n c k : Nat} {w : Nat → Nat} (hn : n ≤ 6) (hW : rd_W n w) (hA : re_A n w vw) (c2 : 2 ≤ c) (c128 : c < 128) (k1 : k ≤ n) (k2 : ∀ j, j < k → w j < c) (k3 : k < n → c < w k) {post : Int32 → SY → Prop} (hf : n = 6 → post (-2) (nI n, yr, vw, vy, vl, va)) (h : n < 6 → ∀ vw', re_A (n + 1) (so_ins w k c) vw' → post (nI k) (nI (n + 1), yr, vw', vy, vl, va)) : wpY_add post (nI n, yr, vw, vy, vl, va) (nI c) := by
  have hne : ∀ j, j < n → w j ≠ c := by
    intro j hj
    by_cases g : j < k
    · have := k2 j g; omega
    · have a := k3 (by omega)
      by_cases e : j = k
      · subst e; omega
      · have := hW.2 k j (by omega) hj
        omega
  refine pk_lt c 2 (fun q => absurd q (by omega)) (fun _ => pk_le c 127 (fun _ => ?_) (fun q => absurd q (by omega)))
  refine yw_find_f (by omega) ?_ (br_t (by decide) (pk_eq n 6 hf (fun q => ⟨vp_in_nI (by omega) (by omega), fun a ea => nm_r (nI_1 n) ?_⟩)))
  · intro i hi
    have := hW.1 i hi
    rw [hA i hi, nI_eq (by omega) (by omega)]
    exact hne i hi
  · have hb : ∀ j, j < n → (fun j => if j = n then c else w j) j = w j := fun j hj => if_neg (by omega)
    have hc : (fun j => if j = n then c else w j) n = c := if_pos rfl
    refine yw_sort (n := n + 1) (a0 := fun j => if j = n then c else w j) (by omega) ?_ (so_put_inj hW.2 hb hc hne) ?_ ?_
    · intro j hj
      by_cases g : j = n
      · subst g; rw [if_pos rfl]; exact c128
      · rw [if_neg g]; exact (hW.1 j (by omega)).2
    · intro j hj
      rw [ea, nI_clamp (by omega)]
      by_cases g : j = n
      · subst g; rw [pk_us, hc]
      · rw [pk_un g, hb j (by omega)]; exact hA j (by omega)
    · intro vw' a' h1 h2 h3
      have h4 : so_Mem (n + 1) a' (so_ins w k c) := fun x => ((h3 x).symm.trans (so_put_mem hb hc x)).trans (so_ins_mem k1 x).symm
      have h5 := so_uniq h2 (so_ins_str hW.2 k1 k2 k3) h4
      have h6 : re_A (n + 1) (so_ins w k c) vw' := fun j hj => by rw [h1 j hj, h5 j hj]
      refine yw_find_t (j := k) (by omega) (by omega) ?_ ?_ (h (by omega) vw' h6)
      · rw [h6 k (by omega), so_ins_k]
      · intro i hi
        have a := k2 i hi
        rw [h6 i (by omega), so_ins_lt hi, nI_eq (by omega) (by omega)]
        omega
theorem yw_rem25 {n k : Nat} {w : Nat → Nat} (hn : n < 6) {post : Int32 → SY → Prop} (h : ∀ vw', re_A n (so_del w k) vw' → post (nI n) (nI n, yr, vw', vy, vl, va)) : ∀ d i vw fuel, i + d = n → k ≤ i → d < fuel → (∀ j, j < i → vw j = nI (so_del w k j)) → (∀ j, i ≤ j → j < n + 1 → vw j = nI (w j)) → wY_remove_25 post (nI n) yr fuel (nI i) vw vy vl va := by
  intro d
  induction d with
  | zero =>
    intro i vw fuel hd hk hf h1 h2
    obtain ⟨m, rfl⟩ := na_ex1 hf
    exact pk_le n i (fun _ => h vw (fun j hj => h1 j (by omega))) (fun q => absurd q (by omega))
  | succ d ih =>
    intro i vw fuel hd hk hf h1 h2
    obtain ⟨m, rfl⟩ := na_ex1 (n := fuel) (by omega)
    refine pk_le n i (fun q => absurd q (by omega)) (fun _ => ⟨?_, vp_in_nI (by omega) (by omega), fun a ea => nm_r (nI_1 i) (ih (i + 1) a m (by omega) (by omega) (by omega) ?_ ?_)⟩)
    · rw [nI_1]; exact vp_in_nI (by omega) (by omega)
    · intro j hj
      rw [ea, nI_clamp (by omega), nI_1, nI_clamp (by omega)]
      by_cases g : j = i
      · subst g
        rw [pk_us, h2 (j + 1) (by omega) (by omega), so_del_ge hk]
      · rw [pk_un g]; exact h1 j (by omega)
    · intro j hj hj2
      rw [ea, nI_clamp (by omega), pk_un (by omega)]
      exact h2 j (by omega) hj2
/-! turn -/
theorem xw_turn7 {post : Int32 → Prop} : ∀ f r o i fuel, i + f = 6 → f < fuel → r < 128 → post (nI (so_tn f r o)) → wX_turn_7 post xc xl xb xf xt ao au aw ae asx am ap aq az ah ad fuel (nI r) (nI o) (nI i) := by
  intro f
  induction f with
  | zero =>
    intro r o i fuel hi hf hr h
    obtain ⟨m, rfl⟩ := na_ex1 hf
    exact pk_le 6 i (fun _ => h) (fun q => absurd q (by omega))
  | succ f ih =>
    intro r o i fuel hi hf hr h
    obtain ⟨m, rfl⟩ := na_ex1 (n := fuel) (by omega)
    refine pk_le 6 i (fun q => absurd q (by omega)) (fun _ => pk_le r 1 (fun q => ?_) (fun q => ?_))
    · rw [so_tn_1 q] at h; exact h
    · rw [so_tn_s, if_neg (by omega)] at h
      have e1 : (2 * nI o) + (nI r &&& 1) = nI (2 * o + r % 2) := by rw [na_2m, na_and1, nI_add]
      have e2 : nI r >>> ((1 : Int32) &&& 31) = nI (r / 2) := na_shr (i := 1) (by omega) (by omega)
      exact nm_r e1 (nm_r e2 (nm_r (nI_1 i) (ih (r / 2) (2 * o + r % 2) (i + 1) m (by omega) (by omega) (by omega) h)))
theorem xw_turn {c : Nat} (hc : c < 128) {post : Int32 → Prop} (h : post (nI (so_rv c))) : wpX_turn post (xc, xl, xb, xf, xt, ao, au, aw, ae, asx, am, ap, aq, az, ah, ad) (nI c) :=
  ⟨7, xw_turn7 6 c 1 0 7 (by omega) (by omega) hc h⟩
theorem xw_rev44 {N : Nat} {t : Nat → Nat} (hN : N ≤ 6) (hT : re_A N t au) (hI : so_Inj N t) (hR : ∀ k, k < N → 2 ≤ t k ∧ t k < 128) {post : Int32 → SX → Prop} (h : ∀ ao' w', re_A N w' ao' → rd_W N w' → so_Mem N w' t → post (nI N) (nI N, xl, xb, xf, xt, ao', au, aw, ae, asx, am, ap, aq, az, ah, ad)) : ∀ d k ao w fuel, k + d = N → d < fuel → re_A k w ao → rd_W k w → so_Mem k w t → wX_reverse_44 post (nI N) fuel (nI k) (nI k) xl xb xf xt ao au aw ae asx am ap aq az ah ad := by
  intro d
  induction d with
  | zero =>
    intro k ao w fuel hk hf hA hW hM
    obtain ⟨m, rfl⟩ := na_ex1 hf
    have e : k = N := by omega
    subst e
    exact pk_le k k (fun _ => h ao w hA hW hM) (fun q => absurd q (by omega))
  | succ d ih =>
    intro k ao w fuel hk hf hA hW hM
    obtain ⟨m, rfl⟩ := na_ex1 (n := fuel) (by omega)
    refine pk_le N k (fun q => absurd q (by omega)) (fun _ => ⟨vp_in_nI (by omega) (by omega), ?_⟩)
    rw [nI_clamp (by omega), hT k (by omega)]
    have ⟨r1, r2⟩ := hR k (by omega)
    have hne : ∀ j, j < k → w j ≠ t k := by
      intro j hj e
      obtain ⟨q, q1, q2⟩ := (hM (t k)).mp ⟨j, hj, e⟩
      have := hI q k (by omega) (by omega) q2
      omega
    obtain ⟨p, p1, p2, p3⟩ := rw_pos hW hne
    refine xw_add_non (by omega) hW hA r1 r2 p1 p2 p3 (fun q => absurd q (by omega)) (fun _ ao' hA' => ?_)
    refine nm_r (nI_1 k) (ih (k + 1) ao' (so_ins w p (t k)) m (by omega) (by omega) hA' (rw_ins hW r1 r2 p1 p2 p3) ?_)
    intro x
    refine (so_ins_mem p1 x).trans (Iff.trans ?_ (so_put_mem (w := t) (b := t) (c := t k) (fun _ _ => rfl) rfl x).symm)
    constructor
    · rintro (e | e)
      · exact Or.inl e
      · exact Or.inr ((hM x).mp e)
    · rintro (e | e)
      · exact Or.inl e
      · exact Or.inr ((hM x).mpr e)
theorem xw_rev7 {N : Nat} {w : Nat → Nat} (hN : N ≤ 6) (hW : rd_W N w) (hA : re_A N w ao) {post : Int32 → SX → Prop} (h : ∀ au' ao' w', re_A N w' ao' → rd_W N w' → so_Mem N w' (fun k => so_rv (w k)) → post (nI N) (nI N, xl, xb, xf, xt, ao', au', aw, ae, asx, am, ap, aq, az, ah, ad)) : ∀ d k au fuel, k + d = N → d < fuel → (∀ j, j < k → au j = nI (so_rv (w j))) → wX_reverse_7 post (nI N) (nI N) xl xb xf xt fuel (nI k) ao au aw ae asx am ap aq az ah ad := by
  intro d
  induction d with
  | zero =>
    intro k au fuel hk hf hT
    obtain ⟨m, rfl⟩ := na_ex1 hf
    have e : k = N := by omega
    subst e
    have hI : so_Inj k (fun j => so_rv (w j)) := by
      intro i j hi hj e
      have e : so_rv (w i) = so_rv (w j) := e
      have a := so_rv_rv (w i) (hW.1 i hi).2 (hW.1 i hi).1
      have b := so_rv_rv (w j) (hW.1 j hj).2 (hW.1 j hj).1
      rw [e, b] at a
      exact so_Str_inj hW.2 i j hi hj a.symm
    exact pk_le k k (fun _ => ⟨k + 1, xw_rev44 (N := k) (t := fun j => so_rv (w j)) hN hT hI (fun j hj => so_rv_in (w j) (hW.1 j hj).2 (hW.1 j hj).1) (h au) k 0 ao (fun _ => 0) (k + 1) (by omega) (by omega) (fun j hj => absurd hj (by omega)) ⟨fun j hj => absurd hj (by omega), fun i j _ hj => absurd hj (by omega)⟩ (fun x => ⟨fun ⟨j, hj, _⟩ => absurd hj (by omega), fun ⟨j, hj, _⟩ => absurd hj (by omega)⟩)⟩) (fun q => absurd q (by omega))
  | succ d ih =>
    intro k au fuel hk hf hT
    obtain ⟨m, rfl⟩ := na_ex1 (n := fuel) (by omega)
    refine pk_le N k (fun q => absurd q (by omega)) (fun _ => ⟨vp_in_nI (by omega) (by omega), ?_⟩)
    have ⟨w2, w128⟩ := hW.1 k (by omega)
    rw [nI_clamp (by omega), hA k (by omega)]
    refine xw_turn w128 ⟨vp_in_nI (by omega) (by omega), fun a ea => nm_r (nI_1 k) (ih (k + 1) a m (by omega) (by omega) ?_)⟩
    intro j hj
    rw [ea, na_sh2 (so_rv_in _ w128 w2).2]
    by_cases g : j = k
    · subst g; rw [pk_us]
    · rw [pk_un g]; exact hT j (by omega)
theorem yw_rev19 {n i : Nat} {post : Int32 → SY → Prop} {J : Int32 → (Nat → Int32) → (Nat → Int32) → (Nat → Int32) → (Nat → Int32) → Prop} (hi : i < 7) : ∀ f r o fuel, r < 2 ^ (f + 1) → f < fuel → f ≤ 6 → (∀ vw', vw' = upd vw i (nI (so_tn f r o)) → J (nI (i + 1)) vw' vy vl va) → wY_reverse_19 post J (nI i) (nI n) yr vw vy vl va fuel (nI o) (nI r) := by
  intro f
  induction f with
  | zero =>
    intro r o fuel hr hf hf6 h
    obtain ⟨m, rfl⟩ := na_ex1 hf
    refine pk_le r 1 (fun _ => ⟨vp_in_nI hi (by omega), fun a ea => nm_r (nI_1 i) (h a ?_)⟩) (fun q => absurd q (by omega))
    rw [ea, nI_clamp (by omega)]; rfl
  | succ f ih =>
    intro r o fuel hr hf hf6 h
    obtain ⟨m, rfl⟩ := na_ex1 (n := fuel) (by omega)
    have h31 : r < 2 ^ 31 := Nat.lt_of_lt_of_le hr (na_pow (by omega))
    refine pk_le r 1 (fun q => ⟨vp_in_nI hi (by omega), fun a ea => nm_r (nI_1 i) (h a ?_)⟩) (fun q => ⟨by decide, ?_⟩)
    · rw [ea, nI_clamp (by omega), so_tn_1 q]
    · have e1 : (2 * nI o) + (nI r - nI r / 2 * 2) = nI (2 * o + r % 2) := by rw [na_2m, na_rem2 h31, nI_add]
      refine nm_r e1 ⟨by decide, nm_r (na_half h31) (ih (r / 2) (2 * o + r % 2) m (by rw [na_ps] at hr; omega) (by omega) (by omega) (fun a ea => h a ?_))⟩
      rw [ea, so_tn_s, if_neg (by omega)]
theorem yw_rev2 {n : Nat} {w w' : Nat → Nat} (hn : n ≤ 6) (hW : rd_W n w) (hW' : rd_W n w') (hM : so_Mem n w' (fun k => so_rv (w k))) {post : Int32 → SY → Prop} (h : ∀ vw', re_A n w' vw' → post (nI n) (nI n, yr, vw', vy, vl, va)) : ∀ d k vw fuel, k + d = n → d < fuel → (∀ j, j < k → vw j = nI (so_rv (w j))) → (∀ j, k ≤ j → j < n → vw j = nI (w j)) → wY_reverse_2 post (nI n) yr fuel (nI k) vw vy vl va := by
  intro d
  induction d with
  | zero =>
    intro k vw fuel hk hf h1 h2
    obtain ⟨m, rfl⟩ := na_ex1 hf
    have e : k = n := by omega
    subst e
    have hI : so_Inj k (fun j => so_rv (w j)) := by
      intro i j hi hj e
      have e : so_rv (w i) = so_rv (w j) := e
      have a := so_rv_rv (w i) (hW.1 i hi).2 (hW.1 i hi).1
      have b := so_rv_rv (w j) (hW.1 j hj).2 (hW.1 j hj).1
      rw [e, b] at a
      exact so_Str_inj hW.2 i j hi hj a.symm
    refine pk_le k k (fun _ => ?_) (fun q => absurd q (by omega))
    refine yw_sort (n := k) (a0 := fun j => so_rv (w j)) (by omega) (fun j hj => (so_rv_in (w j) (hW.1 j hj).2 (hW.1 j hj).1).2) hI h1 ?_
    intro vw' a' g1 g2 g3
    have u := so_uniq g2 hW'.2 (so_Mem_t (so_Mem_s g3) (so_Mem_s hM))
    exact h vw' (fun j hj => by rw [g1 j hj, u j hj])
  | succ d ih =>
    intro k vw fuel hk hf h1 h2
    obtain ⟨m, rfl⟩ := na_ex1 (n := fuel) (by omega)
    have ⟨w2, w128⟩ := hW.1 k (by omega)
    refine pk_le n k (fun q => absurd q (by omega)) (fun _ => ⟨vp_in_nI (by omega) (by omega), nm_r (e' := nI (w k)) ?_ ⟨7, yw_rev19 (by omega) 6 (w k) 1 7 w128 (by omega) (by omega) (fun a ea => ih (k + 1) a m (by omega) (by omega) ?_ ?_)⟩⟩)
    · rw [nI_clamp (by omega)]; exact h2 k (by omega) (by omega)
    · intro j hj
      rw [ea]
      by_cases g : j = k
      · subst g; rw [pk_us]; rfl
      · rw [pk_un g]; exact h1 j (by omega)
    · intro j hj hj2
      rw [ea, pk_un (by omega)]
      exact h2 j (by omega) hj2
end
end
section
/-! the words' owed statements -/
theorem vw_c2 {v1 : Int32} (h2 : ¬ v1 < 2) (h128 : v1 < 128) : ∃ c : Nat, 2 ≤ c ∧ c < 128 ∧ v1 = nI c := by
  obtain ⟨c, hc, rfl⟩ := nI_of (x := v1) (fun h => h2 (Int32.lt_trans h (by decide)))
  have a : ¬ nI c < nI 2 := h2
  have b : nI c < nI 128 := h128
  rw [nI_ltI hc (by decide)] at a b
  exact ⟨c, by omega, b, rfl⟩
theorem i_vc_add {k : Nat} {u : SX} {v : SY} (I : i_Rel k u v) (hk : k + 3 ≤ 1536) (v1 : Int32) : wpX_add (fun r u' => wpY_add (fun r' v' => r' = r ∧ i_Rel (k + 3) u' v') v v1) u v1 := by
  refine re_el (P := fun u v => wpX_add (fun r u' => wpY_add (fun r' v' => r' = r ∧ i_Rel (k + 3) u' v') v v1) u v1) ?_ I
  intro n L B w xf xt ao au aw ae asx am ap aq az ah ad vw vy vl va hn hL hB hW hA hV
  by_cases h2 : v1 < 2
  · exact br_t h2 (br_t h2 ⟨rfl, re_mk hn hL hB hW hA hV⟩)
  · by_cases h128 : v1 < 128
    · obtain ⟨c, c2, c128, rfl⟩ := vw_c2 h2 h128
      by_cases m : ∃ j, j < n ∧ w j = c
      · obtain ⟨j, hj, e⟩ := m
        exact xw_add_mem hn hW hA hj e (yw_add_mem hn hW hV hj e ⟨rfl, re_mk hn hL hB hW hA hV⟩)
      · obtain ⟨p, p1, p2, p3⟩ := rw_pos hW (c := c) (fun j hj e => m ⟨j, hj, e⟩)
        refine xw_add_non hn hW hA c2 c128 p1 p2 p3 (fun n6 => ?_) (fun n6 ao' hA' => ?_)
        · exact yw_add_non hn hW hV c2 c128 p1 p2 p3 (fun _ => ⟨rfl, re_mk hn hL hB hW hA hV⟩) (fun q => absurd q (by omega))
        · exact yw_add_non hn hW hV c2 c128 p1 p2 p3 (fun q => absurd q (by omega)) (fun _ vw' hV' => ⟨rfl, re_mk (by omega) hL hB (rw_ins hW c2 c128 p1 p2 p3) hA' hV'⟩)
    · have h127 : ¬ v1 ≤ 127 := by
        intro h
        exact h128 (Int32.lt_of_le_of_lt h (by decide))
      exact br_f h2 (br_f h128 (br_f h2 (br_f h127 ⟨rfl, re_mk hn hL hB hW hA hV⟩)))
theorem i_vc_remove {k : Nat} {u : SX} {v : SY} (I : i_Rel k u v) (hk : k + 3 ≤ 1536) (v1 : Int32) : wpX_remove (fun r u' => wpY_remove (fun r' v' => r' = r ∧ i_Rel (k + 3) u' v') v v1) u v1 := by
  refine re_el (P := fun u v => wpX_remove (fun r u' => wpY_remove (fun r' v' => r' = r ∧ i_Rel (k + 3) u' v') v v1) u v1) ?_ I
  intro n L B w xf xt ao au aw ae asx am ap aq az ah ad vw vy vl va hn hL hB hW hA hV
  unfold wpX_remove wpY_remove
  by_cases m : ∃ j, j < n ∧ nI (w j) = v1
  · obtain ⟨j, hj, e⟩ := m
    have b := hW.1 j hj
    have X1 : ∀ i, i < j → ¬ v1 ≤ ao i := by
      intro i hi
      have a := hW.2 i j hi hj
      rw [← e, hA i (by omega), nI_leI (by omega) (by omega)]
      omega
    have X2 : j < n → v1 ≤ ao j := by
      intro _
      rw [hA j hj, e]
      exact Int32.le_refl _
    refine xw_num (k := j) hn (by omega) X1 X2 ?_
    obtain ⟨n', rfl⟩ := na_ex1 (n := n) (by omega)
    refine pk_eq j (n' + 1) (fun q => absurd q (by omega)) (fun _ => ⟨vp_in_nI (by omega) (by omega), br_t ?_ (nm_r (nI_pred n') ⟨n' - j + 1, ?_⟩)⟩)
    · rw [nI_clamp (by omega), hA j hj]; exact e
    · refine xw_rem39 (k := j) (w := w) (by omega) (fun i hi => (hW.1 i hi).2) (fun ao' hA' => ?_) (n' - j) j ao (n' - j + 1) (by omega) (by omega) (by omega) (fun i hi => by rw [so_del_lt hi]; exact hA i (by omega)) (fun i _ hi => hA i hi)
      refine yw_find_t (j := j) (by omega) hj (by rw [hV j hj]; exact e) ?_ ?_
      · intro i hi
        have a := hW.2 i j hi hj
        rw [hV i (by omega), ← e, nI_eq (by omega) (by omega)]
        omega
      · refine br_t (nI_pos' (by omega)) (nm_r (nI_pred n') ⟨n' - j + 1, ?_⟩)
        exact yw_rem25 (k := j) (w := w) (by omega) (fun vw' hV' => ⟨rfl, re_mk (by omega) hL hB (rw_del hW) hA' hV'⟩) (n' - j) j vw (n' - j + 1) (by omega) (by omega) (by omega) (fun i hi => by rw [so_del_lt hi]; exact hV i (by omega)) (fun i _ hi => hV i hi)
  · obtain ⟨p, p1, p2, p3⟩ := rw_scan (fun j => v1 ≤ ao j) n
    refine xw_num (k := p) hn p1 p2 p3 ?_
    refine pk_eq p n (fun _ => ?_) (fun q => ⟨vp_in_nI (by omega) (by omega), br_f ?_ ?_⟩)
    · exact yw_find_f (c := v1) (by omega) (fun i hi e => m ⟨i, hi, by rw [← hV i hi]; exact e⟩) (br_f (by decide) ⟨rfl, re_mk (k := k + 3) hn hL hB hW hA hV⟩)
    · rw [nI_clamp (by omega)]
      intro e
      exact m ⟨p, by omega, by rw [← hA p (by omega)]; exact e⟩
    · exact yw_find_f (c := v1) (by omega) (fun i hi e => m ⟨i, hi, by rw [← hV i hi]; exact e⟩) (br_f (by decide) ⟨rfl, re_mk (k := k + 3) hn hL hB hW hA hV⟩)
theorem i_vc_reverse {k : Nat} {u : SX} {v : SY} (I : i_Rel k u v) (hk : k + 3 ≤ 1536) : wpX_reverse (fun r u' => wpY_reverse (fun r' v' => r' = r ∧ i_Rel (k + 3) u' v') v) u := by
  refine re_el (P := fun u v => wpX_reverse (fun r u' => wpY_reverse (fun r' v' => r' = r ∧ i_Rel (k + 3) u' v') v) u) ?_ I
  intro n L B w xf xt ao au aw ae asx am ap aq az ah ad vw vy vl va hn hL hB hW hA hV
  refine ⟨n + 1, xw_rev7 hn hW hA (fun au' ao' w' hA' hW' hM => ?_) n 0 au (n + 1) (by omega) (by omega) (fun j hj => absurd hj (by omega))⟩
  exact ⟨n + 1, yw_rev2 hn hW hW' hM (fun vw' hV' => ⟨rfl, re_mk hn hL hB hW' hA' hV'⟩) n 0 vw (n + 1) (by omega) (by omega) (fun j hj => absurd hj (by omega)) (fun j _ hj => hV j hj)⟩
theorem i_vc_word {k : Nat} {u : SX} {v : SY} (I : i_Rel k u v) (hk : k + 3 ≤ 1536) (v1 : Int32) : wpX_word (fun r => wpY_word (fun r' => r' = r ∧ i_Rel (k + 3) u v) v v1) u v1 := by
  refine re_el (P := fun u v => wpX_word (fun r => wpY_word (fun r' => r' = r ∧ i_Rel (k + 3) u v) v v1) u v1) ?_ I
  intro n L B w xf xt ao au aw ae asx am ap aq az ah ad vw vy vl va hn hL hB hW hA hV
  by_cases h0 : v1 < 0
  · exact br_t h0 (br_t h0 ⟨rfl, re_mk hn hL hB hW hA hV⟩)
  · obtain ⟨c, hc, rfl⟩ := nI_of (x := v1) h0
    by_cases h1 : nI c < nI n
    · have h2 := (nI_ltI hc (by omega)).mp h1
      refine br_f h0 (br_t h1 ⟨vp_in_nI (by omega) (by omega), br_f h0 (br_t h1 ⟨vp_in_nI (by omega) (by omega), ?_, re_mk hn hL hB hW hA hV⟩)⟩)
      rw [nI_clamp hc, hA c h2, hV c h2]
    · exact br_f h0 (br_f h1 (br_f h0 (br_f h1 ⟨rfl, re_mk hn hL hB hW hA hV⟩)))
theorem i_vc_words {k : Nat} {u : SX} {v : SY} (I : i_Rel k u v) (hk : k + 3 ≤ 1536) : wpX_words (fun r => wpY_words (fun r' => r' = r ∧ i_Rel (k + 3) u v) v) u := by
  refine re_el (P := fun u v => wpX_words (fun r => wpY_words (fun r' => r' = r ∧ i_Rel (k + 3) u v) v) u) ?_ I
  intro n L B w xf xt ao au aw ae asx am ap aq az ah ad vw vy vl va hn hL hB hW hA hV
  exact ⟨rfl, re_mk hn hL hB hW hA hV⟩
end
section
/-! the row -/
theorem ro_lg {L B : Nat} (hB : B < 2 ^ L) : (2 ^ L + B).log2 = L := na_lgu (by omega) (by rw [na_ps]; omega)
theorem ro_lt {L B : Nat} (hL : L ≤ 16) (hB : B < 2 ^ L) : 2 ^ L + B < 2 ^ 31 := by
  have := na_pow hL
  omega
theorem i_vc_bit {k : Nat} {u : SX} {v : SY} (I : i_Rel k u v) (hk : k + 3 ≤ 1536) (v1 : Int32) : wpX_bit (fun r u' => wpY_bit (fun r' v' => r' = r ∧ i_Rel (k + 3) u' v') v v1) u v1 := by
  refine re_el (P := fun u v => wpX_bit (fun r u' => wpY_bit (fun r' v' => r' = r ∧ i_Rel (k + 3) u' v') v v1) u v1) ?_ I
  intro n L B w xf xt ao au aw ae asx am ap aq az ah ad vw vy vl va hn hL hB hW hA hV
  by_cases h0 : v1 < 0
  · exact br_t h0 (br_t h0 ⟨rfl, re_mk hn hL hB hW hA hV⟩)
  · by_cases h1 : v1 ≤ 1
    · obtain ⟨b, hb, rfl⟩ := nI_of2 (n := 1) (by decide) h0 h1
      refine br_f h0 (br_t h1 (pk_eq L 16 (fun q => ?_) (fun q => ?_)))
      · refine br_f h0 (br_t h1 (ys_len (ro_lt hL hB) ?_))
        rw [ro_lg hB]
        exact pk_eq L 16 (fun _ => ⟨rfl, re_mk hn hL hB hW hA hV⟩) (fun z => absurd q z)
      · have e1 : (2 * nI B) + nI b = nI (2 * B + b) := by rw [na_2m, nI_add]
        refine nm_r e1 (nm_r (nI_1 L) (br_f h0 (br_t h1 (ys_len (ro_lt hL hB) ?_))))
        rw [ro_lg hB]
        refine pk_eq L 16 (fun z => absurd z q) (fun _ => nm_r (e' := nI (2 ^ (L + 1) + (2 * B + b))) ?_ ⟨nI_1 L, re_mk hn (by omega) (by rw [na_ps]; omega) hW hA hV⟩)
        rw [na_2m, nI_add, na_ps]
        exact congrArg nI (by omega)
    · exact br_f h0 (br_f h1 (br_f h0 (br_f h1 ⟨rfl, re_mk hn hL hB hW hA hV⟩)))
theorem ro_x {B c s : Nat} (hc : c < 128) (c1 : 1 ≤ c) (hs : s = c.log2) (hB : B < 65536) : (nI B <<< (nI s &&& 31)) ||| (nI c ^^^ ((1 : Int32) <<< (nI s &&& 31))) = nI (B * 2 ^ s + (c - 2 ^ s)) := by
  have l6 := na_lg6 hc
  have p6 := na_pow (show s ≤ 6 from by omega)
  have hm : B * 2 ^ s ≤ 65536 * 2 ^ 6 := Nat.mul_le_mul (by omega) p6
  have ⟨g1, g2⟩ := na_lg c1
  rw [na_shl (by omega) (by omega), na_one (by omega), nx_xor]
  have x := na_xor c hc c1
  rw [← hs] at x g1 g2
  rw [x, na_orm]
  rw [na_ps] at g2
  omega
theorem ro_y {L B c s : Nat} (hL : L + s ≤ 16) (hB : B < 2 ^ L) (h1 : 2 ^ s ≤ c) (hs : s ≤ 6) : ((nI (2 ^ L + B) <<< (nI s &&& 31)) + nI c) - ((1 : Int32) <<< (nI s &&& 31)) = nI (2 ^ (L + s) + (B * 2 ^ s + (c - 2 ^ s))) := by
  have p6 := na_pow hs
  have p16 := na_pow (show L ≤ 16 from by omega)
  have hm : (2 ^ L + B) * 2 ^ s ≤ 131072 * 2 ^ 6 := Nat.mul_le_mul (by omega) p6
  rw [na_shl (by omega) (by omega), na_one (by omega), nI_add, pk_sub (by omega)]
  rw [Nat.add_mul, ← Nat.pow_add]
  have q1 := na_pps (L + s)
  have q2 := na_pps s
  exact congrArg nI (by omega)
theorem ro_b {L B c s : Nat} (hB : B < 2 ^ L) (h1 : 2 ^ s ≤ c) (h2 : c < 2 ^ (s + 1)) : B * 2 ^ s + (c - 2 ^ s) < 2 ^ (L + s) := by
  rw [na_ps] at h2
  have : (B + 1) * 2 ^ s ≤ 2 ^ L * 2 ^ s := Nat.mul_le_mul (by omega) (Nat.le_refl _)
  rw [← Nat.pow_add, Nat.add_mul, Nat.one_mul] at this
  omega
theorem i_vc_append {k : Nat} {u : SX} {v : SY} (I : i_Rel k u v) (hk : k + 3 ≤ 1536) (v1 : Int32) : wpX_append (fun r u' => wpY_append (fun r' v' => r' = r ∧ i_Rel (k + 3) u' v') v v1) u v1 := by
  refine re_el (P := fun u v => wpX_append (fun r u' => wpY_append (fun r' v' => r' = r ∧ i_Rel (k + 3) u' v') v v1) u v1) ?_ I
  intro n L B w xf xt ao au aw ae asx am ap aq az ah ad vw vy vl va hn hL hB hW hA hV
  by_cases h0 : v1 < 0
  · exact br_t h0 (br_t h0 ⟨rfl, re_mk hn hL hB hW hA hV⟩)
  · obtain ⟨j, hj, rfl⟩ := nI_of (x := v1) h0
    by_cases h1 : nI j < nI n
    · have h2 := (nI_ltI hj (by omega)).mp h1
      have ⟨w2, w128⟩ := hW.1 j h2
      have l6 := na_lg6 w128
      have ⟨g1, g2⟩ := na_lg (c := w j) (by omega)
      have i6 : vp_in (nI j) 6 := vp_in_nI (by omega) (by omega)
      have i7 : vp_in (nI j) 7 := vp_in_nI (by omega) (by omega)
      have eA : ao (nI j).toNatClampNeg = nI (w j) := by rw [nI_clamp hj]; exact hA j h2
      have eV : vw (nI j).toNatClampNeg = nI (w j) := by rw [nI_clamp hj]; exact hV j h2
      refine br_f h0 (br_t h1 ⟨i6, ?_⟩)
      rw [eA]
      refine xs_size w128 (pk_le (L + (w j).log2) 16 (fun q => ⟨i6, ?_⟩) (fun q => ?_) (hx := nI_add _ _))
      · have p16 := na_pow hL
        refine nm_r (ro_x w128 (by omega) rfl (by omega)) (nm_r (nI_add _ _) (br_f h0 (br_t h1 ⟨i7, ?_⟩)))
        rw [eV]
        refine ys_len (by omega) (ys_len (ro_lt hL hB) ?_)
        rw [ro_lg hB]
        exact nm_r (nI_add _ _) (pk_le (L + (w j).log2) 16 (fun _ => ⟨i7, nm_r (ro_y q hB g1 l6) ⟨rfl, re_mk hn q (ro_b hB g1 g2) hW hA hV⟩⟩) (fun z => absurd z (by omega)))
      · refine br_f h0 (br_t h1 ⟨i7, ?_⟩)
        rw [eV]
        refine ys_len (by omega) (ys_len (ro_lt hL hB) ?_)
        rw [ro_lg hB]
        exact nm_r (nI_add _ _) (pk_le (L + (w j).log2) 16 (fun z => absurd z (by omega)) (fun _ => ⟨rfl, re_mk hn hL hB hW hA hV⟩))
    · exact br_f h0 (br_f h1 (br_f h0 (br_f h1 ⟨rfl, re_mk hn hL hB hW hA hV⟩)))
theorem i_vc_clear {k : Nat} {u : SX} {v : SY} (I : i_Rel k u v) (hk : k + 3 ≤ 1536) : wpX_clear (fun r u' => wpY_clear (fun r' v' => r' = r ∧ i_Rel (k + 3) u' v') v) u := by
  refine re_el (P := fun u v => wpX_clear (fun r u' => wpY_clear (fun r' v' => r' = r ∧ i_Rel (k + 3) u' v') v) u) ?_ I
  intro n L B w xf xt ao au aw ae asx am ap aq az ah ad vw vy vl va hn hL hB hW hA hV
  refine ys_len (ro_lt hL hB) ?_
  rw [ro_lg hB]
  exact ⟨rfl, re_mk (L := 0) (B := 0) hn (by omega) (by decide) hW hA hV⟩
theorem i_vc_row {k : Nat} {u : SX} {v : SY} (I : i_Rel k u v) (hk : k + 3 ≤ 1536) : wpX_row (fun r => wpY_row (fun r' => r' = r ∧ i_Rel (k + 3) u v) v) u := by
  refine re_el (P := fun u v => wpX_row (fun r => wpY_row (fun r' => r' = r ∧ i_Rel (k + 3) u v) v) u) ?_ I
  intro n L B w xf xt ao au aw ae asx am ap aq az ah ad vw vy vl va hn hL hB hW hA hV
  refine ⟨?_, re_mk hn hL hB hW hA hV⟩
  rw [na_one (by omega), na_por hB]
end
section
/-! stands, findWays, count -/
theorem xr_pure {L B p s : Nat} (h : p + s ≤ L) : (2 ^ L + B) / 2 ^ (L - (p + s)) % 2 ^ s = B / 2 ^ (L - (p + s)) % 2 ^ s := by
  have e1 := na_padd (show L - (p + s) ≤ L from by omega)
  rw [show L - (L - (p + s)) = p + s from by omega] at e1
  have e2 : 2 ^ (p + s) = 2 ^ s * 2 ^ p := by rw [Nat.add_comm, Nat.pow_add]
  rw [show (2 ^ L + B) / 2 ^ (L - (p + s)) = (2 ^ (L - (p + s)) * 2 ^ (p + s) + B) / 2 ^ (L - (p + s)) from by rw [← e1], Nat.mul_add_div (na_pps _), e2, Nat.mul_add_mod]
theorem xr_st {R L p c : Nat} : rd_st R L p c = true ↔ (p + c.log2 ≤ L ∧ R / 2 ^ (L - (p + c.log2)) % 2 ^ c.log2 + 2 ^ c.log2 = c) := decide_eq_true_iff
section
variable {xc xl xb xf xt : Int32} {ao au aw ae asx am ap aq az ah ad : Nat → Int32} {yc yr : Int32} {vw vy vl va : Nat → Int32}
theorem xr_stands {n k p L B : Nat} {w : Nat → Nat} (hn : n ≤ 6) (hL : L ≤ 16) (hB : B < 2 ^ L) (hW : rd_W n w) (hA : re_A n w ao) (hk : k < n) (hp : p ≤ L) {post : Int32 → Prop} (h1 : rd_st (2 ^ L + B) L p (w k) = true → post 1) (h0 : ¬ rd_st (2 ^ L + B) L p (w k) = true → post 0) : wpX_stands post (xc, nI L, nI B, xf, xt, ao, au, aw, ae, asx, am, ap, aq, az, ah, ad) (nI k) (nI p) := by
  have ⟨w2, w128⟩ := hW.1 k hk
  have l6 := na_lg6 w128
  have i6 : vp_in (nI k) 6 := vp_in_nI (by omega) (by omega)
  have p16 := na_pow hL
  have eA : ao (nI k).toNatClampNeg = nI (w k) := by rw [nI_clamp (by omega)]; exact hA k hk
  unfold wpX_stands
  dsimp only
  refine ⟨i6, ?_⟩
  rw [eA]
  refine xs_size w128 (nm_r (nI_add _ _) (pk_le (p + (w k).log2) L (fun q => ?_) (fun q => h0 (fun z => absurd (rd_st_le z) (by omega)))))
  have e : (nI B >>> ((nI L - nI (p + (w k).log2)) &&& 31)) &&& (((1 : Int32) <<< (nI (w k).log2 &&& 31)) - 1) = nI (B / 2 ^ (L - (p + (w k).log2)) % 2 ^ (w k).log2) := by
    rw [pk_sub q, na_shr (by omega) (by omega), na_mask (by omega)]
  have hm := Nat.mod_lt (B / 2 ^ (L - (p + (w k).log2))) (na_pps (w k).log2)
  have p6 := na_pow l6
  refine nm_r e ⟨i6, na_if (d := rd_st (2 ^ L + B) L p (w k) = true) ?_ h1 h0⟩
  rw [na_one (by omega), na_orp hm, nI_eq (by omega) (by omega), xr_st, xr_pure q]
  exact ⟨fun z => ⟨q, z⟩, fun z => z.2⟩
theorem yr_stands {p L R c : Nat} (hL : L ≤ 16) (hR : R < 2 ^ 31) (c2 : 2 ≤ c) (c128 : c < 128) (hp : p ≤ L) {post : Int32 → Prop} (h1 : rd_st R L p c = true → post 1) (h0 : ¬ rd_st R L p c = true → post 0) : wpY_stands post (yc, yr, vw, vy, vl, va) (nI R) (nI L) (nI p) (nI c) := by
  have l6 := na_lg6 c128
  unfold wpY_stands
  dsimp only
  refine ys_len (by omega) (pk_le (p + c.log2) L (fun q => na_if (d := rd_st R L p c = true) ?_ h1 h0) (fun q => h0 (fun z => absurd (rd_st_le z) (by omega))) (hx := nI_add _ _))
  have hm := Nat.mod_lt (R / 2 ^ (L - (p + c.log2))) (na_pps c.log2)
  have p6 := na_pow l6
  have ⟨g1, g2⟩ := na_lg (c := c) (by omega)
  rw [pk_sub hp, pk_sub (by omega), na_shr hR (by omega), na_mask (by omega), na_one (by omega), pk_sub g1, nI_eq (by omega) (by omega), xr_st, show L - p - c.log2 = L - (p + c.log2) from by omega]
  exact ⟨fun z => ⟨q, by omega⟩, fun z => by omega⟩
end
theorem rd_g_le {w : Nat → Nat} {R L : Nat} {f : Nat → Nat} {p : Nat} : ∀ k, rd_g w R L f p k ≤ 10000 := by
  intro k
  induction k with
  | zero => exact Nat.le_refl _
  | succ k ih =>
    rw [rd_g_s]
    by_cases c : rd_st R L p (w k) = true
    · rw [if_pos c]
      by_cases d : rd_g w R L f p k ≤ f (p + (w k).log2) + 1
      · rw [if_pos d]; exact ih
      · rw [if_neg d]; omega
    · rw [if_neg c]; exact ih
theorem rd_h_le {w : Nat → Nat} {R L : Nat} {v f : Nat → Nat} {p : Nat} : ∀ k, rd_h w R L v f p k ≤ 99 := by
  intro k
  induction k with
  | zero => exact Nat.le_refl _
  | succ k ih =>
    rw [rd_h_s]
    by_cases c : rd_st R L p (w k) = true
    · rw [if_pos c]
      by_cases e : v (p + (w k).log2) ≤ 0
      · rw [if_pos e]; exact ih
      · rw [if_neg e]
        by_cases d : rd_h w R L v f p k ≤ f (p + (w k).log2) + 1
        · rw [if_pos d]; exact ih
        · rw [if_neg d]; omega
    · rw [if_neg c]; exact ih
theorem rd_x_le {n : Nat} {w : Nat → Nat} (hw : rd_W n w) {R L p : Nat} (hp : p ≤ L) : rd_x n w R L p ≤ 10000 := by
  by_cases e : p = L
  · subst e; rw [rd_x_end]; omega
  · rw [rd_x_step hw (by omega)]; exact rd_g_le _
theorem rd_y_le {n : Nat} {w : Nat → Nat} (hw : rd_W n w) {R L p : Nat} (hp : p ≤ L) : rd_y n w R L p ≤ 99 := by
  by_cases e : p = L
  · subst e; rw [rd_y_end]; omega
  · rw [rd_y_step hw (by omega)]; exact rd_h_le _
section
variable {xc xl xb xf xt : Int32} {ao au aw ae asx am ap aq az ah ad : Nat → Int32} {yc yr : Int32} {vw vy vl va : Nat → Int32}
theorem xr_40 {n p L B : Nat} {w : Nat → Nat} (hn : n ≤ 6) (hL : L ≤ 16) (hB : B < 2 ^ L) (hW : rd_W n w) (hA : re_A n w ao) (hp : p < L) (f1 : ∀ q, p < q → q ≤ L → aw q = nI (rd_w n w (2 ^ L + B) L q)) (f2 : ∀ q, p < q → q ≤ L → ae q = nI (rd_x n w (2 ^ L + B) L q)) {post : SX → Prop} {J : Int32 → (Nat → Int32) → (Nat → Int32) → (Nat → Int32) → (Nat → Int32) → (Nat → Int32) → (Nat → Int32) → (Nat → Int32) → (Nat → Int32) → (Nat → Int32) → (Nat → Int32) → (Nat → Int32) → Prop} (h : J (nI p + (-1)) ao au (upd aw p (nI (rd_w n w (2 ^ L + B) L p))) (upd ae p (nI (rd_x n w (2 ^ L + B) L p))) asx am ap aq az ah ad) : ∀ d k fuel, k + d = n → d < fuel → wX_findWays_40 post J (nI p) (nI n) (nI L) (nI B) xf xt ao au aw ae asx am ap aq az ah ad fuel (nI (ps_sm (rd_t w (2 ^ L + B) L (rd_w n w (2 ^ L + B) L) p) k)) (nI (rd_g w (2 ^ L + B) L (rd_x n w (2 ^ L + B) L) p k)) (nI k) := by
  have i17 : vp_in (nI p) 17 := vp_in_nI (by omega) (by omega)
  intro d
  induction d with
  | zero =>
    intro k fuel hk hf
    obtain ⟨m, rfl⟩ := na_ex1 hf
    have e : k = n := by omega
    subst e
    rw [rd_w_step hW hp, rd_x_step hW hp] at h
    refine pk_le k k (fun _ => ⟨i17, fun a ea => ⟨i17, fun b eb => nm_e ?_⟩⟩) (fun q => absurd q (by omega))
    rw [ea, eb, nI_clamp (by omega)]
    exact h
  | succ d ih =>
    intro k fuel hk hf
    obtain ⟨m, rfl⟩ := na_ex1 (n := fuel) (by omega)
    have IH := ih (k + 1) m (by omega) (by omega)
    have ⟨w2, w128⟩ := hW.1 k (by omega)
    have l6 := na_lg6 w128
    have l1 := na_lg1 w2
    have i6 : vp_in (nI k) 6 := vp_in_nI (by omega) (by omega)
    have eA : ao (nI k).toNatClampNeg = nI (w k) := by rw [nI_clamp (by omega)]; exact hA k (by omega)
    refine pk_le n k (fun q => absurd q (by omega)) (fun _ => xr_stands hn hL hB hW hA (by omega) (by omega) (fun c => ?_) (fun c => ?_))
    · have q := rd_st_le c
      have gl := rd_g_le (w := w) (R := 2 ^ L + B) (L := L) (f := rd_x n w (2 ^ L + B) L) (p := p) k
      have xl := rd_x_le hW (R := 2 ^ L + B) q
      have i5 : vp_in (nI (p + (w k).log2)) 17 := vp_in_nI (by omega) (by omega)
      have v1 : aw (nI (p + (w k).log2)).toNatClampNeg = nI (rd_w n w (2 ^ L + B) L (p + (w k).log2)) := by rw [nI_clamp (by omega)]; exact f1 _ (by omega) q
      have v2 : ae (nI (p + (w k).log2)).toNatClampNeg + 1 = nI (rd_x n w (2 ^ L + B) L (p + (w k).log2) + 1) := by rw [nI_clamp (by omega), f2 _ (by omega) q, nI_1]
      rw [ps_s, rd_g_s, if_pos c] at IH
      have eT : rd_t w (2 ^ L + B) L (rd_w n w (2 ^ L + B) L) p k = rd_w n w (2 ^ L + B) L (p + (w k).log2) := if_pos c
      rw [eT] at IH
      refine br_f (by decide) ⟨i6, ?_⟩
      rw [eA]
      refine xs_size w128 (nm_r (nI_add _ _) ⟨i5, nm_r (e' := nI (ps_sm (rd_t w (2 ^ L + B) L (rd_w n w (2 ^ L + B) L) p) k + rd_w n w (2 ^ L + B) L (p + (w k).log2))) ?_ ⟨i5, ?_⟩⟩)
      · rw [v1, nI_add]
      · refine pk_le (rd_g w (2 ^ L + B) L (rd_x n w (2 ^ L + B) L) p k) (rd_x n w (2 ^ L + B) L (p + (w k).log2) + 1) (fun z => ?_) (fun z => ⟨i5, nm_r v2 ?_⟩) (hy := v2)
        · rw [if_pos z] at IH
          exact nm_r (nI_1 k) IH
        · rw [if_neg (by omega)] at IH
          exact nm_r (nI_1 k) IH
    · rw [ps_s, rd_g_s, if_neg c] at IH
      have eT : rd_t w (2 ^ L + B) L (rd_w n w (2 ^ L + B) L) p k = 0 := if_neg c
      rw [eT, Nat.add_zero] at IH
      exact br_t rfl (nm_r (nI_1 k) IH)
theorem xr_find {n L B : Nat} {w : Nat → Nat} (hn : n ≤ 6) (hL : L ≤ 16) (hB : B < 2 ^ L) (hW : rd_W n w) (hA : re_A n w ao) {post : SX → Prop} (h : ∀ aw' ae', (∀ q, q ≤ L → aw' q = nI (rd_w n w (2 ^ L + B) L q)) → (∀ q, q ≤ L → ae' q = nI (rd_x n w (2 ^ L + B) L q)) → post (nI n, nI L, nI B, xf, xt, ao, au, aw', ae', asx, am, ap, aq, az, ah, ad)) : wpX_findWays post (nI n, nI L, nI B, xf, xt, ao, au, aw, ae, asx, am, ap, aq, az, ah, ad) := by
  have H : ∀ q aw ae fuel, q ≤ L → q < fuel → (∀ j, q ≤ j → j ≤ L → aw j = nI (rd_w n w (2 ^ L + B) L j)) → (∀ j, q ≤ j → j ≤ L → ae j = nI (rd_x n w (2 ^ L + B) L j)) → wX_findWays_27 post (nI n) (nI L) (nI B) xf xt fuel (nI q + (-1)) ao au aw ae asx am ap aq az ah ad := by
    intro q
    induction q with
    | zero =>
      intro aw ae fuel hq hf h1 h2
      obtain ⟨m, rfl⟩ := na_ex1 hf
      exact br_t (by decide) (h aw ae (fun j hj => h1 j (by omega) hj) (fun j hj => h2 j (by omega) hj))
    | succ q ih =>
      intro aw ae fuel hq hf h1 h2
      obtain ⟨m, rfl⟩ := na_ex1 (n := fuel) (by omega)
      rw [pk_m1]
      refine br_f (nI_pos (by omega)) ⟨n + 1, xr_40 hn hL hB hW hA (by omega) (fun j h3 h4 => h1 j (by omega) h4) (fun j h3 h4 => h2 j (by omega) h4) (ih _ _ m (by omega) (by omega) ?_ ?_) n 0 (n + 1) (by omega) (by omega)⟩
      · intro j h3 h4
        by_cases e : j = q
        · subst e; rw [pk_us]
        · rw [pk_un e]; exact h1 j (by omega) h4
      · intro j h3 h4
        by_cases e : j = q
        · subst e; rw [pk_us]
        · rw [pk_un e]; exact h2 j (by omega) h4
  have i17 : vp_in (nI L) 17 := vp_in_nI (by omega) (by omega)
  refine ⟨i17, fun a ea => ⟨i17, fun b eb => nm_r (e' := nI L + (-1)) (Int32.sub_eq_add_neg _ _) ⟨L + 1, H L a b (L + 1) (by omega) (by omega) ?_ ?_⟩⟩⟩
  · intro j h3 h4
    have e : j = L := by omega
    subst e
    rw [ea, nI_clamp (by omega), pk_us, rd_w_end]; rfl
  · intro j h3 h4
    have e : j = L := by omega
    subst e
    rw [eb, nI_clamp (by omega), pk_us, rd_x_end]; rfl
theorem yr_46 {n p L R : Nat} {w : Nat → Nat} (hn : n ≤ 6) (hL : L ≤ 16) (hR : R < 2 ^ 31) (hW : rd_W n w) (hA : re_A n w vw) (hp : p < L) {post : Int32 → SY → Prop} {J : Int32 → (Nat → Int32) → (Nat → Int32) → (Nat → Int32) → (Nat → Int32) → Prop} (h : ∀ vy' vl', (∀ q, p ≤ q → q ≤ L → vy' q = nI (rd_w n w R L q)) → (∀ q, p ≤ q → q ≤ L → vl' q = nI (rd_y n w R L q)) → J (nI p + (-1)) vw vy' vl' va) : ∀ d k vy vl fuel, k + d = n → d < fuel → vy p = nI (ps_sm (rd_t w R L (rd_w n w R L) p) k) → vl p = nI (rd_h w R L (rd_w n w R L) (rd_y n w R L) p k) → (∀ q, p < q → q ≤ L → vy q = nI (rd_w n w R L q)) → (∀ q, p < q → q ≤ L → vl q = nI (rd_y n w R L q)) → wY_count_46 post J (nI R) (nI L) (nI p) (nI n) yr fuel (nI k) vw vy vl va := by
  have ip : vp_in (nI p) 18 := vp_in_nI (by omega) (by omega)
  have cp : (nI p).toNatClampNeg = p := nI_clamp (by omega)
  intro d
  induction d with
  | zero =>
    intro k vy vl fuel hk hf g1 g2 f1 f2
    obtain ⟨m, rfl⟩ := na_ex1 hf
    have e : k = n := by omega
    subst e
    rw [← rd_w_step hW hp] at g1
    rw [← rd_y_step hW hp] at g2
    refine pk_le k k (fun _ => nm_e (h vy vl (fun q h1 h2 => ?_) (fun q h1 h2 => ?_))) (fun q => absurd q (by omega))
    · by_cases e : q = p
      · subst e; exact g1
      · exact f1 q (by omega) h2
    · by_cases e : q = p
      · subst e; exact g2
      · exact f2 q (by omega) h2
  | succ d ih =>
    intro k vy vl fuel hk hf g1 g2 f1 f2
    obtain ⟨m, rfl⟩ := na_ex1 (n := fuel) (by omega)
    have ⟨w2, w128⟩ := hW.1 k (by omega)
    have l6 := na_lg6 w128
    have l1 := na_lg1 w2
    have i7 : vp_in (nI k) 7 := vp_in_nI (by omega) (by omega)
    have eA : vw (nI k).toNatClampNeg = nI (w k) := by rw [nI_clamp (by omega)]; exact hA k (by omega)
    refine pk_le n k (fun q => absurd q (by omega)) (fun _ => ⟨i7, ?_⟩)
    rw [eA]
    refine yr_stands hL hR w2 w128 (by omega) (fun c => ?_) (fun c => ?_)
    · have q := rd_st_le c
      have i5 : vp_in (nI (p + (w k).log2)) 18 := vp_in_nI (by omega) (by omega)
      have c5 : (nI (p + (w k).log2)).toNatClampNeg = p + (w k).log2 := nI_clamp (by omega)
      have eT : rd_t w R L (rd_w n w R L) p k = rd_w n w R L (p + (w k).log2) := if_pos c
      have hs := rd_h_le (w := w) (R := R) (L := L) (v := rd_w n w R L) (f := rd_y n w R L) (p := p) k
      have ys := rd_y_le hW (R := R) q
      have ws := rd_small hW (R := R) hL q
      refine br_f (by decide) ⟨i7, ys_len (by omega) (nm_r (nI_add _ _) ⟨ip, i5, ip, fun a ea => ⟨i5, ?_⟩⟩)⟩
      rw [cp, c5] at ea
      have a1 : a p = nI (ps_sm (rd_t w R L (rd_w n w R L) p) (k + 1)) := by rw [ea, pk_us, g1, f1 _ (by omega) q, nI_add, ps_s, eT]
      have a2 : ∀ q, p < q → q ≤ L → a q = nI (rd_w n w R L q) := fun q h1 h2 => by rw [ea, pk_un (by omega)]; exact f1 q h1 h2
      have v1 : a (nI (p + (w k).log2)).toNatClampNeg = nI (rd_w n w R L (p + (w k).log2)) := by rw [c5]; exact a2 _ (by omega) q
      have v2 : vl (nI (p + (w k).log2)).toNatClampNeg + 1 = nI (rd_y n w R L (p + (w k).log2) + 1) := by rw [c5, f2 _ (by omega) q, nI_1]
      have v3 : vl (nI p).toNatClampNeg = nI (rd_h w R L (rd_w n w R L) (rd_y n w R L) p k) := by rw [cp]; exact g2
      refine pk_le (rd_w n w R L (p + (w k).log2)) 0 (fun z => nm_r (nI_1 k) (ih (k + 1) a vl m (by omega) (by omega) a1 ?_ a2 f2)) (fun z => ⟨i5, ip, ?_⟩) (hx := v1)
      · rw [rd_h_s, if_pos c, if_pos z]; exact g2
      · refine pk_le (rd_h w R L (rd_w n w R L) (rd_y n w R L) p k) (rd_y n w R L (p + (w k).log2) + 1) (fun y => nm_r (nI_1 k) (ih (k + 1) a vl m (by omega) (by omega) a1 ?_ a2 f2)) (fun y => ⟨i5, ip, fun b eb => nm_r (nI_1 k) (ih (k + 1) a b m (by omega) (by omega) a1 ?_ a2 ?_)⟩) (hx := v3) (hy := v2)
        · rw [rd_h_s, if_pos c, if_neg (by omega), if_pos y]; exact g2
        · rw [rd_h_s, if_pos c, if_neg (by omega), if_neg (by omega), eb, cp, pk_us]; exact v2
        · intro j h1 h2
          rw [eb, cp, pk_un (by omega)]; exact f2 j h1 h2
    · have eT : rd_t w R L (rd_w n w R L) p k = 0 := if_neg c
      refine br_t rfl (nm_r (nI_1 k) (ih (k + 1) vy vl m (by omega) (by omega) ?_ ?_ f1 f2))
      · rw [ps_s, eT, Nat.add_zero]; exact g1
      · rw [rd_h_s, if_neg c]; exact g2
theorem yr_count {n L R : Nat} {w : Nat → Nat} (hn : n ≤ 6) (hL : L ≤ 16) (hR : R < 2 ^ 31) (hl : R.log2 = L) (hW : rd_W n w) (hA : re_A n w vw) {post : Int32 → SY → Prop} (h : ∀ vy' vl', (∀ q, q ≤ L → vy' q = nI (rd_w n w R L q)) → (∀ q, q ≤ L → vl' q = nI (rd_y n w R L q)) → post (nI (rd_w n w R L 0)) (nI n, yr, vw, vy', vl', va)) : wpY_count post (nI n, yr, vw, vy, vl, va) (nI R) := by
  have H : ∀ q vy vl fuel, q ≤ L → q < fuel → (∀ j, q ≤ j → j ≤ L → vy j = nI (rd_w n w R L j)) → (∀ j, q ≤ j → j ≤ L → vl j = nI (rd_y n w R L j)) → wY_count_24 post (nI R) (nI L) (nI n) yr fuel (nI q + (-1)) vw vy vl va := by
    intro q
    induction q with
    | zero =>
      intro vy vl fuel hq hf h1 h2
      obtain ⟨m, rfl⟩ := na_ex1 hf
      refine br_t (by decide) ?_
      rw [h1 0 (by omega) (by omega)]
      exact h vy vl (fun j hj => h1 j (by omega) hj) (fun j hj => h2 j (by omega) hj)
    | succ q ih =>
      intro vy vl fuel hq hf h1 h2
      obtain ⟨m, rfl⟩ := na_ex1 (n := fuel) (by omega)
      have iq : vp_in (nI q) 18 := vp_in_nI (by omega) (by omega)
      have cq : (nI q).toNatClampNeg = q := nI_clamp (by omega)
      rw [pk_m1]
      refine br_f (nI_pos (by omega)) ⟨iq, fun a ea => ⟨iq, fun b eb => ⟨n + 1, yr_46 hn hL hR hW hA (by omega) (fun vy' vl' h3 h4 => ih vy' vl' m (by omega) (by omega) h3 h4) n 0 a b (n + 1) (by omega) (by omega) ?_ ?_ ?_ ?_⟩⟩⟩
      · rw [ea, cq, pk_us]; rfl
      · rw [eb, cq, pk_us]; rfl
      · intro j h3 h4
        rw [ea, cq, pk_un (by omega)]; exact h1 j (by omega) h4
      · intro j h3 h4
        rw [eb, cq, pk_un (by omega)]; exact h2 j (by omega) h4
  have i18 : vp_in (nI L) 18 := vp_in_nI (by omega) (by omega)
  refine ys_len hR ?_
  rw [hl]
  refine ⟨i18, fun a ea => ⟨i18, fun b eb => nm_r (e' := nI L + (-1)) (Int32.sub_eq_add_neg _ _) ⟨L + 1, H L a b (L + 1) (by omega) (by omega) ?_ ?_⟩⟩⟩
  · intro j h3 h4
    have e : j = L := by omega
    subst e
    rw [ea, nI_clamp (by omega), pk_us, rd_w_end]; rfl
  · intro j h3 h4
    have e : j = L := by omega
    subst e
    rw [eb, nI_clamp (by omega), pk_us, rd_y_end]; rfl
end
end
section
/-! readings, fewest, read -/
theorem i_vc_readings {k : Nat} {u : SX} {v : SY} (I : i_Rel k u v) (hk : k + 3 ≤ 1536) : wpX_readings (fun r u' => wpY_readings (fun r' v' => r' = r ∧ i_Rel (k + 3) u' v') v) u := by
  refine re_el (P := fun u v => wpX_readings (fun r u' => wpY_readings (fun r' v' => r' = r ∧ i_Rel (k + 3) u' v') v) u) ?_ I
  intro n L B w xf xt ao au aw ae asx am ap aq az ah ad vw vy vl va hn hL hB hW hA hV
  unfold wpX_readings wpY_readings
  dsimp only
  refine xr_find hn hL hB hW hA (fun aw' ae' h1 h2 => ?_)
  refine yr_count hn hL (ro_lt hL hB) (ro_lg hB) hW hV (fun vy' vl' g1 g2 => ?_)
  exact ⟨(h1 0 (by omega)).symm, re_mk hn hL hB hW hA hV⟩
theorem i_vc_fewest {k : Nat} {u : SX} {v : SY} (I : i_Rel k u v) (hk : k + 3 ≤ 1536) : wpX_fewest (fun r u' => wpY_fewest (fun r' v' => r' = r ∧ i_Rel (k + 3) u' v') v) u := by
  refine re_el (P := fun u v => wpX_fewest (fun r u' => wpY_fewest (fun r' v' => r' = r ∧ i_Rel (k + 3) u' v') v) u) ?_ I
  intro n L B w xf xt ao au aw ae asx am ap aq az ah ad vw vy vl va hn hL hB hW hA hV
  unfold wpX_fewest wpY_fewest
  dsimp only
  refine xr_find hn hL hB hW hA (fun aw' ae' h1 h2 => ?_)
  have e := h2 0 (by omega)
  have xl := rd_x_le hW (R := 2 ^ L + B) (L := L) (p := 0) (by omega)
  have ws := rd_small hW (R := 2 ^ L + B) hL (p := 0) (by omega)
  have A := rd_agree hW (R := 2 ^ L + B) hL L 0 (by omega)
  refine pk_le 10000 (rd_x n w (2 ^ L + B) L 0) (fun q => ?_) (fun q => ?_) (hy := e)
  · refine yr_count hn hL (ro_lt hL hB) (ro_lg hB) hW hV (fun vy' vl' g1 g2 => ?_)
    refine pk_eq (rd_w n w (2 ^ L + B) L 0) 0 (fun _ => ⟨rfl, re_mk hn hL hB hW hA hV⟩) (fun z => ?_)
    rcases A with ⟨a1, a2⟩ | ⟨a1, a2, a3⟩
    · exact absurd a1 z
    · omega
  · refine yr_count hn hL (ro_lt hL hB) (ro_lg hB) hW hV (fun vy' vl' g1 g2 => ?_)
    refine pk_eq (rd_w n w (2 ^ L + B) L 0) 0 (fun z => ?_) (fun z => ⟨?_, re_mk hn hL hB hW hA hV⟩)
    · rcases A with ⟨a1, a2⟩ | ⟨a1, a2, a3⟩ <;> omega
    · rcases A with ⟨a1, a2⟩ | ⟨a1, a2, a3⟩
      · exact absurd a1 z
      · show vl' 0 = ae' 0
        rw [g2 0 (by omega), e, a2]
section
variable {xc xl xb xf xt : Int32} {ao au aw ae asx am ap aq az ah ad : Nat → Int32} {yc yr : Int32} {vw vy vl va : Nat → Int32}
theorem xr_word {n p L B t left : Nat} {w : Nat → Nat} (hn : n ≤ 6) (hL : L ≤ 16) (hB : B < 2 ^ L) (hW : rd_W n w) (hA : re_A n w ao) (hp : p < L) (f1 : ∀ q, q ≤ L → aw q = nI (rd_w n w (2 ^ L + B) L q)) (ht : t < n) (t1 : ps_sm (rd_t w (2 ^ L + B) L (rd_w n w (2 ^ L + B) L) p) t ≤ left) (t2 : left < ps_sm (rd_t w (2 ^ L + B) L (rd_w n w (2 ^ L + B) L) p) t + rd_t w (2 ^ L + B) L (rd_w n w (2 ^ L + B) L) p t) (hl : left < 65536) {post : Int32 → Prop} (h : post (nI t)) : wpX_wordFrom post (nI n, nI L, nI B, xf, xt, ao, au, aw, ae, asx, am, ap, aq, az, ah, ad) (nI p) (nI left) := by
  have H : ∀ d k, k + d = t → wX_wordFrom_5 post (nI p) (nI n) (nI L) (nI B) xf xt ao au aw ae asx am ap aq az ah ad (d + 1) (nI (left - ps_sm (rd_t w (2 ^ L + B) L (rd_w n w (2 ^ L + B) L) p) k)) (nI k) := by
    intro d
    induction d with
    | zero =>
      intro k hk
      have e : k = t := by omega
      subst e
      have ⟨w2, w128⟩ := hW.1 k ht
      have l6 := na_lg6 w128
      have i6 : vp_in (nI k) 6 := vp_in_nI (by omega) (by omega)
      have eA : ao (nI k).toNatClampNeg = nI (w k) := by rw [nI_clamp (by omega)]; exact hA k (by omega)
      refine pk_le n k (fun q => absurd q (by omega)) (fun _ => xr_stands hn hL hB hW hA (by omega) (by omega) (fun c => ?_) (fun c => ?_))
      · have q := rd_st_le c
        have ws := rd_small hW (R := 2 ^ L + B) hL q
        have eT : rd_t w (2 ^ L + B) L (rd_w n w (2 ^ L + B) L) p k = rd_w n w (2 ^ L + B) L (p + (w k).log2) := if_pos c
        rw [eT] at t2
        refine br_f (by decide) ⟨i6, ?_⟩
        rw [eA]
        refine xs_size w128 ?_
        rw [nI_add]
        refine ⟨vp_in_nI (by omega) (by omega), nm_r (e' := nI (rd_w n w (2 ^ L + B) L (p + (w k).log2))) (by rw [nI_clamp (by omega)]; exact f1 _ q) ?_⟩
        exact pk_le (rd_w n w (2 ^ L + B) L (p + (w k).log2)) (left - ps_sm (rd_t w (2 ^ L + B) L (rd_w n w (2 ^ L + B) L) p) k) (fun z => absurd z (by omega)) (fun _ => h)
      · have eT : rd_t w (2 ^ L + B) L (rd_w n w (2 ^ L + B) L) p k = 0 := if_neg c
        omega
    | succ d ih =>
      intro k hk
      have IH := ih (k + 1) (by omega)
      have ⟨w2, w128⟩ := hW.1 k (by omega)
      have l6 := na_lg6 w128
      have i6 : vp_in (nI k) 6 := vp_in_nI (by omega) (by omega)
      have eA : ao (nI k).toNatClampNeg = nI (w k) := by rw [nI_clamp (by omega)]; exact hA k (by omega)
      have mo := ps_mono (rd_t w (2 ^ L + B) L (rd_w n w (2 ^ L + B) L) p) (show k + 1 ≤ t from by omega)
      rw [ps_s] at mo IH
      refine pk_le n k (fun q => absurd q (by omega)) (fun _ => xr_stands hn hL hB hW hA (by omega) (by omega) (fun c => ?_) (fun c => ?_))
      · have q := rd_st_le c
        have ws := rd_small hW (R := 2 ^ L + B) hL q
        have eT : rd_t w (2 ^ L + B) L (rd_w n w (2 ^ L + B) L) p k = rd_w n w (2 ^ L + B) L (p + (w k).log2) := if_pos c
        rw [eT] at mo IH
        refine br_f (by decide) ⟨i6, ?_⟩
        rw [eA]
        refine xs_size w128 ?_
        rw [nI_add]
        refine ⟨vp_in_nI (by omega) (by omega), nm_r (e' := nI (rd_w n w (2 ^ L + B) L (p + (w k).log2))) (by rw [nI_clamp (by omega)]; exact f1 _ q) ?_⟩
        refine pk_le (rd_w n w (2 ^ L + B) L (p + (w k).log2)) (left - ps_sm (rd_t w (2 ^ L + B) L (rd_w n w (2 ^ L + B) L) p) k) (fun z => nm_r (pk_sub z) (nm_r (nI_1 k) ?_)) (fun z => absurd z (by omega))
        rw [Nat.sub_sub]
        exact IH
      · have eT : rd_t w (2 ^ L + B) L (rd_w n w (2 ^ L + B) L) p k = 0 := if_neg c
        rw [eT, Nat.add_zero] at IH
        exact br_t rfl (nm_r (nI_1 k) IH)
  exact ⟨t + 1, H t 0 (by omega)⟩
theorem xr_before {n p L B t : Nat} {w : Nat → Nat} (hn : n ≤ 6) (hL : L ≤ 16) (hB : B < 2 ^ L) (hW : rd_W n w) (hA : re_A n w ao) (hp : p < L) (f1 : ∀ q, q ≤ L → aw q = nI (rd_w n w (2 ^ L + B) L q)) (ht : t < n) {post : Int32 → Prop} (h : post (nI (ps_sm (rd_t w (2 ^ L + B) L (rd_w n w (2 ^ L + B) L) p) t))) : wpX_before post (nI n, nI L, nI B, xf, xt, ao, au, aw, ae, asx, am, ap, aq, az, ah, ad) (nI p) (nI t) := by
  have H : ∀ d k, k + d = t → wX_before_5 post (nI p) (nI t) (nI n) (nI L) (nI B) xf xt ao au aw ae asx am ap aq az ah ad (d + 1) (nI (ps_sm (rd_t w (2 ^ L + B) L (rd_w n w (2 ^ L + B) L) p) k)) (nI k) := by
    intro d
    induction d with
    | zero =>
      intro k hk
      have e : k = t := by omega
      subst e
      exact pk_le k k (fun _ => h) (fun q => absurd q (by omega))
    | succ d ih =>
      intro k hk
      have IH := ih (k + 1) (by omega)
      have ⟨w2, w128⟩ := hW.1 k (by omega)
      have l6 := na_lg6 w128
      have i6 : vp_in (nI k) 6 := vp_in_nI (by omega) (by omega)
      have eA : ao (nI k).toNatClampNeg = nI (w k) := by rw [nI_clamp (by omega)]; exact hA k (by omega)
      rw [ps_s] at IH
      refine pk_le t k (fun q => absurd q (by omega)) (fun _ => xr_stands hn hL hB hW hA (by omega) (by omega) (fun c => ?_) (fun c => ?_))
      · have q := rd_st_le c
        have eT : rd_t w (2 ^ L + B) L (rd_w n w (2 ^ L + B) L) p k = rd_w n w (2 ^ L + B) L (p + (w k).log2) := if_pos c
        rw [eT] at IH
        refine br_f (by decide) ⟨i6, ?_⟩
        rw [eA]
        refine xs_size w128 ?_
        rw [nI_add]
        refine ⟨vp_in_nI (by omega) (by omega), nm_r (e' := nI (ps_sm (rd_t w (2 ^ L + B) L (rd_w n w (2 ^ L + B) L) p) k + rd_w n w (2 ^ L + B) L (p + (w k).log2))) ?_ (nm_r (nI_1 k) IH)⟩
        rw [nI_clamp (by omega), f1 _ q, nI_add]
      · have eT : rd_t w (2 ^ L + B) L (rd_w n w (2 ^ L + B) L) p k = 0 := if_neg c
        rw [eT, Nat.add_zero] at IH
        exact br_t rfl (nm_r (nI_1 k) IH)
  exact ⟨t + 1, H t 0 (by omega)⟩
theorem yr_57 {n p L B t left : Nat} {i a : Int32} {w : Nat → Nat} (hn : n ≤ 6) (hL : L ≤ 16) (hB : B < 2 ^ L) (hW : rd_W n w) (hA : re_A n w vw) (hp : p < L) (f1 : ∀ q, q ≤ L → vy q = nI (rd_w n w (2 ^ L + B) L q)) (ht : t < n) (t1 : ps_sm (rd_t w (2 ^ L + B) L (rd_w n w (2 ^ L + B) L) p) t ≤ left) (t2 : left < ps_sm (rd_t w (2 ^ L + B) L (rd_w n w (2 ^ L + B) L) p) t + rd_t w (2 ^ L + B) L (rd_w n w (2 ^ L + B) L) p t) (hl : left < 65536) {post : Int32 → SY → Prop} {J : Int32 → Int32 → Int32 → Prop} (h : wY_read_141 post J i (nI L) (nI p) (nI (left - ps_sm (rd_t w (2 ^ L + B) L (rd_w n w (2 ^ L + B) L) p) t)) a (nI t) (nI n) (nI (2 ^ L + B)) vw vy vl va) : ∀ d k, k + d = t → wY_read_57 post J i (nI L) (nI p) a (nI n) (nI (2 ^ L + B)) vw vy vl va (d + 2) (nI (left - ps_sm (rd_t w (2 ^ L + B) L (rd_w n w (2 ^ L + B) L) p) k)) (-1) (nI k) := by
  intro d
  induction d with
  | zero =>
    intro k hk
    have e : k = t := by omega
    subst e
    have ⟨w2, w128⟩ := hW.1 k ht
    have l6 := na_lg6 w128
    have i7 : vp_in (nI k) 7 := vp_in_nI (by omega) (by omega)
    have eA : vw (nI k).toNatClampNeg = nI (w k) := by rw [nI_clamp (by omega)]; exact hA k (by omega)
    refine pk_le n k (fun q => absurd q (by omega)) (fun _ => br_f (by decide) ⟨i7, ?_⟩)
    rw [eA]
    refine yr_stands hL (ro_lt hL hB) w2 w128 (by omega) (fun c => ?_) (fun c => ?_)
    · have q := rd_st_le c
      have ws := rd_small hW (R := 2 ^ L + B) hL q
      have eT : rd_t w (2 ^ L + B) L (rd_w n w (2 ^ L + B) L) p k = rd_w n w (2 ^ L + B) L (p + (w k).log2) := if_pos c
      rw [eT] at t2
      refine br_f (by decide) ⟨i7, ys_len (by omega) ?_⟩
      rw [nI_add]
      refine ⟨vp_in_nI (by omega) (by omega), nm_r (e' := nI (rd_w n w (2 ^ L + B) L (p + (w k).log2))) (by rw [nI_clamp (by omega)]; exact f1 _ q) ?_⟩
      exact pk_le (rd_w n w (2 ^ L + B) L (p + (w k).log2)) (left - ps_sm (rd_t w (2 ^ L + B) L (rd_w n w (2 ^ L + B) L) p) k) (fun z => absurd z (by omega)) (fun _ => nm_r (nI_1 k) (pk_le n (k + 1) (fun _ => h) (fun _ => br_t (nI_pos' (by omega)) h)))
    · have eT : rd_t w (2 ^ L + B) L (rd_w n w (2 ^ L + B) L) p k = 0 := if_neg c
      omega
  | succ d ih =>
    intro k hk
    have IH := ih (k + 1) (by omega)
    have ⟨w2, w128⟩ := hW.1 k (by omega)
    have l6 := na_lg6 w128
    have i7 : vp_in (nI k) 7 := vp_in_nI (by omega) (by omega)
    have eA : vw (nI k).toNatClampNeg = nI (w k) := by rw [nI_clamp (by omega)]; exact hA k (by omega)
    have mo := ps_mono (rd_t w (2 ^ L + B) L (rd_w n w (2 ^ L + B) L) p) (show k + 1 ≤ t from by omega)
    rw [ps_s] at mo IH
    refine pk_le n k (fun q => absurd q (by omega)) (fun _ => br_f (by decide) ⟨i7, ?_⟩)
    rw [eA]
    refine yr_stands hL (ro_lt hL hB) w2 w128 (by omega) (fun c => ?_) (fun c => ?_)
    · have q := rd_st_le c
      have ws := rd_small hW (R := 2 ^ L + B) hL q
      have eT : rd_t w (2 ^ L + B) L (rd_w n w (2 ^ L + B) L) p k = rd_w n w (2 ^ L + B) L (p + (w k).log2) := if_pos c
      rw [eT] at mo IH
      refine br_f (by decide) ⟨i7, ys_len (by omega) ?_⟩
      rw [nI_add]
      refine ⟨vp_in_nI (by omega) (by omega), nm_r (e' := nI (rd_w n w (2 ^ L + B) L (p + (w k).log2))) (by rw [nI_clamp (by omega)]; exact f1 _ q) ?_⟩
      refine pk_le (rd_w n w (2 ^ L + B) L (p + (w k).log2)) (left - ps_sm (rd_t w (2 ^ L + B) L (rd_w n w (2 ^ L + B) L) p) k) (fun z => nm_r (pk_sub z) (nm_r (nI_1 k) ?_)) (fun z => absurd z (by omega))
      rw [Nat.sub_sub]
      exact IH
    · have eT : rd_t w (2 ^ L + B) L (rd_w n w (2 ^ L + B) L) p k = 0 := if_neg c
      rw [eT, Nat.add_zero] at IH
      exact br_t rfl (nm_r (nI_1 k) IH)
theorem re_lock {n L B : Nat} {i : Int32} {w : Nat → Nat} (hn : n ≤ 6) (hL : L ≤ 16) (hB : B < 2 ^ L) (hW : rd_W n w) (hA : re_A n w ao) (hV : re_A n w vw) (f1 : ∀ q, q ≤ L → aw q = nI (rd_w n w (2 ^ L + B) L q)) : ∀ d p left (a : Int32), p + d = L → left < rd_w n w (2 ^ L + B) L p → ∃ r : Int32,
    (∀ (post : Int32 → SX → Prop) (fuel : Nat), d < fuel → post r (nI n, nI L, nI B, xf, xt, ao, au, aw, ae, asx, am, ap, aq, az, ah, ad) → wX_read_33 post i (nI n) (nI L) (nI B) xf xt ao au aw ae asx am ap aq az ah ad fuel (nI p) (nI left) a) ∧
    (∀ (vy vl : Nat → Int32), (∀ q, q ≤ L → vy q = nI (rd_w n w (2 ^ L + B) L q)) → ∀ (post : Int32 → SY → Prop) (fuel : Nat), d < fuel → post r (nI n, nI (2 ^ L + B), vw, vy, vl, va) → wY_read_44 post i (nI L) (nI n) (nI (2 ^ L + B)) vw vy vl va fuel (nI p) (nI left) a) := by
  intro d
  induction d using Nat.strongRecOn with
  | ind d ih =>
    intro p left a hp hl
    by_cases e : d = 0
    · have e2 : p = L := by omega
      subst e2
      refine ⟨-4, fun post fuel hf h => ?_, fun vy vl f2 post fuel hf h => ?_⟩
      · obtain ⟨m, rfl⟩ := na_ex1 (n := fuel) (by omega)
        exact pk_le p p (fun _ => h) (fun q => absurd q (by omega))
      · obtain ⟨m, rfl⟩ := na_ex1 (n := fuel) (by omega)
        exact pk_le p p (fun _ => h) (fun q => absurd q (by omega))
    · have ws := rd_small hW (R := 2 ^ L + B) hL (show p ≤ L from by omega)
      have hl2 := hl
      rw [rd_w_step hW (by omega)] at hl2
      obtain ⟨t, ht, t1, t2⟩ := rd_pick n hl2
      have ⟨w2, w128⟩ := hW.1 t ht
      have l6 := na_lg6 w128
      have l1 := na_lg1 w2
      have c : rd_st (2 ^ L + B) L p (w t) = true := by
        by_cases c : rd_st (2 ^ L + B) L p (w t) = true
        · exact c
        · have eT : rd_t w (2 ^ L + B) L (rd_w n w (2 ^ L + B) L) p t = 0 := if_neg c
          omega
      have q := rd_st_le c
      have eT : rd_t w (2 ^ L + B) L (rd_w n w (2 ^ L + B) L) p t = rd_w n w (2 ^ L + B) L (p + (w t).log2) := if_pos c
      have i6 : vp_in (nI t) 6 := vp_in_nI (by omega) (by omega)
      have i7 : vp_in (nI t) 7 := vp_in_nI (by omega) (by omega)
      have eA : ao (nI t).toNatClampNeg = nI (w t) := by rw [nI_clamp (by omega)]; exact hA t (by omega)
      have eV : vw (nI t).toNatClampNeg = nI (w t) := by rw [nI_clamp (by omega)]; exact hV t (by omega)
      by_cases ai : a = i
      · refine ⟨nI t, fun post fuel hf h => ?_, fun vy vl f2 post fuel hf h => ?_⟩
        · obtain ⟨m, rfl⟩ := na_ex1 (n := fuel) (by omega)
          exact pk_le L p (fun q => absurd q (by omega)) (fun _ => xr_word hn hL hB hW hA (by omega) f1 ht t1 t2 (by omega) (br_f (nI_pos (by omega)) (br_t ai h)))
        · obtain ⟨m, rfl⟩ := na_ex1 (n := fuel) (by omega)
          exact pk_le L p (fun q => absurd q (by omega)) (fun _ => ⟨t + 2, yr_57 hn hL hB hW hV (by omega) f2 ht t1 t2 (by omega) (br_t ai h) t 0 (by omega)⟩)
      · obtain ⟨r, rX, rY⟩ := ih (d - (w t).log2) (by omega) (p + (w t).log2) (left - ps_sm (rd_t w (2 ^ L + B) L (rd_w n w (2 ^ L + B) L) p) t) (a + 1) (by omega) (by omega)
        refine ⟨r, fun post fuel hf h => ?_, fun vy vl f2 post fuel hf h => ?_⟩
        · obtain ⟨m, rfl⟩ := na_ex1 (n := fuel) (by omega)
          refine pk_le L p (fun q => absurd q (by omega)) (fun _ => xr_word hn hL hB hW hA (by omega) f1 ht t1 t2 (by omega) (br_f (nI_pos (by omega)) (br_f ai (xr_before hn hL hB hW hA (by omega) f1 ht (nm_r (pk_sub t1) ⟨i6, ?_⟩)))))
          rw [eA]
          exact xs_size w128 (nm_r (nI_add _ _) (nm_e (rX post m (by omega) h)))
        · obtain ⟨m, rfl⟩ := na_ex1 (n := fuel) (by omega)
          refine pk_le L p (fun q => absurd q (by omega)) (fun _ => ⟨t + 2, yr_57 hn hL hB hW hV (by omega) f2 ht t1 t2 (by omega) (br_f ai (nm_e ⟨i7, ?_⟩)) t 0 (by omega)⟩)
          rw [eV]
          exact ys_len (by omega) (nm_r (nI_add _ _) (rY vy vl f2 post m (by omega) h))
end
theorem i_vc_read {k : Nat} {u : SX} {v : SY} (I : i_Rel k u v) (hk : k + 3 ≤ 1536) (v1 : Int32) (v2 : Int32) : wpX_read (fun r u' => wpY_read (fun r' v' => r' = r ∧ i_Rel (k + 3) u' v') v v1 v2) u v1 v2 := by
  refine re_el (P := fun u v => wpX_read (fun r u' => wpY_read (fun r' v' => r' = r ∧ i_Rel (k + 3) u' v') v v1 v2) u v1 v2) ?_ I
  intro n L B w xf xt ao au aw ae asx am ap aq az ah ad vw vy vl va hn hL hB hW hA hV
  unfold wpX_read wpY_read
  dsimp only
  refine xr_find hn hL hB hW hA (fun aw' ae' h1 h2 => ?_)
  have ws := rd_small hW (R := 2 ^ L + B) hL (show 0 ≤ L from by omega)
  have e1 := h1 0 (by omega)
  by_cases n0 : v1 < 0
  · exact br_t n0 (yr_count hn hL (ro_lt hL hB) (ro_lg hB) hW hV (fun vy' vl' g1 g2 => br_t n0 ⟨rfl, re_mk hn hL hB hW hA hV⟩))
  · obtain ⟨c, hc, rfl⟩ := nI_of (x := v1) n0
    by_cases n1 : rd_w n w (2 ^ L + B) L 0 ≤ c
    · refine br_f n0 (pk_le (rd_w n w (2 ^ L + B) L 0) c (fun _ => ?_) (fun z => absurd z (by omega)) (hx := e1))
      exact yr_count hn hL (ro_lt hL hB) (ro_lg hB) hW hV (fun vy' vl' g1 g2 => br_f n0 (pk_le (rd_w n w (2 ^ L + B) L 0) c (fun _ => ⟨rfl, re_mk hn hL hB hW hA hV⟩) (fun z => absurd z (by omega))))
    · by_cases n2 : 0 ≤ v2
      · refine br_f n0 (pk_le (rd_w n w (2 ^ L + B) L 0) c (fun z => absurd z (by omega)) (fun _ => br_t n2 ?_) (hx := e1))
        obtain ⟨r, rX, rY⟩ := re_lock (xf := xf) (xt := xt) (au := au) (ae := ae') (asx := asx) (am := am) (ap := ap) (aq := aq) (az := az) (ah := ah) (ad := ad) (va := va) (i := v2) hn hL hB hW hA hV h1 L 0 c 0 (by omega) (by omega)
        refine ⟨L + 1, rX _ _ (by omega) ?_⟩
        refine yr_count hn hL (ro_lt hL hB) (ro_lg hB) hW hV (fun vy' vl' g1 g2 => br_f n0 (pk_le (rd_w n w (2 ^ L + B) L 0) c (fun z => absurd z (by omega)) (fun _ => br_t n2 (ys_len (ro_lt hL hB) ?_))))
        rw [ro_lg hB]
        exact ⟨L + 1, rY vy' vl' g1 _ _ (by omega) ⟨rfl, re_mk hn hL hB hW hA hV⟩⟩
      · refine br_f n0 (pk_le (rd_w n w (2 ^ L + B) L 0) c (fun z => absurd z (by omega)) (fun _ => br_f n2 ?_) (hx := e1))
        exact yr_count hn hL (ro_lt hL hB) (ro_lg hB) hW hV (fun vy' vl' g1 g2 => br_f n0 (pk_le (rd_w n w (2 ^ L + B) L 0) c (fun z => absurd z (by omega)) (fun _ => br_f n2 ⟨rfl, re_mk hn hL hB hW hA hV⟩)))
end
section
/-! oneMore, keepNext, takeNext -/
theorem so_sum_le (w : Nat → Nat) (s a : Nat) : ∀ k, so_sum w s a k ≤ 3 * k := by
  intro k
  induction k with
  | zero => exact Nat.le_refl _
  | succ k ih =>
    rw [so_sum_s]
    by_cases c : fr_e a (w k) = true
    · rw [if_pos c]
      have := Nat.mod_lt (s / 2 ^ (2 * ((w k).log2 - 1))) (show 4 > 0 from by decide)
      omega
    · rw [if_neg c]; omega
theorem so_e_iff {a c : Nat} : fr_e a c = true ↔ (c.log2 ≤ a.log2 ∧ a % 2 ^ c.log2 + 2 ^ c.log2 = c) := decide_eq_true_iff
theorem so_join {a y z : Nat} (ha : a < 128) (hy : y < 1024) (hz : z < 4) : ((nI a <<< ((12 : Int32) &&& 31)) ||| (nI y <<< ((2 : Int32) &&& 31))) ||| nI z = nI (a * 4096 + y * 4 + z) := by
  have e1 : nI a <<< ((12 : Int32) &&& 31) = nI (a * 2 ^ 12) := na_shl (i := 12) (by omega) (by omega)
  have e2 : nI y <<< ((2 : Int32) &&& 31) = nI (y * 2 ^ 2) := na_shl (i := 2) (by omega) (by omega)
  rw [e1, e2, na_orm (s := 12) (by omega)]
  have e3 : a * 2 ^ 12 + y * 2 ^ 2 = (a * 1024 + y) * 2 ^ 2 := by omega
  rw [e3, na_orm (s := 2) (by omega)]
section
variable {xc xl xb xf xt : Int32} {ao au aw ae asx am ap aq az ah ad : Nat → Int32} {yc yr : Int32} {vw vy vl va : Nat → Int32}
theorem xm_160 {s a z : Nat} (ha : a < 128) (hz : z < 4) {post : Int32 → Prop} (h : post (nI (a * 4096 + s % 1024 * 4 + z))) : wX_oneMore_160 post (nI s) (nI a) (nI z) xc xl xb xf xt ao au aw ae asx am ap aq az ah ad := by
  unfold wX_oneMore_160
  rw [na_and1023, so_join ha (Nat.mod_lt _ (by decide)) hz]
  exact h
theorem xm_41 {n s a : Nat} {w : Nat → Nat} (hn : n ≤ 6) (hW : rd_W n w) (hA : re_A n w ao) (hs : s < 524288) (ha : a < 128) {post : Int32 → Prop} (h : post (nI (a * 4096 + s % 1024 * 4 + so_m (so_sum w s a n)))) : ∀ d k fuel, k + d = n → d < fuel → wX_oneMore_41 post (nI s) (nI a) (nI n) xl xb xf xt ao au aw ae asx am ap aq az ah ad fuel (nI (so_sum w s a k)) (nI k) := by
  intro d
  induction d with
  | zero =>
    intro k fuel hk hf
    obtain ⟨m, rfl⟩ := na_ex1 hf
    have e : k = n := by omega
    subst e
    have sl := so_sum_le w s a k
    refine pk_le k k (fun _ => pk_le (so_sum w s a k) 2 (fun q => ?_) (fun q => ?_)) (fun q => absurd q (by omega))
    · unfold so_m at h
      rw [if_pos q] at h
      exact xm_160 ha (by omega) h
    · unfold so_m at h
      rw [if_neg (by omega)] at h
      exact xm_160 (z := 2) ha (by omega) h
  | succ d ih =>
    intro k fuel hk hf
    obtain ⟨m, rfl⟩ := na_ex1 (n := fuel) (by omega)
    have IH := ih (k + 1) m (by omega) (by omega)
    have ⟨w2, w128⟩ := hW.1 k (by omega)
    have l6 := na_lg6 w128
    have l1 := na_lg1 w2
    have a6 := na_lg6 ha
    have p6 := na_pow l6
    have i6 : vp_in (nI k) 6 := vp_in_nI (by omega) (by omega)
    have eA : ao (nI k).toNatClampNeg = nI (w k) := by rw [nI_clamp (by omega)]; exact hA k (by omega)
    have hm := Nat.mod_lt a (na_pps (w k).log2)
    rw [so_sum_s] at IH
    have F : ¬ fr_e a (w k) = true → wX_oneMore_114 post (wX_oneMore_41 post (nI s) (nI a) (nI n) xl xb xf xt ao au aw ae asx am ap aq az ah ad m) (nI s) (nI a) (nI (so_sum w s a k)) (nI k) (nI (w k).log2) (nI n) xl xb xf xt ao au aw ae asx am ap aq az ah ad := by
      intro c
      rw [if_neg c] at IH
      exact br_t rfl (nm_r (nI_1 k) IH)
    refine pk_le n k (fun q => absurd q (by omega)) (fun _ => ⟨i6, ?_⟩)
    rw [eA]
    refine xs_size w128 (xs_size ha (pk_lt a.log2 (w k).log2 (fun q => ?_) (fun q => ?_)))
    · exact br_t rfl (F (fun c => absurd (so_e_iff.mp c).1 (by omega)))
    · refine br_f (by decide) ⟨i6, na_if (d := fr_e a (w k) = true) ?_ (fun c => ?_) F⟩
      · rw [eA, na_mask (by omega), na_one (by omega), na_orp hm, nI_eq (by omega) (by omega), so_e_iff]
        exact ⟨fun z => ⟨q, z⟩, fun z => z.2⟩
      · rw [if_pos c] at IH
        refine br_f (by decide) (nm_r (e' := nI (so_sum w s a k + s / 2 ^ (2 * ((w k).log2 - 1)) % 4)) ?_ (nm_r (nI_1 k) IH))
        rw [na_m1 l1, na_2m, na_shr (by omega) (by omega), na_and3, nI_add]
theorem xm_one {n s b : Nat} {w : Nat → Nat} (hn : n ≤ 6) (hW : rd_W n w) (hA : re_A n w ao) (hs : s < 524288) (hb : b < 2) {post : Int32 → Prop} (h : post (nI (so_one n w s b))) : wpX_oneMore post (nI n, xl, xb, xf, xt, ao, au, aw, ae, asx, am, ap, aq, az, ah, ad) (nI s) (nI b) := by
  have e1 : nI s >>> ((12 : Int32) &&& 31) = nI (s / 4096) := na_shr (i := 12) (by omega) (by omega)
  have e2 : (2 * nI (s / 4096)) + nI b = nI (2 * (s / 4096) + b) := by rw [na_2m, nI_add]
  unfold so_one so_all at h
  refine nm_r e1 (nm_r e2 (pk_lt (2 * (s / 4096) + b) 128 (fun q => ?_) (fun q => ?_)))
  · rw [if_pos q] at h
    exact ⟨n + 1, xm_41 hn hW hA hs q h n 0 (n + 1) (by omega) (by omega)⟩
  · rw [if_neg (by omega)] at h
    have hm := Nat.mod_lt (2 * (s / 4096) + b) (show 64 > 0 from by decide)
    refine nm_r (e' := nI ((2 * (s / 4096) + b) % 64 + 64)) ?_ ⟨n + 1, xm_41 hn hW hA hs (by omega) h n 0 (n + 1) (by omega) (by omega)⟩
    rw [na_and63]
    exact na_orp (s := 6) hm
theorem xm_keep {l s num : Nat} {NS NM : Nat → Nat} (hl : l < 1024) (hs : s < 524288) (hS : ∀ j, j < l → NS j < 524288) (h1 : re_A l NS ap) (h2 : re_A l NM aq) {post : SX → Prop} (h : ∀ l' ap' aq' NS' NM', l' ≤ l + 1 → re_A l' NS' ap' → re_A l' NM' aq' → (∀ j, j < l' → NS' j = s ∨ ∃ i, i < l ∧ NS' j = NS i) → (∀ g : Nat → Nat, ps_sm (fun j => NM' j * g (NS' j)) l' = ps_sm (fun j => NM j * g (NS j)) l + num * g s) → post (xc, xl, xb, xf, nI l', ao, au, aw, ae, asx, am, ap', aq', az, ah, ad)) : wpX_keepNext post (xc, xl, xb, xf, nI l, ao, au, aw, ae, asx, am, ap, aq, az, ah, ad) (nI s) (nI num) := by
  have H : ∀ d k, k + d = l → (∀ j, j < k → NS j ≠ s) → wX_keepNext_2 post (nI s) (nI num) xc xl xb xf (nI l) ao au aw ae asx am ap aq az ah ad (d + 1) (nI k) := by
    intro d
    induction d with
    | zero =>
      intro k hk hne
      have i : vp_in (nI l) 1024 := vp_in_nI (by omega) (by omega)
      refine pk_le l k (fun _ => pk_le 1024 l (fun q => absurd q (by omega)) (fun _ => ⟨i, fun a ea => ⟨i, fun b eb => nm_r (nI_1 l) ?_⟩⟩)) (fun q => absurd q (by omega))
      rw [nI_clamp (by omega)] at ea eb
      refine h (l + 1) a b (fun j => if j = l then s else NS j) (fun j => if j = l then num else NM j) (by omega) ?_ ?_ ?_ ?_
      · intro j hj
        rw [ea]
        dsimp only
        by_cases g : j = l
        · rw [if_pos g, g, pk_us]
        · rw [if_neg g, pk_un g]; exact h1 j (by omega)
      · intro j hj
        rw [eb]
        dsimp only
        by_cases g : j = l
        · rw [if_pos g, g, pk_us]
        · rw [if_neg g, pk_un g]; exact h2 j (by omega)
      · intro j hj
        by_cases g : j = l
        · exact Or.inl (if_pos g)
        · exact Or.inr ⟨j, by omega, if_neg g⟩
      · intro g
        rw [ps_s, if_pos rfl, if_pos rfl]
        congr 1
        refine ps_congr (fun j hj => ?_)
        rw [if_neg (by omega), if_neg (by omega)]
    | succ d ih =>
      intro k hk hne
      have i : vp_in (nI k) 1024 := vp_in_nI (by omega) (by omega)
      have c : (nI k).toNatClampNeg = k := nI_clamp (by omega)
      have b := hS k (by omega)
      refine pk_le l k (fun q => absurd q (by omega)) (fun _ => ⟨i, pk_eq (NS k) s (fun q => ⟨i, i, fun a ea => ?_⟩) (fun q => nm_r (nI_1 k) (ih (k + 1) (by omega) ?_)) (hx := by rw [c]; exact h1 k (by omega))⟩)
      · rw [c] at ea
        refine h l ap a NS (fun j => if j = k then NM k + num else NM j) (by omega) h1 ?_ (fun j hj => Or.inr ⟨j, hj, rfl⟩) ?_
        · intro j hj
          rw [ea]
          dsimp only
          by_cases g : j = k
          · rw [if_pos g, g, pk_us, h2 k (by omega), nI_add]
          · rw [if_neg g, pk_un g]; exact h2 j hj
        · intro g
          refine ps_put (k := k) (by omega) (fun j hj hjk => ?_) ?_
          · rw [if_neg hjk]
          · rw [if_pos rfl, Nat.add_mul, q]
      · intro j hj
        by_cases g : j = k
        · subst g; exact q
        · exact hne j (by omega)
  exact ⟨l + 1, H l 0 (by omega) (fun j hj => absurd hj (by omega))⟩
theorem xm_take {l : Nat} {NS NM : Nat → Nat} (hl : l ≤ 1024) (h1 : re_A l NS ap) (h2 : re_A l NM aq) {post : SX → Prop} (h : ∀ as' am', re_A l NS as' → re_A l NM am' → post (xc, xl, xb, nI l, nI l, ao, au, aw, ae, as', am', ap, aq, az, ah, ad)) : wpX_takeNext post (xc, xl, xb, xf, nI l, ao, au, aw, ae, asx, am, ap, aq, az, ah, ad) := by
  have H : ∀ d k asx am fuel, k + d = l → d < fuel → re_A k NS asx → re_A k NM am → wX_takeNext_10 post xc xl xb (nI l) (nI l) fuel (nI k) ao au aw ae asx am ap aq az ah ad := by
    intro d
    induction d with
    | zero =>
      intro k asx am fuel hk hf g1 g2
      obtain ⟨m, rfl⟩ := na_ex1 hf
      have e : k = l := by omega
      subst e
      exact pk_le k k (fun _ => h asx am g1 g2) (fun q => absurd q (by omega))
    | succ d ih =>
      intro k asx am fuel hk hf g1 g2
      obtain ⟨m, rfl⟩ := na_ex1 (n := fuel) (by omega)
      have i : vp_in (nI k) 1024 := vp_in_nI (by omega) (by omega)
      have c : (nI k).toNatClampNeg = k := nI_clamp (by omega)
      refine pk_le l k (fun q => absurd q (by omega)) (fun _ => ⟨i, i, fun a ea => ⟨i, i, fun b eb => nm_r (nI_1 k) (ih (k + 1) a b m (by omega) (by omega) ?_ ?_)⟩⟩)
      · intro j hj
        rw [ea, c]
        by_cases g : j = k
        · rw [g, pk_us]; exact h1 k (by omega)
        · rw [pk_un g]; exact g1 j (by omega)
      · intro j hj
        rw [eb, c]
        by_cases g : j = k
        · rw [g, pk_us]; exact h2 k (by omega)
        · rw [pk_un g]; exact g2 j (by omega)
  exact ⟨l + 1, H l 0 asx am (l + 1) (by omega) (by omega) (fun j hj => absurd hj (by omega)) (fun j hj => absurd hj (by omega))⟩
end
end
section
/-! all rows: goThrough, countWith, rowsWith -/
def mg_I (n : Nat) (w : Nat → Nat) (i fd : Nat) (S M : Nat → Nat) : Prop := fd ≤ 2 ^ i ∧ (∀ j, j < fd → ∃ R, 1 ≤ R ∧ S j = so_st n w R) ∧ ∀ g : Nat → Nat, ps_sm (fun j => M j * g (S j)) fd = ps_sm (fun j => g (so_st n w (2 ^ i + j))) (2 ^ i)
def mg_K (n : Nat) (w : Nat → Nat) (S M : Nat → Nat) (k l : Nat) (NS NM : Nat → Nat) : Prop := l ≤ k ∧ (∀ j, j < l → ∃ R, 1 ≤ R ∧ NS j = so_st n w R) ∧ ∀ g : Nat → Nat, ps_sm (fun j => NM j * g (NS j)) l = ps_sm (fun i => M (i / 2) * g (so_one n w (S (i / 2)) (i % 2))) k
theorem mg_I_0 (n : Nat) (w : Nat → Nat) : mg_I n w 0 1 (fun _ => 4097) (fun _ => 1) := by
  refine ⟨Nat.le_refl _, fun j _ => ⟨1, Nat.le_refl _, (so_first n w).symm⟩, fun g => ?_⟩
  show 0 + 1 * g 4097 = 0 + g (so_st n w (2 ^ 0 + 0))
  rw [Nat.one_mul, show 2 ^ 0 + 0 = 1 from rfl, so_first]
theorem mg_K_0 (n : Nat) (w S M NS NM : Nat → Nat) : mg_K n w S M 0 0 NS NM := ⟨Nat.le_refl _, fun j hj => absurd hj (by omega), fun _ => rfl⟩
theorem mg_K_s {n : Nat} {w : Nat → Nat} (hw : rd_W n w) {i fd k l l' : Nat} {S M NS NM NS' NM' : Nat → Nat} (hI : mg_I n w i fd S M) (hK : mg_K n w S M k l NS NM) (hk : k < 2 * fd) (h1 : l' ≤ l + 1) (h2 : ∀ j, j < l' → NS' j = so_one n w (S (k / 2)) (k % 2) ∨ ∃ i, i < l ∧ NS' j = NS i) (h3 : ∀ g : Nat → Nat, ps_sm (fun j => NM' j * g (NS' j)) l' = ps_sm (fun j => NM j * g (NS j)) l + M (k / 2) * g (so_one n w (S (k / 2)) (k % 2))) : mg_K n w S M (k + 1) l' NS' NM' := by
  obtain ⟨k1, k2, k3⟩ := hK
  refine ⟨by omega, fun j hj => ?_, fun g => ?_⟩
  · rcases h2 j hj with e | ⟨i, hi, e⟩
    · obtain ⟨R, r1, r2⟩ := hI.2.1 (k / 2) (by omega)
      refine ⟨2 * R + k % 2, by omega, ?_⟩
      rw [e, r2]
      exact so_step hw r1 (by omega)
    · obtain ⟨R, r1, r2⟩ := k2 i hi
      exact ⟨R, r1, by rw [e]; exact r2⟩
  · rw [h3, k3, ps_s]
theorem mg_K_e {n : Nat} {w : Nat → Nat} (hw : rd_W n w) {i fd l : Nat} {S M NS NM : Nat → Nat} (hI : mg_I n w i fd S M) (hK : mg_K n w S M (2 * fd) l NS NM) : mg_I n w (i + 1) l NS NM := by
  obtain ⟨k1, k2, k3⟩ := hK
  obtain ⟨i1, i2, i3⟩ := hI
  refine ⟨by rw [na_ps]; omega, k2, fun g => ?_⟩
  rw [k3, ps_two, ps_rows (fun R => g (so_st n w R))]
  have e1 : ps_sm (fun k => M (2 * k / 2) * g (so_one n w (S (2 * k / 2)) (2 * k % 2)) + M ((2 * k + 1) / 2) * g (so_one n w (S ((2 * k + 1) / 2)) ((2 * k + 1) % 2))) fd = ps_sm (fun j => M j * (fun s => g (so_one n w s 0) + g (so_one n w s 1)) (S j)) fd := by
    refine ps_congr (fun k _ => ?_)
    rw [show 2 * k / 2 = k from by omega, show (2 * k + 1) / 2 = k from by omega, show 2 * k % 2 = 0 from by omega, show (2 * k + 1) % 2 = 1 from by omega, ← Nat.mul_add]
  refine (e1.trans (i3 (fun s => g (so_one n w s 0) + g (so_one n w s 1)))).trans ?_
  refine ps_congr (fun j _ => ?_)
  have := na_pps i
  rw [so_step hw (by omega) (by omega), so_step hw (by omega) (by omega), Nat.add_zero]
theorem mg_S {n : Nat} {w S : Nat → Nat} {j : Nat} (h : ∃ R, 1 ≤ R ∧ S j = so_st n w R) : S j < 524288 := by
  obtain ⟨R, _, e⟩ := h
  rw [e]
  exact so_lt n w R
/-- the rows of N bits with at least ls readings -/
def mg_v (n : Nat) (w : Nat → Nat) (N ls m : Nat) : Nat := ps_sm (fun j => if ls ≤ fr_r n w (2 ^ N + j) then 1 else 0) m
theorem mg_end {n : Nat} {w : Nat → Nat} {N ls fd : Nat} {S M : Nat → Nat} (hl : ls ≤ 2) (hI : mg_I n w N fd S M) : ps_sm (fun j => M j * (if ls ≤ S j % 4 then 1 else 0)) fd = mg_v n w N ls (2 ^ N) := by
  have h := hI.2.2 (fun s => if ls ≤ s % 4 then 1 else 0)
  rw [h]
  refine ps_congr (fun j _ => ?_)
  rw [so_mod4]
  have e : ls ≤ so_m (fr_r n w (2 ^ N + j)) ↔ ls ≤ fr_r n w (2 ^ N + j) := by
    unfold so_m
    by_cases c : fr_r n w (2 ^ N + j) ≤ 2
    · rw [if_pos c]
    · rw [if_neg c]; omega
  by_cases c : ls ≤ fr_r n w (2 ^ N + j)
  · rw [if_pos c, if_pos (e.mpr c)]
  · rw [if_neg c, if_neg (fun z => c (e.mp z))]
section
variable {xc xl xb xf xt : Int32} {ao au aw ae asx am ap aq az ah ad : Nat → Int32} {yc yr : Int32} {vw vy vl va : Nat → Int32}
theorem xm_35 {n N i fd : Nat} {w S M : Nat → Nat} (hn : n ≤ 6) (hW : rd_W n w) (hA : re_A n w ao) (hi : i < 10) (hI : mg_I n w i fd S M) (hS : re_A fd S asx) (hM : re_A fd M am) {post : SX → Prop} {J : Int32 → Int32 → Int32 → Int32 → Int32 → Int32 → (Nat → Int32) → (Nat → Int32) → (Nat → Int32) → (Nat → Int32) → (Nat → Int32) → (Nat → Int32) → (Nat → Int32) → (Nat → Int32) → (Nat → Int32) → (Nat → Int32) → (Nat → Int32) → Prop} (h : ∀ fd' xt' as' am' ap' aq' S' M', mg_I n w (i + 1) fd' S' M' → re_A fd' S' as' → re_A fd' M' am' → J (nI (i + 1)) (nI n) xl xb (nI fd') xt' ao au aw ae as' am' ap' aq' az ah ad) : ∀ d k l ap aq NS NM fuel, k + d = 2 * fd → d < fuel → mg_K n w S M k l NS NM → re_A l NS ap → re_A l NM aq → wX_goThrough_35 post J (nI N) (nI i) fuel (nI k) (nI n) xl xb (nI fd) (nI l) ao au aw ae asx am ap aq az ah ad := by
  have fb : 2 * fd ≤ 1024 := by
    have a := hI.1
    have b := na_pow (show i + 1 ≤ 10 from by omega)
    rw [na_ps] at b
    omega
  intro d
  induction d with
  | zero =>
    intro k l ap aq NS NM fuel hk hf hK h1 h2
    obtain ⟨m, rfl⟩ := na_ex1 hf
    have e : k = 2 * fd := by omega
    subst e
    have l1 := hK.1
    refine pk_le (2 * fd) (2 * fd) (fun _ => ?_) (fun q => absurd q (by omega)) (hx := na_2m fd)
    exact xm_take (by omega) h1 h2 (fun as' am' g1 g2 => nm_r (nI_1 i) (h l (nI l) as' am' ap aq NS NM (mg_K_e hW hI hK) g1 g2))
  | succ d ih =>
    intro k l ap aq NS NM fuel hk hf hK h1 h2
    obtain ⟨m, rfl⟩ := na_ex1 (n := fuel) (by omega)
    have l1 := hK.1
    have eh : nI k >>> ((1 : Int32) &&& 31) = nI (k / 2) := na_shr (i := 1) (by omega) (by omega)
    have ih2 : vp_in (nI k >>> ((1 : Int32) &&& 31)) 1024 := by rw [eh]; exact vp_in_nI (by omega) (by omega)
    have ea : asx (nI k >>> ((1 : Int32) &&& 31)).toNatClampNeg = nI (S (k / 2)) := by rw [eh, nI_clamp (by omega)]; exact hS _ (by omega)
    have em : am (nI k >>> ((1 : Int32) &&& 31)).toNatClampNeg = nI (M (k / 2)) := by rw [eh, nI_clamp (by omega)]; exact hM _ (by omega)
    have sb := mg_S (hI.2.1 (k / 2) (by omega))
    refine pk_le (2 * fd) k (fun q => absurd q (by omega)) (fun _ => ⟨ih2, ?_⟩) (hx := na_2m fd)
    rw [ea, em, na_and1]
    refine xm_one hn hW hA sb (by omega) ⟨ih2, ?_⟩
    have s1 : so_one n w (S (k / 2)) (k % 2) < 524288 := by
      obtain ⟨R, r1, r2⟩ := hI.2.1 (k / 2) (by omega)
      rw [r2, so_step hW r1 (by omega)]
      exact so_lt _ _ _
    refine xm_keep (NS := NS) (NM := NM) (by omega) s1 (fun j hj => mg_S (hK.2.1 j hj)) h1 h2 (fun l' ap' aq' NS' NM' g1 g2 g3 g4 g5 => ?_)
    exact nm_r (nI_1 k) (ih (k + 1) l' ap' aq' NS' NM' m (by omega) (by omega) (mg_K_s hW hI hK (by omega) g1 g4 g5) g2 g3)
theorem xm_23 {n N : Nat} {w : Nat → Nat} (hn : n ≤ 6) (hW : rd_W n w) (hA : re_A n w ao) (hN : N ≤ 10) {post : SX → Prop} (h : ∀ fd' xt' as' am' ap' aq' S' M', mg_I n w N fd' S' M' → re_A fd' S' as' → re_A fd' M' am' → post (nI n, xl, xb, nI fd', xt', ao, au, aw, ae, as', am', ap', aq', az, ah, ad)) : ∀ d i fd xt asx am ap aq S M fuel, i + d = N → d < fuel → mg_I n w i fd S M → re_A fd S asx → re_A fd M am → wX_goThrough_23 post (nI N) fuel (nI i) (nI n) xl xb (nI fd) xt ao au aw ae asx am ap aq az ah ad := by
  intro d
  induction d with
  | zero =>
    intro i fd xt asx am ap aq S M fuel hi hf hI hS hM
    obtain ⟨m, rfl⟩ := na_ex1 hf
    have e : i = N := by omega
    subst e
    exact pk_le i i (fun _ => h fd xt asx am ap aq S M hI hS hM) (fun q => absurd q (by omega))
  | succ d ih =>
    intro i fd xt asx am ap aq S M fuel hi hf hI hS hM
    obtain ⟨m, rfl⟩ := na_ex1 (n := fuel) (by omega)
    exact pk_le N i (fun q => absurd q (by omega)) (fun _ => ⟨2 * fd + 1, xm_35 hn hW hA (by omega) hI hS hM (fun fd' xt' as' am' ap' aq' S' M' g1 g2 g3 => ih (i + 1) fd' xt' as' am' ap' aq' S' M' m (by omega) (by omega) g1 g2 g3) (2 * fd) 0 0 ap aq (fun _ => 0) (fun _ => 0) (2 * fd + 1) (by omega) (by omega) (mg_K_0 n w S M _ _) (fun j hj => absurd hj (by omega)) (fun j hj => absurd hj (by omega))⟩)
theorem xm_10 {n N ls fd : Nat} {w S M : Nat → Nat} (hN : N ≤ 10) (hl : ls ≤ 2) (hI : mg_I n w N fd S M) (hS : re_A fd S asx) (hM : re_A fd M am) {post : Int32 → SX → Prop} (h : post (nI (mg_v n w N ls (2 ^ N))) (xc, xl, xb, nI fd, xt, ao, au, aw, ae, asx, am, ap, aq, az, ah, ad)) : ∀ d k fuel, k + d = fd → d < fuel → wX_countWith_10 post (nI ls) xc xl xb (nI fd) xt ao au aw ae asx am ap aq az ah ad fuel (nI (ps_sm (fun j => M j * (if ls ≤ S j % 4 then 1 else 0)) k)) (nI k) := by
  have fb : fd ≤ 1024 := Nat.le_trans hI.1 (na_pow hN)
  intro d
  induction d with
  | zero =>
    intro k fuel hk hf
    obtain ⟨m, rfl⟩ := na_ex1 hf
    have e : k = fd := by omega
    subst e
    rw [mg_end hl hI]
    exact pk_le k k (fun _ => h) (fun q => absurd q (by omega))
  | succ d ih =>
    intro k fuel hk hf
    obtain ⟨m, rfl⟩ := na_ex1 (n := fuel) (by omega)
    have IH := ih (k + 1) m (by omega) (by omega)
    have i : vp_in (nI k) 1024 := vp_in_nI (by omega) (by omega)
    have c : (nI k).toNatClampNeg = k := nI_clamp (by omega)
    have e1 : asx (nI k).toNatClampNeg &&& 3 = nI (S k % 4) := by rw [c, hS k (by omega), na_and3]
    rw [ps_s] at IH
    refine pk_le fd k (fun q => absurd q (by omega)) (fun _ => ⟨i, pk_lt (S k % 4) ls (fun q => ?_) (fun q => ⟨i, ?_⟩) (hx := e1)⟩)
    · rw [if_neg (by omega), Nat.mul_zero, Nat.add_zero] at IH
      exact nm_r (nI_1 k) IH
    · rw [if_pos q, Nat.mul_one] at IH
      refine nm_r (e' := nI (ps_sm (fun j => M j * (if ls ≤ S j % 4 then 1 else 0)) k + M k)) ?_ (nm_r (nI_1 k) IH)
      rw [c, hM k (by omega), nI_add]
theorem xm_cnt {n N ls : Nat} {w : Nat → Nat} (hn : n ≤ 6) (hW : rd_W n w) (hA : re_A n w ao) (hN : N ≤ 10) (hl : ls ≤ 2) {post : Int32 → SX → Prop} (h : ∀ xf' xt' as' am' ap' aq', post (nI (mg_v n w N ls (2 ^ N))) (nI n, xl, xb, xf', xt', ao, au, aw, ae, as', am', ap', aq', az, ah, ad)) : wpX_countWith post (nI n, xl, xb, xf, xt, ao, au, aw, ae, asx, am, ap, aq, az, ah, ad) (nI N) (nI ls) := by
  unfold wpX_countWith
  dsimp only
  refine fun a ea b eb => ⟨N + 1, xm_23 hn hW hA hN (fun fd' xt' as' am' ap' aq' S' M' g1 g2 g3 => ?_) N 0 1 xt a b ap aq (fun _ => 4097) (fun _ => 1) (N + 1) (by omega) (by omega) (mg_I_0 n w) ?_ ?_⟩
  · exact ⟨fd' + 1, xm_10 hN hl g1 g2 g3 (h _ _ _ _ _ _) fd' 0 (fd' + 1) (by omega) (by omega)⟩
  · intro j hj
    have e : j = 0 := by omega
    subst e
    rw [ea, pk_us]; rfl
  · intro j hj
    have e : j = 0 := by omega
    subst e
    rw [eb, pk_us]; rfl
theorem ym_7 {n N ls : Nat} {w : Nat → Nat} (hn : n ≤ 6) (hW : rd_W n w) (hA : re_A n w vw) (hN : N ≤ 10) (hl : ls ≤ 2) {post : Int32 → SY → Prop} (h : ∀ vy' vl', post (nI (mg_v n w N ls (2 ^ N))) (nI n, yr, vw, vy', vl', va)) : ∀ d k vy vl fuel, k + d = 2 ^ N → d < fuel → wY_rowsWith_7 post (nI N) (nI ls) fuel (nI (mg_v n w N ls k)) (nI (2 ^ N + k)) (nI n) yr vw vy vl va := by
  have pN := na_pow hN
  have e2 : (2 : Int32) <<< (nI N &&& 31) = nI (2 * 2 ^ N) := na_shl (c := 2) (by omega) (by omega)
  intro d
  induction d with
  | zero =>
    intro k vy vl fuel hk hf
    obtain ⟨m, rfl⟩ := na_ex1 hf
    have e : k = 2 ^ N := by omega
    subst e
    exact pk_le (2 * 2 ^ N) (2 ^ N + 2 ^ N) (fun _ => h vy vl) (fun q => absurd q (by omega)) (hx := e2)
  | succ d ih =>
    intro k vy vl fuel hk hf
    obtain ⟨m, rfl⟩ := na_ex1 (n := fuel) (by omega)
    have lg : (2 ^ N + k).log2 = N := ro_lg (by omega)
    have hb := fr_back hW (R := 2 ^ N + k) (L := N) (by have := na_pps N; omega) lg
    have ws := rd_small hW (R := 2 ^ N + k) (L := N) (p := 0) (by omega) (by omega)
    rw [hb] at ws
    refine pk_le (2 * 2 ^ N) (2 ^ N + k) (fun q => absurd q (by omega)) (fun _ => ?_) (hx := e2)
    refine yr_count hn (by omega) (by omega) lg hW hA (fun vy' vl' g1 g2 => ?_)
    have IH := ih (k + 1) vy' vl' m (by omega) (by omega)
    rw [show mg_v n w N ls (k + 1) = mg_v n w N ls k + (if ls ≤ fr_r n w (2 ^ N + k) then 1 else 0) from rfl] at IH
    rw [hb]
    refine pk_lt (fr_r n w (2 ^ N + k)) ls (fun q => ?_) (fun q => ?_)
    · rw [if_neg (by omega), Nat.add_zero] at IH
      exact nm_r (nI_1 _) IH
    · rw [if_pos q] at IH
      exact nm_r (nI_1 _) (nm_r (nI_1 _) IH)
theorem ym_cnt {n N ls : Nat} {w : Nat → Nat} (hn : n ≤ 6) (hW : rd_W n w) (hA : re_A n w vw) (hN : N ≤ 10) (hl : ls ≤ 2) {post : Int32 → SY → Prop} (h : ∀ vy' vl', post (nI (mg_v n w N ls (2 ^ N))) (nI n, yr, vw, vy', vl', va)) : wpY_rowsWith post (nI n, yr, vw, vy, vl, va) (nI N) (nI ls) :=
  nm_r (na_one (by omega)) ⟨2 ^ N + 1, ym_7 hn hW hA hN hl h (2 ^ N) 0 vy vl (2 ^ N + 1) (by omega) (by omega)⟩
end
theorem i_vc_messages {k : Nat} {u : SX} {v : SY} (I : i_Rel k u v) (hk : k + 3 ≤ 1536) (v1 : Int32) : wpX_messages (fun r u' => wpY_messages (fun r' v' => r' = r ∧ i_Rel (k + 3) u' v') v v1) u v1 := by
  refine re_el (P := fun u v => wpX_messages (fun r u' => wpY_messages (fun r' v' => r' = r ∧ i_Rel (k + 3) u' v') v v1) u v1) ?_ I
  intro n L B w xf xt ao au aw ae asx am ap aq az ah ad vw vy vl va hn hL hB hW hA hV
  by_cases h0 : v1 < 0
  · exact br_t h0 (br_t h0 ⟨rfl, re_mk hn hL hB hW hA hV⟩)
  · by_cases h1 : v1 ≤ 10
    · obtain ⟨N, hN, rfl⟩ := nI_of2 (n := 10) (by decide) h0 h1
      exact br_f h0 (br_t h1 (xm_cnt (ls := 1) hn hW hA hN (by omega) (fun xf' xt' as' am' ap' aq' => br_f h0 (br_t h1 (ym_cnt (ls := 1) hn hW hV hN (by omega) (fun vy' vl' => ⟨rfl, re_mk hn hL hB hW hA hV⟩))))))
    · exact br_f h0 (br_f h1 (br_f h0 (br_f h1 ⟨rfl, re_mk hn hL hB hW hA hV⟩)))
theorem i_vc_doubtful {k : Nat} {u : SX} {v : SY} (I : i_Rel k u v) (hk : k + 3 ≤ 1536) (v1 : Int32) : wpX_doubtful (fun r u' => wpY_doubtful (fun r' v' => r' = r ∧ i_Rel (k + 3) u' v') v v1) u v1 := by
  refine re_el (P := fun u v => wpX_doubtful (fun r u' => wpY_doubtful (fun r' v' => r' = r ∧ i_Rel (k + 3) u' v') v v1) u v1) ?_ I
  intro n L B w xf xt ao au aw ae asx am ap aq az ah ad vw vy vl va hn hL hB hW hA hV
  by_cases h0 : v1 < 0
  · exact br_t h0 (br_t h0 ⟨rfl, re_mk hn hL hB hW hA hV⟩)
  · by_cases h1 : v1 ≤ 10
    · obtain ⟨N, hN, rfl⟩ := nI_of2 (n := 10) (by decide) h0 h1
      exact br_f h0 (br_t h1 (xm_cnt (ls := 2) hn hW hA hN (by omega) (fun xf' xt' as' am' ap' aq' => br_f h0 (br_t h1 (ym_cnt (ls := 2) hn hW hV hN (by omega) (fun vy' vl' => ⟨rfl, re_mk hn hL hB hW hA hV⟩))))))
    · exact br_f h0 (br_f h1 (br_f h0 (br_f h1 ⟨rfl, re_mk hn hL hB hW hA hV⟩)))
end
section
/-! leftOf, begins, rest; free, weight, total -/
theorem lf_ge2 {a b : Nat} : 2 ≤ dj_lf a b ↔ (b.log2 < a.log2 ∧ a / 2 ^ (a.log2 - b.log2) = b) := by
  constructor
  · intro h
    have ⟨c, d⟩ := dj_lf_c (a := a) (b := b) (by omega)
    refine ⟨?_, d⟩
    rcases Nat.lt_or_ge b.log2 a.log2 with g | g
    · exact g
    · have e := dj_lf_eq (a := a) (b := b) (by omega) (by omega)
      rw [e, dj_lf_self] at h
      omega
  · intro ⟨h1, h2⟩
    exact dj_lf_ge2 (dj_lf_p (by omega) h2) h1
section
variable {xc xl xb xf xt : Int32} {ao au aw ae asx am ap aq az ah ad : Nat → Int32} {yc yr : Int32} {vw vy vl va : Nat → Int32}
theorem xl_left {a b : Nat} (ha : a < 128) (hb : b < 128) {post : Int32 → Prop} (h : post (nI (dj_lf a b))) : wpX_leftOf post (xc, xl, xb, xf, xt, ao, au, aw, ae, asx, am, ap, aq, az, ah, ad) (nI a) (nI b) := by
  have a6 := na_lg6 ha
  have b6 := na_lg6 hb
  unfold wpX_leftOf
  dsimp only
  refine xs_size ha (xs_size hb ?_)
  by_cases c : b.log2 ≤ a.log2
  · refine nm_r (pk_sub c) (br_f (nI_pos (by omega)) (pk_eq (a / 2 ^ (a.log2 - b.log2)) b (fun q => ?_) (fun q => ?_) (hx := na_shr (by omega) (by omega)) (ha := Nat.lt_of_le_of_lt (Nat.div_le_self _ _) (by omega))))
    · rw [dj_lf_t c q] at h
      rw [na_mask (by omega), na_one (by omega), na_por (Nat.mod_lt _ (na_pps _))]
      exact h
    · rw [dj_lf_f (fun z => q z.2)] at h
      exact h
  · rw [dj_lf_f (fun z => c z.1)] at h
    exact nm_e (br_t (pk_sneg (by omega) (by omega)) h)
theorem yl_begins {a b : Nat} (ha : a < 128) (hb : b < 128) {post : Int32 → Prop} (h1 : 2 ≤ dj_lf b a → post 1) (h0 : ¬ 2 ≤ dj_lf b a → post 0) : wpY_begins post (yc, yr, vw, vy, vl, va) (nI a) (nI b) := by
  have a6 := na_lg6 ha
  have b6 := na_lg6 hb
  unfold wpY_begins
  dsimp only
  refine ys_len (by omega) (ys_len (by omega) (pk_le b.log2 a.log2 (fun q => h0 (fun z => absurd (lf_ge2.mp z).1 (by omega))) (fun q => ?_)))
  rw [pk_sub (by omega)]
  exact pk_eq (b / 2 ^ (b.log2 - a.log2)) a (fun z => h1 (lf_ge2.mpr ⟨q, z⟩)) (fun z => h0 (fun y => z (lf_ge2.mp y).2)) (hx := na_shr (by omega) (by omega)) (ha := Nat.lt_of_le_of_lt (Nat.div_le_self _ _) (by omega))
theorem yl_rest {c k : Nat} (hc : c < 128) (hk : k ≤ c.log2) {post : Int32 → Prop} (h : post (nI (2 ^ (c.log2 - k) + c % 2 ^ (c.log2 - k)))) : wpY_rest post (yc, yr, vw, vy, vl, va) (nI c) (nI k) := by
  have c6 := na_lg6 hc
  unfold wpY_rest
  dsimp only
  refine ys_len (by omega) (nm_r (pk_sub hk) ?_)
  rw [na_mask (by omega), na_one (by omega), nI_add]
  exact h
/-! free -/
theorem xl_free {n : Nat} {w : Nat → Nat} (hn : n ≤ 6) (hW : rd_W n w) (hA : re_A n w ao) {post : Int32 → Prop} (h0 : (∃ i j, i < n ∧ j < n ∧ 2 ≤ dj_lf (w i) (w j)) → post 0) (h1 : ¬ (∃ i j, i < n ∧ j < n ∧ 2 ≤ dj_lf (w i) (w j)) → post 1) : ∀ d k (x : Int32) fuel, k + d = n * n → d < fuel → ((x = 0 ∧ ∃ i j, i < n ∧ j < n ∧ 2 ≤ dj_lf (w i) (w j)) ∨ (x = 1 ∧ ∀ q, q < k → ¬ 2 ≤ dj_lf (w (q / n)) (w (q % n)))) → wX_free_4 post (nI n) xl xb xf xt ao au aw ae asx am ap aq az ah ad fuel x (nI k) := by
  have nn : n * n ≤ 36 := Nat.mul_le_mul hn hn
  intro d
  induction d with
  | zero =>
    intro k x fuel hk hf hx
    obtain ⟨m, rfl⟩ := na_ex1 hf
    have e : k = n * n := by omega
    refine pk_le (n * n) k (fun _ => ?_) (fun q => absurd q (by omega)) (hx := pk_mul n n)
    rcases hx with ⟨hx, hb⟩ | ⟨hx, hb⟩
    · exact br_t hx (h0 hb)
    · rw [hx]
      refine br_f (by decide) (h1 ?_)
      rintro ⟨i, j, hi, hj, g⟩
      have q1 : i * n + j < n * n := by
        have : (i + 1) * n ≤ n * n := Nat.mul_le_mul (by omega) (Nat.le_refl _)
        rw [Nat.add_mul, Nat.one_mul] at this
        omega
      have q2 := hb (i * n + j) (by omega)
      rw [Nat.mul_comm, Nat.mul_add_div (by omega), Nat.mul_add_mod, Nat.mod_eq_of_lt hj, Nat.div_eq_of_lt hj, Nat.add_zero] at q2
      exact q2 g
  | succ d ih =>
    intro k x fuel hk hf hx
    obtain ⟨m, rfl⟩ := na_ex1 (n := fuel) (by omega)
    have n0 : 0 < n := by
      rcases Nat.eq_zero_or_pos n with z | z
      · subst z; omega
      · exact z
    have k1 : k / n < n := (Nat.div_lt_iff_lt_mul n0).mpr (by omega)
    have k2 : k % n < n := Nat.mod_lt _ n0
    have e1 : nI k / nI n = nI (k / n) := pk_div (by omega) n0 (by omega)
    have e2 : nI k - nI k / nI n * nI n = nI (k % n) := pk_rem (by omega) n0 (by omega)
    have z0 : ¬ nI n = 0 := nI_ne0 n0 (by omega)
    have v1 : ao (nI k / nI n).toNatClampNeg = nI (w (k / n)) := by rw [e1, nI_clamp (by omega)]; exact hA _ k1
    have v2 : ao (nI k - nI k / nI n * nI n).toNatClampNeg = nI (w (k % n)) := by rw [e2, nI_clamp (by omega)]; exact hA _ k2
    have ⟨a2, a128⟩ := hW.1 _ k1
    have ⟨b2, b128⟩ := hW.1 _ k2
    have lb := dj_lf_lt (a := w (k / n)) a128 b2
    refine pk_le (n * n) k (fun q => absurd q (by omega)) (fun _ => ⟨z0, ?_, nm_r v1 ⟨z0, ?_, nm_r v2 ?_⟩⟩) (hx := pk_mul n n)
    · rw [e1]; exact vp_in_nI (by omega) (by omega)
    · rw [e2]; exact vp_in_nI (by omega) (by omega)
    · refine xl_left a128 b128 ?_
      rcases hx with ⟨hx, hb⟩ | ⟨hx, hb⟩
      · exact br_t hx (nm_r (nI_1 k) (ih (k + 1) 0 m (by omega) (by omega) (Or.inl ⟨rfl, hb⟩)))
      · have step : ¬ 2 ≤ dj_lf (w (k / n)) (w (k % n)) → ∀ q, q < k + 1 → ¬ 2 ≤ dj_lf (w (q / n)) (w (q % n)) := by
          intro g q hq
          by_cases e : q = k
          · subst e; exact g
          · exact hb q (by omega)
        rw [hx]
        refine br_f (by decide) (pk_eq (w (k / n)) (w (k % n)) (fun q => nm_r (nI_1 k) (ih (k + 1) 1 m (by omega) (by omega) (Or.inr ⟨rfl, step ?_⟩))) (fun q => pk_eq (dj_lf (w (k / n)) (w (k % n))) 0 (fun z => nm_r (nI_1 k) (ih (k + 1) 1 m (by omega) (by omega) (Or.inr ⟨rfl, step (by omega)⟩))) (fun z => nm_r (nI_1 k) (ih (k + 1) 0 m (by omega) (by omega) (Or.inl ⟨rfl, k / n, k % n, k1, k2, ?_⟩)))))
        · rw [q, dj_lf_self]; omega
        · by_cases y : dj_lf (w (k / n)) (w (k % n)) = 1
          · exact absurd (dj_lf_one y) q
          · omega
theorem yl_free {n : Nat} {w : Nat → Nat} (hn : n ≤ 6) (hW : rd_W n w) (hA : re_A n w vw) {post : Int32 → Prop} (h0 : (∃ i j, i < n ∧ j < n ∧ 2 ≤ dj_lf (w i) (w j)) → post 0) (h1 : ¬ (∃ i j, i < n ∧ j < n ∧ 2 ≤ dj_lf (w i) (w j)) → post 1) : wpY_free post (nI n, yr, vw, vy, vl, va) := by
  have In : ∀ (J : Int32 → Prop) i, i < n → ((∀ j, j < n → ¬ 2 ≤ dj_lf (w j) (w i)) → J (nI (i + 1))) → ∀ d k, k + d = n → (∀ j, j < k → ¬ 2 ≤ dj_lf (w j) (w i)) → wY_free_12 post J (nI i) (nI n) yr vw vy vl va (d + 1) (nI k) := by
    intro J i hi hJ d
    induction d with
    | zero =>
      intro k hk hb
      exact pk_le n k (fun _ => nm_r (nI_1 i) (hJ (fun j hj => hb j (by omega)))) (fun q => absurd q (by omega))
    | succ d ih =>
      intro k hk hb
      have i1 : vp_in (nI i) 7 := vp_in_nI (by omega) (by omega)
      have i2 : vp_in (nI k) 7 := vp_in_nI (by omega) (by omega)
      refine pk_le n k (fun q => absurd q (by omega)) (fun _ => ⟨i1, i2, ?_⟩)
      rw [nI_clamp (by omega), nI_clamp (by omega), hA i hi, hA k (by omega)]
      refine yl_begins (hW.1 i hi).2 (hW.1 k (by omega)).2 (fun g => br_f (by decide) (h0 ⟨k, i, by omega, hi, g⟩)) (fun g => br_t rfl (nm_r (nI_1 k) (ih (k + 1) (by omega) ?_)))
      intro j hj
      by_cases e : j = k
      · subst e; exact g
      · exact hb j (by omega)
  have Out : ∀ d i, i + d = n → (∀ a b, a < n → b < i → ¬ 2 ≤ dj_lf (w a) (w b)) → wY_free_2 post (nI n) yr vw vy vl va (d + 1) (nI i) := by
    intro d
    induction d with
    | zero =>
      intro i hi hb
      refine pk_le n i (fun _ => h1 ?_) (fun q => absurd q (by omega))
      rintro ⟨a, b, ha, hb', g⟩
      exact hb a b ha (by omega) g
    | succ d ih =>
      intro i hi hb
      refine pk_le n i (fun q => absurd q (by omega)) (fun _ => ⟨n + 1, In _ i (by omega) (fun g => ih (i + 1) (by omega) ?_) n 0 (by omega) (fun j hj => absurd hj (by omega))⟩)
      intro a b ha hb'
      by_cases e : b = i
      · subst e; exact g a ha
      · exact hb a b ha (by omega)
  exact ⟨n + 1, Out n 0 (by omega) (fun a b _ hb => absurd hb (by omega))⟩
theorem wl_lock {n : Nat} {w : Nat → Nat} (hn : n ≤ 6) (hW : rd_W n w) (hA : re_A n w ao) (hV : re_A n w vw) : ∀ d k (x : Int32), k + d = n → ∃ r : Int32, (∀ (post : Int32 → Prop), post r → wX_weight_4 post (nI n) xl xb xf xt ao au aw ae asx am ap aq az ah ad (d + 1) x (nI k)) ∧ (∀ (post : Int32 → Prop), post r → wY_weight_4 post (nI n) yr vw vy vl va (d + 1) x (nI k)) := by
  intro d
  induction d with
  | zero =>
    intro k x hk
    by_cases c : 64 ≤ x
    · by_cases e : x = 64
      · exact ⟨0, fun post h => pk_le n k (fun _ => br_t c (br_t e h)) (fun q => absurd q (by omega)), fun post h => pk_le n k (fun _ => br_t c (br_t e h)) (fun q => absurd q (by omega))⟩
      · exact ⟨1, fun post h => pk_le n k (fun _ => br_t c (br_f e h)) (fun q => absurd q (by omega)), fun post h => pk_le n k (fun _ => br_t c (br_f e h)) (fun q => absurd q (by omega))⟩
    · exact ⟨-1, fun post h => pk_le n k (fun _ => br_f c h) (fun q => absurd q (by omega)), fun post h => pk_le n k (fun _ => br_f c h) (fun q => absurd q (by omega))⟩
  | succ d ih =>
    intro k x hk
    have ⟨w2, w128⟩ := hW.1 k (by omega)
    obtain ⟨r, rX, rY⟩ := ih (k + 1) (x + ((64 : Int32) >>> (nI (w k).log2 &&& 31))) (by omega)
    refine ⟨r, fun post h => ?_, fun post h => ?_⟩
    · refine pk_le n k (fun q => absurd q (by omega)) (fun _ => ⟨vp_in_nI (by omega) (by omega), ?_⟩)
      rw [nI_clamp (by omega), hA k (by omega)]
      exact xs_size w128 (nm_e (nm_r (nI_1 k) (rX post h)))
    · refine pk_le n k (fun q => absurd q (by omega)) (fun _ => ⟨vp_in_nI (by omega) (by omega), ?_⟩)
      rw [nI_clamp (by omega), hV k (by omega)]
      exact ys_len (by omega) (nm_e (nm_r (nI_1 k) (rY post h)))
end
theorem i_vc_free {k : Nat} {u : SX} {v : SY} (I : i_Rel k u v) (hk : k + 3 ≤ 1536) : wpX_free (fun r => wpY_free (fun r' => r' = r ∧ i_Rel (k + 3) u v) v) u := by
  refine re_el (P := fun u v => wpX_free (fun r => wpY_free (fun r' => r' = r ∧ i_Rel (k + 3) u v) v) u) ?_ I
  intro n L B w xf xt ao au aw ae asx am ap aq az ah ad vw vy vl va hn hL hB hW hA hV
  refine ⟨n * n + 1, xl_free hn hW hA (fun g => ?_) (fun g => ?_) (n * n) 0 1 (n * n + 1) (by omega) (by omega) (Or.inr ⟨rfl, fun q hq => absurd hq (by omega)⟩)⟩
  · exact yl_free hn hW hV (fun _ => ⟨rfl, re_mk hn hL hB hW hA hV⟩) (fun z => absurd g z)
  · exact yl_free hn hW hV (fun z => absurd z g) (fun _ => ⟨rfl, re_mk hn hL hB hW hA hV⟩)
theorem i_vc_weight {k : Nat} {u : SX} {v : SY} (I : i_Rel k u v) (hk : k + 3 ≤ 1536) : wpX_weight (fun r => wpY_weight (fun r' => r' = r ∧ i_Rel (k + 3) u v) v) u := by
  refine re_el (P := fun u v => wpX_weight (fun r => wpY_weight (fun r' => r' = r ∧ i_Rel (k + 3) u v) v) u) ?_ I
  intro n L B w xf xt ao au aw ae asx am ap aq az ah ad vw vy vl va hn hL hB hW hA hV
  obtain ⟨r, rX, rY⟩ := wl_lock (xl := nI L) (xb := nI B) (xf := xf) (xt := xt) (au := au) (aw := aw) (ae := ae) (asx := asx) (am := am) (ap := ap) (aq := aq) (az := az) (ah := ah) (ad := ad) (yr := nI (2 ^ L + B)) (vy := vy) (vl := vl) (va := va) hn hW hA hV n 0 0 (by omega)
  exact ⟨n + 1, rX _ ⟨n + 1, rY _ ⟨rfl, re_mk hn hL hB hW hA hV⟩⟩⟩
/-! total -/
def to_t (w : Nat → Nat) (f : Nat → Nat) (i k : Nat) : Nat := if (w k).log2 ≤ i then f (i - (w k).log2) else 0
def to_F (n : Nat) (w : Nat → Nat) (f : Nat → Nat) (i : Nat) : Nat := ps_sm (to_t w f i) n
def to_T (n : Nat) (w : Nat → Nat) (i : Nat) : Nat := ps_ux (to_F n w) i
theorem to_step {n : Nat} {w : Nat → Nat} (hW : rd_W n w) {i : Nat} (hi : 1 ≤ i) : to_T n w i = ps_sm (to_t w (to_T n w) i) n := by
  obtain ⟨j, rfl⟩ := na_ex1 hi
  refine ps_ux_s (fun f g p h => ps_congr (fun k hk => ?_))
  have l1 := na_lg1 (hW.1 k hk).1
  unfold to_t
  by_cases c : (w k).log2 ≤ p
  · rw [if_pos c, if_pos c]; exact h _ (by omega)
  · rw [if_neg c, if_neg c]
section
variable {xc xl xb xf xt : Int32} {ao au aw ae asx am ap aq az ah ad : Nat → Int32} {yc yr : Int32} {vw vy vl va : Nat → Int32}
theorem xt_31 {n N i : Nat} {w : Nat → Nat} (hn : n ≤ 6) (hW : rd_W n w) (hA : re_A n w ao) (h1 : 1 ≤ i) (hi : i ≤ 16) (f1 : ∀ q, q < i → az q = nI (to_T n w q)) {post : Int32 → SX → Prop} {J : Int32 → (Nat → Int32) → (Nat → Int32) → (Nat → Int32) → (Nat → Int32) → (Nat → Int32) → (Nat → Int32) → (Nat → Int32) → (Nat → Int32) → (Nat → Int32) → (Nat → Int32) → (Nat → Int32) → Prop} (h : J (nI (i + 1)) ao au aw ae asx am ap aq (upd az i (nI (to_T n w i))) ah ad) : ∀ d k fuel, k + d = n → d < fuel → wX_total_31 post J (nI N) (nI i) (nI n) xl xb xf xt ao au aw ae asx am ap aq az ah ad fuel (nI (ps_sm (to_t w (to_T n w) i) k)) (nI k) := by
  intro d
  induction d with
  | zero =>
    intro k fuel hk hf
    obtain ⟨m, rfl⟩ := na_ex1 hf
    have e : k = n := by omega
    subst e
    rw [to_step hW h1] at h
    refine pk_le k k (fun _ => ⟨vp_in_nI (by omega) (by omega), fun a ea => nm_r (nI_1 i) ?_⟩) (fun q => absurd q (by omega))
    rw [ea, nI_clamp (by omega)]
    exact h
  | succ d ih =>
    intro k fuel hk hf
    obtain ⟨m, rfl⟩ := na_ex1 (n := fuel) (by omega)
    have IH := ih (k + 1) m (by omega) (by omega)
    have ⟨w2, w128⟩ := hW.1 k (by omega)
    have l6 := na_lg6 w128
    have l1 := na_lg1 w2
    rw [ps_s] at IH
    refine pk_le n k (fun q => absurd q (by omega)) (fun _ => ⟨vp_in_nI (by omega) (by omega), ?_⟩)
    rw [nI_clamp (by omega), hA k (by omega)]
    refine xs_size w128 (pk_lt i (w k).log2 (fun q => ?_) (fun q => ?_))
    · rw [show to_t w (to_T n w) i k = 0 from if_neg (by omega), Nat.add_zero] at IH
      exact nm_r (nI_1 k) IH
    · rw [show to_t w (to_T n w) i k = to_T n w (i - (w k).log2) from if_pos q] at IH
      rw [pk_sub q]
      refine ⟨vp_in_nI (by omega) (by omega), nm_r (e' := nI (ps_sm (to_t w (to_T n w) i) k + to_T n w (i - (w k).log2))) ?_ (nm_r (nI_1 k) IH)⟩
      rw [nI_clamp (by omega), f1 _ (by omega), nI_add]
theorem xt_21 {n N : Nat} {w : Nat → Nat} (hn : n ≤ 6) (hW : rd_W n w) (hA : re_A n w ao) (hN : N ≤ 16) {post : Int32 → SX → Prop} (h : ∀ az', post (nI (to_T n w N)) (nI n, xl, xb, xf, xt, ao, au, aw, ae, asx, am, ap, aq, az', ah, ad)) : ∀ d i az fuel, i + d = N + 1 → d < fuel → 1 ≤ i → (∀ q, q < i → az q = nI (to_T n w q)) → wX_total_21 post (nI N) (nI n) xl xb xf xt fuel (nI i) ao au aw ae asx am ap aq az ah ad := by
  intro d
  induction d with
  | zero =>
    intro i az fuel hi hf h1 f1
    obtain ⟨m, rfl⟩ := na_ex1 hf
    refine pk_lt N i (fun _ => ⟨vp_in_nI (by omega) (by omega), ?_⟩) (fun q => absurd q (by omega))
    rw [nI_clamp (by omega), f1 N (by omega)]
    exact h az
  | succ d ih =>
    intro i az fuel hi hf h1 f1
    obtain ⟨m, rfl⟩ := na_ex1 (n := fuel) (by omega)
    refine pk_lt N i (fun q => absurd q (by omega)) (fun _ => ⟨n + 1, xt_31 hn hW hA h1 (by omega) f1 (ih (i + 1) _ m (by omega) (by omega) (by omega) ?_) n 0 (n + 1) (by omega) (by omega)⟩)
    intro q hq
    by_cases e : q = i
    · subst e; rw [pk_us]
    · rw [pk_un e]; exact f1 q (by omega)
theorem yt_35 {n N i : Nat} {w : Nat → Nat} (hn : n ≤ 6) (hW : rd_W n w) (hA : re_A n w vw) (h1 : 1 ≤ i) (hi : i ≤ 16) {post : Int32 → SY → Prop} {J : Int32 → (Nat → Int32) → (Nat → Int32) → (Nat → Int32) → (Nat → Int32) → Prop} (h : ∀ vy', (∀ q, q < i + 1 → vy' q = nI (to_T n w q)) → J (nI (i + 1)) vw vy' vl va) : ∀ d k vy fuel, k + d = n → d < fuel → (∀ q, q < i → vy q = nI (to_T n w q)) → vy i = nI (ps_sm (to_t w (to_T n w) i) k) → wY_total_35 post J (nI N) (nI i) (nI n) yr fuel (nI k) vw vy vl va := by
  have i18 : vp_in (nI i) 18 := vp_in_nI (by omega) (by omega)
  have ci : (nI i).toNatClampNeg = i := nI_clamp (by omega)
  intro d
  induction d with
  | zero =>
    intro k vy fuel hk hf f1 f2
    obtain ⟨m, rfl⟩ := na_ex1 hf
    have e : k = n := by omega
    subst e
    rw [← to_step hW h1] at f2
    refine pk_le k k (fun _ => nm_r (nI_1 i) (h vy (fun q hq => ?_))) (fun q => absurd q (by omega))
    by_cases e : q = i
    · subst e; exact f2
    · exact f1 q (by omega)
  | succ d ih =>
    intro k vy fuel hk hf f1 f2
    obtain ⟨m, rfl⟩ := na_ex1 (n := fuel) (by omega)
    have ⟨w2, w128⟩ := hW.1 k (by omega)
    have l6 := na_lg6 w128
    have l1 := na_lg1 w2
    refine pk_le n k (fun q => absurd q (by omega)) (fun _ => ⟨vp_in_nI (by omega) (by omega), ?_⟩)
    have eV : vw (nI k).toNatClampNeg = nI (w k) := by rw [nI_clamp (by omega)]; exact hA k (by omega)
    rw [eV]
    refine ys_len (by omega) (pk_lt i (w k).log2 (fun q => nm_r (nI_1 k) (ih (k + 1) vy m (by omega) (by omega) f1 ?_)) (fun q => ?_))
    · rw [ps_s, show to_t w (to_T n w) i k = 0 from if_neg (by omega), Nat.add_zero]
      exact f2
    · rw [pk_sub q]
      refine ⟨i18, vp_in_nI (by omega) (by omega), i18, fun a ea => nm_r (nI_1 k) (ih (k + 1) a m (by omega) (by omega) (fun j hj => ?_) ?_)⟩
      · rw [ea, ci, pk_un (by omega)]; exact f1 j hj
      · rw [ea, ci, pk_us, nI_clamp (by omega), f2, f1 _ (by omega), nI_add, ps_s, show to_t w (to_T n w) i k = to_T n w (i - (w k).log2) from if_pos q]
theorem yt_21 {n N : Nat} {w : Nat → Nat} (hn : n ≤ 6) (hW : rd_W n w) (hA : re_A n w vw) (hN : N ≤ 16) {post : Int32 → SY → Prop} (h : ∀ vy', post (nI (to_T n w N)) (nI n, yr, vw, vy', vl, va)) : ∀ d i vy fuel, i + d = N + 1 → d < fuel → 1 ≤ i → (∀ q, q < i → vy q = nI (to_T n w q)) → wY_total_21 post (nI N) (nI n) yr fuel (nI i) vw vy vl va := by
  intro d
  induction d with
  | zero =>
    intro i vy fuel hi hf h1 f1
    obtain ⟨m, rfl⟩ := na_ex1 hf
    refine pk_lt N i (fun _ => ⟨vp_in_nI (by omega) (by omega), ?_⟩) (fun q => absurd q (by omega))
    rw [nI_clamp (by omega), f1 N (by omega)]
    exact h vy
  | succ d ih =>
    intro i vy fuel hi hf h1 f1
    obtain ⟨m, rfl⟩ := na_ex1 (n := fuel) (by omega)
    refine pk_lt N i (fun q => absurd q (by omega)) (fun _ => ⟨vp_in_nI (by omega) (by omega), fun a ea => ⟨n + 1, yt_35 hn hW hA h1 (by omega) (fun vy' g => ih (i + 1) vy' m (by omega) (by omega) (by omega) g) n 0 a (n + 1) (by omega) (by omega) (fun q hq => ?_) ?_⟩⟩)
    · rw [ea, nI_clamp (by omega), pk_un (by omega)]; exact f1 q hq
    · rw [ea, nI_clamp (by omega), pk_us]; rfl
end
theorem i_vc_total {k : Nat} {u : SX} {v : SY} (I : i_Rel k u v) (hk : k + 3 ≤ 1536) (v1 : Int32) : wpX_total (fun r u' => wpY_total (fun r' v' => r' = r ∧ i_Rel (k + 3) u' v') v v1) u v1 := by
  refine re_el (P := fun u v => wpX_total (fun r u' => wpY_total (fun r' v' => r' = r ∧ i_Rel (k + 3) u' v') v v1) u v1) ?_ I
  intro n L B w xf xt ao au aw ae asx am ap aq az ah ad vw vy vl va hn hL hB hW hA hV
  by_cases h0 : v1 < 0
  · exact br_t h0 (br_t h0 ⟨rfl, re_mk hn hL hB hW hA hV⟩)
  · by_cases h1 : v1 ≤ 16
    · obtain ⟨N, hN, rfl⟩ := nI_of2 (n := 16) (by decide) h0 h1
      have z : ∀ (a : Nat → Int32) q, q < 1 → upd a 0 1 q = nI (to_T n w q) := by
        intro a q hq
        have e : q = 0 := by omega
        subst e
        rw [pk_us]; rfl
      refine br_f h0 (br_t h1 (fun a ea => ⟨N + 1, xt_21 hn hW hA hN (fun az' => ?_) N 1 a (N + 1) (by omega) (by omega) (by omega) (by rw [ea]; exact z az)⟩))
      exact br_f h0 (br_t h1 (fun b eb => ⟨N + 1, yt_21 hn hW hV hN (fun vy' => ⟨rfl, re_mk hn hL hB hW hA hV⟩) N 1 b (N + 1) (by omega) (by omega) (by omega) (by rw [eb]; exact z vy)⟩))
    · exact br_f h0 (br_f h1 (br_f h0 (br_f h1 ⟨rfl, re_mk hn hL hB hW hA hV⟩)))
end
section
/-! X's findShortest -/
def dj_All (_ _ : Nat) : Prop := True
theorem dj_flat {n i j : Nat} (hi : i < n) (hj : j < n) : i * n + j < n * n := by
  have : (i + 1) * n ≤ n * n := Nat.mul_le_mul (by omega) (Nat.le_refl _)
  rw [Nat.add_mul, Nat.one_mul] at this
  omega
theorem dj_pair {n a b k : Nat} (hb : b < n) (h : a * n + b < k + 1) : a * n + b < k ∨ (a = k / n ∧ b = k % n) := by
  by_cases e : a * n + b = k
  · right
    rw [← e, Nat.mul_comm, Nat.mul_add_div (by omega), Nat.mul_add_mod, Nat.mod_eq_of_lt hb, Nat.div_eq_of_lt hb]
    exact ⟨rfl, rfl⟩
  · left; omega
theorem dj_In_all {n : Nat} {w : Nat → Nat} {far : Nat} {A : Nat → Nat} (h : dj_In n w far (fun i j => i * n + j < n * n) A) : dj_In n w far dj_All A :=
  ⟨h.1, fun i j hi hj _ hn h1 => h.2 i j hi hj (dj_flat hi hj) hn h1⟩
theorem dj_ex (n : Nat) (w : Nat → Nat) (far : Nat) : ∃ D, dj_In n w far dj_All D := by
  have H : ∀ k, k ≤ n * n → ∃ D, dj_In n w far (fun i j => i * n + j < k) D := by
    intro k
    induction k with
    | zero => intro _; exact ⟨_, dj_In_0 n w far (fun i j _ _ h => absurd h (by omega))⟩
    | succ k ih =>
      intro hk
      obtain ⟨D, hD⟩ := ih (by omega)
      have n0 : 0 < n := by
        rcases Nat.eq_zero_or_pos n with z | z
        · subst z; omega
        · exact z
      have k1 : k / n < n := (Nat.div_lt_iff_lt_mul n0).mpr (by omega)
      have k2 : k % n < n := Nat.mod_lt _ n0
      by_cases e : w (k / n) = w (k % n)
      · exact ⟨D, dj_In_n hD (Or.inl e) (fun a b _ hb h => dj_pair hb h)⟩
      · exact ⟨_, dj_In_r hD k1 k2 e (fun a b _ hb h => dj_pair hb h)⟩
  obtain ⟨D, hD⟩ := H (n * n) (Nat.le_refl _)
  exact ⟨D, dj_In_all hD⟩
theorem dj_In_le {n : Nat} {w : Nat → Nat} (hW : rd_W n w) {far : Nat} (hf : 6 ≤ far) {P : Nat → Nat → Prop} {A : Nat → Nat} (h : dj_In n w far P A) (v : Nat) : A v ≤ far := by
  rcases h.1 v with g | ⟨i, j, hi, _, _, _, _, g⟩
  · omega
  · have := na_lg6 (hW.1 i hi).2
    omega
theorem dj_uniq {n : Nat} {w : Nat → Nat} (hW : rd_W n w) {far : Nat} (hf : 6 ≤ far) {D E : Nat → Nat} (hD : dj_In n w far dj_All D) (hE : dj_In n w far dj_All E) : D = E := by
  have H : ∀ D E : Nat → Nat, dj_In n w far dj_All D → dj_In n w far dj_All E → ∀ v, D v ≤ E v := by
    intro D E hD hE v
    rcases hE.1 v with g | ⟨i, j, hi, hj, hn, h1, hl, g⟩
    · rw [g]; exact dj_In_le hW hf hD v
    · rw [g, hl]; exact hD.2 i j hi hj trivial hn (by omega)
  funext v
  exact Nat.le_antisymm (H D E hD hE v) (H E D hE hD v)
theorem dj_start {n : Nat} {w D A : Nat → Nat} (hW : rd_W n w) (hD : dj_In n w 999 dj_All D) (hA : dj_In n w 10000 dj_All A) : dj_I n w D 0 A (fun _ => false) := by
  refine ⟨fun i j hi hj hn h1 => hA.2 i j hi hj trivial hn h1, fun u h => absurd (show false = true from h) (by decide), fun u v h => absurd (show false = true from h) (by decide), fun u k h => absurd (show false = true from h) (by decide), ?_, fun v => dj_In_le hW (by omega) hA v, ?_⟩
  · intro v hv
    rcases hA.1 v with g | ⟨i, j, hi, hj, hn, h1, hl, g⟩
    · omega
    · have a := na_lg6 (hW.1 i hi).2
      have b := dj_lf_lt (hW.1 i hi).2 (hW.1 j hj).1
      refine ⟨h1, by omega, ?_, by omega⟩
      show D v ≤ A v
      rw [g, hl]
      exact hD.2 i j hi hj trivial hn (by omega)
  · exact ps_zero (fun k _ => rfl)
/-- what nearest finds, among the codes below v -/
def dj_N (A : Nat → Nat) (dn : Nat → Bool) (v b : Nat) : Prop :=
  (b = 0 ∧ ∀ q, 1 ≤ q → q < v → dn q = false → 10000 ≤ A q) ∨ (1 ≤ b ∧ b < v ∧ dn b = false ∧ A b < 10000 ∧ ∀ q, 1 ≤ q → q < v → dn q = false → A q < 10000 → A b ≤ A q)
theorem dj_N_skip {A : Nat → Nat} {dn : Nat → Bool} {v b : Nat} (h : dj_N A dn v b) (hs : dn v = false → 10000 ≤ A v) : dj_N A dn (v + 1) b := by
  rcases h with ⟨h1, h2⟩ | ⟨h1, h2, h3, h4, h5⟩
  · refine Or.inl ⟨h1, fun q q1 q2 q3 => ?_⟩
    by_cases e : q = v
    · subst e; exact hs q3
    · exact h2 q q1 (by omega) q3
  · refine Or.inr ⟨h1, by omega, h3, h4, fun q q1 q2 q3 q4 => ?_⟩
    by_cases e : q = v
    · subst e; have := hs q3; omega
    · exact h5 q q1 (by omega) q3 q4
theorem dj_N_keep {A : Nat → Nat} {dn : Nat → Bool} {v b : Nat} (h : dj_N A dn v b) (hb : b ≠ 0) (hs : A b ≤ A v) : dj_N A dn (v + 1) b := by
  rcases h with ⟨h1, h2⟩ | ⟨h1, h2, h3, h4, h5⟩
  · exact absurd h1 hb
  · refine Or.inr ⟨h1, by omega, h3, h4, fun q q1 q2 q3 q4 => ?_⟩
    by_cases e : q = v
    · subst e; exact hs
    · exact h5 q q1 (by omega) q3 q4
theorem dj_N_take {A : Nat → Nat} {dn : Nat → Bool} {v b : Nat} (h : dj_N A dn v b) (hv : 1 ≤ v) (hd : dn v = false) (hf : A v < 10000) (hs : b = 0 ∨ A v < A b) : dj_N A dn (v + 1) v := by
  refine Or.inr ⟨hv, by omega, hd, hf, fun q q1 q2 q3 q4 => ?_⟩
  by_cases e : q = v
  · subst e; exact Nat.le_refl _
  · rcases h with ⟨h1, h2⟩ | ⟨h1, h2, h3, h4, h5⟩
    · have := h2 q q1 (by omega) q3; omega
    · have := h5 q q1 (by omega) q3 q4
      omega
section
variable {xc xl xb xf xt : Int32} {ao au aw ae asx am ap aq az ah ad : Nat → Int32} {yc yr : Int32} {vw vy vl va : Nat → Int32}
theorem xd_reach {A : Nat → Nat} {v d : Nat} (hA : re_A 128 A ah) (hv : v < 128) (hb : A v ≤ 10000) (hd : d < 2 ^ 31) {post : SX → Prop} (h : ∀ ah', re_A 128 (dj_r A v d) ah' → post (xc, xl, xb, xf, xt, ao, au, aw, ae, asx, am, ap, aq, az, ah', ad)) : wpX_reach post (xc, xl, xb, xf, xt, ao, au, aw, ae, asx, am, ap, aq, az, ah, ad) (nI v) (nI d) := by
  have i : vp_in (nI v) 128 := vp_in_nI hv (by omega)
  have c : (nI v).toNatClampNeg = v := nI_clamp (by omega)
  refine pk_le v 0 (fun q => h ah ?_) (fun q => ⟨i, pk_le (A v) d (fun z => h ah ?_) (fun z => ⟨i, fun a ea => h a ?_⟩) (hx := by rw [c]; exact hA v hv) (hb := hd)⟩)
  · rw [show v = 0 from by omega, dj_r_0]; exact hA
  · rw [dj_r_ge z]; exact hA
  · intro j hj
    rw [ea, c]
    by_cases e : j = v
    · subst e; rw [pk_us, dj_r_t (by omega) z]
    · rw [pk_un e, dj_r_n (fun g => e g.1)]; exact hA j hj
theorem xd_33 {n : Nat} {w : Nat → Nat} (hn : n ≤ 6) (hW : rd_W n w) (hC : re_A n w ao) {post : Int32 → SX → Prop} (h : ∀ ah' A, re_A 128 A ah' → dj_In n w 10000 dj_All A → wpX_nearest (fun r => ∃ n105 : Nat, wX_findShortest_105 post n105 r (nI n) xl xb xf xt ao au aw ae asx am ap aq az ah' ad) (nI n, xl, xb, xf, xt, ao, au, aw, ae, asx, am, ap, aq, az, ah', ad)) : ∀ d k ah A fuel, k + d = n * n → d < fuel → re_A 128 A ah → dj_In n w 10000 (fun i j => i * n + j < k) A → wX_findShortest_33 post fuel (nI k) (nI n) xl xb xf xt ao au aw ae asx am ap aq az ah ad := by
  have nn : n * n ≤ 36 := Nat.mul_le_mul hn hn
  intro d
  induction d with
  | zero =>
    intro k ah A fuel hk hf hA hI
    obtain ⟨m, rfl⟩ := na_ex1 hf
    have e : k = n * n := by omega
    subst e
    exact pk_le (n * n) (n * n) (fun _ => h ah A hA (dj_In_all hI)) (fun q => absurd q (by omega)) (hx := pk_mul n n)
  | succ d ih =>
    intro k ah A fuel hk hf hA hI
    obtain ⟨m, rfl⟩ := na_ex1 (n := fuel) (by omega)
    have n0 : 0 < n := by
      rcases Nat.eq_zero_or_pos n with z | z
      · subst z; omega
      · exact z
    have k1 : k / n < n := (Nat.div_lt_iff_lt_mul n0).mpr (by omega)
    have k2 : k % n < n := Nat.mod_lt _ n0
    have e1 : nI k / nI n = nI (k / n) := pk_div (by omega) n0 (by omega)
    have e2 : nI k - nI k / nI n * nI n = nI (k % n) := pk_rem (by omega) n0 (by omega)
    have z0 : ¬ nI n = 0 := nI_ne0 n0 (by omega)
    have v1 : ao (nI k / nI n).toNatClampNeg = nI (w (k / n)) := by rw [e1, nI_clamp (by omega)]; exact hC _ k1
    have v2 : ao (nI k - nI k / nI n * nI n).toNatClampNeg = nI (w (k % n)) := by rw [e2, nI_clamp (by omega)]; exact hC _ k2
    have ⟨a2, a128⟩ := hW.1 _ k1
    have ⟨b2, b128⟩ := hW.1 _ k2
    have l6 := na_lg6 a128
    have lb := dj_lf_lt (a := w (k / n)) a128 b2
    refine pk_le (n * n) k (fun q => absurd q (by omega)) (fun _ => ⟨z0, ?_, nm_r v1 ⟨z0, ?_, nm_r v2 ?_⟩⟩) (hx := pk_mul n n)
    · rw [e1]; exact vp_in_nI (by omega) (by omega)
    · rw [e2]; exact vp_in_nI (by omega) (by omega)
    · refine pk_eq (w (k / n)) (w (k % n)) (fun q => nm_r (nI_1 k) (ih (k + 1) ah A m (by omega) (by omega) hA (dj_In_n hI (Or.inl q) (fun a b _ hb h => dj_pair hb h)))) (fun q => xl_left a128 b128 (xs_size a128 ?_))
      exact xd_reach hA (by omega) (dj_In_le hW (by omega) hI _) (by omega) (fun ah' hA' => nm_r (nI_1 k) (ih (k + 1) ah' _ m (by omega) (by omega) hA' (dj_In_r hI k1 k2 q (fun a b _ hb h => dj_pair hb h))))
theorem xd_goOn {n x : Nat} {w A : Nat → Nat} (hn : n ≤ 6) (hW : rd_W n w) (hC : re_A n w ao) (hx : 2 ≤ x) (hx2 : x < 64) (hB : ∀ v, A v ≤ 10000) {post : SX → Prop} (h : ∀ ah', re_A 128 (dj_xs w A x n) ah' → post (nI n, xl, xb, xf, xt, ao, au, aw, ae, asx, am, ap, aq, az, ah', ad)) : ∀ d k ah fuel, k + d = n → d < fuel → re_A 128 (dj_xs w A x k) ah → wX_goOn_2 post (nI x) fuel (nI k) (nI n) xl xb xf xt ao au aw ae asx am ap aq az ah ad := by
  have ix : vp_in (nI x) 128 := vp_in_nI (by omega) (by omega)
  have cx : (nI x).toNatClampNeg = x := nI_clamp (by omega)
  intro d
  induction d with
  | zero =>
    intro k ah fuel hk hf hA
    obtain ⟨m, rfl⟩ := na_ex1 hf
    have e : k = n := by omega
    subst e
    exact pk_le k k (fun _ => h ah hA) (fun q => absurd q (by omega))
  | succ d ih =>
    intro k ah fuel hk hf hA
    obtain ⟨m, rfl⟩ := na_ex1 (n := fuel) (by omega)
    have ⟨w2, w128⟩ := hW.1 k (by omega)
    have ik : vp_in (nI k) 6 := vp_in_nI (by omega) (by omega)
    have eC : ao (nI k).toNatClampNeg = nI (w k) := by rw [nI_clamp (by omega)]; exact hC k (by omega)
    have bA : ∀ v, dj_xs w A x k v ≤ 10000 := fun v => Nat.le_trans (dj_xs_le _ _ _ _ _) (hB v)
    have b1 := dj_lf_lt (a := x) (b := w k) (by omega) w2
    have b2 := dj_lf_lt (a := w k) (b := x) w128 hx
    have bx := bA x
    refine pk_le n k (fun q => absurd q (by omega)) (fun _ => ⟨ik, ?_⟩)
    rw [eC]
    refine xl_left (by omega) w128 ⟨ik, xl_left w128 (by omega) ⟨ix, ?_⟩⟩
    have vx : ah (nI x).toNatClampNeg = nI (dj_xs w A x k x) := by rw [cx]; exact hA x (by omega)
    rw [vx]
    refine xd_reach hA (by omega) (bA _) (by omega) (fun ah' hA' => ?_)
    by_cases c : 1 ≤ dj_lf x (w k)
    · have g := dj_lf_not c
      have e : dj_xs w A x (k + 1) = dj_r (dj_xs w A x k) (dj_lf x (w k)) (dj_xs w A x k x) := by
        rw [dj_xs_s]
        unfold dj_x dj_tv dj_td
        rw [if_pos c, if_pos c, Nat.add_zero]
      rw [← e] at hA'
      exact pk_lt 1 (dj_lf (w k) x) (fun q => absurd q (by omega)) (fun _ => pk_eq (dj_lf x (w k)) 0 (fun q => absurd q (by omega)) (fun _ => nm_r (nI_1 k) (ih (k + 1) ah' m (by omega) (by omega) hA')))
    · have c0 : dj_lf x (w k) = 0 := by omega
      rw [c0, dj_r_0] at hA'
      have e : dj_xs w A x (k + 1) = dj_r (dj_xs w A x k) (dj_lf (w k) x) (dj_xs w A x k x + (dj_lf (w k) x).log2) := by
        rw [dj_xs_s]
        unfold dj_x dj_tv dj_td
        rw [if_neg c, if_neg c]
      have l6 := na_lg6 (show dj_lf (w k) x < 128 from by omega)
      have vx' : ah' (nI x).toNatClampNeg + nI (dj_lf (w k) x).log2 = nI (dj_xs w A x k x + (dj_lf (w k) x).log2) := by rw [cx, hA' x (by omega), nI_add]
      have T : wX_goOn_56 post (wX_goOn_2 post (nI x) m) (nI x) (nI k) (nI (dj_lf (w k) x)) (nI n) xl xb xf xt ao au aw ae asx am ap aq az ah' ad := by
        refine ⟨ix, xs_size (by omega) ?_⟩
        rw [vx']
        refine xd_reach hA' (by omega) (bA _) (by omega) (fun ah2 hA2 => nm_r (nI_1 k) (ih (k + 1) ah2 m (by omega) (by omega) ?_))
        rw [e]
        exact hA2
      exact pk_lt 1 (dj_lf (w k) x) (fun _ => T) (fun _ => pk_eq (dj_lf x (w k)) 0 (fun _ => T) (fun q => absurd c0 q))
theorem xd_near {A : Nat → Nat} {dn : Nat → Bool} (hA : re_A 128 A ah) (hD : re_A 128 (fun v => dj_b (dn v)) ad) (hB : ∀ v, A v ≤ 10000) {post : Int32 → Prop} (h : ∀ b, dj_N A dn 128 b → post (nI b)) : wpX_nearest post (xc, xl, xb, xf, xt, ao, au, aw, ae, asx, am, ap, aq, az, ah, ad) := by
  have H : ∀ d v b, v + d = 128 → 1 ≤ v → dj_N A dn v b → wX_nearest_4 post xc xl xb xf xt ao au aw ae asx am ap aq az ah ad (d + 1) (nI b) (nI v) := by
    intro d
    induction d with
    | zero =>
      intro v b hv h1 hN
      have e : v = 128 := by omega
      subst e
      exact pk_le 128 128 (fun _ => h b hN) (fun q => absurd q (by omega))
    | succ d ih =>
      intro v b hv h1 hN
      have iv : vp_in (nI v) 128 := vp_in_nI (by omega) (by omega)
      have cv : (nI v).toNatClampNeg = v := nI_clamp (by omega)
      have bv := hB v
      have e1 : ad (nI v).toNatClampNeg = nI (dj_b (dn v)) := by rw [cv]; exact hD v (by omega)
      have e2 : ah (nI v).toNatClampNeg = nI (A v) := by rw [cv]; exact hA v (by omega)
      have hb : b < 128 := by
        rcases hN with ⟨g, _⟩ | ⟨_, g, _⟩ <;> omega
      refine pk_le 128 v (fun q => absurd q (by omega)) (fun _ => ⟨iv, ?_⟩)
      cases dv : dn v with
      | true =>
        rw [dv] at e1
        refine br_f (by rw [e1]; decide) (nm_r (nI_1 v) (ih (v + 1) b (by omega) (by omega) (dj_N_skip hN (fun z => ?_))))
        rw [dv] at z
        exact absurd z (by decide)
      | false =>
        rw [dv] at e1
        refine br_t e1 ⟨iv, pk_le 10000 (A v) (fun q => nm_r (nI_1 v) (ih (v + 1) b (by omega) (by omega) (dj_N_skip hN (fun _ => q)))) (fun q => pk_eq b 0 (fun z => nm_r (nI_1 v) (ih (v + 1) v (by omega) (by omega) (dj_N_take hN h1 dv q (Or.inl z)))) (fun z => ⟨iv, vp_in_nI hb (by omega), ?_⟩)) (hy := e2)⟩
        have bb := hB b
        have e3 : ah (nI b).toNatClampNeg = nI (A b) := by rw [nI_clamp (by omega)]; exact hA b hb
        exact pk_le (A b) (A v) (fun y => nm_r (nI_1 v) (ih (v + 1) b (by omega) (by omega) (dj_N_keep hN z y))) (fun y => nm_r (nI_1 v) (ih (v + 1) v (by omega) (by omega) (dj_N_take hN h1 dv q (Or.inr y)))) (hx := e3) (hy := e2)
  exact ⟨128, H 127 1 0 (by omega) (by omega) (Or.inl ⟨rfl, fun q q1 q2 => absurd q2 (by omega)⟩)⟩
theorem xd_105 {n : Nat} {w D : Nat → Nat} (hn : n ≤ 6) (hW : rd_W n w) (hC : re_A n w ao) (hD : dj_In n w 999 dj_All D) {post : Int32 → SX → Prop} (h : ∀ ah' ad' a, ((a < 10000 ∧ dj_yr n w D 64 1 = a ∧ a < 999) ∨ (a = 10000 ∧ dj_yr n w D 64 1 = 999)) → post (nI a) (nI n, xl, xb, xf, xt, ao, au, aw, ae, asx, am, ap, aq, az, ah', ad')) : ∀ d r ah ad A dn x fuel, r + d = 64 → d < fuel → re_A 128 A ah → re_A 128 (fun v => dj_b (dn v)) ad → dj_I n w D r A dn → dj_N A dn 128 x → wX_findShortest_105 post fuel (nI x) (nI n) xl xb xf xt ao au aw ae asx am ap aq az ah ad := by
  intro d
  induction d with
  | zero =>
    intro r ah ad A dn x fuel hr hf hA hd hI hN
    obtain ⟨m, rfl⟩ := na_ex1 hf
    have i5 := hI.2.2.2.2.1
    by_cases x1 : x ≤ 1
    · refine pk_le x 1 (fun _ => ?_) (fun q => absurd q (by omega))
      rw [hA 1 (by omega)]
      refine h ah ad (A 1) (dj_fin hI hD (fun v v1 v2 => ?_))
      have ⟨a1, a2, _⟩ := i5 v v2
      rcases hN with ⟨g1, g2⟩ | ⟨g1, g2, g3, g4, g5⟩
      · have := g2 v a1 (by omega) v1; omega
      · rw [show x = 1 from by omega] at g5
        exact g5 v a1 (by omega) v1 v2
    · rcases hN with ⟨g1, g2⟩ | ⟨g1, g2, g3, g4, g5⟩
      · omega
      · have ⟨a1, a2, _⟩ := i5 x g4
        have hI' := dj_step hW hI (by omega) g3 g4 (fun v v1 v2 => g5 v (i5 v v2).1 (by have := (i5 v v2).2.1; omega) v1 v2)
        have := dj_I_r hI'
        omega
  | succ d ih =>
    intro r ah ad A dn x fuel hr hf hA hd hI hN
    obtain ⟨m, rfl⟩ := na_ex1 (n := fuel) (by omega)
    have i5 := hI.2.2.2.2.1
    have i6 := hI.2.2.2.2.2.1
    by_cases x1 : x ≤ 1
    · refine pk_le x 1 (fun _ => ?_) (fun q => absurd q (by omega))
      rw [hA 1 (by omega)]
      refine h ah ad (A 1) (dj_fin hI hD (fun v v1 v2 => ?_))
      have ⟨a1, a2, _⟩ := i5 v v2
      rcases hN with ⟨g1, g2⟩ | ⟨g1, g2, g3, g4, g5⟩
      · have := g2 v a1 (by omega) v1; omega
      · rw [show x = 1 from by omega] at g5
        exact g5 v a1 (by omega) v1 v2
    · rcases hN with ⟨g1, g2⟩ | ⟨g1, g2, g3, g4, g5⟩
      · omega
      · have ⟨a1, a2, _⟩ := i5 x g4
        have hI' := dj_step hW hI (by omega) g3 g4 (fun v v1 v2 => g5 v (i5 v v2).1 (by have := (i5 v v2).2.1; omega) v1 v2)
        refine pk_le x 1 (fun q => absurd q (by omega)) (fun _ => ⟨vp_in_nI (by omega) (by omega), fun a ea => ⟨n + 1, xd_goOn hn hW hC (by omega) a2 i6 (fun ah' hA' => ?_) n 0 ah (n + 1) (by omega) (by omega) hA⟩⟩)
        have hd' : re_A 128 (fun v => dj_b (dj_p dn x v)) a := by
          intro v hv
          rw [ea, nI_clamp (by omega), na_vb1]
          dsimp only
          by_cases e : v = x
          · subst e; rw [pk_us, dj_p_x]; rfl
          · rw [pk_un e, dj_p_n e]; exact hd v hv
        exact xd_near hA' hd' hI'.2.2.2.2.2.1 (fun b hb => ih (r + 1) ah' a _ _ b m (by omega) (by omega) hA' hd' hI' hb)
theorem xd_short {n : Nat} {w D : Nat → Nat} (hn : n ≤ 6) (hW : rd_W n w) (hC : re_A n w ao) (hD : dj_In n w 999 dj_All D) {post : Int32 → SX → Prop} (h : ∀ ah' ad' a, ((a < 10000 ∧ dj_yr n w D 64 1 = a ∧ a < 999) ∨ (a = 10000 ∧ dj_yr n w D 64 1 = 999)) → post (nI a) (nI n, xl, xb, xf, xt, ao, au, aw, ae, asx, am, ap, aq, az, ah', ad')) : wpX_findShortest post (nI n, xl, xb, xf, xt, ao, au, aw, ae, asx, am, ap, aq, az, ah, ad) := by
  have H : ∀ d k ah ad fuel, k + d = 128 → d < fuel → (∀ v, v < k → ah v = nI 10000) → (∀ v, v < k → ad v = nI 0) → wX_findShortest_2 post (nI n) xl xb xf xt fuel (nI k) ao au aw ae asx am ap aq az ah ad := by
    intro d
    induction d with
    | zero =>
      intro k ah ad fuel hk hf f1 f2
      obtain ⟨m, rfl⟩ := na_ex1 hf
      have e : k = 128 := by omega
      subst e
      refine pk_le 128 128 (fun _ => ⟨n * n + 1, xd_33 hn hW hC (fun ah' A hA hI => ?_) (n * n) 0 ah (fun _ => 10000) (n * n + 1) (by omega) (by omega) f1 (dj_In_0 n w 10000 (fun i j _ _ h => absurd h (by omega)))⟩) (fun q => absurd q (by omega))
      have st := dj_start hW hD hI
      have hd : re_A 128 (fun v => dj_b ((fun _ => false) v)) ad := f2
      exact xd_near hA hd st.2.2.2.2.2.1 (fun b hb => ⟨65, xd_105 hn hW hC hD h 64 0 ah' ad A _ b 65 (by omega) (by omega) hA hd st hb⟩)
    | succ d ih =>
      intro k ah ad fuel hk hf f1 f2
      obtain ⟨m, rfl⟩ := na_ex1 (n := fuel) (by omega)
      have i : vp_in (nI k) 128 := vp_in_nI (by omega) (by omega)
      have c : (nI k).toNatClampNeg = k := nI_clamp (by omega)
      refine pk_le 128 k (fun q => absurd q (by omega)) (fun _ => ⟨i, fun a ea => ⟨i, fun b eb => nm_r (nI_1 k) (ih (k + 1) a b m (by omega) (by omega) ?_ ?_)⟩⟩)
      · intro v hv
        rw [ea, c]
        by_cases e : v = k
        · subst e; rw [pk_us]; rfl
        · rw [pk_un e]; exact f1 v (by omega)
      · intro v hv
        rw [eb, c, na_vb0]
        by_cases e : v = k
        · subst e; rw [pk_us]; rfl
        · rw [pk_un e]; exact f2 v (by omega)
  exact ⟨129, H 128 0 ah ad 129 (by omega) (by omega) (fun v hv => absurd hv (by omega)) (fun v hv => absurd hv (by omega))⟩
end
end
section
/-! Y's shortestBits -/
def yd_A (D : Nat → Nat) (a : Nat → Int32) : Prop := ∀ v, 2 ≤ v → v < 64 → a v = nI (D v)
theorem dj_far {w D : Nat → Nat} {u : Nat} (hB : ∀ v, D v ≤ 999) (hu : 999 ≤ D u) : ∀ m, dj_xs w D u m = D := by
  intro m
  induction m with
  | zero => rfl
  | succ m ih =>
    rw [dj_xs_s, ih]
    exact dj_r_ge (by have := hB (dj_tv u (w m)); omega)
theorem dj_x_self (D : Nat → Nat) (u : Nat) : dj_x D u u = dj_r D 1 (D u) := by
  unfold dj_x dj_tv dj_td
  rw [dj_lf_self, if_pos (by omega), if_pos (by omega), Nat.add_zero]
theorem dj_r_min (D : Nat → Nat) (v d : Nat) (hv : 0 < v) : dj_r D v d v = if D v ≤ d then D v else d := by
  by_cases c : d < D v
  · rw [dj_r_t hv c, if_neg (by omega)]
  · rw [dj_r_n (fun h => c h.2.2), if_pos (by omega)]
section
variable {xc xl xb xf xt : Int32} {ao au aw ae asx am ap aq az ah ad : Nat → Int32} {yc yr : Int32} {vw vy vl va : Nat → Int32}
theorem yd_meet {D : Nat → Nat} {v d : Nat} (hA : yd_A D va) (h2 : 2 ≤ v) (hv : v < 64) (hb : D v ≤ 999) (hd : d < 2 ^ 31) {post : SY → Prop} (h : ∀ va', yd_A (dj_r D v d) va' → post (yc, yr, vw, vy, vl, va')) : wpY_meet post (yc, yr, vw, vy, vl, va) (nI v) (nI d) := by
  have i : vp_in (nI v) 64 := vp_in_nI hv (by omega)
  have c : (nI v).toNatClampNeg = v := nI_clamp (by omega)
  refine ⟨i, pk_le (D v) d (fun z => h va ?_) (fun z => ⟨i, fun a ea => h a ?_⟩) (hx := by rw [c]; exact hA v h2 hv) (hb := hd)⟩
  · rw [dj_r_ge z]; exact hA
  · intro j j2 hj
    rw [ea, c]
    by_cases e : j = v
    · subst e; rw [pk_us, dj_r_t (by omega) z]
    · rw [pk_un e, dj_r_n (fun g => e g.1)]; exact hA j j2 hj
theorem yd_84 {D : Nat → Nat} {u c b x : Nat} (hu : 2 ≤ u) (hu2 : u < 64) (hc2 : c < 128) (hx : 2 ≤ dj_lf c u → b = dj_lf c u) (hA : yd_A D va) (hb : ∀ v, D v ≤ 999) (hbx : x ≤ 999) {post : Int32 → SY → Prop} (h0 : ¬ 2 ≤ dj_lf c u → post 999 (yc, yr, vw, vy, vl, va)) (h1 : 2 ≤ dj_lf c u → ∀ va', yd_A (dj_r D (dj_lf c u) (x + (c.log2 - u.log2))) va' → post 999 (yc, yr, vw, vy, vl, va')) : wY_follow_84 post (nI u) (nI c) (nI x) (nI u.log2) (nI c.log2) (nI b) yc yr vw vy vl va := by
  have hm := na_lg6 hc2
  unfold wY_follow_84
  refine yl_begins (by omega) hc2 (fun q => br_f (by decide) ?_) (fun q => br_t rfl (h0 q))
  have hn := (lf_ge2.mp q).1
  rw [hx q, nI_add, pk_sub (by omega), show x + c.log2 - u.log2 = x + (c.log2 - u.log2) from by omega]
  exact yd_meet hA q (dj_lf_lt hc2 hu) (hb _) (by omega) (fun va' hA' => h1 q va' hA')
theorem yd_66 {D : Nat → Nat} {u c a b : Nat} (hu : 2 ≤ u) (hu2 : u < 64) (hc : 2 ≤ c) (hc2 : c < 128) (hne : c ≠ u) (ha : 2 ≤ dj_lf u c → a = dj_lf u c) (hx : 2 ≤ dj_lf c u → b = dj_lf c u) (hA : yd_A D va) (hb : ∀ v, D v ≤ 999) {post : Int32 → SY → Prop} (h : ∀ va', yd_A (dj_x D u c) va' → post 999 (yc, yr, vw, vy, vl, va')) : wY_follow_66 post (nI u) (nI c) (nI (D u)) (nI u.log2) (nI c.log2) (nI a) (nI b) yc yr vw vy vl va := by
  have bu := hb u
  unfold wY_follow_66
  refine yl_begins hc2 (by omega) (fun q => br_f (by decide) ?_) (fun q => br_t rfl ?_)
  · have e : dj_x D u c = dj_r D (dj_lf u c) (D u) := by
      unfold dj_x dj_tv dj_td
      rw [if_pos (by omega), if_pos (by omega), Nat.add_zero]
    have no : ¬ 2 ≤ dj_lf c u := by
      have := dj_lf_not (a := u) (b := c) (by omega)
      omega
    rw [ha q]
    refine yd_meet hA q (dj_lf_lt (by omega) hc) (hb _) (by omega) (fun va' hA' => ?_)
    refine yd_84 hu hu2 hc2 hx hA' (fun v => Nat.le_trans (dj_r_le _ _ _ _) (hb v)) bu (fun _ => h va' ?_) (fun z => absurd z no)
    rw [e]; exact hA'
  · have n1 : dj_lf u c ≠ 1 := fun z => hne (dj_lf_one z).symm
    have n2 : dj_lf c u ≠ 1 := fun z => hne (dj_lf_one z)
    refine yd_84 hu hu2 hc2 hx hA hb bu (fun z => h va ?_) (fun z va' hA' => h va' ?_)
    · have e : dj_x D u c = D := by
        unfold dj_x dj_tv
        rw [if_neg (by omega), show dj_lf c u = 0 from by omega, dj_r_0]
      rw [e]; exact hA
    · have e : dj_x D u c = dj_r D (dj_lf c u) (D u + (c.log2 - u.log2)) := by
        unfold dj_x dj_tv dj_td
        rw [if_neg (by omega), if_neg (by omega), dj_lf_lg (by omega)]
      rw [e]; exact hA'
theorem yd_46 {D : Nat → Nat} {u c a : Nat} (hu : 2 ≤ u) (hu2 : u < 64) (hc : 2 ≤ c) (hc2 : c < 128) (hne : c ≠ u) (ha : 2 ≤ dj_lf u c → a = dj_lf u c) (hA : yd_A D va) (hb : ∀ v, D v ≤ 999) {post : Int32 → SY → Prop} (h : ∀ va', yd_A (dj_x D u c) va' → post 999 (yc, yr, vw, vy, vl, va')) : wY_follow_46 post (nI u) (nI c) (nI (D u)) (nI u.log2) (nI c.log2) (nI a) yc yr vw vy vl va := by
  have c6 := na_lg6 hc2
  have u6 := na_lg6 (show u < 128 from by omega)
  unfold wY_follow_46
  refine pk_le c.log2 u.log2 (fun q => yd_66 (b := 0) hu hu2 hc hc2 hne ha (fun z => absurd (lf_ge2.mp z).1 (by omega)) hA hb h) (fun q => yl_rest hc2 (by omega) (yd_66 hu hu2 hc hc2 hne ha (fun z => ?_) hA hb h))
  have ⟨z1, z2⟩ := lf_ge2.mp z
  exact (dj_lf_t (by omega) z2).symm
theorem yd_follow {D : Nat → Nat} {u c : Nat} (hu : 2 ≤ u) (hu2 : u < 64) (hc : 2 ≤ c) (hc2 : c < 128) (hA : yd_A D va) (hb : ∀ v, D v ≤ 999) {post : Int32 → SY → Prop} (h : ∀ r va', yd_A (dj_x D u c) va' → r ≤ 999 → dj_x D u c 1 = (if D 1 ≤ r then D 1 else r) → post (nI r) (yc, yr, vw, vy, vl, va')) : wpY_follow post (yc, yr, vw, vy, vl, va) (nI u) (nI c) := by
  have c6 := na_lg6 hc2
  have u6 := na_lg6 (show u < 128 from by omega)
  have eu : va (nI u).toNatClampNeg = nI (D u) := by rw [nI_clamp (by omega)]; exact hA u hu hu2
  unfold wpY_follow
  dsimp only
  refine ⟨vp_in_nI hu2 (by omega), nm_r eu (pk_eq c u (fun q => ?_) (fun q => ?_))⟩
  · subst q
    refine h (D c) va ?_ (hb c) ?_
    · intro v v2 v64
      rw [dj_x_self, dj_r_n (fun z => absurd z.1 (by omega))]
      exact hA v v2 v64
    · rw [dj_x_self]; exact dj_r_min D 1 (D c) (by omega)
  · have K : ∀ va', yd_A (dj_x D u c) va' → post 999 (yc, yr, vw, vy, vl, va') := by
      intro va' hA'
      refine h 999 va' hA' (Nat.le_refl _) ?_
      rw [if_pos (hb 1)]
      unfold dj_x
      refine dj_r_n (fun z => ?_)
      have z1 := z.1
      unfold dj_tv at z1
      by_cases g : 1 ≤ dj_lf u c
      · rw [if_pos g] at z1
        exact q (dj_lf_one z1.symm).symm
      · rw [if_neg g] at z1
        exact q (dj_lf_one z1.symm)
    refine ys_len (by omega) (ys_len (by omega) (pk_le u.log2 c.log2 (fun y => yd_46 (a := 0) hu hu2 hc hc2 q (fun z => absurd (lf_ge2.mp z).1 (by omega)) hA hb K) (fun y => yl_rest (by omega) (by omega) (yd_46 hu hu2 hc hc2 q (fun z => ?_) hA hb K))))
    have ⟨z1, z2⟩ := lf_ge2.mp z
    exact (dj_lf_t (by omega) z2).symm
theorem yd_151 {n u : Nat} {w D : Nat → Nat} {x2 : Int32} (hn : n ≤ 6) (hW : rd_W n w) (hV : re_A n w vw) (hu : 2 ≤ u) (hu2 : u < 64) (hB : ∀ v, D v ≤ 999) {post : Int32 → SY → Prop} {J0 J : Int32 → Int32 → Int32 → Int32 → (Nat → Int32) → (Nat → Int32) → (Nat → Int32) → (Nat → Int32) → Prop} (h : ∀ va', yd_A (dj_xs w D u n) va' → J (nI (dj_xs w D u n 1)) (nI (u + 1)) (nI n) yr vw vy vl va') : ∀ d k va fuel, k + d = n → d < fuel → yd_A (dj_xs w D u k) va → wY_shortestBits_151 post J0 J x2 (nI u) fuel (nI (dj_xs w D u k 1)) (nI k) (nI n) yr vw vy vl va := by
  have iu : vp_in (nI u) 64 := vp_in_nI hu2 (by omega)
  intro d
  induction d with
  | zero =>
    intro k va fuel hk hf hA
    obtain ⟨m, rfl⟩ := na_ex1 hf
    have e : k = n := by omega
    subst e
    exact pk_le k k (fun _ => nm_r (nI_1 u) (h va hA)) (fun q => absurd q (by omega))
  | succ d ih =>
    intro k va fuel hk hf hA
    obtain ⟨m, rfl⟩ := na_ex1 (n := fuel) (by omega)
    have ⟨w2, w128⟩ := hW.1 k (by omega)
    have bD : ∀ v, dj_xs w D u k v ≤ 999 := fun v => Nat.le_trans (dj_xs_le _ _ _ _ _) (hB v)
    have eu : va (nI u).toNatClampNeg = nI (dj_xs w D u k u) := by rw [nI_clamp (by omega)]; exact hA u hu hu2
    have bu := bD u
    have b1 := bD 1
    refine pk_le n k (fun q => absurd q (by omega)) (fun _ => ⟨iu, pk_le 999 (dj_xs w D u k u) (fun q => nm_r (nI_1 u) ?_) (fun q => ⟨vp_in_nI (by omega) (by omega), ?_⟩) (hy := eu)⟩)
    · rw [dj_xs_u] at q
      have f := dj_far (w := w) hB q
      rw [f k] at hA ⊢
      have H := h va (by rw [f n]; exact hA)
      rw [f n] at H
      exact H
    · have eV : vw (nI k).toNatClampNeg = nI (w k) := by rw [nI_clamp (by omega)]; exact hV k (by omega)
      rw [eV]
      refine yd_follow hu hu2 w2 w128 hA bD (fun r va' hA' hr e => ?_)
      have IH := ih (k + 1) va' m (by omega) (by omega) hA'
      rw [dj_xs_s, e] at IH
      refine pk_le (dj_xs w D u k 1) r (fun q => ?_) (fun q => ?_)
      · rw [if_pos q] at IH
        exact nm_r (nI_1 k) IH
      · rw [if_neg (by omega)] at IH
        exact nm_r (nI_1 k) IH
theorem yd_142 {n r : Nat} {w D : Nat → Nat} (hn : n ≤ 6) (hW : rd_W n w) (hV : re_A n w vw) (hB : ∀ v, D v ≤ 999) {post : Int32 → SY → Prop} {J : Int32 → Int32 → Int32 → Int32 → (Nat → Int32) → (Nat → Int32) → (Nat → Int32) → (Nat → Int32) → Prop} (h : ∀ va', yd_A (dj_rd n w D 62) va' → J (nI (dj_rd n w D 62 1)) (nI (r + 1)) (nI n) yr vw vy vl va') : ∀ d j va fuel, j + d = 62 → d < fuel → yd_A (dj_rd n w D j) va → wY_shortestBits_142 post J (nI r) fuel (nI (dj_rd n w D j 1)) (nI (j + 2)) (nI n) yr vw vy vl va := by
  intro d
  induction d with
  | zero =>
    intro j va fuel hj hf hA
    obtain ⟨m, rfl⟩ := na_ex1 hf
    have e : j = 62 := by omega
    subst e
    exact pk_le 64 (62 + 2) (fun _ => nm_r (nI_1 r) (h va hA)) (fun q => absurd q (by omega))
  | succ d ih =>
    intro j va fuel hj hf hA
    obtain ⟨m, rfl⟩ := na_ex1 (n := fuel) (by omega)
    exact pk_le 64 (j + 2) (fun q => absurd q (by omega)) (fun _ => ⟨n + 1, yd_151 hn hW hV (by omega) (by omega) (fun v => Nat.le_trans (dj_rd_le _ _ _ _ _) (hB v)) (fun va' hA' => ih (j + 1) va' m (by omega) (by omega) hA') n 0 va (n + 1) (by omega) (by omega) hA⟩)
theorem yd_134 {n : Nat} {w D : Nat → Nat} (hn : n ≤ 6) (hW : rd_W n w) (hV : re_A n w vw) (hB : ∀ v, D v ≤ 999) {post : Int32 → SY → Prop} (h : ∀ va', post (nI (dj_yr n w D 64 1)) (nI n, yr, vw, vy, vl, va')) : ∀ d r va fuel, r + d = 64 → d < fuel → yd_A (dj_yr n w D r) va → wY_shortestBits_134 post fuel (nI (dj_yr n w D r 1)) (nI r) (nI n) yr vw vy vl va := by
  have bY : ∀ r v, dj_yr n w D r v ≤ 999 := by
    intro r v
    have a := dj_yr_le n w D 0 r v
    rw [Nat.zero_add] at a
    exact Nat.le_trans a (hB v)
  intro d
  induction d with
  | zero =>
    intro r va fuel hr hf hA
    obtain ⟨m, rfl⟩ := na_ex1 hf
    have e : r = 64 := by omega
    subst e
    exact pk_le 64 64 (fun _ => h va) (fun q => absurd q (by omega))
  | succ d ih =>
    intro r va fuel hr hf hA
    obtain ⟨m, rfl⟩ := na_ex1 (n := fuel) (by omega)
    exact pk_le 64 r (fun q => absurd q (by omega)) (fun _ => ⟨63, yd_142 hn hW hV (bY r) (fun va' hA' => ih (r + 1) va' m (by omega) (by omega) hA') 62 0 va 63 (by omega) (by omega) hA⟩)
theorem yd_35 {n i : Nat} {w : Nat → Nat} (hn : n ≤ 6) (hW : rd_W n w) (hV : re_A n w vw) (hi : i < n) {post : Int32 → SY → Prop} {J : Int32 → Int32 → Int32 → (Nat → Int32) → (Nat → Int32) → (Nat → Int32) → (Nat → Int32) → Prop} (h : ∀ va' D, yd_A D va' → dj_In n w 999 (fun _ b => b < i + 1) D → J (nI (i + 1)) (nI n) yr vw vy vl va') : ∀ d j va D fuel, j + d = n → d < fuel → yd_A D va → dj_In n w 999 (fun a b => b < i ∨ (b = i ∧ a < j)) D → wY_shortestBits_35 post J (nI i) fuel (nI j) (nI n) yr vw vy vl va := by
  intro d
  induction d with
  | zero =>
    intro j va D fuel hj hf hA hI
    obtain ⟨m, rfl⟩ := na_ex1 hf
    refine pk_le n j (fun _ => nm_r (nI_1 i) (h va D hA ⟨hI.1, fun a b ha hb hp => hI.2 a b ha hb ?_⟩)) (fun q => absurd q (by omega))
    have hp : b < i + 1 := hp
    show b < i ∨ (b = i ∧ a < j)
    omega
  | succ d ih =>
    intro j va D fuel hj hf hA hI
    obtain ⟨m, rfl⟩ := na_ex1 (n := fuel) (by omega)
    have ⟨a2, a128⟩ := hW.1 i hi
    have ⟨b2, b128⟩ := hW.1 j (by omega)
    have a6 := na_lg6 a128
    have b6 := na_lg6 b128
    have i1 : vp_in (nI i) 7 := vp_in_nI (by omega) (by omega)
    have i2 : vp_in (nI j) 7 := vp_in_nI (by omega) (by omega)
    have e1 : vw (nI i).toNatClampNeg = nI (w i) := by rw [nI_clamp (by omega)]; exact hV i hi
    have e2 : vw (nI j).toNatClampNeg = nI (w j) := by rw [nI_clamp (by omega)]; exact hV j (by omega)
    have P : ∀ a b, a < n → b < n → (b < i ∨ (b = i ∧ a < j + 1)) → (b < i ∨ (b = i ∧ a < j)) ∨ (a = j ∧ b = i) := by
      intro a b _ _ hp
      omega
    have T : ∀ z : Nat, (2 ≤ dj_lf (w j) (w i) → z = dj_lf (w j) (w i)) → wY_shortestBits_87 post J (wY_shortestBits_35 post J (nI i) m) (nI i) (nI j) (nI (w j).log2) (nI z) (nI n) yr vw vy vl va := by
      intro z hz
      refine ⟨i1, i2, ?_⟩
      rw [e1, e2]
      refine yl_begins a128 b128 (fun q => br_f (by decide) ?_) (fun q => br_t rfl (nm_r (nI_1 j) (ih (j + 1) va D m (by omega) (by omega) hA (dj_In_n hI ?_ P))))
      · rw [hz q]
        refine yd_meet hA q (dj_lf_lt b128 a2) (dj_In_le hW (by omega) hI _) (by omega) (fun va' hA' => nm_r (nI_1 j) (ih (j + 1) va' _ m (by omega) (by omega) hA' (dj_In_r hI (by omega) hi ?_ P)))
        intro e
        rw [e, dj_lf_self] at q
        omega
      · by_cases g : dj_lf (w j) (w i) = 0
        · exact Or.inr g
        · exact Or.inl (dj_lf_one (by omega))
    refine pk_le n j (fun q => absurd q (by omega)) (fun _ => ⟨i1, ?_⟩)
    rw [e1]
    refine ys_len (by omega) ⟨i2, ?_⟩
    rw [e2]
    refine ys_len (by omega) (pk_le (w j).log2 (w i).log2 (fun q => T 0 (fun z => absurd (lf_ge2.mp z).1 (by omega))) (fun q => ⟨i2, yl_rest b128 (by omega) (T _ (fun z => ?_))⟩))
    have ⟨z1, z2⟩ := lf_ge2.mp z
    exact (dj_lf_t (by omega) z2).symm
theorem yd_short {n : Nat} {w D : Nat → Nat} (hn : n ≤ 6) (hW : rd_W n w) (hV : re_A n w vw) (hD : dj_In n w 999 dj_All D) {post : Int32 → SY → Prop} (h : ∀ va', post (nI (dj_yr n w D 64 1)) (nI n, yr, vw, vy, vl, va')) : wpY_shortestBits post (nI n, yr, vw, vy, vl, va) := by
  have H2 : ∀ d i va E fuel, i + d = n → d < fuel → yd_A E va → dj_In n w 999 (fun _ b => b < i) E → wY_shortestBits_25 post fuel (nI i) (nI n) yr vw vy vl va := by
    intro d
    induction d with
    | zero =>
      intro i va E fuel hi hf hA hI
      obtain ⟨m, rfl⟩ := na_ex1 hf
      have e : i = n := by omega
      subst e
      have eD : E = D := dj_uniq hW (by omega) ⟨hI.1, fun a b ha hb _ => hI.2 a b ha hb hb⟩ hD
      subst eD
      have e1 : E 1 = 999 := by
        rcases hI.1 1 with g | ⟨a, b, ha, hb, hne, h1, hl, g⟩
        · exact g
        · exact absurd (dj_lf_one hl.symm) hne
      have K := yd_134 hn hW hV (dj_In_le hW (by omega) hI) h 64 0 va 65 (by omega) (by omega) hA
      rw [show dj_yr i w E 0 1 = 999 from e1] at K
      exact pk_le i i (fun _ => ⟨65, K⟩) (fun q => absurd q (by omega))
    | succ d ih =>
      intro i va E fuel hi hf hA hI
      obtain ⟨m, rfl⟩ := na_ex1 (n := fuel) (by omega)
      refine pk_le n i (fun q => absurd q (by omega)) (fun _ => ⟨n + 1, yd_35 hn hW hV (by omega) (fun va' E' g1 g2 => ih (i + 1) va' E' m (by omega) (by omega) g1 g2) n 0 va E (n + 1) (by omega) (by omega) hA ⟨hI.1, fun a b ha hb hp => hI.2 a b ha hb ?_⟩⟩)
      have hp : b < i ∨ (b = i ∧ a < 0) := hp
      show b < i
      omega
  have H : ∀ d k va fuel, k + d = 64 → d < fuel → (∀ v, v < k → va v = nI 999) → wY_shortestBits_2 post (nI n) yr fuel (nI k) vw vy vl va := by
    intro d
    induction d with
    | zero =>
      intro k va fuel hk hf f1
      obtain ⟨m, rfl⟩ := na_ex1 hf
      have e : k = 64 := by omega
      subst e
      exact pk_le 64 64 (fun _ => ⟨n + 1, H2 n 0 va (fun _ => 999) (n + 1) (by omega) (by omega) (fun v _ hv => f1 v hv) (dj_In_0 n w 999 (fun i j _ _ z => absurd z (by omega)))⟩) (fun q => absurd q (by omega))
    | succ d ih =>
      intro k va fuel hk hf f1
      obtain ⟨m, rfl⟩ := na_ex1 (n := fuel) (by omega)
      refine pk_le 64 k (fun q => absurd q (by omega)) (fun _ => ⟨vp_in_nI (by omega) (by omega), fun a ea => nm_r (nI_1 k) (ih (k + 1) a m (by omega) (by omega) ?_)⟩)
      intro v hv
      rw [ea, nI_clamp (by omega)]
      by_cases e : v = k
      · subst e; rw [pk_us]; rfl
      · rw [pk_un e]; exact f1 v (by omega)
  exact ⟨65, H 64 0 va 65 (by omega) (by omega) (fun v hv => absurd hv (by omega))⟩
end
theorem i_vc_isClear {k : Nat} {u : SX} {v : SY} (I : i_Rel k u v) (hk : k + 3 ≤ 1536) : wpX_isClear (fun r u' => wpY_isClear (fun r' v' => r' = r ∧ i_Rel (k + 3) u' v') v) u := by
  refine re_el (P := fun u v => wpX_isClear (fun r u' => wpY_isClear (fun r' v' => r' = r ∧ i_Rel (k + 3) u' v') v) u) ?_ I
  intro n L B w xf xt ao au aw ae asx am ap aq az ah ad vw vy vl va hn hL hB hW hA hV
  obtain ⟨D, hD⟩ := dj_ex n w 999
  unfold wpX_isClear wpY_isClear
  dsimp only
  refine xd_short hn hW hA hD (fun ah' ad' a ha => ?_)
  rcases ha with ⟨a1, a2, a3⟩ | ⟨a1, a2⟩
  · refine pk_le 10000 a (fun q => absurd q (by omega)) (fun _ => yd_short hn hW hV hD (fun va' => ?_))
    rw [a2]
    exact pk_eq a 999 (fun q => absurd q (by omega)) (fun _ => ⟨rfl, re_mk hn hL hB hW hA hV⟩)
  · refine pk_le 10000 a (fun _ => yd_short hn hW hV hD (fun va' => ?_)) (fun q => absurd q (by omega))
    rw [a2]
    exact pk_eq 999 999 (fun _ => ⟨rfl, re_mk hn hL hB hW hA hV⟩) (fun q => absurd rfl q)
theorem i_vc_shortest {k : Nat} {u : SX} {v : SY} (I : i_Rel k u v) (hk : k + 3 ≤ 1536) : wpX_shortest (fun r u' => wpY_shortest (fun r' v' => r' = r ∧ i_Rel (k + 3) u' v') v) u := by
  refine re_el (P := fun u v => wpX_shortest (fun r u' => wpY_shortest (fun r' v' => r' = r ∧ i_Rel (k + 3) u' v') v) u) ?_ I
  intro n L B w xf xt ao au aw ae asx am ap aq az ah ad vw vy vl va hn hL hB hW hA hV
  obtain ⟨D, hD⟩ := dj_ex n w 999
  unfold wpX_shortest wpY_shortest
  dsimp only
  refine xd_short hn hW hA hD (fun ah' ad' a ha => ?_)
  rcases ha with ⟨a1, a2, a3⟩ | ⟨a1, a2⟩
  · refine pk_le 10000 a (fun q => absurd q (by omega)) (fun _ => yd_short hn hW hV hD (fun va' => ?_))
    rw [a2]
    exact pk_eq a 999 (fun q => absurd q (by omega)) (fun _ => ⟨rfl, re_mk hn hL hB hW hA hV⟩)
  · refine pk_le 10000 a (fun _ => yd_short hn hW hV hD (fun va' => ?_)) (fun q => absurd q (by omega))
    rw [a2]
    exact pk_eq 999 999 (fun _ => ⟨rfl, re_mk hn hL hB hW hA hV⟩) (fun q => absurd rfl q)
end
