section
/-! rows of the kit (PURE-ROWS), then own rows on Int32 -/
theorem pk_us {f : Nat → Int32} {k : Nat} {x : Int32} : upd f k x k = x := if_pos rfl
theorem pk_un {f : Nat → Int32} {k j : Nat} {x : Int32} (h : j ≠ k) : upd f k x j = f j := if_neg h
theorem pk_sub {a b : Nat} (h : b ≤ a) : nI a - nI b = nI (a - b) := by
  obtain ⟨c, rfl⟩ : ∃ c, a = c + b := ⟨a - b, by omega⟩
  rw [← nI_add, Int32.add_sub_cancel, Nat.add_sub_cancel]
theorem pk_m1 (n : Nat) : nI (n + 1) + (-1) = nI n := by
  rw [← nI_1, Int32.add_assoc, show (1 : Int32) + (-1) = 0 from rfl, Int32.add_zero]
theorem pk_mul (a b : Nat) : nI a * nI b = nI (a * b) := (Int32.ofNat_mul a b).symm
theorem pk_div {a d : Nat} (ha : a < 2 ^ 31) (h0 : 0 < d) (hd : d < 2 ^ 31) : nI a / nI d = nI (a / d) := by
  apply Int32.toInt_inj.mp
  rw [lg_idiv_nonneg (by rw [nI_toInt ha]; omega) (by rw [nI_toInt hd]; omega), nI_toInt ha, nI_toInt hd, nI_toInt (Nat.lt_of_le_of_lt (Nat.div_le_self a d) ha)]
  first | rfl | exact (Int.natCast_ediv _ _).symm
theorem pk_rem {a d : Nat} (ha : a < 2 ^ 31) (h0 : 0 < d) (hd : d < 2 ^ 31) : nI a - nI a / nI d * nI d = nI (a % d) := by
  rw [pk_div ha h0 hd, pk_mul, pk_sub (Nat.div_mul_le_self a d)]
  exact congrArg nI (by have := Nat.div_add_mod' a d; omega)
theorem pk_sub_toInt {a b : Nat} (ha : a < 2 ^ 30) (hb : b < 2 ^ 30) : (nI a - nI b).toInt = (a : Int) - b := by
  rw [Int32.toInt_sub, nI_toInt (by omega), nI_toInt (by omega)]
  exact Int.bmod_eq_of_le (by omega) (by omega)
theorem pk_le {x y : Int32} {A B : Prop} (a b : Nat) (f : a ≤ b → A) (g : b < a → B) (hx : x = nI a := by rfl) (hy : y = nI b := by rfl) (ha : a < 2 ^ 31 := by omega) (hb : b < 2 ^ 31 := by omega) : (x ≤ y → A) ∧ (¬ x ≤ y → B) := by
  subst hx hy
  rw [nI_leI ha hb]
  exact ⟨f, fun z => g (by omega)⟩
theorem pk_lt {x y : Int32} {A B : Prop} (a b : Nat) (f : a < b → A) (g : b ≤ a → B) (hx : x = nI a := by rfl) (hy : y = nI b := by rfl) (ha : a < 2 ^ 31 := by omega) (hb : b < 2 ^ 31 := by omega) : (x < y → A) ∧ (¬ x < y → B) := by
  subst hx hy
  rw [nI_ltI ha hb]
  exact ⟨f, fun z => g (by omega)⟩
theorem pk_eq {x y : Int32} {A B : Prop} (a b : Nat) (f : a = b → A) (g : a ≠ b → B) (hx : x = nI a := by rfl) (hy : y = nI b := by rfl) (ha : a < 2 ^ 31 := by omega) (hb : b < 2 ^ 31 := by omega) : (x = y → A) ∧ (¬ x = y → B) := by
  subst hx hy
  rw [nI_eq ha hb]
  exact ⟨f, g⟩
theorem pk_in {x : Int32} (n N : Nat) (h : n < N) (hx : x = nI n := by rfl) (hN : N < 2 ^ 31 := by omega) : vp_in x N := by
  subst hx
  exact vp_in_nI h hN
theorem pk_cl {x : Int32} (n : Nat) (hx : x = nI n := by rfl) (h : n < 2 ^ 31 := by omega) : x.toNatClampNeg = n := by
  subst hx
  exact nI_clamp h
theorem pk_tn {n : Nat} (h : n < 2 ^ 32) : (nI n).toBitVec.toNat = n := Nat.mod_eq_of_lt h
theorem pk_and (x : Int32) {m : Int32} (k : Nat) (hm : m.toBitVec.toNat = 2 ^ k - 1) : x &&& m = nI (x.toBitVec.toNat % 2 ^ k) := by
  apply Int32.toBitVec_inj.mp
  apply BitVec.eq_of_toNat_eq
  rw [Int32.toBitVec_and, BitVec.toNat_and, hm, Nat.and_two_pow_sub_one_eq_mod]
  show _ = (BitVec.ofNat 32 _).toNat
  rw [BitVec.toNat_ofNat]
  exact (Nat.mod_eq_of_lt (Nat.lt_of_le_of_lt (Nat.mod_le _ _) x.toBitVec.isLt)).symm
theorem pk_andN {n : Nat} (h : n < 2 ^ 32) {m : Int32} (k : Nat) (hm : m.toBitVec.toNat = 2 ^ k - 1) : nI n &&& m = nI (n % 2 ^ k) := by
  rw [pk_and _ k hm, pk_tn h]
theorem pk_andE (x : Int32) {m : Int32} (k : Nat) (hm : m.toBitVec.toNat = 2 ^ k - 1) : ∃ j : Nat, j < 2 ^ k ∧ x &&& m = nI j := ⟨_, Nat.mod_lt _ (Nat.two_pow_pos k), pk_and x k hm⟩
theorem pk_shr (a s : Int32) (k : Nat) (hs : (s.toBitVec.smod 32).toNat = k) : (a >>> s).toInt = a.toInt >>> k := by
  show (a.toBitVec.sshiftRight (s.toBitVec.smod 32).toNat).toInt = _
  rw [hs, BitVec.toInt_sshiftRight]
  rfl
theorem pk_shrN {n : Nat} (h : n < 2 ^ 31) (s : Int32) (k : Nat) (hs : (s.toBitVec.smod 32).toNat = k) : nI n >>> s = nI (n / 2 ^ k) := by
  apply Int32.toInt_inj.mp
  have h2 : n / 2 ^ k ≤ n := Nat.div_le_self _ _
  rw [pk_shr _ _ k hs, nI_toInt h, nI_toInt (by omega), Int.shiftRight_eq_div_pow]
  rfl
theorem zb_le {x y : Int32} : x ≤ y ↔ x.toInt ≤ y.toInt := Int32.le_iff_toInt_le
theorem zb_lt {x y : Int32} : x < y ↔ x.toInt < y.toInt := Int32.lt_iff_toInt_lt
theorem zb_eq {x y : Int32} : x = y ↔ x.toInt = y.toInt := Int32.toInt_inj.symm
theorem zb_bm {z : Int} (h1 : -2147483648 ≤ z) (h2 : z < 2147483648) : z.bmod (2 ^ 32) = z := Int.bmod_eq_of_le (by omega) (by omega)
theorem zb_add {x y : Int32} (h1 : -2147483648 ≤ x.toInt + y.toInt) (h2 : x.toInt + y.toInt < 2147483648) : (x + y).toInt = x.toInt + y.toInt := by
  rw [Int32.toInt_add, zb_bm h1 h2]
theorem zb_sub {x y : Int32} (h1 : -2147483648 ≤ x.toInt - y.toInt) (h2 : x.toInt - y.toInt < 2147483648) : (x - y).toInt = x.toInt - y.toInt := by
  rw [Int32.toInt_sub, zb_bm h1 h2]
theorem zb_mul {x y : Int32} (h1 : -2147483648 ≤ x.toInt * y.toInt) (h2 : x.toInt * y.toInt < 2147483648) : (x * y).toInt = x.toInt * y.toInt := by
  rw [Int32.toInt_mul, zb_bm h1 h2]
theorem zb_of {z : Int} (h1 : -2147483648 ≤ z) (h2 : z < 2147483648) : (Int32.ofInt z).toInt = z := by
  rw [Int32.toInt_ofInt]; exact zb_bm h1 h2
theorem zb_n {n : Nat} (h : n < 2147483648) : (nI n).toInt = (n : Int) := nI_toInt h
theorem zb_c {n : Nat} (h : n < 2147483648) : (nI n).toNatClampNeg = n := nI_clamp h
theorem zb_nn {x : Int32} {n : Nat} (h : x.toInt = (n : Int)) (hn : n < 2147483648) : x = nI n := by
  rw [zb_eq, h, zb_n hn]
theorem zb_in {n N : Nat} (h : n < N) (hN : N < 2147483648) : vp_in (nI n) N := vp_in_nI h hN
theorem zb_12 (a : Nat) : 12 * nI a = nI (12 * a) := pk_mul 12 a
theorem zb_14 (a : Nat) : 14 * nI a = nI (14 * a) := pk_mul 14 a
theorem zb_168 (a : Nat) : 168 * nI a = nI (168 * a) := pk_mul 168 a
theorem zb_6p (a : Nat) : 6 + nI a = nI (6 + a) := nI_add 6 a
theorem zb_12p (a : Nat) : 12 + nI a = nI (12 + a) := nI_add 12 a
theorem zb_s (a : Nat) : nI a + 1 = nI (a + 1) := nI_1 a
theorem zb_s2 (a : Nat) : nI a + 2 = nI (a + 2) := nI_add a 2
theorem zb_p {a : Nat} (h : 0 < a) : nI a - 1 = nI (a - 1) := pk_sub (b := 1) h
theorem zb_m {a : Nat} (h : 0 < a) : nI a + (-1) = nI (a - 1) := by
  obtain ⟨b, rfl⟩ : ∃ b, a = b + 1 := ⟨a - 1, by omega⟩
  exact pk_m1 b
theorem zb_sel {x y : Int32} {A B : Prop} {p q : Int} (hx : x.toInt = p) (hy : y.toInt = q) (f : p ≤ q → A) (g : q < p → B) : (x ≤ y → A) ∧ (¬ x ≤ y → B) := by
  rw [zb_le, hx, hy]; exact ⟨f, fun z => g (by omega)⟩
theorem zb_slt {x y : Int32} {A B : Prop} {p q : Int} (hx : x.toInt = p) (hy : y.toInt = q) (f : p < q → A) (g : q ≤ p → B) : (x < y → A) ∧ (¬ x < y → B) := by
  rw [zb_lt, hx, hy]; exact ⟨f, fun z => g (by omega)⟩
theorem zb_seq {x y : Int32} {A B : Prop} {p q : Int} (hx : x.toInt = p) (hy : y.toInt = q) (f : p = q → A) (g : p ≠ q → B) : (x = y → A) ∧ (¬ x = y → B) := by
  rw [zb_eq, hx, hy]; exact ⟨f, g⟩
theorem zb_b0 : vp_nar .boolean 0 = 0 := rfl
theorem zb_b1 : vp_nar .boolean 1 = 1 := rfl
theorem zb_b {x : Int32} (h : x = 0 ∨ x = 1) : vp_nar .boolean x = x := by
  rcases h with rfl | rfl <;> rfl
theorem zb_odd {n : Nat} (h : n < 2147483648) : (nI n &&& 1 = 0) ↔ n % 2 = 0 := by
  rw [pk_andN (m := 1) (by omega) 1 (by decide)]
  have e : n % 2 ^ 1 = n % 2 := rfl
  rw [e, ← nI_0, nI_eq (by omega) (by omega)]
end
section
/-! regions, pure -/
/-- parity of the borders up to x among the first c -/
def rg_pI (f : Nat → Int) : Nat → Int → Bool
  | 0, _ => false
  | c + 1, x => (rg_pI f c x) ^^ decide (f c ≤ x)
def rg_e (E : Nat → Int32) (b : Nat) : Nat → Int := fun k => (E (14 * b + k)).toInt
def rg_srt (f : Nat → Int) (c : Nat) (x0 x1 : Int) : Prop :=
  (∀ k, k < c → x0 ≤ f k ∧ f k ≤ x1) ∧ (∀ j k, j < k → k < c → f j < f k)
def rg_band (N E : Nat → Int32) (b : Nat) (x0 x1 : Int) : Prop :=
  ∃ c : Nat, N b = nI c ∧ c % 2 = 0 ∧ c ≤ 12 ∧ rg_srt (rg_e E b) c x0 x1
def rg_bp (N E : Nat → Int32) (b : Nat) (x : Int) : Bool := rg_pI (rg_e E b) (N b).toNatClampNeg x
def rg_in (T M : Nat → Int32) (b : Nat) (y : Int) : Prop := (T b).toInt ≤ y ∧ y < (M b).toInt
def rg_mem (T M N E : Nat → Int32) (o : Nat) : Nat → Int → Int → Bool
  | 0, _, _ => false
  | k + 1, x, y => rg_mem T M N E o k x y || ((decide ((T (o + k)).toInt ≤ y) && decide (y < (M (o + k)).toInt)) && rg_bp N E (o + k) x)
def rg_wf (T M N E : Nat → Int32) (o n : Nat) (x0 x1 y0 y1 : Int) : Prop :=
  ∀ k, k < n → rg_band N E (o + k) x0 x1 ∧ y0 ≤ (T (o + k)).toInt ∧ (T (o + k)).toInt < (M (o + k)).toInt ∧ (M (o + k)).toInt ≤ y1 ∧ ∀ j, j < k → (M (o + j)).toInt ≤ (T (o + k)).toInt
def rg_at (B T M N E : Nat → Int32) (r : Nat) (x0 x1 y0 y1 : Int) (P : Int → Int → Bool) : Prop :=
  ∃ n : Nat, B r = nI n ∧ n ≤ 10 ∧ rg_wf T M N E (12 * r) n x0 x1 y0 y1 ∧ ∀ x y, rg_mem T M N E (12 * r) n x y = P x y
/-- two states of the arrays agree on region r -/
def rg_ag (B T M N E B' T' M' N' E' : Nat → Int32) (r : Nat) : Prop :=
  B' r = B r ∧ (∀ i, i / 12 = r → T' i = T i ∧ M' i = M i ∧ N' i = N i) ∧ (∀ i, i / 168 = r → E' i = E i)
theorem rg_pI_cong {f g : Nat → Int} {x : Int} : ∀ c, (∀ k, k < c → f k = g k) → rg_pI f c x = rg_pI g c x
  | 0, _ => rfl
  | c + 1, h => by
    show (rg_pI f c x ^^ decide (f c ≤ x)) = (rg_pI g c x ^^ decide (g c ≤ x))
    rw [rg_pI_cong c (fun k hk => h k (by omega)), h c (by omega)]
theorem rg_pI_all {f : Nat → Int} {x : Int} : ∀ c, (∀ k, k < c → f k ≤ x) → rg_pI f c x = decide (c % 2 = 1)
  | 0, _ => rfl
  | c + 1, h => by
    show (rg_pI f c x ^^ decide (f c ≤ x)) = decide ((c + 1) % 2 = 1)
    rw [rg_pI_all c (fun k hk => h k (by omega)), decide_eq_true (h c (by omega))]
    rcases Nat.mod_two_eq_zero_or_one c with e | e
    · have e2 : (c + 1) % 2 = 1 := by omega
      rw [e, e2]; rfl
    · have e2 : (c + 1) % 2 = 0 := by omega
      rw [e, e2]; rfl
theorem rg_pI_none {f : Nat → Int} {x : Int} : ∀ c, (∀ k, k < c → x < f k) → rg_pI f c x = false
  | 0, _ => rfl
  | c + 1, h => by
    show (rg_pI f c x ^^ decide (f c ≤ x)) = false
    rw [rg_pI_none c (fun k hk => h k (by omega)), decide_eq_false (by have := h c (by omega); omega)]; rfl
theorem rg_srt_ge {f : Nat → Int} {c : Nat} {x0 x1 : Int} (h : rg_srt f c x0 x1) : ∀ k, k < c → x0 + k ≤ f k
  | 0, hk => by have := (h.1 0 hk).1; omega
  | k + 1, hk => by
    have a := rg_srt_ge h k (by omega)
    have b := h.2 k (k + 1) (by omega) hk
    omega
theorem rg_srt_c {f : Nat → Int} {c : Nat} {x0 x1 : Int} (h : rg_srt f c x0 x1) (hx : x0 ≤ x1 + 1) : x0 + c ≤ x1 + 1 := by
  by_cases h0 : c = 0
  · omega
  · have a := rg_srt_ge h (c - 1) (by omega)
    have b := (h.1 (c - 1) (by omega)).2
    omega
theorem rg_srt_cong {f g : Nat → Int} {c : Nat} {x0 x1 : Int} (e : ∀ k, k < c → g k = f k) (h : rg_srt f c x0 x1) : rg_srt g c x0 x1 :=
  ⟨fun k hk => by rw [e k hk]; exact h.1 k hk, fun j k hj hk => by rw [e k hk, e j (by omega)]; exact h.2 j k hj hk⟩
theorem rg_srt_box {f : Nat → Int} {c : Nat} {x0 x1 z0 z1 : Int} (h : rg_srt f c x0 x1) (h0 : z0 ≤ x0) (h1 : x1 ≤ z1) : rg_srt f c z0 z1 :=
  ⟨fun k hk => by have := h.1 k hk; omega, h.2⟩
theorem rg_band_box {N E : Nat → Int32} {b : Nat} {x0 x1 z0 z1 : Int} (h : rg_band N E b x0 x1) (h0 : z0 ≤ x0) (h1 : x1 ≤ z1) : rg_band N E b z0 z1 := by
  obtain ⟨c, a1, a2, a3, a4⟩ := h
  exact ⟨c, a1, a2, a3, rg_srt_box a4 h0 h1⟩
theorem rg_band_cong {N E N' E' : Nat → Int32} {b : Nat} {x0 x1 : Int} (hN : N' b = N b) (hE : ∀ k, k < 14 → E' (14 * b + k) = E (14 * b + k)) (h : rg_band N E b x0 x1) : rg_band N' E' b x0 x1 := by
  obtain ⟨c, a1, a2, a3, a4⟩ := h
  exact ⟨c, by rw [hN, a1], a2, a3, rg_srt_cong (fun k hk => by show (E' _).toInt = (E _).toInt; rw [hE k (by omega)]) a4⟩
theorem rg_bp_cong {N E N' E' : Nat → Int32} {b : Nat} {x0 x1 : Int} (hN : N' b = N b) (hE : ∀ k, k < 14 → E' (14 * b + k) = E (14 * b + k)) (h : rg_band N E b x0 x1) (x : Int) : rg_bp N' E' b x = rg_bp N E b x := by
  obtain ⟨c, a1, a2, a3, a4⟩ := h
  show rg_pI _ (N' b).toNatClampNeg x = rg_pI _ (N b).toNatClampNeg x
  rw [hN, a1, zb_c (by omega)]
  exact rg_pI_cong c (fun k hk => by show (E' _).toInt = (E _).toInt; rw [hE k (by omega)])
theorem rg_bp_c {N E : Nat → Int32} {b c : Nat} (h : N b = nI c) (hc : c ≤ 12) (x : Int) : rg_bp N E b x = rg_pI (rg_e E b) c x := by
  show rg_pI _ (N b).toNatClampNeg x = _
  rw [h, zb_c (by omega)]
theorem rg_mem_cong {T M N E T' M' N' E' : Nat → Int32} {o : Nat} {x y : Int} : ∀ n, (∀ k, k < n → T' (o + k) = T (o + k) ∧ M' (o + k) = M (o + k) ∧ rg_bp N' E' (o + k) x = rg_bp N E (o + k) x) → rg_mem T' M' N' E' o n x y = rg_mem T M N E o n x y
  | 0, _ => rfl
  | n + 1, h => by
    have a := h n (by omega)
    show (rg_mem T' M' N' E' o n x y || ((decide ((T' (o + n)).toInt ≤ y) && decide (y < (M' (o + n)).toInt)) && rg_bp N' E' (o + n) x)) = _
    rw [rg_mem_cong n (fun k hk => h k (by omega)), a.1, a.2.1, a.2.2]; rfl
theorem rg_wf_le {T M N E : Nat → Int32} {o n m : Nat} {x0 x1 y0 y1 : Int} (h : rg_wf T M N E o n x0 x1 y0 y1) (hm : m ≤ n) : rg_wf T M N E o m x0 x1 y0 y1 :=
  fun k hk => h k (by omega)
theorem rg_wf_box {T M N E : Nat → Int32} {o n : Nat} {x0 x1 y0 y1 a0 a1 b0 b1 : Int} (h : rg_wf T M N E o n x0 x1 y0 y1) (h0 : a0 ≤ x0) (h1 : x1 ≤ a1) (h2 : b0 ≤ y0) (h3 : y1 ≤ b1) : rg_wf T M N E o n a0 a1 b0 b1 := by
  intro k hk
  obtain ⟨p, q, r, s, t⟩ := h k hk
  exact ⟨rg_band_box p h0 h1, by omega, r, by omega, t⟩
theorem rg_at_box {B T M N E : Nat → Int32} {r : Nat} {x0 x1 y0 y1 a0 a1 b0 b1 : Int} {P : Int → Int → Bool} (h : rg_at B T M N E r x0 x1 y0 y1 P) (h0 : a0 ≤ x0) (h1 : x1 ≤ a1) (h2 : b0 ≤ y0) (h3 : y1 ≤ b1) : rg_at B T M N E r a0 a1 b0 b1 P := by
  obtain ⟨n, q1, q2, q3, q4⟩ := h
  exact ⟨n, q1, q2, rg_wf_box q3 h0 h1 h2 h3, q4⟩
theorem rg_at_P {B T M N E : Nat → Int32} {r : Nat} {x0 x1 y0 y1 : Int} {P Q : Int → Int → Bool} (h : rg_at B T M N E r x0 x1 y0 y1 P) (e : ∀ x y, P x y = Q x y) : rg_at B T M N E r x0 x1 y0 y1 Q := by
  obtain ⟨n, q1, q2, q3, q4⟩ := h
  exact ⟨n, q1, q2, q3, fun x y => (q4 x y).trans (e x y)⟩
theorem rg_wf_T {T M N E : Nat → Int32} {o n : Nat} {x0 x1 y0 y1 : Int} (h : rg_wf T M N E o n x0 x1 y0 y1) : ∀ k, k < n → y0 + k ≤ (T (o + k)).toInt
  | 0, hk => by have := (h 0 hk).2.1; omega
  | k + 1, hk => by
    have a := rg_wf_T h k (by omega)
    have b := (h (k + 1) hk).2.2.2.2 k (by omega)
    have c := (h k (by omega)).2.2.1
    omega
theorem rg_wf_n {T M N E : Nat → Int32} {o n : Nat} {x0 x1 y0 y1 : Int} (h : rg_wf T M N E o n x0 x1 y0 y1) (hy : y0 ≤ y1) : y0 + n ≤ y1 := by
  by_cases h0 : n = 0
  · omega
  · have a := rg_wf_T h (n - 1) (by omega)
    have b := h (n - 1) (by omega)
    omega
theorem rg_mem_none {T M N E : Nat → Int32} {o : Nat} {x y : Int} : ∀ n, (∀ k, k < n → ¬ rg_in T M (o + k) y) → rg_mem T M N E o n x y = false
  | 0, _ => rfl
  | n + 1, h => by
    have a := h n (by omega)
    show (rg_mem T M N E o n x y || ((decide ((T (o + n)).toInt ≤ y) && decide (y < (M (o + n)).toInt)) && rg_bp N E (o + n) x)) = false
    rw [rg_mem_none n (fun k hk => h k (by omega))]
    have b : (decide ((T (o + n)).toInt ≤ y) && decide (y < (M (o + n)).toInt)) = false := by
      rw [← Bool.decide_and]; exact decide_eq_false a
    rw [b]; rfl
theorem rg_mem_some {T M N E : Nat → Int32} {o k : Nat} {x y : Int} (hk : rg_in T M (o + k) y) : ∀ n, k < n → (∀ j, j < n → j ≠ k → ¬ rg_in T M (o + j) y) → rg_mem T M N E o n x y = rg_bp N E (o + k) x
  | 0, h, _ => absurd h (by omega)
  | n + 1, h, hu => by
    show (rg_mem T M N E o n x y || ((decide ((T (o + n)).toInt ≤ y) && decide (y < (M (o + n)).toInt)) && rg_bp N E (o + n) x)) = _
    by_cases e : k = n
    · subst e
      rw [rg_mem_none k (fun j hj => hu j (by omega) (by omega)), decide_eq_true hk.1, decide_eq_true hk.2]; rfl
    · rw [rg_mem_some hk n (by omega) (fun j hj hn => hu j (by omega) hn)]
      have b : (decide ((T (o + n)).toInt ≤ y) && decide (y < (M (o + n)).toInt)) = false := by
        rw [← Bool.decide_and]; exact decide_eq_false (hu n (by omega) (by omega))
      rw [b]; simp
theorem rg_wf_u {T M N E : Nat → Int32} {o n : Nat} {x0 x1 y0 y1 y : Int} (h : rg_wf T M N E o n x0 x1 y0 y1) {k : Nat} (hk : k < n) (hy : rg_in T M (o + k) y) : ∀ j, j < n → j ≠ k → ¬ rg_in T M (o + j) y := by
  intro j hj hn hy'
  unfold rg_in at hy hy'
  by_cases c : j < k
  · have := (h k hk).2.2.2.2 j c; omega
  · have := (h j hj).2.2.2.2 k (by omega); omega
theorem rg_wf_at {T M N E : Nat → Int32} {o n : Nat} {x0 x1 y0 y1 y : Int} (h : rg_wf T M N E o n x0 x1 y0 y1) {k : Nat} (hk : k < n) (hy : rg_in T M (o + k) y) (x : Int) : rg_mem T M N E o n x y = rg_bp N E (o + k) x :=
  rg_mem_some hy n hk (rg_wf_u h hk hy)
theorem rg_mem_row {T M N E : Nat → Int32} {o : Nat} {x y y' : Int} : ∀ n, (∀ k, k < n → (rg_in T M (o + k) y' ↔ rg_in T M (o + k) y)) → rg_mem T M N E o n x y' = rg_mem T M N E o n x y
  | 0, _ => rfl
  | n + 1, h => by
    have a := h n (by omega)
    have b : (decide ((T (o + n)).toInt ≤ y') && decide (y' < (M (o + n)).toInt)) = (decide ((T (o + n)).toInt ≤ y) && decide (y < (M (o + n)).toInt)) := by
      rw [← Bool.decide_and, ← Bool.decide_and]; exact decide_eq_decide.mpr a
    show (rg_mem T M N E o n x y' || ((decide ((T (o + n)).toInt ≤ y') && decide (y' < (M (o + n)).toInt)) && rg_bp N E (o + n) x)) = _
    rw [rg_mem_row n (fun k hk => h k (by omega)), b]; rfl
theorem rg_mem_lo {T M N E : Nat → Int32} {o n : Nat} {x0 x1 y0 y1 : Int} (h : rg_wf T M N E o n x0 x1 y0 y1) {x y : Int} (hy : y < y0) : rg_mem T M N E o n x y = false :=
  rg_mem_none n (fun k hk hi => by unfold rg_in at hi; have := (h k hk).2.1; omega)
theorem rg_mem_hi {T M N E : Nat → Int32} {o n : Nat} {x0 x1 y0 y1 : Int} (h : rg_wf T M N E o n x0 x1 y0 y1) {x y : Int} (hy : y1 ≤ y) : rg_mem T M N E o n x y = false :=
  rg_mem_none n (fun k hk hi => by unfold rg_in at hi; have := (h k hk).2.2.2.1; omega)
theorem rg_bp_box {N E : Nat → Int32} {b : Nat} {x0 x1 x : Int} (h : rg_band N E b x0 x1) (hx : x < x0 ∨ x1 ≤ x) : rg_bp N E b x = false := by
  obtain ⟨c, a1, a2, a3, a4⟩ := h
  rw [rg_bp_c a1 a3]
  rcases hx with hx | hx
  · exact rg_pI_none c (fun k hk => by have := (a4.1 k hk).1; omega)
  · rw [rg_pI_all c (fun k hk => by have := (a4.1 k hk).2; omega)]
    exact decide_eq_false (by omega)
theorem rg_wf_out {T M N E : Nat → Int32} {o n : Nat} {x0 x1 y0 y1 : Int} (h : rg_wf T M N E o n x0 x1 y0 y1) {x y : Int} (hx : x < x0 ∨ x1 ≤ x ∨ y < y0 ∨ y1 ≤ y) : rg_mem T M N E o n x y = false := by
  by_cases c : ∃ k, k < n ∧ rg_in T M (o + k) y
  · obtain ⟨k, hk, hi⟩ := c
    rw [rg_wf_at h hk hi]
    have q := h k hk
    refine rg_bp_box q.1 ?_
    unfold rg_in at hi
    omega
  · exact rg_mem_none n (fun k hk hi => c ⟨k, hk, hi⟩)
theorem rg_at_out {B T M N E : Nat → Int32} {r : Nat} {x0 x1 y0 y1 : Int} {P : Int → Int → Bool} (h : rg_at B T M N E r x0 x1 y0 y1 P) {x y : Int} (hx : x < x0 ∨ x1 ≤ x ∨ y < y0 ∨ y1 ≤ y) : P x y = false := by
  obtain ⟨n, q1, q2, q3, q4⟩ := h
  rw [← q4]; exact rg_wf_out q3 hx
theorem rg_wf_cong {T M N E T' M' N' E' : Nat → Int32} {o n : Nat} {x0 x1 y0 y1 : Int} (e : ∀ k, k < n → T' (o + k) = T (o + k) ∧ M' (o + k) = M (o + k) ∧ N' (o + k) = N (o + k) ∧ ∀ j, j < 14 → E' (14 * (o + k) + j) = E (14 * (o + k) + j)) (h : rg_wf T M N E o n x0 x1 y0 y1) : rg_wf T' M' N' E' o n x0 x1 y0 y1 := by
  intro k hk
  obtain ⟨a1, a2, a3, a4⟩ := e k hk
  obtain ⟨p, q, r, s, t⟩ := h k hk
  refine ⟨rg_band_cong a3 a4 p, by rw [a1]; exact q, by rw [a1, a2]; exact r, by rw [a2]; exact s, fun j hj => ?_⟩
  rw [a1, (e j (by omega)).2.1]; exact t j hj
theorem rg_mem_cong' {T M N E T' M' N' E' : Nat → Int32} {o n : Nat} {x0 x1 y0 y1 : Int} (e : ∀ k, k < n → T' (o + k) = T (o + k) ∧ M' (o + k) = M (o + k) ∧ N' (o + k) = N (o + k) ∧ ∀ j, j < 14 → E' (14 * (o + k) + j) = E (14 * (o + k) + j)) (h : rg_wf T M N E o n x0 x1 y0 y1) (x y : Int) : rg_mem T' M' N' E' o n x y = rg_mem T M N E o n x y :=
  rg_mem_cong n (fun k hk => by
    obtain ⟨a1, a2, a3, a4⟩ := e k hk
    exact ⟨a1, a2, rg_bp_cong a3 a4 (h k hk).1 x⟩)
theorem rg_ag_e {B T M N E B' T' M' N' E' : Nat → Int32} {r n : Nat} (h : rg_ag B T M N E B' T' M' N' E' r) (hn : n ≤ 12) : ∀ k, k < n → T' (12 * r + k) = T (12 * r + k) ∧ M' (12 * r + k) = M (12 * r + k) ∧ N' (12 * r + k) = N (12 * r + k) ∧ ∀ j, j < 14 → E' (14 * (12 * r + k) + j) = E (14 * (12 * r + k) + j) := by
  intro k hk
  have a := h.2.1 (12 * r + k) (by omega)
  exact ⟨a.1, a.2.1, a.2.2, fun j hj => h.2.2 _ (by omega)⟩
theorem rg_at_ag {B T M N E B' T' M' N' E' : Nat → Int32} {r : Nat} {x0 x1 y0 y1 : Int} {P : Int → Int → Bool} (g : rg_ag B T M N E B' T' M' N' E' r) (h : rg_at B T M N E r x0 x1 y0 y1 P) : rg_at B' T' M' N' E' r x0 x1 y0 y1 P := by
  obtain ⟨n, q1, q2, q3, q4⟩ := h
  have e := rg_ag_e g (n := n) (by omega)
  exact ⟨n, by rw [g.1, q1], q2, rg_wf_cong e q3, fun x y => (rg_mem_cong' e q3 x y).trans (q4 x y)⟩
theorem rg_ag_rfl {B T M N E : Nat → Int32} {r : Nat} : rg_ag B T M N E B T M N E r := ⟨rfl, fun _ _ => ⟨rfl, rfl, rfl⟩, fun _ _ => rfl⟩
theorem rg_ag_tr {B T M N E B' T' M' N' E' B'' T'' M'' N'' E'' : Nat → Int32} {r : Nat} (g : rg_ag B T M N E B' T' M' N' E' r) (h : rg_ag B' T' M' N' E' B'' T'' M'' N'' E'' r) : rg_ag B T M N E B'' T'' M'' N'' E'' r :=
  ⟨h.1.trans g.1, fun i hi => ⟨(h.2.1 i hi).1.trans (g.2.1 i hi).1, (h.2.1 i hi).2.1.trans (g.2.1 i hi).2.1, (h.2.1 i hi).2.2.trans (g.2.1 i hi).2.2⟩, fun i hi => (h.2.2 i hi).trans (g.2.2 i hi)⟩
theorem rg_at_0 {B T M N E : Nat → Int32} {r : Nat} (x0 x1 y0 y1 : Int) (h : B r = 0) : rg_at B T M N E r x0 x1 y0 y1 (fun _ _ => false) :=
  ⟨0, h, by omega, fun k hk => absurd hk (by omega), fun _ _ => rfl⟩
theorem rg_edge {T M N E : Nat → Int32} {o n : Nat} {y y' z : Int} (h : ∀ k, k < n → ((T (o + k)).toInt ≤ y ∨ z ≤ (T (o + k)).toInt) ∧ ((M (o + k)).toInt ≤ y ∨ z ≤ (M (o + k)).toInt)) (h1 : y ≤ y') (h2 : y' < z) (x : Int) : rg_mem T M N E o n x y' = rg_mem T M N E o n x y :=
  rg_mem_row n (fun k hk => by have := h k hk; unfold rg_in; omega)
end
section
/-! the reading walks of regions: bandAt, nextEdge, sameSpans, holds -/
section
variable {fp : Int32} {th pa ox oy wd hg sh cx cy qx qy pl B T M N E ww wp : Nat → Int32}
theorem sc_bandAt_l {post : Int32 → Prop} {r n : Nat} {y : Int32} (hr : r < 21) (hB : B r = nI n) (hn : n ≤ 12)
    (hs : ∀ k, k < n → rg_in T M (12 * r + k) y.toInt → post (nI (12 * r + k)))
    (h0 : (∀ k, k < n → ¬ rg_in T M (12 * r + k) y.toInt) → post (-1)) :
    ∀ m k, k ≤ n → n - k < m → (∀ j, j < k → ¬ rg_in T M (12 * r + j) y.toInt) → wX_bandAt_5 post (nI r) y fp th pa ox oy wd hg sh cx cy qx qy pl B T M N E ww wp m (nI (12 * r + k)) := by
  intro m
  induction m with
  | zero => intro k _ h; omega
  | succ m ih =>
    intro k hk hm hj
    have e1 : (nI r).toNatClampNeg = r := zb_c (by omega)
    have hb : (nI (12 * r + k)).toNatClampNeg = 12 * r + k := zb_c (by omega)
    simp only [wX_bandAt_5, zb_12, e1, hb, hB, nI_add, forall_eq, nI_1]
    refine ⟨zb_in hr (by decide), pk_le (12 * r + n) (12 * r + k) (fun h => h0 (fun j hj' => hj j (by omega))) (fun h => ⟨zb_in (by omega) (by decide), fun c => ?_, fun c => ⟨zb_in (by omega) (by decide), fun d => ?_, fun d => ?_⟩⟩)⟩
    · refine ih (k + 1) (by omega) (by omega) (lt_s hj (fun hi => ?_))
      have := zb_lt.mp c; unfold rg_in at hi; omega
    · refine ih (k + 1) (by omega) (by omega) (lt_s hj (fun hi => ?_))
      have := zb_le.mp d; unfold rg_in at hi; omega
    · refine hs k (by omega) ?_
      have c' : ¬ _ := fun z => c (zb_lt.mpr z)
      have d' : ¬ _ := fun z => d (zb_le.mpr z)
      unfold rg_in; omega
theorem sc_bandAt {post : Int32 → Prop} {r n : Nat} {y : Int32} (hr : r < 21) (hB : B r = nI n) (hn : n ≤ 12)
    (hs : ∀ k, k < n → rg_in T M (12 * r + k) y.toInt → post (nI (12 * r + k)))
    (h0 : (∀ k, k < n → ¬ rg_in T M (12 * r + k) y.toInt) → post (-1)) : wpX_bandAt post (fp, th, pa, ox, oy, wd, hg, sh, cx, cy, qx, qy, pl, B, T, M, N, E, ww, wp) (nI r) y := by
  unfold wpX_bandAt
  refine nm_r (zb_12 r) ⟨n + 1, ?_⟩
  exact sc_bandAt_l hr hB hn hs h0 (n + 1) 0 (by omega) (by omega) (fun j hj => absurd hj (by omega))
def sc_ed (T M : Nat → Int32) (o k : Nat) (y z : Int) : Prop := ∀ j, j < k → ((T (o + j)).toInt ≤ y ∨ z ≤ (T (o + j)).toInt) ∧ ((M (o + j)).toInt ≤ y ∨ z ≤ (M (o + j)).toInt)
theorem sc_e59 {post : Int32 → Prop} {J : Int32 → Int32 → Prop} {x1 y z : Int32} {k : Nat} (hk : k < 252) (hz : y.toInt < z.toInt)
    (h : ∀ z' : Int32, y.toInt < z'.toInt → z'.toInt ≤ z.toInt → ((M k).toInt ≤ y.toInt ∨ z'.toInt ≤ (M k).toInt) → J z' (nI (k + 1))) : wX_nextEdge_59 post J x1 y (nI k) z fp th pa ox oy wd hg sh cx cy qx qy pl B T M N E ww wp := by
  have e1 : (nI k).toNatClampNeg = k := zb_c (by omega)
  simp only [wX_nextEdge_59, e1, forall_eq, nI_1]
  refine ⟨zb_in hk (by decide), fun c => ?_, fun c => ⟨zb_in hk (by decide), fun d => ?_, fun d => ⟨zb_in hk (by decide), ?_⟩⟩⟩
  · exact h z hz (by omega) (Or.inl (zb_le.mp c))
  · exact h z hz (by omega) (Or.inr (zb_le.mp d))
  · have c' : ¬ _ := fun z => c (zb_le.mpr z)
    have d' : ¬ _ := fun z => d (zb_le.mpr z)
    exact h (M k) (by omega) (by omega) (Or.inr (by omega))
theorem sc_edge_l {post : Int32 → Prop} {r n : Nat} {y : Int32} (hr : r < 21) (hB : B r = nI n) (hn : n ≤ 12)
    (hp : ∀ z : Int32, y.toInt < z.toInt → sc_ed T M (12 * r) n y.toInt z.toInt → post z) :
    ∀ m k (z : Int32), k ≤ n → n - k < m → y.toInt < z.toInt → sc_ed T M (12 * r) k y.toInt z.toInt → wX_nextEdge_10 post (nI r) y fp th pa ox oy wd hg sh cx cy qx qy pl B T M N E ww wp m z (nI (12 * r + k)) := by
  intro m
  induction m with
  | zero => intro k z _ h; omega
  | succ m ih =>
    intro k z hk hm hz hj
    have e1 : (nI r).toNatClampNeg = r := zb_c (by omega)
    have hb : (nI (12 * r + k)).toNatClampNeg = 12 * r + k := zb_c (by omega)
    have go : ∀ (w z' : Int32), k < n → y.toInt < z'.toInt → z'.toInt ≤ w.toInt → w.toInt ≤ z.toInt → ((T (12 * r + k)).toInt ≤ y.toInt ∨ w.toInt ≤ (T (12 * r + k)).toInt) → ((M (12 * r + k)).toInt ≤ y.toInt ∨ z'.toInt ≤ (M (12 * r + k)).toInt) → wX_nextEdge_10 post (nI r) y fp th pa ox oy wd hg sh cx cy qx qy pl B T M N E ww wp m z' (nI (12 * r + k + 1)) := by
      intro w z' hkn h1 h2 h3 h4 h5
      refine ih (k + 1) z' (by omega) (by omega) h1 (lt_s (fun j hj' => ?_) ⟨by omega, h5⟩)
      have := hj j hj'
      omega
    simp only [wX_nextEdge_10, wX_nextEdge_58, zb_12, e1, hb, hB, nI_add]
    refine ⟨zb_in hr (by decide), pk_le (12 * r + n) (12 * r + k) (fun h => hp z hz ?_) (fun h => ⟨zb_in (by omega) (by decide), fun c => ?_, fun c => ⟨zb_in (by omega) (by decide), fun d => ?_, fun d => ⟨zb_in (by omega) (by decide), ?_⟩⟩⟩)⟩
    · intro j hj'; exact hj j (by omega)
    · exact sc_e59 (by omega) hz (fun z' a1 a2 a3 => go z z' (by omega) a1 a2 (by omega) (Or.inl (zb_le.mp c)) a3)
    · exact sc_e59 (by omega) hz (fun z' a1 a2 a3 => go z z' (by omega) a1 a2 (by omega) (Or.inr (zb_le.mp d)) a3)
    · have c' : ¬ _ := fun z => c (zb_le.mpr z)
      have d' : ¬ _ := fun z => d (zb_le.mpr z)
      exact sc_e59 (by omega) (by omega) (fun z' a1 a2 a3 => go _ z' (by omega) a1 a2 (by omega) (Or.inr (by omega)) a3)
theorem sc_edge {post : Int32 → Prop} {r n : Nat} {y : Int32} (hr : r < 21) (hB : B r = nI n) (hn : n ≤ 12) (hy : y.toInt < 1000)
    (hp : ∀ z : Int32, y.toInt < z.toInt → sc_ed T M (12 * r) n y.toInt z.toInt → post z) : wpX_nextEdge post (fp, th, pa, ox, oy, wd, hg, sh, cx, cy, qx, qy, pl, B, T, M, N, E, ww, wp) (nI r) y := by
  unfold wpX_nextEdge
  refine nm_r (zb_12 r) ⟨n + 1, ?_⟩
  exact sc_edge_l hr hB hn hp (n + 1) 0 1000 (by omega) (by omega) (by rw [show (1000 : Int32).toInt = 1000 from by decide]; exact hy) (fun j hj => absurd hj (by omega))
theorem sc_same_l {post : Int32 → Prop} {a b c : Nat} (ha : a < 252) (hb : b < 252) (hN : N a = nI c) (hc : c ≤ 13)
    (h1 : (∀ k, k < c → E (14 * a + k) = E (14 * b + k)) → post 1) (h0 : post 0) :
    ∀ m k, k ≤ c → c - k < m → (∀ j, j < k → E (14 * a + j) = E (14 * b + j)) → wX_sameSpans_19 post (nI a) (nI b) fp th pa ox oy wd hg sh cx cy qx qy pl B T M N E ww wp m (nI k) := by
  intro m
  induction m with
  | zero => intro k _ h; omega
  | succ m ih =>
    intro k hk hm hj
    have e1 : (nI a).toNatClampNeg = a := zb_c (by omega)
    have e2 : (nI (14 * a + k)).toNatClampNeg = 14 * a + k := zb_c (by omega)
    have e3 : (nI (14 * b + k)).toNatClampNeg = 14 * b + k := zb_c (by omega)
    simp only [wX_sameSpans_19, zb_14, e1, hN, nI_add, e2, e3, forall_eq, nI_1]
    refine ⟨zb_in ha (by decide), pk_le c k (fun h => h1 (fun j hj' => hj j (by omega))) (fun h => ⟨zb_in (by omega) (by decide), zb_in (by omega) (by decide), fun c => ?_, fun c => h0⟩)⟩
    exact ih (k + 1) (by omega) (by omega) (lt_s hj c)
theorem sc_same {post : Int32 → Prop} {a b c : Nat} (ha : a < 252) (hb : b < 252) (hN : N a = nI c) (hc : c ≤ 13)
    (h1 : N b = nI c → (∀ k, k < c → E (14 * a + k) = E (14 * b + k)) → post 1) (h0 : post 0) : wpX_sameSpans post (fp, th, pa, ox, oy, wd, hg, sh, cx, cy, qx, qy, pl, B, T, M, N, E, ww, wp) (nI a) (nI b) := by
  have e1 : (nI a).toNatClampNeg = a := zb_c (by omega)
  have e2 : (nI b).toNatClampNeg = b := zb_c (by omega)
  simp only [wpX_sameSpans, e1, e2, hN]
  refine ⟨zb_in ha (by decide), zb_in hb (by decide), fun e => ⟨c + 1, ?_⟩, fun _ => h0⟩
  exact sc_same_l ha hb hN hc (h1 e.symm) h0 (c + 1) 0 (by omega) (by omega) (fun j hj => absurd hj (by omega))
theorem sc_h50 {post : Int32 → Prop} {b c : Nat} {x : Int32} (hb : b < 252) (hN : N b = nI c) (hc : c ≤ 12)
    (hp : post (if rg_pI (rg_e E b) c x.toInt = true then 1 else 0)) :
    ∀ m k q, k ≤ c → c - k < m → q ≤ k → decide (q % 2 = 1) = rg_pI (rg_e E b) k x.toInt → wX_holds_50 post x (nI b) fp th pa ox oy wd hg sh cx cy qx qy pl B T M N E ww wp m (nI q) (nI k) := by
  intro m
  induction m with
  | zero => intro k q _ h; omega
  | succ m ih =>
    intro k q hk hm hq hj
    have e1 : (nI b).toNatClampNeg = b := zb_c (by omega)
    have e2 : (nI (14 * b + k)).toNatClampNeg = 14 * b + k := zb_c (by omega)
    simp only [wX_holds_50, zb_14, e1, hN, nI_add, e2, forall_eq, nI_1, Int32.add_zero, zb_odd (show q < 2147483648 by omega)]
    refine ⟨zb_in hb (by decide), pk_le c k (fun h => ?_) (fun h => ⟨zb_in (by omega) (by decide), fun d => ?_, fun d => ?_⟩)⟩
    · obtain rfl : c = k := by omega
      rw [← hj] at hp
      refine ⟨fun e => ?_, fun e => ?_⟩
      · rw [decide_eq_false (by omega)] at hp; exact hp
      · rw [decide_eq_true (by omega)] at hp; exact hp
    · refine ih (k + 1) q (by omega) (by omega) (by omega) ?_
      show _ = (rg_pI (rg_e E b) k x.toInt ^^ decide ((E (14 * b + k)).toInt ≤ x.toInt))
      rw [decide_eq_false (p := (E (14 * b + k)).toInt ≤ x.toInt) (by have := zb_lt.mp d; omega), hj]; simp
    · refine ih (k + 1) (q + 1) (by omega) (by omega) (by omega) ?_
      show _ = (rg_pI (rg_e E b) k x.toInt ^^ decide ((E (14 * b + k)).toInt ≤ x.toInt))
      have d' : ¬ _ := fun z => d (zb_lt.mpr z)
      rw [decide_eq_true (p := (E (14 * b + k)).toInt ≤ x.toInt) (by omega), ← hj]
      rcases Nat.mod_two_eq_zero_or_one q with e | e
      · have e2 : (q + 1) % 2 = 1 := by omega
        rw [e, e2]; rfl
      · have e2 : (q + 1) % 2 = 0 := by omega
        rw [e, e2]; rfl
theorem sc_h6 {post : Int32 → Prop} {r n : Nat} {x y : Int32} {x0 x1 y0 y1 : Int} (hr : r < 21) (hB : B r = nI n) (hn : n ≤ 10) (hw : rg_wf T M N E (12 * r) n x0 x1 y0 y1)
    (hp : post (if rg_mem T M N E (12 * r) n x.toInt y.toInt = true then 1 else 0)) :
    ∀ m k, k ≤ n → n - k < m → (∀ j, j < k → ¬ rg_in T M (12 * r + j) y.toInt) → wX_holds_6 post (nI r) x y fp th pa ox oy wd hg sh cx cy qx qy pl B T M N E ww wp m (nI (12 * r + k)) := by
  intro m
  induction m with
  | zero => intro k _ h; omega
  | succ m ih =>
    intro k hk hm hj
    have e1 : (nI r).toNatClampNeg = r := zb_c (by omega)
    have hb : (nI (12 * r + k)).toNatClampNeg = 12 * r + k := zb_c (by omega)
    simp only [wX_holds_6, zb_12, e1, hb, hB, nI_add, forall_eq, nI_1]
    refine ⟨zb_in hr (by decide), pk_le (12 * r + n) (12 * r + k) (fun h => ?_) (fun h => ⟨zb_in (by omega) (by decide), fun c => ?_, fun c => ⟨zb_in (by omega) (by decide), fun d => ?_, fun d => ?_⟩⟩)⟩
    · rw [rg_mem_none n (fun j hj' => hj j (by omega))] at hp; exact hp
    · refine ih (k + 1) (by omega) (by omega) (lt_s hj (fun hi => ?_))
      have := zb_lt.mp c; unfold rg_in at hi; omega
    · refine ih (k + 1) (by omega) (by omega) (lt_s hj (fun hi => ?_))
      have := zb_le.mp d; unfold rg_in at hi; omega
    · have c' : ¬ _ := fun z => c (zb_lt.mpr z)
      have d' : ¬ _ := fun z => d (zb_le.mpr z)
      have hi : rg_in T M (12 * r + k) y.toInt := by unfold rg_in; omega
      obtain ⟨c, a1, a2, a3, a4⟩ := (hw k (by omega)).1
      rw [rg_wf_at hw (by omega) hi, rg_bp_c a1 a3] at hp
      exact ⟨c + 1, sc_h50 (by omega) a1 a3 hp (c + 1) 0 0 (by omega) (by omega) (by omega) rfl⟩
theorem sc_holds {post : Int32 → Prop} {r : Nat} {x y : Int32} {x0 x1 y0 y1 : Int} {P : Int → Int → Bool} (hr : r < 21) (h : rg_at B T M N E r x0 x1 y0 y1 P)
    (hp : post (if P x.toInt y.toInt = true then 1 else 0)) : wpX_holds post (fp, th, pa, ox, oy, wd, hg, sh, cx, cy, qx, qy, pl, B, T, M, N, E, ww, wp) (nI r) x y := by
  obtain ⟨n, q1, q2, q3, q4⟩ := h
  rw [← q4] at hp
  unfold wpX_holds
  refine nm_r (zb_12 r) ⟨n + 1, ?_⟩
  exact sc_h6 hr q1 q2 q3 hp (n + 1) 0 (by omega) (by omega) (fun j hj => absurd hj (by omega))
end
end
section
/-! addBand: the merge of two rows of borders -/
def ab_b (b : Bool) : Int32 := if b = true then 1 else 0
def ab_inv (fa fb : Nat → Int) (ca cb : Nat) (com : Bool) (g : Nat → Int) (n i j : Nat) : Prop :=
  i ≤ ca ∧ j ≤ cb ∧ (∀ x, rg_pI g n x = (rg_pI fa i x && (rg_pI fb j x == com))) ∧
  (∀ k, k < n → (∀ p, i ≤ p → p < ca → g k < fa p) ∧ (∀ p, j ≤ p → p < cb → g k < fb p)) ∧
  (∀ k, k < i → ∀ p, j ≤ p → p < cb → fa k < fb p) ∧ (∀ k, k < j → ∀ p, i ≤ p → p < ca → fb k < fa p) ∧
  rg_srt g n 0 12 ∧ (decide (n % 2 = 1)) = (decide (i % 2 = 1) && (decide (j % 2 = 1) == com))
theorem ab_pl {f : Nat → Int} {i i' : Nat} {x x' : Int} (h : i' = i ∨ (i' = i + 1 ∧ f i = x)) (hx : x' < x) : rg_pI f i' x' = rg_pI f i x' := by
  rcases h with rfl | ⟨rfl, e⟩
  · rfl
  · show (rg_pI f i x' ^^ decide (f i ≤ x')) = _
    rw [decide_eq_false (by omega)]; simp
theorem ab_odd (n : Nat) : decide ((n + 1) % 2 = 1) = !decide (n % 2 = 1) := by
  rcases Nat.mod_two_eq_zero_or_one n with e | e
  · have e2 : (n + 1) % 2 = 1 := by omega
    rw [e, e2]; rfl
  · have e2 : (n + 1) % 2 = 0 := by omega
    rw [e, e2]; rfl
theorem ab_step {fa fb : Nat → Int} {ca cb : Nat} {com : Bool} {g : Nat → Int} {n i j i' j' : Nat} {x : Int}
    (h : ab_inv fa fb ca cb com g n i j) (ha : rg_srt fa ca 0 12) (hb : rg_srt fb cb (-400) 400) (hca : ca % 2 = 0)
    (hi : (i' = i ∧ (i < ca → x < fa i)) ∨ (i' = i + 1 ∧ i < ca ∧ fa i = x))
    (hj : (j' = j ∧ (j < cb → x < fb j)) ∨ (j' = j + 1 ∧ j < cb ∧ fb j = x))
    (hne : i' = i + 1 ∨ j' = j + 1) :
    ((decide (i' % 2 = 1) && (decide (j' % 2 = 1) == com)) = decide (n % 2 = 1) → ab_inv fa fb ca cb com g n i' j') ∧
    ((decide (i' % 2 = 1) && (decide (j' % 2 = 1) == com)) ≠ decide (n % 2 = 1) → 0 ≤ x ∧ x ≤ 12 ∧ (n : Int) ≤ x ∧ ∀ g' : Nat → Int, (∀ k, k < n → g' k = g k) → g' n = x → ab_inv fa fb ca cb com g' (n + 1) i' j') := by
  obtain ⟨h1, h2, h3, h4, h5, h6, h7, h8⟩ := h
  have A1 : ∀ k, k < i → fa k < x := by
    intro k hk
    rcases hne with e | e
    · have := ha.2 k i hk (by omega); omega
    · have := h5 k hk j (by omega) (by omega); omega
  have B1 : ∀ k, k < j → fb k < x := by
    intro k hk
    rcases hne with e | e
    · have := h6 k hk i (by omega) (by omega); omega
    · have := hb.2 k j hk (by omega); omega
  have A2 : ∀ k, k < i' → fa k ≤ x := by
    intro k hk
    by_cases c : k < i
    · have := A1 k c; omega
    · obtain rfl : k = i := by omega
      omega
  have B2 : ∀ k, k < j' → fb k ≤ x := by
    intro k hk
    by_cases c : k < j
    · have := B1 k c; omega
    · obtain rfl : k = j := by omega
      omega
  have A3 : ∀ p, i' ≤ p → p < ca → x < fa p := by
    intro p hp hp'
    rcases hi with ⟨e, c⟩ | ⟨e, c, d⟩
    · by_cases q : p = i
      · subst q; exact c hp'
      · have a := ha.2 i p (by omega) hp'
        have b := c (by omega)
        omega
    · have a := ha.2 i p (by omega) hp'
      omega
  have B3 : ∀ p, j' ≤ p → p < cb → x < fb p := by
    intro p hp hp'
    rcases hj with ⟨e, c⟩ | ⟨e, c, d⟩
    · by_cases q : p = j
      · subst q; exact c hp'
      · have a := hb.2 j p (by omega) hp'
        have b := c (by omega)
        omega
    · have a := hb.2 j p (by omega) hp'
      omega
  have G1 : ∀ k, k < n → g k < x := by
    intro k hk
    rcases hne with e | e
    · have := (h4 k hk).1 i (by omega) (by omega); omega
    · have := (h4 k hk).2 j (by omega) (by omega); omega
  have PA : ∀ x', x' < x → rg_pI fa i' x' = rg_pI fa i x' := fun x' hx => ab_pl (x := x) (by omega) hx
  have PB : ∀ x', x' < x → rg_pI fb j' x' = rg_pI fb j x' := fun x' hx => ab_pl (x := x) (by omega) hx
  have QA : ∀ x', x ≤ x' → rg_pI fa i' x' = decide (i' % 2 = 1) := fun x' hx => rg_pI_all i' (fun k hk => by have := A2 k hk; omega)
  have QB : ∀ x', x ≤ x' → rg_pI fb j' x' = decide (j' % 2 = 1) := fun x' hx => rg_pI_all j' (fun k hk => by have := B2 k hk; omega)
  have i1 : i' ≤ ca := by omega
  have j1 : j' ≤ cb := by omega
  have C1 : ∀ k, k < i' → ∀ p, j' ≤ p → p < cb → fa k < fb p := fun k hk p hp hp' => by
    have := A2 k hk; have := B3 p hp hp'; omega
  have C2 : ∀ k, k < j' → ∀ p, i' ≤ p → p < ca → fb k < fa p := fun k hk p hp hp' => by
    have := B2 k hk; have := A3 p hp hp'; omega
  constructor
  · intro e
    refine ⟨i1, j1, fun x' => ?_, fun k hk => ⟨fun p hp hp' => ?_, fun p hp hp' => ?_⟩, C1, C2, h7, e.symm⟩
    · by_cases c : x' < x
      · rw [PA x' c, PB x' c]; exact h3 x'
      · rw [QA x' (by omega), QB x' (by omega), e]
        exact rg_pI_all n (fun k hk => by have := G1 k hk; omega)
    · have := G1 k hk; have := A3 p hp hp'; omega
    · have := G1 k hk; have := B3 p hp hp'; omega
  · intro e
    have hx : 0 ≤ x ∧ x ≤ 12 := by
      by_cases c : i' % 2 = 1
      · have a1 := A2 (i' - 1) (by omega)
        have a2 := (ha.1 (i' - 1) (by omega)).1
        have a3 := A3 i' (by omega) (by omega)
        have a4 := (ha.1 i' (by omega)).2
        omega
      · have o : decide (n % 2 = 1) = true := by
          rw [decide_eq_false c] at e
          cases q : decide (n % 2 = 1)
          · rw [q] at e; exact absurd rfl e
          · rfl
        rw [o] at h8
        have o2 : decide (i % 2 = 1) = true := by
          cases q : decide (i % 2 = 1)
          · rw [q] at h8; exact absurd h8 (by simp)
          · rfl
        have o3 := of_decide_eq_true o2
        have a1 := A1 (i - 1) (by omega)
        have a2 := (ha.1 (i - 1) (by omega)).1
        have a4 := (ha.1 i (by omega)).2
        have a5 : x ≤ fa i := by
          rcases hi with ⟨_, c'⟩ | ⟨_, _, d⟩
          · have := c' (by omega); omega
          · omega
        omega
    have hn : (n : Int) ≤ x := by
      by_cases c : n = 0
      · omega
      · have a1 := rg_srt_ge h7 (n - 1) (by omega)
        have a2 := G1 (n - 1) (by omega)
        omega
    refine ⟨hx.1, hx.2, hn, fun g' e1 e2 => ⟨i1, j1, fun x' => ?_, fun k hk => ?_, C1, C2, ⟨fun k hk => ?_, fun k p hk hp => ?_⟩, ?_⟩⟩
    · by_cases c : x' < x
      · rw [PA x' c, PB x' c, ← h3 x']
        show (rg_pI g' n x' ^^ decide (g' n ≤ x')) = _
        rw [decide_eq_false (by omega), rg_pI_cong n e1]; simp
      · rw [QA x' (by omega), QB x' (by omega), rg_pI_all (n + 1) (fun k hk => ?_), ab_odd]
        · revert e
          cases decide (n % 2 = 1) <;> cases (decide (i' % 2 = 1) && (decide (j' % 2 = 1) == com)) <;> simp
        · by_cases q : k < n
          · rw [e1 k q]; have := G1 k q; omega
          · obtain rfl : k = n := by omega
            omega
    · have gk : g' k ≤ x := by
        by_cases q : k < n
        · rw [e1 k q]; have := G1 k q; omega
        · obtain rfl : k = n := by omega
          omega
      exact ⟨fun p hp hp' => by have := A3 p hp hp'; omega, fun p hp hp' => by have := B3 p hp hp'; omega⟩
    · by_cases q : k < n
      · rw [e1 k q]; exact h7.1 k q
      · obtain rfl : k = n := by omega
        omega
    · by_cases q : p < n
      · rw [e1 k (by omega), e1 p q]; exact h7.2 k p hk q
      · obtain rfl : p = n := by omega
        rw [e1 k (by omega), e2]; exact G1 k (by omega)
    · rw [ab_odd]
      revert e
      cases decide (n % 2 = 1) <;> cases (decide (i' % 2 = 1) && (decide (j' % 2 = 1) == com)) <;> simp
section
variable {fp : Int32} {th pa ox oy wd hg sh cx cy qx qy pl B T M N E ww wp : Nat → Int32}
theorem ab_227 {post : SX → Prop} {J} {x2 x3 x4 x8 op z x : Int32} {to i j n st : Nat} (hto : to < 252) (hN : N to = nI n)
    (k1 : z = op → J (nI i) (nI j) op (nI (st + 1)) th pa ox oy wd hg sh cx cy qx qy pl B T M N E ww wp)
    (k2 : z ≠ op → n ≤ 13 ∧ J (nI i) (nI j) z (nI (st + 1)) th pa ox oy wd hg sh cx cy qx qy pl B T M (upd N to (nI (n + 1))) (upd E (14 * to + n) x) ww wp) :
    wX_addBand_227 post J x2 x3 x4 (nI to) (nI i) (nI j) x8 op (nI st) x z fp th pa ox oy wd hg sh cx cy qx qy pl B T M N E ww wp := by
  have e1 : (nI to).toNatClampNeg = to := zb_c (by omega)
  simp only [wX_addBand_227, e1, hN, zb_14, nI_add, nI_1, forall_eq]
  refine ⟨k1, fun hz => ?_⟩
  obtain ⟨hn, k⟩ := k2 hz
  have e2 : (nI (14 * to + n)).toNatClampNeg = 14 * to + n := zb_c (by omega)
  rw [e2]
  exact ⟨zb_in hto (by decide), zb_in (by omega) (by decide), zb_in hto (by decide), zb_in hto (by decide), k⟩
theorem ab_194 {post : SX → Prop} {J} {x2 x3 x5 x8 x9 x10 x13 : Int32} {com : Bool} {i j : Nat} (hi : i < 1000) (hj : j < 1000)
    (K1 : (i % 2 = 1 ∧ decide (j % 2 = 1) = com) → wX_addBand_227 post J x2 x3 (ab_b com) x5 (nI i) (nI j) x8 x9 x10 x13 1 fp th pa ox oy wd hg sh cx cy qx qy pl B T M N E ww wp)
    (K0 : ¬ (i % 2 = 1 ∧ decide (j % 2 = 1) = com) → wX_addBand_227 post J x2 x3 (ab_b com) x5 (nI i) (nI j) x8 x9 x10 x13 0 fp th pa ox oy wd hg sh cx cy qx qy pl B T M N E ww wp) :
    ((nI i &&& 1) = 0 → wX_addBand_194 post J x2 x3 (ab_b com) x5 (nI i) (nI j) x8 x9 x10 x13 0 fp th pa ox oy wd hg sh cx cy qx qy pl B T M N E ww wp) ∧ (¬ (nI i &&& 1) = 0 → wX_addBand_194 post J x2 x3 (ab_b com) x5 (nI i) (nI j) x8 x9 x10 x13 1 fp th pa ox oy wd hg sh cx cy qx qy pl B T M N E ww wp) := by
  simp only [wX_addBand_194, wX_addBand_208, wX_addBand_226, zb_odd (show i < 2147483648 by omega), zb_odd (show j < 2147483648 by omega)]
  refine ⟨fun a => ⟨fun b => ⟨fun _ => K0 (by omega), fun c => absurd trivial c⟩, fun b => ⟨fun _ => K0 (by omega), fun c => absurd trivial c⟩⟩, fun a => ⟨fun b => ⟨fun c => absurd c (by decide), fun _ => ⟨fun c => ?_, fun c => ?_⟩⟩, fun b => ⟨fun c => absurd c (by decide), fun _ => ⟨fun c => ?_, fun c => ?_⟩⟩⟩⟩
  · cases com
    · exact K1 ⟨by omega, decide_eq_false (by omega)⟩
    · exact absurd c (by decide)
  · cases com
    · exact absurd rfl c
    · exact K0 (fun h => by have := of_decide_eq_true h.2; omega)
  · cases com
    · exact absurd c (by decide)
    · exact K1 ⟨by omega, decide_eq_true (by omega)⟩
  · cases com
    · exact K0 (fun h => by have := of_decide_eq_false h.2; omega)
    · exact absurd rfl c
theorem ab_130 {post : SX → Prop} {J} {x2 x3 x5 x8 x9 x10 xa xb : Int32} {com : Bool} {i j : Nat} (hi : i < 500) (hj : j < 500) (C : Int32 → Nat → Nat → Prop)
    (K : ∀ x i' j', C x i' j' → ((i' % 2 = 1 ∧ decide (j' % 2 = 1) = com) → wX_addBand_227 post J x2 x3 (ab_b com) x5 (nI i') (nI j') x8 x9 x10 x 1 fp th pa ox oy wd hg sh cx cy qx qy pl B T M N E ww wp) ∧ (¬ (i' % 2 = 1 ∧ decide (j' % 2 = 1) = com) → wX_addBand_227 post J x2 x3 (ab_b com) x5 (nI i') (nI j') x8 x9 x10 x 0 fp th pa ox oy wd hg sh cx cy qx qy pl B T M N E ww wp))
    (c1 : xb.toInt < xa.toInt → C xb i (j + 1)) (c2 : xb.toInt = xa.toInt → C xb (i + 1) (j + 1)) (c3 : xa.toInt < xb.toInt → C xa (i + 1) j) :
    wX_addBand_130 post J x2 x3 (ab_b com) x5 (nI i) (nI j) x8 x9 x10 xa xb fp th pa ox oy wd hg sh cx cy qx qy pl B T M N E ww wp := by
  simp only [wX_addBand_130, wX_addBand_146, wX_addBand_162, wX_addBand_179, forall_eq, nI_1, Int32.add_zero]
  refine ⟨fun h => ⟨fun a => ⟨fun b => ?_, fun b => absurd trivial b⟩, fun a => ⟨fun b => ?_, fun b => absurd trivial b⟩⟩, fun h => ⟨fun a => ⟨fun b => ?_, fun b => ?_⟩, fun a => absurd trivial a⟩⟩
  · have k := K xb (i + 1) (j + 1) (c2 (by rw [a]))
    exact ab_194 (by omega) (by omega) k.1 k.2
  · have k := K xb i (j + 1) (c1 (by have := zb_le.mp h; have : ¬ xa.toInt = xb.toInt := fun e => a (zb_eq.mpr e); omega))
    exact ab_194 (by omega) (by omega) k.1 k.2
  · exact absurd (zb_le.mpr (by rw [b]; omega)) h
  · have k := K xa (i + 1) j (c3 (by have : ¬ xb.toInt ≤ xa.toInt := fun e => h (zb_le.mpr e); omega))
    exact ab_194 (by omega) (by omega) k.1 k.2
theorem ab_74 {post : SX → Prop} {J} {x3 x5 x9 x10 : Int32} {com : Bool} {ka kb ca cb i j : Nat} {fa fb : Nat → Int} (hka : ka < 252) (hca : ca ≤ 12) (hcb : cb ≤ 12) (hi : i ≤ ca) (hj : j ≤ cb)
    (hN : N ka = nI ca) (hx3 : 0 < cb → x3 = nI kb ∧ kb < 252) (hor : i < ca ∨ j < cb)
    (ea : ∀ k, k < ca → (E (14 * ka + k)).toInt = fa k) (eb : ∀ k, k < cb → (E (14 * kb + k)).toInt = fb k)
    (sa : rg_srt fa ca 0 12) (sb : rg_srt fb cb (-400) 400)
    (K : ∀ (x : Int32) i' j', (((i' = i ∧ (i < ca → x.toInt < fa i)) ∨ (i' = i + 1 ∧ i < ca ∧ fa i = x.toInt)) ∧ ((j' = j ∧ (j < cb → x.toInt < fb j)) ∨ (j' = j + 1 ∧ j < cb ∧ fb j = x.toInt)) ∧ (i' = i + 1 ∨ j' = j + 1)) → ((i' % 2 = 1 ∧ decide (j' % 2 = 1) = com) → wX_addBand_227 post J (nI ka) x3 (ab_b com) x5 (nI i') (nI j') (nI cb) x9 x10 x 1 fp th pa ox oy wd hg sh cx cy qx qy pl B T M N E ww wp) ∧ (¬ (i' % 2 = 1 ∧ decide (j' % 2 = 1) = com) → wX_addBand_227 post J (nI ka) x3 (ab_b com) x5 (nI i') (nI j') (nI cb) x9 x10 x 0 fp th pa ox oy wd hg sh cx cy qx qy pl B T M N E ww wp)) :
    wX_addBand_74 post J (nI ka) x3 (ab_b com) x5 (nI i) (nI j) (nI cb) x9 x10 fp th pa ox oy wd hg sh cx cy qx qy pl B T M N E ww wp := by
  have e1 : (nI ka).toNatClampNeg = ka := zb_c (by omega)
  have e2 : (nI (14 * ka + i)).toNatClampNeg = 14 * ka + i := zb_c (by omega)
  have et : (1000 : Int32).toInt = 1000 := by decide
  have xbd : ∀ k, k < ca → 0 ≤ fa k ∧ fa k ≤ 12 := sa.1
  simp only [wX_addBand_74, wX_addBand_103, e1, hN, zb_14, nI_add, e2]
  refine ⟨zb_in hka (by decide), pk_le ca i (fun h => pk_le cb j (fun g => absurd hor (by omega)) (fun g => ?_)) (fun h => ⟨zb_in (by omega) (by decide), pk_le cb j (fun g => ?_) (fun g => ?_)⟩)⟩
  · obtain ⟨rfl, hkb⟩ := hx3 (by omega)
    have e3 : (nI (14 * kb + j)).toNatClampNeg = 14 * kb + j := zb_c (by omega)
    simp only [zb_14, nI_add, e3]
    refine ⟨zb_in (by omega) (by decide), ab_130 (by omega) (by omega) _ K ?_ ?_ ?_⟩
    · intro q; exact ⟨Or.inl ⟨rfl, fun c => absurd c (by omega)⟩, Or.inr ⟨rfl, g, (eb j g).symm⟩, Or.inr rfl⟩
    · intro q; rw [et, eb j g] at q; have := sb.1 j g; omega
    · intro q; rw [et, eb j g] at q; have := sb.1 j g; omega
  · refine ab_130 (by omega) (by omega) _ K ?_ ?_ ?_
    · intro q; rw [et, ea i h] at q; have := xbd i h; omega
    · intro q; rw [et, ea i h] at q; have := xbd i h; omega
    · intro q; exact ⟨Or.inr ⟨rfl, h, (ea i h).symm⟩, Or.inl ⟨rfl, fun c => absurd c (by omega)⟩, Or.inl rfl⟩
  · obtain ⟨rfl, hkb⟩ := hx3 (by omega)
    have e3 : (nI (14 * kb + j)).toNatClampNeg = 14 * kb + j := zb_c (by omega)
    simp only [zb_14, nI_add, e3]
    refine ⟨zb_in (by omega) (by decide), ab_130 (by omega) (by omega) _ K ?_ ?_ ?_⟩
    · intro q
      rw [ea i h] at q
      exact ⟨Or.inl ⟨rfl, fun _ => q⟩, Or.inr ⟨rfl, g, (eb j g).symm⟩, Or.inr rfl⟩
    · intro q
      rw [ea i h] at q
      exact ⟨Or.inr ⟨rfl, h, q.symm⟩, Or.inr ⟨rfl, g, (eb j g).symm⟩, Or.inr rfl⟩
    · intro q
      rw [eb j g] at q
      exact ⟨Or.inr ⟨rfl, h, (ea i h).symm⟩, Or.inl ⟨rfl, fun _ => q⟩, Or.inl rfl⟩
theorem ab_loop {post : SX → Prop} {x3 : Int32} {com : Bool} {ka kb to ca cb : Nat} {fa fb : Nat → Int} {N0 E0 : Nat → Int32} (hka : ka < 252) (hto : to < 252) (hat : ka ≠ to) (hca : ca ≤ 12) (hcb : cb ≤ 12) (hce : ca % 2 = 0)
    (hN0 : N0 ka = nI ca) (hx3 : 0 < cb → (x3 = nI kb ∧ kb < 252) ∧ kb ≠ to)
    (ea : ∀ k, k < ca → (E0 (14 * ka + k)).toInt = fa k) (eb : ∀ k, k < cb → (E0 (14 * kb + k)).toInt = fb k)
    (sa : rg_srt fa ca 0 12) (sb : rg_srt fb cb (-400) 400)
    (hp : ∀ (N' E' : Nat → Int32) (n : Nat), N' to = nI n → (∀ q, q ≠ to → N' q = N0 q) → (∀ q, q / 14 ≠ to → E' q = E0 q) → ab_inv fa fb ca cb com (rg_e E' to) n ca cb → post (fp, th, pa, ox, oy, wd, hg, sh, cx, cy, qx, qy, pl, B, T, M, N', E', ww, wp)) :
    ∀ m (N E : Nat → Int32) (n i j st : Nat), ca + cb - (i + j) < m → st ≤ i + j → N to = nI n → (∀ q, q ≠ to → N q = N0 q) → (∀ q, q / 14 ≠ to → E q = E0 q) → ab_inv fa fb ca cb com (rg_e E to) n i j →
      wX_addBand_49 post (nI ka) x3 (ab_b com) (nI to) (nI cb) fp m (nI i) (nI j) (ab_b (decide (n % 2 = 1))) (nI st) th pa ox oy wd hg sh cx cy qx qy pl B T M N E ww wp := by
  intro m
  induction m with
  | zero => intro N E n i j st h; omega
  | succ m ih =>
    intro N E n i j st hm hst hN hNq hEq hI
    have hi := hI.1
    have hj := hI.2.1
    have e1 : (nI ka).toNatClampNeg = ka := zb_c (by omega)
    have hNa : N ka = nI ca := by rw [hNq ka hat, hN0]
    have step : (i < ca ∨ j < cb) → wX_addBand_74 post (wX_addBand_49 post (nI ka) x3 (ab_b com) (nI to) (nI cb) fp m) (nI ka) x3 (ab_b com) (nI to) (nI i) (nI j) (nI cb) (ab_b (decide (n % 2 = 1))) (nI st) fp th pa ox oy wd hg sh cx cy qx qy pl B T M N E ww wp := by
      intro hor
      refine ab_74 (fa := fa) (fb := fb) (kb := kb) hka hca hcb hi hj hNa (fun h => (hx3 h).1) hor (fun k hk => by rw [hEq _ (by omega)]; exact ea k hk) (fun k hk => by rw [hEq _ (by have := (hx3 (by omega)).2; omega)]; exact eb k hk) sa sb ?_
      intro x i' j' ⟨ci, cj, cn⟩
      have S := ab_step hI sa sb hce ci cj cn
      have go : ∀ (z : Int32), z = ab_b (decide (i' % 2 = 1) && (decide (j' % 2 = 1) == com)) → wX_addBand_227 post (wX_addBand_49 post (nI ka) x3 (ab_b com) (nI to) (nI cb) fp m) (nI ka) x3 (ab_b com) (nI to) (nI i') (nI j') (nI cb) (ab_b (decide (n % 2 = 1))) (nI st) x z fp th pa ox oy wd hg sh cx cy qx qy pl B T M N E ww wp := by
        intro z hz
        by_cases c : (decide (i' % 2 = 1) && (decide (j' % 2 = 1) == com)) = decide (n % 2 = 1)
        · refine ab_227 hto hN (fun _ => ?_) (fun q => absurd (by rw [hz, c]) q)
          exact ih N E n i' j' (st + 1) (by omega) (by omega) hN hNq hEq (S.1 c)
        · refine ab_227 hto hN (fun q => ?_) (fun _ => ?_)
          · exfalso
            apply c
            rw [hz] at q
            revert q
            cases (decide (i' % 2 = 1) && (decide (j' % 2 = 1) == com)) <;> cases decide (n % 2 = 1) <;> first | (intro _; rfl) | (intro q; exact absurd q (by decide))
          · obtain ⟨s1, s2, s3, s4⟩ := S.2 c
            refine ⟨by omega, ?_⟩
            have s5 := s4 (rg_e (upd E (14 * to + n) x) to) (fun k hk => by show (upd _ _ _ _).toInt = (E _).toInt; rw [pk_un (by omega)]) (by show (upd _ _ _ _).toInt = _; rw [pk_us])
            have s6 : z = ab_b (decide ((n + 1) % 2 = 1)) := by
              rw [hz, ab_odd]
              revert c
              cases (decide (i' % 2 = 1) && (decide (j' % 2 = 1) == com)) <;> cases decide (n % 2 = 1) <;> first | (intro _; rfl) | (intro q; exact absurd rfl q)
            rw [s6]
            refine ih (upd N to (nI (n + 1))) (upd E (14 * to + n) x) (n + 1) i' j' (st + 1) (by omega) (by omega) pk_us (fun q hq => by rw [pk_un hq]; exact hNq q hq) (fun q hq => by rw [pk_un (by omega)]; exact hEq q hq) s5
      constructor
      · intro k
        exact go 1 (by rw [decide_eq_true k.1, k.2]; cases com <;> rfl)
      · intro k
        refine go 0 ?_
        have : (decide (i' % 2 = 1) && (decide (j' % 2 = 1) == com)) = false := by
          cases c : (decide (i' % 2 = 1) && (decide (j' % 2 = 1) == com))
          · rfl
          · exfalso
            rw [Bool.and_eq_true] at c
            exact k ⟨of_decide_eq_true c.1, eq_of_beq c.2⟩
        rw [this]; rfl
    have done : ¬ (i < ca ∨ j < cb) → post (fp, th, pa, ox, oy, wd, hg, sh, cx, cy, qx, qy, pl, B, T, M, N, E, ww, wp) := by
      intro h
      obtain rfl : i = ca := by omega
      obtain rfl : j = cb := by omega
      exact hp N E n hN hNq hEq hI
    unfold wX_addBand_49
    rw [e1, hNa]
    refine pk_le 28 st (fun h => done (by omega)) (fun h => ⟨zb_in hka (by decide), pk_lt i ca (fun a => step (Or.inl a)) (fun a => pk_le cb j (fun b => done (by omega)) (fun b => step (Or.inr b)))⟩)
end
end
section
/-! addBand, closeBand, combine -/
theorem ab_inv0 {fa fb : Nat → Int} {ca cb : Nat} {com : Bool} {g : Nat → Int} : ab_inv fa fb ca cb com g 0 0 0 :=
  ⟨by omega, by omega, fun _ => rfl, fun k hk => absurd hk (by omega), fun k hk => absurd hk (by omega), fun k hk => absurd hk (by omega), ⟨fun k hk => absurd hk (by omega), fun j k _ hk => absurd hk (by omega)⟩, rfl⟩
theorem ab_end {fa fb : Nat → Int} {ca cb : Nat} {com : Bool} {N E : Nat → Int32} {to n : Nat} (h : ab_inv fa fb ca cb com (rg_e E to) n ca cb) (hca : ca % 2 = 0) (hN : N to = nI n) :
    rg_band N E to 0 12 ∧ ∀ x, rg_bp N E to x = (rg_pI fa ca x && (rg_pI fb cb x == com)) := by
  obtain ⟨h1, h2, h3, h4, h5, h6, h7, h8⟩ := h
  have a := rg_srt_c h7 (by omega)
  rw [decide_eq_false (p := ca % 2 = 1) (by omega)] at h8
  have b := of_decide_eq_false h8
  exact ⟨⟨n, hN, by omega, by omega, h7⟩, fun x => by rw [rg_bp_c hN (by omega), h3]⟩
/-- the new band without borders -/
theorem cl_zero {T M N E : Nat → Int32} {o n : Nat} {y z : Int} (hw : rg_wf T M N E o n 0 12 0 y) (hz : y ≤ z) (h0 : N (o + n) = 0) :
    rg_wf T M N E o n 0 12 0 z ∧ ∀ x y', rg_mem T M N E o n x y' = (rg_mem T M N E o n x y' || ((decide (y ≤ y') && decide (y' < z)) && rg_bp N E (o + n) x)) := by
  refine ⟨rg_wf_box hw (by omega) (by omega) (by omega) hz, fun x y' => ?_⟩
  have e : rg_bp N E (o + n) x = false := by
    rw [rg_bp_c (c := 0) h0 (by omega)]; rfl
  rw [e]; simp
theorem cl_merge {T M N E : Nat → Int32} {o n : Nat} {y z : Int} {w : Int32} (hwz : w.toInt = z) (hw : rg_wf T M N E o (n + 1) 0 12 0 y) (hz : y < z) (hM : (M (o + n)).toInt = y)
    (hN : N (o + (n + 1)) = N (o + n)) (hE : ∀ k, k < (N (o + n)).toNatClampNeg → E (14 * (o + n) + k) = E (14 * (o + (n + 1)) + k)) :
    rg_wf T (upd M (o + n) w) N E o (n + 1) 0 12 0 z ∧ ∀ x y', rg_mem T (upd M (o + n) w) N E o (n + 1) x y' = (rg_mem T M N E o (n + 1) x y' || ((decide (y ≤ y') && decide (y' < z)) && rg_bp N E (o + (n + 1)) x)) := by
  constructor
  · intro k hk
    obtain ⟨p, q, r, s, t⟩ := hw k hk
    by_cases c : k = n
    · subst c
      rw [pk_us, hwz]
      refine ⟨p, q, by omega, by omega, fun j hj => ?_⟩
      rw [pk_un (by omega)]; exact t j hj
    · rw [pk_un (by omega)]
      refine ⟨p, q, r, by omega, fun j hj => ?_⟩
      rw [pk_un (by omega)]; exact t j hj
  · intro x y'
    have e : rg_bp N E (o + (n + 1)) x = rg_bp N E (o + n) x := by
      show rg_pI _ (N (o + (n + 1))).toNatClampNeg x = rg_pI _ (N (o + n)).toNatClampNeg x
      rw [hN]
      exact rg_pI_cong _ (fun k hk => by show (E _).toInt = (E _).toInt; rw [hE k hk])
    have m : rg_mem T (upd M (o + n) w) N E o n x y' = rg_mem T M N E o n x y' := rg_mem_cong n (fun k hk => ⟨rfl, pk_un (by omega), rfl⟩)
    show (rg_mem T (upd M (o + n) w) N E o n x y' || ((decide ((T (o + n)).toInt ≤ y') && decide (y' < (upd M (o + n) w (o + n)).toInt)) && rg_bp N E (o + n) x)) = ((rg_mem T M N E o n x y' || ((decide ((T (o + n)).toInt ≤ y') && decide (y' < (M (o + n)).toInt)) && rg_bp N E (o + n) x)) || ((decide (y ≤ y') && decide (y' < z)) && rg_bp N E (o + (n + 1)) x))
    rw [e, m, pk_us, hwz, hM]
    have tm := (hw n (by omega)).2.2.1
    cases rg_mem T M N E o n x y'
    · cases rg_bp N E (o + n) x
      · simp
      · by_cases c1 : (T (o + n)).toInt ≤ y'
        · by_cases c2 : y' < y
          · rw [decide_eq_true c1, decide_eq_true c2, decide_eq_true (show y' < z by omega), decide_eq_false (show ¬ y ≤ y' by omega)]; rfl
          · by_cases c3 : y' < z
            · rw [decide_eq_true c1, decide_eq_false c2, decide_eq_true c3, decide_eq_true (show y ≤ y' by omega)]; rfl
            · rw [decide_eq_true c1, decide_eq_false c2, decide_eq_false c3, decide_eq_true (show y ≤ y' by omega)]; rfl
        · rw [decide_eq_false c1, decide_eq_false (show ¬ y ≤ y' by omega)]; rfl
    · simp
theorem cl_add {T M N E : Nat → Int32} {o n : Nat} {y z : Int} {v w : Int32} (hv : v.toInt = y) (hwz : w.toInt = z) (hw : rg_wf T M N E o n 0 12 0 y) (h0 : 0 ≤ y) (hz : y < z) (hb : rg_band N E (o + n) 0 12) :
    rg_wf (upd T (o + n) v) (upd M (o + n) w) N E o (n + 1) 0 12 0 z ∧ ∀ x y', rg_mem (upd T (o + n) v) (upd M (o + n) w) N E o (n + 1) x y' = (rg_mem T M N E o n x y' || ((decide (y ≤ y') && decide (y' < z)) && rg_bp N E (o + n) x)) := by
  constructor
  · intro k hk
    by_cases c : k = n
    · subst c
      rw [pk_us, pk_us, hv, hwz]
      refine ⟨hb, by omega, by omega, by omega, fun j hj => ?_⟩
      rw [pk_un (by omega)]
      exact (hw j hj).2.2.2.1
    · obtain ⟨p, q, r, s, t⟩ := hw k (by omega)
      rw [pk_un (by omega), pk_un (by omega)]
      refine ⟨p, q, r, by omega, fun j hj => ?_⟩
      rw [pk_un (by omega)]; exact t j hj
  · intro x y'
    show (rg_mem (upd T (o + n) v) (upd M (o + n) w) N E o n x y' || ((decide ((upd T (o + n) v (o + n)).toInt ≤ y') && decide (y' < (upd M (o + n) w (o + n)).toInt)) && rg_bp N E (o + n) x)) = _
    rw [rg_mem_cong n (fun k hk => ⟨pk_un (by omega), pk_un (by omega), rfl⟩), pk_us, pk_us, hv, hwz]
section
variable {fp : Int32} {th pa ox oy wd hg sh cx cy qx qy pl B T M N E ww wp : Nat → Int32}
theorem ab_spec {post : SX → Prop} {d n ka kb : Nat} {com : Bool} (hd : d < 21) (hB : B d = nI n) (hn : n < 12) (hka : ka < 252) (hkb : kb < 252) (hat : ka ≠ 12 * d + n) (hbt : kb ≠ 12 * d + n)
    (ba : rg_band N E ka 0 12) (bb : rg_band N E kb (-400) 400)
    (hp : ∀ N' E' : Nat → Int32, (∀ q, q ≠ 12 * d + n → N' q = N q) → (∀ q, q / 14 ≠ 12 * d + n → E' q = E q) → rg_band N' E' (12 * d + n) 0 12 → (∀ x, rg_bp N' E' (12 * d + n) x = (rg_bp N E ka x && (rg_bp N E kb x == com))) → post (fp, th, pa, ox, oy, wd, hg, sh, cx, cy, qx, qy, pl, B, T, M, N', E', ww, wp)) :
    wpX_addBand post (fp, th, pa, ox, oy, wd, hg, sh, cx, cy, qx, qy, pl, B, T, M, N, E, ww, wp) (nI d) (nI ka) (nI kb) (ab_b com) := by
  obtain ⟨ca, a1, a2, a3, a4⟩ := ba
  obtain ⟨cb, b1, b2, b3, b4⟩ := bb
  have e1 : (nI d).toNatClampNeg = d := zb_c (by omega)
  have e2 : (nI (12 * d + n)).toNatClampNeg = 12 * d + n := zb_c (by omega)
  have e3 : (nI kb).toNatClampNeg = kb := zb_c (by omega)
  simp only [wpX_addBand, e1, hB, zb_12, nI_add, forall_eq, e2, e3]
  rw [pk_un (f := N) hbt, b1]
  refine ⟨zb_in hd (by decide), zb_in (by omega) (by decide), fun _ => ⟨zb_in hkb (by decide), ca + cb + 1, ?_⟩, fun h => absurd (nI_pos' (by omega)) h⟩
  refine ab_loop (x3 := nI kb) (kb := kb) (n := 0) (i := 0) (j := 0) (st := 0) (fa := rg_e E ka) (fb := rg_e E kb) (N0 := upd N (12 * d + n) 0) (E0 := E) hka (by omega) hat a3 b3 a2 (by rw [pk_un hat]; exact a1) (fun _ => ⟨⟨rfl, hkb⟩, hbt⟩) (fun _ _ => rfl) (fun _ _ => rfl) a4 b4 ?_ (ca + cb + 1) _ _ (by omega) (by omega) pk_us (fun _ _ => rfl) (fun _ _ => rfl) ab_inv0
  intro N' E' k hk q1 q2 q3
  obtain ⟨r1, r2⟩ := ab_end q3 a2 hk
  refine hp N' E' (fun q hq => by rw [q1 q hq, pk_un hq]) q2 r1 (fun x => ?_)
  rw [r2, rg_bp_c a1 a3, rg_bp_c b1 b3]
theorem ab_spec0 {post : SX → Prop} {d n ka : Nat} {com : Bool} (hd : d < 21) (hB : B d = nI n) (hn : n < 12) (hka : ka < 252) (hat : ka ≠ 12 * d + n)
    (ba : rg_band N E ka 0 12)
    (hp : ∀ N' E' : Nat → Int32, (∀ q, q ≠ 12 * d + n → N' q = N q) → (∀ q, q / 14 ≠ 12 * d + n → E' q = E q) → rg_band N' E' (12 * d + n) 0 12 → (∀ x, rg_bp N' E' (12 * d + n) x = (rg_bp N E ka x && (false == com))) → post (fp, th, pa, ox, oy, wd, hg, sh, cx, cy, qx, qy, pl, B, T, M, N', E', ww, wp)) :
    wpX_addBand post (fp, th, pa, ox, oy, wd, hg, sh, cx, cy, qx, qy, pl, B, T, M, N, E, ww, wp) (nI d) (nI ka) (-1) (ab_b com) := by
  obtain ⟨ca, a1, a2, a3, a4⟩ := ba
  have e1 : (nI d).toNatClampNeg = d := zb_c (by omega)
  have e2 : (nI (12 * d + n)).toNatClampNeg = 12 * d + n := zb_c (by omega)
  simp only [wpX_addBand, e1, hB, zb_12, nI_add, forall_eq, e2]
  refine ⟨zb_in hd (by decide), zb_in (by omega) (by decide), fun h => absurd h (by decide), fun _ => ⟨ca + 0 + 1, ?_⟩⟩
  refine ab_loop (x3 := -1) (kb := 0) (cb := 0) (n := 0) (i := 0) (j := 0) (st := 0) (fa := rg_e E ka) (fb := rg_e E ka) (N0 := upd N (12 * d + n) 0) (E0 := E) hka (by omega) hat a3 (by omega) a2 (by rw [pk_un hat]; exact a1) (fun h => absurd h (by omega)) (fun _ _ => rfl) (fun k hk => absurd hk (by omega)) a4 ⟨fun k hk => absurd hk (by omega), fun j k _ hk => absurd hk (by omega)⟩ ?_ (ca + 0 + 1) _ _ (by omega) (by omega) pk_us (fun _ _ => rfl) (fun _ _ => rfl) ab_inv0
  intro N' E' k hk q1 q2 q3
  obtain ⟨r1, r2⟩ := ab_end q3 a2 hk
  refine hp N' E' (fun q hq => by rw [q1 q hq, pk_un hq]) q2 r1 (fun x => ?_)
  rw [r2, rg_bp_c a1 a3]; rfl
theorem cl_70 {post : SX → Prop} {d n to : Nat} {y z : Int32} (hd : d < 21) (hto : to < 252) (hB : B d = nI n)
    (hp : post (fp, th, pa, ox, oy, wd, hg, sh, cx, cy, qx, qy, pl, upd B d (nI (n + 1)), upd T to y, upd M to z, N, E, ww, wp)) : wX_closeBand_70 post (nI d) y z (nI to) fp th pa ox oy wd hg sh cx cy qx qy pl B T M N E ww wp := by
  have e1 : (nI d).toNatClampNeg = d := zb_c (by omega)
  have e2 : (nI to).toNatClampNeg = to := zb_c (by omega)
  simp only [wX_closeBand_70, e1, e2, hB, nI_1, forall_eq]
  exact ⟨zb_in hto (by decide), zb_in hto (by decide), zb_in hd (by decide), zb_in hd (by decide), hp⟩
theorem cl_spec {post : SX → Prop} {d n : Nat} {y z : Int32} (hd : d < 21) (hB : B d = nI n) (hw : rg_wf T M N E (12 * d) n 0 12 0 y.toInt) (h0 : 0 ≤ y.toInt) (hz : y.toInt < z.toInt) (hz1 : z.toInt ≤ 10)
    (hb : rg_band N E (12 * d + n) 0 12)
    (hp : ∀ (B' T' M' : Nat → Int32) (n' : Nat), B' d = nI n' → (∀ q, q ≠ d → B' q = B q) → (∀ q, q / 12 ≠ d → T' q = T q ∧ M' q = M q) → rg_wf T' M' N E (12 * d) n' 0 12 0 z.toInt → (∀ x y', rg_mem T' M' N E (12 * d) n' x y' = (rg_mem T M N E (12 * d) n x y' || ((decide (y.toInt ≤ y') && decide (y' < z.toInt)) && rg_bp N E (12 * d + n) x))) → post (fp, th, pa, ox, oy, wd, hg, sh, cx, cy, qx, qy, pl, B', T', M', N, E, ww, wp)) :
    wpX_closeBand post (fp, th, pa, ox, oy, wd, hg, sh, cx, cy, qx, qy, pl, B, T, M, N, E, ww, wp) (nI d) y z := by
  have hn : (n : Int) ≤ y.toInt := by have := rg_wf_n hw h0; omega
  have e1 : (nI d).toNatClampNeg = d := zb_c (by omega)
  have e2 : (nI (12 * d + n)).toNatClampNeg = 12 * d + n := zb_c (by omega)
  have add : post (fp, th, pa, ox, oy, wd, hg, sh, cx, cy, qx, qy, pl, upd B d (nI (n + 1)), upd T (12 * d + n) y, upd M (12 * d + n) z, N, E, ww, wp) := by
    obtain ⟨w1, w2⟩ := cl_add (v := y) (w := z) rfl rfl hw h0 hz hb
    exact hp _ _ _ (n + 1) pk_us (fun q hq => pk_un hq) (fun q hq => ⟨pk_un (by omega), pk_un (by omega)⟩) w1 w2
  simp only [wpX_closeBand, e1, hB, zb_12, nI_add, forall_eq, e2]
  refine ⟨zb_in hd (by decide), zb_in (by omega) (by decide), fun c => ?_, fun c => ⟨zb_in hd (by decide), pk_le n 0 (fun h => cl_70 hd (by omega) hB add) (fun h => ?_)⟩⟩
  · obtain ⟨w1, w2⟩ := cl_zero hw (Int.le_of_lt hz) c
    exact hp B T M n hB (fun _ _ => rfl) (fun _ _ => ⟨rfl, rfl⟩) w1 w2
  · obtain ⟨p, rfl⟩ : ∃ p, n = p + 1 := ⟨n - 1, by omega⟩
    have e3 : nI (12 * d + (p + 1)) - 1 = nI (12 * d + p) := nI_pred (12 * d + p)
    have e4 : (nI (12 * d + p)).toNatClampNeg = 12 * d + p := zb_c (by omega)
    simp only [e3, e4]
    refine ⟨zb_in (by omega) (by decide), fun c1 => ?_, fun c1 => cl_70 hd (by omega) hB add⟩
    obtain ⟨cc, a1, a2, a3, a4⟩ := (hw p (by omega)).1
    refine sc_same (by omega) (by omega) a1 (by omega) (fun f1 f2 => ?_) (br_t rfl (cl_70 hd (by omega) hB add))
    refine br_f (by decide) ⟨zb_in (by omega) (by decide), ?_⟩
    obtain ⟨w1, w2⟩ := cl_merge (w := z) rfl hw hz (by rw [c1]) (by rw [f1, a1]) (fun k hk => f2 k (by rw [a1, zb_c (by omega)] at hk; exact hk))
    exact hp B T _ (p + 1) hB (fun _ _ => rfl) (fun q hq => ⟨rfl, pk_un (by omega)⟩) w1 w2
end
end
section
/-! combine's two loops -/
/-- what combine has done: bands of a below K, rows above Y -/
def cb_inv (T0 M0 N0 E0 B T M N E : Nat → Int32) (a b d nb K nd : Nat) (com : Bool) (Y : Int) (c : Int → Bool) : Prop :=
  B d = nI nd ∧ rg_wf T M N E (12 * d) nd 0 12 0 Y ∧ ∀ x y, rg_mem T M N E (12 * d) nd x y = (c y && (rg_mem T0 M0 N0 E0 (12 * a) K x y && (rg_mem T0 M0 N0 E0 (12 * b) nb x y == com)))
theorem cb_lo {T M N E : Nat → Int32} {o n k : Nat} {x0 x1 y0 y1 : Int} (h : rg_wf T M N E o n x0 x1 y0 y1) (hk : k < n) (x y : Int) : rg_mem T M N E o k x y = (decide (y < (T (o + k)).toInt) && rg_mem T M N E o (k + 1) x y) := by
  show _ = (_ && (rg_mem T M N E o k x y || ((decide ((T (o + k)).toInt ≤ y) && decide (y < (M (o + k)).toInt)) && rg_bp N E (o + k) x)))
  by_cases c : y < (T (o + k)).toInt
  · rw [decide_eq_true c, decide_eq_false (show ¬ (T (o + k)).toInt ≤ y by omega)]; simp
  · rw [decide_eq_false c, rg_mem_none k (fun j hj hi => ?_)]; · rfl
    unfold rg_in at hi
    have := (h k hk).2.2.2.2 j hj
    omega
theorem cb_hi {T M N E : Nat → Int32} {o n k : Nat} {x0 x1 y0 y1 : Int} (h : rg_wf T M N E o n x0 x1 y0 y1) (hk : k < n) (x y : Int) : rg_mem T M N E o (k + 1) x y = (decide (y < (M (o + k)).toInt) && rg_mem T M N E o (k + 1) x y) := by
  by_cases c : y < (M (o + k)).toInt
  · rw [decide_eq_true c]; simp
  · rw [decide_eq_false c, rg_mem_none (k + 1) (fun j hj hi => ?_)]; · rfl
    unfold rg_in at hi
    by_cases e : j = k
    · subst e; omega
    · have := (h k hk).2.2.2.2 j (by omega)
      have := (h k hk).2.2.1
      omega
section
variable {fp : Int32} {th pa ox oy wd hg sh cx cy qx qy pl B T M N E ww wp : Nat → Int32}
theorem cb_in {post : SX → Prop} {J} {a b d na nb k : Nat} {com : Bool} {B0 T0 M0 N0 E0 : Nat → Int32} (ha : a < 21) (hb : b < 21) (hd : d < 21) (had : a ≠ d) (hbd : b ≠ d)
    (hBb : B0 b = nI nb) (hna : na ≤ 10) (hnb : nb ≤ 10)
    (wa : rg_wf T0 M0 N0 E0 (12 * a) na 0 12 0 10) (wb : rg_wf T0 M0 N0 E0 (12 * b) nb (-400) 400 (-400) 400) (hk : k < na)
    (hp : ∀ (B T M N E : Nat → Int32) (nd : Nat), (∀ r, r ≠ d → rg_ag B0 T0 M0 N0 E0 B T M N E r) → cb_inv T0 M0 N0 E0 B T M N E a b d nb (k + 1) nd com (M0 (12 * a + k)).toInt (fun _ => true) → J (nI (12 * a + k + 1)) fp th pa ox oy wd hg sh cx cy qx qy pl B T M N E ww wp) :
    ∀ m (B T M N E : Nat → Int32) (nd st : Nat) (y : Int32), ((M0 (12 * a + k)).toInt - y.toInt).toNat < m → (st : Int) + (T0 (12 * a + k)).toInt ≤ y.toInt → y.toInt ≤ (M0 (12 * a + k)).toInt →
      (∀ r, r ≠ d → rg_ag B0 T0 M0 N0 E0 B T M N E r) → cb_inv T0 M0 N0 E0 B T M N E a b d nb (k + 1) nd com y.toInt (fun y' => decide (y' < y.toInt)) →
      wX_combine_41 post J (nI d) (nI a) (nI b) (ab_b com) (nI (12 * a + k)) m y (nI st) fp th pa ox oy wd hg sh cx cy qx qy pl B T M N E ww wp := by
  intro m
  induction m with
  | zero => intro B T M N E nd st y h; omega
  | succ m ih =>
    intro B T M N E nd st y hm hst hyM hag hI
    obtain ⟨zpa, pt0, ptm, pm1, pd⟩ := wa k hk
    have ga := rg_ag_e (hag a had) (n := 12) (by omega) k (by omega)
    have gM : M (12 * a + k) = M0 (12 * a + k) := ga.2.1
    have gb := rg_ag_e (hag b hbd) (n := nb) (by omega)
    have gB : B b = nI nb := by rw [(hag b hbd).1, hBb]
    have wb' := rg_wf_cong gb wb
    have mb' := rg_mem_cong' gb wb
    have ba : rg_band N E (12 * a + k) 0 12 := rg_band_cong ga.2.2.1 ga.2.2.2 zpa
    have e1 : (nI (12 * a + k)).toNatClampNeg = 12 * a + k := zb_c (by omega)
    have done : (M0 (12 * a + k)).toInt ≤ y.toInt → J (nI (12 * a + k + 1)) fp th pa ox oy wd hg sh cx cy qx qy pl B T M N E ww wp := by
      intro h
      have e : y.toInt = (M0 (12 * a + k)).toInt := by omega
      refine hp B T M N E nd hag ⟨hI.1, by rw [← e]; exact hI.2.1, fun x y' => ?_⟩
      rw [hI.2.2 x y', cb_hi wa hk x y', ← e]
      dsimp only
      cases decide (y' < y.toInt) <;> simp
    unfold wX_combine_41
    rw [e1, gM]
    refine pk_le 30 st (fun h => ?_) (fun h => ⟨zb_in (by omega) (by decide), zb_sel rfl rfl (fun c => nm_r (nI_1 _) (done c)) (fun c => ?_)⟩)
    · exfalso; omega
    have hn : (nd : Int) ≤ y.toInt := by have := rg_wf_n hI.2.1 (by omega); omega
    have hny : y.toInt < 10 := by omega
    have next : ∀ (z : Int32) (Q : Int → Bool) (N' E' : Nat → Int32), y.toInt < z.toInt → z.toInt ≤ (M0 (12 * a + k)).toInt → (∀ x y', y.toInt ≤ y' → y' < z.toInt → rg_mem T0 M0 N0 E0 (12 * b) nb x y' = Q x) →
        (∀ q, q ≠ 12 * d + nd → N' q = N q) → (∀ q, q / 14 ≠ 12 * d + nd → E' q = E q) → rg_band N' E' (12 * d + nd) 0 12 → (∀ x, rg_bp N' E' (12 * d + nd) x = (rg_bp N E (12 * a + k) x && (Q x == com))) →
        wpX_closeBand (fun u => match u with | (fp, th, pa, ox, oy, wd, hg, sh, cx, cy, qx, qy, pl, B, T, M, N, E, ww, wp) => ∀ x7 : Int32, x7 = nI st + 1 → wX_combine_41 post J (nI d) (nI a) (nI b) (ab_b com) (nI (12 * a + k)) m z x7 fp th pa ox oy wd hg sh cx cy qx qy pl B T M N E ww wp) (fp, th, pa, ox, oy, wd, hg, sh, cx, cy, qx, qy, pl, B, T, M, N', E', ww, wp) (nI d) y z := by
      intro z Q N' E' z1 z2 hQ hN' hE' hb' hq
      have ge : ∀ j, j < nd → T (12 * d + j) = T (12 * d + j) ∧ M (12 * d + j) = M (12 * d + j) ∧ N' (12 * d + j) = N (12 * d + j) ∧ ∀ i, i < 14 → E' (14 * (12 * d + j) + i) = E (14 * (12 * d + j) + i) :=
        fun j hj => ⟨rfl, rfl, hN' _ (by omega), fun i hi => hE' _ (by omega)⟩
      refine cl_spec hd hI.1 (rg_wf_cong ge hI.2.1) (by omega) z1 (by omega) hb' ?_
      intro B' T' M' n' c1 c2 c3 c4 c5
      refine nm_r (nI_1 st) ?_
      refine ih B' T' M' N' E' n' (st + 1) z (by omega) (by omega) z2 (fun r hr => ?_) ⟨c1, c4, fun x y' => ?_⟩
      · refine rg_ag_tr (hag r hr) ⟨c2 r hr, fun i hi => ⟨(c3 i (by omega)).1, (c3 i (by omega)).2, hN' i (by omega)⟩, fun i hi => hE' i (by omega)⟩
      · rw [c5 x y', rg_mem_cong' ge hI.2.1, hI.2.2 x y', hq x]
        dsimp only
        have bpe : rg_bp N E (12 * a + k) x = rg_bp N0 E0 (12 * a + k) x := rg_bp_cong ga.2.2.1 ga.2.2.2 zpa x
        by_cases k1 : y' < y.toInt
        · rw [decide_eq_true k1, decide_eq_false (show ¬ y.toInt ≤ y' by omega), decide_eq_true (show y' < z.toInt by omega)]; simp
        · by_cases k2 : y' < z.toInt
          · rw [decide_eq_false k1, decide_eq_true (show y.toInt ≤ y' by omega), decide_eq_true k2, hQ x y' (by omega) k2, bpe, rg_wf_at (rg_wf_le wa (show k + 1 ≤ na by omega)) (show k < k + 1 by omega) (show rg_in T0 M0 (12 * a + k) y' from ⟨by omega, by omega⟩) x]; simp
          · rw [decide_eq_false k1, decide_eq_true (show y.toInt ≤ y' by omega), decide_eq_false k2]; simp
    refine sc_bandAt hb gB (by omega) ?_ ?_
    · intro kb hkb hin
      refine sc_edge hb gB (by omega) (by omega) ?_
      intro z hz hed
      have bb : rg_band N E (12 * b + kb) (-400) 400 := (wb' kb hkb).1
      have hQ : ∀ z' : Int, z' ≤ z.toInt → ∀ x y', y.toInt ≤ y' → y' < z' → rg_mem T0 M0 N0 E0 (12 * b) nb x y' = rg_bp N E (12 * b + kb) x := by
        intro z' hz' x y' h1 h2
        rw [← mb' x y', rg_edge hed h1 (by omega) x, rg_wf_at wb' hkb hin x]
      refine ⟨zb_in (by omega) (by decide), zb_sel rfl rfl (fun c' => ⟨zb_in (by omega) (by decide), ?_⟩) (fun c' => ?_)⟩
      · unfold wX_combine_102
        refine ab_spec hd hI.1 (by omega) (by omega) (by omega) (by omega) (by omega) ba bb ?_
        intro N' E' f1 f2 f3 f4
        exact next (M0 (12 * a + k)) _ N' E' c (by omega) (hQ _ c') f1 f2 f3 f4
      · unfold wX_combine_102
        refine ab_spec hd hI.1 (by omega) (by omega) (by omega) (by omega) (by omega) ba bb ?_
        intro N' E' f1 f2 f3 f4
        exact next z _ N' E' hz (by omega) (hQ _ (by omega)) f1 f2 f3 f4
    · intro hno
      refine sc_edge hb gB (by omega) (by omega) ?_
      intro z hz hed
      have hQ : ∀ z' : Int, z' ≤ z.toInt → ∀ x y', y.toInt ≤ y' → y' < z' → rg_mem T0 M0 N0 E0 (12 * b) nb x y' = (fun _ => false) x := by
        intro z' hz' x y' h1 h2
        rw [← mb' x y', rg_edge hed h1 (by omega) x, rg_mem_none nb hno]
      refine ⟨zb_in (by omega) (by decide), zb_sel rfl rfl (fun c' => ⟨zb_in (by omega) (by decide), ?_⟩) (fun c' => ?_)⟩
      · unfold wX_combine_102
        refine ab_spec0 hd hI.1 (by omega) (by omega) (by omega) ba ?_
        intro N' E' f1 f2 f3 f4
        exact next (M0 (12 * a + k)) _ N' E' c (by omega) (hQ _ c') f1 f2 f3 f4
      · unfold wX_combine_102
        refine ab_spec0 hd hI.1 (by omega) (by omega) (by omega) ba ?_
        intro N' E' f1 f2 f3 f4
        exact next z _ N' E' hz (by omega) (hQ _ (by omega)) f1 f2 f3 f4
theorem cb_out {post : SX → Prop} {a b d na nb : Nat} {com : Bool} {B0 T0 M0 N0 E0 : Nat → Int32} (ha : a < 21) (hb : b < 21) (hd : d < 21) (had : a ≠ d) (hbd : b ≠ d)
    (hBa : B0 a = nI na) (hBb : B0 b = nI nb) (hna : na ≤ 10) (hnb : nb ≤ 10)
    (wa : rg_wf T0 M0 N0 E0 (12 * a) na 0 12 0 10) (wb : rg_wf T0 M0 N0 E0 (12 * b) nb (-400) 400 (-400) 400)
    (hp : ∀ (B T M N E : Nat → Int32) (nd : Nat), (∀ r, r ≠ d → rg_ag B0 T0 M0 N0 E0 B T M N E r) → cb_inv T0 M0 N0 E0 B T M N E a b d nb na nd com 10 (fun _ => true) → post (fp, th, pa, ox, oy, wd, hg, sh, cx, cy, qx, qy, pl, B, T, M, N, E, ww, wp)) :
    ∀ m k (B T M N E : Nat → Int32) (nd : Nat) (Y : Int), na - k < m → k ≤ na → 0 ≤ Y → Y ≤ 10 → (k < na → Y ≤ (T0 (12 * a + k)).toInt) →
      (∀ r, r ≠ d → rg_ag B0 T0 M0 N0 E0 B T M N E r) → cb_inv T0 M0 N0 E0 B T M N E a b d nb k nd com Y (fun _ => true) →
      wX_combine_13 post (nI d) (nI a) (nI b) (ab_b com) m (nI (12 * a + k)) fp th pa ox oy wd hg sh cx cy qx qy pl B T M N E ww wp := by
  intro m
  induction m with
  | zero => intro k B T M N E nd Y h; omega
  | succ m ih =>
    intro k B T M N E nd Y hm hk hY0 hY1 hY hag hI
    have e1 : (nI (12 * a + k)).toNatClampNeg = 12 * a + k := zb_c (by omega)
    have e2 : (nI a).toNatClampNeg = a := zb_c (by omega)
    have gB : B a = nI na := by rw [(hag a had).1, hBa]
    unfold wX_combine_13
    rw [e1, e2, gB, zb_12, nI_add]
    refine ⟨zb_in ha (by decide), pk_le (12 * a + na) (12 * a + k) (fun h => ?_) (fun h => ⟨zb_in (by omega) (by decide), ?_⟩)⟩
    · obtain rfl : k = na := by omega
      exact hp B T M N E nd hag ⟨hI.1, rg_wf_box hI.2.1 (by omega) (by omega) (by omega) hY1, hI.2.2⟩
    · have gT : T (12 * a + k) = T0 (12 * a + k) := (rg_ag_e (hag a had) (n := 12) (by omega) k (by omega)).1
      have q := wa k (by omega)
      refine nm_r gT ⟨11, ?_⟩
      refine cb_in (st := 0) ha hb hd had hbd hBb hna hnb wa wb (show k < na by omega) ?_ 11 B T M N E nd _ (by omega) (by omega) (by omega) hag ⟨hI.1, rg_wf_box hI.2.1 (by omega) (by omega) (by omega) (hY (by omega)), fun x y => ?_⟩
      · intro B T M N E nd hag hI
        refine ih (k + 1) B T M N E nd _ (by omega) (by omega) (by omega) q.2.2.2.1 (fun h => ?_) hag hI
        exact (wa (k + 1) h).2.2.2.2 k (by omega)
      · rw [hI.2.2 x y, cb_lo wa (show k < na by omega) x y]; simp [Bool.and_assoc]
theorem cb_spec {post : SX → Prop} {a b d : Nat} {com : Bool} {P Q : Int → Int → Bool} (ha : a < 21) (hb : b < 21) (hd : d < 21) (had : a ≠ d) (hbd : b ≠ d)
    (hA : rg_at B T M N E a 0 12 0 10 P) (hB : rg_at B T M N E b (-400) 400 (-400) 400 Q)
    (hp : ∀ (B' T' M' N' E' : Nat → Int32), (∀ r, r ≠ d → rg_ag B T M N E B' T' M' N' E' r) → rg_at B' T' M' N' E' d 0 12 0 10 (fun x y => P x y && (Q x y == com)) → post (fp, th, pa, ox, oy, wd, hg, sh, cx, cy, qx, qy, pl, B', T', M', N', E', ww, wp)) :
    wpX_combine post (fp, th, pa, ox, oy, wd, hg, sh, cx, cy, qx, qy, pl, B, T, M, N, E, ww, wp) (nI d) (nI a) (nI b) (ab_b com) := by
  obtain ⟨na, a1, a2, a3, a4⟩ := hA
  obtain ⟨nb, b1, b2, b3, b4⟩ := hB
  have e1 : (nI d).toNatClampNeg = d := zb_c (by omega)
  simp only [wpX_combine, e1, forall_eq, zb_12]
  refine ⟨zb_in hd (by decide), na + 1, ?_⟩
  refine cb_out (B0 := upd B d 0) (T0 := T) (M0 := M) (N0 := N) (E0 := E) ha hb hd had hbd (by rw [pk_un had]; exact a1) (by rw [pk_un hbd]; exact b1) a2 b2 a3 b3 ?_ (na + 1) 0 _ _ _ _ _ 0 0 (by omega) (by omega) (by omega) (by omega) (fun h => (a3 0 h).2.1) (fun r _ => rg_ag_rfl) ⟨pk_us, fun k hk => absurd hk (by omega), fun x y => rfl⟩
  intro B' T' M' N' E' nd hag hI
  refine hp B' T' M' N' E' (fun r hr => ?_) ⟨nd, hI.1, ?_, hI.2.1, fun x y => ?_⟩
  · refine rg_ag_tr ⟨?_, fun _ _ => ⟨rfl, rfl, rfl⟩, fun _ _ => rfl⟩ (hag r hr)
    exact pk_un hr
  · have := rg_wf_n hI.2.1 (by omega); omega
  · rw [hI.2.2 x y, a4, b4]; rfl
end
end
section
/-! rectangle, copyBand, copyRegion, shift -/
theorem rc_pure {B T M N E : Nat → Int32} {r : Nat} {x1 y1 x2 y2 : Int32} {a0 a1 b0 b1 : Int} (h1 : x1.toInt < x2.toInt) (h2 : y1.toInt < y2.toInt) (q0 : a0 ≤ x1.toInt) (q1 : x2.toInt ≤ a1) (q2 : b0 ≤ y1.toInt) (q3 : y2.toInt ≤ b1)
    (hB : B r = 1) (hT : T (12 * r) = y1) (hM : M (12 * r) = y2) (hN : N (12 * r) = 2) (hE : E (168 * r) = x1) (hE1 : E (168 * r + 1) = x2) :
    rg_at B T M N E r a0 a1 b0 b1 (fun x y => (decide (x1.toInt ≤ x) && decide (x < x2.toInt)) && (decide (y1.toInt ≤ y) && decide (y < y2.toInt))) := by
  have f0 : rg_e E (12 * r) 0 = x1.toInt := by
    show (E (14 * (12 * r) + 0)).toInt = _
    rw [show 14 * (12 * r) + 0 = 168 * r by omega, hE]
  have f1 : rg_e E (12 * r) 1 = x2.toInt := by
    show (E (14 * (12 * r) + 1)).toInt = _
    rw [show 14 * (12 * r) + 1 = 168 * r + 1 by omega, hE1]
  refine ⟨1, hB, by omega, fun k hk => ?_, fun x y => ?_⟩
  · obtain rfl : k = 0 := by omega
    rw [Nat.add_zero, hT, hM]
    refine ⟨⟨2, hN, rfl, by omega, fun k hk => ?_, fun j k hj hk => ?_⟩, q2, h2, q3, fun j hj => absurd hj (by omega)⟩
    · by_cases c : k = 0
      · subst c; rw [f0]; omega
      · obtain rfl : k = 1 := by omega
        rw [f1]; omega
    · obtain rfl : k = 1 := by omega
      obtain rfl : j = 0 := by omega
      rw [f0, f1]; exact h1
  · show (false || ((decide ((T (12 * r + 0)).toInt ≤ y) && decide (y < (M (12 * r + 0)).toInt)) && rg_bp N E (12 * r + 0) x)) = _
    rw [Nat.add_zero, hT, hM, rg_bp_c (c := 2) hN (by omega)]
    show (false || ((decide (y1.toInt ≤ y) && decide (y < y2.toInt)) && ((false ^^ decide (rg_e E (12 * r) 0 ≤ x)) ^^ decide (rg_e E (12 * r) 1 ≤ x)))) = _
    rw [f0, f1]
    dsimp only
    by_cases c1 : x1.toInt ≤ x
    · by_cases c2 : x < x2.toInt
      · rw [decide_eq_true c1, decide_eq_true c2, decide_eq_false (show ¬ x2.toInt ≤ x by omega)]; simp
      · rw [decide_eq_true c1, decide_eq_false c2, decide_eq_true (show x2.toInt ≤ x by omega)]; simp
    · rw [decide_eq_false c1, decide_eq_false (show ¬ x2.toInt ≤ x by omega)]; simp
/-- the same bands at another place -/
theorem cp_pure {T M N E T' M' N' E' : Nat → Int32} {o o' n : Nat} {x0 x1 y0 y1 : Int} (h : rg_wf T M N E o n x0 x1 y0 y1)
    (e : ∀ k, k < n → T' (o' + k) = T (o + k) ∧ M' (o' + k) = M (o + k) ∧ N' (o' + k) = N (o + k) ∧ ∀ j, j < (N (o + k)).toNatClampNeg → E' (14 * (o' + k) + j) = E (14 * (o + k) + j)) :
    rg_wf T' M' N' E' o' n x0 x1 y0 y1 ∧ ∀ x y, rg_mem T' M' N' E' o' n x y = rg_mem T M N E o n x y := by
  constructor
  · intro k hk
    obtain ⟨a1, a2, a3, a4⟩ := e k hk
    obtain ⟨⟨c, p1, p2, p3, p4⟩, q, r, s, t⟩ := h k hk
    rw [p1, zb_c (by omega)] at a4
    refine ⟨⟨c, by rw [a3, p1], p2, p3, rg_srt_cong (fun j hj => ?_) p4⟩, by rw [a1]; exact q, by rw [a1, a2]; exact r, by rw [a2]; exact s, fun j hj => ?_⟩
    · show (E' _).toInt = (E _).toInt
      rw [a4 j hj]
    · rw [a1, (e j (by omega)).2.1]; exact t j hj
  · intro x y
    have go : ∀ m, m ≤ n → rg_mem T' M' N' E' o' m x y = rg_mem T M N E o m x y := by
      intro m
      induction m with
      | zero => intro _; rfl
      | succ m ih =>
        intro hm
        obtain ⟨a1, a2, a3, a4⟩ := e m (by omega)
        have b : rg_bp N' E' (o' + m) x = rg_bp N E (o + m) x := by
          show rg_pI _ (N' (o' + m)).toNatClampNeg x = rg_pI _ (N (o + m)).toNatClampNeg x
          rw [a3]
          exact rg_pI_cong _ (fun j hj => by show (E' _).toInt = (E _).toInt; rw [a4 j hj])
        show (rg_mem T' M' N' E' o' m x y || ((decide ((T' (o' + m)).toInt ≤ y) && decide (y < (M' (o' + m)).toInt)) && rg_bp N' E' (o' + m) x)) = (rg_mem T M N E o m x y || ((decide ((T (o + m)).toInt ≤ y) && decide (y < (M (o + m)).toInt)) && rg_bp N E (o + m) x))
        rw [ih (by omega), a1, a2, b]
    exact go n (by omega)
theorem sh_pI {f : Nat → Int} {dx x : Int} : ∀ c, rg_pI (fun k => f k + dx) c x = rg_pI f c (x - dx)
  | 0 => rfl
  | c + 1 => by
    show (rg_pI (fun k => f k + dx) c x ^^ decide (f c + dx ≤ x)) = (rg_pI f c (x - dx) ^^ decide (f c ≤ x - dx))
    rw [sh_pI c, decide_eq_decide.mpr (show f c + dx ≤ x ↔ f c ≤ x - dx by omega)]
theorem sh_pure {T M N E T' M' E' : Nat → Int32} {o n : Nat} {dx dy : Int32} (h : rg_wf T M N E o n 0 12 0 10) (hx : -300 ≤ dx.toInt ∧ dx.toInt ≤ 300) (hy : -300 ≤ dy.toInt ∧ dy.toInt ≤ 300)
    (e : ∀ k, k < n → T' (o + k) = T (o + k) + dy ∧ M' (o + k) = M (o + k) + dy ∧ ∀ j, j < (N (o + k)).toNatClampNeg → E' (14 * (o + k) + j) = E (14 * (o + k) + j) + dx) :
    rg_wf T' M' N E' o n (-400) 400 (-400) 400 ∧ ∀ x y, rg_mem T' M' N E' o n x y = rg_mem T M N E o n (x - dx.toInt) (y - dy.toInt) := by
  have tt : ∀ k, k < n → (T' (o + k)).toInt = (T (o + k)).toInt + dy.toInt ∧ (M' (o + k)).toInt = (M (o + k)).toInt + dy.toInt := by
    intro k hk
    obtain ⟨a1, a2, a4⟩ := e k hk
    have w := h k hk
    rw [a1, a2, zb_add (by omega) (by omega), zb_add (by omega) (by omega)]
    exact ⟨rfl, rfl⟩
  have ee : ∀ k, k < n → ∀ j, j < (N (o + k)).toNatClampNeg → rg_e E' (o + k) j = rg_e E (o + k) j + dx.toInt := by
    intro k hk j hj
    obtain ⟨a1, a2, a4⟩ := e k hk
    obtain ⟨⟨c, p1, p2, p3, p4⟩, w⟩ := h k hk
    have a5 := a4 j hj
    rw [p1, zb_c (by omega)] at hj
    have b : 0 ≤ (E (14 * (o + k) + j)).toInt ∧ (E (14 * (o + k) + j)).toInt ≤ 12 := p4.1 j hj
    show (E' (14 * (o + k) + j)).toInt = (E (14 * (o + k) + j)).toInt + dx.toInt
    rw [a5, zb_add (by omega) (by omega)]
  constructor
  · intro k hk
    have t1 := tt k hk
    have e1 := ee k hk
    obtain ⟨⟨c, p1, p2, p3, p4⟩, q, r, s, t⟩ := h k hk
    rw [p1, zb_c (by omega)] at e1
    refine ⟨⟨c, p1, p2, p3, fun j hj => ?_, fun i j hi hj => ?_⟩, by omega, by omega, by omega, fun j hj => ?_⟩
    · rw [e1 j hj]; have := p4.1 j hj; omega
    · rw [e1 j hj, e1 i (by omega)]; have := p4.2 i j hi hj; omega
    · have := t j hj; have := tt j (by omega); omega
  · intro x y
    have go : ∀ m, m ≤ n → rg_mem T' M' N E' o m x y = rg_mem T M N E o m (x - dx.toInt) (y - dy.toInt) := by
      intro m
      induction m with
      | zero => intro _; rfl
      | succ m ih =>
        intro hm
        obtain ⟨t1, t2⟩ := tt m (by omega)
        have b : rg_bp N E' (o + m) x = rg_bp N E (o + m) (x - dx.toInt) := by
          show rg_pI _ (N (o + m)).toNatClampNeg x = rg_pI _ (N (o + m)).toNatClampNeg _
          rw [← sh_pI]
          exact rg_pI_cong _ (fun j hj => ee m (by omega) j hj)
        show (rg_mem T' M' N E' o m x y || ((decide ((T' (o + m)).toInt ≤ y) && decide (y < (M' (o + m)).toInt)) && rg_bp N E' (o + m) x)) = (rg_mem T M N E o m (x - dx.toInt) (y - dy.toInt) || ((decide ((T (o + m)).toInt ≤ y - dy.toInt) && decide (y - dy.toInt < (M (o + m)).toInt)) && rg_bp N E (o + m) (x - dx.toInt)))
        rw [ih (by omega), t1, t2, b, decide_eq_decide.mpr (show (T (o + m)).toInt + dy.toInt ≤ y ↔ (T (o + m)).toInt ≤ y - dy.toInt by omega), decide_eq_decide.mpr (show y < (M (o + m)).toInt + dy.toInt ↔ y - dy.toInt < (M (o + m)).toInt by omega)]
    exact go n (by omega)
section
variable {fp : Int32} {th pa ox oy wd hg sh cx cy qx qy pl B T M N E ww wp : Nat → Int32}
theorem rc_spec {post : SX → Prop} {r : Nat} {x1 y1 x2 y2 : Int32} {a0 a1 b0 b1 : Int} (hr : r < 21) (q0 : a0 ≤ x1.toInt) (q1 : x2.toInt ≤ a1) (q2 : b0 ≤ y1.toInt) (q3 : y2.toInt ≤ b1)
    (hp : ∀ (B' T' M' N' E' : Nat → Int32), (∀ p, p ≠ r → rg_ag B T M N E B' T' M' N' E' p) → rg_at B' T' M' N' E' r a0 a1 b0 b1 (fun x y => (decide (x1.toInt ≤ x) && decide (x < x2.toInt)) && (decide (y1.toInt ≤ y) && decide (y < y2.toInt))) → post (fp, th, pa, ox, oy, wd, hg, sh, cx, cy, qx, qy, pl, B', T', M', N', E', ww, wp)) :
    wpX_rectangle post (fp, th, pa, ox, oy, wd, hg, sh, cx, cy, qx, qy, pl, B, T, M, N, E, ww, wp) (nI r) x1 y1 x2 y2 := by
  have e1 : (nI r).toNatClampNeg = r := zb_c (by omega)
  have e2 : (nI (12 * r)).toNatClampNeg = 12 * r := zb_c (by omega)
  have e3 : (nI (168 * r)).toNatClampNeg = 168 * r := zb_c (by omega)
  have e4 : (nI (168 * r + 1)).toNatClampNeg = 168 * r + 1 := zb_c (by omega)
  have fr : ∀ p, p ≠ r → rg_ag B T M N E (upd B r 0) T M N E p := fun p h => ⟨pk_un h, fun _ _ => ⟨rfl, rfl, rfl⟩, fun _ _ => rfl⟩
  simp only [wpX_rectangle, e1, zb_12, zb_168, nI_1, e2, e3, e4, forall_eq]
  refine ⟨zb_in hr (by decide), zb_sel rfl rfl (fun c => ?_) (fun c => zb_sel rfl rfl (fun c' => ?_) (fun c' => ?_))⟩
  · refine hp _ _ _ _ _ fr (rg_at_P (rg_at_0 _ _ _ _ pk_us) (fun x y => ?_))
    by_cases k : x1.toInt ≤ x
    · rw [decide_eq_false (show ¬ x < x2.toInt by omega)]; simp
    · rw [decide_eq_false k]; simp
  · refine hp _ _ _ _ _ fr (rg_at_P (rg_at_0 _ _ _ _ pk_us) (fun x y => ?_))
    by_cases k : y1.toInt ≤ y
    · rw [decide_eq_false (show ¬ y < y2.toInt by omega)]; simp
    · rw [decide_eq_false k]; simp
  · refine ⟨zb_in hr (by decide), zb_in (by omega) (by decide), zb_in (by omega) (by decide), zb_in (by omega) (by decide), zb_in (by omega) (by decide), zb_in (by omega) (by decide), ?_⟩
    refine hp _ _ _ _ _ (fun p h => ⟨?_, fun i hi => ⟨?_, ?_, ?_⟩, fun i hi => ?_⟩) (rc_pure c c' q0 q1 q2 q3 pk_us pk_us pk_us pk_us ?_ pk_us)
    · rw [pk_un h, pk_un h]
    · exact pk_un (by omega)
    · exact pk_un (by omega)
    · exact pk_un (by omega)
    · rw [pk_un (by omega), pk_un (by omega)]
    · rw [pk_un (by omega), pk_us]
theorem cp_band_l {post : SX → Prop} {a b c : Nat} {E0 : Nat → Int32} (ha : a < 252) (hb : b < 252) (hab : a ≠ b) (hN : N a = nI c) (hc : c ≤ 12)
    (hp : ∀ E' : Nat → Int32, (∀ j, j < c → E' (14 * b + j) = E0 (14 * a + j)) → (∀ q, q / 14 ≠ b → E' q = E0 q) → post (fp, th, pa, ox, oy, wd, hg, sh, cx, cy, qx, qy, pl, B, T, M, N, E', ww, wp)) :
    ∀ m k (E : Nat → Int32), c - k < m → k ≤ c → (∀ j, j < k → E (14 * b + j) = E0 (14 * a + j)) → (∀ q, q / 14 ≠ b → E q = E0 q) → wX_copyBand_14 post (nI a) (nI b) fp m (nI k) th pa ox oy wd hg sh cx cy qx qy pl B T M N E ww wp := by
  intro m
  induction m with
  | zero => intro k E h; omega
  | succ m ih =>
    intro k E hm hk h1 h2
    have e1 : (nI a).toNatClampNeg = a := zb_c (by omega)
    have e2 : (nI (14 * a + k)).toNatClampNeg = 14 * a + k := zb_c (by omega)
    have e3 : (nI (14 * b + k)).toNatClampNeg = 14 * b + k := zb_c (by omega)
    simp only [wX_copyBand_14, zb_14, e1, hN, nI_add, e2, e3, forall_eq, nI_1]
    refine ⟨zb_in ha (by decide), pk_le c k (fun h => ?_) (fun h => ⟨zb_in (by omega) (by decide), zb_in (by omega) (by decide), ?_⟩)⟩
    · obtain rfl : k = c := by omega
      exact hp E h1 h2
    · refine ih (k + 1) _ (by omega) (by omega) (fun j hj => ?_) (fun q hq => by rw [pk_un (by omega)]; exact h2 q hq)
      by_cases c : j = k
      · subst c; rw [pk_us, h2 _ (by omega)]
      · rw [pk_un (by omega)]; exact h1 j (by omega)
theorem cp_band {post : SX → Prop} {a b c : Nat} (ha : a < 252) (hb : b < 252) (hab : a ≠ b) (hN : N a = nI c) (hc : c ≤ 12)
    (hp : ∀ E' : Nat → Int32, (∀ j, j < c → E' (14 * b + j) = E (14 * a + j)) → (∀ q, q / 14 ≠ b → E' q = E q) → post (fp, th, pa, ox, oy, wd, hg, sh, cx, cy, qx, qy, pl, B, T, M, upd N b (nI c), E', ww, wp)) :
    wpX_copyBand post (fp, th, pa, ox, oy, wd, hg, sh, cx, cy, qx, qy, pl, B, T, M, N, E, ww, wp) (nI a) (nI b) := by
  have e1 : (nI a).toNatClampNeg = a := zb_c (by omega)
  have e2 : (nI b).toNatClampNeg = b := zb_c (by omega)
  simp only [wpX_copyBand, e1, e2, hN, forall_eq]
  refine ⟨zb_in ha (by decide), zb_in hb (by decide), c + 1, ?_⟩
  exact cp_band_l ha hb hab (by rw [pk_un hab]; exact hN) hc hp (c + 1) 0 E (by omega) (by omega) (fun j hj => absurd hj (by omega)) (fun _ _ => rfl)
theorem cp_reg_l {post : SX → Prop} {a b n : Nat} {B0 T0 M0 N0 E0 : Nat → Int32} {x0 x1 y0 y1 : Int} (ha : a < 21) (hb : b < 21) (hab : a ≠ b) (hB : B0 a = nI n) (hn : n ≤ 10) (hw : rg_wf T0 M0 N0 E0 (12 * a) n x0 x1 y0 y1)
    (hp : ∀ (B T M N E : Nat → Int32), (∀ r, r ≠ b → rg_ag B0 T0 M0 N0 E0 B T M N E r) → B b = B0 b → (∀ k, k < n → T (12 * b + k) = T0 (12 * a + k) ∧ M (12 * b + k) = M0 (12 * a + k) ∧ N (12 * b + k) = N0 (12 * a + k) ∧ ∀ j, j < (N0 (12 * a + k)).toNatClampNeg → E (14 * (12 * b + k) + j) = E0 (14 * (12 * a + k) + j)) → post (fp, th, pa, ox, oy, wd, hg, sh, cx, cy, qx, qy, pl, B, T, M, N, E, ww, wp)) :
    ∀ m i (B T M N E : Nat → Int32), n - i < m → i ≤ n → (∀ r, r ≠ b → rg_ag B0 T0 M0 N0 E0 B T M N E r) → B b = B0 b →
      (∀ k, k < i → T (12 * b + k) = T0 (12 * a + k) ∧ M (12 * b + k) = M0 (12 * a + k) ∧ N (12 * b + k) = N0 (12 * a + k) ∧ ∀ j, j < (N0 (12 * a + k)).toNatClampNeg → E (14 * (12 * b + k) + j) = E0 (14 * (12 * a + k) + j)) →
      wX_copyRegion_14 post (nI a) (nI b) m (nI i) fp th pa ox oy wd hg sh cx cy qx qy pl B T M N E ww wp := by
  intro m
  induction m with
  | zero => intro i B T M N E h; omega
  | succ m ih =>
    intro i B T M N E hm hi hag hBb hI
    have e1 : (nI a).toNatClampNeg = a := zb_c (by omega)
    have gB : B a = nI n := by rw [(hag a hab).1, hB]
    unfold wX_copyRegion_14
    rw [e1, gB, zb_12, zb_12, nI_add, nI_add]
    refine ⟨zb_in ha (by decide), pk_le n i (fun h => ?_) (fun h => ?_)⟩
    · obtain rfl : i = n := by omega
      exact hp B T M N E hag hBb hI
    · have g := rg_ag_e (hag a hab) (n := 12) (by omega) i (by omega)
      obtain ⟨⟨c, p1, p2, p3, p4⟩, q⟩ := hw i (by omega)
      have e2 : (nI (12 * a + i)).toNatClampNeg = 12 * a + i := zb_c (by omega)
      have e3 : (nI (12 * b + i)).toNatClampNeg = 12 * b + i := zb_c (by omega)
      refine cp_band (by omega) (by omega) (by omega) (by rw [g.2.2.1]; exact p1) p3 ?_
      intro E' f1 f2
      dsimp only
      simp only [e2, e3, forall_eq, nI_1]
      refine ⟨zb_in (by omega) (by decide), zb_in (by omega) (by decide), zb_in (by omega) (by decide), zb_in (by omega) (by decide), ?_⟩
      refine ih (i + 1) _ _ _ _ _ (by omega) (by omega) (fun r hr => ?_) hBb (fun k hk => ?_)
      · exact rg_ag_tr (hag r hr) ⟨rfl, fun z hz => ⟨pk_un (by omega), pk_un (by omega), pk_un (by omega)⟩, fun z hz => f2 z (by omega)⟩
      · by_cases c : k = i
        · subst c
          rw [pk_us, pk_us, pk_us, p1, zb_c (by omega)]
          exact ⟨g.1, g.2.1, rfl, fun j hj => by rw [f1 j hj]; exact g.2.2.2 j (by omega)⟩
        · obtain ⟨s1, s2, s3, s4⟩ := hI k (by omega)
          rw [pk_un (by omega), pk_un (by omega), pk_un (by omega)]
          obtain ⟨⟨c', p1', p2', p3', p4'⟩, q'⟩ := hw k (by omega)
          refine ⟨s1, s2, s3, fun j hj => ?_⟩
          have hj' := hj
          rw [p1', zb_c (by omega)] at hj'
          rw [f2 _ (by omega)]; exact s4 j hj
theorem cp_spec {post : SX → Prop} {a b : Nat} {x0 x1 y0 y1 : Int} {P : Int → Int → Bool} (ha : a < 21) (hb : b < 21) (hab : a ≠ b) (h : rg_at B T M N E a x0 x1 y0 y1 P)
    (hp : ∀ (B' T' M' N' E' : Nat → Int32), (∀ r, r ≠ b → rg_ag B T M N E B' T' M' N' E' r) → rg_at B' T' M' N' E' b x0 x1 y0 y1 P → post (fp, th, pa, ox, oy, wd, hg, sh, cx, cy, qx, qy, pl, B', T', M', N', E', ww, wp)) :
    wpX_copyRegion post (fp, th, pa, ox, oy, wd, hg, sh, cx, cy, qx, qy, pl, B, T, M, N, E, ww, wp) (nI a) (nI b) := by
  obtain ⟨n, q1, q2, q3, q4⟩ := h
  have e1 : (nI a).toNatClampNeg = a := zb_c (by omega)
  have e2 : (nI b).toNatClampNeg = b := zb_c (by omega)
  simp only [wpX_copyRegion, e1, e2, forall_eq]
  refine ⟨zb_in ha (by decide), zb_in hb (by decide), n + 1, ?_⟩
  refine cp_reg_l (B0 := upd B b (B a)) (T0 := T) (M0 := M) (N0 := N) (E0 := E) ha hb hab (by rw [pk_un hab]; exact q1) q2 q3 ?_ (n + 1) 0 _ _ _ _ _ (by omega) (by omega) (fun r _ => rg_ag_rfl) rfl (fun k hk => absurd hk (by omega))
  intro B' T' M' N' E' hag hBb hI
  obtain ⟨w1, w2⟩ := cp_pure q3 hI
  refine hp B' T' M' N' E' (fun r hr => ?_) ⟨n, by rw [hBb, pk_us]; exact q1, q2, w1, fun x y => (w2 x y).trans (q4 x y)⟩
  refine rg_ag_tr ⟨?_, fun _ _ => ⟨rfl, rfl, rfl⟩, fun _ _ => rfl⟩ (hag r hr)
  exact pk_un hr
theorem sh_in {post : SX → Prop} {J} {x1 dx dy : Int32} {q c : Nat} {E0 : Nat → Int32} (hq : q < 252) (hN : N q = nI c) (hc : c ≤ 12)
    (hp : ∀ E' : Nat → Int32, (∀ j, j < c → E' (14 * q + j) = E0 (14 * q + j) + dx) → (∀ p, p / 14 ≠ q → E' p = E0 p) → J (nI (q + 1)) th pa ox oy wd hg sh cx cy qx qy pl B T M N E' ww wp) :
    ∀ m k (E : Nat → Int32), c - k < m → k ≤ c → (∀ j, j < k → E (14 * q + j) = E0 (14 * q + j) + dx) → (∀ p, ¬ (14 * q ≤ p ∧ p < 14 * q + k) → E p = E0 p) → wX_shift_47 post J x1 dx dy (nI q) fp m (nI k) th pa ox oy wd hg sh cx cy qx qy pl B T M N E ww wp := by
  intro m
  induction m with
  | zero => intro k E h; omega
  | succ m ih =>
    intro k E hm hk h1 h2
    have e1 : (nI q).toNatClampNeg = q := zb_c (by omega)
    have e2 : (nI (14 * q + k)).toNatClampNeg = 14 * q + k := zb_c (by omega)
    simp only [wX_shift_47, zb_14, e1, hN, nI_add, e2, forall_eq, nI_1]
    refine ⟨zb_in hq (by decide), pk_le c k (fun h => ?_) (fun h => ⟨zb_in (by omega) (by decide), zb_in (by omega) (by decide), ?_⟩)⟩
    · obtain rfl : k = c := by omega
      exact hp E h1 (fun p hp => h2 p (by omega))
    · refine ih (k + 1) _ (by omega) (by omega) (fun j hj => ?_) (fun p hp => by rw [pk_un (by omega)]; exact h2 p (by omega))
      by_cases c : j = k
      · subst c; rw [pk_us, h2 _ (by omega)]
      · rw [pk_un (by omega)]; exact h1 j (by omega)
theorem sh_out {post : SX → Prop} {r n : Nat} {dx dy : Int32} {T0 M0 E0 : Nat → Int32} {x0 x1 y0 y1 : Int} (hr : r < 21) (hB : B r = nI n) (hn : n ≤ 10) (hw : rg_wf T0 M0 N E0 (12 * r) n x0 x1 y0 y1)
    (hp : ∀ (T M E : Nat → Int32), (∀ k, k < n → T (12 * r + k) = T0 (12 * r + k) + dy ∧ M (12 * r + k) = M0 (12 * r + k) + dy ∧ ∀ j, j < (N (12 * r + k)).toNatClampNeg → E (14 * (12 * r + k) + j) = E0 (14 * (12 * r + k) + j) + dx) → (∀ p, p / 12 ≠ r → T p = T0 p ∧ M p = M0 p) → (∀ p, p / 168 ≠ r → E p = E0 p) → post (fp, th, pa, ox, oy, wd, hg, sh, cx, cy, qx, qy, pl, B, T, M, N, E, ww, wp)) :
    ∀ m i (T M E : Nat → Int32), n - i < m → i ≤ n → (∀ k, k < i → T (12 * r + k) = T0 (12 * r + k) + dy ∧ M (12 * r + k) = M0 (12 * r + k) + dy ∧ ∀ j, j < (N (12 * r + k)).toNatClampNeg → E (14 * (12 * r + k) + j) = E0 (14 * (12 * r + k) + j) + dx) →
      (∀ p, ¬ (12 * r ≤ p ∧ p < 12 * r + i) → T p = T0 p ∧ M p = M0 p) → (∀ p, ¬ (14 * (12 * r) ≤ p ∧ p < 14 * (12 * r + i)) → E p = E0 p) →
      wX_shift_6 post (nI r) dx dy fp m (nI (12 * r + i)) th pa ox oy wd hg sh cx cy qx qy pl B T M N E ww wp := by
  intro m
  induction m with
  | zero => intro i T M E h; omega
  | succ m ih =>
    intro i T M E hm hi hI hT hE
    have e1 : (nI r).toNatClampNeg = r := zb_c (by omega)
    have e2 : (nI (12 * r + i)).toNatClampNeg = 12 * r + i := zb_c (by omega)
    unfold wX_shift_6
    rw [e1, e2, hB, zb_12, nI_add]
    refine ⟨zb_in hr (by decide), pk_le (12 * r + n) (12 * r + i) (fun h => ?_) (fun h => ⟨zb_in (by omega) (by decide), zb_in (by omega) (by decide), nm_e ⟨zb_in (by omega) (by decide), zb_in (by omega) (by decide), nm_e ?_⟩⟩)⟩
    · obtain rfl : i = n := by omega
      exact hp T M E hI (fun p hp => hT p (by omega)) (fun p hp => hE p (by omega))
    · obtain ⟨⟨c, p1, p2, p3, p4⟩, q⟩ := hw i (by omega)
      refine ⟨c + 1, sh_in (E0 := E) (by omega) p1 p3 ?_ (c + 1) 0 E (by omega) (by omega) (fun j hj => absurd hj (by omega)) (fun _ _ => rfl)⟩
      intro E' f1 f2
      refine ih (i + 1) _ _ _ (by omega) (by omega) (fun k hk => ?_) (fun p hp => ?_) (fun p hp => ?_)
      · by_cases c : k = i
        · subst c
          rw [pk_us, pk_us, p1, zb_c (by omega), (hT _ (by omega)).1, (hT _ (by omega)).2]
          exact ⟨rfl, rfl, fun j hj => by rw [f1 j hj, hE _ (by omega)]⟩
        · obtain ⟨s1, s2, s4⟩ := hI k (by omega)
          rw [pk_un (by omega), pk_un (by omega)]
          obtain ⟨⟨c', p1', p2', p3', p4'⟩, q'⟩ := hw k (by omega)
          refine ⟨s1, s2, fun j hj => ?_⟩
          have hj' := hj
          rw [p1', zb_c (by omega)] at hj'
          rw [f2 _ (by omega)]; exact s4 j hj
      · rw [pk_un (by omega), pk_un (by omega)]; exact hT p (by omega)
      · rw [f2 p (by omega)]; exact hE p (by omega)
theorem sh_spec {post : SX → Prop} {r : Nat} {dx dy : Int32} {P : Int → Int → Bool} (hr : r < 21) (h : rg_at B T M N E r 0 12 0 10 P) (hx : -300 ≤ dx.toInt ∧ dx.toInt ≤ 300) (hy : -300 ≤ dy.toInt ∧ dy.toInt ≤ 300)
    (hp : ∀ (T' M' E' : Nat → Int32), (∀ p, p ≠ r → rg_ag B T M N E B T' M' N E' p) → rg_at B T' M' N E' r (-400) 400 (-400) 400 (fun x y => P (x - dx.toInt) (y - dy.toInt)) → post (fp, th, pa, ox, oy, wd, hg, sh, cx, cy, qx, qy, pl, B, T', M', N, E', ww, wp)) :
    wpX_shift post (fp, th, pa, ox, oy, wd, hg, sh, cx, cy, qx, qy, pl, B, T, M, N, E, ww, wp) (nI r) dx dy := by
  obtain ⟨n, q1, q2, q3, q4⟩ := h
  unfold wpX_shift
  refine nm_r (zb_12 r) ⟨n + 1, ?_⟩
  refine sh_out (T0 := T) (M0 := M) (E0 := E) hr q1 q2 q3 ?_ (n + 1) 0 T M E (by omega) (by omega) (fun k hk => absurd hk (by omega)) (fun _ _ => ⟨rfl, rfl⟩) (fun _ _ => rfl)
  intro T' M' E' hI hT hE
  obtain ⟨w1, w2⟩ := sh_pure q3 hx hy hI
  exact hp T' M' E' (fun p hp => ⟨rfl, fun i hi => ⟨(hT i (by omega)).1, (hT i (by omega)).2, rfl⟩, fun i hi => hE i (by omega)⟩) ⟨n, q1, q2, w1, fun x y => by rw [w2, q4]⟩
end
end
section
/-! counting, pixels -/
def px_ct (p : Nat → Bool) : Nat → Nat
  | 0 => 0
  | n + 1 => px_ct p n + (if p n = true then 1 else 0)
def px_cs (P : Int → Int → Bool) : Nat := px_ct (fun i => P ((i % 12 : Nat) : Int) ((i / 12 : Nat) : Int)) 120
theorem px_cong {p q : Nat → Bool} : ∀ n, (∀ i, i < n → p i = q i) → px_ct p n = px_ct q n
  | 0, _ => rfl
  | n + 1, h => by
    show px_ct p n + (if p n = true then 1 else 0) = px_ct q n + (if q n = true then 1 else 0)
    rw [px_cong n (fun i hi => h i (by omega)), h n (by omega)]
theorem px_le {p : Nat → Bool} : ∀ n, px_ct p n ≤ n
  | 0 => Nat.le_refl 0
  | n + 1 => by
    show px_ct p n + (if p n = true then 1 else 0) ≤ n + 1
    have := px_le (p := p) n
    split <;> omega
theorem px_none {p : Nat → Bool} : ∀ n, (∀ i, i < n → p i = false) → px_ct p n = 0
  | 0, _ => rfl
  | n + 1, h => by
    show px_ct p n + (if p n = true then 1 else 0) = 0
    rw [px_none n (fun i hi => h i (by omega)), h n (by omega)]; rfl
theorem px_or {p q : Nat → Bool} : ∀ n, (∀ i, i < n → p i = true → q i = false) → px_ct (fun i => p i || q i) n = px_ct p n + px_ct q n
  | 0, _ => rfl
  | n + 1, h => by
    show px_ct (fun i => p i || q i) n + (if (p n || q n) = true then 1 else 0) = (px_ct p n + (if p n = true then 1 else 0)) + (px_ct q n + (if q n = true then 1 else 0))
    rw [px_or n (fun i hi => h i (by omega))]
    have a := h n (by omega)
    cases hp : p n <;> cases hq : q n
    · simp
    · simp; omega
    · simp; omega
    · rw [hp, hq] at a; exact absurd (a rfl) (by decide)
theorem px_diff {p q : Nat → Bool} : ∀ n, (∀ i, i < n → q i = true → p i = true) → px_ct (fun i => p i && !q i) n + px_ct q n = px_ct p n
  | 0, _ => rfl
  | n + 1, h => by
    show px_ct (fun i => p i && !q i) n + (if (p n && !q n) = true then 1 else 0) + (px_ct q n + (if q n = true then 1 else 0)) = px_ct p n + (if p n = true then 1 else 0)
    have b := px_diff n (fun i hi => h i (by omega))
    have a := h n (by omega)
    cases hp : p n <;> cases hq : q n
    · simp; omega
    · rw [hp, hq] at a; exact absurd (a rfl) (by decide)
    · simp; omega
    · simp; omega
theorem px_add {p : Nat → Bool} (a : Nat) : ∀ b, px_ct p (a + b) = px_ct p a + px_ct (fun j => p (a + j)) b
  | 0 => rfl
  | b + 1 => by
    show px_ct p (a + b) + (if p (a + b) = true then 1 else 0) = px_ct p a + (px_ct (fun j => p (a + j)) b + (if p (a + b) = true then 1 else 0))
    rw [px_add a b]; omega
theorem px_prod {p q : Nat → Bool} : ∀ n, px_ct (fun i => q (i / 12) && p (i % 12)) (12 * n) = px_ct p 12 * px_ct q n
  | 0 => rfl
  | n + 1 => by
    rw [show 12 * (n + 1) = 12 * n + 12 by omega, px_add, px_prod n]
    show _ = px_ct p 12 * (px_ct q n + (if q n = true then 1 else 0))
    have e : px_ct (fun j => q ((12 * n + j) / 12) && p ((12 * n + j) % 12)) 12 = px_ct (fun j => q n && p j) 12 :=
      px_cong 12 (fun i hi => by rw [show (12 * n + i) / 12 = n by omega, show (12 * n + i) % 12 = i by omega])
    rw [e, Nat.mul_add]
    cases q n
    · rw [show px_ct (fun j => false && p j) 12 = 0 from px_none 12 (fun _ _ => rfl)]; simp
    · rw [show px_ct (fun j => true && p j) 12 = px_ct p 12 from px_cong 12 (fun _ _ => rfl)]; simp
theorem px_iv {a b : Int} (h0 : 0 ≤ a) (h : a ≤ b) : ∀ n : Nat, (px_ct (fun i => decide (a ≤ (i : Int)) && decide ((i : Int) < b)) n : Int) = if (n : Int) ≤ a then 0 else if (n : Int) ≤ b then n - a else b - a
  | 0 => by rw [if_pos (by omega)]; rfl
  | n + 1 => by
    have e := px_iv h0 h n
    show ((px_ct (fun i => decide (a ≤ (i : Int)) && decide ((i : Int) < b)) n + (if (decide (a ≤ (n : Int)) && decide ((n : Int) < b)) = true then 1 else 0) : Nat) : Int) = _
    rw [Int.natCast_add, e]
    by_cases c1 : a ≤ (n : Int)
    · by_cases c2 : (n : Int) < b
      · rw [decide_eq_true c1, decide_eq_true c2]
        split <;> split <;> split <;> simp_all <;> omega
      · rw [decide_eq_true c1, decide_eq_false c2]
        split <;> split <;> split <;> simp_all <;> omega
    · rw [decide_eq_false c1]
      split <;> split <;> split <;> simp_all <;> omega
theorem px_iv' {a b : Int} {n : Nat} (h0 : 0 ≤ a) (h : a ≤ b) (hb : b ≤ n) : (px_ct (fun i => decide (a ≤ (i : Int)) && decide ((i : Int) < b)) n : Int) = b - a := by
  rw [px_iv h0 h n]
  split
  · omega
  · split <;> omega
theorem px_pair {f : Nat → Int} {c : Nat} (he : c % 2 = 0) (hs : rg_srt f (c + 2) 0 12) : (px_ct (fun x => rg_pI f (c + 2) (x : Int)) 12 : Int) = px_ct (fun x => rg_pI f c (x : Int)) 12 + (f (c + 1) - f c) := by
  have s1 := hs.2 c (c + 1) (by omega) (by omega)
  have b1 := hs.1 c (by omega)
  have b2 := hs.1 (c + 1) (by omega)
  have z : ∀ x : Int, f c ≤ x → rg_pI f c x = false := fun x hx => by
    rw [rg_pI_all c (fun k hk => by have := hs.2 k c hk (by omega); omega)]
    exact decide_eq_false (by omega)
  have e : px_ct (fun x => rg_pI f (c + 2) (x : Int)) 12 = px_ct (fun x => rg_pI f c (x : Int) || (decide (f c ≤ (x : Int)) && decide ((x : Int) < f (c + 1)))) 12 := by
    refine px_cong 12 (fun i _ => ?_)
    show ((rg_pI f c (i : Int) ^^ decide (f c ≤ (i : Int))) ^^ decide (f (c + 1) ≤ (i : Int))) = (rg_pI f c (i : Int) || (decide (f c ≤ (i : Int)) && decide ((i : Int) < f (c + 1))))
    by_cases k1 : f c ≤ (i : Int)
    · rw [z _ k1, decide_eq_true k1]
      by_cases k2 : (i : Int) < f (c + 1)
      · rw [decide_eq_true k2, decide_eq_false (show ¬ f (c + 1) ≤ (i : Int) by omega)]; rfl
      · rw [decide_eq_false k2, decide_eq_true (show f (c + 1) ≤ (i : Int) by omega)]; rfl
    · rw [decide_eq_false k1, decide_eq_false (show ¬ f (c + 1) ≤ (i : Int) by omega)]; simp
  rw [e, px_or 12 (fun i _ h => ?_), Int.natCast_add, px_iv' b1.1 (by omega) (by omega)]
  cases q : decide (f c ≤ (i : Int))
  · rfl
  · rw [z _ (of_decide_eq_true q)] at h; exact absurd h (by decide)
section
variable {fp : Int32} {th pa ox oy wd hg sh cx cy qx qy pl B T M N E ww wp : Nat → Int32}
theorem px_in {post : Int32 → Prop} {J} {x1 x2 : Int32} {q c : Nat} (hq : q < 252) (hN : N q = nI c) (hc : c ≤ 12) (hce : c % 2 = 0) (hs : rg_srt (rg_e E q) c 0 12) (hT : -1000 ≤ (T q).toInt) (hTM : (T q).toInt < (M q).toInt) (hM : (M q).toInt ≤ 1000)
    (hp : J (x2 + nI (px_ct (fun x => rg_pI (rg_e E q) c (x : Int)) 12 * ((M q).toInt - (T q).toInt).toNat)) (nI (q + 1))) :
    ∀ m k, c - 2 * k < m → 2 * k ≤ c → wX_pixels_28 post J x1 x2 (nI q) fp th pa ox oy wd hg sh cx cy qx qy pl B T M N E ww wp m (nI (px_ct (fun x => rg_pI (rg_e E q) (2 * k) (x : Int)) 12)) (nI (2 * k)) := by
  intro m
  induction m with
  | zero => intro k h; omega
  | succ m ih =>
    intro k hm hk
    have e1 : (nI q).toNatClampNeg = q := zb_c (by omega)
    have e2 : (nI (14 * q + 2 * k)).toNatClampNeg = 14 * q + 2 * k := zb_c (by omega)
    have e3 : (nI (14 * q + 2 * k + 1)).toNatClampNeg = 14 * q + 2 * k + 1 := zb_c (by omega)
    have e4 : M q - T q = nI ((M q).toInt - (T q).toInt).toNat := zb_nn (by rw [zb_sub (by omega) (by omega)]; omega) (by omega)
    simp only [wX_pixels_28, zb_14, e1, hN, nI_add, nI_1, e2, e3, e4, pk_mul, forall_eq, zb_s2]
    refine ⟨zb_in hq (by decide), pk_le c (2 * k) (fun h => ?_) (fun h => ⟨zb_in (by omega) (by decide), zb_in (by omega) (by decide), ?_⟩)⟩
    · obtain rfl : c = 2 * k := by omega
      exact ⟨zb_in hq (by decide), zb_in hq (by decide), hp⟩
    · have b0 := hs.1 (2 * k) h
      have b1 := hs.1 (2 * k + 1) (by omega)
      have b2 := hs.2 (2 * k) (2 * k + 1) (by omega) (by omega)
      have pp := px_pair (f := rg_e E q) (c := 2 * k) (by omega) ⟨fun j hj => hs.1 j (by omega), fun i j hi hj => hs.2 i j hi (by omega)⟩
      unfold rg_e at b0 b1 b2
      have e5 : E (14 * q + 2 * k + 1) - E (14 * q + 2 * k) = nI ((E (14 * q + 2 * k + 1)).toInt - (E (14 * q + 2 * k)).toInt).toNat := by
        have b1' : 0 ≤ (E (14 * q + 2 * k + 1)).toInt ∧ (E (14 * q + 2 * k + 1)).toInt ≤ 12 := b1
        have b2' : (E (14 * q + 2 * k)).toInt < (E (14 * q + 2 * k + 1)).toInt := b2
        exact zb_nn (by rw [zb_sub (by omega) (by omega)]; omega) (by omega)
      rw [e5, nI_add]
      have e6 : px_ct (fun x => rg_pI (rg_e E q) (2 * k) (x : Int)) 12 + ((E (14 * q + 2 * k + 1)).toInt - (E (14 * q + 2 * k)).toInt).toNat = px_ct (fun x => rg_pI (rg_e E q) (2 * (k + 1)) (x : Int)) 12 := by
        have pp' : (px_ct (fun x => rg_pI (rg_e E q) (2 * (k + 1)) (x : Int)) 12 : Int) = px_ct (fun x => rg_pI (rg_e E q) (2 * k) (x : Int)) 12 + ((E (14 * q + 2 * k + 1)).toInt - (E (14 * q + 2 * k)).toInt) := pp
        have b2' : (E (14 * q + 2 * k)).toInt < (E (14 * q + 2 * k + 1)).toInt := b2
        omega
      rw [e6]
      exact ih (k + 1) (by omega) (by omega)
theorem px_out {post : Int32 → Prop} {r n : Nat} (hr : r < 21) (hB : B r = nI n) (hn : n ≤ 10) (hw : rg_wf T M N E (12 * r) n 0 12 0 10)
    (hp : post (nI (px_cs (rg_mem T M N E (12 * r) n)))) :
    ∀ m k, n - k < m → k ≤ n → wX_pixels_7 post (nI r) fp th pa ox oy wd hg sh cx cy qx qy pl B T M N E ww wp m (nI (px_cs (rg_mem T M N E (12 * r) k))) (nI (12 * r + k)) := by
  intro m
  induction m with
  | zero => intro k h; omega
  | succ m ih =>
    intro k hm hk
    have e1 : (nI r).toNatClampNeg = r := zb_c (by omega)
    unfold wX_pixels_7
    rw [e1, hB, zb_12, nI_add]
    refine ⟨zb_in hr (by decide), pk_le (12 * r + n) (12 * r + k) (fun h => ?_) (fun h => ?_)⟩
    · obtain rfl : k = n := by omega
      exact hp
    · obtain ⟨⟨c, p1, p2, p3, p4⟩, t0, t1, t2, t3⟩ := hw k (by omega)
      refine ⟨c + 1, px_in (by omega) p1 p3 p2 p4 (by omega) t1 (by omega) ?_ (c + 1) 0 (by omega) (by omega)⟩
      rw [nI_add]
      have e : px_cs (rg_mem T M N E (12 * r) k) + px_ct (fun x => rg_pI (rg_e E (12 * r + k)) c (x : Int)) 12 * ((M (12 * r + k)).toInt - (T (12 * r + k)).toInt).toNat = px_cs (rg_mem T M N E (12 * r) (k + 1)) := by
        have d1 : px_cs (rg_mem T M N E (12 * r) (k + 1)) = px_cs (rg_mem T M N E (12 * r) k) + px_ct (fun i => (fun y : Nat => decide ((T (12 * r + k)).toInt ≤ (y : Int)) && decide ((y : Int) < (M (12 * r + k)).toInt)) (i / 12) && (fun x : Nat => rg_pI (rg_e E (12 * r + k)) c (x : Int)) (i % 12)) (12 * 10) := by
          unfold px_cs
          rw [← px_or 120 (fun i _ hm => ?_)]
          · refine px_cong 120 (fun i _ => ?_)
            show (rg_mem T M N E (12 * r) k _ _ || ((decide ((T (12 * r + k)).toInt ≤ _) && decide (_ < (M (12 * r + k)).toInt)) && rg_bp N E (12 * r + k) _)) = _
            rw [rg_bp_c p1 p3]
          · rw [cb_lo hw (by omega)] at hm
            rw [Bool.and_eq_true] at hm
            have := of_decide_eq_true hm.1
            dsimp only
            rw [decide_eq_false (by omega)]; rfl
        rw [d1, px_prod (p := fun x : Nat => rg_pI (rg_e E (12 * r + k)) c (x : Int)) (q := fun y : Nat => decide ((T (12 * r + k)).toInt ≤ (y : Int)) && decide ((y : Int) < (M (12 * r + k)).toInt)) 10]
        have d2 := px_iv' (n := 10) t0 (Int.le_of_lt t1) (by omega)
        have d3 : px_ct (fun y => decide ((T (12 * r + k)).toInt ≤ (y : Int)) && decide ((y : Int) < (M (12 * r + k)).toInt)) 10 = ((M (12 * r + k)).toInt - (T (12 * r + k)).toInt).toNat := by omega
        rw [d3]
      rw [e]
      exact ih (k + 1) (by omega) (by omega)
theorem px_spec {post : Int32 → Prop} {r : Nat} {P : Int → Int → Bool} (hr : r < 21) (h : rg_at B T M N E r 0 12 0 10 P) (hp : post (nI (px_cs P))) : wpX_pixels post (fp, th, pa, ox, oy, wd, hg, sh, cx, cy, qx, qy, pl, B, T, M, N, E, ww, wp) (nI r) := by
  obtain ⟨n, q1, q2, q3, q4⟩ := h
  have e : px_cs P = px_cs (rg_mem T M N E (12 * r) n) := px_cong 120 (fun i _ => (q4 _ _).symm)
  rw [e] at hp
  unfold wpX_pixels
  refine nm_r (zb_12 r) ⟨n + 1, ?_⟩
  have z : px_cs (rg_mem T M N E (12 * r) 0) = 0 := px_none 120 (fun i _ => rfl)
  have k : wX_pixels_7 post (nI r) fp th pa ox oy wd hg sh cx cy qx qy pl B T M N E ww wp (n + 1) (nI (px_cs (rg_mem T M N E (12 * r) 0))) (nI (12 * r + 0)) := px_out hr q1 q2 q3 hp (n + 1) 0 (by omega) (by omega)
  rw [z] at k
  exact k
end
end
section
/-! windows, pure; the reference's corners, covers, topmost, owner -/
def wn_cr (pa ox : Nat → Int32) : Nat → Nat → Int
  | 0, _ => 0
  | f + 1, w => if w = 0 then 0 else (ox w).toInt + wn_cr pa ox f (pa w).toNatClampNeg
def wn_ok (pa ox oy wd hg : Nat → Int32) : Prop := ∀ w, w < 6 → (∃ p, p < 6 ∧ pa w = nI p) ∧ (-15 ≤ (ox w).toInt ∧ (ox w).toInt ≤ 15) ∧ (-15 ≤ (oy w).toInt ∧ (oy w).toInt ≤ 15) ∧ (0 ≤ (wd w).toInt ∧ (wd w).toInt ≤ 12) ∧ (0 ≤ (hg w).toInt ∧ (hg w).toInt ≤ 12)
def wn_cov (pa ox oy wd hg sh : Nat → Int32) (w : Nat) (x y : Int) : Bool :=
  decide (¬ sh w = 0) && (decide (wn_cr pa ox 6 w ≤ x) && (decide (x < wn_cr pa ox 6 w + (wd w).toInt) && (decide (wn_cr pa oy 6 w ≤ y) && decide (y < wn_cr pa oy 6 w + (hg w).toInt))))
def wn_ch (th pa ox oy wd hg sh : Nat → Int32) (u c : Nat) (x y : Int) : Bool := decide (¬ th c = 0) && (decide (pa c = nI u) && wn_cov pa ox oy wd hg sh c x y)
def wn_up (lv : Nat → Int32) (o : Option Nat) (c : Nat) : Option Nat := match o with
  | none => some c
  | some b => if lv c ≤ lv b then some b else some c
def wn_tm (th pa ox oy wd hg sh lv : Nat → Int32) (u : Nat) (x y : Int) : Nat → Option Nat
  | 0 => none
  | k + 1 => if wn_ch th pa ox oy wd hg sh u (k + 1) x y = true then wn_up lv (wn_tm th pa ox oy wd hg sh lv u x y k) (k + 1) else wn_tm th pa ox oy wd hg sh lv u x y k
def wn_ow (th pa ox oy wd hg sh lv : Nat → Int32) (x y : Int) : Nat → Nat → Nat
  | 0, u => u
  | f + 1, u => match wn_tm th pa ox oy wd hg sh lv u x y 5 with
    | none => u
    | some c => wn_ow th pa ox oy wd hg sh lv x y f c
def wn_own (th pa ox oy wd hg sh lv : Nat → Int32) (x y : Int) : Nat := wn_ow th pa ox oy wd hg sh lv x y 6 0
def wn_enc (o : Option Nat) : Int32 := match o with
  | none => -1
  | some c => nI c
section
variable {th pa ox oy wd hg sh lv : Nat → Int32}
theorem wn_p {w : Nat} (h : wn_ok pa ox oy wd hg) (hw : w < 6) : (pa w).toNatClampNeg < 6 ∧ pa w = nI (pa w).toNatClampNeg := by
  obtain ⟨⟨p, hp, e⟩, _⟩ := h w hw
  rw [e, zb_c (by omega)]; exact ⟨hp, rfl⟩
theorem wn_crx (h : wn_ok pa ox oy wd hg) : ∀ (f w : Nat), w < 6 → -(15 * (f : Int)) ≤ wn_cr pa ox f w ∧ wn_cr pa ox f w ≤ 15 * (f : Int)
  | 0, w, _ => by show -(15 * ((0 : Nat) : Int)) ≤ 0 ∧ (0 : Int) ≤ _; omega
  | f + 1, w, hw => by
    have a := wn_crx h f _ (wn_p h hw).1
    have b := (h w hw).2.1
    show -(15 * ((f + 1 : Nat) : Int)) ≤ (if w = 0 then 0 else (ox w).toInt + wn_cr pa ox f (pa w).toNatClampNeg) ∧ (if w = 0 then 0 else (ox w).toInt + wn_cr pa ox f (pa w).toNatClampNeg) ≤ _
    split <;> omega
theorem wn_sw (h : wn_ok pa ox oy wd hg) : wn_ok pa oy ox hg wd := fun w hw => by
  obtain ⟨a, b, c, d, e⟩ := h w hw
  exact ⟨a, c, b, e, d⟩
theorem wn_cry (h : wn_ok pa ox oy wd hg) (f w : Nat) (hw : w < 6) : -(15 * (f : Int)) ≤ wn_cr pa oy f w ∧ wn_cr pa oy f w ≤ 15 * (f : Int) := wn_crx (wn_sw h) f w hw
theorem wn_chE {u c : Nat} {x y : Int} : wn_ch th pa ox oy wd hg sh u c x y = true ↔ (¬ th c = 0 ∧ pa c = nI u ∧ wn_cov pa ox oy wd hg sh c x y = true) := by
  unfold wn_ch
  rw [Bool.and_eq_true, Bool.and_eq_true, decide_eq_true_eq, decide_eq_true_eq]
theorem wn_tm_some {u c : Nat} {x y : Int} : ∀ k, wn_tm th pa ox oy wd hg sh lv u x y k = some c → 1 ≤ c ∧ c ≤ k ∧ wn_ch th pa ox oy wd hg sh u c x y = true ∧ ∀ c', 1 ≤ c' → c' ≤ k → wn_ch th pa ox oy wd hg sh u c' x y = true → lv c' ≤ lv c
  | 0, h => nomatch h
  | k + 1, h => by
    have h' : (if wn_ch th pa ox oy wd hg sh u (k + 1) x y = true then wn_up lv (wn_tm th pa ox oy wd hg sh lv u x y k) (k + 1) else wn_tm th pa ox oy wd hg sh lv u x y k) = some c := h
    by_cases q : wn_ch th pa ox oy wd hg sh u (k + 1) x y = true
    · rw [if_pos q] at h'
      cases e : wn_tm th pa ox oy wd hg sh lv u x y k with
      | none =>
        rw [e] at h'
        obtain rfl : k + 1 = c := Option.some.inj h'
        refine ⟨by omega, by omega, q, fun c' h1 h2 h3 => ?_⟩
        by_cases z : c' = k + 1
        · subst z; exact Int32.le_refl _
        · exfalso
          have : ∀ j, j ≤ k → wn_tm th pa ox oy wd hg sh lv u x y j = none → ∀ c', 1 ≤ c' → c' ≤ j → ¬ wn_ch th pa ox oy wd hg sh u c' x y = true := by
            intro j
            induction j with
            | zero => intro _ _ c' a b; omega
            | succ j ih =>
              intro hj e c' a b hc
              have e' : (if wn_ch th pa ox oy wd hg sh u (j + 1) x y = true then wn_up lv (wn_tm th pa ox oy wd hg sh lv u x y j) (j + 1) else wn_tm th pa ox oy wd hg sh lv u x y j) = none := e
              by_cases q' : wn_ch th pa ox oy wd hg sh u (j + 1) x y = true
              · rw [if_pos q'] at e'
                cases t : wn_tm th pa ox oy wd hg sh lv u x y j with
                | none => rw [t] at e'; exact nomatch e'
                | some b' =>
                  rw [t] at e'
                  have e'' : (if lv (j + 1) ≤ lv b' then some b' else some (j + 1)) = none := e'
                  split at e'' <;> exact nomatch e''
              · rw [if_neg q'] at e'
                by_cases z : c' = j + 1
                · subst z; exact q' hc
                · exact ih (by omega) e' c' a (by omega) hc
          exact this k (by omega) e c' h1 (by omega) h3
      | some b =>
        rw [e] at h'
        have h'' : (if lv (k + 1) ≤ lv b then some b else some (k + 1)) = some c := h'
        obtain ⟨a1, a2, a3, a4⟩ := wn_tm_some k e
        by_cases l : lv (k + 1) ≤ lv b
        · rw [if_pos l] at h''
          obtain rfl : b = c := Option.some.inj h''
          refine ⟨a1, by omega, a3, fun c' h1 h2 h3 => ?_⟩
          by_cases z : c' = k + 1
          · subst z; exact l
          · exact a4 c' h1 (by omega) h3
        · rw [if_neg l] at h''
          obtain rfl : k + 1 = c := Option.some.inj h''
          refine ⟨by omega, by omega, q, fun c' h1 h2 h3 => ?_⟩
          by_cases z : c' = k + 1
          · subst z; exact Int32.le_refl _
          · have := a4 c' h1 (by omega) h3
            rw [zb_le] at this l ⊢
            omega
    · rw [if_neg q] at h'
      obtain ⟨a1, a2, a3, a4⟩ := wn_tm_some k h'
      refine ⟨a1, by omega, a3, fun c' h1 h2 h3 => ?_⟩
      by_cases z : c' = k + 1
      · subst z; exact absurd h3 q
      · exact a4 c' h1 (by omega) h3
theorem wn_tm_none {u : Nat} {x y : Int} : ∀ k, wn_tm th pa ox oy wd hg sh lv u x y k = none → ∀ c, 1 ≤ c → c ≤ k → ¬ wn_ch th pa ox oy wd hg sh u c x y = true
  | 0, _, c, a, b => by omega
  | k + 1, e, c, a, b => by
    have e' : (if wn_ch th pa ox oy wd hg sh u (k + 1) x y = true then wn_up lv (wn_tm th pa ox oy wd hg sh lv u x y k) (k + 1) else wn_tm th pa ox oy wd hg sh lv u x y k) = none := e
    intro hc
    by_cases q' : wn_ch th pa ox oy wd hg sh u (k + 1) x y = true
    · rw [if_pos q'] at e'
      cases t : wn_tm th pa ox oy wd hg sh lv u x y k with
      | none => rw [t] at e'; exact nomatch e'
      | some b' =>
        rw [t] at e'
        have e'' : (if lv (k + 1) ≤ lv b' then some b' else some (k + 1)) = none := e'
        split at e'' <;> exact nomatch e''
    · rw [if_neg q'] at e'
      by_cases z : c = k + 1
      · subst z; exact q' hc
      · exact wn_tm_none k e' c a (by omega) hc
theorem wn_ow_n {f u : Nat} {x y : Int} (h : wn_tm th pa ox oy wd hg sh lv u x y 5 = none) : wn_ow th pa ox oy wd hg sh lv x y (f + 1) u = u := by
  unfold wn_ow; rw [h]
theorem wn_ow_s {f u c : Nat} {x y : Int} (h : wn_tm th pa ox oy wd hg sh lv u x y 5 = some c) : wn_ow th pa ox oy wd hg sh lv x y (f + 1) u = wn_ow th pa ox oy wd hg sh lv x y f c := by
  conv => lhs; unfold wn_ow
  rw [h]
theorem wn_ow_ind {S : Nat → Prop} {x y : Int} (hs : ∀ u c, S u → wn_tm th pa ox oy wd hg sh lv u x y 5 = some c → S c) : ∀ f u, S u → S (wn_ow th pa ox oy wd hg sh lv x y f u)
  | 0, u, h => h
  | f + 1, u, h => by
    cases e : wn_tm th pa ox oy wd hg sh lv u x y 5 with
    | none => rw [wn_ow_n e]; exact h
    | some c => rw [wn_ow_s e]; exact wn_ow_ind hs f c (hs u c h e)
theorem wn_own_6 {x y : Int} : wn_own th pa ox oy wd hg sh lv x y < 6 := by
  refine wn_ow_ind (S := fun u => u < 6) (fun u c _ e => ?_) 6 0 (by omega)
  have := wn_tm_some 5 e
  omega
end
section
variable {tp bt : Int32} {th pa ox oy wd hg sh lv cl wt wx wy wo wc : Nat → Int32}
theorem yc_X_l {post : Int32 → Prop} {tot : Int} (hok : wn_ok pa ox oy wd hg) (hp : ∀ r : Int32, r.toInt = tot → post r) :
    ∀ (f u : Nat) (s : Int32), u < 6 → f ≤ 6 → -(15 * (6 - (f : Int))) ≤ s.toInt → s.toInt ≤ 15 * (6 - (f : Int)) → s.toInt + wn_cr pa ox f u = tot → wY_cornerX_7 post tp bt th pa ox oy wd hg sh lv cl wt wx wy wo wc (f + 1) s (nI u) (nI (6 - f)) := by
  intro f
  induction f with
  | zero =>
    intro u s hu hf h1 h2 h3
    unfold wY_cornerX_7
    exact br_t (show (6 : Int32) ≤ nI (6 - 0) by decide) (hp s (by rw [← h3]; show _ = s.toInt + 0; omega))
  | succ f ih =>
    intro u s hu hf h1 h2 h3
    have e1 : (nI u).toNatClampNeg = u := zb_c (by omega)
    have b := (hok u hu).2.1
    have q := wn_p hok hu
    unfold wY_cornerX_7
    refine pk_le 6 (6 - (f + 1)) (fun h => absurd h (by omega)) (fun _ => pk_le u 0 (fun h => ?_) (fun h => ?_))
    · obtain rfl : u = 0 := by omega
      exact hp s (by rw [← h3]; show _ = s.toInt + 0; omega)
    · rw [e1, q.2, show nI (6 - (f + 1)) + 1 = nI (6 - f) by rw [nI_1]; exact congrArg nI (by omega)]
      refine ⟨zb_in hu (by decide), nm_e ⟨zb_in hu (by decide), nm_e (nm_e ?_)⟩⟩
      have a : (s + ox u).toInt = s.toInt + (ox u).toInt := zb_add (by omega) (by omega)
      refine ih _ _ q.1 (by omega) (by rw [a]; omega) (by rw [a]; omega) ?_
      rw [a, ← h3]
      show _ = s.toInt + (if u = 0 then 0 else (ox u).toInt + wn_cr pa ox f (pa u).toNatClampNeg)
      rw [if_neg (by omega)]; omega
theorem yc_X {post : Int32 → Prop} {w : Nat} (hw : w < 6) (hok : wn_ok pa ox oy wd hg) (hp : ∀ r : Int32, r.toInt = wn_cr pa ox 6 w → post r) : wpY_cornerX post (tp, bt, th, pa, ox, oy, wd, hg, sh, lv, cl, wt, wx, wy, wo, wc) (nI w) := by
  unfold wpY_cornerX
  exact ⟨7, yc_X_l hok hp 6 w 0 hw (by omega) (by decide) (by decide) (by rw [show (0 : Int32).toInt = 0 from by decide]; omega)⟩
theorem yc_Y_l {post : Int32 → Prop} {tot : Int} (hok : wn_ok pa ox oy wd hg) (hp : ∀ r : Int32, r.toInt = tot → post r) :
    ∀ (f u : Nat) (s : Int32), u < 6 → f ≤ 6 → -(15 * (6 - (f : Int))) ≤ s.toInt → s.toInt ≤ 15 * (6 - (f : Int)) → s.toInt + wn_cr pa oy f u = tot → wY_cornerY_7 post tp bt th pa ox oy wd hg sh lv cl wt wx wy wo wc (f + 1) s (nI u) (nI (6 - f)) := by
  intro f
  induction f with
  | zero =>
    intro u s hu hf h1 h2 h3
    unfold wY_cornerY_7
    exact br_t (show (6 : Int32) ≤ nI (6 - 0) by decide) (hp s (by rw [← h3]; show _ = s.toInt + 0; omega))
  | succ f ih =>
    intro u s hu hf h1 h2 h3
    have e1 : (nI u).toNatClampNeg = u := zb_c (by omega)
    have b := (hok u hu).2.2.1
    have q := wn_p hok hu
    unfold wY_cornerY_7
    refine pk_le 6 (6 - (f + 1)) (fun h => absurd h (by omega)) (fun _ => pk_le u 0 (fun h => ?_) (fun h => ?_))
    · obtain rfl : u = 0 := by omega
      exact hp s (by rw [← h3]; show _ = s.toInt + 0; omega)
    · rw [e1, q.2, show nI (6 - (f + 1)) + 1 = nI (6 - f) by rw [nI_1]; exact congrArg nI (by omega)]
      refine ⟨zb_in hu (by decide), nm_e ⟨zb_in hu (by decide), nm_e (nm_e ?_)⟩⟩
      have a : (s + oy u).toInt = s.toInt + (oy u).toInt := zb_add (by omega) (by omega)
      refine ih _ _ q.1 (by omega) (by rw [a]; omega) (by rw [a]; omega) ?_
      rw [a, ← h3]
      show _ = s.toInt + (if u = 0 then 0 else (oy u).toInt + wn_cr pa oy f (pa u).toNatClampNeg)
      rw [if_neg (by omega)]; omega
theorem yc_Y {post : Int32 → Prop} {w : Nat} (hw : w < 6) (hok : wn_ok pa ox oy wd hg) (hp : ∀ r : Int32, r.toInt = wn_cr pa oy 6 w → post r) : wpY_cornerY post (tp, bt, th, pa, ox, oy, wd, hg, sh, lv, cl, wt, wx, wy, wo, wc) (nI w) := by
  unfold wpY_cornerY
  exact ⟨7, yc_Y_l hok hp 6 w 0 hw (by omega) (by decide) (by decide) (by rw [show (0 : Int32).toInt = 0 from by decide]; omega)⟩
theorem yc_covers {post : Int32 → Prop} {w : Nat} {x y : Int32} (hw : w < 6) (hok : wn_ok pa ox oy wd hg) (hp : post (if wn_cov pa ox oy wd hg sh w x.toInt y.toInt = true then 1 else 0)) : wpY_covers post (tp, bt, th, pa, ox, oy, wd, hg, sh, lv, cl, wt, wx, wy, wo, wc) (nI w) x y := by
  have e1 : (nI w).toNatClampNeg = w := zb_c (by omega)
  have b := hok w hw
  have cx := wn_crx hok 6 w hw
  have cy := wn_cry hok 6 w hw
  unfold wpY_covers
  refine yc_X hw hok (fun r hr => yc_Y hw hok (fun q hq => ?_))
  rw [e1]
  have a1 : (r + wd w).toInt = wn_cr pa ox 6 w + (wd w).toInt := by rw [zb_add (by omega) (by omega), hr]
  have a2 : (q + hg w).toInt = wn_cr pa oy 6 w + (hg w).toInt := by rw [zb_add (by omega) (by omega), hq]
  have F : wn_cov pa ox oy wd hg sh w x.toInt y.toInt = false → post 0 := fun h => by rw [h] at hp; exact hp
  refine ⟨zb_in hw (by decide), fun c0 => F ?_, fun c0 => zb_slt rfl hr (fun c1 => F ?_) (fun c1 => ⟨zb_in hw (by decide), zb_sel a1 rfl (fun c2 => F ?_) (fun c2 => zb_slt rfl hq (fun c3 => F ?_) (fun c3 => ⟨zb_in hw (by decide), zb_sel a2 rfl (fun c4 => F ?_) (fun c4 => ?_)⟩))⟩)⟩
  · unfold wn_cov; rw [decide_eq_false (p := ¬ sh w = 0) (fun h => h c0)]; rfl
  · unfold wn_cov; rw [decide_eq_false (p := wn_cr pa ox 6 w ≤ x.toInt) (by omega)]; simp
  · unfold wn_cov; rw [decide_eq_false (p := x.toInt < _) (by omega)]; simp
  · unfold wn_cov; rw [decide_eq_false (p := wn_cr pa oy 6 w ≤ y.toInt) (by omega)]; simp
  · unfold wn_cov; rw [decide_eq_false (p := y.toInt < _) (by omega)]; simp
  · have h : wn_cov pa ox oy wd hg sh w x.toInt y.toInt = true := by
      unfold wn_cov
      rw [decide_eq_true (p := ¬ sh w = 0) c0, decide_eq_true (p := wn_cr pa ox 6 w ≤ x.toInt) c1, decide_eq_true (p := x.toInt < _) c2, decide_eq_true (p := wn_cr pa oy 6 w ≤ y.toInt) c3, decide_eq_true (p := y.toInt < _) c4]; rfl
    rw [h] at hp; exact hp
theorem yc_top_l {post : Int32 → Prop} {u : Nat} {x y : Int32} (hu : u < 6) (hok : wn_ok pa ox oy wd hg) (hp : post (wn_enc (wn_tm th pa ox oy wd hg sh lv u x.toInt y.toInt 5))) :
    ∀ m k, 5 - k < m → k ≤ 5 → wY_topmost_6 post (nI u) x y tp bt th pa ox oy wd hg sh lv cl wt wx wy wo wc m (wn_enc (wn_tm th pa ox oy wd hg sh lv u x.toInt y.toInt k)) (nI (k + 1)) := by
  intro m
  induction m with
  | zero => intro k h; omega
  | succ m ih =>
    intro k hm hk
    have e1 : (nI (k + 1)).toNatClampNeg = k + 1 := zb_c (by omega)
    unfold wY_topmost_6
    refine pk_le 6 (k + 1) (fun h => ?_) (fun h => ?_)
    · obtain rfl : k = 5 := by omega
      exact hp
    · have nx : ∀ z, wn_tm th pa ox oy wd hg sh lv u x.toInt y.toInt (k + 1) = z → ∀ v : Int32, v = nI (k + 1) + 1 → wY_topmost_6 post (nI u) x y tp bt th pa ox oy wd hg sh lv cl wt wx wy wo wc m (wn_enc z) v := by
        intro z hz v hv
        rw [hv, nI_1, ← hz]
        exact ih (k + 1) (by omega) (by omega)
      have no : ¬ wn_ch th pa ox oy wd hg sh u (k + 1) x.toInt y.toInt = true → wn_tm th pa ox oy wd hg sh lv u x.toInt y.toInt (k + 1) = wn_tm th pa ox oy wd hg sh lv u x.toInt y.toInt k := fun h => if_neg h
      have ye : wn_ch th pa ox oy wd hg sh u (k + 1) x.toInt y.toInt = true → wn_tm th pa ox oy wd hg sh lv u x.toInt y.toInt (k + 1) = wn_up lv (wn_tm th pa ox oy wd hg sh lv u x.toInt y.toInt k) (k + 1) := fun h => if_pos h
      rw [e1]
      refine ⟨zb_in (by omega) (by decide), fun c0 => nx _ (no (fun h => (wn_chE.mp h).1 c0)), fun c0 => ⟨zb_in (by omega) (by decide), fun c1 => ?_, fun c1 => nx _ (no (fun h => c1 (wn_chE.mp h).2.1))⟩⟩
      refine yc_covers (by omega) hok ?_
      by_cases c2 : wn_cov pa ox oy wd hg sh (k + 1) x.toInt y.toInt = true
      · rw [if_pos c2]
        have hc := ye (wn_chE.mpr ⟨c0, c1, c2⟩)
        refine br_f (by decide) ?_
        cases t : wn_tm th pa ox oy wd hg sh lv u x.toInt y.toInt k with
        | none =>
          rw [t] at hc
          exact br_t (show (-1 : Int32) < 0 by decide) (nx (some (k + 1)) hc)
        | some b =>
          rw [t] at hc
          have hb := wn_tm_some k t
          have e2 : (wn_enc (some b)).toNatClampNeg = b := zb_c (by omega)
          rw [e2]
          refine br_f (nI_pos (n := b) (by omega)) ⟨zb_in (by omega) (by decide), zb_in (n := b) (by omega) (by decide), fun c3 => nx (some b) ?_, fun c3 => nx (some (k + 1)) ?_⟩
          · rw [hc]; exact if_pos c3
          · rw [hc]; exact if_neg c3
      · rw [if_neg c2]
        exact br_t rfl (nx _ (no (fun h => c2 (wn_chE.mp h).2.2)))
theorem yc_top {post : Int32 → Prop} {u : Nat} {x y : Int32} (hu : u < 6) (hok : wn_ok pa ox oy wd hg) (hp : post (wn_enc (wn_tm th pa ox oy wd hg sh lv u x.toInt y.toInt 5))) : wpY_topmost post (tp, bt, th, pa, ox, oy, wd, hg, sh, lv, cl, wt, wx, wy, wo, wc) (nI u) x y := by
  unfold wpY_topmost
  exact ⟨6, yc_top_l hu hok hp 6 0 (by omega) (by omega)⟩
theorem yc_own_l {post : Int32 → Prop} {x y : Int32} {t : Nat} (hok : wn_ok pa ox oy wd hg) (hp : post (nI t)) :
    ∀ f u, u < 6 → f ≤ 6 → wn_ow th pa ox oy wd hg sh lv x.toInt y.toInt f u = t → wY_owner_27 post x y tp bt th pa ox oy wd hg sh lv cl wt wx wy wo wc (f + 1) (nI u) (nI (6 - f)) := by
  intro f
  induction f with
  | zero =>
    intro u hu hf h
    unfold wY_owner_27
    obtain rfl : u = t := h
    exact br_t (show (6 : Int32) ≤ nI (6 - 0) by decide) hp
  | succ f ih =>
    intro u hu hf h
    unfold wY_owner_27
    refine pk_le 6 (6 - (f + 1)) (fun h => absurd h (by omega)) (fun _ => yc_top hu hok ?_)
    cases e : wn_tm th pa ox oy wd hg sh lv u x.toInt y.toInt 5 with
    | none =>
      rw [wn_ow_n e] at h
      subst h
      exact br_f (show ¬ (0 : Int32) ≤ -1 by decide) hp
    | some c =>
      have hc := wn_tm_some 5 e
      rw [wn_ow_s e] at h
      refine br_t (nI_pos' (n := c) (by omega)) (nm_r (e' := nI (6 - f)) (by rw [nI_1]; exact congrArg nI (by omega)) ?_)
      exact ih c (by omega) (by omega) h
theorem yc_owner {post : Int32 → Prop} {x y : Nat} (hx : x < 12) (hy : y < 10) (hok : wn_ok pa ox oy wd hg) (hp : post (nI (wn_own th pa ox oy wd hg sh lv (x : Int) (y : Int)))) : wpY_owner post (tp, bt, th, pa, ox, oy, wd, hg, sh, lv, cl, wt, wx, wy, wo, wc) (nI x) (nI y) := by
  unfold wpY_owner
  refine br_f (nI_pos (by omega)) (br_f (nI_nlt (a := 11) (by omega) (by omega)) (br_f (nI_pos (by omega)) (br_t (nI_le (b := 9) (by omega) (by omega)) ⟨7, ?_⟩)))
  refine yc_own_l hok hp 6 0 (by omega) (by omega) ?_
  rw [zb_n (by omega), zb_n (by omega)]; rfl
end
end
section
/-! enter, leave, nextChild -/
def wn_scr (x y : Int) : Bool := (decide (0 ≤ x) && decide (x < 12)) && (decide (0 ≤ y) && decide (y < 10))
section
variable {fp : Int32} {th pa ox oy wd hg sh cx cy qx qy pl B T M N E ww wp : Nat → Int32}
theorem en_rect {post : SX → Prop} {r : Nat} (hr : r < 21)
    (hp : ∀ (B' T' M' N' E' : Nat → Int32), (∀ p, p ≠ r → rg_ag B T M N E B' T' M' N' E' p) → rg_at B' T' M' N' E' r 0 12 0 10 wn_scr → post (fp, th, pa, ox, oy, wd, hg, sh, cx, cy, qx, qy, pl, B', T', M', N', E', ww, wp)) :
    wpX_rectangle post (fp, th, pa, ox, oy, wd, hg, sh, cx, cy, qx, qy, pl, B, T, M, N, E, ww, wp) (nI r) 0 0 12 10 := by
  refine rc_spec (a0 := 0) (a1 := 12) (b0 := 0) (b1 := 10) hr (by decide) (by decide) (by decide) (by decide) ?_
  intro B' T' M' N' E' h1 h2
  exact hp B' T' M' N' E' h1 (rg_at_P h2 (fun x y => by
    show ((decide ((0 : Int32).toInt ≤ x) && decide (x < (12 : Int32).toInt)) && (decide ((0 : Int32).toInt ≤ y) && decide (y < (10 : Int32).toInt))) = _
    rw [show (0 : Int32).toInt = 0 from by decide, show (12 : Int32).toInt = 12 from by decide, show (10 : Int32).toInt = 10 from by decide]; rfl))
theorem en_root {post : SX → Prop}
    (hp : ∀ (B' T' M' N' E' : Nat → Int32), (∀ p, p ≠ 12 → rg_ag B T M N E B' T' M' N' E' p) → rg_at B' T' M' N' E' 12 0 12 0 10 wn_scr → post (fp, th, pa, ox, oy, wd, hg, sh, cx, cy, qx, qy, pl, B', T', M', N', E', upd ww 0 0, upd wp 0 fp)) :
    wpX_enter post (fp, th, pa, ox, oy, wd, hg, sh, cx, cy, qx, qy, pl, B, T, M, N, E, ww, wp) 0 0 := by
  unfold wpX_enter
  refine ⟨zb_in (n := 0) (by omega) (by decide), nm_e ⟨zb_in (n := 0) (by omega) (by decide), nm_e (br_t rfl ?_)⟩⟩
  exact en_rect (r := 12) (by omega) hp
theorem en_child {post : SX → Prop} {d c u : Nat} {X Y : Int} {A : Int → Int → Bool} (hd : d < 6) (hc : c < 6) (hc0 : c ≠ 0) (hu : u < 6) (huc : u ≠ c) (hpa : pa c = nI u)
    (hX : (cx u + ox c).toInt = X) (hY : (cy u + oy c).toInt = Y) (bX : -200 ≤ X ∧ X ≤ 200) (bY : -200 ≤ Y ∧ Y ≤ 200) (bw : 0 ≤ (wd c).toInt ∧ (wd c).toInt ≤ 12) (bh : 0 ≤ (hg c).toInt ∧ (hg c).toInt ≤ 12)
    (hA : rg_at B T M N E (12 + u) 0 12 0 10 A)
    (hp : ∀ (B' T' M' N' E' : Nat → Int32), (∀ p, p ≠ 19 → p ≠ 12 + c → rg_ag B T M N E B' T' M' N' E' p) → rg_at B' T' M' N' E' (12 + c) 0 12 0 10 (fun x y => A x y && (decide (¬ sh c = 0) && (decide (X ≤ x) && (decide (x < X + (wd c).toInt) && (decide (Y ≤ y) && decide (y < Y + (hg c).toInt)))))) → post (fp, th, pa, ox, oy, wd, hg, sh, upd cx c (cx u + ox c), upd cy c (cy u + oy c), qx, qy, pl, B', T', M', N', E', upd ww d (nI c), upd wp d fp)) :
    wpX_enter post (fp, th, pa, ox, oy, wd, hg, sh, cx, cy, qx, qy, pl, B, T, M, N, E, ww, wp) (nI d) (nI c) := by
  have e1 : (nI d).toNatClampNeg = d := zb_c (by omega)
  have e2 : (nI c).toNatClampNeg = c := zb_c (by omega)
  have e3 : (nI u).toNatClampNeg = u := zb_c (by omega)
  have e4 : (nI (12 + c)).toNatClampNeg = 12 + c := zb_c (by omega)
  have e5 : upd cx c (cx u + ox c) c = cx u + ox c := pk_us
  have e6 : upd cy c (cy u + oy c) c = cy u + oy c := pk_us
  have i1 : vp_in (nI c) 6 := zb_in hc (by decide)
  have i2 : vp_in (nI u) 6 := zb_in hu (by decide)
  have i3 : vp_in (nI d) 6 := zb_in hd (by decide)
  simp only [wpX_enter, e1, e2, hpa, e3, forall_eq, zb_12p, e4, e5, e6]
  refine ⟨i3, i3, br_f (nI_ne0 (by omega) (by omega)) ⟨i1, i2, i1, i1, i2, i1, i1, i1, fun c0 => ⟨zb_in (by omega) (by decide), ?_⟩, fun c0 => ⟨i1, i1, i1, i1, i1, i1, ?_⟩⟩⟩
  · refine hp _ _ _ _ _ (fun p _ h => ⟨pk_un h, fun _ _ => ⟨rfl, rfl, rfl⟩, fun _ _ => rfl⟩) (rg_at_P (rg_at_0 _ _ _ _ pk_us) (fun x y => ?_))
    rw [decide_eq_false (p := ¬ sh c = 0) (fun h => h c0)]; simp
  · have w1 : (cx u + ox c + wd c).toInt = X + (wd c).toInt := by rw [zb_add (by omega) (by omega), hX]
    have w2 : (cy u + oy c + hg c).toInt = Y + (hg c).toInt := by rw [zb_add (by omega) (by omega), hY]
    refine rc_spec (r := 19) (a0 := -400) (a1 := 400) (b0 := -400) (b1 := 400) (by omega) (by omega) (by omega) (by omega) (by omega) ?_
    intro B1 T1 M1 N1 E1 f1 f2
    try dsimp only
    refine cb_spec (d := 12 + c) (a := 12 + u) (b := 19) (com := true) (by omega) (by omega) (by omega) (by omega) (by omega) (rg_at_ag (f1 _ (by omega)) hA) f2 ?_
    intro B2 T2 M2 N2 E2 g1 g2
    try dsimp only
    refine hp B2 T2 M2 N2 E2 (fun p h1 h2 => rg_ag_tr (f1 p h1) (g1 p h2)) (rg_at_P g2 (fun x y => ?_))
    try dsimp only
    rw [hX, hY, w1, w2, decide_eq_true (p := ¬ sh c = 0) c0]
    simp [Bool.and_assoc]
theorem le_spec {post : SX → Prop} {w : Nat} {DX DY : Int} {R A K : Int → Int → Bool} (hw : w < 6) (hDX : (cx w - qx w).toInt = DX) (hDY : (cy w - qy w).toInt = DY) (bX : -300 ≤ DX ∧ DX ≤ 300) (bY : -300 ≤ DY ∧ DY ≤ 300)
    (hR : rg_at B T M N E 18 0 12 0 10 R) (hA : rg_at B T M N E (12 + w) 0 12 0 10 A) (hK : rg_at B T M N E (6 + w) 0 12 0 10 K)
    (hp : ∀ (B' T' M' N' E' : Nat → Int32), (∀ p, p ≠ w → p ≠ 18 → p ≠ 19 → p ≠ 6 + w → rg_ag B T M N E B' T' M' N' E' p) → rg_at B' T' M' N' E' w 0 12 0 10 (fun x y => R x y && A x y) → rg_at B' T' M' N' E' 18 0 12 0 10 (fun x y => R x y && !A x y) → rg_at B' T' M' N' E' (6 + w) 0 12 0 10 (fun x y => (R x y && A x y) && K (x - DX) (y - DY)) → post (fp, th, pa, ox, oy, wd, hg, sh, cx, cy, qx, qy, pl, B', T', M', N', E', ww, wp)) :
    wpX_leave post (fp, th, pa, ox, oy, wd, hg, sh, cx, cy, qx, qy, pl, B, T, M, N, E, ww, wp) (nI w) := by
  have e1 : (nI w).toNatClampNeg = w := zb_c (by omega)
  have i1 : vp_in (nI w) 6 := zb_in hw (by decide)
  have wide : ∀ {B T M N E : Nat → Int32} {r : Nat} {P : Int → Int → Bool}, rg_at B T M N E r 0 12 0 10 P → rg_at B T M N E r (-400) 400 (-400) 400 P := fun h => rg_at_box h (by omega) (by omega) (by omega) (by omega)
  simp only [wpX_leave, zb_12p, zb_6p, e1]
  refine cb_spec (d := w) (a := 18) (b := 12 + w) (com := true) (by omega) (by omega) (by omega) (by omega) (by omega) hR (wide hA) ?_
  intro B1 T1 M1 N1 E1 f1 p1
  try dsimp only
  refine cb_spec (d := 19) (a := 18) (b := 12 + w) (com := false) (by omega) (by omega) (by omega) (by omega) (by omega) (rg_at_ag (f1 _ (by omega)) hR) (rg_at_ag (f1 _ (by omega)) (wide hA)) ?_
  intro B2 T2 M2 N2 E2 f2 p2
  try dsimp only
  refine cp_spec (a := 19) (b := 18) (by omega) (by omega) (by omega) p2 ?_
  intro B3 T3 M3 N3 E3 f3 p3
  try dsimp only
  refine ⟨i1, i1, i1, i1, ?_⟩
  refine sh_spec (r := 6 + w) (by omega) (rg_at_ag (f3 _ (by omega)) (rg_at_ag (f2 _ (by omega)) (rg_at_ag (f1 _ (by omega)) hK))) (by omega) (by omega) ?_
  intro T4 M4 E4 f4 p4
  try dsimp only
  refine cb_spec (d := 19) (a := w) (b := 6 + w) (com := true) (by omega) (by omega) (by omega) (by omega) (by omega) (rg_at_ag (f4 _ (by omega)) (rg_at_ag (f3 _ (by omega)) (rg_at_ag (f2 _ (by omega)) p1))) p4 ?_
  intro B5 T5 M5 N5 E5 f5 p5
  try dsimp only
  refine cp_spec (a := 19) (b := 6 + w) (by omega) (by omega) (by omega) p5 ?_
  intro B6 T6 M6 N6 E6 f6 p6
  try dsimp only
  refine hp B6 T6 M6 N6 E6 (fun p h1 h2 h3 h4 => rg_ag_tr (f1 p h1) (rg_ag_tr (f2 p h3) (rg_ag_tr (f3 p h2) (rg_ag_tr (f4 p h4) (rg_ag_tr (f5 p h3) (f6 p h4)))))) ?_ ?_ ?_
  · refine rg_at_P (rg_at_ag (f6 _ (by omega)) (rg_at_ag (f5 _ (by omega)) (rg_at_ag (f4 _ (by omega)) (rg_at_ag (f3 _ (by omega)) (rg_at_ag (f2 _ (by omega)) p1))))) (fun x y => ?_)
    try dsimp only
    cases A x y <;> simp
  · refine rg_at_P (rg_at_ag (f6 _ (by omega)) (rg_at_ag (f5 _ (by omega)) (rg_at_ag (f4 _ (by omega)) p3))) (fun x y => ?_)
    try dsimp only
    cases A x y <;> simp
  · refine rg_at_P p6 (fun x y => ?_)
    try dsimp only
    rw [hDX, hDY]
    cases A x y <;> cases K (x - DX) (y - DY) <;> simp
theorem nc_l {post : Int32 → SX → Prop} {d u q np : Nat} (hd : d < 6) (hq : q ≤ np) (hnp : np ≤ 5) (hw : ww d = nI u) (hpl : ∀ i, i < np → ∃ v, 1 ≤ v ∧ v < 6 ∧ pl i = nI v)
    (hf : ∀ k, k < q → pa (pl k).toNatClampNeg = nI u → (∀ j, k < j → j < q → pa (pl j).toNatClampNeg ≠ nI u) → post (pl k) (fp, th, pa, ox, oy, wd, hg, sh, cx, cy, qx, qy, pl, B, T, M, N, E, ww, upd wp d (nI k)))
    (hn : (∀ j, j < q → pa (pl j).toNatClampNeg ≠ nI u) → post (-1) (fp, th, pa, ox, oy, wd, hg, sh, cx, cy, qx, qy, pl, B, T, M, N, E, ww, upd wp d 0)) :
    ∀ k, k ≤ q → (∀ j, k ≤ j → j < q → pa (pl j).toNatClampNeg ≠ nI u) → wX_nextChild_9 post (nI d) fp th pa ox oy wd hg sh cx cy qx qy pl B T M N E ww wp (k + 1) (nI k - 1) := by
  intro k
  have e1 : (nI d).toNatClampNeg = d := zb_c (by omega)
  have i1 : vp_in (nI d) 6 := zb_in hd (by decide)
  induction k with
  | zero =>
    intro _ h
    unfold wX_nextChild_9
    rw [e1]
    exact br_t (show nI 0 - 1 < 0 by decide) ⟨i1, nm_e (hn (fun j hj => h j (by omega) hj))⟩
  | succ k ih =>
    intro hk h
    obtain ⟨v, v1, v2, v3⟩ := hpl k (by omega)
    have e2 : (nI k).toNatClampNeg = k := zb_c (by omega)
    have i2 : vp_in (pl k) 6 := by rw [v3]; exact zb_in v2 (by decide)
    unfold wX_nextChild_9
    rw [nI_pred, e1, e2, hw]
    refine br_f (nI_pos (by omega)) ⟨zb_in (by omega) (by decide), i2, i1, fun c => ⟨i1, nm_e ⟨zb_in (by omega) (by decide), ?_⟩⟩, fun c => nm_r (e' := nI k - 1) ?_ ?_⟩
    · exact hf k (by omega) c (fun j hj hj' => h j (by omega) hj')
    · rw [Int32.sub_eq_add_neg]
    · refine ih (by omega) (fun j hj hj' => ?_)
      by_cases e : j = k
      · subst e; exact c
      · exact h j (by omega) hj'
theorem nc_spec {post : Int32 → SX → Prop} {d u q np : Nat} (hd : d < 6) (hq : q ≤ np) (hnp : np ≤ 5) (hw : ww d = nI u) (hwp : wp d = nI q) (hpl : ∀ i, i < np → ∃ v, 1 ≤ v ∧ v < 6 ∧ pl i = nI v)
    (hf : ∀ k, k < q → pa (pl k).toNatClampNeg = nI u → (∀ j, k < j → j < q → pa (pl j).toNatClampNeg ≠ nI u) → post (pl k) (fp, th, pa, ox, oy, wd, hg, sh, cx, cy, qx, qy, pl, B, T, M, N, E, ww, upd wp d (nI k)))
    (hn : (∀ j, j < q → pa (pl j).toNatClampNeg ≠ nI u) → post (-1) (fp, th, pa, ox, oy, wd, hg, sh, cx, cy, qx, qy, pl, B, T, M, N, E, ww, upd wp d 0)) : wpX_nextChild post (fp, th, pa, ox, oy, wd, hg, sh, cx, cy, qx, qy, pl, B, T, M, N, E, ww, wp) (nI d) := by
  have e1 : (nI d).toNatClampNeg = d := zb_c (by omega)
  unfold wpX_nextChild
  dsimp only
  rw [e1, hwp]
  exact ⟨zb_in hd (by decide), nm_e ⟨q + 1, nc_l hd hq hnp hw hpl hf hn q (by omega) (fun j a b => absurd a (by omega))⟩⟩
end
end
section
/-! the walk over the windows, pure -/
def ar_s6 (f : Nat → Nat) : Nat := f 0 + f 1 + f 2 + f 3 + f 4 + f 5
theorem ar_s6u {f : Nat → Nat} {c a : Nat} (hc : c < 6) : ar_s6 (fun w => if w = c then a else f w) + f c = ar_s6 f + a := by
  unfold ar_s6
  have h : c = 0 ∨ c = 1 ∨ c = 2 ∨ c = 3 ∨ c = 4 ∨ c = 5 := by omega
  rcases h with rfl | rfl | rfl | rfl | rfl | rfl <;> simp <;> omega
theorem ar_s6le {f : Nat → Nat} {m : Nat} (h : ∀ w, f w ≤ m) : ar_s6 f ≤ 6 * m := by
  have a0 := h 0; have a1 := h 1; have a2 := h 2; have a3 := h 3; have a4 := h 4; have a5 := h 5
  unfold ar_s6; omega
def pi_ok (th pl : Nat → Int32) (np : Nat) : Prop := np ≤ 5 ∧ (∀ i, i < np → ∃ v, 1 ≤ v ∧ v < 6 ∧ pl i = nI v ∧ ¬ th v = 0) ∧ (∀ i j, i < j → j < np → pl i ≠ pl j) ∧ (∀ v, 1 ≤ v → v < 6 → ¬ th v = 0 → ∃ i, i < np ∧ pl i = nI v)
def ar_tree (th pa pl : Nat → Int32) (np D n : Nat) (st s q : Nat → Nat) : Prop :=
  ((∀ w, st w ≤ 2) ∧ ar_s6 (fun w => if st w = 1 then 1 else 0) = D ∧ ar_s6 st = n + 1) ∧
  ((∀ i, i < D → s i < 6 ∧ st (s i) = 1 ∧ q i ≤ np) ∧ (∀ i j, i < j → j < D → s i ≠ s j)) ∧
  ((0 < D → s 0 = 0) ∧ (D = 0 → st 0 = 2)) ∧
  (∀ i, i + 1 < D → ¬ th (s (i + 1)) = 0 ∧ 1 ≤ s (i + 1) ∧ q i < np ∧ pl (q i) = nI (s (i + 1)) ∧ pa (s (i + 1)) = nI (s i)) ∧
  (∀ j u, j < np → u < 6 → pa (pl j).toNatClampNeg = nI u → (st u = 0 → st (pl j).toNatClampNeg = 0) ∧ (st u = 2 → st (pl j).toNatClampNeg = 2) ∧ ∀ i, i < D → u = s i → (j < q i → st (pl j).toNatClampNeg = 0) ∧ (q i < j → st (pl j).toNatClampNeg = 2) ∧ (j = q i → i + 1 = D → st (pl j).toNatClampNeg = 2))
theorem ar_inj {a b : Nat} (h : nI a = nI b) (ha : a < 6) (hb : b < 6) : a = b := (nI_eq (by omega) (by omega)).mp h
section
variable {th pa pl : Nat → Int32} {np D n : Nat} {st s q : Nat → Nat}
theorem ar_lt (h : ar_tree th pa pl np (D + 1) n st s q) : n ≤ 10 ∧ D + 1 ≤ 6 := by
  obtain ⟨⟨h1, h2, h3⟩, ⟨h4, h5⟩, h6, h7, h8⟩ := h
  have a := h4 D (by omega)
  have b := ar_s6u (f := st) (a := 2) a.1
  have c := ar_s6le (f := fun w => if w = s D then 2 else st w) (m := 2) (fun w => by have := h1 w; split <;> omega)
  have d := ar_s6le (f := fun w => if st w = 1 then 1 else 0) (m := 1) (fun w => by split <;> omega)
  omega
theorem ar_enter {k c : Nat} (hpi : pi_ok th pl np) (h : ar_tree th pa pl np (D + 1) n st s q) (hk : k < q D) (hc : pl k = nI c) (hc6 : c < 6) (hpc : pa c = nI (s D))
    (hno : ∀ j, k < j → j < q D → pa (pl j).toNatClampNeg ≠ nI (s D)) :
    st c = 0 ∧ ar_tree th pa pl np (D + 2) (n + 1) (fun w => if w = c then 1 else st w) (fun i => if i = D + 1 then c else s i) (fun i => if i = D + 1 then np else if i = D then k else q i) := by
  obtain ⟨⟨h1, h2, h3⟩, ⟨h4, h5⟩, ⟨h6, h6'⟩, h7, h8⟩ := h
  obtain ⟨p1, p2, p3, p4⟩ := hpi
  have aD := h4 D (by omega)
  have hkn : k < np := by omega
  have ec : (pl k).toNatClampNeg = c := by rw [hc]; exact zb_c (by omega)
  obtain ⟨v, v1, v2, v3, v4⟩ := p2 k hkn
  obtain rfl : c = v := ar_inj (hc.symm.trans v3) hc6 v2
  have sc : st c = 0 := by
    have := (h8 k (s D) hkn aD.1 (by rw [ec]; exact hpc)).2.2 D (by omega) rfl
    rw [ec] at this; exact this.1 hk
  have sne : ∀ i, i < D + 1 → s i ≠ c := fun i hi e => by have := (h4 i hi).2.1; rw [e] at this; omega
  refine ⟨sc, ⟨fun w => ?_, ?_, ?_⟩, ⟨fun i hi => ?_, fun i j hi hj => ?_⟩, ⟨fun _ => ?_, fun h => absurd h (by omega)⟩, fun i hi => ?_, fun j u hj hu he => ?_⟩
  · have := h1 w; dsimp only; split <;> omega
  · have e : (fun w => if (if w = c then 1 else st w) = 1 then 1 else 0) = (fun w => if w = c then 1 else (fun w => if st w = 1 then 1 else 0) w) := by
      funext w; dsimp only; by_cases z : w = c
      · rw [if_pos z, if_pos z]; rfl
      · rw [if_neg z, if_neg z]
    rw [e]
    have := ar_s6u (f := fun w => if st w = 1 then 1 else 0) (a := 1) hc6
    try dsimp only at this
    rw [if_neg (by omega)] at this
    dsimp only
    omega
  · have := ar_s6u (f := st) (a := 1) hc6
    omega
  · dsimp only
    by_cases z : i = D + 1
    · rw [if_pos z, if_pos z, if_pos rfl]; exact ⟨hc6, rfl, Nat.le_refl _⟩
    · have a := h4 i (by omega)
      rw [if_neg z, if_neg z, if_neg (sne i (by omega))]
      refine ⟨a.1, a.2.1, ?_⟩
      split <;> omega
  · dsimp only
    by_cases z : j = D + 1
    · rw [if_pos z, if_neg (by omega)]; exact sne i (by omega)
    · rw [if_neg z, if_neg (by omega)]; exact h5 i j hi (by omega)
  · dsimp only
    rw [if_neg (by omega)]; exact h6 (by omega)
  · dsimp only
    by_cases z : i = D
    · subst z
      rw [if_pos rfl, if_neg (show ¬ i = i + 1 by omega), if_neg (show ¬ i = i + 1 by omega), if_pos rfl]
      exact ⟨v4, v1, hkn, hc, hpc⟩
    · rw [if_neg (show ¬ i + 1 = D + 1 by omega), if_neg (show ¬ i = D + 1 by omega), if_neg (show ¬ i = D + 1 by omega), if_neg z]
      exact h7 i (by omega)
  · obtain ⟨b1, b2, b3⟩ := h8 j u hj hu he
    obtain ⟨v', w1, w2, w3, w4⟩ := p2 j hj
    have ev : (pl j).toNatClampNeg = v' := by rw [w3]; exact zb_c (by omega)
    rw [ev] at b1 b2 b3 he ⊢
    dsimp only
    by_cases z : v' = c
    · subst z
      have hu' : u = s D := ar_inj (he.symm.trans hpc) hu aD.1
      subst hu'
      have hjk : j = k := by
        by_cases a : j < k
        · exact absurd (w3.trans hc.symm) (p3 j k a hkn)
        · by_cases b : k < j
          · exact absurd (hc.trans w3.symm) (p3 k j b hj)
          · omega
      rw [if_neg (sne D (by omega)), if_pos rfl]
      refine ⟨fun e => by omega, fun e => by omega, fun i hi e => ?_⟩
      by_cases z : i = D + 1
      · rw [if_pos z] at e; exact absurd e (sne D (by omega))
      · rw [if_neg z] at e
        have hiD : i = D := by
          by_cases a : i < D
          · exact absurd e.symm (h5 i D a (by omega))
          · omega
        subst hiD
        rw [if_neg z, if_pos rfl]
        exact ⟨fun _ => by omega, fun _ => by omega, fun _ _ => by omega⟩
    · rw [if_neg z]
      by_cases y : u = c
      · rw [if_pos y]
        refine ⟨fun e => by omega, fun e => by omega, fun i hi e => ?_⟩
        have hiD : i = D + 1 := by
          by_cases a : i = D + 1
          · exact a
          · rw [if_neg a] at e; exact absurd (e.symm.trans y) (sne i (by omega))
        rw [if_pos hiD]
        exact ⟨fun _ => b1 (by rw [y]; exact sc), fun _ => by omega, fun _ _ => by omega⟩
      · rw [if_neg y]
        refine ⟨b1, b2, fun i hi e => ?_⟩
        by_cases a : i = D + 1
        · rw [if_pos a] at e; exact absurd e y
        · rw [if_neg a] at e ⊢
          obtain ⟨c1, c2, c3⟩ := b3 i (by omega) e
          by_cases b : i = D
          · subst b
            rw [if_pos rfl]
            refine ⟨fun _ => c1 (by omega), fun l => ?_, fun _ _ => by omega⟩
            by_cases g : j < q i
            · exact absurd (by rw [ev, ← e]; exact he) (hno j l g)
            · by_cases g' : j = q i
              · exact c3 g' rfl
              · exact c2 (by omega)
          · rw [if_neg b]
            exact ⟨c1, c2, fun _ _ => by omega⟩
theorem ar_leave (hpi : pi_ok th pl np) (h : ar_tree th pa pl np (D + 1) n st s q) (hno : ∀ j, j < q D → pa (pl j).toNatClampNeg ≠ nI (s D)) :
    ar_tree th pa pl np D (n + 1) (fun w => if w = s D then 2 else st w) s q := by
  obtain ⟨⟨h1, h2, h3⟩, ⟨h4, h5⟩, ⟨h6, h6'⟩, h7, h8⟩ := h
  obtain ⟨p1, p2, p3, p4⟩ := hpi
  have aD := h4 D (by omega)
  have sne : ∀ i, i < D → s i ≠ s D := fun i hi => h5 i D hi (by omega)
  refine ⟨⟨fun w => ?_, ?_, ?_⟩, ⟨fun i hi => ?_, fun i j hi hj => h5 i j hi (by omega)⟩, ⟨fun _ => h6 (by omega), fun e => ?_⟩, fun i hi => h7 i (by omega), fun j u hj hu he => ?_⟩
  · have := h1 w; dsimp only; split <;> omega
  · have e : (fun w => if (if w = s D then 2 else st w) = 1 then 1 else 0) = (fun w => if w = s D then 0 else (fun w => if st w = 1 then 1 else 0) w) := by
      funext w; dsimp only; by_cases z : w = s D
      · rw [if_pos z, if_pos z]; rfl
      · rw [if_neg z, if_neg z]
    rw [e]
    have := ar_s6u (f := fun w => if st w = 1 then 1 else 0) (a := 0) aD.1
    try dsimp only at this
    rw [if_pos aD.2.1] at this
    dsimp only
    omega
  · have := ar_s6u (f := st) (a := 2) aD.1
    omega
  · have a := h4 i (by omega)
    dsimp only
    rw [if_neg (sne i hi)]; exact a
  · dsimp only
    rw [if_pos]; subst e; exact (h6 (by omega)).symm
  · obtain ⟨b1, b2, b3⟩ := h8 j u hj hu he
    obtain ⟨v', w1, w2, w3, w4⟩ := p2 j hj
    have ev : (pl j).toNatClampNeg = v' := by rw [w3]; exact zb_c (by omega)
    rw [ev] at b1 b2 b3 he ⊢
    dsimp only
    refine ⟨fun e => ?_, fun e => ?_, fun i hi e => ⟨fun l => ?_, fun l => ?_, fun l l' => ?_⟩⟩
    · by_cases z : u = s D
      · rw [if_pos z] at e; omega
      · rw [if_neg z] at e
        have := b1 e
        rw [if_neg (fun y => by rw [y] at this; omega)]; exact this
    · by_cases y : v' = s D
      · rw [if_pos y]
      · rw [if_neg y]
        by_cases z : u = s D
        · obtain ⟨c1, c2, c3⟩ := b3 D (by omega) z
          by_cases g : j < q D
          · exact absurd (by rw [ev, ← z]; exact he) (hno j g)
          · by_cases g' : j = q D
            · exact c3 g' rfl
            · exact c2 (by omega)
        · rw [if_neg z] at e; exact b2 e
    · have := (b3 i (by omega) e).1 l
      rw [if_neg (fun y => by rw [y] at this; omega)]; exact this
    · have := (b3 i (by omega) e).2.1 l
      rw [if_neg (fun y => by rw [y] at this; omega)]; exact this
    · obtain ⟨x1, x2, x3, x4, x5⟩ := h7 i (by omega)
      subst l'
      rw [← l, w3] at x4
      rw [if_pos (ar_inj x4 w2 aD.1)]
theorem ar_start (hpi : pi_ok th pl np) : ar_tree th pa pl np 1 0 (fun w => if w = 0 then 1 else 0) (fun _ => 0) (fun _ => np) := by
  refine ⟨⟨fun w => by dsimp only; split <;> omega, rfl, rfl⟩, ⟨fun i hi => ⟨Nat.zero_lt_succ 5, rfl, Nat.le_refl _⟩, fun i j hi hj => by omega⟩, ⟨fun _ => rfl, fun e => by omega⟩, fun i hi => by omega, fun j u hj hu he => ?_⟩
  obtain ⟨v', w1, w2, w3, w4⟩ := hpi.2.1 j hj
  have ev : (pl j).toNatClampNeg = v' := by rw [w3]; exact zb_c (by omega)
  rw [ev]
  dsimp only
  rw [if_neg (show ¬ v' = 0 by omega)]
  refine ⟨fun _ => rfl, fun e => ?_, fun i hi e => ⟨fun _ => rfl, fun l => by omega, fun l => by omega⟩⟩
  split at e <;> omega
/-- at the end all windows are done -/
theorem ar_all {rk : Nat → Nat} (hpi : pi_ok th pl np) (hpa : ∀ w, w < 6 → ∃ p, p < 6 ∧ pa w = nI p) (hrk : ∀ w, 1 ≤ w → w < 6 → ¬ th w = 0 → ¬ th (pa w).toNatClampNeg = 0 ∧ rk (pa w).toNatClampNeg < rk w)
    (h : ar_tree th pa pl np 0 n st s q) : ∀ m w, rk w < m → w < 6 → ¬ th w = 0 → st w = 2 := by
  obtain ⟨h1, h4, ⟨h6, h6'⟩, h7, h8⟩ := h
  intro m
  induction m with
  | zero => intro w a; omega
  | succ m ih =>
    intro w a hw ht
    by_cases z : w = 0
    · rw [z]; exact h6' rfl
    · obtain ⟨i, hi, e⟩ := hpi.2.2.2 w (by omega) hw ht
      obtain ⟨p, hp, ep⟩ := hpa w hw
      have r := hrk w (by omega) hw ht
      have e' : (pl i).toNatClampNeg = w := by rw [e]; exact zb_c (by omega)
      have := (h8 i p hi hp (by rw [e']; exact ep)).2.1
      rw [e'] at this
      rw [ep, zb_c (by omega)] at r
      exact this (ih p (by omega) hp r.1)
end
def wn_ar (pa ox oy wd hg sh : Nat → Int32) (x y : Int) : Nat → Nat → Bool
  | 0, _ => wn_scr x y
  | f + 1, w => if w = 0 then wn_scr x y else wn_ar pa ox oy wd hg sh x y f (pa w).toNatClampNeg && wn_cov pa ox oy wd hg sh w x y
section
variable {th pa pl ox oy wd hg sh lv : Nat → Int32} {np D n : Nat} {st s q : Nat → Nat} {x y : Int}
theorem wn_ar0 : ∀ m, wn_ar pa ox oy wd hg sh x y m 0 = wn_scr x y
  | 0 => rfl
  | _ + 1 => rfl
theorem wn_cr0 : ∀ m, wn_cr pa ox m 0 = 0
  | 0 => rfl
  | _ + 1 => rfl
theorem ar_link (h : ar_tree th pa pl np D n st s q) {i : Nat} (hi : i + 1 < D) : (pa (s (i + 1))).toNatClampNeg = s i ∧ ¬ s (i + 1) = 0 := by
  have a := h.2.2.2.1 i hi
  have b := h.2.1.1 i (by omega)
  exact ⟨by rw [a.2.2.2.2]; exact zb_c (by omega), by omega⟩
theorem ar_cr (h : ar_tree th pa pl np D n st s q) : ∀ i, i < D → ∀ m, wn_cr pa ox (i + m) (s i) = wn_cr pa ox i (s i)
  | 0, hi, m => by rw [h.2.2.1.1 hi, wn_cr0, wn_cr0]
  | i + 1, hi, m => by
    have l := ar_link h hi
    rw [show i + 1 + m = (i + m) + 1 by omega]
    show (if s (i + 1) = 0 then 0 else (ox (s (i + 1))).toInt + wn_cr pa ox (i + m) (pa (s (i + 1))).toNatClampNeg) = (if s (i + 1) = 0 then 0 else (ox (s (i + 1))).toInt + wn_cr pa ox i (pa (s (i + 1))).toNatClampNeg)
    rw [l.1, ar_cr h i (by omega) m]
theorem ar_ar (h : ar_tree th pa pl np D n st s q) : ∀ i, i < D → ∀ m, wn_ar pa ox oy wd hg sh x y (i + m) (s i) = wn_ar pa ox oy wd hg sh x y i (s i)
  | 0, hi, m => by rw [h.2.2.1.1 hi, wn_ar0, wn_ar0]
  | i + 1, hi, m => by
    have l := ar_link h hi
    rw [show i + 1 + m = (i + m) + 1 by omega]
    show (if s (i + 1) = 0 then wn_scr x y else wn_ar pa ox oy wd hg sh x y (i + m) (pa (s (i + 1))).toNatClampNeg && wn_cov pa ox oy wd hg sh (s (i + 1)) x y) = (if s (i + 1) = 0 then wn_scr x y else wn_ar pa ox oy wd hg sh x y i (pa (s (i + 1))).toNatClampNeg && wn_cov pa ox oy wd hg sh (s (i + 1)) x y)
    rw [l.1, ar_ar h i (by omega) m]
theorem ar_cov (h : ar_tree th pa pl np D n st s q) : ∀ i, i < D → wn_ar pa ox oy wd hg sh x y i (s i) = true → ∀ j, j < i → wn_cov pa ox oy wd hg sh (s (j + 1)) x y = true
  | 0, _, _, j, hj => by omega
  | i + 1, hi, e, j, hj => by
    have l := ar_link h hi
    have e' : (if s (i + 1) = 0 then wn_scr x y else wn_ar pa ox oy wd hg sh x y i (pa (s (i + 1))).toNatClampNeg && wn_cov pa ox oy wd hg sh (s (i + 1)) x y) = true := e
    rw [if_neg l.2, l.1, Bool.and_eq_true] at e'
    by_cases z : j = i
    · subst z; exact e'.2
    · exact ar_cov h i (by omega) e'.1 j (by omega)
theorem ar_down (hpi : pi_ok th pl np) (h : ar_tree th pa pl np D n st s q) (f u : Nat) (hu : u < 6) (h2 : st u = 2) : st (wn_ow th pa ox oy wd hg sh lv x y f u) = 2 := by
  refine (wn_ow_ind (S := fun u => u < 6 ∧ st u = 2) (fun u c hs e => ?_) f u ⟨hu, h2⟩).2
  obtain ⟨a1, a2, a3, a4⟩ := wn_tm_some 5 e
  obtain ⟨b1, b2, b3⟩ := wn_chE.mp a3
  obtain ⟨i, hi, ei⟩ := hpi.2.2.2 c a1 (by omega) b1
  have e' : (pl i).toNatClampNeg = c := by rw [ei]; exact zb_c (by omega)
  have := (h.2.2.2.2 i u hi hs.1 (by rw [e']; exact b2)).2.1 hs.2
  rw [e'] at this
  exact ⟨by omega, this⟩
theorem ar_key1 (h : ar_tree th pa pl np (D + 1) n st s q) (ho : wn_own th pa ox oy wd hg sh lv x y = s D) (hs : wn_scr x y = true) : wn_ar pa ox oy wd hg sh x y D (s D) = true := by
  have S := wn_ow_ind (th := th) (pa := pa) (ox := ox) (oy := oy) (wd := wd) (hg := hg) (sh := sh) (lv := lv) (x := x) (y := y) (S := fun u => u < 6 ∧ ∀ i, i < D + 1 → u = s i → wn_ar pa ox oy wd hg sh x y i (s i) = true) (fun u c hu e => ?_) 6 0 ⟨by omega, fun i hi e => ?_⟩
  · exact S.2 D (by omega) ho
  · obtain ⟨a1, a2, a3, a4⟩ := wn_tm_some 5 e
    obtain ⟨b1, b2, b3⟩ := wn_chE.mp a3
    refine ⟨by omega, fun i hi e => ?_⟩
    cases i with
    | zero => rw [h.2.2.1.1 (by omega)] at e; omega
    | succ i =>
      have l := ar_link h hi
      have l2 := h.2.2.2.1 i hi
      have hb := h.2.1.1 i (by omega)
      rw [e] at b2 b3
      have := hu.2 i (by omega) (ar_inj (b2.symm.trans l2.2.2.2.2) hu.1 hb.1)
      show (if s (i + 1) = 0 then wn_scr x y else wn_ar pa ox oy wd hg sh x y i (pa (s (i + 1))).toNatClampNeg && wn_cov pa ox oy wd hg sh (s (i + 1)) x y) = true
      rw [if_neg l.2, l.1, this, b3]; rfl
  · cases i with
    | zero => exact hs
    | succ i =>
      have l2 := h.2.2.2.1 i hi
      omega
theorem ar_key2 (hpi : pi_ok th pl np) (hlv : ∀ i j, i < j → j < np → lv (pl i).toNatClampNeg < lv (pl j).toNatClampNeg) (h : ar_tree th pa pl np (D + 1) n st s q) (hno : ∀ j, j < q D → pa (pl j).toNatClampNeg ≠ nI (s D))
    (ha : wn_ar pa ox oy wd hg sh x y D (s D) = true) (hst : st (wn_own th pa ox oy wd hg sh lv x y) ≠ 2) : wn_own th pa ox oy wd hg sh lv x y = s D := by
  have hD := (ar_lt h).2
  have C : ∀ i, i < D + 1 → wn_own th pa ox oy wd hg sh lv x y = wn_ow th pa ox oy wd hg sh lv x y (6 - i) (s i) := by
    intro i
    induction i with
    | zero => intro hi; rw [h.2.2.1.1 (by omega)]; rfl
    | succ i ih =>
      intro hi
      have hc := ar_cov h D (by omega) ha i (by omega)
      obtain ⟨l1, l2, l3, l4, l5⟩ := h.2.2.2.1 i hi
      have b6 := h.2.1.1 (i + 1) hi
      have bi := h.2.1.1 i (by omega)
      have ih := ih (by omega)
      rw [show 6 - i = (6 - (i + 1)) + 1 by omega] at ih
      have ch : wn_ch th pa ox oy wd hg sh (s i) (s (i + 1)) x y = true := wn_chE.mpr ⟨l1, l5, hc⟩
      cases e : wn_tm th pa ox oy wd hg sh lv (s i) x y 5 with
      | none => exact absurd ch (wn_tm_none 5 e _ l2 (by omega))
      | some c =>
        rw [wn_ow_s e] at ih
        obtain ⟨a1, a2, a3, a4⟩ := wn_tm_some 5 e
        obtain ⟨b1, b2, b3⟩ := wn_chE.mp a3
        by_cases z : c = s (i + 1)
        · rw [← z]; exact ih
        · exfalso
          apply hst
          rw [ih]
          refine ar_down hpi h _ c (by omega) ?_
          obtain ⟨j, hj, ej⟩ := hpi.2.2.2 c a1 (by omega) b1
          have e' : (pl j).toNatClampNeg = c := by rw [ej]; exact zb_c (by omega)
          have e2 : (pl (q i)).toNatClampNeg = s (i + 1) := by rw [l4]; exact zb_c (by omega)
          have lv1 := a4 (s (i + 1)) l2 (by omega) ch
          have := ((h.2.2.2.2 j (s i) hj bi.1 (by rw [e']; exact b2)).2.2 i (by omega) rfl).2.1
          rw [e'] at this
          apply this
          by_cases g : j < q i
          · have := hlv j (q i) g l3
            rw [e', e2, zb_lt] at this
            rw [zb_le] at lv1
            omega
          · by_cases g' : j = q i
            · rw [g', e2] at e'; exact absurd e'.symm z
            · omega
  have c := C D (by omega)
  rw [show 6 - D = (5 - D) + 1 by omega] at c
  cases e : wn_tm th pa ox oy wd hg sh lv (s D) x y 5 with
  | none => rw [wn_ow_n e] at c; exact c
  | some c' =>
    exfalso
    rw [wn_ow_s e] at c
    apply hst
    rw [c]
    obtain ⟨a1, a2, a3, a4⟩ := wn_tm_some 5 e
    obtain ⟨b1, b2, b3⟩ := wn_chE.mp a3
    refine ar_down hpi h _ c' (by omega) ?_
    obtain ⟨j, hj, ej⟩ := hpi.2.2.2 c' a1 (by omega) b1
    have e' : (pl j).toNatClampNeg = c' := by rw [ej]; exact zb_c (by omega)
    have bi := h.2.1.1 D (by omega)
    obtain ⟨t1, t2, t3⟩ := (h.2.2.2.2 j (s D) hj bi.1 (by rw [e']; exact b2)).2.2 D (by omega) rfl
    rw [e'] at t1 t2 t3
    by_cases g : j < q D
    · exact absurd (by rw [e']; exact b2) (hno j g)
    · by_cases g' : j = q D
      · exact t3 g' rfl
      · exact t2 (by omega)
end
end
section
/-! arrange -/
def wn_dp (pa : Nat → Int32) : Nat → Nat → Bool
  | 0, w => decide (w = 0)
  | f + 1, w => decide (w = 0) || wn_dp pa f (pa w).toNatClampNeg
theorem wn_dp_s {pa : Nat → Int32} : ∀ f w, wn_dp pa f w = true → wn_dp pa (f + 1) w = true
  | 0, w, h => by
    have h' : decide (w = 0) = true := h
    show (decide (w = 0) || _) = true
    rw [h']; rfl
  | f + 1, w, h => by
    have h' : (decide (w = 0) || wn_dp pa f (pa w).toNatClampNeg) = true := h
    show (decide (w = 0) || wn_dp pa (f + 1) (pa w).toNatClampNeg) = true
    rw [Bool.or_eq_true] at h' ⊢
    rcases h' with a | a
    · exact Or.inl a
    · exact Or.inr (wn_dp_s f _ a)
theorem wn_dp_le {pa : Nat → Int32} {f w : Nat} (h : wn_dp pa f w = true) : ∀ m, wn_dp pa (f + m) w = true
  | 0 => h
  | m + 1 => wn_dp_s (f + m) w (wn_dp_le h m)
theorem ar_dp {th pa pl : Nat → Int32} {np D n : Nat} {st s q : Nat → Nat} (h : ar_tree th pa pl np D n st s q) : ∀ i, i < D → wn_dp pa i (s i) = true
  | 0, hi => by rw [h.2.2.1.1 hi]; rfl
  | i + 1, hi => by
    have l := ar_link h hi
    show (decide (s (i + 1) = 0) || wn_dp pa i (pa (s (i + 1))).toNatClampNeg) = true
    rw [l.1, ar_dp h i (by omega)]; simp
def ar_dat (th pa ox oy wd hg sh lv cx cy qx qy B T M N E ww wp : Nat → Int32) (D : Nat) (st s q : Nat → Nat) (K : Nat → Int → Int → Bool) : Prop :=
  (∀ i, i < D → ww i = nI (s i) ∧ wp i = nI (q i)) ∧
  (∀ w, w < 6 → (-100 ≤ (cx w).toInt ∧ (cx w).toInt ≤ 100) ∧ (-100 ≤ (cy w).toInt ∧ (cy w).toInt ≤ 100)) ∧
  (∀ w, w < 6 → st w ≠ 0 → (cx w).toInt = wn_cr pa ox 6 w ∧ (cy w).toInt = wn_cr pa oy 6 w) ∧
  (∀ i, i < D → rg_at B T M N E (12 + s i) 0 12 0 10 (fun x y => wn_ar pa ox oy wd hg sh x y 6 (s i))) ∧
  rg_at B T M N E 18 0 12 0 10 (fun x y => wn_scr x y && !decide (st (wn_own th pa ox oy wd hg sh lv x y) = 2)) ∧
  (∀ w, w < 6 → st w = 2 → rg_at B T M N E w 0 12 0 10 (fun x y => wn_scr x y && decide (wn_own th pa ox oy wd hg sh lv x y = w))) ∧
  (∀ w, w < 6 → st w = 2 → rg_at B T M N E (6 + w) 0 12 0 10 (fun x y => (wn_scr x y && decide (wn_own th pa ox oy wd hg sh lv x y = w)) && K w (x - (wn_cr pa ox 6 w - (qx w).toInt)) (y - (wn_cr pa oy 6 w - (qy w).toInt)))) ∧
  (∀ w, w < 6 → ¬ th w = 0 → st w ≠ 2 → rg_at B T M N E (6 + w) 0 12 0 10 (K w)) ∧
  (∀ w, w < 6 → st w ≠ 0 → wn_dp pa 5 w = true)
theorem ar_th {th pa pl : Nat → Int32} {np D n : Nat} {st s q : Nat → Nat} (h : ar_tree th pa pl np D n st s q) (h0 : ¬ th 0 = 0) : ∀ i, i < D → ¬ th (s i) = 0
  | 0, hi => by rw [h.2.2.1.1 hi]; exact h0
  | i + 1, hi => (h.2.2.2.1 i hi).1
theorem ar_dat_enter {th pa pl ox oy wd hg sh lv cx cy qx qy B T M N E ww wp B' T' M' N' E' : Nat → Int32} {np D n k c : Nat} {st s q : Nat → Nat} {K : Nat → Int → Int → Bool}
    (hok : wn_ok pa ox oy wd hg) (ht : ar_tree th pa pl np (D + 1) n st s q) (hd : ar_dat th pa ox oy wd hg sh lv cx cy qx qy B T M N E ww wp (D + 1) st s q K) (hD : D + 2 ≤ 6)
    (hc6 : c < 6) (hc1 : 1 ≤ c) (hpc : pa c = nI (s D)) (sc : st c = 0) (hX : (cx (s D) + ox c).toInt = wn_cr pa ox 6 c) (hY : (cy (s D) + oy c).toInt = wn_cr pa oy 6 c)
    (f : ∀ p, p ≠ 19 → p ≠ 12 + c → rg_ag B T M N E B' T' M' N' E' p)
    (hA : rg_at B' T' M' N' E' (12 + c) 0 12 0 10 (fun x y => wn_ar pa ox oy wd hg sh x y 6 c)) :
    ar_dat th pa ox oy wd hg sh lv (upd cx c (cx (s D) + ox c)) (upd cy c (cy (s D) + oy c)) qx qy B' T' M' N' E' (upd ww (D + 1) (nI c)) (upd (upd wp D (nI k)) (D + 1) (nI np)) (D + 2) (fun w => if w = c then 1 else st w) (fun i => if i = D + 1 then c else s i) (fun i => if i = D + 1 then np else if i = D then k else q i) K := by
  obtain ⟨d1, d2, d3, d4, d5, d6, d7, d8, d9⟩ := hd
  have bx := wn_crx hok 6 c hc6
  have by' := wn_cry hok 6 c hc6
  have sne : ∀ i, i < D + 1 → s i ≠ c := fun i hi e => by have := (ht.2.1.1 i hi).2.1; rw [e] at this; omega
  refine ⟨fun i hi => ?_, fun w hw => ?_, fun w hw h => ?_, fun i hi => ?_, ?_, fun w hw h => ?_, fun w hw h => ?_, fun w hw h1 h2 => ?_, fun w hw h => ?_⟩
  · dsimp only
    by_cases z : i = D + 1
    · subst z; rw [pk_us, pk_us, if_pos rfl, if_pos rfl]; exact ⟨rfl, rfl⟩
    · rw [pk_un z, pk_un z, if_neg z, if_neg z]
      by_cases y : i = D
      · subst y; rw [pk_us, if_pos rfl]; exact ⟨(d1 i (by omega)).1, rfl⟩
      · rw [pk_un y, if_neg y]; exact d1 i (by omega)
  · by_cases z : w = c
    · subst z; rw [pk_us, pk_us, hX, hY]; omega
    · rw [pk_un z, pk_un z]; exact d2 w hw
  · by_cases z : w = c
    · subst z; rw [pk_us, pk_us]; exact ⟨hX, hY⟩
    · rw [pk_un z, pk_un z]
      dsimp only at h
      rw [if_neg z] at h; exact d3 w hw h
  · dsimp only
    by_cases z : i = D + 1
    · rw [if_pos z]; exact hA
    · rw [if_neg z]
      have := ht.2.1.1 i (by omega)
      have := sne i (by omega)
      exact rg_at_ag (f _ (by omega) (by omega)) (d4 i (by omega))
  · refine rg_at_P (rg_at_ag (f _ (by omega) (by omega)) d5) (fun x y => ?_)
    refine congrArg (fun b => wn_scr x y && !b) (decide_eq_decide.mpr ?_)
    show st (wn_own th pa ox oy wd hg sh lv x y) = 2 ↔ (if wn_own th pa ox oy wd hg sh lv x y = c then 1 else st (wn_own th pa ox oy wd hg sh lv x y)) = 2
    by_cases z : wn_own th pa ox oy wd hg sh lv x y = c
    · rw [if_pos z, z, sc]; omega
    · rw [if_neg z]
  · dsimp only at h
    by_cases z : w = c
    · rw [if_pos z] at h; omega
    · rw [if_neg z] at h; exact rg_at_ag (f _ (by omega) (by omega)) (d6 w hw h)
  · dsimp only at h
    by_cases z : w = c
    · rw [if_pos z] at h; omega
    · rw [if_neg z] at h; exact rg_at_ag (f _ (by omega) (by omega)) (d7 w hw h)
  · refine rg_at_ag (f _ (by omega) (by omega)) (d8 w hw h1 ?_)
    dsimp only at h2
    by_cases z : w = c
    · rw [z, sc]; omega
    · rw [if_neg z] at h2; exact h2
  · by_cases z : w = c
    · rw [z]
      have a := ar_dp ht D (by omega)
      have a2 : wn_dp pa (D + 1) c = true := by
        have := (ht.2.1.1 D (by omega)).1
        show (decide (c = 0) || wn_dp pa D (pa c).toNatClampNeg) = true
        rw [hpc, zb_c (by omega), a]; simp
      have a3 := wn_dp_le a2 (4 - D)
      rw [show D + 1 + (4 - D) = 5 by omega] at a3
      exact a3
    · dsimp only at h
      rw [if_neg z] at h; exact d9 w hw h
theorem ar_R {th pa pl ox oy wd hg sh lv : Nat → Int32} {np D n : Nat} {st s q : Nat → Nat} (hpi : pi_ok th pl np) (hlv : ∀ i j, i < j → j < np → lv (pl i).toNatClampNeg < lv (pl j).toNatClampNeg)
    (h : ar_tree th pa pl np (D + 1) n st s q) (hno : ∀ j, j < q D → pa (pl j).toNatClampNeg ≠ nI (s D)) (x y : Int) :
    ((wn_scr x y && !decide (st (wn_own th pa ox oy wd hg sh lv x y) = 2)) && wn_ar pa ox oy wd hg sh x y 6 (s D)) = (wn_scr x y && decide (wn_own th pa ox oy wd hg sh lv x y = s D)) ∧
    ((wn_scr x y && !decide (st (wn_own th pa ox oy wd hg sh lv x y) = 2)) && !wn_ar pa ox oy wd hg sh x y 6 (s D)) = (wn_scr x y && !decide ((if wn_own th pa ox oy wd hg sh lv x y = s D then 2 else st (wn_own th pa ox oy wd hg sh lv x y)) = 2)) := by
  have hD := (ar_lt h).2
  have s1 := (h.2.1.1 D (by omega)).2.1
  have e6 : wn_ar pa ox oy wd hg sh x y 6 (s D) = wn_ar pa ox oy wd hg sh x y D (s D) := by
    rw [show 6 = D + (6 - D) by omega]; exact ar_ar h D (by omega) (6 - D)
  cases hs : wn_scr x y
  · exact ⟨rfl, rfl⟩
  · by_cases z : wn_own th pa ox oy wd hg sh lv x y = s D
    · have k := ar_key1 (lv := lv) h z hs
      rw [e6, k, z, s1, if_pos rfl]; simp
    · rw [if_neg z, decide_eq_false z]
      by_cases y2 : st (wn_own th pa ox oy wd hg sh lv x y) = 2
      · rw [decide_eq_true y2]; exact ⟨rfl, rfl⟩
      · have k : wn_ar pa ox oy wd hg sh x y D (s D) = false := by
          cases c : wn_ar pa ox oy wd hg sh x y D (s D)
          · rfl
          · exact absurd (ar_key2 hpi hlv h hno c y2) z
        rw [e6, k, decide_eq_false y2]; exact ⟨rfl, rfl⟩
theorem ar_dat_leave {th pa pl ox oy wd hg sh lv cx cy qx qy B T M N E ww wp B' T' M' N' E' : Nat → Int32} {np D n : Nat} {st s q : Nat → Nat} {K : Nat → Int → Int → Bool} {z0 : Int32}
    (hpi : pi_ok th pl np) (hlv : ∀ i j, i < j → j < np → lv (pl i).toNatClampNeg < lv (pl j).toNatClampNeg)
    (ht : ar_tree th pa pl np (D + 1) n st s q) (hno : ∀ j, j < q D → pa (pl j).toNatClampNeg ≠ nI (s D)) (hd : ar_dat th pa ox oy wd hg sh lv cx cy qx qy B T M N E ww wp (D + 1) st s q K)
    (f : ∀ p, p ≠ s D → p ≠ 18 → p ≠ 19 → p ≠ 6 + s D → rg_ag B T M N E B' T' M' N' E' p)
    (p1 : rg_at B' T' M' N' E' (s D) 0 12 0 10 (fun x y => (wn_scr x y && !decide (st (wn_own th pa ox oy wd hg sh lv x y) = 2)) && wn_ar pa ox oy wd hg sh x y 6 (s D)))
    (p2 : rg_at B' T' M' N' E' 18 0 12 0 10 (fun x y => (wn_scr x y && !decide (st (wn_own th pa ox oy wd hg sh lv x y) = 2)) && !wn_ar pa ox oy wd hg sh x y 6 (s D)))
    (p3 : rg_at B' T' M' N' E' (6 + s D) 0 12 0 10 (fun x y => ((wn_scr x y && !decide (st (wn_own th pa ox oy wd hg sh lv x y) = 2)) && wn_ar pa ox oy wd hg sh x y 6 (s D)) && K (s D) (x - (wn_cr pa ox 6 (s D) - (qx (s D)).toInt)) (y - (wn_cr pa oy 6 (s D) - (qy (s D)).toInt)))) :
    ar_dat th pa ox oy wd hg sh lv cx cy qx qy B' T' M' N' E' ww (upd wp D z0) D (fun w => if w = s D then 2 else st w) s q K := by
  obtain ⟨d1, d2, d3, d4, d5, d6, d7, d8, d9⟩ := hd
  have R := ar_R (ox := ox) (oy := oy) (wd := wd) (hg := hg) (sh := sh) hpi hlv ht hno
  have aD := ht.2.1.1 D (by omega)
  refine ⟨fun i hi => ?_, d2, fun w hw h => ?_, fun i hi => ?_, ?_, fun w hw h => ?_, fun w hw h => ?_, fun w hw h1 h2 => ?_, fun w hw h => ?_⟩
  · rw [pk_un (by omega)]; exact d1 i (by omega)
  · dsimp only at h
    by_cases z : w = s D
    · rw [z]; exact d3 _ aD.1 (by omega)
    · rw [if_neg z] at h; exact d3 w hw h
  · have := ht.2.1.1 i (by omega)
    exact rg_at_ag (f _ (by omega) (by omega) (by omega) (by omega)) (d4 i (by omega))
  · exact rg_at_P p2 (fun x y => (R x y).2)
  · dsimp only at h
    by_cases z : w = s D
    · rw [z]; exact rg_at_P p1 (fun x y => (R x y).1)
    · rw [if_neg z] at h; exact rg_at_ag (f _ (by omega) (by omega) (by omega) (by omega)) (d6 w hw h)
  · dsimp only at h
    by_cases z : w = s D
    · rw [z]; exact rg_at_P p3 (fun x y => by rw [(R x y).1])
    · rw [if_neg z] at h; exact rg_at_ag (f _ (by omega) (by omega) (by omega) (by omega)) (d7 w hw h)
  · dsimp only at h2
    by_cases z : w = s D
    · rw [if_pos z] at h2; exact absurd rfl h2
    · rw [if_neg z] at h2; exact rg_at_ag (f _ (by omega) (by omega) (by omega) (by omega)) (d8 w hw h1 h2)
  · dsimp only at h
    by_cases z : w = s D
    · rw [z]; exact d9 _ aD.1 (by omega)
    · rw [if_neg z] at h; exact d9 w hw h
/-- what arrange leaves behind -/
def ar_fin (th pa ox oy wd hg sh lv cx cy qx qy B T M N E : Nat → Int32) (K : Nat → Int → Int → Bool) : Prop :=
  (∀ w, w < 6 → (-100 ≤ (cx w).toInt ∧ (cx w).toInt ≤ 100) ∧ (-100 ≤ (cy w).toInt ∧ (cy w).toInt ≤ 100)) ∧
  (∀ w, w < 6 → ¬ th w = 0 → (cx w).toInt = wn_cr pa ox 6 w ∧ (cy w).toInt = wn_cr pa oy 6 w) ∧
  (∀ w, w < 6 → ¬ th w = 0 → rg_at B T M N E w 0 12 0 10 (fun x y => wn_scr x y && decide (wn_own th pa ox oy wd hg sh lv x y = w))) ∧
  (∀ w, w < 6 → ¬ th w = 0 → rg_at B T M N E (6 + w) 0 12 0 10 (fun x y => (wn_scr x y && decide (wn_own th pa ox oy wd hg sh lv x y = w)) && K w (x - (wn_cr pa ox 6 w - (qx w).toInt)) (y - (wn_cr pa oy 6 w - (qy w).toInt)))) ∧
  (∀ w, w < 6 → ¬ th w = 0 → wn_dp pa 5 w = true)
section
variable {fp : Int32} {th pa ox oy wd hg sh cx cy qx qy pl B T M N E ww wp : Nat → Int32} {lv : Nat → Int32}
theorem ar_loop {post : SX → Prop} {np : Nat} {rk : Nat → Nat} {K : Nat → Int → Int → Bool} (hfp : fp = nI np) (hok : wn_ok pa ox oy wd hg) (hpi : pi_ok th pl np) (hlv : ∀ i j, i < j → j < np → lv (pl i).toNatClampNeg < lv (pl j).toNatClampNeg)
    (hrk : ∀ w, 1 ≤ w → w < 6 → ¬ th w = 0 → ¬ th (pa w).toNatClampNeg = 0 ∧ rk (pa w).toNatClampNeg < rk w) (h0 : ¬ th 0 = 0)
    (hq : ∀ w, w < 6 → (-100 ≤ (qx w).toInt ∧ (qx w).toInt ≤ 100) ∧ (-100 ≤ (qy w).toInt ∧ (qy w).toInt ≤ 100))
    (hp : ∀ (cx cy B T M N E ww wp : Nat → Int32), ar_fin th pa ox oy wd hg sh lv cx cy qx qy B T M N E K → post (fp, th, pa, ox, oy, wd, hg, sh, cx, cy, qx, qy, pl, B, T, M, N, E, ww, wp)) :
    ∀ m (D n : Nat) (cx cy B T M N E ww wp : Nat → Int32) (st s q : Nat → Nat), 12 - n < m → ar_tree th pa pl np D n st s q → ar_dat th pa ox oy wd hg sh lv cx cy qx qy B T M N E ww wp D st s q K → wX_arrange_22 post m (nI D - 1) (nI n) fp th pa ox oy wd hg sh cx cy qx qy pl B T M N E ww wp := by
  subst hfp
  intro m
  induction m with
  | zero => intro D n cx cy B T M N E ww wp st s q h; omega
  | succ m ih =>
    intro D n cx cy B T M N E ww wp st s q hm ht hd
    cases D with
    | zero =>
      have fin : post (nI np, th, pa, ox, oy, wd, hg, sh, cx, cy, qx, qy, pl, B, T, M, N, E, ww, wp) := by
        obtain ⟨d1, d2, d3, d4, d5, d6, d7, d8, d9⟩ := hd
        have al : ∀ w, w < 6 → ¬ th w = 0 → st w = 2 := fun w hw h => ar_all hpi (fun w hw => (hok w hw).1) hrk ht (rk w + 1) w (by omega) hw h
        exact hp cx cy B T M N E ww wp ⟨d2, fun w hw h => d3 w hw (by rw [al w hw h]; omega), fun w hw h => d6 w hw (al w hw h), fun w hw h => d7 w hw (al w hw h), fun w hw h => d9 w hw (by rw [al w hw h]; omega)⟩
      unfold wX_arrange_22
      exact br_c (fun _ => fin) (fun _ => br_t (show nI 0 - 1 < 0 by decide) fin)
    | succ D =>
      obtain ⟨hn, hD⟩ := ar_lt ht
      have aD := ht.2.1.1 D (by omega)
      have dD := hd.1 D (by omega)
      have e1 : (nI D).toNatClampNeg = D := zb_c (by omega)
      have cD := hd.2.2.1 (s D) aD.1 (by omega)
      have rD := hd.2.1 (s D) aD.1
      unfold wX_arrange_22
      rw [nI_pred, e1]
      refine pk_le 12 n (fun h => absurd h (by omega)) (fun _ => br_f (nI_pos (by omega)) ?_)
      refine nc_spec (d := D) (u := s D) (q := q D) (np := np) (by omega) aD.2.2 hpi.1 dD.1 dD.2 (fun i hi => ?_) ?_ ?_
      · obtain ⟨v, v1, v2, v3, _⟩ := hpi.2.1 i hi
        exact ⟨v, v1, v2, v3⟩
      · intro k hk hc hno
        obtain ⟨c, c1, c2, c3, c4⟩ := hpi.2.1 k (by omega)
        have ec : (pl k).toNatClampNeg = c := by rw [c3]; exact zb_c (by omega)
        rw [ec] at hc
        obtain ⟨sc, ht'⟩ := ar_enter hpi ht hk c3 c2 hc hno
        have hD2 := (ar_lt ht').2
        have b := hok c c2
        have eX : wn_cr pa ox 6 c = (ox c).toInt + wn_cr pa ox 6 (s D) := by
          show (if c = 0 then 0 else (ox c).toInt + wn_cr pa ox 5 (pa c).toNatClampNeg) = _
          have a1 := ar_cr (ox := ox) ht D (by omega) (5 - D)
          have a2 := ar_cr (ox := ox) ht D (by omega) (6 - D)
          rw [show D + (5 - D) = 5 by omega] at a1
          rw [show D + (6 - D) = 6 by omega] at a2
          rw [if_neg (by omega), hc, zb_c (by omega), a1, a2]
        have eY : wn_cr pa oy 6 c = (oy c).toInt + wn_cr pa oy 6 (s D) := by
          show (if c = 0 then 0 else (oy c).toInt + wn_cr pa oy 5 (pa c).toNatClampNeg) = _
          have a1 := ar_cr (ox := oy) ht D (by omega) (5 - D)
          have a2 := ar_cr (ox := oy) ht D (by omega) (6 - D)
          rw [show D + (5 - D) = 5 by omega] at a1
          rw [show D + (6 - D) = 6 by omega] at a2
          rw [if_neg (by omega), hc, zb_c (by omega), a1, a2]
        have hX : (cx (s D) + ox c).toInt = wn_cr pa ox 6 c := by rw [zb_add (by omega) (by omega)]; omega
        have hY : (cy (s D) + oy c).toInt = wn_cr pa oy 6 c := by rw [zb_add (by omega) (by omega)]; omega
        have bx := wn_crx hok 6 c c2
        have by' := wn_cry hok 6 c c2
        dsimp only
        rw [c3]
        refine br_f (nI_pos (by omega)) (nm_r (nI_1 D) ?_)
        refine en_child (d := D + 1) (c := c) (u := s D) (X := wn_cr pa ox 6 c) (Y := wn_cr pa oy 6 c) (by omega) c2 (by omega) aD.1 (fun e => by have := aD.2.1; rw [e] at this; omega) hc hX hY (by omega) (by omega) b.2.2.2.1 b.2.2.2.2 (hd.2.2.2.1 D (by omega)) ?_
        intro B' T' M' N' E' f1 f2
        dsimp only
        refine nm_r (nI_1 n) ?_
        rw [show nI (D + 1) = nI (D + 2) - 1 from (nI_pred (D + 1)).symm]
        refine ih (D + 2) (n + 1) _ _ _ _ _ _ _ _ _ _ _ _ (by omega) ht' (ar_dat_enter hok ht hd hD2 c2 c1 hc sc hX hY f1 (rg_at_P f2 (fun x y => ?_)))
        show (wn_ar pa ox oy wd hg sh x y 6 (s D) && wn_cov pa ox oy wd hg sh c x y) = (if c = 0 then wn_scr x y else wn_ar pa ox oy wd hg sh x y 5 (pa c).toNatClampNeg && wn_cov pa ox oy wd hg sh c x y)
        have a1 := ar_ar (ox := ox) (oy := oy) (wd := wd) (hg := hg) (sh := sh) (x := x) (y := y) ht D (by omega) (5 - D)
        have a2 := ar_ar (ox := ox) (oy := oy) (wd := wd) (hg := hg) (sh := sh) (x := x) (y := y) ht D (by omega) (6 - D)
        rw [show D + (5 - D) = 5 by omega] at a1
        rw [show D + (6 - D) = 6 by omega] at a2
        rw [if_neg (by omega), hc, zb_c (by omega), a1, a2]
      · intro hno
        have ht' := ar_leave hpi ht hno
        have qD := hq (s D) aD.1
        dsimp only
        rw [dD.1]
        refine br_t (show (-1 : Int32) < 0 by decide) ⟨zb_in (by omega) (by decide), ?_⟩
        refine le_spec (w := s D) (DX := wn_cr pa ox 6 (s D) - (qx (s D)).toInt) (DY := wn_cr pa oy 6 (s D) - (qy (s D)).toInt) aD.1 (by rw [zb_sub (by omega) (by omega), cD.1]) (by rw [zb_sub (by omega) (by omega), cD.2]) (by omega) (by omega) hd.2.2.2.2.1 (hd.2.2.2.1 D (by omega)) (hd.2.2.2.2.2.2.2.1 (s D) aD.1 (ar_th ht h0 D (by omega)) (by omega)) ?_
        intro B' T' M' N' E' f p1 p2 p3
        dsimp only
        refine nm_r (e' := nI D - 1) (by rw [Int32.sub_eq_add_neg]) (nm_r (nI_1 n) ?_)
        exact ih D (n + 1) _ _ _ _ _ _ _ _ _ _ _ _ (by omega) ht' (ar_dat_leave hpi hlv ht hno hd f p1 p2 p3)
theorem ar_spec {post : SX → Prop} {np : Nat} {rk : Nat → Nat} {K : Nat → Int → Int → Bool} (hfp : fp = nI np) (hok : wn_ok pa ox oy wd hg) (hpi : pi_ok th pl np) (hlv : ∀ i j, i < j → j < np → lv (pl i).toNatClampNeg < lv (pl j).toNatClampNeg)
    (hrk : ∀ w, 1 ≤ w → w < 6 → ¬ th w = 0 → ¬ th (pa w).toNatClampNeg = 0 ∧ rk (pa w).toNatClampNeg < rk w) (h0 : ¬ th 0 = 0)
    (hq : ∀ w, w < 6 → (-100 ≤ (qx w).toInt ∧ (qx w).toInt ≤ 100) ∧ (-100 ≤ (qy w).toInt ∧ (qy w).toInt ≤ 100))
    (hcr : ∀ w, w < 6 → (-100 ≤ (cx w).toInt ∧ (cx w).toInt ≤ 100) ∧ (-100 ≤ (cy w).toInt ∧ (cy w).toInt ≤ 100)) (hc0 : (cx 0).toInt = 0 ∧ (cy 0).toInt = 0)
    (hK : ∀ w, w < 6 → ¬ th w = 0 → rg_at B T M N E (6 + w) 0 12 0 10 (K w))
    (hp : ∀ (cx cy B T M N E ww wp : Nat → Int32), ar_fin th pa ox oy wd hg sh lv cx cy qx qy B T M N E K → post (fp, th, pa, ox, oy, wd, hg, sh, cx, cy, qx, qy, pl, B, T, M, N, E, ww, wp)) :
    wpX_arrange post (fp, th, pa, ox, oy, wd, hg, sh, cx, cy, qx, qy, pl, B, T, M, N, E, ww, wp) := by
  unfold wpX_arrange
  refine en_rect (r := 18) (by omega) ?_
  intro B1 T1 M1 N1 E1 f1 p1
  dsimp only
  refine en_root ?_
  intro B2 T2 M2 N2 E2 f2 p2
  dsimp only
  refine ⟨13, ?_⟩
  refine ar_loop (K := K) hfp hok hpi hlv hrk h0 hq hp 13 1 0 _ _ _ _ _ _ _ _ _ (fun w => if w = 0 then 1 else 0) (fun _ => 0) (fun _ => np) (by omega) (ar_start hpi) ⟨fun i hi => ?_, hcr, fun w hw h => ?_, fun i hi => ?_, ?_, fun w hw h => ?_, fun w hw h => ?_, fun w hw h1 h2 => ?_, fun w hw h => ?_⟩
  · obtain rfl : i = 0 := by omega
    rw [pk_us, pk_us]; exact ⟨rfl, hfp⟩
  · dsimp only at h
    by_cases z : w = 0
    · rw [z, wn_cr0, wn_cr0]; exact hc0
    · rw [if_neg z] at h; exact absurd rfl h
  · exact p2
  · refine rg_at_P (rg_at_ag (f2 _ (by omega)) p1) (fun x y => ?_)
    dsimp only
    have : ¬ (if wn_own th pa ox oy wd hg sh lv x y = 0 then 1 else 0) = 2 := by split <;> omega
    rw [decide_eq_false this]; simp
  · dsimp only at h
    split at h <;> omega
  · dsimp only at h
    split at h <;> omega
  · exact rg_at_ag (f2 _ (by omega)) (rg_at_ag (f1 _ (by omega)) (hK w hw h1))
  · dsimp only at h
    by_cases z : w = 0
    · rw [z]; rfl
    · rw [if_neg z] at h; exact absurd rfl h
end
end
section
/-! the reference: remember, kept, settle -/
def wn_ix (P : Int → Int → Nat) (i : Nat) : Nat := P ((i % 12 : Nat) : Int) ((i / 12 : Nat) : Int)
def re_fin (th pa ox oy wd hg sh lv cl wt wx wy wo wc : Nat → Int32) : Prop :=
  (∀ w, w < 6 → wt w = th w ∧ (wx w).toInt = wn_cr pa ox 6 w ∧ (wy w).toInt = wn_cr pa oy 6 w) ∧
  (∀ i, i < 120 → wo i = nI (wn_ix (wn_own th pa ox oy wd hg sh lv) i) ∧ wc i = cl i)
/-- the pixel (x, y) was the window's, and clean -/
def wn_q (wt wo wc : Nat → Int32) (w : Nat) (x y : Int) : Bool :=
  decide (¬ wt w = 0) && (wn_scr x y && (decide (wo (12 * y.toNat + x.toNat) = nI w) && decide (¬ wc (12 * y.toNat + x.toNat) = 0)))
theorem wn_scrE {x y : Int} : wn_scr x y = true ↔ (0 ≤ x ∧ x < 12) ∧ (0 ≤ y ∧ y < 10) := by
  unfold wn_scr
  rw [Bool.and_eq_true, Bool.and_eq_true, Bool.and_eq_true, decide_eq_true_eq, decide_eq_true_eq, decide_eq_true_eq, decide_eq_true_eq]
theorem ym_d {i : Nat} (h : i < 120) : nI i - nI i / 12 * 12 = nI (i % 12) ∧ nI i / 12 = nI (i / 12) := ⟨pk_rem (d := 12) (by omega) (by omega) (by omega), pk_div (d := 12) (by omega) (by omega) (by omega)⟩
theorem ym_12 : ¬ (12 : Int32) = 0 := by decide
section
variable {tp bt : Int32} {th pa ox oy wd hg sh lv cl wt wx wy wo wc : Nat → Int32}
theorem ym_l50 {post : SY → Prop} (hok : wn_ok pa ox oy wd hg) (hcl : ∀ i, i < 120 → cl i = 0 ∨ cl i = 1)
    (hp : ∀ wo wc : Nat → Int32, (∀ i, i < 120 → wo i = nI (wn_ix (wn_own th pa ox oy wd hg sh lv) i) ∧ wc i = cl i) → post (tp, bt, th, pa, ox, oy, wd, hg, sh, lv, cl, wt, wx, wy, wo, wc)) :
    ∀ m i (wo wc : Nat → Int32), 120 - i < m → i ≤ 120 → (∀ j, j < i → wo j = nI (wn_ix (wn_own th pa ox oy wd hg sh lv) j) ∧ wc j = cl j) → wY_remember_50 post tp bt m (nI i) th pa ox oy wd hg sh lv cl wt wx wy wo wc := by
  intro m
  induction m with
  | zero => intro i wo wc h; omega
  | succ m ih =>
    intro i wo wc hm hi hI
    unfold wY_remember_50
    refine pk_le 120 i (fun h => ?_) (fun h => ⟨ym_12, ym_12, ?_⟩)
    · obtain rfl : i = 120 := by omega
      exact hp wo wc hI
    · have e1 : (nI i).toNatClampNeg = i := zb_c (by omega)
      obtain ⟨a, b⟩ := ym_d h
      have i1 : vp_in (nI i) 120 := zb_in h (by decide)
      rw [a, b, e1, zb_b (hcl i h), nI_1]
      refine yc_owner (by omega) (by omega) hok ?_
      refine ⟨i1, nm_e ⟨i1, i1, nm_e (nm_e ?_)⟩⟩
      refine ih (i + 1) _ _ (by omega) (by omega) (fun j hj => ?_)
      by_cases z : j = i
      · subst z; rw [pk_us, pk_us]; exact ⟨rfl, rfl⟩
      · rw [pk_un z, pk_un z]; exact hI j (by omega)
theorem ym_l2 {post : SY → Prop} (hok : wn_ok pa ox oy wd hg) (hth : ∀ w, w < 6 → th w = 0 ∨ th w = 1)
    (hp : ∀ wt wx wy : Nat → Int32, (∀ w, w < 6 → wt w = th w ∧ (wx w).toInt = wn_cr pa ox 6 w ∧ (wy w).toInt = wn_cr pa oy 6 w) → ∃ n50 : Nat, wY_remember_50 post tp bt n50 0 th pa ox oy wd hg sh lv cl wt wx wy wo wc) :
    ∀ m k (wt wx wy : Nat → Int32), 6 - k < m → k ≤ 6 → (∀ w, w < k → wt w = th w ∧ (wx w).toInt = wn_cr pa ox 6 w ∧ (wy w).toInt = wn_cr pa oy 6 w) → wY_remember_2 post tp bt m (nI k) th pa ox oy wd hg sh lv cl wt wx wy wo wc := by
  intro m
  induction m with
  | zero => intro k wt wx wy h; omega
  | succ m ih =>
    intro k wt wx wy hm hk hI
    unfold wY_remember_2
    refine pk_le 6 k (fun h => ?_) (fun h => ?_)
    · obtain rfl : k = 6 := by omega
      exact hp wt wx wy hI
    · have e1 : (nI k).toNatClampNeg = k := zb_c (by omega)
      have i1 : vp_in (nI k) 6 := zb_in h (by decide)
      rw [e1, zb_b (hth k h), nI_1]
      refine ⟨i1, i1, nm_e (yc_X h hok (fun r hr => ⟨i1, nm_e (yc_Y h hok (fun r' hr' => ⟨i1, nm_e (nm_e ?_)⟩))⟩))⟩
      refine ih (k + 1) _ _ _ (by omega) (by omega) (fun j hj => ?_)
      by_cases z : j = k
      · subst z; rw [pk_us, pk_us, pk_us]; exact ⟨rfl, hr, hr'⟩
      · rw [pk_un z, pk_un z, pk_un z]; exact hI j (by omega)
theorem ym_remember {post : SY → Prop} (hok : wn_ok pa ox oy wd hg) (hth : ∀ w, w < 6 → th w = 0 ∨ th w = 1) (hcl : ∀ i, i < 120 → cl i = 0 ∨ cl i = 1)
    (hp : ∀ wt wx wy wo wc : Nat → Int32, re_fin th pa ox oy wd hg sh lv cl wt wx wy wo wc → post (tp, bt, th, pa, ox, oy, wd, hg, sh, lv, cl, wt, wx, wy, wo, wc)) : wpY_remember post (tp, bt, th, pa, ox, oy, wd, hg, sh, lv, cl, wt, wx, wy, wo, wc) := by
  unfold wpY_remember
  refine ⟨7, ym_l2 hok hth (fun wt wx wy h1 => ⟨121, ?_⟩) 7 0 wt wx wy (by omega) (by omega) (fun w hw => absurd hw (by omega))⟩
  exact ym_l50 hok hcl (fun wo wc h2 => hp wt wx wy wo wc ⟨h1, h2⟩) 121 0 wo wc (by omega) (by omega) (fun w hw => absurd hw (by omega))
theorem ym_kept {post : Int32 → Prop} {w x y : Nat} (hw : w < 6) (hx : x < 12) (hy : y < 10) (hok : wn_ok pa ox oy wd hg) (hr : (-100 ≤ (wx w).toInt ∧ (wx w).toInt ≤ 100) ∧ (-100 ≤ (wy w).toInt ∧ (wy w).toInt ≤ 100))
    (hp : post (if wn_q wt wo wc w ((x : Int) - wn_cr pa ox 6 w + (wx w).toInt) ((y : Int) - wn_cr pa oy 6 w + (wy w).toInt) = true then 1 else 0)) : wpY_kept post (tp, bt, th, pa, ox, oy, wd, hg, sh, lv, cl, wt, wx, wy, wo, wc) (nI w) (nI x) (nI y) := by
  have e1 : (nI w).toNatClampNeg = w := zb_c (by omega)
  have i1 : vp_in (nI w) 6 := zb_in hw (by decide)
  have cx := wn_crx hok 6 w hw
  have cy := wn_cry hok 6 w hw
  unfold wpY_kept
  dsimp only
  rw [e1]
  refine yc_X hw hok (fun r hr1 => ⟨i1, fun X hX => yc_Y hw hok (fun r' hr2 => ⟨i1, fun Y hY => ⟨i1, ?_⟩⟩)⟩)
  have n1 : (nI x).toInt = (x : Int) := zb_n (by omega)
  have n2 : (nI y).toInt = (y : Int) := zb_n (by omega)
  have s1 : (nI x - r).toInt = (x : Int) - wn_cr pa ox 6 w := by rw [zb_sub (by omega) (by omega), n1, hr1]
  have s2 : (nI y - r').toInt = (y : Int) - wn_cr pa oy 6 w := by rw [zb_sub (by omega) (by omega), n2, hr2]
  have tX : X.toInt = (x : Int) - wn_cr pa ox 6 w + (wx w).toInt := by rw [hX, zb_add (by omega) (by omega), s1]
  have tY : Y.toInt = (y : Int) - wn_cr pa oy 6 w + (wy w).toInt := by rw [hY, zb_add (by omega) (by omega), s2]
  rw [← tX, ← tY] at hp
  have F : wn_q wt wo wc w X.toInt Y.toInt = false → post 0 := fun h => by rw [h] at hp; exact hp
  have z0 : (0 : Int32).toInt = 0 := by decide
  have z9 : (9 : Int32).toInt = 9 := by decide
  have z11 : (11 : Int32).toInt = 11 := by decide
  have off : ¬ ((0 ≤ X.toInt ∧ X.toInt < 12) ∧ (0 ≤ Y.toInt ∧ Y.toInt < 10)) → post 0 := fun h => F (by
    unfold wn_q
    cases c : wn_scr X.toInt Y.toInt
    · simp
    · exact absurd (wn_scrE.mp c) h)
  refine ⟨fun c0 => F ?_, fun c0 => zb_slt rfl z0 (fun c => off (by omega)) (fun c1 => zb_slt z11 rfl (fun c => off (by omega)) (fun c2 => zb_slt rfl z0 (fun c => off (by omega)) (fun c3 => zb_sel rfl z9 (fun c4 => ?_) (fun c => off (by omega)))))⟩
  · unfold wn_q; rw [decide_eq_false (p := ¬ wt w = 0) (fun h => h c0)]; rfl
  · have eX : X = nI X.toInt.toNat := zb_nn (by omega) (by omega)
    have eY : Y = nI Y.toInt.toNat := zb_nn (by omega) (by omega)
    have eI : 12 * Y + X = nI (12 * Y.toInt.toNat + X.toInt.toNat) := by
      conv => lhs; rw [eX, eY]
      rw [zb_12, nI_add]
    have i2 : vp_in (nI (12 * Y.toInt.toNat + X.toInt.toNat)) 120 := zb_in (by omega) (by decide)
    have e2 : (nI (12 * Y.toInt.toNat + X.toInt.toNat)).toNatClampNeg = 12 * Y.toInt.toNat + X.toInt.toNat := zb_c (by omega)
    rw [eI, e2]
    have sc : wn_scr X.toInt Y.toInt = true := wn_scrE.mpr ⟨by omega, by omega⟩
    refine ⟨i2, fun c5 => ⟨i2, fun c6 => F ?_, fun c6 => ?_⟩, fun c5 => F ?_⟩
    · unfold wn_q; rw [decide_eq_false (p := ¬ wc _ = 0) (fun h => h c6)]; simp
    · have : wn_q wt wo wc w X.toInt Y.toInt = true := by
        unfold wn_q
        rw [sc, decide_eq_true (p := ¬ wt w = 0) c0, decide_eq_true (p := wo _ = nI w) c5, decide_eq_true (p := ¬ wc _ = 0) c6]; rfl
      rw [this] at hp; exact hp
    · unfold wn_q; rw [decide_eq_false (p := wo _ = nI w) c5]; simp
/-- whether pixel i is clean after the call -/
def ym_k (th pa ox oy wd hg sh lv wt wx wy wo wc : Nat → Int32) (i : Nat) : Bool :=
  wn_q wt wo wc (wn_ix (wn_own th pa ox oy wd hg sh lv) i) (((i % 12 : Nat) : Int) - wn_cr pa ox 6 (wn_ix (wn_own th pa ox oy wd hg sh lv) i) + (wx (wn_ix (wn_own th pa ox oy wd hg sh lv) i)).toInt) (((i / 12 : Nat) : Int) - wn_cr pa oy 6 (wn_ix (wn_own th pa ox oy wd hg sh lv) i) + (wy (wn_ix (wn_own th pa ox oy wd hg sh lv) i)).toInt)
theorem ym_settle_l {post : SY → Prop} (hok : wn_ok pa ox oy wd hg) (hr : ∀ w, w < 6 → (-100 ≤ (wx w).toInt ∧ (wx w).toInt ≤ 100) ∧ (-100 ≤ (wy w).toInt ∧ (wy w).toInt ≤ 100))
    (hp : ∀ cl : Nat → Int32, (∀ i, i < 120 → cl i = ab_b (ym_k th pa ox oy wd hg sh lv wt wx wy wo wc i)) → post (tp, bt, th, pa, ox, oy, wd, hg, sh, lv, cl, wt, wx, wy, wo, wc)) :
    ∀ m i (cl : Nat → Int32), 120 - i < m → i ≤ 120 → (∀ j, j < i → cl j = ab_b (ym_k th pa ox oy wd hg sh lv wt wx wy wo wc j)) → wY_settle_2 post tp bt m (nI i) th pa ox oy wd hg sh lv cl wt wx wy wo wc := by
  intro m
  induction m with
  | zero => intro i cl h; omega
  | succ m ih =>
    intro i cl hm hi hI
    unfold wY_settle_2
    refine pk_le 120 i (fun h => ?_) (fun h => ⟨ym_12, ym_12, ?_⟩)
    · obtain rfl : i = 120 := by omega
      exact hp cl hI
    · have e1 : (nI i).toNatClampNeg = i := zb_c (by omega)
      obtain ⟨a, b⟩ := ym_d h
      have i1 : vp_in (nI i) 120 := zb_in h (by decide)
      rw [a, b, e1, nI_1]
      refine yc_owner (by omega) (by omega) hok ⟨ym_12, ym_12, ?_⟩
      refine ym_kept wn_own_6 (by omega) (by omega) hok (hr _ wn_own_6) ⟨i1, nm_e (nm_e ?_)⟩
      refine ih (i + 1) _ (by omega) (by omega) (fun j hj => ?_)
      by_cases z : j = i
      · subst z
        rw [pk_us]
        show vp_nar .boolean (ab_b (ym_k th pa ox oy wd hg sh lv wt wx wy wo wc j)) = _
        cases ym_k th pa ox oy wd hg sh lv wt wx wy wo wc j <;> rfl
      · rw [pk_un z]; exact hI j (by omega)
theorem ym_settle {post : SY → Prop} (hok : wn_ok pa ox oy wd hg) (hr : ∀ w, w < 6 → (-100 ≤ (wx w).toInt ∧ (wx w).toInt ≤ 100) ∧ (-100 ≤ (wy w).toInt ∧ (wy w).toInt ≤ 100))
    (hp : ∀ cl : Nat → Int32, (∀ i, i < 120 → cl i = ab_b (ym_k th pa ox oy wd hg sh lv wt wx wy wo wc i)) → post (tp, bt, th, pa, ox, oy, wd, hg, sh, lv, cl, wt, wx, wy, wo, wc)) : wpY_settle post (tp, bt, th, pa, ox, oy, wd, hg, sh, lv, cl, wt, wx, wy, wo, wc) := by
  unfold wpY_settle
  exact ⟨121, ym_settle_l hok hr hp 121 0 cl (by omega) (by omega) (fun w hw => absurd hw (by omega))⟩
end
end
section
/-! the reference: visible, paint, spoil -/
def sp_in (L U : Int) (W : Nat) (x y : Int) : Bool := (decide (L ≤ x) && decide (x < L + (W / 16 : Nat))) && (decide (U ≤ y) && decide (y < U + (W % 16 : Nat)))
section
variable {tp bt : Int32} {th pa ox oy wd hg sh lv cl wt wx wy wo wc : Nat → Int32}
theorem yl_vis {post : Int32 → Prop} {w : Nat} (hw : w < 6) (hok : wn_ok pa ox oy wd hg) (hp : post (nI (px_ct (fun i => decide (wn_ix (wn_own th pa ox oy wd hg sh lv) i = w)) 120))) :
    ∀ m i, 120 - i < m → i ≤ 120 → wY_visible_14 post (nI w) tp bt th pa ox oy wd hg sh lv cl wt wx wy wo wc m (nI (px_ct (fun i => decide (wn_ix (wn_own th pa ox oy wd hg sh lv) i = w)) i)) (nI i) := by
  intro m
  induction m with
  | zero => intro i h; omega
  | succ m ih =>
    intro i hm hi
    unfold wY_visible_14
    refine pk_le 120 i (fun h => ?_) (fun h => ⟨ym_12, ym_12, ?_⟩)
    · obtain rfl : i = 120 := by omega
      exact hp
    · obtain ⟨a, b⟩ := ym_d h
      rw [a, b, nI_1, nI_1]
      refine yc_owner (by omega) (by omega) hok ?_
      have o6 : wn_ix (wn_own th pa ox oy wd hg sh lv) i < 6 := wn_own_6
      have nx := ih (i + 1) (by omega) (by omega)
      refine pk_eq (wn_ix (wn_own th pa ox oy wd hg sh lv) i) w (fun e => nm_e (nm_e ?_)) (fun e => nm_e ?_)
      · have q : px_ct (fun i => decide (wn_ix (wn_own th pa ox oy wd hg sh lv) i = w)) (i + 1) = px_ct (fun i => decide (wn_ix (wn_own th pa ox oy wd hg sh lv) i = w)) i + 1 := by
          show _ + (if decide (wn_ix (wn_own th pa ox oy wd hg sh lv) i = w) = true then 1 else 0) = _
          rw [decide_eq_true e]; rfl
        rw [q] at nx; exact nx
      · have q : px_ct (fun i => decide (wn_ix (wn_own th pa ox oy wd hg sh lv) i = w)) (i + 1) = px_ct (fun i => decide (wn_ix (wn_own th pa ox oy wd hg sh lv) i = w)) i := by
          show _ + (if decide (wn_ix (wn_own th pa ox oy wd hg sh lv) i = w) = true then 1 else 0) = _
          rw [decide_eq_false e]; rfl
        rw [q] at nx; exact nx
theorem yl_paint {post : Int32 → SY → Prop} {w : Nat} {cl0 : Nat → Int32} (hw : w < 6) (hok : wn_ok pa ox oy wd hg) (hcl : ∀ i, i < 120 → cl0 i = 0 ∨ cl0 i = 1)
    (hp : ∀ cl : Nat → Int32, (∀ i, i < 120 → cl i = if wn_ix (wn_own th pa ox oy wd hg sh lv) i = w then 1 else cl0 i) → post (nI (px_ct (fun i => decide (wn_ix (wn_own th pa ox oy wd hg sh lv) i = w) && decide (cl0 i = 0)) 120)) (tp, bt, th, pa, ox, oy, wd, hg, sh, lv, cl, wt, wx, wy, wo, wc)) :
    ∀ m i (cl : Nat → Int32), 120 - i < m → i ≤ 120 → (∀ j, j < i → cl j = if wn_ix (wn_own th pa ox oy wd hg sh lv) j = w then 1 else cl0 j) → (∀ j, i ≤ j → cl j = cl0 j) →
      wY_paint_14 post (nI w) tp bt m (nI (px_ct (fun i => decide (wn_ix (wn_own th pa ox oy wd hg sh lv) i = w) && decide (cl0 i = 0)) i)) (nI i) th pa ox oy wd hg sh lv cl wt wx wy wo wc := by
  intro m
  induction m with
  | zero => intro i cl h; omega
  | succ m ih =>
    intro i cl hm hi h1 h2
    unfold wY_paint_14
    refine pk_le 120 i (fun h => ?_) (fun h => ⟨ym_12, ym_12, ?_⟩)
    · obtain rfl : i = 120 := by omega
      exact hp cl h1
    · obtain ⟨a, b⟩ := ym_d h
      have e1 : (nI i).toNatClampNeg = i := zb_c (by omega)
      have i1 : vp_in (nI i) 120 := zb_in h (by decide)
      rw [a, b, e1, nI_1, nI_1, h2 i (by omega)]
      refine yc_owner (by omega) (by omega) hok ?_
      have o6 : wn_ix (wn_own th pa ox oy wd hg sh lv) i < 6 := wn_own_6
      have no : ¬ (wn_ix (wn_own th pa ox oy wd hg sh lv) i = w ∧ cl0 i = 0) → wY_paint_14 post (nI w) tp bt m (nI (px_ct (fun i => decide (wn_ix (wn_own th pa ox oy wd hg sh lv) i = w) && decide (cl0 i = 0)) i)) (nI (i + 1)) th pa ox oy wd hg sh lv cl wt wx wy wo wc := by
        intro c
        have q : px_ct (fun i => decide (wn_ix (wn_own th pa ox oy wd hg sh lv) i = w) && decide (cl0 i = 0)) (i + 1) = px_ct (fun i => decide (wn_ix (wn_own th pa ox oy wd hg sh lv) i = w) && decide (cl0 i = 0)) i := by
          show _ + (if (decide (wn_ix (wn_own th pa ox oy wd hg sh lv) i = w) && decide (cl0 i = 0)) = true then 1 else 0) = _
          rw [← Bool.decide_and, decide_eq_false c]; rfl
        have nx := ih (i + 1) cl (by omega) (by omega) (fun j hj => ?_) (fun j hj => h2 j (by omega))
        · rw [q] at nx; exact nx
        · by_cases z : j = i
          · subst z
            rw [h2 j (by omega)]
            by_cases y : wn_ix (wn_own th pa ox oy wd hg sh lv) j = w
            · rw [if_pos y]
              rcases hcl j h with k | k
              · exact absurd ⟨y, k⟩ c
              · exact k
            · rw [if_neg y]
          · exact h1 j (by omega)
      refine pk_eq (wn_ix (wn_own th pa ox oy wd hg sh lv) i) w (fun e => ⟨i1, fun c => ⟨i1, nm_e (nm_e (nm_e ?_))⟩, fun c => nm_e (no (fun k => c k.2))⟩) (fun e => nm_e (no (fun k => e k.1)))
      have q : px_ct (fun i => decide (wn_ix (wn_own th pa ox oy wd hg sh lv) i = w) && decide (cl0 i = 0)) (i + 1) = px_ct (fun i => decide (wn_ix (wn_own th pa ox oy wd hg sh lv) i = w) && decide (cl0 i = 0)) i + 1 := by
        show _ + (if (decide (wn_ix (wn_own th pa ox oy wd hg sh lv) i = w) && decide (cl0 i = 0)) = true then 1 else 0) = _
        rw [decide_eq_true e, decide_eq_true c]; rfl
      have nx := ih (i + 1) (upd cl i (vp_nar .boolean 1)) (by omega) (by omega) (fun j hj => ?_) (fun j hj => by rw [pk_un (by omega)]; exact h2 j (by omega))
      · rw [q] at nx; exact nx
      · by_cases z : j = i
        · subst z; rw [pk_us, if_pos e]; rfl
        · rw [pk_un z]; exact h1 j (by omega)
theorem yl_131 {post : Int32 → SY → Prop} {J} {w i c : Nat} {x4 x5 x6 z : Int32} (hw : w < 6) (hi : i < 120) (hok : wn_ok pa ox oy wd hg)
    (k0 : ¬ ((¬ z = 0 ∧ ¬ cl i = 0) ∧ wn_ix (wn_own th pa ox oy wd hg sh lv) i = w) → J (nI c) (nI (i + 1)) th pa ox oy wd hg sh lv cl wt wx wy wo wc)
    (k1 : ((¬ z = 0 ∧ ¬ cl i = 0) ∧ wn_ix (wn_own th pa ox oy wd hg sh lv) i = w) → J (nI (c + 1)) (nI (i + 1)) th pa ox oy wd hg sh lv (upd cl i 0) wt wx wy wo wc) :
    wY_spoil_131 post J (nI w) x4 x5 x6 (nI c) (nI i) z tp bt th pa ox oy wd hg sh lv cl wt wx wy wo wc := by
  obtain ⟨a, b⟩ := ym_d hi
  have e1 : (nI i).toNatClampNeg = i := zb_c (by omega)
  have i1 : vp_in (nI i) 120 := zb_in hi (by decide)
  unfold wY_spoil_131
  rw [a, b, e1, nI_1, nI_1]
  refine ⟨fun c0 => nm_e (k0 (fun k => k.1.1 c0)), fun c0 => ⟨i1, fun c1 => nm_e (k0 (fun k => k.1.2 c1)), fun c1 => ⟨ym_12, ym_12, ?_⟩⟩⟩
  refine yc_owner (by omega) (by omega) hok ?_
  have o6 : wn_ix (wn_own th pa ox oy wd hg sh lv) i < 6 := wn_own_6
  refine pk_eq (wn_ix (wn_own th pa ox oy wd hg sh lv) i) w (fun e => ⟨i1, nm_e (nm_e (nm_e (k1 ⟨⟨c0, c1⟩, e⟩)))⟩) (fun e => nm_e (k0 (fun k => e k.2)))
theorem yl_spoil {post : Int32 → SY → Prop} {w W : Nat} {L U : Int32} {cl0 : Nat → Int32} (hw : w < 6) (hW : W < 256) (hL : -200 ≤ L.toInt ∧ L.toInt ≤ 200) (hU : -200 ≤ U.toInt ∧ U.toInt ≤ 200) (hok : wn_ok pa ox oy wd hg)
    (hp : ∀ cl : Nat → Int32, (∀ i, i < 120 → cl i = if sp_in L.toInt U.toInt W ((i % 12 : Nat) : Int) ((i / 12 : Nat) : Int) = true ∧ wn_ix (wn_own th pa ox oy wd hg sh lv) i = w then 0 else cl0 i) →
      post (nI (px_ct (fun i => (sp_in L.toInt U.toInt W ((i % 12 : Nat) : Int) ((i / 12 : Nat) : Int) && decide (¬ cl0 i = 0)) && decide (wn_ix (wn_own th pa ox oy wd hg sh lv) i = w)) 120)) (tp, bt, th, pa, ox, oy, wd, hg, sh, lv, cl, wt, wx, wy, wo, wc)) :
    ∀ m i (cl : Nat → Int32), 120 - i < m → i ≤ 120 → (∀ j, j < i → cl j = if sp_in L.toInt U.toInt W ((j % 12 : Nat) : Int) ((j / 12 : Nat) : Int) = true ∧ wn_ix (wn_own th pa ox oy wd hg sh lv) j = w then 0 else cl0 j) → (∀ j, i ≤ j → cl j = cl0 j) →
      wY_spoil_67 post (nI w) (nI W) L U tp bt m (nI (px_ct (fun i => (sp_in L.toInt U.toInt W ((i % 12 : Nat) : Int) ((i / 12 : Nat) : Int) && decide (¬ cl0 i = 0)) && decide (wn_ix (wn_own th pa ox oy wd hg sh lv) i = w)) i)) (nI i) th pa ox oy wd hg sh lv cl wt wx wy wo wc := by
  intro m
  induction m with
  | zero => intro i cl h; omega
  | succ m ih =>
    intro i cl hm hi h1 h2
    unfold wY_spoil_67
    refine pk_le 120 i (fun h => ?_) (fun h => ⟨ym_12, ?_⟩)
    · obtain rfl : i = 120 := by omega
      exact hp cl h1
    · obtain ⟨a, b⟩ := ym_d h
      have e16 : nI W / 16 = nI (W / 16) := pk_div (d := 16) (by omega) (by omega) (by omega)
      have r16 : nI W - nI W / 16 * 16 = nI (W % 16) := pk_rem (d := 16) (by omega) (by omega) (by omega)
      have z16 : ¬ (16 : Int32) = 0 := by decide
      have tx : (nI (i % 12)).toInt = ((i % 12 : Nat) : Int) := zb_n (by omega)
      have ty : (nI (i / 12)).toInt = ((i / 12 : Nat) : Int) := zb_n (by omega)
      have tw : (nI (W / 16)).toInt = ((W / 16 : Nat) : Int) := zb_n (by omega)
      have tr : (nI (W % 16)).toInt = ((W % 16 : Nat) : Int) := zb_n (by omega)
      have tL : (L + nI (W / 16)).toInt = L.toInt + ((W / 16 : Nat) : Int) := by rw [zb_add (by omega) (by omega), tw]
      have tU : (U + nI (W % 16)).toInt = U.toInt + ((W % 16 : Nat) : Int) := by rw [zb_add (by omega) (by omega), tr]
      have go : ∀ z : Int32, z = ab_b (sp_in L.toInt U.toInt W ((i % 12 : Nat) : Int) ((i / 12 : Nat) : Int)) → wY_spoil_131 post (wY_spoil_67 post (nI w) (nI W) L U tp bt m) (nI w) (nI W) L U (nI (px_ct (fun i => (sp_in L.toInt U.toInt W ((i % 12 : Nat) : Int) ((i / 12 : Nat) : Int) && decide (¬ cl0 i = 0)) && decide (wn_ix (wn_own th pa ox oy wd hg sh lv) i = w)) i)) (nI i) z tp bt th pa ox oy wd hg sh lv cl wt wx wy wo wc := by
        intro z hz
        have hz' : ¬ z = 0 ↔ sp_in L.toInt U.toInt W ((i % 12 : Nat) : Int) ((i / 12 : Nat) : Int) = true := by
          rw [hz]; cases sp_in L.toInt U.toInt W ((i % 12 : Nat) : Int) ((i / 12 : Nat) : Int)
          · exact ⟨fun k => absurd rfl k, fun k => nomatch k⟩
          · exact ⟨fun _ => rfl, fun _ => by decide⟩
        refine yl_131 hw h hok (fun k => ?_) (fun k => ?_)
        · rw [hz', h2 i (by omega)] at k
          have q : px_ct (fun i => (sp_in L.toInt U.toInt W ((i % 12 : Nat) : Int) ((i / 12 : Nat) : Int) && decide (¬ cl0 i = 0)) && decide (wn_ix (wn_own th pa ox oy wd hg sh lv) i = w)) (i + 1) = px_ct (fun i => (sp_in L.toInt U.toInt W ((i % 12 : Nat) : Int) ((i / 12 : Nat) : Int) && decide (¬ cl0 i = 0)) && decide (wn_ix (wn_own th pa ox oy wd hg sh lv) i = w)) i := by
            show _ + (if ((sp_in L.toInt U.toInt W ((i % 12 : Nat) : Int) ((i / 12 : Nat) : Int) && decide (¬ cl0 i = 0)) && decide (wn_ix (wn_own th pa ox oy wd hg sh lv) i = w)) = true then 1 else 0) = _
            rw [if_neg (fun t => k (by rw [Bool.and_eq_true, Bool.and_eq_true, decide_eq_true_eq, decide_eq_true_eq] at t; exact t)), Nat.add_zero]
          have nx := ih (i + 1) cl (by omega) (by omega) (fun j hj => ?_) (fun j hj => h2 j (by omega))
          · rw [q] at nx; exact nx
          · by_cases y : j = i
            · subst y
              rw [h2 j (by omega)]
              by_cases y : sp_in L.toInt U.toInt W ((j % 12 : Nat) : Int) ((j / 12 : Nat) : Int) = true ∧ wn_ix (wn_own th pa ox oy wd hg sh lv) j = w
              · rw [if_pos y]
                by_cases c0 : cl0 j = 0
                · exact c0
                · exact absurd ⟨⟨y.1, c0⟩, y.2⟩ k
              · rw [if_neg y]
            · exact h1 j (by omega)
        · rw [hz', h2 i (by omega)] at k
          have q : px_ct (fun i => (sp_in L.toInt U.toInt W ((i % 12 : Nat) : Int) ((i / 12 : Nat) : Int) && decide (¬ cl0 i = 0)) && decide (wn_ix (wn_own th pa ox oy wd hg sh lv) i = w)) (i + 1) = px_ct (fun i => (sp_in L.toInt U.toInt W ((i % 12 : Nat) : Int) ((i / 12 : Nat) : Int) && decide (¬ cl0 i = 0)) && decide (wn_ix (wn_own th pa ox oy wd hg sh lv) i = w)) i + 1 := by
            show _ + (if ((sp_in L.toInt U.toInt W ((i % 12 : Nat) : Int) ((i / 12 : Nat) : Int) && decide (¬ cl0 i = 0)) && decide (wn_ix (wn_own th pa ox oy wd hg sh lv) i = w)) = true then 1 else 0) = _
            rw [if_pos (by rw [Bool.and_eq_true, Bool.and_eq_true, decide_eq_true_eq, decide_eq_true_eq]; exact k)]
          have nx := ih (i + 1) (upd cl i 0) (by omega) (by omega) (fun j hj => ?_) (fun j hj => by rw [pk_un (by omega)]; exact h2 j (by omega))
          · rw [q] at nx; exact nx
          · by_cases y : j = i
            · subst y; rw [pk_us, if_pos ⟨k.1.1, k.2⟩]
            · rw [pk_un y]; exact h1 j (by omega)
      have out : ¬ ((L.toInt ≤ ((i % 12 : Nat) : Int) ∧ ((i % 12 : Nat) : Int) < L.toInt + (W / 16 : Nat)) ∧ (U.toInt ≤ ((i / 12 : Nat) : Int) ∧ ((i / 12 : Nat) : Int) < U.toInt + (W % 16 : Nat))) → wY_spoil_130 post (wY_spoil_67 post (nI w) (nI W) L U tp bt m) (nI w) (nI W) L U (nI (px_ct (fun i => (sp_in L.toInt U.toInt W ((i % 12 : Nat) : Int) ((i / 12 : Nat) : Int) && decide (¬ cl0 i = 0)) && decide (wn_ix (wn_own th pa ox oy wd hg sh lv) i = w)) i)) (nI i) tp bt th pa ox oy wd hg sh lv cl wt wx wy wo wc := by
        intro k
        unfold wY_spoil_130
        refine go 0 ?_
        have : sp_in L.toInt U.toInt W ((i % 12 : Nat) : Int) ((i / 12 : Nat) : Int) = false := by
          cases t : sp_in L.toInt U.toInt W ((i % 12 : Nat) : Int) ((i / 12 : Nat) : Int)
          · rfl
          · unfold sp_in at t
            rw [Bool.and_eq_true, Bool.and_eq_true, Bool.and_eq_true, decide_eq_true_eq, decide_eq_true_eq, decide_eq_true_eq, decide_eq_true_eq] at t
            exact absurd t k
        rw [this]; rfl
      rw [a, b, r16, e16]
      refine zb_slt tx rfl (fun c => out (by omega)) (fun c1 => ⟨ym_12, z16, zb_sel tL tx (fun c => out (by omega)) (fun c2 => ⟨ym_12, zb_slt ty rfl (fun c => out (by omega)) (fun c3 => ⟨ym_12, z16, zb_sel tU ty (fun c => out (by omega)) (fun c4 => ?_)⟩)⟩)⟩)
      refine go 1 ?_
      have : sp_in L.toInt U.toInt W ((i % 12 : Nat) : Int) ((i / 12 : Nat) : Int) = true := by
        unfold sp_in
        rw [decide_eq_true c1, decide_eq_true c2, decide_eq_true c3, decide_eq_true c4]; rfl
      rw [this]; rfl
end
end
section
/-! helpers: isThere, missing, keepCorners, setSize, unpile, removeWindow; the pile -/
def zl_len (x : Int32) : Int32 := if x = 0 then 1 else if x ≤ 12 then x else 12
theorem zl_r (x : Int32) : 0 ≤ (zl_len (x &&& 15)).toInt ∧ (zl_len (x &&& 15)).toInt ≤ 12 := by
  obtain ⟨j, hj, e⟩ := pk_andE x (m := 15) 4 (by decide)
  rw [e]
  have h : ∀ j, j < 16 → 0 ≤ (zl_len (nI j)).toInt ∧ (zl_len (nI j)).toInt ≤ 12 := by decide +kernel
  exact h j hj
section
variable {fp : Int32} {th pa ox oy wd hg sh cx cy qx qy pl B T M N E ww wp : Nat → Int32}
theorem xh_is_t {post : Int32 → Prop} {w : Nat} (hw : w < 6) (ht : ¬ th w = 0) (hp : post 1) : wpX_isThere post (fp, th, pa, ox, oy, wd, hg, sh, cx, cy, qx, qy, pl, B, T, M, N, E, ww, wp) (nI w) := by
  have e1 : (nI w).toNatClampNeg = w := zb_c (by omega)
  unfold wpX_isThere
  try dsimp only
  rw [e1]
  exact br_f (nI_pos (by omega)) (br_f (nI_nlt (a := 5) (by omega) (by omega)) ⟨zb_in hw (by decide), br_f ht hp⟩)
theorem xh_is_f {post : Int32 → Prop} {p : Int32} (hn : ¬ ∃ w, w < 6 ∧ p = nI w ∧ ¬ th w = 0) (hp : post 0) : wpX_isThere post (fp, th, pa, ox, oy, wd, hg, sh, cx, cy, qx, qy, pl, B, T, M, N, E, ww, wp) p := by
  unfold wpX_isThere
  refine br_c (fun _ => hp) (fun h => br_c (fun _ => hp) (fun h5 => ?_))
  obtain ⟨j, hj, rfl⟩ := nI_of2 (M := 5) (n := 5) (by decide) h (Int32.not_lt.mp h5)
  have e1 : (nI j).toNatClampNeg = j := zb_c (by omega)
  try dsimp only
  rw [e1]
  exact ⟨zb_in (by omega) (by decide), br_c (fun _ => hp) (fun c => absurd ⟨j, by omega, rfl, c⟩ hn)⟩
theorem xh_keep_l {post : SX → Prop} (hp : ∀ qx qy : Nat → Int32, (∀ w, w < 6 → qx w = cx w ∧ qy w = cy w) → post (fp, th, pa, ox, oy, wd, hg, sh, cx, cy, qx, qy, pl, B, T, M, N, E, ww, wp)) :
    ∀ m k (qx qy : Nat → Int32), 6 - k < m → k ≤ 6 → (∀ w, w < k → qx w = cx w ∧ qy w = cy w) → wX_keepCorners_2 post fp m (nI k) th pa ox oy wd hg sh cx cy qx qy pl B T M N E ww wp := by
  intro m
  induction m with
  | zero => intro k qx qy h; omega
  | succ m ih =>
    intro k qx qy hm hk hI
    unfold wX_keepCorners_2
    refine pk_le 6 k (fun h => ?_) (fun h => ?_)
    · obtain rfl : k = 6 := by omega
      exact hp qx qy hI
    · have e1 : (nI k).toNatClampNeg = k := zb_c (by omega)
      have i1 : vp_in (nI k) 6 := zb_in h (by decide)
      rw [e1, nI_1]
      refine ⟨i1, i1, nm_e ⟨i1, i1, nm_e (nm_e ?_)⟩⟩
      refine ih (k + 1) _ _ (by omega) (by omega) (fun j hj => ?_)
      by_cases z : j = k
      · subst z; rw [pk_us, pk_us]; exact ⟨rfl, rfl⟩
      · rw [pk_un z, pk_un z]; exact hI j (by omega)
theorem xh_keep {post : SX → Prop} (hp : ∀ qx qy : Nat → Int32, (∀ w, w < 6 → qx w = cx w ∧ qy w = cy w) → post (fp, th, pa, ox, oy, wd, hg, sh, cx, cy, qx, qy, pl, B, T, M, N, E, ww, wp)) : wpX_keepCorners post (fp, th, pa, ox, oy, wd, hg, sh, cx, cy, qx, qy, pl, B, T, M, N, E, ww, wp) := by
  unfold wpX_keepCorners
  exact ⟨7, xh_keep_l hp 7 0 qx qy (by omega) (by omega) (fun j hj => absurd hj (by omega))⟩
theorem xh_size {post : SX → Prop} {w : Nat} {z : Int32} (hw : w < 6) (hp : post (fp, th, pa, ox, oy, upd wd w (zl_len (z &&& 15)), upd hg w (zl_len ((z >>> ((4 : Int32) &&& 31)) &&& 15)), sh, cx, cy, qx, qy, pl, B, T, M, N, E, ww, wp)) : wpX_setSize post (fp, th, pa, ox, oy, wd, hg, sh, cx, cy, qx, qy, pl, B, T, M, N, E, ww, wp) (nI w) z := by
  have e1 : (nI w).toNatClampNeg = w := zb_c (by omega)
  have i1 : vp_in (nI w) 6 := zb_in hw (by decide)
  have go : ∀ a : Int32, a = zl_len (z &&& 15) → wX_setSize_38 post (nI w) ((z >>> ((4 : Int32) &&& 31)) &&& 15) a (nI w) fp th pa ox oy wd hg sh cx cy qx qy pl B T M N E ww wp := by
    intro a ha
    subst ha
    unfold wX_setSize_38
    rw [e1]
    refine ⟨i1, nm_e ⟨fun c => ⟨i1, nm_e ?_⟩, fun c => ⟨fun c' => ⟨i1, nm_e ?_⟩, fun c' => ⟨i1, nm_e ?_⟩⟩⟩⟩
    · rw [show zl_len ((z >>> ((4 : Int32) &&& 31)) &&& 15) = 1 from if_pos c] at hp; exact hp
    · rw [show zl_len ((z >>> ((4 : Int32) &&& 31)) &&& 15) = (z >>> ((4 : Int32) &&& 31)) &&& 15 from (if_neg c).trans (if_pos c')] at hp; exact hp
    · rw [show zl_len ((z >>> ((4 : Int32) &&& 31)) &&& 15) = 12 from (if_neg c).trans (if_neg c')] at hp; exact hp
  unfold wpX_setSize
  refine nm_e (nm_e ⟨fun c => go _ (if_pos c).symm, fun c => ⟨fun c' => go _ ((if_neg c).trans (if_pos c')).symm, fun c' => go _ ((if_neg c).trans (if_neg c')).symm⟩⟩)
def up_ok (pl pl' : Nat → Int32) (np np' w : Nat) : Prop := ∃ g : Nat → Nat, (∀ i, i < np' → g i < np ∧ pl' i = pl (g i) ∧ pl (g i) ≠ nI w) ∧ (∀ i j, i < j → j < np' → g i < g j) ∧ (∀ j, j < np → pl j ≠ nI w → ∃ i, i < np' ∧ g i = j) ∧ np' ≤ np
theorem up_l {post : SX → Prop} {w np : Nat} {pl0 : Nat → Int32} (hnp : np ≤ 5) (hp : ∀ (pl : Nat → Int32) (np' : Nat), up_ok pl0 pl np np' w → post (nI np', th, pa, ox, oy, wd, hg, sh, cx, cy, qx, qy, pl, B, T, M, N, E, ww, wp)) :
    ∀ m k c (g : Nat → Nat) (pl : Nat → Int32), np - k < m → k ≤ np → c ≤ k → (∀ i, i < c → g i < k ∧ pl i = pl0 (g i) ∧ pl0 (g i) ≠ nI w) → (∀ i j, i < j → j < c → g i < g j) → (∀ j, j < k → pl0 j ≠ nI w → ∃ i, i < c ∧ g i = j) → (∀ j, k ≤ j → pl j = pl0 j) → wX_unpile_4 post (nI w) (nI np) m (nI c) (nI k) th pa ox oy wd hg sh cx cy qx qy pl B T M N E ww wp := by
  intro m
  induction m with
  | zero => intro k c g pl h; omega
  | succ m ih =>
    intro k c g pl hm hk hc h1 h2 h3 h4
    unfold wX_unpile_4
    refine pk_le np k (fun h => ?_) (fun h => ?_)
    · obtain rfl : k = np := by omega
      exact hp pl c ⟨g, h1, h2, h3, hc⟩
    · have e1 : (nI k).toNatClampNeg = k := zb_c (by omega)
      have e2 : (nI c).toNatClampNeg = c := zb_c (by omega)
      rw [e1, e2, nI_1, nI_1, h4 k (by omega)]
      refine ⟨zb_in (by omega) (by decide), fun d => nm_e ?_, fun d => ⟨zb_in (by omega) (by decide), zb_in (by omega) (by decide), nm_e (nm_e (nm_e ?_))⟩⟩
      · refine ih (k + 1) c g pl (by omega) (by omega) (by omega) (fun i hi => ⟨by have := (h1 i hi).1; omega, (h1 i hi).2⟩) h2 (fun j hj hw => ?_) (fun j hj => h4 j (by omega))
        by_cases z : j = k
        · subst z; exact absurd d hw
        · exact h3 j (by omega) hw
      · refine ih (k + 1) (c + 1) (fun i => if i = c then k else g i) _ (by omega) (by omega) (by omega) (fun i hi => ?_) (fun i j hi hj => ?_) (fun j hj hw => ?_) (fun j hj => by rw [pk_un (by omega)]; exact h4 j (by omega))
        · try dsimp only
          by_cases z : i = c
          · subst z; rw [if_pos rfl, pk_us]; exact ⟨by omega, rfl, d⟩
          · rw [if_neg z, pk_un z]; exact ⟨by have := (h1 i (by omega)).1; omega, (h1 i (by omega)).2⟩
        · try dsimp only
          by_cases z : j = c
          · rw [if_pos z, if_neg (by omega)]; exact (h1 i (by omega)).1
          · rw [if_neg z, if_neg (by omega)]; exact h2 i j hi (by omega)
        · by_cases z : j = k
          · exact ⟨c, by omega, by rw [if_pos rfl, z]⟩
          · obtain ⟨i, hi, e⟩ := h3 j (by omega) hw
            exact ⟨i, by omega, by rw [if_neg (by omega), e]⟩
theorem up_spec {post : SX → Prop} {w np : Nat} (hnp : np ≤ 5) (hfp : fp = nI np) (hp : ∀ (pl' : Nat → Int32) (np' : Nat), up_ok pl pl' np np' w → post (nI np', th, pa, ox, oy, wd, hg, sh, cx, cy, qx, qy, pl', B, T, M, N, E, ww, wp)) : wpX_unpile post (fp, th, pa, ox, oy, wd, hg, sh, cx, cy, qx, qy, pl, B, T, M, N, E, ww, wp) (nI w) := by
  subst hfp
  unfold wpX_unpile
  exact ⟨np + 1, up_l hnp hp (np + 1) 0 0 (fun i => i) pl (by omega) (by omega) (by omega) (fun i hi => absurd hi (by omega)) (fun i j _ hj => absurd hj (by omega)) (fun j hj => absurd hj (by omega)) (fun _ _ => rfl)⟩
theorem rm_spec {post : SX → Prop} {w np : Nat} (hw : w < 6) (hnp : np ≤ 5) (hfp : fp = nI np) (hp : ∀ (pl' : Nat → Int32) (np' : Nat), up_ok pl pl' np np' w → post (nI np', upd th w 0, pa, ox, oy, wd, hg, sh, cx, cy, qx, qy, pl', upd (upd B w 0) (6 + w) 0, T, M, N, E, ww, wp)) : wpX_removeWindow post (fp, th, pa, ox, oy, wd, hg, sh, cx, cy, qx, qy, pl, B, T, M, N, E, ww, wp) (nI w) := by
  have e1 : (nI w).toNatClampNeg = w := zb_c (by omega)
  have e2 : (nI (6 + w)).toNatClampNeg = 6 + w := zb_c (by omega)
  unfold wpX_removeWindow
  try dsimp only
  rw [zb_6p, e1, e2]
  refine ⟨zb_in hw (by decide), nm_e ⟨zb_in (by omega) (by decide), nm_e ⟨zb_in (by omega) (by decide), nm_e ?_⟩⟩⟩
  exact up_spec hnp hfp hp
end
section
variable {tp bt : Int32} {th pa ox oy wd hg sh lv cl wt wx wy wo wc : Nat → Int32}
theorem yh_mi_t {post : Int32 → Prop} {w : Nat} (hw : w < 6) (ht : ¬ th w = 0) (hp : post 0) : wpY_missing post (tp, bt, th, pa, ox, oy, wd, hg, sh, lv, cl, wt, wx, wy, wo, wc) (nI w) := by
  have e1 : (nI w).toNatClampNeg = w := zb_c (by omega)
  unfold wpY_missing
  try dsimp only
  rw [e1]
  exact br_f (nI_pos (by omega)) (br_f (nI_nlt (a := 5) (by omega) (by omega)) ⟨zb_in hw (by decide), br_f ht hp⟩)
theorem yh_mi_f {post : Int32 → Prop} {p : Int32} (hn : ¬ ∃ w, w < 6 ∧ p = nI w ∧ ¬ th w = 0) (hp : post 1) : wpY_missing post (tp, bt, th, pa, ox, oy, wd, hg, sh, lv, cl, wt, wx, wy, wo, wc) p := by
  unfold wpY_missing
  refine br_c (fun _ => hp) (fun h => br_c (fun _ => hp) (fun h5 => ?_))
  obtain ⟨j, hj, rfl⟩ := nI_of2 (M := 5) (n := 5) (by decide) h (Int32.not_lt.mp h5)
  have e1 : (nI j).toNatClampNeg = j := zb_c (by omega)
  try dsimp only
  rw [e1]
  exact ⟨zb_in (by omega) (by decide), br_c (fun _ => hp) (fun c => absurd ⟨j, by omega, rfl, c⟩ hn)⟩
theorem yh_len {post : Int32 → Prop} {x : Int32} (hp : post (zl_len x)) : wpY_length post x := by
  unfold wpY_length
  refine ⟨fun c => ?_, fun c => ⟨fun c' => ?_, fun c' => ?_⟩⟩
  · rw [show zl_len x = 1 from if_pos c] at hp; exact hp
  · rw [show zl_len x = x from (if_neg c).trans (if_pos c')] at hp; exact hp
  · rw [show zl_len x = 12 from (if_neg c).trans (if_neg c')] at hp; exact hp
theorem yh_size {post : SY → Prop} {w : Nat} {z : Int32} (hw : w < 6) (hp : post (tp, bt, th, pa, ox, oy, upd wd w (zl_len (z &&& 15)), upd hg w (zl_len ((z >>> ((4 : Int32) &&& 31)) &&& 15)), sh, lv, cl, wt, wx, wy, wo, wc)) : wpY_setSize post (tp, bt, th, pa, ox, oy, wd, hg, sh, lv, cl, wt, wx, wy, wo, wc) (nI w) z := by
  have e1 : (nI w).toNatClampNeg = w := zb_c (by omega)
  have i1 : vp_in (nI w) 6 := zb_in hw (by decide)
  unfold wpY_setSize
  try dsimp only
  rw [e1]
  exact yh_len ⟨i1, nm_e (yh_len ⟨i1, nm_e hp⟩)⟩
end
/-- the pile and the levels -/
def pl_ok (th pl lv : Nat → Int32) (np : Nat) (lo hi : Int) : Prop :=
  pi_ok th pl np ∧ (∀ i j, i < j → j < np → lv (pl i).toNatClampNeg < lv (pl j).toNatClampNeg) ∧ (∀ i, i < np → lo ≤ (lv (pl i).toNatClampNeg).toInt ∧ (lv (pl i).toNatClampNeg).toInt ≤ hi)
section
variable {th pl pl' lv : Nat → Int32} {np np' w : Nat} {lo hi : Int}
theorem pl_lt (h : pi_ok th pl np) (hw1 : 1 ≤ w) (hw : w < 6) (h0 : th w = 0) : np ≤ 4 := by
  obtain ⟨p1, p2, p3, p4⟩ := h
  by_cases e : np = 5
  · exfalso
    subst e
    obtain ⟨v0, a0, b0, c0, d0⟩ := p2 0 (by omega)
    obtain ⟨v1, a1, b1, c1, d1⟩ := p2 1 (by omega)
    obtain ⟨v2, a2, b2, c2, d2⟩ := p2 2 (by omega)
    obtain ⟨v3, a3, b3, c3, d3⟩ := p2 3 (by omega)
    obtain ⟨v4, a4, b4, c4, d4⟩ := p2 4 (by omega)
    have n01 : v0 ≠ v1 := fun e => p3 0 1 (by omega) (by omega) (by rw [c0, c1, e])
    have n02 : v0 ≠ v2 := fun e => p3 0 2 (by omega) (by omega) (by rw [c0, c2, e])
    have n03 : v0 ≠ v3 := fun e => p3 0 3 (by omega) (by omega) (by rw [c0, c3, e])
    have n04 : v0 ≠ v4 := fun e => p3 0 4 (by omega) (by omega) (by rw [c0, c4, e])
    have n12 : v1 ≠ v2 := fun e => p3 1 2 (by omega) (by omega) (by rw [c1, c2, e])
    have n13 : v1 ≠ v3 := fun e => p3 1 3 (by omega) (by omega) (by rw [c1, c3, e])
    have n14 : v1 ≠ v4 := fun e => p3 1 4 (by omega) (by omega) (by rw [c1, c4, e])
    have n23 : v2 ≠ v3 := fun e => p3 2 3 (by omega) (by omega) (by rw [c2, c3, e])
    have n24 : v2 ≠ v4 := fun e => p3 2 4 (by omega) (by omega) (by rw [c2, c4, e])
    have n34 : v3 ≠ v4 := fun e => p3 3 4 (by omega) (by omega) (by rw [c3, c4, e])
    have z0 : 0 ≠ v0 := by omega
    have z1 : 0 ≠ v1 := by omega
    have z2 : 0 ≠ v2 := by omega
    have z3 : 0 ≠ v3 := by omega
    have z4 : 0 ≠ v4 := by omega
    have cv := covers_all 6 [0, v0, v1, v2, v3, v4] (by simp [n01, n02, n03, n04, n12, n13, n14, n23, n24, n34, z0, z1, z2, z3, z4]) (by
      intro x hx
      simp only [List.mem_cons, List.not_mem_nil, or_false] at hx
      omega) rfl w hw
    simp only [List.mem_cons, List.not_mem_nil, or_false] at cv
    rcases cv with e | e | e | e | e | e
    · omega
    · exact d0 (by rw [← e]; exact h0)
    · exact d1 (by rw [← e]; exact h0)
    · exact d2 (by rw [← e]; exact h0)
    · exact d3 (by rw [← e]; exact h0)
    · exact d4 (by rw [← e]; exact h0)
  · omega
theorem pl_rm (h : pl_ok th pl lv np lo hi) (hw : w < 6) (u : up_ok pl pl' np np' w) : pl_ok (upd th w 0) pl' lv np' lo hi := by
  obtain ⟨⟨p1, p2, p3, p4⟩, l1, l2⟩ := h
  obtain ⟨g, g1, g2, g3, g4⟩ := u
  refine ⟨⟨by omega, fun i hi => ?_, fun i j hi hj => ?_, fun v v1 v2 v3 => ?_⟩, fun i j hi hj => ?_, fun i hi => ?_⟩
  · obtain ⟨a, b, c⟩ := g1 i hi
    obtain ⟨v, v1, v2, v3, v4⟩ := p2 (g i) a
    refine ⟨v, v1, v2, by rw [b, v3], ?_⟩
    rw [pk_un (fun e => c (by rw [v3, e]))]; exact v4
  · rw [(g1 i (by omega)).2.1, (g1 j hj).2.1]
    exact p3 _ _ (g2 i j hi hj) (g1 j hj).1
  · by_cases z : v = w
    · rw [z, pk_us] at v3; exact absurd rfl v3
    · rw [pk_un z] at v3
      obtain ⟨j, hj, e⟩ := p4 v v1 v2 v3
      obtain ⟨i, hi, e'⟩ := g3 j hj (fun k => z (ar_inj (e.symm.trans k) v2 hw))
      exact ⟨i, hi, by rw [(g1 i hi).2.1, e', e]⟩
  · rw [(g1 i (by omega)).2.1, (g1 j hj).2.1]
    exact l1 _ _ (g2 i j hi hj) (g1 j hj).1
  · rw [(g1 i hi).2.1]; exact l2 _ (g1 i hi).1
theorem pl_ne (h : pi_ok th pl np) (h0 : th w = 0) {i : Nat} (hi : i < np) : ∃ v, 1 ≤ v ∧ v < 6 ∧ pl i = nI v ∧ ¬ th v = 0 ∧ v ≠ w ∧ (pl i).toNatClampNeg = v := by
  obtain ⟨v, v1, v2, v3, v4⟩ := h.2.1 i hi
  exact ⟨v, v1, v2, v3, v4, fun e => v4 (by rw [e]; exact h0), by rw [v3]; exact zb_c (by omega)⟩
theorem pl_top {t : Int32} (h : pl_ok th pl lv np lo hi) (hw1 : 1 ≤ w) (hw : w < 6) (h0 : th w = 0) (ht : hi < t.toInt) (hlo : lo ≤ t.toInt) : pl_ok (upd th w 1) (upd pl np (nI w)) (upd lv w t) (np + 1) lo t.toInt := by
  obtain ⟨p, l1, l2⟩ := h
  have np4 := pl_lt p hw1 hw h0
  have ew : (nI w).toNatClampNeg = w := zb_c (by omega)
  have ne := fun {i} (hi : i < np) => pl_ne p h0 hi
  refine ⟨⟨by omega, fun i hi => ?_, fun i j hi hj => ?_, fun v v1 v2 v3 => ?_⟩, fun i j hi hj => ?_, fun i hi => ?_⟩
  · by_cases z : i = np
    · exact ⟨w, hw1, hw, by rw [z, pk_us], by rw [pk_us]; decide⟩
    · obtain ⟨v, v1, v2, v3, v4, v5, _⟩ := ne (show i < np by omega)
      exact ⟨v, v1, v2, by rw [pk_un z]; exact v3, by rw [pk_un v5]; exact v4⟩
  · by_cases z : j = np
    · obtain ⟨v, v1, v2, v3, v4, v5, _⟩ := ne (show i < np by omega)
      rw [z, pk_us, pk_un (by omega), v3]
      exact fun e => v5 (ar_inj e v2 hw)
    · rw [pk_un (by omega), pk_un z]; exact p.2.2.1 i j hi (by omega)
  · by_cases z : v = w
    · exact ⟨np, by omega, by rw [pk_us, z]⟩
    · rw [pk_un z] at v3
      obtain ⟨i, hi, e⟩ := p.2.2.2 v v1 v2 v3
      exact ⟨i, by omega, by rw [pk_un (by omega)]; exact e⟩
  · by_cases z : j = np
    · obtain ⟨v, v1, v2, v3, v4, v5, v6⟩ := ne (show i < np by omega)
      have := (l2 i (by omega)).2
      rw [v6] at this
      rw [z, pk_us, pk_un (f := pl) (show i ≠ np by omega), ew, pk_us, v6, pk_un v5, zb_lt]; omega
    · obtain ⟨v, v1, v2, v3, v4, v5, v6⟩ := ne (show i < np by omega)
      obtain ⟨v', v1', v2', v3', v4', v5', v6'⟩ := ne (show j < np by omega)
      have := l1 i j hi (by omega)
      rw [v6, v6'] at this
      rw [pk_un (f := pl) z, pk_un (f := pl) (show i ≠ np by omega), v6, v6', pk_un v5, pk_un v5']; exact this
  · by_cases z : i = np
    · rw [z, pk_us, ew, pk_us]; omega
    · obtain ⟨v, v1, v2, v3, v4, v5, v6⟩ := ne (show i < np by omega)
      have := l2 i (by omega)
      rw [v6] at this
      rw [pk_un z, v6, pk_un v5]; omega
theorem pl_bot {t : Int32} (h : pl_ok th pl lv np lo hi) (hw1 : 1 ≤ w) (hw : w < 6) (h0 : th w = 0) (ht : t.toInt < lo) (hhi : t.toInt ≤ hi) (e0 : pl' 0 = nI w) (e1 : ∀ i, i < np → pl' (i + 1) = pl i) : pl_ok (upd th w 1) pl' (upd lv w t) (np + 1) t.toInt hi := by
  obtain ⟨p, l1, l2⟩ := h
  have np4 := pl_lt p hw1 hw h0
  have ew : (nI w).toNatClampNeg = w := zb_c (by omega)
  have ne := fun {i} (hi : i < np) => pl_ne p h0 hi
  refine ⟨⟨by omega, fun i hi => ?_, fun i j hi hj => ?_, fun v v1 v2 v3 => ?_⟩, fun i j hi hj => ?_, fun i hi => ?_⟩
  · cases i with
    | zero => exact ⟨w, hw1, hw, e0, by rw [pk_us]; decide⟩
    | succ i =>
      obtain ⟨v, v1, v2, v3, v4, v5, _⟩ := ne (show i < np by omega)
      exact ⟨v, v1, v2, by rw [e1 i (by omega)]; exact v3, by rw [pk_un v5]; exact v4⟩
  · cases j with
    | zero => omega
    | succ j =>
      obtain ⟨v', v1', v2', v3', v4', v5', v6'⟩ := ne (show j < np by omega)
      rw [e1 j (by omega)]
      cases i with
      | zero => rw [e0, v3']; exact fun e => v5' (ar_inj e.symm v2' hw)
      | succ i => rw [e1 i (by omega)]; exact p.2.2.1 i j (by omega) (by omega)
  · by_cases z : v = w
    · exact ⟨0, by omega, by rw [e0, z]⟩
    · rw [pk_un z] at v3
      obtain ⟨i, hi, e⟩ := p.2.2.2 v v1 v2 v3
      exact ⟨i + 1, by omega, by rw [e1 i hi]; exact e⟩
  · cases j with
    | zero => omega
    | succ j =>
      obtain ⟨v', v1', v2', v3', v4', v5', v6'⟩ := ne (show j < np by omega)
      have lj := l2 j (by omega)
      rw [v6'] at lj
      rw [e1 j (by omega), v6', pk_un v5']
      cases i with
      | zero => rw [e0, ew, pk_us, zb_lt]; omega
      | succ i =>
        obtain ⟨v, v1, v2, v3, v4, v5, v6⟩ := ne (show i < np by omega)
        have := l1 i j (by omega) (by omega)
        rw [v6, v6'] at this
        rw [e1 i (by omega), v6, pk_un v5]; exact this
  · cases i with
    | zero => rw [e0, ew, pk_us]; omega
    | succ i =>
      obtain ⟨v, v1, v2, v3, v4, v5, v6⟩ := ne (show i < np by omega)
      have := l2 i (by omega)
      rw [v6] at this
      rw [e1 i (by omega), v6, pk_un v5]; omega
end
end
section
/-! the relation -/
def rl_W (th pa ox oy wd hg : Nat → Int32) : Prop :=
  wn_ok pa ox oy wd hg ∧ (∀ w, w < 6 → th w = 0 ∨ th w = 1) ∧ th 0 = 1 ∧ ∃ rk : Nat → Nat, ∀ w, 1 ≤ w → w < 6 → ¬ th w = 0 → ¬ th (pa w).toNatClampNeg = 0 ∧ rk (pa w).toNatClampNeg < rk w
def rl_L (k : Nat) (fp tp bt : Int32) (th pl lv : Nat → Int32) : Prop :=
  ∃ np : Nat, fp = nI np ∧ pl_ok th pl lv np bt.toInt tp.toInt ∧ -(k : Int) ≤ bt.toInt ∧ bt.toInt ≤ 0 ∧ 0 ≤ tp.toInt ∧ tp.toInt ≤ (k : Int)
def rl_R (th pa ox oy wd hg sh lv cl cx cy B T M N E : Nat → Int32) : Prop :=
  (∀ w, w < 6 → (-100 ≤ (cx w).toInt ∧ (cx w).toInt ≤ 100) ∧ (-100 ≤ (cy w).toInt ∧ (cy w).toInt ≤ 100)) ∧
  (∀ w, w < 6 → ¬ th w = 0 → (cx w).toInt = wn_cr pa ox 6 w ∧ (cy w).toInt = wn_cr pa oy 6 w) ∧
  (∀ w, w < 6 → ¬ th w = 0 → rg_at B T M N E w 0 12 0 10 (fun x y => wn_scr x y && decide (wn_own th pa ox oy wd hg sh lv x y = w))) ∧
  (∀ w, w < 6 → ¬ th w = 0 → rg_at B T M N E (6 + w) 0 12 0 10 (fun x y => (wn_scr x y && decide (wn_own th pa ox oy wd hg sh lv x y = w)) && decide (¬ cl (12 * y.toNat + x.toNat) = 0))) ∧
  (∀ w, w < 6 → ¬ th w = 0 → wn_dp pa 5 w = true) ∧
  (∀ i, i < 120 → cl i = 0 ∨ cl i = 1)
def i_Rel (k : Nat) (u : SX) (v : SY) : Prop := match u, v with
  | (fp, th, pa, ox, oy, wd, hg, sh, cx, cy, qx, qy, pl, B, T, M, N, E, ww, wp), (tp, bt, th', pa', ox', oy', wd', hg', sh', lv, cl, wt, wx, wy, wo, wc) =>
    (th' = th ∧ pa' = pa ∧ ox' = ox ∧ oy' = oy ∧ wd' = wd ∧ hg' = hg ∧ sh' = sh) ∧ rl_W th pa ox oy wd hg ∧ rl_L k fp tp bt th pl lv ∧ rl_R th pa ox oy wd hg sh lv cl cx cy B T M N E
theorem rl_el {k : Nat} {u : SX} {v : SY} {P : SX → SY → Prop}
    (h : ∀ (fp tp bt : Int32) (th pa ox oy wd hg sh cx cy qx qy pl B T M N E ww wp lv cl wt wx wy wo wc : Nat → Int32), rl_W th pa ox oy wd hg → rl_L k fp tp bt th pl lv → rl_R th pa ox oy wd hg sh lv cl cx cy B T M N E → P (fp, th, pa, ox, oy, wd, hg, sh, cx, cy, qx, qy, pl, B, T, M, N, E, ww, wp) (tp, bt, th, pa, ox, oy, wd, hg, sh, lv, cl, wt, wx, wy, wo, wc))
    (I : i_Rel k u v) : P u v := by
  obtain ⟨fp, th, pa, ox, oy, wd, hg, sh, cx, cy, qx, qy, pl, B, T, M, N, E, ww, wp⟩ := u
  obtain ⟨tp, bt, th', pa', ox', oy', wd', hg', sh', lv, cl, wt, wx, wy, wo, wc⟩ := v
  obtain ⟨⟨e1, e2, e3, e4, e5, e6, e7⟩, hW, hL, hR⟩ := I
  subst e1 e2 e3 e4 e5 e6 e7
  exact h fp tp bt _ _ _ _ _ _ _ cx cy qx qy pl B T M N E ww wp lv cl wt wx wy wo wc hW hL hR
section
variable {fp : Int32} {th pa ox oy wd hg sh cx cy qx qy pl B T M N E ww wp : Nat → Int32} {tp bt : Int32} {lv cl wt wx wy wo wc : Nat → Int32} {k : Nat}
theorem rl_mk (hW : rl_W th pa ox oy wd hg) (hL : rl_L k fp tp bt th pl lv) (hR : rl_R th pa ox oy wd hg sh lv cl cx cy B T M N E) : i_Rel k (fp, th, pa, ox, oy, wd, hg, sh, cx, cy, qx, qy, pl, B, T, M, N, E, ww, wp) (tp, bt, th, pa, ox, oy, wd, hg, sh, lv, cl, wt, wx, wy, wo, wc) :=
  ⟨⟨rfl, rfl, rfl, rfl, rfl, rfl, rfl⟩, hW, hL, hR⟩
theorem rl_up (hL : rl_L k fp tp bt th pl lv) : rl_L (k + 5) fp tp bt th pl lv := by
  obtain ⟨np, a, b, c, d, e, f⟩ := hL
  exact ⟨np, a, b, by omega, d, e, by omega⟩
end
theorem i_up {k : Nat} {u : SX} {v : SY} (h : i_Rel k u v) : i_Rel (k + 5) u v := by
  refine rl_el (P := fun u v => i_Rel (k + 5) u v) ?_ h
  intro fp tp bt th pa ox oy wd hg sh cx cy qx qy pl B T M N E ww wp lv cl wt wx wy wo wc hW hL hR
  exact rl_mk hW (rl_up hL) hR
/-- what was clean of window w -/
def rl_k (th pa ox oy wd hg sh lv cl : Nat → Int32) (w : Nat) (x y : Int) : Bool :=
  decide (¬ th w = 0) && ((wn_scr x y && decide (wn_own th pa ox oy wd hg sh lv x y = w)) && decide (¬ cl (12 * y.toNat + x.toNat) = 0))
section
variable {th pa ox oy wd hg sh lv cl cx cy qx qy B T M N E wt wx wy wo wc : Nat → Int32}
theorem rl_K0 (hR : rl_R th pa ox oy wd hg sh lv cl cx cy B T M N E) {w : Nat} (hw : w < 6) (ht : ¬ th w = 0) : rg_at B T M N E (6 + w) 0 12 0 10 (rl_k th pa ox oy wd hg sh lv cl w) :=
  rg_at_P (hR.2.2.2.1 w hw ht) (fun x y => by unfold rl_k; rw [decide_eq_true (p := ¬ th w = 0) ht]; simp)
theorem rl_kf {w : Nat} (ht : th w = 0) (x y : Int) : rl_k th pa ox oy wd hg sh lv cl w x y = false := by
  unfold rl_k; rw [decide_eq_false (p := ¬ th w = 0) (fun h => h ht)]; rfl
theorem rl_ix {x y : Int} (h : wn_scr x y = true) : 12 * y.toNat + x.toNat < 120 ∧ (((12 * y.toNat + x.toNat) % 12 : Nat) : Int) = x ∧ (((12 * y.toNat + x.toNat) / 12 : Nat) : Int) = y := by
  have := wn_scrE.mp h
  omega
theorem rl_kq (re : re_fin th pa ox oy wd hg sh lv cl wt wx wy wo wc) {w : Nat} (hw : w < 6) (x y : Int) : wn_q wt wo wc w x y = rl_k th pa ox oy wd hg sh lv cl w x y := by
  unfold wn_q rl_k
  rw [(re.1 w hw).1]
  cases hs : wn_scr x y
  · rfl
  · obtain ⟨a, b, c⟩ := rl_ix hs
    obtain ⟨r1, r2⟩ := re.2 _ a
    have o6 := wn_own_6 (th := th) (pa := pa) (ox := ox) (oy := oy) (wd := wd) (hg := hg) (sh := sh) (lv := lv) (x := x) (y := y)
    have e : decide (nI (wn_own th pa ox oy wd hg sh lv x y) = nI w) = decide (wn_own th pa ox oy wd hg sh lv x y = w) := decide_eq_decide.mpr (nI_eq (by omega) (by omega))
    rw [r1, r2]
    unfold wn_ix
    rw [b, c, e]
    simp [Bool.and_assoc]
end
section
variable {th pa ox oy wd hg sh lv cl cx cy qx qy B T M N E wt wx wy wo wc : Nat → Int32} {th1 pa1 ox1 oy1 wd1 hg1 sh1 lv1 cl1 cx1 cy1 B1 T1 M1 N1 E1 : Nat → Int32}
theorem rl_end (hR : rl_R th pa ox oy wd hg sh lv cl cx cy B T M N E) (re : re_fin th pa ox oy wd hg sh lv cl wt wx wy wo wc) (hq : ∀ w, w < 6 → qx w = cx w ∧ qy w = cy w)
    (fin : ar_fin th1 pa1 ox1 oy1 wd1 hg1 sh1 lv1 cx1 cy1 qx qy B1 T1 M1 N1 E1 (rl_k th pa ox oy wd hg sh lv cl))
    (hcl : ∀ i, i < 120 → cl1 i = ab_b (ym_k th1 pa1 ox1 oy1 wd1 hg1 sh1 lv1 wt wx wy wo wc i)) : rl_R th1 pa1 ox1 oy1 wd1 hg1 sh1 lv1 cl1 cx1 cy1 B1 T1 M1 N1 E1 := by
  obtain ⟨f1, f2, f3, f4, f5⟩ := fin
  refine ⟨f1, f2, f3, fun w hw ht => rg_at_P (f4 w hw ht) (fun x y => ?_), f5, fun i hi => ?_⟩
  · try dsimp only
    cases hs : wn_scr x y
    · rfl
    · by_cases ho : wn_own th1 pa1 ox1 oy1 wd1 hg1 sh1 lv1 x y = w
      · rw [decide_eq_true ho]
        obtain ⟨a, b, c⟩ := rl_ix hs
        have hk : ym_k th1 pa1 ox1 oy1 wd1 hg1 sh1 lv1 wt wx wy wo wc (12 * y.toNat + x.toNat) = rl_k th pa ox oy wd hg sh lv cl w (x - (wn_cr pa1 ox1 6 w - (qx w).toInt)) (y - (wn_cr pa1 oy1 6 w - (qy w).toInt)) := by
          unfold ym_k wn_ix
          rw [b, c, ho, rl_kq re hw]
          by_cases z : th w = 0
          · rw [rl_kf z, rl_kf z]
          · rw [(re.1 w hw).2.1, (re.1 w hw).2.2, (hq w hw).1, (hq w hw).2, (hR.2.1 w hw z).1, (hR.2.1 w hw z).2]
            rw [show x - wn_cr pa1 ox1 6 w + wn_cr pa ox 6 w = x - (wn_cr pa1 ox1 6 w - wn_cr pa ox 6 w) by omega, show y - wn_cr pa1 oy1 6 w + wn_cr pa oy 6 w = y - (wn_cr pa1 oy1 6 w - wn_cr pa oy 6 w) by omega]
        rw [← hk]
        have hc := hcl _ a
        cases q : ym_k th1 pa1 ox1 oy1 wd1 hg1 sh1 lv1 wt wx wy wo wc (12 * y.toNat + x.toNat)
        · rw [q] at hc
          rw [decide_eq_false (p := ¬ cl1 (12 * y.toNat + x.toNat) = 0) (fun k => k hc)]
        · rw [q] at hc
          rw [decide_eq_true (p := ¬ cl1 (12 * y.toNat + x.toNat) = 0) (by rw [hc]; decide)]
      · rw [decide_eq_false ho]; rfl
  · rw [hcl i hi]
    cases ym_k th1 pa1 ox1 oy1 wd1 hg1 sh1 lv1 wt wx wy wo wc i
    · exact Or.inl rfl
    · exact Or.inr rfl
theorem rl_arr {post : SX → Prop} {fp1 tp1 bt1 : Int32} {pl1 ww wp : Nat → Int32} {k : Nat} (hR : rl_R th pa ox oy wd hg sh lv cl cx cy B T M N E) (h00 : ¬ th 0 = 0) (hq : ∀ w, w < 6 → qx w = cx w ∧ qy w = cy w)
    (hW1 : rl_W th1 pa1 ox1 oy1 wd1 hg1) (hL1 : rl_L k fp1 tp1 bt1 th1 pl1 lv1) (hK : ∀ w, w < 6 → ¬ th1 w = 0 → rg_at B1 T M N E (6 + w) 0 12 0 10 (rl_k th pa ox oy wd hg sh lv cl w))
    (hp : ∀ (cx1 cy1 B1 T1 M1 N1 E1 ww wp : Nat → Int32), ar_fin th1 pa1 ox1 oy1 wd1 hg1 sh1 lv1 cx1 cy1 qx qy B1 T1 M1 N1 E1 (rl_k th pa ox oy wd hg sh lv cl) → post (fp1, th1, pa1, ox1, oy1, wd1, hg1, sh1, cx1, cy1, qx, qy, pl1, B1, T1, M1, N1, E1, ww, wp)) :
    wpX_arrange post (fp1, th1, pa1, ox1, oy1, wd1, hg1, sh1, cx, cy, qx, qy, pl1, B1, T, M, N, E, ww, wp) := by
  obtain ⟨w1, w2, w3, rk, w4⟩ := hW1
  obtain ⟨np, l1, ⟨l2, l3, l4⟩, l5⟩ := hL1
  have c0 := hR.2.1 0 (by omega) h00
  rw [wn_cr0, wn_cr0] at c0
  exact ar_spec (rk := rk) l1 w1 l2 l3 w4 (by rw [w3]; decide) (fun w hw => by rw [(hq w hw).1, (hq w hw).2]; exact hR.1 w hw) hR.1 c0 hK hp
theorem rl_set {post : SY → Prop} {tp1 bt1 : Int32} {cl0 : Nat → Int32} (hW : wn_ok pa ox oy wd hg) (hR : rl_R th pa ox oy wd hg sh lv cl cx cy B T M N E) (re : re_fin th pa ox oy wd hg sh lv cl wt wx wy wo wc) (hq : ∀ w, w < 6 → qx w = cx w ∧ qy w = cy w)
    (hW1 : wn_ok pa1 ox1 oy1 wd1 hg1)
    (fin : ar_fin th1 pa1 ox1 oy1 wd1 hg1 sh1 lv1 cx1 cy1 qx qy B1 T1 M1 N1 E1 (rl_k th pa ox oy wd hg sh lv cl))
    (hp : ∀ cl1 : Nat → Int32, rl_R th1 pa1 ox1 oy1 wd1 hg1 sh1 lv1 cl1 cx1 cy1 B1 T1 M1 N1 E1 → post (tp1, bt1, th1, pa1, ox1, oy1, wd1, hg1, sh1, lv1, cl1, wt, wx, wy, wo, wc)) :
    wpY_settle post (tp1, bt1, th1, pa1, ox1, oy1, wd1, hg1, sh1, lv1, cl0, wt, wx, wy, wo, wc) := by
  refine ym_settle hW1 (fun w hw => ?_) (fun cl1 hcl => hp cl1 (rl_end hR re hq fin hcl))
  have a := wn_crx hW 6 w hw
  have b := wn_cry hW 6 w hw
  rw [(re.1 w hw).2.1, (re.1 w hw).2.2]
  omega
end
end
section
/-! owner, dirty, visible -/
theorem wn_own_th {th pa ox oy wd hg sh lv : Nat → Int32} {x y : Int} (h0 : ¬ th 0 = 0) : ¬ th (wn_own th pa ox oy wd hg sh lv x y) = 0 :=
  wn_ow_ind (S := fun u => ¬ th u = 0) (fun u c _ e => (wn_chE.mp (wn_tm_some 5 e).2.2.1).1) 6 0 h0
section
variable {fp : Int32} {th pa ox oy wd hg sh cx cy qx qy pl B T M N E ww wp : Nat → Int32} {lv cl : Nat → Int32}
theorem xo_l {post : Int32 → Prop} {x y : Nat} (hx : x < 12) (hy : y < 10) (h0 : ¬ th 0 = 0) (hR : rl_R th pa ox oy wd hg sh lv cl cx cy B T M N E) (hp : post (nI (wn_own th pa ox oy wd hg sh lv (x : Int) (y : Int)))) :
    ∀ m w, 6 - w < m → w ≤ 6 → 1 ≤ w → (∀ j, 1 ≤ j → j < w → wn_own th pa ox oy wd hg sh lv (x : Int) (y : Int) ≠ j) → wX_owner_24 post (nI x) (nI y) fp th pa ox oy wd hg sh cx cy qx qy pl B T M N E ww wp m (nI w) := by
  intro m
  have o6 := wn_own_6 (th := th) (pa := pa) (ox := ox) (oy := oy) (wd := wd) (hg := hg) (sh := sh) (lv := lv) (x := (x : Int)) (y := (y : Int))
  have ot := wn_own_th (pa := pa) (ox := ox) (oy := oy) (wd := wd) (hg := hg) (sh := sh) (lv := lv) (x := (x : Int)) (y := (y : Int)) h0
  induction m with
  | zero => intro w h; omega
  | succ m ih =>
    intro w hm hw h1 hI
    unfold wX_owner_24
    refine pk_le 6 w (fun h => ?_) (fun h => ?_)
    · have e : wn_own th pa ox oy wd hg sh lv (x : Int) (y : Int) = 0 := by
        by_cases z : wn_own th pa ox oy wd hg sh lv (x : Int) (y : Int) = 0
        · exact z
        · exact absurd rfl (hI _ (by omega) (by omega))
      rw [e] at hp; exact hp
    · have e1 : (nI w).toNatClampNeg = w := zb_c (by omega)
      rw [e1, nI_1]
      have nx : wn_own th pa ox oy wd hg sh lv (x : Int) (y : Int) ≠ w → wX_owner_24 post (nI x) (nI y) fp th pa ox oy wd hg sh cx cy qx qy pl B T M N E ww wp m (nI (w + 1)) := fun c =>
        ih (w + 1) (by omega) (by omega) (by omega) (fun j a b => by
          by_cases z : j = w
          · rw [z]; exact c
          · exact hI j a (by omega))
      refine ⟨zb_in h (by decide), fun c => nm_e (nx (fun e => ot (by rw [e]; exact c))), fun c => ?_⟩
      refine sc_holds (by omega) (hR.2.2.1 w h c) ?_
      rw [zb_n (by omega), zb_n (by omega)]
      have hs : wn_scr (x : Int) (y : Int) = true := wn_scrE.mpr ⟨by omega, by omega⟩
      rw [hs]
      by_cases z : wn_own th pa ox oy wd hg sh lv (x : Int) (y : Int) = w
      · rw [decide_eq_true z]
        rw [z] at hp
        exact br_f (by decide) hp
      · rw [decide_eq_false z]
        exact br_t rfl (nm_e (nx z))
theorem xo_in {post : Int32 → Prop} {x y : Nat} (hx : x < 12) (hy : y < 10) (h0 : ¬ th 0 = 0) (hR : rl_R th pa ox oy wd hg sh lv cl cx cy B T M N E) (hp : post (nI (wn_own th pa ox oy wd hg sh lv (x : Int) (y : Int)))) : wpX_owner post (fp, th, pa, ox, oy, wd, hg, sh, cx, cy, qx, qy, pl, B, T, M, N, E, ww, wp) (nI x) (nI y) := by
  unfold wpX_owner
  refine br_f (nI_pos (by omega)) (br_f (nI_nlt (a := 11) (by omega) (by omega)) (br_f (nI_pos (by omega)) (br_t (nI_le (b := 9) (by omega) (by omega)) ⟨6, ?_⟩)))
  exact xo_l hx hy h0 hR hp 6 1 (by omega) (by omega) (by omega) (fun j a b => absurd a (by omega))
theorem xo_rng {p0 p1 : Int32} {A : Prop} (hn : ¬ ∃ x y : Nat, x < 12 ∧ y < 10 ∧ p0 = nI x ∧ p1 = nI y) (h1 : ¬ p0 < 0) (h2 : ¬ (11 : Int32) < p0) (h3 : ¬ p1 < 0) (h4 : p1 ≤ 9) : A := by
  obtain ⟨x, hx, rfl⟩ := nI_of2 (M := 11) (n := 11) (by decide) h1 (Int32.not_lt.mp h2)
  obtain ⟨y, hy, rfl⟩ := nI_of2 (M := 9) (n := 9) (by decide) h3 h4
  exact absurd ⟨x, y, by omega, by omega, rfl, rfl⟩ hn
theorem xo_out {post : Int32 → Prop} {p0 p1 : Int32} (hn : ¬ ∃ x y : Nat, x < 12 ∧ y < 10 ∧ p0 = nI x ∧ p1 = nI y) (hp : post (-1)) : wpX_owner post (fp, th, pa, ox, oy, wd, hg, sh, cx, cy, qx, qy, pl, B, T, M, N, E, ww, wp) p0 p1 := by
  unfold wpX_owner
  exact br_c (fun _ => hp) (fun h1 => br_c (fun _ => hp) (fun h2 => br_c (fun _ => hp) (fun h3 => br_c (fun h4 => xo_rng hn h1 h2 h3 h4) (fun _ => hp))))
end
section
variable {tp bt : Int32} {th pa ox oy wd hg sh lv cl wt wx wy wo wc : Nat → Int32}
theorem yo_out {post : Int32 → Prop} {p0 p1 : Int32} (hn : ¬ ∃ x y : Nat, x < 12 ∧ y < 10 ∧ p0 = nI x ∧ p1 = nI y) (hp : post (-1)) : wpY_owner post (tp, bt, th, pa, ox, oy, wd, hg, sh, lv, cl, wt, wx, wy, wo, wc) p0 p1 := by
  unfold wpY_owner
  exact br_c (fun _ => hp) (fun h1 => br_c (fun _ => hp) (fun h2 => br_c (fun _ => hp) (fun h3 => br_c (fun h4 => xo_rng hn h1 h2 h3 h4) (fun _ => hp))))
theorem yd_out {post : Int32 → Prop} {p0 p1 : Int32} (hn : ¬ ∃ x y : Nat, x < 12 ∧ y < 10 ∧ p0 = nI x ∧ p1 = nI y) (hp : post (-1)) : wpY_dirty post (tp, bt, th, pa, ox, oy, wd, hg, sh, lv, cl, wt, wx, wy, wo, wc) p0 p1 := by
  unfold wpY_dirty
  exact br_c (fun _ => hp) (fun h1 => br_c (fun _ => hp) (fun h2 => br_c (fun _ => hp) (fun h3 => br_c (fun h4 => xo_rng hn h1 h2 h3 h4) (fun _ => hp))))
theorem yd_in {post : Int32 → Prop} {x y : Nat} (hx : x < 12) (hy : y < 10) (hp : post (if cl (12 * y + x) = 0 then 1 else 0)) : wpY_dirty post (tp, bt, th, pa, ox, oy, wd, hg, sh, lv, cl, wt, wx, wy, wo, wc) (nI x) (nI y) := by
  have e1 : (nI (12 * y + x)).toNatClampNeg = 12 * y + x := zb_c (by omega)
  unfold wpY_dirty
  dsimp only
  rw [zb_12, nI_add, e1]
  refine br_f (nI_pos (by omega)) (br_f (nI_nlt (a := 11) (by omega) (by omega)) (br_f (nI_pos (by omega)) (br_t (nI_le (b := 9) (by omega) (by omega)) ⟨zb_in (by omega) (by decide), fun c => ?_, fun c => ?_⟩)))
  · rw [if_pos c] at hp; exact hp
  · rw [if_neg c] at hp; exact hp
end
theorem i_vc_owner {k : Nat} {u : SX} {v : SY} (I : i_Rel k u v) (hk : k + 5 ≤ 2560) (v1 : Int32) (v2 : Int32) : wpX_owner (fun r => wpY_owner (fun r' => r' = r ∧ i_Rel (k + 5) u v) v v1 v2) u v1 v2 := by
  refine rl_el (P := fun u v => wpX_owner (fun r => wpY_owner (fun r' => r' = r ∧ i_Rel (k + 5) u v) v v1 v2) u v1 v2) ?_ I
  intro fp tp bt th pa ox oy wd hg sh cx cy qx qy pl B T M N E ww wp lv cl wt wx wy wo wc hW hL hR
  have rel := rl_mk (qx := qx) (qy := qy) (ww := ww) (wp := wp) (wt := wt) (wx := wx) (wy := wy) (wo := wo) (wc := wc) hW (rl_up hL) hR
  have h0 : ¬ th 0 = 0 := by rw [hW.2.2.1]; decide
  by_cases hc : ∃ x y : Nat, x < 12 ∧ y < 10 ∧ v1 = nI x ∧ v2 = nI y
  · obtain ⟨x, y, hx, hy, rfl, rfl⟩ := hc
    exact xo_in hx hy h0 hR (yc_owner hx hy hW.1 ⟨rfl, rel⟩)
  · exact xo_out hc (yo_out hc ⟨rfl, rel⟩)
theorem i_vc_dirty {k : Nat} {u : SX} {v : SY} (I : i_Rel k u v) (hk : k + 5 ≤ 2560) (v1 : Int32) (v2 : Int32) : wpX_dirty (fun r => wpY_dirty (fun r' => r' = r ∧ i_Rel (k + 5) u v) v v1 v2) u v1 v2 := by
  refine rl_el (P := fun u v => wpX_dirty (fun r => wpY_dirty (fun r' => r' = r ∧ i_Rel (k + 5) u v) v v1 v2) u v1 v2) ?_ I
  intro fp tp bt th pa ox oy wd hg sh cx cy qx qy pl B T M N E ww wp lv cl wt wx wy wo wc hW hL hR
  have rel := rl_mk (qx := qx) (qy := qy) (ww := ww) (wp := wp) (wt := wt) (wx := wx) (wy := wy) (wo := wo) (wc := wc) hW (rl_up hL) hR
  have h0 : ¬ th 0 = 0 := by rw [hW.2.2.1]; decide
  unfold wpX_dirty
  by_cases hc : ∃ x y : Nat, x < 12 ∧ y < 10 ∧ v1 = nI x ∧ v2 = nI y
  · obtain ⟨x, y, hx, hy, rfl, rfl⟩ := hc
    have o6 := wn_own_6 (th := th) (pa := pa) (ox := ox) (oy := oy) (wd := wd) (hg := hg) (sh := sh) (lv := lv) (x := (x : Int)) (y := (y : Int))
    have ot := wn_own_th (pa := pa) (ox := ox) (oy := oy) (wd := wd) (hg := hg) (sh := sh) (lv := lv) (x := (x : Int)) (y := (y : Int)) h0
    refine xo_in hx hy h0 hR (br_t (nI_pos' (by omega)) ?_)
    rw [zb_6p]
    refine sc_holds (by omega) (hR.2.2.2.1 _ o6 ot) ?_
    rw [zb_n (by omega), zb_n (by omega)]
    have hs : wn_scr (x : Int) (y : Int) = true := wn_scrE.mpr ⟨by omega, by omega⟩
    rw [hs, decide_eq_true (p := wn_own th pa ox oy wd hg sh lv (x : Int) (y : Int) = wn_own th pa ox oy wd hg sh lv (x : Int) (y : Int)) rfl, Int.toNat_natCast, Int.toNat_natCast]
    by_cases z : cl (12 * y + x) = 0
    · rw [decide_eq_false (p := ¬ cl (12 * y + x) = 0) (fun h => h z)]
      exact br_t rfl (yd_in hx hy (by rw [if_pos z]; exact ⟨rfl, rel⟩))
    · rw [decide_eq_true (p := ¬ cl (12 * y + x) = 0) z]
      exact br_f (by decide) (yd_in hx hy (by rw [if_neg z]; exact ⟨rfl, rel⟩))
  · exact xo_out hc (br_f (by decide) (yd_out hc ⟨rfl, rel⟩))
theorem px_vis {th pa ox oy wd hg sh lv : Nat → Int32} {w : Nat} : px_cs (fun x y => wn_scr x y && decide (wn_own th pa ox oy wd hg sh lv x y = w)) = px_ct (fun i => decide (wn_ix (wn_own th pa ox oy wd hg sh lv) i = w)) 120 :=
  px_cong 120 (fun i hi => by
    have hs : wn_scr ((i % 12 : Nat) : Int) ((i / 12 : Nat) : Int) = true := wn_scrE.mpr ⟨by omega, by omega⟩
    dsimp only
    rw [hs]; rfl)
theorem i_vc_visible {k : Nat} {u : SX} {v : SY} (I : i_Rel k u v) (hk : k + 5 ≤ 2560) (v1 : Int32) : wpX_visible (fun r => wpY_visible (fun r' => r' = r ∧ i_Rel (k + 5) u v) v v1) u v1 := by
  refine rl_el (P := fun u v => wpX_visible (fun r => wpY_visible (fun r' => r' = r ∧ i_Rel (k + 5) u v) v v1) u v1) ?_ I
  intro fp tp bt th pa ox oy wd hg sh cx cy qx qy pl B T M N E ww wp lv cl wt wx wy wo wc hW hL hR
  have rel := rl_mk (qx := qx) (qy := qy) (ww := ww) (wp := wp) (wt := wt) (wx := wx) (wy := wy) (wo := wo) (wc := wc) hW (rl_up hL) hR
  unfold wpX_visible
  by_cases hc : ∃ w, w < 6 ∧ v1 = nI w ∧ ¬ th w = 0
  · obtain ⟨w, hw, rfl, ht⟩ := hc
    refine xh_is_t hw ht (br_f (by decide) (px_spec (by omega) (hR.2.2.1 w hw ht) ?_))
    unfold wpY_visible
    refine yh_mi_t hw ht (br_t rfl ⟨121, ?_⟩)
    rw [px_vis]
    exact yl_vis hw hW.1 ⟨rfl, rel⟩ 121 0 (by omega) (by omega)
  · refine xh_is_f hc (br_t rfl ?_)
    unfold wpY_visible
    exact yh_mi_f hc (br_f (by decide) ⟨rfl, rel⟩)
end
section
/-! paint, spoil, the constructors -/
theorem px_cln {th pa ox oy wd hg sh lv cl : Nat → Int32} {w : Nat} : px_cs (fun x y => (wn_scr x y && decide (wn_own th pa ox oy wd hg sh lv x y = w)) && decide (¬ cl (12 * y.toNat + x.toNat) = 0)) = px_ct (fun i => decide (wn_ix (wn_own th pa ox oy wd hg sh lv) i = w) && decide (¬ cl i = 0)) 120 :=
  px_cong 120 (fun i hi => by
    have hs : wn_scr ((i % 12 : Nat) : Int) ((i / 12 : Nat) : Int) = true := wn_scrE.mpr ⟨by omega, by omega⟩
    dsimp only
    rw [hs, Int.toNat_natCast, Int.toNat_natCast, show 12 * (i / 12) + i % 12 = i by omega]; rfl)
theorem i_vc_paint {k : Nat} {u : SX} {v : SY} (I : i_Rel k u v) (hk : k + 5 ≤ 2560) (v1 : Int32) : wpX_paint (fun r u' => wpY_paint (fun r' v' => r' = r ∧ i_Rel (k + 5) u' v') v v1) u v1 := by
  refine rl_el (P := fun u v => wpX_paint (fun r u' => wpY_paint (fun r' v' => r' = r ∧ i_Rel (k + 5) u' v') v v1) u v1) ?_ I
  intro fp tp bt th pa ox oy wd hg sh cx cy qx qy pl B T M N E ww wp lv cl wt wx wy wo wc hW hL hR
  have rel := rl_mk (qx := qx) (qy := qy) (ww := ww) (wp := wp) (wt := wt) (wx := wx) (wy := wy) (wo := wo) (wc := wc) hW (rl_up hL) hR
  unfold wpX_paint
  by_cases hc : ∃ w, w < 6 ∧ v1 = nI w ∧ ¬ th w = 0
  · obtain ⟨w, hw, rfl, ht⟩ := hc
    refine xh_is_t hw ht (br_f (by decide) (px_spec (by omega) (hR.2.2.1 w hw ht) ?_))
    rw [zb_6p]
    refine px_spec (by omega) (hR.2.2.2.1 w hw ht) ?_
    rw [px_vis, px_cln]
    have dif := px_diff (p := fun i => decide (wn_ix (wn_own th pa ox oy wd hg sh lv) i = w)) (q := fun i => decide (wn_ix (wn_own th pa ox oy wd hg sh lv) i = w) && decide (¬ cl i = 0)) 120 (fun i _ h => by
      rw [Bool.and_eq_true] at h; exact h.1)
    have eqc : px_ct (fun i => decide (wn_ix (wn_own th pa ox oy wd hg sh lv) i = w) && !(decide (wn_ix (wn_own th pa ox oy wd hg sh lv) i = w) && decide (¬ cl i = 0))) 120 = px_ct (fun i => decide (wn_ix (wn_own th pa ox oy wd hg sh lv) i = w) && decide (cl i = 0)) 120 :=
      px_cong 120 (fun i _ => by
        by_cases z : cl i = 0
        · rw [decide_eq_true z, decide_eq_false (p := ¬ cl i = 0) (fun h => h z)]; simp
        · rw [decide_eq_false z, decide_eq_true (p := ¬ cl i = 0) z]; simp)
    rw [eqc] at dif
    refine nm_r (e' := nI (px_ct (fun i => decide (wn_ix (wn_own th pa ox oy wd hg sh lv) i = w) && decide (cl i = 0)) 120)) ?_ ?_
    · rw [pk_sub (by omega)]; exact congrArg nI (by omega)
    · refine cp_spec (a := w) (b := 6 + w) (by omega) (by omega) (by omega) (hR.2.2.1 w hw ht) ?_
      intro B1 T1 M1 N1 E1 f1 p1
      dsimp only
      unfold wpY_paint
      refine yh_mi_t hw ht (br_t rfl ⟨121, yl_paint hw hW.1 hR.2.2.2.2.2 (fun cl1 hcl => ⟨rfl, rl_mk hW (rl_up hL) ?_⟩) 121 0 cl (by omega) (by omega) (fun j hj => absurd hj (by omega)) (fun _ _ => rfl)⟩)
      obtain ⟨r1, r2, r3, r4, r5, r6⟩ := hR
      have cl' : ∀ x y, wn_scr x y = true → cl1 (12 * y.toNat + x.toNat) = if wn_own th pa ox oy wd hg sh lv x y = w then 1 else cl (12 * y.toNat + x.toNat) := by
        intro x y hs
        obtain ⟨a, b, c⟩ := rl_ix hs
        have := hcl _ a
        unfold wn_ix at this
        rw [b, c] at this; exact this
      refine ⟨r1, r2, fun j hj hjt => rg_at_ag (f1 j (by omega)) (r3 j hj hjt), fun j hj hjt => ?_, r5, fun i hi => ?_⟩
      · by_cases z : j = w
        · subst z
          refine rg_at_P p1 (fun x y => ?_)
          cases hs : wn_scr x y
          · rfl
          · by_cases y2 : wn_own th pa ox oy wd hg sh lv x y = j
            · rw [cl' x y hs, if_pos y2, decide_eq_true y2]; rfl
            · rw [decide_eq_false y2]; rfl
        · refine rg_at_P (rg_at_ag (f1 _ (by omega)) (r4 j hj hjt)) (fun x y => ?_)
          cases hs : wn_scr x y
          · rfl
          · by_cases y2 : wn_own th pa ox oy wd hg sh lv x y = j
            · rw [cl' x y hs, if_neg (by omega)]
            · rw [decide_eq_false y2]; rfl
      · rw [hcl i hi]
        split
        · exact Or.inr rfl
        · exact r6 i hi
  · refine xh_is_f hc (br_t rfl ?_)
    unfold wpY_paint
    exact yh_mi_f hc (br_f (by decide) ⟨rfl, rel⟩)
theorem i_vc_spoil {k : Nat} {u : SX} {v : SY} (I : i_Rel k u v) (hk : k + 5 ≤ 2560) (v1 : Int32) (v2 : Int32) (v3 : Int32) (v4 : Int32) : wpX_spoil (fun r u' => wpY_spoil (fun r' v' => r' = r ∧ i_Rel (k + 5) u' v') v v1 v2 v3 v4) u v1 v2 v3 v4 := by
  refine rl_el (P := fun u v => wpX_spoil (fun r u' => wpY_spoil (fun r' v' => r' = r ∧ i_Rel (k + 5) u' v') v v1 v2 v3 v4) u v1 v2 v3 v4) ?_ I
  intro fp tp bt th pa ox oy wd hg sh cx cy qx qy pl B T M N E ww wp lv cl wt wx wy wo wc hW hL hR
  have rel := rl_mk (qx := qx) (qy := qy) (ww := ww) (wp := wp) (wt := wt) (wx := wx) (wy := wy) (wo := wo) (wc := wc) hW (rl_up hL) hR
  unfold wpX_spoil wpY_spoil
  by_cases hc : ∃ w, w < 6 ∧ v1 = nI w ∧ ¬ th w = 0
  · obtain ⟨w, hw, rfl, ht⟩ := hc
    have Yb : ∀ {P : Int32 → Prop}, P 0 → wpY_missing P (tp, bt, th, pa, ox, oy, wd, hg, sh, lv, cl, wt, wx, wy, wo, wc) (nI w) := fun h => yh_mi_t hw ht h
    refine xh_is_t hw ht (br_f (by decide) ?_)
    by_cases c1 : v2 < 0
    · exact br_t c1 (Yb (br_t rfl (br_t c1 ⟨rfl, rel⟩)))
    refine br_f c1 ?_
    by_cases c2 : 15 < v2
    · exact br_t c2 (Yb (br_t rfl (br_f c1 (br_t c2 ⟨rfl, rel⟩))))
    refine br_f c2 ?_
    by_cases c3 : v3 < 0
    · exact br_t c3 (Yb (br_t rfl (br_f c1 (br_f c2 (br_t c3 ⟨rfl, rel⟩)))))
    refine br_f c3 ?_
    by_cases c4 : 15 < v3
    · exact br_t c4 (Yb (br_t rfl (br_f c1 (br_f c2 (br_f c3 (br_t c4 ⟨rfl, rel⟩))))))
    refine br_f c4 ?_
    by_cases c5 : v4 < 0
    · exact br_t c5 (Yb (br_t rfl (br_f c1 (br_f c2 (br_f c3 (br_f c4 (br_t c5 ⟨rfl, rel⟩)))))))
    refine br_f c5 ?_
    by_cases c6 : v4 ≤ 255
    · refine br_t c6 ?_
      have e1 : (nI w).toNatClampNeg = w := zb_c (by omega)
      have i1 : vp_in (nI w) 6 := zb_in hw (by decide)
      obtain ⟨W, hWd, rfl⟩ := nI_of2 (M := 255) (n := 255) (by decide) c5 c6
      have z2 : 0 ≤ v2.toInt ∧ v2.toInt ≤ 15 := by
        have a : ¬ _ := fun h => c1 (zb_lt.mpr h)
        have b : ¬ _ := fun h => c2 (zb_lt.mpr h)
        rw [show (0 : Int32).toInt = 0 from by decide] at a
        rw [show (15 : Int32).toInt = 15 from by decide] at b
        omega
      have z3 : 0 ≤ v3.toInt ∧ v3.toInt ≤ 15 := by
        have a : ¬ _ := fun h => c3 (zb_lt.mpr h)
        have b : ¬ _ := fun h => c4 (zb_lt.mpr h)
        rw [show (0 : Int32).toInt = 0 from by decide] at a
        rw [show (15 : Int32).toInt = 15 from by decide] at b
        omega
      have sr : nI W >>> ((4 : Int32) &&& 31) = nI (W / 16) := pk_shrN (by omega) _ 4 (by decide)
      have sa : nI W &&& 15 = nI (W % 16) := pk_andN (m := 15) (by omega) 4 (by decide)
      have hcr := hR.1 w hw
      have hcw := hR.2.1 w hw ht
      have bcx := wn_crx hW.1 6 w hw
      have bcy := wn_cry hW.1 6 w hw
      rw [e1, sr, sa, zb_6p]
      have tL : (cx w + v2).toInt = (cx w).toInt + v2.toInt := zb_add (by omega) (by omega)
      have tU : (cy w + v3).toInt = (cy w).toInt + v3.toInt := zb_add (by omega) (by omega)
      have tw : (nI (W / 16)).toInt = ((W / 16 : Nat) : Int) := zb_n (by omega)
      have tr : (nI (W % 16)).toInt = ((W % 16 : Nat) : Int) := zb_n (by omega)
      have tL2 : (cx w + v2 + nI (W / 16)).toInt = (cx w + v2).toInt + ((W / 16 : Nat) : Int) := by rw [zb_add (by omega) (by omega), tw]
      have tU2 : (cy w + v3 + nI (W % 16)).toInt = (cy w + v3).toInt + ((W % 16 : Nat) : Int) := by rw [zb_add (by omega) (by omega), tr]
      refine ⟨i1, nm_e ⟨i1, nm_e ?_⟩⟩
      refine rc_spec (r := 19) (a0 := -400) (a1 := 400) (b0 := -400) (b1 := 400) (by omega) (by omega) (by omega) (by omega) (by omega) ?_
      intro B1 T1 M1 N1 E1 f1 p1
      dsimp only
      refine px_spec (by omega) (rg_at_ag (f1 _ (by omega)) (hR.2.2.2.1 w hw ht)) ?_
      refine cb_spec (d := 20) (a := 6 + w) (b := 19) (com := false) (by omega) (by omega) (by omega) (by omega) (by omega) (rg_at_ag (f1 _ (by omega)) (hR.2.2.2.1 w hw ht)) p1 ?_
      intro B2 T2 M2 N2 E2 f2 p2
      dsimp only
      refine cp_spec (a := 20) (b := 6 + w) (by omega) (by omega) (by omega) p2 ?_
      intro B3 T3 M3 N3 E3 f3 p3
      dsimp only
      refine px_spec (by omega) p3 ?_
      rw [px_cln]
      have sp : ∀ x y : Int, ((decide ((cx w + v2).toInt ≤ x) && decide (x < (cx w + v2 + nI (W / 16)).toInt)) && (decide ((cy w + v3).toInt ≤ y) && decide (y < (cy w + v3 + nI (W % 16)).toInt))) = sp_in (cx w + v2).toInt (cy w + v3).toInt W x y := fun x y => by
        unfold sp_in; rw [tL2, tU2]
      have c2e : px_cs (fun x y => ((wn_scr x y && decide (wn_own th pa ox oy wd hg sh lv x y = w)) && decide (¬ cl (12 * y.toNat + x.toNat) = 0)) && (((decide ((cx w + v2).toInt ≤ x) && decide (x < (cx w + v2 + nI (W / 16)).toInt)) && (decide ((cy w + v3).toInt ≤ y) && decide (y < (cy w + v3 + nI (W % 16)).toInt))) == false)) = px_ct (fun i => (decide (wn_ix (wn_own th pa ox oy wd hg sh lv) i = w) && decide (¬ cl i = 0)) && !sp_in (cx w + v2).toInt (cy w + v3).toInt W ((i % 12 : Nat) : Int) ((i / 12 : Nat) : Int)) 120 :=
        px_cong 120 (fun i hi => by
          have hs : wn_scr ((i % 12 : Nat) : Int) ((i / 12 : Nat) : Int) = true := wn_scrE.mpr ⟨by omega, by omega⟩
          dsimp only
          rw [sp, hs, Int.toNat_natCast, Int.toNat_natCast, show 12 * (i / 12) + i % 12 = i by omega]
          show (((true && decide (wn_ix (wn_own th pa ox oy wd hg sh lv) i = w)) && decide (¬ cl i = 0)) && (sp_in (cx w + v2).toInt (cy w + v3).toInt W ((i % 12 : Nat) : Int) ((i / 12 : Nat) : Int) == false)) = _
          cases decide (wn_ix (wn_own th pa ox oy wd hg sh lv) i = w) <;> cases decide (¬ cl i = 0) <;> cases sp_in (cx w + v2).toInt (cy w + v3).toInt W ((i % 12 : Nat) : Int) ((i / 12 : Nat) : Int) <;> rfl)
      rw [c2e]
      have dif := px_diff (p := fun i => decide (wn_ix (wn_own th pa ox oy wd hg sh lv) i = w) && decide (¬ cl i = 0)) (q := fun i => (decide (wn_ix (wn_own th pa ox oy wd hg sh lv) i = w) && decide (¬ cl i = 0)) && !sp_in (cx w + v2).toInt (cy w + v3).toInt W ((i % 12 : Nat) : Int) ((i / 12 : Nat) : Int)) 120 (fun i _ h => by
        rw [Bool.and_eq_true] at h; exact h.1)
      have eqc : px_ct (fun i => (decide (wn_ix (wn_own th pa ox oy wd hg sh lv) i = w) && decide (¬ cl i = 0)) && !((decide (wn_ix (wn_own th pa ox oy wd hg sh lv) i = w) && decide (¬ cl i = 0)) && !sp_in (cx w + v2).toInt (cy w + v3).toInt W ((i % 12 : Nat) : Int) ((i / 12 : Nat) : Int))) 120 = px_ct (fun i => (sp_in (cx w + v2).toInt (cy w + v3).toInt W ((i % 12 : Nat) : Int) ((i / 12 : Nat) : Int) && decide (¬ cl i = 0)) && decide (wn_ix (wn_own th pa ox oy wd hg sh lv) i = w)) 120 :=
        px_cong 120 (fun i _ => by
          cases decide (wn_ix (wn_own th pa ox oy wd hg sh lv) i = w) <;> cases decide (¬ cl i = 0) <;> cases sp_in (cx w + v2).toInt (cy w + v3).toInt W ((i % 12 : Nat) : Int) ((i / 12 : Nat) : Int) <;> rfl)
      rw [eqc] at dif
      rw [pk_sub (by omega)]
      refine Yb (br_t rfl (br_f c1 (br_f c2 (br_f c3 (br_f c4 (br_f c5 (br_t c6 ?_)))))))
      refine yc_X hw hW.1 (fun r hr => nm_r (e' := cx w + v2) ?_ (yc_Y hw hW.1 (fun r' hr' => nm_r (e' := cy w + v3) ?_ ⟨121, ?_⟩)))
      · rw [zb_eq.mpr (hr.trans hcw.1.symm)]
      · rw [zb_eq.mpr (hr'.trans hcw.2.symm)]
      refine yl_spoil hw (by omega) (by omega) (by omega) hW.1 (fun cl1 hcl => ⟨congrArg nI (by omega), rl_mk hW (rl_up hL) ?_⟩) 121 0 cl (by omega) (by omega) (fun j hj => absurd hj (by omega)) (fun _ _ => rfl)
      obtain ⟨r1, r2, r3, r4, r5, r6⟩ := hR
      have cl' : ∀ x y, wn_scr x y = true → cl1 (12 * y.toNat + x.toNat) = if sp_in (cx w + v2).toInt (cy w + v3).toInt W x y = true ∧ wn_own th pa ox oy wd hg sh lv x y = w then 0 else cl (12 * y.toNat + x.toNat) := by
        intro x y hs
        obtain ⟨a, b, c⟩ := rl_ix hs
        have := hcl _ a
        unfold wn_ix at this
        rw [b, c] at this; exact this
      have fr : ∀ r, r ≠ 19 → r ≠ 20 → r ≠ 6 + w → rg_ag B T M N E B3 T3 M3 N3 E3 r := fun r a b c => rg_ag_tr (f1 r a) (rg_ag_tr (f2 r b) (f3 r c))
      refine ⟨r1, r2, fun j hj hjt => rg_at_ag (fr j (by omega) (by omega) (by omega)) (r3 j hj hjt), fun j hj hjt => ?_, r5, fun i hi => ?_⟩
      · by_cases z : j = w
        · subst z
          refine rg_at_P p3 (fun x y => ?_)
          rw [sp]
          cases hs : wn_scr x y
          · rfl
          · by_cases y2 : wn_own th pa ox oy wd hg sh lv x y = j
            · rw [cl' x y hs, decide_eq_true y2]
              cases q : sp_in (cx j + v2).toInt (cy j + v3).toInt W x y
              · rw [if_neg (fun h => nomatch h.1)]; simp
              · rw [if_pos ⟨rfl, y2⟩]; simp
            · rw [decide_eq_false y2]; rfl
        · refine rg_at_P (rg_at_ag (fr _ (by omega) (by omega) (by omega)) (r4 j hj hjt)) (fun x y => ?_)
          cases hs : wn_scr x y
          · rfl
          · by_cases y2 : wn_own th pa ox oy wd hg sh lv x y = j
            · rw [cl' x y hs, if_neg (by omega)]
            · rw [decide_eq_false y2]; rfl
      · rw [hcl i hi]
        split
        · exact Or.inl rfl
        · exact r6 i hi
    · exact br_f c6 (Yb (br_t rfl (br_f c1 (br_f c2 (br_f c3 (br_f c4 (br_f c5 (br_f c6 ⟨rfl, rel⟩))))))))
  · refine xh_is_f hc (br_t rfl ?_)
    exact yh_mi_f hc (br_f (by decide) ⟨rfl, rel⟩)
end
section
/-! move, size, show, raise, the constructors -/
theorem mv_ok {pa ox oy wd hg : Nat → Int32} {w : Nat} {a b : Int32} (h : wn_ok pa ox oy wd hg) (ha : -15 ≤ a.toInt ∧ a.toInt ≤ 15) (hb : -15 ≤ b.toInt ∧ b.toInt ≤ 15) : wn_ok pa (upd ox w a) (upd oy w b) wd hg := by
  intro j hj
  obtain ⟨p1, p2, p3, p4, p5⟩ := h j hj
  by_cases z : j = w
  · rw [z, pk_us, pk_us]; rw [z] at p1 p4 p5; exact ⟨p1, ha, hb, p4, p5⟩
  · rw [pk_un z, pk_un z]; exact ⟨p1, p2, p3, p4, p5⟩
theorem sz_ok {pa ox oy wd hg : Nat → Int32} {w : Nat} {a b : Int32} (h : wn_ok pa ox oy wd hg) (ha : 0 ≤ a.toInt ∧ a.toInt ≤ 12) (hb : 0 ≤ b.toInt ∧ b.toInt ≤ 12) : wn_ok pa ox oy (upd wd w a) (upd hg w b) := by
  intro j hj
  obtain ⟨p1, p2, p3, p4, p5⟩ := h j hj
  by_cases z : j = w
  · rw [z, pk_us, pk_us]; rw [z] at p1 p2 p3; exact ⟨p1, p2, p3, ha, hb⟩
  · rw [pk_un z, pk_un z]; exact ⟨p1, p2, p3, p4, p5⟩
theorem mv_r {a : Int32} (h1 : ¬ a < -15) (h2 : ¬ (15 : Int32) < a) : -15 ≤ a.toInt ∧ a.toInt ≤ 15 := by
  have a1 : ¬ _ := fun h => h1 (zb_lt.mpr h)
  have b1 : ¬ _ := fun h => h2 (zb_lt.mpr h)
  rw [show (-15 : Int32).toInt = -15 from by decide] at a1
  rw [show (15 : Int32).toInt = 15 from by decide] at b1
  omega
theorem i_vc_move {k : Nat} {u : SX} {v : SY} (I : i_Rel k u v) (hk : k + 5 ≤ 2560) (v1 : Int32) (v2 : Int32) (v3 : Int32) : wpX_move (fun r u' => wpY_move (fun r' v' => r' = r ∧ i_Rel (k + 5) u' v') v v1 v2 v3) u v1 v2 v3 := by
  refine rl_el (P := fun u v => wpX_move (fun r u' => wpY_move (fun r' v' => r' = r ∧ i_Rel (k + 5) u' v') v v1 v2 v3) u v1 v2 v3) ?_ I
  intro fp tp bt th pa ox oy wd hg sh cx cy qx qy pl B T M N E ww wp lv cl wt wx wy wo wc hW hL hR
  have rel := rl_mk (qx := qx) (qy := qy) (ww := ww) (wp := wp) (wt := wt) (wx := wx) (wy := wy) (wo := wo) (wc := wc) hW (rl_up hL) hR
  have h00 : ¬ th 0 = 0 := by rw [hW.2.2.1]; decide
  unfold wpX_move wpY_move
  by_cases hc : ∃ w, w < 6 ∧ v1 = nI w ∧ ¬ th w = 0
  · obtain ⟨w, hw, rfl, ht⟩ := hc
    have Yb : ∀ {P : Int32 → Prop}, P 0 → wpY_missing P (tp, bt, th, pa, ox, oy, wd, hg, sh, lv, cl, wt, wx, wy, wo, wc) (nI w) := fun h => yh_mi_t hw ht h
    have e1 : (nI w).toNatClampNeg = w := zb_c (by omega)
    have i1 : vp_in (nI w) 6 := zb_in hw (by decide)
    refine xh_is_t hw ht (br_f (by decide) ?_)
    by_cases w0 : nI w = 0
    · exact br_t w0 (Yb (br_t rfl (br_t w0 ⟨rfl, rel⟩)))
    refine br_f w0 ?_
    have hw1 : 1 ≤ w := by
      cases w with
      | zero => exact absurd rfl w0
      | succ w => omega
    by_cases c1 : v2 < -15
    · exact br_t c1 (Yb (br_t rfl (br_f w0 (br_t c1 ⟨rfl, rel⟩))))
    refine br_f c1 ?_
    by_cases c2 : 15 < v2
    · exact br_t c2 (Yb (br_t rfl (br_f w0 (br_f c1 (br_t c2 ⟨rfl, rel⟩)))))
    refine br_f c2 ?_
    by_cases c3 : v3 < -15
    · exact br_t c3 (Yb (br_t rfl (br_f w0 (br_f c1 (br_f c2 (br_t c3 ⟨rfl, rel⟩))))))
    refine br_f c3 ?_
    by_cases c4 : v3 ≤ 15
    · have hok1 := mv_ok (w := w) hW.1 (mv_r c1 c2) (mv_r c3 (Int32.not_lt.mpr c4))
      have hW1 : rl_W th pa (upd ox w v2) (upd oy w v3) wd hg := ⟨hok1, hW.2⟩
      refine br_t c4 (xh_keep (fun qx1 qy1 hq => ?_))
      dsimp only
      try rw [e1]
      refine ⟨i1, nm_e ⟨i1, nm_e ?_⟩⟩
      refine rl_arr hR h00 hq hW1 (rl_up hL) (fun w hw ht => rl_K0 hR hw ht) ?_
      intro cx1 cy1 B1 T1 M1 N1 E1 ww1 wp1 fin
      dsimp only
      refine Yb (br_t rfl (br_f w0 (br_f c1 (br_f c2 (br_f c3 (br_t c4 ?_))))))
      refine ym_remember hW.1 hW.2.1 hR.2.2.2.2.2 (fun wt1 wx1 wy1 wo1 wc1 re => ?_)
      dsimp only
      try rw [e1]
      refine ⟨i1, nm_e ⟨i1, nm_e ?_⟩⟩
      exact rl_set hW.1 hR re hq hok1 fin (fun cl1 hR1 => ⟨rfl, rl_mk hW1 (rl_up hL) hR1⟩)
    · exact br_f c4 (Yb (br_t rfl (br_f w0 (br_f c1 (br_f c2 (br_f c3 (br_f c4 ⟨rfl, rel⟩)))))))
  · refine xh_is_f hc (br_t rfl ?_)
    exact yh_mi_f hc (br_f (by decide) ⟨rfl, rel⟩)
theorem i_vc_size {k : Nat} {u : SX} {v : SY} (I : i_Rel k u v) (hk : k + 5 ≤ 2560) (v1 : Int32) (v2 : Int32) : wpX_size (fun r u' => wpY_size (fun r' v' => r' = r ∧ i_Rel (k + 5) u' v') v v1 v2) u v1 v2 := by
  refine rl_el (P := fun u v => wpX_size (fun r u' => wpY_size (fun r' v' => r' = r ∧ i_Rel (k + 5) u' v') v v1 v2) u v1 v2) ?_ I
  intro fp tp bt th pa ox oy wd hg sh cx cy qx qy pl B T M N E ww wp lv cl wt wx wy wo wc hW hL hR
  have rel := rl_mk (qx := qx) (qy := qy) (ww := ww) (wp := wp) (wt := wt) (wx := wx) (wy := wy) (wo := wo) (wc := wc) hW (rl_up hL) hR
  have h00 : ¬ th 0 = 0 := by rw [hW.2.2.1]; decide
  unfold wpX_size wpY_size
  by_cases hc : ∃ w, w < 6 ∧ v1 = nI w ∧ ¬ th w = 0
  · obtain ⟨w, hw, rfl, ht⟩ := hc
    have Yb : ∀ {P : Int32 → Prop}, P 0 → wpY_missing P (tp, bt, th, pa, ox, oy, wd, hg, sh, lv, cl, wt, wx, wy, wo, wc) (nI w) := fun h => yh_mi_t hw ht h
    have e1 : (nI w).toNatClampNeg = w := zb_c (by omega)
    have i1 : vp_in (nI w) 6 := zb_in hw (by decide)
    refine xh_is_t hw ht (br_f (by decide) ?_)
    by_cases w0 : nI w = 0
    · exact br_t w0 (Yb (br_t rfl (br_t w0 ⟨rfl, rel⟩)))
    refine br_f w0 ?_
    have hw1 : 1 ≤ w := by
      cases w with
      | zero => exact absurd rfl w0
      | succ w => omega
    have hok1 := sz_ok (w := w) hW.1 (zl_r v2) (zl_r (v2 >>> ((4 : Int32) &&& 31)))
    have hW1 : rl_W th pa ox oy (upd wd w (zl_len (v2 &&& 15))) (upd hg w (zl_len ((v2 >>> ((4 : Int32) &&& 31)) &&& 15))) := ⟨hok1, hW.2⟩
    refine xh_keep (fun qx1 qy1 hq => ?_)
    dsimp only
    refine xh_size hw ?_
    dsimp only
    refine rl_arr hR h00 hq hW1 (rl_up hL) (fun w hw ht => rl_K0 hR hw ht) ?_
    intro cx1 cy1 B1 T1 M1 N1 E1 ww1 wp1 fin
    dsimp only
    refine Yb (br_t rfl (br_f w0 ?_))
    refine ym_remember hW.1 hW.2.1 hR.2.2.2.2.2 (fun wt1 wx1 wy1 wo1 wc1 re => ?_)
    dsimp only
    refine yh_size hw ?_
    dsimp only
    exact rl_set hW.1 hR re hq hok1 fin (fun cl1 hR1 => ⟨rfl, rl_mk hW1 (rl_up hL) hR1⟩)
  · refine xh_is_f hc (br_t rfl ?_)
    exact yh_mi_f hc (br_f (by decide) ⟨rfl, rel⟩)
theorem i_vc_show {k : Nat} {u : SX} {v : SY} (I : i_Rel k u v) (hk : k + 5 ≤ 2560) (v1 : Int32) (v2 : Int32) : wpX_show (fun r u' => wpY_show (fun r' v' => r' = r ∧ i_Rel (k + 5) u' v') v v1 (lw_bz v2)) u v1 (lw_bz v2) := by
  refine rl_el (P := fun u v => wpX_show (fun r u' => wpY_show (fun r' v' => r' = r ∧ i_Rel (k + 5) u' v') v v1 (lw_bz v2)) u v1 (lw_bz v2)) ?_ I
  intro fp tp bt th pa ox oy wd hg sh cx cy qx qy pl B T M N E ww wp lv cl wt wx wy wo wc hW hL hR
  have rel := rl_mk (qx := qx) (qy := qy) (ww := ww) (wp := wp) (wt := wt) (wx := wx) (wy := wy) (wo := wo) (wc := wc) hW (rl_up hL) hR
  have h00 : ¬ th 0 = 0 := by rw [hW.2.2.1]; decide
  unfold wpX_show wpY_show
  by_cases hc : ∃ w, w < 6 ∧ v1 = nI w ∧ ¬ th w = 0
  · obtain ⟨w, hw, rfl, ht⟩ := hc
    have Yb : ∀ {P : Int32 → Prop}, P 0 → wpY_missing P (tp, bt, th, pa, ox, oy, wd, hg, sh, lv, cl, wt, wx, wy, wo, wc) (nI w) := fun h => yh_mi_t hw ht h
    have e1 : (nI w).toNatClampNeg = w := zb_c (by omega)
    have i1 : vp_in (nI w) 6 := zb_in hw (by decide)
    refine xh_is_t hw ht (br_f (by decide) ?_)
    by_cases w0 : nI w = 0
    · exact br_t w0 (Yb (br_t rfl (br_t w0 ⟨rfl, rel⟩)))
    refine br_f w0 ?_
    have hw1 : 1 ≤ w := by
      cases w with
      | zero => exact absurd rfl w0
      | succ w => omega
    refine xh_keep (fun qx1 qy1 hq => ?_)
    dsimp only
    try rw [e1]
    refine ⟨i1, nm_e ?_⟩
    refine rl_arr hR h00 hq hW (rl_up hL) (fun w hw ht => rl_K0 hR hw ht) ?_
    intro cx1 cy1 B1 T1 M1 N1 E1 ww1 wp1 fin
    dsimp only
    refine Yb (br_t rfl (br_f w0 ?_))
    refine ym_remember hW.1 hW.2.1 hR.2.2.2.2.2 (fun wt1 wx1 wy1 wo1 wc1 re => ?_)
    dsimp only
    try rw [e1]
    refine ⟨i1, nm_e ?_⟩
    exact rl_set hW.1 hR re hq hW.1 fin (fun cl1 hR1 => ⟨rfl, rl_mk hW (rl_up hL) hR1⟩)
  · refine xh_is_f hc (br_t rfl ?_)
    exact yh_mi_f hc (br_f (by decide) ⟨rfl, rel⟩)
section
variable {fp : Int32} {th pa ox oy wd hg sh cx cy qx qy pl B T M N E ww wp : Nat → Int32}
theorem ra_l {post : Int32 → SX → Prop} {w np : Nat} {pl0 : Nat → Int32} (hnp : np ≤ 4) (hp : ∀ pl : Nat → Int32, pl 0 = nI w → (∀ i, i < np → pl (i + 1) = pl0 i) → wX_raise_76 post (nI np) th pa ox oy wd hg sh cx cy qx qy pl B T M N E ww wp) :
    ∀ j (pl : Nat → Int32), j ≤ np → (∀ i, j < i → i ≤ np → pl i = pl0 (i - 1)) → (∀ i, i ≤ j → pl i = pl0 i) → wX_raise_45 post (nI w) (nI np) (j + 1) (nI j) th pa ox oy wd hg sh cx cy qx qy pl B T M N E ww wp := by
  intro j
  induction j with
  | zero =>
    intro pl hj h1 h2
    unfold wX_raise_45
    refine br_t (show nI 0 ≤ 0 by decide) (nm_e (hp _ pk_us (fun i hi => ?_)))
    rw [pk_un (by omega)]; exact h1 (i + 1) (by omega) (by omega)
  | succ j ih =>
    intro pl hj h1 h2
    have e1 : (nI (j + 1)).toNatClampNeg = j + 1 := zb_c (by omega)
    have e2 : (nI j).toNatClampNeg = j := zb_c (by omega)
    unfold wX_raise_45
    rw [nI_pred, pk_m1, e1, e2]
    refine br_f (nI_nle (by omega) (by omega)) ⟨zb_in (by omega) (by decide), zb_in (by omega) (by decide), nm_e (nm_e ?_)⟩
    refine ih _ (by omega) (fun i a b => ?_) (fun i a => by rw [pk_un (by omega)]; exact h2 i (by omega))
    by_cases z : i = j + 1
    · subst z; rw [pk_us]; exact h2 j (by omega)
    · rw [pk_un z]; exact h1 i (by omega) b
end
theorem ra_th {th : Nat → Int32} {w : Nat} (h : th w = 1) : upd (upd th w 0) w 1 = th := by
  funext j
  by_cases z : j = w
  · rw [z, pk_us, h]
  · rw [pk_un z, pk_un z]
theorem i_vc_raise {k : Nat} {u : SX} {v : SY} (I : i_Rel k u v) (hk : k + 5 ≤ 2560) (v1 : Int32) (v2 : Int32) : wpX_raise (fun r u' => wpY_raise (fun r' v' => r' = r ∧ i_Rel (k + 5) u' v') v v1 (lw_bz v2)) u v1 (lw_bz v2) := by
  refine rl_el (P := fun u v => wpX_raise (fun r u' => wpY_raise (fun r' v' => r' = r ∧ i_Rel (k + 5) u' v') v v1 (lw_bz v2)) u v1 (lw_bz v2)) ?_ I
  intro fp tp bt th pa ox oy wd hg sh cx cy qx qy pl B T M N E ww wp lv cl wt wx wy wo wc hW hL hR
  have rel := rl_mk (qx := qx) (qy := qy) (ww := ww) (wp := wp) (wt := wt) (wx := wx) (wy := wy) (wo := wo) (wc := wc) hW (rl_up hL) hR
  have h00 : ¬ th 0 = 0 := by rw [hW.2.2.1]; decide
  unfold wpX_raise wpY_raise
  by_cases hc : ∃ w, w < 6 ∧ v1 = nI w ∧ ¬ th w = 0
  · obtain ⟨w, hw, rfl, ht⟩ := hc
    have Yb : ∀ {P : Int32 → Prop}, P 0 → wpY_missing P (tp, bt, th, pa, ox, oy, wd, hg, sh, lv, cl, wt, wx, wy, wo, wc) (nI w) := fun h => yh_mi_t hw ht h
    have e1 : (nI w).toNatClampNeg = w := zb_c (by omega)
    have i1 : vp_in (nI w) 6 := zb_in hw (by decide)
    refine xh_is_t hw ht (br_f (by decide) ?_)
    by_cases w0 : nI w = 0
    · exact br_t w0 (Yb (br_t rfl (br_t w0 ⟨rfl, rel⟩)))
    refine br_f w0 ?_
    have hw1 : 1 ≤ w := by
      cases w with
      | zero => exact absurd rfl w0
      | succ w => omega
    obtain ⟨np, rfl, l1, l2, l3, l4, l5⟩ := hL
    have tw : th w = 1 := by
      rcases hW.2.1 w hw with a | a
      · exact absurd a ht
      · exact a
    refine xh_keep (fun qx1 qy1 hq => ?_)
    dsimp only
    refine up_spec (np := np) l1.1.1 rfl (fun pl1 np1 hu => ?_)
    have q1 := pl_rm l1 hw hu
    have n4 := pl_lt q1.1 hw1 hw pk_us
    have e2 : (nI np1).toNatClampNeg = np1 := zb_c (by omega)
    dsimp only
    by_cases c : lw_bz v2 = 0
    · have t1 : (bt - 1).toInt = bt.toInt - 1 := by
        rw [zb_sub (by rw [show (1 : Int32).toInt = 1 from by decide]; omega) (by rw [show (1 : Int32).toInt = 1 from by decide]; omega)]; rfl
      refine br_t c ⟨np1 + 1, ra_l (pl0 := pl1) n4 (fun pl2 p1 p2 => ?_) np1 pl1 (by omega) (fun i a b => absurd a (by omega)) (fun _ _ => rfl)⟩
      have q2 := pl_bot (t := bt - 1) q1 hw1 hw pk_us (by omega) (by omega) p1 p2
      rw [ra_th tw] at q2
      have hL1 : rl_L (k + 5) (nI (np1 + 1)) tp (bt - 1) th pl2 (upd lv w (bt - 1)) := ⟨np1 + 1, rfl, q2, by omega, by omega, l4, by omega⟩
      unfold wX_raise_76
      refine nm_r (nI_1 np1) ?_
      refine rl_arr hR h00 hq hW hL1 (fun w hw ht => rl_K0 hR hw ht) ?_
      intro cx1 cy1 B1 T1 M1 N1 E1 ww1 wp1 fin
      dsimp only
      refine Yb (br_t rfl (br_f w0 ?_))
      refine ym_remember hW.1 hW.2.1 hR.2.2.2.2.2 (fun wt1 wx1 wy1 wo1 wc1 re => ?_)
      dsimp only
      try rw [e1]
      refine br_t c (nm_e ⟨i1, nm_e ?_⟩)
      unfold wY_raise_65
      exact rl_set hW.1 hR re hq hW.1 fin (fun cl1 hR1 => ⟨rfl, rl_mk hW hL1 hR1⟩)
    · have t1 : (tp + 1).toInt = tp.toInt + 1 := by
        rw [zb_add (by rw [show (1 : Int32).toInt = 1 from by decide]; omega) (by rw [show (1 : Int32).toInt = 1 from by decide]; omega)]; rfl
      have q2 := pl_top (t := tp + 1) q1 hw1 hw pk_us (by omega) (by omega)
      rw [ra_th tw] at q2
      have hL1 : rl_L (k + 5) (nI (np1 + 1)) (tp + 1) bt th (upd pl1 np1 (nI w)) (upd lv w (tp + 1)) := ⟨np1 + 1, rfl, q2, by omega, l3, by omega, by omega⟩
      rw [e2]
      refine br_f c ⟨zb_in (by omega) (by decide), nm_e ?_⟩
      unfold wX_raise_76
      refine nm_r (nI_1 np1) ?_
      refine rl_arr hR h00 hq hW hL1 (fun w hw ht => rl_K0 hR hw ht) ?_
      intro cx1 cy1 B1 T1 M1 N1 E1 ww1 wp1 fin
      dsimp only
      refine Yb (br_t rfl (br_f w0 ?_))
      refine ym_remember hW.1 hW.2.1 hR.2.2.2.2.2 (fun wt1 wx1 wy1 wo1 wc1 re => ?_)
      dsimp only
      try rw [e1]
      refine br_f c (nm_e ⟨i1, nm_e ?_⟩)
      unfold wY_raise_65
      exact rl_set hW.1 hR re hq hW.1 fin (fun cl1 hR1 => ⟨rfl, rl_mk hW hL1 hR1⟩)
  · refine xh_is_f hc (br_t rfl ?_)
    exact yh_mi_f hc (br_f (by decide) ⟨rfl, rel⟩)
theorem in_z (j : Nat) : ((fun _ : Nat => (0 : Int32)) j).toInt = 0 := by show (0 : Int32).toInt = 0; decide
theorem in_u {j : Nat} {a : Int32} (h : 0 ≤ a.toInt ∧ a.toInt ≤ 12) : 0 ≤ (upd (fun _ => 0) 0 a j).toInt ∧ (upd (fun _ => 0) 0 a j).toInt ≤ 12 := by
  by_cases z : j = 0
  · rw [z, pk_us]; exact h
  · rw [pk_un z, in_z j]; omega
theorem in_th {w : Nat} : ¬ (upd (fun _ => 0) 0 (vp_nar .boolean 1) w = 0) ↔ w = 0 := by
  by_cases z : w = 0
  · rw [z, pk_us]; exact ⟨fun _ => rfl, fun _ => by decide⟩
  · rw [pk_un z]; exact ⟨fun h => absurd rfl h, fun h => absurd h z⟩
theorem i_vc0 : wpX_init (fun u => wpY_init (fun v => i_Rel 0 u v)) := by
  have hok : wn_ok (fun _ => 0) (fun _ => 0) (fun _ => 0) (upd (fun _ => 0) 0 12) (upd (fun _ => 0) 0 10) := fun w hw =>
    ⟨⟨0, by omega, rfl⟩, by rw [in_z w]; omega, by rw [in_z w]; omega, in_u (by decide), in_u (by decide)⟩
  have hpi : pi_ok (upd (fun _ => 0) 0 (vp_nar .boolean 1)) (fun _ => 0) 0 := ⟨by omega, fun i hi => absurd hi (by omega), fun i j _ hj => absurd hj (by omega), fun v v1 v2 v3 => absurd (in_th.mp v3) (by omega)⟩
  have hrk : ∀ w, 1 ≤ w → w < 6 → ¬ upd (fun _ => 0) 0 (vp_nar .boolean 1) w = 0 → ¬ upd (fun _ => 0) 0 (vp_nar .boolean 1) ((fun _ : Nat => (0 : Int32)) w).toNatClampNeg = 0 ∧ (fun _ : Nat => 0) ((fun _ : Nat => (0 : Int32)) w).toNatClampNeg < (fun _ : Nat => 0) w := fun w a _ c => absurd (in_th.mp c) (by omega)
  have hz : ∀ w : Nat, w < 6 → (-100 ≤ ((fun _ : Nat => (0 : Int32)) w).toInt ∧ ((fun _ : Nat => (0 : Int32)) w).toInt ≤ 100) ∧ (-100 ≤ ((fun _ : Nat => (0 : Int32)) w).toInt ∧ ((fun _ : Nat => (0 : Int32)) w).toInt ≤ 100) := fun w _ => by rw [in_z w]; omega
  have h0 : ¬ upd (fun _ => 0) 0 (vp_nar .boolean 1) 0 = 0 := in_th.mpr rfl
  unfold wpX_init
  refine nm_e (nm_e (nm_e (nm_e ?_)))
  refine ar_spec (lv := fun _ => 0) (np := 0) (rk := fun _ => 0) (K := fun _ _ _ => false) rfl hok hpi (fun i j _ hj => absurd hj (by omega)) hrk h0 hz hz ⟨in_z 0, in_z 0⟩ (fun w hw ht => rg_at_0 _ _ _ _ rfl) ?_
  intro cx1 cy1 B1 T1 M1 N1 E1 ww1 wp1 fin
  dsimp only
  unfold wpY_init
  refine nm_e (nm_e (nm_e (nm_e ?_)))
  obtain ⟨f1, f2, f3, f4, f5⟩ := fin
  refine rl_mk ⟨hok, fun w hw => ?_, pk_us, fun _ => 0, hrk⟩ ⟨0, rfl, ⟨hpi, fun i j _ hj => absurd hj (by omega), fun i hi => absurd hi (by omega)⟩, by decide, by decide, by decide, by decide⟩ ⟨f1, f2, f3, fun w hw ht => rg_at_P (f4 w hw ht) (fun x y => ?_), f5, fun i hi => Or.inl rfl⟩
  · by_cases z : w = 0
    · rw [z, pk_us]; exact Or.inr rfl
    · rw [pk_un z]; exact Or.inl rfl
  · rw [decide_eq_false (p := ¬ (0 : Int32) = 0) (fun h => h rfl)]
end
section
/-! make -/
def mk_c (th : Nat → Int32) (k c : Nat) : Prop := (c = 0 ∧ ∀ j, k < j → j ≤ 5 → ¬ th j = 0) ∨ (k < c ∧ c ≤ 5 ∧ th c = 0 ∧ ∀ j, k < j → j < c → ¬ th j = 0)
section
variable {fp : Int32} {th pa ox oy wd hg sh cx cy qx qy pl B T M N E ww wp : Nat → Int32}
theorem mk_l {post : Int32 → SX → Prop} {p1 p2 : Int32} (H : ∀ m c, mk_c th 0 c → wX_make_15 post p1 p2 fp th pa ox oy wd hg sh cx cy qx qy pl B T M N E ww wp (m + 1) (nI c) 0) :
    ∀ k c, k ≤ 5 → mk_c th k c → wX_make_15 post p1 p2 fp th pa ox oy wd hg sh cx cy qx qy pl B T M N E ww wp (k + 1) (nI c) (nI k) := by
  intro k
  induction k with
  | zero => intro c _ h; exact H 0 c h
  | succ k ih =>
    intro c hk h
    have e1 : (nI (k + 1)).toNatClampNeg = k + 1 := zb_c (by omega)
    unfold wX_make_15
    rw [e1, pk_m1]
    refine br_f (nI_nle (by omega) (by omega)) ⟨zb_in (by omega) (by decide), fun d => nm_e ?_, fun d => nm_e ?_⟩
    · exact ih (k + 1) (by omega) (Or.inr ⟨by omega, by omega, d, fun j a b => absurd a (by omega)⟩)
    · refine ih c (by omega) ?_
      rcases h with ⟨h1, h2⟩ | ⟨h1, h2, h3, h4⟩
      · refine Or.inl ⟨h1, fun j a b => ?_⟩
        by_cases z : j = k + 1
        · rw [z]; exact d
        · exact h2 j (by omega) b
      · refine Or.inr ⟨by omega, h2, h3, fun j a b => ?_⟩
        by_cases z : j = k + 1
        · rw [z]; exact d
        · exact h4 j (by omega) b
end
section
variable {tp bt : Int32} {th pa ox oy wd hg sh lv cl wt wx wy wo wc : Nat → Int32}
theorem my_l {post : Int32 → SY → Prop} {p1 p2 : Int32} {c : Nat} (hc : c ≤ 6) (ha : ∀ j, 1 ≤ j → j < c → ¬ th j = 0) (H : wY_make_12 post p1 p2 tp bt th pa ox oy wd hg sh lv cl wt wx wy wo wc 1 (nI c)) :
    ∀ d j, j + d = c → 1 ≤ j → wY_make_12 post p1 p2 tp bt th pa ox oy wd hg sh lv cl wt wx wy wo wc (d + 1) (nI j) := by
  intro d
  induction d with
  | zero => intro j h _; rw [show j = c from h]; exact H
  | succ d ih =>
    intro j h h1
    have e1 : (nI j).toNatClampNeg = j := zb_c (by omega)
    unfold wY_make_12
    rw [e1, nI_1]
    exact br_f (nI_ge (b := 6) (by omega) (by omega)) ⟨zb_in (by omega) (by decide), br_f (ha j h1 (by omega)) (nm_e (ih (j + 1) (by omega) (by omega)))⟩
end
theorem mk_ok {pa ox oy wd hg : Nat → Int32} {w p : Nat} {a b : Int32} (h : wn_ok pa ox oy wd hg) (hp : p < 6) (ha : 0 ≤ a.toInt ∧ a.toInt ≤ 12) (hb : 0 ≤ b.toInt ∧ b.toInt ≤ 12) : wn_ok (upd pa w (nI p)) (upd ox w 0) (upd oy w 0) (upd wd w a) (upd hg w b) := by
  intro j hj
  obtain ⟨p1, p2, p3, p4, p5⟩ := h j hj
  by_cases z : j = w
  · rw [z, pk_us, pk_us, pk_us, pk_us, pk_us]; exact ⟨⟨p, hp, rfl⟩, by decide, by decide, ha, hb⟩
  · rw [pk_un z, pk_un z, pk_un z, pk_un z, pk_un z]; exact ⟨p1, p2, p3, p4, p5⟩
theorem i_vc_make {k : Nat} {u : SX} {v : SY} (I : i_Rel k u v) (hk : k + 5 ≤ 2560) (v1 : Int32) (v2 : Int32) : wpX_make (fun r u' => wpY_make (fun r' v' => r' = r ∧ i_Rel (k + 5) u' v') v v1 v2) u v1 v2 := by
  refine rl_el (P := fun u v => wpX_make (fun r u' => wpY_make (fun r' v' => r' = r ∧ i_Rel (k + 5) u' v') v v1 v2) u v1 v2) ?_ I
  intro fp tp bt th pa ox oy wd hg sh cx cy qx qy pl B T M N E ww wp lv cl wt wx wy wo wc hW hL hR
  have rel := rl_mk (qx := qx) (qy := qy) (ww := ww) (wp := wp) (wt := wt) (wx := wx) (wy := wy) (wo := wo) (wc := wc) hW (rl_up hL) hR
  have h00 : ¬ th 0 = 0 := by rw [hW.2.2.1]; decide
  unfold wpX_make wpY_make
  by_cases hc : ∃ w, w < 6 ∧ v1 = nI w ∧ ¬ th w = 0
  · obtain ⟨p, hp, rfl, ht⟩ := hc
    have Yb : ∀ {P : Int32 → Prop}, P 0 → wpY_missing P (tp, bt, th, pa, ox, oy, wd, hg, sh, lv, cl, wt, wx, wy, wo, wc) (nI p) := fun h => yh_mi_t hp ht h
    refine xh_is_t hp ht (br_f (by decide) ⟨6, ?_⟩)
    refine mk_l (fun m c hmc => ?_) 5 0 (by omega) (Or.inl ⟨rfl, fun j a b => absurd a (by omega)⟩)
    unfold wX_make_15
    refine br_t (by decide) ?_
    rcases hmc with ⟨rfl, hall⟩ | ⟨hc1, hc5, hth, hlt⟩
    · refine br_t rfl (Yb (br_t rfl ⟨6, ?_⟩))
      refine my_l (c := 6) (by omega) (fun j a b => hall j (by omega) (by omega)) ?_ 5 1 rfl (by omega)
      unfold wY_make_12
      exact br_t (by decide) ⟨rfl, rel⟩
    · have hc6 : c < 6 := by omega
      have e1 : (nI c).toNatClampNeg = c := zb_c (by omega)
      have e6 : (nI (6 + c)).toNatClampNeg = 6 + c := zb_c (by omega)
      have i1 : vp_in (nI c) 6 := zb_in hc6 (by decide)
      obtain ⟨hok, h01, h0, rk, hrk⟩ := hW
      obtain ⟨np, rfl, l1, l2, l3, l4, l5⟩ := hL
      have n4 := pl_lt l1.1 hc1 hc6 hth
      have enp : (nI np).toNatClampNeg = np := zb_c (by omega)
      have hpc : p ≠ c := fun e => ht (by rw [e]; exact hth)
      have t1 : (tp + 1).toInt = tp.toInt + 1 := by
        rw [zb_add (by rw [show (1 : Int32).toInt = 1 from by decide]; omega) (by rw [show (1 : Int32).toInt = 1 from by decide]; omega)]; rfl
      have q2 := pl_top (t := tp + 1) l1 hc1 hc6 hth (by omega) (by omega)
      have hL1 : rl_L (k + 5) (nI (np + 1)) (tp + 1) bt (upd th c 1) (upd pl np (nI c)) (upd lv c (tp + 1)) := ⟨np + 1, rfl, q2, by omega, l3, by omega, by omega⟩
      have hok1 := mk_ok (w := c) hok hp (zl_r v2) (zl_r (v2 >>> ((4 : Int32) &&& 31)))
      have hW1 : rl_W (upd th c 1) (upd pa c (nI p)) (upd ox c 0) (upd oy c 0) (upd wd c (zl_len (v2 &&& 15))) (upd hg c (zl_len ((v2 >>> ((4 : Int32) &&& 31)) &&& 15))) := by
        refine ⟨hok1, fun w hw => ?_, by rw [pk_un (by omega)]; exact h0, fun j => if j = c then rk p + 1 else rk j, fun w w1 w6 wt => ?_⟩
        · by_cases z : w = c
          · rw [z, pk_us]; exact Or.inr rfl
          · rw [pk_un z]; exact h01 w hw
        · dsimp only
          by_cases z : w = c
          · rw [z, pk_us, zb_c (by omega), pk_un hpc, if_neg hpc, if_pos rfl]; exact ⟨ht, by omega⟩
          · rw [pk_un z] at wt
            obtain ⟨a, b⟩ := hrk w w1 w6 wt
            have ne : (pa w).toNatClampNeg ≠ c := fun e => a (by rw [e]; exact hth)
            rw [pk_un (f := pa) z, pk_un ne, if_neg ne, if_neg z]; exact ⟨a, b⟩
      refine br_f (nI_ne0 (by omega) (by omega)) (xh_keep (fun qx1 qy1 hq => ?_))
      dsimp only
      rw [e1, zb_b1]
      refine ⟨i1, nm_e ⟨i1, nm_e ⟨i1, nm_e ⟨i1, nm_e ?_⟩⟩⟩⟩
      refine xh_size hc6 ?_
      dsimp only
      rw [zb_6p, e6, enp, nI_1]
      refine ⟨i1, nm_e ⟨zb_in (by omega) (by decide), nm_e ⟨zb_in (by omega) (by decide), nm_e (nm_e ?_)⟩⟩⟩
      refine rl_arr hR h00 hq hW1 hL1 (fun w hw wt => ?_) ?_
      · by_cases z : w = c
        · rw [z]
          exact rg_at_P (rg_at_0 _ _ _ _ pk_us) (fun x y => (rl_kf hth x y).symm)
        · rw [pk_un z] at wt
          exact rg_at_ag ⟨pk_un (by omega), fun _ _ => ⟨rfl, rfl, rfl⟩, fun _ _ => rfl⟩ (rl_K0 hR hw wt)
      intro cx1 cy1 B1 T1 M1 N1 E1 ww1 wp1 fin
      dsimp only
      refine Yb (br_t rfl ⟨c, ?_⟩)
      have my := my_l (p1 := nI p) (p2 := v2) (tp := tp) (bt := bt) (th := th) (pa := pa) (ox := ox) (oy := oy) (wd := wd) (hg := hg) (sh := sh) (lv := lv) (cl := cl) (wt := wt) (wx := wx) (wy := wy) (wo := wo) (wc := wc) (c := c) (post := fun r' v' => r' = nI c ∧ i_Rel (k + 5) (nI (np + 1), upd th c 1, upd pa c (nI p), upd ox c 0, upd oy c 0, upd wd c (zl_len (v2 &&& 15)), upd hg c (zl_len ((v2 >>> ((4 : Int32) &&& 31)) &&& 15)), upd sh c 1, cx1, cy1, qx1, qy1, upd pl np (nI c), B1, T1, M1, N1, E1, ww1, wp1) v') (by omega) (fun j a b => hlt j (by omega) b) ?_ (c - 1) 1 (by omega) (by omega)
      · rw [show c - 1 + 1 = c by omega] at my; exact my
      unfold wY_make_12
      rw [e1]
      refine br_f (nI_ge (b := 6) (by omega) (by omega)) ⟨i1, br_t hth ?_⟩
      refine ym_remember hok h01 hR.2.2.2.2.2 (fun wt1 wx1 wy1 wo1 wc1 re => ?_)
      dsimp only
      rw [zb_b1]
      refine ⟨i1, nm_e ⟨i1, nm_e ⟨i1, nm_e ⟨i1, nm_e ⟨i1, nm_e ?_⟩⟩⟩⟩⟩
      refine yh_size hc6 ?_
      dsimp only
      refine nm_e ⟨i1, nm_e ?_⟩
      exact rl_set hok hR re hq hok1 fin (fun cl1 hR1 => ⟨rfl, rl_mk hW1 hL1 hR1⟩)
  · refine xh_is_f hc (br_t rfl ?_)
    exact yh_mi_f hc (br_f (by decide) ⟨rfl, rel⟩)
end
section
/-! destroy -/
def wn_wi (pa : Nat → Int32) (win : Nat) : Nat → Nat → Bool
  | 0, _ => false
  | f + 1, j => if j = 0 then false else if j = win then true else wn_wi pa win f (pa j).toNatClampNeg
theorem wi_0 {pa : Nat → Int32} {win : Nat} : ∀ f, wn_wi pa win f 0 = false
  | 0 => rfl
  | _ + 1 => rfl
theorem wi_dp {pa : Nat → Int32} {win : Nat} : ∀ f j, wn_dp pa f j = true → ∀ m, wn_wi pa win (f + m) j = wn_wi pa win f j
  | 0, j, h, m => by
    have h' : decide (j = 0) = true := h
    rw [of_decide_eq_true h', wi_0, wi_0]
  | f + 1, j, h, m => by
    have h' : (decide (j = 0) || wn_dp pa f (pa j).toNatClampNeg) = true := h
    rw [show f + 1 + m = (f + m) + 1 by omega]
    show (if j = 0 then false else if j = win then true else wn_wi pa win (f + m) (pa j).toNatClampNeg) = (if j = 0 then false else if j = win then true else wn_wi pa win f (pa j).toNatClampNeg)
    by_cases z : j = 0
    · rw [if_pos z, if_pos z]
    · rw [decide_eq_false z] at h'
      rw [wi_dp f _ h' m]
theorem ds_par {pa : Nat → Int32} {win w : Nat} (hd : wn_dp pa 5 w = true) (hw : w ≠ 0) (h : wn_wi pa win 6 (pa w).toNatClampNeg = true) : wn_wi pa win 6 w = true := by
  have h' : (decide (w = 0) || wn_dp pa 4 (pa w).toNatClampNeg) = true := hd
  rw [decide_eq_false hw] at h'
  have a := wi_dp (win := win) 4 _ h' 2
  have b := wi_dp (win := win) 4 _ h' 1
  show (if w = 0 then false else if w = win then true else wn_wi pa win 5 (pa w).toNatClampNeg) = true
  rw [if_neg hw]
  split
  · rfl
  · exact (b.trans a.symm).trans h
theorem px_flip {p q : Nat → Bool} {w : Nat} : ∀ n, w < n → p w = false → q w = true → (∀ i, i < n → i ≠ w → q i = p i) → px_ct q n = px_ct p n + 1
  | 0, h, _, _, _ => by omega
  | n + 1, h, hp, hq, he => by
    show px_ct q n + (if q n = true then 1 else 0) = px_ct p n + (if p n = true then 1 else 0) + 1
    by_cases z : n = w
    · subst z
      rw [hp, hq, px_cong n (fun i hi => he i (by omega) (by omega))]; rfl
    · rw [px_flip n (by omega) hp hq (fun i hi hn => he i (by omega) hn), he n (by omega) z]; omega
def ds_rem (th0 pa : Nat → Int32) (win j : Nat) : Bool := decide (1 ≤ j) && (decide (¬ th0 j = 0) && wn_wi pa win 6 j)
theorem ds_remE {th0 pa : Nat → Int32} {win j : Nat} : ds_rem th0 pa win j = true ↔ 1 ≤ j ∧ ¬ th0 j = 0 ∧ wn_wi pa win 6 j = true := by
  unfold ds_rem
  rw [Bool.and_eq_true, Bool.and_eq_true, decide_eq_true_eq, decide_eq_true_eq]
def ds_th (th0 pa : Nat → Int32) (win w : Nat) : Nat → Int32 := fun j => if j < w ∧ ds_rem th0 pa win j = true then 0 else th0 j
def ds_I (th0 pa lv T M N E th pl B : Nat → Int32) (win np n : Nat) (lo hi : Int) (K : Nat → Int → Int → Bool) : Prop :=
  (∀ j, th j = th0 j ∨ (th j = 0 ∧ j < 6 ∧ ds_rem th0 pa win j = true)) ∧ pl_ok th pl lv np lo hi ∧ n = px_ct (fun j => decide (¬ th0 j = 0) && decide (th j = 0)) 6 ∧ (∀ j, j < 6 → ¬ th j = 0 → rg_at B T M N E (6 + j) 0 12 0 10 (K j))
theorem ds_rmv {th0 pa lv T M N E th pl B pl' : Nat → Int32} {win np np' n w : Nat} {lo hi : Int} {K : Nat → Int → Int → Bool} (h : ds_I th0 pa lv T M N E th pl B win np n lo hi K) (hw : w < 6) (ht : ¬ th w = 0) (hr : ds_rem th0 pa win w = true) (u : up_ok pl pl' np np' w) :
    ds_I th0 pa lv T M N E (upd th w 0) pl' (upd (upd B w 0) (6 + w) 0) win np' (n + 1) lo hi K := by
  obtain ⟨h1, h2, h3, h4⟩ := h
  refine ⟨fun j => ?_, pl_rm h2 hw u, ?_, fun j hj hjt => ?_⟩
  · by_cases z : j = w
    · rw [z, pk_us]; exact Or.inr ⟨rfl, hw, hr⟩
    · rw [pk_un z]; exact h1 j
  · rw [px_flip (p := fun j => decide (¬ th0 j = 0) && decide (th j = 0)) (w := w) 6 hw ?_ ?_ ?_, h3]
    · rw [decide_eq_false ht]; simp
    · rw [pk_us, decide_eq_true (ds_remE.mp hr).2.1]; rfl
    · intro i hi hn
      rw [pk_un hn]
  · by_cases z : j = w
    · rw [z, pk_us] at hjt; exact absurd rfl hjt
    · rw [pk_un z] at hjt
      refine rg_at_ag ⟨?_, fun _ _ => ⟨rfl, rfl, rfl⟩, fun _ _ => rfl⟩ (h4 j hj hjt)
      rw [pk_un (by omega), pk_un (by omega)]
section
variable {fp : Int32} {th pa ox oy wd hg sh cx cy qx qy pl B T M N E ww wp : Nat → Int32}
theorem dx_in {post : Int32 → SX → Prop} {J} {th0 lv : Nat → Int32} {win r : Nat} {lo hi : Int} {K : Nat → Int → Int → Bool} (hok : wn_ok pa ox oy wd hg) (hwin : 1 ≤ win) (hwin6 : win < 6) (hpar : ∀ w, 1 ≤ w → w < 6 → ¬ th0 w = 0 → ¬ th0 (pa w).toNatClampNeg = 0) (hdp : ∀ w, w < 6 → ¬ th0 w = 0 → wn_dp pa 5 w = true)
    (hp : ∀ (th pl B : Nat → Int32) (np n : Nat), ds_I th0 pa lv T M N E th pl B win np n lo hi K → (∀ j, j < 6 → ¬ th0 j = 0 → wn_wi pa win (r + 1) j = true → th j = 0) → J (nI n) (nI (r + 1)) (nI np) th pa ox oy wd hg sh cx cy qx qy pl B T M N E ww wp) :
    ∀ m w (th pl B : Nat → Int32) (np n : Nat), 6 - w < m → w ≤ 6 → 1 ≤ w → ds_I th0 pa lv T M N E th pl B win np n lo hi K → (∀ j, j < 6 → ¬ th0 j = 0 → wn_wi pa win r j = true → th j = 0) → (∀ j, j < w → ¬ th0 j = 0 → wn_wi pa win (r + 1) j = true → th j = 0) →
      wX_destroy_30 post J (nI win) (nI r) m (nI n) (nI w) (nI np) th pa ox oy wd hg sh cx cy qx qy pl B T M N E ww wp := by
  intro m
  induction m with
  | zero => intro w th pl B np n h; omega
  | succ m ih =>
    intro w th pl B np n hm hw hw1 hI hP hQ
    unfold wX_destroy_30
    refine pk_le 6 w (fun h => nm_r (nI_1 r) ?_) (fun h => ?_)
    · obtain rfl : w = 6 := by omega
      exact hp th pl B np n hI hQ
    · have e1 : (nI w).toNatClampNeg = w := zb_c (by omega)
      have i1 : vp_in (nI w) 6 := zb_in h (by decide)
      have q := wn_p hok h
      have i2 : vp_in (pa w) 6 := by rw [q.2]; exact zb_in q.1 (by decide)
      have nx : (¬ th0 w = 0 → wn_wi pa win (r + 1) w = true → th w = 0) → wX_destroy_30 post J (nI win) (nI r) m (nI n) (nI (w + 1)) (nI np) th pa ox oy wd hg sh cx cy qx qy pl B T M N E ww wp := fun k =>
        ih (w + 1) th pl B np n (by omega) (by omega) (by omega) hI hP (fun j hj a b => by
          by_cases z : j = w
          · rw [z] at a b ⊢; exact k a b
          · exact hQ j (by omega) a b)
      have rmv : ¬ th w = 0 → ds_rem th0 pa win w = true → wX_destroy_90 post J (wX_destroy_30 post J (nI win) (nI r) m) (nI win) (nI n) (nI r) (nI w) (nI np) th pa ox oy wd hg sh cx cy qx qy pl B T M N E ww wp := by
        intro ht hr
        unfold wX_destroy_90
        refine rm_spec h hI.2.1.1.1 rfl (fun pl' np' hu => ?_)
        dsimp only
        refine nm_r (nI_1 n) (nm_r (nI_1 w) ?_)
        have mono : ∀ j, th j = 0 → upd th w 0 j = 0 := fun j hj => by
          by_cases z : j = w
          · rw [z, pk_us]
          · rw [pk_un z]; exact hj
        refine ih (w + 1) _ _ _ np' (n + 1) (by omega) (by omega) (by omega) (ds_rmv hI h ht hr hu) (fun j a b c => mono j (hP j a b c)) (fun j hj a b => ?_)
        by_cases z : j = w
        · rw [z, pk_us]
        · exact mono j (hQ j (by omega) a b)
      have t0 : ¬ th w = 0 → ¬ th0 w = 0 := fun ht => by
        rcases hI.1 w with a | a
        · rw [← a]; exact ht
        · exact absurd a.1 ht
      have c66 : (¬ th w = 0 → ¬ th (pa w).toNatClampNeg = 0) → wX_destroy_66 post J (wX_destroy_30 post J (nI win) (nI r) m) (nI win) (nI n) (nI r) (nI w) (nI np) th pa ox oy wd hg sh cx cy qx qy pl B T M N E ww wp := by
        intro hpt
        unfold wX_destroy_66 wX_destroy_67
        rw [e1]
        refine br_t rfl ⟨i1, fun c => nm_r (nI_1 w) (nx (fun _ _ => c)), fun c => pk_eq w win (fun e => rmv c (ds_remE.mpr ⟨hw1, t0 c, ?_⟩)) (fun e => nm_r (nI_1 w) (nx (fun a b => ?_)))⟩
        · show (if w = 0 then false else if w = win then true else wn_wi pa win 5 (pa w).toNatClampNeg) = true
          rw [if_neg (by omega), if_pos e]
        · exfalso
          have b' : (if w = 0 then false else if w = win then true else wn_wi pa win r (pa w).toNatClampNeg) = true := b
          rw [if_neg (by omega), if_neg e] at b'
          exact hpt c (hP _ q.1 (hpar w hw1 h a) b')
      rw [e1]
      refine ⟨i1, fun c => c66 (fun k => absurd c k), fun c => ⟨i1, i2, fun d => ?_, fun d => c66 (fun _ => d)⟩⟩
      unfold wX_destroy_67
      refine br_f (by decide) (rmv c (ds_remE.mpr ⟨hw1, t0 c, ds_par (hdp w h (t0 c)) (by omega) ?_⟩))
      rcases hI.1 (pa w).toNatClampNeg with a | a
      · exact absurd (a.symm.trans d) (hpar w hw1 h (t0 c))
      · exact (ds_remE.mp a.2.2).2.2
theorem dx_out {post : Int32 → SX → Prop} {th0 lv : Nat → Int32} {win : Nat} {lo hi : Int} {K : Nat → Int → Int → Bool} (hok : wn_ok pa ox oy wd hg) (hwin : 1 ≤ win) (hwin6 : win < 6) (hpar : ∀ w, 1 ≤ w → w < 6 → ¬ th0 w = 0 → ¬ th0 (pa w).toNatClampNeg = 0) (hdp : ∀ w, w < 6 → ¬ th0 w = 0 → wn_dp pa 5 w = true)
    (hp : ∀ (th pl B : Nat → Int32) (np n : Nat), ds_I th0 pa lv T M N E th pl B win np n lo hi K → (∀ j, j < 6 → ¬ th0 j = 0 → wn_wi pa win 5 j = true → th j = 0) → wpX_arrange (fun u => match u with | (fp, th, pa, ox, oy, wd, hg, sh, cx, cy, qx, qy, pl, B, T, M, N, E, ww, wp) => post (nI n) (fp, th, pa, ox, oy, wd, hg, sh, cx, cy, qx, qy, pl, B, T, M, N, E, ww, wp)) (nI np, th, pa, ox, oy, wd, hg, sh, cx, cy, qx, qy, pl, B, T, M, N, E, ww, wp)) :
    ∀ m r (th pl B : Nat → Int32) (np n : Nat), 5 - r < m → r ≤ 5 → ds_I th0 pa lv T M N E th pl B win np n lo hi K → (∀ j, j < 6 → ¬ th0 j = 0 → wn_wi pa win r j = true → th j = 0) →
      wX_destroy_22 post (nI win) m (nI n) (nI r) (nI np) th pa ox oy wd hg sh cx cy qx qy pl B T M N E ww wp := by
  intro m
  induction m with
  | zero => intro r th pl B np n h; omega
  | succ m ih =>
    intro r th pl B np n hm hr hI hP
    unfold wX_destroy_22
    refine pk_le 5 r (fun h => ?_) (fun h => ⟨7, ?_⟩)
    · obtain rfl : r = 5 := by omega
      exact hp th pl B np n hI hP
    · refine dx_in (lv := lv) hok hwin hwin6 hpar hdp (fun th pl B np n hI hP => ih (r + 1) th pl B np n (by omega) (by omega) hI hP) 7 1 th pl B np n (by omega) (by omega) (by omega) hI hP (fun j hj a b => ?_)
      obtain rfl : j = 0 := by omega
      rw [wi_0] at b; exact nomatch b
end
section
variable {tp bt : Int32} {th pa ox oy wd hg sh lv cl wt wx wy wo wc : Nat → Int32}
theorem dy_wi_l {post : Int32 → Prop} {win : Nat} {t : Bool} (hok : wn_ok pa ox oy wd hg) (hwin6 : win < 6) (hp : post (ab_b t)) :
    ∀ f j, j < 6 → f ≤ 6 → wn_wi pa win f j = t → wY_within_5 post (nI win) tp bt th pa ox oy wd hg sh lv cl wt wx wy wo wc (f + 1) (nI j) (nI (6 - f)) := by
  intro f
  induction f with
  | zero =>
    intro j hj hf h
    unfold wY_within_5
    subst h
    exact br_t (show (6 : Int32) ≤ nI (6 - 0) by decide) hp
  | succ f ih =>
    intro j hj hf h
    have e1 : (nI j).toNatClampNeg = j := zb_c (by omega)
    have q := wn_p hok hj
    have h' : (if j = 0 then false else if j = win then true else wn_wi pa win f (pa j).toNatClampNeg) = t := h
    unfold wY_within_5
    refine pk_le 6 (6 - (f + 1)) (fun h => absurd h (by omega)) (fun _ => pk_le j 0 (fun c => ?_) (fun c => pk_eq j win (fun e => ?_) (fun e => ⟨zb_in hj (by decide), ?_⟩)))
    · rw [if_pos (by omega)] at h'; subst h'; exact hp
    · rw [if_neg (by omega), if_pos e] at h'; subst h'; exact hp
    · rw [if_neg (by omega), if_neg e] at h'
      rw [e1, q.2, show nI (6 - (f + 1)) + 1 = nI (6 - f) by rw [nI_1]; exact congrArg nI (by omega)]
      exact nm_e (nm_e (ih _ q.1 (by omega) h'))
theorem dy_wi {post : Int32 → Prop} {win j : Nat} (hok : wn_ok pa ox oy wd hg) (hwin6 : win < 6) (hj : j < 6) (hp : post (ab_b (wn_wi pa win 6 j))) : wpY_within post (tp, bt, th, pa, ox, oy, wd, hg, sh, lv, cl, wt, wx, wy, wo, wc) (nI j) (nI win) := by
  unfold wpY_within
  exact ⟨7, dy_wi_l hok hwin6 hp 6 j hj (by omega) rfl⟩
theorem dy_l {post : Int32 → SY → Prop} {win : Nat} {th0 : Nat → Int32} (hok : wn_ok pa ox oy wd hg) (hwin6 : win < 6) (hwt : ∀ w, w < 6 → wt w = th0 w)
    (hp : wpY_settle (fun u => match u with | (z0, z1, z2, z3, z4, z5, z6, z7, z8, z9, z10, z11, z12, z13, z14, z15) => post (nI (px_ct (ds_rem th0 pa win) 6)) (z0, z1, z2, z3, z4, z5, z6, z7, z8, z9, z10, z11, z12, z13, z14, z15)) (tp, bt, ds_th th0 pa win 6, pa, ox, oy, wd, hg, sh, lv, cl, wt, wx, wy, wo, wc)) :
    ∀ m w, 6 - w < m → w ≤ 6 → 1 ≤ w → wY_destroy_22 post (nI win) tp bt m (nI (px_ct (ds_rem th0 pa win) w)) (nI w) (ds_th th0 pa win w) pa ox oy wd hg sh lv cl wt wx wy wo wc := by
  intro m
  induction m with
  | zero => intro w h; omega
  | succ m ih =>
    intro w hm hw hw1
    unfold wY_destroy_22
    refine pk_le 6 w (fun h => ?_) (fun h => ?_)
    · obtain rfl : w = 6 := by omega
      exact hp
    · have e1 : (nI w).toNatClampNeg = w := zb_c (by omega)
      have i1 : vp_in (nI w) 6 := zb_in h (by decide)
      have nx := ih (w + 1) (by omega) (by omega) (by omega)
      have no : ¬ ds_rem th0 pa win w = true → wY_destroy_22 post (nI win) tp bt m (nI (px_ct (ds_rem th0 pa win) w)) (nI (w + 1)) (ds_th th0 pa win w) pa ox oy wd hg sh lv cl wt wx wy wo wc := by
        intro c
        have a : px_ct (ds_rem th0 pa win) (w + 1) = px_ct (ds_rem th0 pa win) w := by
          show _ + (if ds_rem th0 pa win w = true then 1 else 0) = _
          rw [if_neg c, Nat.add_zero]
        have b : ds_th th0 pa win (w + 1) = ds_th th0 pa win w := by
          funext j
          show (if j < w + 1 ∧ ds_rem th0 pa win j = true then 0 else th0 j) = (if j < w ∧ ds_rem th0 pa win j = true then 0 else th0 j)
          by_cases z : j = w
          · rw [z, if_neg (fun k => c k.2), if_neg (fun k => c k.2)]
          · by_cases y : j < w ∧ ds_rem th0 pa win j = true
            · rw [if_pos y, if_pos ⟨by omega, y.2⟩]
            · rw [if_neg y, if_neg (fun k => y ⟨by omega, k.2⟩)]
        rw [a, b] at nx; exact nx
      rw [e1, hwt w h]
      refine ⟨i1, fun c => nm_r (nI_1 w) (no (fun k => (ds_remE.mp k).2.1 c)), fun c => ?_⟩
      refine dy_wi hok hwin6 h ?_
      cases z : wn_wi pa win 6 w
      · exact br_t rfl (nm_r (nI_1 w) (no (fun k => by rw [(ds_remE.mp k).2.2] at z; exact nomatch z)))
      · have hr : ds_rem th0 pa win w = true := ds_remE.mpr ⟨hw1, c, z⟩
        have a : px_ct (ds_rem th0 pa win) (w + 1) = px_ct (ds_rem th0 pa win) w + 1 := by
          show _ + (if ds_rem th0 pa win w = true then 1 else 0) = _
          rw [if_pos hr]
        have b : ds_th th0 pa win (w + 1) = upd (ds_th th0 pa win w) w (vp_nar .boolean 0) := by
          funext j
          by_cases y : j = w
          · rw [y, pk_us]; exact if_pos ⟨by omega, hr⟩
          · rw [pk_un y]
            show (if j < w + 1 ∧ ds_rem th0 pa win j = true then 0 else th0 j) = (if j < w ∧ ds_rem th0 pa win j = true then 0 else th0 j)
            by_cases y2 : j < w ∧ ds_rem th0 pa win j = true
            · rw [if_pos y2, if_pos ⟨by omega, y2.2⟩]
            · rw [if_neg y2, if_neg (fun k => y2 ⟨by omega, k.2⟩)]
        rw [a, b] at nx
        exact br_f (by decide) ⟨i1, nm_e (nm_r (nI_1 _) (nm_r (nI_1 w) nx))⟩
end
theorem ds_0 {th0 pa : Nat → Int32} {win : Nat} : ds_th th0 pa win 1 = th0 := by
  funext j
  show (if j < 1 ∧ ds_rem th0 pa win j = true then 0 else th0 j) = th0 j
  rw [if_neg (fun k => by have := (ds_remE.mp k.2).1; omega)]
theorem i_vc_destroy {k : Nat} {u : SX} {v : SY} (I : i_Rel k u v) (hk : k + 5 ≤ 2560) (v1 : Int32) : wpX_destroy (fun r u' => wpY_destroy (fun r' v' => r' = r ∧ i_Rel (k + 5) u' v') v v1) u v1 := by
  refine rl_el (P := fun u v => wpX_destroy (fun r u' => wpY_destroy (fun r' v' => r' = r ∧ i_Rel (k + 5) u' v') v v1) u v1) ?_ I
  intro fp tp bt th pa ox oy wd hg sh cx cy qx qy pl B T M N E ww wp lv cl wt wx wy wo wc hW hL hR
  have rel := rl_mk (qx := qx) (qy := qy) (ww := ww) (wp := wp) (wt := wt) (wx := wx) (wy := wy) (wo := wo) (wc := wc) hW (rl_up hL) hR
  have h00 : ¬ th 0 = 0 := by rw [hW.2.2.1]; decide
  unfold wpX_destroy wpY_destroy
  by_cases hc : ∃ w, w < 6 ∧ v1 = nI w ∧ ¬ th w = 0
  · obtain ⟨w, hw, rfl, ht⟩ := hc
    have Yb : ∀ {P : Int32 → Prop}, P 0 → wpY_missing P (tp, bt, th, pa, ox, oy, wd, hg, sh, lv, cl, wt, wx, wy, wo, wc) (nI w) := fun h => yh_mi_t hw ht h
    refine xh_is_t hw ht (br_f (by decide) ?_)
    by_cases w0 : nI w = 0
    · exact br_t w0 (Yb (br_t rfl (br_t w0 ⟨rfl, rel⟩)))
    refine br_f w0 ?_
    have hw1 : 1 ≤ w := by
      cases w with
      | zero => exact absurd rfl w0
      | succ w => omega
    obtain ⟨hok, h01, h0, rk, hrk⟩ := hW
    obtain ⟨np, rfl, l1, l2, l3, l4, l5⟩ := hL
    have hpar : ∀ w, 1 ≤ w → w < 6 → ¬ th w = 0 → ¬ th (pa w).toNatClampNeg = 0 := fun w a b c => (hrk w a b c).1
    have hdp := hR.2.2.2.2.1
    refine xh_keep (fun qx1 qy1 hq => ?_)
    dsimp only
    refine ⟨6, ?_⟩
    refine dx_out (th0 := th) (lv := lv) (lo := bt.toInt) (hi := tp.toInt) (K := rl_k th pa ox oy wd hg sh lv cl) (n := 0) hok hw1 hw hpar hdp ?_ 6 0 th pl B np (by omega) (by omega) ⟨fun j => Or.inl rfl, l1, ?_, fun j hj hjt => rl_K0 hR hj hjt⟩ (fun j _ _ b => nomatch b)
    · intro th1 pl1 B1 np1 n hI hP
      obtain ⟨d1, d2, d3, d4⟩ := hI
      have all : ∀ j, j < 6 → ds_rem th pa w j = true → th1 j = 0 := fun j hj hr => by
        have r := ds_remE.mp hr
        refine hP j hj r.2.1 ?_
        rw [← wi_dp (win := w) 5 j (hdp j hj r.2.1) 1]; exact r.2.2
      have eth : th1 = ds_th th pa w 6 := by
        funext j
        show th1 j = (if j < 6 ∧ ds_rem th pa w j = true then 0 else th j)
        by_cases z : j < 6 ∧ ds_rem th pa w j = true
        · rw [if_pos z]; exact all j z.1 z.2
        · rw [if_neg z]
          rcases d1 j with a | a
          · exact a
          · exact absurd ⟨a.2.1, a.2.2⟩ z
      have en : n = px_ct (ds_rem th pa w) 6 := by
        rw [d3]
        refine px_cong 6 (fun j hj => ?_)
        cases z : ds_rem th pa w j
        · by_cases t0 : th j = 0
          · rw [decide_eq_false (p := ¬ th j = 0) (fun h => h t0)]; rfl
          · rcases d1 j with a | a
            · rw [decide_eq_false (p := th1 j = 0) (by rw [a]; exact t0)]; simp
            · rw [a.2.2] at z; exact nomatch z
        · rw [decide_eq_true (p := ¬ th j = 0) (ds_remE.mp z).2.1, decide_eq_true (p := th1 j = 0) (all j hj z)]; rfl
      subst eth
      have hW1 : rl_W (ds_th th pa w 6) pa ox oy wd hg := by
        refine ⟨hok, fun j hj => ?_, ?_, rk, fun j j1 j6 jt => ?_⟩
        · rcases d1 j with a | a
          · rw [a]; exact h01 j hj
          · exact Or.inl a.1
        · rcases d1 0 with a | a
          · rw [a]; exact h0
          · exact absurd (ds_remE.mp a.2.2).1 (by omega)
        · have nr : ¬ ds_rem th pa w j = true := fun c => jt (all j j6 c)
          have tj : ¬ th j = 0 := by
            rcases d1 j with a | a
            · rw [← a]; exact jt
            · exact absurd a.1 jt
          obtain ⟨a, b⟩ := hrk j j1 j6 tj
          refine ⟨?_, b⟩
          rcases d1 (pa j).toNatClampNeg with c | c
          · rw [c]; exact a
          · exact absurd (ds_remE.mpr ⟨j1, tj, ds_par (hdp j j6 tj) (by omega) (ds_remE.mp c.2.2).2.2⟩) nr
      have hL1 : rl_L (k + 5) (nI np1) tp bt (ds_th th pa w 6) pl1 lv := ⟨np1, rfl, d2, by omega, l3, l4, by omega⟩
      refine rl_arr hR h00 hq hW1 hL1 d4 ?_
      intro cx1 cy1 B1 T1 M1 N1 E1 ww1 wp1 fin
      dsimp only
      refine Yb (br_t rfl (br_f w0 ?_))
      refine ym_remember hok h01 hR.2.2.2.2.2 (fun wt1 wx1 wy1 wo1 wc1 re => ?_)
      dsimp only
      refine ⟨6, ?_⟩
      have dl := dy_l (tp := tp) (bt := bt) (pa := pa) (ox := ox) (oy := oy) (wd := wd) (hg := hg) (sh := sh) (lv := lv) (cl := cl) (wt := wt1) (wx := wx1) (wy := wy1) (wo := wo1) (wc := wc1) (th0 := th) (win := w) (post := fun r' v' => r' = nI n ∧ i_Rel (k + 5) (nI np1, ds_th th pa w 6, pa, ox, oy, wd, hg, sh, cx1, cy1, qx1, qy1, pl1, B1, T1, M1, N1, E1, ww1, wp1) v') hok hw (fun j hj => (re.1 j hj).1) ?_ 6 1 (by omega) (by omega) (by omega)
      · rw [ds_0] at dl
        exact dl
      · dsimp only
        exact rl_set hok hR re hq hok fin (fun cl1 hR1 => ⟨by rw [en], rl_mk hW1 hL1 hR1⟩)
    · exact (px_none 6 (fun j _ => by
        by_cases t0 : th j = 0
        · rw [decide_eq_false (p := ¬ th j = 0) (fun h => h t0)]; rfl
        · rw [decide_eq_false t0]; simp)).symm
  · refine xh_is_f hc (br_t rfl ?_)
    exact yh_mi_f hc (br_f (by decide) ⟨rfl, rel⟩)
end
