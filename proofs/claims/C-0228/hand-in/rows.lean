section
/-! pure rows to paste: stores, nI and lN arithmetic, masks, shifts, narrowing, branches by naturals (pk_le, pk_lt, pk_eq), loops (lp1 .. lp16: the measure of the state; rp1 ..: recursion), negatives. Take what you need -/
theorem pk_us {f : Nat → Int32} {k : Nat} {x : Int32} : upd f k x k = x := if_pos rfl
theorem pk_un {f : Nat → Int32} {k j : Nat} {x : Int32} (h : j ≠ k) : upd f k x j = f j := if_neg h
theorem pk_uLs {f : Nat → Int64} {k : Nat} {x : Int64} : vp_updL f k x k = x := if_pos rfl
theorem pk_uLn {f : Nat → Int64} {k j : Nat} {x : Int64} (h : j ≠ k) : vp_updL f k x j = f j := if_neg h
theorem pk_sub {a b : Nat} (h : b ≤ a) : nI a - nI b = nI (a - b) := by
  obtain ⟨c, rfl⟩ : ∃ c, a = c + b := ⟨a - b, by omega⟩
  rw [← nI_add, Int32.add_sub_cancel, Nat.add_sub_cancel]
theorem pk_m1 (n : Nat) : nI (n + 1) + (-1) = nI n := by
  rw [← nI_1, Int32.add_assoc, show (1 : Int32) + (-1) = 0 from rfl, Int32.add_zero]
theorem pk_mul (a b : Nat) : nI a * nI b = nI (a * b) := (Int32.ofNat_mul a b).symm
theorem pk_div {a d : Nat} (ha : a < 2 ^ 31) (h0 : 0 < d) (hd : d < 2 ^ 31) : nI a / nI d = nI (a / d) := by
  apply Int32.toInt_inj.mp
  rw [lg_idiv_nonneg (by rw [nI_toInt ha]; omega) (by rw [nI_toInt hd]; omega), nI_toInt ha, nI_toInt hd, nI_toInt (Nat.lt_of_le_of_lt (Nat.div_le_self a d) ha)]
  first | rfl | exact (Int.natCast_ediv _ _).symm
theorem pk_rem {a d : Nat} (ha : a < 2 ^ 31) (h0 : 0 < d) (hd : d < 2 ^ 31) : nI a - nI a / nI d * nI d = nI (a % d) := by
  rw [pk_div ha h0 hd, pk_mul, pk_sub (Nat.div_mul_le_self a d)]
  exact congrArg nI (by have := Nat.div_add_mod' a d; omega)
theorem pk_sub_toInt {a b : Nat} (ha : a < 2 ^ 30) (hb : b < 2 ^ 30) : (nI a - nI b).toInt = (a : Int) - b := by
  rw [Int32.toInt_sub, nI_toInt (by omega), nI_toInt (by omega)]
  exact Int.bmod_eq_of_le (by omega) (by omega)
theorem pk_sneg {a b : Nat} (hb : b < 2 ^ 30) (h : a < b) : nI a - nI b < 0 := by
  rw [Int32.lt_iff_toInt_lt, pk_sub_toInt (by omega) hb, show (0 : Int32).toInt = 0 from by decide]
  omega
theorem pk_ix (x : Int32) {n : Nat} (hn : n < 2 ^ 31) : x < 0 ∨ nI n ≤ x ∨ ∃ j : Nat, j < n ∧ x = nI j := by
  by_cases h : x < 0
  · exact Or.inl h
  · obtain ⟨j, hj, rfl⟩ := nI_of h
    by_cases h2 : j < n
    · exact Or.inr (Or.inr ⟨j, h2, rfl⟩)
    · exact Or.inr (Or.inl (nI_le (by omega) hj))
theorem pk_le {x y : Int32} {A B : Prop} (a b : Nat) (f : a ≤ b → A) (g : b < a → B) (hx : x = nI a := by rfl) (hy : y = nI b := by rfl) (ha : a < 2 ^ 31 := by omega) (hb : b < 2 ^ 31 := by omega) : (x ≤ y → A) ∧ (¬ x ≤ y → B) := by
  subst hx hy
  rw [nI_leI ha hb]
  exact ⟨f, fun z => g (by omega)⟩
theorem pk_lt {x y : Int32} {A B : Prop} (a b : Nat) (f : a < b → A) (g : b ≤ a → B) (hx : x = nI a := by rfl) (hy : y = nI b := by rfl) (ha : a < 2 ^ 31 := by omega) (hb : b < 2 ^ 31 := by omega) : (x < y → A) ∧ (¬ x < y → B) := by
  subst hx hy
  rw [nI_ltI ha hb]
  exact ⟨f, fun z => g (by omega)⟩
theorem pk_eq {x y : Int32} {A B : Prop} (a b : Nat) (f : a = b → A) (g : a ≠ b → B) (hx : x = nI a := by rfl) (hy : y = nI b := by rfl) (ha : a < 2 ^ 31 := by omega) (hb : b < 2 ^ 31 := by omega) : (x = y → A) ∧ (¬ x = y → B) := by
  subst hx hy
  rw [nI_eq ha hb]
  exact ⟨f, g⟩
theorem pk_in {x : Int32} (n N : Nat) (h : n < N) (hx : x = nI n := by rfl) (hN : N < 2 ^ 31 := by omega) : vp_in x N := by
  subst hx
  exact vp_in_nI h hN
theorem pk_cl {x : Int32} (n : Nat) (hx : x = nI n := by rfl) (h : n < 2 ^ 31 := by omega) : x.toNatClampNeg = n := by
  subst hx
  exact nI_clamp h
theorem pk_tn {n : Nat} (h : n < 2 ^ 32) : (nI n).toBitVec.toNat = n := Nat.mod_eq_of_lt h
theorem pk_and (x : Int32) {m : Int32} (k : Nat) (hm : m.toBitVec.toNat = 2 ^ k - 1) : x &&& m = nI (x.toBitVec.toNat % 2 ^ k) := by
  apply Int32.toBitVec_inj.mp
  apply BitVec.eq_of_toNat_eq
  rw [Int32.toBitVec_and, BitVec.toNat_and, hm, Nat.and_two_pow_sub_one_eq_mod]
  show _ = (BitVec.ofNat 32 _).toNat
  rw [BitVec.toNat_ofNat]
  exact (Nat.mod_eq_of_lt (Nat.lt_of_le_of_lt (Nat.mod_le _ _) x.toBitVec.isLt)).symm
theorem pk_andN {n : Nat} (h : n < 2 ^ 32) {m : Int32} (k : Nat) (hm : m.toBitVec.toNat = 2 ^ k - 1) : nI n &&& m = nI (n % 2 ^ k) := by
  rw [pk_and _ k hm, pk_tn h]
theorem pk_andE (x : Int32) {m : Int32} (k : Nat) (hm : m.toBitVec.toNat = 2 ^ k - 1) : ∃ j : Nat, j < 2 ^ k ∧ x &&& m = nI j := ⟨_, Nat.mod_lt _ (Nat.two_pow_pos k), pk_and x k hm⟩
theorem pk_andIn (x : Int32) {m : Int32} (k : Nat) (hm : m.toBitVec.toNat = 2 ^ k - 1) (hk : k ≤ 30) : vp_in (x &&& m) (2 ^ k) := by
  obtain ⟨j, hj, e⟩ := pk_andE x k hm
  rw [e]
  exact vp_in_nI hj (Nat.lt_of_le_of_lt (Nat.pow_le_pow_right (by decide) hk) (by decide))
theorem pk_shl (a s : Int32) (k : Nat) (hs : (s.toBitVec.smod 32).toNat = k) : (a <<< s).toBitVec.toNat = a.toBitVec.toNat * 2 ^ k % 2 ^ 32 := by
  show (a.toBitVec <<< (s.toBitVec.smod 32).toNat).toNat = _
  rw [hs, BitVec.toNat_shiftLeft, Nat.shiftLeft_eq]
theorem pk_shlN {n : Nat} (s : Int32) (k : Nat) (hs : (s.toBitVec.smod 32).toNat = k) (h : n * 2 ^ k < 2 ^ 32) : nI n <<< s = nI (n * 2 ^ k) := by
  apply Int32.toBitVec_inj.mp
  apply BitVec.eq_of_toNat_eq
  have hn : n < 2 ^ 32 := Nat.lt_of_le_of_lt (Nat.le_mul_of_pos_right n (Nat.two_pow_pos k)) h
  rw [pk_shl _ _ k hs, pk_tn hn, pk_tn h, Nat.mod_eq_of_lt h]
theorem pk_shr (a s : Int32) (k : Nat) (hs : (s.toBitVec.smod 32).toNat = k) : (a >>> s).toInt = a.toInt >>> k := by
  show (a.toBitVec.sshiftRight (s.toBitVec.smod 32).toNat).toInt = _
  rw [hs, BitVec.toInt_sshiftRight]
  rfl
theorem pk_shrN {n : Nat} (h : n < 2 ^ 31) (s : Int32) (k : Nat) (hs : (s.toBitVec.smod 32).toNat = k) : nI n >>> s = nI (n / 2 ^ k) := by
  apply Int32.toInt_inj.mp
  have h2 : n / 2 ^ k ≤ n := Nat.div_le_self _ _
  rw [pk_shr _ _ k hs, nI_toInt h, nI_toInt (by omega), Int.shiftRight_eq_div_pow]
  rfl
theorem pk_least (P : Nat → Prop) (h : ∃ k, P k) : ∃ k, P k ∧ ∀ j, j < k → ¬ P j := by
  obtain ⟨k, hk⟩ := h
  induction k using Nat.strongRecOn with
  | ind k ih =>
    by_cases e : ∃ j, j < k ∧ P j
    · obtain ⟨j, hj, pj⟩ := e
      exact ih j hj pj
    · exact ⟨k, hk, fun j hj pj => e ⟨j, hj, pj⟩⟩
end
section
/-! small ints of any sign -/
def dl_i (z : Int) : Int32 := Int32.ofInt z
theorem dl_add (a b : Int) : dl_i a + dl_i b = dl_i (a + b) := (Int32.ofInt_add a b).symm
theorem dl_sub (a b : Int) : dl_i a - dl_i b = dl_i (a - b) := (Int32.ofInt_sub a b).symm
theorem dl_mul (a b : Int) : dl_i a * dl_i b = dl_i (a * b) := (Int32.ofInt_mul a b).symm
theorem dl_neg (a : Int) : -dl_i a = dl_i (-a) := (Int32.ofInt_neg a).symm
theorem dl_n (n : Nat) : nI n = dl_i (n : Int) := Int32.ofInt_eq_ofNat.symm
def dl_B (a : Int) : Prop := -1000000 ≤ a ∧ a ≤ 1000000
theorem dl_ti {a : Int} (h : dl_B a) : (dl_i a).toInt = a :=
  Int32.toInt_ofInt_of_le (by have := h.1; omega) (by have := h.2; omega)
theorem dl_le {a b : Int} (ha : dl_B a) (hb : dl_B b) : dl_i a ≤ dl_i b ↔ a ≤ b := by
  rw [Int32.le_iff_toInt_le, dl_ti ha, dl_ti hb]
theorem dl_lt {a b : Int} (ha : dl_B a) (hb : dl_B b) : dl_i a < dl_i b ↔ a < b := by
  rw [Int32.lt_iff_toInt_lt, dl_ti ha, dl_ti hb]
theorem dl_eq {a b : Int} (ha : dl_B a) (hb : dl_B b) : dl_i a = dl_i b ↔ a = b := by
  rw [← Int32.toInt_inj, dl_ti ha, dl_ti hb]
theorem dk_le {x y : Int32} {A B : Prop} (a b : Int) (ha : dl_B a) (hb : dl_B b) (f : a ≤ b → A) (g : b < a → B) (hx : x = dl_i a := by rfl) (hy : y = dl_i b := by rfl) : (x ≤ y → A) ∧ (¬ x ≤ y → B) := by
  subst hx hy
  rw [dl_le ha hb]
  exact ⟨f, fun z => g (by omega)⟩
theorem dk_lt {x y : Int32} {A B : Prop} (a b : Int) (ha : dl_B a) (hb : dl_B b) (f : a < b → A) (g : b ≤ a → B) (hx : x = dl_i a := by rfl) (hy : y = dl_i b := by rfl) : (x < y → A) ∧ (¬ x < y → B) := by
  subst hx hy
  rw [dl_lt ha hb]
  exact ⟨f, fun z => g (by omega)⟩
theorem dk_eq {x y : Int32} {A B : Prop} (a b : Int) (ha : dl_B a) (hb : dl_B b) (f : a = b → A) (g : a ≠ b → B) (hx : x = dl_i a := by rfl) (hy : y = dl_i b := by rfl) : (x = y → A) ∧ (¬ x = y → B) := by
  subst hx hy
  rw [dl_eq ha hb]
  exact ⟨f, g⟩
/-- a product of two small ints -/
theorem dl_pb {a b A B : Int} (h1 : -A ≤ a) (h2 : a ≤ A) (h3 : -B ≤ b) (h4 : b ≤ B) : -(A * B) ≤ a * b ∧ a * b ≤ A * B := by
  have hA : 0 ≤ A := by omega
  have hB : 0 ≤ B := by omega
  have p1 : 0 ≤ (A - a) * (B - b) := Int.mul_nonneg (by omega) (by omega)
  have p2 : 0 ≤ (A + a) * (B + b) := Int.mul_nonneg (by omega) (by omega)
  have p3 : 0 ≤ (A - a) * (B + b) := Int.mul_nonneg (by omega) (by omega)
  have p4 : 0 ≤ (A + a) * (B - b) := Int.mul_nonneg (by omega) (by omega)
  have e1 : (A - a) * (B - b) = A * B - A * b - a * B + a * b := by grind
  have e2 : (A + a) * (B + b) = A * B + A * b + a * B + a * b := by grind
  have e3 : (A - a) * (B + b) = A * B + A * b - a * B - a * b := by grind
  have e4 : (A + a) * (B - b) = A * B - A * b + a * B - a * b := by grind
  constructor <;> omega
/-- r is 1 if A holds, 0 if not -/
def dl_01 (r : Int32) (A : Prop) : Prop := (r = 1 ∧ A) ∨ (r = 0 ∧ ¬ A)
theorem dl_01u {r r' : Int32} {A B : Prop} (h : dl_01 r A) (h' : dl_01 r' B) (e : A ↔ B) : r = r' := by
  rcases h with ⟨h, a⟩ | ⟨h, a⟩ <;> rcases h' with ⟨h', b⟩ | ⟨h', b⟩
  · rw [h, h']
  · exact absurd (e.mp a) b
  · exact absurd (e.mpr b) a
  · rw [h, h']
/-- the branch on r = 0 -/
theorem dl_01b {r : Int32} {C A B : Prop} (h : dl_01 r C) (f : ¬ C → A) (g : C → B) : (r = 0 → A) ∧ (¬ r = 0 → B) := by
  rcases h with ⟨h, c⟩ | ⟨h, c⟩
  · exact br_f (by rw [h]; decide) (g c)
  · exact br_t h (f c)
theorem dl_01i {r : Int32} {A B : Prop} (h : dl_01 r A) (e : A ↔ B) : dl_01 r B := by
  rcases h with ⟨h, a⟩ | ⟨h, a⟩
  · exact Or.inl ⟨h, e.mp a⟩
  · exact Or.inr ⟨h, fun b => a (e.mpr b)⟩
end
section
/-! digital straight words: the narrowest strip and its leaning points -/
def ds_h (h : Nat → Int) : Prop := ∀ k, h (k + 1) = h k ∨ h (k + 1) = h k + 1
theorem ds_mono {h : Nat → Int} (hh : ds_h h) {i j : Nat} (hij : i ≤ j) : h i ≤ h j ∧ h j ≤ h i + ((j : Int) - i) := by
  obtain ⟨d, rfl⟩ : ∃ d, j = i + d := ⟨j - i, by omega⟩
  induction d with
  | zero => exact ⟨Int.le_refl _, by simp⟩
  | succ d ih =>
    have i1 := ih (by omega)
    have s := hh (i + d)
    have e : i + (d + 1) = i + d + 1 := rfl
    rw [e]
    constructor
    · rcases s with s | s <;> rw [s] <;> omega
    · rcases s with s | s <;> rw [s] <;> omega
theorem ds_z {b t : Int} (hb : 0 < b) (h1 : -b < b * t) (h2 : b * t < b) : t = 0 := by
  by_cases p : t ≤ -1
  · have := Int.mul_le_mul_of_nonneg_left p (Int.le_of_lt hb)
    omega
  · by_cases q : 1 ≤ t
    · have := Int.mul_le_mul_of_nonneg_left q (Int.le_of_lt hb)
      omega
    · omega
theorem ds_p {b z : Int} (hb : 0 < b) (h : 1 ≤ b * z) : b ≤ b * z := by
  by_cases q : 1 ≤ z
  · have := Int.mul_le_mul_of_nonneg_left q (Int.le_of_lt hb)
    omega
  · have := Int.mul_le_mul_of_nonneg_left (show z ≤ 0 by omega) (Int.le_of_lt hb)
    omega
def ds_r (h : Nat → Int) (a b : Int) (k : Nat) : Int := a * (k : Int) - b * h k
/-- the strip (b at least 2) with its first and last leaning points -/
def ds_V (h : Nat → Int) (L : Nat) (a b mu : Int) (uf ul lf ll : Nat) : Prop :=
  (2 ≤ b ∧ b ≤ L ∧ 0 ≤ a ∧ a ≤ b) ∧
  (∀ k, k ≤ L → mu ≤ ds_r h a b k ∧ ds_r h a b k ≤ mu + b - 1) ∧
  (uf ≤ L ∧ ul ≤ L ∧ lf ≤ L ∧ ll ≤ L ∧ uf < ll ∧ lf < ul) ∧
  (ds_r h a b uf = mu ∧ ds_r h a b ul = mu ∧ ds_r h a b lf = mu + b - 1 ∧ ds_r h a b ll = mu + b - 1) ∧
  (∀ k, k ≤ L → ds_r h a b k = mu → uf ≤ k ∧ k ≤ ul) ∧
  (∀ k, k ≤ L → ds_r h a b k = mu + b - 1 → lf ≤ k ∧ k ≤ ll)
def ds_c (h : Nat → Int) : Nat → Int := fun k => (k : Int) - h k
theorem ds_hc {h : Nat → Int} (hh : ds_h h) : ds_h (ds_c h) := by
  intro k
  have := hh k
  simp only [ds_c]
  omega
theorem ds_rc (h : Nat → Int) (a b : Int) (k : Nat) : ds_r (ds_c h) (b - a) b k = -ds_r h a b k := by
  simp only [ds_r, ds_c]
  rw [Int.sub_mul, Int.mul_sub]
  omega
theorem ds_cc (h : Nat → Int) : ds_c (ds_c h) = h := by
  funext k
  simp only [ds_c]
  omega
theorem ds_Vc {h : Nat → Int} {L : Nat} {a b mu : Int} {uf ul lf ll : Nat} (V : ds_V h L a b mu uf ul lf ll) : ds_V (ds_c h) L (b - a) b (-(mu + b - 1)) lf ll uf ul := by
  obtain ⟨⟨b1, b2, b3, b4⟩, S, ⟨o1, o2, o3, o4, o5, o6⟩, ⟨r1, r2, r3, r4⟩, U, W⟩ := V
  refine ⟨⟨b1, b2, by omega, by omega⟩, fun k hk => ?_, ⟨o3, o4, o1, o2, o6, o5⟩, ⟨?_, ?_, ?_, ?_⟩, fun k hk e => W k hk ?_, fun k hk e => U k hk ?_⟩
  · rw [ds_rc]
    have := S k hk
    omega
  · rw [ds_rc, r3]
  · rw [ds_rc, r4]
  · rw [ds_rc, r1]; omega
  · rw [ds_rc, r2]; omega
  · rw [ds_rc] at e; omega
  · rw [ds_rc] at e; omega
theorem ds_per {h : Nat → Int} {L : Nat} {a b mu : Int} (hb : 0 < b) (S : ∀ k, k ≤ L → mu ≤ ds_r h a b k ∧ ds_r h a b k ≤ mu + b - 1) {i j : Nat} (hi : i ≤ L) (hj : j ≤ L) {t : Int} (e : ds_r h a b i - ds_r h a b j = b * t) : ds_r h a b i = ds_r h a b j := by
  have s1 := S i hi
  have s2 := S j hj
  have ht : t = 0 := ds_z hb (by omega) (by omega)
  rw [ht, Int.mul_zero] at e
  omega
theorem ds_sh (h : Nat → Int) (a : Int) (n k : Nat) : ds_r h a n (k + n) - ds_r h a n k = n * (a - (h (k + n) - h k)) := by
  have e : ((k + n : Nat) : Int) = (k : Int) + n := by omega
  simp only [ds_r]
  rw [e]
  grind
theorem ds_last {h : Nat → Int} {L : Nat} {a b mu : Int} {uf ul lf ll : Nat} (V : ds_V h L a b mu uf ul lf ll) : (L : Int) < ll + b := by
  obtain ⟨⟨b1, b2, b3, b4⟩, S, ⟨o1, o2, o3, o4, o5, o6⟩, ⟨r1, r2, r3, r4⟩, U, W⟩ := V
  obtain ⟨n, rfl⟩ : ∃ n : Nat, b = n := ⟨b.toNat, by omega⟩
  by_cases hc : ll + n ≤ L
  · have e := ds_per (by omega) S hc o4 (ds_sh h a n ll)
    have := (W (ll + n) hc (by omega)).2
    omega
  · omega
theorem ds_first {h : Nat → Int} {L : Nat} {a b mu : Int} {uf ul lf ll : Nat} (V : ds_V h L a b mu uf ul lf ll) : (uf : Int) < b := by
  obtain ⟨⟨b1, b2, b3, b4⟩, S, ⟨o1, o2, o3, o4, o5, o6⟩, ⟨r1, r2, r3, r4⟩, U, W⟩ := V
  obtain ⟨n, rfl⟩ : ∃ n : Nat, b = n := ⟨b.toNat, by omega⟩
  by_cases hc : n ≤ uf
  · obtain ⟨j, rfl⟩ : ∃ j, uf = j + n := ⟨uf - n, by omega⟩
    have e := ds_per (by omega) S o1 (show j ≤ L by omega) (ds_sh h a n j)
    have := (U j (by omega) (by omega)).1
    omega
  · omega
theorem ds_cg {a b c d t D E : Int} (h1 : a * D = b * c - 1) (h2 : a * E = b * d - t) : E - t * D = b * (c * E - D * d) := by
  have e1 : a * D * E = (b * c - 1) * E := by rw [h1]
  have e2 : a * E * D = (b * d - t) * D := by rw [h2]
  grind
/-- the place of a point below the strip's upper border, t below the first row outside: E = M - ll, D = ll - uf -/
theorem ds_up {h : Nat → Int} {L : Nat} {a b mu t : Int} {uf ul lf ll : Nat} (V : ds_V h L a b mu uf ul lf ll) (hM : ds_r h a b (L + 1) = mu - 1 - t) :
    a * ((ll : Int) - uf) = b * (h ll - h uf + 1) - 1 ∧ a * (((L + 1 : Nat) : Int) - ll) = b * (h (L + 1) - h ll - 1) - t := by
  obtain ⟨⟨b1, b2, b3, b4⟩, S, ⟨o1, o2, o3, o4, o5, o6⟩, ⟨r1, r2, r3, r4⟩, U, W⟩ := V
  simp only [ds_r] at hM r1 r4
  generalize ((L + 1 : Nat) : Int) = M at *
  constructor
  · rw [Int.mul_sub, Int.mul_add, Int.mul_sub]
    omega
  · rw [Int.mul_sub, Int.mul_sub, Int.mul_sub]
    omega
theorem ds_id {a b mu M u hM hu k hk : Int} (e1 : a * u - b * hu = mu) (e2 : a * M - b * hM = mu - 1) : b * (((hM - hu) * k - (M - u) * hk) - ((hM - hu) * M - (M - u) * hM)) = (M - u) * ((a * k - b * hk) - mu) + (k - u) := by
  have e3 : b * hu = a * u - mu := by omega
  have e4 : b * hM = a * M - mu + 1 := by omega
  have e5 : b * (((hM - hu) * k - (M - u) * hk) - ((hM - hu) * M - (M - u) * hM)) = (b * hM - b * hu) * k - (M - u) * (b * hk) - (b * hM - b * hu) * M + (M - u) * (b * hM) := by grind
  rw [e5, e3, e4]
  grind
/-- a point just above the strip: the new strip -/
theorem ds_ue {h : Nat → Int} {L : Nat} {a b mu : Int} {uf ul lf ll : Nat} (hh : ds_h h) (V : ds_V h L a b mu uf ul lf ll) (hM : ds_r h a b (L + 1) = mu - 1) :
    ds_V h (L + 1) (h (L + 1) - h uf) (((L + 1 : Nat) : Int) - uf) ((h (L + 1) - h uf) * ((L + 1 : Nat) : Int) - (((L + 1 : Nat) : Int) - uf) * h (L + 1)) uf (L + 1) ll ll := by
  have hl := ds_last V
  have hf := ds_first V
  have hu := ds_up (t := 0) V (by omega)
  have hcg := ds_cg hu.1 hu.2
  obtain ⟨⟨b1, b2, b3, b4⟩, S, ⟨o1, o2, o3, o4, o5, o6⟩, ⟨r1, r2, r3, r4⟩, U, W⟩ := V
  have hEb : b ≤ ((L + 1 : Nat) : Int) - ll := by
    rw [Int.zero_mul, Int.sub_zero] at hcg
    rw [hcg]
    exact ds_p (by omega) (by rw [← hcg]; omega)
  have mn := ds_mono hh (show uf ≤ L + 1 by omega)
  have idn : ∀ k : Nat, b * (ds_r h (h (L + 1) - h uf) (((L + 1 : Nat) : Int) - uf) k - ((h (L + 1) - h uf) * ((L + 1 : Nat) : Int) - (((L + 1 : Nat) : Int) - uf) * h (L + 1))) = (((L + 1 : Nat) : Int) - uf) * (ds_r h a b k - mu) + ((k : Int) - uf) := fun k => ds_id r1 hM
  have qM : ds_r h (h (L + 1) - h uf) (((L + 1 : Nat) : Int) - uf) (L + 1) = ((h (L + 1) - h uf) * ((L + 1 : Nat) : Int) - (((L + 1 : Nat) : Int) - uf) * h (L + 1)) := rfl
  obtain ⟨a', ha'⟩ : ∃ a' : Int, a' = h (L + 1) - h uf := ⟨_, rfl⟩
  obtain ⟨b', hb'⟩ : ∃ b' : Int, b' = ((L + 1 : Nat) : Int) - uf := ⟨_, rfl⟩
  rw [← ha', ← hb'] at idn qM ⊢
  obtain ⟨m', hm'⟩ : ∃ m' : Int, m' = a' * ((L + 1 : Nat) : Int) - b' * h (L + 1) := ⟨_, rfl⟩
  rw [← hm'] at idn qM ⊢
  have hb0 : 0 ≤ b := by omega
  have hb0' : 0 ≤ b' := by omega
  have hbb : b < b' := by omega
  -- the old points
  have K : ∀ k : Nat, k ≤ L → (m' ≤ ds_r h a' b' k ∧ ds_r h a' b' k ≤ m' + b' - 1) ∧ (ds_r h a' b' k = m' → k = uf) ∧ (ds_r h a' b' k = m' + b' - 1 → k = ll) := by
    intro k hk
    have s := S k hk
    have u := U k hk
    have i := idn k
    obtain ⟨R, hR⟩ : ∃ R : Int, R = ds_r h a b k - mu := ⟨_, rfl⟩
    obtain ⟨Q, hQ⟩ : ∃ Q : Int, Q = ds_r h a' b' k - m' := ⟨_, rfl⟩
    rw [← hR, ← hQ] at i
    have n1 : 0 ≤ b' * R := Int.mul_nonneg hb0' (by omega)
    refine ⟨⟨?_, ?_⟩, ?_, ?_⟩
    · by_cases c : Q ≤ -1
      · have n2 := Int.mul_le_mul_of_nonneg_left c hb0
        by_cases c2 : R = 0
        · have := (u (by omega)).1
          omega
        · omega
      · omega
    · by_cases c : b' ≤ Q
      · have n2 := Int.mul_le_mul_of_nonneg_left c hb0
        have n3 := Int.mul_le_mul_of_nonneg_left (show R ≤ b - 1 by omega) hb0'
        rw [Int.mul_sub, Int.mul_comm b' b] at n3
        omega
      · omega
    · intro e
      have q0 : Q = 0 := by omega
      rw [q0, Int.mul_zero] at i
      by_cases c2 : R = 0
      · rw [c2, Int.mul_zero] at i
        omega
      · have n3 := Int.mul_le_mul_of_nonneg_left (show 1 ≤ R by omega) hb0'
        omega
    · intro e
      have q0 : Q = b' - 1 := by omega
      rw [q0] at i
      by_cases c2 : R = b - 1
      · rw [c2, Int.mul_sub, Int.mul_sub, Int.mul_comm b' b] at i
        omega
      · have n3 := Int.mul_le_mul_of_nonneg_left (show R ≤ b - 2 by omega) hb0'
        rw [Int.mul_sub, Int.mul_comm b' b] at n3
        rw [Int.mul_sub] at i
        omega
  have qu : ds_r h a' b' uf = m' := by
    have i := idn uf
    rw [r1, Int.sub_self, Int.mul_zero, Int.sub_self, Int.add_zero] at i
    have : ds_r h a' b' uf - m' = 0 := ds_z (b := b) (by omega) (by omega) (by omega)
    omega
  have ql : ds_r h a' b' ll = m' + b' - 1 := by
    have i := idn ll
    rw [r4] at i
    have e : b' * (mu + b - 1 - mu) = b * b' - b' := by
      rw [show mu + b - 1 - mu = b - 1 by omega, Int.mul_sub, Int.mul_comm b' b]; omega
    rw [e] at i
    have : ds_r h a' b' ll - m' - b' + 1 = 0 := by
      have e2 : b * (ds_r h a' b' ll - m' - b' + 1) = b * (ds_r h a' b' ll - m') - b * b' + b := by
        rw [Int.mul_add, Int.mul_sub _ _ b']; omega
      exact ds_z (b := b) (by omega) (by rw [e2, i]; omega) (by rw [e2, i]; omega)
    omega
  refine ⟨⟨by omega, by omega, by omega, by omega⟩, fun k hk => ?_, ⟨by omega, by omega, by omega, by omega, by omega, by omega⟩, ⟨qu, qM, ql, ql⟩, fun k hk e => ?_, fun k hk e => ?_⟩
  · by_cases c : k ≤ L
    · exact (K k c).1
    · obtain rfl : k = L + 1 := by omega
      rw [qM]
      omega
  · by_cases c : k ≤ L
    · have := (K k c).2.1 e
      omega
    · omega
  · by_cases c : k ≤ L
    · have := (K k c).2.2 e
      omega
    · obtain rfl : k = L + 1 := by omega
      rw [qM] at e
      omega
end
section
/-! a point just below the strip, a point inside, a point outside; the words of one kind -/
theorem ds_dn {h : Nat → Int} {L : Nat} {a b mu : Int} {uf ul lf ll : Nat} (hh : ds_h h) (V : ds_V h L a b mu uf ul lf ll) (hM : ds_r h a b (L + 1) = mu + b) :
    ds_V h (L + 1) (h (L + 1) - h lf) (((L + 1 : Nat) : Int) - lf) ((h (L + 1) - h lf) * ((L + 1 : Nat) : Int) - (((L + 1 : Nat) : Int) - lf) * h (L + 1) - (((L + 1 : Nat) : Int) - lf) + 1) ul ul lf (L + 1) := by
  have V1 := ds_ue (ds_hc hh) (ds_Vc V) (by rw [ds_rc]; omega)
  have V2 := ds_Vc V1
  rw [ds_cc] at V2
  have ea : ((L + 1 : Nat) : Int) - lf - (ds_c h (L + 1) - ds_c h lf) = h (L + 1) - h lf := by
    simp only [ds_c]; omega
  have em : -((ds_c h (L + 1) - ds_c h lf) * ((L + 1 : Nat) : Int) - (((L + 1 : Nat) : Int) - lf) * ds_c h (L + 1) + (((L + 1 : Nat) : Int) - lf) - 1) = (h (L + 1) - h lf) * ((L + 1 : Nat) : Int) - (((L + 1 : Nat) : Int) - lf) * h (L + 1) - (((L + 1 : Nat) : Int) - lf) + 1 := by
    simp only [ds_c]
    generalize ((L + 1 : Nat) : Int) = M
    grind
  rw [ea, em] at V2
  exact V2
theorem ds_ln {h : Nat → Int} {L : Nat} {a b mu : Int} {uf ul lf ll : Nat} (V : ds_V h L a b mu uf ul lf ll) (h1 : mu ≤ ds_r h a b (L + 1)) (h2 : ds_r h a b (L + 1) < mu + b) :
    ds_V h (L + 1) a b mu uf (if ds_r h a b (L + 1) = mu then L + 1 else ul) lf (if ds_r h a b (L + 1) = mu + b - 1 then L + 1 else ll) := by
  obtain ⟨⟨b1, b2, b3, b4⟩, S, ⟨o1, o2, o3, o4, o5, o6⟩, ⟨r1, r2, r3, r4⟩, U, W⟩ := V
  have S' : ∀ k, k ≤ L + 1 → mu ≤ ds_r h a b k ∧ ds_r h a b k ≤ mu + b - 1 := by
    intro k hk
    by_cases c : k ≤ L
    · exact S k c
    · obtain rfl : k = L + 1 := by omega
      omega
  refine ⟨⟨b1, by omega, b3, b4⟩, S', ⟨by omega, ?_, by omega, ?_, ?_, ?_⟩, ⟨r1, ?_, r3, ?_⟩, fun k hk e => ?_, fun k hk e => ?_⟩
  · split <;> omega
  · split <;> omega
  · split <;> omega
  · split <;> omega
  · split
    · assumption
    · exact r2
  · split
    · assumption
    · exact r4
  · by_cases c : k ≤ L
    · have := U k c e
      split <;> omega
    · obtain rfl : k = L + 1 := by omega
      rw [if_pos e]
      omega
  · by_cases c : k ≤ L
    · have := W k c e
      split <;> omega
    · obtain rfl : k = L + 1 := by omega
      rw [if_pos e]
      omega
/-- a word of L steps is straight -/
def ds_S (h : Nat → Int) (L : Nat) : Prop := ∃ n p : Int, 1 ≤ n ∧ n ≤ 24 ∧ 0 ≤ p ∧ p ≤ n ∧ ∀ i j : Nat, i ≤ L → j ≤ L → (p * (i : Int) - n * h i) - (p * (j : Int) - n * h j) ≤ n - 1
theorem ds_Sc {h : Nat → Int} {L : Nat} (H : ds_S h L) : ds_S (ds_c h) L := by
  obtain ⟨n, p, n1, n2, p1, p2, w⟩ := H
  refine ⟨n, n - p, n1, n2, by omega, by omega, fun i j hi hj => ?_⟩
  have := w j i hj hi
  simp only [ds_c]
  rw [Int.sub_mul, Int.sub_mul, Int.mul_sub, Int.mul_sub]
  omega
/-- pure: a line of slope p / n can't hold uf, ll and M -/
theorem ds_no {a b c d t D E n p : Int} (hb : 1 ≤ b) (hn : 1 ≤ n) (ht : 1 ≤ t) (hD : 1 ≤ D) (hE : 1 ≤ E) (hEb : E ≤ b) (h1 : a * D = b * c - 1) (h2 : a * E = b * d - t)
    (w1 : p * D + 1 ≤ n * c) (w2 : n * d + 1 ≤ p * E) : False := by
  have cg := ds_cg h1 h2
  have tD : 1 ≤ t * D := by
    have := Int.mul_le_mul_of_nonneg_left hD (show 0 ≤ t by omega)
    omega
  have le : E ≤ t * D := by
    by_cases q : E ≤ t * D
    · exact q
    · have := ds_p (b := b) (z := c * E - D * d) (by omega) (by omega)
      omega
  obtain ⟨e, he⟩ : ∃ e : Int, e = b * p - n * a := ⟨_, rfl⟩
  have e1 : e * D = b * (p * D + 1) - b * (n * c) + n - b := by
    have : e * D = b * (p * D) - n * (a * D) := by rw [he]; grind
    rw [this, h1]
    grind
  have e2 : e * E = b * (p * E) - b * (n * d + 1) + b + n * t := by
    have : e * E = b * (p * E) - n * (a * E) := by rw [he]; grind
    rw [this, h2]
    grind
  have m1 := Int.mul_le_mul_of_nonneg_left w1 (show 0 ≤ b by omega)
  have m2 := Int.mul_le_mul_of_nonneg_left w2 (show 0 ≤ b by omega)
  have nt : 1 ≤ n * t := by
    have := Int.mul_le_mul_of_nonneg_left ht (show 0 ≤ n by omega)
    omega
  have ep : 0 ≤ e := by
    by_cases q : 0 ≤ e
    · exact q
    · have := Int.mul_le_mul_of_nonneg_right (show e ≤ 0 by omega) (show 0 ≤ E by omega)
      omega
  have m3 := Int.mul_le_mul_of_nonneg_left le ep
  have m4 := Int.mul_le_mul_of_nonneg_left (show e * D ≤ n - 1 by omega) (show 0 ≤ t by omega)
  have c1 : e * (t * D) = t * (e * D) := by grind
  have c2 : t * (n - 1) = n * t - t := by grind
  omega
theorem ds_ru {h : Nat → Int} {L : Nat} {a b mu : Int} {uf ul lf ll : Nat} (V : ds_V h L a b mu uf ul lf ll) (hM : ds_r h a b (L + 1) < mu - 1) : ¬ ds_S h (L + 1) := by
  intro H
  obtain ⟨n, p, n1, n2, p1, p2, w⟩ := H
  obtain ⟨t, ht⟩ : ∃ t : Int, t = mu - 1 - ds_r h a b (L + 1) := ⟨_, rfl⟩
  have hl := ds_last V
  have hu := ds_up (t := t) V (by omega)
  obtain ⟨⟨b1, b2, b3, b4⟩, S, ⟨o1, o2, o3, o4, o5, o6⟩, ⟨r1, r2, r3, r4⟩, U, W⟩ := V
  have w1 := w ll uf (by omega) (by omega)
  have w2 := w ll (L + 1) (by omega) (by omega)
  refine ds_no (b := b) (n := n) (p := p) (t := t) (by omega) n1 (by omega) ?_ ?_ ?_ hu.1 hu.2 ?_ ?_
  · omega
  · omega
  · omega
  · rw [Int.mul_sub, Int.mul_add, Int.mul_sub]
    omega
  · rw [Int.mul_sub, Int.mul_sub, Int.mul_sub]
    omega
theorem ds_rd {h : Nat → Int} {L : Nat} {a b mu : Int} {uf ul lf ll : Nat} (V : ds_V h L a b mu uf ul lf ll) (hM : mu + b < ds_r h a b (L + 1)) : ¬ ds_S h (L + 1) := fun H =>
  ds_ru (ds_Vc V) (by rw [ds_rc]; omega) (ds_Sc H)
/-- the whole invariant -/
def ds_I (h : Nat → Int) (L : Nat) (a b mu : Int) (uf ul lf ll : Nat) : Prop :=
  (b = 1 ∧ a = 0 ∧ mu = 0 ∧ uf = 0 ∧ lf = 0 ∧ L = ul ∧ L = ll ∧ ∀ k, k ≤ L → h k = 0) ∨
  (b = 1 ∧ a = 1 ∧ mu = 0 ∧ uf = 0 ∧ lf = 0 ∧ L = ul ∧ 1 ≤ L ∧ (ll = L ∨ (L = 1 ∧ ll = 0)) ∧ ∀ k, k ≤ L → h k = (k : Int)) ∨
  ds_V h L a b mu uf ul lf ll
theorem ds_I0 {h : Nat → Int} (h0 : h 0 = 0) : ds_I h 0 0 1 0 0 0 0 0 := by
  refine Or.inl ⟨rfl, rfl, rfl, rfl, rfl, rfl, rfl, fun k hk => ?_⟩
  obtain rfl : k = 0 := by omega
  exact h0
theorem ds_Iln {h : Nat → Int} {L : Nat} {a b mu : Int} {uf ul lf ll : Nat} (hh : ds_h h) (V : ds_I h L a b mu uf ul lf ll) (h1 : mu ≤ ds_r h a b (L + 1)) (h2 : ds_r h a b (L + 1) < mu + b) :
    ds_I h (L + 1) a b mu uf (if ds_r h a b (L + 1) = mu then L + 1 else ul) lf (if ds_r h a b (L + 1) = mu + b - 1 then L + 1 else ll) := by
  rcases V with ⟨rfl, rfl, rfl, rfl, rfl, rfl, rfl, z⟩ | ⟨rfl, rfl, rfl, rfl, rfl, rfl, l1, l2, z⟩ | V
  · have e : ds_r h 0 1 (L + 1) = 0 := by omega
    have hM : h (L + 1) = 0 := by simp only [ds_r] at e; omega
    rw [e, if_pos rfl, if_pos (show (0 : Int) = 0 + 1 - 1 by omega)]
    refine Or.inl ⟨rfl, rfl, rfl, rfl, rfl, rfl, rfl, fun k hk => ?_⟩
    by_cases c : k ≤ L
    · exact z k c
    · obtain rfl : k = L + 1 := by omega
      exact hM
  · have e : ds_r h 1 1 (L + 1) = 0 := by omega
    have hM : h (L + 1) = ((L + 1 : Nat) : Int) := by simp only [ds_r] at e; omega
    rw [e, if_pos rfl, if_pos (show (0 : Int) = 0 + 1 - 1 by omega)]
    refine Or.inr (Or.inl ⟨rfl, rfl, rfl, rfl, rfl, rfl, by omega, Or.inl rfl, fun k hk => ?_⟩)
    by_cases c : k ≤ L
    · exact z k c
    · obtain rfl : k = L + 1 := by omega
      exact hM
  · exact Or.inr (Or.inr (ds_ln V h1 h2))
theorem ds_Iue {h : Nat → Int} {L : Nat} {a b mu : Int} {uf ul lf ll : Nat} (hh : ds_h h) (V : ds_I h L a b mu uf ul lf ll) (hM : ds_r h a b (L + 1) = mu - 1) :
    ds_I h (L + 1) (h (L + 1) - h uf) (((L + 1 : Nat) : Int) - uf) ((h (L + 1) - h uf) * ((L + 1 : Nat) : Int) - (((L + 1 : Nat) : Int) - uf) * h (L + 1)) uf (L + 1) ll ll := by
  rcases V with ⟨rfl, rfl, rfl, rfl, rfl, rfl, rfl, z⟩ | ⟨rfl, rfl, rfl, rfl, rfl, rfl, l1, l2, z⟩ | V
  · have z0 := z 0 (by omega)
    have e1 : h (L + 1) = 1 := by simp only [ds_r] at hM; omega
    rw [e1, z0, show ((L + 1 : Nat) : Int) - ((0 : Nat) : Int) = ((L + 1 : Nat) : Int) by omega, show ((1 : Int) - 0) = 1 from rfl, Int.one_mul, Int.mul_one, Int.sub_self]
    by_cases c : L = 0
    · subst c
      refine Or.inr (Or.inl ⟨rfl, rfl, rfl, rfl, rfl, rfl, by omega, Or.inr ⟨rfl, rfl⟩, fun k hk => ?_⟩)
      by_cases c : k = 0
      · subst c; exact z0
      · obtain rfl : k = 1 := by omega
        exact e1
    · refine Or.inr (Or.inr ?_)
      have q : ∀ k, k ≤ L → ds_r h 1 ((L + 1 : Nat) : Int) k = (k : Int) := by
        intro k hk
        simp only [ds_r]
        rw [z k hk, Int.mul_zero]
        omega
      have qM : ds_r h 1 ((L + 1 : Nat) : Int) (L + 1) = 0 := by
        simp only [ds_r]
        rw [e1]
        omega
      refine ⟨⟨by omega, by omega, by omega, by omega⟩, fun k hk => ?_, ⟨by omega, by omega, by omega, by omega, by omega, by omega⟩, ⟨?_, ?_, ?_, ?_⟩, fun k hk e => ?_, fun k hk e => ?_⟩
      · by_cases c2 : k ≤ L
        · rw [q k c2]; omega
        · obtain rfl : k = L + 1 := by omega
          rw [qM]; omega
      · rw [q 0 (by omega)]; rfl
      · exact qM
      · rw [q L (by omega)]; omega
      · rw [q L (by omega)]; omega
      · omega
      · by_cases c2 : k ≤ L
        · rw [q k c2] at e; omega
        · obtain rfl : k = L + 1 := by omega
          rw [qM] at e; omega
  · exfalso
    have a1 := z L (by omega)
    have s := hh L
    simp only [ds_r] at hM
    omega
  · exact Or.inr (Or.inr (ds_ue hh V hM))
theorem ds_Idn {h : Nat → Int} {L : Nat} {a b mu : Int} {uf ul lf ll : Nat} (hh : ds_h h) (V : ds_I h L a b mu uf ul lf ll) (hM : ds_r h a b (L + 1) = mu + b) :
    ds_I h (L + 1) (h (L + 1) - h lf) (((L + 1 : Nat) : Int) - lf) ((h (L + 1) - h lf) * ((L + 1 : Nat) : Int) - (((L + 1 : Nat) : Int) - lf) * h (L + 1) - (((L + 1 : Nat) : Int) - lf) + 1) ul ul lf (L + 1) := by
  rcases V with ⟨rfl, rfl, rfl, rfl, rfl, rfl, rfl, z⟩ | ⟨rfl, rfl, rfl, rfl, rfl, rfl, l1, l2, z⟩ | V
  · exfalso
    have a1 := z L (by omega)
    have s := hh L
    simp only [ds_r] at hM
    omega
  · have z0 := z 0 (by omega)
    have e1 : h (L + 1) = (L : Int) := by simp only [ds_r] at hM; omega
    have e2 : (L : Int) * ((L + 1 : Nat) : Int) - ((L + 1 : Nat) : Int) * (L : Int) - ((L + 1 : Nat) : Int) + 1 = -(L : Int) := by
      rw [Int.mul_comm]; omega
    rw [e1, z0, show ((L + 1 : Nat) : Int) - ((0 : Nat) : Int) = ((L + 1 : Nat) : Int) by omega, show ((L : Int) - ((0 : Nat) : Int)) = (L : Int) by omega, e2]
    refine Or.inr (Or.inr ?_)
    have q : ∀ k, k ≤ L → ds_r h (L : Int) ((L + 1 : Nat) : Int) k = -(k : Int) := by
      intro k hk
      simp only [ds_r]
      rw [z k hk, show ((L + 1 : Nat) : Int) = (L : Int) + 1 by omega, Int.add_mul]
      omega
    have qM : ds_r h (L : Int) ((L + 1 : Nat) : Int) (L + 1) = 0 := by
      simp only [ds_r]
      rw [e1, Int.mul_comm]
      omega
    refine ⟨⟨by omega, by omega, by omega, by omega⟩, fun k hk => ?_, ⟨by omega, by omega, by omega, by omega, by omega, by omega⟩, ⟨?_, ?_, ?_, ?_⟩, fun k hk e => ?_, fun k hk e => ?_⟩
    · by_cases c2 : k ≤ L
      · rw [q k c2]; omega
      · obtain rfl : k = L + 1 := by omega
        rw [qM]; omega
    · rw [q L (by omega)]
    · rw [q L (by omega)]
    · rw [q 0 (by omega)]; omega
    · rw [qM]; omega
    · by_cases c2 : k ≤ L
      · rw [q k c2] at e; omega
      · obtain rfl : k = L + 1 := by omega
        rw [qM] at e; omega
    · omega
  · exact Or.inr (Or.inr (ds_dn hh V hM))
theorem ds_Ino {h : Nat → Int} {L : Nat} {a b mu : Int} {uf ul lf ll : Nat} (hh : ds_h h) (V : ds_I h L a b mu uf ul lf ll) (hM : ds_r h a b (L + 1) < mu - 1 ∨ mu + b < ds_r h a b (L + 1)) : ¬ ds_S h (L + 1) := by
  rcases V with ⟨rfl, rfl, rfl, rfl, rfl, rfl, rfl, z⟩ | ⟨rfl, rfl, rfl, rfl, rfl, rfl, l1, l2, z⟩ | V
  · exfalso
    have a1 := z L (by omega)
    have s := hh L
    simp only [ds_r] at hM
    omega
  · exfalso
    have a1 := z L (by omega)
    have s := hh L
    simp only [ds_r] at hM
    omega
  · rcases hM with hM | hM
    · exact ds_ru V hM
    · exact ds_rd V hM
/-- what is accepted is straight -/
theorem ds_IS {h : Nat → Int} {L : Nat} {a b mu : Int} {uf ul lf ll : Nat} (hL : L ≤ 24) (V : ds_I h L a b mu uf ul lf ll) : ds_S h L := by
  rcases V with ⟨rfl, rfl, rfl, rfl, rfl, rfl, rfl, z⟩ | ⟨rfl, rfl, rfl, rfl, rfl, rfl, l1, l2, z⟩ | V
  · refine ⟨1, 0, by omega, by omega, by omega, by omega, fun i j hi hj => ?_⟩
    rw [z i hi, z j hj]
    omega
  · refine ⟨1, 1, by omega, by omega, by omega, by omega, fun i j hi hj => ?_⟩
    rw [z i hi, z j hj]
    omega
  · obtain ⟨⟨b1, b2, b3, b4⟩, S, ⟨o1, o2, o3, o4, o5, o6⟩, ⟨r1, r2, r3, r4⟩, U, W⟩ := V
    refine ⟨b, a, by omega, by omega, b3, b4, fun i j hi hj => ?_⟩
    have s1 := S i hi
    have s2 := S j hj
    simp only [ds_r] at s1 s2
    omega
/-- the numbers are small -/
theorem ds_IB {h : Nat → Int} {L : Nat} {a b mu : Int} {uf ul lf ll : Nat} (hh : ds_h h) (h0 : h 0 = 0) (hL : L ≤ 24) (V : ds_I h L a b mu uf ul lf ll) : (0 ≤ a ∧ a ≤ 24 ∧ 1 ≤ b ∧ b ≤ 24 ∧ -2000 ≤ mu ∧ mu ≤ 2000) ∧ uf ≤ L ∧ ul ≤ L ∧ lf ≤ L ∧ ll ≤ L := by
  rcases V with ⟨rfl, rfl, rfl, rfl, rfl, rfl, rfl, z⟩ | ⟨rfl, rfl, rfl, rfl, rfl, rfl, l1, l2, z⟩ | V
  · omega
  · omega
  · obtain ⟨⟨b1, b2, b3, b4⟩, S, ⟨o1, o2, o3, o4, o5, o6⟩, ⟨r1, r2, r3, r4⟩, U, W⟩ := V
    have mn := ds_mono hh (show 0 ≤ uf by omega)
    have p1 := dl_pb (a := a) (b := (uf : Int)) (A := 24) (B := 24) (by omega) (by omega) (by omega) (by omega)
    have p2 := dl_pb (a := b) (b := h uf) (A := 24) (B := 24) (by omega) (by omega) (by omega) (by omega)
    simp only [ds_r] at r1
    omega
end
section
/-! the curve's pure side: kinds, straight pieces, the farthest end, the cut -/
def dp_mv (m : Nat → Nat) : Nat → Int32 := fun j => nI (m j)
def dp_um (m : Nat → Nat) (i v : Nat) : Nat → Nat := fun j => if j = i then v else m j
theorem dp_upd (m : Nat → Nat) (i v : Nat) : upd (dp_mv m) i (nI v) = dp_mv (dp_um m i v) := by
  funext j
  simp only [upd, dp_mv, dp_um]
  split <;> rfl
theorem dp_um8 {m : Nat → Nat} (hm : ∀ j, m j < 8) {i v : Nat} (hv : v < 8) : ∀ j, dp_um m i v j < 8 := by
  intro j
  simp only [dp_um]
  split
  · exact hv
  · exact hm j
/-- how many of the first k moves are odd -/
def dp_H (m : Nat → Nat) : Nat → Int
  | 0 => 0
  | k + 1 => dp_H m k + ((m k % 2 : Nat) : Int)
/-- the height of the piece from s on -/
def dp_h (m : Nat → Nat) (s : Nat) : Nat → Int := fun k => dp_H m (s + k) - dp_H m s
theorem dp_Hh (m : Nat → Nat) : ds_h (dp_H m) := by
  intro k
  simp only [dp_H]
  have := Nat.mod_two_eq_zero_or_one (m k)
  omega
theorem dp_hh (m : Nat → Nat) (s : Nat) : ds_h (dp_h m s) := by
  intro k
  have := dp_Hh m (s + k)
  simp only [dp_h]
  rw [show s + (k + 1) = s + k + 1 from rfl]
  omega
theorem dp_h0 (m : Nat → Nat) (s : Nat) : dp_h m s 0 = 0 := by
  simp only [dp_h]
  rw [Nat.add_zero]
  omega
theorem dp_hs (m : Nat → Nat) (s k : Nat) : dp_h m s (k + 1) = dp_h m s k + ((m (s + k) % 2 : Nat) : Int) := by
  simp only [dp_h]
  rw [show s + (k + 1) = s + k + 1 from rfl, dp_H]
  omega
def dp_TK (m : Nat → Nat) (s e : Nat) : Prop := ∃ u, u < 8 ∧ ∀ k, s ≤ k → k < e → m k = u ∨ m k = (u + 1) % 8
def dp_St (H : Nat → Int) (s e : Nat) : Prop := ∃ n p : Int, 1 ≤ n ∧ n ≤ 24 ∧ 0 ≤ p ∧ p ≤ n ∧ ∀ i j : Nat, s ≤ i → i ≤ e → s ≤ j → j ≤ e → (p * (i : Int) - n * H i) - (p * (j : Int) - n * H j) ≤ n - 1
/-- the piece is straight -/
def dp_D (m : Nat → Nat) (s e : Nat) : Prop := dp_TK m s e ∧ dp_St (dp_H m) s e
theorem dp_SS (m : Nat → Nat) {s e : Nat} (h : s ≤ e) : dp_St (dp_H m) s e ↔ ds_S (dp_h m s) (e - s) := by
  constructor
  · rintro ⟨n, p, n1, n2, p1, p2, w⟩
    refine ⟨n, p, n1, n2, p1, p2, fun i j hi hj => ?_⟩
    have := w (s + i) (s + j) (by omega) (by omega) (by omega) (by omega)
    simp only [dp_h]
    rw [Int.mul_sub, Int.mul_sub]
    rw [show ((s + i : Nat) : Int) = (s : Int) + i by omega, show ((s + j : Nat) : Int) = (s : Int) + j by omega, Int.mul_add, Int.mul_add] at this
    omega
  · rintro ⟨n, p, n1, n2, p1, p2, w⟩
    refine ⟨n, p, n1, n2, p1, p2, fun i j hi hi' hj hj' => ?_⟩
    obtain ⟨i, rfl⟩ : ∃ i', i = s + i' := ⟨i - s, by omega⟩
    obtain ⟨j, rfl⟩ : ∃ j', j = s + j' := ⟨j - s, by omega⟩
    have := w i j (by omega) (by omega)
    simp only [dp_h] at this
    rw [Int.mul_sub, Int.mul_sub] at this
    rw [show ((s + i : Nat) : Int) = (s : Int) + i by omega, show ((s + j : Nat) : Int) = (s : Int) + j by omega, Int.mul_add, Int.mul_add]
    omega
theorem dp_sub {m : Nat → Nat} {s e s' e' : Nat} (h : dp_D m s e) (h1 : s ≤ s') (h2 : e' ≤ e) : dp_D m s' e' := by
  obtain ⟨⟨u, hu, t⟩, n, p, n1, n2, p1, p2, w⟩ := h
  exact ⟨⟨u, hu, fun k a b => t k (by omega) (by omega)⟩, n, p, n1, n2, p1, p2, fun i j a b c d => w i j (by omega) (by omega) (by omega) (by omega)⟩
theorem dp_one {m : Nat → Nat} (hm : ∀ j, m j < 8) {s e : Nat} (h : s ≤ e) (h1 : e ≤ s + 1) : dp_D m s e := by
  refine ⟨⟨m s, hm s, fun k a b => ?_⟩, (dp_SS m h).mpr ?_⟩
  · obtain rfl : k = s := by omega
    exact Or.inl rfl
  · refine ⟨1, dp_h m s 1, by omega, by omega, ?_, ?_, ?_⟩
    · have := dp_hh m s 0
      have := dp_h0 m s
      rw [show 0 + 1 = 1 from rfl] at *
      omega
    · have := dp_hh m s 0
      have := dp_h0 m s
      rw [show 0 + 1 = 1 from rfl] at *
      omega
    · have z : ∀ i, i ≤ e - s → dp_h m s 1 * (i : Int) - 1 * dp_h m s i = 0 := by
        intro i hi
        by_cases c : i = 0
        · subst c
          rw [dp_h0]
          simp
        · obtain rfl : i = 1 := by omega
          omega
      intro i j hi hj
      rw [z i hi, z j hj]
      omega
/-- f is the farthest end of a straight piece from s -/
def dp_F (m : Nat → Nat) (c s f : Nat) : Prop := s ≤ f ∧ f ≤ c ∧ dp_D m s f ∧ (f = c ∨ ¬ dp_D m s (f + 1))
theorem dp_Fu {m : Nat → Nat} {c s f f' : Nat} (h : dp_F m c s f) (h' : dp_F m c s f') : f = f' := by
  obtain ⟨a1, a2, a3, a4⟩ := h
  obtain ⟨b1, b2, b3, b4⟩ := h'
  by_cases x : f < f'
  · rcases a4 with a4 | a4
    · omega
    · exact absurd (dp_sub b3 (Nat.le_refl s) (by omega)) a4
  · by_cases y : f' < f
    · rcases b4 with b4 | b4
      · omega
      · exact absurd (dp_sub a3 (Nat.le_refl s) (by omega)) b4
    · omega
theorem dp_Fe {m : Nat → Nat} (hm : ∀ j, m j < 8) {c s : Nat} (h : s ≤ c) : ∃ f, dp_F m c s f := by
  have key : ∀ d e, e + d = c → s ≤ e → dp_D m s e → ∃ f, dp_F m c s f := by
    intro d
    induction d with
    | zero => exact fun e he hs D => ⟨e, hs, by omega, D, Or.inl (by omega)⟩
    | succ d ih =>
      intro e he hs D
      by_cases q : dp_D m s (e + 1)
      · exact ih (e + 1) (by omega) (by omega) q
      · exact ⟨e, hs, by omega, D, Or.inr q⟩
  exact key (c - s) s (by omega) (Nat.le_refl s) (dp_one hm (Nat.le_refl s) (by omega))
noncomputable def dp_f (m : Nat → Nat) (c s : Nat) : Nat := Classical.epsilon (fun f => dp_F m c s f)
theorem dp_fF {m : Nat → Nat} (hm : ∀ j, m j < 8) {c s : Nat} (h : s ≤ c) : dp_F m c s (dp_f m c s) := Classical.epsilon_spec (dp_Fe hm h)
theorem dp_fu {m : Nat → Nat} (hm : ∀ j, m j < 8) {c s f : Nat} (h : s ≤ c) (F : dp_F m c s f) : dp_f m c s = f := dp_Fu (dp_fF hm h) F
theorem dp_fi {m : Nat → Nat} (hm : ∀ j, m j < 8) {c s e : Nat} (h : s ≤ e) (he : e ≤ c) : dp_D m s e ↔ e ≤ dp_f m c s := by
  obtain ⟨a1, a2, a3, a4⟩ := dp_fF hm (show s ≤ c by omega)
  constructor
  · intro D
    rcases a4 with a4 | a4
    · omega
    · by_cases q : e ≤ dp_f m c s
      · exact q
      · exact absurd (dp_sub D (Nat.le_refl s) (by omega)) a4
  · exact fun q => dp_sub a3 (Nat.le_refl s) q
theorem dp_fb {m : Nat → Nat} (hm : ∀ j, m j < 8) {c s : Nat} (h : s ≤ c) : s ≤ dp_f m c s ∧ dp_f m c s ≤ c ∧ (s < c → s < dp_f m c s) := by
  obtain ⟨a1, a2, a3, a4⟩ := dp_fF hm h
  exact ⟨a1, a2, fun q => (dp_fi hm (show s ≤ s + 1 by omega) (by omega)).mp (dp_one hm (by omega) (by omega))⟩
theorem dp_fm {m : Nat → Nat} (hm : ∀ j, m j < 8) {c s s' : Nat} (h : s ≤ s') (h' : s' ≤ c) : dp_f m c s ≤ dp_f m c s' := by
  obtain ⟨a1, a2, a3, a4⟩ := dp_fF hm (show s ≤ c by omega)
  by_cases q : s' ≤ dp_f m c s
  · exact (dp_fi hm q a2).mp (dp_sub a3 h (Nat.le_refl _))
  · have := (dp_fb hm h').1
    omega
/-- the ends of the pieces from s on -/
noncomputable def dp_g (m : Nat → Nat) (c s : Nat) : Nat → Nat
  | 0 => s
  | k + 1 => dp_f m c (dp_g m c s k)
theorem dp_gb {m : Nat → Nat} (hm : ∀ j, m j < 8) {c s : Nat} (h : s ≤ c) (k : Nat) : s ≤ dp_g m c s k ∧ dp_g m c s k ≤ c ∧ (dp_g m c s k = c ∨ s + k ≤ dp_g m c s k) := by
  induction k with
  | zero => simp only [dp_g]; omega
  | succ k ih =>
    obtain ⟨b1, b2, b3⟩ := dp_fb hm ih.2.1
    simp only [dp_g]
    by_cases q : dp_g m c s k = c
    · omega
    · have := b3 (by omega)
      omega
theorem dp_gm {m : Nat → Nat} (hm : ∀ j, m j < 8) {c s : Nat} (h : s ≤ c) {i j : Nat} (hij : i ≤ j) : dp_g m c s i ≤ dp_g m c s j := by
  obtain ⟨d, rfl⟩ : ∃ d, j = i + d := ⟨j - i, by omega⟩
  induction d with
  | zero => exact Nat.le_refl _
  | succ d ih =>
    have := (dp_fb hm (dp_gb hm h (i + d)).2.1).1
    have e : dp_g m c s (i + (d + 1)) = dp_f m c (dp_g m c s (i + d)) := rfl
    rw [e]
    have := ih (by omega)
    omega
/-- n is the least number of pieces from s that reaches e -/
def dp_N (m : Nat → Nat) (c s e n : Nat) : Prop := e ≤ dp_g m c s n ∧ ∀ j, j < n → dp_g m c s j < e
theorem dp_Nu {m : Nat → Nat} {c s e n n' : Nat} (h : dp_N m c s e n) (h' : dp_N m c s e n') : n = n' := by
  by_cases x : n < n'
  · have := h'.2 n x
    have := h.1
    omega
  · by_cases y : n' < n
    · have := h.2 n' y
      have := h'.1
      omega
    · omega
theorem dp_Ne {m : Nat → Nat} (hm : ∀ j, m j < 8) {c s e : Nat} (h : s ≤ c) (he : e ≤ c) : ∃ n, dp_N m c s e n := by
  have ex : ∃ n, e ≤ dp_g m c s n := ⟨c, by
    have := dp_gb hm h c
    omega⟩
  obtain ⟨n, hn, hj⟩ := pk_least _ ex
  exact ⟨n, hn, fun j hj' => by have := hj j hj'; omega⟩
theorem dp_Nle {m : Nat → Nat} (hm : ∀ j, m j < 8) {c s e n : Nat} (h : s ≤ c) (hs : s ≤ e) (he : e ≤ c) (N : dp_N m c s e n) : s + n ≤ e := by
  by_cases q : n = 0
  · omega
  · have := N.2 (n - 1) (by omega)
    have := dp_gb hm h (n - 1)
    omega
noncomputable def dp_n (m : Nat → Nat) (c s e : Nat) : Nat := Classical.epsilon (fun n => dp_N m c s e n)
theorem dp_nN {m : Nat → Nat} (hm : ∀ j, m j < 8) {c s e : Nat} (h : s ≤ c) (he : e ≤ c) : dp_N m c s e (dp_n m c s e) := Classical.epsilon_spec (dp_Ne hm h he)
/-- the least number by the last piece: r is where it begins -/
theorem dp_n0 {m : Nat → Nat} (hm : ∀ j, m j < 8) {c s : Nat} (h : s ≤ c) : dp_n m c s s = 0 :=
  dp_Nu (dp_nN hm h h) ⟨Nat.le_refl _, fun j hj => absurd hj (Nat.not_lt_zero j)⟩
theorem dp_nle {m : Nat → Nat} (hm : ∀ j, m j < 8) {c s r t : Nat} (hr : s ≤ r) (hrt : r ≤ t) (ht : t ≤ c) (D : dp_D m r t) : dp_n m c s t ≤ dp_n m c s r + 1 := by
  have N1 := dp_nN hm (show s ≤ c by omega) (show r ≤ c by omega)
  have N2 := dp_nN hm (show s ≤ c by omega) ht
  by_cases q : dp_n m c s t ≤ dp_n m c s r + 1
  · exact q
  · have a := N2.2 (dp_n m c s r + 1) (by omega)
    have b := (dp_fi hm hrt ht).mp D
    have d := dp_fm hm N1.1 (dp_gb hm (show s ≤ c by omega) (dp_n m c s r)).2.1
    have e : dp_g m c s (dp_n m c s r + 1) = dp_f m c (dp_g m c s (dp_n m c s r)) := rfl
    omega
theorem dp_nex {m : Nat → Nat} (hm : ∀ j, m j < 8) {c s t : Nat} (hs : s < t) (ht : t ≤ c) : ∃ r, s ≤ r ∧ r < t ∧ dp_D m r t ∧ dp_n m c s t = dp_n m c s r + 1 := by
  have hsc : s ≤ c := by omega
  have N2 := dp_nN hm hsc ht
  have q : dp_n m c s t ≠ 0 := by
    intro z
    have := N2.1
    rw [z] at this
    simp only [dp_g] at this
    omega
  obtain ⟨n, hn⟩ : ∃ n, dp_n m c s t = n + 1 := ⟨dp_n m c s t - 1, by omega⟩
  rw [hn] at N2
  have b := dp_gb hm hsc n
  have lt := N2.2 n (by omega)
  refine ⟨dp_g m c s n, b.1, lt, (dp_fi hm (Nat.le_of_lt lt) ht).mpr N2.1, ?_⟩
  have N3 : dp_N m c s (dp_g m c s n) n := by
    refine ⟨Nat.le_refl _, fun j hj => ?_⟩
    have a1 := dp_gm hm hsc (show j + 1 ≤ n by omega)
    have e : dp_g m c s (j + 1) = dp_f m c (dp_g m c s j) := rfl
    have a2 := N2.2 j (by omega)
    have a3 := (dp_fb hm (dp_gb hm hsc j).2.1).2.2 (by omega)
    omega
  rw [hn, dp_Nu (dp_nN hm hsc b.2.1) N3]
end
section
/-! a turn of all moves keeps the straight pieces -/
theorem dt_H0 {m m' : Nat → Nat} {c t : Nat} (h : ∀ k, k < c → m' k = (m k + t) % 8) (ht : t % 2 = 0) : ∀ k, k ≤ c → dp_H m' k = dp_H m k := by
  intro k
  induction k with
  | zero => exact fun _ => rfl
  | succ k ih =>
    intro hk
    have a := ih (by omega)
    have b := h k (by omega)
    simp only [dp_H]
    rw [a, b]
    omega
theorem dt_H1 {m m' : Nat → Nat} {c t : Nat} (h : ∀ k, k < c → m' k = (m k + t) % 8) (ht : t % 2 = 1) : ∀ k, k ≤ c → dp_H m' k = (k : Int) - dp_H m k := by
  intro k
  induction k with
  | zero => exact fun _ => rfl
  | succ k ih =>
    intro hk
    have a := ih (by omega)
    have b := h k (by omega)
    simp only [dp_H]
    rw [a, b]
    omega
theorem dt_D1 {m m' : Nat → Nat} {c t : Nat} (h : ∀ k, k < c → m' k = (m k + t) % 8) {s e : Nat} (he : e ≤ c) (D : dp_D m s e) : dp_D m' s e := by
  obtain ⟨⟨u, hu, tk⟩, n, p, n1, n2, p1, p2, w⟩ := D
  refine ⟨⟨(u + t) % 8, by omega, fun k a b => ?_⟩, ?_⟩
  · have x := tk k a b
    have y := h k (by omega)
    omega
  · by_cases q : t % 2 = 0
    · refine ⟨n, p, n1, n2, p1, p2, fun i j a b c d => ?_⟩
      rw [dt_H0 h q i (by omega), dt_H0 h q j (by omega)]
      exact w i j a b c d
    · refine ⟨n, n - p, n1, n2, by omega, by omega, fun i j a b c d => ?_⟩
      rw [dt_H1 h (by omega) i (by omega), dt_H1 h (by omega) j (by omega)]
      have := w j i c d a b
      rw [Int.sub_mul, Int.sub_mul, Int.mul_sub, Int.mul_sub]
      omega
theorem dt_D {m m' : Nat → Nat} (hm : ∀ j, m j < 8) {c t : Nat} (h : ∀ k, k < c → m' k = (m k + t) % 8) {s e : Nat} (he : e ≤ c) : dp_D m' s e ↔ dp_D m s e := by
  refine ⟨fun D => dt_D1 (t := 8 - t % 8) (fun k hk => ?_) he D, fun D => dt_D1 h he D⟩
  have a := h k hk
  have b := hm k
  omega
theorem dt_f {m m' : Nat → Nat} (hm : ∀ j, m j < 8) (hm' : ∀ j, m' j < 8) {c t : Nat} (h : ∀ k, k < c → m' k = (m k + t) % 8) {s : Nat} (hs : s ≤ c) : dp_f m' c s = dp_f m c s := by
  obtain ⟨a1, a2, a3, a4⟩ := dp_fF hm hs
  refine dp_fu hm' hs ⟨a1, a2, (dt_D hm h a2).mpr a3, ?_⟩
  rcases a4 with a4 | a4
  · exact Or.inl a4
  · by_cases q : dp_f m c s = c
    · exact Or.inl q
    · exact Or.inr (fun D => a4 ((dt_D hm h (by omega)).mp D))
theorem dt_g {m m' : Nat → Nat} (hm : ∀ j, m j < 8) (hm' : ∀ j, m' j < 8) {c t : Nat} (h : ∀ k, k < c → m' k = (m k + t) % 8) {s : Nat} (hs : s ≤ c) (k : Nat) : dp_g m' c s k = dp_g m c s k := by
  induction k with
  | zero => rfl
  | succ k ih =>
    simp only [dp_g]
    rw [ih]
    exact dt_f hm hm' h (dp_gb hm hs k).2.1
theorem dt_n {m m' : Nat → Nat} (hm : ∀ j, m j < 8) (hm' : ∀ j, m' j < 8) {c t : Nat} (h : ∀ k, k < c → m' k = (m k + t) % 8) {s e : Nat} (hs : s ≤ c) (he : e ≤ c) : dp_n m' c s e = dp_n m c s e := by
  refine dp_Nu (dp_nN hm' hs he) ?_
  obtain ⟨a1, a2⟩ := dp_nN hm hs he
  exact ⟨by rw [dt_g hm hm' h hs]; exact a1, fun j hj => by rw [dt_g hm hm' h hs]; exact a2 j hj⟩
/-- the cut that X keeps -/
def dp_C (m : Nat → Nat) (c : Nat) (g : Int32) (ge : Nat → Int32) : Prop := g = nI (dp_n m c 0 c) ∧ ∀ j, j < dp_n m c 0 c → ge j = nI (dp_g m c 0 (j + 1))
theorem dt_C {m m' : Nat → Nat} (hm : ∀ j, m j < 8) (hm' : ∀ j, m' j < 8) {c t : Nat} (h : ∀ k, k < c → m' k = (m k + t) % 8) {g : Int32} {ge : Nat → Int32} (C : dp_C m c g ge) : dp_C m' c g ge := by
  obtain ⟨a, b⟩ := C
  refine ⟨by rw [dt_n hm hm' h (Nat.zero_le c) (Nat.le_refl c)]; exact a, fun j hj => ?_⟩
  rw [dt_n hm hm' h (Nat.zero_le c) (Nat.le_refl c)] at hj
  rw [dt_g hm hm' h (Nat.zero_le c)]
  exact b j hj
end
section
/-! the plane: a pair (p, q) over the points, and over the word of parities -/
def dg_sx (v : Nat) : Int := if v = 0 ∨ v = 1 ∨ v = 7 then 1 else if 3 ≤ v ∧ v ≤ 5 then -1 else 0
def dg_sy (v : Nat) : Int := if 1 ≤ v ∧ v ≤ 3 then 1 else if 5 ≤ v then -1 else 0
def dg_px (m : Nat → Nat) : Nat → Int
  | 0 => 0
  | k + 1 => dg_px m k + dg_sx (m k)
def dg_py (m : Nat → Nat) : Nat → Int
  | 0 => 0
  | k + 1 => dg_py m k + dg_sy (m k)
theorem dg_sxb (v : Nat) : -1 ≤ dg_sx v ∧ dg_sx v ≤ 1 := by
  simp only [dg_sx]
  split
  · omega
  · split <;> omega
theorem dg_syb (v : Nat) : -1 ≤ dg_sy v ∧ dg_sy v ≤ 1 := by
  simp only [dg_sy]
  split
  · omega
  · split <;> omega
theorem dg_pxb (m : Nat → Nat) (k : Nat) : -(k : Int) ≤ dg_px m k ∧ dg_px m k ≤ k := by
  induction k with
  | zero => simp only [dg_px]; omega
  | succ k ih =>
    have := dg_sxb (m k)
    simp only [dg_px]
    omega
theorem dg_pyb (m : Nat → Nat) (k : Nat) : -(k : Int) ≤ dg_py m k ∧ dg_py m k ≤ k := by
  induction k with
  | zero => simp only [dg_py]; omega
  | succ k ih =>
    have := dg_syb (m k)
    simp only [dg_py]
    omega
def dg_P (u : Nat) (p q : Int) : Int := match u with
  | 0 => p
  | 1 => -q
  | 2 => -q
  | 3 => -p
  | 4 => -p
  | 5 => q
  | 6 => q
  | _ => p
def dg_Q (u : Nat) (p q : Int) : Int := match u with
  | 0 => q
  | 1 => -p
  | 2 => p
  | 3 => q
  | 4 => -q
  | 5 => p
  | 6 => -p
  | _ => -q
theorem dg_8 {P : Nat → Prop} (h0 : P 0) (h1 : P 1) (h2 : P 2) (h3 : P 3) (h4 : P 4) (h5 : P 5) (h6 : P 6) (h7 : P 7) {u : Nat} (hu : u < 8) : P u := by
  have : u = 0 ∨ u = 1 ∨ u = 2 ∨ u = 3 ∨ u = 4 ∨ u = 5 ∨ u = 6 ∨ u = 7 := by omega
  rcases this with rfl | rfl | rfl | rfl | rfl | rfl | rfl | rfl
  · exact h0
  · exact h1
  · exact h2
  · exact h3
  · exact h4
  · exact h5
  · exact h6
  · exact h7
theorem dg_st0 (p q : Int) {u : Nat} (hu : u < 8) : p * dg_sx u - q * dg_sy u = dg_P u p q - dg_Q u p q * ((u % 2 : Nat) : Int) := by
  revert hu
  refine fun hu => dg_8 (P := fun u => p * dg_sx u - q * dg_sy u = dg_P u p q - dg_Q u p q * ((u % 2 : Nat) : Int)) ?_ ?_ ?_ ?_ ?_ ?_ ?_ ?_ hu <;> simp [dg_sx, dg_sy, dg_P, dg_Q] <;> omega
theorem dg_st1 (p q : Int) {u : Nat} (hu : u < 8) : p * dg_sx ((u + 1) % 8) - q * dg_sy ((u + 1) % 8) = dg_P u p q - dg_Q u p q * (((u + 1) % 8 % 2 : Nat) : Int) := by
  revert hu
  refine fun hu => dg_8 (P := fun u => p * dg_sx ((u + 1) % 8) - q * dg_sy ((u + 1) % 8) = dg_P u p q - dg_Q u p q * (((u + 1) % 8 % 2 : Nat) : Int)) ?_ ?_ ?_ ?_ ?_ ?_ ?_ ?_ hu <;> simp [dg_sx, dg_sy, dg_P, dg_Q] <;> omega
/-- the value of (p, q) at a point -/
def dg_v (m : Nat → Nat) (p q : Int) (k : Nat) : Int := p * dg_px m k - q * dg_py m k
/-- all values of a piece lie within n - 1 of each other -/
def dg_W (v : Nat → Int) (s e : Nat) (n : Int) : Prop := ∀ i j, s ≤ i → i ≤ e → s ≤ j → j ≤ e → v i - v j ≤ n - 1
theorem dg_lin {m : Nat → Nat} {s e u : Nat} (hu : u < 8) (tk : ∀ k, s ≤ k → k < e → m k = u ∨ m k = (u + 1) % 8) (p q : Int) : ∀ k, s ≤ k → k ≤ e → dg_v m p q k - dg_v m p q s = (dg_P u p q * (k : Int) - dg_Q u p q * dp_H m k) - (dg_P u p q * (s : Int) - dg_Q u p q * dp_H m s) := by
  intro k hk
  obtain ⟨d, rfl⟩ : ∃ d, k = s + d := ⟨k - s, by omega⟩
  induction d with
  | zero => intro _; rw [Nat.add_zero]; omega
  | succ d ih =>
    intro he
    have a := ih (by omega) (by omega)
    have st : p * dg_sx (m (s + d)) - q * dg_sy (m (s + d)) = dg_P u p q - dg_Q u p q * ((m (s + d) % 2 : Nat) : Int) := by
      rcases tk (s + d) (by omega) (by omega) with e | e
      · rw [e]; exact dg_st0 p q hu
      · rw [e]; exact dg_st1 p q hu
    rw [show s + (d + 1) = s + d + 1 from rfl]
    have e1 : dg_v m p q (s + d + 1) = dg_v m p q (s + d) + (p * dg_sx (m (s + d)) - q * dg_sy (m (s + d))) := by
      simp only [dg_v, dg_px, dg_py]
      rw [Int.mul_add, Int.mul_add]
      omega
    have e2 : dp_H m (s + d + 1) = dp_H m (s + d) + ((m (s + d) % 2 : Nat) : Int) := rfl
    rw [e1, st, e2, Int.mul_add, show ((s + d + 1 : Nat) : Int) = ((s + d : Nat) : Int) + 1 by omega, Int.mul_add]
    omega
theorem dg_Wl {m : Nat → Nat} {s e u : Nat} (hu : u < 8) (tk : ∀ k, s ≤ k → k < e → m k = u ∨ m k = (u + 1) % 8) (p q n : Int) : dg_W (dg_v m p q) s e n ↔ dg_W (fun k => dg_P u p q * (k : Int) - dg_Q u p q * dp_H m k) s e n := by
  have L := dg_lin hu tk p q
  constructor
  · intro w i j a b c d
    have := w i j a b c d
    have := L i a b
    have := L j c d
    dsimp only
    omega
  · intro w i j a b c d
    have x : _ - _ ≤ n - 1 := w i j a b c d
    have := L i a b
    have := L j c d
    dsimp only at x
    omega
/-- from a pair to the word -/
theorem dg_WS {m : Nat → Nat} {s e : Nat} {P Q n : Int} (h1 : 1 ≤ n) (h24 : n ≤ 24) (p1 : -n ≤ P) (p2 : P ≤ n) (q1 : -n ≤ Q) (q2 : Q ≤ n) (h : P = n ∨ P = -n ∨ Q = n ∨ Q = -n)
    (w : dg_W (fun k => P * (k : Int) - Q * dp_H m k) s e n) : dp_St (dp_H m) s e := by
  have w' : ∀ i j, s ≤ i → i ≤ e → s ≤ j → j ≤ e → (P * (i : Int) - Q * dp_H m i) - (P * (j : Int) - Q * dp_H m j) ≤ n - 1 := w
  have st : ∀ k, s ≤ k → k < e → (P - Q * (dp_H m (k + 1) - dp_H m k)) ≤ n - 1 ∧ -(P - Q * (dp_H m (k + 1) - dp_H m k)) ≤ n - 1 := by
    intro k a b
    have x := w' (k + 1) k (by omega) (by omega) (by omega) (by omega)
    have y := w' k (k + 1) (by omega) (by omega) (by omega) (by omega)
    rw [show ((k + 1 : Nat) : Int) = (k : Int) + 1 by omega, Int.mul_add] at x y
    rw [Int.mul_sub]
    omega
  have zero : (∀ k, s ≤ k → k < e → dp_H m (k + 1) = dp_H m k) → dp_St (dp_H m) s e := by
    intro z
    have c : ∀ k, s ≤ k → k ≤ e → dp_H m k = dp_H m s := by
      intro k hk
      obtain ⟨d, rfl⟩ : ∃ d, k = s + d := ⟨k - s, by omega⟩
      induction d with
      | zero => exact fun _ => rfl
      | succ d ih =>
        intro he
        rw [show s + (d + 1) = s + d + 1 from rfl, z (s + d) (by omega) (by omega)]
        exact ih (by omega) (by omega)
    refine ⟨1, 0, by omega, by omega, by omega, by omega, fun i j a b c' d => ?_⟩
    rw [c i a b, c j c' d]
    omega
  have one : (∀ k, s ≤ k → k < e → dp_H m (k + 1) = dp_H m k + 1) → dp_St (dp_H m) s e := by
    intro z
    have c : ∀ k, s ≤ k → k ≤ e → dp_H m k = dp_H m s + ((k : Int) - s) := by
      intro k hk
      obtain ⟨d, rfl⟩ : ∃ d, k = s + d := ⟨k - s, by omega⟩
      induction d with
      | zero => intro _; rw [Nat.add_zero]; omega
      | succ d ih =>
        intro he
        have := ih (by omega) (by omega)
        rw [show s + (d + 1) = s + d + 1 from rfl, z (s + d) (by omega) (by omega)]
        omega
    refine ⟨1, 1, by omega, by omega, by omega, by omega, fun i j a b c' d => ?_⟩
    rw [c i a b, c j c' d]
    omega
  by_cases c1 : Q = n
  · by_cases c2 : 0 ≤ P
    · refine ⟨n, P, h1, h24, c2, p2, ?_⟩
      rw [← c1]
      rw [← c1] at w'
      exact w'
    · refine zero (fun k a b => ?_)
      rcases dp_Hh m k with z | z
      · exact z
      · have := (st k a b).2
        rw [z, show dp_H m k + 1 - dp_H m k = 1 by omega] at this
        omega
  · by_cases c3 : Q = -n
    · by_cases c2 : P ≤ 0
      · refine ⟨n, -P, h1, h24, by omega, by omega, fun i j a b c d => ?_⟩
        have := w' j i c d a b
        rw [c3, Int.neg_mul, Int.neg_mul] at this
        rw [Int.neg_mul, Int.neg_mul]
        omega
      · refine zero (fun k a b => ?_)
        rcases dp_Hh m k with z | z
        · exact z
        · have := (st k a b).1
          rw [z, show dp_H m k + 1 - dp_H m k = 1 by omega] at this
          omega
    · refine one (fun k a b => ?_)
      rcases dp_Hh m k with z | z
      · have := st k a b
        rw [z, Int.sub_self, Int.mul_zero] at this
        omega
      · exact z
/-- what the reference tries -/
def dg_fit (m : Nat → Nat) (s e : Nat) (n k : Int) : Prop := dg_W (dg_v m n k) s e n ∨ dg_W (dg_v m k n) s e n
def dg_fits (m : Nat → Nat) (s e : Nat) (n : Int) : Prop := ∃ k : Int, -n ≤ k ∧ k ≤ n ∧ dg_fit m s e n k
def dg_R (m : Nat → Nat) (s e : Nat) : Prop := dp_TK m s e ∧ ∃ n : Int, 1 ≤ n ∧ n ≤ 24 ∧ dg_fits m s e n
theorem dg_PQ {u : Nat} (hu : u < 8) (p q : Int) : ((dg_P u p q = p ∨ dg_P u p q = -p) ∧ (dg_Q u p q = q ∨ dg_Q u p q = -q)) ∨ ((dg_P u p q = q ∨ dg_P u p q = -q) ∧ (dg_Q u p q = p ∨ dg_Q u p q = -p)) :=
  dg_8 (P := fun u => ((dg_P u p q = p ∨ dg_P u p q = -p) ∧ (dg_Q u p q = q ∨ dg_Q u p q = -q)) ∨ ((dg_P u p q = q ∨ dg_P u p q = -q) ∧ (dg_Q u p q = p ∨ dg_Q u p q = -p)))
    (Or.inl ⟨Or.inl rfl, Or.inl rfl⟩) (Or.inr ⟨Or.inr rfl, Or.inr rfl⟩) (Or.inr ⟨Or.inr rfl, Or.inl rfl⟩) (Or.inl ⟨Or.inr rfl, Or.inl rfl⟩)
    (Or.inl ⟨Or.inr rfl, Or.inr rfl⟩) (Or.inr ⟨Or.inl rfl, Or.inl rfl⟩) (Or.inr ⟨Or.inl rfl, Or.inr rfl⟩) (Or.inl ⟨Or.inl rfl, Or.inr rfl⟩) hu
/-- the pair of a kind for the word's line p / n -/
theorem dg_ex {u : Nat} (hu : u < 8) (n p : Int) : ∃ k : Int, (k = p ∨ k = -p) ∧ ((dg_P u n k = p ∧ dg_Q u n k = n) ∨ (dg_P u n k = -p ∧ dg_Q u n k = -n) ∨ (dg_P u k n = p ∧ dg_Q u k n = n) ∨ (dg_P u k n = -p ∧ dg_Q u k n = -n)) := by
  refine dg_8 (P := fun u => ∃ k : Int, (k = p ∨ k = -p) ∧ ((dg_P u n k = p ∧ dg_Q u n k = n) ∨ (dg_P u n k = -p ∧ dg_Q u n k = -n) ∨ (dg_P u k n = p ∧ dg_Q u k n = n) ∨ (dg_P u k n = -p ∧ dg_Q u k n = -n))) ?_ ?_ ?_ ?_ ?_ ?_ ?_ ?_ hu
  · exact ⟨p, Or.inl rfl, Or.inr (Or.inr (Or.inl ⟨rfl, rfl⟩))⟩
  · exact ⟨p, Or.inl rfl, Or.inr (Or.inl ⟨rfl, rfl⟩)⟩
  · exact ⟨-p, Or.inr rfl, Or.inl ⟨Int.neg_neg p, rfl⟩⟩
  · exact ⟨-p, Or.inr rfl, Or.inr (Or.inr (Or.inl ⟨Int.neg_neg p, rfl⟩))⟩
  · exact ⟨p, Or.inl rfl, Or.inr (Or.inr (Or.inr ⟨rfl, rfl⟩))⟩
  · exact ⟨p, Or.inl rfl, Or.inl ⟨rfl, rfl⟩⟩
  · exact ⟨-p, Or.inr rfl, Or.inr (Or.inl ⟨rfl, rfl⟩)⟩
  · exact ⟨-p, Or.inr rfl, Or.inr (Or.inr (Or.inr ⟨rfl, rfl⟩))⟩
theorem dg_RD (m : Nat → Nat) (s e : Nat) : dg_R m s e ↔ dp_D m s e := by
  constructor
  · rintro ⟨⟨u, hu, tk⟩, n, n1, n2, k, k1, k2, w⟩
    refine ⟨⟨u, hu, tk⟩, ?_⟩
    rcases w with w | w
    · rw [dg_Wl hu tk] at w
      have := dg_PQ hu n k
      exact dg_WS n1 n2 (by omega) (by omega) (by omega) (by omega) (by omega) w
    · rw [dg_Wl hu tk] at w
      have := dg_PQ hu k n
      exact dg_WS n1 n2 (by omega) (by omega) (by omega) (by omega) (by omega) w
  · rintro ⟨⟨u, hu, tk⟩, n, p, n1, n2, p1, p2, w⟩
    refine ⟨⟨u, hu, tk⟩, n, n1, n2, ?_⟩
    obtain ⟨k, hk, x⟩ := dg_ex hu n p
    have wn : ∀ i j, s ≤ i → i ≤ e → s ≤ j → j ≤ e → (-p * (i : Int) - -n * dp_H m i) - (-p * (j : Int) - -n * dp_H m j) ≤ n - 1 := by
      intro i j a b c d
      have := w j i c d a b
      rw [Int.neg_mul, Int.neg_mul, Int.neg_mul, Int.neg_mul]
      omega
    refine ⟨k, by omega, by omega, ?_⟩
    rcases x with ⟨a, b⟩ | ⟨a, b⟩ | ⟨a, b⟩ | ⟨a, b⟩
    · refine Or.inl ((dg_Wl hu tk n k n).mpr ?_)
      rw [a, b]; exact w
    · refine Or.inl ((dg_Wl hu tk n k n).mpr ?_)
      rw [a, b]; exact wn
    · refine Or.inr ((dg_Wl hu tk k n n).mpr ?_)
      rw [a, b]; exact w
    · refine Or.inr ((dg_Wl hu tk k n n).mpr ?_)
      rw [a, b]; exact wn
end
section
/-! X's farthest -/
abbrev xw_W : Type := Int32 × Int32 × Int32 × Int32 × Int32 × Int32 × Int32 × Int32 × Int32 × Int32 × Int32 × Int32 × Int32 × Int32 × Int32
abbrev xw_t (c g cu : Int32) (w : xw_W) (mv ge : Nat → Int32) : SX := (c, g, cu, w.1, w.2.1, w.2.2.1, w.2.2.2.1, w.2.2.2.2.1, w.2.2.2.2.2.1, w.2.2.2.2.2.2.1, w.2.2.2.2.2.2.2.1, w.2.2.2.2.2.2.2.2.1, w.2.2.2.2.2.2.2.2.2.1, w.2.2.2.2.2.2.2.2.2.2.1, w.2.2.2.2.2.2.2.2.2.2.2.1, w.2.2.2.2.2.2.2.2.2.2.2.2.1, w.2.2.2.2.2.2.2.2.2.2.2.2.2.1, w.2.2.2.2.2.2.2.2.2.2.2.2.2.2, mv, ge)
theorem xa_and7 {n : Nat} (h : n < 2 ^ 32) : nI n &&& 7 = nI (n % 8) := pk_andN h 3 (by decide)
theorem xa_and1 {n : Nat} (h : n < 2 ^ 32) : nI n &&& 1 = nI (n % 2) := pk_andN h 1 (by decide)
theorem xa_p1 {u : Nat} (h : u < 8) : (nI u + 1) &&& 7 = nI ((u + 1) % 8) := by rw [nI_1]; exact xa_and7 (by omega)
theorem xa_p7 {u : Nat} (h : u < 8) : (nI u + 7) &&& 7 = nI ((u + 7) % 8) := by
  rw [show nI u + 7 = nI (u + 7) from nI_add u 7]; exact xa_and7 (by omega)
/-- low and high hold the kinds of the moves from s to i -/
def xa_A (m : Nat → Nat) (s i : Nat) (lo hi : Int32) : Prop :=
  (i = s ∧ lo = -1 ∧ hi = -1) ∨ (s < i ∧ ∃ u, u < 8 ∧ lo = nI u ∧ ((hi = nI u ∧ ∀ k, s ≤ k → k < i → m k = u) ∨
    (hi = nI ((u + 1) % 8) ∧ (∀ k, s ≤ k → k < i → m k = u ∨ m k = (u + 1) % 8) ∧ (∃ k, s ≤ k ∧ k < i ∧ m k = u) ∧ ∃ k, s ≤ k ∧ k < i ∧ m k = (u + 1) % 8)))
section
variable {f_count f_greedy f_current f_low f_high f_a f_b f_mu f_x f_y f_upperFirstX f_upperFirstY f_upperLastX f_upperLastY f_lowerFirstX f_lowerFirstY f_lowerLastX f_lowerLastY : Int32} {a_moves a_greedyEnd : Nat → Int32}
theorem xa_ad {m : Nat → Nat} {s i : Nat} (hm : ∀ j, m j < 8) {post : Int32 → SX → Prop} (hA : xa_A m s i f_low f_high)
    (h1 : ∀ lo hi, xa_A m s (i + 1) lo hi → dp_TK m s (i + 1) → post 1 (f_count, f_greedy, f_current, lo, hi, f_a, f_b, f_mu, f_x, f_y, f_upperFirstX, f_upperFirstY, f_upperLastX, f_upperLastY, f_lowerFirstX, f_lowerFirstY, f_lowerLastX, f_lowerLastY, a_moves, a_greedyEnd))
    (h0 : ¬ dp_TK m s (i + 1) → post 0 (f_count, f_greedy, f_current, f_low, f_high, f_a, f_b, f_mu, f_x, f_y, f_upperFirstX, f_upperFirstY, f_upperLastX, f_upperLastY, f_lowerFirstX, f_lowerFirstY, f_lowerLastX, f_lowerLastY, a_moves, a_greedyEnd)) : wpX_admits post (f_count, f_greedy, f_current, f_low, f_high, f_a, f_b, f_mu, f_x, f_y, f_upperFirstX, f_upperFirstY, f_upperLastX, f_upperLastY, f_lowerFirstX, f_lowerFirstY, f_lowerLastX, f_lowerLastY, a_moves, a_greedyEnd) (nI (m i)) := by
  have hv := hm i
  rcases hA with ⟨rfl, rfl, rfl⟩ | ⟨hs, u, hu, rfl, B⟩
  · refine br_f (by decide) ?_
    exact h1 _ _ (Or.inr ⟨by omega, m i, hv, rfl, Or.inl ⟨rfl, fun k a b => by rw [show k = i by omega]⟩⟩) ⟨m i, hv, fun k a b => Or.inl (by rw [show k = i by omega])⟩
  · refine br_t (nI_pos' (by omega)) ?_
    rcases B with ⟨rfl, al⟩ | ⟨rfl, al, ⟨k1, q1, q2, q3⟩, ⟨k2, q4, q5, q6⟩⟩
    · refine pk_eq (m i) u (fun e => ?_) (fun ne => ?_)
      · have al' : ∀ k, s ≤ k → k < i + 1 → m k = u := by
          intro k a b
          by_cases c : k < i
          · exact al k a c
          · rw [show k = i by omega]; exact e
        exact h1 _ _ (Or.inr ⟨by omega, u, hu, rfl, Or.inl ⟨rfl, al'⟩⟩) ⟨u, hu, fun k a b => Or.inl (al' k a b)⟩
      · refine pk_eq (m i) u (fun e => absurd e ne) (fun _ => ?_)
        refine pk_eq u u (fun _ => ?_) (fun q => absurd rfl q)
        refine pk_eq (m i) ((u + 1) % 8) (fun e => ?_) (fun n1 => ?_) (hy := xa_p1 hu)
        · have al' : ∀ k, s ≤ k → k < i + 1 → m k = u ∨ m k = (u + 1) % 8 := by
            intro k a b
            by_cases c : k < i
            · exact Or.inl (al k a c)
            · rw [show k = i by omega]; exact Or.inr e
          exact h1 _ _ (Or.inr ⟨by omega, u, hu, rfl, Or.inr ⟨by rw [e], al', ⟨s, by omega, by omega, al s (by omega) hs⟩, ⟨i, by omega, by omega, e⟩⟩⟩) ⟨u, hu, al'⟩
        · refine pk_eq (m i) ((u + 7) % 8) (fun e => ?_) (fun n2 => ?_) (hy := xa_p7 hu)
          · have al' : ∀ k, s ≤ k → k < i + 1 → m k = m i ∨ m k = (m i + 1) % 8 := by
              intro k a b
              by_cases c : k < i
              · have := al k a c
                exact Or.inr (by omega)
              · rw [show k = i by omega]; exact Or.inl rfl
            exact h1 _ _ (Or.inr ⟨by omega, m i, hv, rfl, Or.inr ⟨by rw [show (m i + 1) % 8 = u by omega], al', ⟨i, by omega, by omega, rfl⟩, ⟨s, by omega, by omega, by have := al s (by omega) hs; omega⟩⟩⟩) ⟨m i, hv, al'⟩
          · refine h0 (fun tk => ?_)
            obtain ⟨w, hw, t⟩ := tk
            have t1 := t s (by omega) (by omega)
            have t2 := t i (by omega) (by omega)
            have := al s (by omega) hs
            omega
    · have al' : (m i = u ∨ m i = (u + 1) % 8) → ∀ k, s ≤ k → k < i + 1 → m k = u ∨ m k = (u + 1) % 8 := by
        intro e k a b
        by_cases c : k < i
        · exact al k a c
        · rw [show k = i by omega]; exact e
      have A' : (m i = u ∨ m i = (u + 1) % 8) → xa_A m s (i + 1) (nI u) (nI ((u + 1) % 8)) := fun e =>
        Or.inr ⟨by omega, u, hu, rfl, Or.inr ⟨rfl, al' e, ⟨k1, q1, by omega, q3⟩, ⟨k2, q4, by omega, q6⟩⟩⟩
      refine pk_eq (m i) u (fun e => h1 _ _ (A' (Or.inl e)) ⟨u, hu, al' (Or.inl e)⟩) (fun ne => ?_)
      refine pk_eq (m i) ((u + 1) % 8) (fun e => h1 _ _ (A' (Or.inr e)) ⟨u, hu, al' (Or.inr e)⟩) (fun ne2 => ?_)
      refine pk_eq u ((u + 1) % 8) (fun e => absurd e (by omega)) (fun _ => ?_)
      refine h0 (fun tk => ?_)
      obtain ⟨w, hw, t⟩ := tk
      have t1 := t k1 q1 (by omega)
      have t2 := t k2 q4 (by omega)
      have t3 := t i (by omega) (by omega)
      omega
theorem xs_1 : dl_i 1 = 1 := by decide
theorem xs_s1 (z : Int) : dl_i z - 1 = dl_i (z - 1) := by rw [← xs_1, dl_sub]
theorem xs_a1 (z : Int) : dl_i z + 1 = dl_i (z + 1) := by rw [← xs_1, dl_add]
theorem xs_st {m : Nat → Nat} {s L : Nat} {a b mu : Int} {uf ul lf ll : Nat} {post : Int32 → SX → Prop} (hm : ∀ j, m j < 8) (hc : s + L < 24) (I : ds_I (dp_h m s) L a b mu uf ul lf ll)
    (h1 : ∀ (a' b' mu' : Int) (uf' ul' lf' ll' : Nat), ds_I (dp_h m s) (L + 1) a' b' mu' uf' ul' lf' ll' → post 1 (f_count, f_greedy, f_current, f_low, f_high, dl_i a', dl_i b', dl_i mu', dl_i ((L + 1 : Nat) : Int), dl_i (dp_h m s (L + 1)), dl_i (uf' : Int), dl_i (dp_h m s uf'), dl_i (ul' : Int), dl_i (dp_h m s ul'), dl_i (lf' : Int), dl_i (dp_h m s lf'), dl_i (ll' : Int), dl_i (dp_h m s ll'), dp_mv m, a_greedyEnd))
    (h0 : ¬ ds_S (dp_h m s) (L + 1) → post 0 (f_count, f_greedy, f_current, f_low, f_high, dl_i a, dl_i b, dl_i mu, dl_i ((L + 1 : Nat) : Int), dl_i (dp_h m s (L + 1)), dl_i (uf : Int), dl_i (dp_h m s uf), dl_i (ul : Int), dl_i (dp_h m s ul), dl_i (lf : Int), dl_i (dp_h m s lf), dl_i (ll : Int), dl_i (dp_h m s ll), dp_mv m, a_greedyEnd)) :
    wpX_step post (f_count, f_greedy, f_current, f_low, f_high, dl_i a, dl_i b, dl_i mu, f_x, dl_i (dp_h m s L), dl_i (uf : Int), dl_i (dp_h m s uf), dl_i (ul : Int), dl_i (dp_h m s ul), dl_i (lf : Int), dl_i (dp_h m s lf), dl_i (ll : Int), dl_i (dp_h m s ll), dp_mv m, a_greedyEnd) (nI (s + L)) (nI s) := by
  have hh := dp_hh m s
  obtain ⟨⟨a0, a1, b0, b1, m0, m1⟩, u1, u2, u3, u4⟩ := ds_IB hh (dp_h0 m s) (by omega) I
  have mn := ds_mono hh (show 0 ≤ L + 1 by omega)
  rw [dp_h0] at mn
  have p1 := dl_pb (a := a) (b := ((L + 1 : Nat) : Int)) (A := 24) (B := 24) (by omega) (by omega) (by omega) (by omega)
  have p2 := dl_pb (a := b) (b := dp_h m s (L + 1)) (A := 24) (B := 24) (by omega) (by omega) (by omega) (by omega)
  have eR : dl_i a * dl_i ((L + 1 : Nat) : Int) - dl_i b * dl_i (dp_h m s (L + 1)) = dl_i (ds_r (dp_h m s) a b (L + 1)) := by
    rw [dl_mul, dl_mul, dl_sub]; rfl
  have rb : -2000 ≤ ds_r (dp_h m s) a b (L + 1) ∧ ds_r (dp_h m s) a b (L + 1) ≤ 2000 := by
    simp only [ds_r]
    omega
  have BR : dl_B (ds_r (dp_h m s) a b (L + 1)) := by constructor <;> omega
  have Bm : dl_B mu := by constructor <;> omega
  have Bm1 : dl_B (mu - 1) := by constructor <;> omega
  have Bmb : dl_B (mu + b) := by constructor <;> omega
  have Bmc : dl_B (mu + b - 1) := by constructor <;> omega
  have iue := ds_Iue hh I
  have idn := ds_Idn hh I
  have iln := ds_Iln hh I
  have ino := ds_Ino hh I
  generalize hR : ds_r (dp_h m s) a b (L + 1) = R at *
  unfold wpX_step
  refine nm_r (e' := dl_i ((L + 1 : Nat) : Int)) ?_ ⟨vp_in_nI hc (by omega), nm_r (e' := dl_i (dp_h m s (L + 1))) ?_ (nm_r (e' := dl_i R) eR ?_)⟩
  · rw [pk_sub (by omega), nI_1, Nat.add_sub_cancel_left, dl_n]
  · rw [nI_clamp (by omega)]
    show dl_i _ + (nI (m (s + L)) &&& 1) = _
    rw [xa_and1 (by have := hm (s + L); omega), dl_n, dl_add, dp_hs]
  · have e74 : (R < mu ∨ mu + b ≤ R) → wX_step_74 post (dl_i R) f_count f_greedy f_current f_low f_high (dl_i a) (dl_i b) (dl_i mu) (dl_i ((L + 1 : Nat) : Int)) (dl_i (dp_h m s (L + 1))) (dl_i (uf : Int)) (dl_i (dp_h m s uf)) (dl_i (ul : Int)) (dl_i (dp_h m s ul)) (dl_i (lf : Int)) (dl_i (dp_h m s lf)) (dl_i (ll : Int)) (dl_i (dp_h m s ll)) (dp_mv m) a_greedyEnd := by
      intro out
      unfold wX_step_74
      refine dk_eq R (mu - 1) BR Bm1 (fun e => ?_) (fun ne => ?_) rfl (xs_s1 mu)
      · refine nm_r (dl_sub _ _) (nm_r (dl_sub _ _) (nm_r (by rw [dl_mul, dl_mul, dl_sub]) ?_))
        exact h1 _ _ _ uf (L + 1) ll ll (iue e)
      · refine dk_eq R (mu + b) BR Bmb (fun e => ?_) (fun ne2 => ?_) rfl (dl_add mu b)
        · refine nm_r (dl_sub _ _) (nm_r (dl_sub _ _) (nm_r (by rw [dl_mul, dl_mul, dl_sub, dl_sub, xs_a1]) ?_))
          exact h1 _ _ _ ul ul lf (L + 1) (idn e)
        · exact h0 (ino (by omega))
    refine dk_lt R mu BR Bm (fun lt => e74 (Or.inl lt)) (fun ge => ?_)
    refine dk_le (mu + b) R Bmb BR (fun le => e74 (Or.inr le)) (fun lt2 => ?_) (dl_add mu b) rfl
    have J := iln ge lt2
    have e1 : dl_i mu + dl_i b - 1 = dl_i (mu + b - 1) := by rw [dl_add, xs_s1]
    unfold wpX_lean
    refine dk_eq R mu BR Bm (fun e => ?_) (fun ne => ?_)
    · unfold wX_lean_24
      rw [if_pos e] at J
      refine dk_eq R (mu + b - 1) BR Bmc (fun e2 => ?_) (fun ne2 => ?_) rfl e1
      · rw [if_pos e2] at J
        exact h1 _ _ _ uf (L + 1) lf (L + 1) J
      · rw [if_neg ne2] at J
        exact h1 _ _ _ uf (L + 1) lf ll J
    · unfold wX_lean_24
      rw [if_neg ne] at J
      refine dk_eq R (mu + b - 1) BR Bmc (fun e2 => ?_) (fun ne2 => ?_) rfl e1
      · rw [if_pos e2] at J
        exact h1 _ _ _ uf ul lf (L + 1) J
      · rw [if_neg ne2] at J
        exact h1 _ _ _ uf ul lf ll J
theorem xf_lp {m : Nat → Nat} {c s : Nat} {post : Int32 → SX → Prop} (hm : ∀ j, m j < 8) (hc : c ≤ 24)
    (hp : ∀ (f : Nat) (f_low f_high f_a f_b f_mu f_x f_y f_upperFirstX f_upperFirstY f_upperLastX f_upperLastY f_lowerFirstX f_lowerFirstY f_lowerLastX f_lowerLastY : Int32), dp_F m c s f → post (nI f) (nI c, f_greedy, f_current, f_low, f_high, f_a, f_b, f_mu, f_x, f_y, f_upperFirstX, f_upperFirstY, f_upperLastX, f_upperLastY, f_lowerFirstX, f_lowerFirstY, f_lowerLastX, f_lowerLastY, dp_mv m, a_greedyEnd)) :
    ∀ d L, s + L + d = c → ∀ (lo hi x : Int32) (a b mu : Int) (uf ul lf ll : Nat), xa_A m s (s + L) lo hi → dp_D m s (s + L) → ds_I (dp_h m s) L a b mu uf ul lf ll →
      wX_farthest_16 post (nI s) (d + 1) (nI (s + L)) (nI c) f_greedy f_current lo hi (dl_i a) (dl_i b) (dl_i mu) x (dl_i (dp_h m s L)) (dl_i (uf : Int)) (dl_i (dp_h m s uf)) (dl_i (ul : Int)) (dl_i (dp_h m s ul)) (dl_i (lf : Int)) (dl_i (dp_h m s lf)) (dl_i (ll : Int)) (dl_i (dp_h m s ll)) (dp_mv m) a_greedyEnd := by
  intro d
  induction d with
  | zero =>
    intro L hL lo hi x a b mu uf ul lf ll hA D I
    refine pk_le c (s + L) (fun _ => ?_) (fun q => absurd q (by omega))
    refine hp c _ _ _ _ _ _ _ _ _ _ _ _ _ _ _ ⟨by omega, Nat.le_refl c, ?_, Or.inl rfl⟩
    rw [show s + L = c by omega] at D
    exact D
  | succ d ih =>
    intro L hL lo hi x a b mu uf ul lf ll hA D I
    refine pk_le c (s + L) (fun q => absurd q (by omega)) (fun _ => And.intro (vp_in_nI (by omega) (by omega)) ?_)
    rw [nI_clamp (show s + L < 2 ^ 31 by omega)]
    show wpX_admits _ _ (nI (m (s + L)))
    refine xa_ad hm hA (fun lo' hi' hA' tk => ?_) (fun ntk => ?_)
    · refine br_f (by decide) ?_
      refine xs_st hm (by omega) I (fun a' b' mu' uf' ul' lf' ll' I' => ?_) (fun nS => ?_)
      · refine br_f (by decide) (nm_r (nI_1 (s + L)) ?_)
        refine ih (L + 1) (by omega) lo' hi' _ a' b' mu' uf' ul' lf' ll' hA' ⟨tk, (dp_SS m (by omega)).mpr ?_⟩ I'
        rw [show s + (L + 1) - s = L + 1 by omega]
        exact ds_IS (by omega) I'
      · refine br_t rfl (hp (s + L) _ _ _ _ _ _ _ _ _ _ _ _ _ _ _ ⟨by omega, by omega, D, Or.inr (fun D' => nS ?_)⟩)
        have := (dp_SS m (show s ≤ s + L + 1 by omega)).mp D'.2
        rw [show s + L + 1 - s = L + 1 by omega] at this
        exact this
    · exact br_t rfl (hp (s + L) _ _ _ _ _ _ _ _ _ _ _ _ _ _ _ ⟨by omega, by omega, D, Or.inr (fun D' => ntk D'.1)⟩)
end
theorem xf_far {m : Nat → Nat} {c s : Nat} {g cu : Int32} {w : xw_W} {ge : Nat → Int32} {post : Int32 → SX → Prop} (hm : ∀ j, m j < 8) (hc : c ≤ 24) (hs : s ≤ c)
    (hp : ∀ w', post (nI (dp_f m c s)) (xw_t (nI c) g cu w' (dp_mv m) ge)) : wpX_farthest post (xw_t (nI c) g cu w (dp_mv m) ge) (nI s) := by
  have K := xf_lp (post := post) (f_greedy := g) (f_current := cu) (a_greedyEnd := ge) hm hc (fun f f_low f_high f_a f_b f_mu f_x f_y f_upperFirstX f_upperFirstY f_upperLastX f_upperLastY f_lowerFirstX f_lowerFirstY f_lowerLastX f_lowerLastY F => by
    have := hp (f_low, f_high, f_a, f_b, f_mu, f_x, f_y, f_upperFirstX, f_upperFirstY, f_upperLastX, f_upperLastY, f_lowerFirstX, f_lowerFirstY, f_lowerLastX, f_lowerLastY)
    rw [dp_fu hm hs F] at this
    exact this) (c - s) 0 (by omega) (-1) (-1) 0 0 1 0 0 0 0 0 (Or.inl ⟨rfl, rfl, rfl⟩) (dp_one hm (by omega) (by omega)) (ds_I0 (dp_h0 m s))
  rw [dp_h0] at K
  exact Exists.intro (c - s + 1) K
end
section
/-! Y's isStraight and far -/
section
variable {f_moves : Int32} {a_move a_copy a_xs a_ys a_least : Nat → Int32}
theorem yw_sx {post : Int32 → Prop} {v : Nat} (hv : v < 8) (hp : ∀ r, r = dl_i (dg_sx v) → post r) : wpY_stepX post (f_moves, a_move, a_copy, a_xs, a_ys, a_least) (nI v) := by
  revert hp
  refine dg_8 (P := fun v => (∀ r, r = dl_i (dg_sx v) → post r) → wpY_stepX post (f_moves, a_move, a_copy, a_xs, a_ys, a_least) (nI v)) ?_ ?_ ?_ ?_ ?_ ?_ ?_ ?_ hv <;> intro hp <;> unfold wpY_stepX <;> (repeat (first | exact hp _ (by decide) | refine br_t (by decide) ?_ | refine br_f (by decide) ?_))
theorem yw_sy {post : Int32 → Prop} {v : Nat} (hv : v < 8) (hp : ∀ r, r = dl_i (dg_sy v) → post r) : wpY_stepY post (f_moves, a_move, a_copy, a_xs, a_ys, a_least) (nI v) := by
  revert hp
  refine dg_8 (P := fun v => (∀ r, r = dl_i (dg_sy v) → post r) → wpY_stepY post (f_moves, a_move, a_copy, a_xs, a_ys, a_least) (nI v)) ?_ ?_ ?_ ?_ ?_ ?_ ?_ ?_ hv <;> intro hp <;> unfold wpY_stepY wY_stepY_14 <;> (repeat (first | exact hp _ (by decide) | refine br_t (by decide) ?_ | refine br_f (by decide) ?_))
theorem yw_upd {f : Nat → Int32} {g : Nat → Int} {k : Nat} (h : ∀ j, j ≤ k → f j = dl_i (g j)) : ∀ j, j ≤ k + 1 → upd f (k + 1) (dl_i (g (k + 1))) j = dl_i (g j) := by
  intro j hj
  by_cases e : j = k + 1
  · subst e; exact pk_us
  · rw [pk_un e]; exact h j (by omega)
theorem yw_wl {m : Nat → Nat} {c : Nat} {post : SY → Prop} (hm : ∀ j, m j < 8) (hc : c ≤ 24)
    (hp : ∀ xs ys : Nat → Int32, (∀ j, j ≤ c → xs j = dl_i (dg_px m j)) → (∀ j, j ≤ c → ys j = dl_i (dg_py m j)) → post (nI c, dp_mv m, a_copy, xs, ys, a_least)) :
    ∀ d k, k + d = c → ∀ xs ys : Nat → Int32, (∀ j, j ≤ k → xs j = dl_i (dg_px m j)) → (∀ j, j ≤ k → ys j = dl_i (dg_py m j)) → wY_walk_16 post (nI c) (d + 1) (nI k) (dp_mv m) a_copy xs ys a_least := by
  intro d
  induction d with
  | zero =>
    intro k hk xs ys hx hy
    obtain rfl : k = c := by omega
    exact pk_le k k (fun _ => hp xs ys hx hy) (fun q => absurd q (by omega))
  | succ d ih =>
    intro k hk xs ys hx hy
    refine pk_le c k (fun q => absurd q (by omega)) (fun _ => pk_le 24 k (fun q => absurd q (by omega)) (fun _ => And.intro (vp_in_nI (by omega) (by omega)) (And.intro (vp_in_nI (by omega) (by omega)) ?_)))
    rw [nI_clamp (show k < 2 ^ 31 by omega), nI_1 k, nI_clamp (show k + 1 < 2 ^ 31 by omega)]
    refine yw_sx (v := m k) (hm k) (fun r er => ?_)
    refine And.intro (vp_in_nI (by omega) (by omega)) (nm_r (e' := upd xs (k + 1) (dl_i (dg_px m (k + 1)))) ?_ (And.intro (vp_in_nI (by omega) (by omega)) (And.intro (vp_in_nI (by omega) (by omega)) ?_)))
    · rw [hx k (Nat.le_refl k), er, dl_add]; rfl
    · refine yw_sy (v := m k) (hm k) (fun r2 er2 => ?_)
      refine And.intro (vp_in_nI (by omega) (by omega)) (nm_r (e' := upd ys (k + 1) (dl_i (dg_py m (k + 1)))) ?_ (nm_e ?_))
      · rw [hy k (Nat.le_refl k), er2, dl_add]; rfl
      · exact ih (k + 1) (by omega) _ _ (yw_upd (g := dg_px m) hx) (yw_upd (g := dg_py m) hy)
theorem yw_walk {m : Nat → Nat} {c : Nat} {post : SY → Prop} (hm : ∀ j, m j < 8) (hc : c ≤ 24)
    (hp : ∀ xs ys : Nat → Int32, (∀ j, j ≤ c → xs j = dl_i (dg_px m j)) → (∀ j, j ≤ c → ys j = dl_i (dg_py m j)) → post (nI c, dp_mv m, a_copy, xs, ys, a_least)) :
    wpY_walk post (nI c, dp_mv m, a_copy, a_xs, a_ys, a_least) := by
  unfold wpY_walk
  refine nm_e (nm_e (Exists.intro (c + 1) (yw_wl hm hc hp c 0 (by omega) _ _ ?_ ?_)))
  · intro j hj
    obtain rfl : j = 0 := by omega
    exact pk_us
  · intro j hj
    obtain rfl : j = 0 := by omega
    exact pk_us
theorem yw_vb (m : Nat → Nat) {p q : Int} {k : Nat} (p1 : -24 ≤ p) (p2 : p ≤ 24) (q1 : -24 ≤ q) (q2 : q ≤ 24) (hk : k ≤ 24) : -2000 ≤ dg_v m p q k ∧ dg_v m p q k ≤ 2000 := by
  have x := dg_pxb m k
  have y := dg_pyb m k
  have a := dl_pb (a := p) (b := dg_px m k) (A := 24) (B := 24) (by omega) (by omega) (by omega) (by omega)
  have b := dl_pb (a := q) (b := dg_py m k) (A := 24) (B := 24) (by omega) (by omega) (by omega) (by omega)
  simp only [dg_v]
  omega
theorem yw_il {m : Nat → Nat} {c s e : Nat} {p q n : Int} {post : Int32 → Prop} (hc : c ≤ 24) (he : e ≤ c) (p1 : -24 ≤ p) (p2 : p ≤ 24) (q1 : -24 ≤ q) (q2 : q ≤ 24) (n1 : 1 ≤ n) (n2 : n ≤ 24)
    (hx : ∀ j, j ≤ c → a_xs j = dl_i (dg_px m j)) (hy : ∀ j, j ≤ c → a_ys j = dl_i (dg_py m j)) (hp : ∀ r, dl_01 r (dg_W (dg_v m p q) s e n) → post r) :
    ∀ d k, k + d = e + 1 → s ≤ k → ∀ lo hi : Int, (∃ i, s ≤ i ∧ i ≤ e ∧ lo = dg_v m p q i) → (∃ i, s ≤ i ∧ i ≤ e ∧ hi = dg_v m p q i) → (∀ j, s ≤ j → j < k → lo ≤ dg_v m p q j ∧ dg_v m p q j ≤ hi) →
      wY_within_27 post (nI e) (dl_i p) (dl_i q) (dl_i n) f_moves a_move a_copy a_xs a_ys a_least (d + 1) (dl_i lo) (dl_i hi) (nI k) := by
  have vb : ∀ j, j ≤ e → -2000 ≤ dg_v m p q j ∧ dg_v m p q j ≤ 2000 := fun j hj => yw_vb m p1 p2 q1 q2 (by omega)
  intro d
  induction d with
  | zero =>
    intro k hk hs lo hi hlo hhi al
    refine pk_lt e k (fun _ => ?_) (fun q => absurd q (by omega))
    obtain ⟨i1, x1, x2, x3⟩ := hlo
    obtain ⟨i2, y1, y2, y3⟩ := hhi
    have b1 := vb i1 x2
    have b2 := vb i2 y2
    unfold wY_within_90
    refine dk_lt (n - 1) (hi - lo) ?_ ?_ (fun lt => hp 0 (Or.inr ⟨rfl, fun W => ?_⟩)) (fun ge => hp 1 (Or.inl ⟨rfl, fun i j a b c d => ?_⟩)) (xs_s1 n) (dl_sub hi lo)
    · constructor <;> omega
    · constructor <;> omega
    · have := W i2 i1 y1 y2 x1 x2
      omega
    · have := al i a (by omega)
      have := al j c (by omega)
      omega
  | succ d ih =>
    intro k hk hs lo hi hlo hhi al
    refine pk_lt e k (fun q => absurd q (by omega)) (fun _ => pk_le 25 k (fun q => absurd q (by omega)) (fun _ => And.intro (vp_in_nI (by omega) (by omega)) (And.intro (vp_in_nI (by omega) (by omega)) (nm_r (e' := dl_i (dg_v m p q k)) ?_ ?_))))
    · rw [nI_clamp (by omega), hx k (by omega), hy k (by omega), dl_mul, dl_mul, dl_sub]; rfl
    · have bk := vb k (by omega)
      have Bk : dl_B (dg_v m p q k) := by constructor <;> omega
      have Bhi : dl_B hi := by
        obtain ⟨i2, y1, y2, y3⟩ := hhi
        have b2 := vb i2 y2
        constructor <;> omega
      have Blo : dl_B lo := by
        obtain ⟨i2, y1, y2, y3⟩ := hlo
        have b2 := vb i2 y2
        constructor <;> omega
      have e73 : ∀ lo' : Int, (∃ i, s ≤ i ∧ i ≤ e ∧ lo' = dg_v m p q i) → (∀ j, s ≤ j → j < k + 1 → lo' ≤ dg_v m p q j) →
          wY_within_73 post (wY_within_27 post (nI e) (dl_i p) (dl_i q) (dl_i n) f_moves a_move a_copy a_xs a_ys a_least (d + 1)) (nI e) (dl_i p) (dl_i q) (dl_i n) (dl_i lo') (dl_i hi) (nI k) (dl_i (dg_v m p q k)) f_moves a_move a_copy a_xs a_ys a_least := by
        intro lo' h1 h2
        unfold wY_within_73
        refine dk_le (dg_v m p q k) hi Bk Bhi (fun le => nm_r (nI_1 k) (ih (k + 1) (by omega) (by omega) lo' hi h1 hhi (fun j a b => ⟨h2 j a b, ?_⟩))) (fun gt => nm_r (nI_1 k) (ih (k + 1) (by omega) (by omega) lo' _ h1 ⟨k, hs, by omega, rfl⟩ (fun j a b => ⟨h2 j a b, ?_⟩)))
        · by_cases c : j < k
          · exact (al j a c).2
          · obtain rfl : j = k := by omega
            exact le
        · by_cases c : j < k
          · have := (al j a c).2
            omega
          · obtain rfl : j = k := by omega
            exact Int.le_refl _
      refine dk_le lo (dg_v m p q k) Blo Bk (fun le => e73 lo hlo (fun j a b => ?_)) (fun gt => e73 _ ⟨k, hs, by omega, rfl⟩ (fun j a b => ?_))
      · by_cases c : j < k
        · exact (al j a c).1
        · obtain rfl : j = k := by omega
          exact le
      · by_cases c : j < k
        · have := (al j a c).1
          omega
        · obtain rfl : j = k := by omega
          exact Int.le_refl _
theorem yw_in {m : Nat → Nat} {c s e : Nat} {p q n : Int} {post : Int32 → Prop} (hc : c ≤ 24) (hs : s ≤ e) (he : e ≤ c) (p1 : -24 ≤ p) (p2 : p ≤ 24) (q1 : -24 ≤ q) (q2 : q ≤ 24) (n1 : 1 ≤ n) (n2 : n ≤ 24)
    (hx : ∀ j, j ≤ c → a_xs j = dl_i (dg_px m j)) (hy : ∀ j, j ≤ c → a_ys j = dl_i (dg_py m j)) (hp : ∀ r, dl_01 r (dg_W (dg_v m p q) s e n) → post r) :
    wpY_within post (f_moves, a_move, a_copy, a_xs, a_ys, a_least) (nI s) (nI e) (dl_i p) (dl_i q) (dl_i n) := by
  unfold wpY_within
  refine And.intro (vp_in_nI (by omega) (by omega)) (And.intro (vp_in_nI (by omega) (by omega)) (nm_r (e' := dl_i (dg_v m p q s)) ?_ (Exists.intro (e + 1 - s + 1) (yw_il hc he p1 p2 q1 q2 n1 n2 hx hy hp (e + 1 - s) s (by omega) (Nat.le_refl s) _ _ ⟨s, Nat.le_refl s, hs, rfl⟩ ⟨s, Nat.le_refl s, hs, rfl⟩ (fun j a b => absurd b (by omega))))))
  rw [nI_clamp (by omega), hx s (by omega), hy s (by omega), dl_mul, dl_mul, dl_sub]; rfl
theorem yw_fl {m : Nat → Nat} {c s e : Nat} {n : Int} {post : Int32 → Prop} (hc : c ≤ 24) (hs : s ≤ e) (he : e ≤ c) (n1 : 1 ≤ n) (n2 : n ≤ 24)
    (hx : ∀ j, j ≤ c → a_xs j = dl_i (dg_px m j)) (hy : ∀ j, j ≤ c → a_ys j = dl_i (dg_py m j)) :
    ∀ (d : Nat) (k : Int), k + d = n + 1 → -n ≤ k → (∀ r, dl_01 r (∃ k' : Int, k ≤ k' ∧ k' ≤ n ∧ dg_fit m s e n k') → post r) → wY_fits_4 post (nI s) (nI e) (dl_i n) f_moves a_move a_copy a_xs a_ys a_least (d + 1) (dl_i k) := by
  intro d
  induction d with
  | zero =>
    intro k hk h0 hp
    refine dk_lt n k ?_ ?_ (fun _ => hp 0 (Or.inr ⟨rfl, ?_⟩)) (fun q => absurd q (by omega))
    · constructor <;> omega
    · constructor <;> omega
    · rintro ⟨k', a, b, _⟩
      omega
  | succ d ih =>
    intro k hk h0 hp
    refine dk_lt n k ?_ ?_ (fun q => absurd q (by omega)) (fun _ => ?_)
    · constructor <;> omega
    · constructor <;> omega
    · refine yw_in hc hs he (by omega) (by omega) (by omega) (by omega) n1 n2 hx hy (fun r R => dl_01b R (fun nw => ?_) (fun w => hp 1 (Or.inl ⟨rfl, k, by omega, by omega, Or.inl w⟩)))
      refine yw_in hc hs he (by omega) (by omega) (by omega) (by omega) n1 n2 hx hy (fun r R => dl_01b R (fun nw2 => ?_) (fun w => hp 1 (Or.inl ⟨rfl, k, by omega, by omega, Or.inr w⟩)))
      refine nm_r (xs_a1 k) (ih (k + 1) (by omega) (by omega) (fun r R => hp r (dl_01i R ⟨?_, ?_⟩)))
      · rintro ⟨k', a, b, f⟩
        exact ⟨k', by omega, b, f⟩
      · rintro ⟨k', a, b, f⟩
        refine ⟨k', ?_, b, f⟩
        by_cases q : k' = k
        · subst q
          rcases f with f | f
          · exact absurd f nw
          · exact absurd f nw2
        · omega
theorem yw_fits {m : Nat → Nat} {c s e : Nat} {n : Int} {post : Int32 → Prop} (hc : c ≤ 24) (hs : s ≤ e) (he : e ≤ c) (n1 : 1 ≤ n) (n2 : n ≤ 24)
    (hx : ∀ j, j ≤ c → a_xs j = dl_i (dg_px m j)) (hy : ∀ j, j ≤ c → a_ys j = dl_i (dg_py m j)) (hp : ∀ r, dl_01 r (dg_fits m s e n) → post r) : wpY_fits post (f_moves, a_move, a_copy, a_xs, a_ys, a_least) (nI s) (nI e) (dl_i n) := by
  unfold wpY_fits
  exact nm_r (dl_neg n) (Exists.intro ((2 * n + 1).toNat + 1) (yw_fl hc hs he n1 n2 hx hy (2 * n + 1).toNat (-n) (by omega) (by omega) hp))
theorem yw_sl {m : Nat → Nat} {c s e : Nat} {post : Int32 → SY → Prop} (hc : c ≤ 24) (hs : s ≤ e) (he : e ≤ c)
    (hx : ∀ j, j ≤ c → a_xs j = dl_i (dg_px m j)) (hy : ∀ j, j ≤ c → a_ys j = dl_i (dg_py m j)) :
    ∀ (d : Nat) (n : Int), n + d = 25 → 1 ≤ n → (∀ r, dl_01 r (∃ n' : Int, n ≤ n' ∧ n' ≤ 24 ∧ dg_fits m s e n') → post r (f_moves, a_move, a_copy, a_xs, a_ys, a_least)) → wY_isStraight_17 post (nI s) (nI e) f_moves a_move a_copy a_xs a_ys a_least (d + 1) (dl_i n) := by
  intro d
  induction d with
  | zero =>
    intro n hn h0 hp
    refine dk_lt 24 n ?_ ?_ (fun _ => hp 0 (Or.inr ⟨rfl, ?_⟩)) (fun q => absurd q (by omega))
    · constructor <;> omega
    · constructor <;> omega
    · rintro ⟨k', a, b, _⟩
      omega
  | succ d ih =>
    intro n hn h0 hp
    refine dk_lt 24 n ?_ ?_ (fun q => absurd q (by omega)) (fun _ => ?_)
    · constructor <;> omega
    · constructor <;> omega
    · refine yw_fits hc hs he h0 (by omega) hx hy (fun r R => dl_01b R (fun nw => ?_) (fun w => hp 1 (Or.inl ⟨rfl, n, by omega, by omega, w⟩)))
      refine nm_r (xs_a1 n) (ih (n + 1) (by omega) (by omega) (fun r R => hp r (dl_01i R ⟨?_, ?_⟩)))
      · rintro ⟨k', a, b, f⟩
        exact ⟨k', by omega, b, f⟩
      · rintro ⟨k', a, b, f⟩
        refine ⟨k', ?_, b, f⟩
        by_cases q : k' = n
        · subst q
          exact absurd f nw
        · omega
theorem yw_r8 {u : Nat} (hu : u < 8) : (nI u + 1) - (nI u + 1) / 8 * 8 = nI ((u + 1) % 8) := by
  rw [nI_1]; exact pk_rem (d := 8) (by omega) (by omega) (by omega)
theorem yw_tl {m : Nat → Nat} {s e u : Nat} {post J : Int32 → Prop} (hm : ∀ j, m j < 8) (he : e ≤ 24) (hu : u < 8)
    (hT : (∀ k, s ≤ k → k < e → m k = u ∨ m k = (u + 1) % 8) → post 1) (hF : ¬ (∀ k, s ≤ k → k < e → m k = u ∨ m k = (u + 1) % 8) → J (nI (u + 1))) :
    ∀ d k, k + d = e → s ≤ k → ∀ al : Int32, dl_01 al (∀ j, s ≤ j → j < k → m j = u ∨ m j = (u + 1) % 8) → wY_twoKinds_14 post J (nI s) (nI e) (nI u) f_moves (dp_mv m) a_copy a_xs a_ys a_least (d + 1) al (nI k) := by
  intro d
  induction d with
  | zero =>
    intro k hk hs al A
    obtain rfl : k = e := by omega
    refine pk_le k k (fun _ => ?_) (fun q => absurd q (by omega))
    unfold wY_twoKinds_63
    exact dl_01b A (fun nw => nm_r (nI_1 u) (hF nw)) hT
  | succ d ih =>
    intro k hk hs al A
    refine pk_le e k (fun q => absurd q (by omega)) (fun _ => pk_le 24 k (fun q => absurd q (by omega)) (fun _ => And.intro (vp_in_nI (by omega) (by omega)) ?_))
    have hv := hm k
    have up : (m k = u ∨ m k = (u + 1) % 8) → ((∀ j, s ≤ j → j < k → m j = u ∨ m j = (u + 1) % 8) ↔ ∀ j, s ≤ j → j < k + 1 → m j = u ∨ m j = (u + 1) % 8) := by
      intro hk1
      refine ⟨fun h j a b => ?_, fun h j a b => h j a (by omega)⟩
      by_cases q : j < k
      · exact h j a q
      · rw [show j = k by omega]; exact hk1
    rw [nI_clamp (show k < 2 ^ 31 by omega), yw_r8 hu]
    refine pk_eq (m k) u (fun e => nm_r (nI_1 k) (ih (k + 1) (by omega) (by omega) al (dl_01i A (up (Or.inl e))))) (fun ne => And.intro (vp_in_nI (by omega) (by omega)) (And.intro (by decide) ?_))
    refine pk_eq (m k) ((u + 1) % 8) (fun e => nm_r (nI_1 k) (ih (k + 1) (by omega) (by omega) al (dl_01i A (up (Or.inr e))))) (fun ne2 => nm_r (nI_1 k) (ih (k + 1) (by omega) (by omega) 0 (Or.inr ⟨rfl, fun h => ?_⟩)))
    rcases h k hs (by omega) with h | h
    · exact ne h
    · exact ne2 h
theorem yw_t2 {m : Nat → Nat} {s e : Nat} {post : Int32 → Prop} (hm : ∀ j, m j < 8) (hs : s ≤ e) (he : e ≤ 24) :
    ∀ d u, u + d = 8 → (∀ r, dl_01 r (∃ u', u ≤ u' ∧ u' < 8 ∧ ∀ k, s ≤ k → k < e → m k = u' ∨ m k = (u' + 1) % 8) → post r) → wY_twoKinds_2 post (nI s) (nI e) f_moves (dp_mv m) a_copy a_xs a_ys a_least (d + 1) (nI u) := by
  intro d
  induction d with
  | zero =>
    intro u hu hp
    refine pk_le 8 u (fun _ => hp 0 (Or.inr ⟨rfl, ?_⟩)) (fun q => absurd q (by omega))
    rintro ⟨k', a, b, _⟩
    omega
  | succ d ih =>
    intro u hu hp
    refine pk_le 8 u (fun q => absurd q (by omega)) (fun _ => Exists.intro (e - s + 1) ?_)
    refine yw_tl hm he (by omega) (fun t => hp 1 (Or.inl ⟨rfl, u, Nat.le_refl u, by omega, t⟩)) (fun nt => ?_) (e - s) s (by omega) (Nat.le_refl s) 1 (Or.inl ⟨rfl, fun j a b => absurd b (by omega)⟩)
    refine ih (u + 1) (by omega) (fun r R => hp r (dl_01i R ⟨?_, ?_⟩))
    · rintro ⟨k', a, b, f⟩
      exact ⟨k', by omega, b, f⟩
    · rintro ⟨k', a, b, f⟩
      refine ⟨k', ?_, b, f⟩
      by_cases q : k' = u
      · subst q
        exact absurd f nt
      · omega
theorem yw_tk {m : Nat → Nat} {s e : Nat} {post : Int32 → Prop} (hm : ∀ j, m j < 8) (hs : s ≤ e) (he : e ≤ 24) (hp : ∀ r, dl_01 r (dp_TK m s e) → post r) : wpY_twoKinds post (f_moves, dp_mv m, a_copy, a_xs, a_ys, a_least) (nI s) (nI e) := by
  unfold wpY_twoKinds
  refine Exists.intro 9 (yw_t2 hm hs he 8 0 rfl (fun r R => hp r (dl_01i R ⟨?_, ?_⟩)))
  · rintro ⟨k', a, b, f⟩
    exact ⟨k', b, f⟩
  · rintro ⟨k', b, f⟩
    exact ⟨k', by omega, b, f⟩
theorem yw_str {m : Nat → Nat} {c s e : Nat} {post : Int32 → SY → Prop} (hm : ∀ j, m j < 8) (hc : c ≤ 24) (hs : s ≤ e) (he : e ≤ c)
    (hp : ∀ (r : Int32) (xs ys : Nat → Int32), dl_01 r (dp_D m s e) → post r (nI c, dp_mv m, a_copy, xs, ys, a_least)) : wpY_isStraight post (nI c, dp_mv m, a_copy, a_xs, a_ys, a_least) (nI s) (nI e) := by
  unfold wpY_isStraight
  refine yw_tk hm hs (by omega) (fun r R => dl_01b R (fun nt => hp 0 _ _ (Or.inr ⟨rfl, fun D => nt D.1⟩)) (fun t => ?_))
  refine yw_walk hm hc (fun xs ys hx hy => Exists.intro 25 ?_)
  refine yw_sl hc hs he hx hy 24 1 (by omega) (by omega) (fun r R => hp r xs ys (dl_01i R ?_))
  rw [← dg_RD]
  exact ⟨fun h => ⟨t, h⟩, fun h => h.2⟩
theorem yw_fal {m : Nat → Nat} {c s : Nat} {post : Int32 → SY → Prop} (hm : ∀ j, m j < 8) (hc : c ≤ 24)
    (hp : ∀ (f : Nat) (xs ys : Nat → Int32), dp_F m c s f → post (nI f) (nI c, dp_mv m, a_copy, xs, ys, a_least)) :
    ∀ d e, e + d = c → s ≤ e → dp_D m s e → ∀ xs ys : Nat → Int32, wY_far_2 post (nI s) (d + 1) (nI e) (nI c) (dp_mv m) a_copy xs ys a_least := by
  intro d
  induction d with
  | zero =>
    intro e he hs D xs ys
    obtain rfl : e = c := by omega
    exact pk_le e e (fun _ => hp e xs ys ⟨hs, Nat.le_refl e, D, Or.inl rfl⟩) (fun q => absurd q (by omega))
  | succ d ih =>
    intro e he hs D xs ys
    refine pk_le c e (fun q => absurd q (by omega)) (fun _ => ?_)
    rw [nI_1 e]
    refine yw_str hm hc (by omega) (by omega) (fun r xs ys R => dl_01b R (fun nD => hp e xs ys ⟨hs, by omega, D, Or.inr nD⟩) (fun D' => nm_e ?_))
    exact ih (e + 1) (by omega) (by omega) D' xs ys
theorem yw_far {m : Nat → Nat} {c s : Nat} {post : Int32 → SY → Prop} (hm : ∀ j, m j < 8) (hc : c ≤ 24) (hs : s ≤ c)
    (hp : ∀ xs ys : Nat → Int32, post (nI (dp_f m c s)) (nI c, dp_mv m, a_copy, xs, ys, a_least)) : wpY_far post (nI c, dp_mv m, a_copy, a_xs, a_ys, a_least) (nI s) := by
  unfold wpY_far
  refine Exists.intro (c - s + 1) (yw_fal hm hc (fun f xs ys F => ?_) (c - s) s (by omega) (Nat.le_refl s) (dp_one hm (by omega) (by omega)) _ _)
  rw [← dp_fu hm hs F]
  exact hp xs ys
end
end
section
/-! the relation, and the calls that don't loop -/
/-- both hold the same moves; what X keeps of the cut, if it is current, is the cut -/
def i_Rel (k : Nat) (u : SX) (v : SY) : Prop := ∃ (m : Nat → Nat) (c : Nat) (g cu : Int32) (w : xw_W) (ge cp xs ys le : Nat → Int32),
  u = xw_t (nI c) g cu w (dp_mv m) ge ∧ v = (nI c, dp_mv m, cp, xs, ys, le) ∧ (∀ j, m j < 8) ∧ c ≤ 24 ∧ (cu = 0 ∨ (cu = 1 ∧ dp_C m c g ge))
theorem rl_k {k : Nat} {m : Nat → Nat} {c : Nat} {g cu : Int32} {ge cp xs ys le : Nat → Int32} (w : xw_W) (hm : ∀ j, m j < 8) (hc : c ≤ 24) (h : cu = 0 ∨ (cu = 1 ∧ dp_C m c g ge)) : i_Rel k (xw_t (nI c) g cu w (dp_mv m) ge) (nI c, dp_mv m, cp, xs, ys, le) :=
  ⟨m, c, g, cu, w, ge, cp, xs, ys, le, rfl, rfl, hm, hc, h⟩
theorem rl_0 {k : Nat} {m : Nat → Nat} {c : Nat} {g : Int32} {ge cp xs ys le : Nat → Int32} (w : xw_W) (hm : ∀ j, m j < 8) (hc : c ≤ 24) : i_Rel k (xw_t (nI c) g 0 w (dp_mv m) ge) (nI c, dp_mv m, cp, xs, ys, le) := rl_k w hm hc (Or.inl rfl)
theorem i_up {k : Nat} {u : SX} {v : SY} (h : i_Rel k u v) : i_Rel (k + 4) u v := h
theorem i_vc0 : wpX_init (fun u => wpY_init (fun v => i_Rel 0 u v)) :=
  rl_0 (k := 0) (m := fun _ => 0) (c := 0) (g := 0) (ge := fun _ => 0) (cp := fun _ => 0) (xs := fun _ => 0) (ys := fun _ => 0) (le := fun _ => 0) (0, 0, 0, 0, 0, 0, 0, 0, 0, 0, 0, 0, 0, 0, 0) (fun _ => by decide) (by decide)
theorem xm_is {post : Int32 → Prop} {v : Int32} (hp : ∀ r, dl_01 r (∃ j, j < 8 ∧ v = nI j) → post r) : wpX_isMove post v := by
  unfold wpX_isMove
  refine br_c (fun h => hp 0 (Or.inr ⟨rfl, ?_⟩)) (fun h => br_c (fun h2 => hp 0 (Or.inr ⟨rfl, ?_⟩)) (fun h2 => hp 1 (Or.inl ⟨rfl, ?_⟩)))
  · rintro ⟨j, hj, rfl⟩
    exact nI_pos (by omega) h
  · rintro ⟨j, hj, rfl⟩
    exact nI_nlt (a := 7) (b := j) (by omega) (by omega) h2
  · obtain ⟨j, hj, e⟩ := nI_of2 (n := 7) (M := 7) (by decide) h (Int32.not_lt.mp h2)
    exact ⟨j, by omega, e⟩
theorem ym_bad {f_moves : Int32} {a_move a_copy a_xs a_ys a_least : Nat → Int32} {post : Int32 → Prop} {v : Int32} (hp : ∀ r, dl_01 r (¬ ∃ j, j < 8 ∧ v = nI j) → post r) : wpY_badMove post (f_moves, a_move, a_copy, a_xs, a_ys, a_least) v := by
  unfold wpY_badMove
  refine br_c (fun h => hp 1 (Or.inl ⟨rfl, ?_⟩)) (fun h => br_c (fun h2 => hp 0 (Or.inr ⟨rfl, ?_⟩)) (fun h2 => hp 1 (Or.inl ⟨rfl, ?_⟩)))
  · rintro ⟨j, hj, rfl⟩
    exact nI_pos (by omega) h
  · obtain ⟨j, hj, e⟩ := nI_of2 (n := 7) (M := 7) (by decide) h h2
    exact fun q => q ⟨j, by omega, e⟩
  · rintro ⟨j, hj, rfl⟩
    exact h2 (nI_le (a := j) (b := 7) (by omega) (by omega))
theorem rl_in {c : Nat} (hc : c ≤ 24) {v : Int32} (h : ¬ v < 0) (h2 : v ≤ nI c) : ∃ j, j ≤ c ∧ v = nI j := nI_of2 (n := c) (M := nI c) (nI_toInt (by omega)) h h2
theorem rl_in' {c : Nat} (hc : c ≤ 24) {v : Int32} (h : ¬ v < 0) (h2 : ¬ nI c ≤ v) : ∃ j, j < c ∧ v = nI j := by
  obtain ⟨j, hj, rfl⟩ := nI_of h
  refine ⟨j, ?_, rfl⟩
  rw [nI_leI (by omega) hj] at h2
  omega
theorem xm_pt {c : Nat} (hc : c ≤ 24) {g cu : Int32} {w : xw_W} {mv ge : Nat → Int32} {post : Int32 → Prop} {v : Int32} (hp : ∀ r, dl_01 r (∃ j, j ≤ c ∧ v = nI j) → post r) : wpX_isPoint post (xw_t (nI c) g cu w mv ge) v := by
  unfold wpX_isPoint
  refine br_c (fun h => hp 0 (Or.inr ⟨rfl, ?_⟩)) (fun h => br_c (fun h2 => hp 0 (Or.inr ⟨rfl, ?_⟩)) (fun h2 => hp 1 (Or.inl ⟨rfl, rl_in hc h (Int32.not_lt.mp h2)⟩)))
  · rintro ⟨j, hj, rfl⟩
    exact nI_pos (by omega) h
  · rintro ⟨j, hj, rfl⟩
    exact nI_nlt hj (by omega) h2
theorem ym_np {c : Nat} (hc : c ≤ 24) {a_move a_copy a_xs a_ys a_least : Nat → Int32} {post : Int32 → Prop} {v : Int32} (hp : ∀ r, dl_01 r (¬ ∃ j, j ≤ c ∧ v = nI j) → post r) : wpY_noPoint post (nI c, a_move, a_copy, a_xs, a_ys, a_least) v := by
  unfold wpY_noPoint
  refine br_c (fun h => hp 1 (Or.inl ⟨rfl, ?_⟩)) (fun h => br_c (fun h2 => hp 1 (Or.inl ⟨rfl, ?_⟩)) (fun h2 => ?_))
  · rintro ⟨j, hj, rfl⟩
    exact nI_pos (by omega) h
  · rintro ⟨j, hj, rfl⟩
    exact nI_nlt hj (by omega) h2
  · obtain ⟨j, hj, rfl⟩ := rl_in hc h (Int32.not_lt.mp h2)
    exact pk_le j 24 (fun _ => hp 0 (Or.inr ⟨rfl, fun q => q ⟨j, hj, rfl⟩⟩)) (fun q => absurd q (by omega))
theorem ym_nm {c : Nat} (hc : c ≤ 24) {a_move a_copy a_xs a_ys a_least : Nat → Int32} {post : Int32 → Prop} {v : Int32} (hp : ∀ r, dl_01 r (¬ ∃ j, j < c ∧ v = nI j) → post r) : wpY_noMove post (nI c, a_move, a_copy, a_xs, a_ys, a_least) v := by
  unfold wpY_noMove
  refine br_c (fun h => hp 1 (Or.inl ⟨rfl, ?_⟩)) (fun h => br_c (fun h2 => hp 1 (Or.inl ⟨rfl, ?_⟩)) (fun h2 => ?_))
  · rintro ⟨j, hj, rfl⟩
    exact nI_pos (by omega) h
  · rintro ⟨j, hj, rfl⟩
    exact nI_ge hj (by omega) h2
  · obtain ⟨j, hj, rfl⟩ := rl_in' hc h h2
    exact pk_lt j 24 (fun _ => hp 0 (Or.inr ⟨rfl, fun q => q ⟨j, hj, rfl⟩⟩)) (fun q => absurd q (by omega))
theorem i_vc_push {k : Nat} {u : SX} {v : SY} (I : i_Rel k u v) (hk : k + 4 ≤ 2048) (v1 : Int32) : wpX_push (fun r u' => wpY_push (fun r' v' => r' = r ∧ i_Rel (k + 4) u' v') v v1) u v1 := by
  obtain ⟨m, c, g, cu, w, ge, cp, xs, ys, le, rfl, rfl, hm, hc, hcu⟩ := I
  unfold wpX_push wpY_push
  refine xm_is (fun r R => dl_01b R (fun nA => ?_) (fun A => ?_))
  · refine ym_bad (fun r R => dl_01b R (fun nn => absurd nA nn) (fun _ => And.intro rfl (rl_k w hm hc hcu)))
  · have hA := A
    obtain ⟨j, hj, rfl⟩ := A
    refine pk_eq c 24 (fun e => ?_) (fun ne => And.intro (vp_in_nI (by omega) (by omega)) (nm_r (e' := dp_mv (dp_um m c j)) (by rw [nI_clamp (by omega)]; exact dp_upd m c j) (nm_r (nI_1 c) ?_)))
    · refine ym_bad (fun r R => dl_01b R (fun _ => ?_) (fun nn => absurd hA nn))
      exact pk_lt c 24 (fun q => absurd q (by omega)) (fun _ => And.intro rfl (rl_k w hm hc hcu))
    · refine ym_bad (fun r R => dl_01b R (fun _ => ?_) (fun nn => absurd hA nn))
      refine pk_lt c 24 (fun _ => And.intro (vp_in_nI (by omega) (by omega)) (nm_r (e' := dp_mv (dp_um m c j)) (by rw [nI_clamp (by omega)]; exact dp_upd m c j) (nm_r (nI_1 c) ?_))) (fun q => absurd q (by omega))
      exact And.intro rfl (rl_0 w (dp_um8 hm hj) (by omega))
theorem i_vc_pop {k : Nat} {u : SX} {v : SY} (I : i_Rel k u v) (hk : k + 4 ≤ 2048) (v1 : Int32) : wpX_pop (fun r u' => wpY_pop (fun r' v' => r' = r ∧ i_Rel (k + 4) u' v') v v1) u v1 := by
  obtain ⟨m, c, g, cu, w, ge, cp, xs, ys, le, rfl, rfl, hm, hc, hcu⟩ := I
  unfold wpX_pop wpY_pop
  refine br_c (fun h => br_t h (And.intro rfl (rl_k w hm hc hcu))) (fun h => br_c (fun h2 => ?_) (fun h2 => br_f h (br_f h2 (And.intro rfl (rl_k w hm hc hcu)))))
  refine nm_e (br_f h (br_t h2 (nm_e (And.intro rfl ?_))))
  obtain ⟨j, hj, rfl⟩ := rl_in hc h h2
  rw [pk_sub hj]
  exact rl_0 w hm (by omega)
theorem i_vc_set {k : Nat} {u : SX} {v : SY} (I : i_Rel k u v) (hk : k + 4 ≤ 2048) (v1 : Int32) (v2 : Int32) : wpX_set (fun r u' => wpY_set (fun r' v' => r' = r ∧ i_Rel (k + 4) u' v') v v1 v2) u v1 v2 := by
  obtain ⟨m, c, g, cu, w, ge, cp, xs, ys, le, rfl, rfl, hm, hc, hcu⟩ := I
  unfold wpX_set wpY_set
  have no : (¬ ∃ j, j < c ∧ v1 = nI j) → wpY_noMove (fun r_1 => (((r_1 = 0 → (wpY_badMove (fun r_9 => (((r_9 = 0 → (vp_in v1 24 ∧ (∀ x3_18 : Int32, x3_18 = dp_mv m v1.toNatClampNeg → (vp_in v1 24 ∧ ∀ a_move_20 : Nat → Int32, a_move_20 = upd (dp_mv m) v1.toNatClampNeg v2 → ((fun r' v' => r' = (-1 : Int32) ∧ i_Rel (k + 4) (xw_t (nI c) g cu w (dp_mv m) ge) v') x3_18 (nI c, a_move_20, cp, xs, ys, le)))))) ∧ (¬ r_9 = 0 → ((fun r' v' => r' = (-1 : Int32) ∧ i_Rel (k + 4) (xw_t (nI c) g cu w (dp_mv m) ge) v') (-2) (nI c, dp_mv m, cp, xs, ys, le)))))) (nI c, dp_mv m, cp, xs, ys, le) v2)) ∧ (¬ r_1 = 0 → ((fun r' v' => r' = (-1 : Int32) ∧ i_Rel (k + 4) (xw_t (nI c) g cu w (dp_mv m) ge) v') (-1) (nI c, dp_mv m, cp, xs, ys, le)))))) (nI c, dp_mv m, cp, xs, ys, le) v1 :=
    fun nA => ym_nm hc (fun r R => dl_01b R (fun nn => absurd nA nn) (fun _ => And.intro rfl (rl_k w hm hc hcu)))
  refine br_c (fun h => ?_) (fun h => br_c (fun h2 => ?_) (fun h2 => ?_))
  · refine no ?_
    rintro ⟨j, hj, rfl⟩
    exact nI_pos (by omega) h
  · obtain ⟨i, hi, rfl⟩ := rl_in' hc h (fun q => Int32.not_lt.mpr q h2)
    have hA : ∃ j, j < c ∧ nI i = nI j := ⟨i, hi, rfl⟩
    refine xm_is (fun r R => dl_01b R (fun nB => ?_) (fun B => ?_))
    · exact ym_nm hc (fun r R => dl_01b R (fun _ => ym_bad (fun r R => dl_01b R (fun nn => absurd nB nn) (fun _ => And.intro rfl (rl_k w hm hc hcu)))) (fun nn => absurd hA nn))
    · have hB := B
      obtain ⟨j, hj, rfl⟩ := B
      refine And.intro (vp_in_nI (by omega) (by omega)) (nm_e (And.intro (vp_in_nI (by omega) (by omega)) (nm_r (e' := dp_mv (dp_um m i j)) (by rw [nI_clamp (by omega)]; exact dp_upd m i j) ?_)))
      refine ym_nm hc (fun r R => dl_01b R (fun _ => ym_bad (fun r R => dl_01b R (fun _ => ?_) (fun nn => absurd hB nn))) (fun nn => absurd hA nn))
      refine And.intro (vp_in_nI (by omega) (by omega)) (nm_e (And.intro (vp_in_nI (by omega) (by omega)) (nm_r (e' := dp_mv (dp_um m i j)) (by rw [nI_clamp (by omega)]; exact dp_upd m i j) ?_)))
      exact And.intro rfl (rl_0 w (dp_um8 hm hj) hc)
  · refine no ?_
    rintro ⟨j, hj, rfl⟩
    exact h2 (nI_lt hj (by omega))
theorem i_vc_moves {k : Nat} {u : SX} {v : SY} (I : i_Rel k u v) (hk : k + 4 ≤ 2048) : wpX_moves (fun r => wpY_moves (fun r' => r' = r ∧ i_Rel (k + 4) u v) v) u := by
  obtain ⟨m, c, g, cu, w, ge, cp, xs, ys, le, rfl, rfl, hm, hc, hcu⟩ := I
  exact And.intro rfl (rl_k w hm hc hcu)
theorem i_vc_moveAt {k : Nat} {u : SX} {v : SY} (I : i_Rel k u v) (hk : k + 4 ≤ 2048) (v1 : Int32) : wpX_moveAt (fun r => wpY_moveAt (fun r' => r' = r ∧ i_Rel (k + 4) u v) v v1) u v1 := by
  obtain ⟨m, c, g, cu, w, ge, cp, xs, ys, le, rfl, rfl, hm, hc, hcu⟩ := I
  unfold wpX_moveAt wpY_moveAt
  have J : i_Rel (k + 4) (xw_t (nI c) g cu w (dp_mv m) ge) (nI c, dp_mv m, cp, xs, ys, le) := rl_k w hm hc hcu
  refine br_c (fun h => ?_) (fun h => br_c (fun h2 => ?_) (fun h2 => ?_))
  · refine ym_nm hc (fun r R => dl_01b R (fun nn => absurd ?_ nn) (fun _ => And.intro rfl J))
    rintro ⟨j, hj, rfl⟩
    exact nI_pos (by omega) h
  · refine ym_nm hc (fun r R => dl_01b R (fun nn => absurd ?_ nn) (fun _ => And.intro rfl J))
    rintro ⟨j, hj, rfl⟩
    exact nI_ge hj (by omega) h2
  · obtain ⟨i, hi, rfl⟩ := rl_in' hc h h2
    refine And.intro (vp_in_nI (by omega) (by omega)) ?_
    exact ym_nm hc (fun r R => dl_01b R (fun _ => And.intro (vp_in_nI (by omega) (by omega)) (And.intro rfl J)) (fun nn => absurd ⟨i, hi, rfl⟩ nn))
end
section
/-! draw, reverse, turn -/
/-- the moves after k drawn ones -/
def dr_m (m : Nat → Nat) (c u rise run : Nat) : Nat → Nat → Nat
  | 0 => m
  | k + 1 => dp_um (dr_m m c u rise run k) (c + k) (if (k + 1) * rise / run ≤ k * rise / run then u else (u + 1) % 8)
theorem dr_8 {m : Nat → Nat} (hm : ∀ j, m j < 8) {c u rise run : Nat} (hu : u < 8) (k : Nat) : ∀ j, dr_m m c u rise run k j < 8 := by
  induction k with
  | zero => exact hm
  | succ k ih =>
    refine dp_um8 ih ?_
    split <;> omega
theorem dr_q {k rise run : Nat} (hk : k ≤ 24) (hr : rise < 10) (h0 : 0 < run) (h1 : run ≤ 12) : nI k * nI rise / nI run = nI (k * rise / run) ∧ k * rise / run < 2 ^ 31 := by
  have b : k * rise ≤ 24 * 10 := Nat.mul_le_mul hk (by omega)
  have d : k * rise / run ≤ k * rise := Nat.div_le_self _ _
  refine ⟨?_, by omega⟩
  rw [pk_mul, pk_div (by omega) h0 (by omega)]
section
variable {m : Nat → Nat} {c u rise run cnt : Nat} {g cu : Int32} {w : xw_W} {ge cp xs ys le : Nat → Int32} {post : Int32 → SX → Prop} {postY : Int32 → SY → Prop}
theorem xd_lp (hu : u < 8) (hr : rise < 10) (h0 : 0 < run) (h1 : run ≤ 12) (hc : c + cnt ≤ 24) (hp : post (nI (c + cnt)) (xw_t (nI (c + cnt)) g 0 w (dp_mv (dr_m m c u rise run cnt)) ge)) :
    ∀ d k, k + d = cnt → wX_draw_74 post (nI run) (nI cnt) (nI rise) (nI u) (nI c) g cu w.1 w.2.1 w.2.2.1 w.2.2.2.1 w.2.2.2.2.1 w.2.2.2.2.2.1 w.2.2.2.2.2.2.1 w.2.2.2.2.2.2.2.1 w.2.2.2.2.2.2.2.2.1 w.2.2.2.2.2.2.2.2.2.1 w.2.2.2.2.2.2.2.2.2.2.1 w.2.2.2.2.2.2.2.2.2.2.2.1 w.2.2.2.2.2.2.2.2.2.2.2.2.1 w.2.2.2.2.2.2.2.2.2.2.2.2.2.1 w.2.2.2.2.2.2.2.2.2.2.2.2.2.2 (d + 1) (nI k) (dp_mv (dr_m m c u rise run k)) ge := by
  intro d
  induction d with
  | zero =>
    intro k hk
    obtain rfl : k = cnt := by omega
    exact pk_le k k (fun _ => nm_r (nI_add c k) hp) (fun q => absurd q (by omega))
  | succ d ih =>
    intro k hk
    have q1 := dr_q (k := k) (run := run) (by omega) hr h0 h1
    have q2 := dr_q (k := k + 1) (run := run) (by omega) hr h0 h1
    have e1 : (nI k + 1) * nI rise / nI run = nI ((k + 1) * rise / run) := by rw [nI_1]; exact q2.1
    have ir := ih (k + 1) (by omega)
    refine pk_le cnt k (fun q => absurd q (by omega)) (fun _ => And.intro (nI_ne0 h0 (by omega)) (And.intro (nI_ne0 h0 (by omega)) ?_))
    refine pk_le ((k + 1) * rise / run) (k * rise / run) (fun le => ?_) (fun gt => ?_) e1 q1.1 q2.2 q1.2
    · unfold wX_draw_104
      refine br_t rfl ?_
      rw [nI_add c k, nI_clamp (show c + k < 2 ^ 31 by omega)]
      refine And.intro (vp_in_nI (by omega) (by omega)) (nm_r (dp_upd _ (c + k) u) (nm_r (nI_1 k) ?_))
      have e : dr_m m c u rise run (k + 1) = dp_um (dr_m m c u rise run k) (c + k) u := by rw [dr_m, if_pos le]
      rw [e] at ir
      exact ir
    · unfold wX_draw_104
      refine br_f (by decide) ?_
      rw [nI_add c k, nI_clamp (show c + k < 2 ^ 31 by omega), xa_p1 hu]
      refine And.intro (vp_in_nI (by omega) (by omega)) (nm_r (dp_upd _ (c + k) _) (nm_r (nI_1 k) ?_))
      have e : dr_m m c u rise run (k + 1) = dp_um (dr_m m c u rise run k) (c + k) ((u + 1) % 8) := by rw [dr_m, if_neg (by omega)]
      rw [e] at ir
      exact ir
theorem yd_lp (hu : u < 8) (hr : rise < 10) (h0 : 0 < run) (h1 : run ≤ 12) (hc : c + cnt ≤ 24) (hp : postY (nI (c + cnt)) (nI (c + cnt), dp_mv (dr_m m c u rise run cnt), cp, xs, ys, le)) :
    ∀ d k, k + d = cnt → wY_draw_81 postY (nI run) (nI cnt) (nI rise) (nI u) (nI c) (nI c) (d + 1) (nI k) (dp_mv (dr_m m c u rise run k)) cp xs ys le := by
  intro d
  induction d with
  | zero =>
    intro k hk
    obtain rfl : k = cnt := by omega
    exact pk_le k k (fun _ => nm_r (nI_add c k) hp) (fun q => absurd q (by omega))
  | succ d ih =>
    intro k hk
    have q1 := dr_q (k := k) (run := run) (by omega) hr h0 h1
    have q2 := dr_q (k := k + 1) (run := run) (by omega) hr h0 h1
    have e1 : (nI k + 1) * nI rise / nI run = nI ((k + 1) * rise / run) := by rw [nI_1]; exact q2.1
    have ir := ih (k + 1) (by omega)
    refine pk_le cnt k (fun q => absurd q (by omega)) (fun _ => And.intro (nI_ne0 h0 (by omega)) (And.intro (nI_ne0 h0 (by omega)) ?_))
    refine pk_le ((k + 1) * rise / run) (k * rise / run) (fun le => ?_) (fun gt => ?_) e1 q1.1 q2.2 q1.2
    · unfold wY_draw_111
      refine br_t rfl ?_
      rw [nI_add c k, nI_clamp (show c + k < 2 ^ 31 by omega)]
      refine And.intro (vp_in_nI (by omega) (by omega)) (nm_r (dp_upd _ (c + k) u) (nm_r (nI_1 k) ?_))
      have e : dr_m m c u rise run (k + 1) = dp_um (dr_m m c u rise run k) (c + k) u := by rw [dr_m, if_pos le]
      rw [e] at ir
      exact ir
    · unfold wY_draw_111
      refine br_f (by decide) ?_
      rw [nI_add c k, nI_clamp (show c + k < 2 ^ 31 by omega), yw_r8 hu]
      refine And.intro (by decide) (And.intro (vp_in_nI (by omega) (by omega)) (nm_r (dp_upd _ (c + k) _) (nm_r (nI_1 k) ?_)))
      have e : dr_m m c u rise run (k + 1) = dp_um (dr_m m c u rise run k) (c + k) ((u + 1) % 8) := by rw [dr_m, if_neg (by omega)]
      rw [e] at ir
      exact ir
end
theorem i_vc_draw {k : Nat} {u : SX} {v : SY} (I : i_Rel k u v) (hk : k + 4 ≤ 2048) (v1 : Int32) (v2 : Int32) (v3 : Int32) : wpX_draw (fun r u' => wpY_draw (fun r' v' => r' = r ∧ i_Rel (k + 4) u' v') v v1 v2 v3) u v1 v2 v3 := by
  obtain ⟨m, c, g, cu, w, ge, cp, xs, ys, le, rfl, rfl, hm, hc, hcu⟩ := I
  unfold wpX_draw wpY_draw
  have J : i_Rel (k + 4) (xw_t (nI c) g cu w (dp_mv m) ge) (nI c, dp_mv m, cp, xs, ys, le) := rl_k w hm hc hcu
  refine br_c (fun a1 => br_t a1 (And.intro rfl J)) (fun a1 => br_c (fun a2 => ?_) (fun a2 => br_f a1 (br_f a2 (And.intro rfl J))))
  obtain ⟨sp, hsp, rfl⟩ := nI_of2 (n := 79) (M := 79) (by decide) a1 a2
  have e3 : nI sp >>> ((3 : Int32) &&& 31) = nI (sp / 8) := pk_shrN (by omega) _ 3 (by decide)
  have e8 : nI sp / 8 = nI (sp / 8) := pk_div (d := 8) (by omega) (by omega) (by omega)
  have er : nI sp - nI sp / 8 * 8 = nI (sp % 8) := pk_rem (d := 8) (by omega) (by omega) (by omega)
  have ea : nI sp &&& 7 = nI (sp % 8) := xa_and7 (by omega)
  have Y : ∀ {A : Prop} {B : Int32 → Int32 → Prop}, B (nI (sp / 8)) (nI (sp % 8)) → (nI sp < 0 → A) ∧ (¬ nI sp < 0 → ((nI sp ≤ 79 → (¬ (8 : Int32) = 0 ∧ (∀ x : Int32, x = nI sp / 8 → (¬ (8 : Int32) = 0 ∧ (∀ y : Int32, y = nI sp - nI sp / 8 * 8 → B x y))))) ∧ (¬ nI sp ≤ 79 → A))) :=
    fun b => br_f a1 (br_t a2 (And.intro (by decide) (nm_r e8 (And.intro (by decide) (nm_r er b)))))
  refine nm_r e3 ?_
  refine br_c (fun b1 => Y (br_t b1 (And.intro rfl J))) (fun b1 => br_c (fun b2 => Y (br_f b1 (br_t b2 (And.intro rfl J)))) (fun b2 => br_c (fun b3 => ?_) (fun b3 => Y (br_f b1 (br_f b2 (br_f b3 (And.intro rfl J)))))))
  refine br_c (fun c1 => Y (br_f b1 (br_f b2 (br_t b3 (br_t c1 (And.intro rfl J)))))) (fun c1 => br_c (fun c2 => ?_) (fun c2 => Y (br_f b1 (br_f b2 (br_t b3 (br_f c1 (br_f c2 (And.intro rfl J))))))))
  refine br_c (fun d1 => ?_) (fun d1 => Y (br_f b1 (br_f b2 (br_t b3 (br_f c1 (br_t c2 (br_f d1 (And.intro rfl J))))))))
  refine nm_r ea ?_
  have p1 : ¬ v2 < 0 := fun q => b1 (Int32.lt_trans q (by decide))
  have p2 : ¬ v3 < 0 := fun q => c1 (Int32.lt_trans q (by decide))
  obtain ⟨run, hrun, rfl⟩ := nI_of2 (n := 12) (M := 12) (by decide) p1 (Int32.not_lt.mp b2)
  obtain ⟨cnt, hcnt, rfl⟩ := nI_of2 (n := 24) (M := 24) (by decide) p2 c2
  have r0 : 0 < run := by
    by_cases q : run = 0
    · subst q; exact absurd (by decide) b1
    · omega
  have hd := d1
  rw [nI_add] at hd
  have hd' : c + cnt ≤ 24 := (nI_leI (a := c + cnt) (b := 24) (by omega) (by omega)).mp hd
  refine Exists.intro (cnt + 1) (xd_lp (by omega) (by omega) r0 hrun hd' ?_ cnt 0 (by omega))
  refine Y (br_f b1 (br_f b2 (br_t b3 (br_f c1 (br_t c2 (br_t d1 (Exists.intro (cnt + 1) (yd_lp (by omega) (by omega) r0 hrun hd' (And.intro rfl ?_) cnt 0 (by omega)))))))))
  exact rl_0 w (dr_8 hm (by omega) cnt) hd'
/-- reversed: from both ends -/
def rv_x (m : Nat → Nat) (c i : Nat) : Nat → Nat := fun j => if j < c ∧ (j < i ∨ c ≤ j + i) then (m (c - 1 - j) + 4) % 8 else m j
/-- reversed: from the front -/
def rv_y (m : Nat → Nat) (c i : Nat) : Nat → Nat := fun j => if j < c ∧ j < i then (m (c - 1 - j) + 4) % 8 else m j
theorem rv_x0 (m : Nat → Nat) (c : Nat) : rv_x m c 0 = m := by
  funext j
  simp only [rv_x]
  rw [if_neg (by omega)]
theorem rv_y0 (m : Nat → Nat) (c : Nat) : rv_y m c 0 = m := by
  funext j
  simp only [rv_y]
  rw [if_neg (by omega)]
theorem rv_e (m : Nat → Nat) {c i : Nat} (h : c ≤ 2 * i) : rv_x m c i = rv_y m c c := by
  funext j
  simp only [rv_x, rv_y]
  by_cases q : j < c
  · rw [if_pos (by omega), if_pos (by omega)]
  · rw [if_neg (by omega), if_neg (by omega)]
theorem rv_xs (m : Nat → Nat) {c i : Nat} (h : 2 * i < c) : rv_x m c (i + 1) = dp_um (dp_um (rv_x m c i) i ((m (c - 1 - i) + 4) % 8)) (c - 1 - i) ((m i + 4) % 8) := by
  funext j
  simp only [rv_x, dp_um]
  by_cases q : j = c - 1 - i
  · rw [if_pos q, if_pos (by omega)]
    rw [q, show c - 1 - (c - 1 - i) = i by omega]
  · rw [if_neg q]
    by_cases q2 : j = i
    · rw [if_pos q2, if_pos (by omega), q2]
    · rw [if_neg q2]
      by_cases q3 : j < c ∧ (j < i ∨ c ≤ j + i)
      · rw [if_pos q3, if_pos (by omega)]
      · rw [if_neg q3, if_neg (by omega)]
theorem rv_ys (m : Nat → Nat) {c i : Nat} (h : i < c) : rv_y m c (i + 1) = dp_um (rv_y m c i) i ((m (c - 1 - i) + 4) % 8) := by
  funext j
  simp only [rv_y, dp_um]
  by_cases q2 : j = i
  · rw [if_pos q2, if_pos (by omega), q2]
  · rw [if_neg q2]
    by_cases q3 : j < c ∧ j < i
    · rw [if_pos q3, if_pos (by omega)]
    · rw [if_neg q3, if_neg (by omega)]
theorem rv_8 {m : Nat → Nat} (hm : ∀ j, m j < 8) (c i : Nat) : ∀ j, rv_y m c i j < 8 := by
  intro j
  simp only [rv_y]
  split
  · omega
  · exact hm j
theorem rv_4 {u : Nat} (h : u < 8) : (nI u + 4) &&& 7 = nI ((u + 4) % 8) := by
  rw [show nI u + 4 = nI (u + 4) from nI_add u 4]; exact xa_and7 (by omega)
theorem rv_r4 {u : Nat} (h : u < 8) : (nI u + 4) - (nI u + 4) / 8 * 8 = nI ((u + 4) % 8) := by
  rw [show nI u + 4 = nI (u + 4) from nI_add u 4]; exact pk_rem (d := 8) (by omega) (by omega) (by omega)
section
variable {m : Nat → Nat} {c : Nat} {g cu : Int32} {w : xw_W} {ge cp xs ys le : Nat → Int32} {post : Int32 → SX → Prop} {postY : Int32 → SY → Prop}
theorem xr_lp (hm : ∀ j, m j < 8) (hc : c ≤ 24) (hp : post (nI c) (xw_t (nI c) g 0 w (dp_mv (rv_y m c c)) ge)) :
    ∀ d i, i ≤ 24 → c ≤ 2 * (i + d) → wX_reverse_2 post (nI c) g cu w.1 w.2.1 w.2.2.1 w.2.2.2.1 w.2.2.2.2.1 w.2.2.2.2.2.1 w.2.2.2.2.2.2.1 w.2.2.2.2.2.2.2.1 w.2.2.2.2.2.2.2.2.1 w.2.2.2.2.2.2.2.2.2.1 w.2.2.2.2.2.2.2.2.2.2.1 w.2.2.2.2.2.2.2.2.2.2.2.1 w.2.2.2.2.2.2.2.2.2.2.2.2.1 w.2.2.2.2.2.2.2.2.2.2.2.2.2.1 w.2.2.2.2.2.2.2.2.2.2.2.2.2.2 (d + 1) (nI i) (dp_mv (rv_x m c i)) ge := by
  intro d
  induction d with
  | zero =>
    intro i hi hi2
    rw [rv_e m (show c ≤ 2 * i by omega)]
    exact pk_le c (2 * i) (fun _ => hp) (fun q => absurd q (by omega)) rfl (pk_mul 2 i)
  | succ d ih =>
    intro i hi hi2
    refine pk_le c (2 * i) (fun q => ?_) (fun q => ?_) rfl (pk_mul 2 i)
    · rw [rv_e m q]; exact hp
    · have x1 : rv_x m c i i = m i := by simp only [rv_x]; rw [if_neg (by omega)]
      have x2 : rv_x m c i (c - 1 - i) = m (c - 1 - i) := by simp only [rv_x]; rw [if_neg (by omega)]
      have h1 := hm i
      have h2 := hm (c - 1 - i)
      have v1 : vp_in (nI i) 24 := vp_in_nI (by omega) (by omega)
      have v2 : vp_in (nI (c - 1 - i)) 24 := vp_in_nI (by omega) (by omega)
      refine nm_r (e' := nI (c - 1 - i)) ?_ (And.intro v1 (nm_r (e' := nI (m i)) ?_ (And.intro v2 (And.intro v1 (nm_r (e' := dp_mv (dp_um (rv_x m c i) i ((m (c - 1 - i) + 4) % 8))) ?_ (And.intro v2 (nm_r (e' := dp_mv (rv_x m c (i + 1))) ?_ (nm_r (nI_1 i) (ih (i + 1) (by omega) (by omega))))))))))
      · rw [show nI c - 1 = nI (c - 1) from pk_sub (b := 1) (by omega), pk_sub (by omega)]
      · rw [nI_clamp (by omega)]
        show nI (rv_x m c i i) = _
        rw [x1]
      · rw [nI_clamp (by omega), nI_clamp (by omega)]
        show upd _ _ ((nI (rv_x m c i (c - 1 - i)) + 4) &&& 7) = _
        rw [x2, rv_4 h2, dp_upd]
      · rw [nI_clamp (by omega), rv_4 h1, dp_upd, rv_xs m q]
theorem yr_l (hm : ∀ j, m j < 8) (hc : c ≤ 24) (hcp : ∀ j, j < 24 → cp j = nI (m j)) (hp : postY (nI c) (nI c, dp_mv (rv_y m c c), cp, xs, ys, le)) :
    ∀ d k, k + d = c → wY_reverse_28 postY (nI c) (d + 1) (nI k) (dp_mv (rv_y m c k)) cp xs ys le := by
  intro d
  induction d with
  | zero =>
    intro k hk
    obtain rfl : k = c := by omega
    exact pk_le k k (fun _ => hp) (fun q => absurd q (by omega))
  | succ d ih =>
    intro k hk
    have e : nI c - 1 - nI k = nI (c - 1 - k) := by rw [show nI c - 1 = nI (c - 1) from pk_sub (b := 1) (by omega), pk_sub (by omega)]
    refine pk_le c k (fun q => absurd q (by omega)) (fun _ => pk_le 24 k (fun q => absurd q (by omega)) (fun _ => ?_))
    rw [e, nI_clamp (show c - 1 - k < 2 ^ 31 by omega), nI_clamp (show k < 2 ^ 31 by omega), hcp (c - 1 - k) (by omega), rv_r4 (hm (c - 1 - k))]
    refine And.intro (vp_in_nI (by omega) (by omega)) (And.intro (by decide) (And.intro (vp_in_nI (by omega) (by omega)) (nm_r (e' := dp_mv (rv_y m c (k + 1))) ?_ (nm_r (nI_1 k) (ih (k + 1) (by omega))))))
    rw [dp_upd, rv_ys m (by omega)]
theorem yr_c (hN : ∀ cp : Nat → Int32, (∀ j, j < 24 → cp j = nI (m j)) → ∃ n, wY_reverse_28 postY (nI c) n 0 (dp_mv m) cp xs ys le) :
    ∀ d k, k + d = 24 → ∀ cp : Nat → Int32, (∀ j, j < k → cp j = nI (m j)) → wY_reverse_2 postY (nI c) (d + 1) (nI k) (dp_mv m) cp xs ys le := by
  intro d
  induction d with
  | zero =>
    intro k hk cp h
    obtain rfl : k = 24 := by omega
    exact pk_le 24 24 (fun _ => hN cp h) (fun q => absurd q (by omega))
  | succ d ih =>
    intro k hk cp h
    refine pk_le 24 k (fun q => absurd q (by omega)) (fun _ => ?_)
    rw [nI_clamp (show k < 2 ^ 31 by omega)]
    refine And.intro (vp_in_nI (by omega) (by omega)) (And.intro (vp_in_nI (by omega) (by omega)) (nm_e (nm_r (nI_1 k) (ih (k + 1) (by omega) _ (fun j hj => ?_)))))
    by_cases q : j = k
    · subst q; exact pk_us
    · rw [pk_un q]; exact h j (by omega)
end
theorem i_vc_reverse {k : Nat} {u : SX} {v : SY} (I : i_Rel k u v) (hk : k + 4 ≤ 2048) : wpX_reverse (fun r u' => wpY_reverse (fun r' v' => r' = r ∧ i_Rel (k + 4) u' v') v) u := by
  obtain ⟨m, c, g, cu, w, ge, cp, xs, ys, le, rfl, rfl, hm, hc, hcu⟩ := I
  unfold wpX_reverse wpY_reverse
  have K := fun (post : Int32 → SX → Prop) hp => xr_lp (post := post) (cu := cu) (w := w) (g := g) (ge := ge) hm hc hp 12 0 (by omega) (by omega)
  rw [rv_x0] at K
  refine Exists.intro 13 (K _ ?_)
  refine Exists.intro 25 (yr_c (m := m) (c := c) (fun cp hcp => ?_) 24 0 rfl cp (fun j hj => absurd hj (Nat.not_lt_zero j)))
  have K2 := fun (post : Int32 → SY → Prop) hp => yr_l (postY := post) (xs := xs) (ys := ys) (le := le) hm hc hcp hp c 0 (by omega)
  rw [rv_y0] at K2
  exact Exists.intro (c + 1) (K2 _ (And.intro rfl (rl_0 w (rv_8 hm c c) hc)))
def tn_m (m : Nat → Nat) (T k : Nat) : Nat → Nat := fun j => if j < k then (m j + T) % 8 else m j
theorem tn_0 (m : Nat → Nat) (T : Nat) : tn_m m T 0 = m := by
  funext j
  simp only [tn_m]
  rw [if_neg (by omega)]
theorem tn_s (m : Nat → Nat) (T k : Nat) : tn_m m T (k + 1) = dp_um (tn_m m T k) k ((m k + T) % 8) := by
  funext j
  simp only [tn_m, dp_um]
  by_cases q : j = k
  · rw [if_pos q, if_pos (by omega), q]
  · rw [if_neg q]
    by_cases q2 : j < k
    · rw [if_pos q2, if_pos (by omega)]
    · rw [if_neg q2, if_neg (by omega)]
theorem tn_8 {m : Nat → Nat} (hm : ∀ j, m j < 8) (T k : Nat) : ∀ j, tn_m m T k j < 8 := by
  intro j
  simp only [tn_m]
  split
  · omega
  · exact hm j
theorem tn_of (x : Int32) : ∃ n, n < 2 ^ 32 ∧ x = nI n := ⟨x.toBitVec.toNat, x.toBitVec.isLt, Int32.toBitVec_inj.mp (by show _ = BitVec.ofNat 32 _; simp)⟩
theorem tn_a (u T : Nat) : (nI u + nI T) &&& 7 = nI ((u + T) % 8) := by
  rw [nI_add, pk_and _ 3 (by decide)]
  have e : (nI (u + T)).toBitVec.toNat = (u + T) % 2 ^ 32 := rfl
  rw [e]
  exact congrArg nI (by omega)
section
variable {m : Nat → Nat} {c T : Nat} {g cu : Int32} {w : xw_W} {ge cp xs ys le : Nat → Int32} {post : Int32 → SX → Prop} {postY : Int32 → SY → Prop}
theorem xt_lp (hc : c ≤ 24) (hp : post (nI c) (xw_t (nI c) g cu w (dp_mv (tn_m m T c)) ge)) :
    ∀ d k, k + d = c → wX_turn_2 post (nI T) (nI c) g cu w.1 w.2.1 w.2.2.1 w.2.2.2.1 w.2.2.2.2.1 w.2.2.2.2.2.1 w.2.2.2.2.2.2.1 w.2.2.2.2.2.2.2.1 w.2.2.2.2.2.2.2.2.1 w.2.2.2.2.2.2.2.2.2.1 w.2.2.2.2.2.2.2.2.2.2.1 w.2.2.2.2.2.2.2.2.2.2.2.1 w.2.2.2.2.2.2.2.2.2.2.2.2.1 w.2.2.2.2.2.2.2.2.2.2.2.2.2.1 w.2.2.2.2.2.2.2.2.2.2.2.2.2.2 (d + 1) (nI k) (dp_mv (tn_m m T k)) ge := by
  intro d
  induction d with
  | zero =>
    intro k hk
    obtain rfl : k = c := by omega
    exact pk_le k k (fun _ => hp) (fun q => absurd q (by omega))
  | succ d ih =>
    intro k hk
    refine pk_le c k (fun q => absurd q (by omega)) (fun _ => ?_)
    rw [nI_clamp (show k < 2 ^ 31 by omega)]
    refine And.intro (vp_in_nI (by omega) (by omega)) (And.intro (vp_in_nI (by omega) (by omega)) (nm_r (e' := dp_mv (tn_m m T (k + 1))) ?_ (nm_r (nI_1 k) (ih (k + 1) (by omega)))))
    have e : tn_m m T k k = m k := by simp only [tn_m]; rw [if_neg (by omega)]
    show upd _ _ ((nI (tn_m m T k k) + nI T) &&& 7) = _
    rw [e, tn_a, dp_upd, tn_s]
theorem yt_lp (hc : c ≤ 24) (hp : postY (nI c) (nI c, dp_mv (tn_m m T c), cp, xs, ys, le)) :
    ∀ d k, k + d = c → wY_turn_2 postY (nI T) (nI c) (d + 1) (nI k) (dp_mv (tn_m m T k)) cp xs ys le := by
  intro d
  induction d with
  | zero =>
    intro k hk
    obtain rfl : k = c := by omega
    exact pk_le k k (fun _ => hp) (fun q => absurd q (by omega))
  | succ d ih =>
    intro k hk
    refine pk_le c k (fun q => absurd q (by omega)) (fun _ => pk_le 24 k (fun q => absurd q (by omega)) (fun _ => ?_))
    rw [nI_clamp (show k < 2 ^ 31 by omega)]
    refine And.intro (vp_in_nI (by omega) (by omega)) (And.intro (vp_in_nI (by omega) (by omega)) (nm_r (e' := dp_mv (tn_m m T (k + 1))) ?_ (nm_r (nI_1 k) (ih (k + 1) (by omega)))))
    have e : tn_m m T k k = m k := by simp only [tn_m]; rw [if_neg (by omega)]
    show upd _ _ ((nI (tn_m m T k k) + nI T) &&& 7) = _
    rw [e, tn_a, dp_upd, tn_s]
end
theorem i_vc_turn {k : Nat} {u : SX} {v : SY} (I : i_Rel k u v) (hk : k + 4 ≤ 2048) (v1 : Int32) : wpX_turn (fun r u' => wpY_turn (fun r' v' => r' = r ∧ i_Rel (k + 4) u' v') v v1) u v1 := by
  obtain ⟨m, c, g, cu, w, ge, cp, xs, ys, le, rfl, rfl, hm, hc, hcu⟩ := I
  obtain ⟨T, hT, rfl⟩ := tn_of v1
  unfold wpX_turn wpY_turn
  have K := fun (post : Int32 → SX → Prop) hp => xt_lp (post := post) (m := m) (T := T) (cu := cu) (w := w) (g := g) (ge := ge) hc hp c 0 (by omega)
  have K2 := fun (post : Int32 → SY → Prop) hp => yt_lp (postY := post) (m := m) (T := T) (cp := cp) (xs := xs) (ys := ys) (le := le) hc hp c 0 (by omega)
  rw [tn_0] at K K2
  refine Exists.intro (c + 1) (K _ (Exists.intro (c + 1) (K2 _ (And.intro rfl (rl_k w (tn_8 hm T c) hc ?_)))))
  rcases hcu with h | ⟨h, C⟩
  · exact Or.inl h
  · exact Or.inr ⟨h, dt_C (t := T) hm (tn_8 hm T c) (fun k hk => by simp only [tn_m]; rw [if_pos hk]) C⟩
end
section
/-! points, straight, reach, reachBack -/
theorem xm_ac {post : Int32 → Prop} {v : Nat} (hv : v < 8) (hp : ∀ r, r = dl_i (dg_sx v) → post r) : wpX_across post (nI v) := by
  revert hp
  refine dg_8 (P := fun v => (∀ r, r = dl_i (dg_sx v) → post r) → wpX_across post (nI v)) ?_ ?_ ?_ ?_ ?_ ?_ ?_ ?_ hv <;> intro hp <;> unfold wpX_across <;> (repeat (first | exact hp _ (by decide) | refine br_t (by decide) ?_ | refine br_f (by decide) ?_))
theorem xm_xy {v : Nat} (hv : v < 8) : dg_sx ((v + 6) % 8) = dg_sy v :=
  dg_8 (P := fun v => dg_sx ((v + 6) % 8) = dg_sy v) (by decide) (by decide) (by decide) (by decide) (by decide) (by decide) (by decide) (by decide) hv
theorem xm_p6 {u : Nat} (h : u < 8) : (nI u + 6) &&& 7 = nI ((u + 6) % 8) := by
  rw [show nI u + 6 = nI (u + 6) from nI_add u 6]; exact xa_and7 (by omega)
section
variable {m : Nat → Nat} {c e : Nat} {g cu : Int32} {ge cp le : Nat → Int32} {postP : Int32 → Prop} {post : Int32 → SX → Prop} {postY : Int32 → SY → Prop}
theorem xp_x {w : xw_W} (hm : ∀ j, m j < 8) (hc : c ≤ 24) (he : e ≤ c) (hp : postP (dl_i (dg_px m e))) :
    ∀ d i, i + d = e → wX_pointX_16 postP (nI e) (nI c) g cu w.1 w.2.1 w.2.2.1 w.2.2.2.1 w.2.2.2.2.1 w.2.2.2.2.2.1 w.2.2.2.2.2.2.1 w.2.2.2.2.2.2.2.1 w.2.2.2.2.2.2.2.2.1 w.2.2.2.2.2.2.2.2.2.1 w.2.2.2.2.2.2.2.2.2.2.1 w.2.2.2.2.2.2.2.2.2.2.2.1 w.2.2.2.2.2.2.2.2.2.2.2.2.1 w.2.2.2.2.2.2.2.2.2.2.2.2.2.1 w.2.2.2.2.2.2.2.2.2.2.2.2.2.2 (dp_mv m) ge (d + 1) (dl_i (dg_px m i)) (nI i) := by
  intro d
  induction d with
  | zero =>
    intro i hi
    obtain rfl : i = e := by omega
    exact pk_le i i (fun _ => hp) (fun q => absurd q (by omega))
  | succ d ih =>
    intro i hi
    refine pk_le e i (fun q => absurd q (by omega)) (fun _ => And.intro (vp_in_nI (by omega) (by omega)) ?_)
    rw [nI_clamp (show i < 2 ^ 31 by omega)]
    refine xm_ac (v := m i) (hm i) (fun r er => nm_r (e' := dl_i (dg_px m (i + 1))) ?_ (nm_r (nI_1 i) (ih (i + 1) (by omega))))
    rw [er, dl_add]; rfl
theorem xp_y {w : xw_W} (hm : ∀ j, m j < 8) (hc : c ≤ 24) (he : e ≤ c) (hp : postP (dl_i (dg_py m e))) :
    ∀ d i, i + d = e → wX_pointY_16 postP (nI e) (nI c) g cu w.1 w.2.1 w.2.2.1 w.2.2.2.1 w.2.2.2.2.1 w.2.2.2.2.2.1 w.2.2.2.2.2.2.1 w.2.2.2.2.2.2.2.1 w.2.2.2.2.2.2.2.2.1 w.2.2.2.2.2.2.2.2.2.1 w.2.2.2.2.2.2.2.2.2.2.1 w.2.2.2.2.2.2.2.2.2.2.2.1 w.2.2.2.2.2.2.2.2.2.2.2.2.1 w.2.2.2.2.2.2.2.2.2.2.2.2.2.1 w.2.2.2.2.2.2.2.2.2.2.2.2.2.2 (dp_mv m) ge (d + 1) (dl_i (dg_py m i)) (nI i) := by
  intro d
  induction d with
  | zero =>
    intro i hi
    obtain rfl : i = e := by omega
    exact pk_le i i (fun _ => hp) (fun q => absurd q (by omega))
  | succ d ih =>
    intro i hi
    refine pk_le e i (fun q => absurd q (by omega)) (fun _ => And.intro (vp_in_nI (by omega) (by omega)) ?_)
    rw [nI_clamp (show i < 2 ^ 31 by omega), show (dp_mv m i + 6) &&& 7 = nI ((m i + 6) % 8) from xm_p6 (hm i)]
    refine xm_ac (by omega) (fun r er => nm_r (e' := dl_i (dg_py m (i + 1))) ?_ (nm_r (nI_1 i) (ih (i + 1) (by omega))))
    rw [er, dl_add, xm_xy (hm i)]; rfl
/-- X goes up, Y goes down to the first start of a straight piece that ends at e -/
theorem xb_lp (hm : ∀ j, m j < 8) (hc : c ≤ 24) (he : e ≤ c)
    (hp : ∀ (s : Nat) (w : xw_W), s ≤ e → dp_D m s e → (∀ j, j < s → ¬ dp_D m j e) → post (nI s) (xw_t (nI c) g cu w (dp_mv m) ge)) :
    ∀ d s, s + d = e → (∀ j, j < s → ¬ dp_D m j e) → ∀ w : xw_W, wX_reachBack_12 post (nI e) (d + 1) (nI s) (nI c) g cu w.1 w.2.1 w.2.2.1 w.2.2.2.1 w.2.2.2.2.1 w.2.2.2.2.2.1 w.2.2.2.2.2.2.1 w.2.2.2.2.2.2.2.1 w.2.2.2.2.2.2.2.2.1 w.2.2.2.2.2.2.2.2.2.1 w.2.2.2.2.2.2.2.2.2.2.1 w.2.2.2.2.2.2.2.2.2.2.2.1 w.2.2.2.2.2.2.2.2.2.2.2.2.1 w.2.2.2.2.2.2.2.2.2.2.2.2.2.1 w.2.2.2.2.2.2.2.2.2.2.2.2.2.2 (dp_mv m) ge := by
  intro d
  induction d with
  | zero =>
    intro s hs al w
    obtain rfl : s = e := by omega
    exact pk_le s s (fun _ => hp s w (Nat.le_refl s) (dp_one hm (by omega) (by omega)) al) (fun q => absurd q (by omega))
  | succ d ih =>
    intro s hs al w
    refine pk_le e s (fun q => absurd q (by omega)) (fun _ => ?_)
    have fi := dp_fi hm (show s ≤ e by omega) he
    have fb := dp_fb hm (show s ≤ c by omega)
    refine xf_far (w := w) hm hc (by omega) (fun w' => pk_lt (dp_f m c s) e (fun lt => nm_r (nI_1 s) (ih (s + 1) (by omega) (fun j hj => ?_) w')) (fun ge' => hp s w' (by omega) (fi.mpr ge') al))
    by_cases q : j = s
    · subst q
      rw [fi]; omega
    · exact al j (by omega)
theorem yb_lp (hm : ∀ j, m j < 8) (hc : c ≤ 24) (he : e ≤ c)
    (hp : ∀ (s : Nat) (xs ys : Nat → Int32), s ≤ e → dp_D m s e → (s = 0 ∨ ¬ dp_D m (s - 1) e) → postY (nI s) (nI c, dp_mv m, cp, xs, ys, le)) :
    ∀ s, s ≤ e → dp_D m s e → ∀ xs ys : Nat → Int32, wY_reachBack_12 postY (nI e) (s + 1) (nI s) (nI c) (dp_mv m) cp xs ys le := by
  intro s
  induction s with
  | zero =>
    intro hs D xs ys
    exact br_t (by decide) (hp 0 xs ys hs D (Or.inl rfl))
  | succ s ih =>
    intro hs D xs ys
    refine br_f (nI_nle (by omega) (by omega)) ?_
    rw [nI_pred s]
    refine yw_str hm hc (by omega) he (fun r xs ys R => dl_01b R (fun nD => hp (s + 1) xs ys hs D (Or.inr nD)) (fun D' => nm_r (pk_m1 s) (ih (by omega) D' xs ys)))
end
theorem i_vc_pointX {k : Nat} {u : SX} {v : SY} (I : i_Rel k u v) (hk : k + 4 ≤ 2048) (v1 : Int32) : wpX_pointX (fun r => wpY_pointX (fun r' v' => r' = r ∧ i_Rel (k + 4) u v') v v1) u v1 := by
  obtain ⟨m, c, g, cu, w, ge, cp, xs, ys, le, rfl, rfl, hm, hc, hcu⟩ := I
  unfold wpX_pointX wpY_pointX
  refine xm_pt (w := w) hc (fun r R => dl_01b R (fun nA => ?_) (fun A => ?_))
  · exact ym_np hc (fun r R => dl_01b R (fun nn => absurd nA nn) (fun _ => And.intro rfl (rl_k w hm hc hcu)))
  · have hA := A
    obtain ⟨e, he, rfl⟩ := A
    refine Exists.intro (e + 1) (xp_x (w := w) hm hc he ?_ e 0 (by omega))
    refine ym_np hc (fun r R => dl_01b R (fun _ => yw_walk hm hc (fun xs ys hx hy => And.intro (vp_in_nI (by omega) (by omega)) (And.intro ?_ (rl_k w hm hc hcu)))) (fun nn => absurd hA nn))
    rw [nI_clamp (by omega)]
    exact hx e he
theorem i_vc_pointY {k : Nat} {u : SX} {v : SY} (I : i_Rel k u v) (hk : k + 4 ≤ 2048) (v1 : Int32) : wpX_pointY (fun r => wpY_pointY (fun r' v' => r' = r ∧ i_Rel (k + 4) u v') v v1) u v1 := by
  obtain ⟨m, c, g, cu, w, ge, cp, xs, ys, le, rfl, rfl, hm, hc, hcu⟩ := I
  unfold wpX_pointY wpY_pointY
  refine xm_pt (w := w) hc (fun r R => dl_01b R (fun nA => ?_) (fun A => ?_))
  · exact ym_np hc (fun r R => dl_01b R (fun nn => absurd nA nn) (fun _ => And.intro rfl (rl_k w hm hc hcu)))
  · have hA := A
    obtain ⟨e, he, rfl⟩ := A
    refine Exists.intro (e + 1) (xp_y (w := w) hm hc he ?_ e 0 (by omega))
    refine ym_np hc (fun r R => dl_01b R (fun _ => yw_walk hm hc (fun xs ys hx hy => And.intro (vp_in_nI (by omega) (by omega)) (And.intro ?_ (rl_k w hm hc hcu)))) (fun nn => absurd hA nn))
    rw [nI_clamp (by omega)]
    exact hy e he
/-- s and e as the two calls take them -/
theorem rl_se {c : Nat} (hc : c ≤ 24) {v1 v2 : Int32} (h1 : ¬ v1 < 0) (h2 : ¬ v2 < v1) (h3 : v2 ≤ nI c) : ∃ s e, s ≤ e ∧ e ≤ c ∧ v1 = nI s ∧ v2 = nI e := by
  have h0 : ¬ v2 < 0 := fun q => h2 (Int32.lt_of_lt_of_le q (Int32.not_lt.mp h1))
  obtain ⟨e, he, rfl⟩ := rl_in hc h0 h3
  obtain ⟨s, hs, rfl⟩ := nI_of h1
  refine ⟨s, e, ?_, he, rfl, rfl⟩
  rw [nI_ltI (by omega) hs] at h2
  omega
theorem i_vc_straight {k : Nat} {u : SX} {v : SY} (I : i_Rel k u v) (hk : k + 4 ≤ 2048) (v1 : Int32) (v2 : Int32) : wpX_straight (fun r u' => wpY_straight (fun r' v' => r' = r ∧ i_Rel (k + 4) u' v') v v1 v2) u v1 v2 := by
  obtain ⟨m, c, g, cu, w, ge, cp, xs, ys, le, rfl, rfl, hm, hc, hcu⟩ := I
  unfold wpX_straight wpY_straight
  have J : i_Rel (k + 4) (xw_t (nI c) g cu w (dp_mv m) ge) (nI c, dp_mv m, cp, xs, ys, le) := rl_k w hm hc hcu
  refine br_c (fun a1 => br_t a1 (And.intro rfl J)) (fun a1 => br_c (fun a2 => br_f a1 (br_t a2 (And.intro rfl J))) (fun a2 => br_c (fun a3 => ?_) (fun a3 => br_f a1 (br_f a2 (br_f a3 (And.intro rfl J))))))
  obtain ⟨s, e, hse, he, rfl, rfl⟩ := rl_se hc a1 a2 a3
  have fi := dp_fi hm hse he
  have fb := dp_fb hm (show s ≤ c by omega)
  refine xf_far (w := w) hm hc (by omega) (fun w' => pk_lt (dp_f m c s) e (fun lt => ?_) (fun ge' => ?_))
  · refine br_f a1 (br_f a2 (br_t a3 (yw_str hm hc hse he (fun r xs ys R => dl_01b R (fun _ => And.intro rfl (rl_k w' hm hc hcu)) (fun D => absurd (fi.mp D) (by omega))))))
  · refine br_f a1 (br_f a2 (br_t a3 (yw_str hm hc hse he (fun r xs ys R => dl_01b R (fun nD => absurd (fi.mpr ge') nD) (fun _ => And.intro rfl (rl_k w' hm hc hcu))))))
theorem i_vc_reach {k : Nat} {u : SX} {v : SY} (I : i_Rel k u v) (hk : k + 4 ≤ 2048) (v1 : Int32) : wpX_reach (fun r u' => wpY_reach (fun r' v' => r' = r ∧ i_Rel (k + 4) u' v') v v1) u v1 := by
  obtain ⟨m, c, g, cu, w, ge, cp, xs, ys, le, rfl, rfl, hm, hc, hcu⟩ := I
  unfold wpX_reach wpY_reach
  refine xm_pt (w := w) hc (fun r R => dl_01b R (fun nA => ?_) (fun A => ?_))
  · exact ym_np hc (fun r R => dl_01b R (fun nn => absurd nA nn) (fun _ => And.intro rfl (rl_k w hm hc hcu)))
  · have hA := A
    obtain ⟨s, hs, rfl⟩ := A
    refine xf_far (w := w) hm hc hs (fun w' => ?_)
    exact ym_np hc (fun r R => dl_01b R (fun _ => yw_far hm hc hs (fun xs ys => And.intro rfl (rl_k w' hm hc hcu))) (fun nn => absurd hA nn))
theorem i_vc_reachBack {k : Nat} {u : SX} {v : SY} (I : i_Rel k u v) (hk : k + 4 ≤ 2048) (v1 : Int32) : wpX_reachBack (fun r u' => wpY_reachBack (fun r' v' => r' = r ∧ i_Rel (k + 4) u' v') v v1) u v1 := by
  obtain ⟨m, c, g, cu, w, ge, cp, xs, ys, le, rfl, rfl, hm, hc, hcu⟩ := I
  unfold wpX_reachBack wpY_reachBack
  refine xm_pt (w := w) hc (fun r R => dl_01b R (fun nA => ?_) (fun A => ?_))
  · exact ym_np hc (fun r R => dl_01b R (fun nn => absurd nA nn) (fun _ => And.intro rfl (rl_k w hm hc hcu)))
  · have hA := A
    obtain ⟨e, he, rfl⟩ := A
    refine Exists.intro (e + 1) (xb_lp hm hc he (fun s w' a1 a2 a3 => ?_) e 0 (by omega) (fun j hj => absurd hj (Nat.not_lt_zero j)) w)
    refine ym_np hc (fun r R => dl_01b R (fun _ => Exists.intro (e + 1) (yb_lp hm hc he (fun s' xs ys b1 b2 b3 => And.intro ?_ (rl_k w' hm hc hcu)) e (Nat.le_refl e) (dp_one hm (by omega) (by omega)) _ _)) (fun nn => absurd hA nn))
    have h1 : ¬ s' < s := fun q => a3 s' q b2
    have h2 : ¬ s < s' := by
      intro q
      rcases b3 with b3 | b3
      · omega
      · exact b3 (dp_sub a2 (by omega) (Nat.le_refl e))
    exact congrArg nI (by omega)
end
section
/-! pieces, pieceEnd, fewest, longest, maximal -/
section
variable {m : Nat → Nat} {c s e : Nat} {g cu : Int32} {ge cp le : Nat → Int32} {post : Int32 → SX → Prop} {postY : Int32 → SY → Prop}
theorem xc_lp {postC : SX → Prop} (hm : ∀ j, m j < 8) (hc : c ≤ 24) (hp : ∀ (g : Int32) (w : xw_W) (ge : Nat → Int32), dp_C m c g ge → postC (xw_t (nI c) g 1 w (dp_mv m) ge)) :
    ∀ d k, k + d = 24 → (∀ j, j < k → dp_g m c 0 j < c) → ∀ (w : xw_W) (ge : Nat → Int32), (∀ j, j < k → ge j = nI (dp_g m c 0 (j + 1))) →
      wX_cutGreedy_22 postC (d + 1) (nI (dp_g m c 0 k)) (nI k) (nI c) (nI k) 1 w.1 w.2.1 w.2.2.1 w.2.2.2.1 w.2.2.2.2.1 w.2.2.2.2.2.1 w.2.2.2.2.2.2.1 w.2.2.2.2.2.2.2.1 w.2.2.2.2.2.2.2.2.1 w.2.2.2.2.2.2.2.2.2.1 w.2.2.2.2.2.2.2.2.2.2.1 w.2.2.2.2.2.2.2.2.2.2.2.1 w.2.2.2.2.2.2.2.2.2.2.2.2.1 w.2.2.2.2.2.2.2.2.2.2.2.2.2.1 w.2.2.2.2.2.2.2.2.2.2.2.2.2.2 (dp_mv m) ge := by
  have fin : ∀ k, c ≤ dp_g m c 0 k → (∀ j, j < k → dp_g m c 0 j < c) → ∀ (w : xw_W) (ge : Nat → Int32), (∀ j, j < k → ge j = nI (dp_g m c 0 (j + 1))) → postC (xw_t (nI c) (nI k) 1 w (dp_mv m) ge) := by
    intro k h1 h2 w ge h3
    have e : dp_n m c 0 c = k := dp_Nu (dp_nN hm (Nat.zero_le c) (Nat.le_refl c)) ⟨h1, h2⟩
    exact hp (nI k) w ge ⟨by rw [e], fun j hj => h3 j (by omega)⟩
  intro d
  induction d with
  | zero =>
    intro k hk h2 w ge h3
    have gb := dp_gb hm (Nat.zero_le c) k
    exact pk_le 24 k (fun _ => fin k (by omega) h2 w ge h3) (fun q => absurd q (by omega))
  | succ d ih =>
    intro k hk h2 w ge h3
    have gb := dp_gb hm (Nat.zero_le c) k
    refine pk_le 24 k (fun q => absurd q (by omega)) (fun _ => pk_le c (dp_g m c 0 k) (fun q => fin k q h2 w ge h3) (fun lt => ?_))
    refine xf_far (w := w) hm hc gb.2.1 (fun w' => ?_)
    refine And.intro (vp_in_nI (by omega) (by omega)) ?_
    rw [nI_clamp (show k < 2 ^ 31 by omega), nI_1 k]
    refine nm_e (nm_e (nm_e (ih (k + 1) (by omega) (fun j hj => ?_) w' _ (fun j hj => ?_))))
    · by_cases q : j = k
      · subst q; exact lt
      · exact h2 j (by omega)
    · by_cases q : j = k
      · subst q; exact pk_us
      · rw [pk_un q]; exact h3 j (by omega)
theorem xc_cut {postC : SX → Prop} {w : xw_W} (hm : ∀ j, m j < 8) (hc : c ≤ 24) (hcu : cu = 0 ∨ (cu = 1 ∧ dp_C m c g ge)) (hp : ∀ (g : Int32) (w : xw_W) (ge : Nat → Int32), dp_C m c g ge → postC (xw_t (nI c) g 1 w (dp_mv m) ge)) :
    wpX_cutGreedy postC (xw_t (nI c) g cu w (dp_mv m) ge) := by
  unfold wpX_cutGreedy
  rcases hcu with rfl | ⟨rfl, C⟩
  · exact br_t rfl (Exists.intro 25 (xc_lp hm hc hp 24 0 rfl (fun j hj => absurd hj (Nat.not_lt_zero j)) w ge (fun j hj => absurd hj (Nat.not_lt_zero j))))
  · exact br_f (by decide) (hp g w ge C)
theorem dp_gP (hm : ∀ j, m j < 8) (hc : c ≤ 24) : dp_n m c 0 c ≤ 24 ∧ (∀ k, dp_g m c 0 k < c ↔ k < dp_n m c 0 c) := by
  have N := dp_nN hm (Nat.zero_le c) (Nat.le_refl c)
  have l := dp_Nle hm (Nat.zero_le c) (Nat.zero_le c) (Nat.le_refl c) N
  refine ⟨by omega, fun k => ⟨fun h => ?_, fun h => N.2 k h⟩⟩
  by_cases q : k < dp_n m c 0 c
  · exact q
  · have a := dp_gm hm (Nat.zero_le c) (show dp_n m c 0 c ≤ k by omega)
    have b := N.1
    omega
theorem yp_lp (hm : ∀ j, m j < 8) (hc : c ≤ 24) (hp : ∀ xs ys : Nat → Int32, postY (nI (dp_n m c 0 c)) (nI c, dp_mv m, cp, xs, ys, le)) :
    ∀ d k n t, k + d = 24 → ((n = k ∧ t = dp_g m c 0 k ∧ k ≤ dp_n m c 0 c) ∨ (n = dp_n m c 0 c ∧ t = c ∧ dp_n m c 0 c ≤ k)) → ∀ xs ys : Nat → Int32,
      wY_pieces_6 postY (d + 1) (nI n) (nI t) (nI k) (nI c) (dp_mv m) cp xs ys le := by
  obtain ⟨P24, gP⟩ := dp_gP hm hc
  intro d
  induction d with
  | zero =>
    intro k n t hk h xs ys
    have e : n = dp_n m c 0 c := by omega
    rw [e]
    exact pk_le 24 k (fun _ => hp xs ys) (fun q => absurd q (by omega))
  | succ d ih =>
    intro k n t hk h xs ys
    have gb := dp_gb hm (Nat.zero_le c) k
    have gk := gP k
    refine pk_le 24 k (fun q => absurd q (by omega)) (fun _ => pk_le c t (fun q => ?_) (fun lt => ?_))
    · exact nm_r (nI_1 k) (ih (k + 1) n t (by omega) (Or.inr (by omega)) xs ys)
    · obtain ⟨e1, e2, e3⟩ : n = k ∧ t = dp_g m c 0 k ∧ k < dp_n m c 0 c := by omega
      subst e1 e2
      refine yw_far hm hc gb.2.1 (fun xs ys => nm_r (nI_1 n) (nm_r (nI_1 n) (ih (n + 1) (n + 1) _ (by omega) (Or.inl ⟨rfl, rfl, by omega⟩) xs ys)))
theorem ye_no {v : Int32} (hm : ∀ j, m j < 8) (hc : c ≤ 24) (hno : ∀ i, i < dp_n m c 0 c → ¬ nI i = v) (hp : ∀ xs ys : Nat → Int32, postY (-1) (nI c, dp_mv m, cp, xs, ys, le)) :
    ∀ d k, k + d = 24 → k ≤ dp_n m c 0 c → ∀ xs ys : Nat → Int32, wY_pieceEnd_4 postY v (d + 1) (nI (dp_g m c 0 k)) (nI k) (nI c) (dp_mv m) cp xs ys le := by
  obtain ⟨P24, gP⟩ := dp_gP hm hc
  intro d
  induction d with
  | zero =>
    intro k hk h xs ys
    exact pk_le 24 k (fun _ => hp xs ys) (fun q => absurd q (by omega))
  | succ d ih =>
    intro k hk h xs ys
    have gb := dp_gb hm (Nat.zero_le c) k
    have gk := gP k
    refine pk_le 24 k (fun q => absurd q (by omega)) (fun _ => pk_lt (dp_g m c 0 k) c (fun lt => ?_) (fun _ => hp xs ys))
    refine yw_far hm hc gb.2.1 (fun xs ys => br_f (hno k (gk.mp lt)) (nm_r (nI_1 k) (ih (k + 1) (by omega) (gk.mp lt) xs ys)))
theorem ye_at {i : Nat} (hm : ∀ j, m j < 8) (hc : c ≤ 24) (hi : i < dp_n m c 0 c) (hp : ∀ xs ys : Nat → Int32, postY (nI (dp_g m c 0 (i + 1))) (nI c, dp_mv m, cp, xs, ys, le)) :
    ∀ d k, k + d = 24 → k ≤ i → ∀ xs ys : Nat → Int32, wY_pieceEnd_4 postY (nI i) (d + 1) (nI (dp_g m c 0 k)) (nI k) (nI c) (dp_mv m) cp xs ys le := by
  obtain ⟨P24, gP⟩ := dp_gP hm hc
  intro d
  induction d with
  | zero =>
    intro k hk h xs ys
    omega
  | succ d ih =>
    intro k hk h xs ys
    have gb := dp_gb hm (Nat.zero_le c) k
    have gk := gP k
    refine pk_le 24 k (fun q => absurd q (by omega)) (fun _ => pk_lt (dp_g m c 0 k) c (fun lt => ?_) (fun q => absurd (gk.mpr (by omega)) (by omega)))
    refine yw_far hm hc gb.2.1 (fun xs ys => pk_eq k i (fun q => ?_) (fun q => nm_r (nI_1 k) (ih (k + 1) (by omega) (by omega) xs ys)))
    subst q
    exact hp xs ys
theorem xw_lp (hm : ∀ j, m j < 8) (hc : c ≤ 24) (hs : s ≤ c) (he : e ≤ c) (hp : ∀ w : xw_W, post (nI (dp_n m c s e)) (xw_t (nI c) g cu w (dp_mv m) ge)) :
    ∀ d k, k + d = 24 → (∀ j, j < k → dp_g m c s j < e) → ∀ w : xw_W,
      wX_fewest_27 post (nI e) (d + 1) (nI (dp_g m c s k)) (nI k) (nI k) (nI c) g cu w.1 w.2.1 w.2.2.1 w.2.2.2.1 w.2.2.2.2.1 w.2.2.2.2.2.1 w.2.2.2.2.2.2.1 w.2.2.2.2.2.2.2.1 w.2.2.2.2.2.2.2.2.1 w.2.2.2.2.2.2.2.2.2.1 w.2.2.2.2.2.2.2.2.2.2.1 w.2.2.2.2.2.2.2.2.2.2.2.1 w.2.2.2.2.2.2.2.2.2.2.2.2.1 w.2.2.2.2.2.2.2.2.2.2.2.2.2.1 w.2.2.2.2.2.2.2.2.2.2.2.2.2.2 (dp_mv m) ge := by
  have fin : ∀ k, e ≤ dp_g m c s k → (∀ j, j < k → dp_g m c s j < e) → ∀ w : xw_W, post (nI k) (xw_t (nI c) g cu w (dp_mv m) ge) := by
    intro k h1 h2 w
    have := hp w
    rw [dp_Nu (dp_nN hm hs he) ⟨h1, h2⟩] at this
    exact this
  intro d
  induction d with
  | zero =>
    intro k hk h2 w
    have gb := dp_gb hm hs k
    exact pk_le 24 k (fun _ => fin k (by omega) h2 w) (fun q => absurd q (by omega))
  | succ d ih =>
    intro k hk h2 w
    have gb := dp_gb hm hs k
    refine pk_le 24 k (fun q => absurd q (by omega)) (fun _ => pk_le e (dp_g m c s k) (fun q => fin k q h2 w) (fun lt => ?_))
    refine xf_far (w := w) hm hc gb.2.1 (fun w' => nm_r (nI_1 k) (nm_r (nI_1 k) (ih (k + 1) (by omega) (fun j hj => ?_) w')))
    by_cases q : j = k
    · subst q; exact lt
    · exact h2 j (by omega)
/-- the row of the table that is being filled: b is the best so far -/
def yw_b (m : Nat → Nat) (c s t r b : Nat) : Prop := (b = 99 ∨ ∃ q, s ≤ q ∧ q < r ∧ dp_D m q t ∧ b = dp_n m c s q + 1) ∧ ∀ q, s ≤ q → q < r → dp_D m q t → b ≤ dp_n m c s q + 1
theorem yw_be (hm : ∀ j, m j < 8) (hc : c ≤ 24) {t b : Nat} (hst : s < t) (ht : t ≤ c) (B : yw_b m c s t t b) : b = dp_n m c s t := by
  obtain ⟨r, r1, r2, r3, r4⟩ := dp_nex hm hst ht
  have l := B.2 r r1 r2 r3
  have n := dp_Nle hm (show s ≤ c by omega) (by omega) ht (dp_nN hm (show s ≤ c by omega) ht)
  rcases B.1 with h | ⟨q, q1, q2, q3, q4⟩
  · omega
  · have := dp_nle hm q1 (Nat.le_of_lt q2) ht q3
    omega
theorem yw_52 {t : Nat} {J : Int32 → Int32 → (Nat → Int32) → (Nat → Int32) → (Nat → Int32) → (Nat → Int32) → (Nat → Int32) → Prop} (hm : ∀ j, m j < 8) (hc : c ≤ 24) (hst : s < t) (ht : t ≤ c)
    (hJ : ∀ xs ys le : Nat → Int32, (∀ j, s ≤ j → j ≤ t → le j = nI (dp_n m c s j)) → J (nI (t + 1)) (nI c) (dp_mv m) cp xs ys le) :
    ∀ d r b, r + d = t → s ≤ r → b ≤ 99 → yw_b m c s t r b → ∀ xs ys le : Nat → Int32, (∀ j, s ≤ j → j < t → le j = nI (dp_n m c s j)) → le t = nI b →
      wY_fewest_52 postY J (nI s) (nI e) (nI t) (d + 1) (nI r) (nI c) (dp_mv m) cp xs ys le := by
  intro d
  induction d with
  | zero =>
    intro r b hr hs hb B xs ys le h1 h2
    obtain rfl : r = t := by omega
    refine pk_le r r (fun _ => nm_r (nI_1 r) (hJ xs ys le (fun j a b' => ?_))) (fun q => absurd q (by omega))
    by_cases q : j = r
    · subst q
      rw [h2, yw_be hm hc hst ht B]
    · exact h1 j a (by omega)
  | succ d ih =>
    intro r b hr hs hb B xs ys le h1 h2
    have nr := dp_Nle hm (show s ≤ c by omega) hs (show r ≤ c by omega) (dp_nN hm (show s ≤ c by omega) (show r ≤ c by omega))
    refine pk_le t r (fun q => absurd q (by omega)) (fun _ => And.intro (vp_in_nI (by omega) (by omega)) (And.intro (vp_in_nI (by omega) (by omega)) ?_))
    rw [nI_clamp (show t < 2 ^ 31 by omega), nI_clamp (show r < 2 ^ 31 by omega), nI_1 r]
    have stay : (¬ dp_D m r t ∨ b ≤ dp_n m c s r + 1) → yw_b m c s t (r + 1) b := by
      intro h
      refine ⟨?_, fun q a b' D => ?_⟩
      · rcases B.1 with x | ⟨q, q1, q2, q3, q4⟩
        · exact Or.inl x
        · exact Or.inr ⟨q, q1, by omega, q3, q4⟩
      · by_cases z : q = r
        · subst z
          rcases h with h | h
          · exact absurd D h
          · exact h
        · exact B.2 q a (by omega) D
    refine pk_le b (dp_n m c s r + 1) (fun le' => ?_) (fun gt => ?_) h2 (by rw [h1 r hs (by omega), nI_1])
    · exact nm_e (ih (r + 1) b (by omega) (by omega) hb (stay (Or.inr le')) xs ys le h1 h2)
    · refine yw_str hm hc (by omega) ht (fun a xs ys A => dl_01b A (fun nD => ?_) (fun D => ?_))
      · exact nm_e (ih (r + 1) b (by omega) (by omega) hb (stay (Or.inl nD)) xs ys le h1 h2)
      · refine And.intro (vp_in_nI (by omega) (by omega)) (And.intro (vp_in_nI (by omega) (by omega)) (nm_e (nm_e ?_)))
        refine ih (r + 1) (dp_n m c s r + 1) (by omega) (by omega) (by omega) ⟨Or.inr ⟨r, hs, by omega, D, rfl⟩, fun q a b' D' => ?_⟩ xs ys _ (fun j a b' => ?_) ?_
        · by_cases z : q = r
          · subst z; exact Nat.le_refl _
          · have := B.2 q a (by omega) D'
            omega
        · rw [pk_un (by omega)]; exact h1 j a b'
        · rw [h1 r hs (by omega), nI_1]; exact pk_us
theorem yw_21 (hm : ∀ j, m j < 8) (hc : c ≤ 24) (hse : s ≤ e) (he : e ≤ c) (hp : ∀ xs ys le : Nat → Int32, postY (nI (dp_n m c s e)) (nI c, dp_mv m, cp, xs, ys, le)) :
    ∀ d t, t + d = e + 1 → s ≤ t → ∀ xs ys le : Nat → Int32, (∀ j, s ≤ j → j < t → le j = nI (dp_n m c s j)) → wY_fewest_21 postY (nI s) (nI e) (d + 1) (nI t) (nI c) (dp_mv m) cp xs ys le := by
  intro d
  induction d with
  | zero =>
    intro t hd hs xs ys le h1
    refine pk_lt e t (fun _ => And.intro (vp_in_nI (by omega) (by omega)) ?_) (fun q => absurd q (by omega))
    rw [nI_clamp (by omega), h1 e hse (by omega)]
    exact hp xs ys le
  | succ d ih =>
    intro t hd hs xs ys le h1
    refine pk_lt e t (fun q => absurd q (by omega)) (fun _ => pk_le 25 t (fun q => absurd q (by omega)) (fun _ => ?_))
    rw [nI_clamp (show t < 2 ^ 31 by omega)]
    refine pk_eq t s (fun q => ?_) (fun q => ?_)
    · subst q
      refine And.intro (vp_in_nI (by omega) (by omega)) (nm_e (Exists.intro 1 ?_))
      refine pk_le t t (fun _ => nm_r (nI_1 t) (ih (t + 1) (by omega) (by omega) xs ys _ (fun j a b => ?_))) (fun q => absurd q (by omega))
      obtain rfl : j = t := by omega
      rw [dp_n0 hm (by omega)]
      exact pk_us
    · refine And.intro (vp_in_nI (by omega) (by omega)) (nm_e (Exists.intro (t - s + 1) ?_))
      refine yw_52 hm hc (by omega) (by omega) (fun xs ys le h => ih (t + 1) (by omega) (by omega) xs ys le (fun j a b => h j a (by omega))) (t - s) s 99 (by omega) (Nat.le_refl s) (Nat.le_refl 99) ⟨Or.inl rfl, fun q a b => absurd b (by omega)⟩ xs ys _ (fun j a b => ?_) ?_
      · rw [pk_un (by omega)]; exact h1 j a b
      · exact pk_us
end
/-- the longest piece that begins ahead of k -/
noncomputable def dp_mx (m : Nat → Nat) (c : Nat) : Nat → Nat
  | 0 => 0
  | k + 1 => if dp_f m c k - k ≤ dp_mx m c k then dp_mx m c k else dp_f m c k - k
/-- the farthest end ahead of k; the number of maximal pieces that begin ahead of k -/
noncomputable def dp_bf (m : Nat → Nat) (c : Nat) : Nat → Nat
  | 0 => 0
  | k + 1 => dp_f m c k
noncomputable def dp_ct (m : Nat → Nat) (c : Nat) : Nat → Nat
  | 0 => 0
  | k + 1 => if dp_f m c k ≤ dp_bf m c k then dp_ct m c k else dp_ct m c k + 1
section
variable {m : Nat → Nat} {c : Nat} {g cu : Int32} {ge cp le : Nat → Int32} {post : Int32 → SX → Prop} {postY : Int32 → SY → Prop}
theorem dp_mxb (hm : ∀ j, m j < 8) : ∀ k, k ≤ c + 1 → dp_mx m c k ≤ c := by
  intro k
  induction k with
  | zero => exact fun _ => Nat.zero_le c
  | succ k ih =>
    intro hk
    have := ih (by omega)
    have := dp_fb hm (show k ≤ c by omega)
    simp only [dp_mx]
    split <;> omega
theorem dp_ctb : ∀ k, dp_ct m c k ≤ k := by
  intro k
  induction k with
  | zero => exact Nat.le_refl 0
  | succ k ih =>
    simp only [dp_ct]
    split <;> omega
theorem dp_bfb (hm : ∀ j, m j < 8) : ∀ k, k ≤ c → dp_bf m c k ≤ c := by
  intro k
  induction k with
  | zero => exact fun _ => Nat.zero_le c
  | succ k ih =>
    intro hk
    exact (dp_fb hm (show k ≤ c by omega)).2.1
theorem xl_lp (hm : ∀ j, m j < 8) (hc : c ≤ 24) (hp : ∀ w : xw_W, post (nI (dp_mx m c (c + 1))) (xw_t (nI c) g cu w (dp_mv m) ge)) :
    ∀ d k, k + d = c + 1 → ∀ w : xw_W, wX_longest_4 post (d + 1) (nI (dp_mx m c k)) (nI k) (nI c) g cu w.1 w.2.1 w.2.2.1 w.2.2.2.1 w.2.2.2.2.1 w.2.2.2.2.2.1 w.2.2.2.2.2.2.1 w.2.2.2.2.2.2.2.1 w.2.2.2.2.2.2.2.2.1 w.2.2.2.2.2.2.2.2.2.1 w.2.2.2.2.2.2.2.2.2.2.1 w.2.2.2.2.2.2.2.2.2.2.2.1 w.2.2.2.2.2.2.2.2.2.2.2.2.1 w.2.2.2.2.2.2.2.2.2.2.2.2.2.1 w.2.2.2.2.2.2.2.2.2.2.2.2.2.2 (dp_mv m) ge := by
  intro d
  induction d with
  | zero =>
    intro k hk w
    obtain rfl : k = c + 1 := by omega
    exact pk_lt c (c + 1) (fun _ => hp w) (fun q => absurd q (by omega))
  | succ d ih =>
    intro k hk w
    have fb := dp_fb hm (show k ≤ c by omega)
    have mb := dp_mxb (c := c) hm k (by omega)
    have ir := ih (k + 1) (by omega)
    refine pk_lt c k (fun q => absurd q (by omega)) (fun _ => ?_)
    refine xf_far (w := w) hm hc (by omega) (fun w' => nm_r (pk_sub fb.1) ?_)
    refine pk_le (dp_f m c k - k) (dp_mx m c k) (fun le => nm_r (nI_1 k) ?_) (fun gt => nm_r (nI_1 k) ?_)
    · have := ir w'
      rw [dp_mx, if_pos le] at this
      exact this
    · have := ir w'
      rw [dp_mx, if_neg (by omega)] at this
      exact this
theorem yl_lp (hm : ∀ j, m j < 8) (hc : c ≤ 24) (hp : ∀ xs ys : Nat → Int32, postY (nI (dp_mx m c c)) (nI c, dp_mv m, cp, xs, ys, le)) :
    ∀ d k, k + d = c → ∀ xs ys : Nat → Int32, wY_longest_4 postY (d + 1) (nI (dp_mx m c k)) (nI k) (nI c) (dp_mv m) cp xs ys le := by
  intro d
  induction d with
  | zero =>
    intro k hk xs ys
    obtain rfl : k = c := by omega
    exact pk_le k k (fun _ => hp xs ys) (fun q => absurd q (by omega))
  | succ d ih =>
    intro k hk xs ys
    have fb := dp_fb hm (show k ≤ c by omega)
    have mb := dp_mxb (c := c) hm k (by omega)
    have ir := ih (k + 1) (by omega)
    refine pk_le c k (fun q => absurd q (by omega)) (fun _ => ?_)
    refine yw_far hm hc (by omega) (fun xs ys => ?_)
    refine pk_le (dp_f m c k - k) (dp_mx m c k) (fun le => nm_r (nI_1 k) ?_) (fun gt => nm_r (pk_sub fb.1) (nm_r (nI_1 k) ?_)) (pk_sub fb.1)
    · have := ir xs ys
      rw [dp_mx, if_pos le] at this
      exact this
    · have := ir xs ys
      rw [dp_mx, if_neg (by omega)] at this
      exact this
theorem xx_lp (hm : ∀ j, m j < 8) (hc : c ≤ 24) (hp : ∀ w : xw_W, post (nI (dp_ct m c c)) (xw_t (nI c) g cu w (dp_mv m) ge)) :
    ∀ d k, k + d = c → ∀ w : xw_W, wX_maximal_6 post (d + 1) (nI (dp_ct m c k)) (nI (dp_bf m c k)) (nI k) (nI c) g cu w.1 w.2.1 w.2.2.1 w.2.2.2.1 w.2.2.2.2.1 w.2.2.2.2.2.1 w.2.2.2.2.2.2.1 w.2.2.2.2.2.2.2.1 w.2.2.2.2.2.2.2.2.1 w.2.2.2.2.2.2.2.2.2.1 w.2.2.2.2.2.2.2.2.2.2.1 w.2.2.2.2.2.2.2.2.2.2.2.1 w.2.2.2.2.2.2.2.2.2.2.2.2.1 w.2.2.2.2.2.2.2.2.2.2.2.2.2.1 w.2.2.2.2.2.2.2.2.2.2.2.2.2.2 (dp_mv m) ge := by
  intro d
  induction d with
  | zero =>
    intro k hk w
    obtain rfl : k = c := by omega
    exact pk_le k k (fun _ => hp w) (fun q => absurd q (by omega))
  | succ d ih =>
    intro k hk w
    have fb := dp_fb hm (show k ≤ c by omega)
    have bb := dp_bfb (c := c) hm k (by omega)
    have ir := ih (k + 1) (by omega)
    refine pk_le c k (fun q => absurd q (by omega)) (fun _ => ?_)
    refine xf_far (w := w) hm hc (by omega) (fun w' => ?_)
    refine pk_le (dp_f m c k) (dp_bf m c k) (fun le => nm_r (nI_1 k) ?_) (fun gt => nm_r (nI_1 _) (nm_r (nI_1 k) ?_))
    · have := ir w'
      rw [dp_ct, if_pos le] at this
      exact this
    · have := ir w'
      rw [dp_ct, if_neg (by omega)] at this
      exact this
theorem yx_lp (hm : ∀ j, m j < 8) (hc : c ≤ 24) (hp : ∀ xs ys : Nat → Int32, postY (nI (dp_ct m c c)) (nI c, dp_mv m, cp, xs, ys, le)) :
    ∀ d k, k + d = c → ∀ xs ys : Nat → Int32, wY_maximal_4 postY (d + 1) (nI (dp_ct m c k)) (nI k) (nI c) (dp_mv m) cp xs ys le := by
  intro d
  induction d with
  | zero =>
    intro k hk xs ys
    obtain rfl : k = c := by omega
    exact pk_le k k (fun _ => hp xs ys) (fun q => absurd q (by omega))
  | succ d ih =>
    intro k hk xs ys
    have fb := dp_fb hm (show k ≤ c by omega)
    have f1 := fb.2.2 (by omega)
    have ir := ih (k + 1) (by omega)
    refine pk_le c k (fun q => absurd q (by omega)) (fun _ => ?_)
    refine yw_far hm hc (by omega) (fun xs ys => ?_)
    refine pk_le (dp_f m c k) k (fun q => absurd q (by omega)) (fun _ => pk_eq k 0 (fun z => ?_) (fun z => ?_))
    · refine nm_r (nI_1 _) (nm_r (nI_1 k) ?_)
      have := ir xs ys
      rw [dp_ct, if_neg (by subst z; simp only [dp_bf]; omega)] at this
      exact this
    · obtain ⟨j, rfl⟩ : ∃ j, k = j + 1 := ⟨k - 1, by omega⟩
      rw [nI_pred j]
      have fi := dp_fi hm (show j ≤ dp_f m c (j + 1) by omega) fb.2.1
      refine yw_str hm hc (by omega) fb.2.1 (fun r xs ys R => dl_01b R (fun nD => ?_) (fun D => ?_))
      · refine nm_r (nI_1 _) (nm_r (nI_1 (j + 1)) ?_)
        have := ir xs ys
        rw [dp_ct, if_neg (by simp only [dp_bf]; rw [fi] at nD; omega)] at this
        exact this
      · refine nm_r (nI_1 (j + 1)) ?_
        have := ir xs ys
        rw [dp_ct, if_pos (by simp only [dp_bf]; rw [fi] at D; omega)] at this
        exact this
end
theorem i_vc_pieces {k : Nat} {u : SX} {v : SY} (I : i_Rel k u v) (hk : k + 4 ≤ 2048) : wpX_pieces (fun r u' => wpY_pieces (fun r' v' => r' = r ∧ i_Rel (k + 4) u' v') v) u := by
  obtain ⟨m, c, g, cu, w, ge, cp, xs, ys, le, rfl, rfl, hm, hc, hcu⟩ := I
  unfold wpX_pieces wpY_pieces
  refine xc_cut (w := w) hm hc hcu (fun g w ge C => ?_)
  refine Exists.intro 25 (yp_lp hm hc (fun xs ys => And.intro C.1.symm (rl_k w hm hc (Or.inr ⟨rfl, C⟩))) 24 0 0 0 rfl (Or.inl ⟨rfl, rfl, Nat.zero_le _⟩) xs ys)
theorem i_vc_pieceEnd {k : Nat} {u : SX} {v : SY} (I : i_Rel k u v) (hk : k + 4 ≤ 2048) (v1 : Int32) : wpX_pieceEnd (fun r u' => wpY_pieceEnd (fun r' v' => r' = r ∧ i_Rel (k + 4) u' v') v v1) u v1 := by
  obtain ⟨m, c, g, cu, w, ge, cp, xs, ys, le, rfl, rfl, hm, hc, hcu⟩ := I
  unfold wpX_pieceEnd wpY_pieceEnd
  refine xc_cut (w := w) hm hc hcu (fun g w ge C => ?_)
  have P24 := (dp_gP hm hc).1
  have J : ∀ xs ys : Nat → Int32, i_Rel (k + 4) (xw_t (nI c) g 1 w (dp_mv m) ge) (nI c, dp_mv m, cp, xs, ys, le) := fun xs ys => rl_k w hm hc (Or.inr ⟨rfl, C⟩)
  have no : (∀ i, i < dp_n m c 0 c → ¬ nI i = v1) → ∃ n, wY_pieceEnd_4 (fun r' v' => r' = -1 ∧ i_Rel (k + 4) (xw_t (nI c) g 1 w (dp_mv m) ge) v') v1 n 0 0 (nI c) (dp_mv m) cp xs ys le :=
    fun h => Exists.intro 25 (ye_no hm hc h (fun xs ys => And.intro rfl (J xs ys)) 24 0 rfl (Nat.zero_le _) xs ys)
  refine br_c (fun a1 => no ?_) (fun a1 => br_c (fun a2 => no ?_) (fun a2 => ?_))
  · rintro i hi rfl
    exact nI_pos (by omega) a1
  · rintro i hi rfl
    rw [C.1] at a2
    exact nI_ge hi (by omega) a2
  · rw [C.1] at a2
    obtain ⟨i, hi, rfl⟩ := rl_in' P24 a1 a2
    refine And.intro (vp_in_nI (by omega) (by omega)) ?_
    rw [nI_clamp (by omega), C.2 i hi]
    exact Exists.intro 25 (ye_at hm hc hi (fun xs ys => And.intro rfl (J xs ys)) 24 0 rfl (Nat.zero_le _) xs ys)
theorem i_vc_fewest {k : Nat} {u : SX} {v : SY} (I : i_Rel k u v) (hk : k + 4 ≤ 2048) (v1 : Int32) (v2 : Int32) : wpX_fewest (fun r u' => wpY_fewest (fun r' v' => r' = r ∧ i_Rel (k + 4) u' v') v v1 v2) u v1 v2 := by
  obtain ⟨m, c, g, cu, w, ge, cp, xs, ys, le, rfl, rfl, hm, hc, hcu⟩ := I
  unfold wpX_fewest wpY_fewest
  have J : i_Rel (k + 4) (xw_t (nI c) g cu w (dp_mv m) ge) (nI c, dp_mv m, cp, xs, ys, le) := rl_k w hm hc hcu
  refine br_c (fun a1 => br_t a1 (And.intro rfl J)) (fun a1 => br_c (fun a2 => br_f a1 (br_t a2 (And.intro rfl J))) (fun a2 => br_c (fun a3 => ?_) (fun a3 => br_f a1 (br_f a2 (br_f a3 (And.intro rfl J))))))
  obtain ⟨s, e, hse, he, rfl, rfl⟩ := rl_se hc a1 a2 a3
  refine Exists.intro 25 (xw_lp hm hc (by omega) he (fun w' => ?_) 24 0 rfl (fun j hj => absurd hj (Nat.not_lt_zero j)) w)
  refine br_f a1 (br_f a2 (br_t a3 (Exists.intro (e + 1 - s + 1) (yw_21 hm hc hse he (fun xs ys le => And.intro rfl (rl_k w' hm hc hcu)) (e + 1 - s) s (by omega) (Nat.le_refl s) xs ys le (fun j a b => absurd b (by omega))))))
theorem i_vc_longest {k : Nat} {u : SX} {v : SY} (I : i_Rel k u v) (hk : k + 4 ≤ 2048) : wpX_longest (fun r u' => wpY_longest (fun r' v' => r' = r ∧ i_Rel (k + 4) u' v') v) u := by
  obtain ⟨m, c, g, cu, w, ge, cp, xs, ys, le, rfl, rfl, hm, hc, hcu⟩ := I
  unfold wpX_longest wpY_longest
  have e : dp_mx m c (c + 1) = dp_mx m c c := by
    have := dp_fb hm (Nat.le_refl c)
    rw [dp_mx, if_pos (by omega)]
  refine Exists.intro (c + 2) (xl_lp hm hc (fun w' => ?_) (c + 1) 0 (by omega) w)
  refine Exists.intro (c + 1) (yl_lp hm hc (fun xs ys => And.intro (by rw [e]) (rl_k w' hm hc hcu)) c 0 (by omega) xs ys)
theorem i_vc_maximal {k : Nat} {u : SX} {v : SY} (I : i_Rel k u v) (hk : k + 4 ≤ 2048) : wpX_maximal (fun r u' => wpY_maximal (fun r' v' => r' = r ∧ i_Rel (k + 4) u' v') v) u := by
  obtain ⟨m, c, g, cu, w, ge, cp, xs, ys, le, rfl, rfl, hm, hc, hcu⟩ := I
  unfold wpX_maximal wpY_maximal
  refine Exists.intro (c + 1) (xx_lp hm hc (fun w' => ?_) c 0 (by omega) w)
  exact Exists.intro (c + 1) (yx_lp hm hc (fun xs ys => And.intro rfl (rl_k w' hm hc hcu)) c 0 (by omega) xs ys)
end
