section
theorem pk_us {f : Nat → Int32} {k : Nat} {x : Int32} : upd f k x k = x := if_pos rfl
theorem pk_un {f : Nat → Int32} {k j : Nat} {x : Int32} (h : j ≠ k) : upd f k x j = f j := if_neg h
theorem pk_uLs {f : Nat → Int64} {k : Nat} {x : Int64} : vp_updL f k x k = x := if_pos rfl
theorem pk_uLn {f : Nat → Int64} {k j : Nat} {x : Int64} (h : j ≠ k) : vp_updL f k x j = f j := if_neg h
theorem pk_sub {a b : Nat} (h : b ≤ a) : nI a - nI b = nI (a - b) := by
  obtain ⟨c, rfl⟩ : ∃ c, a = c + b := ⟨a - b, by omega⟩
  rw [← nI_add, Int32.add_sub_cancel, Nat.add_sub_cancel]
theorem pk_m1 (n : Nat) : nI (n + 1) + (-1) = nI n := by
  rw [← nI_1, Int32.add_assoc, show (1 : Int32) + (-1) = 0 from rfl, Int32.add_zero]
theorem pk_mul (a b : Nat) : nI a * nI b = nI (a * b) := (Int32.ofNat_mul a b).symm
theorem pk_div {a d : Nat} (ha : a < 2 ^ 31) (h0 : 0 < d) (hd : d < 2 ^ 31) : nI a / nI d = nI (a / d) := by
  apply Int32.toInt_inj.mp
  rw [lg_idiv_nonneg (by rw [nI_toInt ha]; omega) (by rw [nI_toInt hd]; omega), nI_toInt ha, nI_toInt hd, nI_toInt (Nat.lt_of_le_of_lt (Nat.div_le_self a d) ha)]
  first | rfl | exact (Int.natCast_ediv _ _).symm
theorem pk_rem {a d : Nat} (ha : a < 2 ^ 31) (h0 : 0 < d) (hd : d < 2 ^ 31) : nI a - nI a / nI d * nI d = nI (a % d) := by
  rw [pk_div ha h0 hd, pk_mul, pk_sub (Nat.div_mul_le_self a d)]
  exact congrArg nI (by have := Nat.div_add_mod' a d; omega)
theorem pk_sub_toInt {a b : Nat} (ha : a < 2 ^ 30) (hb : b < 2 ^ 30) : (nI a - nI b).toInt = (a : Int) - b := by
  rw [Int32.toInt_sub, nI_toInt (by omega), nI_toInt (by omega)]
  exact Int.bmod_eq_of_le (by omega) (by omega)
theorem pk_sneg {a b : Nat} (hb : b < 2 ^ 30) (h : a < b) : nI a - nI b < 0 := by
  rw [Int32.lt_iff_toInt_lt, pk_sub_toInt (by omega) hb, show (0 : Int32).toInt = 0 from by decide]
  omega
theorem pk_ix (x : Int32) {n : Nat} (hn : n < 2 ^ 31) : x < 0 ∨ nI n ≤ x ∨ ∃ j : Nat, j < n ∧ x = nI j := by
  by_cases h : x < 0
  · exact Or.inl h
  · obtain ⟨j, hj, rfl⟩ := nI_of h
    by_cases h2 : j < n
    · exact Or.inr (Or.inr ⟨j, h2, rfl⟩)
    · exact Or.inr (Or.inl (nI_le (by omega) hj))
theorem pk_le {x y : Int32} {A B : Prop} (a b : Nat) (f : a ≤ b → A) (g : b < a → B) (hx : x = nI a := by rfl) (hy : y = nI b := by rfl) (ha : a < 2 ^ 31 := by omega) (hb : b < 2 ^ 31 := by omega) : (x ≤ y → A) ∧ (¬ x ≤ y → B) := by
  subst hx hy
  rw [nI_leI ha hb]
  exact ⟨f, fun z => g (by omega)⟩
theorem pk_lt {x y : Int32} {A B : Prop} (a b : Nat) (f : a < b → A) (g : b ≤ a → B) (hx : x = nI a := by rfl) (hy : y = nI b := by rfl) (ha : a < 2 ^ 31 := by omega) (hb : b < 2 ^ 31 := by omega) : (x < y → A) ∧ (¬ x < y → B) := by
  subst hx hy
  rw [nI_ltI ha hb]
  exact ⟨f, fun z => g (by omega)⟩
theorem pk_eq {x y : Int32} {A B : Prop} (a b : Nat) (f : a = b → A) (g : a ≠ b → B) (hx : x = nI a := by rfl) (hy : y = nI b := by rfl) (ha : a < 2 ^ 31 := by omega) (hb : b < 2 ^ 31 := by omega) : (x = y → A) ∧ (¬ x = y → B) := by
  subst hx hy
  rw [nI_eq ha hb]
  exact ⟨f, g⟩
theorem pk_in {x : Int32} (n N : Nat) (h : n < N) (hx : x = nI n := by rfl) (hN : N < 2 ^ 31 := by omega) : vp_in x N := by
  subst hx
  exact vp_in_nI h hN
theorem pk_cl {x : Int32} (n : Nat) (hx : x = nI n := by rfl) (h : n < 2 ^ 31 := by omega) : x.toNatClampNeg = n := by
  subst hx
  exact nI_clamp h
theorem pk_tn {n : Nat} (h : n < 2 ^ 32) : (nI n).toBitVec.toNat = n := Nat.mod_eq_of_lt h
theorem pk_and (x : Int32) {m : Int32} (k : Nat) (hm : m.toBitVec.toNat = 2 ^ k - 1) : x &&& m = nI (x.toBitVec.toNat % 2 ^ k) := by
  apply Int32.toBitVec_inj.mp
  apply BitVec.eq_of_toNat_eq
  rw [Int32.toBitVec_and, BitVec.toNat_and, hm, Nat.and_two_pow_sub_one_eq_mod]
  show _ = (BitVec.ofNat 32 _).toNat
  rw [BitVec.toNat_ofNat]
  exact (Nat.mod_eq_of_lt (Nat.lt_of_le_of_lt (Nat.mod_le _ _) x.toBitVec.isLt)).symm
theorem pk_andN {n : Nat} (h : n < 2 ^ 32) {m : Int32} (k : Nat) (hm : m.toBitVec.toNat = 2 ^ k - 1) : nI n &&& m = nI (n % 2 ^ k) := by
  rw [pk_and _ k hm, pk_tn h]
theorem pk_andE (x : Int32) {m : Int32} (k : Nat) (hm : m.toBitVec.toNat = 2 ^ k - 1) : ∃ j : Nat, j < 2 ^ k ∧ x &&& m = nI j := ⟨_, Nat.mod_lt _ (Nat.two_pow_pos k), pk_and x k hm⟩
theorem pk_andIn (x : Int32) {m : Int32} (k : Nat) (hm : m.toBitVec.toNat = 2 ^ k - 1) (hk : k ≤ 30) : vp_in (x &&& m) (2 ^ k) := by
  obtain ⟨j, hj, e⟩ := pk_andE x k hm
  rw [e]
  exact vp_in_nI hj (Nat.lt_of_le_of_lt (Nat.pow_le_pow_right (by decide) hk) (by decide))
theorem pk_shl (a s : Int32) (k : Nat) (hs : (s.toBitVec.smod 32).toNat = k) : (a <<< s).toBitVec.toNat = a.toBitVec.toNat * 2 ^ k % 2 ^ 32 := by
  show (a.toBitVec <<< (s.toBitVec.smod 32).toNat).toNat = _
  rw [hs, BitVec.toNat_shiftLeft, Nat.shiftLeft_eq]
theorem pk_shlN {n : Nat} (s : Int32) (k : Nat) (hs : (s.toBitVec.smod 32).toNat = k) (h : n * 2 ^ k < 2 ^ 32) : nI n <<< s = nI (n * 2 ^ k) := by
  apply Int32.toBitVec_inj.mp
  apply BitVec.eq_of_toNat_eq
  have hn : n < 2 ^ 32 := Nat.lt_of_le_of_lt (Nat.le_mul_of_pos_right n (Nat.two_pow_pos k)) h
  rw [pk_shl _ _ k hs, pk_tn hn, pk_tn h, Nat.mod_eq_of_lt h]
theorem pk_shr (a s : Int32) (k : Nat) (hs : (s.toBitVec.smod 32).toNat = k) : (a >>> s).toInt = a.toInt >>> k := by
  show (a.toBitVec.sshiftRight (s.toBitVec.smod 32).toNat).toInt = _
  rw [hs, BitVec.toInt_sshiftRight]
  rfl
theorem pk_shrN {n : Nat} (h : n < 2 ^ 31) (s : Int32) (k : Nat) (hs : (s.toBitVec.smod 32).toNat = k) : nI n >>> s = nI (n / 2 ^ k) := by
  apply Int32.toInt_inj.mp
  have h2 : n / 2 ^ k ≤ n := Nat.div_le_self _ _
  rw [pk_shr _ _ k hs, nI_toInt h, nI_toInt (by omega), Int.shiftRight_eq_div_pow]
  rfl
def rl_z (z : Int) : Int32 := Int32.ofInt z
theorem rl_za (a b : Int) : rl_z a + rl_z b = rl_z (a + b) := (Int32.ofInt_add a b).symm
theorem rl_zs (a b : Int) : rl_z a - rl_z b = rl_z (a - b) := (Int32.ofInt_sub a b).symm
theorem rl_zm (a b : Int) : rl_z a * rl_z b = rl_z (a * b) := (Int32.ofInt_mul a b).symm
theorem rl_zt {a : Int} (h : -2147483648 ≤ a ∧ a < 2147483648) : (rl_z a).toInt = a := Int32.toInt_ofInt_of_le (by omega) (by omega)
theorem rl_zn (n : Nat) : nI n = rl_z n := Int32.ofInt_eq_ofNat.symm
theorem rl_zof (x : Int32) : x = rl_z x.toInt := (Int32.ofInt_toInt x).symm
theorem rl_1 : (1 : Int32) = rl_z 1 := by decide
theorem rl_0 : (0 : Int32) = rl_z 0 := by decide
theorem rl_za1 (a : Int) : rl_z a + 1 = rl_z (a + 1) := by rw [rl_1, rl_za]
theorem rl_zs1 (a : Int) : rl_z a - 1 = rl_z (a - 1) := by rw [rl_1, rl_zs]
theorem rl_zle {a b : Int} (ha : -2147483648 ≤ a ∧ a < 2147483648) (hb : -2147483648 ≤ b ∧ b < 2147483648) : rl_z a ≤ rl_z b ↔ a ≤ b := by
  rw [Int32.le_iff_toInt_le, rl_zt ha, rl_zt hb]
theorem rl_zlt {a b : Int} (ha : -2147483648 ≤ a ∧ a < 2147483648) (hb : -2147483648 ≤ b ∧ b < 2147483648) : rl_z a < rl_z b ↔ a < b := by
  rw [Int32.lt_iff_toInt_lt, rl_zt ha, rl_zt hb]
theorem rl_zeq {a b : Int} (ha : -2147483648 ≤ a ∧ a < 2147483648) (hb : -2147483648 ≤ b ∧ b < 2147483648) : rl_z a = rl_z b ↔ a = b := by
  rw [← Int32.toInt_inj, rl_zt ha, rl_zt hb]
theorem rl_zdiv {a b : Int} (ha : 0 ≤ a ∧ a < 2147483648) (hb : 0 < b ∧ b < 2147483648) : rl_z a / rl_z b = rl_z (a / b) := by
  apply Int32.toInt_inj.mp
  have h1 : (rl_z a).toInt = a := rl_zt (by omega)
  have h2 : (rl_z b).toInt = b := rl_zt (by omega)
  have h3 : 0 ≤ a / b := Int.ediv_nonneg ha.1 (by omega)
  have h4 : a / b ≤ a := Int.ediv_le_self b ha.1
  rw [lg_idiv_nonneg (by omega) (by omega), h1, h2, rl_zt (by omega)]
theorem rl_le {x y : Int32} {A B : Prop} (a b : Int) (f : a ≤ b → A) (g : b < a → B) (hx : x = rl_z a := by first | rfl | assumption | decide) (hy : y = rl_z b := by first | rfl | assumption | decide) (ha : -2147483648 ≤ a ∧ a < 2147483648 := by omega) (hb : -2147483648 ≤ b ∧ b < 2147483648 := by omega) : (x ≤ y → A) ∧ (¬ x ≤ y → B) := by
  subst hx hy
  rw [rl_zle ha hb]
  exact ⟨f, fun z => g (by omega)⟩
theorem rl_lt {x y : Int32} {A B : Prop} (a b : Int) (f : a < b → A) (g : b ≤ a → B) (hx : x = rl_z a := by first | rfl | assumption | decide) (hy : y = rl_z b := by first | rfl | assumption | decide) (ha : -2147483648 ≤ a ∧ a < 2147483648 := by omega) (hb : -2147483648 ≤ b ∧ b < 2147483648 := by omega) : (x < y → A) ∧ (¬ x < y → B) := by
  subst hx hy
  rw [rl_zlt ha hb]
  exact ⟨f, fun z => g (by omega)⟩
/-- the bounds of a product whose second factor is small -/
theorem rl_mb {a b lo hi k : Int} (ha : lo ≤ a ∧ a ≤ hi) (hb : 0 ≤ b ∧ b ≤ k) (hlo : 0 ≤ lo) : 0 ≤ a * b ∧ a * b ≤ hi * k := by
  constructor
  · exact Int.mul_nonneg (by omega) hb.1
  · exact Int.mul_le_mul ha.2 hb.2 hb.1 (by omega)
/-- an index of a meter -/
theorem rl_cl {m : Nat} (h : m < 4) : (nI m).toNatClampNeg = m := nI_clamp (by omega)
theorem rl_in {m : Nat} (h : m < 4) : vp_in (nI m) 4 := vp_in_nI h (by omega)
theorem rl_i32 (m q : Nat) : nI m * 32 + nI q = nI (m * 32 + q) := by
  rw [show (32 : Int32) = nI 32 from rfl, pk_mul, nI_add]
theorem rl_i10 (m q : Nat) : nI m * 10 + nI q = nI (m * 10 + q) := by
  rw [show (10 : Int32) = nI 10 from rfl, pk_mul, nI_add]
theorem rl_m31 {q : Nat} (h : q < 1000) : nI q &&& 31 = nI (q % 32) := pk_andN (by omega) 5 (by decide)
/-- the checks of a meter and of a cost, on both sides -/
theorem rl_bad (p : Int32) : (∃ m : Nat, m < 4 ∧ p = nI m ∧ (∀ post : Int32 → Prop, post 0 → wpX_bad post p) ∧ (∀ (post : Int32 → Prop) (v : SY), post 0 → wpY_bad post v p)) ∨ ((∀ post : Int32 → Prop, post 1 → wpX_bad post p) ∧ (∀ (post : Int32 → Prop) (v : SY), post 1 → wpY_bad post v p)) := by
  by_cases h0 : p < 0
  · exact Or.inr ⟨fun post hp => br_t h0 hp, fun post v hp => by rcases v with ⟨N, K, R, B, S, V, Q, D, G, E⟩; exact br_t h0 hp⟩
  · obtain ⟨j, hj, rfl⟩ := nI_of h0
    by_cases h4 : j < 4
    · exact Or.inl ⟨j, h4, rfl, fun post hp => br_f h0 (br_t (nI_lt (b := 4) h4 (by decide)) hp), fun post v hp => by rcases v with ⟨N, K, R, B, S, V, Q, D, G, E⟩; exact br_f h0 (br_t (nI_le (b := 3) (by omega) (by decide)) hp)⟩
    · exact Or.inr ⟨fun post hp => br_f h0 (br_f (nI_nlt (b := 4) (by omega) hj) hp), fun post v hp => by rcases v with ⟨N, K, R, B, S, V, Q, D, G, E⟩; exact br_f h0 (br_f (nI_ge (a := 3) (by omega) hj) hp)⟩
theorem rl_badC (p : Int32) : (∃ c : Int, 1 ≤ c ∧ c ≤ 20 ∧ p = rl_z c ∧ (∀ post : Int32 → Prop, post 0 → wpX_badCost post p) ∧ (∀ (post : Int32 → Prop) (v : SY), post 0 → wpY_badCost post v p)) ∨ ((∀ post : Int32 → Prop, post 1 → wpX_badCost post p) ∧ (∀ (post : Int32 → Prop) (v : SY), post 1 → wpY_badCost post v p)) := by
  have b1 := p.le_toInt
  have b2 := p.toInt_lt
  have e1 : (1 : Int32).toInt = 1 := by decide
  have e20 : (20 : Int32).toInt = 20 := by decide
  by_cases h0 : p < 1
  · exact Or.inr ⟨fun post hp => br_t h0 hp, fun post v hp => by rcases v with ⟨N, K, R, B, S, V, Q, D, G, E⟩; exact br_t h0 hp⟩
  · by_cases h4 : p ≤ 20
    · refine Or.inl ⟨p.toInt, ?_, ?_, rl_zof p, fun post hp => br_f h0 (br_t h4 hp), fun post v hp => by rcases v with ⟨N, K, R, B, S, V, Q, D, G, E⟩; exact br_f h0 (br_t h4 hp)⟩
      · rw [Int32.lt_iff_toInt_lt, e1] at h0
        omega
      · rw [Int32.le_iff_toInt_le, e20] at h4
        exact h4
    · exact Or.inr ⟨fun post hp => br_f h0 (br_f h4 hp), fun post v hp => by rcases v with ⟨N, K, R, B, S, V, Q, D, G, E⟩; exact br_f h0 (br_f h4 hp)⟩
end
section
def rl_tot : List (Int × Int) → Int
  | [] => 0
  | e :: L => e.2 + rl_tot L
/-- the costs that still count w units from now -/
def rl_lg (n s w : Int) : List (Int × Int) → Int
  | [] => 0
  | e :: L => (if n + w < e.1 + s then e.2 else 0) + rl_lg n s w L
/-- the costs granted at one time -/
def rl_at (a : Int) : List (Int × Int) → Int
  | [] => 0
  | e :: L => (if e.1 = a then e.2 else 0) + rl_at a L
def rl_pa (n s w i : Int) : List (Int × Int) → Int
  | [] => 0
  | e :: L => (if n - i < e.1 ∧ n + w < e.1 + s then e.2 else 0) + rl_pa n s w i L
def rl_srt (n : Int) : List (Int × Int) → Prop
  | [] => True
  | e :: L => (0 ≤ e.1 ∧ e.1 ≤ n ∧ 1 ≤ e.2) ∧ (∀ q, q ∈ L → e.1 ≤ q.1) ∧ rl_srt n L
def rl_fr (n s : Int) (L : List (Int × Int)) : Prop := ∀ q, q ∈ L → n < q.1 + s
theorem rl_totL {n : Int} {L : List (Int × Int)} (h : rl_srt n L) : (L.length : Int) ≤ rl_tot L := by
  induction L with
  | nil => exact Int.le_refl 0
  | cons e L ih =>
    simp only [rl_srt] at h
    have i := ih h.2.2
    have c := h.1.2.2
    simp only [rl_tot, List.length_cons]
    omega
theorem rl_tot0 {n : Int} {L : List (Int × Int)} (h : rl_srt n L) : 0 ≤ rl_tot L := by
  have := rl_totL h
  omega
theorem rl_srtM {n n' : Int} {L : List (Int × Int)} (hn : n ≤ n') (h : rl_srt n L) : rl_srt n' L := by
  induction L with
  | nil => trivial
  | cons e L ih =>
    simp only [rl_srt] at h ⊢
    exact ⟨⟨h.1.1, by omega, h.1.2.2⟩, h.2.1, ih h.2.2⟩
theorem rl_srtA {n c : Int} {L : List (Int × Int)} (hn : 0 ≤ n) (hc : 1 ≤ c) (h : rl_srt n L) : rl_srt n (L ++ [(n, c)]) := by
  induction L with
  | nil =>
    simp only [List.nil_append, rl_srt]
    exact ⟨⟨hn, Int.le_refl n, hc⟩, fun q hq => by simp at hq, trivial⟩
  | cons e L ih =>
    simp only [rl_srt] at h
    simp only [List.cons_append, rl_srt]
    refine ⟨h.1, fun q hq => ?_, ih h.2.2⟩
    rcases List.mem_append.mp hq with h1 | h1
    · exact h.2.1 q h1
    · have e1 : q = (n, c) := by simpa using h1
      rw [e1]
      exact h.1.2.1
theorem rl_totA (t c : Int) (L : List (Int × Int)) : rl_tot (L ++ [(t, c)]) = rl_tot L + c := by
  induction L with
  | nil => simp only [List.nil_append, rl_tot]; omega
  | cons e L ih => simp only [List.cons_append, rl_tot, ih]; omega
theorem rl_atA (a t c : Int) (L : List (Int × Int)) : rl_at a (L ++ [(t, c)]) = rl_at a L + (if t = a then c else 0) := by
  induction L with
  | nil => simp only [List.nil_append, rl_at]; omega
  | cons e L ih => simp only [List.cons_append, rl_at, ih]; omega
theorem rl_atZ {n a : Int} {L : List (Int × Int)} (h : rl_srt n L) (ha : n < a) : rl_at a L = 0 := by
  induction L with
  | nil => rfl
  | cons e L ih =>
    simp only [rl_srt] at h
    simp only [rl_at, ih h.2.2]
    rw [if_neg (by omega)]
    rfl
theorem rl_atB {n a : Int} {L : List (Int × Int)} (h : rl_srt n L) : 0 ≤ rl_at a L ∧ rl_at a L ≤ rl_tot L := by
  induction L with
  | nil => exact ⟨Int.le_refl 0, Int.le_refl 0⟩
  | cons e L ih =>
    simp only [rl_srt] at h
    have i := ih h.2.2
    simp only [rl_at, rl_tot]
    split <;> omega
theorem rl_lgB {n n' s w : Int} {L : List (Int × Int)} (h : rl_srt n' L) : 0 ≤ rl_lg n s w L ∧ rl_lg n s w L ≤ rl_tot L := by
  induction L with
  | nil => exact ⟨Int.le_refl 0, Int.le_refl 0⟩
  | cons e L ih =>
    simp only [rl_srt] at h
    have i := ih h.2.2
    simp only [rl_lg, rl_tot]
    split <;> omega
theorem rl_paB {n n' s w i : Int} {L : List (Int × Int)} (h : rl_srt n' L) : 0 ≤ rl_pa n s w i L ∧ rl_pa n s w i L ≤ rl_tot L := by
  induction L with
  | nil => exact ⟨Int.le_refl 0, Int.le_refl 0⟩
  | cons e L ih =>
    simp only [rl_srt] at h
    have i := ih h.2.2
    simp only [rl_pa, rl_tot]
    split <;> omega
theorem rl_pa0 {n s w : Int} {L : List (Int × Int)} (h : rl_srt n L) : rl_pa n s w 0 L = 0 := by
  induction L with
  | nil => rfl
  | cons e L ih =>
    simp only [rl_srt] at h
    simp only [rl_pa, ih h.2.2]
    rw [if_neg (by omega)]
    rfl
theorem rl_paT {n s w : Int} {L : List (Int × Int)} (hs : s ≤ 10) (hw : 0 ≤ w) : rl_pa n s w 10 L = rl_lg n s w L := by
  induction L with
  | nil => rfl
  | cons e L ih =>
    simp only [rl_pa, rl_lg, ih]
    by_cases hc : n + w < e.1 + s
    · rw [if_pos hc, if_pos ⟨by omega, hc⟩]
    · rw [if_neg hc, if_neg (fun z => hc z.2)]
theorem rl_paN {n s w i : Int} {L : List (Int × Int)} (hi : s ≤ i + w) : rl_pa n s w (i + 1) L = rl_pa n s w i L := by
  induction L with
  | nil => rfl
  | cons e L ih =>
    simp only [rl_pa, ih]
    by_cases hc : n - i < e.1 ∧ n + w < e.1 + s
    · rw [if_pos hc, if_pos ⟨by omega, hc.2⟩]
    · rw [if_neg hc, if_neg (by omega)]
theorem rl_paY {n s w i : Int} {L : List (Int × Int)} (hi : i + w < s) : rl_pa n s w (i + 1) L = rl_pa n s w i L + rl_at (n - i) L := by
  induction L with
  | nil => rfl
  | cons e L ih =>
    simp only [rl_pa, rl_at, ih]
    by_cases h1 : e.1 = n - i
    · rw [if_pos h1, if_pos ⟨by omega, by omega⟩, if_neg (by omega)]
      omega
    · by_cases hc : n - i < e.1 ∧ n + w < e.1 + s
      · rw [if_neg h1, if_pos hc, if_pos ⟨by omega, hc.2⟩]
        omega
      · rw [if_neg h1, if_neg hc, if_neg (by omega)]
        omega
theorem rl_lgA {n s w a : Int} {L : List (Int × Int)} (h : ∀ q, q ∈ L → a ≤ q.1) (hw : n + w < a + s) : rl_lg n s w L = rl_tot L := by
  induction L with
  | nil => rfl
  | cons e L ih =>
    have i := ih (fun q hq => h q (List.mem_cons.mpr (Or.inr hq)))
    have c := h e (List.mem_cons.mpr (Or.inl rfl))
    simp only [rl_lg, rl_tot, i]
    rw [if_pos (by omega)]
theorem rl_lgF {n s : Int} {L : List (Int × Int)} (h : rl_fr n s L) : rl_lg n s 0 L = rl_tot L :=
  rl_lgA (a := n - s + 1) (fun q hq => by have := h q hq; omega) (by omega)
/-- the wait of a log -/
def rl_lw (n s : Int) : List (Int × Int) → Int → Int → Int
  | [], _, w => w
  | e :: L, o, w => if o ≤ 0 then w else rl_lw n s L (o - e.2) (e.1 + s - n)
theorem rl_lwZ {n s o w : Int} {L : List (Int × Int)} (h : o ≤ 0) : rl_lw n s L o w = w := by
  cases L with
  | nil => rfl
  | cons e L => simp only [rl_lw, if_pos h]
theorem rl_lwL {n s : Int} : ∀ (L : List (Int × Int)) (o w : Int), rl_srt n L → 0 < o → o ≤ rl_tot L → (∃ e, e ∈ L ∧ rl_lw n s L o w = e.1 + s - n) ∧ o ≤ rl_tot L - rl_lg n s (rl_lw n s L o w) L ∧ ∀ w', w' < rl_lw n s L o w → rl_tot L - rl_lg n s w' L < o := by
  intro L
  induction L with
  | nil =>
    intro o w _ h0 h1
    simp only [rl_tot] at h1
    omega
  | cons e L ih =>
    intro o w hs h0 h1
    simp only [rl_srt] at hs
    obtain ⟨⟨he0, hen, hec⟩, hq, hs'⟩ := hs
    have hu : rl_lw n s (e :: L) o w = rl_lw n s L (o - e.2) (e.1 + s - n) := by
      simp only [rl_lw]
      rw [if_neg (by omega)]
    simp only [rl_tot] at h1
    by_cases hc : o - e.2 ≤ 0
    · rw [hu, rl_lwZ hc]
      refine ⟨⟨e, List.mem_cons.mpr (Or.inl rfl), rfl⟩, ?_, ?_⟩
      · have b := (rl_lgB (n := n) (w := e.1 + s - n) (s := s) hs').2
        simp only [rl_tot, rl_lg]
        rw [if_neg (by omega)]
        omega
      · intro w' hw'
        have b := rl_lgA (n := n) (s := s) (w := w') (a := e.1) hq (by omega)
        simp only [rl_tot, rl_lg, b]
        rw [if_pos (by omega)]
        omega
    · obtain ⟨⟨e', he', hw⟩, h2, h3⟩ := ih (o - e.2) (e.1 + s - n) hs' (by omega) (by omega)
      rw [hu]
      have hle := hq e' he'
      refine ⟨⟨e', List.mem_cons.mpr (Or.inr he'), hw⟩, ?_, ?_⟩
      · simp only [rl_tot, rl_lg]
        rw [if_neg (by omega)]
        omega
      · intro w' hw'
        have h4 := h3 w' hw'
        simp only [rl_tot, rl_lg]
        split <;> omega
/-- the ring of a log -/
def rl_ring (m : Nat) (A C : Nat → Int32) : Nat → List (Int × Int) → Prop
  | _, [] => True
  | h, e :: L => (A (m * 32 + h % 32) = rl_z e.1 ∧ C (m * 32 + h % 32) = rl_z e.2) ∧ rl_ring m A C (h + 1) L
theorem rl_ringM {m : Nat} {A C : Nat → Int32} : ∀ (L : List (Int × Int)) (h h' : Nat), h % 32 = h' % 32 → rl_ring m A C h L → rl_ring m A C h' L := by
  intro L
  induction L with
  | nil => intro _ _ _ _; trivial
  | cons e L ih =>
    intro h h' eh hr
    simp only [rl_ring] at hr ⊢
    rw [← eh]
    exact ⟨hr.1, ih (h + 1) (h' + 1) (by omega) hr.2⟩
theorem rl_ringF {m : Nat} {A C A' C' : Nat → Int32} (ha : ∀ q, q < 32 → A' (m * 32 + q) = A (m * 32 + q)) (hc : ∀ q, q < 32 → C' (m * 32 + q) = C (m * 32 + q)) : ∀ (L : List (Int × Int)) (h : Nat), rl_ring m A C h L → rl_ring m A' C' h L := by
  intro L
  induction L with
  | nil => intro _ _; trivial
  | cons e L ih =>
    intro h hr
    simp only [rl_ring] at hr ⊢
    rw [ha _ (Nat.mod_lt _ (by decide)), hc _ (Nat.mod_lt _ (by decide))]
    exact ⟨hr.1, ih (h + 1) hr.2⟩
theorem rl_ringA {m : Nat} {A C : Nat → Int32} (t c : Int) : ∀ (L : List (Int × Int)) (h p : Nat), L.length < 32 → p = m * 32 + (h + L.length) % 32 → rl_ring m A C h L → rl_ring m (upd A p (rl_z t)) (upd C p (rl_z c)) h (L ++ [(t, c)]) := by
  intro L
  induction L with
  | nil =>
    intro h p _ hp _
    have e : m * 32 + h % 32 = p := by rw [hp]; rfl
    simp only [List.nil_append, rl_ring]
    rw [e]
    exact ⟨⟨pk_us, pk_us⟩, trivial⟩
  | cons e L ih =>
    intro h p hl hp hr
    simp only [List.length_cons] at hl hp
    simp only [rl_ring] at hr
    simp only [List.cons_append, rl_ring]
    have hne : m * 32 + h % 32 ≠ p := by omega
    rw [pk_un hne, pk_un hne]
    exact ⟨hr.1, ih (h + 1) p (by omega) (by omega) hr.2⟩
/-- whether an ask would be granted w units from now -/
def rl_wd (k : Int32) (n r b s d y : Int) (L : List (Int × Int)) (c w : Int) : Prop :=
  (k = 0 → c ≤ min b (y + r * w)) ∧ (¬ k = 0 → (k = 1 → rl_lg n s w L + c ≤ b) ∧ (¬ k = 1 → max d (n + w) + c * s - (n + w) ≤ b * s))
theorem rl_wd0 {k : Int32} {n r b s d y : Int} {L : List (Int × Int)} {c w : Int} (h : k = 0) : rl_wd k n r b s d y L c w ↔ c ≤ min b (y + r * w) :=
  ⟨fun z => z.1 h, fun z => ⟨fun _ => z, fun q => absurd h q⟩⟩
theorem rl_wd1 {k : Int32} {n r b s d y : Int} {L : List (Int × Int)} {c w : Int} (h0 : ¬ k = 0) (h : k = 1) : rl_wd k n r b s d y L c w ↔ rl_lg n s w L + c ≤ b :=
  ⟨fun z => (z.2 h0).1 h, fun z => ⟨fun q => absurd q h0, fun _ => ⟨fun _ => z, fun q => absurd h q⟩⟩⟩
theorem rl_wd2 {k : Int32} {n r b s d y : Int} {L : List (Int × Int)} {c w : Int} (h0 : ¬ k = 0) (h : ¬ k = 1) : rl_wd k n r b s d y L c w ↔ max d (n + w) + c * s - (n + w) ≤ b * s :=
  ⟨fun z => (z.2 h0).2 h, fun z => ⟨fun q => absurd q h0, fun _ => ⟨fun q => absurd q h, fun _ => z⟩⟩⟩
end
section
/-- what is known of one meter's numbers -/
def rl_V (n r b s d x f y : Int) (h : Nat) (L : List (Int × Int)) : Prop :=
  ((1 ≤ r ∧ r ≤ 5) ∧ (1 ≤ b ∧ b ≤ 30) ∧ (1 ≤ s ∧ s ≤ 10)) ∧ (-1000000 ≤ d ∧ d ≤ n + b * s) ∧ ((0 ≤ x ∧ x ≤ b) ∧ (0 ≤ f ∧ f ≤ n) ∧ y = min b (x + r * (n - f))) ∧ h < 32 ∧ rl_srt n L ∧ rl_tot L ≤ b
/-- meter m of both states, with its numbers and its log -/
def rl_W (m : Nat) (n : Int) (u : SX) (v : SY) (r b s d x f y : Int) (h : Nat) (L : List (Int × Int)) : Prop :=
  match u, v with
  | (N, K, R, B, S, G, E, T, F, D, H, Z, U, A, C), (N', K', R', B', S', V', Q', D', G', E') => rl_V n r b s d x f y h L ∧ (R m = rl_z r ∧ B m = rl_z b ∧ S m = rl_z s ∧ D m = rl_z d) ∧ (T m = rl_z x ∧ F m = rl_z f ∧ H m = nI h ∧ Z m = nI L.length ∧ U m = rl_z (rl_tot L)) ∧ rl_ring m A C h L ∧ V' m = rl_z y ∧ (∀ i : Nat, i < 10 → (i : Int) < s → Q' (m * 10 + i) = rl_z (rl_at (n - i) L))
def rl_P (m : Nat) (n : Int) (u : SX) (v : SY) : Prop := ∃ (r b s d x f y : Int) (h : Nat) (L : List (Int × Int)), rl_W m n u v r b s d x f y h L
/-- meter m is up to now and would grant c -/
def rl_G (c : Int) (m : Nat) (n : Int) (u : SX) (v : SY) : Prop := ∃ (r b s d y : Int) (h : Nat) (L : List (Int × Int)), rl_W m n u v r b s d y n y h L ∧ rl_fr n s L ∧ rl_wd (u.2.1 m) n r b s d y L c 0
/-- what both sides keep alike -/
def rl_Sh (n : Int) (u : SX) (v : SY) : Prop :=
  match u, v with
  | (N, K, R, B, S, G, E, T, F, D, H, Z, U, A, C), (N', K', R', B', S', V', Q', D', G', E') => N = rl_z n ∧ N' = rl_z n ∧ K = K' ∧ R = R' ∧ B = B' ∧ S = S' ∧ D = D' ∧ G = G' ∧ E = E'
def rl_Sm (j : Nat) (u u' : SX) : Prop :=
  match u, u' with
  | (N, K, R, B, S, G, E, T, F, D, H, Z, U, A, C), (N', K', R', B', S', G', E', T', F', D', H', Z', U', A', C') => (K' j = K j ∧ R' j = R j ∧ B' j = B j ∧ S' j = S j ∧ D' j = D j) ∧ (T' j = T j ∧ F' j = F j ∧ H' j = H j ∧ Z' j = Z j ∧ U' j = U j) ∧ (∀ q, q < 32 → A' (j * 32 + q) = A (j * 32 + q)) ∧ (∀ q, q < 32 → C' (j * 32 + q) = C (j * 32 + q))
def rl_Sn (j : Nat) (v v' : SY) : Prop :=
  match v, v' with
  | (N, K, R, B, S, V, Q, D, G, E), (N', K', R', B', S', V', Q', D', G', E') => V' j = V j ∧ ∀ q, q < 10 → Q' (j * 10 + q) = Q (j * 10 + q)
theorem rl_SmR (j : Nat) (u : SX) : rl_Sm j u u := by
  obtain ⟨N, K, R, B, S, G, E, T, F, D, H, Z, U, A, C⟩ := u
  exact And.intro ⟨rfl, rfl, rfl, rfl, rfl⟩ ⟨⟨rfl, rfl, rfl, rfl, rfl⟩, fun _ _ => rfl, fun _ _ => rfl⟩
theorem rl_SnR (j : Nat) (v : SY) : rl_Sn j v v := by
  obtain ⟨N, K, R, B, S, V, Q, D, G, E⟩ := v
  exact And.intro rfl fun _ _ => rfl
theorem rl_Wf {j : Nat} {n : Int} {u u' : SX} {v v' : SY} {r b s d x f y : Int} {h : Nat} {L : List (Int × Int)} (hu : rl_Sm j u u') (hv : rl_Sn j v v') (hW : rl_W j n u v r b s d x f y h L) : rl_W j n u' v' r b s d x f y h L := by
  obtain ⟨N, K, R, B, S, G, E, T, F, D, H, Z, U, A, C⟩ := u
  obtain ⟨N1, K1, R1, B1, S1, G1, E1, T1, F1, D1, H1, Z1, U1, A1, C1⟩ := u'
  obtain ⟨M, k, r', b', s', V, Q, d', g, e⟩ := v
  obtain ⟨M1, k1, r1, b1, s1, V1, Q1, d1, g1, e1⟩ := v'
  obtain ⟨⟨_, hR, hB, hS, hD⟩, ⟨hT, hF, hH, hZ, hU⟩, hA, hC⟩ := hu
  obtain ⟨hV, hQ⟩ := hv
  obtain ⟨w0, ⟨w1, w2, w3, w4⟩, ⟨w5, w6, w7, w8, w9⟩, w10, w11, w12⟩ := hW
  exact And.intro w0 ⟨⟨hR.trans w1, hB.trans w2, hS.trans w3, hD.trans w4⟩, ⟨hT.trans w5, hF.trans w6, hH.trans w7, hZ.trans w8, hU.trans w9⟩, rl_ringF hA hC _ _ w10, hV.trans w11, fun i hi his => (hQ i hi).trans (w12 i hi his)⟩
theorem rl_Pf {j : Nat} {n : Int} {u u' : SX} {v v' : SY} (hu : rl_Sm j u u') (hv : rl_Sn j v v') (hP : rl_P j n u v) : rl_P j n u' v' := by
  obtain ⟨r, b, s, d, x, f, y, h, L, hW⟩ := hP
  exact ⟨r, b, s, d, x, f, y, h, L, rl_Wf hu hv hW⟩
theorem rl_SmK {j : Nat} {u u' : SX} (hu : rl_Sm j u u') : u'.2.1 j = u.2.1 j := by
  obtain ⟨N, K, R, B, S, G, E, T, F, D, H, Z, U, A, C⟩ := u
  obtain ⟨N1, K1, R1, B1, S1, G1, E1, T1, F1, D1, H1, Z1, U1, A1, C1⟩ := u'
  exact hu.1.1
theorem rl_Gf {c : Int} {j : Nat} {n : Int} {u u' : SX} {v v' : SY} (hu : rl_Sm j u u') (hv : rl_Sn j v v') (hG : rl_G c j n u v) : rl_G c j n u' v' := by
  obtain ⟨r, b, s, d, y, h, L, hW, hf, hw⟩ := hG
  refine ⟨r, b, s, d, y, h, L, rl_Wf hu hv hW, hf, ?_⟩
  rw [rl_SmK hu]
  exact hw
def i_Rel (k : Nat) (u : SX) (v : SY) : Prop := ∃ n : Int, (0 ≤ n ∧ n ≤ 100000) ∧ rl_Sh n u v ∧ ∀ m, m < 4 → rl_P m n u v
theorem i_up {k : Nat} {u : SX} {v : SY} (h : i_Rel k u v) : i_Rel (k + 4) u v := h
end
section
theorem rl_yTok {post : Int32 → Prop} {N : Int32} {K R B S V Q D G E : Nat → Int32} {m : Nat} {r b y w : Int} (hm : m < 4) (hR : R m = rl_z r) (hB : B m = rl_z b) (hV : V m = rl_z y) (hr : 1 ≤ r ∧ r ≤ 5) (hb : 1 ≤ b ∧ b ≤ 30) (hy : 0 ≤ y ∧ y ≤ b) (hw : 0 ≤ w ∧ w ≤ 1000) (hp : post (rl_z (min b (y + r * w)))) : wpY_tokensIn post (N, K, R, B, S, V, Q, D, G, E) (nI m) (rl_z w) := by
  have key : ∀ (k : Nat) (i : Int), 0 ≤ i → i + k = w → wY_tokensIn_10 post (nI m) (rl_z w) N K R B S V Q D G E (k + 1) (rl_z (min b (y + r * i))) (rl_z i) := by
    intro k
    induction k with
    | zero =>
      intro i h0 hi
      have e : i = w := by omega
      rw [e]
      exact br_t ((rl_zle (by omega) (by omega)).mpr (Int.le_refl _)) hp
    | succ k ih =>
      intro i h0 hi
      have hri : 0 ≤ r * i := Int.mul_nonneg (by omega) h0
      have e1 : r * (i + 1) = r * i + r := by rw [Int.mul_add, Int.mul_one]
      have k1 := ih (i + 1) (by omega) (by omega)
      rw [e1] at k1
      refine rl_le w i (fun h => absurd h (by omega)) (fun _ => And.intro (rl_in hm) (And.intro (rl_in hm) ?_))
      rw [rl_cl hm, hR, hB, rl_za (min b (y + r * i)) r]
      generalize r * i = p at *
      refine rl_le (min b (y + p) + r) b (fun h => And.intro (rl_in hm) (nm_r (e' := rl_z (min b (y + (p + r)))) (congrArg rl_z (by omega)) (nm_r (e' := rl_z (i + 1)) (rl_za1 i) k1))) (fun h => And.intro (rl_in hm) (nm_r (e' := rl_z (min b (y + (p + r)))) (congrArg rl_z (by omega)) (nm_r (e' := rl_z (i + 1)) (rl_za1 i) k1)))
  have k0 := key w.toNat 0 (Int.le_refl 0) (by omega)
  rw [Int.mul_zero, show min b (y + 0) = y by omega] at k0
  refine And.intro (rl_in hm) ?_
  rw [rl_cl hm, hV]
  exact nm_e ⟨_, k0⟩
theorem rl_yLog {post : Int32 → Prop} {N : Int32} {K R B S V Q D G E : Nat → Int32} {m : Nat} {n s w : Int} {L : List (Int × Int)} (hm : m < 4) (hS : S m = rl_z s) (hs : 1 ≤ s ∧ s ≤ 10) (hw : 0 ≤ w ∧ w ≤ 1000) (hL : rl_srt n L) (ht : rl_tot L ≤ 30) (hQ : ∀ i : Nat, i < 10 → (i : Int) < s → Q (m * 10 + i) = rl_z (rl_at (n - i) L)) (hp : post (rl_z (rl_lg n s w L))) : wpY_loggedIn post (N, K, R, B, S, V, Q, D, G, E) (nI m) (rl_z w) := by
  have key : ∀ (k i : Nat), i + k = 10 → wY_loggedIn_5 post (nI m) (rl_z w) N K R B S V Q D G E (k + 1) (rl_z (rl_pa n s w i L)) (nI i) := by
    intro k
    induction k with
    | zero =>
      intro i hi
      have e : i = 10 := by omega
      have e2 : rl_pa n s w i L = rl_lg n s w L := by
        rw [e]
        exact rl_paT hs.2 hw.1
      rw [e2, e]
      exact br_t (nI_le (a := 10) (b := 10) (Nat.le_refl _) (by decide)) hp
    | succ k ih =>
      intro i hi
      have e2 : ((i + 1 : Nat) : Int) = (i : Int) + 1 := by omega
      have k1 := ih (i + 1) (by omega)
      have e3 : nI i + rl_z w = rl_z (i + w) := by rw [rl_zn, rl_za]
      rw [e2] at k1
      refine pk_le 10 i (fun h => absurd h (by omega)) (fun _ => And.intro (rl_in hm) ?_)
      rw [rl_cl hm, hS, e3, rl_i10, nI_clamp (by omega)]
      refine rl_le s (i + w) (fun h => ?_) (fun h => And.intro (vp_in_nI (by omega) (by omega)) ?_)
      · rw [rl_paN h] at k1
        exact nm_r (e' := nI (i + 1)) (nI_1 i) k1
      · rw [rl_paY h] at k1
        rw [hQ i (by omega) (by omega), rl_za]
        exact nm_e (nm_r (e' := nI (i + 1)) (nI_1 i) k1)
  have k0 := key 10 0 rfl
  have e0 : rl_pa n s w ((0 : Nat) : Int) L = 0 := rl_pa0 hL
  rw [e0] at k0
  exact ⟨_, k0⟩
theorem rl_y0 {n r b s d x f y : Int} {h : Nat} {L : List (Int × Int)} (hV : rl_V n r b s d x f y h L) : 0 ≤ y ∧ y ≤ b := by
  obtain ⟨⟨hr, hb, hs⟩, hd, ⟨hx, hf, hy⟩, hh, hL, ht⟩ := hV
  have := Int.mul_nonneg (a := r) (b := n - f) (by omega) (by omega)
  omega
theorem rl_yWd {post : Int32 → Prop} {K R B S G E T F D H Z U A C V Q : Nat → Int32} {m : Nat} {n r b s d x f y : Int} {h : Nat} {L : List (Int × Int)} {c w : Int} (hm : m < 4) (hn : 0 ≤ n ∧ n ≤ 100000) (hW : rl_W m n (rl_z n, K, R, B, S, G, E, T, F, D, H, Z, U, A, C) (rl_z n, K, R, B, S, V, Q, D, G, E) r b s d x f y h L) (hc : 1 ≤ c ∧ c ≤ 20) (hw : 0 ≤ w ∧ w ≤ 1000) (h1 : rl_wd (K m) n r b s d y L c w → post 1) (h0 : ¬ rl_wd (K m) n r b s d y L c w → post 0) : wpY_would post (rl_z n, K, R, B, S, V, Q, D, G, E) (nI m) (rl_z c) (rl_z w) := by
  obtain ⟨hV0, ⟨hR, hB, hS, hD⟩, _, _, hV, hQ⟩ := hW
  have y0 := rl_y0 hV0
  obtain ⟨⟨hr, hb, hs⟩, hd, ⟨hx, hf, hy⟩, hh, hL, ht⟩ := hV0
  have cs := rl_mb (lo := 1) (hi := 20) (k := 10) (a := c) (b := s) hc (by omega) (by omega)
  have bs := rl_mb (lo := 1) (hi := 30) (k := 10) (a := b) (b := s) hb (by omega) (by omega)
  have rw0 := rl_mb (lo := 1) (hi := 5) (k := 1000) (a := r) (b := w) hr hw (by omega)
  refine And.intro (rl_in hm) ?_
  rw [rl_cl hm]
  refine br_c (fun hk => ?_) (fun hk => And.intro (rl_in hm) (br_c (fun hk1 => ?_) (fun hk1 => ?_)))
  · rw [rl_wd0 hk] at h1 h0
    refine rl_yTok hm hR hB hV hr hb y0 hw ?_
    generalize r * w = p at *
    exact rl_lt (min b (y + p)) c (fun z => h0 (by omega)) (fun z => h1 z)
  · rw [rl_wd1 hk hk1] at h1 h0
    refine rl_yLog hm hS hs hw hL (by omega) hQ ?_
    have lb := rl_lgB (n := n) (s := s) (w := w) hL
    refine And.intro (rl_in hm) ?_
    rw [hB, rl_za]
    exact rl_lt b (rl_lg n s w L + c) (fun z => h0 (by omega)) (fun z => h1 z)
  · rw [rl_wd2 hk hk1] at h1 h0
    refine nm_r (e' := rl_z (n + w)) (rl_za n w) (And.intro (rl_in hm) ?_)
    rw [hD]
    have k88 : ∀ z : Int, z = max d (n + w) → wY_would_88 post (nI m) (rl_z c) (rl_z (n + w)) (rl_z z) (rl_z n) K R B S V Q D G E := by
      intro z hz
      refine And.intro (rl_in hm) (And.intro (rl_in hm) (And.intro (rl_in hm) ?_))
      rw [rl_cl hm, hB, hS, rl_zm b s, rl_zm c s, rl_za, rl_zs]
      exact rl_lt (b * s) (z + c * s - (n + w)) (fun z => h0 (by omega)) (fun z => h1 (by omega))
    exact rl_le d (n + w) (fun z => k88 _ (by omega)) (fun z => And.intro (rl_in hm) (k88 _ (by omega)))
end
section
section
variable {post : Int32 → Prop} {K R B S G E T F D H Z U A C V Q : Nat → Int32} {m : Nat} {n r b s d x f y : Int} {h : Nat} {L : List (Int × Int)}
theorem rl_n10 : ¬ (1 : Int32) = 0 := by decide
theorem rl_yW1 {c w : Int} (hm : m < 4) (hn : 0 ≤ n ∧ n ≤ 100000) (hW : rl_W m n (rl_z n, K, R, B, S, G, E, T, F, D, H, Z, U, A, C) (rl_z n, K, R, B, S, V, Q, D, G, E) r b s d x f y h L) (hc : 1 ≤ c ∧ c ≤ 20) (hw : 0 ≤ w ∧ w ≤ 300) (h1 : rl_wd (K m) n r b s d y L c w) (h0 : ∀ i : Int, 0 ≤ i → i < w → ¬ rl_wd (K m) n r b s d y L c i) (hp : post (rl_z w)) : ∃ q, wY_waitFor_23 post (nI m) (rl_z c) (rl_z n) K R B S V Q D G E q 0 := by
  have key : ∀ (k : Nat) (i : Int), 0 ≤ i → i + k = w → wY_waitFor_23 post (nI m) (rl_z c) (rl_z n) K R B S V Q D G E (k + 1) (rl_z i) := by
    intro k
    induction k with
    | zero =>
      intro i hi hk
      have e : i = w := by omega
      rw [e]
      exact rl_lt 300 w (fun z => absurd z (by omega)) (fun _ => rl_yWd hm hn hW hc (by omega) (fun _ => br_f rl_n10 hp) (fun z => absurd h1 z))
    | succ k ih =>
      intro i hi hk
      exact rl_lt 300 i (fun z => absurd z (by omega)) (fun _ => rl_yWd hm hn hW hc (by omega) (fun z => absurd z (h0 i hi (by omega))) (fun _ => br_t rfl (nm_r (e' := rl_z (i + 1)) (rl_za1 i) (ih (i + 1) (by omega) (by omega)))))
  have k0 := key w.toNat 0 (Int.le_refl 0) (by omega)
  exact ⟨_, k0⟩
theorem rl_yW0 {c : Int} (hm : m < 4) (hn : 0 ≤ n ∧ n ≤ 100000) (hW : rl_W m n (rl_z n, K, R, B, S, G, E, T, F, D, H, Z, U, A, C) (rl_z n, K, R, B, S, V, Q, D, G, E) r b s d x f y h L) (hc : 1 ≤ c ∧ c ≤ 20) (h0 : ∀ i : Int, 0 ≤ i → i ≤ 300 → ¬ rl_wd (K m) n r b s d y L c i) (hp : post (-4)) : ∃ q, wY_waitFor_23 post (nI m) (rl_z c) (rl_z n) K R B S V Q D G E q 0 := by
  have key : ∀ (k : Nat) (i : Int), 0 ≤ i → i + k = 301 → wY_waitFor_23 post (nI m) (rl_z c) (rl_z n) K R B S V Q D G E (k + 1) (rl_z i) := by
    intro k
    induction k with
    | zero =>
      intro i hi hk
      exact rl_lt 300 i (fun _ => hp) (fun z => absurd z (by omega))
    | succ k ih =>
      intro i hi hk
      exact rl_lt 300 i (fun z => absurd z (by omega)) (fun _ => rl_yWd hm hn hW hc (by omega) (fun z => absurd z (h0 i hi (by omega))) (fun _ => br_t rfl (nm_r (e' := rl_z (i + 1)) (rl_za1 i) (ih (i + 1) (by omega) (by omega)))))
  have k0 := key 301 0 (Int.le_refl 0) (by omega)
  exact ⟨_, k0⟩
theorem rl_yRm {rm : Int} (hm : m < 4) (hn : 0 ≤ n ∧ n ≤ 100000) (hW : rl_W m n (rl_z n, K, R, B, S, G, E, T, F, D, H, Z, U, A, C) (rl_z n, K, R, B, S, V, Q, D, G, E) r b s d x f y h L) (hr : 0 ≤ rm) (hq : ∀ c : Int, 1 ≤ c → (c ≤ rm ↔ rl_wd (K m) n r b s d y L c 0)) (hp : post (rl_z (min rm 20))) : ∃ q, wY_room_14 post (nI m) (rl_z n) K R B S V Q D G E q 0 1 := by
  have key : ∀ (k : Nat) (i : Int), 1 ≤ i → i + k = 21 → wY_room_14 post (nI m) (rl_z n) K R B S V Q D G E (k + 1) (rl_z (min rm (i - 1))) (rl_z i) := by
    intro k
    induction k with
    | zero =>
      intro i hi hk
      have e : i - 1 = 20 := by omega
      rw [e]
      exact rl_lt 20 i (fun _ => hp) (fun z => absurd z (by omega))
    | succ k ih =>
      intro i hi hk
      have k1 := ih (i + 1) (by omega) (by omega)
      rw [show i + 1 - 1 = i by omega] at k1
      refine rl_lt 20 i (fun z => absurd z (by omega)) (fun _ => rl_yWd (w := 0) hm hn hW (by omega) (by omega) (fun z => br_f rl_n10 ?_) (fun z => br_t rfl ?_))
      · have z2 := (hq i hi).mpr z
        rw [show min rm i = i by omega] at k1
        exact nm_r (e' := rl_z (i + 1)) (rl_za1 i) k1
      · have z2 : ¬ i ≤ rm := fun q => z ((hq i hi).mp q)
        rw [show min rm i = min rm (i - 1) by omega] at k1
        exact nm_r (e' := rl_z (i + 1)) (rl_za1 i) k1
  have k0 := key 20 1 (Int.le_refl 1) (by omega)
  rw [show min rm (1 - 1) = 0 by omega] at k0
  exact ⟨_, k0⟩
end
end
section
theorem rl_xLp {K R B S G E T F D A C : Nat → Int32} {m : Nat} {n s : Int} (hm : m < 4) (hn : 0 ≤ n ∧ n ≤ 100000) (hS : S m = rl_z s) (hs : 1 ≤ s ∧ s ≤ 10) : ∀ (L : List (Int × Int)) (i h : Nat) (H Z U : Nat → Int32), i + L.length ≤ 30 → h < 32 → H m = nI h → Z m = nI L.length → U m = rl_z (rl_tot L) → rl_ring m A C h L → rl_srt n L →
    ∃ (H' Z' U' : Nat → Int32) (h' : Nat) (L' : List (Int × Int)), (h' < 32 ∧ H' m = nI h' ∧ Z' m = nI L'.length ∧ U' m = rl_z (rl_tot L') ∧ rl_ring m A C h' L' ∧ rl_srt n L' ∧ rl_fr n s L' ∧ rl_tot L' ≤ rl_tot L ∧ (∀ a : Int, n < a + s → rl_at a L' = rl_at a L)) ∧ (∀ j, j ≠ m → H' j = H j ∧ Z' j = Z j ∧ U' j = U j) ∧ (∀ post : SX → Prop, post (rl_z n, K, R, B, S, G, E, T, F, D, H', Z', U', A, C) → wX_catchUp_64 post (nI m) (rl_z n) (L.length + 1) (nI i) K R B S G E T F D H Z U A C) := by
  intro L
  induction L with
  | nil =>
    intro i h H Z U hi hh hH hZ hU hr hL
    refine ⟨H, Z, U, h, [], ⟨hh, hH, hZ, hU, hr, hL, fun q hq => (by simp at hq), Int.le_refl _, fun _ _ => rfl⟩, fun _ _ => ⟨rfl, rfl, rfl⟩, fun post hp => ?_⟩
    refine pk_le 32 i (fun z => absurd z (by simp only [List.length_nil] at hi; omega)) (fun _ => And.intro (rl_in hm) ?_) rfl rfl (by decide) (by simp only [List.length_nil] at hi; omega)
    rw [rl_cl hm, hZ]
    exact br_t (by decide) hp
  | cons e L ih =>
    intro i h H Z U hi hh hH hZ hU hr hL
    simp only [List.length_cons] at hi hZ
    have hr2 := hr
    have hL2 := hL
    simp only [rl_ring] at hr2
    simp only [rl_srt] at hL2
    obtain ⟨⟨hA, hC⟩, hr'⟩ := hr2
    obtain ⟨⟨he0, hen, hec⟩, hq, hL'⟩ := hL2
    have ht0 := rl_tot0 hL'
    rw [Nat.mod_eq_of_lt hh] at hA hC
    have hix : vp_in (nI (m * 32 + h)) 128 := vp_in_nI (by omega) (by omega)
    have hcx : (nI (m * 32 + h)).toNatClampNeg = m * 32 + h := nI_clamp (by omega)
    have hz : ¬ nI (L.length + 1) ≤ 0 := nI_nle (by omega) (by omega)
    by_cases hst : e.1 + s ≤ n
    · obtain ⟨H', Z', U', h', L', ⟨f1, f2, f3, f4, f5, f6, f7, f8, f9⟩, fr, hX⟩ := ih (i + 1) ((h + 1) % 32) (upd H m (nI ((h + 1) % 32))) (upd Z m (nI L.length)) (upd U m (rl_z (rl_tot L))) (by omega) (Nat.mod_lt _ (by decide)) pk_us pk_us pk_us (rl_ringM _ _ _ (by omega) hr') hL'
      refine ⟨H', Z', U', h', L', ⟨f1, f2, f3, f4, f5, f6, f7, ?_, ?_⟩, ?_, ?_⟩
      · simp only [rl_tot]
        omega
      · intro a ha
        rw [f9 a ha]
        simp only [rl_at]
        rw [if_neg (by omega)]
        omega
      · intro j hj
        have fj := fr j hj
        rw [pk_un hj, pk_un hj, pk_un hj] at fj
        exact fj
      · intro post hp
        refine pk_le 32 i (fun z => absurd z (by omega)) (fun _ => And.intro (rl_in hm) ?_)
        rw [rl_cl hm, hZ, hH, hS, hU, rl_i32, hcx, hA, hC, rl_zs n s]
        have hU1 : upd U m (rl_z (rl_tot (e :: L)) - rl_z e.2) = upd U m (rl_z (rl_tot L)) := by
          rw [rl_zs]
          simp only [rl_tot]
          rw [show e.2 + rl_tot L - e.2 = rl_tot L by omega]
        have hH1 : upd H m ((nI h + 1) &&& 31) = upd H m (nI ((h + 1) % 32)) := by
          rw [nI_1, rl_m31 (by omega)]
        have hZ1 : upd Z m (nI (L.length + 1) - 1) = upd Z m (nI L.length) := by
          rw [nI_pred]
        refine br_f hz (And.intro (rl_in hm) (And.intro hix (And.intro (rl_in hm) (rl_lt (n - s) e.1 (fun z => absurd z (by omega)) (fun _ => ?_)))))
        exact ⟨rl_in hm, rl_in hm, hix, rl_in hm, nm_r hU1 ⟨rl_in hm, rl_in hm, nm_r hH1 ⟨rl_in hm, rl_in hm, nm_r hZ1 (nm_r (e' := nI (i + 1)) (nI_1 i) (hX post hp))⟩⟩⟩
    · refine ⟨H, Z, U, h, e :: L, ⟨hh, hH, hZ, hU, hr, hL, ?_, Int.le_refl _, fun _ _ => rfl⟩, fun _ _ => ⟨rfl, rfl, rfl⟩, fun post hp => ?_⟩
      · intro q hq2
        rcases List.mem_cons.mp hq2 with e1 | e1
        · rw [e1]
          omega
        · have := hq q e1
          omega
      · refine pk_le 32 i (fun z => absurd z (by omega)) (fun _ => And.intro (rl_in hm) ?_)
        rw [rl_cl hm, hZ, hH, hS, rl_i32, hcx, hA, rl_zs n s]
        exact br_f hz (And.intro (rl_in hm) (And.intro hix (And.intro (rl_in hm) (rl_lt (n - s) e.1 (fun _ => hp) (fun z => absurd z (by omega))))))
theorem rl_xCatch {u : SX} {v : SY} {m : Nat} {n r b s d x f y : Int} {h : Nat} {L : List (Int × Int)} (hm : m < 4) (hn : 0 ≤ n ∧ n ≤ 100000) (hSh : rl_Sh n u v) (hW : rl_W m n u v r b s d x f y h L) : ∃ (u' : SX) (h' : Nat) (L' : List (Int × Int)), rl_Sh n u' v ∧ rl_W m n u' v r b s d y n y h' L' ∧ rl_fr n s L' ∧ u'.2.1 = u.2.1 ∧ (∀ j, j ≠ m → rl_Sm j u u') ∧ (∀ post : SX → Prop, post u' → wpX_catchUp post u (nI m)) := by
  obtain ⟨N, K, R, B, S, G, E, T, F, D, H, Z, U, A, C⟩ := u
  obtain ⟨N', K', R', B', S', V, Q, D', G', E'⟩ := v
  obtain ⟨rfl, rfl, rfl, rfl, rfl, rfl, rfl, rfl, rfl⟩ := hSh
  obtain ⟨hV0, ⟨hR, hB, hS, hD⟩, ⟨hT, hF, hH, hZ, hU⟩, hr, hV, hQ⟩ := hW
  have y0 := rl_y0 hV0
  obtain ⟨⟨hrb, hb, hs⟩, hd, ⟨hx, hf, hy⟩, hh, hL, ht⟩ := hV0
  have hl := rl_totL hL
  have rf := rl_mb (lo := 1) (hi := 5) (k := 100000) (a := r) (b := n - f) hrb (by omega) (by omega)
  obtain ⟨H1, Z1, U1, h1, L1, ⟨f1, f2, f3, f4, f5, f6, f7, f8, f9⟩, fr, hX⟩ := rl_xLp (K := K) (R := R) (B := B) (G := G) (E := E) (T := upd T m (rl_z y)) (F := upd F m (rl_z n)) (D := D) hm hn hS hs L 0 h H Z U (by omega) hh hH hZ hU hr hL
  refine ⟨(rl_z n, K, R, B, S, G, E, upd T m (rl_z y), upd F m (rl_z n), D, H1, Z1, U1, A, C), h1, L1, And.intro rfl ⟨rfl, rfl, rfl, rfl, rfl, rfl, rfl, rfl⟩, And.intro ?_ ⟨⟨hR, hB, hS, hD⟩, ⟨pk_us, pk_us, f2, f3, f4⟩, f5, hV, ?_⟩, f7, rfl, ?_, ?_⟩
  · refine And.intro ⟨hrb, hb, hs⟩ ⟨hd, ⟨y0, ⟨hn.1, Int.le_refl n⟩, ?_⟩, f1, f6, Int.le_trans f8 ht⟩
    rw [Int.sub_self, Int.mul_zero]
    omega
  · intro i hi his
    rw [hQ i hi his, f9 (n - i) (by omega)]
  · intro j hj
    have fj := fr j hj
    exact And.intro ⟨rfl, rfl, rfl, rfl, rfl⟩ ⟨⟨pk_un hj, pk_un hj, fj.1, fj.2.1, fj.2.2⟩, fun _ _ => rfl, fun _ _ => rfl⟩
  · intro post hp
    have h51 : wX_catchUp_51 post (nI m) (rl_z y) (nI m) (rl_z n) K R B S G E T F D H Z U A C := by
      refine And.intro (rl_in hm) ?_
      rw [rl_cl hm]
      exact nm_e (And.intro (rl_in hm) (nm_e ⟨_, hX post hp⟩))
    refine And.intro (rl_in hm) (And.intro (rl_in hm) (And.intro (rl_in hm) ?_))
    rw [rl_cl hm, hT, hR, hF, hB, rl_zs, rl_zm, rl_za]
    refine nm_e (And.intro (rl_in hm) ?_)
    generalize r * (n - f) = p at *
    refine rl_le b (x + p) (fun z => And.intro (rl_in hm) ?_) (fun z => ?_)
    · rw [show y = b by omega] at h51
      exact h51
    · rw [show y = x + p by omega] at h51
      exact h51
theorem rl_xBase {post : Int32 → Prop} {K R B S G E T F D H Z U A C : Nat → Int32} {m : Nat} {n d : Int} (hm : m < 4) (hn : 0 ≤ n ∧ n ≤ 100000) (hD : D m = rl_z d) (hd : -1000000 ≤ d ∧ d ≤ 200000) (hp : post (rl_z (max d n))) : wpX_base post (rl_z n, K, R, B, S, G, E, T, F, D, H, Z, U, A, C) (nI m) := by
  refine And.intro (rl_in hm) ?_
  rw [rl_cl hm, hD]
  refine rl_le d n (fun z => ?_) (fun z => And.intro (rl_in hm) ?_)
  · rw [show max d n = n by omega] at hp
    exact hp
  · rw [show max d n = d by omega] at hp
    exact hp
/-- what X answers as its room: by the kind -/
theorem rl_xRoom {u : SX} {v : SY} {m : Nat} {n r b s d x f y : Int} {h : Nat} {L : List (Int × Int)} (hm : m < 4) (hn : 0 ≤ n ∧ n ≤ 100000) (hSh : rl_Sh n u v) (hW : rl_W m n u v r b s d x f y h L) : ∃ (u' : SX) (h' : Nat) (L' : List (Int × Int)) (rm : Int), rl_Sh n u' v ∧ rl_W m n u' v r b s d y n y h' L' ∧ rl_fr n s L' ∧ u'.2.1 = u.2.1 ∧ (∀ j, j ≠ m → rl_Sm j u u') ∧ (0 ≤ rm ∧ rm ≤ 30) ∧ (∀ c : Int, 1 ≤ c → (c ≤ rm ↔ rl_wd (u'.2.1 m) n r b s d y L' c 0)) ∧ (∀ post : Int32 → SX → Prop, post (rl_z rm) u' → wpX_roomOf post u (nI m)) := by
  obtain ⟨u', h', L', sh, w, fr, hk, sm, hX⟩ := rl_xCatch hm hn hSh hW
  obtain ⟨N, K, R, B, S, G, E, T, F, D, H, Z, U, A, C⟩ := u
  obtain ⟨N1, K1, R1, B1, S1, G1, E1, T1, F1, D1, H1, Z1, U1, A1, C1⟩ := u'
  obtain ⟨N', K', R', B', S', V, Q, D', G', E'⟩ := v
  have sh2 := sh
  have w2 := w
  obtain ⟨rfl, rfl, rfl, rfl, rfl, rfl, rfl, rfl, rfl⟩ := sh2
  obtain ⟨hV0, ⟨hR, hB, hS, hD⟩, ⟨hT, hF, hH, hZ, hU⟩, hr, hV, hQ⟩ := w2
  have y0 := rl_y0 hV0
  obtain ⟨⟨hrb, hb, hs⟩, hd, ⟨hx, hf, hy⟩, hh, hL, ht⟩ := hV0
  have t0 := rl_tot0 hL
  have bs := rl_mb (lo := 1) (hi := 30) (k := 10) (a := b) (b := s) hb (by omega) (by omega)
  by_cases k0 : K1 m = 0
  · refine ⟨_, h', L', y, sh, w, fr, hk, sm, by omega, fun c hc => ?_, fun post hp => hX _ ?_⟩
    · rw [rl_wd0 k0, Int.mul_zero]
      omega
    · refine And.intro (rl_in hm) ?_
      rw [rl_cl hm, hT]
      exact br_t k0 ⟨rl_in hm, hp⟩
  · by_cases k1 : K1 m = 1
    · refine ⟨_, h', L', b - rl_tot L', sh, w, fr, hk, sm, by omega, fun c hc => ?_, fun post hp => hX _ ?_⟩
      · rw [rl_wd1 k0 k1, rl_lgF fr]
        omega
      · refine And.intro (rl_in hm) ?_
        rw [rl_cl hm, hB, hU, rl_zs]
        exact br_f k0 ⟨rl_in hm, br_t k1 ⟨rl_in hm, rl_in hm, hp⟩⟩
    · have hle : 0 ≤ b * s - (max d n - n) := by omega
      have law : ∀ c : Int, c ≤ (b * s - (max d n - n)) / s ↔ c * s ≤ b * s - (max d n - n) := fun c => Int.le_ediv_iff_mul_le (by omega)
      refine ⟨_, h', L', (b * s - (max d n - n)) / s, sh, w, fr, hk, sm, ⟨Int.ediv_nonneg hle (by omega), ?_⟩, fun c hc => ?_, fun post hp => hX _ ?_⟩
      · have l31 := law 31
        have b30 : b * s ≤ 30 * s := Int.mul_le_mul_of_nonneg_right hb.2 (by omega)
        omega
      · rw [rl_wd2 k0 k1, law c, Int.add_zero]
        omega
      · refine And.intro (rl_in hm) ?_
        rw [rl_cl hm, hB, hS, rl_zm]
        refine br_f k0 ⟨rl_in hm, br_f k1 (rl_xBase hm hn hD (by omega) ?_)⟩
        refine nm_r (rl_zs _ _) ⟨rl_in hm, rl_in hm, nm_r (rl_zs _ _) ?_⟩
        refine rl_le 0 (b * s - (max d n - n)) (fun _ => And.intro (rl_in hm) (rl_le s 0 (fun z => absurd z (by omega)) (fun _ => ⟨rl_in hm, ?_, ?_⟩))) (fun z => absurd z (by omega))
        · rw [show (0 : Int32) = rl_z 0 from rl_0, rl_zeq (by omega) (by omega)]
          omega
        · rw [rl_zdiv (by omega) (by omega)]
          exact hp
end
section
theorem rl_seg32 {j m p q : Nat} (hj : j ≠ m) (hp : p < 32) (hq : q < 32) : j * 32 + q ≠ m * 32 + p := by omega
theorem rl_seg10 {j m p q : Nat} (hj : j ≠ m) (hp : p < 10) (hq : q < 10) : j * 10 + q ≠ m * 10 + p := by omega
theorem rl_grant {u : SX} {v : SY} {m : Nat} {n c : Int} (hm : m < 4) (hn : 0 ≤ n ∧ n ≤ 100000) (hc : 1 ≤ c ∧ c ≤ 20) (hSh : rl_Sh n u v) (hG : rl_G c m n u v) : ∃ (u' : SX) (v' : SY), rl_Sh n u' v' ∧ rl_P m n u' v' ∧ (∀ j, j ≠ m → rl_Sm j u u' ∧ rl_Sn j v v') ∧ (∀ post : SX → Prop, post u' → wpX_grant post u (nI m) (rl_z c)) ∧ (∀ post : SY → Prop, post v' → wpY_grant post v (nI m) (rl_z c)) := by
  obtain ⟨r, b, s, d, y, h, L, hW, hfr, hwd⟩ := hG
  obtain ⟨N, K, R, B, S, G, E, T, F, D, H, Z, U, A, C⟩ := u
  obtain ⟨N', K', R', B', S', V, Q, D', G', E'⟩ := v
  obtain ⟨rfl, rfl, rfl, rfl, rfl, rfl, rfl, rfl, rfl⟩ := hSh
  obtain ⟨hV0, ⟨hR, hB, hS, hD⟩, ⟨hT, hF, hH, hZ, hU⟩, hr, hV, hQ⟩ := hW
  have y0 := rl_y0 hV0
  obtain ⟨⟨hrb, hb, hs⟩, hd, ⟨hx, hf, hy⟩, hh, hL, ht⟩ := hV0
  have t0 := rl_tot0 hL
  have hl := rl_totL hL
  have bs := rl_mb (lo := 1) (hi := 30) (k := 10) (a := b) (b := s) hb (by omega) (by omega)
  have cs := rl_mb (lo := 1) (hi := 20) (k := 10) (a := c) (b := s) hc (by omega) (by omega)
  dsimp only at hwd
  by_cases k0 : K m = 0
  · rw [rl_wd0 k0, Int.mul_zero] at hwd
    refine ⟨(rl_z n, K, R, B, S, upd G m (G m + rl_z c), E, upd T m (rl_z (y - c)), F, D, H, Z, U, A, C), (rl_z n, K, R, B, S, upd V m (rl_z (y - c)), Q, D, upd G m (G m + rl_z c), E), And.intro rfl ⟨rfl, rfl, rfl, rfl, rfl, rfl, rfl, rfl⟩, ⟨r, b, s, d, y - c, n, y - c, h, L, And.intro (And.intro ⟨hrb, hb, hs⟩ ⟨hd, ⟨by omega, hf, ?_⟩, hh, hL, ht⟩) ⟨⟨hR, hB, hS, hD⟩, ⟨pk_us, hF, hH, hZ, hU⟩, hr, pk_us, hQ⟩⟩, fun j hj => ⟨And.intro ⟨rfl, rfl, rfl, rfl, rfl⟩ ⟨⟨pk_un hj, rfl, rfl, rfl, rfl⟩, fun _ _ => rfl, fun _ _ => rfl⟩, And.intro (pk_un hj) fun _ _ => rfl⟩, fun post hp => ?_, fun post hp => ?_⟩
    · rw [Int.sub_self, Int.mul_zero]
      omega
    · refine And.intro (rl_in hm) (And.intro (rl_in hm) ?_)
      rw [rl_cl hm, hT, rl_zs]
      exact nm_e ⟨rl_in hm, br_t k0 ⟨rl_in hm, rl_in hm, nm_e hp⟩⟩
    · refine And.intro (rl_in hm) (And.intro (rl_in hm) ?_)
      rw [rl_cl hm, hV, rl_zs]
      exact nm_e ⟨rl_in hm, br_t k0 ⟨rl_in hm, rl_in hm, nm_e hp⟩⟩
  · by_cases k1 : K m = 1
    · rw [rl_wd1 k0 k1, rl_lgF hfr] at hwd
      have hq32 : (h + L.length) % 32 < 32 := Nat.mod_lt _ (by decide)
      have q0 := hQ 0 (by decide) (by omega)
      have e00 : m * 10 + 0 = m * 10 := rfl
      rw [e00] at q0
      refine ⟨(rl_z n, K, R, B, S, upd G m (G m + rl_z c), E, T, F, D, H, upd Z m (nI (L.length + 1)), upd U m (rl_z (rl_tot L + c)), upd A (m * 32 + (h + L.length) % 32) (rl_z n), upd C (m * 32 + (h + L.length) % 32) (rl_z c)), (rl_z n, K, R, B, S, V, upd Q (m * 10) (Q (m * 10) + rl_z c), D, upd G m (G m + rl_z c), E), And.intro rfl ⟨rfl, rfl, rfl, rfl, rfl, rfl, rfl, rfl⟩, ⟨r, b, s, d, y, n, y, h, L ++ [(n, c)], And.intro (And.intro ⟨hrb, hb, hs⟩ ⟨hd, ⟨hx, hf, hy⟩, hh, rl_srtA hn.1 hc.1 hL, ?_⟩) ⟨⟨hR, hB, hS, hD⟩, ⟨hT, hF, hH, ?_, ?_⟩, rl_ringA n c L h _ (by omega) rfl hr, hV, ?_⟩⟩, fun j hj => ⟨And.intro ⟨rfl, rfl, rfl, rfl, rfl⟩ ⟨⟨rfl, rfl, rfl, pk_un hj, pk_un hj⟩, fun q hq => pk_un (rl_seg32 hj hq32 hq), fun q hq => pk_un (rl_seg32 hj hq32 hq)⟩, And.intro rfl fun q hq => pk_un (rl_seg10 (p := 0) hj (by decide) hq)⟩, fun post hp => ?_, fun post hp => ?_⟩
      · rw [rl_totA]
        omega
      · rw [pk_us, List.length_append]
        rfl
      · rw [pk_us, rl_totA]
      · intro i hi his
        rw [rl_atA]
        by_cases e0 : i = 0
        · subst e0
          rw [e00, pk_us, q0, rl_za, if_pos (by omega)]
        · rw [pk_un (by omega), hQ i hi his, if_neg (by omega), Int.add_zero]
      · have hax : vp_in (nI (m * 32 + (h + L.length) % 32)) 128 := vp_in_nI (by omega) (by omega)
        have hcx : (nI (m * 32 + (h + L.length) % 32)).toNatClampNeg = m * 32 + (h + L.length) % 32 := nI_clamp (by omega)
        refine And.intro (rl_in hm) (And.intro (rl_in hm) ?_)
        rw [rl_cl hm, hH, hZ, hU, nI_add, rl_m31 (by omega), rl_i32, rl_za]
        refine nm_e ⟨rl_in hm, br_f k0 ⟨rl_in hm, br_t k1 ⟨rl_in hm, rl_in hm, nm_e ?_⟩⟩⟩
        rw [hcx]
        exact ⟨hax, nm_e ⟨hax, nm_e ⟨rl_in hm, rl_in hm, nm_r (congrArg (upd Z m) (nI_1 L.length)) ⟨rl_in hm, rl_in hm, nm_e hp⟩⟩⟩⟩
      · have h10 : nI m * 10 = nI (m * 10) := pk_mul m 10
        have hax : vp_in (nI (m * 10)) 40 := vp_in_nI (by omega) (by omega)
        have hcx : (nI (m * 10)).toNatClampNeg = m * 10 := nI_clamp (by omega)
        refine And.intro (rl_in hm) (And.intro (rl_in hm) ?_)
        rw [rl_cl hm, h10, hcx]
        exact nm_e ⟨rl_in hm, br_f k0 ⟨rl_in hm, br_t k1 ⟨hax, hax, nm_e hp⟩⟩⟩
    · rw [rl_wd2 k0 k1, Int.add_zero] at hwd
      refine ⟨(rl_z n, K, R, B, S, upd G m (G m + rl_z c), E, T, F, upd D m (rl_z (max d n + c * s)), H, Z, U, A, C), (rl_z n, K, R, B, S, V, Q, upd D m (rl_z (max d n + c * s)), upd G m (G m + rl_z c), E), And.intro rfl ⟨rfl, rfl, rfl, rfl, rfl, rfl, rfl, rfl⟩, ⟨r, b, s, max d n + c * s, y, n, y, h, L, And.intro (And.intro ⟨hrb, hb, hs⟩ ⟨by omega, ⟨hx, hf, hy⟩, hh, hL, ht⟩) ⟨⟨hR, hB, hS, pk_us⟩, ⟨hT, hF, hH, hZ, hU⟩, hr, hV, hQ⟩⟩, fun j hj => ⟨And.intro ⟨rfl, rfl, rfl, rfl, pk_un hj⟩ ⟨⟨rfl, rfl, rfl, rfl, rfl⟩, fun _ _ => rfl, fun _ _ => rfl⟩, And.intro rfl fun _ _ => rfl⟩, fun post hp => ?_, fun post hp => ?_⟩
      · refine And.intro (rl_in hm) (And.intro (rl_in hm) ?_)
        rw [rl_cl hm, hS]
        refine nm_e ⟨rl_in hm, br_f k0 ⟨rl_in hm, br_f k1 (rl_xBase hm hn hD (by omega) ?_)⟩⟩
        rw [rl_zm, rl_za]
        exact ⟨rl_in hm, rl_in hm, nm_e hp⟩
      · refine And.intro (rl_in hm) (And.intro (rl_in hm) ?_)
        rw [rl_cl hm, hD]
        have k99 : ∀ z : Int, z = max d n → wY_grant_99 post (nI m) (rl_z c) (rl_z z) (rl_z n) K R B S V Q D (upd G m (G m + rl_z c)) E := by
          intro z hz
          refine And.intro (rl_in hm) (And.intro (rl_in hm) ?_)
          rw [rl_cl hm, hS, rl_zm, rl_za, hz]
          exact nm_e hp
        exact nm_e ⟨rl_in hm, br_f k0 ⟨rl_in hm, br_f k1 ⟨rl_in hm, rl_le d n (fun z => k99 _ (by omega)) (fun z => And.intro (rl_in hm) (k99 _ (by omega)))⟩⟩⟩
/-- X's wait of a log -/
theorem rl_xLw {post : Int32 → Prop} {K R B S G E T F D H Z U A C : Nat → Int32} {m : Nat} {n s : Int} {h len : Nat} (hm : m < 4) (hn : 0 ≤ n ∧ n ≤ 100000) (hS : S m = rl_z s) (hH : H m = nI h) (hZ : Z m = nI len) (hh : h < 32) (hlen : len ≤ 30) : ∀ (L : List (Int × Int)) (i : Nat) (o w : Int), i + L.length = len → -100 ≤ o ∧ o ≤ 100 → rl_ring m A C (h + i) L → rl_srt n L → rl_tot L ≤ 30 → (0 < o → o ≤ rl_tot L) → post (rl_z (rl_lw n s L o w)) → wX_logWait_22 post (nI m) (rl_z n) K R B S G E T F D H Z U A C (L.length + 1) (rl_z o) (rl_z w) (nI i) := by
  intro L
  induction L with
  | nil =>
    intro i o w hi ho hr hL ht hot hp
    have hi' : i = len := by simpa using hi
    refine And.intro (rl_in hm) ?_
    rw [rl_cl hm, hZ]
    exact pk_le len i (fun _ => hp) (fun z => absurd z (by omega))
  | cons e L ih =>
    intro i o w hi ho hr hL ht hot hp
    simp only [List.length_cons] at hi
    simp only [rl_ring] at hr
    simp only [rl_srt] at hL
    obtain ⟨⟨hA, hC⟩, hr'⟩ := hr
    obtain ⟨⟨he0, hen, hec⟩, hq, hL'⟩ := hL
    have ht0 := rl_tot0 hL'
    simp only [rl_tot] at ht hot
    have hax : vp_in (nI (m * 32 + (h + i) % 32)) 128 := vp_in_nI (by omega) (by omega)
    have hcx : (nI (m * 32 + (h + i) % 32)).toNatClampNeg = m * 32 + (h + i) % 32 := nI_clamp (by omega)
    refine And.intro (rl_in hm) ?_
    rw [rl_cl hm, hZ, hH, hS, nI_add, rl_m31 (by omega), rl_i32]
    refine pk_le len i (fun z => absurd z (by omega)) (fun _ => rl_le o 0 (fun z => ?_) (fun z => ⟨rl_in hm, nm_e ?_⟩))
    · rw [rl_lwZ z] at hp
      exact hp
    · have hp' : rl_lw n s (e :: L) o w = rl_lw n s L (o - e.2) (e.1 + s - n) := by
        simp only [rl_lw]
        rw [if_neg (by omega)]
      rw [hp'] at hp
      rw [hcx, hA, hC, rl_zs, rl_za, rl_zs]
      exact ⟨hax, nm_e ⟨hax, rl_in hm, nm_e (nm_r (e' := nI (i + 1)) (nI_1 i) (ih (i + 1) (o - e.2) (e.1 + s - n) (by omega) (by omega) hr' hL' (by omega) (by omega) hp))⟩⟩
end
section
theorem rl_yMk {N : Int32} {K R B S V Q D G E : Nat → Int32} {m : Nat} (hm : m < 4) : ∀ (k i : Nat) (Q1 : Nat → Int32), i + k = 10 → (∀ q, q < i → Q1 (m * 10 + q) = 0) → (∀ p, (p < m * 10 ∨ m * 10 + 10 ≤ p) → Q1 p = Q p) → ∃ Q' : Nat → Int32, (∀ q, q < 10 → Q' (m * 10 + q) = 0) ∧ (∀ p, (p < m * 10 ∨ m * 10 + 10 ≤ p) → Q' p = Q p) ∧ (∀ post : SY → Prop, post (N, K, R, B, S, V, Q', upd D m (-1000000), upd G m 0, upd E m 0) → wY_make_41 post (nI m) N (k + 1) (nI i) K R B S V Q1 D G E) := by
  intro k
  induction k with
  | zero =>
    intro i Q1 hi h1 h2
    have e : i = 10 := by omega
    refine ⟨Q1, fun q hq => h1 q (by omega), h2, fun post hp => ?_⟩
    rw [e]
    refine br_t (nI_le (a := 10) (b := 10) (Nat.le_refl _) (by decide)) (And.intro (rl_in hm) ?_)
    rw [rl_cl hm]
    exact nm_e ⟨rl_in hm, nm_e ⟨rl_in hm, nm_e hp⟩⟩
  | succ k ih =>
    intro i Q1 hi h1 h2
    obtain ⟨Q', a1, a2, hX⟩ := ih (i + 1) (upd Q1 (m * 10 + i) 0) (by omega) (by
      intro q hq
      by_cases e : q = i
      · rw [e]
        exact pk_us
      · rw [pk_un (by omega)]
        exact h1 q (by omega)) (by
      intro p hp
      rw [pk_un (by omega)]
      exact h2 p hp)
    refine ⟨Q', a1, a2, fun post hp => ?_⟩
    refine pk_le 10 i (fun z => absurd z (by omega)) (fun _ => ?_)
    rw [rl_i10, nI_clamp (by omega)]
    exact ⟨vp_in_nI (by omega) (by omega), nm_e (nm_r (e' := nI (i + 1)) (nI_1 i) (hX post hp))⟩
theorem rl_m1M : (-1000000 : Int32) = rl_z (-1000000) := by decide
theorem rl_start {u : SX} {v : SY} {m : Nat} {n r b s : Int} {kk rr bb ss : Int32} (hm : m < 4) (hn : 0 ≤ n ∧ n ≤ 100000) (hSh : rl_Sh n u v) (hr : 1 ≤ r ∧ r ≤ 5) (hb : 1 ≤ b ∧ b ≤ 30) (hs : 1 ≤ s ∧ s ≤ 10) (er : rr = rl_z r) (eb : bb = rl_z b) (es : ss = rl_z s) : ∃ (u' : SX) (v' : SY), rl_Sh n u' v' ∧ rl_P m n u' v' ∧ (∀ j, j ≠ m → rl_Sm j u u' ∧ rl_Sn j v v') ∧ (∀ post : SX → Prop, post u' → wpX_start post u (nI m) kk rr bb ss) ∧ (∀ post : SY → Prop, post v' → wpY_make post v (nI m) kk rr bb ss) := by
  obtain ⟨N, K, R, B, S, G, E, T, F, D, H, Z, U, A, C⟩ := u
  obtain ⟨N', K', R', B', S', V, Q, D', G', E'⟩ := v
  obtain ⟨rfl, rfl, rfl, rfl, rfl, rfl, rfl, rfl, rfl⟩ := hSh
  have bs := rl_mb (lo := 1) (hi := 30) (k := 10) (a := b) (b := s) hb (by omega) (by omega)
  obtain ⟨Q', a1, a2, hY⟩ := rl_yMk (N := rl_z n) (K := upd K m kk) (R := upd R m rr) (B := upd B m bb) (S := upd S m ss) (V := upd V m bb) (Q := Q) (D := D) (G := G) (E := E) hm 10 0 Q rfl (fun q hq => absurd hq (by omega)) (fun p hp => rfl)
  refine ⟨(rl_z n, upd K m kk, upd R m rr, upd B m bb, upd S m ss, upd G m 0, upd E m 0, upd T m bb, upd F m (rl_z n), upd D m (-1000000), upd H m 0, upd Z m 0, upd U m 0, A, C), (rl_z n, upd K m kk, upd R m rr, upd B m bb, upd S m ss, upd V m bb, Q', upd D m (-1000000), upd G m 0, upd E m 0), And.intro rfl ⟨rfl, rfl, rfl, rfl, rfl, rfl, rfl, rfl⟩, ⟨r, b, s, -1000000, b, n, b, 0, [], And.intro (And.intro ⟨hr, hb, hs⟩ ⟨by omega, ⟨by omega, ⟨hn.1, Int.le_refl n⟩, ?_⟩, by decide, trivial, ?_⟩) ⟨⟨pk_us.trans er, pk_us.trans eb, pk_us.trans es, pk_us.trans rl_m1M⟩, ⟨pk_us.trans eb, pk_us, pk_us, pk_us, pk_us.trans rl_0⟩, trivial, pk_us.trans eb, fun i hi _ => (a1 i hi).trans rl_0⟩⟩, fun j hj => ⟨And.intro ⟨pk_un hj, pk_un hj, pk_un hj, pk_un hj, pk_un hj⟩ ⟨⟨pk_un hj, pk_un hj, pk_un hj, pk_un hj, pk_un hj⟩, fun _ _ => rfl, fun _ _ => rfl⟩, And.intro (pk_un hj) fun q hq => a2 _ (by omega)⟩, fun post hp => ?_, fun post hp => ?_⟩
  · rw [Int.sub_self, Int.mul_zero]
    omega
  · show (0 : Int) ≤ b
    omega
  · refine And.intro (rl_in hm) ?_
    rw [rl_cl hm]
    exact nm_e ⟨rl_in hm, nm_e ⟨rl_in hm, nm_e ⟨rl_in hm, nm_e ⟨rl_in hm, nm_e ⟨rl_in hm, nm_e ⟨rl_in hm, nm_e ⟨rl_in hm, nm_e ⟨rl_in hm, nm_e ⟨rl_in hm, nm_e ⟨rl_in hm, nm_e ⟨rl_in hm, nm_e hp⟩⟩⟩⟩⟩⟩⟩⟩⟩⟩⟩
  · refine And.intro (rl_in hm) ?_
    rw [rl_cl hm]
    exact nm_e ⟨rl_in hm, nm_e ⟨rl_in hm, nm_e ⟨rl_in hm, nm_e ⟨rl_in hm, nm_e ⟨_, hY post hp⟩⟩⟩⟩⟩
def rl_xi (post : SX → Prop) (q : Nat) (x : Int32) (u : SX) : Prop :=
  match u with
  | (N, K, R, B, S, G, E, T, F, D, H, Z, U, A, C) => wX_init_108 post q x N K R B S G E T F D H Z U A C
def rl_yi (post : SY → Prop) (q : Nat) (x : Int32) (v : SY) : Prop :=
  match v with
  | (N, K, R, B, S, V, Q, D, G, E) => wY_init_70 post q x N K R B S V Q D G E
theorem rl_init : ∀ (k m : Nat), m + k = 4 → ∀ (u : SX) (v : SY), rl_Sh 0 u v → (∀ j, j < m → rl_P j 0 u v) → ∃ (u' : SX) (v' : SY), rl_Sh 0 u' v' ∧ (∀ j, j < 4 → rl_P j 0 u' v') ∧ (∀ post : SX → Prop, post u' → rl_xi post (k + 1) (nI m) u) ∧ (∀ post : SY → Prop, post v' → rl_yi post (k + 1) (nI m) v) := by
  intro k
  induction k with
  | zero =>
    intro m hk u v hSh hP
    have e : m = 4 := by omega
    refine ⟨u, v, hSh, fun j hj => hP j (by omega), fun post hp => ?_, fun post hp => ?_⟩
    · obtain ⟨N, K, R, B, S, G, E, T, F, D, H, Z, U, A, C⟩ := u
      rw [e]
      exact br_t (nI_le (a := 4) (b := 4) (Nat.le_refl _) (by decide)) hp
    · obtain ⟨N', K', R', B', S', V, Q, D', G', E'⟩ := v
      rw [e]
      exact br_t (nI_le (a := 4) (b := 4) (Nat.le_refl _) (by decide)) hp
  | succ k ih =>
    intro m hk u v hSh hP
    obtain ⟨u1, v1, sh1, p1, fr1, x1, y1⟩ := rl_start (m := m) (r := 1) (b := 10) (s := 1) (kk := 0) (rr := 1) (bb := 10) (ss := 1) (by omega) (by decide) hSh (by decide) (by decide) (by decide) rl_1 (by decide) rl_1
    obtain ⟨u2, v2, sh2, p2, x2, y2⟩ := ih (m + 1) (by omega) u1 v1 sh1 (by
      intro j hj
      by_cases e : j = m
      · rw [e]
        exact p1
      · exact rl_Pf (fr1 j e).1 (fr1 j e).2 (hP j (by omega)))
    refine ⟨u2, v2, sh2, p2, fun post hp => ?_, fun post hp => ?_⟩
    · have x3 := x2 post hp
      obtain ⟨N, K, R, B, S, G, E, T, F, D, H, Z, U, A, C⟩ := u
      obtain ⟨N1, K1, R1, B1, S1, G1, E1, T1, F1, D1, H1, Z1, U1, A1, C1⟩ := u1
      exact pk_le 4 m (fun z => absurd z (by omega)) (fun _ => x1 _ (nm_r (e' := nI (m + 1)) (nI_1 m) x3))
    · have y3 := y2 post hp
      obtain ⟨N', K', R', B', S', V, Q, D', G', E'⟩ := v
      obtain ⟨N1', K1', R1', B1', S1', V1, Q1, D1', G1', E1'⟩ := v1
      exact pk_le 4 m (fun z => absurd z (by omega)) (fun _ => y1 _ (nm_r (e' := nI (m + 1)) (nI_1 m) y3))
theorem i_vc0 : wpX_init (fun u => wpY_init (fun v => i_Rel 0 u v)) := by
  obtain ⟨u, v, sh, p, x, y⟩ := rl_init 4 0 rfl (0, fun _ => 0, fun _ => 0, fun _ => 0, fun _ => 0, fun _ => 0, fun _ => 0, fun _ => 0, fun _ => 0, fun _ => 0, fun _ => 0, fun _ => 0, fun _ => 0, fun _ => 0, fun _ => 0) (0, fun _ => 0, fun _ => 0, fun _ => 0, fun _ => 0, fun _ => 0, fun _ => 0, fun _ => 0, fun _ => 0, fun _ => 0) (And.intro rl_0 ⟨rl_0, rfl, rfl, rfl, rfl, rfl, rfl, rfl⟩) (fun j hj => absurd hj (by omega))
  have hy : wpY_init (fun v => i_Rel 0 u v) := ⟨5, y (fun v => i_Rel 0 u v) ⟨0, by decide, sh, p⟩⟩
  exact ⟨5, x (fun u => wpY_init (fun v => i_Rel 0 u v)) hy⟩
end
section
theorem rl_set {u : SX} {v : SY} {n : Int} (hn : 0 ≤ n ∧ n ≤ 100000) (hSh : rl_Sh n u v) (hP : ∀ m, m < 4 → rl_P m n u v) (p0 p1 p2 : Int32) : ∃ (r : Int32) (u' : SX) (v' : SY), (rl_Sh n u' v' ∧ ∀ m, m < 4 → rl_P m n u' v') ∧ (∀ post : Int32 → SX → Prop, post r u' → wpX_set post u p0 p1 p2) ∧ (∀ post : Int32 → SY → Prop, post r v' → wpY_set post v p0 p1 p2) := by
  obtain ⟨N, K, R, B, S, G, E, T, F, D, H, Z, U, A, C⟩ := u
  obtain ⟨N', K', R', B', S', V, Q, D', G', E'⟩ := v
  unfold wpX_set wpY_set
  rcases rl_bad p0 with ⟨m, hm, rfl, bX, bY⟩ | ⟨bX, bY⟩
  rotate_left
  · exact ⟨-1, _, _, ⟨hSh, hP⟩, fun post hp => bX _ (br_f rl_n10 hp), fun post hp => bY _ _ (br_f rl_n10 hp)⟩
  by_cases c1 : p1 < 0
  · exact ⟨-2, _, _, ⟨hSh, hP⟩, fun post hp => bX _ (br_t rfl (br_t c1 hp)), fun post hp => bY _ _ (br_t rfl (br_t c1 hp))⟩
  by_cases c2 : p1 ≤ 2
  rotate_left
  · exact ⟨-2, _, _, ⟨hSh, hP⟩, fun post hp => bX _ (br_t rfl (br_f c1 (br_f c2 hp))), fun post hp => bY _ _ (br_t rfl (br_f c1 (br_f c2 hp)))⟩
  by_cases c3 : p2 &&& 7 < 1
  · exact ⟨-3, _, _, ⟨hSh, hP⟩, fun post hp => bX _ (br_t rfl (br_f c1 (br_t c2 (nm_e (nm_e (nm_e (br_t c3 hp))))))), fun post hp => bY _ _ (br_t rfl (br_f c1 (br_t c2 (nm_e (nm_e (nm_e (br_t c3 hp)))))))⟩
  by_cases c4 : 5 < p2 &&& 7
  · exact ⟨-3, _, _, ⟨hSh, hP⟩, fun post hp => bX _ (br_t rfl (br_f c1 (br_t c2 (nm_e (nm_e (nm_e (br_f c3 (br_t c4 hp)))))))), fun post hp => bY _ _ (br_t rfl (br_f c1 (br_t c2 (nm_e (nm_e (nm_e (br_f c3 (br_t c4 hp))))))))⟩
  by_cases c5 : (p2 >>> ((3 : Int32) &&& 31)) &&& 31 < 1
  · exact ⟨-3, _, _, ⟨hSh, hP⟩, fun post hp => bX _ (br_t rfl (br_f c1 (br_t c2 (nm_e (nm_e (nm_e (br_f c3 (br_f c4 (br_t c5 hp))))))))), fun post hp => bY _ _ (br_t rfl (br_f c1 (br_t c2 (nm_e (nm_e (nm_e (br_f c3 (br_f c4 (br_t c5 hp)))))))))⟩
  by_cases c6 : 30 < (p2 >>> ((3 : Int32) &&& 31)) &&& 31
  · exact ⟨-3, _, _, ⟨hSh, hP⟩, fun post hp => bX _ (br_t rfl (br_f c1 (br_t c2 (nm_e (nm_e (nm_e (br_f c3 (br_f c4 (br_f c5 (br_t c6 hp)))))))))), fun post hp => bY _ _ (br_t rfl (br_f c1 (br_t c2 (nm_e (nm_e (nm_e (br_f c3 (br_f c4 (br_f c5 (br_t c6 hp))))))))))⟩
  by_cases c7 : (p2 >>> ((8 : Int32) &&& 31)) &&& 15 < 1
  · exact ⟨-3, _, _, ⟨hSh, hP⟩, fun post hp => bX _ (br_t rfl (br_f c1 (br_t c2 (nm_e (nm_e (nm_e (br_f c3 (br_f c4 (br_f c5 (br_f c6 (br_t c7 hp))))))))))), fun post hp => bY _ _ (br_t rfl (br_f c1 (br_t c2 (nm_e (nm_e (nm_e (br_f c3 (br_f c4 (br_f c5 (br_f c6 (br_t c7 hp)))))))))))⟩
  by_cases c8 : (p2 >>> ((8 : Int32) &&& 31)) &&& 15 ≤ 10
  rotate_left
  · exact ⟨-3, _, _, ⟨hSh, hP⟩, fun post hp => bX _ (br_t rfl (br_f c1 (br_t c2 (nm_e (nm_e (nm_e (br_f c3 (br_f c4 (br_f c5 (br_f c6 (br_f c7 (br_f c8 hp)))))))))))), fun post hp => bY _ _ (br_t rfl (br_f c1 (br_t c2 (nm_e (nm_e (nm_e (br_f c3 (br_f c4 (br_f c5 (br_f c6 (br_f c7 (br_f c8 hp))))))))))))⟩
  have i1 : (1 : Int32).toInt = 1 := by decide
  have i5 : (5 : Int32).toInt = 5 := by decide
  have i10 : (10 : Int32).toInt = 10 := by decide
  have i30 : (30 : Int32).toInt = 30 := by decide
  have d3 := c3
  have d4 := c4
  have d5 := c5
  have d6 := c6
  have d7 := c7
  have d8 := c8
  rw [Int32.lt_iff_toInt_lt, i1] at d3 d5 d7
  rw [Int32.lt_iff_toInt_lt, i5] at d4
  rw [Int32.lt_iff_toInt_lt, i30] at d6
  rw [Int32.le_iff_toInt_le, i10] at d8
  obtain ⟨u1, v1, sh1, p1', fr1, x1, y1⟩ := rl_start (kk := p1) hm hn hSh (r := (p2 &&& 7).toInt) (b := ((p2 >>> ((3 : Int32) &&& 31)) &&& 31).toInt) (s := ((p2 >>> ((8 : Int32) &&& 31)) &&& 15).toInt) (by omega) (by omega) (by omega) (rl_zof _) (rl_zof _) (rl_zof _)
  obtain ⟨N1, K1, R1, B1, S1, G1, E1, T1, F1, D1, H1, Z1, U1, A1, C1⟩ := u1
  obtain ⟨N1', K1', R1', B1', S1', V1, Q1, D1', G1', E1'⟩ := v1
  refine ⟨0, _, _, ⟨sh1, fun j hj => ?_⟩, fun post hp => bX _ (br_t rfl (br_f c1 (br_t c2 (nm_e (nm_e (nm_e (br_f c3 (br_f c4 (br_f c5 (br_f c6 (br_f c7 (br_t c8 (x1 _ hp))))))))))))), fun post hp => bY _ _ (br_t rfl (br_f c1 (br_t c2 (nm_e (nm_e (nm_e (br_f c3 (br_f c4 (br_f c5 (br_f c6 (br_f c7 (br_t c8 (y1 _ hp)))))))))))))⟩
  by_cases e : j = m
  · rw [e]
    exact p1'
  · exact rl_Pf (fr1 j e).1 (fr1 j e).2 (hP j hj)
end
section
def rl_sel (mk : Int32) (j : Nat) : Prop := ((mk >>> (nI j &&& 31)) &&& 1) = 1
def rl_x15 (post : Int32 → SX → Prop) (x1 x2 : Int32) (q : Nat) (x3 x4 : Int32) (u : SX) : Prop :=
  match u with
  | (N, K, R, B, S, G, E, T, F, D, H, Z, U, A, C) => wX_askAll_15 post x1 x2 q x3 x4 N K R B S G E T F D H Z U A C
def rl_x67 (post : Int32 → SX → Prop) (x1 x2 x3 : Int32) (q : Nat) (x4 : Int32) (u : SX) : Prop :=
  match u with
  | (N, K, R, B, S, G, E, T, F, D, H, Z, U, A, C) => wX_askAll_67 post x1 x2 x3 q x4 N K R B S G E T F D H Z U A C
def rl_y16 (post : Int32 → SY → Prop) (x1 x2 : Int32) (q : Nat) (x3 x4 : Int32) (v : SY) : Prop :=
  match v with
  | (N, K, R, B, S, V, Q, D, G, E) => wY_askAll_16 post x1 x2 N q x3 x4 K R B S V Q D G E
def rl_y70 (post : Int32 → SY → Prop) (x1 x2 x3 : Int32) (q : Nat) (x4 : Int32) (v : SY) : Prop :=
  match v with
  | (N, K, R, B, S, V, Q, D, G, E) => wY_askAll_70 post x1 x2 x3 q x4 N K R B S V Q D G E
/-- one meter is looked at, on both sides: the states behind it, and whether it would grant -/
theorem rl_look {u : SX} {v : SY} {m : Nat} {n c : Int} (hm : m < 4) (hn : 0 ≤ n ∧ n ≤ 100000) (hc : 1 ≤ c ∧ c ≤ 20) (hSh : rl_Sh n u v) (hP : rl_P m n u v) : ∃ (u' : SX) (rm : Int), rl_Sh n u' v ∧ (∀ j, j ≠ m → rl_Sm j u u') ∧ rl_P m n u' v ∧ (0 ≤ rm ∧ rm ≤ 30) ∧ (∀ post : Int32 → SX → Prop, post (rl_z rm) u' → wpX_roomOf post u (nI m)) ∧ (c ≤ rm → rl_G c m n u' v ∧ ∀ post : Int32 → Prop, post 1 → wpY_would post v (nI m) (rl_z c) 0) ∧ (¬ c ≤ rm → ∀ post : Int32 → Prop, post 0 → wpY_would post v (nI m) (rl_z c) 0) := by
  obtain ⟨r, b, s, d, x, f, y, h, L, hW⟩ := hP
  obtain ⟨u', h', L', rm, sh, w, fr, hk, sm, hrm, law, hX⟩ := rl_xRoom hm hn hSh hW
  refine ⟨u', rm, sh, sm, ⟨_, _, _, _, _, _, _, _, _, w⟩, hrm, hX, fun z => ⟨⟨r, b, s, d, y, h', L', w, fr, (law c hc.1).mp z⟩, fun post hp => ?_⟩, fun z post hp => ?_⟩
  · have z2 := (law c hc.1).mp z
    obtain ⟨N, K, R, B, S, G, E, T, F, D, H, Z, U, A, C⟩ := u'
    obtain ⟨N', K', R', B', S', V, Q, D', G', E'⟩ := v
    obtain ⟨rfl, rfl, rfl, rfl, rfl, rfl, rfl, rfl, rfl⟩ := sh
    have e := rl_yWd (post := post) (w := 0) hm hn w hc (by decide) (fun _ => hp) (fun q => absurd z2 q)
    rw [← rl_0] at e
    exact e
  · have z2 : ¬ rl_wd (u'.2.1 m) n r b s d y L' c 0 := fun q => z ((law c hc.1).mpr q)
    obtain ⟨N, K, R, B, S, G, E, T, F, D, H, Z, U, A, C⟩ := u'
    obtain ⟨N', K', R', B', S', V, Q, D', G', E'⟩ := v
    obtain ⟨rfl, rfl, rfl, rfl, rfl, rfl, rfl, rfl, rfl⟩ := sh
    have e := rl_yWd (post := post) (w := 0) hm hn w hc (by decide) (fun q => absurd q z2) (fun _ => hp)
    rw [← rl_0] at e
    exact e
/-- one more denial on both sides -/
theorem rl_deny {u : SX} {v : SY} {m : Nat} {n : Int} (hSh : rl_Sh n u v) (hP : ∀ j, j < 4 → rl_P j n u v) : ∃ (u' : SX) (v' : SY), rl_Sh n u' v' ∧ (∀ j, j < 4 → rl_P j n u' v') ∧ u' = (u.1, u.2.1, u.2.2.1, u.2.2.2.1, u.2.2.2.2.1, u.2.2.2.2.2.1, upd u.2.2.2.2.2.2.1 m (u.2.2.2.2.2.2.1 m + 1), u.2.2.2.2.2.2.2) ∧ v' = (v.1, v.2.1, v.2.2.1, v.2.2.2.1, v.2.2.2.2.1, v.2.2.2.2.2.1, v.2.2.2.2.2.2.1, v.2.2.2.2.2.2.2.1, v.2.2.2.2.2.2.2.2.1, upd v.2.2.2.2.2.2.2.2.2 m (v.2.2.2.2.2.2.2.2.2 m + 1)) := by
  obtain ⟨N, K, R, B, S, G, E, T, F, D, H, Z, U, A, C⟩ := u
  obtain ⟨N', K', R', B', S', V, Q, D', G', E'⟩ := v
  obtain ⟨rfl, rfl, rfl, rfl, rfl, rfl, rfl, rfl, rfl⟩ := hSh
  refine ⟨_, _, ?_, ?_, rfl, rfl⟩
  · exact And.intro rfl ⟨rfl, rfl, rfl, rfl, rfl, rfl, rfl, rfl⟩
  · intro j hj
    refine rl_Pf ?_ ?_ (hP j hj)
    · exact And.intro ⟨rfl, rfl, rfl, rfl, rfl⟩ ⟨⟨rfl, rfl, rfl, rfl, rfl⟩, fun _ _ => rfl, fun _ _ => rfl⟩
    · exact And.intro rfl fun _ _ => rfl
theorem rl_aa1 {n c : Int} {mk : Int32} (hn : 0 ≤ n ∧ n ≤ 100000) (hc : 1 ≤ c ∧ c ≤ 20) : ∀ (k m : Nat), m + k = 4 → ∀ (al : Int32) (u : SX) (v : SY), (al = 0 ∨ al = 1) → rl_Sh n u v → (∀ j, j < 4 → rl_P j n u v) → (al = 1 → ∀ j, j < m → rl_sel mk j → rl_G c j n u v) → ∃ (al' : Int32) (u' : SX) (v' : SY), (al' = 0 ∨ al' = 1) ∧ rl_Sh n u' v' ∧ (∀ j, j < 4 → rl_P j n u' v') ∧ (al' = 1 → ∀ j, j < 4 → rl_sel mk j → rl_G c j n u' v') ∧ (∀ post : Int32 → SX → Prop, (∃ q, rl_x67 post mk (rl_z c) al' q 0 u') → rl_x15 post mk (rl_z c) (k + 1) al (nI m) u) ∧ (∀ post : Int32 → SY → Prop, (∃ q, rl_y70 post mk (rl_z c) al' q 0 v') → rl_y16 post mk (rl_z c) (k + 1) al (nI m) v) := by
  intro k
  induction k with
  | zero =>
    intro m hk al u v hal hSh hP hG
    have e : m = 4 := by omega
    refine ⟨al, u, v, hal, hSh, hP, fun z j hj => hG z j (by omega), fun post hp => ?_, fun post hp => ?_⟩
    · obtain ⟨N, K, R, B, S, G, E, T, F, D, H, Z, U, A, C⟩ := u
      rw [e]
      exact br_t (nI_le (a := 4) (b := 4) (Nat.le_refl _) (by decide)) hp
    · obtain ⟨N', K', R', B', S', V, Q, D', G', E'⟩ := v
      rw [e]
      exact br_t (nI_le (a := 4) (b := 4) (Nat.le_refl _) (by decide)) hp
  | succ k ih =>
    intro m hk al u v hal hSh hP hG
    have hm : m < 4 := by omega
    by_cases hs : rl_sel mk m
    · obtain ⟨u1, rm, sh1, sm1, p1, hrm, hX, hw1, hw0⟩ := rl_look hm hn hc hSh (hP m hm)
      have P1 : ∀ j, j < 4 → rl_P j n u1 v := by
        intro j hj
        by_cases e : j = m
        · rw [e]
          exact p1
        · exact rl_Pf (sm1 j e) (rl_SnR j v) (hP j hj)
      by_cases hle : c ≤ rm
      · obtain ⟨g1, hY⟩ := hw1 hle
        obtain ⟨al', u', v', hal', sh', p', g', x', y'⟩ := ih (m + 1) (by omega) al u1 v hal sh1 P1 (by
          intro z j hj hsj
          by_cases e : j = m
          · rw [e]
            exact g1
          · exact rl_Gf (sm1 j e) (rl_SnR j v) (hG z j (by omega) hsj))
        refine ⟨al', u', v', hal', sh', p', g', fun post hp => ?_, fun post hp => ?_⟩
        · have x2 := x' post hp
          obtain ⟨N, K, R, B, S, G, E, T, F, D, H, Z, U, A, C⟩ := u
          obtain ⟨N1, K1, R1, B1, S1, G1, E1, T1, F1, D1, H1, Z1, U1, A1, C1⟩ := u1
          exact pk_le 4 m (fun z => absurd z (by omega)) (fun _ => br_t hs (hX _ (br_t ((rl_zle (by omega) (by omega)).mpr hle) (nm_r (e' := nI (m + 1)) (nI_1 m) x2))))
        · have y2 := y' post hp
          obtain ⟨N', K', R', B', S', V, Q, D', G', E'⟩ := v
          exact pk_le 4 m (fun z => absurd z (by omega)) (fun _ => br_t hs (hY _ (br_f rl_n10 (nm_r (e' := nI (m + 1)) (nI_1 m) y2))))
      · have hY := hw0 hle
        obtain ⟨u2, v2, sh2, p2, eu, ev⟩ := rl_deny (m := m) sh1 P1
        obtain ⟨al', u', v', hal', sh', p', g', x', y'⟩ := ih (m + 1) (by omega) 0 u2 v2 (Or.inl rfl) sh2 p2 (fun z => absurd z (by decide))
        refine ⟨al', u', v', hal', sh', p', g', fun post hp => ?_, fun post hp => ?_⟩
        · have x2 := x' post hp
          obtain ⟨N, K, R, B, S, G, E, T, F, D, H, Z, U, A, C⟩ := u
          obtain ⟨N1, K1, R1, B1, S1, G1, E1, T1, F1, D1, H1, Z1, U1, A1, C1⟩ := u1
          rw [eu] at x2
          refine pk_le 4 m (fun z => absurd z (by omega)) (fun _ => br_t hs (hX _ (br_f (fun q => hle ((rl_zle (by omega) (by omega)).mp q)) (And.intro (rl_in hm) (And.intro (rl_in hm) ?_)))))
          rw [rl_cl hm]
          exact nm_e (nm_r (e' := nI (m + 1)) (nI_1 m) x2)
        · have y2 := y' post hp
          obtain ⟨N', K', R', B', S', V, Q, D', G', E'⟩ := v
          rw [ev] at y2
          refine pk_le 4 m (fun z => absurd z (by omega)) (fun _ => br_t hs (hY _ (br_t rfl (And.intro (rl_in hm) (And.intro (rl_in hm) ?_)))))
          rw [rl_cl hm]
          exact nm_e (nm_r (e' := nI (m + 1)) (nI_1 m) y2)
    · obtain ⟨al', u', v', hal', sh', p', g', x', y'⟩ := ih (m + 1) (by omega) al u v hal hSh hP (by
        intro z j hj hsj
        by_cases e : j = m
        · rw [e] at hsj
          exact absurd hsj hs
        · exact hG z j (by omega) hsj)
      refine ⟨al', u', v', hal', sh', p', g', fun post hp => ?_, fun post hp => ?_⟩
      · have x2 := x' post hp
        obtain ⟨N, K, R, B, S, G, E, T, F, D, H, Z, U, A, C⟩ := u
        exact pk_le 4 m (fun z => absurd z (by omega)) (fun _ => br_f hs (nm_r (e' := nI (m + 1)) (nI_1 m) x2))
      · have y2 := y' post hp
        obtain ⟨N', K', R', B', S', V, Q, D', G', E'⟩ := v
        exact pk_le 4 m (fun z => absurd z (by omega)) (fun _ => br_f hs (nm_r (e' := nI (m + 1)) (nI_1 m) y2))
theorem rl_aa2 {n c : Int} {mk : Int32} (hn : 0 ≤ n ∧ n ≤ 100000) (hc : 1 ≤ c ∧ c ≤ 20) : ∀ (k m : Nat), m + k = 4 → ∀ (u : SX) (v : SY), rl_Sh n u v → (∀ j, j < 4 → rl_P j n u v) → (∀ j, j < 4 → m ≤ j → rl_sel mk j → rl_G c j n u v) → ∃ (u' : SX) (v' : SY), rl_Sh n u' v' ∧ (∀ j, j < 4 → rl_P j n u' v') ∧ (∀ post : Int32 → SX → Prop, post 1 u' → rl_x67 post mk (rl_z c) 1 (k + 1) (nI m) u) ∧ (∀ post : Int32 → SY → Prop, post 1 v' → rl_y70 post mk (rl_z c) 1 (k + 1) (nI m) v) := by
  intro k
  induction k with
  | zero =>
    intro m hk u v hSh hP hG
    have e : m = 4 := by omega
    refine ⟨u, v, hSh, hP, fun post hp => ?_, fun post hp => ?_⟩
    · obtain ⟨N, K, R, B, S, G, E, T, F, D, H, Z, U, A, C⟩ := u
      rw [e]
      exact br_t (nI_le (a := 4) (b := 4) (Nat.le_refl _) (by decide)) (br_f rl_n10 hp)
    · obtain ⟨N', K', R', B', S', V, Q, D', G', E'⟩ := v
      rw [e]
      exact br_t (nI_le (a := 4) (b := 4) (Nat.le_refl _) (by decide)) (br_f rl_n10 hp)
  | succ k ih =>
    intro m hk u v hSh hP hG
    have hm : m < 4 := by omega
    by_cases hs : rl_sel mk m
    · obtain ⟨u1, v1, sh1, p1, fr1, hX, hY⟩ := rl_grant hm hn hc hSh (hG m hm (Nat.le_refl m) hs)
      obtain ⟨u', v', sh', p', x', y'⟩ := ih (m + 1) (by omega) u1 v1 sh1 (by
        intro j hj
        by_cases e : j = m
        · rw [e]
          exact p1
        · exact rl_Pf (fr1 j e).1 (fr1 j e).2 (hP j hj)) (by
        intro j hj hmj hsj
        have e : j ≠ m := by omega
        exact rl_Gf (fr1 j e).1 (fr1 j e).2 (hG j hj (by omega) hsj))
      refine ⟨u', v', sh', p', fun post hp => ?_, fun post hp => ?_⟩
      · have x2 := x' post hp
        obtain ⟨N, K, R, B, S, G, E, T, F, D, H, Z, U, A, C⟩ := u
        obtain ⟨N1, K1, R1, B1, S1, G1, E1, T1, F1, D1, H1, Z1, U1, A1, C1⟩ := u1
        exact pk_le 4 m (fun z => absurd z (by omega)) (fun _ => br_f rl_n10 (br_t hs (hX _ (nm_r (e' := nI (m + 1)) (nI_1 m) x2))))
      · have y2 := y' post hp
        obtain ⟨N', K', R', B', S', V, Q, D', G', E'⟩ := v
        obtain ⟨N1', K1', R1', B1', S1', V1, Q1, D1', G1', E1'⟩ := v1
        exact pk_le 4 m (fun z => absurd z (by omega)) (fun _ => br_f rl_n10 (br_t hs (hY _ (nm_r (e' := nI (m + 1)) (nI_1 m) y2))))
    · obtain ⟨u', v', sh', p', x', y'⟩ := ih (m + 1) (by omega) u v hSh hP (fun j hj hmj hsj => hG j hj (by omega) hsj)
      refine ⟨u', v', sh', p', fun post hp => ?_, fun post hp => ?_⟩
      · have x2 := x' post hp
        obtain ⟨N, K, R, B, S, G, E, T, F, D, H, Z, U, A, C⟩ := u
        exact pk_le 4 m (fun z => absurd z (by omega)) (fun _ => br_f rl_n10 (br_f hs (nm_r (e' := nI (m + 1)) (nI_1 m) x2)))
      · have y2 := y' post hp
        obtain ⟨N', K', R', B', S', V, Q, D', G', E'⟩ := v
        exact pk_le 4 m (fun z => absurd z (by omega)) (fun _ => br_f rl_n10 (br_f hs (nm_r (e' := nI (m + 1)) (nI_1 m) y2)))
theorem rl_y70z {post : Int32 → SY → Prop} {mk c2 : Int32} {v : SY} (hp : post 0 v) : ∀ (k m : Nat), m + k = 4 → rl_y70 post mk c2 0 (k + 1) (nI m) v := by
  obtain ⟨N', K', R', B', S', V, Q, D', G', E'⟩ := v
  intro k
  induction k with
  | zero =>
    intro m hk
    have e : m = 4 := by omega
    rw [e]
    exact br_t (nI_le (a := 4) (b := 4) (Nat.le_refl _) (by decide)) (br_t rfl hp)
  | succ k ih =>
    intro m hk
    exact pk_le 4 m (fun z => absurd z (by omega)) (fun _ => br_t rfl (nm_r (e' := nI (m + 1)) (nI_1 m) (ih (m + 1) (by omega))))
theorem rl_x67z {post : Int32 → SX → Prop} {mk c2 : Int32} {u : SX} (hp : post 0 u) : rl_x67 post mk c2 0 1 0 u := by
  obtain ⟨N, K, R, B, S, G, E, T, F, D, H, Z, U, A, C⟩ := u
  exact br_f (by decide) (br_t rfl (br_t rfl hp))
theorem rl_askAll {u : SX} {v : SY} {n : Int} (hn : 0 ≤ n ∧ n ≤ 100000) (hSh : rl_Sh n u v) (hP : ∀ m, m < 4 → rl_P m n u v) (mk p1 : Int32) : ∃ (r : Int32) (u' : SX) (v' : SY), (rl_Sh n u' v' ∧ ∀ m, m < 4 → rl_P m n u' v') ∧ (∀ post : Int32 → SX → Prop, post r u' → wpX_askAll post u mk p1) ∧ (∀ post : Int32 → SY → Prop, post r v' → wpY_askAll post v mk p1) := by
  rcases rl_badC p1 with ⟨c, hc1, hc2, rfl, bX, bY⟩ | ⟨bX, bY⟩
  · obtain ⟨al, u1, v1, hal, sh1, p1, g1, x1, y1⟩ := rl_aa1 (mk := mk) hn ⟨hc1, hc2⟩ 4 0 rfl 1 u v (Or.inr rfl) hSh hP (fun _ j hj => absurd hj (by omega))
    rcases hal with rfl | rfl
    · refine ⟨0, u1, v1, ⟨sh1, p1⟩, fun post hp => ?_, fun post hp => ?_⟩
      · have x2 := x1 post ⟨1, rl_x67z hp⟩
        obtain ⟨N, K, R, B, S, G, E, T, F, D, H, Z, U, A, C⟩ := u
        unfold wpX_askAll
        exact bX _ (br_t rfl ⟨5, x2⟩)
      · have y2 := y1 post ⟨5, rl_y70z hp 4 0 rfl⟩
        obtain ⟨N', K', R', B', S', V, Q, D', G', E'⟩ := v
        unfold wpY_askAll
        exact bY _ _ (br_t rfl ⟨5, y2⟩)
    · obtain ⟨u2, v2, sh2, p2, x3, y3⟩ := rl_aa2 (mk := mk) hn ⟨hc1, hc2⟩ 4 0 rfl u1 v1 sh1 p1 (fun j hj _ hs => g1 rfl j hj hs)
      refine ⟨1, u2, v2, ⟨sh2, p2⟩, fun post hp => ?_, fun post hp => ?_⟩
      · have x2 := x1 post ⟨5, x3 post hp⟩
        obtain ⟨N, K, R, B, S, G, E, T, F, D, H, Z, U, A, C⟩ := u
        unfold wpX_askAll
        exact bX _ (br_t rfl ⟨5, x2⟩)
      · have y2 := y1 post ⟨5, y3 post hp⟩
        obtain ⟨N', K', R', B', S', V, Q, D', G', E'⟩ := v
        unfold wpY_askAll
        exact bY _ _ (br_t rfl ⟨5, y2⟩)
  · refine ⟨-3, u, v, ⟨hSh, hP⟩, fun post hp => ?_, fun post hp => ?_⟩
    · obtain ⟨N, K, R, B, S, G, E, T, F, D, H, Z, U, A, C⟩ := u
      unfold wpX_askAll
      exact bX _ (br_f rl_n10 hp)
    · obtain ⟨N', K', R', B', S', V, Q, D', G', E'⟩ := v
      unfold wpY_askAll
      exact bY _ _ (br_f rl_n10 hp)
end
section
theorem rl_y16s {post : Int32 → SY → Prop} {mk c2 al : Int32} {v : SY} : ∀ (k j q : Nat), j + k ≤ 4 → (∀ i, j ≤ i → i < j + k → ¬ rl_sel mk i) → rl_y16 post mk c2 q al (nI (j + k)) v → rl_y16 post mk c2 (q + k) al (nI j) v := by
  obtain ⟨N', K', R', B', S', V, Q, D', G', E'⟩ := v
  intro k
  induction k with
  | zero =>
    intro j q _ _ h
    exact h
  | succ k ih =>
    intro j q hj hns h
    have h' := ih (j + 1) q (by omega) (fun i a b => hns i (by omega) (by omega)) (by rw [show j + 1 + k = j + (k + 1) by omega]; exact h)
    show rl_y16 post mk c2 (q + k + 1) al (nI j) _
    exact pk_le 4 j (fun z => absurd z (by omega)) (fun _ => br_f (hns j (by omega) (by omega)) (nm_r (e' := nI (j + 1)) (nI_1 j) h'))
theorem rl_y70s {post : Int32 → SY → Prop} {mk c2 : Int32} {v : SY} : ∀ (k j q : Nat), j + k ≤ 4 → (∀ i, j ≤ i → i < j + k → ¬ rl_sel mk i) → rl_y70 post mk c2 1 q (nI (j + k)) v → rl_y70 post mk c2 1 (q + k) (nI j) v := by
  obtain ⟨N', K', R', B', S', V, Q, D', G', E'⟩ := v
  intro k
  induction k with
  | zero =>
    intro j q _ _ h
    exact h
  | succ k ih =>
    intro j q hj hns h
    have h' := ih (j + 1) q (by omega) (fun i a b => hns i (by omega) (by omega)) (by rw [show j + 1 + k = j + (k + 1) by omega]; exact h)
    show rl_y70 post mk c2 1 (q + k + 1) (nI j) _
    exact pk_le 4 j (fun z => absurd z (by omega)) (fun _ => br_f rl_n10 (br_f (hns j (by omega) (by omega)) (nm_r (e' := nI (j + 1)) (nI_1 j) h')))
/-- only meter m is picked: the second loop -/
theorem rl_y70o {post : Int32 → SY → Prop} {mk c2 : Int32} {v v' : SY} {m : Nat} (hm : m < 4) (hs : ∀ j, j < 4 → (rl_sel mk j ↔ j = m)) (hY : ∀ p : SY → Prop, p v' → wpY_grant p v (nI m) c2) (hp : post 1 v') : ∃ q, rl_y70 post mk c2 1 q 0 v := by
  have h4 : rl_y70 post mk c2 1 1 (nI 4) v' := by
    obtain ⟨N', K', R', B', S', V, Q, D', G', E'⟩ := v'
    exact br_t (nI_le (a := 4) (b := 4) (Nat.le_refl _) (by decide)) (br_f rl_n10 hp)
  have h3 := rl_y70s (post := post) (mk := mk) (c2 := c2) (v := v') (3 - m) (m + 1) 1 (by omega) (fun i a b z => by have := (hs i (by omega)).mp z; omega) (by rw [show m + 1 + (3 - m) = 4 by omega]; exact h4)
  have h2 : rl_y70 post mk c2 1 (1 + (3 - m) + 1) (nI m) v := by
    obtain ⟨N, K, R, B, S, V, Q, D, G, E⟩ := v
    obtain ⟨N', K', R', B', S', V', Q', D', G', E'⟩ := v'
    exact pk_le 4 m (fun z => absurd z (by omega)) (fun _ => br_f rl_n10 (br_t ((hs m hm).mpr rfl) (hY _ (nm_r (e' := nI (m + 1)) (nI_1 m) h3))))
  have h1 := rl_y70s (post := post) (mk := mk) (c2 := c2) (v := v) m 0 (1 + (3 - m) + 1) (by omega) (fun i a b z => by have := (hs i (by omega)).mp z; omega) (by rw [Nat.zero_add]; exact h2)
  exact ⟨_, h1⟩
/-- only meter m is picked: the first loop -/
theorem rl_y16o {post : Int32 → SY → Prop} {mk c2 al : Int32} {v v' : SY} {m : Nat} (hm : m < 4) (hs : ∀ j, j < 4 → (rl_sel mk j ↔ j = m)) (h2 : ∀ q, rl_y16 post mk c2 q al (nI (m + 1)) v' → rl_y16 post mk c2 (q + 1) 1 (nI m) v) (hp : ∃ q, rl_y70 post mk c2 al q 0 v') : ∃ q, rl_y16 post mk c2 q 1 0 v := by
  have h4 : rl_y16 post mk c2 1 al (nI 4) v' := by
    obtain ⟨N', K', R', B', S', V, Q, D', G', E'⟩ := v'
    exact br_t (nI_le (a := 4) (b := 4) (Nat.le_refl _) (by decide)) hp
  have h3 := rl_y16s (post := post) (mk := mk) (c2 := c2) (al := al) (v := v') (3 - m) (m + 1) 1 (by omega) (fun i a b z => by have := (hs i (by omega)).mp z; omega) (by rw [show m + 1 + (3 - m) = 4 by omega]; exact h4)
  have h1 := rl_y16s (post := post) (mk := mk) (c2 := c2) (al := 1) (v := v) m 0 (1 + (3 - m) + 1) (by omega) (fun i a b z => by have := (hs i (by omega)).mp z; omega) (by rw [Nat.zero_add]; exact h2 _ h3)
  exact ⟨_, h1⟩
theorem rl_sel1 : ∀ m, m < 4 → ∀ j, j < 4 → ((((1 : Int32) <<< (nI m &&& 31)) >>> (nI j &&& 31)) &&& 1 = 1 ↔ j = m) := by decide +kernel
theorem rl_ask {u : SX} {v : SY} {n : Int} (hn : 0 ≤ n ∧ n ≤ 100000) (hSh : rl_Sh n u v) (hP : ∀ m, m < 4 → rl_P m n u v) (p0 p1 : Int32) : ∃ (r : Int32) (u' : SX) (v' : SY), (rl_Sh n u' v' ∧ ∀ m, m < 4 → rl_P m n u' v') ∧ (∀ post : Int32 → SX → Prop, post r u' → wpX_ask post u p0 p1) ∧ (∀ post : Int32 → SY → Prop, post r v' → wpY_ask post v p0 p1) := by
  rcases rl_bad p0 with ⟨m, hm, rfl, bX, bY⟩ | ⟨bX, bY⟩
  rotate_left
  · refine ⟨-1, u, v, ⟨hSh, hP⟩, fun post hp => ?_, fun post hp => ?_⟩
    · obtain ⟨N, K, R, B, S, G, E, T, F, D, H, Z, U, A, C⟩ := u
      unfold wpX_ask
      exact bX _ (br_f rl_n10 hp)
    · obtain ⟨N', K', R', B', S', V, Q, D', G', E'⟩ := v
      unfold wpY_ask
      exact bY _ _ (br_f rl_n10 hp)
  rcases rl_badC p1 with ⟨c, hc1, hc2, rfl, cX, cY⟩ | ⟨cX, cY⟩
  rotate_left
  · refine ⟨-3, u, v, ⟨hSh, hP⟩, fun post hp => ?_, fun post hp => ?_⟩
    · obtain ⟨N, K, R, B, S, G, E, T, F, D, H, Z, U, A, C⟩ := u
      unfold wpX_ask
      exact bX _ (br_t rfl (cX _ (br_f rl_n10 hp)))
    · obtain ⟨N', K', R', B', S', V, Q, D', G', E'⟩ := v
      unfold wpY_ask
      refine bY _ _ (br_t rfl ?_)
      unfold wpY_askAll
      exact cY _ _ (br_f rl_n10 hp)
  have hs : ∀ j, j < 4 → (rl_sel ((1 : Int32) <<< (nI m &&& 31)) j ↔ j = m) := rl_sel1 m hm
  have hsm := (hs m hm).mpr rfl
  obtain ⟨u1, rm, sh1, sm1, p1, hrm, hX, hw1, hw0⟩ := rl_look hm hn ⟨hc1, hc2⟩ hSh (hP m hm)
  have P1 : ∀ j, j < 4 → rl_P j n u1 v := by
    intro j hj
    by_cases e : j = m
    · rw [e]
      exact p1
    · exact rl_Pf (sm1 j e) (rl_SnR j v) (hP j hj)
  by_cases hle : c ≤ rm
  · obtain ⟨g1, hY⟩ := hw1 hle
    obtain ⟨u2, v2, sh2, p2, fr2, gX, gY⟩ := rl_grant hm hn ⟨hc1, hc2⟩ sh1 g1
    refine ⟨1, u2, v2, ⟨sh2, fun j hj => ?_⟩, fun post hp => ?_, fun post hp => ?_⟩
    · by_cases e : j = m
      · rw [e]
        exact p2
      · exact rl_Pf (fr2 j e).1 (fr2 j e).2 (P1 j hj)
    · obtain ⟨N, K, R, B, S, G, E, T, F, D, H, Z, U, A, C⟩ := u
      obtain ⟨N1, K1, R1, B1, S1, G1, E1, T1, F1, D1, H1, Z1, U1, A1, C1⟩ := u1
      obtain ⟨N2, K2, R2, B2, S2, G2, E2, T2, F2, D2, H2, Z2, U2, A2, C2⟩ := u2
      unfold wpX_ask
      exact bX _ (br_t rfl (cX _ (br_t rfl (hX _ (br_t ((rl_zle (by omega) (by omega)).mpr hle) (gX _ hp))))))
    · have hall : ∀ p : Int32 → SY → Prop, p 1 v2 → ∃ q, rl_y16 p ((1 : Int32) <<< (nI m &&& 31)) (rl_z c) q 1 0 v := by
        intro p hp2
        refine rl_y16o (al := 1) (v' := v) hm hs ?_ (rl_y70o hm hs gY hp2)
        intro q hq
        obtain ⟨N', K', R', B', S', V, Q, D', G', E'⟩ := v
        exact pk_le 4 m (fun z => absurd z (by omega)) (fun _ => br_t hsm (hY _ (br_f rl_n10 (nm_r (e' := nI (m + 1)) (nI_1 m) hq))))
      obtain ⟨N', K', R', B', S', V, Q, D', G', E'⟩ := v
      obtain ⟨N2, K2, R2, B2, S2, V2, Q2, D2, G2, E2⟩ := v2
      unfold wpY_ask
      refine bY _ _ (br_t rfl ?_)
      unfold wpY_askAll
      exact cY _ _ (br_t rfl (hall _ hp))
  · have hY := hw0 hle
    obtain ⟨u2, v2, sh2, p2, eu, ev⟩ := rl_deny (m := m) sh1 P1
    refine ⟨0, u2, v2, ⟨sh2, p2⟩, fun post hp => ?_, fun post hp => ?_⟩
    · obtain ⟨N, K, R, B, S, G, E, T, F, D, H, Z, U, A, C⟩ := u
      obtain ⟨N1, K1, R1, B1, S1, G1, E1, T1, F1, D1, H1, Z1, U1, A1, C1⟩ := u1
      rw [eu] at hp
      unfold wpX_ask
      refine bX _ (br_t rfl (cX _ (br_t rfl (hX _ (br_f (fun q => hle ((rl_zle (by omega) (by omega)).mp q)) (And.intro (rl_in hm) (And.intro (rl_in hm) ?_)))))))
      rw [rl_cl hm]
      exact nm_e hp
    · have hall : ∀ p : Int32 → SY → Prop, p 0 v2 → ∃ q, rl_y16 p ((1 : Int32) <<< (nI m &&& 31)) (rl_z c) q 1 0 v := by
        intro p hp2
        refine rl_y16o (al := 0) (v' := v2) hm hs ?_ ⟨5, rl_y70z hp2 4 0 rfl⟩
        intro q hq
        obtain ⟨N', K', R', B', S', V, Q, D', G', E'⟩ := v
        rw [ev] at hq
        refine pk_le 4 m (fun z => absurd z (by omega)) (fun _ => br_t hsm (hY _ (br_t rfl (And.intro (rl_in hm) (And.intro (rl_in hm) ?_)))))
        rw [rl_cl hm]
        exact nm_e (nm_r (e' := nI (m + 1)) (nI_1 m) hq)
      obtain ⟨N', K', R', B', S', V, Q, D', G', E'⟩ := v
      obtain ⟨N2, K2, R2, B2, S2, V2, Q2, D2, G2, E2⟩ := v2
      unfold wpY_ask
      refine bY _ _ (br_t rfl ?_)
      unfold wpY_askAll
      exact cY _ _ (br_t rfl (hall _ hp))
end
section
theorem rl_km1 (k : Nat) : nI k + (-1) = rl_z ((k : Int) - 1) := by
  rw [rl_zn, show (-1 : Int32) = rl_z (-1) by decide, rl_za]
  exact congrArg rl_z (by omega)
theorem rl_yPs {post : Int32 → SY → Prop} {J : Int32 → (Nat → Int32) → (Nat → Int32) → (Nat → Int32) → (Nat → Int32) → (Nat → Int32) → (Nat → Int32) → (Nat → Int32) → (Nat → Int32) → (Nat → Int32) → Prop} {N : Int32} {K R B S V Q D G E : Nat → Int32} {m w : Nat} (hm : m < 4) (hw : w ≤ 1000) (hJ : ∀ Q' : Nat → Int32, (∀ i, i < 10 → Q' (m * 10 + i) = if w ≤ i then Q (m * 10 + (i - w)) else 0) → (∀ p, (p < m * 10 ∨ m * 10 + 10 ≤ p) → Q' p = Q p) → J (nI (m + 1)) K R B S V Q' D G E) : ∃ q, wY_pass_60 post J (rl_z w) (nI m) N q 9 K R B S V Q D G E := by
  have key : ∀ (k : Nat) (Q1 : Nat → Int32), k ≤ 10 → (∀ i, k ≤ i → i < 10 → Q1 (m * 10 + i) = if w ≤ i then Q (m * 10 + (i - w)) else 0) → (∀ p, (p < m * 10 + k ∨ m * 10 + 10 ≤ p) → Q1 p = Q p) → wY_pass_60 post J (rl_z w) (nI m) N (k + 1) (rl_z ((k : Int) - 1)) K R B S V Q1 D G E := by
    intro k
    induction k with
    | zero =>
      intro Q1 _ h1 h2
      exact rl_lt (((0 : Nat) : Int) - 1) 0 (fun _ => nm_r (e' := nI (m + 1)) (nI_1 m) (hJ Q1 (fun i hi => h1 i (by omega) hi) (fun p hp => h2 p (by omega)))) (fun z => absurd z (by omega))
    | succ k ih =>
      intro Q1 hk h1 h2
      have e : rl_z (((k + 1 : Nat) : Int) - 1) = nI k := by
        rw [rl_zn]
        exact congrArg rl_z (by omega)
      rw [e]
      have hin : vp_in (nI (m * 10 + k)) 40 := vp_in_nI (by omega) (by omega)
      have hcl : (nI (m * 10 + k)).toNatClampNeg = m * 10 + k := nI_clamp (by omega)
      refine br_f (nI_pos (by omega)) ?_
      rw [rl_i10, hcl]
      refine rl_lt k w (fun z => And.intro hin (nm_e (nm_r (e' := rl_z ((k : Int) - 1)) (rl_km1 k) (ih _ (by omega) ?_ ?_)))) (fun z => ?_) (rl_zn k)
      · intro i hi hi2
        by_cases e1 : i = k
        · rw [e1, pk_us, if_neg (by omega)]
        · rw [pk_un (by omega)]
          exact h1 i (by omega) hi2
      · intro p hp
        rw [pk_un (by omega)]
        exact h2 p (by omega)
      · have e2 : nI (m * 10 + k) - rl_z (w : Int) = nI (m * 10 + (k - w)) := by
          rw [← rl_zn, pk_sub (by omega)]
          exact congrArg nI (by omega)
        rw [e2, nI_clamp (by omega : m * 10 + (k - w) < 2 ^ 31), h2 (m * 10 + (k - w)) (by omega)]
        refine And.intro (vp_in_nI (by omega) (by omega)) (And.intro hin (nm_e (nm_r (e' := rl_z ((k : Int) - 1)) (rl_km1 k) (ih _ (by omega) ?_ ?_))))
        · intro i hi hi2
          by_cases e1 : i = k
          · rw [e1, pk_us, if_pos (by omega)]
          · rw [pk_un (by omega)]
            exact h1 i (by omega) hi2
        · intro p hp
          rw [pk_un (by omega)]
          exact h2 p (by omega)
  have k0 := key 10 Q (Nat.le_refl _) (fun i a b => absurd a (by omega)) (fun _ _ => rfl)
  exact ⟨_, k0⟩
theorem rl_Wpass {N N' : Int32} {K R B S G E T F D H Z U A C V Q V1 Q1 : Nat → Int32} {m w : Nat} {n r b s d x f y : Int} {h : Nat} {L : List (Int × Int)} (hW : rl_W m n (N, K, R, B, S, G, E, T, F, D, H, Z, U, A, C) (N', K, R, B, S, V, Q, D, G, E) r b s d x f y h L) (hV1 : V1 m = rl_z (min b (y + r * w))) (hQ1 : ∀ i, i < 10 → Q1 (m * 10 + i) = if w ≤ i then Q (m * 10 + (i - w)) else 0) : rl_W m (n + w) (N, K, R, B, S, G, E, T, F, D, H, Z, U, A, C) (N', K, R, B, S, V1, Q1, D, G, E) r b s d x f (min b (y + r * w)) h L := by
  obtain ⟨hV0, ⟨hR, hB, hS, hD⟩, ⟨hT, hF, hH, hZ, hU⟩, hr, hV, hQ⟩ := hW
  obtain ⟨⟨hrb, hb, hs⟩, hd, ⟨hx, hf, hy⟩, hh, hL, ht⟩ := hV0
  have e1 : r * (n + w - f) = r * (n - f) + r * w := by
    rw [← Int.mul_add]
    exact congrArg (r * ·) (by omega)
  have p1 : 0 ≤ r * w := Int.mul_nonneg (by omega) (by omega)
  refine And.intro (And.intro ⟨hrb, hb, hs⟩ ⟨by omega, ⟨hx, by omega, ?_⟩, hh, rl_srtM (by omega) hL, ht⟩) ⟨⟨hR, hB, hS, hD⟩, ⟨hT, hF, hH, hZ, hU⟩, hr, hV1, fun i hi his => ?_⟩
  · rw [e1, hy]
    generalize r * w = p at *
    generalize r * (n - f) = q at *
    omega
  · rw [hQ1 i hi]
    by_cases hc : w ≤ i
    · rw [if_pos hc, hQ (i - w) (by omega) (by omega)]
      exact congrArg (fun a => rl_z (rl_at a L)) (by omega)
    · rw [if_neg hc, rl_atZ hL (by omega)]
      exact rl_0
theorem rl_yPass {post : Int32 → SY → Prop} {K R B S G E T F D H Z U A C : Nat → Int32} {n : Int} {w : Nat} (hn : 0 ≤ n ∧ n ≤ 100000) (hw : w ≤ 1000) (hp : ∀ V' Q' : Nat → Int32, (∀ j, j < 4 → rl_P j (n + w) (rl_z (n + w), K, R, B, S, G, E, T, F, D, H, Z, U, A, C) (rl_z (n + w), K, R, B, S, V', Q', D, G, E)) → post (rl_z (n + w)) (rl_z (n + w), K, R, B, S, V', Q', D, G, E)) : ∀ (k m : Nat) (V1 Q1 : Nat → Int32), m + k = 4 → (∀ j, j < m → rl_P j (n + w) (rl_z (n + w), K, R, B, S, G, E, T, F, D, H, Z, U, A, C) (rl_z (n + w), K, R, B, S, V1, Q1, D, G, E)) → (∀ j, m ≤ j → j < 4 → rl_P j n (rl_z (n + w), K, R, B, S, G, E, T, F, D, H, Z, U, A, C) (rl_z (n + w), K, R, B, S, V1, Q1, D, G, E)) → wY_pass_40 post (rl_z w) (rl_z (n + w)) (k + 1) (nI m) K R B S V1 Q1 D G E := by
  intro k
  induction k with
  | zero =>
    intro m V1 Q1 hk h1 h2
    have e : m = 4 := by omega
    rw [e]
    exact br_t (nI_le (a := 4) (b := 4) (Nat.le_refl _) (by decide)) (hp V1 Q1 (fun j hj => h1 j (by omega)))
  | succ k ih =>
    intro m V1 Q1 hk h1 h2
    have hm : m < 4 := by omega
    obtain ⟨r, b, s, d, x, f, y, h, L, hW⟩ := h2 m (Nat.le_refl m) hm
    have hW2 := hW
    obtain ⟨hV0, ⟨hR, hB, hS, hD⟩, _, _, hV, hQ⟩ := hW2
    refine pk_le 4 m (fun z => absurd z (by omega)) (fun _ => rl_yTok hm hR hB hV hV0.1.1 hV0.1.2.1 (rl_y0 hV0) (by omega) ?_)
    refine And.intro (rl_in hm) ?_
    rw [rl_cl hm]
    refine nm_e (rl_yPs hm hw (fun Q' a1 a2 => ih (m + 1) (upd V1 m (rl_z (min b (y + r * w)))) Q' (by omega) ?_ ?_))
    · intro j hj
      by_cases e : j = m
      · rw [e]
        exact ⟨r, b, s, d, x, f, _, h, L, rl_Wpass hW pk_us a1⟩
      · exact rl_Pf (rl_SmR j _) (And.intro (pk_un e) fun q hq => a2 _ (by omega)) (h1 j (by omega))
    · intro j hj hj2
      have e : j ≠ m := by omega
      exact rl_Pf (rl_SmR j _) (And.intro (pk_un e) fun q hq => a2 _ (by omega)) (h2 j (by omega) hj2)
end
section
theorem rl_full {k : Int32} {n r b s d x f y c i : Int} {h : Nat} {L : List (Int × Int)} (hV : rl_V n r b s d x f y h L) (hc : b < c) : ¬ rl_wd k n r b s d y L c i := by
  obtain ⟨⟨hrb, hb, hs⟩, hd, ⟨hx, hf, hy⟩, hh, hL, ht⟩ := hV
  by_cases k0 : k = 0
  · rw [rl_wd0 k0]
    omega
  · by_cases k1 : k = 1
    · rw [rl_wd1 k0 k1]
      have := rl_lgB (n := n) (s := s) (w := i) hL
      omega
    · rw [rl_wd2 k0 k1]
      have h1 : (b + 1) * s ≤ c * s := Int.mul_le_mul_of_nonneg_right (by omega) (by omega)
      rw [Int.add_mul, Int.one_mul] at h1
      omega
/-- the waiting time of a bucket -/
theorem rl_wB {r q : Int} (hr : 1 ≤ r ∧ r ≤ 5) (hq : 0 < q ∧ q ≤ 30) : (0 ≤ (q + r - 1) / r ∧ (q + r - 1) / r ≤ 300) ∧ q ≤ r * ((q + r - 1) / r) ∧ ∀ w : Int, w < (q + r - 1) / r → r * w < q := by
  have h5 : r = 1 ∨ r = 2 ∨ r = 3 ∨ r = 4 ∨ r = 5 := by omega
  rcases h5 with rfl | rfl | rfl | rfl | rfl
  · exact ⟨by omega, by omega, fun w hw => by omega⟩
  · exact ⟨by omega, by omega, fun w hw => by omega⟩
  · exact ⟨by omega, by omega, fun w hw => by omega⟩
  · exact ⟨by omega, by omega, fun w hw => by omega⟩
  · exact ⟨by omega, by omega, fun w hw => by omega⟩
theorem rl_wait {u : SX} {v : SY} {n : Int} (hn : 0 ≤ n ∧ n ≤ 100000) (hSh : rl_Sh n u v) (hP : ∀ m, m < 4 → rl_P m n u v) (p0 p1 : Int32) : ∃ (r : Int32) (u' : SX), (rl_Sh n u' v ∧ ∀ m, m < 4 → rl_P m n u' v) ∧ (∀ post : Int32 → SX → Prop, post r u' → wpX_waitFor post u p0 p1) ∧ (∀ post : Int32 → Prop, post r → wpY_waitFor post v p0 p1) := by
  rcases rl_bad p0 with ⟨m, hm, rfl, bX, bY⟩ | ⟨bX, bY⟩
  rotate_left
  · refine ⟨-1, u, ⟨hSh, hP⟩, fun post hp => ?_, fun post hp => ?_⟩
    · obtain ⟨N, K, R, B, S, G, E, T, F, D, H, Z, U, A, C⟩ := u
      unfold wpX_waitFor
      exact bX _ (br_f rl_n10 hp)
    · obtain ⟨N', K', R', B', S', V, Q, D', G', E'⟩ := v
      unfold wpY_waitFor
      exact bY _ _ (br_f rl_n10 hp)
  rcases rl_badC p1 with ⟨c, hc1, hc2, rfl, cX, cY⟩ | ⟨cX, cY⟩
  rotate_left
  · refine ⟨-3, u, ⟨hSh, hP⟩, fun post hp => ?_, fun post hp => ?_⟩
    · obtain ⟨N, K, R, B, S, G, E, T, F, D, H, Z, U, A, C⟩ := u
      unfold wpX_waitFor
      exact bX _ (br_t rfl (cX _ (br_f rl_n10 hp)))
    · obtain ⟨N', K', R', B', S', V, Q, D', G', E'⟩ := v
      unfold wpY_waitFor
      exact bY _ _ (br_t rfl (cY _ _ (br_f rl_n10 hp)))
  obtain ⟨r, b, s, d, x, f, y, h, L, hW⟩ := hP m hm
  by_cases hcb : c ≤ b
  rotate_left
  · refine ⟨-4, u, ⟨hSh, hP⟩, fun post hp => ?_, fun post hp => ?_⟩
    · obtain ⟨N, K, R, B, S, G, E, T, F, D, H, Z, U, A, C⟩ := u
      obtain ⟨N', K', R', B', S', V, Q, D', G', E'⟩ := v
      obtain ⟨hV0, ⟨hR, hB, hS, hD⟩, _, _, hV, hQ⟩ := hW
      have hb := hV0.1.2.1
      unfold wpX_waitFor
      refine bX _ (br_t rfl (cX _ (br_t rfl (And.intro (rl_in hm) ?_))))
      rw [rl_cl hm, hB]
      exact rl_le c b (fun z => absurd z hcb) (fun _ => hp)
    · obtain ⟨N, K, R, B, S, G, E, T, F, D, H, Z, U, A, C⟩ := u
      obtain ⟨N', K', R', B', S', V, Q, D', G', E'⟩ := v
      obtain ⟨rfl, rfl, rfl, rfl, rfl, rfl, rfl, rfl, rfl⟩ := hSh
      have hV0 := hW.1
      unfold wpY_waitFor
      exact bY _ _ (br_t rfl (cY _ _ (br_t rfl (rl_yW0 hm hn hW ⟨hc1, hc2⟩ (fun i _ _ => rl_full hV0 (by omega)) hp))))
  obtain ⟨u1, h1, L1, rm, sh1, w1, fr1, hk1, sm1, hrm, law, hX⟩ := rl_xRoom hm hn hSh hW
  have P1 : ∀ j, j < 4 → rl_P j n u1 v := by
    intro j hj
    by_cases e : j = m
    · rw [e]
      exact ⟨_, _, _, _, _, _, _, _, _, w1⟩
    · exact rl_Pf (sm1 j e) (rl_SnR j v) (hP j hj)
  obtain ⟨N, K, R, B, S, G, E, T, F, D, H, Z, U, A, C⟩ := u
  obtain ⟨N1, K1, R1, B1, S1, G1, E1, T1, F1, D1, H1, Z1, U1, A1, C1⟩ := u1
  obtain ⟨N', K', R', B', S', V, Q, D', G', E'⟩ := v
  obtain ⟨-, ⟨-, hB, -, -⟩, -⟩ := hW
  have sh2 := sh1
  have w2 := w1
  obtain ⟨rfl, rfl, rfl, rfl, rfl, rfl, rfl, rfl, rfl⟩ := sh2
  obtain ⟨hV0, ⟨hR1, hB1, hS1, hD1⟩, ⟨hT1, hF1, hH1, hZ1, hU1⟩, hr1, hV1, hQ1⟩ := w2
  have y0 := rl_y0 hV0
  obtain ⟨⟨hrb, hb, hs⟩, hd, ⟨hx, hf, hy⟩, hh, hL, ht⟩ := hV0
  have t0 := rl_tot0 hL
  have hl := rl_totL hL
  have bs := rl_mb (lo := 1) (hi := 30) (k := 10) (a := b) (b := s) hb (by omega) (by omega)
  have cs := rl_mb (lo := 1) (hi := 20) (k := 10) (a := c) (b := s) ⟨hc1, hc2⟩ (by omega) (by omega)
  have csb : c * s ≤ b * s := Int.mul_le_mul_of_nonneg_right hcb (by omega)
  have yy : ∀ w : Int, 0 ≤ w ∧ w ≤ 300 → rl_wd (K1 m) n r b s d y L1 c w → (∀ i : Int, 0 ≤ i → i < w → ¬ rl_wd (K1 m) n r b s d y L1 c i) → ∀ post : Int32 → Prop, post (rl_z w) → wpY_waitFor post (rl_z n, K1, R1, B1, S1, V, Q, D1, G1, E1) (nI m) (rl_z c) := by
    intro w hw a1 a0 post hp
    unfold wpY_waitFor
    exact bY _ _ (br_t rfl (cY _ _ (br_t rfl (rl_yW1 hm hn w1 ⟨hc1, hc2⟩ hw a1 a0 hp))))
  by_cases hle : c ≤ rm
  · refine ⟨rl_z 0, _, ⟨sh1, P1⟩, fun post hp => ?_, yy 0 (by decide) ((law c hc1).mp hle) (fun i a b => absurd b (by omega))⟩
    unfold wpX_waitFor
    refine bX _ (br_t rfl (cX _ (br_t rfl (And.intro (rl_in hm) ?_))))
    rw [rl_cl hm, hB]
    exact br_t ((rl_zle (by omega) (by omega)).mpr hcb) (hX _ (br_f (fun q => absurd ((rl_zlt (by omega) (by omega)).mp q) (by omega)) hp))
  have nwd : ¬ rl_wd (K1 m) n r b s d y L1 c 0 := fun q => hle ((law c hc1).mpr q)
  have hlt : rl_z rm < rl_z c := (rl_zlt (by omega) (by omega)).mpr (by omega)
  by_cases k1 : K1 m = 1
  · have k0 : ¬ K1 m = 0 := by rw [k1]; decide
    rw [rl_wd1 k0 k1, rl_lgF fr1] at nwd
    obtain ⟨⟨e, he, hw⟩, a1, a2⟩ := rl_lwL (s := s) L1 (rl_tot L1 + c - b) 0 hL (by omega) (by omega)
    have hef := fr1 e he
    have hen : e.1 ≤ n := by
      have : ∀ (M : List (Int × Int)), rl_srt n M → ∀ q, q ∈ M → q.1 ≤ n := by
        intro M
        induction M with
        | nil => intro _ q hq; simp at hq
        | cons a M ih =>
          intro hM q hq
          simp only [rl_srt] at hM
          rcases List.mem_cons.mp hq with e1 | e1
          · rw [e1]
            exact hM.1.2.1
          · exact ih hM.2.2 q e1
      exact this L1 hL e he
    refine ⟨rl_z (rl_lw n s L1 (rl_tot L1 + c - b) 0), _, ⟨sh1, P1⟩, fun post hp => ?_, yy _ (by omega) ?_ ?_⟩
    · unfold wpX_waitFor
      refine bX _ (br_t rfl (cX _ (br_t rfl (And.intro (rl_in hm) ?_))))
      rw [rl_cl hm, hB]
      refine br_t ((rl_zle (by omega) (by omega)).mpr hcb) (hX _ (br_t hlt (And.intro (rl_in hm) (br_t k1 ?_))))
      refine And.intro (rl_in hm) (And.intro (rl_in hm) ?_)
      rw [rl_cl hm, hU1, hB1, rl_za, rl_zs]
      refine nm_e ⟨_, rl_xLw hm hn hS1 hH1 hZ1 hh (by omega) L1 0 _ 0 (by omega) (by omega) hr1 hL (by omega) (by omega) hp⟩
    · rw [rl_wd1 k0 k1]
      omega
    · intro i hi0 hi1
      rw [rl_wd1 k0 k1]
      have := a2 i hi1
      omega
  · by_cases k0 : K1 m = 0
    · rw [rl_wd0 k0, Int.mul_zero] at nwd
      obtain ⟨wb, wq, wn⟩ := rl_wB (r := r) (q := c - y) hrb (by omega)
      refine ⟨rl_z ((c - y + r - 1) / r), _, ⟨sh1, P1⟩, fun post hp => ?_, yy _ wb ?_ ?_⟩
      · unfold wpX_waitFor
        refine bX _ (br_t rfl (cX _ (br_t rfl (And.intro (rl_in hm) ?_))))
        rw [rl_cl hm, hB]
        refine br_t ((rl_zle (by omega) (by omega)).mpr hcb) (hX _ (br_t hlt (And.intro (rl_in hm) (br_f k1 (And.intro (rl_in hm) (br_t k0 (And.intro (rl_in hm) ?_)))))))
        rw [hR1]
        refine rl_le r 0 (fun z => absurd z (by omega)) (fun _ => And.intro (rl_in hm) ?_)
        refine And.intro (rl_in hm) ?_
        rw [rl_cl hm, hT1, rl_zs, rl_za, rl_zs1, rl_zdiv (by omega) (by omega)]
        refine And.intro ?_ hp
        rw [show (0 : Int32) = rl_z 0 from rl_0, rl_zeq (by omega) (by omega)]
        omega
      · rw [rl_wd0 k0]
        omega
      · intro i hi0 hi1
        rw [rl_wd0 k0]
        have := wn i hi1
        omega
    · rw [rl_wd2 k0 k1, Int.add_zero] at nwd
      have em : (c - b) * s = c * s - b * s := Int.sub_mul c b s
      refine ⟨rl_z (d + (c - b) * s - n), _, ⟨sh1, P1⟩, fun post hp => ?_, yy _ (by omega) ?_ ?_⟩
      · unfold wpX_waitFor
        refine bX _ (br_t rfl (cX _ (br_t rfl (And.intro (rl_in hm) ?_))))
        rw [rl_cl hm, hB]
        refine br_t ((rl_zle (by omega) (by omega)).mpr hcb) (hX _ (br_t hlt (And.intro (rl_in hm) (br_f k1 (And.intro (rl_in hm) (br_f k0 (And.intro (rl_in hm) (And.intro (rl_in hm) (And.intro (rl_in hm) ?_)))))))))
        rw [hD1, hB1, hS1, rl_zs, rl_zm, rl_za, rl_zs]
        exact hp
      · rw [rl_wd2 k0 k1]
        omega
      · intro i hi0 hi1
        rw [rl_wd2 k0 k1]
        omega
theorem rl_room {u : SX} {v : SY} {n : Int} (hn : 0 ≤ n ∧ n ≤ 100000) (hSh : rl_Sh n u v) (hP : ∀ m, m < 4 → rl_P m n u v) (p0 : Int32) : ∃ (r : Int32) (u' : SX), (rl_Sh n u' v ∧ ∀ m, m < 4 → rl_P m n u' v) ∧ (∀ post : Int32 → SX → Prop, post r u' → wpX_room post u p0) ∧ (∀ post : Int32 → Prop, post r → wpY_room post v p0) := by
  rcases rl_bad p0 with ⟨m, hm, rfl, bX, bY⟩ | ⟨bX, bY⟩
  rotate_left
  · refine ⟨-1, u, ⟨hSh, hP⟩, fun post hp => ?_, fun post hp => ?_⟩
    · obtain ⟨N, K, R, B, S, G, E, T, F, D, H, Z, U, A, C⟩ := u
      unfold wpX_room
      exact bX _ (br_f rl_n10 hp)
    · obtain ⟨N', K', R', B', S', V, Q, D', G', E'⟩ := v
      unfold wpY_room
      exact bY _ _ (br_f rl_n10 hp)
  obtain ⟨r, b, s, d, x, f, y, h, L, hW⟩ := hP m hm
  obtain ⟨u1, h1, L1, rm, sh1, w1, fr1, hk1, sm1, hrm, law, hX⟩ := rl_xRoom hm hn hSh hW
  have P1 : ∀ j, j < 4 → rl_P j n u1 v := by
    intro j hj
    by_cases e : j = m
    · rw [e]
      exact ⟨_, _, _, _, _, _, _, _, _, w1⟩
    · exact rl_Pf (sm1 j e) (rl_SnR j v) (hP j hj)
  refine ⟨rl_z (min rm 20), u1, ⟨sh1, P1⟩, fun post hp => ?_, fun post hp => ?_⟩
  · obtain ⟨N, K, R, B, S, G, E, T, F, D, H, Z, U, A, C⟩ := u
    obtain ⟨N1, K1, R1, B1, S1, G1, E1, T1, F1, D1, H1, Z1, U1, A1, C1⟩ := u1
    unfold wpX_room
    refine bX _ (br_t rfl (hX _ (rl_le 0 rm (fun _ => rl_le rm 20 (fun z => ?_) (fun z => ?_)) (fun z => absurd z (by omega)))))
    · rw [show min rm 20 = rm by omega] at hp
      exact hp
    · rw [show min rm 20 = 20 by omega] at hp
      exact hp
  · obtain ⟨N, K, R, B, S, G, E, T, F, D, H, Z, U, A, C⟩ := u
    obtain ⟨N1, K1, R1, B1, S1, G1, E1, T1, F1, D1, H1, Z1, U1, A1, C1⟩ := u1
    obtain ⟨N', K', R', B', S', V, Q, D', G', E'⟩ := v
    obtain ⟨rfl, rfl, rfl, rfl, rfl, rfl, rfl, rfl, rfl⟩ := sh1
    unfold wpY_room
    exact bY _ _ (br_t rfl (rl_yRm hm hn w1 hrm.1 law hp))
end
section
theorem i_vc_set {k : Nat} {u : SX} {v : SY} (I : i_Rel k u v) (hk : k + 4 ≤ 2048) (v1 : Int32) (v2 : Int32) (v3 : Int32) : wpX_set (fun r u' => wpY_set (fun r' v' => r' = r ∧ i_Rel (k + 4) u' v') v v1 v2 v3) u v1 v2 v3 := by
  obtain ⟨n, hn, sh, p⟩ := I
  obtain ⟨r, u', v', ⟨sh', p'⟩, x, y⟩ := rl_set hn sh p v1 v2 v3
  exact x _ (y _ ⟨rfl, n, hn, sh', p'⟩)
theorem i_vc_ask {k : Nat} {u : SX} {v : SY} (I : i_Rel k u v) (hk : k + 4 ≤ 2048) (v1 : Int32) (v2 : Int32) : wpX_ask (fun r u' => wpY_ask (fun r' v' => r' = r ∧ i_Rel (k + 4) u' v') v v1 v2) u v1 v2 := by
  obtain ⟨n, hn, sh, p⟩ := I
  obtain ⟨r, u', v', ⟨sh', p'⟩, x, y⟩ := rl_ask hn sh p v1 v2
  exact x _ (y _ ⟨rfl, n, hn, sh', p'⟩)
theorem i_vc_askAll {k : Nat} {u : SX} {v : SY} (I : i_Rel k u v) (hk : k + 4 ≤ 2048) (v1 : Int32) (v2 : Int32) : wpX_askAll (fun r u' => wpY_askAll (fun r' v' => r' = r ∧ i_Rel (k + 4) u' v') v v1 v2) u v1 v2 := by
  obtain ⟨n, hn, sh, p⟩ := I
  obtain ⟨r, u', v', ⟨sh', p'⟩, x, y⟩ := rl_askAll hn sh p v1 v2
  exact x _ (y _ ⟨rfl, n, hn, sh', p'⟩)
theorem i_vc_pass {k : Nat} {u : SX} {v : SY} (I : i_Rel k u v) (hk : k + 4 ≤ 2048) (v1 : Int32) : wpX_pass (fun r u' => wpY_pass (fun r' v' => r' = r ∧ i_Rel (k + 4) u' v') v v1) u v1 := by
  obtain ⟨n, hn, sh, p⟩ := I
  obtain ⟨N, K, R, B, S, G, E, T, F, D, H, Z, U, A, C⟩ := u
  obtain ⟨N', K', R', B', S', V, Q, D', G', E'⟩ := v
  by_cases c0 : v1 < 0
  · exact br_t c0 (br_t c0 ⟨rfl, n, hn, sh, p⟩)
  by_cases c1 : v1 ≤ 1000
  rotate_left
  · exact br_f c0 (br_f c1 (br_f c0 (br_f c1 ⟨rfl, n, hn, sh, p⟩)))
  obtain ⟨rfl, rfl, rfl, rfl, rfl, rfl, rfl, rfl, rfl⟩ := sh
  obtain ⟨w, hw, rfl⟩ := nI_of2 (n := 1000) (by decide) c0 c1
  have ez : rl_z n + nI w = rl_z (n + w) := by rw [rl_zn, rl_za]
  have p2 : ∀ j, j < 4 → rl_P j n (rl_z (n + w), K, R, B, S, G, E, T, F, D, H, Z, U, A, C) (rl_z (n + w), K, R, B, S, V, Q, D, G, E) := fun j hj => rl_Pf (And.intro ⟨rfl, rfl, rfl, rfl, rfl⟩ ⟨⟨rfl, rfl, rfl, rfl, rfl⟩, fun _ _ => rfl, fun _ _ => rfl⟩) (And.intro rfl fun _ _ => rfl) (p j hj)
  refine br_f c0 (br_t c1 ?_)
  rw [ez]
  refine rl_le (n + w) 100000 (fun z => nm_e ?_) (fun z => ?_)
  · refine br_f c0 (br_t c1 ?_)
    rw [ez]
    refine br_t ((rl_zle (b := 100000) (by omega) (by omega)).mpr z) (nm_e ⟨5, ?_⟩)
    rw [rl_zn w]
    exact rl_yPass (G := G) (E := E) (T := T) (F := F) (H := H) (Z := Z) (U := U) (A := A) (C := C) hn hw (fun V' Q' q => ⟨rfl, n + w, by omega, And.intro rfl ⟨rfl, rfl, rfl, rfl, rfl, rfl, rfl, rfl⟩, q⟩) 4 0 V Q rfl (fun j hj => absurd hj (by omega)) (fun j _ hj => p2 j hj)
  · refine br_f c0 (br_t c1 ?_)
    rw [ez]
    exact br_f (fun q => absurd ((rl_zle (b := 100000) (by omega) (by omega)).mp q) (by omega)) ⟨rfl, n, hn, And.intro rfl ⟨rfl, rfl, rfl, rfl, rfl, rfl, rfl, rfl⟩, p⟩
theorem i_vc_waitFor {k : Nat} {u : SX} {v : SY} (I : i_Rel k u v) (hk : k + 4 ≤ 2048) (v1 : Int32) (v2 : Int32) : wpX_waitFor (fun r u' => wpY_waitFor (fun r' => r' = r ∧ i_Rel (k + 4) u' v) v v1 v2) u v1 v2 := by
  obtain ⟨n, hn, sh, p⟩ := I
  obtain ⟨r, u', ⟨sh', p'⟩, x, y⟩ := rl_wait hn sh p v1 v2
  exact x _ (y _ ⟨rfl, n, hn, sh', p'⟩)
theorem i_vc_room {k : Nat} {u : SX} {v : SY} (I : i_Rel k u v) (hk : k + 4 ≤ 2048) (v1 : Int32) : wpX_room (fun r u' => wpY_room (fun r' => r' = r ∧ i_Rel (k + 4) u' v) v v1) u v1 := by
  obtain ⟨n, hn, sh, p⟩ := I
  obtain ⟨r, u', ⟨sh', p'⟩, x, y⟩ := rl_room hn sh p v1
  exact x _ (y _ ⟨rfl, n, hn, sh', p'⟩)
theorem i_vc_granted {k : Nat} {u : SX} {v : SY} (I : i_Rel k u v) (hk : k + 4 ≤ 2048) (v1 : Int32) : wpX_granted (fun r => wpY_granted (fun r' => r' = r ∧ i_Rel (k + 4) u v) v v1) u v1 := by
  have I2 := I
  obtain ⟨n, hn, sh, p⟩ := I2
  obtain ⟨N, K, R, B, S, G, E, T, F, D, H, Z, U, A, C⟩ := u
  obtain ⟨N', K', R', B', S', V, Q, D', G', E'⟩ := v
  obtain ⟨rfl, rfl, rfl, rfl, rfl, rfl, rfl, rfl, rfl⟩ := sh
  unfold wpX_granted wpY_granted
  rcases rl_bad v1 with ⟨m, hm, rfl, bX, bY⟩ | ⟨bX, bY⟩
  · exact bX _ (br_t rfl (And.intro (rl_in hm) (bY _ _ (br_t rfl (And.intro (rl_in hm) ⟨rfl, I⟩)))))
  · exact bX _ (br_f rl_n10 (bY _ _ (br_f rl_n10 ⟨rfl, I⟩)))
theorem i_vc_denied {k : Nat} {u : SX} {v : SY} (I : i_Rel k u v) (hk : k + 4 ≤ 2048) (v1 : Int32) : wpX_denied (fun r => wpY_denied (fun r' => r' = r ∧ i_Rel (k + 4) u v) v v1) u v1 := by
  have I2 := I
  obtain ⟨n, hn, sh, p⟩ := I2
  obtain ⟨N, K, R, B, S, G, E, T, F, D, H, Z, U, A, C⟩ := u
  obtain ⟨N', K', R', B', S', V, Q, D', G', E'⟩ := v
  obtain ⟨rfl, rfl, rfl, rfl, rfl, rfl, rfl, rfl, rfl⟩ := sh
  unfold wpX_denied wpY_denied
  rcases rl_bad v1 with ⟨m, hm, rfl, bX, bY⟩ | ⟨bX, bY⟩
  · exact bX _ (br_t rfl (And.intro (rl_in hm) (bY _ _ (br_t rfl (And.intro (rl_in hm) ⟨rfl, I⟩)))))
  · exact bX _ (br_f rl_n10 (bY _ _ (br_f rl_n10 ⟨rfl, I⟩)))
theorem i_vc_time {k : Nat} {u : SX} {v : SY} (I : i_Rel k u v) (hk : k + 4 ≤ 2048) : wpX_time (fun r => wpY_time (fun r' => r' = r ∧ i_Rel (k + 4) u v) v) u := by
  have I2 := I
  obtain ⟨n, hn, sh, p⟩ := I2
  obtain ⟨N, K, R, B, S, G, E, T, F, D, H, Z, U, A, C⟩ := u
  obtain ⟨N', K', R', B', S', V, Q, D', G', E'⟩ := v
  obtain ⟨rfl, rfl, rfl, rfl, rfl, rfl, rfl, rfl, rfl⟩ := sh
  exact And.intro rfl I
end
