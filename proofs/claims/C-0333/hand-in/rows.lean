section
/-! rows pasted out of kit/rows: PURE-ROWS (stores, nI, branches by naturals) and BITS (wb_) -/
theorem pk_us {f : Nat → Int32} {k : Nat} {x : Int32} : upd f k x k = x := if_pos rfl
theorem pk_un {f : Nat → Int32} {k j : Nat} {x : Int32} (h : j ≠ k) : upd f k x j = f j := if_neg h
theorem pk_uLs {f : Nat → Int64} {k : Nat} {x : Int64} : vp_updL f k x k = x := if_pos rfl
theorem pk_uLn {f : Nat → Int64} {k j : Nat} {x : Int64} (h : j ≠ k) : vp_updL f k x j = f j := if_neg h
theorem pk_sub {a b : Nat} (h : b ≤ a) : nI a - nI b = nI (a - b) := by
  obtain ⟨c, rfl⟩ : ∃ c, a = c + b := ⟨a - b, by omega⟩
  rw [← nI_add, Int32.add_sub_cancel, Nat.add_sub_cancel]
theorem pk_m1 (n : Nat) : nI (n + 1) + (-1) = nI n := by
  rw [← nI_1, Int32.add_assoc, show (1 : Int32) + (-1) = 0 from rfl, Int32.add_zero]
theorem pk_mul (a b : Nat) : nI a * nI b = nI (a * b) := (Int32.ofNat_mul a b).symm
theorem pk_div {a d : Nat} (ha : a < 2 ^ 31) (h0 : 0 < d) (hd : d < 2 ^ 31) : nI a / nI d = nI (a / d) := by
  apply Int32.toInt_inj.mp
  rw [lg_idiv_nonneg (by rw [nI_toInt ha]; omega) (by rw [nI_toInt hd]; omega), nI_toInt ha, nI_toInt hd, nI_toInt (Nat.lt_of_le_of_lt (Nat.div_le_self a d) ha)]
  first | rfl | exact (Int.natCast_ediv _ _).symm
theorem pk_rem {a d : Nat} (ha : a < 2 ^ 31) (h0 : 0 < d) (hd : d < 2 ^ 31) : nI a - nI a / nI d * nI d = nI (a % d) := by
  rw [pk_div ha h0 hd, pk_mul, pk_sub (Nat.div_mul_le_self a d)]
  exact congrArg nI (by have := Nat.div_add_mod' a d; omega)
theorem pk_sub_toInt {a b : Nat} (ha : a < 2 ^ 30) (hb : b < 2 ^ 30) : (nI a - nI b).toInt = (a : Int) - b := by
  rw [Int32.toInt_sub, nI_toInt (by omega), nI_toInt (by omega)]
  exact Int.bmod_eq_of_le (by omega) (by omega)
theorem pk_sneg {a b : Nat} (hb : b < 2 ^ 30) (h : a < b) : nI a - nI b < 0 := by
  rw [Int32.lt_iff_toInt_lt, pk_sub_toInt (by omega) hb, show (0 : Int32).toInt = 0 from by decide]
  omega
theorem pk_ix (x : Int32) {n : Nat} (hn : n < 2 ^ 31) : x < 0 ∨ nI n ≤ x ∨ ∃ j : Nat, j < n ∧ x = nI j := by
  by_cases h : x < 0
  · exact Or.inl h
  · obtain ⟨j, hj, rfl⟩ := nI_of h
    by_cases h2 : j < n
    · exact Or.inr (Or.inr ⟨j, h2, rfl⟩)
    · exact Or.inr (Or.inl (nI_le (by omega) hj))
theorem pk_le {x y : Int32} {A B : Prop} (a b : Nat) (f : a ≤ b → A) (g : b < a → B) (hx : x = nI a := by rfl) (hy : y = nI b := by rfl) (ha : a < 2 ^ 31 := by omega) (hb : b < 2 ^ 31 := by omega) : (x ≤ y → A) ∧ (¬ x ≤ y → B) := by
  subst hx hy
  rw [nI_leI ha hb]
  exact ⟨f, fun z => g (by omega)⟩
theorem pk_lt {x y : Int32} {A B : Prop} (a b : Nat) (f : a < b → A) (g : b ≤ a → B) (hx : x = nI a := by rfl) (hy : y = nI b := by rfl) (ha : a < 2 ^ 31 := by omega) (hb : b < 2 ^ 31 := by omega) : (x < y → A) ∧ (¬ x < y → B) := by
  subst hx hy
  rw [nI_ltI ha hb]
  exact ⟨f, fun z => g (by omega)⟩
theorem pk_eq {x y : Int32} {A B : Prop} (a b : Nat) (f : a = b → A) (g : a ≠ b → B) (hx : x = nI a := by rfl) (hy : y = nI b := by rfl) (ha : a < 2 ^ 31 := by omega) (hb : b < 2 ^ 31 := by omega) : (x = y → A) ∧ (¬ x = y → B) := by
  subst hx hy
  rw [nI_eq ha hb]
  exact ⟨f, g⟩
theorem pk_in {x : Int32} (n N : Nat) (h : n < N) (hx : x = nI n := by rfl) (hN : N < 2 ^ 31 := by omega) : vp_in x N := by
  subst hx
  exact vp_in_nI h hN
theorem pk_cl {x : Int32} (n : Nat) (hx : x = nI n := by rfl) (h : n < 2 ^ 31 := by omega) : x.toNatClampNeg = n := by
  subst hx
  exact nI_clamp h
theorem pk_vb (z : Int32) : vp_nar .byte z.toInt8.toInt32 = z.toInt8.toInt32 := by rw [vp_nar_byte]; simp
theorem wb_tb (n : Nat) : (lN n).toBitVec = BitVec.ofNat 64 n := rfl
theorem wb_inj {a b : Int64} (h : a.toBitVec = b.toBitVec) : a = b := Int64.toBitVec_inj.mp h
theorem wb_tn {n : Nat} (h : n < 2 ^ 64) : (lN n).toBitVec.toNat = n := by rw [wb_tb, BitVec.toNat_ofNat, Nat.mod_eq_of_lt h]
theorem wb_of (x : Int64) : ∃ n, n < 2 ^ 64 ∧ x = lN n := ⟨x.toBitVec.toNat, x.toBitVec.isLt, wb_inj (by rw [wb_tb]; simp)⟩
theorem wb_of32 (x : Int32) : ∃ n, n < 2 ^ 32 ∧ x = nI n := ⟨x.toBitVec.toNat, x.toBitVec.isLt, Int32.toBitVec_inj.mp (by show _ = BitVec.ofNat 32 _; simp)⟩
theorem wb_c : ∀ k, k < 64 → ((nI k).toInt64 &&& 63) = lN k := by decide +kernel
theorem wb_cu : ∀ k, k < 64 → ((nI k).toInt64.toUInt64 &&& Int64.toUInt64 63) = UInt64.ofNat k := by decide +kernel
theorem wb_sm : ∀ k, k < 64 → (BitVec.ofNat 64 k).smod 64 = BitVec.ofNat 64 k := by decide +kernel
theorem wb_pw {a b : Nat} (h : a ≤ b) : 2 ^ b = 2 ^ a * 2 ^ (b - a) := by rw [← Nat.pow_add]; congr 1; omega
theorem wb_lt2 {a b : Nat} (h : a < b) : 2 ^ a < 2 ^ b := Nat.pow_lt_pow_right (by decide) h
theorem wb_mod (n : Nat) : lN n = lN (n % 2 ^ 64) := wb_inj (by rw [wb_tb, wb_tb]; apply BitVec.eq_of_toNat_eq; rw [BitVec.toNat_ofNat, BitVec.toNat_ofNat, Nat.mod_mod])
theorem wb_shr {n k : Nat} (hn : n < 2 ^ 64) (hk : k < 64) : ((lN n).toUInt64 >>> ((nI k).toInt64.toUInt64 &&& Int64.toUInt64 63)).toInt64 = lN (n / 2 ^ k) := by
  rw [wb_cu k hk]
  apply wb_inj
  apply BitVec.eq_of_toNat_eq
  show ((lN n).toUInt64 >>> UInt64.ofNat k).toNat = (BitVec.ofNat 64 _).toNat
  have h1 : (UInt64.ofNat k).toNat = k := by
    show (BitVec.ofNat 64 k).toNat = k
    rw [BitVec.toNat_ofNat, Nat.mod_eq_of_lt (by omega)]
  have h2 : (lN n).toUInt64.toNat = n := wb_tn hn
  rw [UInt64.toNat_shiftRight, h1, h2, Nat.mod_eq_of_lt hk, Nat.shiftRight_eq_div_pow, BitVec.toNat_ofNat, Nat.mod_eq_of_lt (Nat.lt_of_le_of_lt (Nat.div_le_self _ _) hn)]
theorem wb_shl (n : Nat) {k : Nat} (hk : k < 64) : lN n <<< ((nI k).toInt64 &&& 63) = lN (n * 2 ^ k) := by
  rw [wb_c k hk]
  apply wb_inj
  rw [Int64.toBitVec_shiftLeft, wb_tb, wb_tb, wb_tb, wb_sm k hk]
  apply BitVec.eq_of_toNat_eq
  rw [BitVec.shiftLeft_eq', BitVec.toNat_shiftLeft, BitVec.toNat_ofNat, BitVec.toNat_ofNat, BitVec.toNat_ofNat, Nat.mod_eq_of_lt (show k < 2 ^ 64 by omega), Nat.shiftLeft_eq, Nat.mul_mod, Nat.mod_mod, ← Nat.mul_mod]
theorem wb_and {a b : Nat} (ha : a < 2 ^ 64) (hb : b < 2 ^ 64) : lN a &&& lN b = lN (a &&& b) := by
  apply wb_inj
  rw [Int64.toBitVec_and, wb_tb, wb_tb, wb_tb]
  apply BitVec.eq_of_toNat_eq
  rw [BitVec.toNat_and, BitVec.toNat_ofNat, BitVec.toNat_ofNat, BitVec.toNat_ofNat, Nat.mod_eq_of_lt ha, Nat.mod_eq_of_lt hb, Nat.mod_eq_of_lt (Nat.and_lt_two_pow _ hb)]
theorem wb_or {a b : Nat} (ha : a < 2 ^ 64) (hb : b < 2 ^ 64) : lN a ||| lN b = lN (a ||| b) := by
  apply wb_inj
  rw [Int64.toBitVec_or, wb_tb, wb_tb, wb_tb]
  apply BitVec.eq_of_toNat_eq
  rw [BitVec.toNat_or, BitVec.toNat_ofNat, BitVec.toNat_ofNat, BitVec.toNat_ofNat, Nat.mod_eq_of_lt ha, Nat.mod_eq_of_lt hb, Nat.mod_eq_of_lt (Nat.or_lt_two_pow ha hb)]
theorem wb_mask {n k : Nat} (hn : n < 2 ^ 64) (hk : k < 64) : lN n &&& lN (2 ^ k - 1) = lN (n % 2 ^ k) := by
  rw [wb_and hn (by have := wb_lt2 hk; omega), Nat.and_two_pow_sub_one_eq_mod]
theorem wb_a1 {n : Nat} (hn : n < 2 ^ 64) : lN n &&& 1 = lN (n % 2) := wb_mask (k := 1) hn (by decide)
theorem wb_bit {n k : Nat} (hn : n < 2 ^ 64) (hk : k < 64) : ((lN n).toUInt64 >>> ((nI k).toInt64.toUInt64 &&& Int64.toUInt64 63)).toInt64 &&& 1 = lN (n / 2 ^ k % 2) := by
  rw [wb_shr hn hk, wb_a1 (Nat.lt_of_le_of_lt (Nat.div_le_self _ _) hn)]
end
section
/-! the abstract database: rules, row counts, cells at 5 t + i, heads, atom counts, atoms at 3 r + k -/
abbrev nn_DB : Type := Nat × (Nat → Nat) × (Nat → Nat) × (Nat → Nat) × (Nat → Nat) × (Nat → Nat) × (Nat → Nat) × (Nat → Nat) × (Nat → Nat) × (Nat → Nat)
def nn_R (c : nn_DB) : Nat := c.1
def nn_n (c : nn_DB) : Nat → Nat := c.2.1
def nn_x (c : nn_DB) : Nat → Nat := c.2.2.1
def nn_y (c : nn_DB) : Nat → Nat := c.2.2.2.1
def nn_hx (c : nn_DB) : Nat → Nat := c.2.2.2.2.1
def nn_hy (c : nn_DB) : Nat → Nat := c.2.2.2.2.2.1
def nn_m (c : nn_DB) : Nat → Nat := c.2.2.2.2.2.2.1
def nn_tb (c : nn_DB) : Nat → Nat := c.2.2.2.2.2.2.2.1
def nn_ax (c : nn_DB) : Nat → Nat := c.2.2.2.2.2.2.2.2.1
def nn_ay (c : nn_DB) : Nat → Nat := c.2.2.2.2.2.2.2.2.2
def nn_isV (v : Nat) : Prop := v ≤ 3 ∨ (10 ≤ v ∧ v ≤ 12)
def nn_isT (v : Nat) : Prop := v ≤ 3 ∨ (20 ≤ v ∧ v ≤ 23)
def nn_WF (c : nn_DB) : Prop :=
  nn_R c ≤ 2 ∧ (∀ t, t < 2 → nn_n c t ≤ 5) ∧
  (∀ t i, t < 2 → i < nn_n c t → nn_isV (nn_x c (5 * t + i)) ∧ nn_isV (nn_y c (5 * t + i))) ∧
  (∀ r, r < nn_R c → nn_isT (nn_hx c r) ∧ nn_isT (nn_hy c r) ∧ nn_m c r ≤ 3) ∧
  (∀ r k, r < nn_R c → k < nn_m c r → nn_tb c (3 * r + k) < 2 ∧ nn_isT (nn_ax c (3 * r + k)) ∧ nn_isT (nn_ay c (3 * r + k)))
def nn_ev (σ : Nat → Nat) (t : Nat) : Nat := if t < 10 then t else σ t
def nn_ce (c : nn_DB) (r : Nat) (p : Nat → Nat) (k : Nat) : Nat := 5 * nn_tb c (3 * r + k) + p k
def nn_Mt (c : nn_DB) (r : Nat) (p κ σ : Nat → Nat) (j : Nat) : Prop :=
  ∀ k, k < j → nn_ev σ (nn_ax c (3 * r + k)) = nn_ev κ (nn_x c (nn_ce c r p k)) ∧ nn_ev σ (nn_ay c (3 * r + k)) = nn_ev κ (nn_y c (nn_ce c r p k))
def nn_Va (c : nn_DB) (r : Nat) (p : Nat → Nat) : Prop := ∀ k, k < nn_m c r → p k < nn_n c (nn_tb c (3 * r + k))
def nn_In (c : nn_DB) (r t : Nat) : Prop := t < 20 ∨ ∃ k, k < nn_m c r ∧ (nn_ax c (3 * r + k) = t ∨ nn_ay c (3 * r + k) = t)
def nn_Sf (c : nn_DB) (r : Nat) : Prop := nn_In c r (nn_hx c r) ∧ nn_In c r (nn_hy c r)
def nn_Kst (σ : Nat → Nat) : Prop := ∀ u, 10 ≤ u → u ≤ 12 → σ u = u
def nn_Kc (σ : Nat → Nat) : Prop := ∀ u, 10 ≤ u → u ≤ 12 → σ u ≤ 6
/-- the couple k in a completion, by one choice of rows; by a rule; by all rules -/
def nn_CP (c : nn_DB) (κ : Nat → Nat) (r : Nat) (p : Nat → Nat) (k : Nat) : Prop :=
  ∃ σ, nn_Mt c r p κ σ (nn_m c r) ∧ nn_ev σ (nn_hx c r) = k / 7 ∧ nn_ev σ (nn_hy c r) = k % 7
def nn_CR (c : nn_DB) (κ : Nat → Nat) (r k : Nat) : Prop := nn_Sf c r ∧ ∃ p, nn_Va c r p ∧ nn_CP c κ r p k
def nn_CA (c : nn_DB) (κ : Nat → Nat) (k : Nat) : Prop := ∃ r, r < nn_R c ∧ nn_CR c κ r k
/-- a strict match: k below 49 a couple, else any answer -/
def nn_Hs (c : nn_DB) (r : Nat) (p : Nat → Nat) (k : Nat) : Prop :=
  ∃ ρ, nn_Kst ρ ∧ nn_Mt c r p ρ ρ (nn_m c r) ∧ (k < 49 → nn_ev ρ (nn_hx c r) = k / 7 ∧ nn_ev ρ (nn_hy c r) = k % 7)
def nn_NR (c : nn_DB) (r k : Nat) : Prop := nn_Sf c r ∧ ∃ p, nn_Va c r p ∧ nn_Hs c r p k
def nn_NA (c : nn_DB) (k : Nat) : Prop := ∃ r, r < nn_R c ∧ nn_NR c r k
/-- a loose match with the goal a, b -/
def nn_Hl (c : nn_DB) (r a b : Nat) (p : Nat → Nat) : Prop :=
  ∃ ρ, nn_Kc ρ ∧ nn_Mt c r p ρ ρ (nn_m c r) ∧ nn_ev ρ (nn_hx c r) = a ∧ nn_ev ρ (nn_hy c r) = b
def nn_PR (c : nn_DB) (a b r : Nat) : Prop := nn_Sf c r ∧ ∃ p, nn_Va c r p ∧ nn_Hl c r a b p
def nn_PA (c : nn_DB) (a b : Nat) : Prop := ∃ r, r < nn_R c ∧ nn_PR c a b r

theorem nn_ev_lt {σ : Nat → Nat} {t : Nat} (h : t < 10) : nn_ev σ t = t := if_pos h
theorem nn_ev_ge {σ : Nat → Nat} {t : Nat} (h : 10 ≤ t) : nn_ev σ t = σ t := if_neg (by omega)
theorem nn_ev_V {κ κ' : Nat → Nat} {v : Nat} (hv : nn_isV v) (h : ∀ u, 10 ≤ u → u ≤ 12 → κ u = κ' u) : nn_ev κ v = nn_ev κ' v := by
  rcases hv with h1 | ⟨h1, h2⟩
  · rw [nn_ev_lt (by omega), nn_ev_lt (by omega)]
  · rw [nn_ev_ge h1, nn_ev_ge h1, h v h1 h2]
theorem nn_ev_T {κ κ' : Nat → Nat} {v : Nat} (hv : nn_isT v) (h : ∀ u, 20 ≤ u → u ≤ 23 → κ u = κ' u) : nn_ev κ v = nn_ev κ' v := by
  rcases hv with h1 | ⟨h1, h2⟩
  · rw [nn_ev_lt (by omega), nn_ev_lt (by omega)]
  · rw [nn_ev_ge (by omega), nn_ev_ge (by omega), h v h1 h2]
theorem nn_ev_f {σ f : Nat → Nat} {t : Nat} (hf : ∀ v, v ≤ 3 → f v = v) (ht : t ≤ 3 ∨ 10 ≤ t) : nn_ev (fun u => f (σ u)) t = f (nn_ev σ t) := by
  rcases ht with h | h
  · rw [nn_ev_lt (by omega), nn_ev_lt (by omega), hf t h]
  · rw [nn_ev_ge h, nn_ev_ge h]
theorem nn_V3 {v : Nat} (h : nn_isV v) : v ≤ 3 ∨ 10 ≤ v := by unfold nn_isV at h; omega
theorem nn_T3 {v : Nat} (h : nn_isT v) : v ≤ 3 ∨ 10 ≤ v := by unfold nn_isT at h; omega
theorem nn_Mt_p {c : nn_DB} {r j : Nat} {p q κ σ : Nat → Nat} (h : ∀ k, k < j → p k = q k) (H : nn_Mt c r p κ σ j) : nn_Mt c r q κ σ j := by
  intro k hk
  have e : nn_ce c r q k = nn_ce c r p k := by unfold nn_ce; rw [h k hk]
  rw [e]
  exact H k hk
theorem nn_Mt_s {c : nn_DB} {r j : Nat} {p κ σ : Nat → Nat} : nn_Mt c r p κ σ (j + 1) ↔ nn_Mt c r p κ σ j ∧ nn_ev σ (nn_ax c (3 * r + j)) = nn_ev κ (nn_x c (nn_ce c r p j)) ∧ nn_ev σ (nn_ay c (3 * r + j)) = nn_ev κ (nn_y c (nn_ce c r p j)) := by
  constructor
  · intro H
    exact ⟨fun k hk => H k (by omega), H j (by omega)⟩
  · intro H k hk
    rcases Nat.lt_or_eq_of_le (Nat.le_of_lt_succ hk) with h1 | h1
    · exact H.1 k h1
    · subst h1; exact H.2
theorem nn_Mt_0 {c : nn_DB} {r : Nat} {p κ σ : Nat → Nat} : nn_Mt c r p κ σ 0 := fun k hk => absurd hk (by omega)
theorem nn_Mt_le {c : nn_DB} {r j i : Nat} {p κ σ : Nat → Nat} (h : i ≤ j) (H : nn_Mt c r p κ σ j) : nn_Mt c r p κ σ i := fun k hk => H k (by omega)
theorem nn_Va_p {c : nn_DB} {r : Nat} {p q : Nat → Nat} (h : ∀ k, k < nn_m c r → p k = q k) (H : nn_Va c r p) : nn_Va c r q := by
  intro k hk
  rw [← h k hk]
  exact H k hk
theorem nn_cell {c : nn_DB} (hW : nn_WF c) {r k : Nat} {p : Nat → Nat} (hr : r < nn_R c) (hV : p k < nn_n c (nn_tb c (3 * r + k))) (hk : k < nn_m c r) : nn_isV (nn_x c (nn_ce c r p k)) ∧ nn_isV (nn_y c (nn_ce c r p k)) :=
  hW.2.2.1 _ _ (hW.2.2.2.2 r k hr hk).1 hV
theorem nn_Mt_a {c : nn_DB} (hW : nn_WF c) {r : Nat} {p κ σ κ' σ' : Nat → Nat} (hr : r < nn_R c) (hV : nn_Va c r p) (h1 : ∀ u, 10 ≤ u → u ≤ 12 → κ u = κ' u) (h2 : ∀ u, 20 ≤ u → u ≤ 23 → σ u = σ' u) (H : nn_Mt c r p κ σ (nn_m c r)) : nn_Mt c r p κ' σ' (nn_m c r) := by
  intro k hk
  have a := hW.2.2.2.2 r k hr hk
  have b := nn_cell hW hr (hV k hk) hk
  rw [← nn_ev_T a.2.1 h2, ← nn_ev_T a.2.2 h2, ← nn_ev_V b.1 h1, ← nn_ev_V b.2 h1]
  exact H k hk
theorem nn_Mt_f {c : nn_DB} (hW : nn_WF c) {r : Nat} {p κ σ f : Nat → Nat} (hr : r < nn_R c) (hV : nn_Va c r p) (hf : ∀ v, v ≤ 3 → f v = v) (H : nn_Mt c r p κ σ (nn_m c r)) : nn_Mt c r p (fun u => f (κ u)) (fun u => f (σ u)) (nn_m c r) := by
  intro k hk
  have a := hW.2.2.2.2 r k hr hk
  have b := nn_cell hW hr (hV k hk) hk
  rw [nn_ev_f hf (nn_T3 a.2.1), nn_ev_f hf (nn_T3 a.2.2), nn_ev_f hf (nn_V3 b.1), nn_ev_f hf (nn_V3 b.2), (H k hk).1, (H k hk).2]
  exact ⟨rfl, rfl⟩
/-- a term of the body is worth what a cell is worth -/
theorem nn_In_c {c : nn_DB} (hW : nn_WF c) {r t : Nat} {p κ σ : Nat → Nat} (hr : r < nn_R c) (hV : nn_Va c r p) (ht : nn_isT t) (hI : nn_In c r t) (H : nn_Mt c r p κ σ (nn_m c r)) : t ≤ 3 ∨ ∃ v, nn_isV v ∧ nn_ev σ t = nn_ev κ v := by
  rcases hI with h | ⟨k, hk, h | h⟩
  · left
    unfold nn_isT at ht
    omega
  · right
    refine ⟨_, (nn_cell hW hr (hV k hk) hk).1, ?_⟩
    rw [← h]; exact (H k hk).1
  · right
    refine ⟨_, (nn_cell hW hr (hV k hk) hk).2, ?_⟩
    rw [← h]; exact (H k hk).2
theorem nn_In_le {c : nn_DB} (hW : nn_WF c) {r t : Nat} {p κ σ : Nat → Nat} (B : Nat) (hB : 3 ≤ B) (hκ : ∀ u, 10 ≤ u → u ≤ 12 → κ u ≤ B) (hr : r < nn_R c) (hV : nn_Va c r p) (ht : nn_isT t) (hI : nn_In c r t) (H : nn_Mt c r p κ σ (nn_m c r)) : nn_ev σ t ≤ B := by
  rcases nn_In_c hW hr hV ht hI H with h | ⟨v, hv, e⟩
  · rw [nn_ev_lt (by omega)]; omega
  · rw [e]
    rcases hv with h1 | ⟨h1, h2⟩
    · rw [nn_ev_lt (by omega)]; omega
    · rw [nn_ev_ge h1]; exact hκ v h1 h2
theorem nn_In1 {c : nn_DB} {r t : Nat} {p κ σ σ' : Nat → Nat} (ht : nn_isT t) (hI : nn_In c r t) (H : nn_Mt c r p κ σ (nn_m c r)) (H' : nn_Mt c r p κ σ' (nn_m c r)) : nn_ev σ t = nn_ev σ' t := by
  rcases hI with h | ⟨k, hk, h | h⟩
  · have h3 : t ≤ 3 := by unfold nn_isT at ht; omega
    rw [nn_ev_lt (by omega), nn_ev_lt (by omega)]
  · rw [← h, (H k hk).1, (H' k hk).1]
  · rw [← h, (H k hk).2, (H' k hk).2]
theorem nn_ev_u {σ : Nat → Nat} {t s w : Nat} (h : s ≠ t) : nn_ev (fun u => if u = t then w else σ u) s = nn_ev σ s := by
  unfold nn_ev
  split
  · rfl
  · exact if_neg h
theorem nn_In2 {c : nn_DB} {r t w : Nat} {p κ σ : Nat → Nat} (hI : ¬ nn_In c r t) (H : nn_Mt c r p κ σ (nn_m c r)) : nn_Mt c r p κ (fun u => if u = t then w else σ u) (nn_m c r) := by
  intro k hk
  have h1 : nn_ax c (3 * r + k) ≠ t := fun e => hI (Or.inr ⟨k, hk, Or.inl e⟩)
  have h2 : nn_ay c (3 * r + k) ≠ t := fun e => hI (Or.inr ⟨k, hk, Or.inr e⟩)
  rw [nn_ev_u h1, nn_ev_u h2]
  exact H k hk
end
section
/-! the laws: strict matching against all completions; loose matching against some completion -/
theorem nn_stall {c : nn_DB} (hW : nn_WF c) {r : Nat} {p ρ κ : Nat → Nat} (hr : r < nn_R c) (hV : nn_Va c r p) (hK : nn_Kst ρ) (H : nn_Mt c r p ρ ρ (nn_m c r)) : nn_Mt c r p κ (fun u => nn_ev κ (ρ u)) (nn_m c r) := by
  have h1 := nn_Mt_f hW hr hV (f := nn_ev κ) (fun v hv => nn_ev_lt (by omega)) H
  refine nn_Mt_a hW hr hV (fun u a b => ?_) (fun _ _ _ => rfl) h1
  show nn_ev κ (ρ u) = κ u
  rw [hK u a b]
  exact nn_ev_ge a
theorem nn_law1a {c : nn_DB} (hW : nn_WF c) {κ : Nat → Nat} {k : Nat} (hk : k < 49) (h : nn_NA c k) : nn_CA c κ k := by
  obtain ⟨r, hr, hS, p, hV, ρ, hK, hM, hh⟩ := h
  have hh := hh hk
  have hf : ∀ v, v ≤ 3 → nn_ev κ v = v := fun v hv => nn_ev_lt (by omega)
  refine ⟨r, hr, hS, p, hV, fun u => nn_ev κ (ρ u), nn_stall hW hr hV hK hM, ?_, ?_⟩
  · rw [nn_ev_f (f := nn_ev κ) hf (nn_T3 (hW.2.2.2.1 r hr).1), hh.1]
    exact nn_ev_lt (by omega)
  · rw [nn_ev_f (f := nn_ev κ) hf (nn_T3 (hW.2.2.2.1 r hr).2.1), hh.2]
    exact nn_ev_lt (by omega)
theorem nn_law2a {c : nn_DB} (hW : nn_WF c) {κ : Nat → Nat} (hc : nn_Kc κ) (h : nn_NA c 49) : ∃ k, k < 49 ∧ nn_CA c κ k := by
  obtain ⟨r, hr, hS, p, hV, ρ, hK, hM, -⟩ := h
  have M := nn_stall (κ := κ) hW hr hV hK hM
  have a := nn_In_le hW 6 (by omega) hc hr hV (hW.2.2.2.1 r hr).1 hS.1 M
  have b := nn_In_le hW 6 (by omega) hc hr hV (hW.2.2.2.1 r hr).2.1 hS.2 M
  refine ⟨7 * nn_ev (fun u => nn_ev κ (ρ u)) (nn_hx c r) + nn_ev (fun u => nn_ev κ (ρ u)) (nn_hy c r), by omega, r, hr, hS, p, hV, _, M, ?_, ?_⟩
  · omega
  · omega
def nn_fr (v : Nat) : Nat := if v < 4 then v else v + 6
theorem nn_free {c : nn_DB} (hW : nn_WF c) {r : Nat} {p σ : Nat → Nat} (hr : r < nn_R c) (hV : nn_Va c r p) (H : nn_Mt c r p (fun u => u - 6) σ (nn_m c r)) : ∃ ρ, nn_Kst ρ ∧ nn_Mt c r p ρ ρ (nn_m c r) ∧ ∀ t, nn_isT t → nn_ev ρ t = nn_fr (nn_ev σ t) := by
  have hf : ∀ v, v ≤ 3 → nn_fr v = v := fun v hv => if_pos (by omega)
  have M := nn_Mt_f hW hr hV (f := nn_fr) hf H
  have hT : ∀ u, 20 ≤ u → u ≤ 23 → nn_fr (σ u) = (if u < 20 then u else nn_fr (σ u)) := fun u h1 h2 => (if_neg (by omega)).symm
  refine ⟨fun u => if u < 20 then u else nn_fr (σ u), fun u h1 h2 => if_pos (by omega), nn_Mt_a hW hr hV (fun u h1 h2 => ?_) hT M, fun t ht => ?_⟩
  · show nn_fr (u - 6) = if u < 20 then u else nn_fr (σ u)
    rw [if_pos (show u < 20 by omega)]
    unfold nn_fr
    rw [if_neg (by omega)]
    omega
  · rw [← nn_ev_f (σ := σ) hf (nn_T3 ht)]
    exact (nn_ev_T ht hT).symm
theorem nn_law2b {c : nn_DB} (hW : nn_WF c) {k : Nat} (h : nn_CA c (fun u => u - 6) k) : nn_NA c 49 := by
  obtain ⟨r, hr, hS, p, hV, σ, hM, -, -⟩ := h
  obtain ⟨ρ, hK, M, -⟩ := nn_free hW hr hV hM
  exact ⟨r, hr, hS, p, hV, ρ, hK, M, fun z => absurd z (by omega)⟩
theorem nn_law1b {c : nn_DB} (hW : nn_WF c) {k : Nat} (h : ∀ κ, nn_Kc κ → nn_CA c κ k) : nn_NA c k := by
  have z : k / 7 ≤ 3 ∧ k % 7 ≤ 3 := by
    obtain ⟨r, hr, hS, p, hV, σ, hM, h1, h2⟩ := h (fun _ => 0) (fun _ _ _ => Nat.zero_le 6)
    rw [← h1, ← h2]
    exact ⟨nn_In_le hW 3 (by omega) (fun _ _ _ => Nat.zero_le 3) hr hV (hW.2.2.2.1 r hr).1 hS.1 hM, nn_In_le hW 3 (by omega) (fun _ _ _ => Nat.zero_le 3) hr hV (hW.2.2.2.1 r hr).2.1 hS.2 hM⟩
  obtain ⟨r, hr, hS, p, hV, σ, hM, h1, h2⟩ := h (fun u => u - 6) (fun u _ _ => by show u - 6 ≤ 6; omega)
  obtain ⟨ρ, hK, M, e⟩ := nn_free hW hr hV hM
  refine ⟨r, hr, hS, p, hV, ρ, hK, M, fun _ => ⟨?_, ?_⟩⟩
  · rw [e _ (hW.2.2.2.1 r hr).1, h1]
    exact if_pos (by omega)
  · rw [e _ (hW.2.2.2.1 r hr).2.1, h2]
    exact if_pos (by omega)
theorem nn_law3 {c : nn_DB} (hW : nn_WF c) {a b : Nat} (hb : b ≤ 6) : (∃ κ, nn_Kc κ ∧ nn_CA c κ (7 * a + b)) ↔ nn_PA c a b := by
  have e1 : (7 * a + b) / 7 = a := by omega
  have e2 : (7 * a + b) % 7 = b := by omega
  constructor
  · rintro ⟨κ, hc, r, hr, hS, p, hV, σ, hM, h1, h2⟩
    have hT : ∀ u, 20 ≤ u → u ≤ 23 → σ u = (if u < 20 then κ u else σ u) := fun u h1 h2 => (if_neg (by omega)).symm
    have hU : ∀ u, 10 ≤ u → u ≤ 12 → κ u = (if u < 20 then κ u else σ u) := fun u h1 h2 => (if_pos (by omega)).symm
    refine ⟨r, hr, hS, p, hV, fun u => if u < 20 then κ u else σ u, fun u h1 h2 => ?_, nn_Mt_a hW hr hV hU hT hM, ?_, ?_⟩
    · show (if u < 20 then κ u else σ u) ≤ 6
      rw [← hU u h1 h2]
      exact hc u h1 h2
    · rw [← nn_ev_T (hW.2.2.2.1 r hr).1 hT, h1, e1]
    · rw [← nn_ev_T (hW.2.2.2.1 r hr).2.1 hT, h2, e2]
  · rintro ⟨r, hr, hS, p, hV, ρ, hc, hM, h1, h2⟩
    exact ⟨ρ, hc, r, hr, hS, p, hV, ρ, hM, by rw [h1, e1], by rw [h2, e2]⟩
/-! numbers for completions and for choices of rows -/
def nn_kn (j u : Nat) : Nat := if u = 10 then j % 7 else if u = 11 then j / 7 % 7 else j / 49
theorem nn_CA_k {c : nn_DB} (hW : nn_WF c) {κ κ' : Nat → Nat} {k : Nat} (h : ∀ u, 10 ≤ u → u ≤ 12 → κ u = κ' u) (H : nn_CA c κ k) : nn_CA c κ' k := by
  obtain ⟨r, hr, hS, p, hV, σ, hM, h1⟩ := H
  exact ⟨r, hr, hS, p, hV, σ, nn_Mt_a hW hr hV h (fun _ _ _ => rfl) hM, h1⟩
theorem nn_kn_c {j : Nat} (hj : j < 343) : nn_Kc (nn_kn j) := by
  intro u h1 h2
  unfold nn_kn
  split
  · omega
  · split
    · omega
    · omega
theorem nn_kn_of {κ : Nat → Nat} (h : nn_Kc κ) : ∃ j, j < 343 ∧ ∀ u, 10 ≤ u → u ≤ 12 → nn_kn j u = κ u := by
  have a := h 10 (by omega) (by omega)
  have b := h 11 (by omega) (by omega)
  have d := h 12 (by omega) (by omega)
  refine ⟨κ 10 + 7 * κ 11 + 49 * κ 12, by omega, fun u h1 h2 => ?_⟩
  have h3 : u = 10 ∨ u = 11 ∨ u = 12 := by omega
  rcases h3 with rfl | rfl | rfl
  · show (κ 10 + 7 * κ 11 + 49 * κ 12) % 7 = κ 10
    omega
  · show (κ 10 + 7 * κ 11 + 49 * κ 12) / 7 % 7 = κ 11
    omega
  · show (κ 10 + 7 * κ 11 + 49 * κ 12) / 49 = κ 12
    omega
theorem nn_L1 {c : nn_DB} (hW : nn_WF c) {k : Nat} (hk : k < 49) : (∀ j, j < 343 → nn_CA c (nn_kn j) k) ↔ nn_NA c k := by
  constructor
  · intro h
    refine nn_law1b hW (fun κ hc => ?_)
    obtain ⟨j, hj, e⟩ := nn_kn_of hc
    exact nn_CA_k hW e (h j hj)
  · intro h j _
    exact nn_law1a hW hk h
theorem nn_L2 {c : nn_DB} (hW : nn_WF c) : (∀ j, j < 343 → ∃ k, k < 49 ∧ nn_CA c (nn_kn j) k) ↔ nn_NA c 49 := by
  constructor
  · intro h
    obtain ⟨j, hj, e⟩ := nn_kn_of (κ := fun u => u - 6) (fun u _ _ => by show u - 6 ≤ 6; omega)
    obtain ⟨k, hk, H⟩ := h j hj
    exact nn_law2b hW (nn_CA_k hW e H)
  · intro h j hj
    exact nn_law2a hW (nn_kn_c hj) h
theorem nn_L3 {c : nn_DB} (hW : nn_WF c) {a b : Nat} (hb : b ≤ 6) : (∃ j, j < 343 ∧ nn_CA c (nn_kn j) (7 * a + b)) ↔ nn_PA c a b := by
  rw [← nn_law3 hW hb]
  constructor
  · rintro ⟨j, hj, H⟩
    exact ⟨nn_kn j, nn_kn_c hj, H⟩
  · rintro ⟨κ, hc, H⟩
    obtain ⟨j, hj, e⟩ := nn_kn_of hc
    exact ⟨j, hj, nn_CA_k hW (fun u h1 h2 => (e u h1 h2).symm) H⟩
def nn_pk (i k : Nat) : Nat := i / 5 ^ k % 5
def nn_PH (c : nn_DB) (κ : Nat → Nat) (r i k : Nat) : Prop := nn_Sf c r ∧ nn_Va c r (nn_pk i) ∧ i / 5 ^ nn_m c r = 0 ∧ nn_CP c κ r (nn_pk i) k
theorem nn_pk_of (p : Nat → Nat) (m : Nat) (hm : m ≤ 3) (hp : ∀ k, k < m → p k < 5) : ∃ i, i < 125 ∧ i / 5 ^ m = 0 ∧ ∀ k, k < m → nn_pk i k = p k := by
  have h4 : m = 0 ∨ m = 1 ∨ m = 2 ∨ m = 3 := by omega
  rcases h4 with rfl | rfl | rfl | rfl
  · exact ⟨0, by omega, by decide, fun k hk => absurd hk (by omega)⟩
  · have a := hp 0 (by omega)
    refine ⟨p 0, by omega, ?_, fun k hk => ?_⟩
    · show p 0 / 5 = 0
      omega
    · have h : k = 0 := by omega
      subst h
      show p 0 / 1 % 5 = p 0
      omega
  · have a := hp 0 (by omega)
    have b := hp 1 (by omega)
    refine ⟨p 0 + 5 * p 1, by omega, ?_, fun k hk => ?_⟩
    · show (p 0 + 5 * p 1) / 25 = 0
      omega
    · have h : k = 0 ∨ k = 1 := by omega
      rcases h with rfl | rfl
      · show (p 0 + 5 * p 1) / 1 % 5 = p 0
        omega
      · show (p 0 + 5 * p 1) / 5 % 5 = p 1
        omega
  · have a := hp 0 (by omega)
    have b := hp 1 (by omega)
    have d := hp 2 (by omega)
    refine ⟨p 0 + 5 * p 1 + 25 * p 2, by omega, ?_, fun k hk => ?_⟩
    · show (p 0 + 5 * p 1 + 25 * p 2) / 125 = 0
      omega
    · have h : k = 0 ∨ k = 1 ∨ k = 2 := by omega
      rcases h with rfl | rfl | rfl
      · show (p 0 + 5 * p 1 + 25 * p 2) / 1 % 5 = p 0
        omega
      · show (p 0 + 5 * p 1 + 25 * p 2) / 5 % 5 = p 1
        omega
      · show (p 0 + 5 * p 1 + 25 * p 2) / 25 % 5 = p 2
        omega
theorem nn_CR_pk {c : nn_DB} (hW : nn_WF c) {κ : Nat → Nat} {r k : Nat} (hr : r < nn_R c) : (∃ i, i < 125 ∧ nn_PH c κ r i k) ↔ nn_CR c κ r k := by
  constructor
  · rintro ⟨i, -, hS, hV, -, H⟩
    exact ⟨hS, _, hV, H⟩
  · rintro ⟨hS, p, hV, σ, hM, h⟩
    obtain ⟨i, hi, h0, e⟩ := nn_pk_of p (nn_m c r) (hW.2.2.2.1 r hr).2.2 (fun k hk => Nat.lt_of_lt_of_le (hV k hk) (hW.2.1 _ (hW.2.2.2.2 r k hr hk).1))
    have e' : ∀ k, k < nn_m c r → p k = nn_pk i k := fun k hk => (e k hk).symm
    exact ⟨i, hi, hS, nn_Va_p e' hV, h0, σ, nn_Mt_p e' hM, h⟩
end
section
/-! binding tables: 0 for nothing, v + 1 for the value v; slots 0 to 3 variables, 4 to 6 unknowns -/
def nn_tm (s : Nat) : Nat := if s < 4 then 20 + s else 6 + s
def nn_sl (t : Nat) : Nat := if t < 20 then t - 6 else t - 20
def nn_So (β σ : Nat → Nat) : Prop := ∀ s, s < 7 → β s ≠ 0 → σ (nn_tm s) = nn_ev σ (β s - 1)
def nn_Wb (F : Nat) (β : Nat → Nat) : Prop :=
  (F = 10 ∨ F = 20) ∧ (∀ s, s < 4 → β s ≤ 7 ∨ (11 ≤ β s ∧ β s ≤ 13)) ∧
  (∀ s, 4 ≤ s → s < 7 → β s ≤ 7 ∨ (11 ≤ β s ∧ β s < s + 7)) ∧ (F = 20 → ∀ s, 4 ≤ s → s < 7 → β s = 0)
def nn_nd (β : Nat → Nat) (v : Nat) : Prop := v ≤ 6 ∨ (10 ≤ v ∧ v ≤ 12 ∧ β (nn_sl v) = 0) ∨ (20 ≤ v ∧ v ≤ 23 ∧ β (nn_sl v) = 0)
theorem nn_tmsl {t : Nat} (h : (10 ≤ t ∧ t ≤ 12) ∨ (20 ≤ t ∧ t ≤ 23)) : nn_sl t < 7 ∧ nn_tm (nn_sl t) = t := by
  unfold nn_tm nn_sl
  rcases h with h | h
  · rw [if_pos (by omega), if_neg (by omega)]
    omega
  · rw [if_neg (by omega), if_pos (by omega)]
    omega
theorem nn_slU {t : Nat} (h : t < 20) : nn_sl t = t - 6 := if_pos h
theorem nn_slV {t : Nat} (h : 20 ≤ t) : nn_sl t = t - 20 := if_neg (by omega)
theorem nn_tmi {s s' : Nat} (h : s < 7) (h' : s' < 7) (e : nn_tm s = nn_tm s') : s = s' := by
  unfold nn_tm at e
  by_cases h1 : s < 4
  · by_cases h2 : s' < 4
    · rw [if_pos h1, if_pos h2] at e; omega
    · rw [if_pos h1, if_neg h2] at e; omega
  · by_cases h2 : s' < 4
    · rw [if_neg h1, if_pos h2] at e; omega
    · rw [if_neg h1, if_neg h2] at e; omega
theorem nn_Wb13 {F : Nat} {β : Nat → Nat} (h : nn_Wb F β) {s : Nat} (hs : s < 7) : β s ≤ 13 := by
  by_cases h4 : s < 4
  · have := h.2.1 s h4; omega
  · have := h.2.2.1 s (by omega) hs; omega
theorem nn_bind {F : Nat} {β : Nat → Nat} {a b : Nat} (hW : nn_Wb F β) (ha : nn_nd β a) (hF : F ≤ a) (hb : b ≤ 6 ∨ 10 ≤ b) (hb2 : b ≤ 12) (hlt : b < a) :
    nn_Wb F (fun s => if s = nn_sl a then b + 1 else β s) ∧ ∀ σ, nn_So (fun s => if s = nn_sl a then b + 1 else β s) σ ↔ nn_So β σ ∧ nn_ev σ a = nn_ev σ b := by
  have hF10 : 10 ≤ F := by rcases hW.1 with h | h <;> omega
  have ha2 : (10 ≤ a ∧ a ≤ 12) ∨ (20 ≤ a ∧ a ≤ 23) := by
    rcases ha with h | h | h <;> omega
  have ha0 : β (nn_sl a) = 0 := by
    rcases ha with h | h | h
    · omega
    · exact h.2.2
    · exact h.2.2
  have ⟨hs7, htm⟩ := nn_tmsl ha2
  refine ⟨⟨hW.1, fun s hs => ?_, fun s h4 hs => ?_, fun h20 s h4 hs => ?_⟩, fun σ => ⟨fun H => ⟨fun s hs hn => ?_, ?_⟩, fun H s hs hn => ?_⟩⟩
  · show (if s = nn_sl a then b + 1 else β s) ≤ 7 ∨ (11 ≤ (if s = nn_sl a then b + 1 else β s) ∧ (if s = nn_sl a then b + 1 else β s) ≤ 13)
    by_cases e : s = nn_sl a
    · rw [if_pos e]; omega
    · rw [if_neg e]; exact hW.2.1 s hs
  · show (if s = nn_sl a then b + 1 else β s) ≤ 7 ∨ (11 ≤ (if s = nn_sl a then b + 1 else β s) ∧ (if s = nn_sl a then b + 1 else β s) < s + 7)
    by_cases e : s = nn_sl a
    · rw [if_pos e]
      have h20 : a < 20 := by
        rcases ha2 with h | h
        · omega
        · rw [nn_slV h.1] at e; omega
      rw [nn_slU h20] at e
      omega
    · rw [if_neg e]; exact hW.2.2.1 s h4 hs
  · show (if s = nn_sl a then b + 1 else β s) = 0
    rw [if_neg (fun e => by rw [nn_slV (by omega)] at e; omega)]
    exact hW.2.2.2 h20 s h4 hs
  · have e : s ≠ nn_sl a := fun e => hn (by rw [e]; exact ha0)
    have h := H s hs
    rw [show (fun s => if s = nn_sl a then b + 1 else β s) s = β s from if_neg e] at h
    exact h hn
  · have h := H (nn_sl a) hs7
    rw [show (fun s => if s = nn_sl a then b + 1 else β s) (nn_sl a) = b + 1 from if_pos rfl, htm] at h
    rw [nn_ev_ge (by omega)]
    exact h (by omega)
  · by_cases e : s = nn_sl a
    · have e2 : (fun s => if s = nn_sl a then b + 1 else β s) s = b + 1 := if_pos e
      rw [e2, e, htm]
      have h := H.2
      rw [nn_ev_ge (t := a) (by omega)] at h
      exact h
    · have e2 : (fun s => if s = nn_sl a then b + 1 else β s) s = β s := if_neg e
      rw [e2] at hn ⊢
      exact H.1 s hs hn
theorem nn_ne20 {β : Nat → Nat} (hW : nn_Wb 20 β) : ∃ ρ, nn_Kst ρ ∧ nn_So β ρ := by
  refine ⟨fun u => if u < 20 then u else β (u - 20) - 1, fun u h1 h2 => if_pos (by omega), fun s hs hn => ?_⟩
  have h4 : s < 4 := by
    by_cases h : s < 4
    · exact h
    · exact absurd (hW.2.2.2 rfl s (by omega) hs) hn
  have e : nn_tm s = 20 + s := if_pos h4
  rw [e]
  show (if 20 + s < 20 then 20 + s else β (20 + s - 20) - 1) = _
  rw [if_neg (by omega), show 20 + s - 20 = s by omega]
  have h13 := nn_Wb13 hW hs
  by_cases h10 : β s - 1 < 10
  · rw [nn_ev_lt h10]
  · rw [nn_ev_ge (by omega)]
    exact (if_pos (by omega)).symm
theorem nn_ne10 {F : Nat} {β : Nat → Nat} (hW : nn_Wb F β) : ∃ ρ, nn_Kc ρ ∧ nn_So β ρ := by
  have w4 := hW.2.2.1 4 (by omega) (by omega)
  have w5 := hW.2.2.1 5 (by omega) (by omega)
  have w6 := hW.2.2.1 6 (by omega) (by omega)
  have h0 : ∃ k0, k0 ≤ 6 ∧ (β 4 ≠ 0 → k0 = β 4 - 1) := ⟨β 4 - 1, by omega, fun _ => rfl⟩
  obtain ⟨k0, b0, e0⟩ := h0
  have h1 : ∃ k1, k1 ≤ 6 ∧ (β 5 ≠ 0 → (β 5 ≤ 7 → k1 = β 5 - 1) ∧ (β 5 = 11 → k1 = k0)) := by
    by_cases h : β 5 ≤ 7
    · exact ⟨β 5 - 1, by omega, fun _ => ⟨fun _ => rfl, fun z => absurd z (by omega)⟩⟩
    · exact ⟨k0, b0, fun _ => ⟨fun z => absurd z h, fun _ => rfl⟩⟩
  obtain ⟨k1, b1, e1⟩ := h1
  have h2 : ∃ k2, k2 ≤ 6 ∧ (β 6 ≠ 0 → (β 6 ≤ 7 → k2 = β 6 - 1) ∧ (β 6 = 11 → k2 = k0) ∧ (β 6 = 12 → k2 = k1)) := by
    by_cases h : β 6 ≤ 7
    · exact ⟨β 6 - 1, by omega, fun _ => ⟨fun _ => rfl, fun z => absurd z (by omega), fun z => absurd z (by omega)⟩⟩
    · by_cases h' : β 6 = 11
      · exact ⟨k0, b0, fun _ => ⟨fun z => absurd z h, fun _ => rfl, fun z => absurd z (by omega)⟩⟩
      · exact ⟨k1, b1, fun _ => ⟨fun z => absurd z h, fun z => absurd z h', fun _ => rfl⟩⟩
  obtain ⟨k2, b2, e2⟩ := h2
  obtain ⟨κ, u0, u1, u2⟩ : ∃ κ : Nat → Nat, κ 10 = k0 ∧ κ 11 = k1 ∧ κ 12 = k2 := ⟨fun u => if u = 10 then k0 else if u = 11 then k1 else k2, rfl, rfl, rfl⟩
  obtain ⟨ρ, r1, r2⟩ : ∃ ρ : Nat → Nat, (∀ u, u < 20 → ρ u = κ u) ∧ (∀ s, ρ (20 + s) = nn_ev κ (β s - 1)) :=
    ⟨fun u => if u < 20 then κ u else nn_ev κ (β (u - 20) - 1), fun u h => if_pos h, fun s => by
      show (if 20 + s < 20 then κ (20 + s) else nn_ev κ (β (20 + s - 20) - 1)) = _
      rw [if_neg (by omega), show 20 + s - 20 = s by omega]⟩
  have ev : ∀ v, v < 20 → nn_ev ρ v = nn_ev κ v := fun v hv => by
    unfold nn_ev
    split
    · rfl
    · exact r1 v hv
  have r10 : ρ 10 = k0 := (r1 10 (by omega)).trans u0
  have r11 : ρ 11 = k1 := (r1 11 (by omega)).trans u1
  have r12 : ρ 12 = k2 := (r1 12 (by omega)).trans u2
  refine ⟨ρ, fun u h1 h2 => ?_, fun s hs hn => ?_⟩
  · have h3 : u = 10 ∨ u = 11 ∨ u = 12 := by omega
    rcases h3 with rfl | rfl | rfl
    · rw [r10]; exact b0
    · rw [r11]; exact b1
    · rw [r12]; exact b2
  · have h13 := nn_Wb13 hW hs
    by_cases h4 : s < 4
    · rw [show nn_tm s = 20 + s from if_pos h4, r2, ev _ (by omega)]
    · have h3 : s = 4 ∨ s = 5 ∨ s = 6 := by omega
      rcases h3 with rfl | rfl | rfl
      · show ρ 10 = _
        rw [r10, e0 hn, nn_ev_lt (by omega)]
      · show ρ 11 = _
        rw [r11]
        by_cases h : β 5 ≤ 7
        · rw [(e1 hn).1 h, nn_ev_lt (by omega)]
        · have h' : β 5 = 11 := by omega
          rw [(e1 hn).2 h', h']
          exact r10.symm
      · show ρ 12 = _
        rw [r12]
        by_cases h : β 6 ≤ 7
        · rw [(e2 hn).1 h, nn_ev_lt (by omega)]
        · by_cases h' : β 6 = 11
          · rw [(e2 hn).2.1 h', h']
            exact r10.symm
          · have h'' : β 6 = 12 := by omega
            rw [(e2 hn).2.2 h'', h'']
            exact r11.symm
theorem nn_So_u {F : Nat} {β σ : Nat → Nat} {t w : Nat} (hW : nn_Wb F β) (h1 : 20 ≤ t) (h2 : t ≤ 23) (h0 : β (nn_sl t) = 0) (H : nn_So β σ) : nn_So β (fun u => if u = t then w else σ u) := by
  intro s hs hn
  have ⟨a, b⟩ := nn_tmsl (Or.inr ⟨h1, h2⟩)
  have h13 := nn_Wb13 hW hs
  have e : nn_tm s ≠ t := fun e => by
    have : s = nn_sl t := nn_tmi hs a (e.trans b.symm)
    rw [this] at hn
    exact hn h0
  rw [nn_ev_u (by omega)]
  show (if nn_tm s = t then w else σ (nn_tm s)) = _
  rw [if_neg e]
  exact H s hs hn
theorem nn_bound {c : nn_DB} (hC : nn_WF c) {F r t : Nat} {β p : Nat → Nat} (hr : r < nn_R c) (hV : nn_Va c r p) (hW : nn_Wb F β) (hS : ∀ σ, nn_So β σ ↔ nn_Mt c r p σ σ (nn_m c r)) (ht : nn_isT t) (hI : nn_In c r t) (h20 : 20 ≤ t) : β (nn_sl t) ≠ 0 := by
  intro h0
  have h23 : t ≤ 23 := by unfold nn_isT at ht; omega
  obtain ⟨ρ, -, H⟩ := nn_ne10 hW
  have H1 := (hS _).mp H
  have H2 := (hS _).mp (nn_So_u (w := ρ t + 1) hW h20 h23 h0 H)
  have H3 : nn_Mt c r p ρ (fun u => if u = t then ρ t + 1 else ρ u) (nn_m c r) := nn_Mt_a hC hr hV (fun u _ _ => if_neg (by omega)) (fun _ _ _ => rfl) H2
  have e := nn_In1 ht hI H1 H3
  rw [nn_ev_ge (by omega), nn_ev_ge (by omega)] at e
  rw [if_pos rfl] at e
  omega
end
section
/-! numbers -/
def nn_en (b : Nat) : Int32 := nI b - 1
theorem nn_en_s (b : Nat) : nn_en (b + 1) = nI b := nI_pred b
theorem nn_b8 : ∀ b, b < 30 → (nn_en b).toInt8.toInt32 = nn_en b := by decide +kernel
theorem nn_n8 : ∀ b, b < 30 → (nI b).toInt8.toInt32 = nI b := by decide +kernel
theorem nn_nb {b : Nat} (h : b < 30) : vp_nar .byte (nn_en b) = nn_en b := by rw [vp_nar_byte, nn_b8 b h]
theorem nn_nn {b : Nat} (h : b < 30) : vp_nar .byte (nI b) = nI b := by rw [vp_nar_byte, nn_n8 b h]
theorem nn_nn8 {b : Nat} (h : b < 30) : vp_nar .byte (nI b).toInt8.toInt32 = nI b := by rw [nn_n8 b h, nn_nn h]
theorem nn_en0 : ¬ (0 : Int32) ≤ nn_en 0 := by decide
theorem nn_en0' : nn_en 0 = -1 := by decide
theorem nn_ens {b : Nat} (h : b < 2 ^ 31) : (0 : Int32) ≤ nn_en (b + 1) := by rw [nn_en_s]; exact nI_pos' h
theorem nn_ix7 (d i : Nat) : (7 * nI d) + nI i = nI (7 * d + i) := by rw [← nI_add, ← pk_mul]; rfl
theorem nn_ix5 (d i : Nat) : (5 * nI d) + nI i = nI (5 * d + i) := by rw [← nI_add, ← pk_mul]; rfl
theorem nn_ix3 (d i : Nat) : (3 * nI d) + nI i = nI (3 * d + i) := by rw [← nI_add, ← pk_mul]; rfl
theorem nn_ix10 (d i : Nat) : (10 * nI d) + nI i = nI (10 * d + i) := by rw [← nI_add, ← pk_mul]; rfl
theorem nn_ix2 (d : Nat) : 2 * nI d = nI (2 * d) := by rw [← pk_mul]; rfl
theorem nn_m5 (d : Nat) : 5 * nI d = nI (5 * d) := by rw [← pk_mul]; rfl
theorem nn_m3 (d : Nat) : 3 * nI d = nI (3 * d) := by rw [← pk_mul]; rfl
theorem nn_s20 {t : Nat} (h : 20 ≤ t) : nI t - 20 = nI (t - 20) := pk_sub (b := 20) h
theorem nn_s10 {t : Nat} (h : 10 ≤ t) : nI t - 10 = nI (t - 10) := pk_sub (b := 10) h
theorem nn_slI {t : Nat} (h : 10 ≤ t) : (4 + nI t) - 10 = nI (t - 6) := by
  have e : (4 : Int32) + nI t = nI (4 + t) := nI_add 4 t
  rw [e, nn_s10 (by omega)]
  exact congrArg nI (by omega)
/-- an int is one or zero as a fact holds or not -/
noncomputable def nn_bz (p : Prop) : Int32 := @ite _ p (Classical.propDecidable p) 1 0
theorem nn_bz1 {p : Prop} (h : p) : nn_bz p = 1 := @if_pos _ (Classical.propDecidable p) h _ _ _
theorem nn_bz0 {p : Prop} (h : ¬ p) : nn_bz p = 0 := @if_neg _ (Classical.propDecidable p) h _ _ _
theorem nn_bz_c {p q : Prop} (h : p ↔ q) : nn_bz p = nn_bz q := by rw [propext h]
theorem nn_bz_0 {p : Prop} : nn_bz p = 0 ↔ ¬ p := by
  by_cases h : p
  · rw [nn_bz1 h]
    exact ⟨fun z => absurd z (by decide), fun z => absurd h z⟩
  · rw [nn_bz0 h]
    exact ⟨fun _ => h, fun _ => rfl⟩
theorem nn_bz_n {p : Prop} : narrow .boolean (.int (nn_bz p)) = .int (nn_bz p) := by
  by_cases h : p
  · rw [nn_bz1 h]; rfl
  · rw [nn_bz0 h]; rfl
theorem nn_vb1 : vp_nar .boolean 1 = 1 := rfl
theorem nn_vb0 : vp_nar .boolean 0 = 0 := rfl
/-- what the component's arrays hold -/
def nn_XA (c : nn_DB) (f_ruleCount : Int32) (a_rowCount a_rowX a_rowY a_headX a_headY a_atomCount a_atomTable a_atomX a_atomY : Nat → Int32) : Prop :=
  f_ruleCount = nI (nn_R c) ∧ (∀ j, a_rowCount j = nI (nn_n c j)) ∧ (∀ j, a_rowX j = nI (nn_x c j)) ∧ (∀ j, a_rowY j = nI (nn_y c j)) ∧
  (∀ j, a_headX j = nI (nn_hx c j)) ∧ (∀ j, a_headY j = nI (nn_hy c j)) ∧ (∀ j, a_atomCount j = nI (nn_m c j)) ∧
  (∀ j, a_atomTable j = nI (nn_tb c j)) ∧ (∀ j, a_atomX j = nI (nn_ax c j)) ∧ (∀ j, a_atomY j = nI (nn_ay c j))
section
variable {f_ruleCount : Int32} {f_strict : Int32} {f_goalX : Int32} {f_goalY : Int32} {f_goalMet : Int32} {f_evaluated : Int32} {f_certainSet : Int64} {f_anyAnswer : Int32} {a_rowCount : Nat → Int32} {a_rowX : Nat → Int32} {a_rowY : Nat → Int32} {a_headX : Nat → Int32} {a_headY : Nat → Int32} {a_atomCount : Nat → Int32} {a_atomTable : Nat → Int32} {a_atomX : Nat → Int32} {a_atomY : Nat → Int32} {a_bound : Nat → Int32} {a_frameRow : Nat → Int32} {a_frameBound : Nat → Int32}
theorem nn_save_lp {d : Nat} (hd : d ≤ 3) (post : SX → Prop) {β : Nat → Nat} (hb : ∀ s, s < 7 → β s ≤ 13 ∧ a_bound s = nn_en (β s)) :
    ∀ (g i : Nat) (fb : Nat → Int32), i + g = 7 →
    (∀ j, j < i → fb (7 * d + j) = a_bound j) → (∀ j, (j < 7 * d ∨ 7 * d + 7 ≤ j) → fb j = a_frameBound j) →
    (∀ fb', (∀ j, j < 7 → fb' (7 * d + j) = a_bound j) → (∀ j, (j < 7 * d ∨ 7 * d + 7 ≤ j) → fb' j = a_frameBound j) → post (f_ruleCount, f_strict, f_goalX, f_goalY, f_goalMet, f_evaluated, f_certainSet, f_anyAnswer, a_rowCount, a_rowX, a_rowY, a_headX, a_headY, a_atomCount, a_atomTable, a_atomX, a_atomY, a_bound, a_frameRow, fb')) →
    ∀ n, g < n → wX_save_2 post (nI d) f_ruleCount f_strict f_goalX f_goalY f_goalMet f_evaluated f_certainSet f_anyAnswer n (nI i) a_rowCount a_rowX a_rowY a_headX a_headY a_atomCount a_atomTable a_atomX a_atomY a_bound a_frameRow fb := by
  intro g
  induction g with
  | zero =>
    intro i fb hi h1 h2 K n hn
    obtain ⟨n, rfl⟩ : ∃ k, n = k + 1 := ⟨n - 1, by omega⟩
    obtain rfl : i = 7 := by omega
    exact br_t (show (7 : Int32) ≤ nI 7 by decide) (K fb h1 h2)
  | succ g ih =>
    intro i fb hi h1 h2 K n hn
    obtain ⟨n, rfl⟩ : ∃ k, n = k + 1 := ⟨n - 1, by omega⟩
    have hc : ¬ (7 : Int32) ≤ nI i := nI_ge (b := 7) (by omega) (by decide)
    have e1 : (7 * nI d + nI i).toNatClampNeg = 7 * d + i := by rw [nn_ix7, nI_clamp (by omega)]
    have e2 : (nI i).toNatClampNeg = i := nI_clamp (by omega)
    have e3 : vp_nar .byte (a_bound (nI i).toNatClampNeg) = a_bound i := by
      have := hb i (by omega)
      rw [e2, this.2, nn_nb (by omega)]
    refine br_f hc ⟨vp_in_nI (by omega) (by omega), ?_, nm_r (e' := upd fb (7 * d + i) (a_bound i)) (by rw [e1, e3]) (nm_r (nI_1 i) ?_)⟩
    · rw [nn_ix7]; exact vp_in_nI (by omega) (by omega)
    · refine ih (i + 1) _ (by omega) (fun j hj => ?_) (fun j hj => ?_) K n (by omega)
      · by_cases e : j = i
        · rw [e]; exact pk_us
        · rw [pk_un (by omega)]; exact h1 j (by omega)
      · rw [pk_un (by omega)]; exact h2 j hj
theorem nn_save {d : Nat} (hd : d ≤ 3) {post : SX → Prop} {β : Nat → Nat} (hb : ∀ s, s < 7 → β s ≤ 13 ∧ a_bound s = nn_en (β s))
    (K : ∀ fb', (∀ j, j < 7 → fb' (7 * d + j) = a_bound j) → (∀ j, (j < 7 * d ∨ 7 * d + 7 ≤ j) → fb' j = a_frameBound j) → post (f_ruleCount, f_strict, f_goalX, f_goalY, f_goalMet, f_evaluated, f_certainSet, f_anyAnswer, a_rowCount, a_rowX, a_rowY, a_headX, a_headY, a_atomCount, a_atomTable, a_atomX, a_atomY, a_bound, a_frameRow, fb')) :
    wpX_save post (f_ruleCount, f_strict, f_goalX, f_goalY, f_goalMet, f_evaluated, f_certainSet, f_anyAnswer, a_rowCount, a_rowX, a_rowY, a_headX, a_headY, a_atomCount, a_atomTable, a_atomX, a_atomY, a_bound, a_frameRow, a_frameBound) (nI d) :=
  ⟨8, nn_save_lp hd post hb 7 0 a_frameBound rfl (fun j hj => absurd hj (by omega)) (fun _ _ => rfl) K 8 (by omega)⟩
theorem nn_rest_lp {d : Nat} (hd : d ≤ 3) (post : SX → Prop) {β : Nat → Nat} (hb : ∀ s, s < 7 → β s ≤ 13 ∧ a_frameBound (7 * d + s) = nn_en (β s)) :
    ∀ (g i : Nat) (bd : Nat → Int32), i + g = 7 →
    (∀ j, j < i → bd j = nn_en (β j)) →
    (∀ bd', (∀ j, j < 7 → bd' j = nn_en (β j)) → post (f_ruleCount, f_strict, f_goalX, f_goalY, f_goalMet, f_evaluated, f_certainSet, f_anyAnswer, a_rowCount, a_rowX, a_rowY, a_headX, a_headY, a_atomCount, a_atomTable, a_atomX, a_atomY, bd', a_frameRow, a_frameBound)) →
    ∀ n, g < n → wX_restore_2 post (nI d) f_ruleCount f_strict f_goalX f_goalY f_goalMet f_evaluated f_certainSet f_anyAnswer n (nI i) a_rowCount a_rowX a_rowY a_headX a_headY a_atomCount a_atomTable a_atomX a_atomY bd a_frameRow a_frameBound := by
  intro g
  induction g with
  | zero =>
    intro i bd hi h1 K n hn
    obtain ⟨n, rfl⟩ : ∃ k, n = k + 1 := ⟨n - 1, by omega⟩
    obtain rfl : i = 7 := by omega
    exact br_t (show (7 : Int32) ≤ nI 7 by decide) (K bd h1)
  | succ g ih =>
    intro i bd hi h1 K n hn
    obtain ⟨n, rfl⟩ : ∃ k, n = k + 1 := ⟨n - 1, by omega⟩
    have hc : ¬ (7 : Int32) ≤ nI i := nI_ge (b := 7) (by omega) (by decide)
    have e1 : (7 * nI d + nI i).toNatClampNeg = 7 * d + i := by rw [nn_ix7, nI_clamp (by omega)]
    have e2 : (nI i).toNatClampNeg = i := nI_clamp (by omega)
    have e3 : vp_nar .byte (a_frameBound (7 * nI d + nI i).toNatClampNeg) = nn_en (β i) := by
      have := hb i (by omega)
      rw [e1, this.2, nn_nb (by omega)]
    refine br_f hc ⟨?_, vp_in_nI (by omega) (by omega), nm_r (e' := upd bd i (nn_en (β i))) (by rw [e2, e3]) (nm_r (nI_1 i) ?_)⟩
    · rw [nn_ix7]; exact vp_in_nI (by omega) (by omega)
    · refine ih (i + 1) _ (by omega) (fun j hj => ?_) K n (by omega)
      by_cases e : j = i
      · rw [e]; exact pk_us
      · rw [pk_un (by omega)]; exact h1 j (by omega)
theorem nn_rest {d : Nat} (hd : d ≤ 3) {post : SX → Prop} {β : Nat → Nat} (hb : ∀ s, s < 7 → β s ≤ 13 ∧ a_frameBound (7 * d + s) = nn_en (β s))
    (K : ∀ bd', (∀ j, j < 7 → bd' j = nn_en (β j)) → post (f_ruleCount, f_strict, f_goalX, f_goalY, f_goalMet, f_evaluated, f_certainSet, f_anyAnswer, a_rowCount, a_rowX, a_rowY, a_headX, a_headY, a_atomCount, a_atomTable, a_atomX, a_atomY, bd', a_frameRow, a_frameBound)) :
    wpX_restore post (f_ruleCount, f_strict, f_goalX, f_goalY, f_goalMet, f_evaluated, f_certainSet, f_anyAnswer, a_rowCount, a_rowX, a_rowY, a_headX, a_headY, a_atomCount, a_atomTable, a_atomX, a_atomY, a_bound, a_frameRow, a_frameBound) (nI d) :=
  ⟨8, nn_rest_lp hd post hb 7 0 a_bound rfl (fun j hj => absurd hj (by omega)) K 8 (by omega)⟩
theorem nn_slot0 {post : Int32 → Prop} {t : Nat} (h : t < 10) (K : post (-1)) : wpX_slotOf post (f_ruleCount, f_strict, f_goalX, f_goalY, f_goalMet, f_evaluated, f_certainSet, f_anyAnswer, a_rowCount, a_rowX, a_rowY, a_headX, a_headY, a_atomCount, a_atomTable, a_atomX, a_atomY, a_bound, a_frameRow, a_frameBound) (nI t) :=
  br_t (nI_lt (b := 20) (by omega) (by decide)) (br_t (nI_lt (b := 10) h (by decide)) K)
theorem nn_slot {post : Int32 → Prop} {t : Nat} (h : (10 ≤ t ∧ t ≤ 12) ∨ (20 ≤ t ∧ t ≤ 23)) (K : post (nI (nn_sl t))) : wpX_slotOf post (f_ruleCount, f_strict, f_goalX, f_goalY, f_goalMet, f_evaluated, f_certainSet, f_anyAnswer, a_rowCount, a_rowX, a_rowY, a_headX, a_headY, a_atomCount, a_atomTable, a_atomX, a_atomY, a_bound, a_frameRow, a_frameBound) (nI t) := by
  rcases h with h | h
  · refine br_t (nI_lt (b := 20) (by omega) (by decide)) (br_f (nI_nlt (b := 10) h.1 (by omega)) ?_)
    rw [nn_slI h.1, ← nn_slU (by omega)]
    exact K
  · refine br_f (nI_nlt (b := 20) h.1 (by omega)) ?_
    rw [nn_s20 h.1, ← nn_slV h.1]
    exact K
theorem nn_val {F : Nat} {β : Nat → Nat} (hW : nn_Wb F β) (hb : ∀ s, s < 7 → a_bound s = nn_en (β s)) :
    ∀ (g t : Nat), (t ≤ 6 ∨ (10 ≤ t ∧ t ≤ 12 ∧ t ≤ g + 9) ∨ (20 ≤ t ∧ t ≤ 23 ∧ 4 ≤ g)) →
    ∃ v, nn_nd β v ∧ (20 ≤ v → v = t) ∧ (∀ σ, nn_So β σ → nn_ev σ t = nn_ev σ v) ∧
      ∀ (post : Int32 → Prop) (n i : Nat), g < n → g + i ≤ 7 → post (nI v) → wX_valueOf_4 post f_ruleCount f_strict f_goalX f_goalY f_goalMet f_evaluated f_certainSet f_anyAnswer a_rowCount a_rowX a_rowY a_headX a_headY a_atomCount a_atomTable a_atomX a_atomY a_bound a_frameRow a_frameBound n (nI t) (nI i) := by
  intro g
  induction g with
  | zero =>
    intro t ht
    refine ⟨t, Or.inl (by omega), fun _ => rfl, fun _ _ => rfl, fun post n i hn hi K => ?_⟩
    obtain ⟨n, rfl⟩ : ∃ k, n = k + 1 := ⟨n - 1, by omega⟩
    exact br_f (nI_ge (b := 8) (by omega) (by decide)) (nn_slot0 (by omega) (br_t (by decide) K))
  | succ g ih =>
    intro t ht
    by_cases h6 : t ≤ 6
    · refine ⟨t, Or.inl h6, fun _ => rfl, fun _ _ => rfl, fun post n i hn hi K => ?_⟩
      obtain ⟨n, rfl⟩ : ∃ k, n = k + 1 := ⟨n - 1, by omega⟩
      exact br_f (nI_ge (b := 8) (by omega) (by decide)) (nn_slot0 (by omega) (br_t (by decide) K))
    · have ht2 : (10 ≤ t ∧ t ≤ 12) ∨ (20 ≤ t ∧ t ≤ 23) := by omega
      have ⟨hs7, htm⟩ := nn_tmsl ht2
      have ec : (nI (nn_sl t)).toNatClampNeg = nn_sl t := nI_clamp (by omega)
      by_cases h0 : β (nn_sl t) = 0
      · refine ⟨t, ?_, fun _ => rfl, fun _ _ => rfl, fun post n i hn hi K => ?_⟩
        · rcases ht2 with h | h
          · exact Or.inr (Or.inl ⟨h.1, h.2, h0⟩)
          · exact Or.inr (Or.inr ⟨h.1, h.2, h0⟩)
        · obtain ⟨n, rfl⟩ : ∃ k, n = k + 1 := ⟨n - 1, by omega⟩
          have hz : ¬ (0 : Int32) ≤ a_bound (nI (nn_sl t)).toNatClampNeg := by
            rw [ec, hb _ hs7, h0]; exact nn_en0
          exact br_f (nI_ge (b := 8) (by omega) (by decide)) (nn_slot ht2 (br_f (nI_pos (by omega)) ⟨vp_in_nI hs7 (by omega), br_f hz K⟩))
      · obtain ⟨w, hw⟩ : ∃ w, β (nn_sl t) = w + 1 := ⟨β (nn_sl t) - 1, by omega⟩
        have h13 := nn_Wb13 hW hs7
        have hw2 : w ≤ 6 ∨ (10 ≤ w ∧ w ≤ 12 ∧ w < t) := by
          rcases ht2 with h | h
          · have e := nn_slU (t := t) (by omega)
            have := hW.2.2.1 (nn_sl t) (by omega) hs7
            omega
          · have e := nn_slV h.1
            have := hW.2.1 (nn_sl t) (by omega)
            omega
        obtain ⟨v, hv, hv2, hv3, hv4⟩ := ih w (by omega)
        refine ⟨v, hv, fun h20 => absurd (hv2 h20) (by omega), fun σ H => ?_, fun post n i hn hi K => ?_⟩
        · rw [← hv3 σ H]
          have h := H _ hs7 h0
          rw [htm, hw] at h
          rw [nn_ev_ge (t := t) (by omega)]
          exact h
        · obtain ⟨n, rfl⟩ : ∃ k, n = k + 1 := ⟨n - 1, by omega⟩
          have ez : a_bound (nI (nn_sl t)).toNatClampNeg = nI w := by rw [ec, hb _ hs7, hw, nn_en_s]
          have hz : (0 : Int32) ≤ a_bound (nI (nn_sl t)).toNatClampNeg := by
            rw [ez]; exact nI_pos' (by omega)
          have hi7 : vp_in (nI (nn_sl t)) 7 := vp_in_nI hs7 (by omega)
          exact br_f (nI_ge (b := 8) (by omega) (by decide)) (nn_slot ht2 (br_f (nI_pos (by omega)) ⟨hi7, br_t hz ⟨hi7, nm_r ez (nm_r (nI_1 i) (hv4 post n (i + 1) (by omega) (by omega) K))⟩⟩))
theorem nn_value {F t : Nat} {β : Nat → Nat} (hW : nn_Wb F β) (hb : ∀ s, s < 7 → a_bound s = nn_en (β s)) (ht : t ≤ 6 ∨ (10 ≤ t ∧ t ≤ 12) ∨ (20 ≤ t ∧ t ≤ 23)) :
    ∃ v, nn_nd β v ∧ (20 ≤ v → v = t) ∧ (∀ σ, nn_So β σ → nn_ev σ t = nn_ev σ v) ∧ ∀ post : Int32 → Prop, post (nI v) → wpX_valueOf post (f_ruleCount, f_strict, f_goalX, f_goalY, f_goalMet, f_evaluated, f_certainSet, f_anyAnswer, a_rowCount, a_rowX, a_rowY, a_headX, a_headY, a_atomCount, a_atomTable, a_atomX, a_atomY, a_bound, a_frameRow, a_frameBound) (nI t) := by
  obtain ⟨v, h1, h2, h3, h4⟩ := nn_val (f_ruleCount := f_ruleCount) (f_strict := f_strict) (f_goalX := f_goalX) (f_goalY := f_goalY) (f_goalMet := f_goalMet) (f_evaluated := f_evaluated) (f_certainSet := f_certainSet) (f_anyAnswer := f_anyAnswer) (a_rowCount := a_rowCount) (a_rowX := a_rowX) (a_rowY := a_rowY) (a_headX := a_headX) (a_headY := a_headY) (a_atomCount := a_atomCount) (a_atomTable := a_atomTable) (a_atomX := a_atomX) (a_atomY := a_atomY) (a_bound := a_bound) (a_frameRow := a_frameRow) (a_frameBound := a_frameBound) hW hb 4 t (by omega)
  exact ⟨v, h1, h2, h3, fun post K => ⟨5, h4 post 5 0 (by omega) (by omega) K⟩⟩
theorem nn_unify {F s t : Nat} {β : Nat → Nat} {post : Int32 → SX → Prop} (hW : nn_Wb F β) (hb : ∀ s, s < 7 → a_bound s = nn_en (β s))
    (hF : (f_strict = 0 ∧ F = 10) ∨ (¬ f_strict = 0 ∧ F = 20)) (hs : s ≤ 6 ∨ (10 ≤ s ∧ s ≤ 12) ∨ (20 ≤ s ∧ s ≤ 23)) (ht : t ≤ 6 ∨ (10 ≤ t ∧ t ≤ 12))
    (K1 : ∀ bd' β', nn_Wb F β' → (∀ s, s < 7 → bd' s = nn_en (β' s)) → (∀ σ, nn_So β' σ ↔ nn_So β σ ∧ nn_ev σ s = nn_ev σ t) → post 1 (f_ruleCount, f_strict, f_goalX, f_goalY, f_goalMet, f_evaluated, f_certainSet, f_anyAnswer, a_rowCount, a_rowX, a_rowY, a_headX, a_headY, a_atomCount, a_atomTable, a_atomX, a_atomY, bd', a_frameRow, a_frameBound))
    (K0 : (∀ σ, (F = 20 → nn_Kst σ) → nn_So β σ → nn_ev σ s ≠ nn_ev σ t) → post 0 (f_ruleCount, f_strict, f_goalX, f_goalY, f_goalMet, f_evaluated, f_certainSet, f_anyAnswer, a_rowCount, a_rowX, a_rowY, a_headX, a_headY, a_atomCount, a_atomTable, a_atomX, a_atomY, a_bound, a_frameRow, a_frameBound)) : wpX_unify post (f_ruleCount, f_strict, f_goalX, f_goalY, f_goalMet, f_evaluated, f_certainSet, f_anyAnswer, a_rowCount, a_rowX, a_rowY, a_headX, a_headY, a_atomCount, a_atomTable, a_atomX, a_atomY, a_bound, a_frameRow, a_frameBound) (nI s) (nI t) := by
  obtain ⟨a, ha, ha2, ha3, ha4⟩ := nn_value (f_ruleCount := f_ruleCount) (f_strict := f_strict) (f_goalX := f_goalX) (f_goalY := f_goalY) (f_goalMet := f_goalMet) (f_evaluated := f_evaluated) (f_certainSet := f_certainSet) (f_anyAnswer := f_anyAnswer) (a_rowCount := a_rowCount) (a_rowX := a_rowX) (a_rowY := a_rowY) (a_headX := a_headX) (a_headY := a_headY) (a_atomCount := a_atomCount) (a_atomTable := a_atomTable) (a_atomX := a_atomX) (a_atomY := a_atomY) (a_bound := a_bound) (a_frameRow := a_frameRow) (a_frameBound := a_frameBound) hW hb hs
  obtain ⟨b, hb1, hb2, hb3, hb4⟩ := nn_value (f_ruleCount := f_ruleCount) (f_strict := f_strict) (f_goalX := f_goalX) (f_goalY := f_goalY) (f_goalMet := f_goalMet) (f_evaluated := f_evaluated) (f_certainSet := f_certainSet) (f_anyAnswer := f_anyAnswer) (a_rowCount := a_rowCount) (a_rowX := a_rowX) (a_rowY := a_rowY) (a_headX := a_headX) (a_headY := a_headY) (a_atomCount := a_atomCount) (a_atomTable := a_atomTable) (a_atomX := a_atomX) (a_atomY := a_atomY) (a_bound := a_bound) (a_frameRow := a_frameRow) (a_frameBound := a_frameBound) hW hb (t := t) (by omega)
  have hF2 := hW.1
  have a23 : a ≤ 23 := by unfold nn_nd at ha; omega
  have ak : a ≤ 6 ∨ (10 ≤ a ∧ a ≤ 12) ∨ (20 ≤ a ∧ a ≤ 23) := by unfold nn_nd at ha; omega
  have bk : b ≤ 6 ∨ (10 ≤ b ∧ b ≤ 12) := by
    unfold nn_nd at hb1
    by_cases h : 20 ≤ b
    · have := hb2 h; omega
    · omega
  have key : a ≠ b → wX_unify_35 post (nI a) (nI b) (nI F) f_ruleCount f_strict f_goalX f_goalY f_goalMet f_evaluated f_certainSet f_anyAnswer a_rowCount a_rowX a_rowY a_headX a_headY a_atomCount a_atomTable a_atomX a_atomY a_bound a_frameRow a_frameBound := by
    intro ne
    have k64 : a < F ∨ a < b → wX_unify_64 post (nI a) (nI b) (nI F) f_ruleCount f_strict f_goalX f_goalY f_goalMet f_evaluated f_certainSet f_anyAnswer a_rowCount a_rowX a_rowY a_headX a_headY a_atomCount a_atomTable a_atomX a_atomY a_bound a_frameRow a_frameBound := by
      intro h
      refine pk_le F b (fun hFb => ?_) (fun hbF => ?_)
      · have hB := nn_bind (a := b) (b := a) hW hb1 hFb (by omega) (by omega) (by omega)
        have ⟨s7, _⟩ := nn_tmsl (t := b) (by omega)
        refine nn_slot (by omega) ⟨vp_in_nI s7 (by omega), nm_r (e' := upd a_bound (nn_sl b) (nn_en (a + 1))) (by rw [nI_clamp (by omega), nn_nn8 (by omega), nn_en_s]) ?_⟩
        refine K1 _ _ hB.1 (fun s hs => ?_) (fun σ => ?_)
        · show upd a_bound (nn_sl b) (nn_en (a + 1)) s = nn_en (if s = nn_sl b then a + 1 else β s)
          by_cases e : s = nn_sl b
          · rw [if_pos e, e]; exact pk_us
          · rw [if_neg e, pk_un e]; exact hb s hs
        · rw [hB.2 σ]
          exact ⟨fun H => ⟨H.1, by rw [ha3 σ H.1, hb3 σ H.1, H.2]⟩, fun H => ⟨H.1, by rw [← ha3 σ H.1, ← hb3 σ H.1, H.2]⟩⟩
      · refine K0 (fun σ hK H => ?_)
        rw [ha3 σ H, hb3 σ H]
        have ev : ∀ v, v < F → (v ≤ 6 ∨ (10 ≤ v ∧ v ≤ 12) ∨ 20 ≤ v) → nn_ev σ v = v := by
          intro v h1 h2
          by_cases h10 : v < 10
          · exact nn_ev_lt h10
          · rw [nn_ev_ge (by omega)]
            exact hK (by omega) v (by omega) (by omega)
        rw [ev a (by omega) (by omega), ev b hbF (by omega)]
        exact ne
    refine pk_lt a F (fun h => k64 (Or.inl h)) (fun h => pk_lt a b (fun h2 => k64 (Or.inr h2)) (fun h2 => ?_))
    have hB := nn_bind (a := a) (b := b) hW ha h (by omega) (by omega) (by omega)
    have ⟨s7, _⟩ := nn_tmsl (t := a) (by omega)
    refine nn_slot (by omega) ⟨vp_in_nI s7 (by omega), nm_r (e' := upd a_bound (nn_sl a) (nn_en (b + 1))) (by rw [nI_clamp (by omega), nn_nn8 (by omega), nn_en_s]) ?_⟩
    refine K1 _ _ hB.1 (fun s hs => ?_) (fun σ => ?_)
    · show upd a_bound (nn_sl a) (nn_en (b + 1)) s = nn_en (if s = nn_sl a then b + 1 else β s)
      by_cases e : s = nn_sl a
      · rw [if_pos e, e]; exact pk_us
      · rw [if_neg e, pk_un e]; exact hb s hs
    · rw [hB.2 σ]
      exact ⟨fun H => ⟨H.1, by rw [ha3 σ H.1, hb3 σ H.1, H.2]⟩, fun H => ⟨H.1, by rw [← ha3 σ H.1, ← hb3 σ H.1, H.2]⟩⟩
  unfold wpX_unify
  dsimp only
  refine ha4 _ ?_
  refine hb4 _ ?_
  refine pk_eq a b (fun e => ?_) (fun ne => ?_)
  · exact K1 _ _ hW hb (fun σ => ⟨fun H => ⟨H, by rw [ha3 σ H, hb3 σ H, e]⟩, fun H => H.1⟩)
  · rcases hF with ⟨h, rfl⟩ | ⟨h, rfl⟩
    · exact br_t h (key ne)
    · exact br_f h (key ne)
end
end
section
section
variable {f_ruleCount : Int32} {f_strict : Int32} {f_goalX : Int32} {f_goalY : Int32} {f_goalMet : Int32} {f_evaluated : Int32} {f_certainSet : Int64} {f_anyAnswer : Int32} {a_rowCount : Nat → Int32} {a_rowX : Nat → Int32} {a_rowY : Nat → Int32} {a_headX : Nat → Int32} {a_headY : Nat → Int32} {a_atomCount : Nat → Int32} {a_atomTable : Nat → Int32} {a_atomX : Nat → Int32} {a_atomY : Nat → Int32} {a_bound : Nat → Int32} {a_frameRow : Nat → Int32} {a_frameBound : Nat → Int32}
/-! safe rules -/
theorem nn_inB_lp {c : nn_DB} {r t : Nat} (hm : nn_m c r ≤ 3) (hr : r < 2) (hA : nn_XA c f_ruleCount a_rowCount a_rowX a_rowY a_headX a_headY a_atomCount a_atomTable a_atomX a_atomY) (ht : t < 30) (h20 : 20 ≤ t)
    (hax : ∀ k, k < nn_m c r → nn_ax c (3 * r + k) < 30 ∧ nn_ay c (3 * r + k) < 30)
    {post : Int32 → Prop} (K1 : nn_In c r t → post 1) (K0 : ¬ nn_In c r t → post 0) :
    ∀ g k, k + g = nn_m c r → (∀ j, j < k → nn_ax c (3 * r + j) ≠ t ∧ nn_ay c (3 * r + j) ≠ t) → ∀ n, g < n → wX_inBody_12 post (nI r) (nI t) f_ruleCount f_strict f_goalX f_goalY f_goalMet f_evaluated f_certainSet f_anyAnswer a_rowCount a_rowX a_rowY a_headX a_headY a_atomCount a_atomTable a_atomX a_atomY a_bound a_frameRow a_frameBound n (nI (3 * r + k)) := by
  have ec : a_atomCount (nI r).toNatClampNeg = nI (nn_m c r) := by rw [nI_clamp (by omega)]; exact hA.2.2.2.2.2.2.1 r
  have e3 : 3 * nI r + a_atomCount (nI r).toNatClampNeg = nI (3 * r + nn_m c r) := by rw [ec, nn_ix3]
  intro g
  induction g with
  | zero =>
    intro k hk hj n hn
    obtain ⟨n, rfl⟩ : ∃ k, n = k + 1 := ⟨n - 1, by omega⟩
    refine ⟨vp_in_nI hr (by omega), br_t ?_ (K0 ?_)⟩
    · rw [e3]; exact nI_le (by omega) (by omega)
    · rintro (h | ⟨j, hj1, hj2⟩)
      · omega
      · have := hj j (by omega)
        rcases hj2 with h | h
        · exact this.1 h
        · exact this.2 h
  | succ g ih =>
    intro k hk hj n hn
    obtain ⟨n, rfl⟩ : ∃ k, n = k + 1 := ⟨n - 1, by omega⟩
    have hb := hax k (by omega)
    have ek : (nI (3 * r + k)).toNatClampNeg = 3 * r + k := nI_clamp (by omega)
    have ex : a_atomX (nI (3 * r + k)).toNatClampNeg = nI (nn_ax c (3 * r + k)) := by rw [ek]; exact hA.2.2.2.2.2.2.2.2.1 _
    have ey : a_atomY (nI (3 * r + k)).toNatClampNeg = nI (nn_ay c (3 * r + k)) := by rw [ek]; exact hA.2.2.2.2.2.2.2.2.2 _
    have hi6 : vp_in (nI (3 * r + k)) 6 := vp_in_nI (by omega) (by omega)
    refine ⟨vp_in_nI hr (by omega), br_f (by rw [e3]; exact nI_ge (by omega) (by omega)) ⟨hi6, ?_⟩⟩
    by_cases h1 : nn_ax c (3 * r + k) = t
    · exact br_t (by rw [ex, h1]) (K1 (Or.inr ⟨k, by omega, Or.inl h1⟩))
    · refine br_f (by rw [ex, nI_eq (by omega) (by omega)]; exact h1) ⟨hi6, ?_⟩
      by_cases h2 : nn_ay c (3 * r + k) = t
      · exact br_t (by rw [ey, h2]) (K1 (Or.inr ⟨k, by omega, Or.inr h2⟩))
      · refine br_f (by rw [ey, nI_eq (by omega) (by omega)]; exact h2) (nm_r (nI_1 _) ?_)
        refine ih (k + 1) (by omega) (fun j hj2 => ?_) n (by omega)
        by_cases e : j = k
        · rw [e]; exact ⟨h1, h2⟩
        · exact hj j (by omega)
theorem nn_T30 {v : Nat} (h : nn_isT v) : v < 30 := by unfold nn_isT at h; omega
theorem nn_V30 {v : Nat} (h : nn_isV v) : v < 13 := by unfold nn_isV at h; omega
theorem nn_inB {c : nn_DB} {r t : Nat} (hW : nn_WF c) (hr : r < nn_R c) (hA : nn_XA c f_ruleCount a_rowCount a_rowX a_rowY a_headX a_headY a_atomCount a_atomTable a_atomX a_atomY) (ht : nn_isT t)
    {post : Int32 → Prop} (K1 : nn_In c r t → post 1) (K0 : ¬ nn_In c r t → post 0) : wpX_inBody post (f_ruleCount, f_strict, f_goalX, f_goalY, f_goalMet, f_evaluated, f_certainSet, f_anyAnswer, a_rowCount, a_rowX, a_rowY, a_headX, a_headY, a_atomCount, a_atomTable, a_atomX, a_atomY, a_bound, a_frameRow, a_frameBound) (nI r) (nI t) := by
  have ht3 := nn_T30 ht
  have hr2 := hW.1
  refine pk_le 20 t (fun h => ?_) (fun h => K1 (Or.inl h))
  refine nm_r (nn_m3 r) ⟨nn_m c r + 1, ?_⟩
  exact nn_inB_lp (hW.2.2.2.1 r hr).2.2 (by omega) hA ht3 h (fun k hk => ⟨nn_T30 (hW.2.2.2.2 r k hr hk).2.1, nn_T30 (hW.2.2.2.2 r k hr hk).2.2⟩) K1 K0 (nn_m c r) 0 (by omega) (fun j hj => absurd hj (by omega)) _ (by omega)
theorem nn_safe {c : nn_DB} {r : Nat} (hW : nn_WF c) (hr : r < nn_R c) (hA : nn_XA c f_ruleCount a_rowCount a_rowX a_rowY a_headX a_headY a_atomCount a_atomTable a_atomX a_atomY)
    {post : Int32 → Prop} (K1 : nn_Sf c r → post 1) (K0 : ¬ nn_Sf c r → post 0) : wpX_isSafe post (f_ruleCount, f_strict, f_goalX, f_goalY, f_goalMet, f_evaluated, f_certainSet, f_anyAnswer, a_rowCount, a_rowX, a_rowY, a_headX, a_headY, a_atomCount, a_atomTable, a_atomX, a_atomY, a_bound, a_frameRow, a_frameBound) (nI r) := by
  have hr2 := hW.1
  have hh := hW.2.2.2.1 r hr
  have e1 : a_headX (nI r).toNatClampNeg = nI (nn_hx c r) := by rw [nI_clamp (by omega)]; exact hA.2.2.2.2.1 r
  have e2 : a_headY (nI r).toNatClampNeg = nI (nn_hy c r) := by rw [nI_clamp (by omega)]; exact hA.2.2.2.2.2.1 r
  have hi : vp_in (nI r) 2 := vp_in_nI (by omega) (by omega)
  unfold wpX_isSafe
  dsimp only
  rw [e1, e2]
  refine ⟨hi, nn_inB hW hr hA hh.1 (fun h1 => br_f (by decide) ⟨hi, nn_inB hW hr hA hh.2.1 (fun h2 => br_f (by decide) (K1 ⟨h1, h2⟩)) (fun h2 => br_t rfl (K0 (fun z => h2 z.2)))⟩) (fun h1 => br_t rfl (K0 (fun z => h1 z.1)))⟩
/-! the end of a match -/
def nn_bt (w : Int64) (k : Nat) : Prop := w.toBitVec.toNat.testBit k = true
theorem nn_bt_or (w : Int64) {j k : Nat} (hj : j < 64) : nn_bt (w ||| ((1 : Int64) <<< ((nI j).toInt64 &&& 63))) k ↔ nn_bt w k ∨ k = j := by
  obtain ⟨N, hN, rfl⟩ := wb_of w
  have e : (1 : Int64) <<< ((nI j).toInt64 &&& 63) = lN (2 ^ j) := by
    have := wb_shl 1 hj
    rw [Nat.one_mul] at this
    exact this
  have hp : 2 ^ j < 2 ^ 64 := wb_lt2 hj
  unfold nn_bt
  rw [e, wb_or hN hp, wb_tn (Nat.or_lt_two_pow hN hp), wb_tn hN, Nat.testBit_or, Nat.testBit_two_pow, Bool.or_eq_true, decide_eq_true_eq]
  exact ⟨fun h => h.imp id Eq.symm, fun h => h.imp id Eq.symm⟩
theorem nn_finS {c : nn_DB} {r : Nat} {β p : Nat → Nat} (hC : nn_WF c) (hr : r < nn_R c) (hV : nn_Va c r p) (hSf : nn_Sf c r) (hA : nn_XA c f_ruleCount a_rowCount a_rowX a_rowY a_headX a_headY a_atomCount a_atomTable a_atomX a_atomY)
    (hst : ¬ f_strict = 0) (hW : nn_Wb 20 β) (hb : ∀ s, s < 7 → a_bound s = nn_en (β s)) (hS : ∀ σ, nn_So β σ ↔ nn_Mt c r p σ σ (nn_m c r))
    {post : SX → Prop} (K : ∀ cs, (∀ k, k < 49 → (nn_bt cs k ↔ nn_bt f_certainSet k ∨ nn_Hs c r p k)) → nn_Hs c r p 49 → post (f_ruleCount, f_strict, f_goalX, f_goalY, f_goalMet, f_evaluated, cs, 1, a_rowCount, a_rowX, a_rowY, a_headX, a_headY, a_atomCount, a_atomTable, a_atomX, a_atomY, a_bound, a_frameRow, a_frameBound)) : wpX_finish post (f_ruleCount, f_strict, f_goalX, f_goalY, f_goalMet, f_evaluated, f_certainSet, f_anyAnswer, a_rowCount, a_rowX, a_rowY, a_headX, a_headY, a_atomCount, a_atomTable, a_atomX, a_atomY, a_bound, a_frameRow, a_frameBound) (nI r) := by
  have hr2 := hC.1
  have hh := hC.2.2.2.1 r hr
  have e1 : a_headX (nI r).toNatClampNeg = nI (nn_hx c r) := by rw [nI_clamp (by omega)]; exact hA.2.2.2.2.1 r
  have e2 : a_headY (nI r).toNatClampNeg = nI (nn_hy c r) := by rw [nI_clamp (by omega)]; exact hA.2.2.2.2.2.1 r
  have hi : vp_in (nI r) 2 := vp_in_nI (by omega) (by omega)
  have tk : ∀ t, nn_isT t → t ≤ 6 ∨ (10 ≤ t ∧ t ≤ 12) ∨ (20 ≤ t ∧ t ≤ 23) := fun t h => by unfold nn_isT at h; omega
  obtain ⟨a, ha1, ha2, ha3, ha4⟩ := nn_value (f_ruleCount := f_ruleCount) (f_strict := f_strict) (f_goalX := f_goalX) (f_goalY := f_goalY) (f_goalMet := f_goalMet) (f_evaluated := f_evaluated) (f_certainSet := f_certainSet) (f_anyAnswer := 1) (a_rowCount := a_rowCount) (a_rowX := a_rowX) (a_rowY := a_rowY) (a_headX := a_headX) (a_headY := a_headY) (a_atomCount := a_atomCount) (a_atomTable := a_atomTable) (a_atomX := a_atomX) (a_atomY := a_atomY) (a_bound := a_bound) (a_frameRow := a_frameRow) (a_frameBound := a_frameBound) hW hb (tk _ hh.1)
  obtain ⟨b, hb1, hb2, hb3, hb4⟩ := nn_value (f_ruleCount := f_ruleCount) (f_strict := f_strict) (f_goalX := f_goalX) (f_goalY := f_goalY) (f_goalMet := f_goalMet) (f_evaluated := f_evaluated) (f_certainSet := f_certainSet) (f_anyAnswer := 1) (a_rowCount := a_rowCount) (a_rowX := a_rowX) (a_rowY := a_rowY) (a_headX := a_headX) (a_headY := a_headY) (a_atomCount := a_atomCount) (a_atomTable := a_atomTable) (a_atomX := a_atomX) (a_atomY := a_atomY) (a_bound := a_bound) (a_frameRow := a_frameRow) (a_frameBound := a_frameBound) hW hb (tk _ hh.2.1)
  obtain ⟨ρ, hK, H⟩ := nn_ne20 hW
  have h49 : nn_Hs c r p 49 := ⟨ρ, hK, (hS ρ).mp H, fun z => absurd z (by omega)⟩
  have nv : ∀ t v, nn_isT t → nn_In c r t → nn_nd β v → (20 ≤ v → v = t) → v ≤ 6 ∨ (10 ≤ v ∧ v ≤ 12) := by
    intro t v h1 h2 h3 h4
    by_cases h20 : 20 ≤ v
    · have e := h4 h20
      rw [← e] at h1 h2
      have := nn_bound hC hr hV hW hS h1 h2 h20
      unfold nn_nd at h3
      omega
    · unfold nn_nd at h3
      omega
  have va := nv _ a hh.1 hSf.1 ha1 ha2
  have vb := nv _ b hh.2.1 hSf.2 hb1 hb2
  have ev : ∀ σ v, nn_Kst σ → (v ≤ 6 ∨ (10 ≤ v ∧ v ≤ 12)) → nn_ev σ v = v := by
    intro σ v h1 h2
    by_cases h10 : v < 10
    · exact nn_ev_lt h10
    · rw [nn_ev_ge (by omega)]
      exact h1 v (by omega) (by omega)
  have hs : ∀ k, k < 49 → (nn_Hs c r p k ↔ a = k / 7 ∧ b = k % 7) := by
    intro k hk
    constructor
    · rintro ⟨σ, h1, h2, h3⟩
      have h3 := h3 hk
      have h4 := (hS σ).mpr h2
      rw [ha3 σ h4, hb3 σ h4, ev σ a h1 va, ev σ b h1 vb] at h3
      exact h3
    · intro h
      refine ⟨ρ, hK, (hS ρ).mp H, fun _ => ?_⟩
      rw [ha3 ρ H, hb3 ρ H, ev ρ a hK va, ev ρ b hK vb]
      exact h
  unfold wpX_finish
  dsimp only
  refine br_f hst ⟨hi, ?_⟩
  rw [e1, e2]
  refine ha4 _ ⟨hi, ?_⟩
  refine hb4 _ ?_
  have kno : 10 ≤ a ∨ 10 ≤ b → post (f_ruleCount, f_strict, f_goalX, f_goalY, f_goalMet, f_evaluated, f_certainSet, 1, a_rowCount, a_rowX, a_rowY, a_headX, a_headY, a_atomCount, a_atomTable, a_atomX, a_atomY, a_bound, a_frameRow, a_frameBound) := by
    intro h
    refine K _ (fun k hk => ⟨fun z => Or.inl z, fun z => z.elim id (fun z => ?_)⟩) h49
    have := (hs k hk).mp z
    omega
  refine pk_le 10 a (fun h => kno (Or.inl h)) (fun h => pk_le 10 b (fun h => kno (Or.inr h)) (fun h' => ?_))
  rw [nn_ix7]
  refine nm_e (K _ (fun k hk => ?_) h49)
  rw [nn_bt_or _ (by omega), hs k hk]
  constructor
  · rintro (z | z)
    · exact Or.inl z
    · right; omega
  · rintro (z | z)
    · exact Or.inl z
    · right; omega
theorem nn_finL {c : nn_DB} {r a b : Nat} {β p : Nat → Nat} (hC : nn_WF c) (hr : r < nn_R c) (hA : nn_XA c f_ruleCount a_rowCount a_rowX a_rowY a_headX a_headY a_atomCount a_atomTable a_atomX a_atomY)
    (hst : f_strict = 0) (hga : f_goalX = nI a) (hgb : f_goalY = nI b) (ha : a ≤ 6) (hb6 : b ≤ 6) (hW : nn_Wb 10 β) (hb : ∀ s, s < 7 → a_bound s = nn_en (β s)) (hS : ∀ σ, nn_So β σ ↔ nn_Mt c r p σ σ (nn_m c r))
    {post : SX → Prop} (K1 : ∀ bd, nn_Hl c r a b p → post (f_ruleCount, f_strict, f_goalX, f_goalY, 1, f_evaluated, f_certainSet, f_anyAnswer, a_rowCount, a_rowX, a_rowY, a_headX, a_headY, a_atomCount, a_atomTable, a_atomX, a_atomY, bd, a_frameRow, a_frameBound)) (K0 : ∀ bd, ¬ nn_Hl c r a b p → post (f_ruleCount, f_strict, f_goalX, f_goalY, 0, f_evaluated, f_certainSet, f_anyAnswer, a_rowCount, a_rowX, a_rowY, a_headX, a_headY, a_atomCount, a_atomTable, a_atomX, a_atomY, bd, a_frameRow, a_frameBound)) : wpX_finish post (f_ruleCount, f_strict, f_goalX, f_goalY, f_goalMet, f_evaluated, f_certainSet, f_anyAnswer, a_rowCount, a_rowX, a_rowY, a_headX, a_headY, a_atomCount, a_atomTable, a_atomX, a_atomY, a_bound, a_frameRow, a_frameBound) (nI r) := by
  subst hga hgb
  have hr2 := hC.1
  have hh := hC.2.2.2.1 r hr
  have e1 : a_headX (nI r).toNatClampNeg = nI (nn_hx c r) := by rw [nI_clamp (by omega)]; exact hA.2.2.2.2.1 r
  have e2 : a_headY (nI r).toNatClampNeg = nI (nn_hy c r) := by rw [nI_clamp (by omega)]; exact hA.2.2.2.2.2.1 r
  have hi : vp_in (nI r) 2 := vp_in_nI (by omega) (by omega)
  have tk : ∀ t, nn_isT t → t ≤ 6 ∨ (10 ≤ t ∧ t ≤ 12) ∨ (20 ≤ t ∧ t ≤ 23) := fun t h => by unfold nn_isT at h; omega
  have eva : ∀ σ, nn_ev σ a = a := fun σ => nn_ev_lt (by omega)
  have evb : ∀ σ, nn_ev σ b = b := fun σ => nn_ev_lt (by omega)
  unfold wpX_finish
  dsimp only
  refine br_t hst ⟨hi, ?_⟩
  rw [e1]
  refine nn_unify hW hb (Or.inl ⟨hst, rfl⟩) (tk _ hh.1) (Or.inl ha) (fun bd1 β1 hW1 hb1 h1 => ?_) (fun h1 => ?_)
  · refine br_f (by decide) ⟨hi, ?_⟩
    dsimp only
    rw [e2]
    refine nn_unify hW1 hb1 (Or.inl ⟨hst, rfl⟩) (tk _ hh.2.1) (Or.inl hb6) (fun bd2 β2 hW2 hb2 h2 => ?_) (fun h2 => ?_)
    · refine br_f (by decide) ?_
      refine K1 _ ?_
      obtain ⟨ρ, hK, H⟩ := nn_ne10 hW2
      have H2 := (h2 ρ).mp H
      have H1 := (h1 ρ).mp H2.1
      refine ⟨ρ, hK, (hS ρ).mp H1.1, ?_, ?_⟩
      · rw [H1.2, eva]
      · rw [H2.2, evb]
    · refine br_t rfl ?_
      refine K0 _ ?_
      rintro ⟨σ, -, z2, z3, z4⟩
      refine h2 σ (fun z => absurd z (by decide)) ((h1 σ).mpr ⟨(hS σ).mpr z2, ?_⟩) ?_
      · rw [z3, eva]
      · rw [z4, evb]
  · refine br_t rfl ?_
    refine K0 _ ?_
    rintro ⟨σ, -, z2, z3, z4⟩
    refine h1 σ (fun z => absurd z (by decide)) ((hS σ).mpr z2) ?_
    rw [z3, eva]
end
end
section
/-! the search: what is left to try, and how much -/
def nn_wt : Nat → Nat
  | 0 => 343
  | 1 => 49
  | 2 => 7
  | _ => 1
theorem nn_wt1 : ∀ d, 1 ≤ nn_wt d
  | 0 => by decide
  | 1 => by decide
  | 2 => by decide
  | _ + 3 => Nat.le_refl 1
theorem nn_wt7 : ∀ d, d < 3 → nn_wt d = 7 * nn_wt (d + 1) := by decide
def nn_P (w : Nat → Nat) : Nat → Nat
  | 0 => 0
  | D + 1 => nn_P w D + (6 - w D) * nn_wt D
def nn_w2 (w : Nat → Nat) (d : Nat) : Nat → Nat := fun k => if k = d then w d + 1 else if k = d + 1 then 0 else w k
theorem nn_w2d {w : Nat → Nat} {d : Nat} : nn_w2 w d d = w d + 1 := if_pos rfl
theorem nn_w2s {w : Nat → Nat} {d : Nat} : nn_w2 w d (d + 1) = 0 := by
  unfold nn_w2
  rw [if_neg (by omega), if_pos rfl]
theorem nn_w2l {w : Nat → Nat} {d k : Nat} (h : k < d) : nn_w2 w d k = w k := by
  unfold nn_w2
  rw [if_neg (by omega), if_neg (by omega)]
theorem nn_P_c {w w' : Nat → Nat} : ∀ D, (∀ k, k < D → w k = w' k) → nn_P w D = nn_P w' D
  | 0, _ => rfl
  | D + 1, h => by
    show nn_P w D + (6 - w D) * nn_wt D = nn_P w' D + (6 - w' D) * nn_wt D
    rw [nn_P_c D (fun k hk => h k (by omega)), h D (by omega)]
theorem nn_P_pop {w : Nat → Nat} {d : Nat} (h : w d ≤ 5) : nn_P w d < nn_P w (d + 1) := by
  show nn_P w d < nn_P w d + (6 - w d) * nn_wt d
  have := Nat.mul_pos (show 0 < 6 - w d by omega) (nn_wt1 d)
  omega
theorem nn_P_fail {w : Nat → Nat} {d : Nat} (h : w d ≤ 4) : nn_P (nn_w2 w d) (d + 1) + nn_wt d = nn_P w (d + 1) := by
  show nn_P (nn_w2 w d) d + (6 - nn_w2 w d d) * nn_wt d + nn_wt d = nn_P w d + (6 - w d) * nn_wt d
  rw [nn_P_c (w' := w) d (fun k hk => nn_w2l hk), nn_w2d, show 6 - w d = (6 - (w d + 1)) + 1 by omega, Nat.succ_mul]
  omega
theorem nn_P_push {w : Nat → Nat} {d : Nat} (h : w d ≤ 4) (hd : d < 3) : nn_P (nn_w2 w d) (d + 2) < nn_P w (d + 1) := by
  have h1 := nn_P_fail h
  have h2 := nn_wt7 d hd
  have h3 := nn_wt1 (d + 1)
  have h4 : nn_P (nn_w2 w d) (d + 2) = nn_P (nn_w2 w d) (d + 1) + (6 - nn_w2 w d (d + 1)) * nn_wt (d + 1) := rfl
  rw [nn_w2s] at h4
  omega
def nn_Re (m : Nat) (w : Nat → Nat) (D : Nat) (p : Nat → Nat) : Prop := ∃ j, j < D ∧ (∀ k, k < j → p k = w k - 1) ∧ (j < m → w j ≤ p j)
theorem nn_Re_s {m D : Nat} {w p : Nat → Nat} : nn_Re m w (D + 1) p ↔ nn_Re m w D p ∨ ((∀ k, k < D → p k = w k - 1) ∧ (D < m → w D ≤ p D)) := by
  constructor
  · rintro ⟨j, h1, h2, h3⟩
    by_cases e : j = D
    · subst e; exact Or.inr ⟨h2, h3⟩
    · exact Or.inl ⟨j, by omega, h2, h3⟩
  · rintro (⟨j, h1, h2, h3⟩ | ⟨h2, h3⟩)
    · exact ⟨j, by omega, h2, h3⟩
    · exact ⟨D, by omega, h2, h3⟩
theorem nn_Re_c {m D : Nat} {w w' p : Nat → Nat} (h : ∀ k, k < D → w k = w' k) : nn_Re m w D p → nn_Re m w' D p := by
  rintro ⟨j, h1, h2, h3⟩
  exact ⟨j, h1, fun k hk => by rw [h2 k hk, h k (by omega)], fun hj => by rw [← h j h1]; exact h3 hj⟩
theorem nn_Re_w2 {m d : Nat} {w p : Nat → Nat} : nn_Re m (nn_w2 w d) d p ↔ nn_Re m w d p :=
  ⟨nn_Re_c (fun k hk => nn_w2l hk), nn_Re_c (fun k hk => (nn_w2l hk).symm)⟩
/-- after one row of atom d: the rest at this level, and below it the row that was tried -/
theorem nn_Re_fail {m d : Nat} {w p : Nat → Nat} (hd : d < m) : nn_Re m w (d + 1) p ↔ nn_Re m (nn_w2 w d) (d + 1) p ∨ ((∀ k, k < d → p k = w k - 1) ∧ p d = w d) := by
  rw [nn_Re_s, nn_Re_s, nn_Re_w2, nn_w2d]
  have e : (∀ k, k < d → p k = nn_w2 w d k - 1) ↔ (∀ k, k < d → p k = w k - 1) :=
    ⟨fun h k hk => by rw [h k hk, nn_w2l hk], fun h k hk => by rw [h k hk, nn_w2l hk]⟩
  rw [e]
  constructor
  · rintro (h | ⟨h1, h2⟩)
    · exact Or.inl (Or.inl h)
    · have := h2 hd
      by_cases e : p d = w d
      · exact Or.inr ⟨h1, e⟩
      · exact Or.inl (Or.inr ⟨h1, fun _ => by omega⟩)
  · rintro ((h | ⟨h1, h2⟩) | ⟨h1, h2⟩)
    · exact Or.inl h
    · have := h2 hd
      exact Or.inr ⟨h1, fun _ => by omega⟩
    · exact Or.inr ⟨h1, fun _ => by omega⟩
theorem nn_Re_push {m d : Nat} {w p : Nat → Nat} (hd : d < m) : nn_Re m (nn_w2 w d) (d + 2) p ↔ nn_Re m w (d + 1) p := by
  rw [nn_Re_fail hd, nn_Re_s (D := d + 1), nn_w2s]
  have e : (∀ k, k < d + 1 → p k = nn_w2 w d k - 1) ↔ ((∀ k, k < d → p k = w k - 1) ∧ p d = w d) := by
    constructor
    · intro h
      refine ⟨fun k hk => ?_, ?_⟩
      · rw [h k (by omega), nn_w2l hk]
      · rw [h d (by omega), nn_w2d]; omega
    · intro h k hk
      by_cases e : k = d
      · rw [e, nn_w2d, h.2]; omega
      · rw [nn_w2l (by omega), h.1 k (by omega)]
  rw [e]
  constructor
  · rintro (h | ⟨h, -⟩)
    · exact Or.inl h
    · exact Or.inr h
  · rintro (h | h)
    · exact Or.inl h
    · exact Or.inr ⟨h, fun _ => Nat.zero_le _⟩
section
variable {f_ruleCount : Int32} {f_strict : Int32} {f_goalX : Int32} {f_goalY : Int32} {f_goalMet : Int32} {f_evaluated : Int32} {f_certainSet : Int64} {f_anyAnswer : Int32} {a_rowCount : Nat → Int32} {a_rowX : Nat → Int32} {a_rowY : Nat → Int32} {a_headX : Nat → Int32} {a_headY : Nat → Int32} {a_atomCount : Nat → Int32} {a_atomTable : Nat → Int32} {a_atomX : Nat → Int32} {a_atomY : Nat → Int32} {a_bound : Nat → Int32} {a_frameRow : Nat → Int32} {a_frameBound : Nat → Int32}
variable {c : nn_DB} {r F : Nat} {A : Int32 → Int64 → Int32 → Nat → Prop} {Ok : Int32 → Int64 → Int32 → Prop} {Hit : (Nat → Nat) → Nat → Prop} {T : Nat → Prop}
set_option maxHeartbeats 2000000 in
theorem nn_match_lp (hC : nn_WF c) (hr : r < nn_R c) (hA : nn_XA c f_ruleCount a_rowCount a_rowX a_rowY a_headX a_headY a_atomCount a_atomTable a_atomX a_atomY)
    (hF : (f_strict = 0 ∧ F = 10) ∨ (¬ f_strict = 0 ∧ F = 20))
    (hHc : ∀ p q k, (∀ j, j < nn_m c r → p j = q j) → Hit p k → Hit q k)
    (hHs : ∀ p k, Hit p k → ∃ σ, (F = 20 → nn_Kst σ) ∧ nn_Mt c r p σ σ (nn_m c r))
    (HF : ∀ (post : SX → Prop) (cs : Int64) (aa : Int32) (bd fr fb : Nat → Int32) (β q : Nat → Nat), Ok 0 cs aa → nn_Va c r q → nn_Wb F β → (∀ s, s < 7 → bd s = nn_en (β s)) → (∀ σ, nn_So β σ ↔ nn_Mt c r q σ σ (nn_m c r)) →
      (∀ gm' cs' aa' bd', Ok gm' cs' aa' → (∀ k, A gm' cs' aa' k ↔ A 0 cs aa k ∨ Hit q k) → post (f_ruleCount, f_strict, f_goalX, f_goalY, gm', f_evaluated, cs', aa', a_rowCount, a_rowX, a_rowY, a_headX, a_headY, a_atomCount, a_atomTable, a_atomX, a_atomY, bd', fr, fb)) →
      wpX_finish post (f_ruleCount, f_strict, f_goalX, f_goalY, 0, f_evaluated, cs, aa, a_rowCount, a_rowX, a_rowY, a_headX, a_headY, a_atomCount, a_atomTable, a_atomX, a_atomY, bd, fr, fb) (nI r))
    (post : SX → Prop)
    (K : ∀ gm cs aa bd fr fb, Ok gm cs aa → ((∀ k, A gm cs aa k ↔ T k) ∨ (¬ gm = 0 ∧ ∀ k, A gm cs aa k → T k)) → post (f_ruleCount, f_strict, f_goalX, f_goalY, gm, f_evaluated, cs, aa, a_rowCount, a_rowX, a_rowY, a_headX, a_headY, a_atomCount, a_atomTable, a_atomX, a_atomY, bd, fr, fb)) :
    ∀ (n D : Nat) (x2 gm : Int32) (cs : Int64) (aa : Int32) (bd fr fb : Nat → Int32) (w : Nat → Nat) (B : Nat → Nat → Nat),
      x2 = nI D - 1 → D ≤ nn_m c r + 1 → Ok gm cs aa →
      (∀ j, j < D → fr j = nI (w j) ∧ w j ≤ 5) → (∀ j, j < D → j < nn_m c r → w j ≤ nn_n c (nn_tb c (3 * r + j))) →
      (∀ k, k + 1 < D → w k - 1 < nn_n c (nn_tb c (3 * r + k))) →
      (∀ j, j < D → nn_Wb F (B j) ∧ (∀ s, s < 7 → fb (7 * j + s) = nn_en (B j s)) ∧ ∀ σ, nn_So (B j) σ ↔ nn_Mt c r (fun k => w k - 1) σ σ j) →
      (∀ k, (A gm cs aa k ∨ ∃ p, nn_Va c r p ∧ nn_Re (nn_m c r) w D p ∧ Hit p k) ↔ T k) →
      nn_P w D < n →
      wX_matchRule_35 post (nI r) n x2 f_ruleCount f_strict f_goalX f_goalY gm f_evaluated cs aa a_rowCount a_rowX a_rowY a_headX a_headY a_atomCount a_atomTable a_atomX a_atomY bd fr fb := by
  have hr2 := hC.1
  have hm3 := (hC.2.2.2.1 r hr).2.2
  have hir : vp_in (nI r) 2 := vp_in_nI (by omega) (by omega)
  have ec : a_atomCount (nI r).toNatClampNeg = nI (nn_m c r) := by rw [nI_clamp (by omega)]; exact hA.2.2.2.2.2.2.1 r
  intro n
  induction n with
  | zero => intro D x2 gm cs aa bd fr fb w B _ _ _ _ _ _ _ _ h; exact absurd h (by omega)
  | succ n ih =>
    intro D x2 gm cs aa bd fr fb w B hx hD hOk hfr hwn hva hB hT hP
    rcases Nat.eq_zero_or_pos D with h0 | h0
    · subst h0
      refine br_t (by rw [hx]; decide) (K _ _ _ _ _ _ hOk (Or.inl fun k => ?_))
      rw [← hT k]
      refine ⟨Or.inl, fun h => h.elim id ?_⟩
      rintro ⟨p, -, ⟨j, hj, -⟩, -⟩
      exact absurd hj (by omega)
    obtain ⟨d, rfl⟩ : ∃ d, D = d + 1 := ⟨D - 1, by omega⟩
    rw [nI_pred] at hx
    subst hx
    by_cases hg : gm = 0
    case neg => exact br_f (nI_pos (by omega)) (br_f hg (K _ _ _ _ _ _ hOk (Or.inr ⟨hg, fun k h => (hT k).mp (Or.inl h)⟩)))
    subst hg
    obtain ⟨hWd, hfd, hSd⟩ := hB d (by omega)
    obtain ⟨hfrd, hw5⟩ := hfr d (by omega)
    have em1 : nI d + (-1) = nI d - 1 := (Int32.sub_eq_add_neg _ _).symm
    have ecd : (nI d).toNatClampNeg = d := nI_clamp (by omega)
    refine br_f (nI_pos (by omega)) (br_t rfl (nn_rest (by omega) (fun s hs => ⟨nn_Wb13 hWd hs, hfd s hs⟩) (fun bd' hbd' => ⟨hir, ?_⟩)))
    by_cases hdm : d = nn_m c r
    · refine br_t (by rw [ec, hdm]) ?_
      refine HF _ cs aa bd' fr fb (B d) (fun k => w k - 1) hOk (fun k hk => hva k (by omega)) hWd hbd' (by rw [← hdm]; exact hSd) (fun gm' cs' aa' bd'' hOk' hA' => ?_)
      refine nm_r em1 ?_
      refine ih d _ gm' cs' aa' bd'' fr fb w B rfl (by omega) hOk' (fun j hj => hfr j (by omega)) (fun j hj => hwn j (by omega)) (fun k hk => hva k (by omega)) (fun j hj => hB j (by omega)) (fun k => ?_) (by have := nn_P_pop hw5; omega)
      rw [← hT k, hA' k]
      constructor
      · rintro ((h | h) | ⟨p, h1, h2, h3⟩)
        · exact Or.inl h
        · exact Or.inr ⟨_, fun k hk => hva k (by omega), nn_Re_s.mpr (Or.inr ⟨fun _ _ => rfl, fun z => absurd z (by omega)⟩), h⟩
        · exact Or.inr ⟨p, h1, nn_Re_s.mpr (Or.inl h2), h3⟩
      · rintro (h | ⟨p, h1, h2, h3⟩)
        · exact Or.inl (Or.inl h)
        · rcases nn_Re_s.mp h2 with h | h
          · exact Or.inr ⟨p, h1, h, h3⟩
          · exact Or.inl (Or.inr (hHc p _ k (fun j hj => h.1 j (by omega)) h3))
    have hdl : d < nn_m c r := by omega
    have hat := hC.2.2.2.2 r d hr hdl
    have hn5 := hC.2.1 _ hat.1
    have hwd := hwn d (by omega) hdl
    have ek : (nI (3 * r + d)).toNatClampNeg = 3 * r + d := nI_clamp (by omega)
    have etb : a_atomTable (nI (3 * r + d)).toNatClampNeg = nI (nn_tb c (3 * r + d)) := by rw [ek]; exact hA.2.2.2.2.2.2.2.1 _
    have eax : a_atomX (nI (3 * r + d)).toNatClampNeg = nI (nn_ax c (3 * r + d)) := by rw [ek]; exact hA.2.2.2.2.2.2.2.2.1 _
    have eay : a_atomY (nI (3 * r + d)).toNatClampNeg = nI (nn_ay c (3 * r + d)) := by rw [ek]; exact hA.2.2.2.2.2.2.2.2.2 _
    have efr : fr (nI d).toNatClampNeg = nI (w d) := by rw [ecd]; exact hfrd
    have erc : a_rowCount (nI (nn_tb c (3 * r + d))).toNatClampNeg = nI (nn_n c (nn_tb c (3 * r + d))) := by rw [nI_clamp (by omega)]; exact hA.2.1 _
    have hi6 : vp_in (nI (3 * r + d)) 6 := vp_in_nI (by omega) (by omega)
    have hi4 : vp_in (nI d) 4 := vp_in_nI (by omega) (by omega)
    refine br_f (by rw [ec, nI_eq (by omega) (by omega)]; exact hdm) (nm_r (nn_ix3 r d) ⟨hi6, nm_r etb ⟨hi4, nm_r efr ⟨vp_in_nI hat.1 (by omega), ?_⟩⟩⟩)
    by_cases hrow : w d = nn_n c (nn_tb c (3 * r + d))
    · refine br_t (by rw [erc, hrow]) (nm_r em1 ?_)
      refine ih d _ 0 cs aa bd' fr fb w B rfl (by omega) hOk (fun j hj => hfr j (by omega)) (fun j hj => hwn j (by omega)) (fun k hk => hva k (by omega)) (fun j hj => hB j (by omega)) (fun k => ?_) (by have := nn_P_pop hw5; omega)
      rw [← hT k]
      constructor
      · rintro (h | ⟨p, h1, h2, h3⟩)
        · exact Or.inl h
        · exact Or.inr ⟨p, h1, nn_Re_s.mpr (Or.inl h2), h3⟩
      · rintro (h | ⟨p, h1, h2, h3⟩)
        · exact Or.inl h
        · rcases nn_Re_s.mp h2 with h | h
          · exact Or.inr ⟨p, h1, h, h3⟩
          · have z1 := h.2 hdl
            have z2 := h1 d hdl
            exact absurd z2 (by omega)
    have hlt : w d < nn_n c (nn_tb c (3 * r + d)) := by omega
    have hcell := hC.2.2.1 _ _ hat.1 hlt
    have e5 : (5 * nI (nn_tb c (3 * r + d)) + nI (w d)).toNatClampNeg = 5 * nn_tb c (3 * r + d) + w d := by rw [nn_ix5, nI_clamp (by omega)]
    have erx : a_rowX (5 * nI (nn_tb c (3 * r + d)) + nI (w d)).toNatClampNeg = nI (nn_x c (5 * nn_tb c (3 * r + d) + w d)) := by rw [e5]; exact hA.2.2.1 _
    have ery : a_rowY (5 * nI (nn_tb c (3 * r + d)) + nI (w d)).toNatClampNeg = nI (nn_y c (5 * nn_tb c (3 * r + d) + w d)) := by rw [e5]; exact hA.2.2.2.1 _
    have hi10 : vp_in (5 * nI (nn_tb c (3 * r + d)) + nI (w d)) 10 := by rw [nn_ix5]; exact vp_in_nI (by omega) (by omega)
    have efr' : upd fr (nI d).toNatClampNeg (vp_nar .byte ((fr (nI d).toNatClampNeg + 1).toInt8.toInt32)) = upd fr d (nI (w d + 1)) := by
      rw [efr, ecd, nI_1, nn_nn8 (by omega)]
    have tk : ∀ t, nn_isT t → t ≤ 6 ∨ (10 ≤ t ∧ t ≤ 12) ∨ (20 ≤ t ∧ t ≤ 23) := fun t h => by unfold nn_isT at h; omega
    have vk : ∀ t, nn_isV t → t ≤ 6 ∨ (10 ≤ t ∧ t ≤ 12) := fun t h => by unfold nn_isV at h; omega
    have hwl : ∀ k, k < d → nn_w2 w d k = w k := fun k hk => nn_w2l hk
    have fail : (∀ σ, (F = 20 → nn_Kst σ) → nn_So (B d) σ → ¬ (nn_ev σ (nn_ax c (3 * r + d)) = nn_ev σ (nn_x c (5 * nn_tb c (3 * r + d) + w d)) ∧ nn_ev σ (nn_ay c (3 * r + d)) = nn_ev σ (nn_y c (5 * nn_tb c (3 * r + d) + w d)))) →
        ∀ bd'', wX_matchRule_35 post (nI r) n (nI d) f_ruleCount f_strict f_goalX f_goalY 0 f_evaluated cs aa a_rowCount a_rowX a_rowY a_headX a_headY a_atomCount a_atomTable a_atomX a_atomY bd'' (upd fr d (nI (w d + 1))) fb := by
      intro hno bd''
      refine ih (d + 1) _ 0 cs aa bd'' _ fb (nn_w2 w d) B (nI_pred d).symm hD hOk (fun j hj => ?_) (fun j hj hjm => ?_) (fun k hk => ?_) (fun j hj => ?_) (fun k => ?_) (by have := nn_P_fail (w := w) (d := d) (by omega); have := nn_wt1 d; omega)
      · by_cases e : j = d
        · rw [e, nn_w2d]; exact ⟨pk_us, by omega⟩
        · rw [nn_w2l (by omega), pk_un e]; exact hfr j (by omega)
      · by_cases e : j = d
        · rw [e, nn_w2d]; omega
        · rw [nn_w2l (by omega)]; exact hwn j (by omega) hjm
      · rw [nn_w2l (by omega)]; exact hva k hk
      · obtain ⟨b1, b2, b3⟩ := hB j hj
        refine ⟨b1, b2, fun σ => (b3 σ).trans ⟨nn_Mt_p (fun k hk => ?_), nn_Mt_p (fun k hk => ?_)⟩⟩
        · show w k - 1 = nn_w2 w d k - 1
          rw [nn_w2l (by omega)]
        · show nn_w2 w d k - 1 = w k - 1
          rw [nn_w2l (by omega)]
      · rw [← hT k]
        constructor
        · rintro (h | ⟨p, h1, h2, h3⟩)
          · exact Or.inl h
          · exact Or.inr ⟨p, h1, (nn_Re_fail hdl).mpr (Or.inl h2), h3⟩
        · rintro (h | ⟨p, h1, h2, h3⟩)
          · exact Or.inl h
          · rcases (nn_Re_fail hdl).mp h2 with h | ⟨h4, h5⟩
            · exact Or.inr ⟨p, h1, h, h3⟩
            · exfalso
              obtain ⟨σ, s1, s2⟩ := hHs p k h3
              refine hno σ s1 ((hSd σ).mpr (nn_Mt_p h4 (nn_Mt_le (by omega) s2))) ?_
              have := s2 d hdl
              unfold nn_ce at this
              rw [h5] at this
              exact this
    refine br_f (by rw [erc, nI_eq (by omega) (by omega)]; exact hrow) ⟨hi4, hi4, nm_r efr' ⟨hi6, hi10, ?_⟩⟩
    rw [eax, erx]
    refine nn_unify hWd hbd' hF (tk _ hat.2.1) (vk _ hcell.1) (fun bd1 β1 hW1 hb1 h1 => ?_) (fun h1 => ?_)
    case refine_2 => exact br_t rfl (fail (fun σ z1 z2 z3 => h1 σ z1 z2 z3.1) _)
    refine br_f (by decide) ⟨hi6, hi10, ?_⟩
    rw [eay, ery]
    refine nn_unify hW1 hb1 hF (tk _ hat.2.2) (vk _ hcell.2) (fun bd2 β2 hW2 hb2 h2 => ?_) (fun h2 => ?_)
    case refine_2 => exact br_t rfl (fail (fun σ z1 z2 z3 => h2 σ z1 ((h1 σ).mpr ⟨z2, z3.1⟩) z3.2) _)
    refine br_f (by decide) (nm_r (nI_1 d) ?_)
    refine nn_save (by omega) (fun s hs => ⟨nn_Wb13 hW2 hs, hb2 s hs⟩) (fun fb' f1 f2 => ?_)
    have efr2 : upd (upd fr d (nI (w d + 1))) (nI (d + 1)).toNatClampNeg (vp_nar .byte 0) = upd (upd fr d (nI (w d + 1))) (d + 1) (nI 0) := by
      rw [nI_clamp (by omega)]
      exact congrArg _ (nn_nn (b := 0) (by omega))
    refine br_f (nI_ge (b := 4) (by omega) (by decide)) ⟨vp_in_nI (by omega) (by omega), nm_r efr2 ?_⟩
    refine ih (d + 2) _ 0 cs aa bd2 _ fb' (nn_w2 w d) (fun j => if j = d + 1 then β2 else B j) (nI_pred (d + 1)).symm (by omega) hOk (fun j hj => ?_) (fun j hj hjm => ?_) (fun k hk => ?_) (fun j hj => ?_) (fun k => ?_) (by have := nn_P_push (w := w) (d := d) (by omega) (by omega); omega)
    · by_cases e : j = d + 1
      · rw [e, nn_w2s]; exact ⟨pk_us, by omega⟩
      · rw [pk_un e]
        by_cases e' : j = d
        · rw [e', nn_w2d]; exact ⟨pk_us, by omega⟩
        · rw [nn_w2l (by omega), pk_un e']; exact hfr j (by omega)
    · by_cases e : j = d + 1
      · rw [e, nn_w2s]; omega
      · by_cases e' : j = d
        · rw [e', nn_w2d]; omega
        · rw [nn_w2l (by omega)]; exact hwn j (by omega) hjm
    · by_cases e : k = d
      · rw [e, nn_w2d]; omega
      · rw [nn_w2l (by omega)]; exact hva k (by omega)
    · by_cases e : j = d + 1
      · rw [if_pos e, e]
        refine ⟨hW2, fun s hs => ?_, fun σ => ?_⟩
        · rw [f1 s hs, hb2 s hs]
        · rw [h2 σ, h1 σ, hSd σ, nn_Mt_s]
          have ece : nn_ce c r (fun k => nn_w2 w d k - 1) d = 5 * nn_tb c (3 * r + d) + w d := by
            show 5 * nn_tb c (3 * r + d) + (nn_w2 w d d - 1) = _
            rw [nn_w2d]; omega
          rw [ece]
          constructor
          · rintro ⟨⟨a1, a2⟩, a3⟩
            refine ⟨nn_Mt_p (fun k hk => ?_) a1, a2, a3⟩
            show w k - 1 = nn_w2 w d k - 1
            rw [nn_w2l (by omega)]
          · rintro ⟨a1, a2, a3⟩
            refine ⟨⟨nn_Mt_p (fun k hk => ?_) a1, a2⟩, a3⟩
            show nn_w2 w d k - 1 = w k - 1
            rw [nn_w2l (by omega)]
      · rw [if_neg e]
        obtain ⟨b1, b2, b3⟩ := hB j (by omega)
        refine ⟨b1, fun s hs => ?_, fun σ => (b3 σ).trans ⟨nn_Mt_p (fun k hk => ?_), nn_Mt_p (fun k hk => ?_)⟩⟩
        · rw [f2 _ (by omega)]; exact b2 s hs
        · show w k - 1 = nn_w2 w d k - 1
          rw [nn_w2l (by omega)]
        · show nn_w2 w d k - 1 = w k - 1
          rw [nn_w2l (by omega)]
    · rw [← hT k]
      constructor
      · rintro (h | ⟨p, h1, h2, h3⟩)
        · exact Or.inl h
        · exact Or.inr ⟨p, h1, (nn_Re_push hdl).mp h2, h3⟩
      · rintro (h | ⟨p, h1, h2, h3⟩)
        · exact Or.inl h
        · exact Or.inr ⟨p, h1, (nn_Re_push hdl).mpr h2, h3⟩
end
end
section
section
variable {f_ruleCount : Int32} {f_strict : Int32} {f_goalX : Int32} {f_goalY : Int32} {f_goalMet : Int32} {f_evaluated : Int32} {f_certainSet : Int64} {f_anyAnswer : Int32} {a_rowCount : Nat → Int32} {a_rowX : Nat → Int32} {a_rowY : Nat → Int32} {a_headX : Nat → Int32} {a_headY : Nat → Int32} {a_atomCount : Nat → Int32} {a_atomTable : Nat → Int32} {a_atomX : Nat → Int32} {a_atomY : Nat → Int32} {a_bound : Nat → Int32} {a_frameRow : Nat → Int32} {a_frameBound : Nat → Int32}
variable {c : nn_DB} {r F : Nat} {A : Int32 → Int64 → Int32 → Nat → Prop} {Ok : Int32 → Int64 → Int32 → Prop} {Hit : (Nat → Nat) → Nat → Prop}
set_option maxHeartbeats 1000000 in
theorem nn_match (hC : nn_WF c) (hr : r < nn_R c) (hA : nn_XA c f_ruleCount a_rowCount a_rowX a_rowY a_headX a_headY a_atomCount a_atomTable a_atomX a_atomY)
    (hF : (f_strict = 0 ∧ F = 10) ∨ (¬ f_strict = 0 ∧ F = 20))
    (hHc : ∀ p q k, (∀ j, j < nn_m c r → p j = q j) → Hit p k → Hit q k)
    (hHs : ∀ p k, Hit p k → ∃ σ, (F = 20 → nn_Kst σ) ∧ nn_Mt c r p σ σ (nn_m c r))
    (HF : ∀ (post : SX → Prop) (cs : Int64) (aa : Int32) (bd fr fb : Nat → Int32) (β q : Nat → Nat), Ok 0 cs aa → nn_Va c r q → nn_Wb F β → (∀ s, s < 7 → bd s = nn_en (β s)) → (∀ σ, nn_So β σ ↔ nn_Mt c r q σ σ (nn_m c r)) →
      (∀ gm' cs' aa' bd', Ok gm' cs' aa' → (∀ k, A gm' cs' aa' k ↔ A 0 cs aa k ∨ Hit q k) → post (f_ruleCount, f_strict, f_goalX, f_goalY, gm', f_evaluated, cs', aa', a_rowCount, a_rowX, a_rowY, a_headX, a_headY, a_atomCount, a_atomTable, a_atomX, a_atomY, bd', fr, fb)) →
      wpX_finish post (f_ruleCount, f_strict, f_goalX, f_goalY, 0, f_evaluated, cs, aa, a_rowCount, a_rowX, a_rowY, a_headX, a_headY, a_atomCount, a_atomTable, a_atomX, a_atomY, bd, fr, fb) (nI r))
    (post : SX → Prop) (hOk : Ok f_goalMet f_certainSet f_anyAnswer)
    (K : ∀ gm cs aa bd fr fb, Ok gm cs aa → ((∀ k, A gm cs aa k ↔ (A f_goalMet f_certainSet f_anyAnswer k ∨ ∃ p, nn_Va c r p ∧ Hit p k)) ∨ (¬ gm = 0 ∧ ∀ k, A gm cs aa k → (A f_goalMet f_certainSet f_anyAnswer k ∨ ∃ p, nn_Va c r p ∧ Hit p k))) → post (f_ruleCount, f_strict, f_goalX, f_goalY, gm, f_evaluated, cs, aa, a_rowCount, a_rowX, a_rowY, a_headX, a_headY, a_atomCount, a_atomTable, a_atomX, a_atomY, bd, fr, fb)) :
    wpX_matchRule post (f_ruleCount, f_strict, f_goalX, f_goalY, f_goalMet, f_evaluated, f_certainSet, f_anyAnswer, a_rowCount, a_rowX, a_rowY, a_headX, a_headY, a_atomCount, a_atomTable, a_atomX, a_atomY, a_bound, a_frameRow, a_frameBound) (nI r) := by
  have hF2 : F = 10 ∨ F = 20 := by rcases hF with h | h; exact Or.inl h.2; exact Or.inr h.2
  have hW0 : nn_Wb F (fun _ => 0) := ⟨hF2, fun _ _ => Or.inl (Nat.zero_le _), fun _ _ _ => Or.inl (Nat.zero_le _), fun _ _ _ _ => rfl⟩
  have loop : ∀ (g i : Nat) (bd : Nat → Int32), i + g = 7 → (∀ j, j < i → bd j = nn_en 0) → ∀ n, g < n → wX_matchRule_2 post (nI r) f_ruleCount f_strict f_goalX f_goalY f_goalMet f_evaluated f_certainSet f_anyAnswer n (nI i) a_rowCount a_rowX a_rowY a_headX a_headY a_atomCount a_atomTable a_atomX a_atomY bd a_frameRow a_frameBound := by
    intro g
    induction g with
    | zero =>
      intro i bd hi h1 n hn
      obtain ⟨n, rfl⟩ : ∃ k, n = k + 1 := ⟨n - 1, by omega⟩
      obtain rfl : i = 7 := by omega
      refine br_t (show (7 : Int32) ≤ nI 7 by decide) ?_
      refine nn_save (d := 0) (β := fun _ => 0) (by omega) (fun s hs => ⟨Nat.zero_le _, h1 s hs⟩) (fun fb' f1 f2 => ?_)
      refine nm_r (e' := upd a_frameRow 0 (nI 0)) (congrArg _ (nn_nn (b := 0) (by omega))) ?_
      refine ⟨nn_P (fun _ => 0) 1 + 1, ?_⟩
      refine nn_match_lp (A := A) (Ok := Ok) (Hit := Hit) (F := F) (c := c) (r := r) hC hr hA hF hHc hHs HF post K _ 1 0 _ _ _ _ _ fb' (fun _ => 0) (fun _ _ => 0) (by decide) (by omega) hOk (fun j hj => ?_) (fun _ _ _ => Nat.zero_le _) (fun k hk => absurd hk (by omega)) (fun j hj => ?_) (fun k => ?_) (by omega)
      · obtain rfl : j = 0 := by omega
        exact ⟨pk_us, by omega⟩
      · obtain rfl : j = 0 := by omega
        refine ⟨hW0, fun s hs => ?_, fun σ => ⟨fun _ => nn_Mt_0, fun _ s _ z => absurd rfl z⟩⟩
        rw [f1 s hs]
        exact h1 s hs
      · constructor
        · rintro (h | ⟨p, h1, -, h3⟩)
          · exact Or.inl h
          · exact Or.inr ⟨p, h1, h3⟩
        · rintro (h | ⟨p, h1, h3⟩)
          · exact Or.inl h
          · exact Or.inr ⟨p, h1, ⟨0, by omega, fun k hk => absurd hk (by omega), fun _ => Nat.zero_le _⟩, h3⟩
    | succ g ih =>
      intro i bd hi h1 n hn
      obtain ⟨n, rfl⟩ : ∃ k, n = k + 1 := ⟨n - 1, by omega⟩
      have hc : ¬ (7 : Int32) ≤ nI i := nI_ge (b := 7) (by omega) (by decide)
      have e2 : (nI i).toNatClampNeg = i := nI_clamp (by omega)
      have e3 : vp_nar .byte (-1) = nn_en 0 := (congrArg _ nn_en0'.symm).trans (nn_nb (b := 0) (by omega))
      refine br_f hc ⟨vp_in_nI (by omega) (by omega), nm_r (e' := upd bd i (nn_en 0)) (by rw [e2, e3]) (nm_r (nI_1 i) ?_)⟩
      refine ih (i + 1) _ (by omega) (fun j hj => ?_) n (by omega)
      by_cases e : j = i
      · rw [e]; exact pk_us
      · rw [pk_un e]; exact h1 j (by omega)
  exact ⟨8, loop 7 0 a_bound rfl (fun j hj => absurd hj (by omega)) 8 (by omega)⟩
end
section
variable {f_ruleCount : Int32} {f_strict : Int32} {f_goalX : Int32} {f_goalY : Int32} {f_goalMet : Int32} {f_evaluated : Int32} {f_certainSet : Int64} {f_anyAnswer : Int32} {a_rowCount : Nat → Int32} {a_rowX : Nat → Int32} {a_rowY : Nat → Int32} {a_headX : Nat → Int32} {a_headY : Nat → Int32} {a_atomCount : Nat → Int32} {a_atomTable : Nat → Int32} {a_atomX : Nat → Int32} {a_atomY : Nat → Int32} {a_bound : Nat → Int32} {a_frameRow : Nat → Int32} {a_frameBound : Nat → Int32}
variable {c : nn_DB} {r : Nat}
/-! one rule, strict -/
def nn_As (_ : Int32) (cs : Int64) (aa : Int32) (k : Nat) : Prop := (k < 49 ∧ nn_bt cs k) ∨ (k = 49 ∧ aa = 1)
def nn_Os (gm : Int32) (_ : Int64) (aa : Int32) : Prop := gm = 0 ∧ (aa = 0 ∨ aa = 1)
theorem nn_Hs_c (p q : Nat → Nat) (k : Nat) (h : ∀ j, j < nn_m c r → p j = q j) : nn_Hs c r p k → nn_Hs c r q k := by
  rintro ⟨ρ, h1, h2, h3⟩
  exact ⟨ρ, h1, nn_Mt_p h h2, h3⟩
theorem nn_matchS (hC : nn_WF c) (hr : r < nn_R c) (hSf : nn_Sf c r) (hA : nn_XA c f_ruleCount a_rowCount a_rowX a_rowY a_headX a_headY a_atomCount a_atomTable a_atomX a_atomY)
    (hst : ¬ f_strict = 0) {post : SX → Prop} (haa : f_anyAnswer = 0 ∨ f_anyAnswer = 1)
    (K : ∀ cs aa bd fr fb, (∀ k, k < 49 → (nn_bt cs k ↔ nn_bt f_certainSet k ∨ nn_NR c r k)) → (aa = 0 ∨ aa = 1) → (aa = 1 ↔ f_anyAnswer = 1 ∨ nn_NR c r 49) → post (f_ruleCount, f_strict, f_goalX, f_goalY, 0, f_evaluated, cs, aa, a_rowCount, a_rowX, a_rowY, a_headX, a_headY, a_atomCount, a_atomTable, a_atomX, a_atomY, bd, fr, fb)) :
    wpX_matchRule post (f_ruleCount, f_strict, f_goalX, f_goalY, 0, f_evaluated, f_certainSet, f_anyAnswer, a_rowCount, a_rowX, a_rowY, a_headX, a_headY, a_atomCount, a_atomTable, a_atomX, a_atomY, a_bound, a_frameRow, a_frameBound) (nI r) := by
  refine nn_match (c := c) (r := r) (F := 20) (A := nn_As) (Ok := nn_Os) (Hit := fun p k => k ≤ 49 ∧ nn_Hs c r p k) hC hr hA (Or.inr ⟨hst, rfl⟩) (fun p q k h z => ⟨z.1, nn_Hs_c p q k h z.2⟩) (fun p k z => ?_) (fun post cs aa bd fr fb β q h1 h2 h3 h4 h5 h6 => ?_) post ⟨rfl, haa⟩ (fun gm cs aa bd fr fb h1 h2 => ?_)
  · obtain ⟨-, ρ, z1, z2, -⟩ := z
    exact ⟨ρ, fun _ => z1, z2⟩
  · refine nn_finS hC hr h2 hSf hA hst h3 h4 h5 (fun cs' z1 z2 => h6 _ _ _ _ ⟨rfl, Or.inr rfl⟩ (fun k => ?_))
    constructor
    · rintro (⟨a1, a2⟩ | ⟨a1, a2⟩)
      · rcases (z1 k a1).mp a2 with z | z
        · exact Or.inl (Or.inl ⟨a1, z⟩)
        · exact Or.inr ⟨by omega, z⟩
      · subst a1
        exact Or.inr ⟨by omega, z2⟩
    · rintro ((⟨a1, a2⟩ | ⟨a1, a2⟩) | ⟨a1, a2⟩)
      · exact Or.inl ⟨a1, (z1 k a1).mpr (Or.inl a2)⟩
      · exact Or.inr ⟨a1, rfl⟩
      · by_cases h : k < 49
        · exact Or.inl ⟨h, (z1 k h).mpr (Or.inr a2)⟩
        · exact Or.inr ⟨by omega, rfl⟩
  · obtain ⟨rfl, h1⟩ := h1
    have h2 : ∀ k, nn_As 0 cs aa k ↔ (nn_As 0 f_certainSet f_anyAnswer k ∨ ∃ p, nn_Va c r p ∧ k ≤ 49 ∧ nn_Hs c r p k) := h2.elim id (fun z => absurd rfl z.1)
    refine K _ _ _ _ _ (fun k hk => ?_) h1 ?_
    · have := h2 k
      constructor
      · intro z
        rcases this.mp (Or.inl ⟨hk, z⟩) with (⟨-, z⟩ | ⟨z, -⟩) | ⟨p, z1, -, z2⟩
        · exact Or.inl z
        · omega
        · exact Or.inr ⟨hSf, p, z1, z2⟩
      · rintro (z | ⟨-, p, z1, z2⟩)
        · rcases this.mpr (Or.inl (Or.inl ⟨hk, z⟩)) with ⟨-, z⟩ | ⟨z, -⟩
          · exact z
          · omega
        · rcases this.mpr (Or.inr ⟨p, z1, by omega, z2⟩) with ⟨-, z⟩ | ⟨z, -⟩
          · exact z
          · omega
    · have := h2 49
      constructor
      · intro z
        rcases this.mp (Or.inr ⟨rfl, z⟩) with (⟨z, -⟩ | ⟨-, z⟩) | ⟨p, z1, -, z2⟩
        · omega
        · exact Or.inl z
        · exact Or.inr ⟨hSf, p, z1, z2⟩
      · rintro (z | ⟨-, p, z1, z2⟩)
        · rcases this.mpr (Or.inl (Or.inr ⟨rfl, z⟩)) with ⟨z, -⟩ | ⟨-, z⟩
          · omega
          · exact z
        · rcases this.mpr (Or.inr ⟨p, z1, by omega, z2⟩) with ⟨z, -⟩ | ⟨-, z⟩
          · omega
          · exact z
/-! one rule, loose -/
theorem nn_matchL {a b : Nat} (hC : nn_WF c) (hr : r < nn_R c) (hSf : nn_Sf c r) (hA : nn_XA c f_ruleCount a_rowCount a_rowX a_rowY a_headX a_headY a_atomCount a_atomTable a_atomX a_atomY)
    (hst : f_strict = 0) (hga : f_goalX = nI a) (hgb : f_goalY = nI b) (ha : a ≤ 6) (hb6 : b ≤ 6) {post : SX → Prop}
    (K : ∀ bd fr fb, post (f_ruleCount, f_strict, f_goalX, f_goalY, (nn_bz (nn_PR c a b r)), f_evaluated, f_certainSet, f_anyAnswer, a_rowCount, a_rowX, a_rowY, a_headX, a_headY, a_atomCount, a_atomTable, a_atomX, a_atomY, bd, fr, fb)) :
    wpX_matchRule post (f_ruleCount, f_strict, f_goalX, f_goalY, 0, f_evaluated, f_certainSet, f_anyAnswer, a_rowCount, a_rowX, a_rowY, a_headX, a_headY, a_atomCount, a_atomTable, a_atomX, a_atomY, a_bound, a_frameRow, a_frameBound) (nI r) := by
  refine nn_match (c := c) (r := r) (F := 10) (A := fun gm _ _ _ => gm = 1) (Ok := fun gm cs aa => (gm = 0 ∨ gm = 1) ∧ cs = f_certainSet ∧ aa = f_anyAnswer) (Hit := fun p _ => nn_Hl c r a b p) hC hr hA (Or.inl ⟨hst, rfl⟩) (fun p q k h z => ?_) (fun p k z => ?_) (fun post cs aa bd fr fb β q h1 h2 h3 h4 h5 h6 => ?_) post ⟨Or.inl rfl, rfl, rfl⟩ (fun gm cs aa bd fr fb h1 h2 => ?_)
  · obtain ⟨ρ, z1, z2, z3⟩ := z
    exact ⟨ρ, z1, nn_Mt_p h z2, z3⟩
  · obtain ⟨ρ, z1, z2, -⟩ := z
    exact ⟨ρ, fun z => absurd z (by decide), z2⟩
  · refine nn_finL (a := a) (b := b) (p := q) hC hr hA hst hga hgb ha hb6 h3 h4 h5 (fun bd' z => h6 _ _ _ _ ⟨Or.inr rfl, h1.2⟩ (fun k => ⟨fun _ => Or.inr z, fun _ => rfl⟩)) (fun bd' z => h6 _ _ _ _ ⟨Or.inl rfl, h1.2⟩ (fun k => ⟨fun y => absurd y (by decide), fun y => y.elim id (fun y => absurd y z)⟩))
  · obtain ⟨h1, rfl, rfl⟩ := h1
    have h3 : gm = 1 ↔ ∃ p, nn_Va c r p ∧ nn_Hl c r a b p := by
      have n01 : ¬ (0 : Int32) = 1 := by decide
      rcases h2 with h2 | ⟨h2, h4⟩
      · exact (h2 0).trans ⟨fun z => z.elim (fun z => absurd z n01) id, Or.inr⟩
      · have e : gm = 1 := h1.elim (fun z => absurd z h2) id
        exact ⟨fun z => (h4 0 z).elim (fun z => absurd z n01) id, fun _ => e⟩
    have h5 : gm = nn_bz (nn_PR c a b r) := by
      by_cases z : nn_PR c a b r
      · rw [nn_bz1 z]; exact h3.mpr z.2
      · rw [nn_bz0 z]
        exact h1.elim id (fun y => absurd ⟨hSf, h3.mp y⟩ z)
    rw [h5]
    exact K _ _ _
/-! all rules -/
theorem nn_ex_s {R : Nat → Prop} {i : Nat} : (∃ r, r < i + 1 ∧ R r) ↔ (∃ r, r < i ∧ R r) ∨ R i := by
  constructor
  · rintro ⟨r, h1, h2⟩
    by_cases e : r = i
    · subst e; exact Or.inr h2
    · exact Or.inl ⟨r, by omega, h2⟩
  · rintro (⟨r, h1, h2⟩ | h)
    · exact ⟨r, by omega, h2⟩
    · exact ⟨i, by omega, h⟩
theorem nn_evalS_lp (hC : nn_WF c) (hA : nn_XA c f_ruleCount a_rowCount a_rowX a_rowY a_headX a_headY a_atomCount a_atomTable a_atomX a_atomY)
    (hst : ¬ f_strict = 0) {post : SX → Prop}
    (K : ∀ cs aa bd fr fb, (∀ k, k < 49 → (nn_bt cs k ↔ nn_NA c k)) → aa = nn_bz (nn_NA c 49) → post (f_ruleCount, f_strict, f_goalX, f_goalY, 0, f_evaluated, cs, aa, a_rowCount, a_rowX, a_rowY, a_headX, a_headY, a_atomCount, a_atomTable, a_atomX, a_atomY, bd, fr, fb)) :
    ∀ (g i : Nat) (cs : Int64) (aa : Int32) (bd fr fb : Nat → Int32), i + g = nn_R c → (∀ k, k < 49 → (nn_bt cs k ↔ ∃ r, r < i ∧ nn_NR c r k)) → aa = nn_bz (∃ r, r < i ∧ nn_NR c r 49) →
      ∀ n, g < n → wX_evaluate_35 post n (nI i) f_ruleCount f_strict f_goalX f_goalY 0 f_evaluated cs aa a_rowCount a_rowX a_rowY a_headX a_headY a_atomCount a_atomTable a_atomX a_atomY bd fr fb := by
  have hr2 := hC.1
  intro g
  induction g with
  | zero =>
    intro i cs aa bd fr fb hi h1 h2 n hn
    obtain ⟨n, rfl⟩ : ∃ k, n = k + 1 := ⟨n - 1, by omega⟩
    obtain rfl : i = nn_R c := by omega
    exact br_t (by rw [hA.1]; exact nI_le (by omega) (by omega)) (K _ _ _ _ _ h1 h2)
  | succ g ih =>
    intro i cs aa bd fr fb hi h1 h2 n hn
    obtain ⟨n, rfl⟩ : ∃ k, n = k + 1 := ⟨n - 1, by omega⟩
    refine br_f (by rw [hA.1]; exact nI_ge (by omega) (by omega)) ?_
    refine nn_safe hC (by omega) hA (fun hs => ?_) (fun hs => ?_)
    · refine br_f (by decide) ?_
      have h01 : aa = 0 ∨ aa = 1 := by
        rw [h2]
        by_cases z : ∃ r, r < i ∧ nn_NR c r 49
        · exact Or.inr (nn_bz1 z)
        · exact Or.inl (nn_bz0 z)
      refine nn_matchS (f_anyAnswer := aa) hC (by omega) hs hA hst h01 (fun cs' aa' bd' fr' fb' z1 z2 z3 => ?_)
      refine nm_r (nI_1 i) ?_
      refine ih (i + 1) cs' aa' bd' fr' fb' (by omega) (fun k hk => ?_) ?_ n (by omega)
      · rw [z1 k hk, h1 k hk, nn_ex_s]
      · have z4 : aa = 1 ↔ ∃ r, r < i ∧ nn_NR c r 49 := by
          rw [h2]
          by_cases z : ∃ r, r < i ∧ nn_NR c r 49
          · rw [nn_bz1 z]; exact ⟨fun _ => z, fun _ => rfl⟩
          · rw [nn_bz0 z]; exact ⟨fun y => absurd y (by decide), fun y => absurd y z⟩
        rw [z4, ← nn_ex_s (R := fun r => nn_NR c r 49)] at z3
        by_cases z : ∃ r, r < i + 1 ∧ nn_NR c r 49
        · rw [nn_bz1 z]; exact z3.mpr z
        · rw [nn_bz0 z]; exact z2.elim id (fun y => absurd (z3.mp y) z)
    · have hno : ∀ k, ¬ nn_NR c i k := fun k z => hs z.1
      refine br_t rfl (nm_r (nI_1 i) ?_)
      refine ih (i + 1) cs aa bd fr fb (by omega) (fun k hk => ?_) ?_ n (by omega)
      · rw [h1 k hk, nn_ex_s]
        exact ⟨Or.inl, fun z => z.elim id (fun y => absurd y (hno k))⟩
      · rw [h2]
        refine nn_bz_c ?_
        rw [nn_ex_s]
        exact ⟨Or.inl, fun z => z.elim id (fun y => absurd y (hno 49))⟩
theorem nn_evalS (hC : nn_WF c) (hA : nn_XA c f_ruleCount a_rowCount a_rowX a_rowY a_headX a_headY a_atomCount a_atomTable a_atomX a_atomY)
    (hE : ¬ f_evaluated = 0 → (∀ k, k < 49 → (nn_bt f_certainSet k ↔ nn_NA c k)) ∧ f_anyAnswer = nn_bz (nn_NA c 49)) {post : SX → Prop}
    (K : ∀ st gm e cs aa bd fr fb, ¬ e = 0 → (∀ k, k < 49 → (nn_bt cs k ↔ nn_NA c k)) → aa = nn_bz (nn_NA c 49) → post (f_ruleCount, st, f_goalX, f_goalY, gm, e, cs, aa, a_rowCount, a_rowX, a_rowY, a_headX, a_headY, a_atomCount, a_atomTable, a_atomX, a_atomY, bd, fr, fb)) :
    wpX_evaluate post (f_ruleCount, f_strict, f_goalX, f_goalY, f_goalMet, f_evaluated, f_certainSet, f_anyAnswer, a_rowCount, a_rowX, a_rowY, a_headX, a_headY, a_atomCount, a_atomTable, a_atomX, a_atomY, a_bound, a_frameRow, a_frameBound) := by
  have hr2 := hC.1
  by_cases h0 : f_evaluated = 0
  · refine br_t h0 ⟨nn_R c + 1, ?_⟩
    refine nn_evalS_lp (c := c) (f_strict := 1) (f_evaluated := 1) hC hA (by decide) (fun cs aa bd fr fb z1 z2 => K _ _ _ _ _ _ _ _ (by decide) z1 z2) (nn_R c) 0 _ _ _ _ _ (by omega) (fun k hk => ?_) ?_ _ (by omega)
    · constructor
      · intro z
        unfold nn_bt at z
        rw [show (0 : Int64).toBitVec.toNat = 0 from rfl, Nat.zero_testBit] at z
        exact absurd z (by decide)
      · rintro ⟨r, z, -⟩
        exact absurd z (by omega)
    · exact (nn_bz0 (fun ⟨r, z, _⟩ => absurd z (by omega))).symm
  · exact br_f h0 (K _ _ _ _ _ _ _ _ h0 (hE h0).1 (hE h0).2)
theorem nn_poss_lp {a b : Nat} (hC : nn_WF c) (hA : nn_XA c f_ruleCount a_rowCount a_rowX a_rowY a_headX a_headY a_atomCount a_atomTable a_atomX a_atomY)
    (hst : f_strict = 0) (hga : f_goalX = nI a) (hgb : f_goalY = nI b) (ha : a ≤ 6) (hb6 : b ≤ 6) {post : Int32 → SX → Prop}
    (K : ∀ gm bd fr fb, post (nn_bz (nn_PA c a b)) (f_ruleCount, f_strict, f_goalX, f_goalY, gm, f_evaluated, f_certainSet, f_anyAnswer, a_rowCount, a_rowX, a_rowY, a_headX, a_headY, a_atomCount, a_atomTable, a_atomX, a_atomY, bd, fr, fb)) :
    ∀ (g i : Nat) (gm : Int32) (bd fr fb : Nat → Int32), i + g = nn_R c → gm = nn_bz (∃ r, r < i ∧ nn_PR c a b r) →
      ∀ n, g < n → wX_possible_44 post n (nI i) f_ruleCount f_strict f_goalX f_goalY gm f_evaluated f_certainSet f_anyAnswer a_rowCount a_rowX a_rowY a_headX a_headY a_atomCount a_atomTable a_atomX a_atomY bd fr fb := by
  have hr2 := hC.1
  intro g
  induction g with
  | zero =>
    intro i gm bd fr fb hi h1 n hn
    obtain ⟨n, rfl⟩ : ∃ k, n = k + 1 := ⟨n - 1, by omega⟩
    obtain rfl : i = nn_R c := by omega
    subst h1
    exact br_t (by rw [hA.1]; exact nI_le (by omega) (by omega)) ⟨nn_bz_n, K _ _ _ _⟩
  | succ g ih =>
    intro i gm bd fr fb hi h1 n hn
    obtain ⟨n, rfl⟩ : ∃ k, n = k + 1 := ⟨n - 1, by omega⟩
    refine br_f (by rw [hA.1]; exact nI_ge (by omega) (by omega)) ?_
    by_cases hz : ∃ r, r < i ∧ nn_PR c a b r
    · rw [nn_bz1 hz] at h1
      subst h1
      refine br_f (by decide) (nm_r (nI_1 i) ?_)
      exact ih (i + 1) 1 bd fr fb (by omega) (nn_bz1 (nn_ex_s.mpr (Or.inl hz))).symm n (by omega)
    · rw [nn_bz0 hz] at h1
      subst h1
      refine br_t rfl ?_
      refine nn_safe hC (by omega) hA (fun hs => ?_) (fun hs => ?_)
      · refine br_f (by decide) ?_
        refine nn_matchL (a := a) (b := b) hC (by omega) hs hA hst hga hgb ha hb6 (fun bd' fr' fb' => ?_)
        refine nm_r (nI_1 i) ?_
        refine ih (i + 1) _ bd' fr' fb' (by omega) (nn_bz_c ?_) n (by omega)
        rw [nn_ex_s]
        exact ⟨Or.inr, fun z => z.elim (fun y => absurd y hz) id⟩
      · refine br_t rfl (nm_r (nI_1 i) ?_)
        refine ih (i + 1) _ bd fr fb (by omega) ?_ n (by omega)
        refine (nn_bz0 (fun z => ?_)).symm
        rcases nn_ex_s.mp z with z | z
        · exact hz z
        · exact hs z.1
end
end
section
/-! what the reference's arrays hold -/
def nn_YA (c : nn_DB) (f_rules : Int32) (a_rows a_value a_head a_atoms a_table a_term : Nat → Int32) : Prop :=
  f_rules = nI (nn_R c) ∧ (∀ j, a_rows j = nI (nn_n c j)) ∧
  (∀ t i, t < 2 → i < nn_n c t → a_value (2 * (5 * t + i)) = nI (nn_x c (5 * t + i)) ∧ a_value (2 * (5 * t + i) + 1) = nI (nn_y c (5 * t + i))) ∧
  (∀ j, a_head (2 * j) = nI (nn_hx c j) ∧ a_head (2 * j + 1) = nI (nn_hy c j)) ∧ (∀ j, a_atoms j = nI (nn_m c j)) ∧
  (∀ j, a_table j = nI (nn_tb c j)) ∧ (∀ j, a_term (2 * j) = nI (nn_ax c j) ∧ a_term (2 * j + 1) = nI (nn_ay c j))
def nn_SY (β σ : Nat → Nat) : Prop := ∀ s, s < 4 → β s ≠ 0 → σ (20 + s) = β s - 1
theorem nn_ev6 {κ : Nat → Nat} {v : Nat} (hv : nn_isV v) (hκ : nn_Kc κ) : nn_ev κ v ≤ 6 := by
  rcases hv with h | ⟨h1, h2⟩
  · rw [nn_ev_lt (by omega)]; omega
  · rw [nn_ev_ge h1]; exact hκ v h1 h2
theorem nn_SY_s {β : Nat → Nat} {s a : Nat} (hs : s < 4) (h0 : β s = 0) (σ : Nat → Nat) : nn_SY (fun j => if j = s then a + 1 else β j) σ ↔ nn_SY β σ ∧ σ (20 + s) = a := by
  constructor
  · intro H
    refine ⟨fun j hj hn => ?_, ?_⟩
    · have e : j ≠ s := fun e => hn (by rw [e]; exact h0)
      have h := H j hj
      rw [show (fun j => if j = s then a + 1 else β j) j = β j from if_neg e] at h
      exact h hn
    · have h := H s hs
      rw [show (fun j => if j = s then a + 1 else β j) s = a + 1 from if_pos rfl] at h
      exact h (by omega)
  · intro H j hj hn
    by_cases e : j = s
    · have e2 : (fun j => if j = s then a + 1 else β j) j = a + 1 := if_pos e
      rw [e2, e]
      exact H.2
    · have e2 : (fun j => if j = s then a + 1 else β j) j = β j := if_neg e
      rw [e2] at hn ⊢
      exact H.1 j hj hn
section
variable {f_rules : Int32} {f_some : Int32} {a_rows : Nat → Int32} {a_value : Nat → Int32} {a_head : Nat → Int32} {a_atoms : Nat → Int32} {a_table : Nat → Int32} {a_term : Nat → Int32} {a_known : Nat → Int32} {a_bound : Nat → Int32} {a_here : Nat → Int32} {a_always : Nat → Int32} {a_once : Nat → Int32}
theorem nn_cat {q v : Nat} {κ : Nat → Nat} (hq : q < 20) (hv : nn_isV v) (ev : a_value q = nI v) (hk : ∀ i, i < 3 → a_known i = nI (κ (10 + i))) {post : Int32 → Prop} (K : post (nI (nn_ev κ v))) : wpY_constantAt post (f_rules, f_some, a_rows, a_value, a_head, a_atoms, a_table, a_term, a_known, a_bound, a_here, a_always, a_once) (nI q) := by
  have e : a_value (nI q).toNatClampNeg = nI v := by rw [nI_clamp (by omega)]; exact ev
  have hi : vp_in (nI q) 20 := vp_in_nI hq (by omega)
  have h13 := nn_V30 hv
  unfold wpY_constantAt
  dsimp only
  rw [e]
  refine ⟨hi, pk_lt v 10 (fun h => ⟨hi, ?_⟩) (fun h => ⟨hi, ?_, ?_⟩)⟩
  · rw [nn_ev_lt h] at K
    exact K
  · rw [nn_s10 h]; exact vp_in_nI (by omega) (by omega)
  · rw [nn_s10 h, nI_clamp (by omega), hk (v - 10) (by omega), show 10 + (v - 10) = v by omega, ← nn_ev_ge (σ := κ) h]
    exact K
theorem nn_fit {t a : Nat} {β : Nat → Nat} {post : Int32 → SY → Prop} (ht : nn_isT t) (ha : a ≤ 6) (hb : ∀ s, s < 4 → a_bound s = nn_en (β s)) (h7 : ∀ s, s < 4 → β s ≤ 7)
    (K1 : ∀ bd' β', (∀ s, s < 4 → bd' s = nn_en (β' s)) → (∀ s, s < 4 → β' s ≤ 7) → (∀ σ, nn_SY β' σ ↔ nn_SY β σ ∧ nn_ev σ t = a) → post 1 (f_rules, f_some, a_rows, a_value, a_head, a_atoms, a_table, a_term, a_known, bd', a_here, a_always, a_once))
    (K0 : (∀ σ, nn_SY β σ → nn_ev σ t ≠ a) → post 0 (f_rules, f_some, a_rows, a_value, a_head, a_atoms, a_table, a_term, a_known, a_bound, a_here, a_always, a_once)) : wpY_fit post (f_rules, f_some, a_rows, a_value, a_head, a_atoms, a_table, a_term, a_known, a_bound, a_here, a_always, a_once) (nI t) (nI a) := by
  have ht3 := nn_T30 ht
  refine pk_le 20 t (fun h => ?_) (fun h => ?_)
  · have hs4 : t - 20 < 4 := by unfold nn_isT at ht; omega
    have e20 : nI t - 20 = nI (t - 20) := nn_s20 h
    have et : 20 + (t - 20) = t := by omega
    have ev : ∀ σ, nn_ev σ t = σ t := fun σ => nn_ev_ge (by omega)
    have hi : vp_in (nI t - 20) 4 := by rw [e20]; exact vp_in_nI hs4 (by omega)
    have ec : (nI t - 20).toNatClampNeg = t - 20 := by rw [e20, nI_clamp (by omega)]
    have hb' := hb _ hs4
    have h7' := h7 _ hs4
    refine ⟨hi, ?_⟩
    by_cases h0 : β (t - 20) = 0
    · refine br_f (by rw [ec, hb', h0]; exact nn_en0) ⟨hi, nm_r (e' := upd a_bound (t - 20) (nI a)) (by rw [ec]) ?_⟩
      refine ⟨hi, br_t (by rw [ec]; exact pk_us) ?_⟩
      refine K1 _ (fun j => if j = t - 20 then a + 1 else β j) (fun s hs => ?_) (fun s hs => ?_) (fun σ => ?_)
      · show upd a_bound (t - 20) (nI a) s = nn_en (if s = t - 20 then a + 1 else β s)
        by_cases e : s = t - 20
        · rw [if_pos e, nn_en_s, e]; exact pk_us
        · rw [if_neg e, pk_un e]; exact hb s hs
      · show (if s = t - 20 then a + 1 else β s) ≤ 7
        by_cases e : s = t - 20
        · rw [if_pos e]; omega
        · rw [if_neg e]; exact h7 s hs
      · rw [nn_SY_s hs4 h0, ev, et]
    · obtain ⟨w, hw⟩ : ∃ w, β (t - 20) = w + 1 := ⟨β (t - 20) - 1, by omega⟩
      have ebd : a_bound (nI t - 20).toNatClampNeg = nI w := by rw [ec, hb', hw, nn_en_s]
      have hσ : ∀ σ, nn_SY β σ → nn_ev σ t = w := fun σ H => by
        have := H _ hs4 h0
        rw [et, hw] at this
        rw [ev]
        exact this
      refine br_t (by rw [ebd]; exact nI_pos' (by omega)) ⟨hi, ?_⟩
      by_cases e : w = a
      · refine br_t (by rw [ebd, e]) (K1 _ β hb h7 (fun σ => ⟨fun H => ⟨H, (hσ σ H).trans e⟩, fun H => H.1⟩))
      · refine br_f (by rw [ebd, nI_eq (by omega) (by omega)]; exact e) (K0 (fun σ H => ?_))
        rw [hσ σ H]
        exact e
  · have h3 : t ≤ 3 := by unfold nn_isT at ht; omega
    have ev : ∀ σ, nn_ev σ t = t := fun σ => nn_ev_lt (by omega)
    refine pk_eq t a (fun e => ?_) (fun e => ?_)
    · exact K1 _ β hb h7 (fun σ => ⟨fun H => ⟨H, (ev σ).trans e⟩, fun H => H.1⟩)
    · refine K0 (fun σ _ => ?_)
      rw [ev]
      exact e
variable {c : nn_DB} {r i : Nat} {κ : Nat → Nat}
set_option maxHeartbeats 1000000 in
theorem nn_fits_lp (hC : nn_WF c) (hr : r < nn_R c) (hY : nn_YA c f_rules a_rows a_value a_head a_atoms a_table a_term) (hkn : ∀ i, i < 3 → a_known i = nI (κ (10 + i))) (hκ : nn_Kc κ) (hi : i < 125) {post : Int32 → SY → Prop}
    (K1 : ∀ bd' β', (∀ s, s < 4 → bd' s = nn_en (β' s)) → (∀ s, s < 4 → β' s ≤ 7) → (∀ σ, nn_SY β' σ ↔ nn_Mt c r (nn_pk i) κ σ (nn_m c r)) → nn_Va c r (nn_pk i) → i / 5 ^ nn_m c r = 0 → post 1 (f_rules, f_some, a_rows, a_value, a_head, a_atoms, a_table, a_term, a_known, bd', a_here, a_always, a_once))
    (K0 : ∀ bd', ¬ (nn_Va c r (nn_pk i) ∧ i / 5 ^ nn_m c r = 0 ∧ ∃ σ, nn_Mt c r (nn_pk i) κ σ (nn_m c r)) → post 0 (f_rules, f_some, a_rows, a_value, a_head, a_atoms, a_table, a_term, a_known, bd', a_here, a_always, a_once)) :
    ∀ (g k : Nat) (bd : Nat → Int32) (β : Nat → Nat), k + g = nn_m c r → (∀ s, s < 4 → bd s = nn_en (β s)) → (∀ s, s < 4 → β s ≤ 7) → (∀ σ, nn_SY β σ ↔ nn_Mt c r (nn_pk i) κ σ k) →
      (∀ j, j < k → nn_pk i j < nn_n c (nn_tb c (3 * r + j))) → ∀ n, g < n → wY_fits_28 post (nI r) n (nI (i / 5 ^ k)) (nI k) f_rules f_some a_rows a_value a_head a_atoms a_table a_term a_known bd a_here a_always a_once := by
  have hr2 := hC.1
  have hm3 := (hC.2.2.2.1 r hr).2.2
  have hir : vp_in (nI r) 2 := vp_in_nI (by omega) (by omega)
  have ec : a_atoms (nI r).toNatClampNeg = nI (nn_m c r) := by rw [nI_clamp (by omega)]; exact hY.2.2.2.2.1 r
  have hdl : ∀ k, i / 5 ^ k < 125 := fun k => Nat.lt_of_le_of_lt (Nat.div_le_self _ _) hi
  intro g
  induction g with
  | zero =>
    intro k bd β hk hb h7 hS hv n hn
    obtain ⟨n, rfl⟩ : ∃ k, n = k + 1 := ⟨n - 1, by omega⟩
    obtain rfl : k = nn_m c r := by omega
    have hd := hdl (nn_m c r)
    refine ⟨hir, br_t (by rw [ec]; exact nI_le (by omega) (by omega)) ?_⟩
    refine pk_eq (i / 5 ^ nn_m c r) 0 (fun e => ?_) (fun e => ?_)
    · exact K1 bd β hb h7 hS hv e
    · exact K0 bd (fun z => e z.2.1)
  | succ g ih =>
    intro k bd β hk hb h7 hS hv n hn
    obtain ⟨n, rfl⟩ : ∃ k, n = k + 1 := ⟨n - 1, by omega⟩
    have hkl : k < nn_m c r := by omega
    have hd := hdl k
    have hat := hC.2.2.2.2 r k hr hkl
    have hn5 := hC.2.1 _ hat.1
    have hp5 : nn_pk i k < 5 := Nat.mod_lt _ (by omega)
    have ek : (nI (3 * r + k)).toNatClampNeg = 3 * r + k := nI_clamp (by omega)
    have etb : a_table (nI (3 * r + k)).toNatClampNeg = nI (nn_tb c (3 * r + k)) := by rw [ek]; exact hY.2.2.2.2.2.1 _
    have hi6 : vp_in (nI (3 * r + k)) 6 := vp_in_nI (by omega) (by omega)
    have h50 : ¬ (5 : Int32) = 0 := by decide
    have e6 : nI (i / 5 ^ k) - nI (i / 5 ^ k) / 5 * 5 = nI (nn_pk i k) := pk_rem (d := 5) (by omega) (by omega) (by omega)
    have e9 : nI (i / 5 ^ k) / 5 = nI (i / 5 ^ (k + 1)) :=
      (pk_div (d := 5) (by omega) (by omega) (by omega)).trans (congrArg nI (by rw [Nat.div_div_eq_div_mul, Nat.pow_succ]))
    have e7 : 10 * a_table (nI (3 * r + k)).toNatClampNeg + 2 * nI (nn_pk i k) = nI (2 * (5 * nn_tb c (3 * r + k) + nn_pk i k)) := by
      rw [etb, nn_ix2, nn_ix10]
      exact congrArg nI (by omega)
    have erw : a_rows (a_table (nI (3 * r + k)).toNatClampNeg).toNatClampNeg = nI (nn_n c (nn_tb c (3 * r + k))) := by
      rw [etb, nI_clamp (by omega)]; exact hY.2.1 _
    refine ⟨hir, br_f (by rw [ec]; exact nI_ge (by omega) (by omega)) (nm_r (nn_ix3 r k) ⟨h50, nm_r e6 ⟨h50, nm_r e9 ⟨hi6, nm_r e7 ⟨hi6, ?_, ?_⟩⟩⟩⟩)⟩
    · rw [etb]; exact vp_in_nI hat.1 (by omega)
    by_cases hlt : nn_pk i k < nn_n c (nn_tb c (3 * r + k))
    case neg => exact br_f (by rw [erw, nI_ltI (by omega) (by omega)]; exact hlt) (K0 bd (fun z => hlt (z.1 k hkl)))
    have hcell := hC.2.2.1 _ _ hat.1 hlt
    have hval := hY.2.2.1 _ _ hat.1 hlt
    have et1 : a_term (2 * nI (3 * r + k)).toNatClampNeg = nI (nn_ax c (3 * r + k)) := by
      rw [nn_ix2, nI_clamp (by omega)]; exact (hY.2.2.2.2.2.2 _).1
    have et2 : a_term (2 * nI (3 * r + k) + 1).toNatClampNeg = nI (nn_ay c (3 * r + k)) := by
      rw [nn_ix2, nI_1, nI_clamp (by omega)]; exact (hY.2.2.2.2.2.2 _).2
    refine br_t (by rw [erw, nI_ltI (by omega) (by omega)]; exact hlt) ?_
    refine nn_cat (κ := κ) (by omega) hcell.1 hval.1 hkn ?_
    rw [nI_1 (2 * (5 * nn_tb c (3 * r + k) + nn_pk i k))]
    refine nn_cat (κ := κ) (by omega) hcell.2 hval.2 hkn ⟨?_, ?_⟩
    · rw [nn_ix2]; exact vp_in_nI (by omega) (by omega)
    rw [et1]
    refine nn_fit hat.2.1 (nn_ev6 hcell.1 hκ) hb h7 (fun bd1 β1 b1 c1 s1 => ?_) (fun s1 => ?_)
    case refine_2 =>
      refine br_t rfl (K0 _ (fun z => ?_))
      obtain ⟨-, -, σ, z⟩ := z
      exact s1 σ ((hS σ).mpr (nn_Mt_le (by omega) z)) (z k hkl).1
    refine br_f (by decide) ⟨?_, ?_⟩
    · rw [nn_ix2, nI_1]; exact vp_in_nI (by omega) (by omega)
    rw [et2]
    refine nn_fit hat.2.2 (nn_ev6 hcell.2 hκ) b1 c1 (fun bd2 β2 b2 c2 s2 => ?_) (fun s2 => ?_)
    case refine_2 =>
      refine br_t rfl (K0 _ (fun z => ?_))
      obtain ⟨-, -, σ, z⟩ := z
      exact s2 σ ((s1 σ).mpr ⟨(hS σ).mpr (nn_Mt_le (by omega) z), (z k hkl).1⟩) (z k hkl).2
    refine br_f (by decide) (nm_r (nI_1 k) ?_)
    refine ih (k + 1) bd2 β2 (by omega) b2 c2 (fun σ => ?_) (fun j hj => ?_) n (by omega)
    · rw [s2 σ, s1 σ, hS σ, nn_Mt_s]
      exact ⟨fun z => ⟨z.1.1, z.1.2, z.2⟩, fun z => ⟨⟨z.1, z.2.1⟩, z.2.2⟩⟩
    · by_cases e : j = k
      · rw [e]; exact hlt
      · exact hv j (by omega)
theorem nn_fits (hC : nn_WF c) (hr : r < nn_R c) (hY : nn_YA c f_rules a_rows a_value a_head a_atoms a_table a_term) (hkn : ∀ i, i < 3 → a_known i = nI (κ (10 + i))) (hκ : nn_Kc κ) (hi : i < 125) {post : Int32 → SY → Prop}
    (K1 : ∀ bd' β', (∀ s, s < 4 → bd' s = nn_en (β' s)) → (∀ s, s < 4 → β' s ≤ 7) → (∀ σ, nn_SY β' σ ↔ nn_Mt c r (nn_pk i) κ σ (nn_m c r)) → nn_Va c r (nn_pk i) → i / 5 ^ nn_m c r = 0 → post 1 (f_rules, f_some, a_rows, a_value, a_head, a_atoms, a_table, a_term, a_known, bd', a_here, a_always, a_once))
    (K0 : ∀ bd', ¬ (nn_Va c r (nn_pk i) ∧ i / 5 ^ nn_m c r = 0 ∧ ∃ σ, nn_Mt c r (nn_pk i) κ σ (nn_m c r)) → post 0 (f_rules, f_some, a_rows, a_value, a_head, a_atoms, a_table, a_term, a_known, bd', a_here, a_always, a_once)) : wpY_fits post (f_rules, f_some, a_rows, a_value, a_head, a_atoms, a_table, a_term, a_known, a_bound, a_here, a_always, a_once) (nI r) (nI i) := by
  have loop : ∀ (g j : Nat) (bd : Nat → Int32), j + g = 4 → (∀ s, s < j → bd s = nn_en 0) → ∀ n, g < n → wY_fits_5 post (nI r) (nI i) f_rules f_some n (nI j) a_rows a_value a_head a_atoms a_table a_term a_known bd a_here a_always a_once := by
    intro g
    induction g with
    | zero =>
      intro j bd hj h1 n hn
      obtain ⟨n, rfl⟩ : ∃ k, n = k + 1 := ⟨n - 1, by omega⟩
      obtain rfl : j = 4 := by omega
      refine br_t (show (4 : Int32) ≤ nI 4 by decide) ⟨nn_m c r + 1, ?_⟩
      have := nn_fits_lp (f_some := f_some) (a_here := a_here) (a_always := a_always) (a_once := a_once) hC hr hY hkn hκ hi K1 K0 (nn_m c r) 0 bd (fun _ => 0) (by omega) h1 (fun _ _ => Nat.zero_le _) (fun σ => ⟨fun _ => nn_Mt_0, fun _ s _ z => absurd rfl z⟩) (fun j hj => absurd hj (by omega)) (nn_m c r + 1) (by omega)
      rw [Nat.pow_zero, Nat.div_one] at this
      exact this
    | succ g ih =>
      intro j bd hj h1 n hn
      obtain ⟨n, rfl⟩ : ∃ k, n = k + 1 := ⟨n - 1, by omega⟩
      have e2 : (nI j).toNatClampNeg = j := nI_clamp (by omega)
      refine br_f (nI_ge (b := 4) (by omega) (by decide)) ⟨vp_in_nI (by omega) (by omega), nm_r (e' := upd bd j (nn_en 0)) (by rw [e2, nn_en0']) (nm_r (nI_1 j) ?_)⟩
      refine ih (j + 1) _ (by omega) (fun s hs => ?_) n (by omega)
      by_cases e : s = j
      · rw [e]; exact pk_us
      · rw [pk_un e]; exact h1 s (by omega)
  exact ⟨5, loop 4 0 a_bound rfl (fun j hj => absurd hj (by omega)) 5 (by omega)⟩
/-! heads -/
theorem nn_headY {t : Nat} {β p : Nat → Nat} (ht : nn_isT t) (hb : ∀ s, s < 4 → a_bound s = nn_en (β s)) (h7 : ∀ s, s < 4 → β s ≤ 7) (hS : ∀ σ, nn_SY β σ ↔ nn_Mt c r p κ σ (nn_m c r)) :
    ∃ h : Int32, ((h < 0 ∧ ¬ nn_In c r t) ∨ (nn_In c r t ∧ ∃ a, a ≤ 6 ∧ h = nI a ∧ ∀ σ, nn_Mt c r p κ σ (nn_m c r) → nn_ev σ t = a)) ∧ ∀ post : Int32 → Prop, post h → wpY_headOf post (f_rules, f_some, a_rows, a_value, a_head, a_atoms, a_table, a_term, a_known, a_bound, a_here, a_always, a_once) (nI t) := by
  have ht3 := nn_T30 ht
  by_cases h20 : 20 ≤ t
  · have hs4 : t - 20 < 4 := by unfold nn_isT at ht; omega
    have et : 20 + (t - 20) = t := by omega
    have ev : ∀ σ, nn_ev σ t = σ t := fun σ => nn_ev_ge (by omega)
    have ec : (nI t - 20).toNatClampNeg = t - 20 := by rw [nn_s20 h20, nI_clamp (by omega)]
    have H0 : nn_SY β (fun u => β (u - 20) - 1) := fun s hs hn => by
      show β (20 + s - 20) - 1 = β s - 1
      rw [show 20 + s - 20 = s by omega]
    refine ⟨nn_en (β (t - 20)), ?_, fun post K => br_t (nI_le (a := 20) h20 (by omega)) ⟨by rw [nn_s20 h20]; exact vp_in_nI hs4 (by omega), by rw [ec, hb _ hs4]; exact K⟩⟩
    by_cases h0 : β (t - 20) = 0
    · left
      rw [h0]
      refine ⟨by decide, fun hI => ?_⟩
      have H1 : nn_SY β (fun u => if u = t then (fun u => β (u - 20) - 1) t + 1 else (fun u => β (u - 20) - 1) u) := fun s hs hn => by
        have e : 20 + s ≠ t := fun e => hn (by rw [show s = t - 20 by omega]; exact h0)
        show (if 20 + s = t then _ else β (20 + s - 20) - 1) = β s - 1
        rw [if_neg e, show 20 + s - 20 = s by omega]
      have e := nn_In1 ht hI ((hS _).mp H0) ((hS _).mp H1)
      rw [ev, ev] at e
      rw [if_pos rfl] at e
      omega
    · right
      obtain ⟨w, hw⟩ : ∃ w, β (t - 20) = w + 1 := ⟨β (t - 20) - 1, by omega⟩
      have h7' := h7 _ hs4
      have hσ : ∀ σ, nn_Mt c r p κ σ (nn_m c r) → nn_ev σ t = w := fun σ H => by
        have := (hS σ).mpr H _ hs4 h0
        rw [et, hw] at this
        rw [ev]
        exact this
      refine ⟨?_, w, by omega, by rw [hw, nn_en_s], hσ⟩
      refine Classical.byContradiction fun hI => ?_
      have H1 := nn_In2 (t := t) (w := w + 1) hI ((hS _).mp H0)
      have e := hσ _ H1
      rw [ev] at e
      rw [if_pos rfl] at e
      omega
  · have h3 : t ≤ 3 := by unfold nn_isT at ht; omega
    exact ⟨nI t, Or.inr ⟨Or.inl (by omega), t, by omega, rfl, fun σ _ => nn_ev_lt (by omega)⟩, fun post K => br_f (nI_ge (b := 20) (by omega) (by decide)) K⟩
end
end
section
theorem nn_ex_no {Q : Prop} {R : Nat → Prop} {i : Nat} (h : ¬ R i) : (Q ∨ ∃ r, r < i ∧ R r) ↔ (Q ∨ ∃ r, r < i + 1 ∧ R r) := by
  rw [nn_ex_s]
  constructor
  · rintro (z | z)
    · exact Or.inl z
    · exact Or.inr (Or.inl z)
  · rintro (z | z | z)
    · exact Or.inl z
    · exact Or.inr z
    · exact absurd z h
section
variable {f_rules : Int32} {f_some : Int32} {a_rows : Nat → Int32} {a_value : Nat → Int32} {a_head : Nat → Int32} {a_atoms : Nat → Int32} {a_table : Nat → Int32} {a_term : Nat → Int32} {a_known : Nat → Int32} {a_bound : Nat → Int32} {a_here : Nat → Int32} {a_always : Nat → Int32} {a_once : Nat → Int32}
variable {c : nn_DB} {r : Nat} {κ : Nat → Nat}
set_option maxHeartbeats 1000000 in
theorem nn_apply_lp (hC : nn_WF c) (hr : r < nn_R c) (hY : nn_YA c f_rules a_rows a_value a_head a_atoms a_table a_term) (hkn : ∀ i, i < 3 → a_known i = nI (κ (10 + i))) (hκ : nn_Kc κ) (H : Nat → Prop) {post : SY → Prop}
    (K : ∀ bd he, (∀ k, k < 49 → he k = nn_bz (H k ∨ nn_CR c κ r k)) → post (f_rules, f_some, a_rows, a_value, a_head, a_atoms, a_table, a_term, a_known, bd, he, a_always, a_once)) :
    ∀ (g i : Nat) (bd he : Nat → Int32), i + g = 125 → (∀ k, k < 49 → he k = nn_bz (H k ∨ ∃ j, j < i ∧ nn_PH c κ r j k)) → ∀ n, g < n → wY_apply_2 post (nI r) n (nI i) f_rules f_some a_rows a_value a_head a_atoms a_table a_term a_known bd he a_always a_once := by
  have hr2 := hC.1
  have hh := hC.2.2.2.1 r hr
  have e1 : a_head (2 * nI r).toNatClampNeg = nI (nn_hx c r) := by rw [nn_ix2, nI_clamp (by omega)]; exact (hY.2.2.2.1 r).1
  have e2 : a_head (2 * nI r + 1).toNatClampNeg = nI (nn_hy c r) := by rw [nn_ix2, nI_1, nI_clamp (by omega)]; exact (hY.2.2.2.1 r).2
  intro g
  induction g with
  | zero =>
    intro i bd he hi h1 n hn
    obtain ⟨n, rfl⟩ : ∃ k, n = k + 1 := ⟨n - 1, by omega⟩
    obtain rfl : i = 125 := by omega
    refine br_t (show (125 : Int32) ≤ nI 125 by decide) (K _ _ (fun k hk => (h1 k hk).trans (nn_bz_c ?_)))
    rw [nn_CR_pk hC hr]
  | succ g ih =>
    intro i bd he hi h1 n hn
    obtain ⟨n, rfl⟩ : ∃ k, n = k + 1 := ⟨n - 1, by omega⟩
    have skip : ∀ bd', (∀ k, ¬ nn_PH c κ r i k) → wY_apply_2 post (nI r) n (nI (i + 1)) f_rules f_some a_rows a_value a_head a_atoms a_table a_term a_known bd' he a_always a_once := fun bd' hno =>
      ih (i + 1) bd' he (by omega) (fun k hk => (h1 k hk).trans (nn_bz_c (nn_ex_no (R := fun j => nn_PH c κ r j k) (hno k)))) n (by omega)
    refine br_f (nI_ge (b := 125) (by omega) (by decide)) ?_
    refine nn_fits hC hr hY hkn hκ (by omega) (fun bd' β' b1 b2 b3 b4 b5 => ?_) (fun bd' hno => ?_)
    case refine_2 =>
      refine br_t rfl (nm_r (nI_1 i) (skip bd' (fun k z => hno ?_)))
      obtain ⟨-, z1, z2, σ, z3, -⟩ := z
      exact ⟨z1, z2, σ, z3⟩
    obtain ⟨h, hh1, hh2⟩ := nn_headY (f_rules := f_rules) (f_some := f_some) (a_rows := a_rows) (a_value := a_value) (a_head := a_head) (a_atoms := a_atoms) (a_table := a_table) (a_term := a_term) (a_known := a_known) (a_bound := bd') (a_here := he) (a_always := a_always) (a_once := a_once) (c := c) (r := r) (κ := κ) hh.1 b1 b2 b3
    obtain ⟨h', hh3, hh4⟩ := nn_headY (f_rules := f_rules) (f_some := f_some) (a_rows := a_rows) (a_value := a_value) (a_head := a_head) (a_atoms := a_atoms) (a_table := a_table) (a_term := a_term) (a_known := a_known) (a_bound := bd') (a_here := he) (a_always := a_always) (a_once := a_once) (c := c) (r := r) (κ := κ) hh.2.1 b1 b2 b3
    refine br_f (by decide) ⟨?_, ?_⟩
    · rw [nn_ix2]; exact vp_in_nI (by omega) (by omega)
    rw [e1]
    refine hh2 _ ⟨?_, ?_⟩
    · rw [nn_ix2, nI_1]; exact vp_in_nI (by omega) (by omega)
    rw [e2]
    refine hh4 _ ?_
    rcases hh1 with ⟨n1, n2⟩ | ⟨i1, a, a6, ha, ea⟩
    · exact br_t n1 (nm_r (nI_1 i) (skip bd' (fun k z => n2 z.1.1)))
    subst ha
    refine br_f (nI_pos (by omega)) ?_
    rcases hh3 with ⟨n1, n2⟩ | ⟨i2, b, b6, hb, eb⟩
    · exact br_t n1 (nm_r (nI_1 i) (skip bd' (fun k z => n2 z.1.2)))
    subst hb
    refine br_f (nI_pos (by omega)) ⟨?_, nm_r (e' := upd he (7 * a + b) 1) ?_ (nm_r (nI_1 i) ?_)⟩
    · rw [nn_ix7]; exact vp_in_nI (by omega) (by omega)
    · rw [nn_ix7, nI_clamp (by omega), nn_vb1]
    · refine ih (i + 1) bd' _ (by omega) (fun k hk => ?_) n (by omega)
      by_cases e : k = 7 * a + b
      · rw [e, pk_us]
        refine (nn_bz1 (Or.inr (nn_ex_s.mpr (Or.inr ?_)))).symm
        have H0 : nn_SY β' (fun u => β' (u - 20) - 1) := fun s hs hn => by
          show β' (20 + s - 20) - 1 = β' s - 1
          rw [show 20 + s - 20 = s by omega]
        have M0 := (b3 _).mp H0
        refine ⟨⟨i1, i2⟩, b4, b5, _, M0, ?_, ?_⟩
        · rw [ea _ M0]; omega
        · rw [eb _ M0]; omega
      · rw [pk_un e, h1 k hk]
        refine nn_bz_c (nn_ex_no (R := fun j => nn_PH c κ r j k) ?_)
        rintro ⟨-, -, -, σ, z, z1, z2⟩
        rw [ea σ z] at z1
        rw [eb σ z] at z2
        omega
theorem nn_apply (hC : nn_WF c) (hr : r < nn_R c) (hY : nn_YA c f_rules a_rows a_value a_head a_atoms a_table a_term) (hkn : ∀ i, i < 3 → a_known i = nI (κ (10 + i))) (hκ : nn_Kc κ) (H : Nat → Prop) {post : SY → Prop}
    (hhe : ∀ k, k < 49 → a_here k = nn_bz (H k))
    (K : ∀ bd he, (∀ k, k < 49 → he k = nn_bz (H k ∨ nn_CR c κ r k)) → post (f_rules, f_some, a_rows, a_value, a_head, a_atoms, a_table, a_term, a_known, bd, he, a_always, a_once)) : wpY_apply post (f_rules, f_some, a_rows, a_value, a_head, a_atoms, a_table, a_term, a_known, a_bound, a_here, a_always, a_once) (nI r) := by
  refine ⟨126, nn_apply_lp hC hr hY hkn hκ H K 125 0 a_bound a_here rfl (fun k hk => (hhe k hk).trans (nn_bz_c ⟨Or.inl, fun z => z.elim id ?_⟩)) 126 (by omega)⟩
  rintro ⟨j, z, -⟩
  exact absurd z (by omega)
/-! one completion -/
theorem nn_c79 {CA AL ON : Nat → Prop} {post : Int32 → SY → Prop} (hhe : ∀ k, k < 49 → a_here k = nn_bz (CA k))
    (K : ∀ al on, (∀ k, k < 49 → al k = nn_bz (AL k ∧ CA k)) → (∀ k, k < 49 → on k = nn_bz (ON k ∨ CA k)) → post (nn_bz (∃ k, k < 49 ∧ CA k)) (f_rules, f_some, a_rows, a_value, a_head, a_atoms, a_table, a_term, a_known, a_bound, a_here, al, on)) :
    ∀ (g i : Nat) (x : Int32) (al on : Nat → Int32), i + g = 49 → x = nn_bz (∃ k, k < i ∧ CA k) → (∀ k, k < 49 → al k = nn_bz (AL k ∧ (k < i → CA k))) → (∀ k, k < 49 → on k = nn_bz (ON k ∨ (k < i ∧ CA k))) →
      ∀ n, g < n → wY_complete_79 post f_rules f_some n x (nI i) a_rows a_value a_head a_atoms a_table a_term a_known a_bound a_here al on := by
  intro g
  induction g with
  | zero =>
    intro i x al on hi hx hal hon n hn
    obtain ⟨n, rfl⟩ : ∃ k, n = k + 1 := ⟨n - 1, by omega⟩
    obtain rfl : i = 49 := by omega
    subst hx
    refine br_t (show (49 : Int32) ≤ nI 49 by decide) ⟨nn_bz_n, K al on (fun k hk => (hal k hk).trans (nn_bz_c ?_)) (fun k hk => (hon k hk).trans (nn_bz_c ?_))⟩
    · exact ⟨fun z => ⟨z.1, z.2 hk⟩, fun z => ⟨z.1, fun _ => z.2⟩⟩
    · exact ⟨fun z => z.imp id And.right, fun z => z.imp id (fun y => ⟨hk, y⟩)⟩
  | succ g ih =>
    intro i x al on hi hx hal hon n hn
    obtain ⟨n, rfl⟩ : ∃ k, n = k + 1 := ⟨n - 1, by omega⟩
    have hin : vp_in (nI i) 49 := vp_in_nI (by omega) (by omega)
    have ec : (nI i).toNatClampNeg = i := nI_clamp (by omega)
    refine br_f (nI_ge (b := 49) (by omega) (by decide)) ⟨hin, ?_⟩
    by_cases hz : CA i
    · refine br_f (by rw [ec, hhe i (by omega), nn_bz1 hz]; decide) ⟨hin, nm_r (e' := upd on i 1) (by rw [ec, nn_vb1]) (nm_r (nI_1 i) ?_)⟩
      refine ih (i + 1) 1 al _ (by omega) (nn_bz1 ⟨i, by omega, hz⟩).symm (fun k hk => (hal k hk).trans (nn_bz_c ?_)) (fun k hk => ?_) n (by omega)
      · refine ⟨fun z => ⟨z.1, fun h => ?_⟩, fun z => ⟨z.1, fun h => z.2 (by omega)⟩⟩
        by_cases e : k = i
        · rw [e]; exact hz
        · exact z.2 (by omega)
      · by_cases e : k = i
        · rw [e, pk_us]
          exact (nn_bz1 (Or.inr ⟨by omega, hz⟩)).symm
        · rw [pk_un e, hon k hk]
          refine nn_bz_c ⟨fun z => z.imp id (fun y => ⟨by omega, y.2⟩), fun z => z.imp id (fun y => ⟨?_, y.2⟩)⟩
          have := y.1
          omega
    · refine br_t (by rw [ec, hhe i (by omega), nn_bz0 hz]) ⟨hin, nm_r (e' := upd al i 0) (by rw [ec, nn_vb0]) (nm_r (nI_1 i) ?_)⟩
      refine ih (i + 1) x _ on (by omega) (hx.trans (nn_bz_c ?_)) (fun k hk => ?_) (fun k hk => (hon k hk).trans (nn_bz_c ?_)) n (by omega)
      · rw [nn_ex_s]
        exact ⟨Or.inl, fun z => z.elim id (fun y => absurd y hz)⟩
      · by_cases e : k = i
        · rw [e, pk_us]
          exact (nn_bz0 (fun z => hz (z.2 (by omega)))).symm
        · rw [pk_un e, hal k hk]
          exact nn_bz_c ⟨fun z => ⟨z.1, fun h => z.2 (by omega)⟩, fun z => ⟨z.1, fun h => z.2 (by omega)⟩⟩
      · refine ⟨fun z => z.imp id (fun y => ⟨?_, y.2⟩), fun z => z.imp id (fun y => ⟨?_, y.2⟩)⟩
        · have := y.1
          omega
        · have h1 := y.1
          by_cases e : k = i
          · rw [e] at y
            exact absurd y.2 hz
          · omega
theorem nn_c56 {AL ON : Nat → Prop} {post : Int32 → SY → Prop} (hC : nn_WF c) (hY : nn_YA c f_rules a_rows a_value a_head a_atoms a_table a_term) (hkn : ∀ i, i < 3 → a_known i = nI (κ (10 + i))) (hκ : nn_Kc κ)
    (hal : ∀ k, k < 49 → a_always k = nn_bz (AL k)) (hon : ∀ k, k < 49 → a_once k = nn_bz (ON k))
    (K : ∀ bd he al on, (∀ k, k < 49 → al k = nn_bz (AL k ∧ nn_CA c κ k)) → (∀ k, k < 49 → on k = nn_bz (ON k ∨ nn_CA c κ k)) → post (nn_bz (∃ k, k < 49 ∧ nn_CA c κ k)) (f_rules, f_some, a_rows, a_value, a_head, a_atoms, a_table, a_term, a_known, bd, he, al, on)) :
    ∀ (g i : Nat) (bd he : Nat → Int32), i + g = nn_R c → (∀ k, k < 49 → he k = nn_bz (∃ r, r < i ∧ nn_CR c κ r k)) → ∀ n, g < n → wY_complete_56 post n (nI i) f_rules f_some a_rows a_value a_head a_atoms a_table a_term a_known bd he a_always a_once := by
  have hr2 := hC.1
  intro g
  induction g with
  | zero =>
    intro i bd he hi h1 n hn
    obtain ⟨n, rfl⟩ : ∃ k, n = k + 1 := ⟨n - 1, by omega⟩
    obtain rfl : i = nn_R c := by omega
    refine br_t (by rw [hY.1]; exact nI_le (by omega) (by omega)) ⟨50, ?_⟩
    refine nn_c79 (CA := nn_CA c κ) (AL := AL) (ON := ON) h1 (fun al on z1 z2 => K bd he al on z1 z2) 49 0 0 _ _ rfl ?_ (fun k hk => (hal k hk).trans (nn_bz_c ?_)) (fun k hk => (hon k hk).trans (nn_bz_c ?_)) 50 (by omega)
    · exact (nn_bz0 (fun ⟨k, z, _⟩ => absurd z (by omega))).symm
    · exact ⟨fun z => ⟨z, fun h => absurd h (by omega)⟩, And.left⟩
    · exact ⟨Or.inl, fun z => z.elim id (fun y => absurd y.1 (by omega))⟩
  | succ g ih =>
    intro i bd he hi h1 n hn
    obtain ⟨n, rfl⟩ : ∃ k, n = k + 1 := ⟨n - 1, by omega⟩
    refine br_f (by rw [hY.1]; exact nI_ge (by omega) (by omega)) ?_
    refine nn_apply hC (by omega) hY hkn hκ (fun k => ∃ r, r < i ∧ nn_CR c κ r k) h1 (fun bd' he' z => ?_)
    refine nm_r (nI_1 i) (ih (i + 1) bd' he' (by omega) (fun k hk => (z k hk).trans (nn_bz_c ?_)) n (by omega))
    rw [nn_ex_s]
theorem nn_compl {j : Nat} (hj : j < 343) {AL ON : Nat → Prop} {post : Int32 → SY → Prop} (hC : nn_WF c) (hY : nn_YA c f_rules a_rows a_value a_head a_atoms a_table a_term)
    (hal : ∀ k, k < 49 → a_always k = nn_bz (AL k)) (hon : ∀ k, k < 49 → a_once k = nn_bz (ON k))
    (K : ∀ kn bd he al on, (∀ k, k < 49 → al k = nn_bz (AL k ∧ nn_CA c (nn_kn j) k)) → (∀ k, k < 49 → on k = nn_bz (ON k ∨ nn_CA c (nn_kn j) k)) → post (nn_bz (∃ k, k < 49 ∧ nn_CA c (nn_kn j) k)) (f_rules, f_some, a_rows, a_value, a_head, a_atoms, a_table, a_term, kn, bd, he, al, on)) :
    wpY_complete post (f_rules, f_some, a_rows, a_value, a_head, a_atoms, a_table, a_term, a_known, a_bound, a_here, a_always, a_once) (nI j) := by
  have h70 : ¬ (7 : Int32) = 0 := by decide
  have h490 : ¬ (49 : Int32) = 0 := by decide
  have e1 : nI j - nI j / 7 * 7 = nI (j % 7) := pk_rem (d := 7) (by omega) (by omega) (by omega)
  have e2 : nI j / 7 = nI (j / 7) := pk_div (d := 7) (by omega) (by omega) (by omega)
  have e3 : nI j / 7 - nI j / 7 / 7 * 7 = nI (j / 7 % 7) := by
    rw [e2]
    exact pk_rem (d := 7) (by omega) (by omega) (by omega)
  have e4 : nI j / 49 = nI (j / 49) := pk_div (d := 49) (by omega) (by omega) (by omega)
  refine ⟨h70, nm_r (e' := upd a_known 0 (nI (j % 7))) (by rw [e1]) ⟨h70, h70, nm_r (e' := upd (upd a_known 0 (nI (j % 7))) 1 (nI (j / 7 % 7))) (by rw [e3]) ⟨h490, nm_r (e' := upd (upd (upd a_known 0 (nI (j % 7))) 1 (nI (j / 7 % 7))) 2 (nI (j / 49))) (by rw [e4]) ⟨50, ?_⟩⟩⟩⟩
  generalize hkd : upd (upd (upd a_known 0 (nI (j % 7))) 1 (nI (j / 7 % 7))) 2 (nI (j / 49)) = kn
  have hkn : ∀ i, i < 3 → kn i = nI (nn_kn j (10 + i)) := by
    intro i hi
    rw [← hkd]
    have h : i = 0 ∨ i = 1 ∨ i = 2 := by omega
    rcases h with rfl | rfl | rfl
    · rfl
    · rfl
    · rfl
  have loop : ∀ (g i : Nat) (he : Nat → Int32), i + g = 49 → (∀ k, k < i → he k = 0) → ∀ n, g < n → wY_complete_35 post f_rules f_some n (nI i) a_rows a_value a_head a_atoms a_table a_term kn a_bound he a_always a_once := by
    intro g
    induction g with
    | zero =>
      intro i he hi h1 n hn
      obtain ⟨n, rfl⟩ : ∃ k, n = k + 1 := ⟨n - 1, by omega⟩
      obtain rfl : i = 49 := by omega
      refine br_t (show (49 : Int32) ≤ nI 49 by decide) ⟨nn_R c + 1, ?_⟩
      refine nn_c56 (κ := nn_kn j) hC hY hkn (nn_kn_c hj) hal hon (fun bd he al on z1 z2 => K _ bd he al on z1 z2) (nn_R c) 0 _ _ (by omega) (fun k hk => ?_) _ (by omega)
      rw [h1 k hk]
      exact (nn_bz0 (fun ⟨k, z, _⟩ => absurd z (by omega))).symm
    | succ g ih =>
      intro i he hi h1 n hn
      obtain ⟨n, rfl⟩ : ∃ k, n = k + 1 := ⟨n - 1, by omega⟩
      refine br_f (nI_ge (b := 49) (by omega) (by decide)) ⟨vp_in_nI (by omega) (by omega), nm_r (e' := upd he i 0) (by rw [nI_clamp (by omega), nn_vb0]) (nm_r (nI_1 i) ?_)⟩
      refine ih (i + 1) _ (by omega) (fun k hk => ?_) n (by omega)
      by_cases e : k = i
      · rw [e]; exact pk_us
      · rw [pk_un e]; exact h1 k (by omega)
  exact loop 49 0 a_here rfl (fun k hk => absurd hk (by omega)) 50 (by omega)
/-! all completions -/
theorem nn_e35 {post : SY → Prop} (hC : nn_WF c) (hY : nn_YA c f_rules a_rows a_value a_head a_atoms a_table a_term)
    (K : ∀ so kn bd he al on, so = nn_bz (nn_NA c 49) → (∀ k, k < 49 → al k = nn_bz (nn_NA c k)) → (∀ a b, a ≤ 6 → b ≤ 6 → on (7 * a + b) = nn_bz (nn_PA c a b)) → post (f_rules, so, a_rows, a_value, a_head, a_atoms, a_table, a_term, kn, bd, he, al, on)) :
    ∀ (g i : Nat) (so : Int32) (kn bd he al on : Nat → Int32), i + g = 343 → so = nn_bz (∀ j, j < i → ∃ k, k < 49 ∧ nn_CA c (nn_kn j) k) →
      (∀ k, k < 49 → al k = nn_bz (∀ j, j < i → nn_CA c (nn_kn j) k)) → (∀ k, k < 49 → on k = nn_bz (∃ j, j < i ∧ nn_CA c (nn_kn j) k)) →
      ∀ n, g < n → wY_evaluate_35 post n (nI i) f_rules so a_rows a_value a_head a_atoms a_table a_term kn bd he al on := by
  intro g
  induction g with
  | zero =>
    intro i so kn bd he al on hi h1 h2 h3 n hn
    obtain ⟨n, rfl⟩ : ∃ k, n = k + 1 := ⟨n - 1, by omega⟩
    obtain rfl : i = 343 := by omega
    refine br_t (show (343 : Int32) ≤ nI 343 by decide) (K _ _ _ _ _ _ (h1.trans (nn_bz_c (nn_L2 hC))) (fun k hk => (h2 k hk).trans (nn_bz_c (nn_L1 hC hk))) (fun a b ha hb => (h3 _ (by omega)).trans (nn_bz_c (nn_L3 hC hb))))
  | succ g ih =>
    intro i so kn bd he al on hi h1 h2 h3 n hn
    obtain ⟨n, rfl⟩ : ∃ k, n = k + 1 := ⟨n - 1, by omega⟩
    have all : ∀ {R : Nat → Prop}, (∀ j, j < i + 1 → R j) ↔ ((∀ j, j < i → R j) ∧ R i) := by
      intro R
      refine ⟨fun h => ⟨fun j hj => h j (by omega), h i (by omega)⟩, fun h j hj => ?_⟩
      by_cases e : j = i
      · rw [e]; exact h.2
      · exact h.1 j (by omega)
    refine br_f (nI_ge (b := 343) (by omega) (by decide)) ?_
    refine nn_compl (j := i) (by omega) (AL := fun k => ∀ j, j < i → nn_CA c (nn_kn j) k) (ON := fun k => ∃ j, j < i ∧ nn_CA c (nn_kn j) k) hC hY h2 h3 (fun kn' bd' he' al' on' z1 z2 => ?_)
    have y1 : ∀ k, k < 49 → al' k = nn_bz (∀ j, j < i + 1 → nn_CA c (nn_kn j) k) := fun k hk => (z1 k hk).trans (nn_bz_c (by rw [all]))
    have y2 : ∀ k, k < 49 → on' k = nn_bz (∃ j, j < i + 1 ∧ nn_CA c (nn_kn j) k) := fun k hk => (z2 k hk).trans (nn_bz_c (by rw [nn_ex_s]))
    by_cases hz : ∃ k, k < 49 ∧ nn_CA c (nn_kn i) k
    · rw [nn_bz1 hz]
      refine br_f (by decide) (nm_r (nI_1 i) ?_)
      refine ih (i + 1) so kn' bd' he' al' on' (by omega) (h1.trans (nn_bz_c ?_)) y1 y2 n (by omega)
      rw [all]
      exact ⟨fun z => ⟨z, hz⟩, And.left⟩
    · rw [nn_bz0 hz]
      refine br_t rfl (nm_r (nI_1 i) ?_)
      refine ih (i + 1) 0 kn' bd' he' al' on' (by omega) (nn_bz0 (fun z => hz (z i (by omega)))).symm y1 y2 n (by omega)
theorem nn_evalY {post : SY → Prop} (hC : nn_WF c) (hY : nn_YA c f_rules a_rows a_value a_head a_atoms a_table a_term)
    (K : ∀ so kn bd he al on, so = nn_bz (nn_NA c 49) → (∀ k, k < 49 → al k = nn_bz (nn_NA c k)) → (∀ a b, a ≤ 6 → b ≤ 6 → on (7 * a + b) = nn_bz (nn_PA c a b)) → post (f_rules, so, a_rows, a_value, a_head, a_atoms, a_table, a_term, kn, bd, he, al, on)) :
    wpY_evaluate post (f_rules, f_some, a_rows, a_value, a_head, a_atoms, a_table, a_term, a_known, a_bound, a_here, a_always, a_once) := by
  have loop : ∀ (g i : Nat) (al on : Nat → Int32), i + g = 49 → (∀ k, k < i → al k = 1) → (∀ k, k < i → on k = 0) → ∀ n, g < n → wY_evaluate_7 post f_rules 1 n (nI i) a_rows a_value a_head a_atoms a_table a_term a_known a_bound a_here al on := by
    intro g
    induction g with
    | zero =>
      intro i al on hi h1 h2 n hn
      obtain ⟨n, rfl⟩ : ∃ k, n = k + 1 := ⟨n - 1, by omega⟩
      obtain rfl : i = 49 := by omega
      refine br_t (show (49 : Int32) ≤ nI 49 by decide) ⟨344, ?_⟩
      refine nn_e35 (c := c) hC hY K 343 0 1 _ _ _ al on rfl ?_ (fun k hk => ?_) (fun k hk => ?_) 344 (by omega)
      · exact (nn_bz1 (fun j hj => absurd hj (by omega))).symm
      · rw [h1 k hk]
        exact (nn_bz1 (fun j hj => absurd hj (by omega))).symm
      · rw [h2 k hk]
        exact (nn_bz0 (fun ⟨k, z, _⟩ => absurd z (by omega))).symm
    | succ g ih =>
      intro i al on hi h1 h2 n hn
      obtain ⟨n, rfl⟩ : ∃ k, n = k + 1 := ⟨n - 1, by omega⟩
      have hin : vp_in (nI i) 49 := vp_in_nI (by omega) (by omega)
      have ec : (nI i).toNatClampNeg = i := nI_clamp (by omega)
      refine br_f (nI_ge (b := 49) (by omega) (by decide)) ⟨hin, nm_r (e' := upd al i 1) (by rw [ec, nn_vb1]) ⟨hin, nm_r (e' := upd on i 0) (by rw [ec, nn_vb0]) (nm_r (nI_1 i) ?_)⟩⟩
      refine ih (i + 1) _ _ (by omega) (fun k hk => ?_) (fun k hk => ?_) n (by omega)
      · by_cases e : k = i
        · rw [e]; exact pk_us
        · rw [pk_un e]; exact h1 k (by omega)
      · by_cases e : k = i
        · rw [e]; exact pk_us
        · rw [pk_un e]; exact h2 k (by omega)
  exact ⟨50, loop 49 0 a_always a_once rfl (fun k hk => absurd hk (by omega)) (fun k hk => absurd hk (by omega)) 50 (by omega)⟩
end
end
section
/-! the relation -/
def nn_EV (c : nn_DB) (f_evaluated : Int32) (f_certainSet : Int64) (f_anyAnswer : Int32) : Prop :=
  ¬ f_evaluated = 0 → (∀ k, k < 49 → (nn_bt f_certainSet k ↔ nn_NA c k)) ∧ f_anyAnswer = nn_bz (nn_NA c 49)
def nn_RX (c : nn_DB) (u : SX) : Prop := match u with
  | (f_ruleCount, f_strict, f_goalX, f_goalY, f_goalMet, f_evaluated, f_certainSet, f_anyAnswer, a_rowCount, a_rowX, a_rowY, a_headX, a_headY, a_atomCount, a_atomTable, a_atomX, a_atomY, a_bound, a_frameRow, a_frameBound) => nn_XA c f_ruleCount a_rowCount a_rowX a_rowY a_headX a_headY a_atomCount a_atomTable a_atomX a_atomY ∧ nn_EV c f_evaluated f_certainSet f_anyAnswer
def nn_RY (c : nn_DB) (v : SY) : Prop := match v with
  | (f_rules, f_some, a_rows, a_value, a_head, a_atoms, a_table, a_term, a_known, a_bound, a_here, a_always, a_once) => nn_YA c f_rules a_rows a_value a_head a_atoms a_table a_term
/-- both sides hold one database; a kept evaluation is that of this database -/
def i_Rel (_ : Nat) (u : SX) (v : SY) : Prop := ∃ c, nn_WF c ∧ nn_RX c u ∧ nn_RY c v
theorem i_up {k : Nat} {u : SX} {v : SY} (h : i_Rel k u v) : i_Rel (k + 4) u v := h
theorem i_vc0 : wpX_init (fun u => wpY_init (fun v => i_Rel 0 u v)) := by
  refine ⟨(0, fun _ => 0, fun _ => 0, fun _ => 0, fun _ => 0, fun _ => 0, fun _ => 0, fun _ => 0, fun _ => 0, fun _ => 0), ?_, ?_, ?_⟩
  · exact ⟨Nat.zero_le _, fun _ _ => Nat.zero_le _, fun t i _ hi => absurd hi (Nat.not_lt_zero _), fun r hr => absurd hr (Nat.not_lt_zero _), fun r k hr _ => absurd hr (Nat.not_lt_zero _)⟩
  · exact ⟨⟨rfl, fun _ => rfl, fun _ => rfl, fun _ => rfl, fun _ => rfl, fun _ => rfl, fun _ => rfl, fun _ => rfl, fun _ => rfl, fun _ => rfl⟩, fun z => absurd rfl z⟩
  · exact ⟨rfl, fun _ => rfl, fun t i _ hi => absurd hi (Nat.not_lt_zero _), fun _ => ⟨rfl, rfl⟩, fun _ => rfl, fun _ => rfl, fun _ => ⟨rfl, rfl⟩⟩
/-! arguments: tables, cell values, terms -/
theorem nn_tab (p : Int32) : (∃ t, t < 2 ∧ p = nI t) ∨ ((p < 0 ∨ 1 < p) ∧ ¬ p = 0 ∧ ¬ p = 1) := by
  by_cases h0 : p < 0
  · refine Or.inr ⟨Or.inl h0, fun e => ?_, fun e => ?_⟩
    · rw [e] at h0; exact absurd h0 (by decide)
    · rw [e] at h0; exact absurd h0 (by decide)
  · by_cases h1 : 1 < p
    · refine Or.inr ⟨Or.inr h1, fun e => ?_, fun e => ?_⟩
      · rw [e] at h1; exact absurd h1 (by decide)
      · rw [e] at h1; exact absurd h1 (by decide)
    · obtain ⟨j, hj, e⟩ := nI_of2 (M := 1) (n := 1) (by decide) h0 (Int32.not_lt.mp h1)
      exact Or.inl ⟨j, by omega, e⟩
theorem nn_g1 {a b v : Nat} {P1 P0 : Prop} (h : v ≤ 3 ∨ (a ≤ v ∧ v ≤ b)) (ha : 3 < a) (hab : a ≤ b) (hb : b < 100) (K : P1) :
    (nI v < 0 → ((nI v < nI a → P0) ∧ (¬ nI v < nI a → ((nI b < nI v → P0) ∧ (¬ nI b < nI v → P1))))) ∧ (¬ nI v < 0 → ((nI v ≤ 3 → P1) ∧ (¬ nI v ≤ 3 → ((nI v < nI a → P0) ∧ (¬ nI v < nI a → ((nI b < nI v → P0) ∧ (¬ nI b < nI v → P1))))))) := by
  refine br_f (nI_pos (by omega)) ?_
  rcases h with h | ⟨h1, h2⟩
  · exact br_t (nI_le (b := 3) h (by omega)) K
  · exact br_f (nI_ge (a := 3) (by omega) (by omega)) (br_f (nI_nlt h1 (by omega)) (br_f (nI_nlt h2 (by omega)) K))
theorem nn_g0 {a b : Nat} {p : Int32} {P1 P0 : Prop} (h : ∀ v, (v ≤ 3 ∨ (a ≤ v ∧ v ≤ b)) → p ≠ nI v) (ha : 3 < a) (hab : a ≤ b) (hb : b < 100) (K : P0) :
    (p < 0 → ((p < nI a → P0) ∧ (¬ p < nI a → ((nI b < p → P0) ∧ (¬ nI b < p → P1))))) ∧ (¬ p < 0 → ((p ≤ 3 → P1) ∧ (¬ p ≤ 3 → ((p < nI a → P0) ∧ (¬ p < nI a → ((nI b < p → P0) ∧ (¬ nI b < p → P1))))))) := by
  have G : (p < nI a → P0) ∧ (¬ p < nI a → ((nI b < p → P0) ∧ (¬ nI b < p → P1))) := by
    refine br_c (fun _ => K) (fun h1 => br_c (fun _ => K) (fun h2 => ?_))
    have h0 : ¬ p < 0 := fun z => h1 (Int32.lt_of_lt_of_le z (nI_pos' (by omega)))
    obtain ⟨j, hj, e⟩ := nI_of h0
    subst e
    rw [nI_ltI (by omega) (by omega)] at h1 h2
    exact absurd rfl (h j (Or.inr ⟨by omega, by omega⟩))
  refine br_c (fun _ => G) (fun h0 => br_c (fun h3 => ?_) (fun _ => G))
  obtain ⟨j, hj, e⟩ := nI_of2 (M := 3) (n := 3) (by decide) h0 h3
  exact absurd e (h j (Or.inl hj))
section
variable {f_ruleCount : Int32} {f_strict : Int32} {f_goalX : Int32} {f_goalY : Int32} {f_goalMet : Int32} {f_evaluated : Int32} {f_certainSet : Int64} {f_anyAnswer : Int32} {a_rowCount : Nat → Int32} {a_rowX : Nat → Int32} {a_rowY : Nat → Int32} {a_headX : Nat → Int32} {a_headY : Nat → Int32} {a_atomCount : Nat → Int32} {a_atomTable : Nat → Int32} {a_atomX : Nat → Int32} {a_atomY : Nat → Int32} {a_bound : Nat → Int32} {a_frameRow : Nat → Int32} {a_frameBound : Nat → Int32}
variable {p : Int32} {v t : Nat} {post : Int32 → Prop}
theorem nn_cX1 (h : nn_isV v) (K : post 1) : wpX_isCellValue post (f_ruleCount, f_strict, f_goalX, f_goalY, f_goalMet, f_evaluated, f_certainSet, f_anyAnswer, a_rowCount, a_rowX, a_rowY, a_headX, a_headY, a_atomCount, a_atomTable, a_atomX, a_atomY, a_bound, a_frameRow, a_frameBound) (nI v) := nn_g1 (a := 10) (b := 12) h (by omega) (by omega) (by omega) K
theorem nn_cX0 (h : ¬ ∃ v, nn_isV v ∧ p = nI v) (K : post 0) : wpX_isCellValue post (f_ruleCount, f_strict, f_goalX, f_goalY, f_goalMet, f_evaluated, f_certainSet, f_anyAnswer, a_rowCount, a_rowX, a_rowY, a_headX, a_headY, a_atomCount, a_atomTable, a_atomX, a_atomY, a_bound, a_frameRow, a_frameBound) p := nn_g0 (a := 10) (b := 12) (fun v hv e => h ⟨v, hv, e⟩) (by omega) (by omega) (by omega) K
theorem nn_tX1 (h : nn_isT v) (K : post 1) : wpX_isTerm post (f_ruleCount, f_strict, f_goalX, f_goalY, f_goalMet, f_evaluated, f_certainSet, f_anyAnswer, a_rowCount, a_rowX, a_rowY, a_headX, a_headY, a_atomCount, a_atomTable, a_atomX, a_atomY, a_bound, a_frameRow, a_frameBound) (nI v) := nn_g1 (a := 20) (b := 23) h (by omega) (by omega) (by omega) K
theorem nn_tX0 (h : ¬ ∃ v, nn_isT v ∧ p = nI v) (K : post 0) : wpX_isTerm post (f_ruleCount, f_strict, f_goalX, f_goalY, f_goalMet, f_evaluated, f_certainSet, f_anyAnswer, a_rowCount, a_rowX, a_rowY, a_headX, a_headY, a_atomCount, a_atomTable, a_atomX, a_atomY, a_bound, a_frameRow, a_frameBound) p := nn_g0 (a := 20) (b := 23) (fun v hv e => h ⟨v, hv, e⟩) (by omega) (by omega) (by omega) K
end
section
variable {f_rules : Int32} {f_some : Int32} {a_rows : Nat → Int32} {a_value : Nat → Int32} {a_head : Nat → Int32} {a_atoms : Nat → Int32} {a_table : Nat → Int32} {a_term : Nat → Int32} {a_known : Nat → Int32} {a_bound : Nat → Int32} {a_here : Nat → Int32} {a_always : Nat → Int32} {a_once : Nat → Int32}
variable {p : Int32} {v t : Nat} {post : Int32 → Prop}
theorem nn_cY1 (h : nn_isV v) (K : post 1) : wpY_isValue post (f_rules, f_some, a_rows, a_value, a_head, a_atoms, a_table, a_term, a_known, a_bound, a_here, a_always, a_once) (nI v) := nn_g1 (a := 10) (b := 12) h (by omega) (by omega) (by omega) K
theorem nn_cY0 (h : ¬ ∃ v, nn_isV v ∧ p = nI v) (K : post 0) : wpY_isValue post (f_rules, f_some, a_rows, a_value, a_head, a_atoms, a_table, a_term, a_known, a_bound, a_here, a_always, a_once) p := nn_g0 (a := 10) (b := 12) (fun v hv e => h ⟨v, hv, e⟩) (by omega) (by omega) (by omega) K
theorem nn_tY1 (h : nn_isT v) (K : post 1) : wpY_isTerm post (f_rules, f_some, a_rows, a_value, a_head, a_atoms, a_table, a_term, a_known, a_bound, a_here, a_always, a_once) (nI v) := nn_g1 (a := 20) (b := 23) h (by omega) (by omega) (by omega) K
theorem nn_tY0 (h : ¬ ∃ v, nn_isT v ∧ p = nI v) (K : post 0) : wpY_isTerm post (f_rules, f_some, a_rows, a_value, a_head, a_atoms, a_table, a_term, a_known, a_bound, a_here, a_always, a_once) p := nn_g0 (a := 20) (b := 23) (fun v hv e => h ⟨v, hv, e⟩) (by omega) (by omega) (by omega) K
theorem nn_bY1 (h : t < 2) (K : post 1) : wpY_isTable post (f_rules, f_some, a_rows, a_value, a_head, a_atoms, a_table, a_term, a_known, a_bound, a_here, a_always, a_once) (nI t) := by
  have h2 : t = 0 ∨ t = 1 := by omega
  rcases h2 with rfl | rfl
  · exact br_t rfl K
  · exact br_f (by decide) (br_t rfl K)
theorem nn_bY0 (h : ¬ ∃ t, t < 2 ∧ p = nI t) (K : post 0) : wpY_isTable post (f_rules, f_some, a_rows, a_value, a_head, a_atoms, a_table, a_term, a_known, a_bound, a_here, a_always, a_once) p :=
  br_f (fun e => h ⟨0, by omega, e⟩) (br_f (fun e => h ⟨1, by omega, e⟩) K)
end
def nn_up (f : Nat → Nat) (k v : Nat) : Nat → Nat := fun j => if j = k then v else f j
theorem nn_up_s {f : Nat → Nat} {k v : Nat} : nn_up f k v k = v := if_pos rfl
theorem nn_up_n {f : Nat → Nat} {k v j : Nat} (h : j ≠ k) : nn_up f k v j = f j := if_neg h
theorem nn_up_A {a : Nat → Int32} {f : Nat → Nat} {k v : Nat} (h : ∀ j, a j = nI (f j)) (j : Nat) : upd a k (nI v) j = nI (nn_up f k v j) := by
  by_cases e : j = k
  · rw [e, pk_us, nn_up_s]
  · rw [pk_un e, nn_up_n e]; exact h j
/-! addRow -/
section
variable {f_ruleCount : Int32} {f_strict : Int32} {f_goalX : Int32} {f_goalY : Int32} {f_goalMet : Int32} {f_evaluated : Int32} {f_certainSet : Int64} {f_anyAnswer : Int32} {a_rowCount : Nat → Int32} {a_rowX : Nat → Int32} {a_rowY : Nat → Int32} {a_headX : Nat → Int32} {a_headY : Nat → Int32} {a_atomCount : Nat → Int32} {a_atomTable : Nat → Int32} {a_atomX : Nat → Int32} {a_atomY : Nat → Int32} {a_bound : Nat → Int32} {a_frameRow : Nat → Int32} {a_frameBound : Nat → Int32}
variable {p0 p1 p2 : Int32} {post : Int32 → SX → Prop}
theorem nn_adX0 (h : ¬ ((∃ t, t < 2 ∧ p0 = nI t) ∧ (∃ v, nn_isV v ∧ p1 = nI v) ∧ (∃ v, nn_isV v ∧ p2 = nI v))) (K : post (-1) (f_ruleCount, f_strict, f_goalX, f_goalY, f_goalMet, f_evaluated, f_certainSet, f_anyAnswer, a_rowCount, a_rowX, a_rowY, a_headX, a_headY, a_atomCount, a_atomTable, a_atomX, a_atomY, a_bound, a_frameRow, a_frameBound)) : wpX_addRow post (f_ruleCount, f_strict, f_goalX, f_goalY, f_goalMet, f_evaluated, f_certainSet, f_anyAnswer, a_rowCount, a_rowX, a_rowY, a_headX, a_headY, a_atomCount, a_atomTable, a_atomX, a_atomY, a_bound, a_frameRow, a_frameBound) p0 p1 p2 := by
  refine br_c (fun _ => K) (fun h0 => br_c (fun _ => K) (fun h1 => ?_))
  by_cases hv : ∃ v, nn_isV v ∧ p1 = nI v
  · obtain ⟨v, hv1, rfl⟩ := hv
    refine nn_cX1 hv1 (br_f (by decide) ?_)
    refine nn_cX0 (fun hw => ?_) (br_t rfl K)
    rcases nn_tab p0 with z | ⟨z | z, -⟩
    · exact h ⟨z, ⟨v, hv1, rfl⟩, hw⟩
    · exact h0 z
    · exact h1 z
  · exact nn_cX0 hv (br_t rfl K)
theorem nn_adX {t v w n : Nat} (ht : t < 2) (hv : nn_isV v) (hw : nn_isV w) (hn : a_rowCount t = nI n) (hn5 : n ≤ 5) (K5 : n = 5 → post (-2) (f_ruleCount, f_strict, f_goalX, f_goalY, f_goalMet, f_evaluated, f_certainSet, f_anyAnswer, a_rowCount, a_rowX, a_rowY, a_headX, a_headY, a_atomCount, a_atomTable, a_atomX, a_atomY, a_bound, a_frameRow, a_frameBound))
    (K : n < 5 → post (nI (n + 1)) (f_ruleCount, f_strict, f_goalX, f_goalY, f_goalMet, 0, f_certainSet, f_anyAnswer, (upd a_rowCount t (nI (n + 1))), (upd a_rowX (5 * t + n) (nI v)), (upd a_rowY (5 * t + n) (nI w)), a_headX, a_headY, a_atomCount, a_atomTable, a_atomX, a_atomY, a_bound, a_frameRow, a_frameBound)) : wpX_addRow post (f_ruleCount, f_strict, f_goalX, f_goalY, f_goalMet, f_evaluated, f_certainSet, f_anyAnswer, a_rowCount, a_rowX, a_rowY, a_headX, a_headY, a_atomCount, a_atomTable, a_atomX, a_atomY, a_bound, a_frameRow, a_frameBound) (nI t) (nI v) (nI w) := by
  have ec : (nI t).toNatClampNeg = t := nI_clamp (by omega)
  have er : a_rowCount (nI t).toNatClampNeg = nI n := by rw [ec]; exact hn
  have hi2 : vp_in (nI t) 2 := vp_in_nI ht (by omega)
  have v30 := nn_V30 hv
  have w30 := nn_V30 hw
  refine br_f (nI_pos (by omega)) (br_f (nI_nlt (a := 1) (by omega) (by omega)) ?_)
  refine nn_cX1 hv (br_f (by decide) ?_)
  refine nn_cX1 hw (br_f (by decide) ⟨hi2, pk_lt n 5 (fun h => ?_) (fun h => K5 (by omega)) er⟩)
  have ea : 5 * nI t + a_rowCount (nI t).toNatClampNeg = nI (5 * t + n) := by rw [er, nn_ix5]
  have ei : (nI (5 * t + n)).toNatClampNeg = 5 * t + n := nI_clamp (by omega)
  have hi10 : vp_in (nI (5 * t + n)) 10 := vp_in_nI (by omega) (by omega)
  refine ⟨hi2, nm_r ea ⟨hi10, nm_r (e' := upd a_rowX (5 * t + n) (nI v)) (by rw [ei, nn_nn8 (by omega)]) ⟨hi10, nm_r (e' := upd a_rowY (5 * t + n) (nI w)) (by rw [ei, nn_nn8 (by omega)]) ⟨hi2, hi2, nm_r (e' := upd a_rowCount t (nI (n + 1))) (by rw [er, ec, nI_1, nn_nn8 (by omega)]) ⟨hi2, ?_⟩⟩⟩⟩⟩
  rw [ec, pk_us]
  exact K h
end
section
variable {f_rules : Int32} {f_some : Int32} {a_rows : Nat → Int32} {a_value : Nat → Int32} {a_head : Nat → Int32} {a_atoms : Nat → Int32} {a_table : Nat → Int32} {a_term : Nat → Int32} {a_known : Nat → Int32} {a_bound : Nat → Int32} {a_here : Nat → Int32} {a_always : Nat → Int32} {a_once : Nat → Int32}
variable {p0 p1 p2 : Int32} {post : Int32 → SY → Prop}
theorem nn_adY0 (h : ¬ ((∃ t, t < 2 ∧ p0 = nI t) ∧ (∃ v, nn_isV v ∧ p1 = nI v) ∧ (∃ v, nn_isV v ∧ p2 = nI v))) (K : post (-1) (f_rules, f_some, a_rows, a_value, a_head, a_atoms, a_table, a_term, a_known, a_bound, a_here, a_always, a_once)) : wpY_addRow post (f_rules, f_some, a_rows, a_value, a_head, a_atoms, a_table, a_term, a_known, a_bound, a_here, a_always, a_once) p0 p1 p2 := by
  unfold wpY_addRow
  by_cases ht : ∃ t, t < 2 ∧ p0 = nI t
  · obtain ⟨t, ht1, rfl⟩ := ht
    refine nn_bY1 ht1 (br_f (by decide) ?_)
    by_cases hv : ∃ v, nn_isV v ∧ p1 = nI v
    · obtain ⟨v, hv1, rfl⟩ := hv
      refine nn_cY1 hv1 (br_f (by decide) ?_)
      exact nn_cY0 (fun hw => h ⟨⟨t, ht1, rfl⟩, ⟨v, hv1, rfl⟩, hw⟩) (br_t rfl K)
    · exact nn_cY0 hv (br_t rfl K)
  · exact nn_bY0 ht (br_t rfl K)
theorem nn_adY {t v w n : Nat} (ht : t < 2) (hv : nn_isV v) (hw : nn_isV w) (hn : a_rows t = nI n) (hn5 : n ≤ 5) (K5 : n = 5 → post (-2) (f_rules, f_some, a_rows, a_value, a_head, a_atoms, a_table, a_term, a_known, a_bound, a_here, a_always, a_once))
    (K : n < 5 → post (nI (n + 1)) (f_rules, f_some, (upd a_rows t (nI (n + 1))), (upd (upd a_value (2 * (5 * t + n)) (nI v)) (2 * (5 * t + n) + 1) (nI w)), a_head, a_atoms, a_table, a_term, a_known, a_bound, a_here, a_always, a_once)) : wpY_addRow post (f_rules, f_some, a_rows, a_value, a_head, a_atoms, a_table, a_term, a_known, a_bound, a_here, a_always, a_once) (nI t) (nI v) (nI w) := by
  have ec : (nI t).toNatClampNeg = t := nI_clamp (by omega)
  have er : a_rows (nI t).toNatClampNeg = nI n := by rw [ec]; exact hn
  have hi2 : vp_in (nI t) 2 := vp_in_nI ht (by omega)
  unfold wpY_addRow
  refine nn_bY1 ht (br_f (by decide) ?_)
  refine nn_cY1 hv (br_f (by decide) ?_)
  refine nn_cY1 hw (br_f (by decide) ⟨hi2, pk_eq n 5 (fun h => K5 h) (fun h => ?_) er⟩)
  have ea : 10 * nI t + 2 * a_rows (nI t).toNatClampNeg = nI (2 * (5 * t + n)) := by
    rw [er, nn_ix2, nn_ix10]
    exact congrArg nI (by omega)
  have ei : (nI (2 * (5 * t + n))).toNatClampNeg = 2 * (5 * t + n) := nI_clamp (by omega)
  have ej : (nI (2 * (5 * t + n)) + 1).toNatClampNeg = 2 * (5 * t + n) + 1 := by rw [nI_1]; exact nI_clamp (by omega)
  refine ⟨hi2, nm_r ea ⟨vp_in_nI (by omega) (by omega), nm_r (e' := upd a_value (2 * (5 * t + n)) (nI v)) (by rw [ei]) ⟨?_, nm_r (e' := upd (upd a_value (2 * (5 * t + n)) (nI v)) (2 * (5 * t + n) + 1) (nI w)) (by rw [ej]) ⟨hi2, hi2, nm_r (e' := upd a_rows t (nI (n + 1))) (by rw [er, ec, nI_1]) ⟨hi2, ?_⟩⟩⟩⟩⟩
  · rw [nI_1]; exact vp_in_nI (by omega) (by omega)
  · rw [ec, pk_us]
    exact K (by omega)
end
section
variable {f_ruleCount : Int32} {f_strict : Int32} {f_goalX : Int32} {f_goalY : Int32} {f_goalMet : Int32} {f_evaluated : Int32} {f_certainSet : Int64} {f_anyAnswer : Int32} {a_rowCount : Nat → Int32} {a_rowX : Nat → Int32} {a_rowY : Nat → Int32} {a_headX : Nat → Int32} {a_headY : Nat → Int32} {a_atomCount : Nat → Int32} {a_atomTable : Nat → Int32} {a_atomX : Nat → Int32} {a_atomY : Nat → Int32} {a_bound : Nat → Int32} {a_frameRow : Nat → Int32} {a_frameBound : Nat → Int32}
variable {f_rules f_some : Int32} {a_rows a_value a_head a_atoms a_table a_term a_known b_bound a_here a_always a_once : Nat → Int32} {c : nn_DB}
theorem nn_ad {k : Nat} {v1 v2 v3 : Int32} (hC : nn_WF c) (hX : nn_RX c (f_ruleCount, f_strict, f_goalX, f_goalY, f_goalMet, f_evaluated, f_certainSet, f_anyAnswer, a_rowCount, a_rowX, a_rowY, a_headX, a_headY, a_atomCount, a_atomTable, a_atomX, a_atomY, a_bound, a_frameRow, a_frameBound)) (hY : nn_RY c (f_rules, f_some, a_rows, a_value, a_head, a_atoms, a_table, a_term, a_known, b_bound, a_here, a_always, a_once)) :
    wpX_addRow (fun r u' => wpY_addRow (fun r' v' => r' = r ∧ i_Rel (k + 4) u' v') (f_rules, f_some, a_rows, a_value, a_head, a_atoms, a_table, a_term, a_known, b_bound, a_here, a_always, a_once) v1 v2 v3) (f_ruleCount, f_strict, f_goalX, f_goalY, f_goalMet, f_evaluated, f_certainSet, f_anyAnswer, a_rowCount, a_rowX, a_rowY, a_headX, a_headY, a_atomCount, a_atomTable, a_atomX, a_atomY, a_bound, a_frameRow, a_frameBound) v1 v2 v3 := by
  by_cases h : (∃ t, t < 2 ∧ v1 = nI t) ∧ (∃ v, nn_isV v ∧ v2 = nI v) ∧ (∃ v, nn_isV v ∧ v3 = nI v)
  case neg => exact nn_adX0 h (nn_adY0 h ⟨rfl, c, hC, hX, hY⟩)
  obtain ⟨⟨t, ht, rfl⟩, ⟨v, hv, rfl⟩, ⟨w, hw, rfl⟩⟩ := h
  have hn5 := hC.2.1 t ht
  have hXA := hX.1
  have hYA : nn_YA c f_rules a_rows a_value a_head a_atoms a_table a_term := hY
  refine nn_adX ht hv hw (hXA.2.1 t) hn5 (fun h => ?_) (fun h => ?_)
  · exact nn_adY ht hv hw (hYA.2.1 t) hn5 (fun _ => ⟨rfl, c, hC, hX, hY⟩) (fun h' => absurd h (by omega))
  refine nn_adY ht hv hw (hYA.2.1 t) hn5 (fun h' => absurd h (by omega)) (fun _ => ⟨rfl, ?_⟩)
  refine ⟨(nn_R c, nn_up (nn_n c) t (nn_n c t + 1), nn_up (nn_x c) (5 * t + nn_n c t) v, nn_up (nn_y c) (5 * t + nn_n c t) w, nn_hx c, nn_hy c, nn_m c, nn_tb c, nn_ax c, nn_ay c), ?_, ?_, ?_⟩
  · refine ⟨hC.1, fun s hs => ?_, fun s i hs hi => ?_, hC.2.2.2.1, hC.2.2.2.2⟩
    · show nn_up (nn_n c) t (nn_n c t + 1) s ≤ 5
      by_cases e : s = t
      · rw [e, nn_up_s]; omega
      · rw [nn_up_n e]; exact hC.2.1 s hs
    · have hi : i < nn_up (nn_n c) t (nn_n c t + 1) s := hi
      show nn_isV (nn_up (nn_x c) (5 * t + nn_n c t) v (5 * s + i)) ∧ nn_isV (nn_up (nn_y c) (5 * t + nn_n c t) w (5 * s + i))
      by_cases e : 5 * s + i = 5 * t + nn_n c t
      · rw [e, nn_up_s, nn_up_s]; exact ⟨hv, hw⟩
      · rw [nn_up_n e, nn_up_n e]
        refine hC.2.2.1 s i hs ?_
        by_cases e' : s = t
        · subst e'; rw [nn_up_s] at hi; omega
        · rw [nn_up_n e'] at hi; exact hi
  · exact ⟨⟨hXA.1, nn_up_A hXA.2.1, nn_up_A hXA.2.2.1, nn_up_A hXA.2.2.2.1, hXA.2.2.2.2⟩, fun z => absurd rfl z⟩
  · refine ⟨hYA.1, nn_up_A hYA.2.1, fun s i hs hi => ?_, hYA.2.2.2⟩
    have hi : i < nn_up (nn_n c) t (nn_n c t + 1) s := hi
    show upd (upd a_value (2 * (5 * t + nn_n c t)) (nI v)) (2 * (5 * t + nn_n c t) + 1) (nI w) (2 * (5 * s + i)) = nI (nn_up (nn_x c) (5 * t + nn_n c t) v (5 * s + i)) ∧ upd (upd a_value (2 * (5 * t + nn_n c t)) (nI v)) (2 * (5 * t + nn_n c t) + 1) (nI w) (2 * (5 * s + i) + 1) = nI (nn_up (nn_y c) (5 * t + nn_n c t) w (5 * s + i))
    by_cases e : 5 * s + i = 5 * t + nn_n c t
    · rw [e, nn_up_s, nn_up_s, pk_us, pk_un (by omega), pk_us]; exact ⟨rfl, rfl⟩
    · rw [nn_up_n e, nn_up_n e, pk_un (by omega), pk_un (by omega), pk_un (by omega), pk_un (by omega)]
      refine hYA.2.2.1 s i hs ?_
      by_cases e' : s = t
      · subst e'; rw [nn_up_s] at hi; omega
      · rw [nn_up_n e'] at hi; exact hi
end
end
section
/-! rule -/
section
variable {f_ruleCount : Int32} {f_strict : Int32} {f_goalX : Int32} {f_goalY : Int32} {f_goalMet : Int32} {f_evaluated : Int32} {f_certainSet : Int64} {f_anyAnswer : Int32} {a_rowCount : Nat → Int32} {a_rowX : Nat → Int32} {a_rowY : Nat → Int32} {a_headX : Nat → Int32} {a_headY : Nat → Int32} {a_atomCount : Nat → Int32} {a_atomTable : Nat → Int32} {a_atomX : Nat → Int32} {a_atomY : Nat → Int32} {a_bound : Nat → Int32} {a_frameRow : Nat → Int32} {a_frameBound : Nat → Int32}
variable {p0 p1 p2 : Int32} {post : Int32 → SX → Prop}
theorem nn_ruX0 (h : ¬ ((∃ v, nn_isT v ∧ p0 = nI v) ∧ (∃ v, nn_isT v ∧ p1 = nI v))) (K : post (-1) (f_ruleCount, f_strict, f_goalX, f_goalY, f_goalMet, f_evaluated, f_certainSet, f_anyAnswer, a_rowCount, a_rowX, a_rowY, a_headX, a_headY, a_atomCount, a_atomTable, a_atomX, a_atomY, a_bound, a_frameRow, a_frameBound)) : wpX_rule post (f_ruleCount, f_strict, f_goalX, f_goalY, f_goalMet, f_evaluated, f_certainSet, f_anyAnswer, a_rowCount, a_rowX, a_rowY, a_headX, a_headY, a_atomCount, a_atomTable, a_atomX, a_atomY, a_bound, a_frameRow, a_frameBound) p0 p1 := by
  unfold wpX_rule
  by_cases hv : ∃ v, nn_isT v ∧ p0 = nI v
  · obtain ⟨v, hv1, rfl⟩ := hv
    refine nn_tX1 hv1 (br_f (by decide) ?_)
    exact nn_tX0 (fun hw => h ⟨⟨v, hv1, rfl⟩, hw⟩) (br_t rfl K)
  · exact nn_tX0 hv (br_t rfl K)
theorem nn_ruX {R v w : Nat} (hv : nn_isT v) (hw : nn_isT w) (hR : R ≤ 2) (K2 : R = 2 → post (-2) (nI R, f_strict, f_goalX, f_goalY, f_goalMet, f_evaluated, f_certainSet, f_anyAnswer, a_rowCount, a_rowX, a_rowY, a_headX, a_headY, a_atomCount, a_atomTable, a_atomX, a_atomY, a_bound, a_frameRow, a_frameBound))
    (K : R < 2 → post (nI (R + 1)) (nI (R + 1), f_strict, f_goalX, f_goalY, f_goalMet, 0, f_certainSet, f_anyAnswer, a_rowCount, a_rowX, a_rowY, (upd a_headX R (nI v)), (upd a_headY R (nI w)), (upd a_atomCount R (nI 0)), a_atomTable, a_atomX, a_atomY, a_bound, a_frameRow, a_frameBound)) : wpX_rule post (nI R, f_strict, f_goalX, f_goalY, f_goalMet, f_evaluated, f_certainSet, f_anyAnswer, a_rowCount, a_rowX, a_rowY, a_headX, a_headY, a_atomCount, a_atomTable, a_atomX, a_atomY, a_bound, a_frameRow, a_frameBound) (nI v) (nI w) := by
  have ec : (nI R).toNatClampNeg = R := nI_clamp (by omega)
  have v30 := nn_T30 hv
  have w30 := nn_T30 hw
  unfold wpX_rule
  refine nn_tX1 hv (br_f (by decide) ?_)
  refine nn_tX1 hw (br_f (by decide) (pk_lt R 2 (fun h => ?_) (fun h => K2 (by omega))))
  have hi : vp_in (nI R) 2 := vp_in_nI h (by omega)
  refine ⟨hi, nm_r (e' := upd a_headX R (nI v)) (by rw [ec, nn_nn8 (by omega)]) ⟨hi, nm_r (e' := upd a_headY R (nI w)) (by rw [ec, nn_nn8 (by omega)]) ⟨hi, nm_r (e' := upd a_atomCount R (nI 0)) (by rw [ec]; exact congrArg _ (nn_nn (b := 0) (by omega))) (nm_r (nI_1 R) (K h))⟩⟩⟩
/-! atom -/
theorem nn_atX0 (h : ¬ ((∃ t, t < 2 ∧ p0 = nI t) ∧ (∃ v, nn_isT v ∧ p1 = nI v) ∧ (∃ v, nn_isT v ∧ p2 = nI v))) (K : post (-1) (f_ruleCount, f_strict, f_goalX, f_goalY, f_goalMet, f_evaluated, f_certainSet, f_anyAnswer, a_rowCount, a_rowX, a_rowY, a_headX, a_headY, a_atomCount, a_atomTable, a_atomX, a_atomY, a_bound, a_frameRow, a_frameBound)) : wpX_atom post (f_ruleCount, f_strict, f_goalX, f_goalY, f_goalMet, f_evaluated, f_certainSet, f_anyAnswer, a_rowCount, a_rowX, a_rowY, a_headX, a_headY, a_atomCount, a_atomTable, a_atomX, a_atomY, a_bound, a_frameRow, a_frameBound) p0 p1 p2 := by
  refine br_c (fun _ => K) (fun h0 => br_c (fun _ => K) (fun h1 => ?_))
  by_cases hv : ∃ v, nn_isT v ∧ p1 = nI v
  · obtain ⟨v, hv1, rfl⟩ := hv
    refine nn_tX1 hv1 (br_f (by decide) ?_)
    refine nn_tX0 (fun hw => ?_) (br_t rfl K)
    rcases nn_tab p0 with z | ⟨z | z, -⟩
    · exact h ⟨z, ⟨v, hv1, rfl⟩, hw⟩
    · exact h0 z
    · exact h1 z
  · exact nn_tX0 hv (br_t rfl K)
theorem nn_atX {R t v w n : Nat} (ht : t < 2) (hv : nn_isT v) (hw : nn_isT w) (hR : R ≤ 2) (hn : a_atomCount (R - 1) = nI n) (hn3 : 0 < R → n ≤ 3) (K0 : R = 0 → post (-3) (nI R, f_strict, f_goalX, f_goalY, f_goalMet, f_evaluated, f_certainSet, f_anyAnswer, a_rowCount, a_rowX, a_rowY, a_headX, a_headY, a_atomCount, a_atomTable, a_atomX, a_atomY, a_bound, a_frameRow, a_frameBound)) (K3 : 0 < R → n = 3 → post (-2) (nI R, f_strict, f_goalX, f_goalY, f_goalMet, f_evaluated, f_certainSet, f_anyAnswer, a_rowCount, a_rowX, a_rowY, a_headX, a_headY, a_atomCount, a_atomTable, a_atomX, a_atomY, a_bound, a_frameRow, a_frameBound))
    (K : 0 < R → n < 3 → post (nI (n + 1)) (nI R, f_strict, f_goalX, f_goalY, f_goalMet, 0, f_certainSet, f_anyAnswer, a_rowCount, a_rowX, a_rowY, a_headX, a_headY, (upd a_atomCount (R - 1) (nI (n + 1))), (upd a_atomTable (3 * (R - 1) + n) (nI t)), (upd a_atomX (3 * (R - 1) + n) (nI v)), (upd a_atomY (3 * (R - 1) + n) (nI w)), a_bound, a_frameRow, a_frameBound)) : wpX_atom post (nI R, f_strict, f_goalX, f_goalY, f_goalMet, f_evaluated, f_certainSet, f_anyAnswer, a_rowCount, a_rowX, a_rowY, a_headX, a_headY, a_atomCount, a_atomTable, a_atomX, a_atomY, a_bound, a_frameRow, a_frameBound) (nI t) (nI v) (nI w) := by
  have v30 := nn_T30 hv
  have w30 := nn_T30 hw
  refine br_f (nI_pos (by omega)) (br_f (nI_nlt (a := 1) (by omega) (by omega)) ?_)
  refine nn_tX1 hv (br_f (by decide) ?_)
  refine nn_tX1 hw (br_f (by decide) (pk_eq R 0 (fun h => K0 h) (fun h => ?_)))
  have ec : (nI (R - 1)).toNatClampNeg = R - 1 := nI_clamp (by omega)
  have er : a_atomCount (nI (R - 1)).toNatClampNeg = nI n := by rw [ec]; exact hn
  have hi2 : vp_in (nI (R - 1)) 2 := vp_in_nI (by omega) (by omega)
  have hn3 := hn3 (by omega)
  refine nm_r (pk_sub (b := 1) (by omega)) ⟨hi2, pk_lt n 3 (fun h3 => ?_) (fun h3 => K3 (by omega) (by omega)) er⟩
  have ea : 3 * nI (R - 1) + a_atomCount (nI (R - 1)).toNatClampNeg = nI (3 * (R - 1) + n) := by rw [er, nn_ix3]
  have ei : (nI (3 * (R - 1) + n)).toNatClampNeg = 3 * (R - 1) + n := nI_clamp (by omega)
  have hi6 : vp_in (nI (3 * (R - 1) + n)) 6 := vp_in_nI (by omega) (by omega)
  refine ⟨hi2, nm_r ea ⟨hi6, nm_r (e' := upd a_atomTable (3 * (R - 1) + n) (nI t)) (by rw [ei, nn_nn8 (by omega)]) ⟨hi6, nm_r (e' := upd a_atomX (3 * (R - 1) + n) (nI v)) (by rw [ei, nn_nn8 (by omega)]) ⟨hi6, nm_r (e' := upd a_atomY (3 * (R - 1) + n) (nI w)) (by rw [ei, nn_nn8 (by omega)]) ⟨hi2, hi2, nm_r (e' := upd a_atomCount (R - 1) (nI (n + 1))) (by rw [er, ec, nI_1, nn_nn8 (by omega)]) ⟨hi2, ?_⟩⟩⟩⟩⟩⟩
  rw [ec, pk_us]
  exact K (by omega) h3
end
section
variable {f_rules : Int32} {f_some : Int32} {a_rows : Nat → Int32} {a_value : Nat → Int32} {a_head : Nat → Int32} {a_atoms : Nat → Int32} {a_table : Nat → Int32} {a_term : Nat → Int32} {a_known : Nat → Int32} {a_bound : Nat → Int32} {a_here : Nat → Int32} {a_always : Nat → Int32} {a_once : Nat → Int32}
variable {p0 p1 p2 : Int32} {post : Int32 → SY → Prop}
theorem nn_ruY0 (h : ¬ ((∃ v, nn_isT v ∧ p0 = nI v) ∧ (∃ v, nn_isT v ∧ p1 = nI v))) (K : post (-1) (f_rules, f_some, a_rows, a_value, a_head, a_atoms, a_table, a_term, a_known, a_bound, a_here, a_always, a_once)) : wpY_rule post (f_rules, f_some, a_rows, a_value, a_head, a_atoms, a_table, a_term, a_known, a_bound, a_here, a_always, a_once) p0 p1 := by
  unfold wpY_rule
  by_cases hv : ∃ v, nn_isT v ∧ p0 = nI v
  · obtain ⟨v, hv1, rfl⟩ := hv
    refine nn_tY1 hv1 (br_f (by decide) ?_)
    exact nn_tY0 (fun hw => h ⟨⟨v, hv1, rfl⟩, hw⟩) (br_t rfl K)
  · exact nn_tY0 hv (br_t rfl K)
theorem nn_ruY {R v w : Nat} (hv : nn_isT v) (hw : nn_isT w) (hR : R ≤ 2) (K2 : R = 2 → post (-2) (nI R, f_some, a_rows, a_value, a_head, a_atoms, a_table, a_term, a_known, a_bound, a_here, a_always, a_once))
    (K : R < 2 → post (nI (R + 1)) (nI (R + 1), f_some, a_rows, a_value, (upd (upd a_head (2 * R) (nI v)) (2 * R + 1) (nI w)), (upd a_atoms R (nI 0)), a_table, a_term, a_known, a_bound, a_here, a_always, a_once)) : wpY_rule post (nI R, f_some, a_rows, a_value, a_head, a_atoms, a_table, a_term, a_known, a_bound, a_here, a_always, a_once) (nI v) (nI w) := by
  have ec : (nI R).toNatClampNeg = R := nI_clamp (by omega)
  have e2 : (2 * nI R).toNatClampNeg = 2 * R := by rw [nn_ix2]; exact nI_clamp (by omega)
  have e3 : (2 * nI R + 1).toNatClampNeg = 2 * R + 1 := by rw [nn_ix2, nI_1]; exact nI_clamp (by omega)
  unfold wpY_rule
  refine nn_tY1 hv (br_f (by decide) ?_)
  refine nn_tY1 hw (br_f (by decide) (pk_eq R 2 (fun h => K2 h) (fun h => ?_)))
  refine ⟨by rw [nn_ix2]; exact vp_in_nI (by omega) (by omega), nm_r (e' := upd a_head (2 * R) (nI v)) (by rw [e2]) ⟨by rw [nn_ix2, nI_1]; exact vp_in_nI (by omega) (by omega), nm_r (e' := upd (upd a_head (2 * R) (nI v)) (2 * R + 1) (nI w)) (by rw [e3]) ⟨vp_in_nI (by omega) (by omega), nm_r (e' := upd a_atoms R (nI 0)) (by rw [ec]; rfl) (nm_r (nI_1 R) (K (by omega)))⟩⟩⟩
theorem nn_atY0 (h : ¬ ((∃ t, t < 2 ∧ p0 = nI t) ∧ (∃ v, nn_isT v ∧ p1 = nI v) ∧ (∃ v, nn_isT v ∧ p2 = nI v))) (K : post (-1) (f_rules, f_some, a_rows, a_value, a_head, a_atoms, a_table, a_term, a_known, a_bound, a_here, a_always, a_once)) : wpY_atom post (f_rules, f_some, a_rows, a_value, a_head, a_atoms, a_table, a_term, a_known, a_bound, a_here, a_always, a_once) p0 p1 p2 := by
  unfold wpY_atom
  by_cases ht : ∃ t, t < 2 ∧ p0 = nI t
  · obtain ⟨t, ht1, rfl⟩ := ht
    refine nn_bY1 ht1 (br_f (by decide) ?_)
    by_cases hv : ∃ v, nn_isT v ∧ p1 = nI v
    · obtain ⟨v, hv1, rfl⟩ := hv
      refine nn_tY1 hv1 (br_f (by decide) ?_)
      exact nn_tY0 (fun hw => h ⟨⟨t, ht1, rfl⟩, ⟨v, hv1, rfl⟩, hw⟩) (br_t rfl K)
    · exact nn_tY0 hv (br_t rfl K)
  · exact nn_bY0 ht (br_t rfl K)
theorem nn_atY {R t v w n : Nat} (ht : t < 2) (hv : nn_isT v) (hw : nn_isT w) (hR : R ≤ 2) (hn : a_atoms (R - 1) = nI n) (hn3 : 0 < R → n ≤ 3) (K0 : R = 0 → post (-3) (nI R, f_some, a_rows, a_value, a_head, a_atoms, a_table, a_term, a_known, a_bound, a_here, a_always, a_once)) (K3 : 0 < R → n = 3 → post (-2) (nI R, f_some, a_rows, a_value, a_head, a_atoms, a_table, a_term, a_known, a_bound, a_here, a_always, a_once))
    (K : 0 < R → n < 3 → post (nI (n + 1)) (nI R, f_some, a_rows, a_value, a_head, (upd a_atoms (R - 1) (nI (n + 1))), (upd a_table (3 * (R - 1) + n) (nI t)), (upd (upd a_term (2 * (3 * (R - 1) + n)) (nI v)) (2 * (3 * (R - 1) + n) + 1) (nI w)), a_known, a_bound, a_here, a_always, a_once)) : wpY_atom post (nI R, f_some, a_rows, a_value, a_head, a_atoms, a_table, a_term, a_known, a_bound, a_here, a_always, a_once) (nI t) (nI v) (nI w) := by
  unfold wpY_atom
  refine nn_bY1 ht (br_f (by decide) ?_)
  refine nn_tY1 hv (br_f (by decide) ?_)
  refine nn_tY1 hw (br_f (by decide) (pk_eq R 0 (fun h => K0 h) (fun h => ?_)))
  have ec : (nI (R - 1)).toNatClampNeg = R - 1 := nI_clamp (by omega)
  have er : a_atoms (nI (R - 1)).toNatClampNeg = nI n := by rw [ec]; exact hn
  have hi2 : vp_in (nI (R - 1)) 2 := vp_in_nI (by omega) (by omega)
  have hn3 := hn3 (by omega)
  refine nm_r (pk_sub (b := 1) (by omega)) ⟨hi2, pk_eq n 3 (fun h3 => K3 (by omega) h3) (fun h3 => ?_) er⟩
  have ea : 3 * nI (R - 1) + a_atoms (nI (R - 1)).toNatClampNeg = nI (3 * (R - 1) + n) := by rw [er, nn_ix3]
  have ei : (nI (3 * (R - 1) + n)).toNatClampNeg = 3 * (R - 1) + n := nI_clamp (by omega)
  have e2 : (2 * nI (3 * (R - 1) + n)).toNatClampNeg = 2 * (3 * (R - 1) + n) := by rw [nn_ix2]; exact nI_clamp (by omega)
  have e3 : (2 * nI (3 * (R - 1) + n) + 1).toNatClampNeg = 2 * (3 * (R - 1) + n) + 1 := by rw [nn_ix2, nI_1]; exact nI_clamp (by omega)
  have hi6 : vp_in (nI (3 * (R - 1) + n)) 6 := vp_in_nI (by omega) (by omega)
  refine ⟨hi2, nm_r ea ⟨hi6, nm_r (e' := upd a_table (3 * (R - 1) + n) (nI t)) (by rw [ei]) ⟨by rw [nn_ix2]; exact vp_in_nI (by omega) (by omega), nm_r (e' := upd a_term (2 * (3 * (R - 1) + n)) (nI v)) (by rw [e2]) ⟨by rw [nn_ix2, nI_1]; exact vp_in_nI (by omega) (by omega), nm_r (e' := upd (upd a_term (2 * (3 * (R - 1) + n)) (nI v)) (2 * (3 * (R - 1) + n) + 1) (nI w)) (by rw [e3]) ⟨hi2, hi2, nm_r (e' := upd a_atoms (R - 1) (nI (n + 1))) (by rw [er, ec, nI_1]) ⟨hi2, ?_⟩⟩⟩⟩⟩⟩
  rw [ec, pk_us]
  exact K (by omega) (by omega)
end
/-- an array with two values in turn -/
theorem nn_two {a : Nat → Int32} {f g : Nat → Nat} {q v w : Nat} (h : ∀ j, a (2 * j) = nI (f j) ∧ a (2 * j + 1) = nI (g j)) (j : Nat) :
    upd (upd a (2 * q) (nI v)) (2 * q + 1) (nI w) (2 * j) = nI (nn_up f q v j) ∧ upd (upd a (2 * q) (nI v)) (2 * q + 1) (nI w) (2 * j + 1) = nI (nn_up g q w j) := by
  by_cases e : j = q
  · rw [e, nn_up_s, nn_up_s, pk_us, pk_un (by omega), pk_us]; exact ⟨rfl, rfl⟩
  · rw [nn_up_n e, nn_up_n e, pk_un (by omega), pk_un (by omega), pk_un (by omega), pk_un (by omega)]
    exact h j
section
variable {f_ruleCount : Int32} {f_strict : Int32} {f_goalX : Int32} {f_goalY : Int32} {f_goalMet : Int32} {f_evaluated : Int32} {f_certainSet : Int64} {f_anyAnswer : Int32} {a_rowCount : Nat → Int32} {a_rowX : Nat → Int32} {a_rowY : Nat → Int32} {a_headX : Nat → Int32} {a_headY : Nat → Int32} {a_atomCount : Nat → Int32} {a_atomTable : Nat → Int32} {a_atomX : Nat → Int32} {a_atomY : Nat → Int32} {a_bound : Nat → Int32} {a_frameRow : Nat → Int32} {a_frameBound : Nat → Int32}
variable {f_rules f_some : Int32} {a_rows a_value a_head a_atoms a_table a_term a_known b_bound a_here a_always a_once : Nat → Int32} {c : nn_DB}
theorem nn_ru {k : Nat} {v1 v2 : Int32} (hC : nn_WF c) (hX : nn_RX c (f_ruleCount, f_strict, f_goalX, f_goalY, f_goalMet, f_evaluated, f_certainSet, f_anyAnswer, a_rowCount, a_rowX, a_rowY, a_headX, a_headY, a_atomCount, a_atomTable, a_atomX, a_atomY, a_bound, a_frameRow, a_frameBound)) (hY : nn_RY c (f_rules, f_some, a_rows, a_value, a_head, a_atoms, a_table, a_term, a_known, b_bound, a_here, a_always, a_once)) :
    wpX_rule (fun r u' => wpY_rule (fun r' v' => r' = r ∧ i_Rel (k + 4) u' v') (f_rules, f_some, a_rows, a_value, a_head, a_atoms, a_table, a_term, a_known, b_bound, a_here, a_always, a_once) v1 v2) (f_ruleCount, f_strict, f_goalX, f_goalY, f_goalMet, f_evaluated, f_certainSet, f_anyAnswer, a_rowCount, a_rowX, a_rowY, a_headX, a_headY, a_atomCount, a_atomTable, a_atomX, a_atomY, a_bound, a_frameRow, a_frameBound) v1 v2 := by
  by_cases h : (∃ v, nn_isT v ∧ v1 = nI v) ∧ (∃ v, nn_isT v ∧ v2 = nI v)
  case neg => exact nn_ruX0 h (nn_ruY0 h ⟨rfl, c, hC, hX, hY⟩)
  obtain ⟨⟨v, hv, rfl⟩, ⟨w, hw, rfl⟩⟩ := h
  have hXA := hX.1
  have hYA : nn_YA c f_rules a_rows a_value a_head a_atoms a_table a_term := hY
  have hR := hXA.1
  have hR' := hYA.1
  subst hR hR'
  have hR2 := hC.1
  refine nn_ruX hv hw hR2 (fun h => ?_) (fun h => ?_)
  · exact nn_ruY hv hw hR2 (fun _ => ⟨rfl, c, hC, hX, hY⟩) (fun h' => absurd h (by omega))
  refine nn_ruY hv hw hR2 (fun h' => absurd h (by omega)) (fun _ => ⟨rfl, ?_⟩)
  refine ⟨(nn_R c + 1, nn_n c, nn_x c, nn_y c, nn_up (nn_hx c) (nn_R c) v, nn_up (nn_hy c) (nn_R c) w, nn_up (nn_m c) (nn_R c) 0, nn_tb c, nn_ax c, nn_ay c), ?_, ?_, ?_⟩
  · refine ⟨h, hC.2.1, hC.2.2.1, fun r hr => ?_, fun r k hr hk => ?_⟩
    · have hr : r < nn_R c + 1 := hr
      show nn_isT (nn_up (nn_hx c) (nn_R c) v r) ∧ nn_isT (nn_up (nn_hy c) (nn_R c) w r) ∧ nn_up (nn_m c) (nn_R c) 0 r ≤ 3
      by_cases e : r = nn_R c
      · rw [e, nn_up_s, nn_up_s, nn_up_s]; exact ⟨hv, hw, by omega⟩
      · rw [nn_up_n e, nn_up_n e, nn_up_n e]; exact hC.2.2.2.1 r (by omega)
    · have hr : r < nn_R c + 1 := hr
      have hk : k < nn_up (nn_m c) (nn_R c) 0 r := hk
      by_cases e : r = nn_R c
      · rw [e, nn_up_s] at hk; exact absurd hk (by omega)
      · rw [nn_up_n e] at hk; exact hC.2.2.2.2 r k (by omega) hk
  · exact ⟨⟨rfl, hXA.2.1, hXA.2.2.1, hXA.2.2.2.1, nn_up_A hXA.2.2.2.2.1, nn_up_A hXA.2.2.2.2.2.1, nn_up_A hXA.2.2.2.2.2.2.1, hXA.2.2.2.2.2.2.2⟩, fun z => absurd rfl z⟩
  · exact ⟨rfl, hYA.2.1, hYA.2.2.1, nn_two hYA.2.2.2.1, nn_up_A hYA.2.2.2.2.1, hYA.2.2.2.2.2⟩
theorem nn_at {k : Nat} {v1 v2 v3 : Int32} (hC : nn_WF c) (hX : nn_RX c (f_ruleCount, f_strict, f_goalX, f_goalY, f_goalMet, f_evaluated, f_certainSet, f_anyAnswer, a_rowCount, a_rowX, a_rowY, a_headX, a_headY, a_atomCount, a_atomTable, a_atomX, a_atomY, a_bound, a_frameRow, a_frameBound)) (hY : nn_RY c (f_rules, f_some, a_rows, a_value, a_head, a_atoms, a_table, a_term, a_known, b_bound, a_here, a_always, a_once)) :
    wpX_atom (fun r u' => wpY_atom (fun r' v' => r' = r ∧ i_Rel (k + 4) u' v') (f_rules, f_some, a_rows, a_value, a_head, a_atoms, a_table, a_term, a_known, b_bound, a_here, a_always, a_once) v1 v2 v3) (f_ruleCount, f_strict, f_goalX, f_goalY, f_goalMet, f_evaluated, f_certainSet, f_anyAnswer, a_rowCount, a_rowX, a_rowY, a_headX, a_headY, a_atomCount, a_atomTable, a_atomX, a_atomY, a_bound, a_frameRow, a_frameBound) v1 v2 v3 := by
  by_cases h : (∃ t, t < 2 ∧ v1 = nI t) ∧ (∃ v, nn_isT v ∧ v2 = nI v) ∧ (∃ v, nn_isT v ∧ v3 = nI v)
  case neg => exact nn_atX0 h (nn_atY0 h ⟨rfl, c, hC, hX, hY⟩)
  obtain ⟨⟨t, ht, rfl⟩, ⟨v, hv, rfl⟩, ⟨w, hw, rfl⟩⟩ := h
  have hXA := hX.1
  have hYA : nn_YA c f_rules a_rows a_value a_head a_atoms a_table a_term := hY
  have hR := hXA.1
  have hR' := hYA.1
  subst hR hR'
  have hR2 := hC.1
  have hm3 : 0 < nn_R c → nn_m c (nn_R c - 1) ≤ 3 := fun h => (hC.2.2.2.1 (nn_R c - 1) (by omega)).2.2
  refine nn_atX ht hv hw hR2 (hXA.2.2.2.2.2.2.1 _) hm3 (fun h => ?_) (fun h h3 => ?_) (fun h h3 => ?_)
  · exact nn_atY ht hv hw hR2 (hYA.2.2.2.2.1 _) hm3 (fun _ => ⟨rfl, c, hC, hX, hY⟩) (fun h' => absurd h (by omega)) (fun h' => absurd h (by omega))
  · exact nn_atY ht hv hw hR2 (hYA.2.2.2.2.1 _) hm3 (fun h' => absurd h (by omega)) (fun _ _ => ⟨rfl, c, hC, hX, hY⟩) (fun _ h' => absurd h3 (by omega))
  refine nn_atY ht hv hw hR2 (hYA.2.2.2.2.1 _) hm3 (fun h' => absurd h (by omega)) (fun _ h' => absurd h3 (by omega)) (fun _ _ => ⟨rfl, ?_⟩)
  refine ⟨(nn_R c, nn_n c, nn_x c, nn_y c, nn_hx c, nn_hy c, nn_up (nn_m c) (nn_R c - 1) (nn_m c (nn_R c - 1) + 1), nn_up (nn_tb c) (3 * (nn_R c - 1) + nn_m c (nn_R c - 1)) t, nn_up (nn_ax c) (3 * (nn_R c - 1) + nn_m c (nn_R c - 1)) v, nn_up (nn_ay c) (3 * (nn_R c - 1) + nn_m c (nn_R c - 1)) w), ?_, ?_, ?_⟩
  · refine ⟨hC.1, hC.2.1, hC.2.2.1, fun r hr => ?_, fun r k hr hk => ?_⟩
    · have hr : r < nn_R c := hr
      show nn_isT (nn_hx c r) ∧ nn_isT (nn_hy c r) ∧ nn_up (nn_m c) (nn_R c - 1) (nn_m c (nn_R c - 1) + 1) r ≤ 3
      have := hC.2.2.2.1 r hr
      refine ⟨this.1, this.2.1, ?_⟩
      by_cases e : r = nn_R c - 1
      · rw [e, nn_up_s]; omega
      · rw [nn_up_n e]; exact this.2.2
    · have hr : r < nn_R c := hr
      have hk : k < nn_up (nn_m c) (nn_R c - 1) (nn_m c (nn_R c - 1) + 1) r := hk
      show nn_up (nn_tb c) (3 * (nn_R c - 1) + nn_m c (nn_R c - 1)) t (3 * r + k) < 2 ∧ nn_isT (nn_up (nn_ax c) (3 * (nn_R c - 1) + nn_m c (nn_R c - 1)) v (3 * r + k)) ∧ nn_isT (nn_up (nn_ay c) (3 * (nn_R c - 1) + nn_m c (nn_R c - 1)) w (3 * r + k))
      by_cases e : 3 * r + k = 3 * (nn_R c - 1) + nn_m c (nn_R c - 1)
      · rw [e, nn_up_s, nn_up_s, nn_up_s]; exact ⟨ht, hv, hw⟩
      · rw [nn_up_n e, nn_up_n e, nn_up_n e]
        refine hC.2.2.2.2 r k hr ?_
        by_cases e' : r = nn_R c - 1
        · rw [e', nn_up_s] at hk; rw [e'] at e ⊢; omega
        · rw [nn_up_n e'] at hk; exact hk
  · exact ⟨⟨rfl, hXA.2.1, hXA.2.2.1, hXA.2.2.2.1, hXA.2.2.2.2.1, hXA.2.2.2.2.2.1, nn_up_A hXA.2.2.2.2.2.2.1, nn_up_A hXA.2.2.2.2.2.2.2.1, nn_up_A hXA.2.2.2.2.2.2.2.2.1, nn_up_A hXA.2.2.2.2.2.2.2.2.2⟩, fun z => absurd rfl z⟩
  · exact ⟨rfl, hYA.2.1, hYA.2.2.1, hYA.2.2.2.1, nn_up_A hYA.2.2.2.2.1, nn_up_A hYA.2.2.2.2.2.1, nn_two hYA.2.2.2.2.2.2⟩
theorem nn_dr {k : Nat} (hC : nn_WF c) (hX : nn_RX c (f_ruleCount, f_strict, f_goalX, f_goalY, f_goalMet, f_evaluated, f_certainSet, f_anyAnswer, a_rowCount, a_rowX, a_rowY, a_headX, a_headY, a_atomCount, a_atomTable, a_atomX, a_atomY, a_bound, a_frameRow, a_frameBound)) (hY : nn_RY c (f_rules, f_some, a_rows, a_value, a_head, a_atoms, a_table, a_term, a_known, b_bound, a_here, a_always, a_once)) :
    wpX_dropRules (fun r u' => wpY_dropRules (fun r' v' => r' = r ∧ i_Rel (k + 4) u' v') (f_rules, f_some, a_rows, a_value, a_head, a_atoms, a_table, a_term, a_known, b_bound, a_here, a_always, a_once)) (f_ruleCount, f_strict, f_goalX, f_goalY, f_goalMet, f_evaluated, f_certainSet, f_anyAnswer, a_rowCount, a_rowX, a_rowY, a_headX, a_headY, a_atomCount, a_atomTable, a_atomX, a_atomY, a_bound, a_frameRow, a_frameBound) := by
  have hXA := hX.1
  have hYA : nn_YA c f_rules a_rows a_value a_head a_atoms a_table a_term := hY
  have hR := hXA.1
  have hR' := hYA.1
  subst hR hR'
  refine ⟨rfl, (0, nn_n c, nn_x c, nn_y c, nn_hx c, nn_hy c, nn_m c, nn_tb c, nn_ax c, nn_ay c), ?_, ?_, ?_⟩
  · exact ⟨Nat.zero_le _, hC.2.1, hC.2.2.1, fun r hr => absurd hr (Nat.not_lt_zero _), fun r k hr _ => absurd hr (Nat.not_lt_zero _)⟩
  · exact ⟨⟨rfl, hXA.2⟩, fun z => absurd rfl z⟩
  · exact ⟨rfl, hYA.2⟩
end
end
section
/-! dropRow -/
def nn_sh (f : Nat → Nat) (lo hi : Nat) : Nat → Nat := fun j => if lo ≤ j ∧ j < hi then f (j + 1) else f j
theorem nn_sh_i {f : Nat → Nat} {lo hi j : Nat} (h1 : lo ≤ j) (h2 : j < hi) : nn_sh f lo hi j = f (j + 1) := if_pos ⟨h1, h2⟩
theorem nn_sh_o {f : Nat → Nat} {lo hi j : Nat} (h : j < lo ∨ hi ≤ j) : nn_sh f lo hi j = f j := if_neg (by omega)
theorem nn_sh_s {a : Nat → Int32} {f : Nat → Nat} {lo hi : Nat} (hl : lo ≤ hi) (h : ∀ j, a j = nI (nn_sh f lo hi j)) (j : Nat) : upd a hi (nI (f (hi + 1))) j = nI (nn_sh f lo (hi + 1) j) := by
  by_cases e : j = hi
  · rw [e, pk_us, nn_sh_i hl (by omega)]
  · rw [pk_un e, h j]
    by_cases h1 : lo ≤ j ∧ j < hi
    · rw [nn_sh_i h1.1 h1.2, nn_sh_i h1.1 (by omega)]
    · rw [nn_sh_o (by omega), nn_sh_o (by omega)]
section
variable {f_ruleCount : Int32} {f_strict : Int32} {f_goalX : Int32} {f_goalY : Int32} {f_goalMet : Int32} {f_evaluated : Int32} {f_certainSet : Int64} {f_anyAnswer : Int32} {a_rowCount : Nat → Int32} {a_rowX : Nat → Int32} {a_rowY : Nat → Int32} {a_headX : Nat → Int32} {a_headY : Nat → Int32} {a_atomCount : Nat → Int32} {a_atomTable : Nat → Int32} {a_atomX : Nat → Int32} {a_atomY : Nat → Int32} {a_bound : Nat → Int32} {a_frameRow : Nat → Int32} {a_frameBound : Nat → Int32}
variable {p0 p1 p2 : Int32} {post : Int32 → SX → Prop}
theorem nn_doX0 {c : nn_DB} (hn : ∀ j, a_rowCount j = nI (nn_n c j)) (h : ¬ ∃ t, t < 2 ∧ p0 = nI t ∧ nn_n c t ≠ 0) (K : post (-1) (f_ruleCount, f_strict, f_goalX, f_goalY, f_goalMet, f_evaluated, f_certainSet, f_anyAnswer, a_rowCount, a_rowX, a_rowY, a_headX, a_headY, a_atomCount, a_atomTable, a_atomX, a_atomY, a_bound, a_frameRow, a_frameBound)) : wpX_dropRow post (f_ruleCount, f_strict, f_goalX, f_goalY, f_goalMet, f_evaluated, f_certainSet, f_anyAnswer, a_rowCount, a_rowX, a_rowY, a_headX, a_headY, a_atomCount, a_atomTable, a_atomX, a_atomY, a_bound, a_frameRow, a_frameBound) p0 := by
  refine br_c (fun _ => K) (fun h0 => br_c (fun _ => K) (fun h1 => ?_))
  rcases nn_tab p0 with ⟨t, ht, rfl⟩ | ⟨z | z, -⟩
  · have e : nn_n c t = 0 := Classical.byContradiction fun z => h ⟨t, ht, rfl, z⟩
    refine ⟨vp_in_nI ht (by omega), br_t ?_ K⟩
    rw [nI_clamp (by omega), hn, e]
    rfl
  · exact absurd z h0
  · exact absurd z h1
theorem nn_doX {c : nn_DB} {t : Nat} (hC : nn_WF c) (ht : t < 2) (h0 : nn_n c t ≠ 0) (hn : ∀ j, a_rowCount j = nI (nn_n c j)) (hx : ∀ j, a_rowX j = nI (nn_x c j)) (hy : ∀ j, a_rowY j = nI (nn_y c j))
    (K : ∀ rx ry, (∀ j, rx j = nI (nn_sh (nn_x c) (5 * t) (5 * t + (nn_n c t - 1)) j)) → (∀ j, ry j = nI (nn_sh (nn_y c) (5 * t) (5 * t + (nn_n c t - 1)) j)) →
      post (nI (nn_n c t - 1)) (f_ruleCount, f_strict, f_goalX, f_goalY, f_goalMet, 0, f_certainSet, f_anyAnswer, (upd a_rowCount t (nI (nn_n c t - 1))), rx, ry, a_headX, a_headY, a_atomCount, a_atomTable, a_atomX, a_atomY, a_bound, a_frameRow, a_frameBound)) : wpX_dropRow post (f_ruleCount, f_strict, f_goalX, f_goalY, f_goalMet, f_evaluated, f_certainSet, f_anyAnswer, a_rowCount, a_rowX, a_rowY, a_headX, a_headY, a_atomCount, a_atomTable, a_atomX, a_atomY, a_bound, a_frameRow, a_frameBound) (nI t) := by
  have hn5 := hC.2.1 t ht
  have ec : (nI t).toNatClampNeg = t := nI_clamp (by omega)
  have er : a_rowCount (nI t).toNatClampNeg = nI (nn_n c t) := by rw [ec]; exact hn t
  have hi2 : vp_in (nI t) 2 := vp_in_nI ht (by omega)
  have er2 : upd a_rowCount t (nI (nn_n c t - 1)) (nI t).toNatClampNeg = nI (nn_n c t - 1) := by rw [ec]; exact pk_us
  have ee : 5 * nI t + upd a_rowCount t (nI (nn_n c t - 1)) (nI t).toNatClampNeg = nI (5 * t + (nn_n c t - 1)) := by rw [er2, nn_ix5]
  have loop : ∀ (g i : Nat) (rx ry : Nat → Int32), i + g = nn_n c t - 1 → (∀ j, rx j = nI (nn_sh (nn_x c) (5 * t) (5 * t + i) j)) → (∀ j, ry j = nI (nn_sh (nn_y c) (5 * t) (5 * t + i) j)) →
      ∀ n, g < n → wX_dropRow_35 post (nI t) f_ruleCount f_strict f_goalX f_goalY f_goalMet f_evaluated f_certainSet f_anyAnswer n (nI (5 * t + i)) (upd a_rowCount t (nI (nn_n c t - 1))) rx ry a_headX a_headY a_atomCount a_atomTable a_atomX a_atomY a_bound a_frameRow a_frameBound := by
    intro g
    induction g with
    | zero =>
      intro i rx ry hi h1 h2 n hn
      obtain ⟨n, rfl⟩ : ∃ k, n = k + 1 := ⟨n - 1, by omega⟩
      obtain rfl : i = nn_n c t - 1 := by omega
      refine ⟨hi2, br_t (by rw [ee]; exact nI_le (by omega) (by omega)) ⟨hi2, ?_⟩⟩
      rw [er2]
      exact K rx ry h1 h2
    | succ g ih =>
      intro i rx ry hi h1 h2 n hn
      obtain ⟨n, rfl⟩ : ∃ k, n = k + 1 := ⟨n - 1, by omega⟩
      have hl := hC.2.2.1 t (i + 1) ht (by omega)
      have l1 := nn_V30 hl.1
      have l2 := nn_V30 hl.2
      have e1 : (nI (5 * t + i) + 1).toNatClampNeg = 5 * t + (i + 1) := by rw [nI_1]; exact nI_clamp (by omega)
      have e2 : (nI (5 * t + i)).toNatClampNeg = 5 * t + i := nI_clamp (by omega)
      have ha : vp_in (nI (5 * t + i) + 1) 10 := by rw [nI_1]; exact vp_in_nI (by omega) (by omega)
      have hb : vp_in (nI (5 * t + i)) 10 := vp_in_nI (by omega) (by omega)
      have ex : vp_nar .byte (rx (nI (5 * t + i) + 1).toNatClampNeg) = nI (nn_x c (5 * t + i + 1)) := by
        rw [e1, h1, nn_sh_o (by omega), nn_nn (by omega)]
        exact congrArg nI rfl
      have ey : vp_nar .byte (ry (nI (5 * t + i) + 1).toNatClampNeg) = nI (nn_y c (5 * t + i + 1)) := by
        rw [e1, h2, nn_sh_o (by omega), nn_nn (by omega)]
        exact congrArg nI rfl
      refine ⟨hi2, br_f (by rw [ee]; exact nI_ge (by omega) (by omega)) ⟨ha, hb, nm_r (e' := upd rx (5 * t + i) (nI (nn_x c (5 * t + i + 1)))) (by rw [e2, ex]) ⟨ha, hb, nm_r (e' := upd ry (5 * t + i) (nI (nn_y c (5 * t + i + 1)))) (by rw [e2, ey]) (nm_r (nI_1 _) ?_)⟩⟩⟩
      exact ih (i + 1) _ _ (by omega) (nn_sh_s (lo := 5 * t) (hi := 5 * t + i) (Nat.le_add_right _ _) h1) (nn_sh_s (lo := 5 * t) (hi := 5 * t + i) (Nat.le_add_right _ _) h2) n (by omega)
  refine br_f (nI_pos (by omega)) (br_f (nI_nlt (a := 1) (by omega) (by omega)) ⟨hi2, br_f ?_ ⟨hi2, hi2, nm_r (e' := upd a_rowCount t (nI (nn_n c t - 1))) ?_ (nm_r (nn_m5 t) ⟨nn_n c t, ?_⟩)⟩⟩)
  · rw [er]; exact nI_ne0 (by omega) (by omega)
  · rw [er, ec, show nI (nn_n c t) - 1 = nI (nn_n c t - 1) from pk_sub (b := 1) (by omega), nn_nn8 (by omega)]
  · refine loop (nn_n c t - 1) 0 a_rowX a_rowY (by omega) (fun j => ?_) (fun j => ?_) _ (by omega)
    · rw [nn_sh_o (by omega)]; exact hx j
    · rw [nn_sh_o (by omega)]; exact hy j
end
section
variable {f_rules : Int32} {f_some : Int32} {a_rows : Nat → Int32} {a_value : Nat → Int32} {a_head : Nat → Int32} {a_atoms : Nat → Int32} {a_table : Nat → Int32} {a_term : Nat → Int32} {a_known : Nat → Int32} {a_bound : Nat → Int32} {a_here : Nat → Int32} {a_always : Nat → Int32} {a_once : Nat → Int32}
variable {p0 p1 p2 : Int32} {post : Int32 → SY → Prop}
theorem nn_doY0 {c : nn_DB} (hn : ∀ j, a_rows j = nI (nn_n c j)) (h : ¬ ∃ t, t < 2 ∧ p0 = nI t ∧ nn_n c t ≠ 0) (K : post (-1) (f_rules, f_some, a_rows, a_value, a_head, a_atoms, a_table, a_term, a_known, a_bound, a_here, a_always, a_once)) : wpY_dropRow post (f_rules, f_some, a_rows, a_value, a_head, a_atoms, a_table, a_term, a_known, a_bound, a_here, a_always, a_once) p0 := by
  unfold wpY_dropRow
  by_cases hz : ∃ t, t < 2 ∧ p0 = nI t
  · obtain ⟨t, ht, rfl⟩ := hz
    refine nn_bY1 ht (br_f (by decide) ?_)
    have e : nn_n c t = 0 := Classical.byContradiction fun z => h ⟨t, ht, rfl, z⟩
    refine ⟨vp_in_nI ht (by omega), br_t ?_ K⟩
    rw [nI_clamp (by omega), hn, e]
    rfl
  · exact nn_bY0 hz (br_t rfl K)
theorem nn_doY {c : nn_DB} {t : Nat} (hC : nn_WF c) (ht : t < 2) (h0 : nn_n c t ≠ 0) (hn : ∀ j, a_rows j = nI (nn_n c j))
    (K : ∀ va, (∀ j, 10 * t ≤ j → j < 10 * t + 8 → va j = a_value (j + 2)) → (∀ j, (j < 10 * t ∨ 10 * t + 8 ≤ j) → va j = a_value j) →
      post (nI (nn_n c t - 1)) (f_rules, f_some, (upd a_rows t (nI (nn_n c t - 1))), va, a_head, a_atoms, a_table, a_term, a_known, a_bound, a_here, a_always, a_once)) : wpY_dropRow post (f_rules, f_some, a_rows, a_value, a_head, a_atoms, a_table, a_term, a_known, a_bound, a_here, a_always, a_once) (nI t) := by
  have hn5 := hC.2.1 t ht
  have ec : (nI t).toNatClampNeg = t := nI_clamp (by omega)
  have er : a_rows (nI t).toNatClampNeg = nI (nn_n c t) := by rw [ec]; exact hn t
  have hi2 : vp_in (nI t) 2 := vp_in_nI ht (by omega)
  have loop : ∀ (g i : Nat) (va : Nat → Int32), i + g = 8 → (∀ j, 10 * t ≤ j → j < 10 * t + i → va j = a_value (j + 2)) → (∀ j, (j < 10 * t ∨ 10 * t + i ≤ j) → va j = a_value j) →
      ∀ n, g < n → wY_dropRow_21 post (nI t) f_rules f_some n (nI i) a_rows va a_head a_atoms a_table a_term a_known a_bound a_here a_always a_once := by
    intro g
    induction g with
    | zero =>
      intro i va hi h1 h2 n hn
      obtain ⟨n, rfl⟩ : ∃ k, n = k + 1 := ⟨n - 1, by omega⟩
      obtain rfl : i = 8 := by omega
      refine br_t (show (8 : Int32) ≤ nI 8 by decide) ⟨hi2, hi2, nm_r (e' := upd a_rows t (nI (nn_n c t - 1))) ?_ ⟨hi2, ?_⟩⟩
      · rw [er, ec, show nI (nn_n c t) - 1 = nI (nn_n c t - 1) from pk_sub (b := 1) (by omega)]
      · rw [ec, pk_us]
        exact K va h1 h2
    | succ g ih =>
      intro i va hi h1 h2 n hn
      obtain ⟨n, rfl⟩ : ∃ k, n = k + 1 := ⟨n - 1, by omega⟩
      have e2 : 10 * nI t + nI i + 2 = nI (10 * t + i + 2) := by
        rw [nn_ix10]
        exact nI_add _ 2
      have e3 : (10 * nI t + nI i + 2).toNatClampNeg = 10 * t + i + 2 := by rw [e2]; exact nI_clamp (by omega)
      have e4 : (10 * nI t + nI i).toNatClampNeg = 10 * t + i := by rw [nn_ix10]; exact nI_clamp (by omega)
      refine br_f (nI_ge (b := 8) (by omega) (by decide)) ⟨by rw [e2]; exact vp_in_nI (by omega) (by omega), by rw [nn_ix10]; exact vp_in_nI (by omega) (by omega), nm_r (e' := upd va (10 * t + i) (a_value (10 * t + i + 2))) ?_ (nm_r (nI_1 i) ?_)⟩
      · rw [e3, e4, h2 _ (by omega)]
      · refine ih (i + 1) _ (by omega) (fun j hj1 hj2 => ?_) (fun j hj => ?_) n (by omega)
        · by_cases e : j = 10 * t + i
          · rw [e]; exact pk_us
          · rw [pk_un e]; exact h1 j hj1 (by omega)
        · rw [pk_un (by omega)]; exact h2 j (by omega)
  unfold wpY_dropRow
  refine nn_bY1 ht (br_f (by decide) ⟨hi2, br_f ?_ ⟨9, ?_⟩⟩)
  · rw [er]; exact nI_ne0 (by omega) (by omega)
  · exact loop 8 0 a_value rfl (fun j hj1 hj2 => absurd hj2 (by omega)) (fun _ _ => rfl) 9 (by omega)
end
section
variable {f_ruleCount : Int32} {f_strict : Int32} {f_goalX : Int32} {f_goalY : Int32} {f_goalMet : Int32} {f_evaluated : Int32} {f_certainSet : Int64} {f_anyAnswer : Int32} {a_rowCount : Nat → Int32} {a_rowX : Nat → Int32} {a_rowY : Nat → Int32} {a_headX : Nat → Int32} {a_headY : Nat → Int32} {a_atomCount : Nat → Int32} {a_atomTable : Nat → Int32} {a_atomX : Nat → Int32} {a_atomY : Nat → Int32} {a_bound : Nat → Int32} {a_frameRow : Nat → Int32} {a_frameBound : Nat → Int32}
variable {f_rules f_some : Int32} {a_rows a_value a_head a_atoms a_table a_term a_known b_bound a_here a_always a_once : Nat → Int32} {c : nn_DB}
theorem nn_do {k : Nat} {v1 : Int32} (hC : nn_WF c) (hX : nn_RX c (f_ruleCount, f_strict, f_goalX, f_goalY, f_goalMet, f_evaluated, f_certainSet, f_anyAnswer, a_rowCount, a_rowX, a_rowY, a_headX, a_headY, a_atomCount, a_atomTable, a_atomX, a_atomY, a_bound, a_frameRow, a_frameBound)) (hY : nn_RY c (f_rules, f_some, a_rows, a_value, a_head, a_atoms, a_table, a_term, a_known, b_bound, a_here, a_always, a_once)) :
    wpX_dropRow (fun r u' => wpY_dropRow (fun r' v' => r' = r ∧ i_Rel (k + 4) u' v') (f_rules, f_some, a_rows, a_value, a_head, a_atoms, a_table, a_term, a_known, b_bound, a_here, a_always, a_once) v1) (f_ruleCount, f_strict, f_goalX, f_goalY, f_goalMet, f_evaluated, f_certainSet, f_anyAnswer, a_rowCount, a_rowX, a_rowY, a_headX, a_headY, a_atomCount, a_atomTable, a_atomX, a_atomY, a_bound, a_frameRow, a_frameBound) v1 := by
  have hXA := hX.1
  have hYA : nn_YA c f_rules a_rows a_value a_head a_atoms a_table a_term := hY
  by_cases h : ∃ t, t < 2 ∧ v1 = nI t ∧ nn_n c t ≠ 0
  case neg => exact nn_doX0 hXA.2.1 h (nn_doY0 hYA.2.1 h ⟨rfl, c, hC, hX, hY⟩)
  obtain ⟨t, ht, rfl, h0⟩ := h
  have hn5 := hC.2.1 t ht
  refine nn_doX hC ht h0 hXA.2.1 hXA.2.2.1 hXA.2.2.2.1 (fun rx ry hrx hry => ?_)
  refine nn_doY hC ht h0 hYA.2.1 (fun va hva1 hva2 => ⟨rfl, ?_⟩)
  refine ⟨(nn_R c, nn_up (nn_n c) t (nn_n c t - 1), nn_sh (nn_x c) (5 * t) (5 * t + (nn_n c t - 1)), nn_sh (nn_y c) (5 * t) (5 * t + (nn_n c t - 1)), nn_hx c, nn_hy c, nn_m c, nn_tb c, nn_ax c, nn_ay c), ?_, ?_, ?_⟩
  · refine ⟨hC.1, fun s hs => ?_, fun s i hs hi => ?_, hC.2.2.2.1, hC.2.2.2.2⟩
    · show nn_up (nn_n c) t (nn_n c t - 1) s ≤ 5
      by_cases e : s = t
      · rw [e, nn_up_s]; omega
      · rw [nn_up_n e]; exact hC.2.1 s hs
    · have hi : i < nn_up (nn_n c) t (nn_n c t - 1) s := hi
      show nn_isV (nn_sh (nn_x c) (5 * t) (5 * t + (nn_n c t - 1)) (5 * s + i)) ∧ nn_isV (nn_sh (nn_y c) (5 * t) (5 * t + (nn_n c t - 1)) (5 * s + i))
      by_cases e : s = t
      · subst e
        rw [nn_up_s] at hi
        rw [nn_sh_i (by omega) (by omega), nn_sh_i (by omega) (by omega)]
        exact hC.2.2.1 s (i + 1) hs (by omega)
      · rw [nn_up_n e] at hi
        have := hC.2.1 s hs
        rw [nn_sh_o (by omega), nn_sh_o (by omega)]
        exact hC.2.2.1 s i hs hi
  · exact ⟨⟨hXA.1, nn_up_A hXA.2.1, hrx, hry, hXA.2.2.2.2⟩, fun z => absurd rfl z⟩
  · refine ⟨hYA.1, nn_up_A hYA.2.1, fun s i hs hi => ?_, hYA.2.2.2⟩
    have hi : i < nn_up (nn_n c) t (nn_n c t - 1) s := hi
    show va (2 * (5 * s + i)) = nI (nn_sh (nn_x c) (5 * t) (5 * t + (nn_n c t - 1)) (5 * s + i)) ∧ va (2 * (5 * s + i) + 1) = nI (nn_sh (nn_y c) (5 * t) (5 * t + (nn_n c t - 1)) (5 * s + i))
    by_cases e : s = t
    · subst e
      rw [nn_up_s] at hi
      rw [nn_sh_i (by omega) (by omega), nn_sh_i (by omega) (by omega), hva1 _ (by omega) (by omega), hva1 _ (by omega) (by omega)]
      exact hYA.2.2.1 s (i + 1) hs (by omega)
    · rw [nn_up_n e] at hi
      have := hC.2.1 s hs
      rw [nn_sh_o (by omega), nn_sh_o (by omega), hva2 _ (by omega), hva2 _ (by omega)]
      exact hYA.2.2.1 s i hs hi
end
end
section
/-! learn -/
def nn_lr (c : nn_DB) (f : Nat → Nat) (u a i : Nat) : Nat → Nat := fun j => if (j < i ∧ j % 5 < nn_n c (j / 5)) ∧ f j = u then a else f j
def nn_ct (c : nn_DB) (u : Nat) : Nat → Nat
  | 0 => 0
  | i + 1 => nn_ct c u i + (if i % 5 < nn_n c (i / 5) then (if nn_x c i = u then 1 else 0) + (if nn_y c i = u then 1 else 0) else 0)
theorem nn_lr_0 {c : nn_DB} {f : Nat → Nat} {u a j : Nat} : nn_lr c f u a 0 j = f j := if_neg (fun z => absurd z.1.1 (by omega))
theorem nn_lr_i {c : nn_DB} {f : Nat → Nat} {u a i : Nat} : nn_lr c f u a i i = f i := if_neg (fun z => absurd z.1.1 (by omega))
theorem nn_lr_y {c : nn_DB} {f : Nat → Nat} {u a i : Nat} (h : i % 5 < nn_n c (i / 5)) (e : f i = u) : nn_lr c f u a (i + 1) i = a := if_pos ⟨⟨by omega, h⟩, e⟩
theorem nn_lr_x {c : nn_DB} {f : Nat → Nat} {u a i : Nat} (e : ¬ (i % 5 < nn_n c (i / 5) ∧ f i = u)) : nn_lr c f u a (i + 1) i = f i := if_neg (fun z => e ⟨z.1.2, z.2⟩)
theorem nn_lr_n {c : nn_DB} {f : Nat → Nat} {u a i j : Nat} (e : j ≠ i) : nn_lr c f u a (i + 1) j = nn_lr c f u a i j := by
  unfold nn_lr
  by_cases h : (j < i ∧ j % 5 < nn_n c (j / 5)) ∧ f j = u
  · rw [if_pos h, if_pos ⟨⟨by omega, h.1.2⟩, h.2⟩]
  · rw [if_neg h, if_neg (fun z => h ⟨⟨by omega, z.1.2⟩, z.2⟩)]
theorem nn_lrA {c : nn_DB} {A : Nat → Int32} {f : Nat → Nat} {u a i : Nat} (h : i % 5 < nn_n c (i / 5)) (e : f i = u) (H : ∀ j, A j = nI (nn_lr c f u a i j)) (j : Nat) : upd A i (nI a) j = nI (nn_lr c f u a (i + 1) j) := by
  by_cases e' : j = i
  · rw [e', pk_us, nn_lr_y h e]
  · rw [pk_un e', nn_lr_n e']; exact H j
theorem nn_lrB {c : nn_DB} {A : Nat → Int32} {f : Nat → Nat} {u a i : Nat} (e : ¬ (i % 5 < nn_n c (i / 5) ∧ f i = u)) (H : ∀ j, A j = nI (nn_lr c f u a i j)) (j : Nat) : A j = nI (nn_lr c f u a (i + 1) j) := by
  by_cases e' : j = i
  · rw [e', nn_lr_x e, H i, nn_lr_i]
  · rw [nn_lr_n e']; exact H j
theorem nn_ct_n {c : nn_DB} {u i : Nat} (h : ¬ i % 5 < nn_n c (i / 5)) : nn_ct c u (i + 1) = nn_ct c u i := by
  show nn_ct c u i + _ = _
  rw [if_neg h, Nat.add_zero]
theorem nn_ct_l {c : nn_DB} {u i : Nat} (h : i % 5 < nn_n c (i / 5)) : nn_ct c u (i + 1) = nn_ct c u i + (if nn_x c i = u then 1 else 0) + (if nn_y c i = u then 1 else 0) := by
  show nn_ct c u i + _ = _
  rw [if_pos h, Nat.add_assoc]
theorem nn_live {c : nn_DB} (hC : nn_WF c) {i : Nat} (hi : i < 10) (h : i % 5 < nn_n c (i / 5)) : nn_x c i < 13 ∧ nn_y c i < 13 := by
  have e : 5 * (i / 5) + i % 5 = i := by omega
  have := hC.2.2.1 (i / 5) (i % 5) (by omega) h
  rw [e] at this
  exact ⟨nn_V30 this.1, nn_V30 this.2⟩
section
variable {f_ruleCount : Int32} {f_strict : Int32} {f_goalX : Int32} {f_goalY : Int32} {f_goalMet : Int32} {f_evaluated : Int32} {f_certainSet : Int64} {f_anyAnswer : Int32} {a_rowCount : Nat → Int32} {a_rowX : Nat → Int32} {a_rowY : Nat → Int32} {a_headX : Nat → Int32} {a_headY : Nat → Int32} {a_atomCount : Nat → Int32} {a_atomTable : Nat → Int32} {a_atomX : Nat → Int32} {a_atomY : Nat → Int32} {a_bound : Nat → Int32} {a_frameRow : Nat → Int32} {a_frameBound : Nat → Int32}
variable {post : Int32 → SX → Prop}
theorem nn_leX_lp {c : nn_DB} {u a : Nat} (hC : nn_WF c) (hu : u < 30) (ha : a < 30) (hn : ∀ j, a_rowCount j = nI (nn_n c j))
    (K : ∀ rx ry, (∀ j, rx j = nI (nn_lr c (nn_x c) u a 10 j)) → (∀ j, ry j = nI (nn_lr c (nn_y c) u a 10 j)) → post (nI (nn_ct c u 10)) (f_ruleCount, f_strict, f_goalX, f_goalY, f_goalMet, 0, f_certainSet, f_anyAnswer, a_rowCount, rx, ry, a_headX, a_headY, a_atomCount, a_atomTable, a_atomX, a_atomY, a_bound, a_frameRow, a_frameBound)) :
    ∀ (g i : Nat) (rx ry : Nat → Int32), i + g = 10 → (∀ j, rx j = nI (nn_lr c (nn_x c) u a i j)) → (∀ j, ry j = nI (nn_lr c (nn_y c) u a i j)) →
      ∀ n, g < n → wX_learn_28 post (nI u) (nI a) f_ruleCount f_strict f_goalX f_goalY f_goalMet f_evaluated f_certainSet f_anyAnswer n (nI (nn_ct c u i)) (nI i) a_rowCount rx ry a_headX a_headY a_atomCount a_atomTable a_atomX a_atomY a_bound a_frameRow a_frameBound := by
  have h50 : ¬ (5 : Int32) = 0 := by decide
  intro g
  induction g with
  | zero =>
    intro i rx ry hi h1 h2 n hn
    obtain ⟨n, rfl⟩ : ∃ k, n = k + 1 := ⟨n - 1, by omega⟩
    obtain rfl : i = 10 := by omega
    exact br_t (show (10 : Int32) ≤ nI 10 by decide) (K rx ry h1 h2)
  | succ g ih =>
    intro i rx ry hi h1 h2 n hn'
    obtain ⟨n, rfl⟩ : ∃ k, n = k + 1 := ⟨n - 1, by omega⟩
    have ec : (nI i).toNatClampNeg = i := nI_clamp (by omega)
    have hi10 : vp_in (nI i) 10 := vp_in_nI (by omega) (by omega)
    have ed : nI i / 5 = nI (i / 5) := pk_div (d := 5) (by omega) (by omega) (by omega)
    have em : nI i - nI i / 5 * 5 = nI (i % 5) := pk_rem (d := 5) (by omega) (by omega) (by omega)
    have er : a_rowCount (nI i / 5).toNatClampNeg = nI (nn_n c (i / 5)) := by rw [ed, nI_clamp (by omega)]; exact hn _
    have hn5 := hC.2.1 (i / 5) (by omega)
    refine br_f (nI_ge (b := 10) (by omega) (by decide)) ⟨h50, h50, by rw [ed]; exact vp_in_nI (by omega) (by omega), ?_⟩
    by_cases hl : i % 5 < nn_n c (i / 5)
    case neg =>
      refine br_f (by rw [em, er, nI_ltI (by omega) (by omega)]; exact hl) (nm_r (nI_1 i) ?_)
      have := ih (i + 1) rx ry (by omega) (nn_lrB (fun z => hl z.1) h1) (nn_lrB (fun z => hl z.1) h2) n (by omega)
      rw [nn_ct_n hl] at this
      exact this
    have hb := nn_live hC (by omega) hl
    have key : ∀ (cnt : Nat) (rx' : Nat → Int32), nn_ct c u i + (if nn_x c i = u then 1 else 0) = cnt → (∀ j, rx' j = nI (nn_lr c (nn_x c) u a (i + 1) j)) →
        wX_learn_77 post (wX_learn_28 post (nI u) (nI a) f_ruleCount f_strict f_goalX f_goalY f_goalMet f_evaluated f_certainSet f_anyAnswer n) (nI u) (nI a) (nI cnt) (nI i) f_ruleCount f_strict f_goalX f_goalY f_goalMet f_evaluated f_certainSet f_anyAnswer a_rowCount rx' ry a_headX a_headY a_atomCount a_atomTable a_atomX a_atomY a_bound a_frameRow a_frameBound := by
      intro cnt rx' hcnt h1'
      have ery : ry (nI i).toNatClampNeg = nI (nn_y c i) := by rw [ec, h2 i, nn_lr_i]
      refine ⟨hi10, ?_⟩
      by_cases e : nn_y c i = u
      · refine br_t (by rw [ery, e]) ⟨hi10, nm_r (e' := upd ry i (nI a)) (by rw [ec, nn_nn8 (by omega)]) (nm_r (nI_1 cnt) (nm_r (nI_1 i) ?_))⟩
        have := ih (i + 1) rx' _ (by omega) h1' (nn_lrA hl e h2) n (by omega)
        rw [nn_ct_l hl, if_pos e, hcnt] at this
        exact this
      · refine br_f (by rw [ery, nI_eq (by omega) (by omega)]; exact e) (nm_r (nI_1 i) ?_)
        have := ih (i + 1) rx' ry (by omega) h1' (nn_lrB (fun z => e z.2) h2) n (by omega)
        rw [nn_ct_l hl, if_neg e, hcnt] at this
        exact this
    have erx : rx (nI i).toNatClampNeg = nI (nn_x c i) := by rw [ec, h1 i, nn_lr_i]
    refine br_t (by rw [em, er, nI_ltI (by omega) (by omega)]; exact hl) ⟨hi10, ?_⟩
    by_cases e : nn_x c i = u
    · refine br_t (by rw [erx, e]) ⟨hi10, nm_r (e' := upd rx i (nI a)) (by rw [ec, nn_nn8 (by omega)]) (nm_r (nI_1 _) ?_)⟩
      exact key _ _ (by rw [if_pos e]) (nn_lrA hl e h1)
    · refine br_f (by rw [erx, nI_eq (by omega) (by omega)]; exact e) ?_
      exact key _ _ (by rw [if_neg e]; rfl) (nn_lrB (fun z => e z.2) h1)
end
section
variable {f_rules : Int32} {f_some : Int32} {a_rows : Nat → Int32} {a_value : Nat → Int32} {a_head : Nat → Int32} {a_atoms : Nat → Int32} {a_table : Nat → Int32} {a_term : Nat → Int32} {a_known : Nat → Int32} {a_bound : Nat → Int32} {a_here : Nat → Int32} {a_always : Nat → Int32} {a_once : Nat → Int32}
variable {post : Int32 → SY → Prop}
theorem nn_leY1 {c : nn_DB} {u a cnt q n : Nat} {va : Nat → Int32} (hC : nn_WF c) (hu : u < 30) (hn : ∀ j, a_rows j = nI (nn_n c j)) (hq : q < 20)
    (Kn : ¬ q % 10 < 2 * nn_n c (q / 10) → wY_learn_28 post (nI u) (nI a) f_rules f_some n (nI cnt) (nI (q + 1)) a_rows va a_head a_atoms a_table a_term a_known a_bound a_here a_always a_once)
    (Kl : q % 10 < 2 * nn_n c (q / 10) → ∃ v, v < 30 ∧ va q = nI v ∧ (v = u → wY_learn_28 post (nI u) (nI a) f_rules f_some n (nI (cnt + 1)) (nI (q + 1)) a_rows (upd va q (nI a)) a_head a_atoms a_table a_term a_known a_bound a_here a_always a_once) ∧
      (v ≠ u → wY_learn_28 post (nI u) (nI a) f_rules f_some n (nI cnt) (nI (q + 1)) a_rows va a_head a_atoms a_table a_term a_known a_bound a_here a_always a_once)) :
    wY_learn_28 post (nI u) (nI a) f_rules f_some (n + 1) (nI cnt) (nI q) a_rows va a_head a_atoms a_table a_term a_known a_bound a_here a_always a_once := by
  have h10 : ¬ (10 : Int32) = 0 := by decide
  have ec : (nI q).toNatClampNeg = q := nI_clamp (by omega)
  have hi20 : vp_in (nI q) 20 := vp_in_nI hq (by omega)
  have ed : nI q / 10 = nI (q / 10) := pk_div (d := 10) (by omega) (by omega) (by omega)
  have em : nI q - nI q / 10 * 10 = nI (q % 10) := pk_rem (d := 10) (by omega) (by omega) (by omega)
  have er : 2 * a_rows (nI q / 10).toNatClampNeg = nI (2 * nn_n c (q / 10)) := by rw [ed, nI_clamp (by omega), hn, nn_ix2]
  have hn5 := hC.2.1 (q / 10) (by omega)
  refine br_f (nI_ge (b := 20) (by omega) (by decide)) ⟨h10, h10, by rw [ed]; exact vp_in_nI (by omega) (by omega), ?_⟩
  by_cases hl : q % 10 < 2 * nn_n c (q / 10)
  · refine br_f (by rw [er, em]; exact nI_ge hl (by omega)) ?_
    obtain ⟨v, hv, ev, k1, k2⟩ := Kl hl
    refine br_f (by decide) ⟨hi20, ?_⟩
    by_cases e : v = u
    · exact br_t (by rw [ec, ev, e]) ⟨hi20, nm_r (e' := upd va q (nI a)) (by rw [ec]) (nm_r (nI_1 cnt) (nm_r (nI_1 q) (k1 e)))⟩
    · exact br_f (by rw [ec, ev, nI_eq (by omega) (by omega)]; exact e) (nm_r (nI_1 q) (k2 e))
  · refine br_t (by rw [er, em]; exact nI_le (by omega) (by omega)) ?_
    exact br_t rfl (nm_r (nI_1 q) (Kn hl))
theorem nn_leY_lp {c : nn_DB} {u a : Nat} (hC : nn_WF c) (hu : u < 30) (hn : ∀ j, a_rows j = nI (nn_n c j))
    (K : ∀ va, (∀ t j, t < 2 → j < nn_n c t → va (2 * (5 * t + j)) = nI (nn_lr c (nn_x c) u a 10 (5 * t + j)) ∧ va (2 * (5 * t + j) + 1) = nI (nn_lr c (nn_y c) u a 10 (5 * t + j))) → post (nI (nn_ct c u 10)) (f_rules, f_some, a_rows, va, a_head, a_atoms, a_table, a_term, a_known, a_bound, a_here, a_always, a_once)) :
    ∀ (g i : Nat) (va : Nat → Int32), i + g = 10 → (∀ t j, t < 2 → j < nn_n c t → va (2 * (5 * t + j)) = nI (nn_lr c (nn_x c) u a i (5 * t + j)) ∧ va (2 * (5 * t + j) + 1) = nI (nn_lr c (nn_y c) u a i (5 * t + j))) →
      ∀ n, 2 * g < n → wY_learn_28 post (nI u) (nI a) f_rules f_some n (nI (nn_ct c u i)) (nI (2 * i)) a_rows va a_head a_atoms a_table a_term a_known a_bound a_here a_always a_once := by
  intro g
  induction g with
  | zero =>
    intro i va hi h1 n hn
    obtain ⟨n, rfl⟩ : ∃ k, n = k + 1 := ⟨n - 1, by omega⟩
    obtain rfl : i = 10 := by omega
    exact br_t (show (20 : Int32) ≤ nI 20 by decide) (K va h1)
  | succ g ih =>
    intro i va hi h1 n hn'
    obtain ⟨n, rfl⟩ : ∃ k, n = k + 1 + 1 := ⟨n - 2, by omega⟩
    have ei : 5 * (i / 5) + i % 5 = i := by omega
    have d1 : 2 * i / 10 = i / 5 := by omega
    have d2 : (2 * i + 1) / 10 = i / 5 := by omega
    have m1 : 2 * i % 10 = 2 * (i % 5) := by omega
    have m2 : (2 * i + 1) % 10 = 2 * (i % 5) + 1 := by omega
    by_cases hl : i % 5 < nn_n c (i / 5)
    case neg =>
      refine nn_leY1 hC hu hn (by omega) (fun _ => ?_) (fun z => ?_)
      · refine nn_leY1 hC hu hn (by omega) (fun _ => ?_) (fun z => ?_)
        · have := ih (i + 1) va (by omega) (fun t j ht hj => ?_) n (by omega)
          · rw [nn_ct_n hl] at this
            exact this
          · have e : 5 * t + j ≠ i := by
              intro e
              have h5 := hC.2.1 t ht
              have e1 : i / 5 = t := by omega
              have e2 : i % 5 = j := by omega
              rw [e1, e2] at hl
              exact hl hj
            rw [nn_lr_n e, nn_lr_n e]
            exact h1 t j ht hj
        · rw [d2, m2] at z; exact absurd z (by omega)
      · rw [d1, m1] at z; exact absurd z (by omega)
    have hb := nn_live hC (by omega) hl
    have h1i := h1 (i / 5) (i % 5) (by omega) hl
    rw [ei, nn_lr_i, nn_lr_i] at h1i
    have fin : ∀ (va2 : Nat → Int32), va2 (2 * i) = nI (nn_lr c (nn_x c) u a (i + 1) i) → va2 (2 * i + 1) = nI (nn_lr c (nn_y c) u a (i + 1) i) → (∀ j, j ≠ 2 * i → j ≠ 2 * i + 1 → va2 j = va j) →
        wY_learn_28 post (nI u) (nI a) f_rules f_some n (nI (nn_ct c u (i + 1))) (nI (2 * i + 1 + 1)) a_rows va2 a_head a_atoms a_table a_term a_known a_bound a_here a_always a_once := by
      intro va2 g1 g2 g3
      refine ih (i + 1) va2 (by omega) (fun t j ht hj => ?_) n (by omega)
      by_cases e : 5 * t + j = i
      · rw [e]; exact ⟨g1, g2⟩
      · rw [nn_lr_n e, nn_lr_n e, g3 _ (by omega) (by omega), g3 _ (by omega) (by omega)]
        exact h1 t j ht hj
    rw [nn_ct_l hl] at fin
    have second : ∀ (va1 : Nat → Int32), va1 (2 * i) = nI (nn_lr c (nn_x c) u a (i + 1) i) → (∀ j, j ≠ 2 * i → va1 j = va j) →
        wY_learn_28 post (nI u) (nI a) f_rules f_some (n + 1) (nI (nn_ct c u i + (if nn_x c i = u then 1 else 0))) (nI (2 * i + 1)) a_rows va1 a_head a_atoms a_table a_term a_known a_bound a_here a_always a_once := by
      intro va1 g1 g2
      refine nn_leY1 hC hu hn (by omega) (fun z => ?_) (fun _ => ⟨nn_y c i, by omega, ?_, fun e => ?_, fun e => ?_⟩)
      · rw [d2, m2] at z; exact absurd z (by omega)
      · rw [g2 _ (by omega)]; exact h1i.2
      · have := fin (upd va1 (2 * i + 1) (nI a)) (by rw [pk_un (by omega)]; exact g1) (by rw [pk_us, nn_lr_y hl e]) (fun j j1 j2 => by rw [pk_un j2]; exact g2 j j1)
        rw [if_pos e] at this
        exact this
      · have := fin va1 g1 (by rw [nn_lr_x (fun z => e z.2), g2 _ (by omega)]; exact h1i.2) (fun j j1 _ => g2 j j1)
        rw [if_neg e] at this
        exact this
    refine nn_leY1 hC hu hn (by omega) (fun z => ?_) (fun _ => ⟨nn_x c i, by omega, h1i.1, fun e => ?_, fun e => ?_⟩)
    · rw [d1, m1] at z; exact absurd z (by omega)
    · have := second (upd va (2 * i) (nI a)) (by rw [pk_us, nn_lr_y hl e]) (fun j j1 => pk_un j1)
      rw [if_pos e] at this
      exact this
    · have := second va (by rw [nn_lr_x (fun z => e z.2)]; exact h1i.1) (fun _ _ => rfl)
      rw [if_neg e] at this
      exact this
end
section
variable {f_ruleCount : Int32} {f_strict : Int32} {f_goalX : Int32} {f_goalY : Int32} {f_goalMet : Int32} {f_evaluated : Int32} {f_certainSet : Int64} {f_anyAnswer : Int32} {a_rowCount : Nat → Int32} {a_rowX : Nat → Int32} {a_rowY : Nat → Int32} {a_headX : Nat → Int32} {a_headY : Nat → Int32} {a_atomCount : Nat → Int32} {a_atomTable : Nat → Int32} {a_atomX : Nat → Int32} {a_atomY : Nat → Int32} {a_bound : Nat → Int32} {a_frameRow : Nat → Int32} {a_frameBound : Nat → Int32}
variable {f_rules f_some : Int32} {a_rows a_value a_head a_atoms a_table a_term a_known b_bound a_here a_always a_once : Nat → Int32} {c : nn_DB}
theorem nn_lrV {c : nn_DB} {f : Nat → Nat} {u a i j : Nat} (h : nn_isV (f j)) (ha : a ≤ 3) : nn_isV (nn_lr c f u a i j) := by
  unfold nn_lr
  split
  · exact Or.inl ha
  · exact h
theorem nn_le {k : Nat} {v1 v2 : Int32} (hC : nn_WF c) (hX : nn_RX c (f_ruleCount, f_strict, f_goalX, f_goalY, f_goalMet, f_evaluated, f_certainSet, f_anyAnswer, a_rowCount, a_rowX, a_rowY, a_headX, a_headY, a_atomCount, a_atomTable, a_atomX, a_atomY, a_bound, a_frameRow, a_frameBound)) (hY : nn_RY c (f_rules, f_some, a_rows, a_value, a_head, a_atoms, a_table, a_term, a_known, b_bound, a_here, a_always, a_once)) :
    wpX_learn (fun r u' => wpY_learn (fun r' v' => r' = r ∧ i_Rel (k + 4) u' v') (f_rules, f_some, a_rows, a_value, a_head, a_atoms, a_table, a_term, a_known, b_bound, a_here, a_always, a_once) v1 v2) (f_ruleCount, f_strict, f_goalX, f_goalY, f_goalMet, f_evaluated, f_certainSet, f_anyAnswer, a_rowCount, a_rowX, a_rowY, a_headX, a_headY, a_atomCount, a_atomTable, a_atomX, a_atomY, a_bound, a_frameRow, a_frameBound) v1 v2 := by
  have hXA := hX.1
  have hYA : nn_YA c f_rules a_rows a_value a_head a_atoms a_table a_term := hY
  have I : i_Rel (k + 4) (f_ruleCount, f_strict, f_goalX, f_goalY, f_goalMet, f_evaluated, f_certainSet, f_anyAnswer, a_rowCount, a_rowX, a_rowY, a_headX, a_headY, a_atomCount, a_atomTable, a_atomX, a_atomY, a_bound, a_frameRow, a_frameBound) (f_rules, f_some, a_rows, a_value, a_head, a_atoms, a_table, a_term, a_known, b_bound, a_here, a_always, a_once) := ⟨c, hC, hX, hY⟩
  by_cases h1 : v1 < 10
  · exact br_t h1 (br_t h1 ⟨rfl, I⟩)
  by_cases h2 : 12 < v1
  · exact br_f h1 (br_t h2 (br_f h1 (br_t h2 ⟨rfl, I⟩)))
  by_cases h3 : v2 < 0
  · exact br_f h1 (br_f h2 (br_t h3 (br_f h1 (br_f h2 (br_t h3 ⟨rfl, I⟩)))))
  by_cases h4 : v2 ≤ 3
  case neg => exact br_f h1 (br_f h2 (br_f h3 (br_f h4 (br_f h1 (br_f h2 (br_f h3 (br_f h4 ⟨rfl, I⟩)))))))
  refine br_f h1 (br_f h2 (br_f h3 (br_t h4 ⟨11, ?_⟩)))
  obtain ⟨u, hu, eu⟩ := nI_of2 (M := 12) (n := 12) (x := v1) (by decide) (fun z => h1 (Int32.lt_of_lt_of_le z (by decide))) (Int32.not_lt.mp h2)
  obtain ⟨a, ha, ea⟩ := nI_of2 (M := 3) (n := 3) (by decide) h3 h4
  subst eu ea
  refine nn_leX_lp hC (by omega) (by omega) hXA.2.1 (fun rx ry hrx hry => ?_) 10 0 a_rowX a_rowY rfl (fun j => by rw [nn_lr_0]; exact hXA.2.2.1 j) (fun j => by rw [nn_lr_0]; exact hXA.2.2.2.1 j) 11 (by omega)
  refine br_f h1 (br_f h2 (br_f h3 (br_t h4 ⟨21, ?_⟩)))
  refine nn_leY_lp hC (by omega) hYA.2.1 (fun va hva => ⟨rfl, ?_⟩) 10 0 a_value rfl (fun t j ht hj => by rw [nn_lr_0, nn_lr_0]; exact hYA.2.2.1 t j ht hj) 21 (by omega)
  refine ⟨(nn_R c, nn_n c, nn_lr c (nn_x c) u a 10, nn_lr c (nn_y c) u a 10, nn_hx c, nn_hy c, nn_m c, nn_tb c, nn_ax c, nn_ay c), ?_, ?_, ?_⟩
  · exact ⟨hC.1, hC.2.1, fun t i ht hi => ⟨nn_lrV (hC.2.2.1 t i ht hi).1 ha, nn_lrV (hC.2.2.1 t i ht hi).2 ha⟩, hC.2.2.2.1, hC.2.2.2.2⟩
  · exact ⟨⟨hXA.1, hXA.2.1, hrx, hry, hXA.2.2.2.2⟩, fun z => absurd rfl z⟩
  · exact ⟨hYA.1, hYA.2.1, hva, hYA.2.2.2⟩
end
end
section
/-! the answers -/
theorem nn_bt_v (w : Int64) {k : Nat} (hk : k < 64) : (nn_bt w k → (w.toUInt64 >>> ((nI k).toInt64.toUInt64 &&& Int64.toUInt64 63)).toInt64 &&& 1 = lN 1) ∧ (¬ nn_bt w k → (w.toUInt64 >>> ((nI k).toInt64.toUInt64 &&& Int64.toUInt64 63)).toInt64 &&& 1 = lN 0) := by
  obtain ⟨N, hN, rfl⟩ := wb_of w
  unfold nn_bt
  rw [wb_bit hN hk, wb_tn hN, Nat.testBit_eq_decide_div_mod_eq, decide_eq_true_eq]
  constructor
  · intro h; rw [h]
  · intro h
    have : N / 2 ^ k % 2 = 0 := by
      have := Nat.mod_lt (N / 2 ^ k) (show 0 < 2 by omega)
      omega
    rw [this]
noncomputable def nn_bn (p : Prop) : Nat := @ite _ p (Classical.propDecidable p) 1 0
theorem nn_bn1 {p : Prop} (h : p) : nn_bn p = 1 := @if_pos _ (Classical.propDecidable p) h _ _ _
theorem nn_bn0 {p : Prop} (h : ¬ p) : nn_bn p = 0 := @if_neg _ (Classical.propDecidable p) h _ _ _
noncomputable def nn_cn (P : Nat → Prop) : Nat → Nat
  | 0 => 0
  | i + 1 => nn_cn P i + nn_bn (P i)
theorem nn_six {p : Int32} (h0 : ¬ p < 0) (h6 : p ≤ 6) : ∃ a, a ≤ 6 ∧ p = nI a := nI_of2 (M := 6) (n := 6) (by decide) h0 h6
section
variable {f_ruleCount : Int32} {f_strict : Int32} {f_goalX : Int32} {f_goalY : Int32} {f_goalMet : Int32} {f_evaluated : Int32} {f_certainSet : Int64} {f_anyAnswer : Int32} {a_rowCount : Nat → Int32} {a_rowX : Nat → Int32} {a_rowY : Nat → Int32} {a_headX : Nat → Int32} {a_headY : Nat → Int32} {a_atomCount : Nat → Int32} {a_atomTable : Nat → Int32} {a_atomX : Nat → Int32} {a_atomY : Nat → Int32} {a_bound : Nat → Int32} {a_frameRow : Nat → Int32} {a_frameBound : Nat → Int32}
variable {c : nn_DB} {post : Int32 → SX → Prop}
theorem nn_ccX (f : Nat → Prop) (hf : ∀ k, k < 49 → (nn_bt f_certainSet k ↔ f k)) (K : post (nI (nn_cn f 49)) (f_ruleCount, f_strict, f_goalX, f_goalY, f_goalMet, f_evaluated, f_certainSet, f_anyAnswer, a_rowCount, a_rowX, a_rowY, a_headX, a_headY, a_atomCount, a_atomTable, a_atomX, a_atomY, a_bound, a_frameRow, a_frameBound)) :
    ∀ g i, i + g = 49 → ∀ n, g < n → wX_certainCount_8 post f_ruleCount f_strict f_goalX f_goalY f_goalMet f_evaluated f_certainSet f_anyAnswer a_rowCount a_rowX a_rowY a_headX a_headY a_atomCount a_atomTable a_atomX a_atomY a_bound a_frameRow a_frameBound n (nI (nn_cn f i)) (nI i) := by
  intro g
  induction g with
  | zero =>
    intro i hi n hn
    obtain ⟨n, rfl⟩ : ∃ k, n = k + 1 := ⟨n - 1, by omega⟩
    obtain rfl : i = 49 := by omega
    exact br_t (show (49 : Int32) ≤ nI 49 by decide) K
  | succ g ih =>
    intro i hi n hn
    obtain ⟨n, rfl⟩ : ∃ k, n = k + 1 := ⟨n - 1, by omega⟩
    have e : nI (nn_cn f i) + (((f_certainSet.toUInt64 >>> ((nI i).toInt64.toUInt64 &&& Int64.toUInt64 63)).toInt64) &&& 1).toInt32 = nI (nn_cn f (i + 1)) := by
      have hb := nn_bt_v f_certainSet (k := i) (by omega)
      show _ = nI (nn_cn f i + nn_bn (f i))
      by_cases h : f i
      · rw [hb.1 ((hf i (by omega)).mpr h), lN_i, nI_add, nn_bn1 h]
      · rw [hb.2 (fun z => h ((hf i (by omega)).mp z)), lN_i, nI_add, nn_bn0 h]
    exact br_f (nI_ge (b := 49) (by omega) (by decide)) (nm_r e (nm_r (nI_1 i) (ih (i + 1) (by omega) n (by omega))))
end
section
variable {f_rules : Int32} {f_some : Int32} {a_rows : Nat → Int32} {a_value : Nat → Int32} {a_head : Nat → Int32} {a_atoms : Nat → Int32} {a_table : Nat → Int32} {a_term : Nat → Int32} {a_known : Nat → Int32} {a_bound : Nat → Int32} {a_here : Nat → Int32} {a_always : Nat → Int32} {a_once : Nat → Int32}
variable {c : nn_DB} {post : Int32 → SY → Prop} {p0 p1 : Int32} {a b : Nat}
theorem nn_coY1 {post : Int32 → Prop} (ha : a ≤ 6) (hb : b ≤ 6) (K : post 1) : wpY_isCouple post (f_rules, f_some, a_rows, a_value, a_head, a_atoms, a_table, a_term, a_known, a_bound, a_here, a_always, a_once) (nI a) (nI b) :=
  br_f (nI_pos (by omega)) (br_f (nI_nlt (a := 6) ha (by omega)) (br_f (nI_pos (by omega)) (br_f (nI_nlt (a := 6) hb (by omega)) K)))
theorem nn_coY0 {post : Int32 → Prop} (h : ¬ ((¬ p0 < 0 ∧ p0 ≤ 6) ∧ (¬ p1 < 0 ∧ p1 ≤ 6))) (K : post 0) : wpY_isCouple post (f_rules, f_some, a_rows, a_value, a_head, a_atoms, a_table, a_term, a_known, a_bound, a_here, a_always, a_once) p0 p1 :=
  br_c (fun _ => K) (fun h1 => br_c (fun _ => K) (fun h2 => br_c (fun _ => K) (fun h3 => br_c (fun _ => K) (fun h4 => absurd ⟨⟨h1, Int32.not_lt.mp h2⟩, h3, Int32.not_lt.mp h4⟩ h))))
theorem nn_cerY (hC : nn_WF c) (hY : nn_YA c f_rules a_rows a_value a_head a_atoms a_table a_term) (ha : a ≤ 6) (hb : b ≤ 6)
    (K : ∀ so kn bd he al on, post (nn_bz (nn_NA c (7 * a + b))) (f_rules, so, a_rows, a_value, a_head, a_atoms, a_table, a_term, kn, bd, he, al, on)) : wpY_certain post (f_rules, f_some, a_rows, a_value, a_head, a_atoms, a_table, a_term, a_known, a_bound, a_here, a_always, a_once) (nI a) (nI b) := by
  unfold wpY_certain
  refine nn_coY1 ha hb (br_f (by decide) ?_)
  refine nn_evalY hC hY (fun so kn bd he al on _ h2 _ => ?_)
  have e : al (7 * nI a + nI b).toNatClampNeg = nn_bz (nn_NA c (7 * a + b)) := by
    rw [nn_ix7, nI_clamp (by omega)]; exact h2 _ (by omega)
  refine ⟨by rw [nn_ix7]; exact vp_in_nI (by omega) (by omega), ?_⟩
  rw [e]
  exact ⟨nn_bz_n, K _ _ _ _ _ _⟩
theorem nn_posY (hC : nn_WF c) (hY : nn_YA c f_rules a_rows a_value a_head a_atoms a_table a_term) (ha : a ≤ 6) (hb : b ≤ 6)
    (K : ∀ so kn bd he al on, post (nn_bz (nn_PA c a b)) (f_rules, so, a_rows, a_value, a_head, a_atoms, a_table, a_term, kn, bd, he, al, on)) : wpY_possible post (f_rules, f_some, a_rows, a_value, a_head, a_atoms, a_table, a_term, a_known, a_bound, a_here, a_always, a_once) (nI a) (nI b) := by
  unfold wpY_possible
  refine nn_coY1 ha hb (br_f (by decide) ?_)
  refine nn_evalY hC hY (fun so kn bd he al on _ _ h3 => ?_)
  have e : on (7 * nI a + nI b).toNatClampNeg = nn_bz (nn_PA c a b) := by
    rw [nn_ix7, nI_clamp (by omega)]; exact h3 a b ha hb
  refine ⟨by rw [nn_ix7]; exact vp_in_nI (by omega) (by omega), ?_⟩
  rw [e]
  exact ⟨nn_bz_n, K _ _ _ _ _ _⟩
theorem nn_ccY (f : Nat → Prop) (hf : ∀ k, k < 49 → a_always k = nn_bz (f k)) (K : post (nI (nn_cn f 49)) (f_rules, f_some, a_rows, a_value, a_head, a_atoms, a_table, a_term, a_known, a_bound, a_here, a_always, a_once)) :
    ∀ g i, i + g = 49 → ∀ n, g < n → wY_certainCount_8 post f_rules f_some a_rows a_value a_head a_atoms a_table a_term a_known a_bound a_here a_always a_once n (nI (nn_cn f i)) (nI i) := by
  intro g
  induction g with
  | zero =>
    intro i hi n hn
    obtain ⟨n, rfl⟩ : ∃ k, n = k + 1 := ⟨n - 1, by omega⟩
    obtain rfl : i = 49 := by omega
    exact br_t (show (49 : Int32) ≤ nI 49 by decide) K
  | succ g ih =>
    intro i hi n hn
    obtain ⟨n, rfl⟩ : ∃ k, n = k + 1 := ⟨n - 1, by omega⟩
    have ec : (nI i).toNatClampNeg = i := nI_clamp (by omega)
    have ih := ih (i + 1) (by omega) n (by omega)
    have es : nn_cn f (i + 1) = nn_cn f i + nn_bn (f i) := rfl
    rw [es] at ih
    refine br_f (nI_ge (b := 49) (by omega) (by decide)) ⟨vp_in_nI (by omega) (by omega), ?_⟩
    by_cases h : f i
    · rw [nn_bn1 h] at ih
      exact br_f (by rw [ec, hf i (by omega), nn_bz1 h]; decide) (nm_r (nI_1 _) (nm_r (nI_1 i) ih))
    · rw [nn_bn0 h] at ih
      exact br_t (by rw [ec, hf i (by omega), nn_bz0 h]) (nm_r (nI_1 i) ih)
theorem nn_couY (hC : nn_WF c) (hY : nn_YA c f_rules a_rows a_value a_head a_atoms a_table a_term)
    (K : ∀ so kn bd he al on, post (nI (nn_cn (nn_NA c) 49)) (f_rules, so, a_rows, a_value, a_head, a_atoms, a_table, a_term, kn, bd, he, al, on)) : wpY_certainCount post (f_rules, f_some, a_rows, a_value, a_head, a_atoms, a_table, a_term, a_known, a_bound, a_here, a_always, a_once) := by
  unfold wpY_certainCount
  refine nn_evalY hC hY (fun so kn bd he al on _ h2 _ => ?_)
  exact ⟨50, nn_ccY (nn_NA c) h2 (K _ _ _ _ _ _) 49 0 rfl 50 (by omega)⟩
theorem nn_somY (hC : nn_WF c) (hY : nn_YA c f_rules a_rows a_value a_head a_atoms a_table a_term)
    (K : ∀ so kn bd he al on, post (nn_bz (nn_NA c 49)) (f_rules, so, a_rows, a_value, a_head, a_atoms, a_table, a_term, kn, bd, he, al, on)) : wpY_alwaysSome post (f_rules, f_some, a_rows, a_value, a_head, a_atoms, a_table, a_term, a_known, a_bound, a_here, a_always, a_once) := by
  unfold wpY_alwaysSome
  refine nn_evalY hC hY (fun so kn bd he al on h1 _ _ => ?_)
  subst h1
  exact ⟨nn_bz_n, K _ _ _ _ _ _⟩
end
section
variable {f_ruleCount : Int32} {f_strict : Int32} {f_goalX : Int32} {f_goalY : Int32} {f_goalMet : Int32} {f_evaluated : Int32} {f_certainSet : Int64} {f_anyAnswer : Int32} {a_rowCount : Nat → Int32} {a_rowX : Nat → Int32} {a_rowY : Nat → Int32} {a_headX : Nat → Int32} {a_headY : Nat → Int32} {a_atomCount : Nat → Int32} {a_atomTable : Nat → Int32} {a_atomX : Nat → Int32} {a_atomY : Nat → Int32} {a_bound : Nat → Int32} {a_frameRow : Nat → Int32} {a_frameBound : Nat → Int32}
variable {f_rules f_some : Int32} {a_rows a_value a_head a_atoms a_table a_term a_known b_bound a_here a_always a_once : Nat → Int32} {c : nn_DB}
theorem nn_cer {k : Nat} {v1 v2 : Int32} (hC : nn_WF c) (hX : nn_RX c (f_ruleCount, f_strict, f_goalX, f_goalY, f_goalMet, f_evaluated, f_certainSet, f_anyAnswer, a_rowCount, a_rowX, a_rowY, a_headX, a_headY, a_atomCount, a_atomTable, a_atomX, a_atomY, a_bound, a_frameRow, a_frameBound)) (hY : nn_RY c (f_rules, f_some, a_rows, a_value, a_head, a_atoms, a_table, a_term, a_known, b_bound, a_here, a_always, a_once)) :
    wpX_certain (fun r u' => wpY_certain (fun r' v' => r' = r ∧ i_Rel (k + 4) u' v') (f_rules, f_some, a_rows, a_value, a_head, a_atoms, a_table, a_term, a_known, b_bound, a_here, a_always, a_once) v1 v2) (f_ruleCount, f_strict, f_goalX, f_goalY, f_goalMet, f_evaluated, f_certainSet, f_anyAnswer, a_rowCount, a_rowX, a_rowY, a_headX, a_headY, a_atomCount, a_atomTable, a_atomX, a_atomY, a_bound, a_frameRow, a_frameBound) v1 v2 := by
  have hYA : nn_YA c f_rules a_rows a_value a_head a_atoms a_table a_term := hY
  by_cases h : (¬ v1 < 0 ∧ v1 ≤ 6) ∧ (¬ v2 < 0 ∧ v2 ≤ 6)
  case neg =>
    have bad : wpY_certain (fun r' v' => r' = 0 ∧ i_Rel (k + 4) (f_ruleCount, f_strict, f_goalX, f_goalY, f_goalMet, f_evaluated, f_certainSet, f_anyAnswer, a_rowCount, a_rowX, a_rowY, a_headX, a_headY, a_atomCount, a_atomTable, a_atomX, a_atomY, a_bound, a_frameRow, a_frameBound) v') (f_rules, f_some, a_rows, a_value, a_head, a_atoms, a_table, a_term, a_known, b_bound, a_here, a_always, a_once) v1 v2 := by
      unfold wpY_certain
      exact nn_coY0 h (br_t rfl ⟨rfl, c, hC, hX, hY⟩)
    exact br_c (fun _ => bad) (fun h1 => br_c (fun _ => bad) (fun h2 => br_c (fun _ => bad) (fun h3 => br_c (fun h4 => absurd ⟨⟨h1, Int32.not_lt.mp h2⟩, h3, h4⟩ h) (fun _ => bad))))
  obtain ⟨⟨h1, h2⟩, h3, h4⟩ := h
  obtain ⟨a, ha, rfl⟩ := nn_six h1 h2
  obtain ⟨b, hb, rfl⟩ := nn_six h3 h4
  refine br_f h1 (br_f (Int32.not_lt.mpr h2) (br_f h3 (br_t h4 ?_)))
  refine nn_evalS hC hX.1 hX.2 (fun st gm e cs aa bd fr fb he hcs haa => ?_)
  have hb2 := nn_bt_v cs (k := 7 * a + b) (by omega)
  have hR : nn_RX c (f_ruleCount, st, f_goalX, f_goalY, gm, e, cs, aa, a_rowCount, a_rowX, a_rowY, a_headX, a_headY, a_atomCount, a_atomTable, a_atomX, a_atomY, bd, fr, fb) := ⟨hX.1, fun _ => ⟨hcs, haa⟩⟩
  have hbit := hcs (7 * a + b) (by omega)
  by_cases hz : nn_NA c (7 * a + b)
  · refine br_f (by rw [nn_ix7, hb2.1 (hbit.mpr hz)]; decide) ?_
    refine nn_cerY hC hYA ha hb (fun so kn bd he al on => ⟨nn_bz1 hz, c, hC, hR, hY⟩)
  · refine br_t (by rw [nn_ix7, hb2.2 (fun z => hz (hbit.mp z))]; decide) ?_
    refine nn_cerY hC hYA ha hb (fun so kn bd he al on => ⟨nn_bz0 hz, c, hC, hR, hY⟩)
theorem nn_pos {k : Nat} {v1 v2 : Int32} (hC : nn_WF c) (hX : nn_RX c (f_ruleCount, f_strict, f_goalX, f_goalY, f_goalMet, f_evaluated, f_certainSet, f_anyAnswer, a_rowCount, a_rowX, a_rowY, a_headX, a_headY, a_atomCount, a_atomTable, a_atomX, a_atomY, a_bound, a_frameRow, a_frameBound)) (hY : nn_RY c (f_rules, f_some, a_rows, a_value, a_head, a_atoms, a_table, a_term, a_known, b_bound, a_here, a_always, a_once)) :
    wpX_possible (fun r u' => wpY_possible (fun r' v' => r' = r ∧ i_Rel (k + 4) u' v') (f_rules, f_some, a_rows, a_value, a_head, a_atoms, a_table, a_term, a_known, b_bound, a_here, a_always, a_once) v1 v2) (f_ruleCount, f_strict, f_goalX, f_goalY, f_goalMet, f_evaluated, f_certainSet, f_anyAnswer, a_rowCount, a_rowX, a_rowY, a_headX, a_headY, a_atomCount, a_atomTable, a_atomX, a_atomY, a_bound, a_frameRow, a_frameBound) v1 v2 := by
  have hYA : nn_YA c f_rules a_rows a_value a_head a_atoms a_table a_term := hY
  by_cases h : (¬ v1 < 0 ∧ v1 ≤ 6) ∧ (¬ v2 < 0 ∧ v2 ≤ 6)
  case neg =>
    have bad : wpY_possible (fun r' v' => r' = 0 ∧ i_Rel (k + 4) (f_ruleCount, f_strict, f_goalX, f_goalY, f_goalMet, f_evaluated, f_certainSet, f_anyAnswer, a_rowCount, a_rowX, a_rowY, a_headX, a_headY, a_atomCount, a_atomTable, a_atomX, a_atomY, a_bound, a_frameRow, a_frameBound) v') (f_rules, f_some, a_rows, a_value, a_head, a_atoms, a_table, a_term, a_known, b_bound, a_here, a_always, a_once) v1 v2 := by
      unfold wpY_possible
      exact nn_coY0 h (br_t rfl ⟨rfl, c, hC, hX, hY⟩)
    exact br_c (fun _ => bad) (fun h1 => br_c (fun _ => bad) (fun h2 => br_c (fun _ => bad) (fun h3 => br_c (fun h4 => absurd ⟨⟨h1, Int32.not_lt.mp h2⟩, h3, h4⟩ h) (fun _ => bad))))
  obtain ⟨⟨h1, h2⟩, h3, h4⟩ := h
  obtain ⟨a, ha, rfl⟩ := nn_six h1 h2
  obtain ⟨b, hb, rfl⟩ := nn_six h3 h4
  refine br_f h1 (br_f (Int32.not_lt.mpr h2) (br_f h3 (br_t h4 ⟨nn_R c + 1, ?_⟩)))
  refine nn_poss_lp (a := a) (b := b) (c := c) hC hX.1 rfl rfl rfl ha hb (fun gm bd fr fb => ?_) (nn_R c) 0 0 _ _ _ (by omega) ?_ _ (by omega)
  · exact nn_posY hC hYA ha hb (fun so kn bd he al on => ⟨rfl, c, hC, ⟨hX.1, hX.2⟩, hY⟩)
  · exact (nn_bz0 (fun ⟨k, z, _⟩ => absurd z (by omega))).symm
theorem nn_cou {k : Nat} (hC : nn_WF c) (hX : nn_RX c (f_ruleCount, f_strict, f_goalX, f_goalY, f_goalMet, f_evaluated, f_certainSet, f_anyAnswer, a_rowCount, a_rowX, a_rowY, a_headX, a_headY, a_atomCount, a_atomTable, a_atomX, a_atomY, a_bound, a_frameRow, a_frameBound)) (hY : nn_RY c (f_rules, f_some, a_rows, a_value, a_head, a_atoms, a_table, a_term, a_known, b_bound, a_here, a_always, a_once)) :
    wpX_certainCount (fun r u' => wpY_certainCount (fun r' v' => r' = r ∧ i_Rel (k + 4) u' v') (f_rules, f_some, a_rows, a_value, a_head, a_atoms, a_table, a_term, a_known, b_bound, a_here, a_always, a_once)) (f_ruleCount, f_strict, f_goalX, f_goalY, f_goalMet, f_evaluated, f_certainSet, f_anyAnswer, a_rowCount, a_rowX, a_rowY, a_headX, a_headY, a_atomCount, a_atomTable, a_atomX, a_atomY, a_bound, a_frameRow, a_frameBound) := by
  have hYA : nn_YA c f_rules a_rows a_value a_head a_atoms a_table a_term := hY
  unfold wpX_certainCount
  refine nn_evalS hC hX.1 hX.2 (fun st gm e cs aa bd fr fb he hcs haa => ?_)
  refine ⟨50, nn_ccX (nn_NA c) hcs ?_ 49 0 rfl 50 (by omega)⟩
  exact nn_couY hC hYA (fun so kn bd he al on => ⟨rfl, c, hC, ⟨hX.1, fun _ => ⟨hcs, haa⟩⟩, hY⟩)
theorem nn_som {k : Nat} (hC : nn_WF c) (hX : nn_RX c (f_ruleCount, f_strict, f_goalX, f_goalY, f_goalMet, f_evaluated, f_certainSet, f_anyAnswer, a_rowCount, a_rowX, a_rowY, a_headX, a_headY, a_atomCount, a_atomTable, a_atomX, a_atomY, a_bound, a_frameRow, a_frameBound)) (hY : nn_RY c (f_rules, f_some, a_rows, a_value, a_head, a_atoms, a_table, a_term, a_known, b_bound, a_here, a_always, a_once)) :
    wpX_alwaysSome (fun r u' => wpY_alwaysSome (fun r' v' => r' = r ∧ i_Rel (k + 4) u' v') (f_rules, f_some, a_rows, a_value, a_head, a_atoms, a_table, a_term, a_known, b_bound, a_here, a_always, a_once)) (f_ruleCount, f_strict, f_goalX, f_goalY, f_goalMet, f_evaluated, f_certainSet, f_anyAnswer, a_rowCount, a_rowX, a_rowY, a_headX, a_headY, a_atomCount, a_atomTable, a_atomX, a_atomY, a_bound, a_frameRow, a_frameBound) := by
  have hYA : nn_YA c f_rules a_rows a_value a_head a_atoms a_table a_term := hY
  unfold wpX_alwaysSome
  refine nn_evalS hC hX.1 hX.2 (fun st gm e cs aa bd fr fb he hcs haa => ?_)
  subst haa
  refine ⟨nn_bz_n, ?_⟩
  exact nn_somY hC hYA (fun so kn bd he al on => ⟨rfl, c, hC, ⟨hX.1, fun _ => ⟨hcs, rfl⟩⟩, hY⟩)
end
end
section
/-! what is owed -/
theorem i_vc_addRow {k : Nat} {u : SX} {v : SY} (I : i_Rel k u v) (hk : k + 4 ≤ 2048) (v1 : Int32) (v2 : Int32) (v3 : Int32) : wpX_addRow (fun r u' => wpY_addRow (fun r' v' => r' = r ∧ i_Rel (k + 4) u' v') v v1 v2 v3) u v1 v2 v3 := by
  obtain ⟨c, hC, hX, hY⟩ := I
  obtain ⟨f_ruleCount, f_strict, f_goalX, f_goalY, f_goalMet, f_evaluated, f_certainSet, f_anyAnswer, a_rowCount, a_rowX, a_rowY, a_headX, a_headY, a_atomCount, a_atomTable, a_atomX, a_atomY, a_bound, a_frameRow, a_frameBound⟩ := u
  obtain ⟨f_rules, f_some, a_rows, a_value, a_head, a_atoms, a_table, a_term, a_known, b_bound, a_here, a_always, a_once⟩ := v
  exact nn_ad hC hX hY
theorem i_vc_dropRow {k : Nat} {u : SX} {v : SY} (I : i_Rel k u v) (hk : k + 4 ≤ 2048) (v1 : Int32) : wpX_dropRow (fun r u' => wpY_dropRow (fun r' v' => r' = r ∧ i_Rel (k + 4) u' v') v v1) u v1 := by
  obtain ⟨c, hC, hX, hY⟩ := I
  obtain ⟨f_ruleCount, f_strict, f_goalX, f_goalY, f_goalMet, f_evaluated, f_certainSet, f_anyAnswer, a_rowCount, a_rowX, a_rowY, a_headX, a_headY, a_atomCount, a_atomTable, a_atomX, a_atomY, a_bound, a_frameRow, a_frameBound⟩ := u
  obtain ⟨f_rules, f_some, a_rows, a_value, a_head, a_atoms, a_table, a_term, a_known, b_bound, a_here, a_always, a_once⟩ := v
  exact nn_do hC hX hY
theorem i_vc_learn {k : Nat} {u : SX} {v : SY} (I : i_Rel k u v) (hk : k + 4 ≤ 2048) (v1 : Int32) (v2 : Int32) : wpX_learn (fun r u' => wpY_learn (fun r' v' => r' = r ∧ i_Rel (k + 4) u' v') v v1 v2) u v1 v2 := by
  obtain ⟨c, hC, hX, hY⟩ := I
  obtain ⟨f_ruleCount, f_strict, f_goalX, f_goalY, f_goalMet, f_evaluated, f_certainSet, f_anyAnswer, a_rowCount, a_rowX, a_rowY, a_headX, a_headY, a_atomCount, a_atomTable, a_atomX, a_atomY, a_bound, a_frameRow, a_frameBound⟩ := u
  obtain ⟨f_rules, f_some, a_rows, a_value, a_head, a_atoms, a_table, a_term, a_known, b_bound, a_here, a_always, a_once⟩ := v
  exact nn_le hC hX hY
theorem i_vc_rule {k : Nat} {u : SX} {v : SY} (I : i_Rel k u v) (hk : k + 4 ≤ 2048) (v1 : Int32) (v2 : Int32) : wpX_rule (fun r u' => wpY_rule (fun r' v' => r' = r ∧ i_Rel (k + 4) u' v') v v1 v2) u v1 v2 := by
  obtain ⟨c, hC, hX, hY⟩ := I
  obtain ⟨f_ruleCount, f_strict, f_goalX, f_goalY, f_goalMet, f_evaluated, f_certainSet, f_anyAnswer, a_rowCount, a_rowX, a_rowY, a_headX, a_headY, a_atomCount, a_atomTable, a_atomX, a_atomY, a_bound, a_frameRow, a_frameBound⟩ := u
  obtain ⟨f_rules, f_some, a_rows, a_value, a_head, a_atoms, a_table, a_term, a_known, b_bound, a_here, a_always, a_once⟩ := v
  exact nn_ru hC hX hY
theorem i_vc_atom {k : Nat} {u : SX} {v : SY} (I : i_Rel k u v) (hk : k + 4 ≤ 2048) (v1 : Int32) (v2 : Int32) (v3 : Int32) : wpX_atom (fun r u' => wpY_atom (fun r' v' => r' = r ∧ i_Rel (k + 4) u' v') v v1 v2 v3) u v1 v2 v3 := by
  obtain ⟨c, hC, hX, hY⟩ := I
  obtain ⟨f_ruleCount, f_strict, f_goalX, f_goalY, f_goalMet, f_evaluated, f_certainSet, f_anyAnswer, a_rowCount, a_rowX, a_rowY, a_headX, a_headY, a_atomCount, a_atomTable, a_atomX, a_atomY, a_bound, a_frameRow, a_frameBound⟩ := u
  obtain ⟨f_rules, f_some, a_rows, a_value, a_head, a_atoms, a_table, a_term, a_known, b_bound, a_here, a_always, a_once⟩ := v
  exact nn_at hC hX hY
theorem i_vc_dropRules {k : Nat} {u : SX} {v : SY} (I : i_Rel k u v) (hk : k + 4 ≤ 2048) : wpX_dropRules (fun r u' => wpY_dropRules (fun r' v' => r' = r ∧ i_Rel (k + 4) u' v') v) u := by
  obtain ⟨c, hC, hX, hY⟩ := I
  obtain ⟨f_ruleCount, f_strict, f_goalX, f_goalY, f_goalMet, f_evaluated, f_certainSet, f_anyAnswer, a_rowCount, a_rowX, a_rowY, a_headX, a_headY, a_atomCount, a_atomTable, a_atomX, a_atomY, a_bound, a_frameRow, a_frameBound⟩ := u
  obtain ⟨f_rules, f_some, a_rows, a_value, a_head, a_atoms, a_table, a_term, a_known, b_bound, a_here, a_always, a_once⟩ := v
  exact nn_dr hC hX hY
theorem i_vc_certain {k : Nat} {u : SX} {v : SY} (I : i_Rel k u v) (hk : k + 4 ≤ 2048) (v1 : Int32) (v2 : Int32) : wpX_certain (fun r u' => wpY_certain (fun r' v' => r' = r ∧ i_Rel (k + 4) u' v') v v1 v2) u v1 v2 := by
  obtain ⟨c, hC, hX, hY⟩ := I
  obtain ⟨f_ruleCount, f_strict, f_goalX, f_goalY, f_goalMet, f_evaluated, f_certainSet, f_anyAnswer, a_rowCount, a_rowX, a_rowY, a_headX, a_headY, a_atomCount, a_atomTable, a_atomX, a_atomY, a_bound, a_frameRow, a_frameBound⟩ := u
  obtain ⟨f_rules, f_some, a_rows, a_value, a_head, a_atoms, a_table, a_term, a_known, b_bound, a_here, a_always, a_once⟩ := v
  exact nn_cer hC hX hY
theorem i_vc_possible {k : Nat} {u : SX} {v : SY} (I : i_Rel k u v) (hk : k + 4 ≤ 2048) (v1 : Int32) (v2 : Int32) : wpX_possible (fun r u' => wpY_possible (fun r' v' => r' = r ∧ i_Rel (k + 4) u' v') v v1 v2) u v1 v2 := by
  obtain ⟨c, hC, hX, hY⟩ := I
  obtain ⟨f_ruleCount, f_strict, f_goalX, f_goalY, f_goalMet, f_evaluated, f_certainSet, f_anyAnswer, a_rowCount, a_rowX, a_rowY, a_headX, a_headY, a_atomCount, a_atomTable, a_atomX, a_atomY, a_bound, a_frameRow, a_frameBound⟩ := u
  obtain ⟨f_rules, f_some, a_rows, a_value, a_head, a_atoms, a_table, a_term, a_known, b_bound, a_here, a_always, a_once⟩ := v
  exact nn_pos hC hX hY
theorem i_vc_certainCount {k : Nat} {u : SX} {v : SY} (I : i_Rel k u v) (hk : k + 4 ≤ 2048) : wpX_certainCount (fun r u' => wpY_certainCount (fun r' v' => r' = r ∧ i_Rel (k + 4) u' v') v) u := by
  obtain ⟨c, hC, hX, hY⟩ := I
  obtain ⟨f_ruleCount, f_strict, f_goalX, f_goalY, f_goalMet, f_evaluated, f_certainSet, f_anyAnswer, a_rowCount, a_rowX, a_rowY, a_headX, a_headY, a_atomCount, a_atomTable, a_atomX, a_atomY, a_bound, a_frameRow, a_frameBound⟩ := u
  obtain ⟨f_rules, f_some, a_rows, a_value, a_head, a_atoms, a_table, a_term, a_known, b_bound, a_here, a_always, a_once⟩ := v
  exact nn_cou hC hX hY
theorem i_vc_alwaysSome {k : Nat} {u : SX} {v : SY} (I : i_Rel k u v) (hk : k + 4 ≤ 2048) : wpX_alwaysSome (fun r u' => wpY_alwaysSome (fun r' v' => r' = r ∧ i_Rel (k + 4) u' v') v) u := by
  obtain ⟨c, hC, hX, hY⟩ := I
  obtain ⟨f_ruleCount, f_strict, f_goalX, f_goalY, f_goalMet, f_evaluated, f_certainSet, f_anyAnswer, a_rowCount, a_rowX, a_rowY, a_headX, a_headY, a_atomCount, a_atomTable, a_atomX, a_atomY, a_bound, a_frameRow, a_frameBound⟩ := u
  obtain ⟨f_rules, f_some, a_rows, a_value, a_head, a_atoms, a_table, a_term, a_known, b_bound, a_here, a_always, a_once⟩ := v
  exact nn_som hC hX hY
end
