section
section PMROWS
theorem pk_us {f : Nat → Int32} {k : Nat} {x : Int32} : upd f k x k = x := if_pos rfl
theorem pk_un {f : Nat → Int32} {k j : Nat} {x : Int32} (h : j ≠ k) : upd f k x j = f j := if_neg h
theorem pk_uLs {f : Nat → Int64} {k : Nat} {x : Int64} : vp_updL f k x k = x := if_pos rfl
theorem pk_uLn {f : Nat → Int64} {k j : Nat} {x : Int64} (h : j ≠ k) : vp_updL f k x j = f j := if_neg h
theorem pk_sub {a b : Nat} (h : b ≤ a) : nI a - nI b = nI (a - b) := by
  obtain ⟨c, rfl⟩ : ∃ c, a = c + b := ⟨a - b, by omega⟩
  rw [← nI_add, Int32.add_sub_cancel, Nat.add_sub_cancel]
theorem pk_m1 (n : Nat) : nI (n + 1) + (-1) = nI n := by
  rw [← nI_1, Int32.add_assoc, show (1 : Int32) + (-1) = 0 from rfl, Int32.add_zero]
theorem pk_mul (a b : Nat) : nI a * nI b = nI (a * b) := (Int32.ofNat_mul a b).symm
theorem pk_sub_toInt {a b : Nat} (ha : a < 2 ^ 30) (hb : b < 2 ^ 30) : (nI a - nI b).toInt = (a : Int) - b := by
  rw [Int32.toInt_sub, nI_toInt (by omega), nI_toInt (by omega)]
  exact Int.bmod_eq_of_le (by omega) (by omega)
theorem pk_sneg {a b : Nat} (hb : b < 2 ^ 30) (h : a < b) : nI a - nI b < 0 := by
  rw [Int32.lt_iff_toInt_lt, pk_sub_toInt (by omega) hb, show (0 : Int32).toInt = 0 from by decide]
  omega
theorem pk_ix (x : Int32) {n : Nat} (hn : n < 2 ^ 31) : x < 0 ∨ nI n ≤ x ∨ ∃ j : Nat, j < n ∧ x = nI j := by
  by_cases h : x < 0
  · exact Or.inl h
  · obtain ⟨j, hj, rfl⟩ := nI_of h
    by_cases h2 : j < n
    · exact Or.inr (Or.inr ⟨j, h2, rfl⟩)
    · exact Or.inr (Or.inl (nI_le (by omega) hj))
theorem pk_le {x y : Int32} {A B : Prop} (a b : Nat) (f : a ≤ b → A) (g : b < a → B) (hx : x = nI a := by rfl) (hy : y = nI b := by rfl) (ha : a < 2 ^ 31 := by omega) (hb : b < 2 ^ 31 := by omega) : (x ≤ y → A) ∧ (¬ x ≤ y → B) := by
  subst hx hy
  rw [nI_leI ha hb]
  exact ⟨f, fun z => g (by omega)⟩
theorem pk_lt {x y : Int32} {A B : Prop} (a b : Nat) (f : a < b → A) (g : b ≤ a → B) (hx : x = nI a := by rfl) (hy : y = nI b := by rfl) (ha : a < 2 ^ 31 := by omega) (hb : b < 2 ^ 31 := by omega) : (x < y → A) ∧ (¬ x < y → B) := by
  subst hx hy
  rw [nI_ltI ha hb]
  exact ⟨f, fun z => g (by omega)⟩
theorem pk_eq {x y : Int32} {A B : Prop} (a b : Nat) (f : a = b → A) (g : a ≠ b → B) (hx : x = nI a := by rfl) (hy : y = nI b := by rfl) (ha : a < 2 ^ 31 := by omega) (hb : b < 2 ^ 31 := by omega) : (x = y → A) ∧ (¬ x = y → B) := by
  subst hx hy
  rw [nI_eq ha hb]
  exact ⟨f, g⟩
theorem pk_in {x : Int32} (n N : Nat) (h : n < N) (hx : x = nI n := by rfl) (hN : N < 2 ^ 31 := by omega) : vp_in x N := by
  subst hx
  exact vp_in_nI h hN
theorem pk_cl {x : Int32} (n : Nat) (hx : x = nI n := by rfl) (h : n < 2 ^ 31 := by omega) : x.toNatClampNeg = n := by
  subst hx
  exact nI_clamp h
theorem pk_tn {n : Nat} (h : n < 2 ^ 32) : (nI n).toBitVec.toNat = n := Nat.mod_eq_of_lt h
theorem pk_and (x : Int32) {m : Int32} (k : Nat) (hm : m.toBitVec.toNat = 2 ^ k - 1) : x &&& m = nI (x.toBitVec.toNat % 2 ^ k) := by
  apply Int32.toBitVec_inj.mp
  apply BitVec.eq_of_toNat_eq
  rw [Int32.toBitVec_and, BitVec.toNat_and, hm, Nat.and_two_pow_sub_one_eq_mod]
  show _ = (BitVec.ofNat 32 _).toNat
  rw [BitVec.toNat_ofNat]
  exact (Nat.mod_eq_of_lt (Nat.lt_of_le_of_lt (Nat.mod_le _ _) x.toBitVec.isLt)).symm
theorem pk_andN {n : Nat} (h : n < 2 ^ 32) {m : Int32} (k : Nat) (hm : m.toBitVec.toNat = 2 ^ k - 1) : nI n &&& m = nI (n % 2 ^ k) := by
  rw [pk_and _ k hm, pk_tn h]
theorem pk_andE (x : Int32) {m : Int32} (k : Nat) (hm : m.toBitVec.toNat = 2 ^ k - 1) : ∃ j : Nat, j < 2 ^ k ∧ x &&& m = nI j := ⟨_, Nat.mod_lt _ (Nat.two_pow_pos k), pk_and x k hm⟩
theorem pk_andIn (x : Int32) {m : Int32} (k : Nat) (hm : m.toBitVec.toNat = 2 ^ k - 1) (hk : k ≤ 30) : vp_in (x &&& m) (2 ^ k) := by
  obtain ⟨j, hj, e⟩ := pk_andE x k hm
  rw [e]
  exact vp_in_nI hj (Nat.lt_of_le_of_lt (Nat.pow_le_pow_right (by decide) hk) (by decide))
theorem pk_shl (a s : Int32) (k : Nat) (hs : (s.toBitVec.smod 32).toNat = k) : (a <<< s).toBitVec.toNat = a.toBitVec.toNat * 2 ^ k % 2 ^ 32 := by
  show (a.toBitVec <<< (s.toBitVec.smod 32).toNat).toNat = _
  rw [hs, BitVec.toNat_shiftLeft, Nat.shiftLeft_eq]
theorem pk_shlN {n : Nat} (s : Int32) (k : Nat) (hs : (s.toBitVec.smod 32).toNat = k) (h : n * 2 ^ k < 2 ^ 32) : nI n <<< s = nI (n * 2 ^ k) := by
  apply Int32.toBitVec_inj.mp
  apply BitVec.eq_of_toNat_eq
  have hn : n < 2 ^ 32 := Nat.lt_of_le_of_lt (Nat.le_mul_of_pos_right n (Nat.two_pow_pos k)) h
  rw [pk_shl _ _ k hs, pk_tn hn, pk_tn h, Nat.mod_eq_of_lt h]
theorem pk_shr (a s : Int32) (k : Nat) (hs : (s.toBitVec.smod 32).toNat = k) : (a >>> s).toInt = a.toInt >>> k := by
  show (a.toBitVec.sshiftRight (s.toBitVec.smod 32).toNat).toInt = _
  rw [hs, BitVec.toInt_sshiftRight]
  rfl
theorem pk_shrN {n : Nat} (h : n < 2 ^ 31) (s : Int32) (k : Nat) (hs : (s.toBitVec.smod 32).toNat = k) : nI n >>> s = nI (n / 2 ^ k) := by
  apply Int32.toInt_inj.mp
  have h2 : n / 2 ^ k ≤ n := Nat.div_le_self _ _
  rw [pk_shr _ _ k hs, nI_toInt h, nI_toInt (by omega), Int.shiftRight_eq_div_pow]
  rfl
theorem ts_nf {x : Bool} (h : ¬ x = false) : x = true := by cases x <;> first | rfl | exact absurd rfl h
theorem ts_nt {x : Bool} (h : ¬ x = true) : x = false := by cases x <;> first | rfl | exact absurd rfl h
theorem ts_bit {w : Int64} {s : UInt64} {j : Nat} (hj : j < 64) (hs : s.toNat = j) : ((w.toUInt64 >>> s).toInt64 &&& 1) = 0 ↔ w.toBitVec.getLsbD j = false := by
  have e : (w.toUInt64 >>> s).toInt64.toBitVec = w.toBitVec >>> j := by
    apply BitVec.eq_of_toNat_eq
    show (w.toUInt64 >>> s).toNat = _
    rw [UInt64.toNat_shiftRight, hs, Nat.mod_eq_of_lt hj, BitVec.toNat_ushiftRight]
    rfl
  rw [← Int64.toBitVec_inj, Int64.toBitVec_and, e]
  show w.toBitVec >>> j &&& 1#64 = 0#64 ↔ _
  constructor
  · intro h
    have t := congrArg (fun x => x.getLsbD 0) h
    simpa using t
  · intro h
    apply BitVec.eq_of_getLsbD_eq
    intro i hi
    cases i with
    | zero => simp [h]
    | succ i => simp
theorem wb_cu : ∀ k, k < 64 → ((nI k).toInt64.toUInt64 &&& Int64.toUInt64 63) = UInt64.ofNat k := by decide +kernel
theorem u_tn {n : Nat} (h : n < 2 ^ 64) : (UInt64.ofNat n).toNat = n := Nat.mod_eq_of_lt h
theorem pn_byte : ∀ k, k < 100 → vp_nar .byte (nI k).toInt8.toInt32 = nI k := by decide +kernel
theorem pn_short : ∀ k, k < 256 → vp_nar .short (nI k).toInt16.toInt32 = nI k := by decide +kernel
theorem pn_short2 : ∀ k, k < 256 → vp_nar .short (nI k) = nI k := by decide +kernel
theorem pn_shortm : vp_nar .short (-1) = -1 := by decide +kernel
theorem pn_m1 : (-1 : Int32) < 0 := by decide
theorem pn_pow : ∀ l, l < 64 → ((1 : Int64) <<< ((nI l).toInt64 &&& 63)).toBitVec = BitVec.twoPow 64 l := by decide +kernel
theorem pn_bit : ∀ f, f < 16 → ∀ op, op < 4 → ((nI f >>> (nI op &&& 31)) &&& 1) = (if f.testBit op = true then 1 else 0) := by decide +kernel
theorem pn_and63 {t : Nat} (h : t < 2 ^ 31) : nI t &&& 63 = nI (t % 64) := pk_andN (by omega) 6 (by decide)
theorem pn_shr6 {t : Nat} (h : t < 2 ^ 31) : nI t >>> ((6 : Int32) &&& 31) = nI (t / 64) := pk_shrN h _ 6 (by decide)
theorem pn_s1 {n : Nat} (h : 0 < n) : nI n - 1 = nI (n - 1) := by
  obtain ⟨m, rfl⟩ : ∃ m, n = m + 1 := ⟨n - 1, by omega⟩
  exact nI_pred m
theorem pn_neg (n : Nat) : nI n + (-1) = nI n - 1 := (Int32.sub_eq_add_neg _ _).symm
theorem pn_01 : nI 0 - 1 < 0 := by decide
theorem pn_0m1 : nI 0 - 1 = -1 := by decide
def pm_b (x : Bool) : Int32 := if x = true then 1 else 0
theorem pm_b1 : pm_b true = 1 := rfl
theorem pm_b0 : pm_b false = 0 := rfl
theorem pm_bn (x : Bool) : narrow .boolean (.int (pm_b x)) = .int (pm_b x) := by cases x <;> rfl
theorem pm_bv (x : Bool) : vp_nar .boolean (pm_b x) = pm_b x := by cases x <;> rfl
theorem pm_bz (x : Bool) : pm_b x = 0 ↔ x = false := by cases x <;> decide
theorem pm_b10 : ¬ (1 : Int32) = 0 := by decide
theorem pm_br {x : Int32} {A B : Prop} (y : Bool) (e : x = pm_b y) (f : y = false → A) (g : y = true → B) : (x = 0 → A) ∧ (¬ x = 0 → B) := by
  subst e
  cases y
  · exact br_t rfl (f rfl)
  · exact br_f pm_b10 (g rfl)
end PMROWS
end
section
section PMPURE
def pm_w (op : Nat) : Nat := if op = 5 ∨ op = 6 ∨ op = 10 then 2 else if op < 4 then 0 else 1
theorem pm_w2 {op : Nat} (h : op = 5 ∨ op = 6 ∨ op = 10) : pm_w op = 2 := if_pos h
theorem pm_w0 {op : Nat} (h : op < 4) : pm_w op = 0 := by
  unfold pm_w
  rw [if_neg (by omega), if_pos h]
theorem pm_w1 {op : Nat} (h4 : 4 ≤ op) (h5 : op ≠ 5) (h6 : op ≠ 6) (h10 : op ≠ 10) : pm_w op = 1 := by
  unfold pm_w
  rw [if_neg (by omega), if_neg (by omega)]
theorem pm_w_le (op : Nat) : pm_w op ≤ 2 := by
  unfold pm_w
  split
  · exact Nat.le_refl _
  · split <;> omega
theorem pm_w_2 {op : Nat} (h : pm_w op = 2) : op = 5 ∨ op = 6 ∨ op = 10 := by
  unfold pm_w at h
  split at h
  · assumption
  · split at h <;> omega
theorem pm_w_pos {op : Nat} (h : 4 ≤ op) : 1 ≤ pm_w op := by
  unfold pm_w
  split
  · omega
  · rw [if_neg (by omega)]; exact Nat.le_refl _
def pm_pend (tk : Nat → Nat) : Nat → Nat
  | 0 => 1
  | k + 1 => pm_pend tk k - 1 + pm_w (tk k)
theorem pm_pend_0 (tk : Nat → Nat) : pm_pend tk 0 = 1 := rfl
theorem pm_pend_s (tk : Nat → Nat) (k : Nat) : pm_pend tk (k + 1) = pm_pend tk k - 1 + pm_w (tk k) := rfl
theorem pm_pend_congr {tk tk' : Nat → Nat} : ∀ k, (∀ j, j < k → tk j = tk' j) → pm_pend tk k = pm_pend tk' k := by
  intro k
  induction k with
  | zero => intro _; rfl
  | succ k ih =>
    intro h
    rw [pm_pend_s, pm_pend_s, ih (fun j hj => h j (by omega)), h k (by omega)]
def pm_F (tk : Nat → Nat) (k q s : Nat) : Prop := k ≤ s ∧ pm_pend tk s = q ∧ ∀ i, k ≤ i → i < s → q < pm_pend tk i
def pm_nx (tk : Nat → Nat) (q : Nat) : Nat → Nat → Nat
  | 0, k => k
  | n + 1, k => if pm_pend tk k ≤ q then k else pm_nx tk q n (k + 1)
theorem pm_nx_s (tk : Nat → Nat) (q n k : Nat) : pm_nx tk q (n + 1) k = if pm_pend tk k ≤ q then k else pm_nx tk q n (k + 1) := rfl
theorem pm_nx_ge (tk : Nat → Nat) (q : Nat) : ∀ n k, k ≤ pm_nx tk q n k := by
  intro n
  induction n with
  | zero => intro k; exact Nat.le_refl k
  | succ n ih =>
    intro k
    rw [pm_nx_s]
    split
    · exact Nat.le_refl k
    · have := ih (k + 1); omega
theorem pm_nx_F {tk : Nat → Nat} {q s : Nat} : ∀ n k, pm_F tk k q s → s ≤ k + n → pm_nx tk q n k = s := by
  intro n
  induction n with
  | zero =>
    intro k h hs
    have h1 := h.1
    show k = s
    omega
  | succ n ih =>
    intro k h hs
    obtain ⟨h1, h2, h3⟩ := h
    rw [pm_nx_s]
    split
    · rename_i hp
      by_cases e : k < s
      · have := h3 k (Nat.le_refl k) e
        omega
      · omega
    · rename_i hp
      have e : k ≠ s := by
        intro e
        rw [e] at hp
        omega
      exact ih (k + 1) ⟨by omega, h2, fun i hi hi2 => h3 i (by omega) hi2⟩ (by omega)
def pm_sc (tk : Nat → Nat) (k : Nat) : Nat := pm_nx tk (pm_pend tk k) 14 (k + 1)
theorem pm_sc_gt (tk : Nat → Nat) (k : Nat) : k < pm_sc tk k := pm_nx_ge tk _ 14 (k + 1)
theorem pm_sc_F {tk : Nat → Nat} {k s : Nat} (h : pm_F tk (k + 1) (pm_pend tk k) s) (hs : s ≤ 14) : pm_sc tk k = s := pm_nx_F 14 (k + 1) h (by omega)
def pm_ok (tk : Nat → Nat) (sz : Nat) : Prop := ∀ k, k < sz → 1 ≤ pm_pend tk k
def pm_cp (tk : Nat → Nat) (sz : Nat) : Prop := pm_ok tk sz ∧ pm_pend tk sz = 0
theorem pm_F_ex {tk : Nat → Nat} {sz q : Nat} (hc : pm_cp tk sz) (hq : 1 ≤ q) : ∀ d k, k + d = sz → q ≤ pm_pend tk k → ∃ s, pm_F tk k q s ∧ s < sz := by
  intro d
  induction d with
  | zero =>
    intro k hk hp
    have h0 := hc.2
    have e : k = sz := by omega
    rw [e] at hp
    omega
  | succ d ih =>
    intro k hk hp
    by_cases e : pm_pend tk k = q
    · exact ⟨k, ⟨Nat.le_refl k, e, fun i h1 h2 => by omega⟩, by omega⟩
    · have hs := pm_pend_s tk k
      obtain ⟨s, ⟨h1, h2, h3⟩, hsz⟩ := ih (k + 1) (by omega) (by omega)
      refine ⟨s, ⟨by omega, h2, fun i hi hi2 => ?_⟩, hsz⟩
      by_cases ei : i = k
      · rw [ei]; omega
      · exact h3 i (by omega) hi2
theorem pm_cp_pos {tk : Nat → Nat} {sz : Nat} (hc : pm_cp tk sz) : 0 < sz := by
  by_cases h : 0 < sz
  · exact h
  · have e : sz = 0 := by omega
    have h0 := hc.2
    rw [e, pm_pend_0] at h0
    omega
theorem pm_cp_1 {tk : Nat → Nat} {sz k : Nat} (hc : pm_cp tk sz) (hk : k < sz) (h4 : 4 ≤ tk k) : k + 1 < sz := by
  have h1 := pm_pend_s tk k
  have h2 := pm_w_pos h4
  have h3 := hc.2
  by_cases h : k + 1 < sz
  · exact h
  · have e : k + 1 = sz := by omega
    rw [e] at h1
    omega
theorem pm_cp_2 {tk : Nat → Nat} {sz k : Nat} (hc : pm_cp tk sz) (hz : sz ≤ 14) (hk : k < sz) (h2 : pm_w (tk k) = 2) : pm_F tk (k + 1) (pm_pend tk k) (pm_sc tk k) ∧ pm_sc tk k < sz := by
  have h1 := pm_pend_s tk k
  obtain ⟨s, hF, hs⟩ := pm_F_ex hc (hc.1 k hk) (sz - (k + 1)) (k + 1) (by omega) (by omega)
  rw [pm_sc_F hF (by omega)]
  exact ⟨hF, hs⟩
def pm_ex (g : Nat → Bool) : Nat → Nat → Bool
  | 0, _ => false
  | d + 1, u => g u || pm_ex g d (u + 1)
def pm_al (g : Nat → Bool) : Nat → Nat → Bool
  | 0, _ => true
  | d + 1, u => g u && pm_al g d (u + 1)
def pm_si (g h : Nat → Bool) (t : Nat) : Nat → Nat → Bool
  | 0, _ => false
  | d + 1, s => (h s && pm_al g (t - s) (s + 1)) || pm_si g h t d (s + 1)
theorem pm_ex_s (g : Nat → Bool) (d u : Nat) : pm_ex g (d + 1) u = (g u || pm_ex g d (u + 1)) := rfl
theorem pm_al_s (g : Nat → Bool) (d u : Nat) : pm_al g (d + 1) u = (g u && pm_al g d (u + 1)) := rfl
theorem pm_si_s (g h : Nat → Bool) (t d s : Nat) : pm_si g h t (d + 1) s = ((h s && pm_al g (t - s) (s + 1)) || pm_si g h t d (s + 1)) := rfl
theorem pm_ex_l (g : Nat → Bool) : ∀ d u, pm_ex g (d + 1) u = (pm_ex g d u || g (u + d)) := by
  intro d
  induction d with
  | zero => intro u; simp [pm_ex]
  | succ d ih =>
    intro u
    rw [pm_ex_s, ih (u + 1), pm_ex_s g d u, Bool.or_assoc, show u + 1 + d = u + (d + 1) by omega]
theorem pm_al_l (g : Nat → Bool) : ∀ d u, pm_al g (d + 1) u = (pm_al g d u && g (u + d)) := by
  intro d
  induction d with
  | zero => intro u; simp [pm_al]
  | succ d ih =>
    intro u
    rw [pm_al_s, ih (u + 1), pm_al_s g d u, Bool.and_assoc, show u + 1 + d = u + (d + 1) by omega]
theorem pm_al_n (g : Nat → Bool) : ∀ d u, pm_al g d u = !(pm_ex (fun j => !(g j)) d u) := by
  intro d
  induction d with
  | zero => intro u; rfl
  | succ d ih =>
    intro u
    rw [pm_al_s, pm_ex_s, ih (u + 1)]
    cases g u <;> simp
theorem pm_ex_iff (g : Nat → Bool) : ∀ d u, pm_ex g d u = true ↔ ∃ j, u ≤ j ∧ j < u + d ∧ g j = true := by
  intro d
  induction d with
  | zero =>
    intro u
    constructor
    · intro h; exact absurd h (by simp [pm_ex])
    · intro ⟨j, h1, h2, _⟩; omega
  | succ d ih =>
    intro u
    rw [pm_ex_s, Bool.or_eq_true, ih (u + 1)]
    constructor
    · intro h
      rcases h with h | ⟨j, h1, h2, h3⟩
      · exact ⟨u, Nat.le_refl u, by omega, h⟩
      · exact ⟨j, by omega, by omega, h3⟩
    · intro ⟨j, h1, h2, h3⟩
      by_cases e : j = u
      · rw [e] at h3; exact Or.inl h3
      · exact Or.inr ⟨j, by omega, by omega, h3⟩
theorem pm_ex_f {g : Nat → Bool} {d u : Nat} (h : ∀ j, u ≤ j → j < u + d → g j = false) : pm_ex g d u = false := by
  cases e : pm_ex g d u with
  | false => rfl
  | true =>
    obtain ⟨j, h1, h2, h3⟩ := (pm_ex_iff g d u).mp e
    rw [h j h1 h2] at h3
    exact absurd h3 (by decide)
theorem pm_ex_c {g g' : Nat → Bool} : ∀ d u, (∀ j, j < u + d → g j = g' j) → pm_ex g d u = pm_ex g' d u := by
  intro d
  induction d with
  | zero => intro u _; rfl
  | succ d ih =>
    intro u h
    rw [pm_ex_s, pm_ex_s, h u (by omega), ih (u + 1) (fun j hj => h j (by omega))]
theorem pm_al_c {g g' : Nat → Bool} : ∀ d u, (∀ j, j < u + d → g j = g' j) → pm_al g d u = pm_al g' d u := by
  intro d
  induction d with
  | zero => intro u _; rfl
  | succ d ih =>
    intro u h
    rw [pm_al_s, pm_al_s, h u (by omega), ih (u + 1) (fun j hj => h j (by omega))]
theorem pm_si_c {g g' h h' : Nat → Bool} {t : Nat} : ∀ d s, s + d ≤ t + 1 → (∀ j, j ≤ t → g j = g' j ∧ h j = h' j) → pm_si g h t d s = pm_si g' h' t d s := by
  intro d
  induction d with
  | zero => intro s _ _; rfl
  | succ d ih =>
    intro s hs hh
    rw [pm_si_s, pm_si_s, (hh s (by omega)).2, ih (s + 1) (by omega) hh, pm_al_c (t - s) (s + 1) (fun j hj => (hh j (by omega)).1)]
theorem pm_si_t (g h : Nat → Bool) (t : Nat) : ∀ d s, s + d = t → pm_si g h t d s = (g t && pm_si g h (t - 1) d s) := by
  intro d
  induction d with
  | zero => intro s _; simp [pm_si]
  | succ d ih =>
    intro s hs
    rw [pm_si_s, pm_si_s, ih (s + 1) (by omega), show t - s = (t - 1 - s) + 1 by omega, pm_al_l, show s + 1 + (t - 1 - s) = t by omega]
    cases h s <;> cases g t <;> simp
theorem pm_si_l (g h : Nat → Bool) (t : Nat) : ∀ d s, pm_si g h t (d + 1) s = (pm_si g h t d s || (h (s + d) && pm_al g (t - (s + d)) (s + d + 1))) := by
  intro d
  induction d with
  | zero => intro s; simp [pm_si]
  | succ d ih =>
    intro s
    rw [pm_si_s, ih (s + 1), pm_si_s g h t d s, Bool.or_assoc, show s + 1 + d = s + (d + 1) by omega]
theorem pm_si_n (g h : Nat → Bool) (t : Nat) : pm_si g h t (t + 1) 0 = (h t || (g t && pm_si g h (t - 1) t 0)) := by
  rw [pm_si_l, pm_si_t g h t t 0 (by omega), Nat.zero_add, Nat.sub_self]
  show ((g t && pm_si g h (t - 1) t 0) || (h t && true)) = _
  cases h t <;> cases g t <;> simp
def pm_tr (wd : Nat) (fc : Nat → Nat) (op : Nat) (g h : Nat → Bool) (t : Nat) : Bool :=
  if op ≤ 3 then (fc t).testBit op
  else if op = 4 then !(g t)
  else if op = 5 then g t && h t
  else if op = 6 then g t || h t
  else if op = 7 then decide (0 < t) && g (t - 1)
  else if op = 8 then pm_ex g (t + 1) 0
  else if op = 9 then pm_al g (t + 1) 0
  else if op = 10 then pm_si g h t (t + 1) 0
  else if op = 11 then pm_ex g (t + 1 - (t - wd)) (t - wd)
  else pm_al g (t + 1 - (t - wd)) (t - wd)
section PMTR
variable {wd : Nat} {fc : Nat → Nat} {op : Nat} {g h : Nat → Bool} {t : Nat}
theorem pm_tr3 (e : op ≤ 3) : pm_tr wd fc op g h t = (fc t).testBit op := if_pos e
theorem pm_tr4 : pm_tr wd fc 4 g h t = !(g t) := rfl
theorem pm_tr5 : pm_tr wd fc 5 g h t = (g t && h t) := rfl
theorem pm_tr6 : pm_tr wd fc 6 g h t = (g t || h t) := rfl
theorem pm_tr7 : pm_tr wd fc 7 g h t = (decide (0 < t) && g (t - 1)) := rfl
theorem pm_tr8 : pm_tr wd fc 8 g h t = pm_ex g (t + 1) 0 := rfl
theorem pm_tr9 : pm_tr wd fc 9 g h t = pm_al g (t + 1) 0 := rfl
theorem pm_tr10 : pm_tr wd fc 10 g h t = pm_si g h t (t + 1) 0 := rfl
theorem pm_tr11 : pm_tr wd fc 11 g h t = pm_ex g (t + 1 - (t - wd)) (t - wd) := rfl
theorem pm_tr12 : pm_tr wd fc 12 g h t = pm_al g (t + 1 - (t - wd)) (t - wd) := rfl
end PMTR
theorem pm_tr_c {wd op t : Nat} {fc fc' : Nat → Nat} {g g' h h' : Nat → Bool} (hf : fc t = fc' t) (hg : ∀ j, j ≤ t → g j = g' j ∧ h j = h' j) : pm_tr wd fc op g h t = pm_tr wd fc' op g' h' t := by
  unfold pm_tr
  rw [hf, (hg t (by omega)).1, (hg t (by omega)).2, (hg (t - 1) (by omega)).1, pm_ex_c (t + 1) 0 (fun j hj => (hg j (by omega)).1), pm_al_c (t + 1) 0 (fun j hj => (hg j (by omega)).1), pm_si_c (t + 1) 0 (by omega) hg, pm_ex_c (t + 1 - (t - wd)) (t - wd) (fun j hj => (hg j (by omega)).1), pm_al_c (t + 1 - (t - wd)) (t - wd) (fun j hj => (hg j (by omega)).1)]
def pm_H (wd : Nat) (fc tk : Nat → Nat) (sz : Nat) (k : Nat) : Nat → Bool :=
  if k < sz then pm_tr wd fc (tk k) (pm_H wd fc tk sz (k + 1)) (pm_H wd fc tk sz (pm_sc tk k)) else fun _ => false
termination_by sz - k
decreasing_by all_goals exact Nat.sub_lt_sub_left (by assumption) (by first | exact pm_sc_gt _ _ | exact Nat.lt_succ_self _)
theorem pm_H_s {wd : Nat} {fc tk : Nat → Nat} {sz k : Nat} (hk : k < sz) (t : Nat) : pm_H wd fc tk sz k t = pm_tr wd fc (tk k) (pm_H wd fc tk sz (k + 1)) (pm_H wd fc tk sz (pm_sc tk k)) t := by
  rw [pm_H, if_pos hk]
theorem pm_H_o {wd : Nat} {fc tk : Nat → Nat} {sz k : Nat} (hk : ¬ k < sz) (t : Nat) : pm_H wd fc tk sz k t = false := by
  rw [pm_H, if_neg hk]
theorem pm_H_c {wd : Nat} {fc fc' tk : Nat → Nat} {sz n : Nat} (hf : ∀ t, t < n → fc t = fc' t) : ∀ d k, sz ≤ k + d → ∀ t, t < n → pm_H wd fc tk sz k t = pm_H wd fc' tk sz k t := by
  intro d
  induction d with
  | zero =>
    intro k hk t ht
    rw [pm_H_o (by omega), pm_H_o (by omega)]
  | succ d ih =>
    intro k hk t ht
    by_cases h : k < sz
    · rw [pm_H_s h, pm_H_s h]
      have := pm_sc_gt tk k
      exact pm_tr_c (hf t ht) (fun j hj => ⟨ih (k + 1) (by omega) j (by omega), ih (pm_sc tk k) (by omega) j (by omega)⟩)
    · rw [pm_H_o h, pm_H_o h]
theorem pm_H_f {wd : Nat} {fc fc' tk : Nat → Nat} {sz n : Nat} (hf : ∀ t, t < n → fc t = fc' t) (k t : Nat) (ht : t < n) : pm_H wd fc tk sz k t = pm_H wd fc' tk sz k t := pm_H_c hf sz k (by omega) t ht
def pm_mm (op : Nat) (g h : Nat → Bool) (n : Nat) : Bool :=
  if op = 8 then pm_ex g n 0 else if op = 9 then pm_al g n 0 else pm_si g h (n - 1) n 0
theorem pm_mm8 {g h : Nat → Bool} (n : Nat) : pm_mm 8 g h (n + 1) = (pm_mm 8 g h n || g n) := by
  show pm_ex g (n + 1) 0 = (pm_ex g n 0 || g n)
  rw [pm_ex_l, Nat.zero_add]
theorem pm_mm9 {g h : Nat → Bool} (n : Nat) : pm_mm 9 g h (n + 1) = (pm_mm 9 g h n && g n) := by
  show pm_al g (n + 1) 0 = (pm_al g n 0 && g n)
  rw [pm_al_l, Nat.zero_add]
theorem pm_mm10 {g h : Nat → Bool} (n : Nat) : pm_mm 10 g h (n + 1) = (h n || (g n && pm_mm 10 g h n)) := pm_si_n g h n
theorem pm_mm_tr {wd : Nat} {fc : Nat → Nat} {op : Nat} {g h : Nat → Bool} {t : Nat} (e : op = 8 ∨ op = 9 ∨ op = 10) : pm_tr wd fc op g h t = pm_mm op g h (t + 1) := by
  rcases e with rfl | rfl | rfl <;> rfl
theorem pm_mm_0 {op : Nat} {g h : Nat → Bool} (e : op = 8 ∨ op = 9 ∨ op = 10) : pm_mm op g h 0 = decide (op = 9) := by
  rcases e with rfl | rfl | rfl <;> rfl
theorem pm_mm_c {op n : Nat} {g g' h h' : Nat → Bool} (hg : ∀ j, j < n → g j = g' j ∧ h j = h' j) : pm_mm op g h n = pm_mm op g' h' n := by
  unfold pm_mm
  rw [pm_ex_c n 0 (fun j hj => (hg j (by omega)).1), pm_al_c n 0 (fun j hj => (hg j (by omega)).1)]
  cases n with
  | zero => rfl
  | succ n => rw [Nat.add_sub_cancel, pm_si_c (n + 1) 0 (by omega) (fun j hj => hg j (by omega))]
def pm_LS (g : Nat → Bool) (n : Nat) (x : Int32) : Prop :=
  (x = -1 ∧ ∀ u, u < n → g u = false) ∨ ∃ l, l < n ∧ x = nI l ∧ g l = true ∧ ∀ u, l < u → u < n → g u = false
theorem pm_LS_0 (g : Nat → Bool) : pm_LS g 0 (-1) := Or.inl ⟨rfl, fun u h => absurd h (Nat.not_lt_zero u)⟩
theorem pm_LS_t {g : Nat → Bool} {n : Nat} (h : g n = true) : pm_LS g (n + 1) (nI n) := Or.inr ⟨n, by omega, rfl, h, fun u h1 h2 => by omega⟩
theorem pm_LS_f {g : Nat → Bool} {n : Nat} {x : Int32} (h : g n = false) (I : pm_LS g n x) : pm_LS g (n + 1) x := by
  rcases I with ⟨e, I⟩ | ⟨l, hl, e, hg, I⟩
  · refine Or.inl ⟨e, fun u hu => ?_⟩
    by_cases eu : u = n
    · rw [eu]; exact h
    · exact I u (by omega)
  · refine Or.inr ⟨l, by omega, e, hg, fun u h1 h2 => ?_⟩
    by_cases eu : u = n
    · rw [eu]; exact h
    · exact I u h1 (by omega)
theorem pm_LS_c {g g' : Nat → Bool} {n : Nat} {x : Int32} (h : ∀ j, j < n → g j = g' j) (I : pm_LS g n x) : pm_LS g' n x := by
  rcases I with ⟨e, I⟩ | ⟨l, hl, e, hg, I⟩
  · exact Or.inl ⟨e, fun u hu => by rw [← h u hu]; exact I u hu⟩
  · exact Or.inr ⟨l, hl, e, by rw [← h l hl]; exact hg, fun u h1 h2 => by rw [← h u h2]; exact I u h1 h2⟩
theorem pm_LS_r {A B V : Prop} {g : Nat → Bool} {t wd : Nat} {x : Int32} (ht : t < 1000) (hw : wd < 1000) (hv : V) (I : pm_LS g (t + 1) x)
    (f : pm_ex g (t + 1 - (t - wd)) (t - wd) = false → A) (k : pm_ex g (t + 1 - (t - wd)) (t - wd) = true → B) :
    (x < 0 → A) ∧ (¬ x < 0 → (V ∧ ((nI wd < nI t - x → A) ∧ (¬ nI wd < nI t - x → B)))) := by
  rcases I with ⟨e, I⟩ | ⟨l, hl, e, hg, I⟩
  · subst e
    exact br_t pn_m1 (f (pm_ex_f (fun j h1 h2 => I j (by omega))))
  · subst e
    refine br_f (nI_pos (by omega)) ⟨hv, ?_⟩
    rw [pk_sub (by omega)]
    exact pk_lt wd (t - l) (fun h => f (pm_ex_f (fun j h1 h2 => I j (by omega) (by omega)))) (fun h => k ((pm_ex_iff _ _ _).mpr ⟨l, by omega, by omega, hg⟩))
def pm_Ja (wd : Nat) (fc tk : Nat → Nat) (sz n k : Nat) (v m l : Int32) : Prop :=
  (0 < n → v = pm_b (pm_H wd fc tk sz k (n - 1))) ∧
  (tk k = 8 ∨ tk k = 9 ∨ tk k = 10 → m = pm_b (pm_mm (tk k) (pm_H wd fc tk sz (k + 1)) (pm_H wd fc tk sz (pm_sc tk k)) n)) ∧
  (tk k = 11 → pm_LS (pm_H wd fc tk sz (k + 1)) n l) ∧
  (tk k = 12 → pm_LS (fun t => !(pm_H wd fc tk sz (k + 1) t)) n l)
def pm_JS (wd : Nat) (fc tk : Nat → Nat) (sz n : Nat) (aV aM aL : Nat → Int32) : Prop :=
  ∀ k, k < sz → pm_Ja wd fc tk sz n k (aV k) (aM k) (aL k)
theorem pm_Ja_c {wd : Nat} {fc fc' tk : Nat → Nat} {sz n k : Nat} {v m l : Int32} (hf : ∀ t, t < n → fc t = fc' t) (I : pm_Ja wd fc tk sz n k v m l) : pm_Ja wd fc' tk sz n k v m l := by
  obtain ⟨I1, I2, I3, I4⟩ := I
  refine ⟨fun h => ?_, fun h => ?_, fun h => ?_, fun h => ?_⟩
  · rw [I1 h, pm_H_f hf k (n - 1) (by omega)]
  · rw [I2 h, pm_mm_c (fun j hj => ⟨pm_H_f hf (k + 1) j hj, pm_H_f hf (pm_sc tk k) j hj⟩)]
  · exact pm_LS_c (fun j hj => pm_H_f hf (k + 1) j hj) (I3 h)
  · exact pm_LS_c (fun j hj => by show (!(pm_H wd fc tk sz (k + 1) j)) = _; rw [pm_H_f hf (k + 1) j hj]) (I4 h)
theorem pm_JS_c {wd : Nat} {fc fc' tk : Nat → Nat} {sz n : Nat} {aV aM aL : Nat → Int32} (hf : ∀ t, t < n → fc t = fc' t) (I : pm_JS wd fc tk sz n aV aM aL) : pm_JS wd fc' tk sz n aV aM aL :=
  fun k hk => pm_Ja_c hf (I k hk)
def pm_TA (wd : Nat) (fc tk : Nat → Nat) (sz n : Nat) (aB : Nat → Int64) : Prop :=
  ∀ t, t < n → (aB (t / 64)).toBitVec.getLsbD (t % 64) = pm_H wd fc tk sz 0 t
theorem pm_TA_c {wd : Nat} {fc fc' tk : Nat → Nat} {sz n : Nat} {aB : Nat → Int64} (hf : ∀ t, t < n → fc t = fc' t) (I : pm_TA wd fc tk sz n aB) : pm_TA wd fc' tk sz n aB :=
  fun t ht => (I t ht).trans (pm_H_f hf 0 t ht)
theorem pm_TA_s {wd : Nat} {fc tk : Nat → Nat} {sz n : Nat} {aB : Nat → Int64} {w : Int64} (I : pm_TA wd fc tk sz n aB)
    (hw : ∀ i, i < 64 → w.toBitVec.getLsbD i = if i = n % 64 then pm_H wd fc tk sz 0 n else (aB (n / 64)).toBitVec.getLsbD i) : pm_TA wd fc tk sz (n + 1) (vp_updL aB (n / 64) w) := by
  intro t ht
  by_cases e : t / 64 = n / 64
  · rw [e, pk_uLs, hw (t % 64) (by omega)]
    by_cases e2 : t % 64 = n % 64
    · have e3 : t = n := by omega
      rw [if_pos e2, e3]
    · rw [if_neg e2, ← e]
      exact I t (by omega)
  · rw [pk_uLn e]
    exact I t (by omega)
theorem pm_bit1 {w m : Int64} {j : Nat} (hj : j < 64) (hm : m.toBitVec = BitVec.twoPow 64 j) : ∀ i, i < 64 → (w ||| m).toBitVec.getLsbD i = if i = j then true else w.toBitVec.getLsbD i := by
  intro i hi
  rw [Int64.toBitVec_or, hm, BitVec.getLsbD_or, BitVec.getLsbD_twoPow]
  by_cases e : i = j
  · subst e; simp [hj]
  · have e2 : ¬ j = i := fun z => e z.symm
    simp [e, e2]
theorem pm_bit0 {w m : Int64} {j : Nat} (hj : j < 64) (hm : m.toBitVec = BitVec.twoPow 64 j) : ∀ i, i < 64 → (w &&& (m ^^^ (-1))).toBitVec.getLsbD i = if i = j then false else w.toBitVec.getLsbD i := by
  intro i hi
  have ha : (-1 : Int64).toBitVec = BitVec.allOnes 64 := by decide
  rw [Int64.toBitVec_and, Int64.toBitVec_xor, hm, ha, BitVec.getLsbD_and, BitVec.getLsbD_xor, BitVec.getLsbD_twoPow, BitVec.getLsbD_allOnes]
  by_cases e : i = j
  · subst e; simp [hj]
  · have e2 : ¬ j = i := fun z => e z.symm
    simp [e, e2, hi]
end PMPURE
end
section
section PMXC
variable {wd sz cnt jd : Nat} {xO : Int32} {aT aS aO aN aF : Nat → Int32} {aB : Nat → Int64} {aV aP aM aL sV sM sS : Nat → Int32}
theorem xc_wants {post : Int32 → Prop} {op : Nat} (hop : op ≤ 12) (h : post (nI (pm_w op))) : wpX_wants post (nI op) := by
  unfold wpX_wants
  refine pk_eq op 5 (fun e => ?_) (fun e5 => pk_eq op 6 (fun e => ?_) (fun e6 => pk_eq op 10 (fun e => ?_) (fun e10 => pk_le 4 op (fun e => ?_) (fun e => ?_))))
  · rw [pm_w2 (by omega)] at h; exact h
  · rw [pm_w2 (by omega)] at h; exact h
  · rw [pm_w2 (by omega)] at h; exact h
  · rw [pm_w1 e e5 e6 e10] at h; exact h
  · rw [pm_w0 (by omega)] at h; exact h
theorem xc_32 {post : SX → Prop} {m wm : Nat} (hm : m < 15) (hw : wm ≤ 1) (ew : aN m = nI (wm + 1))
    (h : post (nI wd, nI sz, (if wm = 0 then nI m else nI (m + 1)), nI cnt, nI jd, aT, aS, aO, upd aN m (nI wm), aF, aB, aV, aP, aM, aL, sV, sM, sS)) :
    wX_attach_32 post (nI m) (nI wd) (nI sz) (nI (m + 1)) (nI cnt) (nI jd) aT aS aO aN aF aB aV aP aM aL sV sM sS := by
  have em : (nI m).toNatClampNeg = m := nI_clamp (by omega)
  have hin : vp_in (nI m) 16 := vp_in_nI (by omega) (by omega)
  have ev : vp_nar .byte ((aN m - 1).toInt8.toInt32) = nI wm := by
    rw [ew, nI_pred]
    exact pn_byte wm (by omega)
  unfold wX_attach_32
  rw [em, ev]
  refine ⟨hin, hin, nm_e ⟨hin, ?_⟩⟩
  rw [pk_us]
  rcases (by omega : wm = 0 ∨ wm = 1) with e | e
  · subst e
    rw [if_pos rfl] at h
    exact br_t nI_0 (nm_r (nI_pred m) h)
  · subst e
    rw [if_neg (by decide)] at h
    exact br_f (nI_ne0 (by omega) (by omega)) h
theorem xc_attach {post : SX → Prop} {m om wm k : Nat} (hm : m < 15) (ho : om < 14) (hk : k < 14) (eo : aO m = nI om) (ew : aN m = nI (wm + 1)) (hw : wm ≤ 1)
    (h : post (nI wd, nI sz, (if wm = 0 then nI m else nI (m + 1)), nI cnt, nI jd, aT, (if k = om + 1 then aS else upd aS om (nI k)), aO, upd aN m (nI wm), aF, aB, aV, aP, aM, aL, sV, sM, sS)) :
    wpX_attach post (nI wd, nI sz, nI (m + 1), nI cnt, nI jd, aT, aS, aO, aN, aF, aB, aV, aP, aM, aL, sV, sM, sS) (nI k) := by
  have em : (nI m).toNatClampNeg = m := nI_clamp (by omega)
  have eom : (nI om).toNatClampNeg = om := nI_clamp (by omega)
  have hin : vp_in (nI m) 16 := vp_in_nI (by omega) (by omega)
  unfold wpX_attach
  dsimp only
  refine nm_r (nI_pred m) ?_
  rw [em, eo, eom, nI_1]
  refine ⟨hin, pk_eq k (om + 1) (fun e => ?_) (fun e => ⟨hin, vp_in_nI ho (by omega), nm_r (by rw [pn_byte k (by omega)]) ?_⟩)⟩
  · rw [if_pos e] at h
    exact xc_32 hm hw ew h
  · rw [if_neg e] at h
    exact xc_32 hm hw ew h
theorem xc_27 {post : Int32 → SX → Prop} {n k c op : Nat} (hk : k < 14) (hc : c < 16) (et : aT k = nI op) (hop : op ≤ 12)
    (h0 : pm_w op = 0 → wX_complete_7 post n (nI (k + 1)) (nI wd) (nI sz) (nI c) (nI cnt) (nI jd) aT aS aO aN aF aB aV aP aM aL sV sM sS)
    (h1 : pm_w op ≠ 0 → wX_complete_7 post n (nI (k + 1)) (nI wd) (nI sz) (nI (c + 1)) (nI cnt) (nI jd) aT aS (upd aO c (nI k)) (upd aN c (nI (pm_w op))) aF aB aV aP aM aL sV sM sS) :
    wX_complete_27 post (wX_complete_7 post n) (nI k) (nI wd) (nI sz) (nI c) (nI cnt) (nI jd) aT aS aO aN aF aB aV aP aM aL sV sM sS := by
  have ek : (nI k).toNatClampNeg = k := nI_clamp (by omega)
  have ec : (nI c).toNatClampNeg = c := nI_clamp (by omega)
  have hcin : vp_in (nI c) 16 := vp_in_nI (by omega) (by omega)
  have hw := pm_w_le op
  unfold wX_complete_27
  rw [ek, ec, et, pn_byte k (by omega), nI_1 k, nI_1 c]
  refine ⟨vp_in_nI hk (by omega), xc_wants hop ?_⟩
  refine pk_le (pm_w op) 0 (fun e => nm_e (h0 (by omega))) (fun e => ⟨hcin, nm_e ⟨hcin, ?_⟩⟩)
  refine nm_r (by rw [pn_byte (pm_w op) (by omega)]) (nm_e (nm_e (h1 (by omega))))
def pm_OI (tk : Nat → Nat) (k c : Nat) (o w : Nat → Nat) : Prop :=
  c ≤ k ∧ (c = 0 → k = 0 ∨ pm_pend tk k = 0) ∧ (0 < c → pm_pend tk k + 1 = c + w (c - 1)) ∧
  ∀ i, i < c → o i < k ∧ pm_pend tk (o i) = i + 1 ∧ 1 ≤ w i ∧ w i ≤ 2 ∧ (w i = 2 → i + 1 = c ∧ k = o i + 1) ∧ (w i = 1 → pm_w (tk (o i)) = 2 → o i + 1 < k) ∧ ∀ j, o i < j → j < k → i + 1 < pm_pend tk j
def pm_OM (tk : Nat → Nat) (k c : Nat) (o w : Nat → Nat) : Prop :=
  c ≤ k ∧ pm_pend tk k = c + 1 ∧ ∀ i, i < c → o i < k ∧ pm_pend tk (o i) = i + 1 ∧ w i = 1 ∧ ∀ j, o i < j → j ≤ k → i + 1 < pm_pend tk j
def pm_SD (tk : Nat → Nat) (k c : Nat) (o : Nat → Nat) (aS : Nat → Int32) : Prop :=
  ∀ j, j < k → pm_w (tk j) = 2 → (∃ i, i < c ∧ o i = j) ∨ aS j = nI (pm_sc tk j)
def pm_AR (c : Nat) (o w : Nat → Nat) (aO aN : Nat → Int32) : Prop := ∀ i, i < c → aO i = nI (o i) ∧ aN i = nI (w i)
theorem pm_OM_0 (tk : Nat → Nat) (o w : Nat → Nat) : pm_OM tk 0 0 o w := ⟨Nat.le_refl 0, rfl, fun i h => absurd h (Nat.not_lt_zero i)⟩
theorem pm_att {tk : Nat → Nat} {k m : Nat} {o w : Nat → Nat} (hk : k < 14) (I : pm_OI tk k (m + 1) o w) (D : pm_SD tk k (m + 1) o aS) (R : pm_AR (m + 1) o w aO aN) :
    ∃ wm, w m = wm + 1 ∧ wm ≤ 1 ∧ ∃ c' w', (if wm = 0 then nI m else nI (m + 1)) = nI c' ∧ c' ≤ m + 1 ∧ pm_OM tk k c' o w' ∧ pm_SD tk k c' o (if k = o m + 1 then aS else upd aS (o m) (nI k)) ∧ pm_AR c' o w' aO (upd aN m (nI wm)) := by
  obtain ⟨I1, I2, I3, I4⟩ := I
  have I3 := I3 (by omega)
  rw [Nat.add_sub_cancel] at I3
  obtain ⟨a1, a2, a3, a4, a5, a6, a7⟩ := I4 m (by omega)
  rcases (by omega : w m = 1 ∨ w m = 2) with e | e
  · refine ⟨0, e, by omega, m, w, if_pos rfl, by omega, ⟨by omega, by omega, fun i hi => ?_⟩, ?_, ?_⟩
    · obtain ⟨b1, b2, b3, b4, b5, b6, b7⟩ := I4 i (by omega)
      refine ⟨b1, b2, ?_, fun j h1 h2 => ?_⟩
      · by_cases e2 : w i = 2
        · have := b5 e2; omega
        · omega
      · by_cases ej : j = k
        · rw [ej]; omega
        · exact b7 j h1 (by omega)
    · intro j hj hw
      by_cases ej : j = o m
      · refine Or.inr ?_
        have h2 := a6 e (by rw [← ej]; exact hw)
        rw [if_neg (by omega), ej, pk_us]
        refine congrArg nI (Eq.symm (pm_sc_F ⟨by omega, by omega, fun i h3 h4 => ?_⟩ (by omega)))
        have := a7 i (by omega) h4
        omega
      · rcases D j hj hw with ⟨i, hi, ei⟩ | h
        · refine Or.inl ⟨i, ?_, ei⟩
          by_cases eim : i = m
          · rw [eim] at ei; exact absurd ei.symm ej
          · omega
        · refine Or.inr ?_
          split
          · exact h
          · rw [pk_un ej]; exact h
    · intro i hi
      rw [pk_un (by omega)]
      exact R i (by omega)
  · have a5 := a5 e
    refine ⟨1, e, by omega, m + 1, fun i => if i = m then 1 else w i, if_neg (by omega), by omega, ⟨by omega, by omega, fun i hi => ?_⟩, ?_, ?_⟩
    · obtain ⟨b1, b2, b3, b4, b5, b6, b7⟩ := I4 i (by omega)
      refine ⟨b1, b2, ?_, fun j h1 h2 => ?_⟩
      · by_cases ei : i = m
        · exact if_pos ei
        · show (if i = m then 1 else w i) = 1
          rw [if_neg ei]
          by_cases e2 : w i = 2
          · have := b5 e2; omega
          · omega
      · by_cases ej : j = k
        · rw [ej]; omega
        · exact b7 j h1 (by omega)
    · rw [if_pos a5.2]
      exact D
    · intro i hi
      by_cases ei : i = m
      · refine ⟨(R i hi).1, ?_⟩
        show upd aN m (nI 1) i = nI (if i = m then 1 else w i)
        rw [if_pos ei, ei, pk_us]
      · refine ⟨(R i hi).1, ?_⟩
        show upd aN m (nI 1) i = nI (if i = m then 1 else w i)
        rw [if_neg ei, pk_un ei]
        exact (R i hi).2
theorem pm_push0 {tk : Nat → Nat} {k c : Nat} {o w : Nat → Nat} (h0 : pm_w (tk k) = 0) (I : pm_OM tk k c o w) (D : pm_SD tk k c o aS) : pm_OI tk (k + 1) c o w ∧ pm_SD tk (k + 1) c o aS := by
  obtain ⟨I1, I2, I3⟩ := I
  have hp := pm_pend_s tk k
  refine ⟨⟨by omega, fun e => Or.inr (by omega), fun h => ?_, fun i hi => ?_⟩, fun j hj hw => ?_⟩
  · have := (I3 (c - 1) (by omega)).2.2.1
    omega
  · obtain ⟨b1, b2, b3, b4⟩ := I3 i hi
    exact ⟨by omega, b2, by omega, by omega, fun h => by omega, fun _ _ => by omega, fun j h1 h2 => b4 j h1 (by omega)⟩
  · by_cases ej : j = k
    · rw [ej] at hw; omega
    · exact D j (by omega) hw
theorem pm_push1 {tk : Nat → Nat} {k c : Nat} {o w : Nat → Nat} (h0 : pm_w (tk k) ≠ 0) (I : pm_OM tk k c o w) (D : pm_SD tk k c o aS) (R : pm_AR c o w aO aN) :
    ∃ o' w', pm_OI tk (k + 1) (c + 1) o' w' ∧ pm_SD tk (k + 1) (c + 1) o' aS ∧ pm_AR (c + 1) o' w' (upd aO c (nI k)) (upd aN c (nI (pm_w (tk k)))) := by
  obtain ⟨I1, I2, I3⟩ := I
  have hp := pm_pend_s tk k
  have hl := pm_w_le (tk k)
  have ho : ∀ i, i < c → (fun i => if i = c then k else o i) i = o i := fun i hi => if_neg (by omega)
  have hw : ∀ i, i < c → (fun i => if i = c then pm_w (tk k) else w i) i = w i := fun i hi => if_neg (by omega)
  have hoc : (fun i => if i = c then k else o i) c = k := if_pos rfl
  have hwc : (fun i => if i = c then pm_w (tk k) else w i) c = pm_w (tk k) := if_pos rfl
  refine ⟨fun i => if i = c then k else o i, fun i => if i = c then pm_w (tk k) else w i, ?_, ?_, ?_⟩
  · generalize (fun i => if i = c then k else o i) = o' at ho hoc ⊢
    generalize (fun i => if i = c then pm_w (tk k) else w i) = w' at hw hwc ⊢
    refine ⟨by omega, fun e => by omega, fun h => ?_, fun i hi => ?_⟩
    · rw [Nat.add_sub_cancel, hwc]; omega
    · by_cases ei : i = c
      · rw [ei, hoc, hwc]
        exact ⟨by omega, by omega, by omega, hl, fun _ => ⟨rfl, rfl⟩, fun h1 h2 => by omega, fun j h1 h2 => by omega⟩
      · have hi' : i < c := by omega
        rw [ho i hi', hw i hi']
        obtain ⟨b1, b2, b3, b4⟩ := I3 i hi'
        exact ⟨by omega, b2, by omega, by omega, fun h => by omega, fun _ _ => by omega, fun j h1 h2 => b4 j h1 (by omega)⟩
  · intro j hj h2
    by_cases ej : j = k
    · exact Or.inl ⟨c, by omega, hoc.trans ej.symm⟩
    · rcases D j (by omega) h2 with ⟨i, hi, e⟩ | h
      · exact Or.inl ⟨i, by omega, (ho i hi).trans e⟩
      · exact Or.inr h
  · intro i hi
    by_cases ei : i = c
    · rw [ei, pk_us, pk_us]
      exact ⟨congrArg nI hoc.symm, congrArg nI hwc.symm⟩
    · have hi' : i < c := by omega
      rw [pk_un ei, pk_un ei]
      exact ⟨(R i hi').1.trans (congrArg nI (ho i hi').symm), (R i hi').2.trans (congrArg nI (hw i hi').symm)⟩
def pm_SR (tk : Nat → Nat) (sz : Nat) (aS : Nat → Int32) : Prop := ∀ j, j < sz → pm_w (tk j) = 2 → aS j = nI (pm_sc tk j)
def pm_TK (tk : Nat → Nat) (aT : Nat → Int32) : Prop := ∀ k, tk k ≤ 12 ∧ aT k = nI (tk k)
theorem xc_mid {post : Int32 → SX → Prop} {tk : Nat → Nat} {n k c : Nat} {o w : Nat → Nat} (hT : pm_TK tk aT) (hk : k < 14) (I : pm_OM tk k c o w) (D : pm_SD tk k c o aS) (R : pm_AR c o w aO aN)
    (K : ∀ (c : Nat) (o w : Nat → Nat) (aS aO aN : Nat → Int32), pm_OI tk (k + 1) c o w → pm_SD tk (k + 1) c o aS → pm_AR c o w aO aN → wX_complete_7 post n (nI (k + 1)) (nI wd) (nI sz) (nI c) (nI cnt) (nI jd) aT aS aO aN aF aB aV aP aM aL sV sM sS) :
    wX_complete_27 post (wX_complete_7 post n) (nI k) (nI wd) (nI sz) (nI c) (nI cnt) (nI jd) aT aS aO aN aF aB aV aP aM aL sV sM sS := by
  have hc := I.1
  refine xc_27 hk (by omega) (hT k).2 (hT k).1 (fun h0 => ?_) (fun h1 => ?_)
  · have h := pm_push0 h0 I D
    exact K c o w aS aO aN h.1 h.2 R
  · obtain ⟨o', w', h1, h2, h3⟩ := pm_push1 h1 I D R
    exact K (c + 1) o' w' aS _ _ h1 h2 h3
theorem xc_loop {post : Int32 → SX → Prop} {tk : Nat → Nat} (hT : pm_TK tk aT) (hz : sz ≤ 14) (hok : pm_ok tk sz)
    (Q : ∀ (xO : Int32) (aS aO aN : Nat → Int32), (pm_pend tk sz = 0 → pm_SR tk sz aS) → post (pm_b (decide (pm_pend tk sz = 0))) (nI wd, nI sz, xO, nI cnt, nI jd, aT, aS, aO, aN, aF, aB, aV, aP, aM, aL, sV, sM, sS)) :
    ∀ d k c (o w : Nat → Nat) (aS aO aN : Nat → Int32), k + d = sz → pm_OI tk k c o w → pm_SD tk k c o aS → pm_AR c o w aO aN → ∀ n, d < n → wX_complete_7 post n (nI k) (nI wd) (nI sz) (nI c) (nI cnt) (nI jd) aT aS aO aN aF aB aV aP aM aL sV sM sS := by
  intro d
  induction d with
  | zero =>
    intro k c o w aS aO aN hd I D R n hn
    obtain ⟨n, rfl⟩ : ∃ m, n = m + 1 := ⟨n - 1, by omega⟩
    have ek : k = sz := by omega
    subst ek
    have hq := Q (nI c) aS aO aN
    obtain ⟨I1, I2, I3, I4⟩ := I
    rw [wX_complete_7]
    refine br_t (nI_le (Nat.le_refl k) (by omega)) (pk_le k 0 (fun e => ?_) (fun e => pk_eq c 0 (fun e2 => ?_) (fun e2 => ?_)))
    · have e0 : k = 0 := by omega
      have hp : ¬ pm_pend tk k = 0 := by rw [e0, pm_pend_0]; omega
      rw [decide_eq_false hp] at hq
      exact hq (fun h => absurd h hp)
    · have hp : pm_pend tk k = 0 := by
        rcases I2 e2 with h | h
        · omega
        · exact h
      rw [decide_eq_true hp] at hq
      refine hq (fun _ j hj hw => ?_)
      rcases D j hj hw with ⟨i, hi, _⟩ | h
      · omega
      · exact h
    · have hp : ¬ pm_pend tk k = 0 := by
        have h1 := I3 (by omega)
        have h2 := (I4 (c - 1) (by omega)).2.2.1
        omega
      rw [decide_eq_false hp] at hq
      exact hq (fun h => absurd h hp)
  | succ d ih =>
    intro k c o w aS aO aN hd I D R n hn
    obtain ⟨n, rfl⟩ : ∃ m, n = m + 1 := ⟨n - 1, by omega⟩
    rw [wX_complete_7]
    have hp := hok k (by omega)
    have K : ∀ (c : Nat) (o w : Nat → Nat) (aS aO aN : Nat → Int32), pm_OI tk (k + 1) c o w → pm_SD tk (k + 1) c o aS → pm_AR c o w aO aN → wX_complete_7 post n (nI (k + 1)) (nI wd) (nI sz) (nI c) (nI cnt) (nI jd) aT aS aO aN aF aB aV aP aM aL sV sM sS :=
      fun c o w aS aO aN I D R => ih (k + 1) c o w aS aO aN (by omega) I D R n (by omega)
    have hck := I.1
    refine br_f (nI_ge (by omega) (by omega)) (pk_le c 0 (fun e => ?_) (fun e => ?_))
    · have ec : c = 0 := by omega
      subst ec
      have ek : k = 0 := by
        rcases I.2.1 rfl with h | h
        · exact h
        · omega
      subst ek
      exact xc_mid hT (by omega) (pm_OM_0 tk o w) D R K
    · obtain ⟨m, rfl⟩ : ∃ m, c = m + 1 := ⟨c - 1, by omega⟩
      obtain ⟨wm, h1, h2, c', w', h3, h4, h5, h6, h7⟩ := pm_att (by omega) I D R
      have ho := (I.2.2.2 m (by omega)).1
      refine xc_attach (om := o m) (wm := wm) (by omega) (by omega) (by omega) (R m (by omega)).1 (by rw [(R m (by omega)).2, h1]) h2 ?_
      rw [h3]
      dsimp only
      exact xc_mid hT (by omega) h5 h6 h7 K
theorem xc_complete {post : Int32 → SX → Prop} {tk : Nat → Nat} (hT : pm_TK tk aT) (hz : sz ≤ 14) (hok : pm_ok tk sz)
    (Q : ∀ (xO : Int32) (aS aO aN : Nat → Int32), (pm_pend tk sz = 0 → pm_SR tk sz aS) → post (pm_b (decide (pm_pend tk sz = 0))) (nI wd, nI sz, xO, nI cnt, nI jd, aT, aS, aO, aN, aF, aB, aV, aP, aM, aL, sV, sM, sS)) :
    wpX_complete post (nI wd, nI sz, xO, nI cnt, nI jd, aT, aS, aO, aN, aF, aB, aV, aP, aM, aL, sV, sM, sS) := by
  unfold wpX_complete
  dsimp only
  refine ⟨sz + 1, ?_⟩
  exact xc_loop hT hz hok Q sz 0 0 (fun _ => 0) (fun _ => 0) aS aO aN (by omega) ⟨Nat.le_refl 0, fun _ => Or.inl rfl, fun h => absurd h (Nat.lt_irrefl 0), fun i h => absurd h (Nat.not_lt_zero i)⟩ (fun j h => absurd h (Nat.not_lt_zero j)) (fun i h => absurd h (Nat.not_lt_zero i)) (sz + 1) (by omega)
end PMXC
end
section
section PMXP
variable {wd sz cnt jd : Nat} {xO : Int32} {aT aS aO aN aF : Nat → Int32} {aB : Nat → Int64} {aV aP aM aL sV sM sS : Nat → Int32}
theorem pm_bor (x y : Bool) : pm_b x ||| pm_b y = pm_b (x || y) := by cases x <;> cases y <;> decide
theorem pm_band (x y : Bool) : pm_b x &&& pm_b y = pm_b (x && y) := by cases x <;> cases y <;> decide
theorem pm_vn0 : vp_nar .boolean 0 = pm_b false := by decide
theorem pm_vn1 : vp_nar .boolean 1 = pm_b true := by decide
theorem xb_loop {post : SX → Prop} {tk : Nat → Nat} (hT : pm_TK tk aT)
    (Q : ∀ (aV aM aL : Nat → Int32), (∀ j, j < 14 → aM j = pm_b (decide (tk j = 9)) ∧ aL j = -1) → post (nI wd, nI sz, xO, nI cnt, nI jd, aT, aS, aO, aN, aF, aB, aV, aP, aM, aL, sV, sM, sS)) :
    ∀ d k (aV aM aL : Nat → Int32), k + d = 14 → (∀ j, j < k → aM j = pm_b (decide (tk j = 9)) ∧ aL j = -1) → ∀ n, d < n → wX_begin_2 post (nI wd) (nI sz) xO (nI cnt) (nI jd) n (nI k) aT aS aO aN aF aB aV aP aM aL sV sM sS := by
  intro d
  induction d with
  | zero =>
    intro k aV aM aL hd h n hn
    obtain ⟨n, rfl⟩ : ∃ m, n = m + 1 := ⟨n - 1, by omega⟩
    rw [wX_begin_2]
    exact pk_le 14 k (fun _ => Q aV aM aL (fun j hj => h j (by omega))) (fun e => absurd e (by omega))
  | succ d ih =>
    intro k aV aM aL hd h n hn
    obtain ⟨n, rfl⟩ : ∃ m, n = m + 1 := ⟨n - 1, by omega⟩
    have ek : (nI k).toNatClampNeg = k := nI_clamp (by omega)
    have hin : vp_in (nI k) 14 := vp_in_nI (by omega) (by omega)
    have hk12 := (hT k).1
    have hn' : ∀ b : Bool, decide (tk k = 9) = b → ∀ j, j < k + 1 → upd aM k (pm_b b) j = pm_b (decide (tk j = 9)) ∧ upd aL k (-1) j = -1 := by
      intro b hb j hj
      by_cases e : j = k
      · rw [e, pk_us, pk_us, hb]; exact ⟨rfl, rfl⟩
      · rw [pk_un e, pk_un e]; exact h j (by omega)
    rw [wX_begin_2]
    refine pk_le 14 k (fun e => absurd e (by omega)) (fun _ => ⟨hin, nm_e ⟨hin, ?_⟩⟩)
    rw [ek, (hT k).2]
    refine pk_eq (tk k) 9 (fun e => ?_) (fun e => ?_)
    · unfold wX_begin_36
      rw [ek, pn_shortm, pm_vn1]
      exact ⟨hin, nm_e ⟨hin, nm_e (nm_r (nI_1 k) (ih (k + 1) _ _ _ (by omega) (hn' true (decide_eq_true e)) n (by omega)))⟩⟩
    · unfold wX_begin_36
      rw [ek, pn_shortm, pm_vn0]
      exact ⟨hin, nm_e ⟨hin, nm_e (nm_r (nI_1 k) (ih (k + 1) _ _ _ (by omega) (hn' false (decide_eq_false e)) n (by omega)))⟩⟩
theorem xb_begin {post : SX → Prop} {tk fc : Nat → Nat} (hT : pm_TK tk aT) (hz : sz ≤ 14)
    (Q : ∀ (aV aM aL : Nat → Int32), pm_JS wd fc tk sz 0 aV aM aL → post (nI wd, nI sz, xO, nI cnt, nI jd, aT, aS, aO, aN, aF, aB, aV, aP, aM, aL, sV, sM, sS)) : wpX_begin post (nI wd, nI sz, xO, nI cnt, nI jd, aT, aS, aO, aN, aF, aB, aV, aP, aM, aL, sV, sM, sS) := by
  unfold wpX_begin
  dsimp only
  refine ⟨15, xb_loop hT (fun aV aM aL h => Q aV aM aL (fun k hk => ?_)) 14 0 aV aM aL (by omega) (fun j hj => absurd hj (Nat.not_lt_zero j)) 15 (by omega)⟩
  obtain ⟨h1, h2⟩ := h k (by omega)
  refine ⟨fun z => absurd z (Nat.lt_irrefl 0), fun e => ?_, fun _ => ?_, fun _ => ?_⟩
  · rw [h1, pm_mm_0 e]
  · rw [h2]; exact pm_LS_0 _
  · rw [h2]; exact pm_LS_0 _
theorem xr_46 {post : Int32 → SX → Prop} {g : Nat → Bool} {k t op : Nat} (hk : k < 14) (ht : t ≤ 200) (hw : wd ≤ 12) (hop : op = 11 ∨ op = 12) (I : pm_LS g (t + 1) (aL k))
    (h11 : op = 11 → post (pm_b (pm_ex g (t + 1 - (t - wd)) (t - wd))) (nI wd, nI sz, xO, nI cnt, nI jd, aT, aS, aO, aN, aF, aB, aV, aP, aM, aL, sV, sM, sS)) (h12 : op = 12 → post (pm_b (!(pm_ex g (t + 1 - (t - wd)) (t - wd)))) (nI wd, nI sz, xO, nI cnt, nI jd, aT, aS, aO, aN, aF, aB, aV, aP, aM, aL, sV, sM, sS)) :
    wX_remembering_46 post (nI k) (nI t) (nI op) (nI wd) (nI sz) xO (nI cnt) (nI jd) aT aS aO aN aF aB aV aP aM aL sV sM sS := by
  have ek : (nI k).toNatClampNeg = k := nI_clamp (by omega)
  have hin : vp_in (nI k) 14 := vp_in_nI (by omega) (by omega)
  unfold wX_remembering_46
  rw [ek]
  refine ⟨hin, pm_LS_r (by omega) (by omega) hin I (fun e => ?_) (fun e => ?_)⟩
  · rw [e] at h11 h12
    unfold wX_remembering_74 wX_remembering_75 wX_remembering_91
    exact pk_eq op 11 (fun e2 => br_f (by decide) (h11 e2)) (fun e2 => br_t rfl (h12 (by omega)))
  · rw [e] at h11 h12
    unfold wX_remembering_75 wX_remembering_91
    exact pk_eq op 11 (fun e2 => br_t rfl (h11 e2)) (fun e2 => br_f (by decide) (h12 (by omega)))
theorem xr_35 {post : Int32 → SX → Prop} {y f : Bool} {k t : Nat} {x4 : Int32} (hk : k < 14) (ht : t ≤ 200)
    (h1 : f = y → wX_remembering_46 post (nI k) (nI t) x4 (nI wd) (nI sz) xO (nI cnt) (nI jd) aT aS aO aN aF aB aV aP aM (upd aL k (nI t)) sV sM sS) (h2 : f ≠ y → wX_remembering_46 post (nI k) (nI t) x4 (nI wd) (nI sz) xO (nI cnt) (nI jd) aT aS aO aN aF aB aV aP aM aL sV sM sS) :
    wX_remembering_35 post (nI k) (nI t) x4 (pm_b y) (pm_b f) (nI wd) (nI sz) xO (nI cnt) (nI jd) aT aS aO aN aF aB aV aP aM aL sV sM sS := by
  have ek : (nI k).toNatClampNeg = k := nI_clamp (by omega)
  have hin : vp_in (nI k) 14 := vp_in_nI (by omega) (by omega)
  unfold wX_remembering_35
  rw [ek, pn_short t (by omega)]
  by_cases e : f = y
  · exact br_t (by rw [e]) ⟨hin, nm_e (h1 e)⟩
  · refine br_f ?_ (h2 e)
    cases f <;> cases y <;> first | exact absurd rfl e | decide
theorem xr_172 {post : Int32 → SX → Prop} {k : Nat} (hk : k < 14) (h : post (pm_b true) (nI wd, nI sz, xO, nI cnt, nI jd, aT, aS, aO, aN, aF, aB, aV, aP, upd aM k (pm_b true), aL, sV, sM, sS)) : wX_remembering_172 post (nI k) (nI k) (nI wd) (nI sz) xO (nI cnt) (nI jd) aT aS aO aN aF aB aV aP aM aL sV sM sS := by
  have ek : (nI k).toNatClampNeg = k := nI_clamp (by omega)
  have hin : vp_in (nI k) 14 := vp_in_nI (by omega) (by omega)
  unfold wX_remembering_172
  rw [ek, pm_vn1]
  refine ⟨hin, nm_e ⟨hin, ?_⟩⟩
  rw [pk_us]
  exact ⟨pm_bn true, h⟩
theorem xr_rem {post : Int32 → SX → Prop} {tk fc : Nat → Nat} {k t : Nat} {v0 : Int32} (hT : pm_TK tk aT) (hS : pm_SR tk sz aS) (hc : pm_cp tk sz) (hz : sz ≤ 14) (hk : k < sz) (ht : t ≤ 200) (hw : wd ≤ 12) (hop : 8 ≤ tk k)
    (v2 : pm_w (tk k) = 2 → aV (pm_sc tk k) = pm_b (pm_H wd fc tk sz (pm_sc tk k) t)) (J : pm_Ja wd fc tk sz t k v0 (aM k) (aL k))
    (Q : ∀ (aM' aL' : Nat → Int32), (∀ j, j ≠ k → aM' j = aM j ∧ aL' j = aL j) → pm_Ja wd fc tk sz (t + 1) k (pm_b (pm_H wd fc tk sz k t)) (aM' k) (aL' k) → post (pm_b (pm_H wd fc tk sz k t)) (nI wd, nI sz, xO, nI cnt, nI jd, aT, aS, aO, aN, aF, aB, aV, aP, aM', aL', sV, sM, sS)) :
    wpX_remembering post (nI wd, nI sz, xO, nI cnt, nI jd, aT, aS, aO, aN, aF, aB, aV, aP, aM, aL, sV, sM, sS) (nI k) (pm_b (pm_H wd fc tk sz (k + 1) t)) (nI t) := by
  have hk14 : k < 14 := by omega
  have ek : (nI k).toNatClampNeg = k := nI_clamp (by omega)
  have hin : vp_in (nI k) 14 := vp_in_nI (by omega) (by omega)
  have hop2 := (hT k).1
  have hH : pm_H wd fc tk sz k t = pm_tr wd fc (tk k) (pm_H wd fc tk sz (k + 1)) (pm_H wd fc tk sz (pm_sc tk k)) t := pm_H_s hk t
  have QM : (tk k = 8 ∨ tk k = 9 ∨ tk k = 10) → ∀ b, pm_mm (tk k) (pm_H wd fc tk sz (k + 1)) (pm_H wd fc tk sz (pm_sc tk k)) (t + 1) = b → post (pm_b b) (nI wd, nI sz, xO, nI cnt, nI jd, aT, aS, aO, aN, aF, aB, aV, aP, upd aM k (pm_b b), aL, sV, sM, sS) := by
    intro e b hb
    have hb2 : pm_H wd fc tk sz k t = b := by rw [hH, pm_mm_tr e, hb]
    rw [← hb2]
    rw [← hb2] at hb
    refine Q _ aL (fun j hj => ⟨pk_un hj, rfl⟩) ⟨fun _ => rfl, fun _ => ?_, fun h => by omega, fun h => by omega⟩
    rw [pk_us, hb]
  have QL : ∀ aL' : Nat → Int32, (∀ j, j ≠ k → aL' j = aL j) → (tk k = 11 ∨ tk k = 12) → (tk k = 11 → pm_LS (pm_H wd fc tk sz (k + 1)) (t + 1) (aL' k)) → (tk k = 12 → pm_LS (fun u => !(pm_H wd fc tk sz (k + 1) u)) (t + 1) (aL' k)) → post (pm_b (pm_H wd fc tk sz k t)) (nI wd, nI sz, xO, nI cnt, nI jd, aT, aS, aO, aN, aF, aB, aV, aP, aM, aL', sV, sM, sS) :=
    fun aL' h e h1 h2 => Q aM aL' (fun j hj => ⟨rfl, h j hj⟩) ⟨fun _ => rfl, fun h => by omega, h1, h2⟩
  have fin : ∀ b : Bool, post (pm_b b) (nI wd, nI sz, xO, nI cnt, nI jd, aT, aS, aO, aN, aF, aB, aV, aP, upd aM k (pm_b b), aL, sV, sM, sS) → vp_in (nI k) 14 ∧ (narrow .boolean (.int (upd aM k (pm_b b) k)) = .int (upd aM k (pm_b b) k) ∧ post (upd aM k (pm_b b) k) (nI wd, nI sz, xO, nI cnt, nI jd, aT, aS, aO, aN, aF, aB, aV, aP, upd aM k (pm_b b), aL, sV, sM, sS)) := by
    intro b h
    rw [pk_us]
    exact ⟨hin, pm_bn b, h⟩
  obtain ⟨_, J2, J3, J4⟩ := J
  unfold wpX_remembering
  dsimp only
  rw [ek, (hT k).2]
  refine ⟨hin, nm_e ?_⟩
  refine pk_eq (tk k) 11 (fun e11 => ?_) (fun e11 => pk_eq (tk k) 12 (fun e12 => ?_) (fun e12 => pk_eq (tk k) 8 (fun e8 => ?_) (fun e8 => pk_eq (tk k) 9 (fun e9 => ?_) (fun e9 => ?_))))
  · unfold wX_remembering_22
    refine pk_eq (tk k) 11 (fun _ => ?_) (fun h => absurd e11 h)
    have h11 : pm_H wd fc tk sz k t = pm_ex (pm_H wd fc tk sz (k + 1)) (t + 1 - (t - wd)) (t - wd) := by rw [hH, e11]; rfl
    refine xr_35 (y := true) (f := pm_H wd fc tk sz (k + 1) t) hk14 ht (fun e => ?_) (fun e => ?_)
    · have L : pm_LS (pm_H wd fc tk sz (k + 1)) (t + 1) (upd aL k (nI t) k) := by rw [pk_us]; exact pm_LS_t e
      refine xr_46 hk14 ht hw (Or.inl e11) L (fun _ => ?_) (fun h => by omega)
      rw [← h11]
      exact QL _ (fun j hj => pk_un hj) (Or.inl e11) (fun _ => L) (fun h => by omega)
    · have L : pm_LS (pm_H wd fc tk sz (k + 1)) (t + 1) (aL k) := pm_LS_f (ts_nt e) (J3 e11)
      refine xr_46 hk14 ht hw (Or.inl e11) L (fun _ => ?_) (fun h => by omega)
      rw [← h11]
      exact QL _ (fun j hj => rfl) (Or.inl e11) (fun _ => L) (fun h => by omega)
  · unfold wX_remembering_22
    refine pk_eq (tk k) 11 (fun h => absurd h e11) (fun _ => ?_)
    have h12 : pm_H wd fc tk sz k t = !(pm_ex (fun u => !(pm_H wd fc tk sz (k + 1) u)) (t + 1 - (t - wd)) (t - wd)) := by rw [hH, e12, pm_tr12, pm_al_n]
    refine xr_35 (y := false) (f := pm_H wd fc tk sz (k + 1) t) hk14 ht (fun e => ?_) (fun e => ?_)
    · have L : pm_LS (fun u => !(pm_H wd fc tk sz (k + 1) u)) (t + 1) (upd aL k (nI t) k) := by
        rw [pk_us]
        refine pm_LS_t ?_
        show (!(pm_H wd fc tk sz (k + 1) t)) = true
        rw [e]; rfl
      refine xr_46 hk14 ht hw (Or.inr e12) L (fun h => by omega) (fun _ => ?_)
      rw [← h12]
      exact QL _ (fun j hj => pk_un hj) (Or.inr e12) (fun h => by omega) (fun _ => L)
    · have L : pm_LS (fun u => !(pm_H wd fc tk sz (k + 1) u)) (t + 1) (aL k) := by
        refine pm_LS_f ?_ (J4 e12)
        show (!(pm_H wd fc tk sz (k + 1) t)) = false
        rw [ts_nf e]; rfl
      refine xr_46 hk14 ht hw (Or.inr e12) L (fun h => by omega) (fun _ => ?_)
      rw [← h12]
      exact QL _ (fun j hj => rfl) (Or.inr e12) (fun h => by omega) (fun _ => L)
  · have h := QM (Or.inl e8) _ rfl
    have J2 := J2 (Or.inl e8)
    rw [e8, pm_mm8] at h
    rw [e8] at J2
    rw [J2, pm_bor, pm_bv]
    exact ⟨hin, hin, nm_e (fin _ h)⟩
  · have h := QM (Or.inr (Or.inl e9)) _ rfl
    have J2 := J2 (Or.inr (Or.inl e9))
    rw [e9, pm_mm9] at h
    rw [e9] at J2
    rw [J2, pm_band, pm_bv]
    exact ⟨hin, hin, nm_e (fin _ h)⟩
  · have e10 : tk k = 10 := by omega
    have h := QM (Or.inr (Or.inr e10)) _ rfl
    have J2 := J2 (Or.inr (Or.inr e10))
    have hw2 : pm_w (tk k) = 2 := pm_w2 (Or.inr (Or.inr e10))
    have hsz := (pm_cp_2 hc hz hk hw2).2
    rw [e10, pm_mm10] at h
    rw [e10] at J2
    have esc : (nI (pm_sc tk k)).toNatClampNeg = pm_sc tk k := nI_clamp (by omega)
    rw [hS k hk hw2, esc, pm_vn0]
    refine ⟨hin, vp_in_nI (by omega) (by omega), pm_br _ (v2 hw2) (fun ea => pm_br _ rfl (fun eb => ?_) (fun eb => ⟨hin, pm_br _ J2 (fun ec => ?_) (fun ec => ?_)⟩)) (fun ea => ?_)⟩
    · rw [ea, eb] at h
      exact ⟨hin, nm_e (fin _ h)⟩
    · rw [ea, eb, ec] at h
      exact ⟨hin, nm_e (fin _ h)⟩
    · rw [ea, eb, ec] at h
      exact xr_172 hk14 h
    · rw [ea] at h
      exact xr_172 hk14 h
theorem xp_partAt {post : Int32 → SX → Prop} {tk fc : Nat → Nat} {k t : Nat} {v0 : Int32} (hT : pm_TK tk aT) (hS : pm_SR tk sz aS) (hc : pm_cp tk sz) (hz : sz ≤ 14) (hk : k < sz) (ht : t ≤ 200) (hw : wd ≤ 12) (hf : fc t ≤ 15)
    (v1 : 4 ≤ tk k → aV (k + 1) = pm_b (pm_H wd fc tk sz (k + 1) t)) (v2 : pm_w (tk k) = 2 → aV (pm_sc tk k) = pm_b (pm_H wd fc tk sz (pm_sc tk k) t))
    (pb : 0 < t → 4 ≤ tk k → aP (k + 1) = pm_b (pm_H wd fc tk sz (k + 1) (t - 1))) (J : pm_Ja wd fc tk sz t k v0 (aM k) (aL k))
    (Q : ∀ (aM' aL' : Nat → Int32), (∀ j, j ≠ k → aM' j = aM j ∧ aL' j = aL j) → pm_Ja wd fc tk sz (t + 1) k (pm_b (pm_H wd fc tk sz k t)) (aM' k) (aL' k) → post (pm_b (pm_H wd fc tk sz k t)) (nI wd, nI sz, xO, nI cnt, nI jd, aT, aS, aO, aN, aF, aB, aV, aP, aM', aL', sV, sM, sS)) :
    wpX_partAt post (nI wd, nI sz, xO, nI cnt, nI jd, aT, aS, aO, aN, aF, aB, aV, aP, aM, aL, sV, sM, sS) (nI k) (nI (fc t)) (nI t) := by
  have hk14 : k < 14 := by omega
  have ek : (nI k).toNatClampNeg = k := nI_clamp (by omega)
  have ek1 : (nI (k + 1)).toNatClampNeg = k + 1 := nI_clamp (by omega)
  have hin : vp_in (nI k) 14 := vp_in_nI (by omega) (by omega)
  have hop2 := (hT k).1
  have hH : pm_H wd fc tk sz k t = pm_tr wd fc (tk k) (pm_H wd fc tk sz (k + 1)) (pm_H wd fc tk sz (pm_sc tk k)) t := pm_H_s hk t
  have QS : tk k ≤ 7 → post (pm_b (pm_H wd fc tk sz k t)) (nI wd, nI sz, xO, nI cnt, nI jd, aT, aS, aO, aN, aF, aB, aV, aP, aM, aL, sV, sM, sS) := fun e => Q aM aL (fun _ _ => ⟨rfl, rfl⟩) ⟨fun _ => rfl, fun h => by omega, fun h => by omega, fun h => by omega⟩
  unfold wpX_partAt
  dsimp only
  rw [ek, (hT k).2, nI_1 k, ek1]
  refine ⟨hin, nm_e (pk_le 4 (tk k) (fun h4 => ?_) (fun h4 => ?_))⟩
  · have v1 := v1 h4
    have hk1 := pm_cp_1 hc hk h4
    have hin1 : vp_in (nI (k + 1)) 14 := vp_in_nI (by omega) (by omega)
    rw [v1]
    refine ⟨hin1, nm_e (pk_lt (tk k) 4 (fun h => absurd h (by omega)) (fun _ => pk_lt 7 (tk k) (fun h8 => ?_) (fun h7 => ?_)))⟩
    · exact xr_rem hT hS hc hz hk ht hw (by omega) v2 J (fun aM' aL' h1 h2 => ⟨pm_bn _, Q aM' aL' h1 h2⟩)
    · have h := QS (by omega)
      rw [hH] at h
      refine pk_eq (tk k) 4 (fun e => ?_) (fun e4 => pk_eq (tk k) 5 (fun e => ?_) (fun e5 => pk_eq (tk k) 6 (fun e => ?_) (fun e6 => pk_eq (tk k) 7 (fun e => ?_) (fun e7 => trivial))))
      · rw [e, pm_tr4] at h
        exact pm_br _ rfl (fun ea => by rw [ea] at h; exact h) (fun ea => by rw [ea] at h; exact h)
      · have hw2 : pm_w (tk k) = 2 := pm_w2 (by omega)
        have hsz := (pm_cp_2 hc hz hk hw2).2
        have esc : (nI (pm_sc tk k)).toNatClampNeg = pm_sc tk k := nI_clamp (by omega)
        rw [e, pm_tr5] at h
        rw [hS k hk hw2, esc]
        exact pm_br _ rfl (fun ea => by rw [ea] at h; exact h) (fun ea => ⟨hin, vp_in_nI (by omega) (by omega), pm_br _ (v2 hw2) (fun eb => by rw [ea, eb] at h; exact h) (fun eb => by rw [ea, eb] at h; exact h)⟩)
      · have hw2 : pm_w (tk k) = 2 := pm_w2 (by omega)
        have hsz := (pm_cp_2 hc hz hk hw2).2
        have esc : (nI (pm_sc tk k)).toNatClampNeg = pm_sc tk k := nI_clamp (by omega)
        rw [e, pm_tr6] at h
        rw [hS k hk hw2, esc]
        exact pm_br _ rfl (fun ea => ⟨hin, vp_in_nI (by omega) (by omega), pm_br _ (v2 hw2) (fun eb => by rw [ea, eb] at h; exact h) (fun eb => by rw [ea, eb] at h; exact h)⟩) (fun ea => by rw [ea] at h; exact h)
      · rw [e, pm_tr7] at h
        refine pk_le t 0 (fun e0 => ?_) (fun e0 => ⟨hin1, pm_br _ (pb (by omega) h4) (fun ea => ?_) (fun ea => ?_)⟩)
        · rw [decide_eq_false (by omega)] at h; exact h
        · rw [ea, decide_eq_true (by omega)] at h; exact h
        · rw [ea, decide_eq_true (by omega)] at h; exact h
  · have h := QS (by omega)
    rw [hH, pm_tr3 (by omega)] at h
    exact pm_br ((fc t).testBit (tk k)) (pn_bit _ (by omega) _ (by omega)) (fun ea => by rw [ea] at h; exact h) (fun ea => by rw [ea] at h; exact h)
end PMXP
end
section
section PMXS
variable {wd sz cnt jd : Nat} {xO : Int32} {aT aS aO aN aF : Nat → Int32} {aB : Nat → Int64} {aV aP aM aL sV sM sS : Nat → Int32}
theorem xs_35 {post : Int32 → SX → Prop} {tk fc : Nat → Nat} {t : Nat} (hT : pm_TK tk aT) (hS : pm_SR tk sz aS) (hc : pm_cp tk sz) (hz : sz ≤ 14) (ht : t ≤ 200) (hw : wd ≤ 12) (hf : fc t ≤ 15)
    (hP : 0 < t → ∀ j, j < sz → aP j = pm_b (pm_H wd fc tk sz j (t - 1)))
    (Q : ∀ (aV aM aL : Nat → Int32), pm_JS wd fc tk sz (t + 1) aV aM aL → post (pm_b (pm_H wd fc tk sz 0 t)) (nI wd, nI sz, xO, nI cnt, nI jd, aT, aS, aO, aN, aF, aB, aV, aP, aM, aL, sV, sM, sS)) :
    ∀ k (aV aM aL : Nat → Int32), k ≤ sz → (∀ j, k ≤ j → j < sz → pm_Ja wd fc tk sz (t + 1) j (aV j) (aM j) (aL j)) → (∀ j, j < k → pm_Ja wd fc tk sz t j (aV j) (aM j) (aL j)) →
    ∀ n, k < n → wX_step_35 post (nI (fc t)) (nI t) n (nI k - 1) (nI wd) (nI sz) xO (nI cnt) (nI jd) aT aS aO aN aF aB aV aP aM aL sV sM sS := by
  intro k
  induction k with
  | zero =>
    intro aV aM aL hk A B n hn
    obtain ⟨n, rfl⟩ : ∃ m, n = m + 1 := ⟨n - 1, by omega⟩
    have e0 : aV 0 = pm_b (pm_H wd fc tk sz 0 t) := (A 0 (Nat.le_refl 0) (pm_cp_pos hc)).1 (by omega)
    rw [wX_step_35]
    refine br_t pn_01 ?_
    rw [e0]
    exact ⟨pm_bn _, Q aV aM aL (fun j hj => A j (by omega) hj)⟩
  | succ k ih =>
    intro aV aM aL hk A B n hn
    obtain ⟨n, rfl⟩ : ∃ m, n = m + 1 := ⟨n - 1, by omega⟩
    have ek : (nI k).toNatClampNeg = k := nI_clamp (by omega)
    have hin : vp_in (nI k) 14 := vp_in_nI (by omega) (by omega)
    rw [wX_step_35, nI_pred]
    refine br_f (nI_pos (by omega)) ?_
    refine xp_partAt hT hS hc hz (by omega) ht hw hf (fun h4 => (A (k + 1) (by omega) (pm_cp_1 hc (by omega) h4)).1 (by omega)) (fun h2 => ?_) (fun h0 h4 => hP h0 (k + 1) (pm_cp_1 hc (by omega) h4)) (B k (by omega)) ?_
    · have h := (pm_cp_2 hc hz (by omega) h2).2
      have h3 := pm_sc_gt tk k
      exact (A (pm_sc tk k) (by omega) h).1 (by omega)
    · intro aM' aL' h1 h2
      dsimp only
      rw [ek, pm_bv, pn_neg]
      refine ⟨hin, nm_e (nm_e (ih (upd aV k (pm_b (pm_H wd fc tk sz k t))) aM' aL' (by omega) (fun j hj hj2 => ?_) (fun j hj => ?_) n (by omega)))⟩
      · by_cases e : j = k
        · rw [e, pk_us]; exact h2
        · rw [pk_un e, (h1 j e).1, (h1 j e).2]; exact A j (by omega) hj2
      · have e : j ≠ k := by omega
        rw [pk_un e, (h1 j e).1, (h1 j e).2]; exact B j (by omega)
theorem xs_2 {post : Int32 → SX → Prop} {x1 x2 : Int32} (hz : sz ≤ 14) (K : ∀ (aP : Nat → Int32), (∀ j, j < sz → aP j = vp_nar .boolean (aV j)) → ∃ n, wX_step_35 post x1 x2 n (nI sz - 1) (nI wd) (nI sz) xO (nI cnt) (nI jd) aT aS aO aN aF aB aV aP aM aL sV sM sS) :
    ∀ d k (aP : Nat → Int32), k + d = sz → (∀ j, j < k → aP j = vp_nar .boolean (aV j)) → ∀ n, d < n → wX_step_2 post x1 x2 (nI wd) (nI sz) xO (nI cnt) (nI jd) n (nI k) aT aS aO aN aF aB aV aP aM aL sV sM sS := by
  intro d
  induction d with
  | zero =>
    intro k aP hd h n hn
    obtain ⟨n, rfl⟩ : ∃ m, n = m + 1 := ⟨n - 1, by omega⟩
    rw [wX_step_2]
    exact pk_le sz k (fun _ => nm_e (K aP (fun j hj => h j (by omega)))) (fun e => absurd e (by omega))
  | succ d ih =>
    intro k aP hd h n hn
    obtain ⟨n, rfl⟩ : ∃ m, n = m + 1 := ⟨n - 1, by omega⟩
    have ek : (nI k).toNatClampNeg = k := nI_clamp (by omega)
    have hin : vp_in (nI k) 14 := vp_in_nI (by omega) (by omega)
    rw [wX_step_2]
    refine pk_le sz k (fun e => absurd e (by omega)) (fun _ => ?_)
    rw [ek]
    refine ⟨hin, hin, nm_e (nm_r (nI_1 k) (ih (k + 1) _ (by omega) (fun j hj => ?_) n (by omega)))⟩
    by_cases e : j = k
    · rw [e, pk_us]
    · rw [pk_un e]; exact h j (by omega)
theorem xs_step {post : Int32 → SX → Prop} {tk fc : Nat → Nat} {t : Nat} (hT : pm_TK tk aT) (hS : pm_SR tk sz aS) (hc : pm_cp tk sz) (hz : sz ≤ 14) (ht : t ≤ 200) (hw : wd ≤ 12) (hf : fc t ≤ 15)
    (J : pm_JS wd fc tk sz t aV aM aL)
    (Q : ∀ (aV aP aM aL : Nat → Int32), pm_JS wd fc tk sz (t + 1) aV aM aL → post (pm_b (pm_H wd fc tk sz 0 t)) (nI wd, nI sz, xO, nI cnt, nI jd, aT, aS, aO, aN, aF, aB, aV, aP, aM, aL, sV, sM, sS)) :
    wpX_step post (nI wd, nI sz, xO, nI cnt, nI jd, aT, aS, aO, aN, aF, aB, aV, aP, aM, aL, sV, sM, sS) (nI (fc t)) (nI t) := by
  unfold wpX_step
  dsimp only
  refine ⟨sz + 1, xs_2 hz (fun aP hP => ⟨sz + 1, ?_⟩) sz 0 aP (by omega) (fun j hj => absurd hj (Nat.not_lt_zero j)) (sz + 1) (by omega)⟩
  refine xs_35 hT hS hc hz ht hw hf (fun h0 j hj => ?_) (fun aV aM aL J => Q aV aP aM aL J) sz aV aM aL (Nat.le_refl sz) (fun j h1 h2 => absurd h2 (by omega)) (fun j hj => J j hj) (sz + 1) (by omega)
  rw [hP j hj, (J j hj).1 h0, pm_bv]
theorem xj_20 {post : Int32 → SX → Prop} {tk fc : Nat → Nat} (hT : pm_TK tk aT) (hS : pm_SR tk sz aS) (hc : pm_cp tk sz) (hz : sz ≤ 14) (hw : wd ≤ 12) (hcnt : cnt ≤ 200) (hF : ∀ t, t < cnt → fc t ≤ 15 ∧ aF t = nI (fc t))
    (Q : ∀ (aB : Nat → Int64) (aV aP aM aL : Nat → Int32), pm_JS wd fc tk sz cnt aV aM aL → pm_TA wd fc tk sz cnt aB → post 1 (nI wd, nI sz, xO, nI cnt, nI cnt, aT, aS, aO, aN, aF, aB, aV, aP, aM, aL, sV, sM, sS)) :
    ∀ d jd (aB : Nat → Int64) (aV aP aM aL : Nat → Int32), jd + d = cnt → pm_JS wd fc tk sz jd aV aM aL → pm_TA wd fc tk sz jd aB → ∀ n, d < n → wX_judge_20 post n (nI wd) (nI sz) xO (nI cnt) (nI jd) aT aS aO aN aF aB aV aP aM aL sV sM sS := by
  intro d
  induction d with
  | zero =>
    intro jd aB aV aP aM aL hd J A n hn
    obtain ⟨n, rfl⟩ : ∃ m, n = m + 1 := ⟨n - 1, by omega⟩
    have ej : jd = cnt := by omega
    subst ej
    rw [wX_judge_20]
    exact pk_le jd jd (fun _ => Q aB aV aP aM aL J A) (fun e => absurd e (by omega))
  | succ d ih =>
    intro jd aB aV aP aM aL hd J A n hn
    obtain ⟨n, rfl⟩ : ∃ m, n = m + 1 := ⟨n - 1, by omega⟩
    have ej : (nI jd).toNatClampNeg = jd := nI_clamp (by omega)
    have ej6 : (nI (jd / 64)).toNatClampNeg = jd / 64 := nI_clamp (by omega)
    have hin4 : vp_in (nI (jd / 64)) 4 := vp_in_nI (by omega) (by omega)
    have hp := pn_pow (jd % 64) (by omega)
    rw [wX_judge_20]
    refine pk_le cnt jd (fun e => absurd e (by omega)) (fun _ => ?_)
    rw [ej, (hF jd (by omega)).2]
    refine ⟨vp_in_nI (by omega) (by omega), xs_step hT hS hc hz (by omega) hw (hF jd (by omega)).1 J (fun aV aP aM aL J' => ?_)⟩
    dsimp only
    rw [pn_and63 (t := jd) (by omega), pn_shr6 (t := jd) (by omega)]
    refine nm_e (nm_e ?_)
    rw [ej6]
    refine pm_br _ rfl (fun e => ⟨hin4, ?_⟩) (fun e => ⟨hin4, ?_⟩)
    · unfold wX_judge_103
      rw [ej6]
      refine ⟨hin4, nm_e (nm_r (nI_1 jd) (ih (jd + 1) _ aV aP aM aL (by omega) J' (pm_TA_s A (fun i hi => ?_)) n (by omega)))⟩
      rw [e, pm_bit0 (by omega) hp i hi]
    · unfold wX_judge_103
      rw [ej6]
      refine ⟨hin4, nm_e (nm_r (nI_1 jd) (ih (jd + 1) _ aV aP aM aL (by omega) J' (pm_TA_s A (fun i hi => ?_)) n (by omega)))⟩
      rw [e, pm_bit1 (by omega) hp i hi]
def pm_RX (wd sz cnt jd : Nat) (tk fc : Nat → Nat) (aT aF : Nat → Int32) (aB : Nat → Int64) (aV aM aL : Nat → Int32) : Prop :=
  wd ≤ 12 ∧ sz ≤ 14 ∧ cnt ≤ 200 ∧ jd ≤ cnt ∧ pm_TK tk aT ∧ pm_ok tk sz ∧ (∀ t, t < cnt → fc t ≤ 15 ∧ aF t = nI (fc t)) ∧
  (pm_pend tk sz = 0 → 0 < jd → pm_JS wd fc tk sz jd aV aM aL ∧ pm_TA wd fc tk sz jd aB)
theorem pm_TA_0 {wd : Nat} {fc tk : Nat → Nat} {sz : Nat} {aB : Nat → Int64} : pm_TA wd fc tk sz 0 aB := fun t ht => absurd ht (Nat.not_lt_zero t)
theorem xj_judge {post : Int32 → SX → Prop} {tk fc : Nat → Nat} (R : pm_RX wd sz cnt jd tk fc aT aF aB aV aM aL)
    (Q0 : ¬ pm_pend tk sz = 0 → ∀ (xO : Int32) (aS aO aN : Nat → Int32), post 0 (nI wd, nI sz, xO, nI cnt, nI jd, aT, aS, aO, aN, aF, aB, aV, aP, aM, aL, sV, sM, sS))
    (Q1 : pm_cp tk sz → ∀ (xO : Int32) (aS aO aN : Nat → Int32) (aB : Nat → Int64) (aV aP aM aL : Nat → Int32), pm_SR tk sz aS → pm_JS wd fc tk sz cnt aV aM aL → pm_TA wd fc tk sz cnt aB → post 1 (nI wd, nI sz, xO, nI cnt, nI cnt, aT, aS, aO, aN, aF, aB, aV, aP, aM, aL, sV, sM, sS)) :
    wpX_judge post (nI wd, nI sz, xO, nI cnt, nI jd, aT, aS, aO, aN, aF, aB, aV, aP, aM, aL, sV, sM, sS) := by
  obtain ⟨hw, hz, hcnt, hjd, hT, hok, hF, hJ⟩ := R
  unfold wpX_judge
  dsimp only
  refine xc_complete hT hz hok (fun xO aS aO aN hS => ?_)
  dsimp only
  by_cases hp : pm_pend tk sz = 0
  · rw [decide_eq_true hp]
    have hc : pm_cp tk sz := ⟨hok, hp⟩
    refine br_f pm_b10 (pk_eq jd 0 (fun e => ?_) (fun e => ?_))
    · subst e
      refine xb_begin (fc := fc) hT hz (fun aV aM aL J => ⟨cnt + 1, ?_⟩)
      exact xj_20 hT (hS hp) hc hz hw hcnt hF (fun aB aV aP aM aL J A => Q1 hc xO aS aO aN aB aV aP aM aL (hS hp) J A) cnt 0 aB aV aP aM aL (by omega) J pm_TA_0 (cnt + 1) (by omega)
    · obtain ⟨J, A⟩ := hJ hp (by omega)
      refine ⟨cnt + 1, ?_⟩
      exact xj_20 hT (hS hp) hc hz hw hcnt hF (fun aB aV aP aM aL J A => Q1 hc xO aS aO aN aB aV aP aM aL (hS hp) J A) (cnt - jd) jd aB aV aP aM aL (by omega) J A (cnt + 1) (by omega)
  · rw [decide_eq_false hp]
    exact br_t rfl (Q0 hp xO aS aO aN)
theorem xt_was {post : Int32 → Prop} {tk fc : Nat → Nat} {t n : Nat} (ht : t < n) (hn : n ≤ 200) (A : pm_TA wd fc tk sz n aB) (h : post (pm_b (pm_H wd fc tk sz 0 t))) : wpX_wasTrue post (nI wd, nI sz, xO, nI cnt, nI jd, aT, aS, aO, aN, aF, aB, aV, aP, aM, aL, sV, sM, sS) (nI t) := by
  unfold wpX_wasTrue
  dsimp only
  have et : (nI (t / 64)).toNatClampNeg = t / 64 := nI_clamp (by omega)
  have hA := A t ht
  rw [pn_shr6 (t := t) (by omega), pn_and63 (t := t) (by omega), et, wb_cu (t % 64) (by omega)]
  refine ⟨vp_in_nI (by omega) (by omega), ?_⟩
  have hb := ts_bit (w := aB (t / 64)) (s := UInt64.ofNat (t % 64)) (j := t % 64) (by omega) (u_tn (by omega))
  rw [hA] at hb
  cases e : pm_H wd fc tk sz 0 t with
  | false => rw [e] at h hb; exact br_t (hb.mpr rfl) h
  | true => rw [e] at h hb; exact br_f (fun z => absurd (hb.mp z) (by decide)) h
theorem pm_Ja_n {wd : Nat} {fc tk : Nat → Nat} {sz n k : Nat} {v m l : Int32} (hn : n ≤ 200) (I : pm_Ja wd fc tk sz n k v m l) :
    pm_Ja wd fc tk sz n k (vp_nar .boolean (vp_nar .boolean v)) (vp_nar .boolean (vp_nar .boolean m)) (vp_nar .short (vp_nar .short l)) := by
  obtain ⟨I1, I2, I3, I4⟩ := I
  have hl : ∀ g : Nat → Bool, pm_LS g n l → pm_LS g n (vp_nar .short (vp_nar .short l)) := by
    intro g h
    have e : vp_nar .short l = l := by
      rcases h with ⟨e, _⟩ | ⟨j, hj, e, _⟩
      · rw [e, pn_shortm]
      · rw [e, pn_short2 j (by omega)]
    rw [e, e]
    exact h
  refine ⟨fun h => ?_, fun h => ?_, fun h => hl _ (I3 h), fun h => hl _ (I4 h)⟩
  · rw [I1 h, pm_bv, pm_bv]
  · rw [I2 h, pm_bv, pm_bv]
theorem xi_62 {post : Int32 → SX → Prop} {b : Bool}
    (Q : ∀ (aV aM aL : Nat → Int32), (∀ j, j < 14 → aV j = vp_nar .boolean (sV j) ∧ aM j = vp_nar .boolean (sM j) ∧ aL j = vp_nar .short (sS j)) → post (pm_b b) (nI wd, nI sz, xO, nI cnt, nI jd, aT, aS, aO, aN, aF, aB, aV, aP, aM, aL, sV, sM, sS)) :
    ∀ d k (aV aM aL : Nat → Int32), k + d = 14 → (∀ j, j < k → aV j = vp_nar .boolean (sV j) ∧ aM j = vp_nar .boolean (sM j) ∧ aL j = vp_nar .short (sS j)) → ∀ n, d < n → wX_imagine_62 post (pm_b b) (nI wd) (nI sz) xO (nI cnt) (nI jd) n (nI k) aT aS aO aN aF aB aV aP aM aL sV sM sS := by
  intro d
  induction d with
  | zero =>
    intro k aV aM aL hd h n hn
    obtain ⟨n, rfl⟩ : ∃ m, n = m + 1 := ⟨n - 1, by omega⟩
    rw [wX_imagine_62]
    exact pk_le 14 k (fun _ => ⟨pm_bn b, Q aV aM aL (fun j hj => h j (by omega))⟩) (fun e => absurd e (by omega))
  | succ d ih =>
    intro k aV aM aL hd h n hn
    obtain ⟨n, rfl⟩ : ∃ m, n = m + 1 := ⟨n - 1, by omega⟩
    have ek : (nI k).toNatClampNeg = k := nI_clamp (by omega)
    have hin : vp_in (nI k) 14 := vp_in_nI (by omega) (by omega)
    rw [wX_imagine_62]
    refine pk_le 14 k (fun e => absurd e (by omega)) (fun _ => ?_)
    rw [ek]
    refine ⟨hin, hin, nm_e ⟨hin, hin, nm_e ⟨hin, hin, nm_e (nm_r (nI_1 k) (ih (k + 1) _ _ _ (by omega) (fun j hj => ?_) n (by omega)))⟩⟩⟩
    by_cases e : j = k
    · rw [e, pk_us, pk_us, pk_us]; exact ⟨rfl, rfl, rfl⟩
    · rw [pk_un e, pk_un e, pk_un e]; exact h j (by omega)
theorem xi_2 {post : Int32 → SX → Prop} {tk fc : Nat → Nat} (hT : pm_TK tk aT) (hS : pm_SR tk sz aS) (hc : pm_cp tk sz) (hz : sz ≤ 14) (hcnt : cnt ≤ 200) (hw : wd ≤ 12) (hf : fc cnt ≤ 15)
    (J : pm_JS wd fc tk sz cnt aV aM aL)
    (Q : ∀ (aV aP aM aL sV sM sS : Nat → Int32), pm_JS wd fc tk sz cnt aV aM aL → post (pm_b (pm_H wd fc tk sz 0 cnt)) (nI wd, nI sz, xO, nI cnt, nI jd, aT, aS, aO, aN, aF, aB, aV, aP, aM, aL, sV, sM, sS)) :
    ∀ d k (sV sM sS : Nat → Int32), k + d = 14 → (∀ j, j < k → sV j = vp_nar .boolean (aV j) ∧ sM j = vp_nar .boolean (aM j) ∧ sS j = vp_nar .short (aL j)) → ∀ n, d < n → wX_imagine_2 post (nI (fc cnt)) (nI wd) (nI sz) xO (nI cnt) (nI jd) n (nI k) aT aS aO aN aF aB aV aP aM aL sV sM sS := by
  intro d
  induction d with
  | zero =>
    intro k sV sM sS hd h n hn
    obtain ⟨n, rfl⟩ : ∃ m, n = m + 1 := ⟨n - 1, by omega⟩
    rw [wX_imagine_2]
    refine pk_le 14 k (fun _ => ?_) (fun e => absurd e (by omega))
    refine xs_step hT hS hc hz hcnt hw hf J (fun aV' aP' aM' aL' _ => ?_)
    dsimp only
    refine ⟨15, xi_62 (fun aV2 aM2 aL2 h2 => Q aV2 aP' aM2 aL2 sV sM sS (fun j hj => ?_)) 14 0 aV' aM' aL' (by omega) (fun j hj => absurd hj (Nat.not_lt_zero j)) 15 (by omega)⟩
    obtain ⟨p1, p2, p3⟩ := h j (by omega)
    obtain ⟨q1, q2, q3⟩ := h2 j (by omega)
    rw [q1, q2, q3, p1, p2, p3]
    exact pm_Ja_n hcnt (J j hj)
  | succ d ih =>
    intro k sV sM sS hd h n hn
    obtain ⟨n, rfl⟩ : ∃ m, n = m + 1 := ⟨n - 1, by omega⟩
    have ek : (nI k).toNatClampNeg = k := nI_clamp (by omega)
    have hin : vp_in (nI k) 14 := vp_in_nI (by omega) (by omega)
    rw [wX_imagine_2]
    refine pk_le 14 k (fun e => absurd e (by omega)) (fun _ => ?_)
    rw [ek]
    refine ⟨hin, hin, nm_e ⟨hin, hin, nm_e ⟨hin, hin, nm_e (nm_r (nI_1 k) (ih (k + 1) _ _ _ (by omega) (fun j hj => ?_) n (by omega)))⟩⟩⟩
    by_cases e : j = k
    · rw [e, pk_us, pk_us, pk_us]; exact ⟨rfl, rfl, rfl⟩
    · rw [pk_un e, pk_un e, pk_un e]; exact h j (by omega)
theorem xi_imagine {post : Int32 → SX → Prop} {tk fc : Nat → Nat} (hT : pm_TK tk aT) (hS : pm_SR tk sz aS) (hc : pm_cp tk sz) (hz : sz ≤ 14) (hcnt : cnt ≤ 200) (hw : wd ≤ 12) (hf : fc cnt ≤ 15)
    (J : pm_JS wd fc tk sz cnt aV aM aL)
    (Q : ∀ (aV aP aM aL sV sM sS : Nat → Int32), pm_JS wd fc tk sz cnt aV aM aL → post (pm_b (pm_H wd fc tk sz 0 cnt)) (nI wd, nI sz, xO, nI cnt, nI jd, aT, aS, aO, aN, aF, aB, aV, aP, aM, aL, sV, sM, sS)) :
    wpX_imagine post (nI wd, nI sz, xO, nI cnt, nI jd, aT, aS, aO, aN, aF, aB, aV, aP, aM, aL, sV, sM, sS) (nI (fc cnt)) := by
  unfold wpX_imagine
  dsimp only
  exact ⟨15, xi_2 hT hS hc hz hcnt hw hf J Q 14 0 sV sM sS (by omega) (fun j hj => absurd hj (Nat.not_lt_zero j)) 15 (by omega)⟩
end PMXS
end
section
section PMXQ
variable {wd sz cnt jd : Nat} {xO : Int32} {aT aS aO aN aF : Nat → Int32} {aB : Nat → Int64} {aV aP aM aL sV sM sS : Nat → Int32}
def pm_cn (h : Nat → Bool) : Nat → Nat → Nat
  | 0, _ => 0
  | d + 1, u => (if h u = true then 1 else 0) + pm_cn h d (u + 1)
theorem pm_cn_s (h : Nat → Bool) (d u : Nat) : pm_cn h (d + 1) u = (if h u = true then 1 else 0) + pm_cn h d (u + 1) := rfl
def pm_vi (h : Nat → Bool) : Nat → Nat → Int32
  | 0, _ => -1
  | d + 1, u => if h u = true then pm_vi h d (u + 1) else nI u
theorem pm_vi_s (h : Nat → Bool) (d u : Nat) : pm_vi h (d + 1) u = if h u = true then pm_vi h d (u + 1) else nI u := rfl
def pm_sk (h : Nat → Bool) (c : Nat) : Nat → Nat → Int32
  | 0, x => nI x
  | d + 1, x => if h (c - 1 - x) = true then pm_sk h c d (x + 1) else nI x
theorem pm_sk_s (h : Nat → Bool) (c d x : Nat) : pm_sk h c (d + 1) x = if h (c - 1 - x) = true then pm_sk h c d (x + 1) else nI x := rfl
def pm_fu (fc : Nat → Nat) (n f : Nat) : Nat → Nat := fun t => if t = n then f else fc t
theorem pm_fu_lt {fc : Nat → Nat} {n f t : Nat} (h : t < n) : fc t = pm_fu fc n f t := (if_neg (by omega)).symm
theorem pm_fu_at {fc : Nat → Nat} {n f : Nat} : pm_fu fc n f n = f := if_pos rfl
theorem pm_RX_j {tk fc : Nat → Nat} (R : pm_RX wd sz cnt jd tk fc aT aF aB aV aM aL) {aB' : Nat → Int64} {aV' aM' aL' : Nat → Int32} (J : pm_JS wd fc tk sz cnt aV' aM' aL') (A : pm_TA wd fc tk sz cnt aB') : pm_RX wd sz cnt cnt tk fc aT aF aB' aV' aM' aL' := by
  obtain ⟨hw, hz, hcnt, hjd, hT, hok, hF, hJ⟩ := R
  exact ⟨hw, hz, hcnt, Nat.le_refl cnt, hT, hok, hF, fun _ _ => ⟨J, A⟩⟩
theorem xq_at {post : Int32 → SX → Prop} {tk fc : Nat → Nat} {t : Nat} (ht : t < cnt) (R : pm_RX wd sz cnt jd tk fc aT aF aB aV aM aL)
    (Q : ∀ (jd : Nat) (xO : Int32) (aS aO aN : Nat → Int32) (aB : Nat → Int64) (aV aP aM aL : Nat → Int32), pm_RX wd sz cnt jd tk fc aT aF aB aV aM aL → post (pm_b (decide (pm_pend tk sz = 0) && pm_H wd fc tk sz 0 t)) (nI wd, nI sz, xO, nI cnt, nI jd, aT, aS, aO, aN, aF, aB, aV, aP, aM, aL, sV, sM, sS)) :
    wpX_at post (nI wd, nI sz, xO, nI cnt, nI jd, aT, aS, aO, aN, aF, aB, aV, aP, aM, aL, sV, sM, sS) (nI t) := by
  have hcnt := R.2.2.1
  unfold wpX_at
  dsimp only
  refine br_f (nI_pos (by omega)) (br_f (nI_ge ht (by omega)) ?_)
  refine xj_judge R (fun hp xO aS aO aN => ?_) (fun hc xO aS aO aN aB aV aP aM aL hS J A => ?_)
  · dsimp only
    have h := Q jd xO aS aO aN aB aV aP aM aL R
    rw [decide_eq_false hp] at h
    exact br_t rfl h
  · dsimp only
    have h := Q cnt xO aS aO aN aB aV aP aM aL (pm_RX_j R J A)
    rw [decide_eq_true hc.2, Bool.true_and] at h
    refine br_f pm_b10 (xt_was ht hcnt A ?_)
    exact pm_br _ rfl (fun e => by rw [e] at h; exact h) (fun e => by rw [e] at h; exact h)
theorem xq_c13 {post : Int32 → SX → Prop} {tk fc : Nat → Nat} (hcnt : cnt ≤ 200) (A : pm_TA wd fc tk sz cnt aB) :
    ∀ d u a, u + d = cnt → post (nI (a + pm_cn (pm_H wd fc tk sz 0) d u)) (nI wd, nI sz, xO, nI cnt, nI jd, aT, aS, aO, aN, aF, aB, aV, aP, aM, aL, sV, sM, sS) → ∀ n, d < n → wX_count_13 post (nI wd) (nI sz) xO (nI cnt) (nI jd) aT aS aO aN aF aB aV aP aM aL sV sM sS n (nI a) (nI u) := by
  intro d
  induction d with
  | zero =>
    intro u a hd h n hn
    obtain ⟨n, rfl⟩ : ∃ m, n = m + 1 := ⟨n - 1, by omega⟩
    rw [wX_count_13]
    exact pk_le cnt u (fun _ => h) (fun e => absurd e (by omega))
  | succ d ih =>
    intro u a hd h n hn
    obtain ⟨n, rfl⟩ : ∃ m, n = m + 1 := ⟨n - 1, by omega⟩
    rw [wX_count_13]
    refine pk_le cnt u (fun e => absurd e (by omega)) (fun _ => xt_was (n := cnt) (by omega) hcnt A ?_)
    rw [pm_cn_s] at h
    refine pm_br _ rfl (fun e => ?_) (fun e => ?_)
    · rw [e, if_neg (by decide), Nat.zero_add] at h
      exact nm_r (Int32.add_zero _) (nm_r (nI_1 u) (ih (u + 1) a (by omega) h n (by omega)))
    · rw [e, if_pos rfl, ← Nat.add_assoc] at h
      exact nm_r (nI_1 a) (nm_r (nI_1 u) (ih (u + 1) (a + 1) (by omega) h n (by omega)))
theorem xq_count {post : Int32 → SX → Prop} {tk fc : Nat → Nat} (R : pm_RX wd sz cnt jd tk fc aT aF aB aV aM aL)
    (Q : ∀ (jd : Nat) (xO : Int32) (aS aO aN : Nat → Int32) (aB : Nat → Int64) (aV aP aM aL : Nat → Int32), pm_RX wd sz cnt jd tk fc aT aF aB aV aM aL → post (if pm_pend tk sz = 0 then nI (pm_cn (pm_H wd fc tk sz 0) cnt 0) else -1) (nI wd, nI sz, xO, nI cnt, nI jd, aT, aS, aO, aN, aF, aB, aV, aP, aM, aL, sV, sM, sS)) :
    wpX_count post (nI wd, nI sz, xO, nI cnt, nI jd, aT, aS, aO, aN, aF, aB, aV, aP, aM, aL, sV, sM, sS) := by
  have hcnt := R.2.2.1
  unfold wpX_count
  dsimp only
  refine xj_judge R (fun hp xO aS aO aN => ?_) (fun hc xO aS aO aN aB aV aP aM aL hS J A => ?_)
  · dsimp only
    have h := Q jd xO aS aO aN aB aV aP aM aL R
    rw [if_neg hp] at h
    exact br_t rfl h
  · dsimp only
    have h := Q cnt xO aS aO aN aB aV aP aM aL (pm_RX_j R J A)
    rw [if_pos hc.2] at h
    refine br_f pm_b10 ⟨cnt + 1, xq_c13 hcnt A cnt 0 0 (by omega) ?_ (cnt + 1) (by omega)⟩
    rw [Nat.zero_add]
    exact h
theorem xq_v15 {post : Int32 → SX → Prop} {tk fc : Nat → Nat} (hcnt : cnt ≤ 200) (A : pm_TA wd fc tk sz cnt aB) :
    ∀ d u, d = cnt - u → u < 2 ^ 31 → post (pm_vi (pm_H wd fc tk sz 0) d u) (nI wd, nI sz, xO, nI cnt, nI jd, aT, aS, aO, aN, aF, aB, aV, aP, aM, aL, sV, sM, sS) → ∀ n, d < n → wX_violation_15 post (nI wd) (nI sz) xO (nI cnt) (nI jd) aT aS aO aN aF aB aV aP aM aL sV sM sS n (nI u) := by
  intro d
  induction d with
  | zero =>
    intro u hd hu h n hn
    obtain ⟨n, rfl⟩ : ∃ m, n = m + 1 := ⟨n - 1, by omega⟩
    rw [wX_violation_15]
    exact pk_le cnt u (fun _ => h) (fun e => absurd e (by omega))
  | succ d ih =>
    intro u hd hu h n hn
    obtain ⟨n, rfl⟩ : ∃ m, n = m + 1 := ⟨n - 1, by omega⟩
    rw [wX_violation_15]
    refine pk_le cnt u (fun e => absurd e (by omega)) (fun _ => xt_was (n := cnt) (by omega) hcnt A ?_)
    rw [pm_vi_s] at h
    refine pm_br _ rfl (fun e => ?_) (fun e => ?_)
    · rw [e, if_neg (by decide)] at h
      exact h
    · rw [e, if_pos rfl] at h
      exact nm_r (nI_1 u) (ih (u + 1) (by omega) (by omega) h n (by omega))
theorem xq_violation {post : Int32 → SX → Prop} {tk fc : Nat → Nat} {t : Nat} (ht : t < 2 ^ 31) (R : pm_RX wd sz cnt jd tk fc aT aF aB aV aM aL)
    (Q : ∀ (jd : Nat) (xO : Int32) (aS aO aN : Nat → Int32) (aB : Nat → Int64) (aV aP aM aL : Nat → Int32), pm_RX wd sz cnt jd tk fc aT aF aB aV aM aL → post (if pm_pend tk sz = 0 then pm_vi (pm_H wd fc tk sz 0) (cnt - t) t else -1) (nI wd, nI sz, xO, nI cnt, nI jd, aT, aS, aO, aN, aF, aB, aV, aP, aM, aL, sV, sM, sS)) :
    wpX_violation post (nI wd, nI sz, xO, nI cnt, nI jd, aT, aS, aO, aN, aF, aB, aV, aP, aM, aL, sV, sM, sS) (nI t) := by
  have hcnt := R.2.2.1
  unfold wpX_violation
  dsimp only
  refine br_f (nI_pos ht) ?_
  refine xj_judge R (fun hp xO aS aO aN => ?_) (fun hc xO aS aO aN aB aV aP aM aL hS J A => ?_)
  · dsimp only
    have h := Q jd xO aS aO aN aB aV aP aM aL R
    rw [if_neg hp] at h
    exact br_t rfl h
  · dsimp only
    have h := Q cnt xO aS aO aN aB aV aP aM aL (pm_RX_j R J A)
    rw [if_pos hc.2] at h
    exact br_f pm_b10 ⟨cnt - t + 1, xq_v15 hcnt A (cnt - t) t rfl ht h (cnt - t + 1) (by omega)⟩
theorem xq_s11 {post : Int32 → SX → Prop} {tk fc : Nat → Nat} (hcnt : cnt ≤ 200) (A : pm_TA wd fc tk sz cnt aB) :
    ∀ d x, x + d = cnt → post (pm_sk (pm_H wd fc tk sz 0) cnt d x) (nI wd, nI sz, xO, nI cnt, nI jd, aT, aS, aO, aN, aF, aB, aV, aP, aM, aL, sV, sM, sS) → ∀ n, d < n → wX_streak_11 post (nI wd) (nI sz) xO (nI cnt) (nI jd) aT aS aO aN aF aB aV aP aM aL sV sM sS n (nI x) := by
  intro d
  induction d with
  | zero =>
    intro x hd h n hn
    obtain ⟨n, rfl⟩ : ∃ m, n = m + 1 := ⟨n - 1, by omega⟩
    rw [wX_streak_11]
    exact pk_le cnt x (fun _ => h) (fun e => absurd e (by omega))
  | succ d ih =>
    intro x hd h n hn
    obtain ⟨n, rfl⟩ : ∃ m, n = m + 1 := ⟨n - 1, by omega⟩
    have ei : (nI cnt - 1) - nI x = nI (cnt - 1 - x) := by rw [pn_s1 (by omega), pk_sub (by omega)]
    rw [wX_streak_11]
    dsimp only
    rw [ei]
    refine pk_le cnt x (fun e => absurd e (by omega)) (fun _ => xt_was (n := cnt) (by omega) hcnt A ?_)
    rw [pm_sk_s] at h
    refine pm_br _ rfl (fun e => ?_) (fun e => ?_)
    · rw [e, if_neg (by decide)] at h
      exact h
    · rw [e, if_pos rfl] at h
      exact nm_r (nI_1 x) (ih (x + 1) (by omega) h n (by omega))
theorem xq_streak {post : Int32 → SX → Prop} {tk fc : Nat → Nat} (R : pm_RX wd sz cnt jd tk fc aT aF aB aV aM aL)
    (Q : ∀ (jd : Nat) (xO : Int32) (aS aO aN : Nat → Int32) (aB : Nat → Int64) (aV aP aM aL : Nat → Int32), pm_RX wd sz cnt jd tk fc aT aF aB aV aM aL → post (if pm_pend tk sz = 0 then pm_sk (pm_H wd fc tk sz 0) cnt cnt 0 else -1) (nI wd, nI sz, xO, nI cnt, nI jd, aT, aS, aO, aN, aF, aB, aV, aP, aM, aL, sV, sM, sS)) :
    wpX_streak post (nI wd, nI sz, xO, nI cnt, nI jd, aT, aS, aO, aN, aF, aB, aV, aP, aM, aL, sV, sM, sS) := by
  have hcnt := R.2.2.1
  unfold wpX_streak
  dsimp only
  refine xj_judge R (fun hp xO aS aO aN => ?_) (fun hc xO aS aO aN aB aV aP aM aL hS J A => ?_)
  · dsimp only
    have h := Q jd xO aS aO aN aB aV aP aM aL R
    rw [if_neg hp] at h
    exact br_t rfl h
  · dsimp only
    have h := Q cnt xO aS aO aN aB aV aP aM aL (pm_RX_j R J A)
    rw [if_pos hc.2] at h
    exact br_f pm_b10 ⟨cnt + 1, xq_s11 hcnt A cnt 0 (by omega) h (cnt + 1) (by omega)⟩
def pm_wh (wd : Nat) (fc tk : Nat → Nat) (sz cnt f : Nat) : Bool := decide (pm_pend tk sz = 0) && pm_H wd (pm_fu fc cnt f) tk sz 0 cnt
theorem xi_im2 {post : Int32 → SX → Prop} {tk fc : Nat → Nat} {f : Nat} (ef : fc cnt = f) (hT : pm_TK tk aT) (hS : pm_SR tk sz aS) (hc : pm_cp tk sz) (hz : sz ≤ 14) (hcnt : cnt ≤ 200) (hw : wd ≤ 12) (hf : f ≤ 15)
    (J : pm_JS wd fc tk sz cnt aV aM aL)
    (Q : ∀ (aV aP aM aL sV sM sS : Nat → Int32), pm_JS wd fc tk sz cnt aV aM aL → post (pm_b (pm_H wd fc tk sz 0 cnt)) (nI wd, nI sz, xO, nI cnt, nI jd, aT, aS, aO, aN, aF, aB, aV, aP, aM, aL, sV, sM, sS)) :
    wpX_imagine post (nI wd, nI sz, xO, nI cnt, nI jd, aT, aS, aO, aN, aF, aB, aV, aP, aM, aL, sV, sM, sS) (nI f) := by
  subst ef
  exact xi_imagine hT hS hc hz hcnt hw hf J Q
theorem xq_would {post : Int32 → SX → Prop} {tk fc : Nat → Nat} {f : Nat} (hf : f ≤ 15) (R : pm_RX wd sz cnt jd tk fc aT aF aB aV aM aL)
    (Q : ∀ (jd : Nat) (xO : Int32) (aS aO aN : Nat → Int32) (aB : Nat → Int64) (aV aP aM aL sV sM sS : Nat → Int32), pm_RX wd sz cnt jd tk fc aT aF aB aV aM aL → post (pm_b (pm_wh wd fc tk sz cnt f)) (nI wd, nI sz, xO, nI cnt, nI jd, aT, aS, aO, aN, aF, aB, aV, aP, aM, aL, sV, sM, sS)) :
    wpX_wouldHold post (nI wd, nI sz, xO, nI cnt, nI jd, aT, aS, aO, aN, aF, aB, aV, aP, aM, aL, sV, sM, sS) (nI f) := by
  have R0 := R
  obtain ⟨hw, hz, hcnt, hjd, hT, hok, hF, hJ⟩ := R0
  have he : ∀ t, t < cnt → fc t = pm_fu fc cnt f t := fun t h => pm_fu_lt h
  unfold wpX_wouldHold
  dsimp only
  refine br_f (nI_pos (by omega)) (pk_lt 15 f (fun e => absurd e (by omega)) (fun _ => ?_))
  refine xj_judge R (fun hp xO aS aO aN => ?_) (fun hc xO aS aO aN aB aV aP aM aL hS J A => ?_)
  · dsimp only
    have h := Q jd xO aS aO aN aB aV aP aM aL sV sM sS R
    unfold pm_wh at h
    rw [decide_eq_false hp] at h
    exact br_t rfl h
  · dsimp only
    refine br_f pm_b10 ?_
    refine xi_im2 (fc := pm_fu fc cnt f) pm_fu_at hT hS hc hz hcnt hw hf (pm_JS_c he J) (fun aV aP aM aL sV sM sS J' => ?_)
    have h := Q cnt xO aS aO aN aB aV aP aM aL sV sM sS (pm_RX_j R (pm_JS_c (fun t ht => (he t ht).symm) J') A)
    unfold pm_wh at h
    rw [decide_eq_true hc.2, Bool.true_and] at h
    dsimp only
    exact pm_br _ rfl (fun e => by rw [e] at h; exact h) (fun e => by rw [e] at h; exact h)
theorem xq_a4 {post : Int32 → SX → Prop} {tk fc : Nat → Nat}
    (Q : ∀ (jd : Nat) (xO : Int32) (aS aO aN : Nat → Int32) (aB : Nat → Int64) (aV aP aM aL sV sM sS : Nat → Int32), pm_RX wd sz cnt jd tk fc aT aF aB aV aM aL → post (nI (pm_cn (pm_wh wd fc tk sz cnt) 16 0)) (nI wd, nI sz, xO, nI cnt, nI jd, aT, aS, aO, aN, aF, aB, aV, aP, aM, aL, sV, sM, sS)) :
    ∀ d u a (jd : Nat) (xO : Int32) (aS aO aN : Nat → Int32) (aB : Nat → Int64) (aV aP aM aL sV sM sS : Nat → Int32), u + d = 16 → a + pm_cn (pm_wh wd fc tk sz cnt) d u = pm_cn (pm_wh wd fc tk sz cnt) 16 0 →
    pm_RX wd sz cnt jd tk fc aT aF aB aV aM aL → ∀ n, d < n → wX_allowed_4 post n (nI a) (nI u) (nI wd) (nI sz) xO (nI cnt) (nI jd) aT aS aO aN aF aB aV aP aM aL sV sM sS := by
  intro d
  induction d with
  | zero =>
    intro u a jd xO aS aO aN aB aV aP aM aL sV sM sS hd h R n hn
    obtain ⟨n, rfl⟩ : ∃ m, n = m + 1 := ⟨n - 1, by omega⟩
    rw [wX_allowed_4]
    refine pk_le 16 u (fun _ => ?_) (fun e => absurd e (by omega))
    have h2 := Q jd xO aS aO aN aB aV aP aM aL sV sM sS R
    rw [← h] at h2
    exact h2
  | succ d ih =>
    intro u a jd xO aS aO aN aB aV aP aM aL sV sM sS hd h R n hn
    obtain ⟨n, rfl⟩ : ∃ m, n = m + 1 := ⟨n - 1, by omega⟩
    rw [wX_allowed_4]
    refine pk_le 16 u (fun e => absurd e (by omega)) (fun _ => xq_would (by omega) R (fun jd xO aS aO aN aB aV aP aM aL sV sM sS R => ?_))
    dsimp only
    rw [pm_cn_s] at h
    refine pm_br _ rfl (fun e => ?_) (fun e => ?_)
    · rw [e, if_neg (by decide), Nat.zero_add] at h
      exact nm_r (Int32.add_zero _) (nm_r (nI_1 u) (ih (u + 1) a jd xO aS aO aN aB aV aP aM aL sV sM sS (by omega) h R n (by omega)))
    · rw [e, if_pos rfl, ← Nat.add_assoc] at h
      exact nm_r (nI_1 a) (nm_r (nI_1 u) (ih (u + 1) (a + 1) jd xO aS aO aN aB aV aP aM aL sV sM sS (by omega) h R n (by omega)))
theorem xq_allowed {post : Int32 → SX → Prop} {tk fc : Nat → Nat} (R : pm_RX wd sz cnt jd tk fc aT aF aB aV aM aL)
    (Q : ∀ (jd : Nat) (xO : Int32) (aS aO aN : Nat → Int32) (aB : Nat → Int64) (aV aP aM aL sV sM sS : Nat → Int32), pm_RX wd sz cnt jd tk fc aT aF aB aV aM aL → post (nI (pm_cn (pm_wh wd fc tk sz cnt) 16 0)) (nI wd, nI sz, xO, nI cnt, nI jd, aT, aS, aO, aN, aF, aB, aV, aP, aM, aL, sV, sM, sS)) :
    wpX_allowed post (nI wd, nI sz, xO, nI cnt, nI jd, aT, aS, aO, aN, aF, aB, aV, aP, aM, aL, sV, sM, sS) := by
  unfold wpX_allowed
  dsimp only
  exact ⟨17, xq_a4 Q 16 0 0 jd xO aS aO aN aB aV aP aM aL sV sM sS (by omega) (Nat.zero_add _) R 17 (by omega)⟩
end PMXQ
end
section
section PMY
variable {wd sz cnt : Nat} {aT yF yH yK : Nat → Int32}
theorem pm_pend_le (tk : Nat → Nat) : ∀ k, pm_pend tk k ≤ k + 1 := by
  intro k
  induction k with
  | zero => exact Nat.le_refl 1
  | succ k ih =>
    have h := pm_pend_s tk k
    have h2 := pm_w_le (tk k)
    omega
theorem yc_loop {post : Int32 → Prop} {tk : Nat → Nat} (hT : pm_TK tk aT) (hz : sz ≤ 14) (hok : pm_ok tk sz) (h : post (pm_b (decide (pm_pend tk sz = 0)))) :
    ∀ d k, k + d = sz → ∀ n, d < n → wY_complete_4 post (nI wd) (nI sz) (nI cnt) aT yF yH yK n (nI (pm_pend tk k)) (nI k) := by
  intro d
  induction d with
  | zero =>
    intro k hd n hn
    obtain ⟨n, rfl⟩ : ∃ m, n = m + 1 := ⟨n - 1, by omega⟩
    have ek : k = sz := by omega
    subst ek
    have hl := pm_pend_le tk k
    rw [wY_complete_4]
    refine pk_le k k (fun _ => pk_eq (pm_pend tk k) 0 (fun e => ?_) (fun e => ?_)) (fun e => absurd e (by omega))
    · rw [decide_eq_true e] at h; exact h
    · rw [decide_eq_false e] at h; exact h
  | succ d ih =>
    intro k hd n hn
    obtain ⟨n, rfl⟩ : ∃ m, n = m + 1 := ⟨n - 1, by omega⟩
    have ek : (nI k).toNatClampNeg = k := nI_clamp (by omega)
    have hop := (hT k).1
    have hp := hok k (by omega)
    have hs := pm_pend_s tk k
    have K := ih (k + 1) (by omega) n (by omega)
    have hl := pm_pend_le tk k
    rw [wY_complete_4]
    refine pk_le sz k (fun e => absurd e (by omega)) (fun _ => ?_)
    rw [ek, (hT k).2]
    have K2 : pm_w (tk k) = 2 → nI (pm_pend tk k) + 1 = nI (pm_pend tk (k + 1)) := by
      intro e
      rw [nI_1]
      exact congrArg nI (by omega)
    refine ⟨vp_in_nI (by omega) (by omega), nm_e (pk_lt 3 (tk k) (fun h3 => pk_eq (tk k) 5 (fun e => ?_) (fun e5 => pk_eq (tk k) 6 (fun e => ?_) (fun e6 => pk_eq (tk k) 10 (fun e => ?_) (fun e10 => ?_)))) (fun h3 => ?_))⟩
    · exact nm_r (K2 (pm_w2 (by omega))) (nm_r (nI_1 k) K)
    · exact nm_r (K2 (pm_w2 (by omega))) (nm_r (nI_1 k) K)
    · exact nm_r (K2 (pm_w2 (by omega))) (nm_r (nI_1 k) K)
    · have e : pm_pend tk (k + 1) = pm_pend tk k := by rw [pm_w1 (by omega) e5 e6 e10] at hs; omega
      rw [e] at K
      exact nm_r (nI_1 k) K
    · refine nm_r (e' := nI (pm_pend tk (k + 1))) ?_ (nm_r (nI_1 k) K)
      rw [pn_s1 (by omega)]
      rw [pm_w0 (by omega)] at hs
      exact congrArg nI (by omega)
theorem yc_complete {post : Int32 → Prop} {tk : Nat → Nat} (hT : pm_TK tk aT) (hz : sz ≤ 14) (hok : pm_ok tk sz) (h : post (pm_b (decide (pm_pend tk sz = 0)))) : wpY_complete post (nI wd, nI sz, nI cnt, aT, yF, yH, yK) := by
  unfold wpY_complete
  dsimp only
  exact ⟨sz + 1, yc_loop hT hz hok h sz 0 (by omega) (sz + 1) (by omega)⟩
theorem yn_ix (g u : Nat) : (201 : Int32) * nI g + nI u = nI (201 * g + u) := by
  rw [show (201 : Int32) * nI g = nI (201 * g) from pk_mul 201 g, nI_add]
theorem yd_ex {post : Int32 → Prop} {G : Nat → Bool} {g t : Nat} (hg : g < 14) (ht : t ≤ 200) (hG : ∀ u, u ≤ t → yH (201 * g + u) = pm_b (G u)) :
    ∀ d u (b : Bool), u + d = t + 1 → post (pm_b (b || pm_ex G d u)) → ∀ n, d < n → wY_during_15 post (nI g) (nI t) 0 (nI wd) (nI sz) (nI cnt) aT yF yH yK n (pm_b b) (nI u) := by
  intro d
  induction d with
  | zero =>
    intro u b hd h n hn
    obtain ⟨n, rfl⟩ : ∃ m, n = m + 1 := ⟨n - 1, by omega⟩
    rw [wY_during_15]
    refine pk_lt t u (fun _ => ⟨pm_bn b, ?_⟩) (fun e => absurd e (by omega))
    rw [show pm_ex G 0 u = false from rfl, Bool.or_false] at h
    exact h
  | succ d ih =>
    intro u b hd h n hn
    obtain ⟨n, rfl⟩ : ∃ m, n = m + 1 := ⟨n - 1, by omega⟩
    have ei : (nI (201 * g + u)).toNatClampNeg = 201 * g + u := nI_clamp (by omega)
    rw [wY_during_15]
    dsimp only
    rw [yn_ix, ei, nI_1 u]
    rw [pm_ex_s] at h
    refine pk_lt t u (fun e => absurd e (by omega)) (fun _ => br_t rfl (pm_br b rfl (fun e => ⟨vp_in_nI (by omega) (by omega), pm_br _ (hG u (by omega)) (fun e2 => ?_) (fun e2 => ?_)⟩) (fun e => ?_)))
    · rw [e, e2] at h
      exact nm_e (ih (u + 1) false (by omega) h n (by omega))
    · rw [e, e2] at h
      exact nm_e (ih (u + 1) true (by omega) h n (by omega))
    · rw [e] at h
      exact nm_e (ih (u + 1) true (by omega) h n (by omega))
theorem yd_al {post : Int32 → Prop} {G : Nat → Bool} {g t : Nat} (hg : g < 14) (ht : t ≤ 200) (hG : ∀ u, u ≤ t → yH (201 * g + u) = pm_b (G u)) :
    ∀ d u (b : Bool), u + d = t + 1 → post (pm_b (b && pm_al G d u)) → ∀ n, d < n → wY_during_15 post (nI g) (nI t) 1 (nI wd) (nI sz) (nI cnt) aT yF yH yK n (pm_b b) (nI u) := by
  intro d
  induction d with
  | zero =>
    intro u b hd h n hn
    obtain ⟨n, rfl⟩ : ∃ m, n = m + 1 := ⟨n - 1, by omega⟩
    rw [wY_during_15]
    refine pk_lt t u (fun _ => ⟨pm_bn b, ?_⟩) (fun e => absurd e (by omega))
    rw [show pm_al G 0 u = true from rfl, Bool.and_true] at h
    exact h
  | succ d ih =>
    intro u b hd h n hn
    obtain ⟨n, rfl⟩ : ∃ m, n = m + 1 := ⟨n - 1, by omega⟩
    have ei : (nI (201 * g + u)).toNatClampNeg = 201 * g + u := nI_clamp (by omega)
    rw [wY_during_15]
    dsimp only
    rw [yn_ix, ei, nI_1 u]
    rw [pm_al_s] at h
    refine pk_lt t u (fun e => absurd e (by omega)) (fun _ => br_f pm_b10 (pm_br b rfl (fun e => ?_) (fun e => ⟨vp_in_nI (by omega) (by omega), pm_br _ (hG u (by omega)) (fun e2 => ?_) (fun e2 => ?_)⟩)))
    · rw [e] at h
      exact nm_e (ih (u + 1) false (by omega) h n (by omega))
    · rw [e, e2] at h
      exact nm_e (ih (u + 1) false (by omega) h n (by omega))
    · rw [e, e2] at h
      exact nm_e (ih (u + 1) true (by omega) h n (by omega))
theorem yd_D {post : Int32 → Prop} {G : Nat → Bool} {a : Bool} {p1 : Int32} {g s t : Nat} (hg : g < 14) (ht : t ≤ 200) (hG : ∀ u, u ≤ t → yH (201 * g + u) = pm_b (G u)) (hp : p1 = nI s ∨ (¬ (0 : Int32) ≤ p1 ∧ s = 0)) (hs : s ≤ t + 1)
    (h : post (pm_b (if a = true then pm_al G (t + 1 - s) s else pm_ex G (t + 1 - s) s))) : wpY_during post (nI wd, nI sz, nI cnt, aT, yF, yH, yK) (nI g) p1 (nI t) (pm_b a) := by
  have K : ∃ n, wY_during_15 post (nI g) (nI t) (pm_b a) (nI wd) (nI sz) (nI cnt) aT yF yH yK n (pm_b a) (nI s) := by
    refine ⟨t + 1 - s + 1, ?_⟩
    cases a
    · exact yd_ex hg ht hG (t + 1 - s) s false (by omega) (by rw [Bool.false_or]; exact h) _ (by omega)
    · exact yd_al hg ht hG (t + 1 - s) s true (by omega) (by rw [Bool.true_and]; exact h) _ (by omega)
  unfold wpY_during
  dsimp only
  rcases hp with e | ⟨e, e2⟩
  · subst e
    exact br_t (nI_pos' (by omega)) K
  · subst e2
    exact br_f e K
theorem ys_loop {post : Int32 → Prop} {G E : Nat → Bool} {g h t : Nat} (hg : g < 14) (hh : h < 14) (ht : t ≤ 200) (hG : ∀ u, u ≤ t → yH (201 * g + u) = pm_b (G u)) (hE : ∀ u, u ≤ t → yH (201 * h + u) = pm_b (E u)) :
    ∀ d s (b : Bool), s + d = t + 1 → post (pm_b (b || pm_si G E t d s)) → ∀ n, d < n → wY_since_6 post (nI g) (nI h) (nI t) (nI wd) (nI sz) (nI cnt) aT yF yH yK n (pm_b b) (nI s) := by
  intro d
  induction d with
  | zero =>
    intro s b hd hq n hn
    obtain ⟨n, rfl⟩ : ∃ m, n = m + 1 := ⟨n - 1, by omega⟩
    rw [wY_since_6]
    refine pk_lt t s (fun _ => ⟨pm_bn b, ?_⟩) (fun e => absurd e (by omega))
    rw [show pm_si G E t 0 s = false from rfl, Bool.or_false] at hq
    exact hq
  | succ d ih =>
    intro s b hd hq n hn
    obtain ⟨n, rfl⟩ : ∃ m, n = m + 1 := ⟨n - 1, by omega⟩
    have ei : (nI (201 * h + s)).toNatClampNeg = 201 * h + s := nI_clamp (by omega)
    rw [wY_since_6]
    dsimp only
    rw [yn_ix, ei, nI_1 s]
    rw [pm_si_s] at hq
    refine pk_lt t s (fun e => absurd e (by omega)) (fun _ => pm_br b rfl (fun e => ⟨vp_in_nI (by omega) (by omega), pm_br _ (hE s (by omega)) (fun e2 => ?_) (fun e2 => ?_)⟩) (fun e => ?_))
    · rw [e, e2] at hq
      exact nm_e (ih (s + 1) false (by omega) hq n (by omega))
    · refine yd_D (a := true) (s := s + 1) hg ht hG (Or.inl rfl) (by omega) ?_
      rw [if_pos rfl, show t + 1 - (s + 1) = t - s by omega]
      refine pm_br _ rfl (fun e3 => ?_) (fun e3 => ?_)
      · rw [e, e2, e3] at hq
        exact nm_e (ih (s + 1) false (by omega) hq n (by omega))
      · rw [e, e2, e3] at hq
        exact nm_e (ih (s + 1) true (by omega) hq n (by omega))
    · rw [e] at hq
      exact nm_e (ih (s + 1) true (by omega) hq n (by omega))
theorem ys_since {post : Int32 → Prop} {G E : Nat → Bool} {g h t : Nat} (hg : g < 14) (hh : h < 14) (ht : t ≤ 200) (hG : ∀ u, u ≤ t → yH (201 * g + u) = pm_b (G u)) (hE : ∀ u, u ≤ t → yH (201 * h + u) = pm_b (E u))
    (hq : post (pm_b (pm_si G E t (t + 1) 0))) : wpY_since post (nI wd, nI sz, nI cnt, aT, yF, yH, yK) (nI g) (nI h) (nI t) := by
  unfold wpY_since
  dsimp only
  exact ⟨t + 2, ys_loop hg hh ht hG hE (t + 1) 0 false (by omega) (by rw [Bool.false_or]; exact hq) (t + 2) (by omega)⟩
theorem yt_188 {post : Int32 → Prop} {fc : Nat → Nat} {G E : Nat → Bool} {op g t : Nat} {p : Int32} (hop : op = 8 ∨ op = 9 ∨ op = 11 ∨ op = 12) (hg : g < 14) (ht : t ≤ 200)
    (hp : p = nI (if op ≤ 9 then 0 else t - wd) ∨ (¬ (0 : Int32) ≤ p ∧ (if op ≤ 9 then 0 else t - wd) = 0))
    (hG : ∀ u, u ≤ t → yH (201 * g + u) = pm_b (G u)) (Q : post (pm_b (pm_tr wd fc op G E t))) : wY_truth_188 post (nI op) (nI t) p (nI g) (nI wd) (nI sz) (nI cnt) aT yF yH yK := by
  have hs : (if op ≤ 9 then 0 else t - wd) ≤ t + 1 := by split <;> omega
  unfold wY_truth_188 wY_truth_202 wY_truth_207
  refine pk_eq op 9 (fun e => ?_) (fun e9 => pk_eq op 12 (fun e => ?_) (fun e12 => ?_))
  · subst e
    refine yd_D (a := true) hg ht hG hp hs ⟨pm_bn _, ?_⟩
    exact Q
  · subst e
    refine yd_D (a := true) hg ht hG hp hs ⟨pm_bn _, ?_⟩
    exact Q
  · refine yd_D (a := false) hg ht hG hp hs ⟨pm_bn _, ?_⟩
    rcases (by omega : op = 8 ∨ op = 11) with e | e
    · subst e; exact Q
    · subst e; exact Q
theorem yt_truth {post : Int32 → Prop} {fc : Nat → Nat} {G E : Nat → Bool} {op g h t : Nat} (hop : op ≤ 12) (hg : g < 14) (hh : h < 14) (ht : t ≤ 200) (hw : wd ≤ 12) (hf : fc t ≤ 15) (hF : yF t = nI (fc t))
    (hG : 4 ≤ op → ∀ u, u ≤ t → yH (201 * g + u) = pm_b (G u)) (hE : pm_w op = 2 → ∀ u, u ≤ t → yH (201 * h + u) = pm_b (E u))
    (Q : post (pm_b (pm_tr wd fc op G E t))) : wpY_truth post (nI wd, nI sz, nI cnt, aT, yF, yH, yK) (nI op) (nI g) (nI h) (nI t) := by
  have et : (nI t).toNatClampNeg = t := nI_clamp (by omega)
  have ei : (nI (201 * g + t)).toNatClampNeg = 201 * g + t := nI_clamp (by omega)
  have ej : (nI (201 * h + t)).toNatClampNeg = 201 * h + t := nI_clamp (by omega)
  unfold wpY_truth
  dsimp only
  rw [yn_ix, yn_ix, ei, ej, et]
  refine pk_lt 3 op (fun h3 => ⟨vp_in_nI (by omega) (by omega), nm_e ⟨vp_in_nI (by omega) (by omega), nm_e (pk_lt 6 op (fun h6 => ?_) (fun h6 => ?_))⟩⟩) (fun h3 => ⟨vp_in_nI (by omega) (by omega), ?_⟩)
  · refine pk_eq op 7 (fun e => ?_) (fun e7 => pk_eq op 10 (fun e => ?_) (fun e10 => pk_lt 9 op (fun e => ?_) (fun e => ?_)))
    · subst e
      rw [pm_tr7] at Q
      refine pk_le t 0 (fun e0 => ?_) (fun e0 => ?_)
      · rw [decide_eq_false (by omega)] at Q; exact Q
      · have em : nI (201 * g + t) - 1 = nI (201 * g + (t - 1)) := by
          rw [pn_s1 (by omega)]
          exact congrArg nI (by omega)
        have en : (nI (201 * g + (t - 1))).toNatClampNeg = 201 * g + (t - 1) := nI_clamp (by omega)
        rw [em, en]
        rw [decide_eq_true e0, Bool.true_and] at Q
        exact ⟨vp_in_nI (by omega) (by omega), pm_br _ (hG (by omega) (t - 1) (by omega)) (fun ea => by rw [ea] at Q; exact Q) (fun ea => by rw [ea] at Q; exact Q)⟩
    · subst e
      exact ys_since hg hh ht (hG (by omega)) (hE (by decide)) ⟨pm_bn _, Q⟩
    · refine yt_188 (op := op) (by omega) hg ht ?_ (hG (by omega)) Q
      rw [if_neg (by omega)]
      by_cases hl : wd ≤ t
      · exact Or.inl (pk_sub hl)
      · refine Or.inr ⟨?_, by omega⟩
        have hn := pk_sneg (a := t) (b := wd) (by omega) (by omega)
        exact Int32.not_le.mpr hn
    · refine yt_188 (op := op) (by omega) hg ht ?_ (hG (by omega)) Q
      rw [if_pos (by omega)]
      exact Or.inl rfl
  · have hG := hG (by omega) t (Nat.le_refl t)
    rw [hG]
    refine pk_eq op 4 (fun e => ?_) (fun e4 => pk_eq op 5 (fun e => ?_) (fun e5 => ?_))
    · subst e
      rw [pm_tr4] at Q
      exact pm_br _ rfl (fun ea => by rw [ea] at Q; exact Q) (fun ea => by rw [ea] at Q; exact Q)
    · subst e
      rw [pm_tr5] at Q
      rw [hE (by decide) t (Nat.le_refl t)]
      exact pm_br _ rfl (fun ea => by rw [ea] at Q; exact Q) (fun ea => pm_br _ rfl (fun eb => by rw [ea, eb] at Q; exact Q) (fun eb => by rw [ea, eb] at Q; exact Q))
    · have e6 : op = 6 := by omega
      subst e6
      rw [pm_tr6] at Q
      rw [hE (by decide) t (Nat.le_refl t)]
      exact pm_br _ rfl (fun ea => pm_br _ rfl (fun eb => by rw [ea, eb] at Q; exact Q) (fun eb => by rw [ea, eb] at Q; exact Q)) (fun ea => by rw [ea] at Q; exact Q)
  · rw [hF, pn_bit (fc t) (by omega) op (by omega)]
    rw [pm_tr3 (by omega)] at Q
    cases e : (fc t).testBit op with
    | false => rw [e] at Q; exact br_f (by decide) Q
    | true => rw [e] at Q; exact br_t (by decide) Q
end PMY
end
section
section PMYW
variable {wd sz cnt : Nat} {aT yF yH yK : Nat → Int32}
theorem yw_99 {post : SY → Prop} {J9 : Int32 → Int32 → (Nat → Int32) → (Nat → Int32) → (Nat → Int32) → (Nat → Int32) → Prop} {tk fc : Nat → Nat} {n k g h : Nat} (hop : tk k ≤ 12) (hz : sz ≤ 14) (hk : k < sz) (hn : n ≤ 201) (hw : wd ≤ 12) (hg : g < 14) (hh : h < 14)
    (eg : 4 ≤ tk k → g = k + 1 ∧ k + 1 < sz) (eh : pm_w (tk k) = 2 → h = pm_sc tk k ∧ pm_sc tk k < sz) (hF : ∀ t, t < n → fc t ≤ 15 ∧ yF t = nI (fc t)) (hp : 1 ≤ pm_pend tk k)
    (K : ∀ (yH : Nat → Int32), (∀ j, k ≤ j → j < sz → ∀ t, t < n → yH (201 * j + t) = pm_b (pm_H wd fc tk sz j t)) → J9 (nI (pm_pend tk k)) (nI k - 1) aT yF yH (upd yK (pm_pend tk k - 1) (nI k))) :
    ∀ d t (yH : Nat → Int32), t + d = n → (∀ j, k < j → j < sz → ∀ t, t < n → yH (201 * j + t) = pm_b (pm_H wd fc tk sz j t)) → (∀ u, u < t → yH (201 * k + u) = pm_b (pm_H wd fc tk sz k u)) →
    ∀ m, d < m → wY_work_99 post J9 (nI n) (nI (pm_pend tk (k + 1))) (nI k) (nI (tk k)) (nI (pm_w (tk k))) (nI g) (nI h) (nI wd) (nI sz) (nI cnt) m (nI t) aT yF yH yK := by
  intro d
  induction d with
  | zero =>
    intro t yH hd A B m hm
    obtain ⟨m, rfl⟩ : ∃ l, m = l + 1 := ⟨m - 1, by omega⟩
    have hs := pm_pend_s tk k
    have hl := pm_pend_le tk k
    have hw2 := pm_w_le (tk k)
    have ez : nI (pm_pend tk (k + 1)) - nI (pm_w (tk k)) = nI (pm_pend tk k - 1) := by
      rw [pk_sub (by omega)]
      exact congrArg nI (by omega)
    have e1 : nI (pm_pend tk k - 1) + 1 = nI (pm_pend tk k) := by
      rw [nI_1]
      exact congrArg nI (by omega)
    have ec : (nI (pm_pend tk k - 1)).toNatClampNeg = pm_pend tk k - 1 := nI_clamp (by omega)
    rw [wY_work_99]
    refine pk_le n t (fun _ => pk_lt (pm_pend tk (k + 1)) (pm_w (tk k)) (fun e => absurd e (by omega)) (fun _ => ?_)) (fun e => absurd e (by omega))
    unfold wY_work_150
    rw [ez, ec, e1, pn_neg]
    refine ⟨vp_in_nI (by omega) (by omega), nm_e (nm_e (nm_e (K yH (fun j hj hj2 u hu => ?_))))⟩
    by_cases e : j = k
    · rw [e]; exact B u (by omega)
    · exact A j (by omega) hj2 u hu
  | succ d ih =>
    intro t yH hd A B m hm
    obtain ⟨m, rfl⟩ : ∃ l, m = l + 1 := ⟨m - 1, by omega⟩
    have ei : (nI (201 * k + t)).toNatClampNeg = 201 * k + t := nI_clamp (by omega)
    rw [wY_work_99]
    refine pk_le n t (fun e => absurd e (by omega)) (fun _ => ?_)
    refine yt_truth (fc := fc) (G := pm_H wd fc tk sz (k + 1)) (E := pm_H wd fc tk sz (pm_sc tk k)) hop hg hh (by omega) hw (hF t (by omega)).1 (hF t (by omega)).2 (fun h4 u hu => ?_) (fun h2 u hu => ?_) ?_
    · rw [(eg h4).1]
      exact A (k + 1) (by omega) (eg h4).2 u (by omega)
    · rw [(eh h2).1]
      exact A (pm_sc tk k) (pm_sc_gt tk k) (eh h2).2 u (by omega)
    · rw [← pm_H_s hk, yn_ix, ei, pm_bv]
      refine ⟨vp_in_nI (by omega) (by omega), nm_e (nm_r (nI_1 t) (ih (t + 1) _ (by omega) (fun j hj hj2 u hu => ?_) (fun u hu => ?_) m (by omega)))⟩
      · rw [pk_un (by omega)]
        exact A j hj hj2 u hu
      · by_cases e : u = t
        · rw [e, pk_us]
        · rw [pk_un (by omega)]
          exact B u (by omega)
theorem yw_56 {post : SY → Prop} {J9 : Int32 → Int32 → (Nat → Int32) → (Nat → Int32) → (Nat → Int32) → (Nat → Int32) → Prop} {n k hi op pr : Nat} (hhi : hi ≤ 15) (hs : ∀ q, q < hi → ∃ s, yK q = nI s ∧ s < 14)
    (K : ∀ g h, g < 14 → h < 14 → (0 < hi → yK (hi - 1) = nI g) → (1 < hi → yK (hi - 2) = nI h) → ∃ m, wY_work_99 post J9 (nI n) (nI hi) (nI k) (nI op) (nI pr) (nI g) (nI h) (nI wd) (nI sz) (nI cnt) m (nI 0) aT yF yH yK) :
    wY_work_56 post J9 (nI n) (nI hi) (nI k) (nI op) (nI pr) (nI wd) (nI sz) (nI cnt) aT yF yH yK := by
  unfold wY_work_56 wY_work_75
  refine pk_lt hi 1 (fun e => ?_) (fun e => ?_)
  · exact pk_lt hi 2 (fun _ => K 0 0 (by omega) (by omega) (fun h => absurd h (by omega)) (fun h => absurd h (by omega))) (fun e2 => absurd e2 (by omega))
  · obtain ⟨g, eg, hg⟩ := hs (hi - 1) (by omega)
    have ec : (nI (hi - 1)).toNatClampNeg = hi - 1 := nI_clamp (by omega)
    rw [pn_s1 (n := hi) (by omega), ec, eg]
    refine ⟨vp_in_nI (by omega) (by omega), pk_lt hi 2 (fun e2 => ?_) (fun e2 => ?_)⟩
    · exact K g 0 hg (by omega) (fun _ => eg) (fun h => absurd h (by omega))
    · obtain ⟨h, eh, hh⟩ := hs (hi - 2) (by omega)
      have es : nI hi - 2 = nI (hi - 2) := pk_sub (b := 2) (by omega)
      have ec2 : (nI (hi - 2)).toNatClampNeg = hi - 2 := nI_clamp (by omega)
      rw [es, ec2, eh]
      exact ⟨vp_in_nI (by omega) (by omega), nm_e (K g h hg hh (fun _ => eg) (fun _ => eh))⟩
theorem yw_9 {post : SY → Prop} {tk fc : Nat → Nat} {n : Nat} (hT : pm_TK tk aT) (hc : pm_cp tk sz) (hz : sz ≤ 14) (hn : n ≤ 201) (hw : wd ≤ 12) (hF : ∀ t, t < n → fc t ≤ 15 ∧ yF t = nI (fc t))
    (Q : ∀ (yH yK : Nat → Int32), (∀ j, j < sz → ∀ t, t < n → yH (201 * j + t) = pm_b (pm_H wd fc tk sz j t)) → post (nI wd, nI sz, nI cnt, aT, yF, yH, yK)) :
    ∀ k (yH yK : Nat → Int32), k ≤ sz → (∀ q, q < pm_pend tk k → ∃ s, yK q = nI s ∧ pm_F tk k (q + 1) s ∧ s < sz) → (∀ j, k ≤ j → j < sz → ∀ t, t < n → yH (201 * j + t) = pm_b (pm_H wd fc tk sz j t)) →
    ∀ m, k < m → wY_work_9 post (nI n) (nI wd) (nI sz) (nI cnt) m (nI (pm_pend tk k)) (nI k - 1) aT yF yH yK := by
  intro k
  induction k with
  | zero =>
    intro yH yK hk S A m hm
    obtain ⟨m, rfl⟩ : ∃ l, m = l + 1 := ⟨m - 1, by omega⟩
    rw [wY_work_9]
    exact br_t pn_01 (Q yH yK (fun j hj => A j (Nat.zero_le j) hj))
  | succ k ih =>
    intro yH yK hk S A m hm
    obtain ⟨m, rfl⟩ : ∃ l, m = l + 1 := ⟨m - 1, by omega⟩
    have ek : (nI k).toNatClampNeg = k := nI_clamp (by omega)
    have hop := (hT k).1
    have hp := hc.1 k (by omega)
    have hs := pm_pend_s tk k
    have hl := pm_pend_le tk k
    have hw2 := pm_w_le (tk k)
    have M : wY_work_56 post (wY_work_9 post (nI n) (nI wd) (nI sz) (nI cnt) m) (nI n) (nI (pm_pend tk (k + 1))) (nI k) (nI (tk k)) (nI (pm_w (tk k))) (nI wd) (nI sz) (nI cnt) aT yF yH yK := by
      refine yw_56 (by omega) (fun q hq => ?_) (fun g h hg hh eg eh => ?_)
      · obtain ⟨s, e, _, h2⟩ := S q hq
        exact ⟨s, e, by omega⟩
      · refine ⟨n + 1, yw_99 (fc := fc) hop hz (by omega) hn hw hg hh (fun h4 => ?_) (fun h2 => ?_) hF hp (fun yH A' => ?_) n 0 yH (by omega) (fun j hj hj2 => A j (by omega) hj2) (fun u hu => absurd hu (Nat.not_lt_zero u)) (n + 1) (by omega)⟩
        · have hw1 := pm_w_pos h4
          have hk1 := pm_cp_1 hc (k := k) (by omega) h4
          obtain ⟨s, e, hF2, h2⟩ := S (pm_pend tk (k + 1) - 1) (by omega)
          rw [eg (by omega)] at e
          have egs : g = s := (nI_eq (by omega) (by omega)).mp e
          refine ⟨?_, hk1⟩
          by_cases hsk : s = k + 1
          · omega
          · have := hF2.2.2 (k + 1) (Nat.le_refl _) (by have := hF2.1; omega)
            omega
        · obtain ⟨hF3, h3⟩ := pm_cp_2 hc hz (k := k) (by omega) h2
          obtain ⟨s, e, hF2, h4⟩ := S (pm_pend tk (k + 1) - 2) (by omega)
          rw [eh (by omega)] at e
          have ehs : h = s := (nI_eq (by omega) (by omega)).mp e
          refine ⟨?_, h3⟩
          rw [show pm_pend tk (k + 1) - 2 + 1 = pm_pend tk k by omega] at hF2
          rw [pm_sc_F hF2 (by omega)]
          exact ehs
        · refine ih yH _ (by omega) (fun q hq => ?_) A' m (by omega)
          by_cases e : q = pm_pend tk k - 1
          · refine ⟨k, by rw [e, pk_us], ⟨Nat.le_refl k, by omega, fun i h1 h2 => by omega⟩, by omega⟩
          · obtain ⟨s, e2, ⟨f1, f2, f3⟩, h2⟩ := S q (by omega)
            refine ⟨s, by rw [pk_un e]; exact e2, ⟨by omega, f2, fun i h3 h4 => ?_⟩, h2⟩
            by_cases e3 : i = k
            · rw [e3]; omega
            · exact f3 i (by omega) h4
    rw [wY_work_9, nI_pred]
    refine br_f (nI_pos (by omega)) ?_
    rw [ek, (hT k).2]
    refine ⟨vp_in_nI (by omega) (by omega), nm_e (pk_lt 3 (tk k) (fun h3 => pk_eq (tk k) 5 (fun e => ?_) (fun e5 => pk_eq (tk k) 6 (fun e => ?_) (fun e6 => pk_eq (tk k) 10 (fun e => ?_) (fun e10 => ?_)))) (fun h3 => ?_))⟩
    · rw [pm_w2 (op := tk k) (by omega)] at M; exact M
    · rw [pm_w2 (op := tk k) (by omega)] at M; exact M
    · rw [pm_w2 (op := tk k) (by omega)] at M; exact M
    · rw [pm_w1 (op := tk k) (by omega) e5 e6 e10] at M; exact M
    · rw [pm_w0 (op := tk k) (by omega)] at M; exact M
theorem yw_work {post : SY → Prop} {tk fc : Nat → Nat} {n : Nat} (hT : pm_TK tk aT) (hc : pm_cp tk sz) (hz : sz ≤ 14) (hn : n ≤ 201) (hw : wd ≤ 12) (hF : ∀ t, t < n → fc t ≤ 15 ∧ yF t = nI (fc t))
    (Q : ∀ (yH yK : Nat → Int32), (∀ t, t < n → yH t = pm_b (pm_H wd fc tk sz 0 t)) → post (nI wd, nI sz, nI cnt, aT, yF, yH, yK)) : wpY_work post (nI wd, nI sz, nI cnt, aT, yF, yH, yK) (nI n) := by
  unfold wpY_work
  dsimp only
  refine nm_e ⟨sz + 1, ?_⟩
  have h := yw_9 (fc := fc) hT hc hz hn hw hF (fun yH yK h => Q yH yK (fun t ht => by have h0 := h 0 (pm_cp_pos hc) t ht; rw [Nat.mul_zero, Nat.zero_add] at h0; exact h0)) sz yH yK (Nat.le_refl sz) (fun q hq => absurd hq (by rw [hc.2]; exact Nat.not_lt_zero q)) (fun j h1 h2 => absurd h2 (by omega)) (sz + 1) (by omega)
  rw [hc.2] at h
  exact h
def pm_RY (cnt : Nat) (fc : Nat → Nat) (yF : Nat → Int32) : Prop := ∀ t, t < cnt → fc t ≤ 15 ∧ yF t = nI (fc t)
theorem yq_at {post : Int32 → SY → Prop} {tk fc : Nat → Nat} {t : Nat} (hT : pm_TK tk aT) (hok : pm_ok tk sz) (hz : sz ≤ 14) (hcnt : cnt ≤ 200) (hw : wd ≤ 12) (hF : pm_RY cnt fc yF) (ht : t < cnt)
    (Q : ∀ (yH yK : Nat → Int32), post (pm_b (decide (pm_pend tk sz = 0) && pm_H wd fc tk sz 0 t)) (nI wd, nI sz, nI cnt, aT, yF, yH, yK)) : wpY_at post (nI wd, nI sz, nI cnt, aT, yF, yH, yK) (nI t) := by
  have et : (nI t).toNatClampNeg = t := nI_clamp (by omega)
  unfold wpY_at
  dsimp only
  refine br_f (nI_pos (by omega)) (br_f (nI_ge ht (by omega)) (yc_complete hT hz hok ?_))
  by_cases hp : pm_pend tk sz = 0
  · rw [decide_eq_true hp] at Q ⊢
    refine br_f pm_b10 (yw_work hT ⟨hok, hp⟩ hz (by omega) hw hF (fun yH yK h => ?_))
    have hq := Q yH yK
    rw [Bool.true_and] at hq
    dsimp only
    rw [et, h t ht]
    exact ⟨vp_in_nI (by omega) (by omega), pm_bn _, hq⟩
  · have hq := Q yH yK
    rw [decide_eq_false hp] at hq ⊢
    exact br_t rfl hq
theorem yq_c21 {post : Int32 → SY → Prop} {G : Nat → Bool} (hcnt : cnt ≤ 200) (A : ∀ t, t < cnt → yH t = pm_b (G t)) :
    ∀ d u a, u + d = cnt → post (nI (a + pm_cn G d u)) (nI wd, nI sz, nI cnt, aT, yF, yH, yK) → ∀ n, d < n → wY_count_21 post (nI wd) (nI sz) (nI cnt) aT yF yH yK n (nI a) (nI u) := by
  intro d
  induction d with
  | zero =>
    intro u a hd h n hn
    obtain ⟨n, rfl⟩ : ∃ m, n = m + 1 := ⟨n - 1, by omega⟩
    rw [wY_count_21]
    exact pk_le cnt u (fun _ => h) (fun e => absurd e (by omega))
  | succ d ih =>
    intro u a hd h n hn
    obtain ⟨n, rfl⟩ : ∃ m, n = m + 1 := ⟨n - 1, by omega⟩
    have eu : (nI u).toNatClampNeg = u := nI_clamp (by omega)
    rw [wY_count_21]
    refine pk_le cnt u (fun e => absurd e (by omega)) (fun _ => ⟨vp_in_nI (by omega) (by omega), ?_⟩)
    rw [pm_cn_s] at h
    rw [eu]
    refine pm_br _ (A u (by omega)) (fun e => ?_) (fun e => ?_)
    · rw [e, if_neg (by decide), Nat.zero_add] at h
      exact nm_r (Int32.add_zero _) (nm_r (nI_1 u) (ih (u + 1) a (by omega) h n (by omega)))
    · rw [e, if_pos rfl, ← Nat.add_assoc] at h
      exact nm_r (nI_1 a) (nm_r (nI_1 u) (ih (u + 1) (a + 1) (by omega) h n (by omega)))
theorem yq_count {post : Int32 → SY → Prop} {tk fc : Nat → Nat} (hT : pm_TK tk aT) (hok : pm_ok tk sz) (hz : sz ≤ 14) (hcnt : cnt ≤ 200) (hw : wd ≤ 12) (hF : pm_RY cnt fc yF)
    (Q : ∀ (yH yK : Nat → Int32), post (if pm_pend tk sz = 0 then nI (pm_cn (pm_H wd fc tk sz 0) cnt 0) else -1) (nI wd, nI sz, nI cnt, aT, yF, yH, yK)) : wpY_count post (nI wd, nI sz, nI cnt, aT, yF, yH, yK) := by
  unfold wpY_count
  dsimp only
  refine yc_complete hT hz hok ?_
  by_cases hp : pm_pend tk sz = 0
  · rw [decide_eq_true hp]
    refine br_f pm_b10 (yw_work hT ⟨hok, hp⟩ hz (by omega) hw hF (fun yH yK h => ?_))
    have hq := Q yH yK
    rw [if_pos hp] at hq
    refine ⟨cnt + 1, yq_c21 hcnt h cnt 0 0 (by omega) ?_ (cnt + 1) (by omega)⟩
    rw [Nat.zero_add]
    exact hq
  · have hq := Q yH yK
    rw [decide_eq_false hp]
    rw [if_neg hp] at hq
    exact br_t rfl hq
theorem yq_v23 {post : Int32 → SY → Prop} {G : Nat → Bool} (hcnt : cnt ≤ 200) (A : ∀ t, t < cnt → yH t = pm_b (G t)) :
    ∀ d u, d = cnt - u → u < 2 ^ 31 → post (pm_vi G d u) (nI wd, nI sz, nI cnt, aT, yF, yH, yK) → ∀ n, d < n → wY_violation_23 post (nI wd) (nI sz) (nI cnt) aT yF yH yK n (nI u) := by
  intro d
  induction d with
  | zero =>
    intro u hd hu h n hn
    obtain ⟨n, rfl⟩ : ∃ m, n = m + 1 := ⟨n - 1, by omega⟩
    rw [wY_violation_23]
    exact pk_le cnt u (fun _ => h) (fun e => absurd e (by omega))
  | succ d ih =>
    intro u hd hu h n hn
    obtain ⟨n, rfl⟩ : ∃ m, n = m + 1 := ⟨n - 1, by omega⟩
    have eu : (nI u).toNatClampNeg = u := nI_clamp (by omega)
    rw [wY_violation_23]
    refine pk_le cnt u (fun e => absurd e (by omega)) (fun _ => ⟨vp_in_nI (by omega) (by omega), ?_⟩)
    rw [pm_vi_s] at h
    rw [eu]
    refine pm_br _ (A u (by omega)) (fun e => ?_) (fun e => ?_)
    · rw [e, if_neg (by decide)] at h
      exact h
    · rw [e, if_pos rfl] at h
      exact nm_r (nI_1 u) (ih (u + 1) (by omega) (by omega) h n (by omega))
theorem yq_violation {post : Int32 → SY → Prop} {tk fc : Nat → Nat} {t : Nat} (hT : pm_TK tk aT) (hok : pm_ok tk sz) (hz : sz ≤ 14) (hcnt : cnt ≤ 200) (hw : wd ≤ 12) (hF : pm_RY cnt fc yF) (ht : t < 2 ^ 31)
    (Q : ∀ (yH yK : Nat → Int32), post (if pm_pend tk sz = 0 then pm_vi (pm_H wd fc tk sz 0) (cnt - t) t else -1) (nI wd, nI sz, nI cnt, aT, yF, yH, yK)) : wpY_violation post (nI wd, nI sz, nI cnt, aT, yF, yH, yK) (nI t) := by
  unfold wpY_violation
  dsimp only
  refine br_f (nI_pos ht) (yc_complete hT hz hok ?_)
  by_cases hp : pm_pend tk sz = 0
  · rw [decide_eq_true hp]
    refine br_f pm_b10 (yw_work hT ⟨hok, hp⟩ hz (by omega) hw hF (fun yH yK h => ?_))
    have hq := Q yH yK
    rw [if_pos hp] at hq
    exact ⟨cnt - t + 1, yq_v23 hcnt h (cnt - t) t rfl ht hq (cnt - t + 1) (by omega)⟩
  · have hq := Q yH yK
    rw [decide_eq_false hp]
    rw [if_neg hp] at hq
    exact br_t rfl hq
theorem yq_s19 {post : Int32 → SY → Prop} {G : Nat → Bool} (hcnt : cnt ≤ 200) (A : ∀ t, t < cnt → yH t = pm_b (G t)) :
    ∀ d x, x + d = cnt → post (pm_sk G cnt d x) (nI wd, nI sz, nI cnt, aT, yF, yH, yK) → ∀ n, d < n → wY_streak_19 post (nI wd) (nI sz) (nI cnt) aT yF yH yK n (nI x) := by
  intro d
  induction d with
  | zero =>
    intro x hd h n hn
    obtain ⟨n, rfl⟩ : ∃ m, n = m + 1 := ⟨n - 1, by omega⟩
    rw [wY_streak_19]
    exact pk_le cnt x (fun _ => h) (fun e => absurd e (by omega))
  | succ d ih =>
    intro x hd h n hn
    obtain ⟨n, rfl⟩ : ∃ m, n = m + 1 := ⟨n - 1, by omega⟩
    have ei : (nI cnt - 1) - nI x = nI (cnt - 1 - x) := by rw [pn_s1 (by omega), pk_sub (by omega)]
    have eu : (nI (cnt - 1 - x)).toNatClampNeg = cnt - 1 - x := nI_clamp (by omega)
    rw [wY_streak_19]
    dsimp only
    rw [ei, eu]
    refine pk_le cnt x (fun e => absurd e (by omega)) (fun _ => ⟨vp_in_nI (by omega) (by omega), ?_⟩)
    rw [pm_sk_s] at h
    refine pm_br _ (A (cnt - 1 - x) (by omega)) (fun e => ?_) (fun e => ?_)
    · rw [e, if_neg (by decide)] at h
      exact h
    · rw [e, if_pos rfl] at h
      exact nm_r (nI_1 x) (ih (x + 1) (by omega) h n (by omega))
theorem yq_streak {post : Int32 → SY → Prop} {tk fc : Nat → Nat} (hT : pm_TK tk aT) (hok : pm_ok tk sz) (hz : sz ≤ 14) (hcnt : cnt ≤ 200) (hw : wd ≤ 12) (hF : pm_RY cnt fc yF)
    (Q : ∀ (yH yK : Nat → Int32), post (if pm_pend tk sz = 0 then pm_sk (pm_H wd fc tk sz 0) cnt cnt 0 else -1) (nI wd, nI sz, nI cnt, aT, yF, yH, yK)) : wpY_streak post (nI wd, nI sz, nI cnt, aT, yF, yH, yK) := by
  unfold wpY_streak
  dsimp only
  refine yc_complete hT hz hok ?_
  by_cases hp : pm_pend tk sz = 0
  · rw [decide_eq_true hp]
    refine br_f pm_b10 (yw_work hT ⟨hok, hp⟩ hz (by omega) hw hF (fun yH yK h => ?_))
    have hq := Q yH yK
    rw [if_pos hp] at hq
    exact ⟨cnt + 1, yq_s19 hcnt h cnt 0 (by omega) hq (cnt + 1) (by omega)⟩
  · have hq := Q yH yK
    rw [decide_eq_false hp]
    rw [if_neg hp] at hq
    exact br_t rfl hq
theorem yq_would {post : Int32 → SY → Prop} {tk fc : Nat → Nat} {f : Nat} (hT : pm_TK tk aT) (hok : pm_ok tk sz) (hz : sz ≤ 14) (hcnt : cnt ≤ 200) (hw : wd ≤ 12) (hF : pm_RY cnt fc yF) (hf : f ≤ 15)
    (Q : ∀ (yF yH yK : Nat → Int32), pm_RY cnt fc yF → post (pm_b (pm_wh wd fc tk sz cnt f)) (nI wd, nI sz, nI cnt, aT, yF, yH, yK)) : wpY_wouldHold post (nI wd, nI sz, nI cnt, aT, yF, yH, yK) (nI f) := by
  have et : (nI cnt).toNatClampNeg = cnt := nI_clamp (by omega)
  unfold wpY_wouldHold
  dsimp only
  refine br_f (nI_pos (by omega)) (pk_lt 15 f (fun e => absurd e (by omega)) (fun _ => yc_complete hT hz hok ?_))
  by_cases hp : pm_pend tk sz = 0
  · rw [decide_eq_true hp]
    refine br_f pm_b10 ⟨vp_in_nI (by omega) (by omega), ?_⟩
    rw [et, nI_1 cnt]
    refine nm_e (yw_work (fc := pm_fu fc cnt f) hT ⟨hok, hp⟩ hz (by omega) hw (fun t ht => ?_) (fun yH yK h => ?_))
    · by_cases e : t = cnt
      · rw [e, pm_fu_at, pk_us]; exact ⟨hf, rfl⟩
      · rw [← pm_fu_lt (by omega), pk_un e]; exact hF t (by omega)
    · have hq := Q (upd yF cnt (nI f)) yH yK (fun t ht => by rw [pk_un (by omega)]; exact hF t ht)
      unfold pm_wh at hq
      rw [decide_eq_true hp, Bool.true_and] at hq
      dsimp only
      rw [et, h cnt (by omega)]
      exact ⟨vp_in_nI (by omega) (by omega), pm_bn _, hq⟩
  · have hq := Q yF yH yK hF
    unfold pm_wh at hq
    rw [decide_eq_false hp] at hq ⊢
    exact br_t rfl hq
theorem yq_a4 {post : Int32 → SY → Prop} {tk fc : Nat → Nat} (hT : pm_TK tk aT) (hok : pm_ok tk sz) (hz : sz ≤ 14) (hcnt : cnt ≤ 200) (hw : wd ≤ 12)
    (Q : ∀ (yF yH yK : Nat → Int32), pm_RY cnt fc yF → post (nI (pm_cn (pm_wh wd fc tk sz cnt) 16 0)) (nI wd, nI sz, nI cnt, aT, yF, yH, yK)) :
    ∀ d u a (yF yH yK : Nat → Int32), u + d = 16 → a + pm_cn (pm_wh wd fc tk sz cnt) d u = pm_cn (pm_wh wd fc tk sz cnt) 16 0 → pm_RY cnt fc yF → ∀ n, d < n → wY_allowed_4 post n (nI a) (nI u) (nI wd) (nI sz) (nI cnt) aT yF yH yK := by
  intro d
  induction d with
  | zero =>
    intro u a yF yH yK hd h R n hn
    obtain ⟨n, rfl⟩ : ∃ m, n = m + 1 := ⟨n - 1, by omega⟩
    rw [wY_allowed_4]
    refine pk_le 16 u (fun _ => ?_) (fun e => absurd e (by omega))
    have h2 := Q yF yH yK R
    rw [← h] at h2
    exact h2
  | succ d ih =>
    intro u a yF yH yK hd h R n hn
    obtain ⟨n, rfl⟩ : ∃ m, n = m + 1 := ⟨n - 1, by omega⟩
    rw [wY_allowed_4]
    refine pk_le 16 u (fun e => absurd e (by omega)) (fun _ => yq_would hT hok hz hcnt hw R (by omega) (fun yF yH yK R => ?_))
    dsimp only
    rw [pm_cn_s] at h
    refine pm_br _ rfl (fun e => ?_) (fun e => ?_)
    · rw [e, if_neg (by decide), Nat.zero_add] at h
      exact nm_r (Int32.add_zero _) (nm_r (nI_1 u) (ih (u + 1) a yF yH yK (by omega) h R n (by omega)))
    · rw [e, if_pos rfl, ← Nat.add_assoc] at h
      exact nm_r (nI_1 a) (nm_r (nI_1 u) (ih (u + 1) (a + 1) yF yH yK (by omega) h R n (by omega)))
theorem yq_allowed {post : Int32 → SY → Prop} {tk fc : Nat → Nat} (hT : pm_TK tk aT) (hok : pm_ok tk sz) (hz : sz ≤ 14) (hcnt : cnt ≤ 200) (hw : wd ≤ 12) (hF : pm_RY cnt fc yF)
    (Q : ∀ (yF yH yK : Nat → Int32), pm_RY cnt fc yF → post (nI (pm_cn (pm_wh wd fc tk sz cnt) 16 0)) (nI wd, nI sz, nI cnt, aT, yF, yH, yK)) : wpY_allowed post (nI wd, nI sz, nI cnt, aT, yF, yH, yK) := by
  unfold wpY_allowed
  dsimp only
  exact ⟨17, yq_a4 hT hok hz hcnt hw Q 16 0 0 yF yH yK (by omega) (Nat.zero_add _) hF 17 (by omega)⟩
end PMYW
end
section
section PMREL
def i_Rel (_ : Nat) (u : SX) (v : SY) : Prop := ∃ (wd sz cnt jd : Nat) (tk fc : Nat → Nat) (xO : Int32) (aT aS aO aN aF : Nat → Int32) (aB : Nat → Int64) (aV aP aM aL sV sM sS yF yH yK : Nat → Int32), u = (nI wd, nI sz, xO, nI cnt, nI jd, aT, aS, aO, aN, aF, aB, aV, aP, aM, aL, sV, sM, sS) ∧ v = (nI wd, nI sz, nI cnt, aT, yF, yH, yK) ∧ pm_RX wd sz cnt jd tk fc aT aF aB aV aM aL ∧ pm_RY cnt fc yF
theorem pm_in {k wd sz cnt jd : Nat} {tk fc : Nat → Nat} {xO : Int32} {aT aS aO aN aF : Nat → Int32} {aB : Nat → Int64} {aV aP aM aL sV sM sS yF yH yK : Nat → Int32} (R : pm_RX wd sz cnt jd tk fc aT aF aB aV aM aL) (S : pm_RY cnt fc yF) : i_Rel k (nI wd, nI sz, xO, nI cnt, nI jd, aT, aS, aO, aN, aF, aB, aV, aP, aM, aL, sV, sM, sS) (nI wd, nI sz, nI cnt, aT, yF, yH, yK) :=
  ⟨wd, sz, cnt, jd, tk, fc, xO, aT, aS, aO, aN, aF, aB, aV, aP, aM, aL, sV, sM, sS, yF, yH, yK, rfl, rfl, R, S⟩
theorem pm_el {k : Nat} {u : SX} {v : SY} {P : SX → SY → Prop} (h : ∀ (wd sz cnt jd : Nat) (tk fc : Nat → Nat) (xO : Int32) (aT aS aO aN aF : Nat → Int32) (aB : Nat → Int64) (aV aP aM aL sV sM sS yF yH yK : Nat → Int32), pm_RX wd sz cnt jd tk fc aT aF aB aV aM aL → pm_RY cnt fc yF → P (nI wd, nI sz, xO, nI cnt, nI jd, aT, aS, aO, aN, aF, aB, aV, aP, aM, aL, sV, sM, sS) (nI wd, nI sz, nI cnt, aT, yF, yH, yK)) (I : i_Rel k u v) : P u v := by
  obtain ⟨wd, sz, cnt, jd, tk, fc, xO, aT, aS, aO, aN, aF, aB, aV, aP, aM, aL, sV, sM, sS, yF, yH, yK, e1, e2, R, S⟩ := I
  rw [e1, e2]
  exact h wd sz cnt jd tk fc xO aT aS aO aN aF aB aV aP aM aL sV sM sS yF yH yK R S
theorem i_up {k : Nat} {u : SX} {v : SY} (h : i_Rel k u v) : i_Rel (k + 2) u v := h
theorem i_vc0 (k0 : Int32) : wpX_init (fun u => wpY_init (fun v => i_Rel 1 u v) k0) k0 := by
  have B : ∀ wd : Nat, wd ≤ 12 → i_Rel 1 (nI wd, nI 0, 0, nI 0, nI 0, (fun _ => 0), (fun _ => 0), (fun _ => 0), (fun _ => 0), (fun _ => 0), (fun _ => 0), (fun _ => 0), (fun _ => 0), (fun _ => 0), (fun _ => 0), (fun _ => 0), (fun _ => 0), (fun _ => 0)) (nI wd, nI 0, nI 0, (fun _ => 0), (fun _ => 0), (fun _ => 0), (fun _ => 0)) := by
    intro wd hw
    exact pm_in (tk := fun _ => 0) (fc := fun _ => 0) ⟨hw, by omega, by omega, Nat.le_refl 0, fun k => ⟨Nat.zero_le 12, rfl⟩, fun k h => absurd h (Nat.not_lt_zero k), fun t h => absurd h (Nat.not_lt_zero t), fun _ h => absurd h (Nat.lt_irrefl 0)⟩ (fun t h => absurd h (Nat.not_lt_zero t))
  unfold wpX_init
  refine br_c (fun h => br_c (fun h2 => ?_) (fun h2 => ?_)) (fun h => ?_)
  · obtain ⟨j, hj, e⟩ := nI_of2 (x := k0) (M := 12) (n := 12) (by decide) (Int32.not_lt.mpr h) h2
    subst e
    exact br_t h (br_t h2 (B j hj))
  · exact br_t h (br_f h2 (B 12 (by omega)))
  · exact br_f h (B 0 (by omega))
theorem i_vc_feed {k : Nat} {u : SX} {v : SY} (I : i_Rel k u v) (hk : k + 2 ≤ 1025) (v1 : Int32) : wpX_feed (fun r u' => wpY_feed (fun r' v' => r' = r ∧ i_Rel (k + 2) u' v') v v1) u v1 := by
  refine pm_el (P := fun u v => wpX_feed (fun r u' => wpY_feed (fun r' v' => r' = r ∧ i_Rel (k + 2) u' v') v v1) u v1) ?_ I
  intro wd sz cnt jd tk fc xO aT aS aO aN aF aB aV aP aM aL sV sM sS yF yH yK R S
  have R0 := R
  obtain ⟨hw, hz, hcnt, hjd, hT, hok, hF, hJ⟩ := R0
  by_cases h0 : v1 < 0
  · exact br_t h0 (br_t h0 ⟨rfl, pm_in R S⟩)
  by_cases h12 : 12 < v1
  · exact br_f h0 (br_t h12 (br_f h0 (br_t h12 ⟨rfl, pm_in R S⟩)))
  obtain ⟨f, hf, e⟩ := nI_of2 (x := v1) (M := 12) (n := 12) (by decide) h0 (Int32.not_lt.mp h12)
  subst e
  have es : (nI sz).toNatClampNeg = sz := nI_clamp (by omega)
  unfold wpX_feed
  dsimp only
  refine br_f h0 (br_f h12 (pk_le 14 sz (fun h14 => ?_) (fun h14 => ?_)))
  · unfold wpY_feed
    dsimp only
    refine br_f h0 (br_f h12 (yc_complete hT hz hok ?_))
    refine pm_br _ rfl (fun _ => pk_lt sz 14 (fun h => absurd h (by omega)) (fun _ => ⟨rfl, pm_in R S⟩)) (fun _ => ⟨rfl, pm_in R S⟩)
  · refine xc_complete hT hz hok (fun xO aS aO aN _ => ?_)
    dsimp only
    rw [es, pn_byte f (by omega)]
    unfold wpY_feed
    dsimp only
    rw [es]
    refine pm_br _ rfl (fun e => ?_) (fun e => ?_)
    · have hp : ¬ pm_pend tk sz = 0 := of_decide_eq_false e
      refine ⟨vp_in_nI (by omega) (by omega), nm_e (nm_r (nI_1 sz) ?_)⟩
      refine br_f h0 (br_f h12 (yc_complete hT hz hok ?_))
      refine pm_br _ rfl (fun _ => pk_lt sz 14 (fun h => ?_) (fun h => absurd h (by omega))) (fun e2 => absurd (of_decide_eq_true e2) hp)
      refine ⟨vp_in_nI (by omega) (by omega), nm_e (nm_r (nI_1 sz) ⟨rfl, ?_⟩)⟩
      have hpc : ∀ j, j ≤ sz → pm_pend (fun j => if j = sz then f else tk j) j = pm_pend tk j := fun j hj => pm_pend_congr j (fun i hi => if_neg (by omega))
      refine pm_in (jd := 0) (tk := fun j => if j = sz then f else tk j) (fc := fc) ⟨hw, by omega, hcnt, Nat.zero_le _, fun j => ?_, fun j hj => ?_, hF, fun _ h => absurd h (Nat.lt_irrefl 0)⟩ S
      · by_cases ej : j = sz
        · show (if j = sz then f else tk j) ≤ 12 ∧ upd aT sz (nI f) j = nI (if j = sz then f else tk j)
          rw [if_pos ej, ej, pk_us]
          exact ⟨hf, rfl⟩
        · show (if j = sz then f else tk j) ≤ 12 ∧ upd aT sz (nI f) j = nI (if j = sz then f else tk j)
          rw [if_neg ej, pk_un ej]
          exact hT j
      · rw [hpc j (by omega)]
        by_cases ej : j = sz
        · rw [ej]; omega
        · exact hok j (by omega)
    · have hp : pm_pend tk sz = 0 := of_decide_eq_true e
      refine br_f h0 (br_f h12 (yc_complete hT hz hok ?_))
      exact pm_br _ rfl (fun e2 => absurd hp (of_decide_eq_false e2)) (fun _ => ⟨rfl, pm_in R S⟩)
theorem i_vc_back {k : Nat} {u : SX} {v : SY} (I : i_Rel k u v) (hk : k + 2 ≤ 1025) : wpX_back (fun r u' => wpY_back (fun r' v' => r' = r ∧ i_Rel (k + 2) u' v') v) u := by
  refine pm_el (P := fun u v => wpX_back (fun r u' => wpY_back (fun r' v' => r' = r ∧ i_Rel (k + 2) u' v') v) u) ?_ I
  intro wd sz cnt jd tk fc xO aT aS aO aN aF aB aV aP aM aL sV sM sS yF yH yK R S
  have R0 := R
  obtain ⟨hw, hz, hcnt, hjd, hT, hok, hF, hJ⟩ := R0
  refine pk_eq sz 0 (fun e => ?_) (fun e => ?_)
  · exact pk_eq sz 0 (fun _ => ⟨rfl, pm_in R S⟩) (fun h => absurd e h)
  · refine nm_r (pn_s1 (by omega)) ⟨vp_in_nI (by omega) (by omega), ?_⟩
    refine pk_eq sz 0 (fun h => absurd h e) (fun _ => nm_r (pn_s1 (by omega)) ⟨vp_in_nI (by omega) (by omega), rfl, ?_⟩)
    exact pm_in (jd := 0) (tk := tk) (fc := fc) ⟨hw, by omega, hcnt, Nat.zero_le _, hT, fun j hj => hok j (by omega), hF, fun _ h => absurd h (Nat.lt_irrefl 0)⟩ S
theorem i_vc_complete {k : Nat} {u : SX} {v : SY} (I : i_Rel k u v) (hk : k + 2 ≤ 1025) : wpX_complete (fun r u' => wpY_complete (fun r' => r' = r ∧ i_Rel (k + 2) u' v) v) u := by
  refine pm_el (P := fun u v => wpX_complete (fun r u' => wpY_complete (fun r' => r' = r ∧ i_Rel (k + 2) u' v) v) u) ?_ I
  intro wd sz cnt jd tk fc xO aT aS aO aN aF aB aV aP aM aL sV sM sS yF yH yK R S
  have R0 := R
  obtain ⟨hw, hz, hcnt, hjd, hT, hok, hF, hJ⟩ := R0
  refine xc_complete hT hz hok (fun xO aS aO aN _ => ?_)
  exact yc_complete hT hz hok ⟨rfl, pm_in R S⟩
theorem i_vc_window {k : Nat} {u : SX} {v : SY} (I : i_Rel k u v) (hk : k + 2 ≤ 1025) : wpX_window (fun r => wpY_window (fun r' => r' = r ∧ i_Rel (k + 2) u v) v) u := by
  refine pm_el (P := fun u v => wpX_window (fun r => wpY_window (fun r' => r' = r ∧ i_Rel (k + 2) u v) v) u) ?_ I
  intro wd sz cnt jd tk fc xO aT aS aO aN aF aB aV aP aM aL sV sM sS yF yH yK R S
  have R0 := R
  obtain ⟨hw, hz, hcnt, hjd, hT, hok, hF, hJ⟩ := R0
  exact ⟨rfl, pm_in R S⟩
theorem i_vc_event {k : Nat} {u : SX} {v : SY} (I : i_Rel k u v) (hk : k + 2 ≤ 1025) (v1 : Int32) : wpX_event (fun r u' => wpY_event (fun r' v' => r' = r ∧ i_Rel (k + 2) u' v') v v1) u v1 := by
  refine pm_el (P := fun u v => wpX_event (fun r u' => wpY_event (fun r' v' => r' = r ∧ i_Rel (k + 2) u' v') v v1) u v1) ?_ I
  intro wd sz cnt jd tk fc xO aT aS aO aN aF aB aV aP aM aL sV sM sS yF yH yK R S
  have R0 := R
  obtain ⟨hw, hz, hcnt, hjd, hT, hok, hF, hJ⟩ := R0
  by_cases h0 : v1 < 0
  · exact br_t h0 (br_t h0 ⟨rfl, pm_in R S⟩)
  by_cases h15 : v1 ≤ 15
  · obtain ⟨f, hf, e⟩ := nI_of2 (x := v1) (M := 15) (n := 15) (by decide) h0 h15
    subst e
    have ec : (nI cnt).toNatClampNeg = cnt := nI_clamp (by omega)
    unfold wpX_event wpY_event
    dsimp only
    rw [ec, pn_byte f (by omega)]
    refine br_f h0 (br_t h15 (pk_lt cnt 200 (fun h => ?_) (fun h => ?_)))
    · refine ⟨vp_in_nI (by omega) (by omega), nm_e (nm_r (nI_1 cnt) ?_)⟩
      refine br_f h0 (br_t h15 (pk_lt cnt 200 (fun _ => ?_) (fun h2 => absurd h2 (by omega))))
      refine ⟨vp_in_nI (by omega) (by omega), nm_e (nm_r (nI_1 cnt) ⟨rfl, ?_⟩)⟩
      refine pm_in (tk := tk) (fc := pm_fu fc cnt f) ⟨hw, hz, by omega, by omega, hT, hok, fun t ht => ?_, fun hp hj => ?_⟩ (fun t ht => ?_)
      · by_cases e : t = cnt
        · rw [e, pm_fu_at, pk_us]; exact ⟨hf, rfl⟩
        · rw [← pm_fu_lt (by omega), pk_un e]; exact hF t (by omega)
      · obtain ⟨J, A⟩ := hJ hp hj
        exact ⟨pm_JS_c (fun t ht => pm_fu_lt (by omega)) J, pm_TA_c (fun t ht => pm_fu_lt (by omega)) A⟩
      · by_cases e : t = cnt
        · rw [e, pm_fu_at, pk_us]; exact ⟨hf, rfl⟩
        · rw [← pm_fu_lt (by omega), pk_un e]; exact S t (by omega)
    · refine br_f h0 (br_t h15 (pk_lt cnt 200 (fun h2 => absurd h2 (by omega)) (fun _ => ⟨rfl, pm_in R S⟩)))
  · exact br_f h0 (br_f h15 (br_f h0 (br_f h15 ⟨rfl, pm_in R S⟩)))
theorem i_vc_undo {k : Nat} {u : SX} {v : SY} (I : i_Rel k u v) (hk : k + 2 ≤ 1025) : wpX_undo (fun r u' => wpY_undo (fun r' v' => r' = r ∧ i_Rel (k + 2) u' v') v) u := by
  refine pm_el (P := fun u v => wpX_undo (fun r u' => wpY_undo (fun r' v' => r' = r ∧ i_Rel (k + 2) u' v') v) u) ?_ I
  intro wd sz cnt jd tk fc xO aT aS aO aN aF aB aV aP aM aL sV sM sS yF yH yK R S
  have R0 := R
  obtain ⟨hw, hz, hcnt, hjd, hT, hok, hF, hJ⟩ := R0
  refine pk_eq cnt 0 (fun e => ?_) (fun e => ?_)
  · exact pk_eq cnt 0 (fun _ => ⟨rfl, pm_in R S⟩) (fun h => absurd e h)
  · refine nm_r (pn_s1 (by omega)) (pk_le jd (cnt - 1) (fun h => ?_) (fun h => ?_))
    · refine pk_eq cnt 0 (fun h => absurd h e) (fun _ => nm_r (pn_s1 (by omega)) ⟨rfl, ?_⟩)
      exact pm_in (tk := tk) (fc := fc) ⟨hw, hz, by omega, h, hT, hok, fun t ht => hF t (by omega), hJ⟩ (fun t ht => S t (by omega))
    · refine pk_eq cnt 0 (fun h => absurd h e) (fun _ => nm_r (pn_s1 (by omega)) ⟨rfl, ?_⟩)
      exact pm_in (jd := 0) (tk := tk) (fc := fc) ⟨hw, hz, by omega, Nat.zero_le _, hT, hok, fun t ht => hF t (by omega), fun _ h => absurd h (Nat.lt_irrefl 0)⟩ (fun t ht => S t (by omega))
theorem i_vc_restart {k : Nat} {u : SX} {v : SY} (I : i_Rel k u v) (hk : k + 2 ≤ 1025) : wpX_restart (fun u' => wpY_restart (fun v' => i_Rel (k + 2) u' v') v) u := by
  refine pm_el (P := fun u v => wpX_restart (fun u' => wpY_restart (fun v' => i_Rel (k + 2) u' v') v) u) ?_ I
  intro wd sz cnt jd tk fc xO aT aS aO aN aF aB aV aP aM aL sV sM sS yF yH yK R S
  have R0 := R
  obtain ⟨hw, hz, hcnt, hjd, hT, hok, hF, hJ⟩ := R0
  exact pm_in (k := k + 2) (cnt := 0) (jd := 0) (tk := tk) (fc := fc) ⟨hw, hz, by omega, Nat.le_refl 0, hT, hok, fun t ht => absurd ht (Nat.not_lt_zero t), fun _ h => absurd h (Nat.lt_irrefl 0)⟩ (fun t ht => absurd ht (Nat.not_lt_zero t))
theorem i_vc_events {k : Nat} {u : SX} {v : SY} (I : i_Rel k u v) (hk : k + 2 ≤ 1025) : wpX_events (fun r => wpY_events (fun r' => r' = r ∧ i_Rel (k + 2) u v) v) u := by
  refine pm_el (P := fun u v => wpX_events (fun r => wpY_events (fun r' => r' = r ∧ i_Rel (k + 2) u v) v) u) ?_ I
  intro wd sz cnt jd tk fc xO aT aS aO aN aF aB aV aP aM aL sV sM sS yF yH yK R S
  have R0 := R
  obtain ⟨hw, hz, hcnt, hjd, hT, hok, hF, hJ⟩ := R0
  exact ⟨rfl, pm_in R S⟩
theorem i_vc_now {k : Nat} {u : SX} {v : SY} (I : i_Rel k u v) (hk : k + 2 ≤ 1025) : wpX_now (fun r u' => wpY_now (fun r' v' => r' = r ∧ i_Rel (k + 2) u' v') v) u := by
  refine pm_el (P := fun u v => wpX_now (fun r u' => wpY_now (fun r' v' => r' = r ∧ i_Rel (k + 2) u' v') v) u) ?_ I
  intro wd sz cnt jd tk fc xO aT aS aO aN aF aB aV aP aM aL sV sM sS yF yH yK R S
  have R0 := R
  obtain ⟨hw, hz, hcnt, hjd, hT, hok, hF, hJ⟩ := R0
  by_cases e : cnt = 0
  · subst e
    unfold wpX_now wpX_at
    dsimp only
    refine br_t pn_01 ⟨rfl, ?_⟩
    unfold wpY_now wpY_at
    dsimp only
    exact br_t pn_01 ⟨rfl, rfl, pm_in R S⟩
  · unfold wpX_now
    dsimp only
    rw [pn_s1 (n := cnt) (by omega)]
    refine xq_at (by omega) R (fun jd xO aS aO aN aB aV aP aM aL R' => ⟨pm_bn _, ?_⟩)
    unfold wpY_now
    dsimp only
    rw [pn_s1 (n := cnt) (by omega)]
    exact yq_at hT hok hz hcnt hw S (by omega) (fun yH yK => ⟨pm_bn _, rfl, pm_in R' S⟩)
theorem i_vc_at {k : Nat} {u : SX} {v : SY} (I : i_Rel k u v) (hk : k + 2 ≤ 1025) (v1 : Int32) : wpX_at (fun r u' => wpY_at (fun r' v' => r' = r ∧ i_Rel (k + 2) u' v') v v1) u v1 := by
  refine pm_el (P := fun u v => wpX_at (fun r u' => wpY_at (fun r' v' => r' = r ∧ i_Rel (k + 2) u' v') v v1) u v1) ?_ I
  intro wd sz cnt jd tk fc xO aT aS aO aN aF aB aV aP aM aL sV sM sS yF yH yK R S
  have R0 := R
  obtain ⟨hw, hz, hcnt, hjd, hT, hok, hF, hJ⟩ := R0
  by_cases h0 : v1 < 0
  · exact br_t h0 (br_t h0 ⟨rfl, pm_in R S⟩)
  obtain ⟨t, ht, e⟩ := nI_of h0
  subst e
  by_cases h : t < cnt
  · refine xq_at h R (fun jd xO aS aO aN aB aV aP aM aL R' => ?_)
    exact yq_at hT hok hz hcnt hw S h (fun yH yK => ⟨rfl, pm_in R' S⟩)
  · have h2 : nI cnt ≤ nI t := nI_le (by omega) ht
    exact br_f h0 (br_t h2 (br_f h0 (br_t h2 ⟨rfl, pm_in R S⟩)))
theorem i_vc_count {k : Nat} {u : SX} {v : SY} (I : i_Rel k u v) (hk : k + 2 ≤ 1025) : wpX_count (fun r u' => wpY_count (fun r' v' => r' = r ∧ i_Rel (k + 2) u' v') v) u := by
  refine pm_el (P := fun u v => wpX_count (fun r u' => wpY_count (fun r' v' => r' = r ∧ i_Rel (k + 2) u' v') v) u) ?_ I
  intro wd sz cnt jd tk fc xO aT aS aO aN aF aB aV aP aM aL sV sM sS yF yH yK R S
  have R0 := R
  obtain ⟨hw, hz, hcnt, hjd, hT, hok, hF, hJ⟩ := R0
  refine xq_count R (fun jd xO aS aO aN aB aV aP aM aL R' => ?_)
  exact yq_count hT hok hz hcnt hw S (fun yH yK => ⟨rfl, pm_in R' S⟩)
theorem i_vc_violation {k : Nat} {u : SX} {v : SY} (I : i_Rel k u v) (hk : k + 2 ≤ 1025) (v1 : Int32) : wpX_violation (fun r u' => wpY_violation (fun r' v' => r' = r ∧ i_Rel (k + 2) u' v') v v1) u v1 := by
  refine pm_el (P := fun u v => wpX_violation (fun r u' => wpY_violation (fun r' v' => r' = r ∧ i_Rel (k + 2) u' v') v v1) u v1) ?_ I
  intro wd sz cnt jd tk fc xO aT aS aO aN aF aB aV aP aM aL sV sM sS yF yH yK R S
  have R0 := R
  obtain ⟨hw, hz, hcnt, hjd, hT, hok, hF, hJ⟩ := R0
  by_cases h0 : v1 < 0
  · exact br_t h0 (br_t h0 ⟨rfl, pm_in R S⟩)
  obtain ⟨t, ht, e⟩ := nI_of h0
  subst e
  refine xq_violation ht R (fun jd xO aS aO aN aB aV aP aM aL R' => ?_)
  exact yq_violation hT hok hz hcnt hw S ht (fun yH yK => ⟨rfl, pm_in R' S⟩)
theorem i_vc_streak {k : Nat} {u : SX} {v : SY} (I : i_Rel k u v) (hk : k + 2 ≤ 1025) : wpX_streak (fun r u' => wpY_streak (fun r' v' => r' = r ∧ i_Rel (k + 2) u' v') v) u := by
  refine pm_el (P := fun u v => wpX_streak (fun r u' => wpY_streak (fun r' v' => r' = r ∧ i_Rel (k + 2) u' v') v) u) ?_ I
  intro wd sz cnt jd tk fc xO aT aS aO aN aF aB aV aP aM aL sV sM sS yF yH yK R S
  have R0 := R
  obtain ⟨hw, hz, hcnt, hjd, hT, hok, hF, hJ⟩ := R0
  refine xq_streak R (fun jd xO aS aO aN aB aV aP aM aL R' => ?_)
  exact yq_streak hT hok hz hcnt hw S (fun yH yK => ⟨rfl, pm_in R' S⟩)
theorem i_vc_wouldHold {k : Nat} {u : SX} {v : SY} (I : i_Rel k u v) (hk : k + 2 ≤ 1025) (v1 : Int32) : wpX_wouldHold (fun r u' => wpY_wouldHold (fun r' v' => r' = r ∧ i_Rel (k + 2) u' v') v v1) u v1 := by
  refine pm_el (P := fun u v => wpX_wouldHold (fun r u' => wpY_wouldHold (fun r' v' => r' = r ∧ i_Rel (k + 2) u' v') v v1) u v1) ?_ I
  intro wd sz cnt jd tk fc xO aT aS aO aN aF aB aV aP aM aL sV sM sS yF yH yK R S
  have R0 := R
  obtain ⟨hw, hz, hcnt, hjd, hT, hok, hF, hJ⟩ := R0
  by_cases h0 : v1 < 0
  · exact br_t h0 (br_t h0 ⟨rfl, pm_in R S⟩)
  by_cases h15 : 15 < v1
  · exact br_f h0 (br_t h15 (br_f h0 (br_t h15 ⟨rfl, pm_in R S⟩)))
  obtain ⟨f, hf, e⟩ := nI_of2 (x := v1) (M := 15) (n := 15) (by decide) h0 (Int32.not_lt.mp h15)
  subst e
  refine xq_would hf R (fun jd xO aS aO aN aB aV aP aM aL sV sM sS R' => ?_)
  exact yq_would hT hok hz hcnt hw S hf (fun yF yH yK S' => ⟨rfl, pm_in R' S'⟩)
theorem i_vc_allowed {k : Nat} {u : SX} {v : SY} (I : i_Rel k u v) (hk : k + 2 ≤ 1025) : wpX_allowed (fun r u' => wpY_allowed (fun r' v' => r' = r ∧ i_Rel (k + 2) u' v') v) u := by
  refine pm_el (P := fun u v => wpX_allowed (fun r u' => wpY_allowed (fun r' v' => r' = r ∧ i_Rel (k + 2) u' v') v) u) ?_ I
  intro wd sz cnt jd tk fc xO aT aS aO aN aF aB aV aP aM aL sV sM sS yF yH yK R S
  have R0 := R
  obtain ⟨hw, hz, hcnt, hjd, hT, hok, hF, hJ⟩ := R0
  refine xq_allowed R (fun jd xO aS aO aN aB aV aP aM aL sV sM sS R' => ?_)
  exact yq_allowed hT hok hz hcnt hw S (fun yF yH yK S' => ⟨rfl, pm_in R' S'⟩)
end PMREL
end
