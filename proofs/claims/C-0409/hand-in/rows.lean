section
/-! pure rows to paste: stores, nI and lN arithmetic, masks, shifts, narrowing, branches by naturals (pk_le, pk_lt, pk_eq), loops (lp1 .. lp16: the measure of the state; rp1 ..: recursion), negatives. Take what you need -/
theorem pk_us {f : Nat → Int32} {k : Nat} {x : Int32} : upd f k x k = x := if_pos rfl
theorem pk_un {f : Nat → Int32} {k j : Nat} {x : Int32} (h : j ≠ k) : upd f k x j = f j := if_neg h
theorem pk_uLs {f : Nat → Int64} {k : Nat} {x : Int64} : vp_updL f k x k = x := if_pos rfl
theorem pk_uLn {f : Nat → Int64} {k j : Nat} {x : Int64} (h : j ≠ k) : vp_updL f k x j = f j := if_neg h
theorem pk_sub {a b : Nat} (h : b ≤ a) : nI a - nI b = nI (a - b) := by
  obtain ⟨c, rfl⟩ : ∃ c, a = c + b := ⟨a - b, by omega⟩
  rw [← nI_add, Int32.add_sub_cancel, Nat.add_sub_cancel]
theorem pk_m1 (n : Nat) : nI (n + 1) + (-1) = nI n := by
  rw [← nI_1, Int32.add_assoc, show (1 : Int32) + (-1) = 0 from rfl, Int32.add_zero]
theorem pk_mul (a b : Nat) : nI a * nI b = nI (a * b) := (Int32.ofNat_mul a b).symm
theorem pk_div {a d : Nat} (ha : a < 2 ^ 31) (h0 : 0 < d) (hd : d < 2 ^ 31) : nI a / nI d = nI (a / d) := by
  apply Int32.toInt_inj.mp
  rw [lg_idiv_nonneg (by rw [nI_toInt ha]; omega) (by rw [nI_toInt hd]; omega), nI_toInt ha, nI_toInt hd, nI_toInt (Nat.lt_of_le_of_lt (Nat.div_le_self a d) ha)]
  first | rfl | exact (Int.natCast_ediv _ _).symm
theorem pk_rem {a d : Nat} (ha : a < 2 ^ 31) (h0 : 0 < d) (hd : d < 2 ^ 31) : nI a - nI a / nI d * nI d = nI (a % d) := by
  rw [pk_div ha h0 hd, pk_mul, pk_sub (Nat.div_mul_le_self a d)]
  exact congrArg nI (by have := Nat.div_add_mod' a d; omega)
theorem pk_sub_toInt {a b : Nat} (ha : a < 2 ^ 30) (hb : b < 2 ^ 30) : (nI a - nI b).toInt = (a : Int) - b := by
  rw [Int32.toInt_sub, nI_toInt (by omega), nI_toInt (by omega)]
  exact Int.bmod_eq_of_le (by omega) (by omega)
theorem pk_sneg {a b : Nat} (hb : b < 2 ^ 30) (h : a < b) : nI a - nI b < 0 := by
  rw [Int32.lt_iff_toInt_lt, pk_sub_toInt (by omega) hb, show (0 : Int32).toInt = 0 from by decide]
  omega
theorem pk_ix (x : Int32) {n : Nat} (hn : n < 2 ^ 31) : x < 0 ∨ nI n ≤ x ∨ ∃ j : Nat, j < n ∧ x = nI j := by
  by_cases h : x < 0
  · exact Or.inl h
  · obtain ⟨j, hj, rfl⟩ := nI_of h
    by_cases h2 : j < n
    · exact Or.inr (Or.inr ⟨j, h2, rfl⟩)
    · exact Or.inr (Or.inl (nI_le (by omega) hj))
theorem pk_le {x y : Int32} {A B : Prop} (a b : Nat) (f : a ≤ b → A) (g : b < a → B) (hx : x = nI a := by rfl) (hy : y = nI b := by rfl) (ha : a < 2 ^ 31 := by omega) (hb : b < 2 ^ 31 := by omega) : (x ≤ y → A) ∧ (¬ x ≤ y → B) := by
  subst hx hy
  rw [nI_leI ha hb]
  exact ⟨f, fun z => g (by omega)⟩
theorem pk_lt {x y : Int32} {A B : Prop} (a b : Nat) (f : a < b → A) (g : b ≤ a → B) (hx : x = nI a := by rfl) (hy : y = nI b := by rfl) (ha : a < 2 ^ 31 := by omega) (hb : b < 2 ^ 31 := by omega) : (x < y → A) ∧ (¬ x < y → B) := by
  subst hx hy
  rw [nI_ltI ha hb]
  exact ⟨f, fun z => g (by omega)⟩
theorem pk_eq {x y : Int32} {A B : Prop} (a b : Nat) (f : a = b → A) (g : a ≠ b → B) (hx : x = nI a := by rfl) (hy : y = nI b := by rfl) (ha : a < 2 ^ 31 := by omega) (hb : b < 2 ^ 31 := by omega) : (x = y → A) ∧ (¬ x = y → B) := by
  subst hx hy
  rw [nI_eq ha hb]
  exact ⟨f, g⟩
theorem pk_in {x : Int32} (n N : Nat) (h : n < N) (hx : x = nI n := by rfl) (hN : N < 2 ^ 31 := by omega) : vp_in x N := by
  subst hx
  exact vp_in_nI h hN
theorem pk_cl {x : Int32} (n : Nat) (hx : x = nI n := by rfl) (h : n < 2 ^ 31 := by omega) : x.toNatClampNeg = n := by
  subst hx
  exact nI_clamp h
theorem pk_tn {n : Nat} (h : n < 2 ^ 32) : (nI n).toBitVec.toNat = n := Nat.mod_eq_of_lt h
theorem pk_and (x : Int32) {m : Int32} (k : Nat) (hm : m.toBitVec.toNat = 2 ^ k - 1) : x &&& m = nI (x.toBitVec.toNat % 2 ^ k) := by
  apply Int32.toBitVec_inj.mp
  apply BitVec.eq_of_toNat_eq
  rw [Int32.toBitVec_and, BitVec.toNat_and, hm, Nat.and_two_pow_sub_one_eq_mod]
  show _ = (BitVec.ofNat 32 _).toNat
  rw [BitVec.toNat_ofNat]
  exact (Nat.mod_eq_of_lt (Nat.lt_of_le_of_lt (Nat.mod_le _ _) x.toBitVec.isLt)).symm
theorem pk_andN {n : Nat} (h : n < 2 ^ 32) {m : Int32} (k : Nat) (hm : m.toBitVec.toNat = 2 ^ k - 1) : nI n &&& m = nI (n % 2 ^ k) := by
  rw [pk_and _ k hm, pk_tn h]
theorem pk_andE (x : Int32) {m : Int32} (k : Nat) (hm : m.toBitVec.toNat = 2 ^ k - 1) : ∃ j : Nat, j < 2 ^ k ∧ x &&& m = nI j := ⟨_, Nat.mod_lt _ (Nat.two_pow_pos k), pk_and x k hm⟩
theorem pk_andIn (x : Int32) {m : Int32} (k : Nat) (hm : m.toBitVec.toNat = 2 ^ k - 1) (hk : k ≤ 30) : vp_in (x &&& m) (2 ^ k) := by
  obtain ⟨j, hj, e⟩ := pk_andE x k hm
  rw [e]
  exact vp_in_nI hj (Nat.lt_of_le_of_lt (Nat.pow_le_pow_right (by decide) hk) (by decide))
theorem pk_shl (a s : Int32) (k : Nat) (hs : (s.toBitVec.smod 32).toNat = k) : (a <<< s).toBitVec.toNat = a.toBitVec.toNat * 2 ^ k % 2 ^ 32 := by
  show (a.toBitVec <<< (s.toBitVec.smod 32).toNat).toNat = _
  rw [hs, BitVec.toNat_shiftLeft, Nat.shiftLeft_eq]
theorem pk_shlN {n : Nat} (s : Int32) (k : Nat) (hs : (s.toBitVec.smod 32).toNat = k) (h : n * 2 ^ k < 2 ^ 32) : nI n <<< s = nI (n * 2 ^ k) := by
  apply Int32.toBitVec_inj.mp
  apply BitVec.eq_of_toNat_eq
  have hn : n < 2 ^ 32 := Nat.lt_of_le_of_lt (Nat.le_mul_of_pos_right n (Nat.two_pow_pos k)) h
  rw [pk_shl _ _ k hs, pk_tn hn, pk_tn h, Nat.mod_eq_of_lt h]
theorem pk_shr (a s : Int32) (k : Nat) (hs : (s.toBitVec.smod 32).toNat = k) : (a >>> s).toInt = a.toInt >>> k := by
  show (a.toBitVec.sshiftRight (s.toBitVec.smod 32).toNat).toInt = _
  rw [hs, BitVec.toInt_sshiftRight]
  rfl
theorem pk_shrN {n : Nat} (h : n < 2 ^ 31) (s : Int32) (k : Nat) (hs : (s.toBitVec.smod 32).toNat = k) : nI n >>> s = nI (n / 2 ^ k) := by
  apply Int32.toInt_inj.mp
  have h2 : n / 2 ^ k ≤ n := Nat.div_le_self _ _
  rw [pk_shr _ _ k hs, nI_toInt h, nI_toInt (by omega), Int.shiftRight_eq_div_pow]
  rfl
theorem pk_ushr (x s : Int32) (k : Nat) (hs : ((s.toUInt32 &&& Int32.toUInt32 31).toBitVec % 32).toNat = k) : (x.toUInt32 >>> (s.toUInt32 &&& Int32.toUInt32 31)).toInt32.toBitVec.toNat = x.toBitVec.toNat / 2 ^ k := by
  have e : (x.toUInt32 >>> (s.toUInt32 &&& Int32.toUInt32 31)).toInt32.toBitVec = x.toBitVec >>> k := by
    rw [← hs]
    exact UInt32.toBitVec_shiftRight _ _
  rw [e, BitVec.toNat_ushiftRight, Nat.shiftRight_eq_div_pow]
theorem pk_ushrN {n : Nat} (hn : n < 2 ^ 32) (s : Int32) (k : Nat) (hs : ((s.toUInt32 &&& Int32.toUInt32 31).toBitVec % 32).toNat = k) : ((nI n).toUInt32 >>> (s.toUInt32 &&& Int32.toUInt32 31)).toInt32 = nI (n / 2 ^ k) := by
  apply Int32.toBitVec_inj.mp
  apply BitVec.eq_of_toNat_eq
  rw [pk_ushr _ s k hs, pk_tn hn, pk_tn (Nat.lt_of_le_of_lt (Nat.div_le_self _ _) hn)]
end
section
/-! counting over the naturals below n -/
def om_cn (p : Nat → Bool) : Nat → Nat
  | 0 => 0
  | n + 1 => om_cn p n + (p n).toNat
theorem om_cn_le (p : Nat → Bool) : ∀ n, om_cn p n ≤ n := by
  intro n
  induction n with
  | zero => exact Nat.le_refl 0
  | succ n ih =>
    have h : (p n).toNat ≤ 1 := Bool.toNat_le (p n)
    show om_cn p n + (p n).toNat ≤ n + 1
    omega
theorem om_cn_cg {p p' : Nat → Bool} : ∀ n, (∀ j, j < n → p' j = p j) → om_cn p' n = om_cn p n := by
  intro n
  induction n with
  | zero => intro _; rfl
  | succ n ih =>
    intro h
    show om_cn p' n + (p' n).toNat = om_cn p n + (p n).toNat
    rw [ih (fun j hj => h j (by omega)), h n (by omega)]
theorem om_cn_up {p p' : Nat → Bool} {k : Nat} : ∀ n, k < n → (∀ j, j < n → j ≠ k → p' j = p j) →
    om_cn p' n + (p k).toNat = om_cn p n + (p' k).toNat := by
  intro n
  induction n with
  | zero => intro h; omega
  | succ n ih =>
    intro hk h
    show om_cn p' n + (p' n).toNat + (p k).toNat = om_cn p n + (p n).toNat + (p' k).toNat
    by_cases e : k = n
    · subst e
      rw [om_cn_cg k (fun j hj => h j (by omega) (by omega))]
      omega
    · have h1 := ih (by omega) (fun j hj hne => h j (by omega) hne)
      rw [h n (by omega) (by omega)]
      omega
theorem om_cn_pos {p : Nat → Bool} {k : Nat} : ∀ n, k < n → p k = true → 0 < om_cn p n := by
  intro n
  induction n with
  | zero => intro h; omega
  | succ n ih =>
    intro hk h
    show 0 < om_cn p n + (p n).toNat
    by_cases e : k = n
    · subst e
      rw [h]
      exact Nat.succ_pos _
    · have := ih (by omega) h
      omega
theorem om_cn_one {p : Nat → Bool} {n a b : Nat} (h : om_cn p n = 1) (ha : a < n) (hb : b < n) (pa : p a = true) (pb : p b = true) : a = b := by
  apply Classical.byContradiction
  intro hne
  obtain ⟨q, hq⟩ : ∃ q : Nat → Bool, ∀ j, q j = if j = a then false else p j := ⟨_, fun _ => rfl⟩
  have h1 : om_cn q n + (p a).toNat = om_cn p n + (q a).toNat := om_cn_up n ha (fun j _ hj => by rw [hq j, if_neg hj])
  have h2 : 0 < om_cn q n := om_cn_pos (k := b) n hb (by rw [hq b, if_neg (fun e => hne e.symm)]; exact pb)
  have h3 : q a = false := by rw [hq a, if_pos rfl]
  rw [pa, h3, h] at h1
  have e1 : true.toNat = 1 := rfl
  have e2 : false.toNat = 0 := rfl
  omega
/-! sums -/
def om_sm (g : Nat → Nat) : Nat → Nat
  | 0 => 0
  | n + 1 => om_sm g n + g n
theorem om_sm_add (g h : Nat → Nat) : ∀ n, om_sm (fun q => g q + h q) n = om_sm g n + om_sm h n := by
  intro n
  induction n with
  | zero => rfl
  | succ n ih =>
    show om_sm (fun q => g q + h q) n + (g n + h n) = om_sm g n + g n + (om_sm h n + h n)
    rw [ih]
    omega
theorem om_sm_ge (g : Nat → Nat) : ∀ n, (∀ q, q < n → 1 ≤ g q) → n ≤ om_sm g n := by
  intro n
  induction n with
  | zero => intro _; exact Nat.le_refl 0
  | succ n ih =>
    intro h
    have h1 := ih (fun q hq => h q (by omega))
    have h2 := h n (by omega)
    show n + 1 ≤ om_sm g n + g n
    omega
theorem om_inj {a b : Nat} (ha : a < 80) (hb : b < 80) (h : nI a = nI b) : a = b := (nI_eq (by omega) (by omega)).mp h
theorem om_m1 {q : Nat} (hq : q < 80) : nI q ≠ -1 := by
  intro e
  have h := congrArg Int32.toInt e
  rw [nI_toInt (by omega)] at h
  have h1 : (-1 : Int32).toInt = -1 := by decide
  omega
theorem om_m1n : (-1 : Int32) < 0 := by decide
def om_is (x : Int32) (q : Nat) : Bool := decide (x = nI q)
theorem om_is_t {x : Int32} {q : Nat} (h : x = nI q) : om_is x q = true := decide_eq_true h
theorem om_is_f {x : Int32} {q : Nat} (h : x ≠ nI q) : om_is x q = false := decide_eq_false h
theorem om_is_e {x : Int32} {q : Nat} (h : om_is x q = true) : x = nI q := of_decide_eq_true h
theorem om_sm_one (x : Int32) : ∀ n, n ≤ 80 → om_sm (fun q => (om_is x q).toNat) n ≤ 1 ∧ (0 < om_sm (fun q => (om_is x q).toNat) n → ∃ q, q < n ∧ x = nI q) := by
  intro n
  induction n with
  | zero => intro _; exact ⟨Nat.zero_le 1, fun h => absurd h (Nat.lt_irrefl 0)⟩
  | succ n ih =>
    intro hn
    obtain ⟨h1, h2⟩ := ih (by omega)
    have e : om_sm (fun q => (om_is x q).toNat) (n + 1) = om_sm (fun q => (om_is x q).toNat) n + (om_is x n).toNat := rfl
    rw [e]
    by_cases hx : x = nI n
    · rw [om_is_t hx, show true.toNat = 1 from rfl]
      have h3 : om_sm (fun q => (om_is x q).toNat) n = 0 := by
        apply Classical.byContradiction
        intro h4
        obtain ⟨q, hq, hx2⟩ := h2 (by omega)
        have := om_inj (by omega) (by omega) (hx.symm.trans hx2)
        omega
      exact ⟨by omega, fun _ => ⟨n, by omega, hx⟩⟩
    · rw [om_is_f hx, show false.toNat = 0 from rfl]
      refine ⟨by omega, fun h => ?_⟩
      obtain ⟨q, hq, hx2⟩ := h2 (by omega)
      exact ⟨q, by omega, hx2⟩
theorem om_sm_c (R : Nat → Int32) : ∀ N, om_sm (fun q => om_cn (fun j => om_is (R j) q) N) 80 ≤ N := by
  intro N
  induction N with
  | zero =>
    have e : ∀ n, om_sm (fun q => om_cn (fun j => om_is (R j) q) 0) n = 0 := by
      intro n
      induction n with
      | zero => rfl
      | succ n ih =>
        show om_sm (fun q => om_cn (fun j => om_is (R j) q) 0) n + 0 = 0
        rw [ih]
    exact Nat.le_of_eq (e 80)
  | succ N ih =>
    have e : om_sm (fun q => om_cn (fun j => om_is (R j) q) (N + 1)) 80 = om_sm (fun q => om_cn (fun j => om_is (R j) q) N) 80 + om_sm (fun q => (om_is (R N) q).toNat) 80 := om_sm_add _ _ 80
    have h := (om_sm_one (R N) 80 (Nat.le_refl 80)).1
    omega
/-! the number of slots that hold frame q; the number of frames that no slot holds -/
def om_c (R : Nat → Int32) (q : Nat) : Nat := om_cn (fun j => om_is (R j) q) 77
def om_z (R : Nat → Int32) : Nat := om_cn (fun q => Nat.beq (om_c R q) 0) 80
theorem om_c_upd (R : Nat → Int32) (x : Int32) (q : Nat) {s : Nat} (hs : s < 77) :
    om_c (upd R s x) q + (om_is (R s) q).toNat = om_c R q + (om_is x q).toNat := by
  have h : om_c (upd R s x) q + (om_is (R s) q).toNat = om_c R q + (om_is (upd R s x s) q).toNat :=
    om_cn_up (p := fun j => om_is (R j) q) (p' := fun j => om_is (upd R s x j) q) 77 hs
      (fun j _ hne => by show om_is (upd R s x j) q = om_is (R j) q; rw [pk_un hne])
  rw [pk_us] at h
  exact h
theorem om_c_pos {R : Nat → Int32} {q j : Nat} (hj : j < 77) (h : R j = nI q) : 0 < om_c R q :=
  om_cn_pos 77 hj (om_is_t h)
theorem om_c_one {R : Nat → Int32} {q a b : Nat} (h : om_c R q = 1) (ha : a < 77) (hb : b < 77) (ea : R a = nI q) (eb : R b = nI q) : a = b :=
  om_cn_one h ha hb (om_is_t ea) (om_is_t eb)
theorem om_c_cg {R R' : Nat → Int32} (h : ∀ j, j < 77 → R' j = R j) (q : Nat) : om_c R' q = om_c R q :=
  om_cn_cg 77 (fun j hj => by show om_is (R' j) q = om_is (R j) q; rw [h j hj])
theorem om_c_set {R : Nat → Int32} {s q q' : Nat} (hs : s < 77) (hq : q < 80) (hq' : q' < 80) (e : R s = -1) :
    om_c (upd R s (nI q)) q' = om_c R q' + (if q' = q then 1 else 0) := by
  have h := om_c_upd R (nI q) q' hs
  rw [e, om_is_f (fun z => om_m1 hq' z.symm), show false.toNat = 0 from rfl] at h
  by_cases z : q' = q
  · rw [om_is_t (by rw [z]), show true.toNat = 1 from rfl] at h
    rw [if_pos z]
    omega
  · rw [om_is_f (fun y => z (om_inj hq hq' y).symm), show false.toNat = 0 from rfl] at h
    rw [if_neg z]
    omega
theorem om_c_clr {R : Nat → Int32} {s q q' : Nat} (hs : s < 77) (hq : q < 80) (hq' : q' < 80) (e : R s = nI q) :
    om_c (upd R s (-1)) q' + (if q' = q then 1 else 0) = om_c R q' := by
  have h := om_c_upd R (-1) q' hs
  rw [e, om_is_f (x := -1) (fun z => om_m1 hq' z.symm), show false.toNat = 0 from rfl] at h
  by_cases z : q' = q
  · rw [om_is_t (by rw [z]), show true.toNat = 1 from rfl] at h
    rw [if_pos z]
    omega
  · rw [om_is_f (fun y => z (om_inj hq hq' y).symm), show false.toNat = 0 from rfl] at h
    rw [if_neg z]
    omega
theorem om_beq_t {n : Nat} (h : n = 0) : Nat.beq n 0 = true := by rw [h]; rfl
theorem om_beq_f {n : Nat} (h : 0 < n) : Nat.beq n 0 = false := by
  cases n with
  | zero => omega
  | succ n => rfl
theorem om_z_cg {R R' : Nat → Int32} (h : ∀ q, q < 80 → (om_c R' q = 0 ↔ om_c R q = 0)) : om_z R' = om_z R :=
  om_cn_cg 80 (fun q hq => by
    show Nat.beq (om_c R' q) 0 = Nat.beq (om_c R q) 0
    have h1 := h q hq
    by_cases z : om_c R q = 0
    · rw [om_beq_t z, om_beq_t (h1.mpr z)]
    · rw [om_beq_f (by omega), om_beq_f (by omega)])
theorem om_z_up {R R' : Nat → Int32} {k : Nat} (hk : k < 80) (h0 : 0 < om_c R k) (h1 : om_c R' k = 0)
    (h : ∀ q, q < 80 → q ≠ k → om_c R' q = om_c R q) : om_z R' = om_z R + 1 := by
  have e : om_z R' + (Nat.beq (om_c R k) 0).toNat = om_z R + (Nat.beq (om_c R' k) 0).toNat :=
    om_cn_up (p := fun q => Nat.beq (om_c R q) 0) (p' := fun q => Nat.beq (om_c R' q) 0) 80 hk
      (fun q hq hne => by show Nat.beq (om_c R' q) 0 = Nat.beq (om_c R q) 0; rw [h q hq hne])
  rw [om_beq_f h0, om_beq_t h1, show false.toNat = 0 from rfl, show true.toNat = 1 from rfl] at e
  omega
theorem om_z_le (R : Nat → Int32) : om_z R ≤ 80 := om_cn_le _ 80
theorem om_z_pos (R : Nat → Int32) : 0 < om_z R := by
  apply Classical.byContradiction
  intro hz
  have h : ∀ q, q < 80 → 1 ≤ om_c R q := by
    intro q hq
    apply Classical.byContradiction
    intro h0
    exact hz (om_cn_pos (p := fun q => Nat.beq (om_c R q) 0) 80 hq (om_beq_t (by omega)))
  have h1 : 80 ≤ om_sm (fun q => om_c R q) 80 := om_sm_ge _ 80 h
  have h2 : om_sm (fun q => om_c R q) 80 ≤ 77 := om_sm_c R 77
  omega
end
section
/-! the frames: R says which frame each of 77 slots holds (24 pages, 24 kept pages, 27 carried, one for the hand, and frame 0's own), V what a slot reads -/
def om_up {α : Type} (d : Nat → α) (k : Nat) (x : α) : Nat → α := fun j => if j = k then x else d j
theorem om_us {α : Type} {d : Nat → α} {k : Nat} {x : α} : om_up d k x k = x := if_pos rfl
theorem om_un {α : Type} {d : Nat → α} {k j : Nat} {x : α} (h : j ≠ k) : om_up d k x j = d j := if_neg h
def om_FI (R : Nat → Int32) (V : Nat → Nat → Int32) (t : Nat) (w h f : Nat → Int32) : Prop :=
  (∀ j, j < 77 → R j = -1 ∨ ∃ q, q < 80 ∧ R j = nI q) ∧
  R 76 = 0 ∧ (∀ i, i < 4 → V 76 i = 0) ∧
  (∀ q, q < 80 → h q = nI (om_c R q)) ∧
  t = om_z R ∧
  (∀ i, i < t → ∃ q, q < 80 ∧ f i = nI q ∧ om_c R q = 0) ∧
  (∀ i j, i < t → j < t → f i = f j → i = j) ∧
  (∀ j, j < 77 → ∀ q, q < 80 → R j = nI q → ∀ i, i < 4 → w (q * 4 + i) = V j i)
section
variable {R R' : Nat → Int32} {V V' : Nat → Nat → Int32} {t : Nat} {w h f : Nat → Int32}
theorem om_ext (F : om_FI R V t w h f) (hR : ∀ j, j < 77 → R' j = R j) (hV : ∀ j, j < 77 → R j ≠ -1 → ∀ i, i < 4 → V' j i = V j i) : om_FI R' V' t w h f := by
  obtain ⟨F1, F2, F3, F4, F5, F6, F7, F8⟩ := F
  have hc := om_c_cg hR
  refine ⟨?_, ?_, ?_, ?_, ?_, ?_, F7, ?_⟩
  · intro j hj
    rw [hR j hj]
    exact F1 j hj
  · rw [hR 76 (by omega)]
    exact F2
  · intro i hi
    rw [hV 76 (by omega) (by rw [F2]; decide) i hi]
    exact F3 i hi
  · intro q hq
    rw [hc q]
    exact F4 q hq
  · rw [F5]
    exact (om_z_cg (fun q _ => by rw [hc q])).symm
  · intro i hi
    obtain ⟨q, hq, e, hz⟩ := F6 i hi
    exact ⟨q, hq, e, by rw [hc q]; exact hz⟩
  · intro j hj q hq e i hi
    rw [hR j hj] at e
    rw [hV j hj (by rw [e]; exact om_m1 hq) i hi]
    exact F8 j hj q hq e i hi
theorem om_cle (R : Nat → Int32) (q : Nat) : om_c R q ≤ 77 := om_cn_le _ 77
theorem om_hold (F : om_FI R V t w h f) {s j q : Nat} (hs : s < 76) (hj : j < 77) (e : R s = -1) (hq : q < 80) (ej : R j = nI q) :
    om_FI (upd R s (nI q)) (om_up V s (V j)) t w (upd h q (h q + 1)) f := by
  obtain ⟨F1, F2, F3, F4, F5, F6, F7, F8⟩ := F
  have hp : 0 < om_c R q := om_c_pos hj ej
  refine ⟨?_, ?_, ?_, ?_, ?_, ?_, F7, ?_⟩
  · intro k hk
    by_cases z : k = s
    · rw [z, pk_us]
      exact Or.inr ⟨q, hq, rfl⟩
    · rw [pk_un z]
      exact F1 k hk
  · rw [pk_un (by omega)]
    exact F2
  · intro i hi
    rw [om_un (by omega)]
    exact F3 i hi
  · intro q' hq'
    rw [om_c_set (by omega) hq hq' e]
    by_cases z : q' = q
    · rw [z, pk_us, if_pos rfl, F4 q hq, nI_1]
    · rw [pk_un z, if_neg z]
      exact F4 q' hq'
  · rw [F5]
    refine (om_z_cg (fun q' hq' => ?_)).symm
    rw [om_c_set (by omega) hq hq' e]
    by_cases z : q' = q
    · rw [z, if_pos rfl]
      omega
    · rw [if_neg z]
      exact Iff.rfl
  · intro i hi
    obtain ⟨q', hq', e', hz⟩ := F6 i hi
    refine ⟨q', hq', e', ?_⟩
    rw [om_c_set (by omega) hq hq' e]
    by_cases z : q' = q
    · rw [z] at hz
      omega
    · rw [if_neg z]
      exact hz
  · intro k hk q' hq' ek i hi
    by_cases z : k = s
    · rw [z, pk_us] at ek
      have := om_inj hq hq' ek
      subst this
      rw [z, om_us]
      exact F8 j hj q hq ej i hi
    · rw [pk_un z] at ek
      rw [om_un z]
      exact F8 k hk q' hq' ek i hi
theorem om_let (F : om_FI R V t w h f) {s q : Nat} (hs : s < 76) (hq : q < 80) (e : R s = nI q) :
    h q - 1 = nI (om_c R q - 1) ∧ 0 < om_c R q ∧
    (om_c R q = 1 → t < 80 ∧ om_FI (upd R s (-1)) V (t + 1) w (upd h q (h q - 1)) (upd f t (nI q))) ∧
    (om_c R q ≠ 1 → om_FI (upd R s (-1)) V t w (upd h q (h q - 1)) f) := by
  obtain ⟨F1, F2, F3, F4, F5, F6, F7, F8⟩ := F
  have hp : 0 < om_c R q := om_c_pos (by omega) e
  have hh : h q - 1 = nI (om_c R q - 1) := by
    rw [F4 q hq]
    obtain ⟨c, hc⟩ : ∃ c, om_c R q = c + 1 := ⟨om_c R q - 1, by omega⟩
    rw [hc, nI_pred, Nat.add_sub_cancel]
  have hcq : om_c (upd R s (-1)) q + 1 = om_c R q := by
    have := om_c_clr (by omega) hq hq e
    rw [if_pos rfl] at this
    exact this
  have hcn : ∀ q', q' < 80 → q' ≠ q → om_c (upd R s (-1)) q' = om_c R q' := by
    intro q' hq' z
    have := om_c_clr (by omega) hq hq' e
    rw [if_neg z] at this
    exact this
  have G1 : ∀ j, j < 77 → upd R s (-1) j = -1 ∨ ∃ q, q < 80 ∧ upd R s (-1) j = nI q := by
    intro k hk
    by_cases z : k = s
    · rw [z, pk_us]
      exact Or.inl rfl
    · rw [pk_un z]
      exact F1 k hk
  have G2 : upd R s (-1) 76 = 0 := by
    rw [pk_un (by omega)]
    exact F2
  have G4 : ∀ q', q' < 80 → upd h q (h q - 1) q' = nI (om_c (upd R s (-1)) q') := by
    intro q' hq'
    by_cases z : q' = q
    · rw [z, pk_us, hh]
      exact congrArg nI (by omega)
    · rw [pk_un z, hcn q' hq' z]
      exact F4 q' hq'
  have G8 : ∀ j, j < 77 → ∀ q, q < 80 → upd R s (-1) j = nI q → ∀ i, i < 4 → w (q * 4 + i) = V j i := by
    intro k hk q' hq' ek i hi
    by_cases z : k = s
    · rw [z, pk_us] at ek
      exact absurd ek.symm (om_m1 hq')
    · rw [pk_un z] at ek
      exact F8 k hk q' hq' ek i hi
  refine ⟨hh, hp, fun h1 => ?_, fun h1 => ?_⟩
  · have hz : om_z (upd R s (-1)) = t + 1 := by
      rw [F5]
      exact om_z_up hq hp (by omega) hcn
    have ht : t < 80 := by
      have := om_z_le (upd R s (-1))
      omega
    refine ⟨ht, G1, G2, F3, G4, hz.symm, ?_, ?_, G8⟩
    · intro i hi
      by_cases z : i = t
      · rw [z, pk_us]
        exact ⟨q, hq, rfl, by omega⟩
      · rw [pk_un z]
        obtain ⟨q', hq', e', hz'⟩ := F6 i (by omega)
        refine ⟨q', hq', e', ?_⟩
        rw [hcn q' hq' (fun y => by rw [y] at hz'; omega)]
        exact hz'
    · have key : ∀ i, i < t → f i ≠ nI q := by
        intro i hi y
        obtain ⟨q', hq', e', hz'⟩ := F6 i hi
        have := om_inj hq' hq (e'.symm.trans y)
        rw [this] at hz'
        omega
      intro i j hi hj ee
      by_cases zi : i = t
      · by_cases zj : j = t
        · omega
        · rw [zi, pk_us, pk_un zj] at ee
          exact absurd ee.symm (key j (by omega))
      · by_cases zj : j = t
        · rw [zj, pk_us, pk_un zi] at ee
          exact absurd ee (key i (by omega))
        · rw [pk_un zi, pk_un zj] at ee
          exact F7 i j (by omega) (by omega) ee
  · have hz : om_z (upd R s (-1)) = t := by
      rw [F5]
      refine om_z_cg (fun q' hq' => ?_)
      by_cases z : q' = q
      · rw [z]
        omega
      · rw [hcn q' hq' z]
    refine ⟨G1, G2, F3, G4, hz.symm, ?_, F7, G8⟩
    intro i hi
    obtain ⟨q', hq', e', hz'⟩ := F6 i hi
    refine ⟨q', hq', e', ?_⟩
    rw [hcn q' hq' (fun y => by rw [y] at hz'; omega)]
    exact hz'
theorem om_pop (F : om_FI R V t w h f) {s q : Nat} (hs : s < 75) (hq : q < 80) (e : R s = nI q) (e75 : R 75 = -1) :
    ∃ z t', t = t' + 1 ∧ t' < 80 ∧ z < 80 ∧ f t' = nI z ∧ z ≠ q ∧ om_c R z = 0 ∧
      ∀ w', (∀ i, i < 4 → w' (z * 4 + i) = w (q * 4 + i)) → (∀ k, (k < z * 4 ∨ z * 4 + 4 ≤ k) → w' k = w k) →
        om_FI (upd R 75 (nI z)) (om_up V 75 (V s)) t' w' (upd h z 1) f := by
  obtain ⟨F1, F2, F3, F4, F5, F6, F7, F8⟩ := F
  have hp : 0 < om_c R q := om_c_pos (by omega) e
  have ht := om_z_pos R
  have ht8 := om_z_le R
  obtain ⟨z, hz, ez, cz⟩ := F6 (t - 1) (by omega)
  refine ⟨z, t - 1, by omega, by omega, hz, ez, fun y => by rw [y] at cz; omega, cz, fun w' hw1 hw2 => ?_⟩
  have hcz : om_c (upd R 75 (nI z)) z = 1 := by
    rw [om_c_set (by omega) hz hz e75, if_pos rfl, cz]
  have hcn : ∀ q', q' < 80 → q' ≠ z → om_c (upd R 75 (nI z)) q' = om_c R q' := by
    intro q' hq' y
    rw [om_c_set (by omega) hz hq' e75, if_neg y]
    exact Nat.add_zero _
  refine ⟨?_, ?_, ?_, ?_, ?_, ?_, ?_, ?_⟩
  · intro k hk
    by_cases y : k = 75
    · rw [y, pk_us]
      exact Or.inr ⟨z, hz, rfl⟩
    · rw [pk_un y]
      exact F1 k hk
  · rw [pk_un (by omega)]
    exact F2
  · intro i hi
    rw [om_un (by omega)]
    exact F3 i hi
  · intro q' hq'
    by_cases y : q' = z
    · rw [y, pk_us, hcz]
      rfl
    · rw [pk_un y, hcn q' hq' y]
      exact F4 q' hq'
  · have : om_z R = om_z (upd R 75 (nI z)) + 1 := om_z_up hz (by omega) cz (fun q' hq' y => (hcn q' hq' y).symm)
    omega
  · intro i hi
    obtain ⟨q', hq', e', hz'⟩ := F6 i (by omega)
    refine ⟨q', hq', e', ?_⟩
    rw [hcn q' hq' (fun y => ?_)]
    · exact hz'
    · have := F7 i (t - 1) (by omega) (by omega) (by rw [e', ez, y])
      omega
  · intro i j hi hj ee
    exact F7 i j (by omega) (by omega) ee
  · intro k hk q' hq' ek i hi
    by_cases y : k = 75
    · rw [y, pk_us] at ek
      have := om_inj hz hq' ek
      subst this
      rw [y, om_us, hw1 i hi]
      exact F8 s (by omega) q hq e i hi
    · rw [pk_un y] at ek
      rw [om_un y]
      have hq0 : 0 < om_c R q' := om_c_pos hk ek
      have hne : q' ≠ z := fun x => by rw [x] at hq0; omega
      rw [hw2 (q' * 4 + i) (by omega)]
      exact F8 k hk q' hq' ek i hi
theorem om_move (F : om_FI R V t w h f) {a b : Nat} (ha : a < 76) (hb : b < 76) (hab : a ≠ b) (e : R b = -1) :
    om_FI (upd (upd R b (R a)) a (-1)) (om_up V b (V a)) t w h f := by
  obtain ⟨F1, F2, F3, F4, F5, F6, F7, F8⟩ := F
  have hc : ∀ q, q < 80 → om_c (upd (upd R b (R a)) a (-1)) q = om_c R q := by
    intro q hq
    have h1 := om_c_upd R (R a) q (s := b) (by omega)
    have h2 := om_c_upd (upd R b (R a)) (-1) q (s := a) (by omega)
    rw [pk_un hab, om_is_f (x := -1) (fun z => om_m1 hq z.symm), show false.toNat = 0 from rfl] at h2
    rw [e, om_is_f (x := -1) (fun z => om_m1 hq z.symm), show false.toNat = 0 from rfl] at h1
    omega
  refine ⟨?_, ?_, ?_, ?_, ?_, ?_, F7, ?_⟩
  · intro k hk
    by_cases y : k = a
    · rw [y, pk_us]
      exact Or.inl rfl
    · rw [pk_un y]
      by_cases x : k = b
      · rw [x, pk_us]
        exact F1 a (by omega)
      · rw [pk_un x]
        exact F1 k hk
  · rw [pk_un (by omega), pk_un (by omega)]
    exact F2
  · intro i hi
    rw [om_un (by omega)]
    exact F3 i hi
  · intro q hq
    rw [hc q hq]
    exact F4 q hq
  · rw [F5]
    exact (om_z_cg (fun q hq => by rw [hc q hq])).symm
  · intro i hi
    obtain ⟨q, hq, e', hz⟩ := F6 i hi
    exact ⟨q, hq, e', by rw [hc q hq]; exact hz⟩
  · intro k hk q hq ek i hi
    by_cases y : k = a
    · rw [y, pk_us] at ek
      exact absurd ek.symm (om_m1 hq)
    · rw [pk_un y] at ek
      by_cases x : k = b
      · rw [x, pk_us] at ek
        rw [x, om_us]
        exact F8 a (by omega) q hq ek i hi
      · rw [pk_un x] at ek
        rw [om_un x]
        exact F8 k hk q hq ek i hi
theorem om_wr (F : om_FI R V t w h f) {s q i : Nat} {x : Int32} (hs : s < 75) (hq : q < 80) (e : R s = nI q) (h1 : om_c R q = 1) (hi : i < 4) :
    om_FI R (om_up V s (upd (V s) i x)) t (upd w (q * 4 + i) x) h f := by
  obtain ⟨F1, F2, F3, F4, F5, F6, F7, F8⟩ := F
  refine ⟨F1, F2, ?_, F4, F5, F6, F7, ?_⟩
  · intro k hk
    rw [om_un (by omega)]
    exact F3 k hk
  · intro k hk q' hq' ek j hj
    by_cases y : k = s
    · rw [y] at ek
      have := om_inj hq hq' (e.symm.trans ek)
      subst this
      rw [y, om_us]
      by_cases z : j = i
      · rw [z, pk_us, pk_us]
      · rw [pk_un z, pk_un (by omega)]
        exact F8 s (by omega) q hq e j hj
    · rw [om_un y]
      have hne : q' ≠ q := by
        intro z
        rw [z] at ek
        exact y (om_c_one h1 hk (by omega) ek e)
      rw [pk_un (by omega)]
      exact F8 k hk q' hq' ek j hj
end
end
section
/-! blocks, loops by a counter, indices -/
def om_bk {α : Type} (d s : Nat → α) (a b n : Nat) : Nat → α := fun j => if a ≤ j ∧ j < a + n then s (b + (j - a)) else d j
theorem om_bk0 {α : Type} (d s : Nat → α) (a b : Nat) : om_bk d s a b 0 = d := funext fun j => if_neg (by omega)
theorem om_bki {α : Type} {d s : Nat → α} {a b n j : Nat} (h1 : a ≤ j) (h2 : j < a + n) : om_bk d s a b n j = s (b + (j - a)) := if_pos ⟨h1, h2⟩
theorem om_bka {α : Type} {d s : Nat → α} {a b n i : Nat} (h : i < n) : om_bk d s a b n (a + i) = s (b + i) := by
  rw [om_bki (by omega) (by omega), Nat.add_sub_cancel_left]
theorem om_bko {α : Type} {d s : Nat → α} {a b n j : Nat} (h : j < a ∨ a + n ≤ j) : om_bk d s a b n j = d j := if_neg (by omega)
theorem om_bkS {α : Type} (d s : Nat → α) (a b n : Nat) : om_up (om_bk d s a b n) (a + n) (s (b + n)) = om_bk d s a b (n + 1) := by
  funext j
  by_cases z : j = a + n
  · rw [z, om_us, om_bka (by omega)]
  · rw [om_un z]
    by_cases y : a ≤ j ∧ j < a + n
    · rw [om_bki y.1 y.2, om_bki y.1 (by omega)]
    · rw [om_bko (by omega), om_bko (by omega)]
theorem om_bkU (d s : Nat → Int32) (a b n : Nat) : upd (om_bk d s a b n) (a + n) (s (b + n)) = om_bk d s a b (n + 1) := om_bkS d s a b n
theorem om_bkF (d : Nat → Int32) (x : Int32) (a n : Nat) : upd (om_bk d (fun _ => x) a 0 n) (a + n) x = om_bk d (fun _ => x) a 0 (n + 1) := om_bkS d (fun _ => x) a 0 n
theorem om_l0 {α : Type} {W : Nat → Int32 → α → Prop} (g : Nat → α) (n : Nat) (hx : ∀ m, W (m + 1) (nI n) (g n))
    (hs : ∀ m i, i < n → W m (nI (i + 1)) (g (i + 1)) → W (m + 1) (nI i) (g i)) : ∃ k, W k (nI 0) (g 0) := by
  have L : ∀ d i, i + d = n → W (d + 1) (nI i) (g i) := by
    intro d
    induction d with
    | zero =>
      intro i hi
      have e : i = n := by omega
      rw [e]
      exact hx 0
    | succ d ih => exact fun i hi => hs (d + 1) i (by omega) (ih (i + 1) (by omega))
  exact ⟨n + 1, L n 0 (by omega)⟩
theorem om_lc {α : Type} {W : Nat → Int32 → α → Prop} (g : Nat → α) (c n : Nat) (hx : ∀ m, W (m + 1) (nI (c + n)) (g n))
    (hs : ∀ m i, i < n → W m (nI (c + i + 1)) (g (i + 1)) → W (m + 1) (nI (c + i)) (g i)) : ∃ k, W k (nI c) (g 0) := by
  have L : ∀ d i, i + d = n → W (d + 1) (nI (c + i)) (g i) := by
    intro d
    induction d with
    | zero =>
      intro i hi
      have e : i = n := by omega
      rw [e]
      exact hx 0
    | succ d ih => exact fun i hi => hs (d + 1) i (by omega) (ih (i + 1) (by omega))
  exact ⟨n + 1, L n 0 (by omega)⟩
theorem om_m3 (a : Nat) : nI a * 3 = nI (a * 3) := pk_mul a 3
theorem om_m4 (a : Nat) : nI a * 4 = nI (a * 4) := pk_mul a 4
theorem om_m8 (a : Nat) : nI a * 8 = nI (a * 8) := pk_mul a 8
theorem om_m12 (a : Nat) : nI a * 12 = nI (a * 12) := pk_mul a 12
theorem om_m32 (a : Nat) : nI a * 32 = nI (a * 32) := pk_mul a 32
theorem om_a2 (a : Nat) : nI a + 2 = nI (a + 2) := nI_add a 2
theorem om_a8 (a : Nat) : nI a + 8 = nI (a + 8) := nI_add a 8
theorem om_a12 (a : Nat) : nI a + 12 = nI (a + 12) := nI_add a 12
theorem om_a32 (a : Nat) : nI a + 32 = nI (a + 32) := nI_add a 32
theorem om_nb0 : vp_nar .boolean 0 = 0 := rfl
theorem om_nb1 : vp_nar .boolean 1 = 1 := rfl
theorem om_le {a : Nat} (b : Nat) (h : a ≤ b) (hb : b < 80) : nI a ≤ nI b := nI_le h (by omega)
/-! the checks of numbers and pages -/
theorem om_c3 (x : Int32) : (∃ p, p < 3 ∧ x = nI p) ∨ (x < 0 ∨ ¬ x ≤ 2) := by
  by_cases h : x < 0
  · exact Or.inr (Or.inl h)
  · by_cases h2 : x ≤ 2
    · obtain ⟨j, hj, e⟩ := nI_of2 (M := 2) (n := 2) (by decide) h h2
      exact Or.inl ⟨j, by omega, e⟩
    · exact Or.inr (Or.inr h2)
theorem om_c8 (x : Int32) : (∃ p, p < 8 ∧ x = nI p) ∨ (x < 0 ∨ ¬ x ≤ 7) := by
  by_cases h : x < 0
  · exact Or.inr (Or.inl h)
  · by_cases h2 : x ≤ 7
    · obtain ⟨j, hj, e⟩ := nI_of2 (M := 7) (n := 7) (by decide) h h2
      exact Or.inl ⟨j, by omega, e⟩
    · exact Or.inr (Or.inr h2)
theorem om_c32 (x : Int32) : (∃ p, p < 32 ∧ x = nI p) ∨ (x < 0 ∨ ¬ x ≤ 31) := by
  by_cases h : x < 0
  · exact Or.inr (Or.inl h)
  · by_cases h2 : x ≤ 31
    · obtain ⟨j, hj, e⟩ := nI_of2 (M := 31) (n := 31) (by decide) h h2
      exact Or.inl ⟨j, by omega, e⟩
    · exact Or.inr (Or.inr h2)
section
variable {post : Int32 → Prop} {x : Int32} {p : Nat} {yp yw yl yk ykp ykw ym yi yc ys : Nat → Int32}
theorem om_xn0 (hp : p < 3) (K : post 0) : wpX_badNumber post (nI p) := br_f (nI_pos (by omega)) (br_t (nI_le (b := 2) (by omega) (by omega)) K)
theorem om_xg0 (hp : p < 8) (K : post 0) : wpX_badPage post (nI p) := br_f (nI_pos (by omega)) (br_t (nI_le (b := 7) (by omega) (by omega)) K)
theorem om_xn1 (h : x < 0 ∨ ¬ x ≤ 2) (K : post 1) : wpX_badNumber post x := by
  by_cases h0 : x < 0
  · exact br_t h0 K
  · exact br_f h0 (br_f (h.resolve_left h0) K)
theorem om_xg1 (h : x < 0 ∨ ¬ x ≤ 7) (K : post 1) : wpX_badPage post x := by
  by_cases h0 : x < 0
  · exact br_t h0 K
  · exact br_f h0 (br_f (h.resolve_left h0) K)
theorem om_yn0 (hp : p < 3) (K : post 0) : wpY_bad post (yp, yw, yl, yk, ykp, ykw, ym, yi, yc, ys) (nI p) := br_f (nI_pos (by omega)) (br_t (nI_le (b := 2) (by omega) (by omega)) K)
theorem om_yg0 (hp : p < 8) (K : post 0) : wpY_badPage post (yp, yw, yl, yk, ykp, ykw, ym, yi, yc, ys) (nI p) := br_f (nI_pos (by omega)) (br_t (nI_le (b := 7) (by omega) (by omega)) K)
theorem om_yn1 (h : x < 0 ∨ ¬ x ≤ 2) (K : post 1) : wpY_bad post (yp, yw, yl, yk, ykp, ykw, ym, yi, yc, ys) x := by
  by_cases h0 : x < 0
  · exact br_t h0 K
  · exact br_f h0 (br_f (h.resolve_left h0) K)
theorem om_yg1 (h : x < 0 ∨ ¬ x ≤ 7) (K : post 1) : wpY_badPage post (yp, yw, yl, yk, ykp, ykw, ym, yi, yc, ys) x := by
  by_cases h0 : x < 0
  · exact br_t h0 K
  · exact br_f h0 (br_f (h.resolve_left h0) K)
end
/-! how many pages a process has -/
def om_bx (a : Nat → Int32) : Nat → Bool := fun j => !decide (a j < 0)
def om_by (a : Nat → Int32) : Nat → Bool := fun j => !decide (a j = 0)
def om_mc (b : Nat → Bool) (p : Nat) : Nat := om_cn (fun j => b (p * 8 + j)) 8
theorem om_bxt {a : Nat → Int32} {j : Nat} (h : a j < 0) : om_bx a j = false := by
  show (!decide (a j < 0)) = false
  rw [decide_eq_true h]
  rfl
theorem om_bxf {a : Nat → Int32} {j : Nat} (h : ¬ a j < 0) : om_bx a j = true := by
  show (!decide (a j < 0)) = true
  rw [decide_eq_false h]
  rfl
theorem om_byt {a : Nat → Int32} {j : Nat} (h : a j = 0) : om_by a j = false := by
  show (!decide (a j = 0)) = false
  rw [decide_eq_true h]
  rfl
theorem om_byf {a : Nat → Int32} {j : Nat} (h : ¬ a j = 0) : om_by a j = true := by
  show (!decide (a j = 0)) = true
  rw [decide_eq_false h]
  rfl
theorem om_mcE {a b : Nat → Int32} {p : Nat} (hp : p < 3) (h : ∀ j, j < 24 → (a j < 0 ↔ b j = 0)) : om_mc (om_bx a) p = om_mc (om_by b) p := by
  refine om_cn_cg 8 (fun j hj => ?_)
  show om_bx a (p * 8 + j) = om_by b (p * 8 + j)
  have e := h (p * 8 + j) (by omega)
  by_cases z : a (p * 8 + j) < 0
  · rw [om_bxt z, om_byt (e.mp z)]
  · rw [om_bxf z, om_byf (fun y => z (e.mpr y))]
section
variable {w h f tb kp ak la hd ct il pg ca : Nat → Int32} {yp yw yl yk ykp ykw ym yi yc ys : Nat → Int32}
theorem om_xmp {post : Int32 → Prop} {T : Int32} {p : Nat} (hp : p < 3) (K : post (nI (om_mc (om_bx tb) p))) :
    wpX_mappedPages post (T, w, h, f, tb, kp, ak, la, hd, ct, il, pg, ca) (nI p) := by
  have L : ∀ d i, i + d = 8 → wX_mappedPages_4 post (nI p) T w h f tb kp ak la hd ct il pg ca (d + 1) (nI (om_cn (fun j => om_bx tb (p * 8 + j)) i)) (nI i) := by
    intro d
    induction d with
    | zero =>
      intro i hi
      obtain rfl : i = 8 := by omega
      exact br_t (nI_le (a := 8) (b := 8) (by omega) (by omega)) K
    | succ d ih =>
      intro i hi
      have ih := ih (i + 1) (by omega)
      have e : om_cn (fun j => om_bx tb (p * 8 + j)) (i + 1) = om_cn (fun j => om_bx tb (p * 8 + j)) i + (om_bx tb (p * 8 + i)).toNat := rfl
      rw [wX_mappedPages_4]
      simp (disch := omega) only [om_m8, nI_add, nI_clamp, forall_eq, nI_1]
      refine br_f (nI_ge (b := 8) (by omega) (by omega)) (And.intro (vp_in_nI (by omega) (by omega)) ?_)
      by_cases z : tb (p * 8 + i) < 0
      · refine br_t z ?_
        rw [e, om_bxt z] at ih
        exact ih
      · refine br_f z ?_
        rw [e, om_bxf z] at ih
        exact ih
  exact ⟨9, L 8 0 rfl⟩
theorem om_ymp {post : Int32 → Prop} {p : Nat} (hp : p < 3) (K : post (nI (om_mc (om_by yp) p))) :
    wpY_count post (yp, yw, yl, yk, ykp, ykw, ym, yi, yc, ys) (nI p) := by
  have L : ∀ d i, i + d = 8 → wY_count_4 post (nI p) yp yw yl yk ykp ykw ym yi yc ys (d + 1) (nI (om_cn (fun j => om_by yp (p * 8 + j)) i)) (nI i) := by
    intro d
    induction d with
    | zero =>
      intro i hi
      obtain rfl : i = 8 := by omega
      exact br_t (nI_le (a := 8) (b := 8) (by omega) (by omega)) K
    | succ d ih =>
      intro i hi
      have ih := ih (i + 1) (by omega)
      have e : om_cn (fun j => om_by yp (p * 8 + j)) (i + 1) = om_cn (fun j => om_by yp (p * 8 + j)) i + (om_by yp (p * 8 + i)).toNat := rfl
      rw [wY_count_4]
      simp (disch := omega) only [om_m8, nI_add, nI_clamp, forall_eq, nI_1]
      refine br_f (nI_ge (b := 8) (by omega) (by omega)) (And.intro (vp_in_nI (by omega) (by omega)) ?_)
      by_cases z : yp (p * 8 + i) = 0
      · refine br_t z ?_
        rw [e, om_byt z] at ih
        exact ih
      · refine br_f z ?_
        rw [e, om_byf z] at ih
        exact ih
  exact ⟨9, L 8 0 rfl⟩
end
end
section
section
variable {R : Nat → Int32} {V : Nat → Nat → Int32} {t : Nat} {w h f tb kp ak la hd ct il pg ca : Nat → Int32}
theorem om_xhold {post : Int32 → SX → Prop} (F : om_FI R V t w h f) {s j : Nat} {p0 : Int32} (hs : s < 76) (hj : j < 77) (e : R s = -1) (ep : p0 = R j)
    (K : ∀ h', om_FI (upd R s (R j)) (om_up V s (V j)) t w h' f → post p0 (nI t, w, h', f, tb, kp, ak, la, hd, ct, il, pg, ca)) :
    wpX_hold post (nI t, w, h, f, tb, kp, ak, la, hd, ct, il, pg, ca) p0 := by
  subst ep
  rcases F.1 j hj with e1 | ⟨q, hq, e1⟩
  · have hn : R j < 0 := by rw [e1]; exact om_m1n
    refine br_t hn (K h ?_)
    refine om_ext F (fun k lk => ?_) (fun k lk hne i hi => ?_)
    · by_cases z : k = s
      · rw [z, pk_us, e, e1]
      · rw [pk_un z]
    · rw [om_un (fun z => hne (by rw [z]; exact e))]
  · have hn : ¬ R j < 0 := by rw [e1]; exact nI_pos (by omega)
    have hin : vp_in (R j) 80 := by rw [e1]; exact vp_in_nI hq (by omega)
    have hc : (R j).toNatClampNeg = q := by rw [e1]; exact nI_clamp (by omega)
    refine br_f hn (And.intro hin (And.intro hin ?_))
    rw [hc]
    intro h' eh
    subst eh
    have F' := om_hold F hs hj e hq e1
    rw [← e1] at F'
    exact K _ F'
theorem om_xlet {post : SX → Prop} (F : om_FI R V t w h f) {s : Nat} {p0 : Int32} (hs : s < 76) (ep : p0 = R s)
    (K : ∀ t' h' f', om_FI (upd R s (-1)) V t' w h' f' → post (nI t', w, h', f', tb, kp, ak, la, hd, ct, il, pg, ca)) :
    wpX_letGo post (nI t, w, h, f, tb, kp, ak, la, hd, ct, il, pg, ca) p0 := by
  subst ep
  rcases F.1 s (by omega) with e1 | ⟨q, hq, e1⟩
  · have hn : ¬ (0 : Int32) ≤ R s := by rw [e1]; decide
    refine br_f hn (K t h f ?_)
    refine om_ext F (fun k lk => ?_) (fun k lk hne i hi => rfl)
    by_cases z : k = s
    · rw [z, pk_us, e1]
    · rw [pk_un z]
  · have hn : (0 : Int32) ≤ R s := by rw [e1]; exact nI_pos' (by omega)
    have hin : vp_in (R s) 80 := by rw [e1]; exact vp_in_nI hq (by omega)
    have hc : (R s).toNatClampNeg = q := by rw [e1]; exact nI_clamp (by omega)
    obtain ⟨L1, L2, L3, L4⟩ := om_let F hs hq e1
    have cl := om_cle R q
    refine br_t hn (And.intro hin (And.intro hin ?_))
    rw [hc]
    intro h' eh
    refine And.intro hin ?_
    have e0 : h' q = nI (om_c R q - 1) := by rw [eh, pk_us, L1]
    by_cases z : om_c R q = 1
    · obtain ⟨ht, F'⟩ := L3 z
      refine br_t (e0.trans ((congrArg nI (by omega : om_c R q - 1 = 0)).trans nI_0)) (And.intro (vp_in_nI ht (by omega)) ?_)
      rw [nI_clamp (by omega : t < 2 ^ 31)]
      intro f' ef t' et
      rw [nI_1] at et
      rw [← e1, ← eh, ← ef] at F'
      subst et
      exact K (t + 1) _ _ F'
    · have F' := L4 z
      rw [← eh] at F'
      exact br_f (by rw [e0]; exact nI_ne0 (by omega) (by omega)) (K t _ f F')
theorem om_xown {post : Int32 → SX → Prop} (F : om_FI R V t w h f) {s q : Nat} {p0 : Int32} (hs : s < 75) (hq : q < 80) (e : R s = nI q) (e75 : R 75 = -1) (ep : p0 = nI q)
    (K : ∀ q' t' w' h' f', q' < 80 → om_FI (upd R s (nI q')) V t' w' h' f' → om_c (upd R s (nI q')) q' = 1 → post (nI q') (nI t', w', h', f', tb, kp, ak, la, hd, ct, il, pg, ca)) :
    wpX_ownFrame post (nI t, w, h, f, tb, kp, ak, la, hd, ct, il, pg, ca) p0 := by
  subst ep
  have hin : vp_in (nI q) 80 := vp_in_nI hq (by omega)
  have hc : (nI q).toNatClampNeg = q := nI_clamp (by omega)
  refine And.intro hin ?_
  rw [hc]
  have eh : h q = nI (om_c R q) := F.2.2.2.1 q hq
  have cl := om_cle R q
  by_cases z : om_c R q = 1
  · have hR : ∀ k, k < 77 → upd R s (nI q) k = R k := by
      intro k lk
      by_cases y : k = s
      · rw [y, pk_us, e]
      · rw [pk_un y]
    refine br_t (eh.trans (congrArg nI z)) (K q t w h f hq (om_ext F hR (fun _ _ _ _ _ => rfl)) ?_)
    rw [om_c_cg hR]
    exact z
  · refine br_f (fun y => z ((nI_eq (a := om_c R q) (b := 1) (by omega) (by omega)).mp (eh.symm.trans y))) ?_
    obtain ⟨z', t', et, ht', hz, ef, hne, cz, P⟩ := om_pop F hs hq e e75
    subst et
    refine br_f (nI_ne0 (by omega) (by omega)) ?_
    intro ft eft
    rw [nI_pred] at eft
    subst eft
    refine And.intro (vp_in_nI ht' (by omega)) ?_
    rw [nI_clamp (by omega : t' < 2 ^ 31), ef]
    intro x2 ex2
    subst ex2
    refine And.intro (vp_in_nI hz (by omega)) ?_
    rw [nI_clamp (by omega : z' < 2 ^ 31)]
    intro h1 eh1
    have FP : om_FI (upd R 75 (nI z')) (om_up V 75 (V s)) t' (om_bk w w (z' * 4) (q * 4) 4) h1 f := by
      rw [eh1]
      exact P _ (fun i hi => om_bka hi) (fun k lk => om_bko lk)
    have key := om_l0 (W := fun n x g => wX_ownFrame_48 post (nI q) (nI z') (nI t') n x g h1 f tb kp ak la hd ct il pg ca) (fun i => om_bk w w (z' * 4) (q * 4) i) 4
      (by
        intro m
        refine br_t (nI_le (a := 4) (b := 4) (by omega) (by omega)) (om_xlet FP (s := s) (by omega) (by rw [pk_un (by omega)]; exact e.symm) (fun t2 h2 f2 F2 => ?_))
        have F3 := om_move F2 (a := 75) (b := s) (by omega) (by omega) (by omega) pk_us
        refine K z' t2 _ h2 f2 hz (om_ext F3 (fun k lk => ?_) (fun k lk hk i hi => ?_)) ?_
        · by_cases y : k = 75
          · rw [y, pk_us, pk_un (by omega)]
            exact e75
          · rw [pk_un y]
            by_cases y2 : k = s
            · rw [y2, pk_us, pk_us, pk_un (by omega), pk_us]
            · rw [pk_un y2, pk_un y2, pk_un y2, pk_un y]
        · by_cases y : k = 75
          · rw [y, pk_us] at hk
            exact absurd rfl hk
          · by_cases y2 : k = s
            · rw [y2, om_us, om_us]
            · rw [om_un y2, om_un y]
        · have h5 := om_c_upd R (nI z') z' (s := s) (by omega)
          rw [e, om_is_f (fun y => hne (om_inj hq hz y).symm), om_is_t rfl, cz] at h5
          exact h5)
      (by
        intro m i hi ih
        show wX_ownFrame_48 post (nI q) (nI z') (nI t') (m + 1) (nI i) (om_bk w w (z' * 4) (q * 4) i) h1 f tb kp ak la hd ct il pg ca
        rw [wX_ownFrame_48]
        simp (disch := omega) only [om_m4, nI_add, nI_clamp, forall_eq, nI_1]
        refine br_f (nI_ge (b := 4) hi (by omega)) (And.intro (vp_in_nI (by omega) (by omega)) (And.intro (vp_in_nI (by omega) (by omega)) ?_))
        rw [om_bko (j := q * 4 + i) (by omega), om_bkU]
        exact ih)
    try dsimp only at key
    rw [om_bk0] at key
    exact key
theorem om_xct {post : SX → Prop} (F : om_FI R V t w h f) {p : Nat} (hp : p < 3) (hT : ∀ j, j < 24 → tb j = R j)
    (K : ∀ t' h' f', om_FI (om_bk R (fun _ => -1) (p * 8) 0 8) V t' w h' f' → post (nI t', w, h', f', om_bk tb (fun _ => -1) (p * 8) 0 8, kp, ak, la, hd, ct, il, pg, ca)) :
    wpX_clearTable post (nI t, w, h, f, tb, kp, ak, la, hd, ct, il, pg, ca) (nI p) := by
  have key := loop_0 (fun n i (s : Nat × (Nat → Int32) × (Nat → Int32)) => wX_clearTable_2 post (nI p) n (nI i) (nI s.1) w s.2.1 s.2.2 (om_bk tb (fun _ => -1) (p * 8) 0 i) kp ak la hd ct il pg ca)
    (fun i s => om_FI (om_bk R (fun _ => -1) (p * 8) 0 i) V s.1 w s.2.1 s.2.2) 8 (t, h, f) (by dsimp only; rw [om_bk0]; exact F)
    (fun n s F' => br_t (nI_le (a := 8) (b := 8) (by omega) (by omega)) (K _ _ _ F'))
    (by
      intro n i s hi F' ih
      show wX_clearTable_2 post (nI p) (n + 1) (nI i) (nI s.1) w s.2.1 s.2.2 (om_bk tb (fun _ => -1) (p * 8) 0 i) kp ak la hd ct il pg ca
      rw [wX_clearTable_2]
      simp (disch := omega) only [om_m8, nI_add, nI_clamp, forall_eq, nI_1]
      refine br_f (nI_ge (b := 8) hi (by omega)) (And.intro (vp_in_nI (by omega) (by omega)) ?_)
      refine om_xlet F' (s := p * 8 + i) (by omega) ?_ (fun t2 h2 f2 F2 => And.intro (vp_in_nI (by omega) (by omega)) ?_)
      · rw [om_bko (by omega), om_bko (by omega)]
        exact hT _ (by omega)
      · rw [om_bkF] at F2
        rw [om_bkF]
        exact ih (t2, h2, f2) F2)
  try dsimp only at key
  rw [om_bk0] at key
  exact key
theorem om_xck {post : SX → Prop} (F : om_FI R V t w h f) {p : Nat} (hp : p < 3) (hT : ∀ j, j < 24 → kp j = R (24 + j))
    (K : ∀ t' h' f', om_FI (om_bk R (fun _ => -1) (24 + p * 8) 0 8) V t' w h' f' → post (nI t', w, h', f', tb, om_bk kp (fun _ => -1) (p * 8) 0 8, upd ak p 0, la, hd, ct, il, pg, ca)) :
    wpX_clearKept post (nI t, w, h, f, tb, kp, ak, la, hd, ct, il, pg, ca) (nI p) := by
  have key := loop_0 (fun n i (s : Nat × (Nat → Int32) × (Nat → Int32)) => wX_clearKept_2 post (nI p) n (nI i) (nI s.1) w s.2.1 s.2.2 tb (om_bk kp (fun _ => -1) (p * 8) 0 i) ak la hd ct il pg ca)
    (fun i s => om_FI (om_bk R (fun _ => -1) (24 + p * 8) 0 i) V s.1 w s.2.1 s.2.2) 8 (t, h, f) (by dsimp only; rw [om_bk0]; exact F)
    (by
      intro n s F'
      show wX_clearKept_2 post (nI p) (n + 1) (nI 8) (nI s.1) w s.2.1 s.2.2 tb (om_bk kp (fun _ => -1) (p * 8) 0 8) ak la hd ct il pg ca
      rw [wX_clearKept_2]
      simp (disch := omega) only [om_m8, nI_add, nI_clamp, forall_eq, nI_1, om_nb0]
      exact br_t (nI_le (a := 8) (b := 8) (by omega) (by omega)) (And.intro (vp_in_nI hp (by omega)) (K _ _ _ F')))
    (by
      intro n i s hi F' ih
      show wX_clearKept_2 post (nI p) (n + 1) (nI i) (nI s.1) w s.2.1 s.2.2 tb (om_bk kp (fun _ => -1) (p * 8) 0 i) ak la hd ct il pg ca
      rw [wX_clearKept_2]
      simp (disch := omega) only [om_m8, nI_add, nI_clamp, forall_eq, nI_1]
      refine br_f (nI_ge (b := 8) hi (by omega)) (And.intro (vp_in_nI (by omega) (by omega)) ?_)
      refine om_xlet F' (s := 24 + p * 8 + i) (by omega) ?_ (fun t2 h2 f2 F2 => And.intro (vp_in_nI (by omega) (by omega)) ?_)
      · rw [om_bko (by omega), om_bko (by omega), hT _ (by omega)]
        exact congrArg R (by omega)
      · rw [om_bkF] at F2
        rw [om_bkF]
        exact ih (t2, h2, f2) F2)
  try dsimp only at key
  rw [om_bk0] at key
  exact key
end
end
section
/-! the relation -/
def om_pb (x : Int32) : Int32 := if x < 0 then 0 else 1
theorem om_pb0 : om_pb (-1) = 0 := if_pos om_m1n
theorem om_pb1 {q : Nat} (h : q < 80) : om_pb (nI q) = 1 := if_neg (nI_pos (by omega))
theorem om_nbp (x : Int32) : vp_nar .boolean (om_pb x) = om_pb x := by
  by_cases h : x < 0
  · rw [show om_pb x = 0 from if_pos h]
    rfl
  · rw [show om_pb x = 1 from if_neg h]
    rfl
def om_TB (R : Nat → Int32) (V : Nat → Nat → Int32) (tb yp yw : Nat → Int32) : Prop :=
  ∀ j, j < 24 → tb j = R j ∧ yp j = om_pb (R j) ∧ ∀ i, i < 4 → V j i = yw (j * 4 + i)
def om_KP (R : Nat → Int32) (V : Nat → Nat → Int32) (kp ak ykp ykw : Nat → Int32) : Prop :=
  (∀ j, j < 24 → kp j = R (24 + j)) ∧
  ∀ p, p < 3 → ak p ≠ 0 → ∀ j, j < 8 → ykp (p * 8 + j) = om_pb (R (24 + (p * 8 + j))) ∧ ∀ i, i < 4 → V (24 + (p * 8 + j)) i = ykw ((p * 8 + j) * 4 + i)
/-- the message at place m of the component is the one at place m' of the reference -/
def om_MS (R : Nat → Int32) (V : Nat → Nat → Int32) (il pg ca yi yc ys : Nat → Int32) (m m' : Nat) : Prop :=
  il m = yi m' ∧ ∃ n, n ≤ 3 ∧ pg m = nI n ∧ yc m' = nI n ∧
    (∀ i, i < n → R (48 + m * 3 + i) = ca (m * 3 + i) ∧ (∃ q, q < 80 ∧ R (48 + m * 3 + i) = nI q) ∧ ∀ k, k < 4 → V (48 + m * 3 + i) k = ys (m' * 12 + (i * 4 + k))) ∧
    (∀ i, n ≤ i → i < 3 → R (48 + m * 3 + i) = -1)
def om_PT (R : Nat → Int32) (V : Nat → Nat → Int32) (hd ct il pg ca yi yc ys : Nat → Int32) (o : Nat) : Prop :=
  ∃ H C, H < 3 ∧ C ≤ 3 ∧ hd o = nI H ∧ ct o = nI C ∧
    (∀ e, e < C → om_MS R V il pg ca yi yc ys (o * 3 + (H + e) % 3) (o * 3 + e)) ∧
    (∀ e, C ≤ e → e < 3 → ∀ i, i < 3 → R (48 + (o * 3 + (H + e) % 3) * 3 + i) = -1)
def om_RL (R : Nat → Int32) (V : Nat → Nat → Int32) (t : Nat) (w h f tb kp ak hd ct il pg ca yp yw ykp ykw yi yc ys : Nat → Int32) : Prop :=
  om_FI R V t w h f ∧ R 75 = -1 ∧ om_TB R V tb yp yw ∧ om_KP R V kp ak ykp ykw ∧ ∀ o, o < 3 → om_PT R V hd ct il pg ca yi yc ys o
/-- the relation at the head of a turn: the component's slots hold frames that read as the reference's words -/
def i_Rel (k : Nat) (u : SX) (v : SY) : Prop := match u, v with
  | (T, w, h, f, tb, kp, ak, la, hd, ct, il, pg, ca), (yp, yw, yl, yk, ykp, ykw, ym, yi, yc, ys) =>
    ∃ (R : Nat → Int32) (V : Nat → Nat → Int32) (t : Nat), T = nI t ∧ yl = la ∧ yk = ak ∧ ym = ct ∧ om_RL R V t w h f tb kp ak hd ct il pg ca yp yw ykp ykw yi yc ys
theorem i_up {k : Nat} {u : SX} {v : SY} (h : i_Rel k u v) : i_Rel (k + 5) u v := h
theorem om_el {k : Nat} {u : SX} {v : SY} {P : SX → SY → Prop} (I : i_Rel k u v)
    (H : ∀ (R : Nat → Int32) (V : Nat → Nat → Int32) (t : Nat) (w h f tb kp ak la hd ct il pg ca yp yw ykp ykw yi yc ys : Nat → Int32),
      om_RL R V t w h f tb kp ak hd ct il pg ca yp yw ykp ykw yi yc ys →
      P (nI t, w, h, f, tb, kp, ak, la, hd, ct, il, pg, ca) (yp, yw, la, ak, ykp, ykw, ct, yi, yc, ys)) : P u v := by
  obtain ⟨T, w, h, f, tb, kp, ak, la, hd, ct, il, pg, ca⟩ := u
  obtain ⟨yp, yw, yl, yk, ykp, ykw, ym, yi, yc, ys⟩ := v
  obtain ⟨R, V, t, e1, e2, e3, e4, L⟩ := I
  subst e1 e2 e3 e4
  exact H R V t w h f tb kp _ _ hd _ il pg ca yp yw ykp ykw yi yc ys L
section
variable {R R' : Nat → Int32} {V V' : Nat → Nat → Int32} {t : Nat} {w h f tb kp ak la hd ct il pg ca yp yw ykp ykw yi yc ys : Nat → Int32}
theorem om_in {k : Nat} (L : om_RL R V t w h f tb kp ak hd ct il pg ca yp yw ykp ykw yi yc ys) :
    i_Rel k (nI t, w, h, f, tb, kp, ak, la, hd, ct, il, pg, ca) (yp, yw, la, ak, ykp, ykw, ct, yi, yc, ys) :=
  Exists.intro R (Exists.intro V (Exists.intro t (And.intro rfl (And.intro rfl (And.intro rfl (And.intro rfl L))))))
/-- a page of the table: not there, or there with a frame -/
theorem om_tb (F : om_FI R V t w h f) (T : om_TB R V tb yp yw) {j : Nat} (hj : j < 24) :
    (R j = -1 ∧ tb j = -1 ∧ yp j = 0) ∨ ∃ q, q < 80 ∧ R j = nI q ∧ tb j = nI q ∧ yp j = 1 := by
  obtain ⟨h1, h2, _⟩ := T j hj
  rcases F.1 j (by omega) with e | ⟨q, hq, e⟩
  · exact Or.inl ⟨e, h1.trans e, by rw [h2, e]; exact om_pb0⟩
  · exact Or.inr ⟨q, hq, e, h1.trans e, by rw [h2, e]; exact om_pb1 hq⟩
theorem om_tbE (F : om_FI R V t w h f) (T : om_TB R V tb yp yw) (j : Nat) (hj : j < 24) : tb j < 0 ↔ yp j = 0 := by
  rcases om_tb F T hj with ⟨_, e1, e2⟩ | ⟨q, hq, _, e1, e2⟩
  · rw [e1, e2]
    exact ⟨fun _ => rfl, fun _ => om_m1n⟩
  · rw [e1, e2]
    exact ⟨fun z => absurd z (nI_pos (by omega)), fun z => absurd z (by decide)⟩
theorem om_MSg {il' pg' ca' yi' yc' ys' : Nat → Int32} {m m' n' : Nat} (M : om_MS R V il pg ca yi yc ys m m') (h1 : il' m = il m) (h2 : pg' m = pg m)
    (h3 : ∀ i, i < 3 → ca' (m * 3 + i) = ca (m * 3 + i)) (h4 : ∀ i, i < 3 → R' (48 + m * 3 + i) = R (48 + m * 3 + i)) (h5 : ∀ i, i < 3 → V' (48 + m * 3 + i) = V (48 + m * 3 + i))
    (h6 : yi' n' = yi m') (h7 : yc' n' = yc m') (h8 : ∀ k, k < 12 → ys' (n' * 12 + k) = ys (m' * 12 + k)) : om_MS R' V' il' pg' ca' yi' yc' ys' m n' := by
  obtain ⟨M1, n, hn, M2, M3, M4, M5⟩ := M
  refine ⟨by rw [h1, h6]; exact M1, n, hn, by rw [h2]; exact M2, by rw [h7]; exact M3, fun i hi => ?_, fun i h1 h2 => ?_⟩
  · obtain ⟨a, b, c⟩ := M4 i hi
    rw [h4 i (by omega), h3 i (by omega), h5 i (by omega)]
    refine ⟨a, b, fun k lk => ?_⟩
    rw [h8 (i * 4 + k) (by omega)]
    exact c k lk
  · rw [h4 i h2]
    exact M5 i h1 h2
/-- what doesn't touch a port's slots keeps the port -/
theorem om_PTf {o : Nat} (ho : o < 3) (P : om_PT R V hd ct il pg ca yi yc ys o) (hR : ∀ j, 48 ≤ j → j < 75 → R' j = R j) (hV : ∀ j, 48 ≤ j → j < 75 → V' j = V j) :
    om_PT R' V' hd ct il pg ca yi yc ys o := by
  obtain ⟨H, C, h1, h2, h3, h4, h5, h6⟩ := P
  refine ⟨H, C, h1, h2, h3, h4, fun e he => ?_, fun e h7 h8 i hi => ?_⟩
  · exact om_MSg (h5 e he) rfl rfl (fun _ _ => rfl) (fun i hi => hR _ (by omega) (by omega)) (fun i hi => hV _ (by omega) (by omega)) rfl rfl (fun _ _ => rfl)
  · rw [hR _ (by omega) (by omega)]
    exact h6 e h7 h8 i hi
/-- what touches the table alone -/
theorem om_RLt {t' : Nat} {w' h' f' tb' yp' yw' : Nat → Int32} (L : om_RL R V t w h f tb kp ak hd ct il pg ca yp yw ykp ykw yi yc ys)
    (F : om_FI R' V' t' w' h' f') (hR : ∀ j, 24 ≤ j → j < 76 → R' j = R j) (hV : ∀ j, 24 ≤ j → j < 75 → V' j = V j) (T : om_TB R' V' tb' yp' yw') :
    om_RL R' V' t' w' h' f' tb' kp ak hd ct il pg ca yp' yw' ykp ykw yi yc ys := by
  obtain ⟨L1, L2, L3, L4, L5⟩ := L
  refine ⟨F, by rw [hR 75 (by omega) (by omega)]; exact L2, T, ⟨fun j hj => ?_, fun p hp ha j hj => ?_⟩, fun o ho => om_PTf ho (L5 o ho) (fun j h1 h2 => hR j (by omega) (by omega)) (fun j h1 h2 => hV j (by omega) (by omega))⟩
  · rw [hR _ (by omega) (by omega)]
    exact L4.1 j hj
  · rw [hR _ (by omega) (by omega), hV _ (by omega) (by omega)]
    exact L4.2 p hp ha j hj
end
end
section
/-! map, unmap and the questions -/
section
variable {R : Nat → Int32} {V : Nat → Nat → Int32} {t : Nat} {w h f tb kp ak la hd ct il pg ca yp yw yl yk ykp ykw ym yi yc ys : Nat → Int32}
theorem om_xmap {post : Int32 → SX → Prop} {p a : Nat} (F : om_FI R V t w h f) (hT : ∀ j, j < 24 → tb j = R j) (hp : p < 3) (ha : a < 8)
    (K1 : ¬ tb (p * 8 + a) < 0 → post (-3) (nI t, w, h, f, tb, kp, ak, la, hd, ct, il, pg, ca))
    (K2 : tb (p * 8 + a) < 0 → ∀ h', om_FI (upd R (p * 8 + a) 0) (om_up V (p * 8 + a) (V 76)) t w h' f → post (nI (om_mc (om_bx (upd tb (p * 8 + a) 0)) p)) (nI t, w, h', f, upd tb (p * 8 + a) 0, kp, ak, la, hd, ct, il, pg, ca)) :
    wpX_map post (nI t, w, h, f, tb, kp, ak, la, hd, ct, il, pg, ca) (nI p) (nI a) := by
  unfold wpX_map
  refine om_xn0 hp ?_
  refine br_t rfl ?_
  refine om_xg0 ha ?_
  refine br_t rfl ?_
  simp (disch := omega) only [om_m8, nI_add, nI_clamp, forall_eq]
  refine And.intro (vp_in_nI (by omega) (by omega)) (br_c (fun z => ?_) K1)
  have e : R (p * 8 + a) = -1 := by
    have e1 := hT (p * 8 + a) (by omega)
    rcases F.1 (p * 8 + a) (by omega) with e2 | ⟨q, hq, e2⟩
    · exact e2
    · rw [e1, e2] at z
      exact absurd z (nI_pos (by omega))
  refine om_xhold F (s := p * 8 + a) (j := 76) (by omega) (by omega) e F.2.1.symm (fun h' F' => ?_)
  rw [F.2.1] at F'
  exact And.intro (vp_in_nI (by omega) (by omega)) (om_xmp hp (K2 z h' F'))
theorem om_xunmap {post : Int32 → SX → Prop} {p a : Nat} (F : om_FI R V t w h f) (hT : ∀ j, j < 24 → tb j = R j) (hp : p < 3) (ha : a < 8)
    (K1 : ¬ 0 ≤ tb (p * 8 + a) → post (-4) (nI t, w, h, f, tb, kp, ak, la, hd, ct, il, pg, ca))
    (K2 : 0 ≤ tb (p * 8 + a) → ∀ t' h' f', om_FI (upd R (p * 8 + a) (-1)) V t' w h' f' → post (nI (om_mc (om_bx (upd tb (p * 8 + a) (-1))) p)) (nI t', w, h', f', upd tb (p * 8 + a) (-1), kp, ak, la, hd, ct, il, pg, ca)) :
    wpX_unmap post (nI t, w, h, f, tb, kp, ak, la, hd, ct, il, pg, ca) (nI p) (nI a) := by
  unfold wpX_unmap
  refine om_xn0 hp ?_
  refine br_t rfl ?_
  refine om_xg0 ha ?_
  refine br_t rfl ?_
  simp (disch := omega) only [om_m8, nI_add, nI_clamp, forall_eq]
  refine And.intro (vp_in_nI (by omega) (by omega)) (br_c (fun z => ?_) K1)
  refine And.intro (vp_in_nI (by omega) (by omega)) ?_
  refine om_xlet F (s := p * 8 + a) (by omega) (hT _ (by omega)) (fun t' h' f' F' => ?_)
  exact And.intro (vp_in_nI (by omega) (by omega)) (om_xmp hp (K2 z t' h' f' F'))
theorem om_ymap {post : Int32 → SY → Prop} {p a : Nat} (hp : p < 3) (ha : a < 8)
    (K1 : ¬ yp (p * 8 + a) = 0 → post (-3) (yp, yw, yl, yk, ykp, ykw, ym, yi, yc, ys))
    (K2 : yp (p * 8 + a) = 0 → post (nI (om_mc (om_by (upd yp (p * 8 + a) 1)) p)) (upd yp (p * 8 + a) 1, om_bk yw (fun _ => 0) (p * 32 + a * 4) 0 4, yl, yk, ykp, ykw, ym, yi, yc, ys)) :
    wpY_map post (yp, yw, yl, yk, ykp, ykw, ym, yi, yc, ys) (nI p) (nI a) := by
  unfold wpY_map
  refine om_yn0 hp ?_
  refine br_t rfl ?_
  refine om_yg0 ha ?_
  refine br_t rfl ?_
  simp (disch := omega) only [om_m8, nI_add, nI_clamp, forall_eq, om_nb1]
  refine And.intro (vp_in_nI (by omega) (by omega)) (br_c (fun z => ?_) K1)
  refine And.intro (vp_in_nI (by omega) (by omega)) ?_
  have key := om_l0 (W := fun n x g => wY_map_52 post (nI p) (nI a) n x (upd yp (p * 8 + a) 1) g yl yk ykp ykw ym yi yc ys) (fun i => om_bk yw (fun _ => 0) (p * 32 + a * 4) 0 i) 4
    (fun m => br_t (nI_le (a := 4) (b := 4) (by omega) (by omega)) (om_ymp hp (K2 z)))
    (by
      intro m i hi ih
      try dsimp only at ih ⊢
      rw [wY_map_52]
      simp (disch := omega) only [om_m4, om_m32, nI_add, nI_clamp, forall_eq, nI_1]
      refine br_f (nI_ge (b := 4) hi (by omega)) (And.intro (vp_in_nI (by omega) (by omega)) ?_)
      rw [om_bkF]
      exact ih)
  try dsimp only at key
  rw [om_bk0] at key
  exact key
theorem om_yunmap {post : Int32 → SY → Prop} {p a : Nat} (hp : p < 3) (ha : a < 8)
    (K1 : yp (p * 8 + a) = 0 → post (-4) (yp, yw, yl, yk, ykp, ykw, ym, yi, yc, ys))
    (K2 : ¬ yp (p * 8 + a) = 0 → post (nI (om_mc (om_by (upd yp (p * 8 + a) 0)) p)) (upd yp (p * 8 + a) 0, yw, yl, yk, ykp, ykw, ym, yi, yc, ys)) :
    wpY_unmap post (yp, yw, yl, yk, ykp, ykw, ym, yi, yc, ys) (nI p) (nI a) := by
  unfold wpY_unmap
  refine om_yn0 hp ?_
  refine br_t rfl ?_
  refine om_yg0 ha ?_
  refine br_t rfl ?_
  simp (disch := omega) only [om_m8, nI_add, nI_clamp, forall_eq, om_nb0]
  refine And.intro (vp_in_nI (by omega) (by omega)) (br_c K1 (fun z => ?_))
  exact And.intro (vp_in_nI (by omega) (by omega)) (om_ymp hp (K2 z))
end
theorem i_vc_map {k : Nat} {u : SX} {v : SY} (I : i_Rel k u v) (hk : k + 5 ≤ 2560) (v1 : Int32) (v2 : Int32) : wpX_map (fun r u' => wpY_map (fun r' v' => r' = r ∧ i_Rel (k + 5) u' v') v v1 v2) u v1 v2 := by
  refine om_el (P := fun u v => wpX_map (fun r u' => wpY_map (fun r' v' => r' = r ∧ i_Rel (k + 5) u' v') v v1 v2) u v1 v2) I ?_
  intro R V t w h f tb kp ak la hd ct il pg ca yp yw ykp ykw yi yc ys L
  have B : i_Rel (k + 5) (nI t, w, h, f, tb, kp, ak, la, hd, ct, il, pg, ca) (yp, yw, la, ak, ykp, ykw, ct, yi, yc, ys) := om_in L
  rcases om_c3 v1 with ⟨p, hp, rfl⟩ | hb
  · rcases om_c8 v2 with ⟨a, ha, rfl⟩ | hb
    · have F := L.1
      have T := L.2.2.1
      have eT := om_tbE F T (p * 8 + a) (by omega)
      refine om_xmap F (fun j hj => (T j hj).1) hp ha (fun z => ?_) (fun z h' F' => ?_)
      · exact om_ymap hp ha (fun _ => ⟨rfl, B⟩) (fun z2 => absurd (eT.mpr z2) z)
      · refine om_ymap hp ha (fun z2 => absurd (eT.mp z) z2) (fun z2 => ?_)
        have T' : om_TB (upd R (p * 8 + a) 0) (om_up V (p * 8 + a) (V 76)) (upd tb (p * 8 + a) 0) (upd yp (p * 8 + a) 1) (om_bk yw (fun _ => 0) (p * 32 + a * 4) 0 4) := by
          intro j hj
          by_cases y : j = p * 8 + a
          · rw [y, pk_us, pk_us, pk_us, om_us]
            refine ⟨rfl, (om_pb1 (q := 0) (by omega)).symm, fun i hi => ?_⟩
            rw [F.2.2.1 i hi, om_bki (by omega) (by omega)]
          · rw [pk_un y, pk_un y, pk_un y, om_un y]
            obtain ⟨a1, a2, a3⟩ := T j hj
            refine ⟨a1, a2, fun i hi => ?_⟩
            rw [om_bko (by omega)]
            exact a3 i hi
        refine ⟨congrArg nI (om_mcE hp (om_tbE F' T')).symm, om_in (om_RLt L F' (fun j h1 h2 => pk_un (by omega)) (fun j h1 h2 => om_un (by omega)) T')⟩
    · unfold wpX_map
      refine om_xn0 hp ?_
      refine br_t rfl ?_
      refine om_xg1 hb ?_
      refine br_f (by decide) ?_
      unfold wpY_map
      refine om_yn0 hp ?_
      refine br_t rfl ?_
      refine om_yg1 hb ?_
      exact br_f (by decide) ⟨rfl, B⟩
  · unfold wpX_map
    refine om_xn1 hb ?_
    refine br_f (by decide) ?_
    unfold wpY_map
    refine om_yn1 hb ?_
    exact br_f (by decide) ⟨rfl, B⟩
theorem i_vc_unmap {k : Nat} {u : SX} {v : SY} (I : i_Rel k u v) (hk : k + 5 ≤ 2560) (v1 : Int32) (v2 : Int32) : wpX_unmap (fun r u' => wpY_unmap (fun r' v' => r' = r ∧ i_Rel (k + 5) u' v') v v1 v2) u v1 v2 := by
  refine om_el (P := fun u v => wpX_unmap (fun r u' => wpY_unmap (fun r' v' => r' = r ∧ i_Rel (k + 5) u' v') v v1 v2) u v1 v2) I ?_
  intro R V t w h f tb kp ak la hd ct il pg ca yp yw ykp ykw yi yc ys L
  have B : i_Rel (k + 5) (nI t, w, h, f, tb, kp, ak, la, hd, ct, il, pg, ca) (yp, yw, la, ak, ykp, ykw, ct, yi, yc, ys) := om_in L
  rcases om_c3 v1 with ⟨p, hp, rfl⟩ | hb
  · rcases om_c8 v2 with ⟨a, ha, rfl⟩ | hb
    · have F := L.1
      have T := L.2.2.1
      have eT := om_tbE F T (p * 8 + a) (by omega)
      refine om_xunmap F (fun j hj => (T j hj).1) hp ha (fun z => ?_) (fun z t' h' f' F' => ?_)
      · exact om_yunmap hp ha (fun _ => ⟨rfl, B⟩) (fun z2 => absurd (eT.mp (Int32.not_le.mp z)) z2)
      · refine om_yunmap hp ha (fun z2 => absurd z (Int32.not_le.mpr (eT.mpr z2))) (fun z2 => ?_)
        have T' : om_TB (upd R (p * 8 + a) (-1)) V (upd tb (p * 8 + a) (-1)) (upd yp (p * 8 + a) 0) yw := by
          intro j hj
          obtain ⟨a1, a2, a3⟩ := T j hj
          by_cases y : j = p * 8 + a
          · rw [y] at a3
            rw [y, pk_us, pk_us, pk_us]
            exact ⟨rfl, om_pb0.symm, a3⟩
          · rw [pk_un y, pk_un y, pk_un y]
            exact ⟨a1, a2, a3⟩
        refine ⟨congrArg nI (om_mcE hp (om_tbE F' T')).symm, om_in (om_RLt L F' (fun j h1 h2 => pk_un (by omega)) (fun j h1 h2 => rfl) T')⟩
    · unfold wpX_unmap
      refine om_xn0 hp ?_
      refine br_t rfl ?_
      refine om_xg1 hb ?_
      refine br_f (by decide) ?_
      unfold wpY_unmap
      refine om_yn0 hp ?_
      refine br_t rfl ?_
      refine om_yg1 hb ?_
      exact br_f (by decide) ⟨rfl, B⟩
  · unfold wpX_unmap
    refine om_xn1 hb ?_
    refine br_f (by decide) ?_
    unfold wpY_unmap
    refine om_yn1 hb ?_
    exact br_f (by decide) ⟨rfl, B⟩
end
section
/-! the questions -/
theorem om_d4 {a : Nat} (h : a < 2 ^ 31) : nI a / 4 = nI (a / 4) := pk_div (d := 4) h (by decide) (by decide)
theorem om_r3 {a : Nat} (h : a < 2 ^ 31) : nI a - nI a / 3 * 3 = nI (a % 3) := pk_rem (d := 3) h (by decide) (by decide)
theorem i_vc_lastWord {k : Nat} {u : SX} {v : SY} (I : i_Rel k u v) (hk : k + 5 ≤ 2560) (v1 : Int32) : wpX_lastWord (fun r => wpY_lastWord (fun r' => r' = r ∧ i_Rel (k + 5) u v) v v1) u v1 := by
  refine om_el (P := fun u v => wpX_lastWord (fun r => wpY_lastWord (fun r' => r' = r ∧ i_Rel (k + 5) u v) v v1) u v1) I ?_
  intro R V t w h f tb kp ak la hd ct il pg ca yp yw ykp ykw yi yc ys L
  have B : i_Rel (k + 5) (nI t, w, h, f, tb, kp, ak, la, hd, ct, il, pg, ca) (yp, yw, la, ak, ykp, ykw, ct, yi, yc, ys) := om_in L
  rcases om_c3 v1 with ⟨p, hp, rfl⟩ | hb
  · unfold wpX_lastWord
    refine om_xn0 hp ?_
    refine br_t rfl (And.intro (vp_in_nI hp (by omega)) ?_)
    unfold wpY_lastWord
    refine om_yn0 hp ?_
    exact br_t rfl (And.intro (vp_in_nI hp (by omega)) ⟨rfl, B⟩)
  · unfold wpX_lastWord
    refine om_xn1 hb ?_
    refine br_f (by decide) ?_
    unfold wpY_lastWord
    refine om_yn1 hb ?_
    exact br_f (by decide) ⟨rfl, B⟩
theorem i_vc_waiting {k : Nat} {u : SX} {v : SY} (I : i_Rel k u v) (hk : k + 5 ≤ 2560) (v1 : Int32) : wpX_waiting (fun r => wpY_waiting (fun r' => r' = r ∧ i_Rel (k + 5) u v) v v1) u v1 := by
  refine om_el (P := fun u v => wpX_waiting (fun r => wpY_waiting (fun r' => r' = r ∧ i_Rel (k + 5) u v) v v1) u v1) I ?_
  intro R V t w h f tb kp ak la hd ct il pg ca yp yw ykp ykw yi yc ys L
  have B : i_Rel (k + 5) (nI t, w, h, f, tb, kp, ak, la, hd, ct, il, pg, ca) (yp, yw, la, ak, ykp, ykw, ct, yi, yc, ys) := om_in L
  rcases om_c3 v1 with ⟨p, hp, rfl⟩ | hb
  · unfold wpX_waiting
    refine om_xn0 hp ?_
    refine br_t rfl (And.intro (vp_in_nI hp (by omega)) ?_)
    unfold wpY_waiting
    refine om_yn0 hp ?_
    exact br_t rfl (And.intro (vp_in_nI hp (by omega)) ⟨rfl, B⟩)
  · unfold wpX_waiting
    refine om_xn1 hb ?_
    refine br_f (by decide) ?_
    unfold wpY_waiting
    refine om_yn1 hb ?_
    exact br_f (by decide) ⟨rfl, B⟩
theorem i_vc_mapped {k : Nat} {u : SX} {v : SY} (I : i_Rel k u v) (hk : k + 5 ≤ 2560) (v1 : Int32) (v2 : Int32) : wpX_mapped (fun r => wpY_mapped (fun r' => r' = r ∧ i_Rel (k + 5) u v) v v1 v2) u v1 v2 := by
  refine om_el (P := fun u v => wpX_mapped (fun r => wpY_mapped (fun r' => r' = r ∧ i_Rel (k + 5) u v) v v1 v2) u v1 v2) I ?_
  intro R V t w h f tb kp ak la hd ct il pg ca yp yw ykp ykw yi yc ys L
  have B : i_Rel (k + 5) (nI t, w, h, f, tb, kp, ak, la, hd, ct, il, pg, ca) (yp, yw, la, ak, ykp, ykw, ct, yi, yc, ys) := om_in L
  rcases om_c3 v1 with ⟨p, hp, rfl⟩ | hb
  · rcases om_c8 v2 with ⟨a, ha, rfl⟩ | hb
    · have eT := om_tbE L.1 L.2.2.1 (p * 8 + a) (by omega)
      unfold wpX_mapped
      refine om_xn0 hp ?_
      refine br_t rfl ?_
      refine om_xg0 ha ?_
      refine br_t rfl ?_
      simp (disch := omega) only [om_m8, nI_add, nI_clamp]
      refine And.intro (vp_in_nI (by omega) (by omega)) (br_c (fun z => ?_) (fun z => ?_))
      · unfold wpY_mapped
        refine om_yn0 hp ?_
        refine br_t rfl ?_
        refine om_yg0 ha ?_
        refine br_t rfl ?_
        simp (disch := omega) only [om_m8, nI_add, nI_clamp]
        exact And.intro (vp_in_nI (by omega) (by omega)) (br_t (eT.mp z) ⟨by trivial, B⟩)
      · unfold wpY_mapped
        refine om_yn0 hp ?_
        refine br_t rfl ?_
        refine om_yg0 ha ?_
        refine br_t rfl ?_
        simp (disch := omega) only [om_m8, nI_add, nI_clamp]
        exact And.intro (vp_in_nI (by omega) (by omega)) (br_f (fun y => z (eT.mpr y)) ⟨by trivial, B⟩)
    · unfold wpX_mapped
      refine om_xn0 hp ?_
      refine br_t rfl ?_
      refine om_xg1 hb ?_
      refine br_f (by decide) ?_
      unfold wpY_mapped
      refine om_yn0 hp ?_
      refine br_t rfl ?_
      refine om_yg1 hb ?_
      exact br_f (by decide) ⟨rfl, B⟩
  · unfold wpX_mapped
    refine om_xn1 hb ?_
    refine br_f (by decide) ?_
    unfold wpY_mapped
    refine om_yn1 hb ?_
    exact br_f (by decide) ⟨rfl, B⟩
section
variable {w h f tb kp ak la hd ct il pg ca yp yw yl yk ykp ykw ym yi yc ys : Nat → Int32}
theorem om_yread {post : Int32 → Prop} {p b : Nat} (hp : p < 3) (hb : b < 32)
    (K1 : yp (p * 8 + b / 4) = 0 → post 0) (K2 : ¬ yp (p * 8 + b / 4) = 0 → post (yw (p * 32 + b))) :
    wpY_read post (yp, yw, yl, yk, ykp, ykw, ym, yi, yc, ys) (nI p) (nI b) := by
  unfold wpY_read
  refine om_yn0 hp ?_
  refine br_t rfl ?_
  refine br_f (nI_pos (by omega)) ?_
  refine br_f (nI_nlt (a := 31) (b := b) (by omega) (by omega)) ?_
  simp (disch := omega) only [om_d4, om_m8, om_m32, nI_add, nI_clamp]
  exact And.intro (by decide) (And.intro (vp_in_nI (by omega) (by omega)) (br_c K1 (fun z => And.intro (vp_in_nI (by omega) (by omega)) (K2 z))))
theorem om_yread0 {post : Int32 → Prop} {p : Nat} {x : Int32} (hp : p < 3) (hb : x < 0 ∨ ¬ x ≤ 31) (K : post 0) :
    wpY_read post (yp, yw, yl, yk, ykp, ykw, ym, yi, yc, ys) (nI p) x := by
  unfold wpY_read
  refine om_yn0 hp ?_
  refine br_t rfl ?_
  by_cases h0 : x < 0
  · exact br_t h0 K
  · exact br_f h0 (br_t (Int32.not_le.mp (hb.resolve_left h0)) K)
theorem om_xread {post : Int32 → Prop} {T : Int32} {p b : Nat} (hp : p < 3) (hb : b < 32)
    (K1 : ¬ 0 ≤ tb (p * 8 + b / 4) → post 0) (K2 : 0 ≤ tb (p * 8 + b / 4) → ∃ q, q < 80 ∧ tb (p * 8 + b / 4) = nI q ∧ post (w (q * 4 + (b - b / 4 * 4)))) :
    wpX_read post (T, w, h, f, tb, kp, ak, la, hd, ct, il, pg, ca) (nI p) (nI b) := by
  unfold wpX_read
  refine om_xn0 hp ?_
  refine br_t rfl ?_
  refine br_f (nI_pos (by omega)) ?_
  refine br_t (nI_le (a := b) (b := 31) (by omega) (by omega)) ?_
  simp (disch := omega) only [om_d4, om_m8, om_m4, pk_sub, nI_add, nI_clamp, forall_eq]
  refine And.intro (by decide) (And.intro (vp_in_nI (by omega) (by omega)) (br_c (fun z => ?_) K1))
  obtain ⟨q, hq, e, K⟩ := K2 z
  rw [e]
  simp (disch := omega) only [om_m4, nI_add, nI_clamp]
  exact And.intro (by decide) (And.intro (vp_in_nI (by omega) (by omega)) K)
theorem om_xread0 {post : Int32 → Prop} {T : Int32} {p : Nat} {x : Int32} (hp : p < 3) (hb : x < 0 ∨ ¬ x ≤ 31) (K : post 0) :
    wpX_read post (T, w, h, f, tb, kp, ak, la, hd, ct, il, pg, ca) (nI p) x := by
  unfold wpX_read
  refine om_xn0 hp ?_
  refine br_t rfl ?_
  by_cases h0 : x < 0
  · exact br_t h0 K
  · exact br_f h0 (br_f (hb.resolve_left h0) K)
end
theorem i_vc_read {k : Nat} {u : SX} {v : SY} (I : i_Rel k u v) (hk : k + 5 ≤ 2560) (v1 : Int32) (v2 : Int32) : wpX_read (fun r => wpY_read (fun r' => r' = r ∧ i_Rel (k + 5) u v) v v1 v2) u v1 v2 := by
  refine om_el (P := fun u v => wpX_read (fun r => wpY_read (fun r' => r' = r ∧ i_Rel (k + 5) u v) v v1 v2) u v1 v2) I ?_
  intro R V t w h f tb kp ak la hd ct il pg ca yp yw ykp ykw yi yc ys L
  have B : i_Rel (k + 5) (nI t, w, h, f, tb, kp, ak, la, hd, ct, il, pg, ca) (yp, yw, la, ak, ykp, ykw, ct, yi, yc, ys) := om_in L
  rcases om_c3 v1 with ⟨p, hp, rfl⟩ | hb
  · rcases om_c32 v2 with ⟨b, hb, rfl⟩ | hb
    · have F := L.1
      have T := L.2.2.1
      rcases om_tb F T (j := p * 8 + b / 4) (by omega) with ⟨e0, e1, e2⟩ | ⟨q, hq, e0, e1, e2⟩
      · refine om_xread hp hb (fun _ => ?_) (fun z => absurd z (by rw [e1]; decide))
        exact om_yread hp hb (fun _ => ⟨rfl, B⟩) (fun z => absurd e2 z)
      · refine om_xread hp hb (fun z => absurd (by rw [e1]; exact nI_pos' (by omega)) z) (fun _ => ⟨q, hq, e1, ?_⟩)
        refine om_yread hp hb (fun z => absurd z (by rw [e2]; decide)) (fun _ => ⟨?_, B⟩)
        rw [F.2.2.2.2.2.2.2 (p * 8 + b / 4) (by omega) q hq e0 (b - b / 4 * 4) (by omega), (T (p * 8 + b / 4) (by omega)).2.2 (b - b / 4 * 4) (by omega)]
        exact congrArg yw (by omega)
    · exact om_xread0 hp hb (om_yread0 hp hb ⟨rfl, B⟩)
  · unfold wpX_read
    refine om_xn1 hb ?_
    refine br_f (by decide) ?_
    unfold wpY_read
    refine om_yn1 hb ?_
    exact br_f (by decide) ⟨rfl, B⟩
end
section
/-! write and copy -/
section
variable {R : Nat → Int32} {V : Nat → Nat → Int32} {t : Nat} {w h f tb kp ak la hd ct il pg ca yp yw yl yk ykp ykw ym yi yc ys : Nat → Int32}
theorem om_xwrite {post : Int32 → SX → Prop} {p b : Nat} {x : Int32} (F : om_FI R V t w h f) (e75 : R 75 = -1) (hT : ∀ j, j < 24 → tb j = R j) (hp : p < 3) (hb : b < 32)
    (K1 : ¬ 0 ≤ tb (p * 8 + b / 4) → post (-4) (nI t, w, h, f, tb, kp, ak, la, hd, ct, il, pg, ca))
    (K2 : 0 ≤ tb (p * 8 + b / 4) → ∀ q t' w' h' f', q < 80 → om_FI (upd R (p * 8 + b / 4) (nI q)) (om_up V (p * 8 + b / 4) (upd (V (p * 8 + b / 4)) (b - b / 4 * 4) x)) t' w' h' f' → post (nI (b / 4)) (nI t', w', h', f', upd tb (p * 8 + b / 4) (nI q), kp, ak, la, hd, ct, il, pg, ca)) :
    wpX_write post (nI t, w, h, f, tb, kp, ak, la, hd, ct, il, pg, ca) (nI p) (nI b) x := by
  unfold wpX_write
  refine om_xn0 hp ?_
  refine br_t rfl ?_
  refine br_f (nI_pos (by omega)) ?_
  refine br_t (nI_le (a := b) (b := 31) (by omega) (by omega)) ?_
  simp (disch := omega) only [om_d4, om_m8, om_m4, pk_sub, nI_add, nI_clamp, forall_eq, pk_us]
  refine And.intro (by decide) (And.intro (vp_in_nI (by omega) (by omega)) (br_c (fun z => ?_) K1))
  refine And.intro (vp_in_nI (by omega) (by omega)) ?_
  have e1 := hT (p * 8 + b / 4) (by omega)
  rcases F.1 (p * 8 + b / 4) (by omega) with e2 | ⟨q, hq, e2⟩
  · rw [e1, e2] at z
    exact absurd z (by decide)
  · refine om_xown F (s := p * 8 + b / 4) (q := q) (by omega) hq e2 e75 (e1.trans e2) (fun q' t' w' h' f' hq' F' hc => ?_)
    dsimp only
    simp (disch := omega) only [om_m4, nI_add, nI_clamp]
    refine And.intro (vp_in_nI (by omega) (by omega)) (And.intro (vp_in_nI (by omega) (by omega)) (And.intro (by decide) (And.intro (vp_in_nI (by omega) (by omega)) ?_)))
    exact K2 z q' t' _ h' f' hq' (om_wr F' (s := p * 8 + b / 4) (by omega) hq' pk_us hc (by omega))
theorem om_ywrite {post : Int32 → SY → Prop} {p b : Nat} {x : Int32} (hp : p < 3) (hb : b < 32)
    (K1 : yp (p * 8 + b / 4) = 0 → post (-4) (yp, yw, yl, yk, ykp, ykw, ym, yi, yc, ys))
    (K2 : ¬ yp (p * 8 + b / 4) = 0 → post (nI (b / 4)) (yp, upd yw (p * 32 + b) x, yl, yk, ykp, ykw, ym, yi, yc, ys)) :
    wpY_write post (yp, yw, yl, yk, ykp, ykw, ym, yi, yc, ys) (nI p) (nI b) x := by
  unfold wpY_write
  refine om_yn0 hp ?_
  refine br_t rfl ?_
  refine br_f (nI_pos (by omega)) ?_
  refine br_t (nI_le (a := b) (b := 31) (by omega) (by omega)) ?_
  simp (disch := omega) only [om_d4, om_m8, om_m32, nI_add, nI_clamp, forall_eq]
  refine And.intro (by decide) (And.intro (vp_in_nI (by omega) (by omega)) (br_c K1 (fun z => ?_)))
  exact And.intro (vp_in_nI (by omega) (by omega)) (And.intro (by decide) (K2 z))
theorem om_xcopy {post : Int32 → SX → Prop} {p a b : Nat} (F : om_FI R V t w h f) (e75 : R 75 = -1) (hT : ∀ j, j < 24 → tb j = R j) (hp : p < 3) (ha : a < 8) (hb : b < 8)
    (K1 : ¬ 0 ≤ tb (p * 8 + a) → post (-4) (nI t, w, h, f, tb, kp, ak, la, hd, ct, il, pg, ca))
    (K2 : 0 ≤ tb (p * 8 + a) → ∀ t' h' f', om_FI (upd R (p * 8 + b) (R (p * 8 + a))) (om_up V (p * 8 + b) (V (p * 8 + a))) t' w h' f' →
      post (nI (om_mc (om_bx (upd tb (p * 8 + b) (tb (p * 8 + a)))) p)) (nI t', w, h', f', upd tb (p * 8 + b) (tb (p * 8 + a)), kp, ak, la, hd, ct, il, pg, ca)) :
    wpX_copy post (nI t, w, h, f, tb, kp, ak, la, hd, ct, il, pg, ca) (nI p) (nI a) (nI b) := by
  unfold wpX_copy
  refine om_xn0 hp ?_
  refine br_t rfl ?_
  refine om_xg0 ha ?_
  refine br_t rfl ?_
  refine om_xg0 hb ?_
  refine br_t rfl ?_
  simp (disch := omega) only [om_m8, nI_add, nI_clamp, forall_eq]
  refine And.intro (vp_in_nI (by omega) (by omega)) (br_c (fun z => ?_) K1)
  have e1 := hT (p * 8 + a) (by omega)
  refine om_xhold F (s := 75) (j := p * 8 + a) (by omega) (by omega) e75 e1 (fun h' F' => ?_)
  refine And.intro (vp_in_nI (by omega) (by omega)) ?_
  refine om_xlet F' (s := p * 8 + b) (by omega) (by rw [pk_un (by omega)]; exact hT _ (by omega)) (fun t2 h2 f2 F2 => ?_)
  refine And.intro (vp_in_nI (by omega) (by omega)) (om_xmp hp (K2 z t2 h2 f2 ?_))
  have F3 := om_move F2 (a := 75) (b := p * 8 + b) (by omega) (by omega) (by omega) pk_us
  refine om_ext F3 (fun j hj => ?_) (fun j hj hn i hi => ?_)
  · by_cases y : j = 75
    · rw [y, pk_us, pk_un (by omega)]
      exact e75
    · rw [pk_un y]
      by_cases y2 : j = p * 8 + b
      · rw [y2, pk_us, pk_us, pk_un (by omega), pk_us]
      · rw [pk_un y2, pk_un y2, pk_un y2, pk_un y]
  · by_cases y : j = 75
    · rw [y, pk_us] at hn
      exact absurd rfl hn
    · by_cases y2 : j = p * 8 + b
      · rw [y2, om_us, om_us, om_us]
      · rw [om_un y2, om_un y2, om_un y]
theorem om_ycopy {post : Int32 → SY → Prop} {p a b : Nat} (hp : p < 3) (ha : a < 8) (hb : b < 8)
    (K1 : yp (p * 8 + a) = 0 → post (-4) (yp, yw, yl, yk, ykp, ykw, ym, yi, yc, ys))
    (K2 : ¬ yp (p * 8 + a) = 0 → post (nI (om_mc (om_by (upd yp (p * 8 + b) 1)) p)) (upd yp (p * 8 + b) 1, om_bk yw yw (p * 32 + b * 4) (p * 32 + a * 4) 4, yl, yk, ykp, ykw, ym, yi, yc, ys)) :
    wpY_copy post (yp, yw, yl, yk, ykp, ykw, ym, yi, yc, ys) (nI p) (nI a) (nI b) := by
  unfold wpY_copy
  refine om_yn0 hp ?_
  refine br_t rfl ?_
  refine om_yg0 ha ?_
  refine br_t rfl ?_
  refine om_yg0 hb ?_
  refine br_t rfl ?_
  simp (disch := omega) only [om_m8, nI_add, nI_clamp, forall_eq, om_nb1]
  refine And.intro (vp_in_nI (by omega) (by omega)) (br_c K1 (fun z => ?_))
  refine And.intro (vp_in_nI (by omega) (by omega)) ?_
  have key := om_l0 (W := fun n x g => wY_copy_61 post (nI p) (nI a) (nI b) n x (upd yp (p * 8 + b) 1) g yl yk ykp ykw ym yi yc ys) (fun i => om_bk yw yw (p * 32 + b * 4) (p * 32 + a * 4) i) 4
    (fun m => br_t (nI_le (a := 4) (b := 4) (by omega) (by omega)) (om_ymp hp (K2 z)))
    (by
      intro m i hi ih
      try dsimp only at ih ⊢
      rw [wY_copy_61]
      simp (disch := omega) only [om_m4, om_m32, nI_add, nI_clamp, forall_eq, nI_1]
      refine br_f (nI_ge (b := 4) hi (by omega)) (And.intro (vp_in_nI (by omega) (by omega)) (And.intro (vp_in_nI (by omega) (by omega)) ?_))
      rw [om_bko (j := p * 32 + a * 4 + i) (by omega), om_bkU]
      exact ih)
  try dsimp only at key
  rw [om_bk0] at key
  exact key
end
theorem i_vc_write {k : Nat} {u : SX} {v : SY} (I : i_Rel k u v) (hk : k + 5 ≤ 2560) (v1 : Int32) (v2 : Int32) (v3 : Int32) : wpX_write (fun r u' => wpY_write (fun r' v' => r' = r ∧ i_Rel (k + 5) u' v') v v1 v2 v3) u v1 v2 v3 := by
  refine om_el (P := fun u v => wpX_write (fun r u' => wpY_write (fun r' v' => r' = r ∧ i_Rel (k + 5) u' v') v v1 v2 v3) u v1 v2 v3) I ?_
  intro R V t w h f tb kp ak la hd ct il pg ca yp yw ykp ykw yi yc ys L
  have B : i_Rel (k + 5) (nI t, w, h, f, tb, kp, ak, la, hd, ct, il, pg, ca) (yp, yw, la, ak, ykp, ykw, ct, yi, yc, ys) := om_in L
  rcases om_c3 v1 with ⟨p, hp, rfl⟩ | hb
  · rcases om_c32 v2 with ⟨b, hb, rfl⟩ | hb
    · have F := L.1
      have T := L.2.2.1
      have eT := om_tbE F T (p * 8 + b / 4) (by omega)
      refine om_xwrite F L.2.1 (fun j hj => (T j hj).1) hp hb (fun z => ?_) (fun z q t' w' h' f' hq F' => ?_)
      · exact om_ywrite hp hb (fun _ => ⟨rfl, B⟩) (fun z2 => absurd (eT.mp (Int32.not_le.mp z)) z2)
      · refine om_ywrite hp hb (fun z2 => absurd z (Int32.not_le.mpr (eT.mpr z2))) (fun z2 => ?_)
        have e2 : yp (p * 8 + b / 4) = 1 := by
          rcases om_tb F T (j := p * 8 + b / 4) (by omega) with ⟨_, _, e⟩ | ⟨_, _, _, _, e⟩
          · exact absurd e z2
          · exact e
        have T' : om_TB (upd R (p * 8 + b / 4) (nI q)) (om_up V (p * 8 + b / 4) (upd (V (p * 8 + b / 4)) (b - b / 4 * 4) v3)) (upd tb (p * 8 + b / 4) (nI q)) yp (upd yw (p * 32 + b) v3) := by
          intro j hj
          obtain ⟨a1, a2, a3⟩ := T j hj
          by_cases y : j = p * 8 + b / 4
          · rw [y] at a3
            rw [y, pk_us, pk_us, om_us]
            refine ⟨rfl, by rw [e2]; exact (om_pb1 hq).symm, fun i hi => ?_⟩
            by_cases y2 : i = b - b / 4 * 4
            · rw [y2, pk_us, show (p * 8 + b / 4) * 4 + (b - b / 4 * 4) = p * 32 + b from by omega, pk_us]
            · rw [pk_un y2, pk_un (by omega)]
              exact a3 i hi
          · rw [pk_un y, pk_un y, om_un y]
            refine ⟨a1, a2, fun i hi => ?_⟩
            rw [pk_un (by omega)]
            exact a3 i hi
        exact ⟨rfl, om_in (om_RLt L F' (fun j h1 h2 => pk_un (by omega)) (fun j h1 h2 => om_un (by omega)) T')⟩
    · unfold wpX_write
      refine om_xn0 hp ?_
      refine br_t rfl ?_
      by_cases h0 : v2 < 0
      · refine br_t h0 ?_
        unfold wpY_write
        refine om_yn0 hp ?_
        refine br_t rfl ?_
        exact br_t h0 ⟨rfl, B⟩
      · refine br_f h0 (br_f (hb.resolve_left h0) ?_)
        unfold wpY_write
        refine om_yn0 hp ?_
        refine br_t rfl ?_
        exact br_f h0 (br_f (hb.resolve_left h0) ⟨rfl, B⟩)
  · unfold wpX_write
    refine om_xn1 hb ?_
    refine br_f (by decide) ?_
    unfold wpY_write
    refine om_yn1 hb ?_
    exact br_f (by decide) ⟨rfl, B⟩
theorem i_vc_copy {k : Nat} {u : SX} {v : SY} (I : i_Rel k u v) (hk : k + 5 ≤ 2560) (v1 : Int32) (v2 : Int32) (v3 : Int32) : wpX_copy (fun r u' => wpY_copy (fun r' v' => r' = r ∧ i_Rel (k + 5) u' v') v v1 v2 v3) u v1 v2 v3 := by
  refine om_el (P := fun u v => wpX_copy (fun r u' => wpY_copy (fun r' v' => r' = r ∧ i_Rel (k + 5) u' v') v v1 v2 v3) u v1 v2 v3) I ?_
  intro R V t w h f tb kp ak la hd ct il pg ca yp yw ykp ykw yi yc ys L
  have B : i_Rel (k + 5) (nI t, w, h, f, tb, kp, ak, la, hd, ct, il, pg, ca) (yp, yw, la, ak, ykp, ykw, ct, yi, yc, ys) := om_in L
  rcases om_c3 v1 with ⟨p, hp, rfl⟩ | hb
  · rcases om_c8 v2 with ⟨a, ha, rfl⟩ | hb
    · rcases om_c8 v3 with ⟨b, hb, rfl⟩ | hb
      · have F := L.1
        have T := L.2.2.1
        have eT := om_tbE F T (p * 8 + a) (by omega)
        refine om_xcopy F L.2.1 (fun j hj => (T j hj).1) hp ha hb (fun z => ?_) (fun z t' h' f' F' => ?_)
        · exact om_ycopy hp ha hb (fun _ => ⟨rfl, B⟩) (fun z2 => absurd (eT.mp (Int32.not_le.mp z)) z2)
        · refine om_ycopy hp ha hb (fun z2 => absurd z (Int32.not_le.mpr (eT.mpr z2))) (fun z2 => ?_)
          have T' : om_TB (upd R (p * 8 + b) (R (p * 8 + a))) (om_up V (p * 8 + b) (V (p * 8 + a))) (upd tb (p * 8 + b) (tb (p * 8 + a))) (upd yp (p * 8 + b) 1) (om_bk yw yw (p * 32 + b * 4) (p * 32 + a * 4) 4) := by
            intro j hj
            by_cases y : j = p * 8 + b
            · obtain ⟨a1, a2, a3⟩ := T (p * 8 + a) (by omega)
              rw [y, pk_us, pk_us, pk_us, om_us]
              refine ⟨a1, ?_, fun i hi => ?_⟩
              · rw [← a2]
                rcases om_tb F T (j := p * 8 + a) (by omega) with ⟨_, _, e⟩ | ⟨_, _, _, _, e⟩
                · exact absurd e z2
                · exact e.symm
              · rw [om_bki (by omega) (by omega), a3 i hi]
                exact congrArg yw (by omega)
            · obtain ⟨a1, a2, a3⟩ := T j hj
              rw [pk_un y, pk_un y, pk_un y, om_un y]
              refine ⟨a1, a2, fun i hi => ?_⟩
              rw [om_bko (by omega)]
              exact a3 i hi
          exact ⟨congrArg nI (om_mcE hp (om_tbE F' T')).symm, om_in (om_RLt L F' (fun j h1 h2 => pk_un (by omega)) (fun j h1 h2 => om_un (by omega)) T')⟩
      · unfold wpX_copy
        refine om_xn0 hp ?_
        refine br_t rfl ?_
        refine om_xg0 ha ?_
        refine br_t rfl ?_
        refine om_xg1 hb ?_
        refine br_f (by decide) ?_
        unfold wpY_copy
        refine om_yn0 hp ?_
        refine br_t rfl ?_
        refine om_yg0 ha ?_
        refine br_t rfl ?_
        refine om_yg1 hb ?_
        exact br_f (by decide) ⟨rfl, B⟩
    · unfold wpX_copy
      refine om_xn0 hp ?_
      refine br_t rfl ?_
      refine om_xg1 hb ?_
      refine br_f (by decide) ?_
      unfold wpY_copy
      refine om_yn0 hp ?_
      refine br_t rfl ?_
      refine om_yg1 hb ?_
      exact br_f (by decide) ⟨rfl, B⟩
  · unfold wpX_copy
    refine om_xn1 hb ?_
    refine br_f (by decide) ?_
    unfold wpY_copy
    refine om_yn1 hb ?_
    exact br_f (by decide) ⟨rfl, B⟩
end
section
/-! snapshot, rollBack, exit -/
theorem om_bkbk {α : Type} (d s1 s : Nat → α) (a b1 b n : Nat) : om_bk (om_bk d s1 a b1 n) s a b n = om_bk d s a b n := by
  funext j
  by_cases y : a ≤ j ∧ j < a + n
  · rw [om_bki y.1 y.2, om_bki y.1 y.2]
  · rw [om_bko (by omega), om_bko (by omega), om_bko (by omega)]
theorem om_uu (d : Nat → Int32) (k : Nat) (x y : Int32) : upd (upd d k x) k y = upd d k y := by
  funext j
  by_cases z : j = k
  · rw [z, pk_us, pk_us]
  · rw [pk_un z, pk_un z, pk_un z]
section
variable {R R' : Nat → Int32} {V V' : Nat → Nat → Int32} {t : Nat} {w h f tb kp ak la hd ct il pg ca yp yw yl yk ykp ykw ym yi yc ys : Nat → Int32}
theorem om_RLk {t' : Nat} {w' h' f' tb' yp' yw' kp' ak' ykp' ykw' : Nat → Int32} (L : om_RL R V t w h f tb kp ak hd ct il pg ca yp yw ykp ykw yi yc ys)
    (F : om_FI R' V' t' w' h' f') (hR : ∀ j, 48 ≤ j → j < 76 → R' j = R j) (hV : ∀ j, 48 ≤ j → j < 75 → V' j = V j) (T : om_TB R' V' tb' yp' yw') (Kp : om_KP R' V' kp' ak' ykp' ykw') :
    om_RL R' V' t' w' h' f' tb' kp' ak' hd ct il pg ca yp' yw' ykp' ykw' yi yc ys := by
  obtain ⟨L1, L2, L3, L4, L5⟩ := L
  exact ⟨F, by rw [hR 75 (by omega) (by omega)]; exact L2, T, Kp, fun o ho => om_PTf ho (L5 o ho) (fun j h1 h2 => hR j (by omega) (by omega)) (fun j h1 h2 => hV j (by omega) (by omega))⟩
theorem om_xsnap {post : Int32 → SX → Prop} {p : Nat} (F : om_FI R V t w h f) (hT : ∀ j, j < 24 → tb j = R j) (hK : ∀ j, j < 24 → kp j = R (24 + j)) (hp : p < 3)
    (K : ∀ t' h' f', om_FI (om_bk R R (24 + p * 8) (p * 8) 8) (om_bk V V (24 + p * 8) (p * 8) 8) t' w h' f' →
      post (nI (om_mc (om_bx tb) p)) (nI t', w, h', f', tb, om_bk kp tb (p * 8) (p * 8) 8, upd ak p 1, la, hd, ct, il, pg, ca)) :
    wpX_snapshot post (nI t, w, h, f, tb, kp, ak, la, hd, ct, il, pg, ca) (nI p) := by
  unfold wpX_snapshot
  refine om_xn0 hp ?_
  refine br_t rfl ?_
  refine om_xck F hp hK (fun t1 h1 f1 F1 => ?_)
  have key := loop_0 (fun n i (s : Nat → Int32) => wX_snapshot_16 post (nI p) n (nI i) (nI t1) w s f1 tb (om_bk (om_bk kp (fun _ => -1) (p * 8) 0 8) tb (p * 8) (p * 8) i) (upd ak p 0) la hd ct il pg ca)
    (fun i s => om_FI (om_bk (om_bk R (fun _ => -1) (24 + p * 8) 0 8) R (24 + p * 8) (p * 8) i) (om_bk V V (24 + p * 8) (p * 8) i) t1 w s f1) 8 h1 (by
           rw [om_bk0, om_bk0]; exact F1)
    (by
      intro n s F'
      try dsimp only at F' ⊢
      rw [wX_snapshot_16]
      simp (disch := omega) only [nI_clamp, forall_eq, om_nb1]
      rw [om_bkbk] at F'
      rw [om_bkbk, om_uu]
      exact br_t (nI_le (a := 8) (b := 8) (by omega) (by omega)) (And.intro (vp_in_nI hp (by omega)) (om_xmp hp (K _ _ _ F'))))
    (by
      intro n i s hi F' ih
      try dsimp only at F' ih ⊢
      rw [wX_snapshot_16]
      simp (disch := omega) only [om_m8, nI_add, nI_clamp, forall_eq, nI_1]
      refine br_f (nI_ge (b := 8) hi (by omega)) (And.intro (vp_in_nI (by omega) (by omega)) ?_)
      have e1 : om_bk (om_bk R (fun _ => -1) (24 + p * 8) 0 8) R (24 + p * 8) (p * 8) i (p * 8 + i) = R (p * 8 + i) := by
        rw [om_bko (by omega), om_bko (by omega)]
      have e2 : om_bk V V (24 + p * 8) (p * 8) i (p * 8 + i) = V (p * 8 + i) := om_bko (by omega)
      refine om_xhold F' (s := 24 + p * 8 + i) (j := p * 8 + i) (by omega) (by omega) ?_ ?_ (fun h2 F2 => And.intro (vp_in_nI (by omega) (by omega)) ?_)
      · rw [om_bko (by omega), om_bki (by omega) (by omega)]
      · rw [e1]
        exact hT _ (by omega)
      · rw [e1, e2, om_bkU, om_bkS] at F2
        rw [om_bkU]
        exact ih h2 F2)
  try dsimp only at key
  rw [om_bk0] at key
  exact key
theorem om_xroll {post : Int32 → SX → Prop} {p : Nat} (F : om_FI R V t w h f) (hT : ∀ j, j < 24 → tb j = R j) (hK : ∀ j, j < 24 → kp j = R (24 + j)) (hp : p < 3)
    (K1 : ak p = 0 → post (-7) (nI t, w, h, f, tb, kp, ak, la, hd, ct, il, pg, ca))
    (K : ¬ ak p = 0 → ∀ t' h' f', om_FI (om_bk R R (p * 8) (24 + p * 8) 8) (om_bk V V (p * 8) (24 + p * 8) 8) t' w h' f' →
      post (nI (om_mc (om_bx (om_bk tb kp (p * 8) (p * 8) 8)) p)) (nI t', w, h', f', om_bk tb kp (p * 8) (p * 8) 8, kp, ak, la, hd, ct, il, pg, ca)) :
    wpX_rollBack post (nI t, w, h, f, tb, kp, ak, la, hd, ct, il, pg, ca) (nI p) := by
  unfold wpX_rollBack
  refine om_xn0 hp ?_
  refine br_t rfl ?_
  simp (disch := omega) only [nI_clamp]
  refine And.intro (vp_in_nI hp (by omega)) (br_c K1 (fun z => ?_))
  refine om_xct F hp hT (fun t1 h1 f1 F1 => ?_)
  have key := loop_0 (fun n i (s : Nat → Int32) => wX_rollBack_28 post (nI p) n (nI i) (nI t1) w s f1 (om_bk (om_bk tb (fun _ => -1) (p * 8) 0 8) kp (p * 8) (p * 8) i) kp ak la hd ct il pg ca)
    (fun i s => om_FI (om_bk (om_bk R (fun _ => -1) (p * 8) 0 8) R (p * 8) (24 + p * 8) i) (om_bk V V (p * 8) (24 + p * 8) i) t1 w s f1) 8 h1 (by
           rw [om_bk0, om_bk0]; exact F1)
    (by
      intro n s F'
      try dsimp only at F' ⊢
      rw [om_bkbk] at F'
      rw [om_bkbk]
      exact br_t (nI_le (a := 8) (b := 8) (by omega) (by omega)) (om_xmp hp (K z _ _ _ F')))
    (by
      intro n i s hi F' ih
      try dsimp only at F' ih ⊢
      rw [wX_rollBack_28]
      simp (disch := omega) only [om_m8, nI_add, nI_clamp, forall_eq, nI_1]
      refine br_f (nI_ge (b := 8) hi (by omega)) (And.intro (vp_in_nI (by omega) (by omega)) ?_)
      have e1 : om_bk (om_bk R (fun _ => -1) (p * 8) 0 8) R (p * 8) (24 + p * 8) i (24 + p * 8 + i) = R (24 + p * 8 + i) := by
        rw [om_bko (by omega), om_bko (by omega)]
      have e2 : om_bk V V (p * 8) (24 + p * 8) i (24 + p * 8 + i) = V (24 + p * 8 + i) := om_bko (by omega)
      refine om_xhold F' (s := p * 8 + i) (j := 24 + p * 8 + i) (by omega) (by omega) ?_ ?_ (fun h2 F2 => And.intro (vp_in_nI (by omega) (by omega)) ?_)
      · rw [om_bko (by omega), om_bki (by omega) (by omega)]
      · rw [e1, hK _ (by omega)]
        exact congrArg R (by omega)
      · rw [e1, e2, om_bkU, om_bkS] at F2
        rw [om_bkU]
        exact ih h2 F2)
  try dsimp only at key
  rw [om_bk0] at key
  exact key
theorem om_xexit {post : Int32 → SX → Prop} {p : Nat} (F : om_FI R V t w h f) (hT : ∀ j, j < 24 → tb j = R j) (hK : ∀ j, j < 24 → kp j = R (24 + j)) (hp : p < 3)
    (K : ∀ t' h' f', om_FI (om_bk (om_bk R (fun _ => -1) (p * 8) 0 8) (fun _ => -1) (24 + p * 8) 0 8) V t' w h' f' →
      post (nI (om_mc (om_bx tb) p)) (nI t', w, h', f', om_bk tb (fun _ => -1) (p * 8) 0 8, om_bk kp (fun _ => -1) (p * 8) 0 8, upd ak p 0, upd la p 0, hd, ct, il, pg, ca)) :
    wpX_exit post (nI t, w, h, f, tb, kp, ak, la, hd, ct, il, pg, ca) (nI p) := by
  unfold wpX_exit
  refine om_xn0 hp ?_
  refine br_t rfl ?_
  simp (disch := omega) only [nI_clamp, forall_eq]
  refine om_xmp hp ?_
  refine om_xct F hp hT (fun t1 h1 f1 F1 => ?_)
  refine om_xck F1 hp (fun j hj => ?_) (fun t2 h2 f2 F2 => ?_)
  · rw [om_bko (by omega)]
    exact hK j hj
  · exact And.intro (vp_in_nI hp (by omega)) (K t2 h2 f2 F2)
theorem om_ysnap {post : Int32 → SY → Prop} {p : Nat} (hp : p < 3)
    (K : post (nI (om_mc (om_by yp) p)) (yp, yw, yl, upd yk p 1, om_bk ykp (fun j => vp_nar .boolean (yp j)) (p * 8) (p * 8) 8, om_bk ykw yw (p * 32) (p * 32) 32, ym, yi, yc, ys)) :
    wpY_snapshot post (yp, yw, yl, yk, ykp, ykw, ym, yi, yc, ys) (nI p) := by
  unfold wpY_snapshot
  refine om_yn0 hp ?_
  refine br_t rfl ?_
  simp (disch := omega) only [om_m8, nI_clamp, forall_eq, om_nb1]
  refine And.intro (vp_in_nI hp (by omega)) ?_
  have key := om_lc (W := fun n x g => wY_snapshot_22 post (nI p) n x yp yw yl (upd yk p 1) g ykw ym yi yc ys) (fun i => om_bk ykp (fun j => vp_nar .boolean (yp j)) (p * 8) (p * 8) i) (p * 8) 8
    (by
      intro m
      try dsimp only
      rw [wY_snapshot_22]
      simp (disch := omega) only [om_m8, om_a8, om_m32, nI_add, nI_clamp, forall_eq, nI_1]
      refine br_t (nI_le (by omega) (by omega)) ?_
      have key := om_lc (W := fun n x g => wY_snapshot_56 post (nI p) n x yp yw yl (upd yk p 1) (om_bk ykp (fun j => vp_nar .boolean (yp j)) (p * 8) (p * 8) 8) g ym yi yc ys) (fun i => om_bk ykw yw (p * 32) (p * 32) i) (p * 32) 32
        (by
          intro m
          try dsimp only
          rw [wY_snapshot_56]
          simp (disch := omega) only [om_m32, om_a32, nI_add, nI_clamp, forall_eq, nI_1]
          exact br_t (nI_le (by omega) (by omega)) (om_ymp hp K))
        (by
          intro m i hi ih
          try dsimp only at ih ⊢
          rw [wY_snapshot_56]
          simp (disch := omega) only [om_m32, om_a32, nI_add, nI_clamp, forall_eq, nI_1]
          refine br_f (nI_ge (by omega) (by omega)) (And.intro (vp_in_nI (by omega) (by omega)) (And.intro (vp_in_nI (by omega) (by omega)) ?_))
          rw [om_bkU]
          exact ih)
      try dsimp only at key
      rw [om_bk0] at key
      exact key)
    (by
      intro m i hi ih
      try dsimp only at ih ⊢
      rw [wY_snapshot_22]
      simp (disch := omega) only [om_m8, om_a8, nI_add, nI_clamp, forall_eq, nI_1]
      refine br_f (nI_ge (by omega) (by omega)) (And.intro (vp_in_nI (by omega) (by omega)) (And.intro (vp_in_nI (by omega) (by omega)) ?_))
      rw [om_bkU ykp (fun j => vp_nar .boolean (yp j))]
      exact ih)
  try dsimp only at key
  rw [om_bk0] at key
  exact key
theorem om_yroll {post : Int32 → SY → Prop} {p : Nat} (hp : p < 3)
    (K1 : yk p = 0 → post (-7) (yp, yw, yl, yk, ykp, ykw, ym, yi, yc, ys))
    (K : ¬ yk p = 0 → post (nI (om_mc (om_by (om_bk yp (fun j => vp_nar .boolean (ykp j)) (p * 8) (p * 8) 8)) p)) (om_bk yp (fun j => vp_nar .boolean (ykp j)) (p * 8) (p * 8) 8, om_bk yw ykw (p * 32) (p * 32) 32, yl, yk, ykp, ykw, ym, yi, yc, ys)) :
    wpY_rollBack post (yp, yw, yl, yk, ykp, ykw, ym, yi, yc, ys) (nI p) := by
  unfold wpY_rollBack
  refine om_yn0 hp ?_
  refine br_t rfl ?_
  simp (disch := omega) only [om_m8, nI_clamp, forall_eq]
  refine And.intro (vp_in_nI hp (by omega)) (br_c K1 (fun z => ?_))
  have key := om_lc (W := fun n x g => wY_rollBack_27 post (nI p) n x g yw yl yk ykp ykw ym yi yc ys) (fun i => om_bk yp (fun j => vp_nar .boolean (ykp j)) (p * 8) (p * 8) i) (p * 8) 8
    (by
      intro m
      try dsimp only
      rw [wY_rollBack_27]
      simp (disch := omega) only [om_m8, om_a8, om_m32, nI_add, nI_clamp, forall_eq, nI_1]
      refine br_t (nI_le (by omega) (by omega)) ?_
      have key := om_lc (W := fun n x g => wY_rollBack_61 post (nI p) n x (om_bk yp (fun j => vp_nar .boolean (ykp j)) (p * 8) (p * 8) 8) g yl yk ykp ykw ym yi yc ys) (fun i => om_bk yw ykw (p * 32) (p * 32) i) (p * 32) 32
        (by
          intro m
          try dsimp only
          rw [wY_rollBack_61]
          simp (disch := omega) only [om_m32, om_a32, nI_add, nI_clamp, forall_eq, nI_1]
          exact br_t (nI_le (by omega) (by omega)) (om_ymp hp (K z)))
        (by
          intro m i hi ih
          try dsimp only at ih ⊢
          rw [wY_rollBack_61]
          simp (disch := omega) only [om_m32, om_a32, nI_add, nI_clamp, forall_eq, nI_1]
          refine br_f (nI_ge (by omega) (by omega)) (And.intro (vp_in_nI (by omega) (by omega)) (And.intro (vp_in_nI (by omega) (by omega)) ?_))
          rw [om_bkU]
          exact ih)
      try dsimp only at key
      rw [om_bk0] at key
      exact key)
    (by
      intro m i hi ih
      try dsimp only at ih ⊢
      rw [wY_rollBack_27]
      simp (disch := omega) only [om_m8, om_a8, nI_add, nI_clamp, forall_eq, nI_1]
      refine br_f (nI_ge (by omega) (by omega)) (And.intro (vp_in_nI (by omega) (by omega)) (And.intro (vp_in_nI (by omega) (by omega)) ?_))
      rw [om_bkU yp (fun j => vp_nar .boolean (ykp j))]
      exact ih)
  try dsimp only at key
  rw [om_bk0] at key
  exact key
theorem om_yexit {post : Int32 → SY → Prop} {p : Nat} (hp : p < 3)
    (K : post (nI (om_mc (om_by yp) p)) (om_bk yp (fun _ => 0) (p * 8) 0 8, yw, upd yl p 0, upd yk p 0, ykp, ykw, ym, yi, yc, ys)) :
    wpY_exit post (yp, yw, yl, yk, ykp, ykw, ym, yi, yc, ys) (nI p) := by
  unfold wpY_exit
  refine om_yn0 hp ?_
  refine br_t rfl ?_
  refine om_ymp hp ?_
  simp (disch := omega) only [om_m8, nI_clamp, forall_eq]
  have key := om_lc (W := fun n x g => wY_exit_21 post (nI p) (nI (om_mc (om_by yp) p)) n x g yw yl yk ykp ykw ym yi yc ys) (fun i => om_bk yp (fun _ => 0) (p * 8) 0 i) (p * 8) 8
    (by
      intro m
      try dsimp only
      rw [wY_exit_21]
      simp (disch := omega) only [om_m8, om_a8, nI_add, nI_clamp, forall_eq, nI_1, om_nb0]
      exact br_t (nI_le (by omega) (by omega)) (And.intro (vp_in_nI hp (by omega)) (And.intro (vp_in_nI hp (by omega)) K)))
    (by
      intro m i hi ih
      try dsimp only at ih ⊢
      rw [wY_exit_21]
      simp (disch := omega) only [om_m8, om_a8, nI_add, nI_clamp, forall_eq, nI_1, om_nb0]
      refine br_f (nI_ge (by omega) (by omega)) (And.intro (vp_in_nI (by omega) (by omega)) ?_)
      rw [om_bkF]
      exact ih)
  try dsimp only at key
  rw [om_bk0] at key
  exact key
end
end
section
theorem i_vc_snapshot {k : Nat} {u : SX} {v : SY} (I : i_Rel k u v) (hk : k + 5 ≤ 2560) (v1 : Int32) : wpX_snapshot (fun r u' => wpY_snapshot (fun r' v' => r' = r ∧ i_Rel (k + 5) u' v') v v1) u v1 := by
  refine om_el (P := fun u v => wpX_snapshot (fun r u' => wpY_snapshot (fun r' v' => r' = r ∧ i_Rel (k + 5) u' v') v v1) u v1) I ?_
  intro R V t w h f tb kp ak la hd ct il pg ca yp yw ykp ykw yi yc ys L
  have B : i_Rel (k + 5) (nI t, w, h, f, tb, kp, ak, la, hd, ct, il, pg, ca) (yp, yw, la, ak, ykp, ykw, ct, yi, yc, ys) := om_in L
  rcases om_c3 v1 with ⟨p, hp, rfl⟩ | hb
  · have F := L.1
    have T := L.2.2.1
    have Kp := L.2.2.2.1
    refine om_xsnap F (fun j hj => (T j hj).1) Kp.1 hp (fun t' h' f' F' => ?_)
    refine om_ysnap hp ⟨congrArg nI (om_mcE hp (om_tbE F T)).symm, om_in (om_RLk L F' (fun j h1 h2 => om_bko (by omega)) (fun j h1 h2 => om_bko (by omega)) ?_ ⟨?_, ?_⟩)⟩
    · intro j hj
      rw [om_bko (by omega), om_bko (by omega)]
      exact T j hj
    · intro j hj
      by_cases y : p * 8 ≤ j ∧ j < p * 8 + 8
      · rw [om_bki y.1 y.2, om_bki (by omega) (by omega), (T _ (by omega)).1]
        exact congrArg R (by omega)
      · rw [om_bko (by omega), om_bko (by omega)]
        exact Kp.1 j hj
    · intro p' hp' ha j hj
      by_cases y : p' = p
      · subst y
        obtain ⟨a1, a2, a3⟩ := T (p' * 8 + j) (by omega)
        have e1 : 24 + (p' * 8 + j) = 24 + p' * 8 + j := by omega
        rw [om_bka hj, e1, om_bka hj, om_bka hj, a2]
        refine ⟨om_nbp _, fun i hi => ?_⟩
        rw [a3 i hi, om_bki (by omega) (by omega)]
        exact congrArg yw (by omega)
      · rw [pk_un y] at ha
        obtain ⟨a1, a2⟩ := Kp.2 p' hp' ha j hj
        rw [om_bko (by omega), om_bko (by omega), om_bko (by omega)]
        refine ⟨a1, fun i hi => ?_⟩
        rw [om_bko (by omega)]
        exact a2 i hi
  · unfold wpX_snapshot
    refine om_xn1 hb ?_
    refine br_f (by decide) ?_
    unfold wpY_snapshot
    refine om_yn1 hb ?_
    exact br_f (by decide) ⟨rfl, B⟩
theorem i_vc_rollBack {k : Nat} {u : SX} {v : SY} (I : i_Rel k u v) (hk : k + 5 ≤ 2560) (v1 : Int32) : wpX_rollBack (fun r u' => wpY_rollBack (fun r' v' => r' = r ∧ i_Rel (k + 5) u' v') v v1) u v1 := by
  refine om_el (P := fun u v => wpX_rollBack (fun r u' => wpY_rollBack (fun r' v' => r' = r ∧ i_Rel (k + 5) u' v') v v1) u v1) I ?_
  intro R V t w h f tb kp ak la hd ct il pg ca yp yw ykp ykw yi yc ys L
  have B : i_Rel (k + 5) (nI t, w, h, f, tb, kp, ak, la, hd, ct, il, pg, ca) (yp, yw, la, ak, ykp, ykw, ct, yi, yc, ys) := om_in L
  rcases om_c3 v1 with ⟨p, hp, rfl⟩ | hb
  · have F := L.1
    have T := L.2.2.1
    have Kp := L.2.2.2.1
    refine om_xroll F (fun j hj => (T j hj).1) Kp.1 hp (fun z => ?_) (fun z t' h' f' F' => ?_)
    · exact om_yroll hp (fun _ => ⟨rfl, B⟩) (fun y => absurd z y)
    · refine om_yroll hp (fun y => absurd y z) (fun _ => ?_)
      have T' : om_TB (om_bk R R (p * 8) (24 + p * 8) 8) (om_bk V V (p * 8) (24 + p * 8) 8) (om_bk tb kp (p * 8) (p * 8) 8) (om_bk yp (fun j => vp_nar .boolean (ykp j)) (p * 8) (p * 8) 8) (om_bk yw ykw (p * 32) (p * 32) 32) := by
        intro j hj
        by_cases y : p * 8 ≤ j ∧ j < p * 8 + 8
        · obtain ⟨i0, rfl⟩ : ∃ i0, j = p * 8 + i0 := ⟨j - p * 8, by omega⟩
          obtain ⟨a1, a2⟩ := Kp.2 p hp z i0 (by omega)
          have e1 : 24 + (p * 8 + i0) = 24 + p * 8 + i0 := by omega
          have e2 := Kp.1 (p * 8 + i0) (by omega)
          rw [e1] at a1 a2 e2
          rw [om_bka (by omega), om_bka (by omega), om_bka (by omega), om_bka (by omega), a1]
          refine ⟨e2, om_nbp _, fun i hi => ?_⟩
          rw [a2 i hi, om_bki (by omega) (by omega)]
          exact congrArg ykw (by omega)
        · obtain ⟨a1, a2, a3⟩ := T j hj
          rw [om_bko (by omega), om_bko (by omega), om_bko (by omega), om_bko (by omega)]
          refine ⟨a1, a2, fun i hi => ?_⟩
          rw [om_bko (by omega)]
          exact a3 i hi
      exact ⟨congrArg nI (om_mcE hp (om_tbE F' T')).symm, om_in (om_RLt L F' (fun j h1 h2 => om_bko (by omega)) (fun j h1 h2 => om_bko (by omega)) T')⟩
  · unfold wpX_rollBack
    refine om_xn1 hb ?_
    refine br_f (by decide) ?_
    unfold wpY_rollBack
    refine om_yn1 hb ?_
    exact br_f (by decide) ⟨rfl, B⟩
theorem i_vc_exit {k : Nat} {u : SX} {v : SY} (I : i_Rel k u v) (hk : k + 5 ≤ 2560) (v1 : Int32) : wpX_exit (fun r u' => wpY_exit (fun r' v' => r' = r ∧ i_Rel (k + 5) u' v') v v1) u v1 := by
  refine om_el (P := fun u v => wpX_exit (fun r u' => wpY_exit (fun r' v' => r' = r ∧ i_Rel (k + 5) u' v') v v1) u v1) I ?_
  intro R V t w h f tb kp ak la hd ct il pg ca yp yw ykp ykw yi yc ys L
  have B : i_Rel (k + 5) (nI t, w, h, f, tb, kp, ak, la, hd, ct, il, pg, ca) (yp, yw, la, ak, ykp, ykw, ct, yi, yc, ys) := om_in L
  rcases om_c3 v1 with ⟨p, hp, rfl⟩ | hb
  · have F := L.1
    have T := L.2.2.1
    have Kp := L.2.2.2.1
    refine om_xexit F (fun j hj => (T j hj).1) Kp.1 hp (fun t' h' f' F' => ?_)
    refine om_yexit hp ⟨congrArg nI (om_mcE hp (om_tbE F T)).symm, om_in (om_RLk L F' (fun j h1 h2 => ?_) (fun j h1 h2 => rfl) ?_ ⟨?_, ?_⟩)⟩
    · rw [om_bko (by omega), om_bko (by omega)]
    · intro j hj
      obtain ⟨a1, a2, a3⟩ := T j hj
      by_cases y : p * 8 ≤ j ∧ j < p * 8 + 8
      · rw [om_bko (d := om_bk R (fun _ => -1) (p * 8) 0 8) (by omega), om_bki y.1 y.2, om_bki y.1 y.2, om_bki y.1 y.2]
        exact ⟨rfl, om_pb0.symm, a3⟩
      · rw [om_bko (d := om_bk R (fun _ => -1) (p * 8) 0 8) (by omega), om_bko (by omega), om_bko (by omega), om_bko (by omega)]
        exact ⟨a1, a2, a3⟩
    · intro j hj
      by_cases y : p * 8 ≤ j ∧ j < p * 8 + 8
      · rw [om_bki y.1 y.2, om_bki (by omega) (by omega)]
      · rw [om_bko (by omega), om_bko (by omega), om_bko (by omega)]
        exact Kp.1 j hj
    · intro p' hp' ha j hj
      by_cases y : p' = p
      · subst y
        exact absurd pk_us ha
      · rw [pk_un y] at ha
        obtain ⟨a1, a2⟩ := Kp.2 p' hp' ha j hj
        rw [om_bko (by omega), om_bko (by omega)]
        exact ⟨a1, a2⟩
  · unfold wpX_exit
    refine om_xn1 hb ?_
    refine br_f (by decide) ?_
    unfold wpY_exit
    refine om_yn1 hb ?_
    exact br_f (by decide) ⟨rfl, B⟩
end
section
/-! send -/
section
variable {R R' : Nat → Int32} {V V' : Nat → Nat → Int32} {t : Nat} {w h f tb kp ak la hd ct il pg ca yp yw yl yk ykp ykw ym yi yc ys : Nat → Int32}
theorem om_xs60 {post : Int32 → SX → Prop} {p o fi n : Nat} {T x3 : Int32} (hp : p < 3) (h8 : fi + n ≤ 8)
    (K1 : (∃ i, i < n ∧ tb (p * 8 + fi + i) < 0) → post (-4) (T, w, h, f, tb, kp, ak, la, hd, ct, il, pg, ca))
    (K2 : (∀ i, i < n → ¬ tb (p * 8 + fi + i) < 0) → ∀ m, wX_send_60 post (nI p) (nI o) x3 (nI fi) (nI n) T w h f tb kp ak la hd ct il pg ca (m + 1) (nI n)) :
    ∃ k, wX_send_60 post (nI p) (nI o) x3 (nI fi) (nI n) T w h f tb kp ak la hd ct il pg ca k 0 := by
  have L : ∀ d i, i + d = n → (∀ j, j < i → ¬ tb (p * 8 + fi + j) < 0) → wX_send_60 post (nI p) (nI o) x3 (nI fi) (nI n) T w h f tb kp ak la hd ct il pg ca (d + 1) (nI i) := by
    intro d
    induction d with
    | zero =>
      intro i hi hj
      obtain rfl : i = n := by omega
      exact K2 hj 0
    | succ d ih =>
      intro i hi hj
      rw [wX_send_60]
      refine br_f (nI_ge (by omega) (by omega)) ?_
      simp (disch := omega) only [om_m8, nI_add, nI_clamp, forall_eq, nI_1]
      refine And.intro (vp_in_nI (by omega) (by omega)) (br_c (fun z => ?_) (fun z => ?_))
      · refine ih (i + 1) (by omega) (fun j lj => ?_)
        by_cases y : j = i
        · rw [y]
          exact Int32.not_lt.mpr z
        · exact hj j (by omega)
      · exact K1 ⟨i, by omega, Int32.not_le.mp z⟩
  exact ⟨n + 1, L n 0 (by omega) (fun j lj => absurd lj (by omega))⟩
theorem om_xs135 {post : Int32 → SX → Prop} {p o fi n m C : Nat} (F : om_FI R V t w h f) (hT : ∀ j, j < 24 → tb j = R j) (hp : p < 3) (ho : o < 3) (h8 : fi + n ≤ 8) (hn : n ≤ 3) (hm : m < 9)
    (hC : ct o = nI C) (hC3 : C < 3) (hR : ∀ i, i < 3 → R (48 + m * 3 + i) = -1)
    (K : ∀ h', om_FI (om_bk R R (48 + m * 3) (p * 8 + fi) n) (om_bk V V (48 + m * 3) (p * 8 + fi) n) t w h' f →
      post (nI (C + 1)) (nI t, w, h', f, tb, kp, ak, la, hd, upd ct o (nI (C + 1)), il, pg, om_bk ca tb (m * 3) (p * 8 + fi) n)) :
    ∃ k, wX_send_135 post (nI p) (nI o) (nI fi) (nI n) (nI m) k 0 (nI t) w h f tb kp ak la hd ct il pg ca := by
  have key := loop_0 (fun k i (s : Nat → Int32) => wX_send_135 post (nI p) (nI o) (nI fi) (nI n) (nI m) k (nI i) (nI t) w s f tb kp ak la hd ct il pg (om_bk ca tb (m * 3) (p * 8 + fi) i))
    (fun i s => om_FI (om_bk R R (48 + m * 3) (p * 8 + fi) i) (om_bk V V (48 + m * 3) (p * 8 + fi) i) t w s f) n h (by
      rw [om_bk0, om_bk0]
      exact F)
    (by
      intro k s F'
      rw [wX_send_135]
      refine br_t (nI_le (by omega) (by omega)) ?_
      simp (disch := omega) only [nI_clamp, hC, nI_1, forall_eq, pk_us]
      exact And.intro (vp_in_nI ho (by omega)) (And.intro (vp_in_nI ho (by omega)) (And.intro (vp_in_nI ho (by omega)) (K s F'))))
    (by
      intro k i s hi F' ih
      rw [wX_send_135]
      refine br_f (nI_ge hi (by omega)) ?_
      simp (disch := omega) only [om_m8, om_m3, nI_add, nI_clamp, forall_eq, nI_1]
      refine And.intro (vp_in_nI (by omega) (by omega)) ?_
      have e1 : om_bk R R (48 + m * 3) (p * 8 + fi) i (p * 8 + fi + i) = R (p * 8 + fi + i) := om_bko (by omega)
      have e2 : om_bk V V (48 + m * 3) (p * 8 + fi) i (p * 8 + fi + i) = V (p * 8 + fi + i) := om_bko (by omega)
      refine om_xhold F' (s := 48 + m * 3 + i) (j := p * 8 + fi + i) (by omega) (by omega) ?_ ?_ (fun h2 F2 => And.intro (vp_in_nI (by omega) (by omega)) ?_)
      · rw [om_bko (by omega)]
        exact hR i (by omega)
      · rw [e1]
        exact hT _ (by omega)
      · rw [e1, e2, om_bkU, om_bkS] at F2
        rw [om_bkU]
        exact ih h2 F2)
  try dsimp only at key
  rw [om_bk0] at key
  exact key
theorem om_xsend {post : Int32 → SX → Prop} {p o fi n H C : Nat} {x3 x4 : Int32} (F : om_FI R V t w h f) (hT : ∀ j, j < 24 → tb j = R j) (hp : p < 3) (ho : o < 3)
    (e1 : x4 &&& 7 = nI fi) (e2 : (x4 >>> ((3 : Int32) &&& 31)) &&& 3 = nI n) (hfi : fi < 8) (hn : n < 4) (hH : hd o = nI H) (hH3 : H < 3) (hC : ct o = nI C) (hC3 : C ≤ 3)
    (hR : C < 3 → ∀ i, i < 3 → R (48 + (o * 3 + (H + C) % 3) * 3 + i) = -1)
    (K5 : 3 ≤ C → post (-5) (nI t, w, h, f, tb, kp, ak, la, hd, ct, il, pg, ca))
    (K2 : C < 3 → 8 < fi + n → post (-2) (nI t, w, h, f, tb, kp, ak, la, hd, ct, il, pg, ca))
    (K4 : C < 3 → fi + n ≤ 8 → (∃ i, i < n ∧ tb (p * 8 + fi + i) < 0) → post (-4) (nI t, w, h, f, tb, kp, ak, la, hd, ct, il, pg, ca))
    (K : C < 3 → fi + n ≤ 8 → (∀ i, i < n → ¬ tb (p * 8 + fi + i) < 0) → ∀ h', om_FI (om_bk R R (48 + (o * 3 + (H + C) % 3) * 3) (p * 8 + fi) n) (om_bk V V (48 + (o * 3 + (H + C) % 3) * 3) (p * 8 + fi) n) t w h' f →
      post (nI (C + 1)) (nI t, w, h', f, tb, kp, ak, la, hd, upd ct o (nI (C + 1)), upd il (o * 3 + (H + C) % 3) x3, upd pg (o * 3 + (H + C) % 3) (nI n), om_bk ca tb ((o * 3 + (H + C) % 3) * 3) (p * 8 + fi) n)) :
    wpX_send post (nI t, w, h, f, tb, kp, ak, la, hd, ct, il, pg, ca) (nI p) (nI o) x3 x4 := by
  unfold wpX_send
  refine om_xn0 hp ?_
  refine br_t rfl ?_
  refine om_xn0 ho ?_
  refine br_t rfl ?_
  refine And.intro (vp_in_nI ho (by omega)) ?_
  rw [e1, e2, nI_clamp (by omega : o < 2 ^ 31), hC]
  refine pk_lt C 3 (fun z => ?_) K5
  refine nm_e (nm_e ?_)
  rw [nI_add]
  refine pk_le (fi + n) 8 (fun z8 => ?_) (K2 z)
  refine om_xs60 hp z8 (K4 z z8) (fun za m => ?_)
  rw [wX_send_60]
  refine br_t (nI_le (by omega) (by omega)) ?_
  rw [nI_clamp (by omega : o < 2 ^ 31), hC, hH, nI_add, om_r3 (by omega), om_m3, nI_add]
  refine And.intro (vp_in_nI ho (by omega)) (And.intro (vp_in_nI ho (by omega)) (And.intro (by decide) ?_))
  refine nm_e ?_
  refine And.intro (vp_in_nI (by omega) (by omega)) ?_
  rw [nI_clamp (by omega : o * 3 + (H + C) % 3 < 2 ^ 31)]
  refine nm_e ?_
  refine And.intro (vp_in_nI (by omega) (by omega)) ?_
  refine nm_e ?_
  exact om_xs135 F hT hp ho z8 (by omega) (by omega) hC z (hR z) (K z z8 za)
theorem om_ys66 {post : Int32 → SY → Prop} {p o fi n : Nat} {x3 x5 : Int32} (hp : p < 3) (h8 : fi + n ≤ 8)
    (K1 : (∃ i, i < n ∧ yp (p * 8 + fi + i) = 0) → post (-4) (yp, yw, yl, yk, ykp, ykw, ym, yi, yc, ys))
    (K2 : (∀ i, i < n → ¬ yp (p * 8 + fi + i) = 0) → ∀ m, wY_send_66 post (nI p) (nI o) x3 x5 (nI fi) (nI n) yp yw yl yk ykp ykw ym yi yc ys (m + 1) (nI n)) :
    ∃ k, wY_send_66 post (nI p) (nI o) x3 x5 (nI fi) (nI n) yp yw yl yk ykp ykw ym yi yc ys k 0 := by
  have L : ∀ d i, i + d = n → (∀ j, j < i → ¬ yp (p * 8 + fi + j) = 0) → wY_send_66 post (nI p) (nI o) x3 x5 (nI fi) (nI n) yp yw yl yk ykp ykw ym yi yc ys (d + 1) (nI i) := by
    intro d
    induction d with
    | zero =>
      intro i hi hj
      obtain rfl : i = n := by omega
      exact K2 hj 0
    | succ d ih =>
      intro i hi hj
      rw [wY_send_66]
      refine br_f (nI_ge (by omega) (by omega)) ?_
      simp (disch := omega) only [om_m8, nI_add, nI_clamp, forall_eq, nI_1]
      refine And.intro (vp_in_nI (by omega) (by omega)) (br_c (fun z => ?_) (fun z => ?_))
      · exact K1 ⟨i, by omega, z⟩
      · refine ih (i + 1) (by omega) (fun j lj => ?_)
        by_cases y : j = i
        · rw [y]
          exact z
        · exact hj j (by omega)
  exact ⟨n + 1, L n 0 (by omega) (fun j lj => absurd lj (by omega))⟩
theorem om_ysend {post : Int32 → SY → Prop} {p o fi n C : Nat} {x3 x4 : Int32} (hp : p < 3) (ho : o < 3)
    (e1 : x4 &&& 7 = nI fi) (e2 : (x4 >>> ((3 : Int32) &&& 31)) &&& 3 = nI n) (hfi : fi < 8) (hn : n < 4) (hC : ym o = nI C) (hC3 : C ≤ 3)
    (K5 : 3 ≤ C → post (-5) (yp, yw, yl, yk, ykp, ykw, ym, yi, yc, ys))
    (K2 : C < 3 → 8 < fi + n → post (-2) (yp, yw, yl, yk, ykp, ykw, ym, yi, yc, ys))
    (K4 : C < 3 → fi + n ≤ 8 → (∃ i, i < n ∧ yp (p * 8 + fi + i) = 0) → post (-4) (yp, yw, yl, yk, ykp, ykw, ym, yi, yc, ys))
    (K : C < 3 → fi + n ≤ 8 → (∀ i, i < n → ¬ yp (p * 8 + fi + i) = 0) →
      post (nI (C + 1)) (yp, yw, yl, yk, ykp, ykw, upd ym o (nI (C + 1)), upd yi (o * 3 + C) x3, upd yc (o * 3 + C) (nI n), om_bk ys yw ((o * 3 + C) * 12) (p * 32 + fi * 4) (n * 4))) :
    wpY_send post (yp, yw, yl, yk, ykp, ykw, ym, yi, yc, ys) (nI p) (nI o) x3 x4 := by
  unfold wpY_send
  refine om_yn0 hp ?_
  refine br_t rfl ?_
  refine om_yn0 ho ?_
  refine br_t rfl ?_
  refine And.intro (vp_in_nI ho (by omega)) ?_
  rw [e1, e2, nI_clamp (by omega : o < 2 ^ 31), hC]
  refine nm_e ?_
  refine pk_lt C 3 (fun z => ?_) K5
  refine nm_e (nm_e ?_)
  rw [nI_add]
  refine pk_le (fi + n) 8 (fun z8 => ?_) (K2 z)
  refine om_ys66 hp z8 (K4 z z8) (fun za m => ?_)
  rw [wY_send_66]
  refine br_t (nI_le (by omega) (by omega)) ?_
  rw [om_m3, nI_add]
  refine nm_e ?_
  refine And.intro (vp_in_nI (by omega) (by omega)) ?_
  rw [nI_clamp (by omega : o * 3 + C < 2 ^ 31)]
  refine nm_e ?_
  refine And.intro (vp_in_nI (by omega) (by omega)) ?_
  refine nm_e ?_
  have key := om_l0 (W := fun k x g => wY_send_128 post (nI p) (nI o) (nI C) (nI fi) (nI n) (nI (o * 3 + C)) k x yp yw yl yk ykp ykw ym (upd yi (o * 3 + C) x3) (upd yc (o * 3 + C) (nI n)) g) (fun i => om_bk ys yw ((o * 3 + C) * 12) (p * 32 + fi * 4) i) (n * 4)
    (by
      intro m
      rw [wY_send_128]
      simp (disch := omega) only [om_m4, nI_clamp, nI_1, forall_eq]
      exact br_t (nI_le (by omega) (by omega)) (And.intro (vp_in_nI ho (by omega)) (K z z8 za)))
    (by
      intro m i hi ih
      rw [wY_send_128]
      simp (disch := omega) only [om_m4, om_m12, om_m32, nI_add, nI_clamp, forall_eq, nI_1]
      refine br_f (nI_ge (by omega) (by omega)) (And.intro (vp_in_nI (by omega) (by omega)) (And.intro (vp_in_nI (by omega) (by omega)) ?_))
      rw [om_bkU]
      exact ih)
  try dsimp only at key
  rw [om_bk0] at key
  exact key
end
end
section
section
variable {R : Nat → Int32} {V : Nat → Nat → Int32} {t : Nat} {w h f tb kp ak la hd ct il pg ca yp yw yl yk ykp ykw ym yi yc ys : Nat → Int32}
theorem om_sendPT {p o fi n H C : Nat} {x3 : Int32} (F : om_FI R V t w h f) (T : om_TB R V tb yp yw) (hp : p < 3) (ho : o < 3) (h8 : fi + n ≤ 8) (hn : n ≤ 3)
    (hH3 : H < 3) (hH : hd o = nI H) (hC3 : C < 3)
    (M : ∀ e, e < C → om_MS R V il pg ca yi yc ys (o * 3 + (H + e) % 3) (o * 3 + e))
    (E : ∀ e, C ≤ e → e < 3 → ∀ i, i < 3 → R (48 + (o * 3 + (H + e) % 3) * 3 + i) = -1)
    (P : ∀ o, o < 3 → om_PT R V hd ct il pg ca yi yc ys o)
    (za : ∀ i, i < n → ¬ tb (p * 8 + fi + i) < 0) {m : Nat} (em : m = o * 3 + (H + C) % 3) (o' : Nat) (ho' : o' < 3) :
    om_PT (om_bk R R (48 + m * 3) (p * 8 + fi) n) (om_bk V V (48 + m * 3) (p * 8 + fi) n) hd (upd ct o (nI (C + 1))) (upd il m x3) (upd pg m (nI n)) (om_bk ca tb (m * 3) (p * 8 + fi) n)
      (upd yi (o * 3 + C) x3) (upd yc (o * 3 + C) (nI n)) (om_bk ys yw ((o * 3 + C) * 12) (p * 32 + fi * 4) (n * 4)) o' := by
  by_cases y : o' = o
  · subst y
    refine ⟨H, C + 1, hH3, by omega, hH, pk_us, fun e he => ?_, fun e h1 h2 i hi => ?_⟩
    · by_cases z : e = C
      · rw [z, ← em]
        refine ⟨by rw [pk_us, pk_us], n, hn, pk_us, pk_us, fun i hi => ?_, fun i h1 h2 => ?_⟩
        · obtain ⟨a1, a2, a3⟩ := T (p * 8 + fi + i) (by omega)
          rw [om_bka hi, om_bka hi, om_bka hi]
          refine ⟨a1.symm, ?_, fun k lk => ?_⟩
          · rcases F.1 (p * 8 + fi + i) (by omega) with e1 | e1
            · exact absurd (by rw [a1, e1]; exact om_m1n) (za i hi)
            · exact e1
          · rw [a3 k lk, om_bki (by omega) (by omega)]
            exact congrArg yw (by omega)
        · rw [om_bko (by omega), em]
          exact E C (by omega) hC3 i h2
      · have hm : o' * 3 + (H + e) % 3 ≠ m := by omega
        refine om_MSg (M e (by omega)) (pk_un hm) (pk_un hm) (fun i hi => om_bko (by omega)) (fun i hi => om_bko (by omega)) (fun i hi => om_bko (by omega)) (pk_un (by omega)) (pk_un (by omega)) (fun k lk => om_bko (by omega))
    · rw [om_bko (by omega)]
      exact E e (by omega) h2 i hi
  · obtain ⟨H', C', h1, h2, h3, h4, h5, h6⟩ := P o' ho'
    refine ⟨H', C', h1, h2, h3, by rw [pk_un y]; exact h4, fun e he => ?_, fun e h7 h9 i hi => ?_⟩
    · have hm : o' * 3 + (H' + e) % 3 ≠ m := by omega
      exact om_MSg (h5 e he) (pk_un hm) (pk_un hm) (fun i hi => om_bko (by omega)) (fun i hi => om_bko (by omega)) (fun i hi => om_bko (by omega)) (pk_un (by omega)) (pk_un (by omega)) (fun k lk => om_bko (by omega))
    · rw [om_bko (by omega)]
      exact h6 e h7 h9 i hi
end
theorem i_vc_send {k : Nat} {u : SX} {v : SY} (I : i_Rel k u v) (hk : k + 5 ≤ 2560) (v1 : Int32) (v2 : Int32) (v3 : Int32) (v4 : Int32) : wpX_send (fun r u' => wpY_send (fun r' v' => r' = r ∧ i_Rel (k + 5) u' v') v v1 v2 v3 v4) u v1 v2 v3 v4 := by
  refine om_el (P := fun u v => wpX_send (fun r u' => wpY_send (fun r' v' => r' = r ∧ i_Rel (k + 5) u' v') v v1 v2 v3 v4) u v1 v2 v3 v4) I ?_
  intro R V t w h f tb kp ak la hd ct il pg ca yp yw ykp ykw yi yc ys L
  have B : i_Rel (k + 5) (nI t, w, h, f, tb, kp, ak, la, hd, ct, il, pg, ca) (yp, yw, la, ak, ykp, ykw, ct, yi, yc, ys) := om_in L
  rcases om_c3 v1 with ⟨p, hp, rfl⟩ | hb
  · rcases om_c3 v2 with ⟨o, ho, rfl⟩ | hb
    · have F := L.1
      have T := L.2.2.1
      have Kp := L.2.2.2.1
      have P := L.2.2.2.2
      obtain ⟨H, C, hH3, hC3, hH, hC, M, E⟩ := P o ho
      obtain ⟨fi, hfi, e1⟩ := pk_andE v4 (m := 7) 3 (by decide)
      obtain ⟨n, hn, e2⟩ := pk_andE (v4 >>> ((3 : Int32) &&& 31)) (m := 3) 2 (by decide)
      refine om_xsend F (fun j hj => (T j hj).1) hp ho e1 e2 hfi hn hH hH3 hC hC3 (fun z => E C (by omega) z) (fun z => ?_) (fun z z8 => ?_) (fun z z8 zb => ?_) (fun z z8 za h' F' => ?_)
      · exact om_ysend hp ho e1 e2 hfi hn hC hC3 (fun _ => ⟨rfl, B⟩) (fun y => absurd y (by omega)) (fun y => absurd y (by omega)) (fun y => absurd y (by omega))
      · exact om_ysend hp ho e1 e2 hfi hn hC hC3 (fun y => absurd y (by omega)) (fun _ _ => ⟨rfl, B⟩) (fun _ y => absurd y (by omega)) (fun _ y => absurd y (by omega))
      · refine om_ysend hp ho e1 e2 hfi hn hC hC3 (fun y => absurd y (by omega)) (fun _ y => absurd y (by omega)) (fun _ _ _ => ⟨rfl, B⟩) (fun _ _ y => ?_)
        obtain ⟨i, hi, zi⟩ := zb
        exact absurd ((om_tbE F T _ (by omega)).mp zi) (y i hi)
      · refine om_ysend hp ho e1 e2 hfi hn hC hC3 (fun y => absurd y (by omega)) (fun _ y => absurd y (by omega)) (fun _ _ y => ?_) (fun _ _ _ => ⟨rfl, om_in ⟨F', ?_, fun j hj => ?_, ⟨fun j hj => ?_, fun p' hp' ha j hj => ?_⟩, ?_⟩⟩)
        · obtain ⟨i, hi, zi⟩ := y
          exact absurd ((om_tbE F T _ (by omega)).mpr zi) (za i hi)
        · rw [om_bko (by omega)]
          exact L.2.1
        · rw [om_bko (by omega), om_bko (by omega)]
          exact T j hj
        · rw [om_bko (by omega)]
          exact Kp.1 j hj
        · rw [om_bko (by omega), om_bko (by omega)]
          exact Kp.2 p' hp' ha j hj
        · exact om_sendPT F T hp ho z8 (by omega) hH3 hH z M E P za rfl
    · unfold wpX_send
      refine om_xn0 hp ?_
      refine br_t rfl ?_
      refine om_xn1 hb ?_
      refine br_f (by decide) ?_
      unfold wpY_send
      refine om_yn0 hp ?_
      refine br_t rfl ?_
      refine om_yn1 hb ?_
      exact br_f (by decide) ⟨rfl, B⟩
  · unfold wpX_send
    refine om_xn1 hb ?_
    refine br_f (by decide) ?_
    unfold wpY_send
    refine om_yn1 hb ?_
    exact br_f (by decide) ⟨rfl, B⟩
end
section
/-! receive -/
/-- the reference's messages of port o have moved up by one -/
def om_FW (o : Nat) (yi yc ys yi' yc' ys' : Nat → Int32) : Prop :=
  (∀ e, e < 2 → yi' (o * 3 + e) = yi (o * 3 + (e + 1)) ∧ yc' (o * 3 + e) = yc (o * 3 + (e + 1)) ∧ ∀ k, k < 12 → ys' ((o * 3 + e) * 12 + k) = ys ((o * 3 + (e + 1)) * 12 + k)) ∧
  (∀ j, (j < o * 3 ∨ o * 3 + 3 ≤ j) → yi' j = yi j ∧ yc' j = yc j ∧ ∀ k, k < 12 → ys' (j * 12 + k) = ys (j * 12 + k))
section
variable {R R' : Nat → Int32} {V V' : Nat → Nat → Int32} {t : Nat} {w h f tb kp ak la hd ct il pg ca yp yw yl yk ykp ykw ym yi yc ys : Nat → Int32}
theorem om_mvs (F : om_FI R V t w h f) {a s N : Nat} (h1 : a + N ≤ s) (h2 : s + N ≤ 76) (hR : ∀ i, i < N → R (a + i) = -1) :
    ∀ n, n ≤ N → om_FI (om_bk (om_bk R R a s n) (fun _ => -1) s 0 n) (om_bk V V a s n) t w h f := by
  intro n
  induction n with
  | zero =>
    intro _
    rw [om_bk0, om_bk0, om_bk0]
    exact F
  | succ n ih =>
    intro hn
    have F1 := ih (by omega)
    have e1 : om_bk (om_bk R R a s n) (fun _ => -1) s 0 n (a + n) = -1 := by
      rw [om_bko (by omega), om_bko (by omega)]
      exact hR n (by omega)
    have e2 : om_bk (om_bk R R a s n) (fun _ => -1) s 0 n (s + n) = R (s + n) := by
      rw [om_bko (by omega), om_bko (by omega)]
    have e3 : om_bk V V a s n (s + n) = V (s + n) := om_bko (by omega)
    have F2 := om_move F1 (a := s + n) (b := a + n) (by omega) (by omega) (by omega) e1
    rw [e2, e3, om_bkS] at F2
    refine om_ext F2 (fun j hj => ?_) (fun _ _ _ _ _ => rfl)
    by_cases y : j = s + n
    · rw [y, pk_us, om_bka (by omega)]
    · rw [pk_un y]
      by_cases y2 : j = a + n
      · rw [y2, pk_us, om_bko (by omega), om_bka (by omega)]
      · rw [pk_un y2]
        by_cases y3 : s ≤ j ∧ j < s + n
        · rw [om_bki y3.1 y3.2, om_bki y3.1 (by omega)]
        · rw [om_bko (a := s) (by omega), om_bko (a := s) (by omega)]
          by_cases y4 : a ≤ j ∧ j < a + n
          · rw [om_bki y4.1 y4.2, om_bki y4.1 (by omega)]
          · rw [om_bko (by omega), om_bko (by omega)]
theorem om_xdrop {post : SX → Prop} {T : Int32} {o H C : Nat} (ho : o < 3) (hH : hd o = nI H) (hH3 : H < 3) (hC : ct o = nI (C + 1))
    (K : post (T, w, h, f, tb, kp, ak, la, upd hd o (nI ((H + 1) % 3)), upd ct o (nI C), il, pg, ca)) :
    wpX_dropHead post (T, w, h, f, tb, kp, ak, la, hd, ct, il, pg, ca) (nI o) := by
  refine And.intro (vp_in_nI ho (by omega)) ?_
  rw [nI_clamp (by omega : o < 2 ^ 31), hH]
  refine pk_eq H 2 (fun z => ?_) (fun z => And.intro (vp_in_nI ho (by omega)) ?_)
  · have e : (H + 1) % 3 = 0 := by omega
    rw [e, nI_0] at K
    unfold wX_dropHead_27
    simp (disch := omega) only [nI_clamp, hC, nI_pred, forall_eq]
    exact And.intro (vp_in_nI ho (by omega)) (And.intro (vp_in_nI ho (by omega)) (And.intro (vp_in_nI ho (by omega)) K))
  · have e : (H + 1) % 3 = H + 1 := by omega
    rw [e] at K
    unfold wX_dropHead_27
    simp (disch := omega) only [nI_clamp, hC, nI_pred, forall_eq, nI_1]
    exact And.intro (vp_in_nI ho (by omega)) (And.intro (vp_in_nI ho (by omega)) (And.intro (vp_in_nI ho (by omega)) K))
theorem om_xr71 {post : Int32 → SX → Prop} {p o a n : Nat} {T x4 : Int32} (hp : p < 3) (h8 : a + n ≤ 8)
    (K1 : (∃ i, i < n ∧ ¬ tb (p * 8 + a + i) < 0) → post (-3) (T, w, h, f, tb, kp, ak, la, hd, ct, il, pg, ca))
    (K2 : (∀ i, i < n → tb (p * 8 + a + i) < 0) → ∀ m, wX_receive_71 post (nI p) (nI o) (nI a) x4 (nI n) T w h f tb kp ak la hd ct il pg ca (m + 1) (nI n)) :
    ∃ k, wX_receive_71 post (nI p) (nI o) (nI a) x4 (nI n) T w h f tb kp ak la hd ct il pg ca k 0 := by
  have L : ∀ d i, i + d = n → (∀ j, j < i → tb (p * 8 + a + j) < 0) → wX_receive_71 post (nI p) (nI o) (nI a) x4 (nI n) T w h f tb kp ak la hd ct il pg ca (d + 1) (nI i) := by
    intro d
    induction d with
    | zero =>
      intro i hi hj
      obtain rfl : i = n := by omega
      exact K2 hj 0
    | succ d ih =>
      intro i hi hj
      rw [wX_receive_71]
      refine br_f (nI_ge (by omega) (by omega)) ?_
      simp (disch := omega) only [om_m8, nI_add, nI_clamp, forall_eq, nI_1]
      refine And.intro (vp_in_nI (by omega) (by omega)) (br_c (fun z => ?_) (fun z => ?_))
      · refine ih (i + 1) (by omega) (fun j lj => ?_)
        by_cases y : j = i
        · rw [y]
          exact z
        · exact hj j (by omega)
      · exact K1 ⟨i, by omega, z⟩
  exact ⟨n + 1, L n 0 (by omega) (fun j lj => absurd lj (by omega))⟩
theorem om_xrecv {post : Int32 → SX → Prop} {T : Int32} {p o a n H C : Nat} (hp : p < 3) (ho : o < 3) (ha : a < 8) (hn : n ≤ 3) (hH : hd o = nI H) (hH3 : H < 3) (hC : ct o = nI (C + 1)) (hC3 : C + 1 ≤ 3) (hP : pg (o * 3 + H) = nI n)
    (K2 : 8 < a + n → post (-2) (T, w, h, f, tb, kp, ak, la, hd, ct, il, pg, ca))
    (K3 : a + n ≤ 8 → (∃ i, i < n ∧ ¬ tb (p * 8 + a + i) < 0) → post (-3) (T, w, h, f, tb, kp, ak, la, hd, ct, il, pg, ca))
    (K : a + n ≤ 8 → (∀ i, i < n → tb (p * 8 + a + i) < 0) →
      post (nI n) (T, w, h, f, om_bk tb ca (p * 8 + a) ((o * 3 + H) * 3) n, kp, ak, upd la p (il (o * 3 + H)), upd hd o (nI ((H + 1) % 3)), upd ct o (nI C), il, pg, ca)) :
    wpX_receive post (T, w, h, f, tb, kp, ak, la, hd, ct, il, pg, ca) (nI p) (nI o) (nI a) := by
  unfold wpX_receive
  refine om_xn0 hp ?_
  refine br_t rfl ?_
  refine om_xn0 ho ?_
  refine br_t rfl ?_
  refine And.intro (vp_in_nI ho (by omega)) ?_
  rw [nI_clamp (by omega : o < 2 ^ 31), hC]
  refine br_f (nI_ne0 (by omega) (by omega)) ?_
  refine And.intro (vp_in_nI ho (by omega)) ?_
  rw [hH, om_m3, nI_add]
  refine nm_e ?_
  refine And.intro (vp_in_nI (by omega) (by omega)) ?_
  rw [nI_clamp (by omega : o * 3 + H < 2 ^ 31), hP]
  refine nm_e ?_
  refine om_xg0 ha ?_
  refine br_t rfl ?_
  rw [nI_add]
  refine pk_le (a + n) 8 (fun z8 => ?_) K2
  refine om_xr71 hp z8 (K3 z8) (fun za m => ?_)
  rw [wX_receive_71]
  refine br_t (nI_le (by omega) (by omega)) ?_
  have key := om_l0 (W := fun k x g => wX_receive_107 post (nI p) (nI o) (nI a) (nI (o * 3 + H)) (nI n) T k x w h f g kp ak la hd ct il pg ca) (fun i => om_bk tb ca (p * 8 + a) ((o * 3 + H) * 3) i) n
    (by
      intro m
      rw [wX_receive_107]
      refine br_t (nI_le (by omega) (by omega)) ?_
      simp (disch := omega) only [nI_clamp, forall_eq]
      exact And.intro (vp_in_nI (by omega) (by omega)) (And.intro (vp_in_nI hp (by omega)) (om_xdrop ho hH hH3 hC (K z8 za))))
    (by
      intro m i hi ih
      rw [wX_receive_107]
      refine br_f (nI_ge (by omega) (by omega)) ?_
      simp (disch := omega) only [om_m8, om_m3, nI_add, nI_clamp, forall_eq, nI_1]
      refine And.intro (vp_in_nI (by omega) (by omega)) (And.intro (vp_in_nI (by omega) (by omega)) ?_)
      rw [om_bkU]
      exact ih)
  try dsimp only at key
  rw [om_bk0] at key
  exact key
theorem om_xrecvB {post : Int32 → SX → Prop} {T x : Int32} {p o H C : Nat} (hp : p < 3) (ho : o < 3) (hb : x < 0 ∨ ¬ x ≤ 7) (hH : hd o = nI H) (hH3 : H < 3) (hC : ct o = nI (C + 1)) (hC3 : C + 1 ≤ 3)
    (K : post (-2) (T, w, h, f, tb, kp, ak, la, hd, ct, il, pg, ca)) :
    wpX_receive post (T, w, h, f, tb, kp, ak, la, hd, ct, il, pg, ca) (nI p) (nI o) x := by
  unfold wpX_receive
  refine om_xn0 hp ?_
  refine br_t rfl ?_
  refine om_xn0 ho ?_
  refine br_t rfl ?_
  refine And.intro (vp_in_nI ho (by omega)) ?_
  rw [nI_clamp (by omega : o < 2 ^ 31), hC]
  refine br_f (nI_ne0 (by omega) (by omega)) ?_
  refine And.intro (vp_in_nI ho (by omega)) ?_
  rw [hH, om_m3, nI_add]
  refine nm_e ?_
  refine And.intro (vp_in_nI (by omega) (by omega)) ?_
  refine nm_e ?_
  refine om_xg1 hb ?_
  exact br_f (by decide) K
theorem om_xrecv0 {post : Int32 → SX → Prop} {T x : Int32} {p o : Nat} (hp : p < 3) (ho : o < 3) (hC : ct o = 0)
    (K : post (-6) (T, w, h, f, tb, kp, ak, la, hd, ct, il, pg, ca)) :
    wpX_receive post (T, w, h, f, tb, kp, ak, la, hd, ct, il, pg, ca) (nI p) (nI o) x := by
  unfold wpX_receive
  refine om_xn0 hp ?_
  refine br_t rfl ?_
  refine om_xn0 ho ?_
  refine br_t rfl ?_
  refine And.intro (vp_in_nI ho (by omega)) ?_
  rw [nI_clamp (by omega : o < 2 ^ 31), hC]
  exact br_t rfl K
theorem om_yf43 {post : SY → Prop} {J : Int32 → (Nat → Int32) → (Nat → Int32) → (Nat → Int32) → (Nat → Int32) → (Nat → Int32) → (Nat → Int32) → (Nat → Int32) → (Nat → Int32) → (Nat → Int32) → (Nat → Int32) → Prop} {x1 : Int32} {x : Nat} (hx : x < 8)
    (K : J (nI (x + 1)) yp yw yl yk ykp ykw ym yi yc (om_bk ys ys (x * 12) (x * 12 + 12) 12)) :
    ∃ k, wY_forward_43 post J x1 (nI x) k 0 yp yw yl yk ykp ykw ym yi yc ys := by
  have key := om_l0 (W := fun k c g => wY_forward_43 post J x1 (nI x) k c yp yw yl yk ykp ykw ym yi yc g) (fun i => om_bk ys ys (x * 12) (x * 12 + 12) i) 12
    (by
      intro m
      rw [wY_forward_43]
      simp (disch := omega) only [forall_eq, nI_1]
      exact br_t (nI_le (a := 12) (b := 12) (by omega) (by omega)) K)
    (by
      intro m i hi ih
      rw [wY_forward_43]
      simp (disch := omega) only [om_m12, om_a12, nI_add, nI_clamp, forall_eq, nI_1]
      refine br_f (nI_ge (b := 12) (by omega) (by omega)) (And.intro (vp_in_nI (by omega) (by omega)) (And.intro (vp_in_nI (by omega) (by omega)) ?_))
      rw [om_bko (j := x * 12 + 12 + i) (by omega), om_bkU]
      exact ih)
  try dsimp only at key
  rw [om_bk0] at key
  exact key
theorem om_yfw {post : SY → Prop} {o C : Nat} (ho : o < 3) (hC : ym o = nI (C + 1))
    (K : ∀ yi' yc' ys', om_FW o yi yc ys yi' yc' ys' → post (yp, yw, yl, yk, ykp, ykw, upd ym o (nI C), yi', yc', ys')) :
    wpY_forward post (yp, yw, yl, yk, ykp, ykw, ym, yi, yc, ys) (nI o) := by
  unfold wpY_forward
  rw [om_m3]
  refine nm_e (Exists.intro 3 ?_)
  rw [wY_forward_4]
  simp (disch := omega) only [om_m3, om_a2, nI_1, nI_clamp, forall_eq]
  refine br_f (nI_ge (by omega) (by omega)) (And.intro (vp_in_nI (by omega) (by omega)) (And.intro (vp_in_nI (by omega) (by omega)) (And.intro (vp_in_nI (by omega) (by omega)) (And.intro (vp_in_nI (by omega) (by omega)) (om_yf43 (by omega) ?_)))))
  rw [wY_forward_4]
  simp (disch := omega) only [om_m3, om_a2, nI_1, nI_clamp, forall_eq]
  refine br_f (nI_ge (by omega) (by omega)) (And.intro (vp_in_nI (by omega) (by omega)) (And.intro (vp_in_nI (by omega) (by omega)) (And.intro (vp_in_nI (by omega) (by omega)) (And.intro (vp_in_nI (by omega) (by omega)) (om_yf43 (by omega) ?_)))))
  rw [wY_forward_4]
  simp (disch := omega) only [om_m3, om_a2, nI_1, nI_clamp, forall_eq, hC, nI_pred]
  refine br_t (nI_le (by omega) (by omega)) (And.intro (vp_in_nI ho (by omega)) (And.intro (vp_in_nI ho (by omega)) (K _ _ _ ⟨fun e he => ?_, fun j hj => ?_⟩)))
  · have he2 : e = 0 ∨ e = 1 := by omega
    rcases he2 with rfl | rfl
    · refine ⟨?_, ?_, fun k lk => ?_⟩
      · rw [pk_un (by omega)]
        exact pk_us
      · rw [pk_un (by omega)]
        exact pk_us
      · rw [om_bko (by omega), om_bki (by omega) (by omega)]
        exact congrArg ys (by omega)
    · refine ⟨?_, ?_, fun k lk => ?_⟩
      · rw [pk_us, pk_un (by omega)]
      · rw [pk_us, pk_un (by omega)]
      · rw [om_bki (by omega) (by omega), om_bko (by omega)]
        exact congrArg ys (by omega)
  · refine ⟨?_, ?_, fun k lk => ?_⟩
    · rw [pk_un (by omega), pk_un (by omega)]
    · rw [pk_un (by omega), pk_un (by omega)]
    · rw [om_bko (by omega), om_bko (by omega)]
end
end
section
section
variable {R R' : Nat → Int32} {V V' : Nat → Nat → Int32} {t : Nat} {w h f tb kp ak la hd ct il pg ca yp yw yl yk ykp ykw ym yi yc ys : Nat → Int32}
theorem om_yr67 {post : Int32 → SY → Prop} {p o a n : Nat} {x4 : Int32} (hp : p < 3) (h8 : a + n ≤ 8)
    (K1 : (∃ i, i < n ∧ ¬ yp (p * 8 + a + i) = 0) → post (-3) (yp, yw, yl, yk, ykp, ykw, ym, yi, yc, ys))
    (K2 : (∀ i, i < n → yp (p * 8 + a + i) = 0) → ∀ m, wY_receive_67 post (nI p) (nI o) (nI a) x4 (nI n) yp yw yl yk ykp ykw ym yi yc ys (m + 1) (nI n)) :
    ∃ k, wY_receive_67 post (nI p) (nI o) (nI a) x4 (nI n) yp yw yl yk ykp ykw ym yi yc ys k 0 := by
  have L : ∀ d i, i + d = n → (∀ j, j < i → yp (p * 8 + a + j) = 0) → wY_receive_67 post (nI p) (nI o) (nI a) x4 (nI n) yp yw yl yk ykp ykw ym yi yc ys (d + 1) (nI i) := by
    intro d
    induction d with
    | zero =>
      intro i hi hj
      obtain rfl : i = n := by omega
      exact K2 hj 0
    | succ d ih =>
      intro i hi hj
      rw [wY_receive_67]
      refine br_f (nI_ge (by omega) (by omega)) ?_
      simp (disch := omega) only [om_m8, nI_add, nI_clamp, forall_eq, nI_1]
      refine And.intro (vp_in_nI (by omega) (by omega)) (br_c (fun z => ?_) (fun z => ?_))
      · refine ih (i + 1) (by omega) (fun j lj => ?_)
        by_cases y : j = i
        · rw [y]
          exact z
        · exact hj j (by omega)
      · exact K1 ⟨i, by omega, z⟩
  exact ⟨n + 1, L n 0 (by omega) (fun j lj => absurd lj (by omega))⟩
theorem om_yrecv {post : Int32 → SY → Prop} {p o a n C : Nat} (hp : p < 3) (ho : o < 3) (ha : a < 8) (hn : n ≤ 3) (hC : ym o = nI (C + 1)) (hC3 : C + 1 ≤ 3) (hP : yc (o * 3) = nI n)
    (K2 : 8 < a + n → post (-2) (yp, yw, yl, yk, ykp, ykw, ym, yi, yc, ys))
    (K3 : a + n ≤ 8 → (∃ i, i < n ∧ ¬ yp (p * 8 + a + i) = 0) → post (-3) (yp, yw, yl, yk, ykp, ykw, ym, yi, yc, ys))
    (K : a + n ≤ 8 → (∀ i, i < n → yp (p * 8 + a + i) = 0) → ∀ yi' yc' ys', om_FW o yi yc ys yi' yc' ys' →
      post (nI n) (om_bk yp (fun _ => 1) (p * 8 + a) 0 n, om_bk yw ys (p * 32 + a * 4) (o * 3 * 12) (n * 4), upd yl p (yi (o * 3)), yk, ykp, ykw, upd ym o (nI C), yi', yc', ys')) :
    wpY_receive post (yp, yw, yl, yk, ykp, ykw, ym, yi, yc, ys) (nI p) (nI o) (nI a) := by
  unfold wpY_receive
  refine om_yn0 hp ?_
  refine br_t rfl ?_
  refine om_yn0 ho ?_
  refine br_t rfl ?_
  refine And.intro (vp_in_nI ho (by omega)) ?_
  rw [nI_clamp (by omega : o < 2 ^ 31), hC]
  refine br_f (nI_ne0 (by omega) (by omega)) ?_
  rw [om_m3]
  refine nm_e ?_
  refine And.intro (vp_in_nI (by omega) (by omega)) ?_
  rw [nI_clamp (by omega : o * 3 < 2 ^ 31), hP]
  refine nm_e ?_
  refine om_yg0 ha ?_
  refine br_t rfl ?_
  rw [nI_add]
  refine pk_le (a + n) 8 (fun z8 => ?_) K2
  refine om_yr67 hp z8 (K3 z8) (fun za m => ?_)
  rw [wY_receive_67]
  refine br_t (nI_le (by omega) (by omega)) ?_
  simp (disch := omega) only [nI_clamp, forall_eq]
  refine And.intro (vp_in_nI (by omega) (by omega)) (And.intro (vp_in_nI hp (by omega)) ?_)
  have key := om_l0 (W := fun k x g => wY_receive_116 post (nI p) (nI o) (nI a) (nI (o * 3)) (nI n) k x g yw (upd yl p (yi (o * 3))) yk ykp ykw ym yi yc ys) (fun i => om_bk yp (fun _ => 1) (p * 8 + a) 0 i) n
    (by
      intro m
      rw [wY_receive_116]
      refine br_t (nI_le (by omega) (by omega)) ?_
      have key := om_l0 (W := fun k x g => wY_receive_147 post (nI p) (nI o) (nI a) (nI (o * 3)) (nI n) k x (om_bk yp (fun _ => 1) (p * 8 + a) 0 n) g (upd yl p (yi (o * 3))) yk ykp ykw ym yi yc ys) (fun i => om_bk yw ys (p * 32 + a * 4) (o * 3 * 12) i) (n * 4)
        (by
          intro m
          rw [wY_receive_147]
          rw [om_m4]
          exact br_t (nI_le (by omega) (by omega)) (om_yfw ho hC (K z8 za)))
        (by
          intro m i hi ih
          rw [wY_receive_147]
          simp (disch := omega) only [om_m4, om_m12, om_m32, nI_add, nI_clamp, forall_eq, nI_1]
          refine br_f (nI_ge (by omega) (by omega)) (And.intro (vp_in_nI (by omega) (by omega)) (And.intro (vp_in_nI (by omega) (by omega)) ?_))
          rw [om_bkU]
          exact ih)
      try dsimp only at key
      rw [om_bk0] at key
      exact key)
    (by
      intro m i hi ih
      rw [wY_receive_116]
      refine br_f (nI_ge (by omega) (by omega)) ?_
      simp (disch := omega) only [om_m8, nI_add, nI_clamp, forall_eq, nI_1, om_nb1]
      refine And.intro (vp_in_nI (by omega) (by omega)) ?_
      rw [om_bkF]
      exact ih)
  try dsimp only at key
  rw [om_bk0] at key
  exact key
theorem om_yrecvB {post : Int32 → SY → Prop} {x : Int32} {p o C : Nat} (hp : p < 3) (ho : o < 3) (hb : x < 0 ∨ ¬ x ≤ 7) (hC : ym o = nI (C + 1)) (hC3 : C + 1 ≤ 3)
    (K : post (-2) (yp, yw, yl, yk, ykp, ykw, ym, yi, yc, ys)) :
    wpY_receive post (yp, yw, yl, yk, ykp, ykw, ym, yi, yc, ys) (nI p) (nI o) x := by
  unfold wpY_receive
  refine om_yn0 hp ?_
  refine br_t rfl ?_
  refine om_yn0 ho ?_
  refine br_t rfl ?_
  refine And.intro (vp_in_nI ho (by omega)) ?_
  rw [nI_clamp (by omega : o < 2 ^ 31), hC]
  refine br_f (nI_ne0 (by omega) (by omega)) ?_
  rw [om_m3]
  refine nm_e ?_
  refine And.intro (vp_in_nI (by omega) (by omega)) ?_
  refine nm_e ?_
  refine om_yg1 hb ?_
  exact br_f (by decide) K
theorem om_yrecv0 {post : Int32 → SY → Prop} {x : Int32} {p o : Nat} (hp : p < 3) (ho : o < 3) (hC : ym o = 0)
    (K : post (-6) (yp, yw, yl, yk, ykp, ykw, ym, yi, yc, ys)) :
    wpY_receive post (yp, yw, yl, yk, ykp, ykw, ym, yi, yc, ys) (nI p) (nI o) x := by
  unfold wpY_receive
  refine om_yn0 hp ?_
  refine br_t rfl ?_
  refine om_yn0 ho ?_
  refine br_t rfl ?_
  refine And.intro (vp_in_nI ho (by omega)) ?_
  rw [nI_clamp (by omega : o < 2 ^ 31), hC]
  exact br_t rfl K
theorem om_recvPT {p o a n H C : Nat} {yi' yc' ys' : Nat → Int32} (hp : p < 3) (ho : o < 3) (h8 : a + n ≤ 8) (hn : n ≤ 3)
    (hH3 : H < 3) (hC3 : C + 1 ≤ 3)
    (M : ∀ e, e < C + 1 → om_MS R V il pg ca yi yc ys (o * 3 + (H + e) % 3) (o * 3 + e))
    (E : ∀ e, C + 1 ≤ e → e < 3 → ∀ i, i < 3 → R (48 + (o * 3 + (H + e) % 3) * 3 + i) = -1)
    (P : ∀ o, o < 3 → om_PT R V hd ct il pg ca yi yc ys o) (W : om_FW o yi yc ys yi' yc' ys') {m : Nat} (em : m = o * 3 + H)
    (Z : ∀ i, n ≤ i → i < 3 → R (48 + m * 3 + i) = -1) (o' : Nat) (ho' : o' < 3) :
    om_PT (om_bk (om_bk R R (p * 8 + a) (48 + m * 3) n) (fun _ => -1) (48 + m * 3) 0 n) (om_bk V V (p * 8 + a) (48 + m * 3) n) (upd hd o (nI ((H + 1) % 3))) (upd ct o (nI C)) il pg ca yi' yc' ys' o' := by
  by_cases y : o' = o
  · subst y
    refine ⟨(H + 1) % 3, C, by omega, by omega, pk_us, pk_us, fun e he => ?_, fun e h1 h2 i hi => ?_⟩
    · obtain ⟨w1, w2, w3⟩ := W.1 e (by omega)
      have e1 : ((H + 1) % 3 + e) % 3 = (H + (e + 1)) % 3 := by omega
      rw [e1]
      have hm : o' * 3 + (H + (e + 1)) % 3 ≠ m := by omega
      refine om_MSg (M (e + 1) (by omega)) rfl rfl (fun _ _ => rfl) (fun i hi => ?_) (fun i hi => om_bko (by omega)) w1 w2 w3
      rw [om_bko (by omega), om_bko (by omega)]
    · by_cases z : e = 2
      · have e1 : ((H + 1) % 3 + e) % 3 = H := by omega
        rw [e1, ← em]
        by_cases zi : i < n
        · rw [om_bka zi]
        · rw [om_bko (by omega), om_bko (by omega)]
          exact Z i (by omega) hi
      · have e1 : ((H + 1) % 3 + e) % 3 = (H + (e + 1)) % 3 := by omega
        rw [e1, om_bko (by omega), om_bko (by omega)]
        exact E (e + 1) (by omega) (by omega) i hi
  · obtain ⟨H', C', h1, h2, h3, h4, h5, h6⟩ := P o' ho'
    refine ⟨H', C', h1, h2, by rw [pk_un y]; exact h3, by rw [pk_un y]; exact h4, fun e he => ?_, fun e h7 h9 i hi => ?_⟩
    · obtain ⟨w1, w2, w3⟩ := W.2 (o' * 3 + e) (by omega)
      have hm : o' * 3 + (H' + e) % 3 ≠ m := by omega
      refine om_MSg (h5 e he) rfl rfl (fun _ _ => rfl) (fun i hi => ?_) (fun i hi => om_bko (by omega)) w1 w2 w3
      rw [om_bko (by omega), om_bko (by omega)]
    · rw [om_bko (by omega), om_bko (by omega)]
      exact h6 e h7 h9 i hi
end
theorem i_vc_receive {k : Nat} {u : SX} {v : SY} (I : i_Rel k u v) (hk : k + 5 ≤ 2560) (v1 : Int32) (v2 : Int32) (v3 : Int32) : wpX_receive (fun r u' => wpY_receive (fun r' v' => r' = r ∧ i_Rel (k + 5) u' v') v v1 v2 v3) u v1 v2 v3 := by
  refine om_el (P := fun u v => wpX_receive (fun r u' => wpY_receive (fun r' v' => r' = r ∧ i_Rel (k + 5) u' v') v v1 v2 v3) u v1 v2 v3) I ?_
  intro R V t w h f tb kp ak la hd ct il pg ca yp yw ykp ykw yi yc ys L
  have B : i_Rel (k + 5) (nI t, w, h, f, tb, kp, ak, la, hd, ct, il, pg, ca) (yp, yw, la, ak, ykp, ykw, ct, yi, yc, ys) := om_in L
  rcases om_c3 v1 with ⟨p, hp, rfl⟩ | hb
  · rcases om_c3 v2 with ⟨o, ho, rfl⟩ | hb
    · have F := L.1
      have T := L.2.2.1
      have Kp := L.2.2.2.1
      have P := L.2.2.2.2
      obtain ⟨H, C, hH3, hC3, hH, hC, M, E⟩ := P o ho
      cases C with
      | zero =>
        rw [nI_0] at hC
        exact om_xrecv0 hp ho hC (om_yrecv0 hp ho hC ⟨rfl, B⟩)
      | succ C =>
        rcases om_c8 v3 with ⟨a, ha, rfl⟩ | hb
        · have M0 : om_MS R V il pg ca yi yc ys (o * 3 + H) (o * 3) := by
            have M1 := M 0 (by omega)
            have e0 : (H + 0) % 3 = H := by omega
            rw [e0] at M1
            exact M1
          obtain ⟨m1, n, hn, m2, m3, m4, m5⟩ := M0
          refine om_xrecv hp ho ha hn hH hH3 hC hC3 m2 (fun z8 => ?_) (fun z8 zb => ?_) (fun z8 za => ?_)
          · exact om_yrecv hp ho ha hn hC hC3 m3 (fun _ => ⟨rfl, B⟩) (fun y => absurd y (by omega)) (fun y => absurd y (by omega))
          · refine om_yrecv hp ho ha hn hC hC3 m3 (fun y => absurd y (by omega)) (fun _ _ => ⟨rfl, B⟩) (fun _ y => ?_)
            obtain ⟨i, hi, zi⟩ := zb
            exact absurd ((om_tbE F T _ (by omega)).mpr (y i hi)) zi
          · refine om_yrecv hp ho ha hn hC hC3 m3 (fun y => absurd y (by omega)) (fun _ y => ?_) (fun _ _ yi' yc' ys' W => ?_)
            · obtain ⟨i, hi, zi⟩ := y
              exact absurd ((om_tbE F T _ (by omega)).mp (za i hi)) zi
            · have hR : ∀ i, i < n → R (p * 8 + a + i) = -1 := by
                intro i hi
                rcases om_tb F T (j := p * 8 + a + i) (by omega) with ⟨e, _, _⟩ | ⟨q, hq, _, e, _⟩
                · exact e
                · have z := za i hi
                  rw [e] at z
                  exact absurd z (nI_pos (by omega))
              have F' := om_mvs F (a := p * 8 + a) (s := 48 + (o * 3 + H) * 3) (N := n) (by omega) (by omega) hR n (Nat.le_refl n)
              rw [m1]
              refine ⟨rfl, om_in ⟨F', ?_, fun j hj => ?_, ⟨fun j hj => ?_, fun p' hp' hak j hj => ?_⟩, om_recvPT hp ho z8 hn hH3 hC3 M E P W rfl m5⟩⟩
              · rw [om_bko (by omega), om_bko (by omega)]
                exact L.2.1
              · rw [om_bko (a := 48 + (o * 3 + H) * 3) (by omega)]
                by_cases y : p * 8 + a ≤ j ∧ j < p * 8 + a + n
                · obtain ⟨i, rfl⟩ : ∃ i, j = p * 8 + a + i := ⟨j - (p * 8 + a), by omega⟩
                  have hi : i < n := by omega
                  obtain ⟨a1, ⟨q, hq, a2⟩, a3⟩ := m4 i hi
                  rw [om_bka hi, om_bka hi, om_bka hi, om_bka hi]
                  refine ⟨a1.symm, by rw [a2]; exact (om_pb1 hq).symm, fun c lc => ?_⟩
                  rw [a3 c lc, om_bki (by omega) (by omega)]
                  exact congrArg ys (by omega)
                · obtain ⟨a1, a2, a3⟩ := T j hj
                  rw [om_bko (by omega), om_bko (by omega), om_bko (by omega), om_bko (by omega)]
                  refine ⟨a1, a2, fun c lc => ?_⟩
                  rw [om_bko (by omega)]
                  exact a3 c lc
              · rw [om_bko (by omega), om_bko (by omega)]
                exact Kp.1 j hj
              · rw [om_bko (by omega), om_bko (by omega), om_bko (by omega)]
                exact Kp.2 p' hp' hak j hj
        · exact om_xrecvB hp ho hb hH hH3 hC hC3 (om_yrecvB hp ho hb hC hC3 ⟨rfl, B⟩)
    · unfold wpX_receive
      refine om_xn0 hp ?_
      refine br_t rfl ?_
      refine om_xn1 hb ?_
      refine br_f (by decide) ?_
      unfold wpY_receive
      refine om_yn0 hp ?_
      refine br_t rfl ?_
      refine om_yn1 hb ?_
      exact br_f (by decide) ⟨rfl, B⟩
  · unfold wpX_receive
    refine om_xn1 hb ?_
    refine br_f (by decide) ?_
    unfold wpY_receive
    refine om_yn1 hb ?_
    exact br_f (by decide) ⟨rfl, B⟩
end
section
/-! drain -/
section
variable {R R' : Nat → Int32} {V V' : Nat → Nat → Int32} {t : Nat} {w h f tb kp ak la hd ct il pg ca yp yw yl yk ykp ykw ym yi yc ys : Nat → Int32}
theorem om_xd38 {post : Int32 → SX → Prop} {J : Int32 → Int32 → (Nat → Int32) → (Nat → Int32) → (Nat → Int32) → (Nat → Int32) → (Nat → Int32) → (Nat → Int32) → (Nat → Int32) → (Nat → Int32) → (Nat → Int32) → (Nat → Int32) → (Nat → Int32) → (Nat → Int32) → Prop}
    {o m n k H C : Nat} {x2 : Int32} (F : om_FI R V t w h f) (ho : o < 3) (hm : m < 9) (hn : n ≤ 3) (hP : pg m = nI n) (hca : ∀ i, i < n → ca (m * 3 + i) = R (48 + m * 3 + i))
    (hH : hd o = nI H) (hH3 : H < 3) (hC : ct o = nI (C + 1))
    (K : ∀ t' h' f', om_FI (om_bk R (fun _ => -1) (48 + m * 3) 0 n) V t' w h' f' → J (nI (k + 1)) (nI t') w h' f' tb kp ak la (upd hd o (nI ((H + 1) % 3))) (upd ct o (nI C)) il pg ca) :
    ∃ c, wX_drain_38 post J (nI o) x2 (nI k) (nI m) c 0 (nI t) w h f tb kp ak la hd ct il pg ca := by
  have key := loop_0 (fun c i (s : Nat × (Nat → Int32) × (Nat → Int32)) => wX_drain_38 post J (nI o) x2 (nI k) (nI m) c (nI i) (nI s.1) w s.2.1 s.2.2 tb kp ak la hd ct il pg ca)
    (fun i s => om_FI (om_bk R (fun _ => -1) (48 + m * 3) 0 i) V s.1 w s.2.1 s.2.2) n (t, h, f) (by
      try dsimp only
      rw [om_bk0]
      exact F)
    (by
      intro c s F'
      rw [wX_drain_38]
      simp (disch := omega) only [nI_clamp, hP, forall_eq, nI_1]
      exact And.intro (vp_in_nI hm (by omega)) (br_t (nI_le (by omega) (by omega)) (om_xdrop ho hH hH3 hC (K s.1 s.2.1 s.2.2 F'))))
    (by
      intro c i s hi F' ih
      rw [wX_drain_38]
      simp (disch := omega) only [om_m3, nI_add, nI_clamp, hP, forall_eq, nI_1]
      refine And.intro (vp_in_nI hm (by omega)) (br_f (nI_ge hi (by omega)) (And.intro (vp_in_nI (by omega) (by omega)) ?_))
      refine om_xlet F' (s := 48 + m * 3 + i) (by omega) ?_ (fun t2 h2 f2 F2 => ?_)
      · rw [om_bko (by omega)]
        exact hca i hi
      · rw [om_bkF] at F2
        exact ih (t2, h2, f2) F2)
  exact key
/-- where the component stands when k messages of port o are gone -/
def om_DI (R : Nat → Int32) (V : Nat → Nat → Int32) (w hd ct : Nat → Int32) (o H C k t : Nat) (h f hd' ct' : Nat → Int32) : Prop :=
  ∃ Q : Nat → Int32, om_FI Q V t w h f ∧ (∀ j, (j < 48 + o * 9 ∨ 48 + o * 9 + 9 ≤ j) → Q j = R j) ∧
    hd' o = nI ((H + k) % 3) ∧ (∀ j, j ≠ o → hd' j = hd j) ∧ ct' o = nI (C - k) ∧ (∀ j, j ≠ o → ct' j = ct j) ∧
    (∀ e, e < 3 → k ≤ e → ∀ i, i < 3 → Q (48 + (o * 3 + (H + e) % 3) * 3 + i) = R (48 + (o * 3 + (H + e) % 3) * 3 + i)) ∧
    (∀ e, e < k → ∀ i, i < 3 → Q (48 + (o * 3 + (H + e) % 3) * 3 + i) = -1)
theorem om_xdrain {post : Int32 → SX → Prop} {o H C : Nat} (F : om_FI R V t w h f) (ho : o < 3) (hH3 : H < 3) (hC3 : C ≤ 3) (hH : hd o = nI H) (hC : ct o = nI C)
    (M : ∀ e, e < C → om_MS R V il pg ca yi yc ys (o * 3 + (H + e) % 3) (o * 3 + e))
    (K : ∀ t' h' f' hd' ct', om_DI R V w hd ct o H C C t' h' f' hd' ct' → post (nI C) (nI t', w, h', f', tb, kp, ak, la, hd', ct', il, pg, ca)) :
    wpX_drain post (nI t, w, h, f, tb, kp, ak, la, hd, ct, il, pg, ca) (nI o) := by
  unfold wpX_drain
  refine om_xn0 ho ?_
  refine br_t rfl ?_
  refine And.intro (vp_in_nI ho (by omega)) ?_
  rw [nI_clamp (by omega : o < 2 ^ 31), hC]
  refine nm_e ?_
  exact loop_0 (fun n k (s : Nat × (Nat → Int32) × (Nat → Int32) × (Nat → Int32) × (Nat → Int32)) => wX_drain_18 post (nI o) (nI C) n (nI k) (nI s.1) w s.2.1 s.2.2.1 tb kp ak la s.2.2.2.1 s.2.2.2.2 il pg ca)
    (fun k s => om_DI R V w hd ct o H C k s.1 s.2.1 s.2.2.1 s.2.2.2.1 s.2.2.2.2) C (t, h, f, hd, ct)
    ⟨R, F, fun _ _ => rfl, by
      have e : (H + 0) % 3 = H := by omega
      rw [e]
      exact hH, fun _ _ => rfl, hC, fun _ _ => rfl, fun _ _ _ _ _ => rfl, fun e he => absurd he (by omega)⟩
    (fun n s D => br_t (nI_le (by omega) (by omega)) (K _ _ _ _ _ D))
    (by
      intro n k s hk D ih
      obtain ⟨Q, D1, D2, D3, D4, D5, D6, D7, D8⟩ := D
      rw [wX_drain_18]
      refine br_f (nI_ge hk (by omega)) ?_
      refine And.intro (vp_in_nI ho (by omega)) ?_
      rw [nI_clamp (by omega : o < 2 ^ 31), D3, om_m3, nI_add]
      refine nm_e ?_
      obtain ⟨m1, q, hq, m2, m3, m4, m5⟩ := M k hk
      have eC : C - k = (C - (k + 1)) + 1 := by omega
      rw [eC] at D5
      refine om_xd38 D1 ho (by omega) hq m2 (fun i hi => ?_) D3 (by omega) D5 (fun t' h' f' F' => ih (t', h', f', _, _) ⟨_, F', fun j hj => ?_, ?_, fun j hj => ?_, pk_us, fun j hj => ?_, fun e h1 h2 i hi => ?_, fun e h1 i hi => ?_⟩)
      · rw [D7 k (by omega) (Nat.le_refl k) i (by omega)]
        exact (m4 i hi).1.symm
      · rw [om_bko (by omega)]
        exact D2 j hj
      · have e : (H + (k + 1)) % 3 = ((H + k) % 3 + 1) % 3 := by omega
        rw [e]
        exact pk_us
      · exact (pk_un hj).trans (D4 j hj)
      · exact (pk_un hj).trans (D6 j hj)
      · rw [om_bko (by omega)]
        exact D7 e h1 (by omega) i hi
      · by_cases y : e = k
        · rw [y]
          by_cases z : i < q
          · exact om_bka z
          · rw [om_bko (by omega), D7 k (by omega) (Nat.le_refl k) i hi]
            exact m5 i (by omega) hi
        · rw [om_bko (by omega)]
          exact D8 e (by omega) i hi)
theorem om_ydrain {post : Int32 → SY → Prop} {o : Nat} (ho : o < 3) (K : post (ym o) (yp, yw, yl, yk, ykp, ykw, upd ym o 0, yi, yc, ys)) :
    wpY_drain post (yp, yw, yl, yk, ykp, ykw, ym, yi, yc, ys) (nI o) := by
  unfold wpY_drain
  refine om_yn0 ho ?_
  refine br_t rfl ?_
  simp (disch := omega) only [nI_clamp, forall_eq]
  exact And.intro (vp_in_nI ho (by omega)) (And.intro (vp_in_nI ho (by omega)) K)
end
theorem i_vc_drain {k : Nat} {u : SX} {v : SY} (I : i_Rel k u v) (hk : k + 5 ≤ 2560) (v1 : Int32) : wpX_drain (fun r u' => wpY_drain (fun r' v' => r' = r ∧ i_Rel (k + 5) u' v') v v1) u v1 := by
  refine om_el (P := fun u v => wpX_drain (fun r u' => wpY_drain (fun r' v' => r' = r ∧ i_Rel (k + 5) u' v') v v1) u v1) I ?_
  intro R V t w h f tb kp ak la hd ct il pg ca yp yw ykp ykw yi yc ys L
  have B : i_Rel (k + 5) (nI t, w, h, f, tb, kp, ak, la, hd, ct, il, pg, ca) (yp, yw, la, ak, ykp, ykw, ct, yi, yc, ys) := om_in L
  rcases om_c3 v1 with ⟨o, ho, rfl⟩ | hb
  · have F := L.1
    have T := L.2.2.1
    have Kp := L.2.2.2.1
    have P := L.2.2.2.2
    obtain ⟨H, C, hH3, hC3, hH, hC, M, E⟩ := P o ho
    refine om_xdrain F ho hH3 hC3 hH hC M (fun t' h' f' hd' ct' D => ?_)
    obtain ⟨Q, D1, D2, D3, D4, D5, D6, D7, D8⟩ := D
    have ec : ct' = upd ct o 0 := by
      funext j
      by_cases y : j = o
      · rw [y, pk_us, D5, Nat.sub_self]
        exact nI_0
      · rw [pk_un y]
        exact D6 j y
    subst ec
    refine om_ydrain ho ⟨hC, om_in ⟨D1, ?_, fun j hj => ?_, ⟨fun j hj => ?_, fun p hp ha j hj => ?_⟩, fun o' ho' => ?_⟩⟩
    · rw [D2 75 (by omega)]
      exact L.2.1
    · rw [D2 j (by omega)]
      exact T j hj
    · rw [D2 (24 + j) (by omega)]
      exact Kp.1 j hj
    · rw [D2 (24 + (p * 8 + j)) (by omega)]
      exact Kp.2 p hp ha j hj
    · by_cases y : o' = o
      · subst y
        refine ⟨(H + C) % 3, 0, by omega, by omega, D3, pk_us, fun e he => absurd he (by omega), fun e _ h2 i hi => ?_⟩
        have e1 : ((H + C) % 3 + e) % 3 = (H + (C + e) % 3) % 3 := by omega
        rw [e1]
        by_cases z : (C + e) % 3 < C
        · exact D8 _ z i hi
        · rw [D7 ((C + e) % 3) (by omega) (by omega) i hi]
          exact E _ (by omega) (by omega) i hi
      · obtain ⟨H', C', h1, h2, h3, h4, h5, h6⟩ := P o' ho'
        refine ⟨H', C', h1, h2, by rw [D4 o' y]; exact h3, by rw [pk_un y]; exact h4, fun e he => ?_, fun e h7 h9 i hi => ?_⟩
        · exact om_MSg (h5 e he) rfl rfl (fun _ _ => rfl) (fun i hi => D2 _ (by omega)) (fun _ _ => rfl) rfl rfl (fun _ _ => rfl)
        · rw [D2 _ (by omega)]
          exact h6 e h7 h9 i hi
  · unfold wpX_drain
    refine om_xn1 hb ?_
    refine br_f (by decide) ?_
    unfold wpY_drain
    refine om_yn1 hb ?_
    exact br_f (by decide) ⟨rfl, B⟩
end
section
/-! the new objects -/
theorem om_cn_0 {p : Nat → Bool} : ∀ n, (∀ j, j < n → p j = false) → om_cn p n = 0 := by
  intro n
  induction n with
  | zero => intro _; rfl
  | succ n ih =>
    intro h
    show om_cn p n + (p n).toNat = 0
    rw [ih (fun j hj => h j (by omega)), h n (by omega)]
    rfl
theorem om_cn_a {p : Nat → Bool} : ∀ n, (∀ j, j < n → p j = true) → om_cn p n = n := by
  intro n
  induction n with
  | zero => intro _; rfl
  | succ n ih =>
    intro h
    show om_cn p n + (p n).toNat = n + 1
    rw [ih (fun j hj => h j (by omega)), h n (by omega)]
    rfl
theorem om_c_m1 {q : Nat} (hq : q < 80) : om_c (fun _ => -1) q = 0 := om_cn_0 77 (fun j hj => om_is_f (fun z => om_m1 hq z.symm))
theorem om_c_R0 {q : Nat} (hq : q < 80) : om_c (upd (fun _ => -1) 76 (nI 0)) q = if q = 0 then 1 else 0 := by
  rw [om_c_set (by omega) (by omega) hq rfl, om_c_m1 hq, Nat.zero_add]
theorem om_z_R0 : om_z (upd (fun _ => -1) 76 (nI 0)) = 79 := by
  have h1 : om_z (fun _ => -1) = 80 := om_cn_a 80 (fun q hq => om_beq_t (om_c_m1 hq))
  have h2 : om_z (fun _ => -1) = om_z (upd (fun _ => -1) 76 (nI 0)) + 1 :=
    om_z_up (k := 0) (by omega) (by rw [om_c_R0 (by omega), if_pos rfl]; exact Nat.one_pos) (om_c_m1 (by omega)) (fun q hq hne => by rw [om_c_R0 hq, if_neg hne]; exact om_c_m1 hq)
  omega
theorem om_F0 : om_FI (upd (fun _ => -1) 76 (nI 0)) (fun _ _ => 0) 79 (fun _ => 0) (upd (fun _ => 0) 0 1) (om_bk (fun _ => 0) (fun j => nI (79 - j)) 0 0 79) := by
  refine ⟨?_, pk_us, fun _ _ => rfl, ?_, om_z_R0.symm, ?_, ?_, fun _ _ _ _ _ _ _ => rfl⟩
  · intro j hj
    by_cases y : j = 76
    · rw [y, pk_us]
      exact Or.inr ⟨0, by omega, rfl⟩
    · rw [pk_un y]
      exact Or.inl rfl
  · intro q hq
    rw [om_c_R0 hq]
    by_cases y : q = 0
    · rw [y, pk_us, if_pos rfl]
      rfl
    · rw [pk_un y, if_neg y]
      exact nI_0.symm
  · intro i hi
    refine ⟨79 - i, by omega, ?_, ?_⟩
    · rw [om_bki (by omega) (by omega)]
      exact congrArg nI (by omega)
    · rw [om_c_R0 (by omega), if_neg (by omega)]
  · intro i j hi hj e
    rw [om_bki (by omega) (by omega), om_bki (by omega) (by omega)] at e
    have := om_inj (by omega) (by omega) e
    omega
theorem om_x135 {post : SX → Prop} {w h tb kp ak la hd ct il pg ca : Nat → Int32}
    (K : post (nI 79, w, h, om_bk (fun _ => 0) (fun j => nI (79 - j)) 0 0 79, tb, kp, ak, la, hd, ct, il, pg, ca)) :
    ∃ n, wX_init_135 post n 79 0 w h (fun _ => 0) tb kp ak la hd ct il pg ca := by
  have L : ∀ d i, i + d = 79 → wX_init_135 post (d + 1) (nI d) (nI i) w h (om_bk (fun _ => 0) (fun j => nI (79 - j)) 0 0 i) tb kp ak la hd ct il pg ca := by
    intro d
    induction d with
    | zero =>
      intro i hi
      obtain rfl : i = 79 := by omega
      exact br_t (nI_le (a := 0) (b := 0) (by omega) (by omega)) K
    | succ d ih =>
      intro i hi
      have ih := ih (i + 1) (by omega)
      rw [wX_init_135]
      refine br_f (nI_nle (by omega) (by omega)) (And.intro (vp_in_nI (by omega) (by omega)) ?_)
      rw [nI_clamp (by omega : i < 2 ^ 31), pk_m1, nI_1]
      have e := om_bkU (fun _ => 0) (fun j => nI (79 - j)) 0 0 i
      have e2 : 79 - (0 + i) = d + 1 := by omega
      rw [e2, Nat.zero_add] at e
      rw [e]
      exact nm_e (nm_e (nm_e ih))
  have key := L 79 0 (by omega)
  rw [om_bk0] at key
  exact ⟨80, key⟩
theorem i_vc0 : wpX_init (fun u => wpY_init (fun v => i_Rel 0 u v)) := by
  unfold wpX_init
  have key := om_l0 (W := fun n x (g : Nat → Int32) => wX_init_99 (fun u => wpY_init (fun v => i_Rel 0 u v)) 0 n x (fun _ => 0) (fun _ => 0) (fun _ => 0) g g (fun _ => 0) (fun _ => 0) (fun _ => 0) (fun _ => 0) (fun _ => 0) (fun _ => 0) (fun _ => 0)) (fun i => om_bk (fun _ => 0) (fun _ => -1) 0 0 i) 24
    (by
      intro m
      refine br_t (nI_le (a := 24) (b := 24) (by omega) (by omega)) (nm_e (om_x135 ?_))
      refine om_in (k := 0) ⟨om_F0, pk_un (by omega), fun j hj => ?_, ⟨fun j hj => ?_, fun p _ ha => absurd rfl ha⟩, fun o ho => ⟨0, 0, by omega, by omega, nI_0.symm, nI_0.symm, fun e he => absurd he (by omega), fun e _ he i hi => pk_un (by omega)⟩⟩
      · rw [om_bki (by omega) (by omega), pk_un (by omega)]
        exact ⟨rfl, om_pb0.symm, fun _ _ => rfl⟩
      · rw [om_bki (by omega) (by omega), pk_un (by omega)])
    (by
      intro m i hi ih
      rw [wX_init_99]
      simp (disch := omega) only [nI_clamp, nI_1]
      refine br_f (nI_ge (b := 24) hi (by omega)) ?_
      have e := om_bkF (fun _ => 0) (-1) 0 i
      rw [Nat.zero_add] at e
      rw [e]
      refine And.intro (vp_in_nI hi (by omega)) (nm_e (And.intro (vp_in_nI hi (by omega)) (nm_e (nm_e ih)))))
  rw [om_bk0] at key
  exact key
end
