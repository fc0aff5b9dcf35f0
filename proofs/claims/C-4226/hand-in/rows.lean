section
theorem pk_us {f : Nat → Int32} {k : Nat} {x : Int32} : upd f k x k = x := if_pos rfl
theorem pk_un {f : Nat → Int32} {k j : Nat} {x : Int32} (h : j ≠ k) : upd f k x j = f j := if_neg h
theorem pk_sub {a b : Nat} (h : b ≤ a) : nI a - nI b = nI (a - b) := by
  obtain ⟨c, rfl⟩ : ∃ c, a = c + b := ⟨a - b, by omega⟩
  rw [← nI_add, Int32.add_sub_cancel, Nat.add_sub_cancel]
theorem pk_mul (a b : Nat) : nI a * nI b = nI (a * b) := (Int32.ofNat_mul a b).symm
theorem pk_div {a d : Nat} (ha : a < 2 ^ 31) (h0 : 0 < d) (hd : d < 2 ^ 31) : nI a / nI d = nI (a / d) := by
  apply Int32.toInt_inj.mp
  rw [lg_idiv_nonneg (by rw [nI_toInt ha]; omega) (by rw [nI_toInt hd]; omega), nI_toInt ha, nI_toInt hd, nI_toInt (Nat.lt_of_le_of_lt (Nat.div_le_self a d) ha)]
  first | rfl | exact (Int.natCast_ediv _ _).symm
theorem pk_sub_toInt {a b : Nat} (ha : a < 2 ^ 30) (hb : b < 2 ^ 30) : (nI a - nI b).toInt = (a : Int) - b := by
  rw [Int32.toInt_sub, nI_toInt (by omega), nI_toInt (by omega)]
  exact Int.bmod_eq_of_le (by omega) (by omega)
theorem pk_ix (x : Int32) {n : Nat} (hn : n < 2 ^ 31) : x < 0 ∨ nI n ≤ x ∨ ∃ j : Nat, j < n ∧ x = nI j := by
  by_cases h : x < 0
  · exact Or.inl h
  · obtain ⟨j, hj, rfl⟩ := nI_of h
    by_cases h2 : j < n
    · exact Or.inr (Or.inr ⟨j, h2, rfl⟩)
    · exact Or.inr (Or.inl (nI_le (by omega) hj))
theorem pk_le {x y : Int32} {A B : Prop} (a b : Nat) (f : a ≤ b → A) (g : b < a → B) (hx : x = nI a := by rfl) (hy : y = nI b := by rfl) (ha : a < 2 ^ 31 := by omega) (hb : b < 2 ^ 31 := by omega) : (x ≤ y → A) ∧ (¬ x ≤ y → B) := by
  subst hx hy
  rw [nI_leI ha hb]
  exact ⟨f, fun z => g (by omega)⟩
theorem pk_lt {x y : Int32} {A B : Prop} (a b : Nat) (f : a < b → A) (g : b ≤ a → B) (hx : x = nI a := by rfl) (hy : y = nI b := by rfl) (ha : a < 2 ^ 31 := by omega) (hb : b < 2 ^ 31 := by omega) : (x < y → A) ∧ (¬ x < y → B) := by
  subst hx hy
  rw [nI_ltI ha hb]
  exact ⟨f, fun z => g (by omega)⟩
theorem pk_eq {x y : Int32} {A B : Prop} (a b : Nat) (f : a = b → A) (g : a ≠ b → B) (hx : x = nI a := by rfl) (hy : y = nI b := by rfl) (ha : a < 2 ^ 31 := by omega) (hb : b < 2 ^ 31 := by omega) : (x = y → A) ∧ (¬ x = y → B) := by
  subst hx hy
  rw [nI_eq ha hb]
  exact ⟨f, g⟩
theorem pk_in {x : Int32} (n N : Nat) (h : n < N) (hx : x = nI n := by rfl) (hN : N < 2 ^ 31 := by omega) : vp_in x N := by
  subst hx
  exact vp_in_nI h hN
theorem pk_cl {x : Int32} (n : Nat) (hx : x = nI n := by rfl) (h : n < 2 ^ 31 := by omega) : x.toNatClampNeg = n := by
  subst hx
  exact nI_clamp h
theorem pk_tn {n : Nat} (h : n < 2 ^ 32) : (nI n).toBitVec.toNat = n := Nat.mod_eq_of_lt h
theorem pk_and (x : Int32) {m : Int32} (k : Nat) (hm : m.toBitVec.toNat = 2 ^ k - 1) : x &&& m = nI (x.toBitVec.toNat % 2 ^ k) := by
  apply Int32.toBitVec_inj.mp
  apply BitVec.eq_of_toNat_eq
  rw [Int32.toBitVec_and, BitVec.toNat_and, hm, Nat.and_two_pow_sub_one_eq_mod]
  show _ = (BitVec.ofNat 32 _).toNat
  rw [BitVec.toNat_ofNat]
  exact (Nat.mod_eq_of_lt (Nat.lt_of_le_of_lt (Nat.mod_le _ _) x.toBitVec.isLt)).symm
theorem pk_ushr (x s : Int32) (k : Nat) (hs : ((s.toUInt32 &&& Int32.toUInt32 31).toBitVec % 32).toNat = k) : (x.toUInt32 >>> (s.toUInt32 &&& Int32.toUInt32 31)).toInt32.toBitVec.toNat = x.toBitVec.toNat / 2 ^ k := by
  have e : (x.toUInt32 >>> (s.toUInt32 &&& Int32.toUInt32 31)).toInt32.toBitVec = x.toBitVec >>> k := by
    rw [← hs]
    exact UInt32.toBitVec_shiftRight _ _
  rw [e, BitVec.toNat_ushiftRight, Nat.shiftRight_eq_div_pow]
theorem pk_vb (z : Int32) : vp_nar .byte z.toInt8.toInt32 = z.toInt8.toInt32 := by rw [vp_nar_byte]; simp
theorem pk_vs (z : Int32) : vp_nar .short z.toInt16.toInt32 = z.toInt16.toInt32 := by rw [vp_nar_short]; simp
theorem pk_least (P : Nat → Prop) (h : ∃ k, P k) : ∃ k, P k ∧ ∀ j, j < k → ¬ P j := by
  obtain ⟨k, hk⟩ := h
  induction k using Nat.strongRecOn with
  | ind k ih =>
    by_cases e : ∃ j, j < k ∧ P j
    · obtain ⟨j, hj, pj⟩ := e
      exact ih j hj pj
    · exact ⟨k, hk, fun j hj pj => e ⟨j, hj, pj⟩⟩
end
section
/-- the sum of g below k -/
def qf_sm (g : Nat → Nat) : Nat → Nat
  | 0 => 0
  | k + 1 => qf_sm g k + g k
theorem qf_sm_s (g : Nat → Nat) (k : Nat) : qf_sm g (k + 1) = qf_sm g k + g k := rfl
theorem qf_sm_0 (g : Nat → Nat) : qf_sm g 0 = 0 := rfl
theorem qf_sm_congr {g h : Nat → Nat} : ∀ k, (∀ x, x < k → g x = h x) → qf_sm g k = qf_sm h k := by
  intro k
  induction k with
  | zero => intro _; rfl
  | succ k ih =>
    intro H
    rw [qf_sm_s, qf_sm_s, ih (fun x hx => H x (by omega)), H k (by omega)]
theorem qf_sm_zero {g : Nat → Nat} : ∀ k, (∀ x, x < k → g x = 0) → qf_sm g k = 0 := by
  intro k
  induction k with
  | zero => intro _; rfl
  | succ k ih =>
    intro H
    rw [qf_sm_s, ih (fun x hx => H x (by omega)), H k (by omega)]
theorem qf_sm_add (g : Nat → Nat) (a : Nat) : ∀ b, qf_sm g (a + b) = qf_sm g a + qf_sm (fun x => g (a + x)) b := by
  intro b
  induction b with
  | zero => rfl
  | succ b ih =>
    rw [← Nat.add_assoc, qf_sm_s, qf_sm_s, ih]
    omega
theorem qf_sm_mono (g : Nat → Nat) {a b : Nat} (h : a ≤ b) : qf_sm g a ≤ qf_sm g b := by
  obtain ⟨c, rfl⟩ : ∃ c, b = a + c := ⟨b - a, by omega⟩
  rw [qf_sm_add]
  omega
theorem qf_sm_plus (g h : Nat → Nat) : ∀ k, qf_sm (fun x => g x + h x) k = qf_sm g k + qf_sm h k := by
  intro k
  induction k with
  | zero => rfl
  | succ k ih =>
    rw [qf_sm_s, qf_sm_s, qf_sm_s, ih]
    omega
theorem qf_sm_swap (g : Nat → Nat → Nat) (m : Nat) : ∀ k, qf_sm (fun q => qf_sm (fun j => g q j) m) k = qf_sm (fun j => qf_sm (fun q => g q j) k) m := by
  intro k
  induction k with
  | zero => exact (qf_sm_zero m (fun x _ => rfl)).symm
  | succ k ih =>
    rw [qf_sm_s, ih, ← qf_sm_plus]
    exact qf_sm_congr m (fun x _ => rfl)
theorem qf_sm_one (r : Nat) : ∀ v, qf_sm (fun q => if r = q then 1 else 0) v = if r < v then 1 else 0 := by
  intro v
  induction v with
  | zero => rw [if_neg (by omega)]; rfl
  | succ v ih =>
    rw [qf_sm_s, ih]
    show (if r < v then 1 else 0) + (if r = v then 1 else 0) = if r < v + 1 then 1 else 0
    by_cases h1 : r < v
    · rw [if_pos h1, if_neg (by omega), if_pos (by omega)]
    · by_cases h2 : r = v
      · rw [if_neg h1, if_pos h2, if_pos (by omega)]
      · rw [if_neg h1, if_neg h2, if_neg (by omega)]
/-- one more at s, what stood from s up to e is moved on by one -/
theorem qf_sm_ins {g g' : Nat → Nat} {s e : Nat} (hse : s ≤ e) (h1 : ∀ x, x < s → g' x = g x) (h2 : ∀ x, s ≤ x → x < e → g' (x + 1) = g x) (h3 : g e = 0) (h4 : ∀ x, e < x → g' x = g x) {n : Nat} (hn : e < n) : qf_sm g' n = qf_sm g n + g' s := by
  have A : qf_sm g' s = qf_sm g s := qf_sm_congr s h1
  have B : ∀ k, s + k ≤ e → qf_sm g' (s + k + 1) = qf_sm g (s + k) + g' s := by
    intro k
    induction k with
    | zero =>
      intro _
      rw [qf_sm_s, Nat.add_zero, A]
    | succ k ih =>
      intro hk
      have i := ih (by omega)
      have j := h2 (s + k) (by omega) (by omega)
      rw [← Nat.add_assoc, qf_sm_s g' (s + k + 1), qf_sm_s g (s + k), i, j]
      omega
  have C : ∀ k, qf_sm g' (e + 1 + k) = qf_sm g (e + 1 + k) + g' s := by
    intro k
    induction k with
    | zero =>
      have t := B (e - s) (by omega)
      rw [show s + (e - s) = e by omega] at t
      rw [Nat.add_zero, qf_sm_s g e, t, h3]
      omega
    | succ k ih =>
      have j := h4 (e + 1 + k) (by omega)
      rw [← Nat.add_assoc, qf_sm_s g' (e + 1 + k), qf_sm_s g (e + 1 + k), ih, j]
      omega
  have t := C (n - (e + 1))
  rwa [show e + 1 + (n - (e + 1)) = n by omega] at t
/-- from another place of the ring -/
theorem qf_sm_rot {g g' : Nat → Nat} {n r : Nat} (hr : r ≤ n) (h0 : g 0 = g n) (h1 : ∀ x, x + r ≤ n → g' x = g (x + r)) (h2 : ∀ x, x < n → n < x + r → g' x = g (x + r - n)) : qf_sm g' n = qf_sm g n := by
  obtain ⟨m, rfl⟩ : ∃ m, n = m + r := ⟨n - r, by omega⟩
  have a := qf_sm_add g' m r
  have b : qf_sm g (m + r) = qf_sm g r + qf_sm (fun x => g (r + x)) m := by rw [Nat.add_comm m r, qf_sm_add]
  have c : qf_sm g' m = qf_sm (fun x => g (r + x)) m := qf_sm_congr m (fun x hx => by
    rw [h1 x (by omega), Nat.add_comm])
  have d : qf_sm (fun x => g' (m + x)) r = qf_sm g r := qf_sm_congr r (fun x hx => by
    show g' (m + x) = g x
    by_cases hx0 : x = 0
    · subst hx0
      rw [h1 (m + 0) (by omega), h0]
      exact congrArg g (by omega)
    · rw [h2 (m + x) (by omega) (by omega)]
      exact congrArg g (by omega))
  rw [a, b, c, d]
  omega
/-- a stretch taken out -/
theorem qf_sm_cut {g g' : Nat → Nat} {a e n : Nat} (hae : a ≤ e) (hen : e ≤ n) (h1 : ∀ x, x < a → g' x = g x) (h2 : ∀ x, a ≤ x → x < e → g' x = 0) (h3 : ∀ x, e ≤ x → g' x = g x) : qf_sm g' n + qf_sm g e = qf_sm g n + qf_sm g a := by
  have A : ∀ k, a + k ≤ e → qf_sm g' (a + k) = qf_sm g a := by
    intro k
    induction k with
    | zero => intro _; exact qf_sm_congr a h1
    | succ k ih =>
      intro hk
      rw [← Nat.add_assoc, qf_sm_s, ih (by omega), h2 (a + k) (by omega) (by omega), Nat.add_zero]
  have B : ∀ k, qf_sm g' (e + k) + qf_sm g e = qf_sm g (e + k) + qf_sm g a := by
    intro k
    induction k with
    | zero =>
      have t := A (e - a) (by omega)
      rw [show a + (e - a) = e by omega] at t
      rw [Nat.add_zero, t]
      omega
    | succ k ih =>
      have j := h3 (e + k) (by omega)
      rw [← Nat.add_assoc, qf_sm_s g' (e + k), qf_sm_s g (e + k), j]
      omega
  have t := B (n - e)
  rwa [show e + (n - e) = n by omega] at t
/-- one entry changed -/
theorem qf_sm_upd {g g' : Nat → Nat} {s n : Nat} (hs : s < n) (h1 : ∀ x, x ≠ s → g' x = g x) : qf_sm g' n + g s = qf_sm g n + g' s := by
  have A : ∀ k, k ≤ s → qf_sm g' k = qf_sm g k := fun k hk => qf_sm_congr k (fun x hx => h1 x (by omega))
  have B : ∀ k, qf_sm g' (s + 1 + k) + g s = qf_sm g (s + 1 + k) + g' s := by
    intro k
    induction k with
    | zero =>
      rw [Nat.add_zero, qf_sm_s, qf_sm_s, A s (Nat.le_refl _)]
      omega
    | succ k ih =>
      have j := h1 (s + 1 + k) (by omega)
      rw [← Nat.add_assoc, qf_sm_s g' (s + 1 + k), qf_sm_s g (s + 1 + k), j]
      omega
  have t := B (n - (s + 1))
  rwa [show s + 1 + (n - (s + 1)) = n by omega] at t
theorem qf_sm_ex {g : Nat → Nat} : ∀ k, 0 < qf_sm g k → ∃ x, x < k ∧ 0 < g x := by
  intro k
  induction k with
  | zero => intro h; exact absurd h (by rw [qf_sm_0]; omega)
  | succ k ih =>
    intro h
    by_cases hg : 0 < g k
    · exact ⟨k, by omega, hg⟩
    · rw [qf_sm_s] at h
      obtain ⟨x, hx, hh⟩ := ih (by omega)
      exact ⟨x, by omega, hh⟩
theorem qf_sm_ge {g : Nat → Nat} {x : Nat} : ∀ k, x < k → g x ≤ qf_sm g k := by
  intro k hk
  have := qf_sm_mono g (show x + 1 ≤ k by omega)
  rw [qf_sm_s] at this
  omega
end
section
/-- the slot at place d of a ring of n slots that is read from slot z on -/
def qf_sl (n z d : Nat) : Nat := (z + d) % n
theorem qf_sl_lt {n z d : Nat} (hn : 0 < n) : qf_sl n z d < n := Nat.mod_lt _ hn
theorem qf_sl_s (n z d : Nat) : (qf_sl n z d + 1) % n = qf_sl n z (d + 1) := by
  unfold qf_sl
  rw [Nat.mod_add_mod, Nat.add_assoc]
theorem qf_sl_p {n : Nat} (hn : 0 < n) (z d : Nat) : (qf_sl n z (d + 1) + (n - 1)) % n = qf_sl n z d := by
  unfold qf_sl
  rw [Nat.mod_add_mod, show z + (d + 1) + (n - 1) = z + d + n by omega, Nat.add_mod_right]
theorem qf_sl_n (n z : Nat) : qf_sl n z n = qf_sl n z 0 := by
  unfold qf_sl
  rw [Nat.add_mod_right, Nat.add_zero]
theorem qf_sl_z {n z : Nat} (hz : z < n) : qf_sl n z 0 = z := by
  unfold qf_sl
  rw [Nat.add_zero, Nat.mod_eq_of_lt hz]
theorem qf_sl_inj {n z d e : Nat} (hd : d < e + n) (he : e < d + n) (h : qf_sl n z d = qf_sl n z e) : d = e := by
  unfold qf_sl at h
  have a := Nat.sub_mod_eq_zero_of_mod_eq h
  have b := Nat.sub_mod_eq_zero_of_mod_eq h.symm
  rw [Nat.mod_eq_of_lt (by omega)] at a b
  omega
theorem qf_sl_sur {n z s : Nat} (hz : z < n) (hs : s < n) : ∃ d, d < n ∧ qf_sl n z d = s := by
  refine ⟨(s + n - z) % n, Nat.mod_lt _ (by omega), ?_⟩
  unfold qf_sl
  rw [Nat.add_mod_mod, show z + (s + n - z) = s + n by omega, Nat.add_mod_right, Nat.mod_eq_of_lt hs]
theorem qf_sl_2 (n z g d : Nat) : qf_sl n (qf_sl n z g) d = qf_sl n z (g + d) := by
  unfold qf_sl
  rw [Nat.mod_add_mod, Nat.add_assoc]
theorem qf_sl_w (n z d : Nat) : qf_sl n z (d + n) = qf_sl n z d := by
  unfold qf_sl
  rw [← Nat.add_assoc, Nat.add_mod_right]

/-- the ring from a free slot, place 0, to the same slot again, place n: oc: which places hold something, ow: the place that names it -/
def qf_Lay (n : Nat) (oc : Nat → Bool) (ow : Nat → Nat) : Prop :=
  oc 0 = false ∧ oc n = false ∧ (∀ d, d ≤ n → ow d ≤ d) ∧ (∀ d, d < n → ow d ≤ ow (d + 1)) ∧ (∀ d, d ≤ n → oc d = false → ow d = d) ∧ (∀ d, d < n → ow (d + 1) ≤ d → oc d = true)
def qf_Nm (n : Nat) (oc : Nat → Bool) (ow : Nat → Nat) (d : Nat) : Prop := ∃ x, x < n ∧ oc x = true ∧ ow x = d
section
variable {n : Nat} {oc : Nat → Bool} {ow : Nat → Nat}
theorem qf_lm (L : qf_Lay n oc ow) (a : Nat) : ∀ k, a + k ≤ n → ow a ≤ ow (a + k) := by
  intro k
  induction k with
  | zero => intro _; exact Nat.le_refl _
  | succ k ih =>
    intro h
    exact Nat.le_trans (ih (by omega)) (L.2.2.2.1 (a + k) (by omega))
theorem qf_mo (L : qf_Lay n oc ow) {a b : Nat} (h : a ≤ b) (hb : b ≤ n) : ow a ≤ ow b := by
  obtain ⟨k, rfl⟩ : ∃ k, b = a + k := ⟨b - a, by omega⟩
  exact qf_lm L a k hb
theorem qf_le (L : qf_Lay n oc ow) {d : Nat} (h : d ≤ n) : ow d ≤ d := L.2.2.1 d h
theorem qf_fr (L : qf_Lay n oc ow) {d : Nat} (h : d ≤ n) (ho : oc d = false) : ow d = d := L.2.2.2.2.1 d h ho
theorem qf_in (L : qf_Lay n oc ow) {d x : Nat} (h : d < x) (hx : x ≤ n) (ho : ow x ≤ d) : oc d = true :=
  L.2.2.2.2.2 d (by omega) (Nat.le_trans (qf_mo L (by omega) hx) ho)
theorem qf_pu (L : qf_Lay n oc ow) {d : Nat} (h : d ≤ n) (hp : ow d < d) : oc d = true := by
  cases ho : oc d with
  | true => rfl
  | false =>
    have := qf_fr L h ho
    omega
theorem qf_no (L : qf_Lay n oc ow) {x : Nat} (hx : x ≤ n) (ho : oc x = true) : oc (ow x) = true := by
  have h1 := qf_le L hx
  by_cases h : ow x = x
  · rw [h]; exact ho
  · exact qf_in L (show ow x < x by omega) hx (Nat.le_refl _)
theorem qf_nmo (L : qf_Lay n oc ow) {d : Nat} (h : qf_Nm n oc ow d) : oc d = true := by
  obtain ⟨x, hx, ho, e⟩ := h
  rw [← e]
  exact qf_no L (by omega) ho
theorem qf_nmn (L : qf_Lay n oc ow) {d : Nat} (ho : oc d = false) : ¬ qf_Nm n oc ow d := by
  intro h
  rw [qf_nmo L h] at ho
  exact absurd ho (by decide)
theorem qf_on (L : qf_Lay n oc ow) {d : Nat} (h : d ≤ n) (ho : oc d = true) : d < n := by
  by_cases e : d = n
  · rw [e, L.2.1] at ho
    exact absurd ho (by decide)
  · omega
theorem qf_op (L : qf_Lay n oc ow) {d : Nat} (ho : oc d = true) : 0 < d := by
  by_cases e : d = 0
  · rw [e, L.1] at ho
    exact absurd ho (by decide)
  · omega
theorem qf_af (L : qf_Lay n oc ow) {d : Nat} (h : d < n) (ho : oc d = false) : ow (d + 1) = d + 1 := by
  have a := qf_le L (show d + 1 ≤ n by omega)
  by_cases e : ow (d + 1) ≤ d
  · rw [L.2.2.2.2.2 d h e] at ho
    exact absurd ho (by decide)
  · omega
theorem qf_nmi {d : Nat} (h : d < n) (ho : oc d = true) : qf_Nm n oc ow (ow d) := ⟨d, h, ho, rfl⟩
end
/-- what the arrays hold -/
def qf_Arr (n B sh z : Nat) (oc : Nat → Bool) (ow lw : Nat → Nat) (lo nm go pu : Nat → Int32) : Prop :=
  ∀ d, d < n → (¬ nm (B + qf_sl n z d) = 0 ↔ qf_Nm n oc ow d) ∧ (go (B + qf_sl n z d) = if 0 < d ∧ ow d = ow (d - 1) then 1 else 0) ∧ (¬ pu (B + qf_sl n z d) = 0 ↔ ow d < d) ∧ (oc d = true → lo (B + qf_sl n z d) = nI (lw d) ∧ lw d < sh)
def qf_RZ (n B sh z : Nat) (oc : Nat → Bool) (ow lw : Nat → Nat) (lo nm go pu : Nat → Int32) : Prop :=
  z < n ∧ qf_Lay n oc ow ∧ qf_Arr n B sh z oc ow lw lo nm go pu
/-- the print that place d holds -/
def qf_pt (n sh z : Nat) (ow lw : Nat → Nat) (d : Nat) : Nat := qf_sl n z (ow d) * sh + lw d
def qf_gp (n sh z : Nat) (oc : Nat → Bool) (ow lw : Nat → Nat) (p d : Nat) : Nat := if oc d = true ∧ qf_pt n sh z ow lw d = p then 1 else 0
section
variable {n B sh z : Nat} {oc : Nat → Bool} {ow lw : Nat → Nat} {lo nm go pu : Nat → Int32}
theorem qf_gp0 {p d : Nat} (h : oc d = false) : qf_gp n sh z oc ow lw p d = 0 := by
  unfold qf_gp
  rw [if_neg]
  intro a
  rw [h] at a
  exact absurd a.1 (by decide)
theorem qf_gp1 {p d : Nat} (h : oc d = true) : qf_gp n sh z oc ow lw p d = if qf_pt n sh z ow lw d = p then 1 else 0 := by
  unfold qf_gp
  by_cases e : qf_pt n sh z ow lw d = p
  · rw [if_pos e, if_pos ⟨h, e⟩]
  · rw [if_neg e, if_neg (fun a => e a.2)]
/-- reading at the places 0 to n -/
theorem qf_rd (R : qf_RZ n B sh z oc ow lw lo nm go pu) {d : Nat} (hd : d ≤ n) : (¬ nm (B + qf_sl n z d) = 0 ↔ qf_Nm n oc ow d) ∧ (go (B + qf_sl n z d) = if 0 < d ∧ ow d = ow (d - 1) then 1 else 0) ∧ (¬ pu (B + qf_sl n z d) = 0 ↔ ow d < d) ∧ (oc d = true → lo (B + qf_sl n z d) = nI (lw d) ∧ lw d < sh) := by
  obtain ⟨hz, L, A⟩ := R
  by_cases e : d = n
  · subst e
    obtain ⟨a1, a2, a3, a4⟩ := A 0 (by omega)
    have f1 := qf_nmn L L.1
    have f2 := qf_nmn L L.2.1
    have f3 := qf_fr L (Nat.le_refl d) L.2.1
    have f4 := qf_le L (show d - 1 ≤ d by omega)
    rw [qf_sl_n]
    refine ⟨⟨fun h => absurd (a1.mp h) f1, fun h => absurd h f2⟩, ?_, ⟨fun h => absurd (a3.mp h) (by omega), fun h => absurd h (by omega)⟩, fun h => ?_⟩
    · rw [a2, if_neg (by omega), if_neg (by omega)]
    · rw [L.2.1] at h
      exact absurd h (by decide)
  · exact A d (by omega)
theorem qf_h0 (R : qf_RZ n B sh z oc ow lw lo nm go pu) {d : Nat} (hd : d ≤ n) (ho : oc d = false) : nm (B + qf_sl n z d) = 0 ∧ go (B + qf_sl n z d) = 0 ∧ pu (B + qf_sl n z d) = 0 := by
  obtain ⟨a1, a2, a3, _⟩ := qf_rd R hd
  have L := R.2.1
  have e := qf_fr L hd ho
  refine ⟨?_, ?_, ?_⟩
  · exact Classical.byContradiction fun h => qf_nmn L ho (a1.mp h)
  · rw [a2, if_neg]
    intro h
    have := qf_le L (show d - 1 ≤ n by omega)
    omega
  · exact Classical.byContradiction fun h => by
      have := a3.mp h
      omega
theorem qf_h1 (R : qf_RZ n B sh z oc ow lw lo nm go pu) {d : Nat} (hd : d ≤ n) (ho : oc d = true) : ¬ nm (B + qf_sl n z d) = 0 ∨ ¬ pu (B + qf_sl n z d) = 0 := by
  obtain ⟨a1, a2, a3, _⟩ := qf_rd R hd
  have L := R.2.1
  have e := qf_le L hd
  by_cases h : ow d = d
  · exact Or.inl (a1.mpr ⟨d, qf_on L hd ho, ho, h⟩)
  · exact Or.inr (a3.mpr (by omega))
theorem qf_pt_lt (R : qf_RZ n B sh z oc ow lw lo nm go pu) (hns : n * sh = 256) {d : Nat} (hd : d ≤ n) (ho : oc d = true) : qf_pt n sh z ow lw d < 256 := by
  have a := ((qf_rd R hd).2.2.2 ho).2
  have b : qf_sl n z (ow d) < n := qf_sl_lt (Nat.lt_of_le_of_lt (Nat.zero_le _) R.1)
  have c : (qf_sl n z (ow d) + 1) * sh ≤ n * sh := Nat.mul_le_mul_right sh b
  rw [Nat.add_mul, Nat.one_mul, hns] at c
  unfold qf_pt
  omega
/-- the sum of all prints is the number of places that hold one -/
theorem qf_tot (R : qf_RZ n B sh z oc ow lw lo nm go pu) (hns : n * sh = 256) : qf_sm (fun p => qf_sm (qf_gp n sh z oc ow lw p) n) 256 = qf_sm (fun d => if oc d = true then 1 else 0) n := by
  have a := qf_sm_swap (fun p d => qf_gp n sh z oc ow lw p d) n 256
  refine a.trans (qf_sm_congr n fun d hd => ?_)
  show qf_sm (fun p => qf_gp n sh z oc ow lw p d) 256 = if oc d = true then 1 else 0
  by_cases ho : oc d = true
  · rw [if_pos ho]
    have b : qf_sm (fun p => qf_gp n sh z oc ow lw p d) 256 = qf_sm (fun q => if qf_pt n sh z ow lw d = q then 1 else 0) 256 := qf_sm_congr 256 fun q _ => qf_gp1 ho
    rw [b, qf_sm_one, if_pos (qf_pt_lt R hns (by omega) ho)]
  · rw [if_neg ho]
    exact qf_sm_zero 256 fun q _ => qf_gp0 (by simpa using ho)
/-- another free slot -/
theorem qf_two (R : qf_RZ n B sh z oc ow lw lo nm go pu) (h : qf_sm (fun d => if oc d = true then 1 else 0) n + 2 ≤ n) : ∃ g, 0 < g ∧ g < n ∧ oc g = false := by
  refine Classical.byContradiction fun hc => ?_
  have H : ∀ g, 0 < g → g < n → oc g = true := by
    intro g h0 h1
    cases ho : oc g with
    | true => rfl
    | false => exact absurd ⟨g, h0, h1, ho⟩ hc
  clear hc
  have K : ∀ k, k ≤ n → k ≤ qf_sm (fun d => if oc d = true then 1 else 0) k + 1 := by
    intro k
    induction k with
    | zero => intro _; omega
    | succ k ih =>
      intro hk
      have i := ih (by omega)
      rw [qf_sm_s]
      by_cases h0 : k = 0
      · omega
      · rw [if_pos (H k (by omega) (by omega))]
        omega
  have := K n (Nat.le_refl n)
  omega
end
end
section
section
variable {n B sh z : Nat} {oc : Nat → Bool} {ow lw : Nat → Nat} {lo nm go pu : Nat → Int32}
theorem qf_ro_lay (L : qf_Lay n oc ow) {g : Nat} (g0 : 0 < g) (gn : g < n) (hg : oc g = false) {oc' : Nat → Bool} {ow' : Nat → Nat}
    (o1 : ∀ d, d + g ≤ n → oc' d = oc (d + g)) (o2 : ∀ d, n < d + g → oc' d = oc (d + g - n))
    (w1 : ∀ d, d + g ≤ n → ow' d = ow (d + g) - g) (w2 : ∀ d, n < d + g → ow' d = ow (d + g - n) + (n - g)) : qf_Lay n oc' ow' := by
  have eg := qf_fr L (show g ≤ n by omega) hg
  have en := qf_fr L (Nat.le_refl n) L.2.1
  have ge : ∀ x, g ≤ x → x ≤ n → g ≤ ow x := fun x h1 h2 => by
    have := qf_mo L h1 h2
    omega
  refine ⟨?_, ?_, ?_, ?_, ?_, ?_⟩
  · rw [o1 0 (by omega), Nat.zero_add]
    exact hg
  · rw [o2 n (by omega), show n + g - n = g by omega]
    exact hg
  · intro d hd
    by_cases c : d + g ≤ n
    · have := qf_le L c
      rw [w1 d c]
      omega
    · have := qf_le L (show d + g - n ≤ n by omega)
      rw [w2 d (by omega)]
      omega
  · intro d hd
    by_cases c : d + 1 + g ≤ n
    · have a := L.2.2.2.1 (d + g) (by omega)
      rw [w1 d (by omega), w1 (d + 1) c, show d + 1 + g = d + g + 1 by omega]
      omega
    · by_cases c2 : d + g = n
      · rw [w1 d (by omega), w2 (d + 1) (by omega), c2, en]
        omega
      · have a := L.2.2.2.1 (d + g - n) (by omega)
        rw [w2 d (by omega), w2 (d + 1) (by omega), show d + 1 + g - n = d + g - n + 1 by omega]
        omega
  · intro d hd ho
    by_cases c : d + g ≤ n
    · rw [o1 d c] at ho
      rw [w1 d c, qf_fr L c ho]
      omega
    · rw [o2 d (by omega)] at ho
      rw [w2 d (by omega), qf_fr L (by omega) ho]
      omega
  · intro d hd h
    by_cases c : d + 1 + g ≤ n
    · have a := ge (d + 1 + g) (by omega) c
      rw [w1 (d + 1) c, show d + 1 + g = d + g + 1 by omega] at h
      rw [show d + 1 + g = d + g + 1 by omega] at a
      rw [o1 d (by omega)]
      exact L.2.2.2.2.2 (d + g) (by omega) (by omega)
    · by_cases c2 : d + g = n
      · rw [w2 (d + 1) (by omega), show d + 1 + g - n = 0 + 1 by omega, qf_af L (by omega) L.1] at h
        exfalso
        omega
      · rw [w2 (d + 1) (by omega), show d + 1 + g - n = d + g - n + 1 by omega] at h
        rw [o2 d (by omega)]
        exact L.2.2.2.2.2 (d + g - n) (by omega) (by omega)
theorem qf_ro_nm1 (L : qf_Lay n oc ow) {g : Nat} (g0 : 0 < g) (gn : g < n) (hg : oc g = false) {oc' : Nat → Bool} {ow' : Nat → Nat}
    (o1 : ∀ d, d + g ≤ n → oc' d = oc (d + g)) (w1 : ∀ d, d + g ≤ n → ow' d = ow (d + g) - g) {d : Nat} (hd : d + g < n) (h : qf_Nm n oc ow (d + g)) : qf_Nm n oc' ow' d := by
  obtain ⟨x, hx, ho, e⟩ := h
  have a := qf_le L (show x ≤ n by omega)
  refine ⟨x - g, by omega, ?_, ?_⟩
  · rw [o1 _ (by omega), show x - g + g = x by omega]
    exact ho
  · rw [w1 _ (by omega), show x - g + g = x by omega, e]
    omega
theorem qf_ro_nm2 (L : qf_Lay n oc ow) {g : Nat} (g0 : 0 < g) (gn : g < n) (hg : oc g = false) {oc' : Nat → Bool} {ow' : Nat → Nat}
    (o2 : ∀ d, n < d + g → oc' d = oc (d + g - n)) (w2 : ∀ d, n < d + g → ow' d = ow (d + g - n) + (n - g)) {d : Nat} (hd : n < d + g) (hn : d < n) (h : qf_Nm n oc ow (d + g - n)) : qf_Nm n oc' ow' d := by
  obtain ⟨x, hx, ho, e⟩ := h
  have x0 := qf_op L ho
  have eg := qf_fr L (show g ≤ n by omega) hg
  have xg : x < g := by
    by_cases c : g ≤ x
    · have := qf_mo L c (by omega)
      omega
    · omega
  refine ⟨x + n - g, by omega, ?_, ?_⟩
  · rw [o2 _ (by omega), show x + n - g + g - n = x by omega]
    exact ho
  · rw [w2 _ (by omega), show x + n - g + g - n = x by omega, e]
    omega
/-- the same ring read from another free slot -/
theorem qf_ro (R : qf_RZ n B sh z oc ow lw lo nm go pu) {g : Nat} (g0 : 0 < g) (gn : g < n) (hg : oc g = false) {oc' : Nat → Bool} {ow' lw' : Nat → Nat}
    (o1 : ∀ d, d + g ≤ n → oc' d = oc (d + g)) (o2 : ∀ d, n < d + g → oc' d = oc (d + g - n))
    (w1 : ∀ d, d + g ≤ n → ow' d = ow (d + g) - g) (w2 : ∀ d, n < d + g → ow' d = ow (d + g - n) + (n - g))
    (l1 : ∀ d, d + g ≤ n → lw' d = lw (d + g)) (l2 : ∀ d, n < d + g → lw' d = lw (d + g - n)) : qf_RZ n B sh (qf_sl n z g) oc' ow' lw' lo nm go pu := by
  have L := R.2.1
  have L' := qf_ro_lay L g0 gn hg o1 o2 w1 w2
  have eg := qf_fr L (show g ≤ n by omega) hg
  have en := qf_fr L (Nat.le_refl n) L.2.1
  refine ⟨qf_sl_lt (by omega), L', ?_⟩
  intro d hd
  rw [qf_sl_2]
  by_cases c : d + g < n
  · obtain ⟨a1, a2, a3, a4⟩ := qf_rd R (show g + d ≤ n by omega)
    rw [Nat.add_comm g d] at a1 a2 a3 a4 ⊢
    refine ⟨⟨fun h => qf_ro_nm1 L g0 gn hg o1 w1 c (a1.mp h), fun h => a1.mpr ?_⟩, ?_, ?_, ?_⟩
    · obtain ⟨x, hx, ho, e⟩ := h
      by_cases cx : x + g ≤ n
      · rw [o1 x cx] at ho
        rw [w1 x cx] at e
        have b := qf_mo L (show g ≤ x + g by omega) cx
        exact ⟨x + g, qf_on L cx ho, ho, by omega⟩
      · rw [w2 x (by omega)] at e
        omega
    · rw [a2]
      have f : (0 < d ∧ ow' d = ow' (d - 1)) ↔ (0 < d + g ∧ ow (d + g) = ow (d + g - 1)) := by
        by_cases d0 : d = 0
        · subst d0
          have := qf_le L (show g - 1 ≤ n by omega)
          rw [Nat.zero_add]
          constructor
          · intro h; omega
          · intro h; omega
        · have b := qf_mo L (show g ≤ d - 1 + g by omega) (by omega)
          have b2 := qf_mo L (show g ≤ d + g by omega) (by omega)
          rw [w1 d (by omega), w1 (d - 1) (by omega), show d + g - 1 = d - 1 + g by omega]
          constructor
          · intro h; omega
          · intro h; omega
      by_cases f0 : 0 < d + g ∧ ow (d + g) = ow (d + g - 1)
      · rw [if_pos f0, if_pos (f.mpr f0)]
      · rw [if_neg f0, if_neg (fun h => f0 (f.mp h))]
    · rw [a3, w1 d (by omega)]
      have b2 := qf_mo L (show g ≤ d + g by omega) (by omega)
      constructor
      · intro h; omega
      · intro h; omega
    · intro h
      rw [o1 d (by omega)] at h
      rw [l1 d (by omega)]
      exact a4 h
  · by_cases c2 : d + g = n
    · obtain ⟨a1, a2, a3, a4⟩ := qf_rd R (show 0 ≤ n by omega)
      rw [Nat.add_comm g d, c2, qf_sl_n]
      have of : oc' d = false := by rw [o1 d (by omega), c2]; exact L.2.1
      have f1 := qf_nmn L L.1
      have f2 := qf_nmn L' of
      have f3 := qf_fr L' (show d ≤ n by omega) of
      have f4 := qf_le L' (show d - 1 ≤ n by omega)
      refine ⟨⟨fun h => absurd (a1.mp h) f1, fun h => absurd h f2⟩, ?_, ?_, fun h => ?_⟩
      · rw [a2, if_neg (by omega), if_neg (by omega)]
      · rw [a3]
        constructor
        · intro h; omega
        · intro h; omega
      · rw [of] at h
        exact absurd h (by decide)
    · obtain ⟨a1, a2, a3, a4⟩ := qf_rd R (show d + g - n ≤ n by omega)
      have es : qf_sl n z (g + d) = qf_sl n z (d + g - n) := by
        rw [show g + d = d + g - n + n by omega, qf_sl_w]
      rw [es]
      refine ⟨⟨fun h => qf_ro_nm2 L g0 gn hg o2 w2 (by omega) hd (a1.mp h), fun h => a1.mpr ?_⟩, ?_, ?_, ?_⟩
      · obtain ⟨x, hx, ho, e⟩ := h
        by_cases cx : x + g ≤ n
        · have b := qf_le L cx
          rw [w1 x cx] at e
          omega
        · rw [o2 x (by omega)] at ho
          rw [w2 x (by omega)] at e
          exact ⟨x + g - n, by omega, ho, by omega⟩
      · rw [a2]
        have f : (0 < d ∧ ow' d = ow' (d - 1)) ↔ (0 < d + g - n ∧ ow (d + g - n) = ow (d + g - n - 1)) := by
          by_cases c3 : d - 1 + g = n
          · rw [w2 d (by omega), w1 (d - 1) (by omega), c3, en, show d + g - n = 1 by omega, show 1 - 1 = 0 from rfl, qf_fr L (by omega) L.1]
            constructor
            · intro h; omega
            · intro h; omega
          · rw [w2 d (by omega), w2 (d - 1) (by omega), show d - 1 + g - n = d + g - n - 1 by omega]
            constructor
            · intro h; omega
            · intro h; omega
        by_cases f0 : 0 < d + g - n ∧ ow (d + g - n) = ow (d + g - n - 1)
        · rw [if_pos f0, if_pos (f.mpr f0)]
        · rw [if_neg f0, if_neg (fun h => f0 (f.mp h))]
      · rw [a3, w2 d (by omega)]
        constructor
        · intro h; omega
        · intro h; omega
      · intro h
        rw [o2 d (by omega)] at h
        rw [l2 d (by omega)]
        exact a4 h
theorem qf_root (R : qf_RZ n B sh z oc ow lw lo nm go pu) {g : Nat} (g0 : 0 < g) (gn : g < n) (hg : oc g = false) : ∃ (oc' : Nat → Bool) (ow' lw' : Nat → Nat), qf_RZ n B sh (qf_sl n z g) oc' ow' lw' lo nm go pu ∧ (∀ p, qf_sm (qf_gp n sh (qf_sl n z g) oc' ow' lw' p) n = qf_sm (qf_gp n sh z oc ow lw p) n) ∧ (∀ d, d + g ≤ n → oc' d = oc (d + g)) := by
  have L := R.2.1
  have eg := qf_fr L (show g ≤ n by omega) hg
  obtain ⟨oc', o1, o2⟩ : ∃ oc' : Nat → Bool, (∀ d, d + g ≤ n → oc' d = oc (d + g)) ∧ (∀ d, n < d + g → oc' d = oc (d + g - n)) :=
    ⟨fun d => if d + g ≤ n then oc (d + g) else oc (d + g - n), fun d h => if_pos h, fun d h => if_neg (by omega)⟩
  obtain ⟨ow', w1, w2⟩ : ∃ ow' : Nat → Nat, (∀ d, d + g ≤ n → ow' d = ow (d + g) - g) ∧ (∀ d, n < d + g → ow' d = ow (d + g - n) + (n - g)) :=
    ⟨fun d => if d + g ≤ n then ow (d + g) - g else ow (d + g - n) + (n - g), fun d h => if_pos h, fun d h => if_neg (by omega)⟩
  obtain ⟨lw', l1, l2⟩ : ∃ lw' : Nat → Nat, (∀ d, d + g ≤ n → lw' d = lw (d + g)) ∧ (∀ d, n < d + g → lw' d = lw (d + g - n)) :=
    ⟨fun d => if d + g ≤ n then lw (d + g) else lw (d + g - n), fun d h => if_pos h, fun d h => if_neg (by omega)⟩
  refine ⟨oc', ow', lw', qf_ro R g0 gn hg o1 o2 w1 w2 l1 l2, fun p => ?_, o1⟩
  refine qf_sm_rot (r := g) (by omega) ?_ ?_ ?_
  · rw [qf_gp0 L.1, qf_gp0 L.2.1]
  · intro x hx
    have b := qf_mo L (show g ≤ x + g by omega) hx
    unfold qf_gp qf_pt
    rw [o1 x hx, w1 x hx, l1 x hx, qf_sl_2, show g + (ow (x + g) - g) = ow (x + g) by omega]
  · intro x hx hx2
    unfold qf_gp qf_pt
    rw [o2 x hx2, w2 x hx2, l2 x hx2, qf_sl_2, show g + (ow (x + g - n) + (n - g)) = ow (x + g - n) + n by omega, qf_sl_w]
/-- a root that an insertion at slot q doesn't fill -/
theorem qf_good (R : qf_RZ n B sh z oc ow lw lo nm go pu) (h2 : ∃ g, 0 < g ∧ g < n ∧ oc g = false) {q : Nat} (hq : q < n) : ∃ (z' : Nat) (oc' : Nat → Bool) (ow' lw' : Nat → Nat) (c e : Nat), qf_RZ n B sh z' oc' ow' lw' lo nm go pu ∧ (∀ p, qf_sm (qf_gp n sh z' oc' ow' lw' p) n = qf_sm (qf_gp n sh z oc ow lw p) n) ∧ qf_sl n z' c = q ∧ 0 < c ∧ c ≤ e ∧ e < n ∧ (∀ x, c ≤ x → x < e → oc' x = true) ∧ oc' e = false := by
  obtain ⟨c, hc, ec⟩ := qf_sl_sur R.1 hq
  obtain ⟨k, ⟨hk, hf⟩, hl⟩ := pk_least (fun k => c + k ≤ n ∧ oc (c + k) = false) ⟨n - c, by omega, by rw [show c + (n - c) = n by omega]; exact R.2.1.2.1⟩
  have ho : ∀ x, c ≤ x → x < c + k → oc x = true := by
    intro x h1 h3
    cases h : oc x with
    | true => rfl
    | false => exact absurd ⟨by omega, by rw [show c + (x - c) = x by omega]; exact h⟩ (hl (x - c) (by omega))
  by_cases good : 0 < c ∧ c + k < n
  · exact ⟨z, oc, ow, lw, c, c + k, R, fun p => rfl, ec, good.1, by omega, good.2, ho, hf⟩
  · obtain ⟨g, g0, gn, hg⟩ := h2
    obtain ⟨oc', ow', lw', R', S', o1⟩ := qf_root R g0 gn hg
    by_cases c0 : c = 0
    · refine ⟨_, oc', ow', lw', n - g, n - g, R', S', ?_, by omega, by omega, by omega, fun x h1 h3 => ?_, ?_⟩
      · rw [qf_sl_2, show g + (n - g) = n by omega, qf_sl_n, ← ec, c0]
      · omega
      · rw [o1 _ (by omega), show n - g + g = n by omega]
        exact R.2.1.2.1
    · have gc : g < c := by
        by_cases h : c ≤ g
        · rw [ho g h (by omega)] at hg
          exact absurd hg (by decide)
        · omega
      refine ⟨_, oc', ow', lw', c - g, n - g, R', S', ?_, by omega, by omega, by omega, fun x h1 h3 => ?_, ?_⟩
      · rw [qf_sl_2, show g + (c - g) = c by omega, ec]
      · rw [o1 _ (by omega)]
        exact ho _ (by omega) (by omega)
      · rw [o1 _ (by omega), show n - g + g = n by omega]
        exact R.2.1.2.1
end
end
section
section
variable {n B sh z c s e l : Nat} {oc oc' : Nat → Bool} {ow lw ow' lw' : Nat → Nat} {lo nm go pu lo' nm' go' pu' : Nat → Int32}
theorem qf_cs {s e : Nat} (d : Nat) (h : s ≤ e) : d < s ∨ d = s ∨ (∃ x, d = x + 1 ∧ s ≤ x ∧ x < e) ∨ e < d := by
  by_cases h1 : d < s
  · exact Or.inl h1
  · by_cases h2 : d = s
    · exact Or.inr (Or.inl h2)
    · by_cases h3 : e < d
      · exact Or.inr (Or.inr (Or.inr h3))
      · exact Or.inr (Or.inr (Or.inl ⟨d - 1, by omega, by omega, by omega⟩))
theorem qf_ins_lay (L : qf_Lay n oc ow) (h0 : 0 < c) (hcs : c ≤ s) (hse : s ≤ e) (hen : e < n) (ho : ∀ x, c ≤ x → x < e → oc x = true) (hfe : oc e = false) (hlo : ∀ x, x < s → ow x ≤ c) (hhi : c ≤ ow s)
    (o1 : ∀ x, x ≠ e → oc' x = oc x) (o2 : oc' e = true) (w1 : ∀ x, x < s → ow' x = ow x) (w2 : ow' s = c) (w3 : ∀ x, s ≤ x → x < e → ow' (x + 1) = ow x) (w4 : ∀ x, e < x → s < x → ow' x = ow x) : qf_Lay n oc' ow' := by
  refine ⟨?_, ?_, ?_, ?_, ?_, ?_⟩
  · rw [o1 0 (by omega)]; exact L.1
  · rw [o1 n (by omega)]; exact L.2.1
  · intro d hd
    rcases qf_cs d hse with h | h | ⟨x, hx, h1, h2⟩ | h
    · rw [w1 d h]; exact qf_le L hd
    · rw [h, w2]; exact hcs
    · subst hx
      have := qf_le L (show x ≤ n by omega)
      rw [w3 x h1 h2]
      omega
    · rw [w4 d h (by omega)]; exact qf_le L hd
  · intro d hd
    rcases qf_cs d hse with h | h | ⟨x, hx, h1, h2⟩ | h
    · by_cases k : d + 1 = s
      · rw [w1 d h, k, w2]
        exact hlo d h
      · rw [w1 d h, w1 (d + 1) (by omega)]
        exact L.2.2.2.1 d hd
    · subst h
      by_cases k : d < e
      · rw [w2, w3 d (Nat.le_refl d) k]
        exact hhi
      · have := L.2.2.2.1 d hd
        rw [w2, w4 (d + 1) (by omega) (by omega)]
        omega
    · subst hx
      rw [w3 x h1 h2]
      by_cases k : x + 1 < e
      · rw [w3 (x + 1) (by omega) k]
        exact L.2.2.2.1 x (by omega)
      · rw [w4 (x + 1 + 1) (by omega) (by omega)]
        exact qf_mo L (by omega) (by omega)
    · rw [w4 d h (by omega), w4 (d + 1) (by omega) (by omega)]
      exact L.2.2.2.1 d hd
  · intro d hd hf
    by_cases k : d = e
    · rw [k, o2] at hf
      exact absurd hf (by decide)
    · rw [o1 d k] at hf
      have t := qf_fr L hd hf
      rcases qf_cs d hse with h | h | ⟨x, hx, h1, h2⟩ | h
      · rw [w1 d h]; exact t
      · rw [ho d (by omega) (by omega)] at hf
        exact absurd hf (by decide)
      · rw [ho d (by omega) (by omega)] at hf
        exact absurd hf (by decide)
      · rw [w4 d h (by omega)]; exact t
  · intro d hd h
    by_cases k : d = e
    · rw [k]; exact o2
    · rw [o1 d k]
      by_cases k1 : d + 1 < s
      · rw [w1 (d + 1) k1] at h
        exact L.2.2.2.2.2 d hd h
      · by_cases k2 : d + 1 = s
        · rw [k2, w2] at h
          exact ho d h (by omega)
        · by_cases k3 : d < e
          · exact ho d (by omega) k3
          · rw [w4 (d + 1) (by omega) (by omega)] at h
            exact L.2.2.2.2.2 d hd h
theorem qf_ins_nm (hcs : c ≤ s) (hse : s ≤ e) (hen : e < n) (ho : ∀ x, c ≤ x → x < e → oc x = true) (hfe : oc e = false)
    (o1 : ∀ x, x ≠ e → oc' x = oc x) (o2 : oc' e = true) (w1 : ∀ x, x < s → ow' x = ow x) (w2 : ow' s = c) (w3 : ∀ x, s ≤ x → x < e → ow' (x + 1) = ow x) (w4 : ∀ x, e < x → s < x → ow' x = ow x) (d : Nat) : qf_Nm n oc' ow' d ↔ (qf_Nm n oc ow d ∨ d = c) := by
  constructor
  · intro h
    obtain ⟨x, hx, hox, ex⟩ := h
    rcases qf_cs x hse with h | h | ⟨y, hy, h1, h2⟩ | h
    · rw [o1 x (by omega)] at hox
      rw [w1 x h] at ex
      exact Or.inl ⟨x, hx, hox, ex⟩
    · rw [h, w2] at ex
      exact Or.inr ex.symm
    · rw [hy, w3 y h1 h2] at ex
      exact Or.inl ⟨y, by omega, ho y (by omega) h2, ex⟩
    · rw [o1 x (by omega)] at hox
      rw [w4 x h (by omega)] at ex
      exact Or.inl ⟨x, hx, hox, ex⟩
  · intro h
    rcases h with h | h
    · obtain ⟨x, hx, hox, ex⟩ := h
      by_cases k1 : x < s
      · exact ⟨x, hx, by rw [o1 x (by omega)]; exact hox, by rw [w1 x k1]; exact ex⟩
      · by_cases k2 : x < e
        · refine ⟨x + 1, by omega, ?_, by rw [w3 x (by omega) k2]; exact ex⟩
          by_cases k3 : x + 1 = e
          · rw [k3]; exact o2
          · rw [o1 _ k3]; exact ho _ (by omega) (by omega)
        · by_cases k3 : x = e
          · rw [k3, hfe] at hox
            exact absurd hox (by decide)
          · exact ⟨x, hx, by rw [o1 x k3]; exact hox, by rw [w4 x (by omega) (by omega)]; exact ex⟩
    · refine ⟨s, by omega, ?_, by rw [w2]; exact h.symm⟩
      by_cases k3 : s = e
      · rw [k3]; exact o2
      · rw [o1 _ k3]; exact ho _ (by omega) (by omega)
theorem qf_ins_arr (R : qf_RZ n B sh z oc ow lw lo nm go pu) (h0 : 0 < c) (hcs : c ≤ s) (hse : s ≤ e) (hen : e < n) (ho : ∀ x, c ≤ x → x < e → oc x = true) (hfe : oc e = false) (hlo : ∀ x, x < s → ow x ≤ c) (hhi : c ≤ ow s)
    (o1 : ∀ x, x ≠ e → oc' x = oc x) (o2 : oc' e = true) (w1 : ∀ x, x < s → ow' x = ow x) (w2 : ow' s = c) (w3 : ∀ x, s ≤ x → x < e → ow' (x + 1) = ow x) (w4 : ∀ x, e < x → s < x → ow' x = ow x)
    (l1 : ∀ x, x < s → lw' x = lw x) (l2 : lw' s = l) (l3 : ∀ x, s ≤ x → x < e → lw' (x + 1) = lw x) (l4 : ∀ x, e < x → s < x → lw' x = lw x) (hl : l < sh)
    (N1 : ∀ d, d < n → (¬ nm' (B + qf_sl n z d) = 0 ↔ (¬ nm (B + qf_sl n z d) = 0 ∨ d = c)))
    (G1 : go' (B + qf_sl n z s) = if ow (s - 1) = c then 1 else 0) (G2 : s < e → go' (B + qf_sl n z (s + 1)) = if ow s = c then 1 else 0)
    (G3 : ∀ x, s < x → x < e → go' (B + qf_sl n z (x + 1)) = go (B + qf_sl n z x)) (G4 : ∀ x, x < n → (x < s ∨ e < x) → go' (B + qf_sl n z x) = go (B + qf_sl n z x))
    (P1 : ¬ pu' (B + qf_sl n z s) = 0 ↔ c < s) (P2 : ∀ x, s ≤ x → x < e → ¬ pu' (B + qf_sl n z (x + 1)) = 0) (P3 : ∀ x, x < n → (x < s ∨ e < x) → pu' (B + qf_sl n z x) = pu (B + qf_sl n z x))
    (Q1 : lo' (B + qf_sl n z s) = nI l) (Q2 : ∀ x, s ≤ x → x < e → lo' (B + qf_sl n z (x + 1)) = lo (B + qf_sl n z x)) (Q3 : ∀ x, x < n → (x < s ∨ e < x) → lo' (B + qf_sl n z x) = lo (B + qf_sl n z x)) :
    qf_RZ n B sh z oc' ow' lw' lo' nm' go' pu' := by
  have L := R.2.1
  have L' := qf_ins_lay L h0 hcs hse hen ho hfe hlo hhi o1 o2 w1 w2 w3 w4
  refine ⟨R.1, L', ?_⟩
  intro d hd
  obtain ⟨a1, a2, a3, a4⟩ := R.2.2 d hd
  refine ⟨?_, ?_, ?_, ?_⟩
  · rw [N1 d hd, qf_ins_nm hcs hse hen ho hfe o1 o2 w1 w2 w3 w4 d, a1]
  · rcases qf_cs d hse with h | h | ⟨x, hx, h1, h2⟩ | h
    · rw [G4 d hd (Or.inl h), a2, w1 d h, w1 (d - 1) (by omega)]
    · rw [h, G1, w2, w1 (s - 1) (by omega)]
      by_cases k : ow (s - 1) = c
      · rw [if_pos k, if_pos ⟨by omega, k.symm⟩]
      · rw [if_neg k, if_neg (fun t => k t.2.symm)]
    · subst hx
      rw [Nat.add_sub_cancel, w3 x h1 h2]
      by_cases k : x = s
      · rw [k, G2 (by omega), w2]
        by_cases k2 : ow s = c
        · rw [if_pos k2, if_pos ⟨by omega, k2⟩]
        · rw [if_neg k2, if_neg (fun t => k2 t.2)]
      · have b := (R.2.2 x (by omega)).2.1
        rw [G3 x (by omega) h2, b]
        have t := w3 (x - 1) (by omega) (by omega)
        rw [show x - 1 + 1 = x by omega] at t
        rw [t]
        by_cases k2 : ow x = ow (x - 1)
        · rw [if_pos ⟨by omega, k2⟩, if_pos ⟨by omega, k2⟩]
        · rw [if_neg (fun t => k2 t.2), if_neg (fun t => k2 t.2)]
    · rw [G4 d hd (Or.inr h), a2, w4 d h (by omega)]
      by_cases k : d = e + 1
      · subst k
        have b1 := qf_af L (show e < n by omega) hfe
        have b2 := qf_le L (show e ≤ n by omega)
        have b3 := qf_le L' (show e ≤ n by omega)
        rw [Nat.add_sub_cancel, if_neg (by omega), if_neg (by omega)]
      · rw [w4 (d - 1) (by omega) (by omega)]
  · rcases qf_cs d hse with h | h | ⟨x, hx, h1, h2⟩ | h
    · rw [P3 d hd (Or.inl h), a3, w1 d h]
    · rw [h, P1, w2]
    · subst hx
      have b := qf_le L (show x ≤ n by omega)
      rw [w3 x h1 h2]
      exact ⟨fun _ => by omega, fun _ => P2 x h1 h2⟩
    · rw [P3 d hd (Or.inr h), a3, w4 d h (by omega)]
  · intro hod
    rcases qf_cs d hse with h | h | ⟨x, hx, h1, h2⟩ | h
    · rw [o1 d (by omega)] at hod
      rw [Q3 d hd (Or.inl h), l1 d h]
      exact a4 hod
    · rw [h, Q1, l2]
      exact ⟨rfl, hl⟩
    · subst hx
      rw [Q2 x h1 h2, l3 x h1 h2]
      exact (R.2.2 x (by omega)).2.2.2 (ho x (by omega) h2)
    · rw [o1 d (by omega)] at hod
      rw [Q3 d hd (Or.inr h), l4 d h (by omega)]
      exact a4 hod
/-- the insertion in the pure picture -/
theorem qf_ins (R : qf_RZ n B sh z oc ow lw lo nm go pu) (h0 : 0 < c) (hcs : c ≤ s) (hse : s ≤ e) (hen : e < n) (ho : ∀ x, c ≤ x → x < e → oc x = true) (hfe : oc e = false) (hlo : ∀ x, x < s → ow x ≤ c) (hhi : c ≤ ow s) (hl : l < sh)
    (N1 : ∀ d, d < n → (¬ nm' (B + qf_sl n z d) = 0 ↔ (¬ nm (B + qf_sl n z d) = 0 ∨ d = c)))
    (G1 : go' (B + qf_sl n z s) = if ow (s - 1) = c then 1 else 0) (G2 : s < e → go' (B + qf_sl n z (s + 1)) = if ow s = c then 1 else 0)
    (G3 : ∀ x, s < x → x < e → go' (B + qf_sl n z (x + 1)) = go (B + qf_sl n z x)) (G4 : ∀ x, x < n → (x < s ∨ e < x) → go' (B + qf_sl n z x) = go (B + qf_sl n z x))
    (P1 : ¬ pu' (B + qf_sl n z s) = 0 ↔ c < s) (P2 : ∀ x, s ≤ x → x < e → ¬ pu' (B + qf_sl n z (x + 1)) = 0) (P3 : ∀ x, x < n → (x < s ∨ e < x) → pu' (B + qf_sl n z x) = pu (B + qf_sl n z x))
    (Q1 : lo' (B + qf_sl n z s) = nI l) (Q2 : ∀ x, s ≤ x → x < e → lo' (B + qf_sl n z (x + 1)) = lo (B + qf_sl n z x)) (Q3 : ∀ x, x < n → (x < s ∨ e < x) → lo' (B + qf_sl n z x) = lo (B + qf_sl n z x)) :
    ∃ (oc' : Nat → Bool) (ow' lw' : Nat → Nat), qf_RZ n B sh z oc' ow' lw' lo' nm' go' pu' ∧ ∀ p, qf_sm (qf_gp n sh z oc' ow' lw' p) n = qf_sm (qf_gp n sh z oc ow lw p) n + if qf_sl n z c * sh + l = p then 1 else 0 := by
  obtain ⟨oc', o1, o2⟩ : ∃ oc' : Nat → Bool, (∀ x, x ≠ e → oc' x = oc x) ∧ oc' e = true := ⟨fun x => if x = e then true else oc x, fun x h => if_neg h, if_pos rfl⟩
  have mk : ∀ (f : Nat → Nat) (v : Nat), ∃ f' : Nat → Nat, (∀ x, x < s → f' x = f x) ∧ f' s = v ∧ (∀ x, s ≤ x → x < e → f' (x + 1) = f x) ∧ (∀ x, e < x → s < x → f' x = f x) := by
    intro f v
    refine ⟨fun x => if x < s then f x else if x = s then v else if x ≤ e then f (x - 1) else f x, fun x h => if_pos h, ?_, fun x h1 h2 => ?_, fun x h1 h2 => ?_⟩
    · show (if s < s then f s else if s = s then v else if s ≤ e then f (s - 1) else f s) = v
      rw [if_neg (by omega), if_pos rfl]
    · show (if x + 1 < s then f (x + 1) else if x + 1 = s then v else if x + 1 ≤ e then f (x + 1 - 1) else f (x + 1)) = f x
      rw [if_neg (by omega), if_neg (by omega), if_pos (by omega), Nat.add_sub_cancel]
    · show (if x < s then f x else if x = s then v else if x ≤ e then f (x - 1) else f x) = f x
      rw [if_neg (by omega), if_neg (by omega), if_neg (by omega)]
  obtain ⟨ow', w1, w2, w3, w4⟩ := mk ow c
  obtain ⟨lw', l1, l2, l3, l4⟩ := mk lw l
  refine ⟨oc', ow', lw', qf_ins_arr R h0 hcs hse hen ho hfe hlo hhi o1 o2 w1 w2 w3 w4 l1 l2 l3 l4 hl N1 G1 G2 G3 G4 P1 P2 P3 Q1 Q2 Q3, fun p => ?_⟩
  have hos : oc' s = true := by
    by_cases k3 : s = e
    · rw [k3]; exact o2
    · rw [o1 _ k3]; exact ho _ (by omega) (by omega)
  have T : qf_gp n sh z oc' ow' lw' p s = if qf_sl n z c * sh + l = p then 1 else 0 := by
    rw [qf_gp1 hos]
    unfold qf_pt
    rw [w2, l2]
  rw [← T]
  refine qf_sm_ins hse ?_ ?_ (qf_gp0 hfe) ?_ hen
  · intro x hx
    unfold qf_gp qf_pt
    rw [o1 x (by omega), w1 x hx, l1 x hx]
  · intro x h1 h2
    have t : oc' (x + 1) = true := by
      by_cases k3 : x + 1 = e
      · rw [k3]; exact o2
      · rw [o1 _ k3]; exact ho _ (by omega) (by omega)
    rw [qf_gp1 t, qf_gp1 (ho x (by omega) h2)]
    unfold qf_pt
    rw [w3 x h1 h2, l3 x h1 h2]
  · intro x hx
    unfold qf_gp qf_pt
    rw [o1 x (by omega), w4 x hx (by omega), l4 x hx (by omega)]
/-- a stretch between free slots made free -/
theorem qf_cut (R : qf_RZ n B sh z oc ow lw lo nm go pu) {a : Nat} (a0 : 0 < a) (hae : a ≤ e) (hen : e ≤ n) (hwa : ow a = a) (hfe : oc e = false)
    (N1 : ∀ d, d < n → a ≤ d → d < e → nm' (B + qf_sl n z d) = 0 ∧ go' (B + qf_sl n z d) = 0 ∧ pu' (B + qf_sl n z d) = 0)
    (N2 : ∀ d, d < n → (d < a ∨ e ≤ d) → nm' (B + qf_sl n z d) = nm (B + qf_sl n z d) ∧ go' (B + qf_sl n z d) = go (B + qf_sl n z d) ∧ pu' (B + qf_sl n z d) = pu (B + qf_sl n z d)) :
    ∃ (oc' : Nat → Bool) (ow' : Nat → Nat), qf_RZ n B sh z oc' ow' lw lo nm' go' pu' ∧ ∀ p, qf_sm (qf_gp n sh z oc' ow' lw p) n + qf_sm (qf_gp n sh z oc ow lw p) e = qf_sm (qf_gp n sh z oc ow lw p) n + qf_sm (qf_gp n sh z oc ow lw p) a := by
  have L := R.2.1
  obtain ⟨oc', o1, o2⟩ : ∃ oc' : Nat → Bool, (∀ x, (x < a ∨ e ≤ x) → oc' x = oc x) ∧ (∀ x, a ≤ x → x < e → oc' x = false) :=
    ⟨fun x => if a ≤ x ∧ x < e then false else oc x, fun x h => if_neg (by omega), fun x h1 h2 => if_pos ⟨h1, h2⟩⟩
  obtain ⟨ow', w1, w2⟩ : ∃ ow' : Nat → Nat, (∀ x, (x < a ∨ e ≤ x) → ow' x = ow x) ∧ (∀ x, a ≤ x → x < e → ow' x = x) :=
    ⟨fun x => if a ≤ x ∧ x < e then x else ow x, fun x h => if_neg (by omega), fun x h1 h2 => if_pos ⟨h1, h2⟩⟩
  have we := qf_fr L hen hfe
  have low : ∀ x, x < a → ow' x = ow x := fun x h => w1 x (Or.inl h)
  have hig : ∀ x, e ≤ x → ow' x = ow x := fun x h => w1 x (Or.inr h)
  have L' : qf_Lay n oc' ow' := by
    refine ⟨?_, ?_, ?_, ?_, ?_, ?_⟩
    · rw [o1 0 (Or.inl a0)]; exact L.1
    · rw [o1 n (Or.inr hen)]; exact L.2.1
    · intro d hd
      by_cases k : a ≤ d ∧ d < e
      · rw [w2 d k.1 k.2]; exact Nat.le_refl d
      · rw [w1 d (by omega)]; exact qf_le L hd
    · intro d hd
      by_cases k : a ≤ d ∧ d < e
      · rw [w2 d k.1 k.2]
        by_cases k2 : d + 1 < e
        · rw [w2 (d + 1) (by omega) k2]; omega
        · rw [hig (d + 1) (by omega), show d + 1 = e by omega, we]; omega
      · rw [w1 d (by omega)]
        by_cases k2 : a ≤ d + 1 ∧ d + 1 < e
        · have := qf_le L (show d ≤ n by omega)
          rw [w2 (d + 1) k2.1 k2.2]; omega
        · rw [w1 (d + 1) (by omega)]
          exact L.2.2.2.1 d hd
    · intro d hd hf
      by_cases k : a ≤ d ∧ d < e
      · exact w2 d k.1 k.2
      · rw [o1 d (by omega)] at hf
        rw [w1 d (by omega)]
        exact qf_fr L hd hf
    · intro d hd h
      by_cases k2 : a ≤ d + 1 ∧ d + 1 < e
      · rw [w2 (d + 1) k2.1 k2.2] at h
        omega
      · rw [w1 (d + 1) (by omega)] at h
        by_cases k : a ≤ d ∧ d < e
        · rw [show d + 1 = e by omega, we] at h
          omega
        · rw [o1 d (by omega)]
          exact L.2.2.2.2.2 d hd h
  refine ⟨oc', ow', ⟨R.1, L', ?_⟩, fun p => ?_⟩
  · intro d hd
    obtain ⟨a1, a2, a3, a4⟩ := R.2.2 d hd
    by_cases k : a ≤ d ∧ d < e
    · obtain ⟨b1, b2, b3⟩ := N1 d hd k.1 k.2
      have of := o2 d k.1 k.2
      have f1 := qf_le L' (show d - 1 ≤ n by omega)
      have f2 := w2 d k.1 k.2
      refine ⟨⟨fun h => absurd b1 h, fun h => absurd h (qf_nmn L' of)⟩, ?_, ⟨fun h => absurd b3 h, fun h => ?_⟩, fun h => ?_⟩
      · rw [b2, if_neg (by omega)]
      · omega
      · rw [of] at h
        exact absurd h (by decide)
    · have k' : d < a ∨ e ≤ d := by omega
      obtain ⟨b1, b2, b3⟩ := N2 d hd k'
      rw [b1, b2, b3, a1, a2, a3, w1 d k', o1 d k']
      refine ⟨⟨fun h => ?_, fun h => ?_⟩, ?_, Iff.rfl, a4⟩
      · obtain ⟨x, hx, hox, ex⟩ := h
        have x1 := qf_le L (show x ≤ n by omega)
        have k2 : x < a ∨ e ≤ x := by
          by_cases k2 : a ≤ x ∧ x < e
          · have := qf_mo L k2.1 (by omega)
            omega
          · omega
        exact ⟨x, hx, by rw [o1 x k2]; exact hox, by rw [w1 x k2]; exact ex⟩
      · obtain ⟨x, hx, hox, ex⟩ := h
        by_cases k2 : a ≤ x ∧ x < e
        · rw [o2 x k2.1 k2.2] at hox
          exact absurd hox (by decide)
        · rw [o1 x (by omega)] at hox
          rw [w1 x (by omega)] at ex
          exact ⟨x, hx, hox, ex⟩
      · by_cases k3 : a ≤ d - 1 ∧ d - 1 < e
        · have e1 : d = e := by omega
          have f1 := qf_le L (show d - 1 ≤ n by omega)
          have f2 := w2 (d - 1) k3.1 k3.2
          rw [f2, e1, we, if_neg (by rw [e1] at f1; omega), if_neg (by omega)]
        · rw [w1 (d - 1) (by omega)]
  · refine qf_sm_cut hae hen ?_ ?_ ?_
    · intro x hx
      unfold qf_gp qf_pt
      rw [o1 x (Or.inl hx), w1 x (Or.inl hx)]
    · intro x h1 h2
      exact qf_gp0 (o2 x h1 h2)
    · intro x hx
      unfold qf_gp qf_pt
      rw [o1 x (Or.inr hx), w1 x (Or.inr hx)]
end
end
section
/-- b bits name a slot: n slots, sh lower values -/
def qf_B (b n sh : Nat) : Prop := 3 ≤ b ∧ b ≤ 6 ∧ n = 2 ^ b ∧ sh = 2 ^ (8 - b)
theorem qf_B_n {b n sh : Nat} (h : qf_B b n sh) : 8 ≤ n ∧ n ≤ 64 ∧ n * sh = 256 ∧ 4 ≤ sh ∧ sh ≤ 32 := by
  obtain ⟨h3, h6, hn, hs⟩ := h
  have : b = 3 ∨ b = 4 ∨ b = 5 ∨ b = 6 := by omega
  rcases this with rfl | rfl | rfl | rfl <;> subst hn hs <;> decide
theorem qf_tb_sl : ∀ b, b < 7 → 3 ≤ b → ((1 : Int32) <<< (nI b &&& 31)) = nI (2 ^ b) := by decide +kernel
theorem qf_tb_af : ∀ b, b < 7 → 3 ≤ b → ∀ s, s < 64 → s < 2 ^ b → (nI s + 1) &&& (nI (2 ^ b) - 1) = nI ((s + 1) % 2 ^ b) := by decide +kernel
theorem qf_tb_be : ∀ b, b < 7 → 3 ≤ b → ∀ s, s < 64 → s < 2 ^ b → (nI s - 1) &&& (nI (2 ^ b) - 1) = nI ((s + (2 ^ b - 1)) % 2 ^ b) := by decide +kernel
theorem qf_tb_so : ∀ b, b < 7 → 3 ≤ b → ∀ p, p < 256 → nI p >>> ((8 - nI b) &&& 31) = nI (p / 2 ^ (8 - b)) := by decide +kernel
theorem qf_tb_lo : ∀ b, b < 7 → 3 ≤ b → ∀ p, p < 256 → nI p &&& (((1 : Int32) <<< ((8 - nI b) &&& 31)) - 1) = nI (p % 2 ^ (8 - b)) := by decide +kernel
theorem qf_tb_pr : ∀ b, b < 7 → ∀ o, o < 64 → ∀ l, l < 32 → (3 ≤ b ∧ o < 2 ^ b ∧ l < 2 ^ (8 - b)) → ((nI o <<< ((8 - nI b) &&& 31)) ||| nI l).toInt16.toInt32 = nI (o * 2 ^ (8 - b) + l) := by decide +kernel
theorem qf_tb_by : ∀ l, l < 128 → (nI l).toInt8.toInt32 = nI l := by decide +kernel
def qf_by (v : Int32) : Prop := vp_nar .byte v.toInt8.toInt32 = v
def qf_bo (v : Int32) : Prop := vp_nar .boolean v = v
theorem qf_by_n {l : Nat} (h : l < 128) : qf_by (nI l) := by
  unfold qf_by
  rw [pk_vb, qf_tb_by l h]
theorem qf_bo_0 : qf_bo 0 := rfl
theorem qf_bo_1 : qf_bo 1 := rfl
theorem qf_64 (f : Nat) : (64 : Int32) * nI f = nI (64 * f) := by
  rw [show (64 : Int32) = nI 64 from rfl, pk_mul]
theorem qf_cl {f s : Nat} (hf : f < 2) (hs : s < 64) : (nI (64 * f) + nI s).toNatClampNeg = 64 * f + s := by
  rw [nI_add]
  exact nI_clamp (by omega)
theorem qf_vi {f s : Nat} (hf : f < 2) (hs : s < 64) : vp_in (nI (64 * f) + nI s) 128 := by
  rw [nI_add]
  exact vp_in_nI (by omega) (by decide)
/-- filter f has b bits -/
def qf_S (f b n sh : Nat) (sb : Nat → Int32) : Prop := f < 2 ∧ qf_B b n sh ∧ sb f = nI b
section
variable {rc : Int32} {sb he lo nm go pu rd : Nat → Int32} {f b n sh z : Nat} {post : Int32 → Prop}
theorem qf_S_n (K : qf_S f b n sh sb) : 8 ≤ n ∧ n ≤ 64 ∧ n * sh = 256 ∧ 4 ≤ sh ∧ sh ≤ 32 := qf_B_n K.2.1
theorem qf_S_s (K : qf_S f b n sh sb) (d : Nat) : qf_sl n z d < 64 := by
  have h := qf_S_n K
  have := qf_sl_lt (n := n) (z := z) (d := d) (by omega)
  omega
theorem qf_clz (K : qf_S f b n sh sb) (d : Nat) : (nI (64 * f) + nI (qf_sl n z d)).toNatClampNeg = 64 * f + qf_sl n z d := qf_cl K.1 (qf_S_s K d)
theorem qf_viz (K : qf_S f b n sh sb) (d : Nat) : vp_in (nI (64 * f) + nI (qf_sl n z d)) 128 := qf_vi K.1 (qf_S_s K d)
theorem qf_x_sl (K : qf_S f b n sh sb) (h : post (nI n)) : wpX_slots post (rc, sb, he, lo, nm, go, pu, rd) (nI f) := by
  obtain ⟨hf, ⟨h3, h6, hn, _⟩, hs⟩ := K
  show vp_in (nI f) 2 ∧ post ((1 : Int32) <<< ((sb (nI f).toNatClampNeg) &&& 31))
  refine ⟨vp_in_nI hf (by decide), ?_⟩
  rw [nI_clamp (by omega), hs, qf_tb_sl b (by omega) h3, ← hn]
  exact h
theorem qf_x_af (K : qf_S f b n sh sb) {s : Nat} (h1 : s < n) (h : post (nI ((s + 1) % n))) : wpX_after post (rc, sb, he, lo, nm, go, pu, rd) (nI f) (nI s) := by
  have h64 := qf_S_n K
  show wpX_slots (fun r_1 => post ((nI s + 1) &&& (r_1 - 1))) (rc, sb, he, lo, nm, go, pu, rd) (nI f)
  refine qf_x_sl K ?_
  obtain ⟨hf, ⟨h3, h6, hn, _⟩, hs⟩ := K
  subst hn
  show post ((nI s + 1) &&& (nI (2 ^ b) - 1))
  rw [qf_tb_af b (by omega) h3 s (by omega) h1]
  exact h
theorem qf_x_be (K : qf_S f b n sh sb) {s : Nat} (h1 : s < n) (h : post (nI ((s + (n - 1)) % n))) : wpX_beforeSlot post (rc, sb, he, lo, nm, go, pu, rd) (nI f) (nI s) := by
  have h64 := qf_S_n K
  show wpX_slots (fun r_1 => post ((nI s - 1) &&& (r_1 - 1))) (rc, sb, he, lo, nm, go, pu, rd) (nI f)
  refine qf_x_sl K ?_
  obtain ⟨hf, ⟨h3, h6, hn, _⟩, hs⟩ := K
  subst hn
  show post ((nI s - 1) &&& (nI (2 ^ b) - 1))
  rw [qf_tb_be b (by omega) h3 s (by omega) h1]
  exact h
theorem qf_x_afz (K : qf_S f b n sh sb) {d : Nat} (h : post (nI (qf_sl n z (d + 1)))) : wpX_after post (rc, sb, he, lo, nm, go, pu, rd) (nI f) (nI (qf_sl n z d)) := by
  have h64 := qf_S_n K
  refine qf_x_af K (qf_sl_lt (by omega)) ?_
  rw [qf_sl_s]
  exact h
theorem qf_x_bez (K : qf_S f b n sh sb) {d : Nat} (h : post (nI (qf_sl n z d))) : wpX_beforeSlot post (rc, sb, he, lo, nm, go, pu, rd) (nI f) (nI (qf_sl n z (d + 1))) := by
  have h64 := qf_S_n K
  refine qf_x_be K (qf_sl_lt (by omega)) ?_
  rw [qf_sl_p (by omega)]
  exact h
theorem qf_x_so (K : qf_S f b n sh sb) {p : Nat} (hp : p < 256) (h : post (nI (p / sh))) : wpX_slotOf post (rc, sb, he, lo, nm, go, pu, rd) (nI f) (nI p) := by
  obtain ⟨hf, ⟨h3, h6, _, hh⟩, hs⟩ := K
  show vp_in (nI f) 2 ∧ post (nI p >>> ((8 - (sb (nI f).toNatClampNeg)) &&& 31))
  refine ⟨vp_in_nI hf (by decide), ?_⟩
  rw [nI_clamp (by omega), hs, qf_tb_so b (by omega) h3 p hp, ← hh]
  exact h
theorem qf_x_lo (K : qf_S f b n sh sb) {p : Nat} (hp : p < 256) (h : post (nI (p % sh))) : wpX_lowerOf post (rc, sb, he, lo, nm, go, pu, rd) (nI f) (nI p) := by
  obtain ⟨hf, ⟨h3, h6, _, hh⟩, hs⟩ := K
  show vp_in (nI f) 2 ∧ post (nI p &&& (((1 : Int32) <<< ((8 - (sb (nI f).toNatClampNeg)) &&& 31)) - 1))
  refine ⟨vp_in_nI hf (by decide), ?_⟩
  rw [nI_clamp (by omega), hs, qf_tb_lo b (by omega) h3 p hp, ← hh]
  exact h
theorem qf_x_ba (h : post (nI (64 * f))) : wpX_base post (rc, sb, he, lo, nm, go, pu, rd) (nI f) := by
  show post (64 * nI f)
  rw [qf_64]
  exact h
theorem qf_x_ho (hf : f < 2) {s : Nat} (hs : s < 64) (h0 : nm (64 * f + s) = 0 → go (64 * f + s) = 0 → pu (64 * f + s) = 0 → post 0) (h1 : (¬ nm (64 * f + s) = 0 ∨ ¬ go (64 * f + s) = 0 ∨ ¬ pu (64 * f + s) = 0) → post 1) : wpX_holds post (rc, sb, he, lo, nm, go, pu, rd) (nI f) (nI s) := by
  unfold wpX_holds
  refine qf_x_ba ?_
  intro x hx
  rw [nI_add] at hx
  subst hx
  have e : (nI (64 * f + s)).toNatClampNeg = 64 * f + s := nI_clamp (by omega)
  have v : vp_in (nI (64 * f + s)) 128 := vp_in_nI (by omega) (by decide)
  rw [e]
  exact ⟨v, br_c (fun a => ⟨v, br_c (fun b => ⟨v, br_c (fun c => h0 a b c) (fun c => h1 (Or.inr (Or.inr c)))⟩) (fun b => h1 (Or.inr (Or.inl b)))⟩) (fun a => h1 (Or.inl a))⟩
theorem qf_x_fr (hf : f < 2) {s : Nat} (hs : s < 64) (h0 : nm (64 * f + s) = 0 → go (64 * f + s) = 0 → pu (64 * f + s) = 0 → post 1) (h1 : (¬ nm (64 * f + s) = 0 ∨ ¬ go (64 * f + s) = 0 ∨ ¬ pu (64 * f + s) = 0) → post 0) : wpX_isFree post (rc, sb, he, lo, nm, go, pu, rd) (nI f) (nI s) := by
  unfold wpX_isFree
  exact qf_x_ho hf hs (fun a b c => br_t rfl (h0 a b c)) (fun a => br_f (by decide) (h1 a))
end
section
variable {rc : Int32} {sb he lo nm go pu rd : Nat → Int32} {f b n sh z : Nat} {post : Int32 → Prop} {oc : Nat → Bool} {ow lw : Nat → Nat}
theorem qf_x_frz (K : qf_S f b n sh sb) (R : qf_RZ n (64 * f) sh z oc ow lw lo nm go pu) {d : Nat} (hd : d ≤ n) (h0 : oc d = true → post 0) (h1 : oc d = false → post 1) : wpX_isFree post (rc, sb, he, lo, nm, go, pu, rd) (nI f) (nI (qf_sl n z d)) := by
  refine qf_x_fr K.1 (qf_S_s K d) (fun a b c => h1 ?_) (fun a => h0 ?_)
  · cases ho : oc d with
    | false => rfl
    | true =>
      rcases qf_h1 R hd ho with t | t
      · exact absurd a t
      · exact absurd c t
  · cases ho : oc d with
    | true => rfl
    | false =>
      obtain ⟨t1, t2, t3⟩ := qf_h0 R hd ho
      rcases a with a | a | a
      · exact absurd t1 a
      · exact absurd t2 a
      · exact absurd t3 a
/-- what stands at x is print p: by owner and lower bits -/
theorem qf_pt_iff (R : qf_RZ n (64 * f) sh z oc ow lw lo nm go pu) {p c x : Nat} (hc : c < n) (hpc : qf_sl n z c = p / sh) (hx : x < n) (ho : oc x = true) : qf_pt n sh z ow lw x = p ↔ (ow x = c ∧ lw x = p % sh) := by
  have hl := ((R.2.2 x hx).2.2.2 ho).2
  have L := R.2.1
  have hw := qf_le L (show x ≤ n by omega)
  unfold qf_pt
  constructor
  · intro h
    have e1 : p / sh = qf_sl n z (ow x) := by
      rw [← h, Nat.mul_comm, Nat.mul_add_div (by omega), Nat.div_eq_of_lt hl, Nat.add_zero]
    have e2 : p % sh = lw x := by
      rw [← h, Nat.mul_comm, Nat.mul_add_mod, Nat.mod_eq_of_lt hl]
    refine ⟨qf_sl_inj (n := n) (z := z) (by omega) (by omega) ?_, e2.symm⟩
    rw [hpc, e1]
  · rintro ⟨h1, h2⟩
    rw [h1, h2, hpc]
    exact Nat.div_add_mod' p sh
end
end
section
section
variable {rc : Int32} {sb he lo nm go pu rd : Nat → Int32} {f b n sh z c : Nat} {post : Int32 → Prop} {oc : Nat → Bool} {ow lw : Nat → Nat}
theorem qf_rs85 {J : Int32 → Int32 → Prop} {x2 x5 : Int32} (K : qf_S f b n sh sb) (hc : c < n)
    (hN : ∀ d, d ≤ n → (¬ nm (64 * f + qf_sl n z d) = 0 ↔ (qf_Nm n oc ow d ∨ d = c))) :
    ∀ m d, d ≤ c → c - d < m → (∀ y, d ≤ y → y ≤ c → (qf_Nm n oc ow y ∨ y = c) → (∀ x, d ≤ x → x < y → ¬ qf_Nm n oc ow x) → J (nI (qf_sl n z y)) x5) →
      wX_runStart_85 post J (nI f) x2 (nI (64 * f)) x5 rc sb he lo nm go pu rd m (nI (qf_sl n z d)) := by
  intro m
  induction m with
  | zero => intro d _ h _; omega
  | succ m ih =>
    intro d hd hm H
    have N := hN d (by omega)
    refine And.intro (qf_viz K d) (br_c (fun a => ?_) (fun a => ?_))
    · rw [qf_clz K] at a
      have nn : ¬ (qf_Nm n oc ow d ∨ d = c) := fun t => N.mpr t a
      have ne : d ≠ c := fun t => nn (Or.inr t)
      refine qf_x_afz K (ih (d + 1) (by omega) (by omega) fun y h1 h2 h3 h4 => H y (by omega) h2 h3 fun x h5 h6 => ?_)
      by_cases e : x = d
      · subst e
        exact fun t => nn (Or.inl t)
      · exact h4 x (by omega) h6
    · rw [qf_clz K] at a
      exact H d (Nat.le_refl d) hd (N.mp a) (fun x h1 h2 => absurd h2 (by omega))
theorem qf_rs52 {J : Int32 → Int32 → Prop} {x2 x4 : Int32} (K : qf_S f b n sh sb) (L : qf_Lay n oc ow)
    (hG : ∀ d, d ≤ n → go (64 * f + qf_sl n z d) = if 0 < d ∧ ow d = ow (d - 1) then 1 else 0) :
    ∀ m d, 0 < d → d ≤ n → n - d < m → (∀ y, d ≤ y → y ≤ n → ow y ≠ ow (y - 1) → (∀ x, d ≤ x → x < y → ow x = ow (x - 1)) → wpX_after (fun r_24 => ∃ n85 : Nat, wX_runStart_85 post J (nI f) x2 (nI (64 * f)) (nI (qf_sl n z y)) rc sb he lo nm go pu rd n85 r_24) (rc, sb, he, lo, nm, go, pu, rd) (nI f) x4) →
      wX_runStart_52 post J (nI f) x2 (nI (64 * f)) x4 rc sb he lo nm go pu rd m (nI (qf_sl n z d)) := by
  intro m
  induction m with
  | zero => intro d _ _ h _; omega
  | succ m ih =>
    intro d h0 hd hm H
    have G := hG d hd
    refine And.intro (qf_viz K d) (br_c (fun a => ?_) (fun a => ?_))
    · rw [qf_clz K, G] at a
      refine H d (Nat.le_refl d) hd (fun t => ?_) (fun x h1 h2 => absurd h2 (by omega))
      rw [if_pos ⟨h0, t⟩] at a
      exact absurd a (by decide)
    · rw [qf_clz K, G] at a
      have t : ow d = ow (d - 1) := by
        by_cases k : 0 < d ∧ ow d = ow (d - 1)
        · exact k.2
        · rw [if_neg k] at a
          exact absurd rfl a
      have dn : d < n := by
        by_cases k : d = n
        · have a1 := qf_fr L (Nat.le_refl n) L.2.1
          have a2 := qf_le L (show n - 1 ≤ n by omega)
          rw [k] at t
          omega
        · omega
      refine qf_x_afz K (ih (d + 1) (by omega) (by omega) (by omega) fun y h1 h2 h3 h4 => H y (by omega) h2 h3 fun x h5 h6 => ?_)
      by_cases e : x = d
      · subst e
        exact t
      · exact h4 x (by omega) h6
theorem qf_rs37 (K : qf_S f b n sh sb) (L : qf_Lay n oc ow) (hc : c < n) {d0 : Nat}
    (hN : ∀ d, d ≤ n → (¬ nm (64 * f + qf_sl n z d) = 0 ↔ (qf_Nm n oc ow d ∨ d = c)))
    (hG : ∀ d, d ≤ n → go (64 * f + qf_sl n z d) = if 0 < d ∧ ow d = ow (d - 1) then 1 else 0)
    (hcl : ∀ x, d0 < x → x ≤ c → ow x < x) (H : ∀ s, s ≤ n → c ≤ ow s → (∀ x, x < s → ow x < c) → post (nI (qf_sl n z s))) :
    ∀ m y s, d0 ≤ y → y ≤ c → c - y < m → s ≤ n → y ≤ ow s → (∀ x, x < s → ow x < y) → (qf_Nm n oc ow y ∨ y = c) →
      wX_runStart_37 post (nI f) (nI (qf_sl n z c)) (nI (64 * f)) rc sb he lo nm go pu rd m (nI (qf_sl n z y)) (nI (qf_sl n z s)) := by
  intro m
  induction m with
  | zero => intro y s _ _ h; omega
  | succ m ih =>
    intro y s h0 hy hm hs h1 h2 h3
    by_cases e : y = c
    · subst e
      exact br_t rfl (H s hs h1 h2)
    · have hNy : qf_Nm n oc ow y := by
        rcases h3 with t | t
        · exact t
        · exact absurd t e
      have ws : ow s = y ∧ s < n := by
        obtain ⟨x, hx, hox, ex⟩ := hNy
        have xs : s ≤ x := by
          by_cases k : x < s
          · have := h2 x k
            omega
          · omega
        have := qf_mo L xs (by omega)
        omega
      have sy := qf_le L hs
      refine br_f (fun t => ?_) ?_
      · have i := (nI_eq (Nat.lt_trans (qf_S_s K y) (by decide)) (Nat.lt_trans (qf_S_s K c) (by decide))).mp t
        exact e (qf_sl_inj (n := n) (z := z) (by omega) (by omega) i)
      · refine qf_x_afz K ⟨n + 1, qf_rs52 K L hG (n + 1) (s + 1) (by omega) (by omega) (by omega) fun s' a1 a2 a3 a4 => ?_⟩
        refine qf_x_afz K ⟨c + 1, qf_rs85 K hc hN (c + 1) (y + 1) (by omega) (by omega) fun y' b1 b2 b3 b4 => ?_⟩
        have r : ∀ k, s + k < s' → ow (s + k) = y := by
          intro k
          induction k with
          | zero => intro _; exact ws.1
          | succ k ihk =>
            intro hk
            have i := ihk (by omega)
            have j := a4 (s + k + 1) (by omega) (by omega)
            rw [Nat.add_sub_cancel] at j
            rw [← Nat.add_assoc, j]
            exact i
        have r1 : ow (s' - 1) = y := by
          have := r (s' - 1 - s) (by omega)
          rwa [show s + (s' - 1 - s) = s' - 1 by omega] at this
        have r2 := qf_mo L (show s' - 1 ≤ s' by omega) a2
        have r3 : y < ow s' := by omega
        refine ih y' s' (by omega) b2 (by omega) a2 ?_ ?_ b3
        · by_cases k : y' ≤ ow s'
          · exact k
          · exfalso
            cases ho : oc s' with
            | true => exact b4 (ow s') (by omega) (by omega) ⟨s', qf_on L a2 ho, ho, rfl⟩
            | false =>
              have e1 := qf_fr L a2 ho
              have e2 := hcl s' (by omega) (by omega)
              omega
        · intro x hx
          have := qf_mo L (show x ≤ s' - 1 by omega) (by omega)
          omega
theorem qf_rs9 (K : qf_S f b n sh sb) (L : qf_Lay n oc ow) (hc : c < n)
    (hP : ∀ d, d ≤ n → (¬ pu (64 * f + qf_sl n z d) = 0 ↔ ow d < d))
    (H : ∀ d, d ≤ c → ow d = d → oc d = true → (∀ x, d < x → x ≤ c → ow x < x) → ∃ n37 : Nat, wX_runStart_37 post (nI f) (nI (qf_sl n z c)) (nI (64 * f)) rc sb he lo nm go pu rd n37 (nI (qf_sl n z d)) (nI (qf_sl n z d))) :
    ∀ m d, d ≤ c → d < m → oc d = true → (∀ x, d < x → x ≤ c → ow x < x) → wX_runStart_9 post (nI f) (nI (qf_sl n z c)) (nI (64 * f)) rc sb he lo nm go pu rd m (nI (qf_sl n z d)) := by
  intro m
  induction m with
  | zero => intro d _ h; omega
  | succ m ih =>
    intro d hd hm ho hx
    have P := hP d (by omega)
    refine And.intro (qf_viz K d) (br_c (fun a => ?_) (fun a => ?_))
    · rw [qf_clz K] at a
      have t : ¬ ow d < d := fun t => P.mpr t a
      have := qf_le L (show d ≤ n by omega)
      exact H d hd (by omega) ho hx
    · rw [qf_clz K] at a
      have t := P.mp a
      obtain ⟨d', rfl⟩ : ∃ d', d = d' + 1 := ⟨d - 1, by omega⟩
      refine qf_x_bez K (ih d' (by omega) (by omega) (qf_in L (show d' < d' + 1 by omega) (by omega) (by omega)) fun x h1 h2 => ?_)
      by_cases e : x = d' + 1
      · subst e
        exact t
      · exact hx x (by omega) h2
/-- runStart answers the first place whose owner isn't ahead of c -/
theorem qf_x_rs (K : qf_S f b n sh sb) (L : qf_Lay n oc ow) (hc : c < n) (ho : oc c = true)
    (hN : ∀ d, d ≤ n → (¬ nm (64 * f + qf_sl n z d) = 0 ↔ (qf_Nm n oc ow d ∨ d = c)))
    (hG : ∀ d, d ≤ n → go (64 * f + qf_sl n z d) = if 0 < d ∧ ow d = ow (d - 1) then 1 else 0)
    (hP : ∀ d, d ≤ n → (¬ pu (64 * f + qf_sl n z d) = 0 ↔ ow d < d))
    (H : ∀ s, s ≤ n → c ≤ ow s → (∀ x, x < s → ow x < c) → post (nI (qf_sl n z s))) : wpX_runStart post (rc, sb, he, lo, nm, go, pu, rd) (nI f) (nI (qf_sl n z c)) := by
  unfold wpX_runStart
  refine qf_x_ba ⟨c + 1, qf_rs9 K L hc hP ?_ (c + 1) c (Nat.le_refl c) (Nat.lt_succ_self c) ho (fun x h1 h2 => absurd h2 (by omega))⟩
  intro d hd wd hod hx
  refine ⟨c + 1, qf_rs37 K L hc (d0 := d) hN hG hx H (c + 1) d d (Nat.le_refl d) hd (by omega) (by omega) (by omega) ?_ (Or.inl ⟨d, by omega, hod, wd⟩)⟩
  intro x h
  have := qf_le L (show x ≤ n by omega)
  omega
end
end
section
/-- the arrays of a filter hold the prints C -/
def qf_Rep (n B sh : Nat) (C : Nat → Nat) (lo nm go pu : Nat → Int32) : Prop :=
  ∃ (z : Nat) (oc : Nat → Bool) (ow lw : Nat → Nat), qf_RZ n B sh z oc ow lw lo nm go pu ∧ ∀ p, p < 256 → C p = qf_sm (qf_gp n sh z oc ow lw p) n
theorem qf_RZ_fr {n B sh z : Nat} {oc : Nat → Bool} {ow lw : Nat → Nat} {lo nm go pu lo' nm' go' pu' : Nat → Int32} (R : qf_RZ n B sh z oc ow lw lo nm go pu) (h : ∀ i, B ≤ i → i < B + n → lo' i = lo i ∧ nm' i = nm i ∧ go' i = go i ∧ pu' i = pu i) : qf_RZ n B sh z oc ow lw lo' nm' go' pu' := by
  refine ⟨R.1, R.2.1, fun d hd => ?_⟩
  have hs : qf_sl n z d < n := qf_sl_lt (by omega)
  obtain ⟨a1, a2, a3, a4⟩ := h (B + qf_sl n z d) (by omega) (by omega)
  rw [a1, a2, a3, a4]
  exact R.2.2 d hd
theorem qf_Rep_fr {n B sh : Nat} {C : Nat → Nat} {lo nm go pu lo' nm' go' pu' : Nat → Int32} (R : qf_Rep n B sh C lo nm go pu) (h : ∀ i, B ≤ i → i < B + n → lo' i = lo i ∧ nm' i = nm i ∧ go' i = go i ∧ pu' i = pu i) : qf_Rep n B sh C lo' nm' go' pu' := by
  obtain ⟨z, oc, ow, lw, R, S⟩ := R
  exact ⟨z, oc, ow, lw, qf_RZ_fr R h, S⟩
section
variable {rc : Int32} {sb he lo nm go pu rd : Nat → Int32} {f b n sh z c p : Nat} {post : Int32 → Prop} {oc : Nat → Bool} {ow lw : Nat → Nat}
theorem qf_gp_ne (R : qf_RZ n (64 * f) sh z oc ow lw lo nm go pu) (hc : c < n) (hpc : qf_sl n z c = p / sh) {x : Nat} (hx : x < n) (h : ow x ≠ c) : qf_gp n sh z oc ow lw p x = 0 := by
  cases ho : oc x with
  | false => exact qf_gp0 ho
  | true =>
    rw [qf_gp1 ho, if_neg]
    intro t
    exact h ((qf_pt_iff R hc hpc hx ho).mp t).1
theorem qf_sm_end (R : qf_RZ n (64 * f) sh z oc ow lw lo nm go pu) (hc : c < n) (hpc : qf_sl n z c = p / sh) {d : Nat} (hd : d ≤ n) (h : c < ow d) : qf_sm (qf_gp n sh z oc ow lw p) n = qf_sm (qf_gp n sh z oc ow lw p) d := by
  obtain ⟨k, rfl⟩ : ∃ k, n = d + k := ⟨n - d, by omega⟩
  rw [qf_sm_add, qf_sm_zero k, Nat.add_zero]
  intro x hx
  refine qf_gp_ne R hc hpc (by omega) ?_
  have := qf_mo R.2.1 (show d ≤ d + x by omega) (by omega)
  omega
theorem qf_tm46 (K : qf_S f b n sh sb) (R : qf_RZ n (64 * f) sh z oc ow lw lo nm go pu) (hc : c < n) (hpc : qf_sl n z c = p / sh) (hl : p % sh < sh)
    (H : post (nI (qf_sm (qf_gp n sh z oc ow lw p) n))) :
    ∀ (m d t : Nat) (x7 : Int32), d ≤ n → n - d < m → t = qf_sm (qf_gp n sh z oc ow lw p) d → (x7 = 0 → c < ow d) → (¬ x7 = 0 → ow d = c ∧ oc d = true) →
      wX_timesOf_46 post (nI f) (nI (p % sh)) rc sb he lo nm go pu rd m (nI (qf_sl n z d)) (nI t) x7 := by
  intro m
  induction m with
  | zero => intro d t x7 _ h; omega
  | succ m ih =>
    intro d t x7 hd hm ht h0 h1
    have L := R.2.1
    have n64 := qf_S_n K
    refine br_c (fun a => ?_) (fun a => ?_)
    · rw [ht, ← qf_sm_end R hc hpc hd (h0 a)]
      exact H
    · obtain ⟨wd, od⟩ := h1 a
      have dn := qf_on L hd od
      have g := (qf_rd R (show d + 1 ≤ n by omega)).2.1
      rw [Nat.add_sub_cancel] at g
      have wm := L.2.2.2.1 d dn
      have wl := qf_le L hd
      have nx : ∀ t', t' = qf_sm (qf_gp n sh z oc ow lw p) (d + 1) → wX_timesOf_72 post (wX_timesOf_46 post (nI f) (nI (p % sh)) rc sb he lo nm go pu rd m) (nI f) (nI (p % sh)) (nI (qf_sl n z d)) (nI t') rc sb he lo nm go pu rd := by
        intro t' ht'
        unfold wX_timesOf_72
        refine qf_x_afz K (qf_x_ba ⟨qf_viz K _, fun y ey => ?_⟩)
        rw [qf_clz K, g] at ey
        refine ih (d + 1) t' y (by omega) (by omega) ht' (fun y0 => ?_) (fun y0 => ?_)
        · by_cases k : ow (d + 1) = ow d
          · rw [if_pos ⟨by omega, k⟩] at ey
            rw [ey] at y0
            exact absurd y0 (by decide)
          · omega
        · by_cases k : ow (d + 1) = ow d
          · refine ⟨by omega, qf_pu L (by omega) (by omega)⟩
          · rw [if_neg (fun q => k q.2)] at ey
            exact absurd ey y0
      obtain ⟨e1, e2⟩ := (qf_rd R hd).2.2.2 od
      refine qf_x_ba ⟨qf_viz K _, br_c (fun q => ?_) (fun q => ?_)⟩
      · rw [qf_clz K, e1] at q
        have q' := (nI_eq (by omega) (by omega)).mp q
        intro y ey
        rw [nI_1] at ey
        rw [ey]
        refine nx (t + 1) ?_
        rw [qf_sm_s, ← ht, qf_gp1 od, if_pos ((qf_pt_iff R hc hpc dn od).mpr ⟨wd, q'⟩)]
      · rw [qf_clz K, e1] at q
        refine nx t ?_
        rw [qf_sm_s, ← ht, qf_gp1 od, if_neg]
        · rfl
        · intro w
          exact q (congrArg nI ((qf_pt_iff R hc hpc dn od).mp w).2)
theorem qf_x_tm {C : Nat → Nat} (K : qf_S f b n sh sb) (R : qf_Rep n (64 * f) sh C lo nm go pu) (hp : p < 256) (H : post (nI (C p))) : wpX_timesOf post (rc, sb, he, lo, nm, go, pu, rd) (nI f) (nI p) := by
  obtain ⟨z, oc, ow, lw, R, S⟩ := R
  rw [S p hp] at H
  have n64 := qf_S_n K
  have L := R.2.1
  have hl : p % sh < sh := Nat.mod_lt _ (by omega)
  have hq : p / sh < n := by
    rw [Nat.div_lt_iff_lt_mul (by omega)]
    omega
  obtain ⟨c, hc, ec⟩ := qf_sl_sur R.1 hq
  unfold wpX_timesOf
  refine qf_x_so K hp (qf_x_lo K hp (qf_x_ba ?_))
  rw [← ec]
  have N := (qf_rd R (show c ≤ n by omega)).1
  refine ⟨qf_viz K c, br_c (fun a => ?_) (fun a => ?_)⟩
  · rw [qf_clz K] at a
    have nn : ¬ qf_Nm n oc ow c := fun t => N.mpr t a
    have e : qf_sm (qf_gp n sh z oc ow lw p) n = 0 := by
      refine qf_sm_zero n fun x hx => ?_
      cases ho : oc x with
      | false => exact qf_gp0 ho
      | true => exact qf_gp_ne R hc ec hx fun t => nn ⟨x, hx, ho, t⟩
    rw [e] at H
    exact H
  · rw [qf_clz K] at a
    have nc := N.mp a
    refine qf_x_rs K L hc (qf_nmo L nc) (fun d hd => ?_) (fun d hd => (qf_rd R hd).2.1) (fun d hd => (qf_rd R hd).2.2.1) ?_
    · rw [(qf_rd R hd).1]
      exact ⟨Or.inl, fun t => t.elim id (fun t => by rw [t]; exact nc)⟩
    · intro s hs h1 h2
      have ws : ow s = c ∧ oc s = true := by
        obtain ⟨x, hx, hox, ex⟩ := nc
        have xs : s ≤ x := by
          by_cases k : x < s
          · have := h2 x k
            omega
          · omega
        have m1 := qf_mo L xs (by omega)
        have l1 := qf_le L hs
        refine ⟨by omega, ?_⟩
        by_cases k : s = x
        · rw [k]; exact hox
        · exact qf_in L (show s < x by omega) (by omega) (by omega)
      refine ⟨n + 1, qf_tm46 K R hc ec hl H (n + 1) s 0 1 hs (by omega) ?_ (fun t => absurd t (by decide)) (fun _ => ws)⟩
      refine (qf_sm_zero s fun x hx => ?_).symm
      refine qf_gp_ne R hc ec (by omega) ?_
      have := h2 x hx
      omega
end
end
section
/-- what a push from place d to the free place e leaves -/
def qf_Pd (n B z d e : Nat) (bits fol aw : Int32) (lo go pu lo' go' pu' : Nat → Int32) : Prop :=
  (lo' (B + qf_sl n z d) = bits ∧ go' (B + qf_sl n z d) = fol ∧ pu' (B + qf_sl n z d) = aw) ∧
  (∀ x, d ≤ x → x < e → lo' (B + qf_sl n z (x + 1)) = lo (B + qf_sl n z x) ∧ go' (B + qf_sl n z (x + 1)) = go (B + qf_sl n z x) ∧ pu' (B + qf_sl n z (x + 1)) = 1) ∧
  (∀ i, (∀ x, d ≤ x → x ≤ e → i ≠ B + qf_sl n z x) → lo' i = lo i ∧ go' i = go i ∧ pu' i = pu i)
section
variable {rc : Int32} {sb he nm rd : Nat → Int32} {f b n sh z e : Nat} {post : SX → Prop}
theorem qf_J_ne {x y : Nat} (hn : x < y + n) (hn2 : y < x + n) (h : x ≠ y) : 64 * f + qf_sl n z x ≠ 64 * f + qf_sl n z y := by
  intro t
  exact h (qf_sl_inj (z := z) hn hn2 (by omega))
theorem qf_Pd_s {B d : Nat} {bits fol aw : Int32} {lo go pu lo' go' pu' : Nat → Int32} (hB : B = 64 * f) (hd : d < e) (hen : e < n)
    (h : qf_Pd n B z (d + 1) e (lo (B + qf_sl n z d)) (go (B + qf_sl n z d)) 1 (upd lo (B + qf_sl n z d) bits) (upd go (B + qf_sl n z d) fol) (upd pu (B + qf_sl n z d) aw) lo' go' pu') : qf_Pd n B z d e bits fol aw lo go pu lo' go' pu' := by
  subst hB
  obtain ⟨⟨a1, a2, a3⟩, h2, h3⟩ := h
  refine ⟨?_, ?_, ?_⟩
  · obtain ⟨b1, b2, b3⟩ := h3 (64 * f + qf_sl n z d) (fun x k1 k2 => qf_J_ne (by omega) (by omega) (by omega))
    rw [b1, b2, b3, pk_us, pk_us, pk_us]
    exact ⟨rfl, rfl, rfl⟩
  · intro x k1 k2
    by_cases k : x = d
    · subst k
      exact ⟨a1, a2, a3⟩
    · obtain ⟨b1, b2, b3⟩ := h2 x (by omega) k2
      have ne : 64 * f + qf_sl n z x ≠ 64 * f + qf_sl n z d := qf_J_ne (by omega) (by omega) k
      rw [pk_un ne] at b1 b2
      exact ⟨b1, b2, b3⟩
  · intro i hi
    obtain ⟨b1, b2, b3⟩ := h3 i (fun x k1 k2 => hi x (by omega) k2)
    have ne := hi d (Nat.le_refl d) (by omega)
    rw [pk_un ne] at b1 b2 b3
    exact ⟨b1, b2, b3⟩
theorem qf_pu24 (K : qf_S f b n sh sb) (hen : e < n) : ∀ (k m : Nat) (lo go pu : Nat → Int32) (d : Nat) (bits fol aw : Int32), d + k = e → k + 1 < m →
    (∀ x, d ≤ x → x < e → ¬ nm (64 * f + qf_sl n z x) = 0 ∨ ¬ go (64 * f + qf_sl n z x) = 0 ∨ ¬ pu (64 * f + qf_sl n z x) = 0) →
    (nm (64 * f + qf_sl n z e) = 0 ∧ go (64 * f + qf_sl n z e) = 0 ∧ pu (64 * f + qf_sl n z e) = 0) →
    qf_by bits → qf_bo fol → qf_bo aw → (∀ x, d ≤ x → x < e → qf_by (lo (64 * f + qf_sl n z x)) ∧ qf_bo (go (64 * f + qf_sl n z x))) →
    (∀ lo' go' pu', qf_Pd n (64 * f) z d e bits fol aw lo go pu lo' go' pu' → post (rc, sb, he, lo', nm, go', pu', rd)) →
    wX_push_24 post (nI f) (nI (64 * f)) rc m (nI (qf_sl n z d)) bits fol aw 1 sb he lo nm go pu rd := by
  intro k
  induction k with
  | zero =>
    intro m lo go pu d bits fol aw hd hm h1 h2 h3 h4 h5 h6 H
    obtain ⟨m, rfl⟩ : ∃ m', m = m' + 1 + 1 := ⟨m - 2, by omega⟩
    rw [Nat.add_zero] at hd
    subst hd
    refine br_f (by decide) ?_
    refine qf_x_ho K.1 (qf_S_s K d) (fun _ _ _ => ?_) (fun t => ?_)
    · refine ⟨qf_viz K d, fun x12 e12 => ⟨qf_viz K d, fun x13 e13 => ⟨qf_viz K d, fun a1 e1 => ⟨qf_viz K d, fun a2 e2 => ⟨qf_viz K d, fun a3 e3 => ?_⟩⟩⟩⟩⟩
      rw [qf_clz K] at e1 e2 e3
      rw [h3] at e1
      rw [h4] at e2
      rw [h5] at e3
      refine qf_x_afz K (br_t rfl (H a1 a2 a3 ?_))
      rw [e1, e2, e3]
      refine ⟨⟨pk_us, pk_us, pk_us⟩, fun x k1 k2 => absurd k2 (by omega), fun i hi => ?_⟩
      have ne := hi d (Nat.le_refl d) (Nat.le_refl d)
      exact ⟨pk_un ne, pk_un ne, pk_un ne⟩
    · exfalso
      rcases t with t | t | t
      · exact t h2.1
      · exact t h2.2.1
      · exact t h2.2.2
  | succ k ih =>
    intro m lo go pu d bits fol aw hd hm h1 h2 h3 h4 h5 h6 H
    obtain ⟨m, rfl⟩ : ∃ m', m = m' + 1 := ⟨m - 1, by omega⟩
    refine br_f (by decide) ?_
    refine qf_x_ho K.1 (qf_S_s K d) (fun t1 t2 t3 => ?_) (fun _ => ?_)
    · exfalso
      rcases h1 d (Nat.le_refl d) (by omega) with t | t | t
      · exact t t1
      · exact t t2
      · exact t t3
    · refine ⟨qf_viz K d, fun x12 e12 => ⟨qf_viz K d, fun x13 e13 => ⟨qf_viz K d, fun a1 e1 => ⟨qf_viz K d, fun a2 e2 => ⟨qf_viz K d, fun a3 e3 => ?_⟩⟩⟩⟩⟩
      rw [qf_clz K] at e1 e2 e3 e12 e13
      rw [h3] at e1
      rw [h4] at e2
      rw [h5] at e3
      subst e1 e2 e3 e12 e13
      have ne : ∀ x, d < x → x ≤ e → 64 * f + qf_sl n z x ≠ 64 * f + qf_sl n z d := fun x k1 k2 => qf_J_ne (by omega) (by omega) (by omega)
      obtain ⟨q1, q2⟩ := h6 d (Nat.le_refl d) (by omega)
      refine qf_x_afz K (ih m _ _ _ (d + 1) _ _ _ (by omega) (by omega) ?_ ?_ q1 q2 qf_bo_1 ?_ ?_)
      · intro x k1 k2
        rw [pk_un (ne x (by omega) (by omega)), pk_un (ne x (by omega) (by omega))]
        exact h1 x (by omega) k2
      · rw [pk_un (ne e (by omega) (by omega)), pk_un (ne e (by omega) (by omega))]
        exact h2
      · intro x k1 k2
        rw [pk_un (ne x (by omega) (by omega)), pk_un (ne x (by omega) (by omega))]
        exact h6 x (by omega) k2
      · intro lo' go' pu' hP
        exact H lo' go' pu' (qf_Pd_s rfl (by omega) hen hP)
theorem qf_x_pu (K : qf_S f b n sh sb) (hen : e < n) {lo go pu : Nat → Int32} {d : Nat} {bits fol aw : Int32} (hd : d ≤ e)
    (h1 : ∀ x, d ≤ x → x < e → ¬ nm (64 * f + qf_sl n z x) = 0 ∨ ¬ go (64 * f + qf_sl n z x) = 0 ∨ ¬ pu (64 * f + qf_sl n z x) = 0)
    (h2 : nm (64 * f + qf_sl n z e) = 0 ∧ go (64 * f + qf_sl n z e) = 0 ∧ pu (64 * f + qf_sl n z e) = 0)
    (h3 : qf_by bits) (h4 : qf_bo fol) (h5 : qf_bo aw) (h6 : ∀ x, d ≤ x → x < e → qf_by (lo (64 * f + qf_sl n z x)) ∧ qf_bo (go (64 * f + qf_sl n z x)))
    (H : ∀ lo' go' pu', qf_Pd n (64 * f) z d e bits fol aw lo go pu lo' go' pu' → post (rc, sb, he, lo', nm, go', pu', rd)) :
    wpX_push post (rc, sb, he, lo, nm, go, pu, rd) (nI f) (nI (qf_sl n z d)) bits fol aw := by
  unfold wpX_push
  exact qf_x_ba ⟨e + 2, qf_pu24 K hen (e - d) (e + 2) lo go pu d bits fol aw (by omega) (by omega) h1 h2 h3 h4 h5 h6 H⟩
end
end
section
/-- nothing outside the filter's 64 places changed -/
def qf_Fr (f : Nat) (lo nm go pu lo' nm' go' pu' : Nat → Int32) : Prop :=
  ∀ i, (i < 64 * f ∨ 64 * f + 64 ≤ i) → lo' i = lo i ∧ nm' i = nm i ∧ go' i = go i ∧ pu' i = pu i
/-- a print q more -/
def qf_Ot (n B sh z : Nat) (oc : Nat → Bool) (ow lw : Nat → Nat) (q : Nat) (lo' nm' go' pu' : Nat → Int32) : Prop :=
  ∃ (oc' : Nat → Bool) (ow' lw' : Nat → Nat), qf_RZ n B sh z oc' ow' lw' lo' nm' go' pu' ∧ ∀ p, qf_sm (qf_gp n sh z oc' ow' lw' p) n = qf_sm (qf_gp n sh z oc ow lw p) n + if q = p then 1 else 0
/-- c is a place, e the first free one from there on -/
def qf_At (n B sh z c e : Nat) (oc : Nat → Bool) (ow lw : Nat → Nat) (lo nm go pu : Nat → Int32) : Prop :=
  qf_RZ n B sh z oc ow lw lo nm go pu ∧ 0 < c ∧ c ≤ e ∧ e < n ∧ (∀ x, c ≤ x → x < e → oc x = true) ∧ oc e = false
section
variable {rc : Int32} {sb he lo nm go pu rd nm1 go1 : Nat → Int32} {f b n sh z c e y s l : Nat} {post : SX → Prop} {oc : Nat → Bool} {ow lw : Nat → Nat} {fol aw x6 : Int32}
theorem qf_nm1 (hn : c < n) (h0 : 0 < c) {nm nm1 : Nat → Int32} (F5 : nm1 = upd nm (64 * f + qf_sl n z c) 1) {d : Nat} (hd : d ≤ n) : ¬ nm1 (64 * f + qf_sl n z d) = 0 ↔ (¬ nm (64 * f + qf_sl n z d) = 0 ∨ d = c) := by
  rw [F5]
  by_cases k : d = c
  · subst k
    rw [pk_us]
    exact ⟨fun _ => Or.inr rfl, fun _ => by decide⟩
  · rw [pk_un (qf_J_ne (by omega) (by omega) k)]
    exact ⟨Or.inl, fun t => t.elim id (fun t => absurd t k)⟩
theorem qf_in_pu (K : qf_S f b n sh sb) (A : qf_At n (64 * f) sh z c e oc ow lw lo nm go pu) (hl : l < sh) (hcy : c ≤ y) (hye : y ≤ e) (hoc : oc c = true) (hlo : ∀ x, x < y → ow x ≤ c) (hhi : c ≤ ow y)
    (F1 : fol = if ow (y - 1) = c then 1 else 0) (F2 : y < e → go1 (64 * f + qf_sl n z y) = if ow y = c then 1 else 0) (F3 : ∀ i, i ≠ 64 * f + qf_sl n z y → go1 i = go i) (F4 : go1 (64 * f + qf_sl n z e) = 0)
    (F5 : nm1 = upd nm (64 * f + qf_sl n z c) 1) (F6 : aw = if c < y then 1 else 0)
    (H : ∀ lo' nm' go' pu', qf_Ot n (64 * f) sh z oc ow lw (qf_sl n z c * sh + l) lo' nm' go' pu' → qf_Fr f lo nm go pu lo' nm' go' pu' → post (rc, sb, he, lo', nm', go', pu', rd)) :
    wpX_push post (rc, sb, he, lo, nm1, go1, pu, rd) (nI f) (nI (qf_sl n z y)) (nI l) fol aw := by
  obtain ⟨R, h0, hce, hen, ho, hfe⟩ := A
  have n64 := qf_S_n K
  have L := R.2.1
  have ce : c ≠ e := by
    intro t
    rw [t, hfe] at hoc
    exact absurd hoc (by decide)
  have N1 : ∀ d, d ≤ n → (¬ nm1 (64 * f + qf_sl n z d) = 0 ↔ (¬ nm (64 * f + qf_sl n z d) = 0 ∨ d = c)) := fun d hd => qf_nm1 (by omega) h0 F5 hd
  have fe := qf_h0 R (show e ≤ n by omega) hfe
  have bo : ∀ P : Prop, [Decidable P] → qf_bo (if P then 1 else 0) := by
    intro P _
    by_cases k : P
    · rw [if_pos k]; exact qf_bo_1
    · rw [if_neg k]; exact qf_bo_0
  refine qf_x_pu K hen hye ?_ ?_ (qf_by_n (by omega)) (by rw [F1]; exact bo _) (by rw [F6]; exact bo _) ?_ ?_
  · intro x k1 k2
    rcases qf_h1 R (show x ≤ n by omega) (ho x (by omega) k2) with t | t
    · exact Or.inl ((N1 x (by omega)).mpr (Or.inl t))
    · exact Or.inr (Or.inr t)
  · refine ⟨?_, F4, fe.2.2⟩
    rw [F5, pk_un (qf_J_ne (by omega) (by omega) (fun t => ce t.symm))]
    exact fe.1
  · intro x k1 k2
    obtain ⟨t1, t2⟩ := (qf_rd R (show x ≤ n by omega)).2.2.2 (ho x (by omega) k2)
    refine ⟨?_, ?_⟩
    · rw [t1]
      exact qf_by_n (by omega)
    · by_cases k : x = y
      · rw [k, F2 (by omega)]
        exact bo _
      · rw [F3 _ (qf_J_ne (by omega) (by omega) k), (qf_rd R (show x ≤ n by omega)).2.1]
        exact bo _
  · intro lo' go' pu' hP
    obtain ⟨⟨p1, p2, p3⟩, p4, p5⟩ := hP
    have out : ∀ x, x < n → (x < y ∨ e < x) → lo' (64 * f + qf_sl n z x) = lo (64 * f + qf_sl n z x) ∧ go' (64 * f + qf_sl n z x) = go (64 * f + qf_sl n z x) ∧ pu' (64 * f + qf_sl n z x) = pu (64 * f + qf_sl n z x) := by
      intro x hx hxy
      obtain ⟨q1, q2, q3⟩ := p5 (64 * f + qf_sl n z x) (fun w k1 k2 => qf_J_ne (by omega) (by omega) (by omega))
      rw [F3 _ (qf_J_ne (by omega) (by omega) (by omega))] at q2
      exact ⟨q1, q2, q3⟩
    refine H lo' nm1 go' pu' ?_ ?_
    · refine qf_ins R h0 hcy hye hen ho hfe hlo hhi hl (fun d hd => N1 d (by omega)) (by rw [p2]; exact F1) (fun k => ?_) (fun x k1 k2 => ?_) (fun x k1 k2 => (out x k1 k2).2.1) ?_ (fun x k1 k2 => ?_) (fun x k1 k2 => (out x k1 k2).2.2) p1 (fun x k1 k2 => (p4 x k1 k2).1) (fun x k1 k2 => (out x k1 k2).1)
      · rw [(p4 y (Nat.le_refl y) k).2.1]
        exact F2 k
      · rw [(p4 x (by omega) k2).2.1]
        exact F3 _ (qf_J_ne (by omega) (by omega) (by omega))
      · rw [p3, F6]
        by_cases k : c < y
        · rw [if_pos k]
          exact ⟨fun _ => k, fun _ => by decide⟩
        · rw [if_neg k]
          exact ⟨fun t => absurd rfl t, fun t => absurd t k⟩
      · rw [(p4 x k1 k2).2.2]
        decide
    · intro i hi
      have hs : ∀ x, i ≠ 64 * f + qf_sl n z x := by
        intro x t
        have := qf_S_s (z := z) K x
        omega
      obtain ⟨q1, q2, q3⟩ := p5 i (fun w _ _ => hs w)
      rw [F3 i (hs y)] at q2
      refine ⟨q1, ?_, q2, q3⟩
      rw [F5, pk_un (hs c)]
theorem qf_in191 (K : qf_S f b n sh sb) (A : qf_At n (64 * f) sh z c e oc ow lw lo nm go pu) (hl : l < sh) (hcy : c ≤ y) (hye : y ≤ e) (hoc : oc c = true) (hlo : ∀ x, x < y → ow x ≤ c) (hhi : c ≤ ow y)
    (F1 : fol = if ow (y - 1) = c then 1 else 0) (F2 : y < e → go1 (64 * f + qf_sl n z y) = if ow y = c then 1 else 0) (F3 : ∀ i, i ≠ 64 * f + qf_sl n z y → go1 i = go i) (F4 : go1 (64 * f + qf_sl n z e) = 0)
    (F5 : nm1 = upd nm (64 * f + qf_sl n z c) 1)
    (H : ∀ lo' nm' go' pu', qf_Ot n (64 * f) sh z oc ow lw (qf_sl n z c * sh + l) lo' nm' go' pu' → qf_Fr f lo nm go pu lo' nm' go' pu' → post (rc, sb, he, lo', nm', go', pu', rd)) :
    wX_insert_191 post (nI (qf_sl n z c)) (nI (qf_sl n z y)) fol (nI l) (nI (qf_sl n z y)) (nI f) rc sb he lo nm1 go1 pu rd := by
  have hen := A.2.2.2.1
  by_cases k : y = c
  · subst k
    refine br_t rfl ?_
    unfold wX_insert_203
    exact qf_in_pu K A hl hcy hye hoc hlo hhi F1 F2 F3 F4 F5 (by rw [if_neg (by omega)]) H
  · refine br_f (fun t => ?_) ?_
    · have i := (nI_eq (Nat.lt_trans (qf_S_s K y) (by decide)) (Nat.lt_trans (qf_S_s K c) (by decide))).mp t
      exact k (qf_sl_inj (n := n) (z := z) (by omega) (by omega) i)
    · unfold wX_insert_203
      exact qf_in_pu K A hl hcy hye hoc hlo hhi F1 F2 F3 F4 F5 (by rw [if_pos (by omega)]) H
/-- behind the search for the place y in the run that begins at s -/
theorem qf_in146 (K : qf_S f b n sh sb) (A : qf_At n (64 * f) sh z c e oc ow lw lo nm go pu) (hl : l < sh) (hoc : oc c = true) (hs1 : c ≤ ow s) (hs2 : ∀ x, x < s → ow x < c) (hsy : s ≤ y) (hye : y ≤ e) (hrun : ∀ x, s ≤ x → x < y → ow x = c) (h6 : ¬ x6 = 0 ↔ qf_Nm n oc ow c) (h6s : x6 = 0 → y = s)
    (F5 : nm1 = upd nm (64 * f + qf_sl n z c) 1)
    (H : ∀ lo' nm' go' pu', qf_Ot n (64 * f) sh z oc ow lw (qf_sl n z c * sh + l) lo' nm' go' pu' → qf_Fr f lo nm go pu lo' nm' go' pu' → post (rc, sb, he, lo', nm', go', pu', rd)) :
    wX_insert_146 post (nI f) (nI (64 * f)) (nI (qf_sl n z c)) (nI l) x6 (nI (qf_sl n z s)) (nI (qf_sl n z y)) rc sb he lo nm1 go pu rd := by
  have R := A.1
  have L := R.2.1
  have h0 := A.2.1
  have hen := A.2.2.2.1
  have ho := A.2.2.2.2.1
  have hfe := A.2.2.2.2.2
  have fe := qf_h0 R (show e ≤ n by omega) hfe
  have ls := qf_le L (show s ≤ n by omega)
  have hlo : ∀ x, x < y → ow x ≤ c := by
    intro x hx
    by_cases k : x < s
    · have := hs2 x k
      omega
    · have := hrun x (by omega) hx
      omega
  have hhi : c ≤ ow y := Nat.le_trans hs1 (qf_mo L hsy (by omega))
  by_cases k6 : x6 = 0
  · have ys := h6s k6
    subst ys
    refine br_t k6 (br_t k6 ?_)
    unfold wX_insert_190
    have lt := hs2 (y - 1) (by omega)
    refine qf_in191 K A hl (by omega) hye hoc hlo hhi (by rw [if_neg (by omega)]) (fun k => ?_) (fun i _ => rfl) fe.2.1 F5 H
    have oy := ho y (by omega) k
    have ny : ow y ≠ c := fun t => h6.mpr ⟨y, by omega, oy, t⟩ k6
    rw [(qf_rd R (show y ≤ n by omega)).2.1, if_neg ny, if_neg]
    intro t
    omega
  · have nc := h6.mp k6
    have ws : ow s = c ∧ oc s = true := by
      obtain ⟨x, hx, hox, ex⟩ := nc
      have xs : s ≤ x := by
        by_cases k : x < s
        · have := hs2 x k
          omega
        · omega
      have m1 := qf_mo L xs (by omega)
      refine ⟨by omega, ?_⟩
      by_cases k : s = x
      · rw [k]; exact hox
      · exact qf_in L (show s < x by omega) (by omega) (by omega)
    by_cases k : y = s
    · subst k
      have lt := hs2 (y - 1) (by omega)
      refine br_f k6 (br_t rfl ⟨qf_viz K y, fun g1 e1 => br_f k6 (br_t rfl ?_)⟩)
      rw [qf_clz K] at e1
      unfold wX_insert_190
      have ye : y ≠ e := by
        intro t
        rw [t, hfe] at ws
        exact absurd ws.2 (by decide)
      refine qf_in191 K A hl (by omega) hye hoc hlo hhi (by rw [if_neg (by omega)]) (fun _ => ?_) (fun i hi => ?_) ?_ F5 H
      · rw [e1, pk_us, if_pos ws.1]
        rfl
      · rw [e1, pk_un hi]
      · rw [e1, pk_un (qf_J_ne (by omega) (by omega) (fun t => ye t.symm))]
        exact fe.2.1
    · have ne : ¬ nI (qf_sl n z y) = nI (qf_sl n z s) := by
        intro t
        have i := (nI_eq (Nat.lt_trans (qf_S_s K y) (by decide)) (Nat.lt_trans (qf_S_s K s) (by decide))).mp t
        exact k (qf_sl_inj (n := n) (z := z) (by omega) (by omega) i)
      have wy := hrun (y - 1) (by omega) (by omega)
      refine br_f k6 (br_f ne (br_f k6 (br_f ne ?_)))
      refine qf_in191 K A hl (by omega) hye hoc hlo hhi (by rw [if_pos wy]) (fun _ => ?_) (fun i _ => rfl) fe.2.1 F5 H
      rw [(qf_rd R (show y ≤ n by omega)).2.1, wy]
      by_cases k2 : ow y = c
      · rw [if_pos k2, if_pos ⟨by omega, k2⟩]
      · rw [if_neg k2, if_neg (fun t => k2 t.2)]
theorem qf_in104 (K : qf_S f b n sh sb) (A : qf_At n (64 * f) sh z c e oc ow lw lo nm go pu) (hl : l < sh) (hoc : oc c = true) (hs1 : c ≤ ow s) (hs2 : ∀ x, x < s → ow x < c) (h6 : ¬ x6 = 0 ↔ qf_Nm n oc ow c)
    (F5 : nm1 = upd nm (64 * f + qf_sl n z c) 1)
    (H : ∀ lo' nm' go' pu', qf_Ot n (64 * f) sh z oc ow lw (qf_sl n z c * sh + l) lo' nm' go' pu' → qf_Fr f lo nm go pu lo' nm' go' pu' → post (rc, sb, he, lo', nm', go', pu', rd)) :
    ∀ (m y : Nat) (x9 : Int32), s ≤ y → y ≤ e → e - y < m → (∀ x, s ≤ x → x < y → ow x = c) → (x6 = 0 → y = s ∧ x9 = 0) → (¬ x9 = 0 → ow y = c ∧ oc y = true) →
      wX_insert_104 post (nI f) (nI (64 * f)) (nI (qf_sl n z c)) (nI l) x6 (nI (qf_sl n z s)) rc sb he lo nm1 go pu rd m (nI (qf_sl n z y)) x9 := by
  have R := A.1
  have L := R.2.1
  have n64 := qf_S_n K
  have hen := A.2.2.2.1
  have hfe := A.2.2.2.2.2
  intro m
  induction m with
  | zero => intro y x9 _ _ h; omega
  | succ m ih =>
    intro y x9 hsy hye hm hrun h6s h9
    have fin := qf_in146 K A hl hoc hs1 hs2 hsy hye hrun h6 (fun t => (h6s t).1) F5 H
    refine br_c (fun a => fin) (fun a => ?_)
    obtain ⟨wy, oy⟩ := h9 a
    have ye : y ≠ e := by
      intro t
      rw [t, hfe] at oy
      exact absurd oy (by decide)
    refine ⟨qf_viz K y, br_c (fun _ => fin) (fun _ => ?_)⟩
    have g := (qf_rd R (show y + 1 ≤ n by omega)).2.1
    rw [Nat.add_sub_cancel] at g
    refine qf_x_afz K ⟨qf_viz K _, fun x e9 => ?_⟩
    rw [qf_clz K, g] at e9
    have wl := qf_le L (show y ≤ n by omega)
    refine ih (y + 1) x (by omega) (by omega) (by omega) (fun w k1 k2 => ?_) (fun t => absurd (h6s t).2 a) (fun t => ?_)
    · by_cases k : w = y
      · rw [k]; exact wy
      · exact hrun w k1 (by omega)
    · by_cases k : ow (y + 1) = ow y
      · exact ⟨by omega, qf_pu L (by omega) (by omega)⟩
      · rw [if_neg (fun q => k q.2)] at e9
        exact absurd e9 t
/-- insert, at the root that fits -/
theorem qf_inz (K : qf_S f b n sh sb) {h p : Nat} (A : qf_At n (64 * f) sh z c e oc ow lw lo nm go pu) (hp : p < 256) (hpc : qf_sl n z c = p / sh) (hh : he f = nI h) (h99 : h < 100)
    (H : ∀ lo' nm' go' pu', qf_Ot n (64 * f) sh z oc ow lw p lo' nm' go' pu' → qf_Fr f lo nm go pu lo' nm' go' pu' → post (rc, sb, upd he f (nI (h + 1)), lo', nm', go', pu', rd)) :
    wpX_insert post (rc, sb, he, lo, nm, go, pu, rd) (nI f) (nI p) := by
  have n64 := qf_S_n K
  have hf := K.1
  have hl : p % sh < sh := Nat.mod_lt _ (by omega)
  have R := A.1
  have L := R.2.1
  have h0 := A.2.1
  have hce := A.2.2.1
  have hen := A.2.2.2.1
  have ho := A.2.2.2.2.1
  have hfe := A.2.2.2.2.2
  have ep : qf_sl n z c * sh + p % sh = p := by
    rw [hpc]
    exact Nat.div_add_mod' p sh
  rw [← ep] at H
  unfold wpX_insert
  refine qf_x_ba (qf_x_so K hp (qf_x_lo K hp ?_))
  have vf : vp_in (nI f) 2 := vp_in_nI hf (by decide)
  refine ⟨vf, vf, fun he1 eh => ?_⟩
  rw [nI_clamp (by omega), hh, nI_1, qf_by_n (by omega)] at eh
  rw [← eh] at H
  rw [← hpc]
  have K1 := K
  refine qf_x_frz K R (show c ≤ n by omega) (fun oc1 => ?_) (fun oc0 => ?_)
  · refine br_t rfl ⟨qf_viz K c, fun x6 e6 => ⟨qf_viz K c, fun nm1 e1 => ?_⟩⟩
    rw [qf_clz K] at e6 e1
    have F5 : nm1 = upd nm (64 * f + qf_sl n z c) 1 := e1
    have N := (qf_rd R (show c ≤ n by omega)).1
    have h6 : ¬ x6 = 0 ↔ qf_Nm n oc ow c := by rw [e6]; exact N
    refine qf_x_rs K L (show c < n by omega) oc1 (fun d hd => ?_) (fun d hd => (qf_rd R hd).2.1) (fun d hd => (qf_rd R hd).2.2.1) ?_
    · rw [qf_nm1 (by omega) h0 F5 hd, (qf_rd R hd).1]
    · intro s hs h1 h2
      have we := qf_fr L (show e ≤ n by omega) hfe
      have se : s ≤ e := by
        by_cases k : e < s
        · have := h2 e k
          omega
        · omega
      refine ⟨n + 1, qf_in104 K A hl oc1 h1 h2 h6 F5 H (n + 1) s x6 (Nat.le_refl s) se (by omega) (fun x k1 k2 => absurd k2 (by omega)) (fun t => ⟨rfl, t⟩) (fun t => ?_)⟩
      obtain ⟨x, hx, hox, ex⟩ := h6.mp t
      have xs : s ≤ x := by
        by_cases k : x < s
        · have := h2 x k
          omega
        · omega
      have m1 := qf_mo L xs (by omega)
      have l1 := qf_le L hs
      refine ⟨by omega, ?_⟩
      by_cases k : s = x
      · rw [k]; exact hox
      · exact qf_in L (show s < x by omega) (by omega) (by omega)
  · have ec : c = e := by
      by_cases k : c < e
      · rw [ho c (Nat.le_refl c) k] at oc0
        exact absurd oc0 (by decide)
      · omega
    refine br_f (by decide) ⟨qf_viz K c, fun nm1 e1 => ⟨qf_viz K c, fun lo1 e2 => ?_⟩⟩
    rw [qf_clz K] at e1 e2
    rw [qf_by_n (by omega)] at e2
    have F5 : nm1 = upd nm (64 * f + qf_sl n z c) 1 := e1
    have fc := qf_h0 R (show c ≤ n by omega) oc0
    have wc := qf_fr L (show c ≤ n by omega) oc0
    have ne : ∀ x, x < n → (x < c ∨ e < x) → 64 * f + qf_sl n z x ≠ 64 * f + qf_sl n z c := fun x k1 k2 => qf_J_ne (by omega) (by omega) (by omega)
    refine H lo1 nm1 go pu ?_ ?_
    · refine qf_ins R h0 (Nat.le_refl c) hce hen ho hfe (fun x hx => ?_) (by omega) hl (fun d hd => qf_nm1 (by omega) h0 F5 (by omega)) ?_ (fun k => absurd k (by omega)) (fun x k1 k2 => absurd k2 (by omega)) (fun x k1 k2 => rfl) ?_ (fun x k1 k2 => absurd k2 (by omega)) (fun x k1 k2 => rfl) ?_ (fun x k1 k2 => absurd k2 (by omega)) (fun x k1 k2 => ?_)
      · have := qf_le L (show x ≤ n by omega)
        omega
      · have := qf_le L (show c - 1 ≤ n by omega)
        rw [fc.2.1, if_neg (by omega)]
      · rw [fc.2.2]
        exact ⟨fun t => absurd rfl t, fun t => absurd t (by omega)⟩
      · rw [e2, pk_us]
      · rw [e2, pk_un (ne x k1 k2)]
    · intro i hi
      have hs : i ≠ 64 * f + qf_sl n z c := by
        intro t
        have := qf_S_s (z := z) K c
        omega
      exact ⟨by rw [e2, pk_un hs], by rw [F5, pk_un hs], rfl, rfl⟩
theorem qf_tt {C : Nat → Nat} {lo nm go pu : Nat → Int32} (K : qf_S f b n sh sb) (R : qf_RZ n (64 * f) sh z oc ow lw lo nm go pu) (S : ∀ p, p < 256 → C p = qf_sm (qf_gp n sh z oc ow lw p) n) : qf_sm C 256 = qf_sm (fun d => if oc d = true then 1 else 0) n := by
  rw [← qf_tot R (qf_S_n K).2.2.1]
  exact qf_sm_congr 256 fun x hx => S x hx
/-- one print more -/
def qf_inc (C : Nat → Nat) (p : Nat) : Nat → Nat := fun q => C q + if p = q then 1 else 0
theorem qf_x_in (K : qf_S f b n sh sb) {C : Nat → Nat} {h p : Nat} (R : qf_Rep n (64 * f) sh C lo nm go pu) (hT : qf_sm C 256 + 2 ≤ n) (hp : p < 256) (hh : he f = nI h) (h99 : h < 100)
    (H : ∀ lo' nm' go' pu', qf_Rep n (64 * f) sh (qf_inc C p) lo' nm' go' pu' → qf_Fr f lo nm go pu lo' nm' go' pu' → post (rc, sb, upd he f (nI (h + 1)), lo', nm', go', pu', rd)) :
    wpX_insert post (rc, sb, he, lo, nm, go, pu, rd) (nI f) (nI p) := by
  obtain ⟨z, oc, ow, lw, R, S⟩ := R
  have n64 := qf_S_n K
  have hq : p / sh < n := by
    rw [Nat.div_lt_iff_lt_mul (by omega)]
    omega
  rw [qf_tt K R S] at hT
  obtain ⟨z', oc', ow', lw', c, e, R', S', hc, a1, a2, a3, a4, a5⟩ := qf_good R (qf_two R hT) hq
  refine qf_inz K ⟨R', a1, a2, a3, a4, a5⟩ hp hc hh h99 ?_
  intro lo' nm' go' pu' hO hF
  obtain ⟨oc2, ow2, lw2, R2, S2⟩ := hO
  refine H lo' nm' go' pu' ⟨z', oc2, ow2, lw2, R2, fun q hq => ?_⟩ hF
  rw [S2 q, S' q, ← S q hq]
  rfl
end
end
section
/-- how often print p stands among the first k that were read -/
def qf_cr (rd : Nat → Int32) (k p : Nat) : Nat := qf_sm (fun i => if rd i = nI p then 1 else 0) k
/-- k prints were read: with A they are F -/
def qf_RdC (rd : Nat → Int32) (k : Nat) (A F : Nat → Nat) : Prop := (∀ i, i < k → ∃ q, q < 256 ∧ rd i = nI q) ∧ ∀ p, p < 256 → qf_cr rd k p + A p = F p
theorem qf_cr_s (rd : Nat → Int32) (k p : Nat) : qf_cr rd (k + 1) p = qf_cr rd k p + if rd k = nI p then 1 else 0 := rfl
theorem qf_cr_0 (rd : Nat → Int32) (p : Nat) : qf_cr rd 0 p = 0 := rfl
theorem qf_nq {rd : Nat → Int32} {k q p : Nat} (e : rd k = nI q) (hq : q < 256) (hp : p < 256) : (if rd k = nI p then 1 else 0) = if q = p then 1 else 0 := by
  rw [e]
  by_cases h : q = p
  · rw [if_pos h, if_pos (by rw [h])]
  · rw [if_neg h, if_neg (fun t => h ((nI_eq (by omega) (by omega)).mp t))]
theorem qf_RdC_0 (rd : Nat → Int32) (A : Nat → Nat) : qf_RdC rd 0 A A := ⟨fun i hi => absurd hi (by omega), fun p _ => by rw [qf_cr_0]; omega⟩
theorem qf_RdC_s {rd : Nat → Int32} {k q : Nat} {A F F' : Nat → Nat} (h : qf_RdC rd k A F) (hq : q < 256) (hF : ∀ p, p < 256 → F' p = F p + if q = p then 1 else 0) : qf_RdC (upd rd k (nI q)) (k + 1) A F' := by
  refine ⟨fun i hi => ?_, fun p hp => ?_⟩
  · by_cases e : i = k
    · rw [e, pk_us]
      exact ⟨q, hq, rfl⟩
    · rw [pk_un e]
      exact h.1 i (by omega)
  · have a : qf_cr (upd rd k (nI q)) k p = qf_cr rd k p := qf_sm_congr k fun x hx => by
      show (if upd rd k (nI q) x = nI p then 1 else 0) = (if rd x = nI p then 1 else 0)
      rw [pk_un (by omega)]
    rw [qf_cr_s, a, qf_nq (q := q) pk_us hq hp, hF p hp, ← h.2 p hp]
    omega
/-- all prints that were read are k -/
theorem qf_RdC_t {rd : Nat → Int32} : ∀ k, (∀ i, i < k → ∃ q, q < 256 ∧ rd i = nI q) → qf_sm (fun p => qf_cr rd k p) 256 = k := by
  intro k
  induction k with
  | zero => intro _; exact qf_sm_zero 256 fun p _ => rfl
  | succ k ih =>
    intro h
    obtain ⟨q, hq, e⟩ := h k (by omega)
    have a : qf_sm (fun p => qf_cr rd (k + 1) p) 256 = qf_sm (fun p => qf_cr rd k p + if q = p then 1 else 0) 256 := qf_sm_congr 256 fun p hp => by
      show qf_cr rd (k + 1) p = qf_cr rd k p + if q = p then 1 else 0
      rw [qf_cr_s, qf_nq e hq hp]
    rw [a, qf_sm_plus (fun p => qf_cr rd k p) (fun p => if q = p then 1 else 0), ih (fun i hi => h i (by omega)), qf_sm_one, if_pos hq]
section
variable {rc : Int32} {sb he lo nm go pu rd : Nat → Int32} {f b n sh z a e k d : Nat} {post : Int32 → SX → Prop} {oc : Nat → Bool} {ow lw A : Nat → Nat}
theorem qf_rt95 {J : Int32 → Int32 → Int32 → (Nat → Int32) → (Nat → Int32) → (Nat → Int32) → (Nat → Int32) → (Nat → Int32) → (Nat → Int32) → (Nat → Int32) → Prop} (K : qf_S f b n sh sb) (R : qf_RZ n (64 * f) sh z oc ow lw lo nm go pu) (hk : k < 64) (hd : d < n) (ho : oc d = true)
    (H : J (nI (qf_sl n z (d + 1))) (nI (qf_sl n z (ow d))) (nI (k + 1)) sb he lo nm go pu (upd rd k (nI (qf_pt n sh z ow lw d)))) :
    wX_readStretch_95 post J (nI f) (nI (64 * f)) (nI (qf_sl n z d)) (nI (qf_sl n z (ow d))) (nI k) sb he lo nm go pu rd := by
  obtain ⟨e1, e2⟩ := (R.2.2 d hd).2.2.2 ho
  have n64 := qf_S_n K
  have so := qf_sl_lt (n := n) (z := z) (d := ow d) (by omega)
  refine And.intro (vp_in_nI K.1 (by decide)) ⟨qf_viz K d, vp_in_nI hk (by decide), fun r1 er => ?_⟩
  intro c1 ec
  rw [nI_1] at ec
  have v : (((nI (qf_sl n z (ow d))) <<< ((8 - nI b) &&& 31)) ||| nI (lw d)).toInt16.toInt32 = nI (qf_pt n sh z ow lw d) := by
    obtain ⟨h3, h6, hn, hs⟩ := K.2.1
    rw [hn] at so
    rw [hs] at e2
    unfold qf_pt
    rw [hs, hn]
    rw [hn] at n64
    rw [hs] at n64
    exact qf_tb_pr b (by omega) _ (by omega) _ (by omega) ⟨h3, so, e2⟩
  rw [qf_clz K, nI_clamp (show f < 2 ^ 31 by have := K.1; omega), nI_clamp (show k < 2 ^ 31 by omega), K.2.2, e1, pk_vs, v] at er
  subst er ec
  exact qf_x_afz K H
theorem qf_rt70 {J : Int32 → Int32 → Int32 → (Nat → Int32) → (Nat → Int32) → (Nat → Int32) → (Nat → Int32) → (Nat → Int32) → (Nat → Int32) → (Nat → Int32) → Prop} (K : qf_S f b n sh sb) (R : qf_RZ n (64 * f) sh z oc ow lw lo nm go pu) (hd : d < n) (ho : oc d = true)
    (H : wX_readStretch_95 post J (nI f) (nI (64 * f)) (nI (qf_sl n z d)) (nI (qf_sl n z (ow d))) rc sb he lo nm go pu rd) :
    ∀ m o, o ≤ ow d → ow d - o < m → (∀ x, o ≤ x → x < ow d → ¬ qf_Nm n oc ow x) → wX_readStretch_70 post J (nI f) (nI (64 * f)) (nI (qf_sl n z d)) rc sb he lo nm go pu rd m (nI (qf_sl n z o)) := by
  intro m
  induction m with
  | zero => intro o _ h; omega
  | succ m ih =>
    intro o h1 h2 h3
    have wd := qf_le R.2.1 (show d ≤ n by omega)
    have N := (qf_rd R (show o ≤ n by omega)).1
    refine And.intro (qf_viz K o) (br_c (fun q => ?_) (fun q => ?_))
    · rw [qf_clz K] at q
      have ne : o ≠ ow d := fun t => N.mpr (by rw [t]; exact ⟨d, hd, ho, rfl⟩) q
      exact qf_x_afz K (ih (o + 1) (by omega) (by omega) (fun x k1 k2 => h3 x (by omega) k2))
    · rw [qf_clz K] at q
      have e : o = ow d := by
        by_cases t : o < ow d
        · exact absurd (N.mp q) (h3 o (Nat.le_refl o) t)
        · omega
      rw [e]
      exact H
theorem qf_rt18 (K : qf_S f b n sh sb) (R : qf_RZ n (64 * f) sh z oc ow lw lo nm go pu) (hen : e ≤ n) (hfe : oc e = false) :
    ∀ (m d k o : Nat) (rd : Nat → Int32), d ≤ e → e - d < m → k < d → (∀ x, d ≤ x → x < e → oc x = true) → (ow d = d ∨ (0 < d ∧ o = ow (d - 1))) → qf_RdC rd k A (fun p => qf_sm (qf_gp n sh z oc ow lw p) d) →
      (∀ k' rd', qf_RdC rd' k' A (fun p => qf_sm (qf_gp n sh z oc ow lw p) e) → k' + d = k + e → post (nI (qf_sl n z e)) (nI k', sb, he, lo, nm, go, pu, rd')) →
      wX_readStretch_18 post (nI f) (nI (64 * f)) m (nI (qf_sl n z d)) (nI (qf_sl n z o)) (nI k) sb he lo nm go pu rd := by
  have n64 := qf_S_n K
  have L := R.2.1
  intro m
  induction m with
  | zero => intro d k o rd _ h; omega
  | succ m ih =>
    intro d k o rd hde hm hkd hoc hor hR H
    rw [wX_readStretch_18]
    refine qf_x_frz K R (show d ≤ n by omega) (fun od => ?_) (fun od => ?_)
    · have de : d < e := by
        by_cases t : d = e
        · rw [t, hfe] at od
          exact absurd od (by decide)
        · omega
      have wd := qf_le L (show d ≤ n by omega)
      obtain ⟨_, G, P, _⟩ := qf_rd R (show d ≤ n by omega)
      have fin : wX_readStretch_95 post (wX_readStretch_18 post (nI f) (nI (64 * f)) m) (nI f) (nI (64 * f)) (nI (qf_sl n z d)) (nI (qf_sl n z (ow d))) (nI k) sb he lo nm go pu rd := by
        refine qf_rt95 K R (by omega) (by omega) od (ih (d + 1) (k + 1) (ow d) _ (by omega) (by omega) (by omega) (fun x k1 k2 => hoc x (by omega) k2) (Or.inr ⟨by omega, rfl⟩) ?_ ?_)
        · refine qf_RdC_s hR (qf_pt_lt R n64.2.2.1 (by omega) od) fun p hp => ?_
          show qf_sm (qf_gp n sh z oc ow lw p) (d + 1) = qf_sm (qf_gp n sh z oc ow lw p) d + if qf_pt n sh z ow lw d = p then 1 else 0
          rw [qf_sm_s, qf_gp1 od]
        · intro k' rd' h1 h2
          exact H k' rd' h1 (by omega)
      refine br_t rfl ⟨qf_viz K d, br_c (fun q => ?_) (fun q => ?_)⟩
      · rw [qf_clz K] at q
        have w : ow d = d := by
          by_cases t : ow d < d
          · exact absurd q (P.mpr t)
          · omega
        rw [w] at fin
        exact fin
      · rw [qf_clz K] at q
        have w := P.mp q
        have o1 : 0 < d ∧ o = ow (d - 1) := by
          rcases hor with t | t
          · omega
          · exact t
        have mo := qf_mo L (show d - 1 ≤ d by omega) (by omega)
        refine ⟨qf_viz K d, br_c (fun q2 => ?_) (fun q2 => ?_)⟩
        · rw [qf_clz K, G] at q2
          have ne : ow d ≠ ow (d - 1) := by
            intro t
            rw [if_pos ⟨o1.1, t⟩] at q2
            exact absurd q2 (by decide)
          refine qf_x_afz K ⟨n + 1, qf_rt70 K R (by omega) od fin (n + 1) (o + 1) (by omega) (by omega) ?_⟩
          intro x k1 k2 hN
          obtain ⟨y, hy, _, ey⟩ := hN
          by_cases t : y < d
          · have := qf_mo L (show y ≤ d - 1 by omega) (by omega)
            omega
          · have := qf_mo L (show d ≤ y by omega) (by omega)
            omega
        · rw [qf_clz K, G] at q2
          have eq : ow d = ow (d - 1) := by
            by_cases t : 0 < d ∧ ow d = ow (d - 1)
            · exact t.2
            · rw [if_neg t] at q2
              exact absurd rfl q2
          rw [show ow d = o by omega] at fin
          exact fin
    · have de : d = e := by
        by_cases t : d < e
        · rw [hoc d (Nat.le_refl d) t] at od
          exact absurd od (by decide)
        · omega
      subst de
      exact br_f (by decide) (H k rd hR rfl)
theorem qf_x_rt (K : qf_S f b n sh sb) (R : qf_RZ n (64 * f) sh z oc ow lw lo nm go pu) (hae : a ≤ e) (hen : e ≤ n) (hwa : ow a = a) (hoc : ∀ x, a ≤ x → x < e → oc x = true) (hfe : oc e = false) (hk : k < a) (hR : qf_RdC rd k A (fun p => qf_sm (qf_gp n sh z oc ow lw p) a))
    (H : ∀ k' rd', qf_RdC rd' k' A (fun p => qf_sm (qf_gp n sh z oc ow lw p) e) → k' + a = k + e → post (nI (qf_sl n z e)) (nI k', sb, he, lo, nm, go, pu, rd')) :
    wpX_readStretch post (rc, sb, he, lo, nm, go, pu, rd) (nI f) (nI (qf_sl n z a)) (nI k) := by
  unfold wpX_readStretch
  exact qf_x_ba ⟨n + 1, qf_rt18 K R hen hfe (n + 1) a k a rd hae (by omega) hk hoc (Or.inl hwa) hR H⟩
end
section
variable {rc : Int32} {sb he lo nm go pu rd : Nat → Int32} {f b n sh z : Nat} {post : SX → Prop} {oc : Nat → Bool} {ow lw C : Nat → Nat}
/-- the next free place -/
theorem qf_nxt (L : qf_Lay n oc ow) {a : Nat} (ha : a ≤ n) : ∃ e, a ≤ e ∧ e ≤ n ∧ (∀ x, a ≤ x → x < e → oc x = true) ∧ oc e = false := by
  obtain ⟨k, ⟨hk, hf⟩, hl⟩ := pk_least (fun k => a + k ≤ n ∧ oc (a + k) = false) ⟨n - a, by omega, by rw [show a + (n - a) = n by omega]; exact L.2.1⟩
  refine ⟨a + k, by omega, hk, fun x h1 h3 => ?_, hf⟩
  cases h : oc x with
  | true => rfl
  | false => exact absurd ⟨by omega, by rw [show a + (x - a) = x by omega]; exact h⟩ (hl (x - a) (by omega))
theorem qf_ra29 (K : qf_S f b n sh sb) (R : qf_RZ n (64 * f) sh z oc ow lw lo nm go pu)
    (H : ∀ k' rd', qf_RdC rd' k' (fun _ => 0) (fun p => qf_sm (qf_gp n sh z oc ow lw p) n) → post (nI k', sb, he, lo, nm, go, pu, rd')) :
    ∀ (m d k : Nat) (rd : Nat → Int32), 0 < d → d ≤ n → n - d < m → k < d → (oc (d - 1) = false ∨ oc d = false) → qf_RdC rd k (fun _ => 0) (fun p => qf_sm (qf_gp n sh z oc ow lw p) d) →
      wX_readAll_29 post (nI f) (nI z) m (nI (qf_sl n z d)) (nI k) sb he lo nm go pu rd := by
  have n64 := qf_S_n K
  have L := R.2.1
  have ez := qf_sl_z R.1
  intro m
  induction m with
  | zero => intro d k rd _ _ h; omega
  | succ m ih =>
    intro d k rd d0 hd hm hkd hf hR
    by_cases e : d = n
    · subst e
      refine br_t ?_ (H k rd hR)
      rw [qf_sl_n, ez]
    · refine br_f (fun t => ?_) ?_
      · have hz := R.1
        have i := (nI_eq (Nat.lt_trans (qf_S_s K d) (by decide)) (by omega)).mp t
        rw [← ez, qf_sl_2, Nat.zero_add] at i
        have j := qf_sl_inj (n := n) (z := z) (d := d) (e := 0) (by omega) (by omega) (by rw [i, ez])
        omega
      · refine qf_x_frz K R hd (fun od => ?_) (fun od => ?_)
        · have of : oc (d - 1) = false := by
            rcases hf with t | t
            · exact t
            · rw [od] at t
              exact absurd t (by decide)
          have wd := qf_af L (show d - 1 < n by omega) of
          rw [show d - 1 + 1 = d by omega] at wd
          obtain ⟨e', h1, h2, h3, h4⟩ := qf_nxt L hd
          have de : d ≠ e' := by
            intro t
            rw [← t, od] at h4
            exact absurd h4 (by decide)
          refine br_t rfl (qf_x_rt K R h1 h2 wd h3 h4 hkd hR fun k' rd' q1 q2 => ?_)
          exact ih e' k' rd' (by omega) h2 (by omega) (by omega) (Or.inr h4) q1
        · refine br_f (by decide) (qf_x_afz K (ih (d + 1) k rd (by omega) (by omega) (by omega) (by omega) (Or.inl od) ⟨hR.1, fun p hp => ?_⟩))
          show qf_cr rd k p + 0 = qf_sm (qf_gp n sh z oc ow lw p) (d + 1)
          rw [qf_sm_s, qf_gp0 od]
          exact hR.2 p hp
theorem qf_ra7 (K : qf_S f b n sh sb) (R : qf_RZ n (64 * f) sh z oc ow lw lo nm go pu) (hC : ∀ p, p < 256 → C p = qf_sm (qf_gp n sh z oc ow lw p) n)
    (H : ∀ k' rd', qf_RdC rd' k' (fun _ => 0) C → post (nI k', sb, he, lo, nm, go, pu, rd')) :
    ∀ (m i : Nat), i ≤ z → z - i < m → wX_readAll_7 post (nI f) 0 sb he lo nm go pu rd m (nI i) := by
  have n64 := qf_S_n K
  have L := R.2.1
  have hz := R.1
  intro m
  induction m with
  | zero => intro i _ h; omega
  | succ m ih =>
    intro i hi hm
    obtain ⟨g, hg, eg⟩ := qf_sl_sur hz (show i < n by omega)
    have fin : ∀ (oc' : Nat → Bool) (ow' lw' : Nat → Nat), qf_RZ n (64 * f) sh i oc' ow' lw' lo nm go pu → (∀ p, qf_sm (qf_gp n sh i oc' ow' lw' p) n = qf_sm (qf_gp n sh z oc ow lw p) n) → wpX_after (fun r_11 => ∃ n29 : Nat, wX_readAll_29 post (nI f) (nI i) n29 r_11 0 sb he lo nm go pu rd) (0, sb, he, lo, nm, go, pu, rd) (nI f) (nI i) := by
      intro oc' ow' lw' R' S'
      have t := qf_x_afz (z := i) (d := 0) (rc := 0) (he := he) (lo := lo) (nm := nm) (go := go) (pu := pu) (rd := rd) (post := fun r_11 => ∃ n29 : Nat, wX_readAll_29 post (nI f) (nI i) n29 r_11 0 sb he lo nm go pu rd) K
      rw [qf_sl_z R'.1] at t
      refine t ⟨n + 1, qf_ra29 K R' ?_ (n + 1) (0 + 1) 0 rd (by omega) (by omega) (by omega) (by omega) (Or.inl R'.2.1.1) ⟨fun j hj => absurd hj (by omega), fun p _ => ?_⟩⟩
      · intro k' rd' q
        refine H k' rd' ⟨q.1, fun p hp => ?_⟩
        rw [hC p hp, ← S' p]
        exact q.2 p hp
      · show qf_cr rd 0 p + 0 = qf_sm (qf_gp n sh i oc' ow' lw' p) (0 + 1)
        rw [qf_cr_0, qf_sm_s, qf_sm_0, qf_gp0 R'.2.1.1]
    have c := qf_x_frz (rc := 0) (he := he) (rd := rd) (d := g) (post := fun r_1 => (r_1 = 0 → (∀ x2_49 : Int32, x2_49 = nI i + 1 → (wX_readAll_7 post (nI f) 0 sb he lo nm go pu rd m x2_49))) ∧ (¬ r_1 = 0 → (wpX_after (fun r_11 => ∃ n29 : Nat, wX_readAll_29 post (nI f) (nI i) n29 r_11 0 sb he lo nm go pu rd) (0, sb, he, lo, nm, go, pu, rd) (nI f) (nI i)))) K R (show g ≤ n by omega) ?_ ?_
    · rw [eg] at c
      exact c
    · intro og
      refine br_t rfl fun x ex => ?_
      rw [nI_1] at ex
      rw [ex]
      have ne : i ≠ z := by
        intro t
        have g0 : g = 0 := qf_sl_inj (n := n) (z := z) (by omega) (by omega) (by rw [eg, qf_sl_z hz, t])
        rw [g0, L.1] at og
        exact absurd og (by decide)
      exact ih (i + 1) (by omega) (by omega)
    · intro og
      refine br_f (by decide) ?_
      by_cases g0 : g = 0
      · rw [g0, qf_sl_z hz] at eg
        subst eg
        exact fin oc ow lw R (fun p => rfl)
      · obtain ⟨oc', ow', lw', R', S', _⟩ := qf_root R (by omega) hg og
        rw [eg] at R' S'
        exact fin oc' ow' lw' R' S'
/-- readAll reads every print as often as it is there -/
theorem qf_x_ra (K : qf_S f b n sh sb) (R : qf_Rep n (64 * f) sh C lo nm go pu) (H : ∀ k' rd', qf_RdC rd' k' (fun _ => 0) C → post (nI k', sb, he, lo, nm, go, pu, rd')) : wpX_readAll post (rc, sb, he, lo, nm, go, pu, rd) (nI f) := by
  obtain ⟨z, oc, ow, lw, R, S⟩ := R
  exact ⟨z + 1, qf_ra7 K R S H (z + 1) 0 (by omega) (by omega)⟩
end
end
section
section
variable {rc : Int32} {sb he lo nm go pu rd : Nat → Int32} {f b n sh : Nat} {post : SX → Prop}
theorem qf_x_fe (hf : f < 2) {s : Nat} (hs : s < 64) (H : post (rc, sb, he, lo, upd nm (64 * f + s) 0, upd go (64 * f + s) 0, upd pu (64 * f + s) 0, rd)) : wpX_free post (rc, sb, he, lo, nm, go, pu, rd) (nI f) (nI s) := by
  unfold wpX_free
  refine qf_x_ba ?_
  intro x hx
  rw [nI_add] at hx
  subst hx
  have e : (nI (64 * f + s)).toNatClampNeg = 64 * f + s := nI_clamp (by omega)
  have v : vp_in (nI (64 * f + s)) 128 := vp_in_nI (by omega) (by decide)
  refine ⟨v, fun a1 e1 => ⟨v, fun a2 e2 => ⟨v, fun a3 e3 => ?_⟩⟩⟩
  rw [e] at e1 e2 e3
  have e1' : a1 = upd nm (64 * f + s) 0 := e1
  have e2' : a2 = upd go (64 * f + s) 0 := e2
  have e3' : a3 = upd pu (64 * f + s) 0 := e3
  rw [e1', e2', e3']
  exact H
theorem qf_em9 (hf : f < 2) : ∀ (m i : Nat) (nm go pu : Nat → Int32), i ≤ 64 → 64 - i < m →
    (∀ nm' go' pu', (∀ j, i ≤ j → j < 64 → nm' (64 * f + j) = 0 ∧ go' (64 * f + j) = 0 ∧ pu' (64 * f + j) = 0) → (∀ j, (j < 64 * f + i ∨ 64 * f + 64 ≤ j) → nm' j = nm j ∧ go' j = go j ∧ pu' j = pu j) → post (rc, sb, he, lo, nm', go', pu', rd)) →
    wX_empty_9 post (nI f) m (nI i) rc sb he lo nm go pu rd := by
  intro m
  induction m with
  | zero => intro i nm go pu _ h; omega
  | succ m ih =>
    intro i nm go pu hi hm H
    rw [wX_empty_9]
    refine pk_le 64 i (fun h => ?_) (fun h => ?_)
    · exact H nm go pu (fun j h1 h2 => absurd h2 (by omega)) (fun j _ => ⟨rfl, rfl, rfl⟩)
    · refine qf_x_fe hf h ?_
      intro x ex
      rw [nI_1] at ex
      rw [ex]
      refine ih (i + 1) _ _ _ (by omega) (by omega) fun nm' go' pu' h1 h2 => H nm' go' pu' (fun j k1 k2 => ?_) (fun j k1 => ?_)
      · by_cases e : j = i
        · obtain ⟨a1, a2, a3⟩ := h2 (64 * f + j) (Or.inl (by omega))
          rw [a1, a2, a3, e, pk_us, pk_us, pk_us]
          exact ⟨rfl, rfl, rfl⟩
        · exact h1 j (by omega) k2
      · obtain ⟨a1, a2, a3⟩ := h2 j (by omega)
        rw [pk_un (by omega)] at a1 a2 a3
        exact ⟨a1, a2, a3⟩
theorem qf_x_em (hf : f < 2) (H : ∀ nm' go' pu', (∀ j, j < 64 → nm' (64 * f + j) = 0 ∧ go' (64 * f + j) = 0 ∧ pu' (64 * f + j) = 0) → qf_Fr f lo nm go pu lo nm' go' pu' → post (rc, sb, upd he f 0, lo, nm', go', pu', rd)) : wpX_empty post (rc, sb, he, lo, nm, go, pu, rd) (nI f) := by
  unfold wpX_empty
  refine ⟨vp_in_nI hf (by decide), fun he1 e1 => ⟨65, ?_⟩⟩
  rw [nI_clamp (by omega)] at e1
  have e1' : he1 = upd he f 0 := e1
  rw [e1']
  refine qf_em9 hf 65 0 nm go pu (by omega) (by omega) fun nm' go' pu' h1 h2 => H nm' go' pu' (fun j hj => h1 j (by omega) hj) (fun i hi => ?_)
  obtain ⟨a1, a2, a3⟩ := h2 i (by omega)
  exact ⟨rfl, a1, a2, a3⟩
theorem qf_Rep_0 (h8 : 0 < n) (h64 : n ≤ 64) (h : ∀ j, j < 64 → nm (64 * f + j) = 0 ∧ go (64 * f + j) = 0 ∧ pu (64 * f + j) = 0) : qf_Rep n (64 * f) sh (fun _ => 0) lo nm go pu := by
  have L : qf_Lay n (fun _ => false) (fun d => d) := by
    refine ⟨rfl, rfl, fun d _ => Nat.le_refl d, fun d _ => Nat.le_succ d, fun d _ _ => rfl, fun d _ h => ?_⟩
    have h' : d + 1 ≤ d := h
    omega
  refine ⟨0, fun _ => false, fun d => d, fun _ => 0, ⟨h8, L, fun d hd => ?_⟩, fun p _ => ?_⟩
  · have hs := qf_sl_lt (n := n) (z := 0) (d := d) h8
    obtain ⟨a1, a2, a3⟩ := h (qf_sl n 0 d) (by omega)
    rw [a1, a2, a3]
    refine ⟨⟨fun t => absurd rfl t, fun t => absurd t (qf_nmn L rfl)⟩, ?_, ⟨fun t => absurd rfl t, fun t => ?_⟩, fun t => absurd t (show ¬ (false = true) by decide)⟩
    · rw [if_neg]
      intro t
      have t2 : d = d - 1 := t.2
      omega
    · have t' : d < d := t
      omega
  · exact (qf_sm_zero n fun x _ => qf_gp0 rfl).symm
end
theorem qf_Fr_t {f : Nat} {lo nm go pu lo' nm' go' pu' lo2 nm2 go2 pu2 : Nat → Int32} (h : qf_Fr f lo nm go pu lo' nm' go' pu') (h2 : qf_Fr f lo' nm' go' pu' lo2 nm2 go2 pu2) : qf_Fr f lo nm go pu lo2 nm2 go2 pu2 := by
  intro i hi
  obtain ⟨a1, a2, a3, a4⟩ := h i hi
  obtain ⟨b1, b2, b3, b4⟩ := h2 i hi
  exact ⟨b1.trans a1, b2.trans a2, b3.trans a3, b4.trans a4⟩
theorem qf_Fr_r {f : Nat} {lo nm go pu : Nat → Int32} : qf_Fr f lo nm go pu lo nm go pu := fun i _ => ⟨rfl, rfl, rfl, rfl⟩
theorem qf_Rep_cg {n B sh : Nat} {C C' : Nat → Nat} {lo nm go pu : Nat → Int32} (R : qf_Rep n B sh C lo nm go pu) (h : ∀ p, p < 256 → C' p = C p) : qf_Rep n B sh C' lo nm go pu := by
  obtain ⟨z, oc, ow, lw, R, S⟩ := R
  exact ⟨z, oc, ow, lw, R, fun p hp => by rw [h p hp, S p hp]⟩
theorem qf_T_inc {C : Nat → Nat} {p : Nat} (hp : p < 256) : qf_sm (qf_inc C p) 256 = qf_sm C 256 + 1 := by
  have a : qf_sm (qf_inc C p) 256 = qf_sm (fun q => C q + if p = q then 1 else 0) 256 := rfl
  rw [a, qf_sm_plus C (fun q => if p = q then 1 else 0), qf_sm_one, if_pos hp]
/-- a filter's store: it holds the prints C, and counts them -/
def qf_St (f n sh : Nat) (C : Nat → Nat) (he lo nm go pu : Nat → Int32) : Prop := qf_Rep n (64 * f) sh C lo nm go pu ∧ he f = nI (qf_sm C 256)
/-- what the other filter has is left alone -/
def qf_Oth (f : Nat) (he lo nm go pu he' lo' nm' go' pu' : Nat → Int32) : Prop := (∀ g, g ≠ f → he' g = he g) ∧ qf_Fr f lo nm go pu lo' nm' go' pu'
theorem qf_Oth_r {f : Nat} {he lo nm go pu : Nat → Int32} : qf_Oth f he lo nm go pu he lo nm go pu := ⟨fun _ _ => rfl, qf_Fr_r⟩
theorem qf_Oth_t {f : Nat} {he lo nm go pu he' lo' nm' go' pu' he2 lo2 nm2 go2 pu2 : Nat → Int32} (h : qf_Oth f he lo nm go pu he' lo' nm' go' pu') (h2 : qf_Oth f he' lo' nm' go' pu' he2 lo2 nm2 go2 pu2) : qf_Oth f he lo nm go pu he2 lo2 nm2 go2 pu2 :=
  ⟨fun g hg => (h2.1 g hg).trans (h.1 g hg), qf_Fr_t h.2 h2.2⟩
section
variable {rc : Int32} {sb he lo nm go pu rd : Nat → Int32} {f b n sh p : Nat} {post : SX → Prop} {C : Nat → Nat}
/-- insert over a store -/
theorem qf_x_ins (K : qf_S f b n sh sb) (S : qf_St f n sh C he lo nm go pu) (hT : qf_sm C 256 + 2 ≤ n) (hp : p < 256)
    (H : ∀ he' lo' nm' go' pu', qf_St f n sh (qf_inc C p) he' lo' nm' go' pu' → qf_Oth f he lo nm go pu he' lo' nm' go' pu' → post (rc, sb, he', lo', nm', go', pu', rd)) :
    wpX_insert post (rc, sb, he, lo, nm, go, pu, rd) (nI f) (nI p) := by
  have n64 := qf_S_n K
  refine qf_x_in K S.1 hT hp S.2 (by omega) fun lo' nm' go' pu' h1 h2 => H _ lo' nm' go' pu' ⟨h1, ?_⟩ ⟨fun g hg => pk_un hg, h2⟩
  rw [pk_us, qf_T_inc hp]
end
end
section
section
variable {sb rd : Nat → Int32} {f b n sh k p : Nat}
theorem qf_rz20 {post : SX → Prop} (K : qf_S f b n sh sb) (hk : k ≤ 64) (hv : ∀ i, i < k → ∃ q, q < 256 ∧ rd i = nI q) :
    ∀ (m i : Nat) (C : Nat → Nat) (he lo nm go pu : Nat → Int32), i ≤ k → k - i < m → qf_St f n sh C he lo nm go pu → qf_sm C 256 + (k - i) + 1 ≤ n →
      (∀ C' he' lo' nm' go' pu', qf_St f n sh C' he' lo' nm' go' pu' → (∀ p, p < 256 → C' p + qf_cr rd i p = C p + qf_cr rd k p) → qf_Oth f he lo nm go pu he' lo' nm' go' pu' → post (nI k, sb, he', lo', nm', go', pu', rd)) →
      wX_resize_20 post (nI f) m (nI i) (nI k) sb he lo nm go pu rd := by
  intro m
  induction m with
  | zero => intro i C he lo nm go pu _ h; omega
  | succ m ih =>
    intro i C he lo nm go pu hi hm S hT H
    rw [wX_resize_20]
    refine pk_le k i (fun h => ?_) (fun h => ?_)
    · have e : i = k := by omega
      subst e
      exact H C he lo nm go pu S (fun p _ => rfl) qf_Oth_r
    · obtain ⟨q, hq, eq⟩ := hv i h
      refine ⟨vp_in_nI (by omega) (by decide), ?_⟩
      rw [nI_clamp (by omega), eq]
      refine qf_x_ins K S (by omega) hq fun he' lo' nm' go' pu' S' O' => ?_
      intro x ex
      rw [nI_1] at ex
      rw [ex]
      refine ih (i + 1) (qf_inc C q) he' lo' nm' go' pu' (by omega) (by omega) S' (by rw [qf_T_inc hq]; omega) fun C' he2 lo2 nm2 go2 pu2 S2 h2 O2 => H C' he2 lo2 nm2 go2 pu2 S2 (fun p hp => ?_) (qf_Oth_t O' O2)
      have t := h2 p hp
      rw [qf_cr_s, qf_nq eq hq hp] at t
      have u : qf_inc C q p = C p + if q = p then 1 else 0 := rfl
      rw [u] at t
      omega
theorem qf_po81 {post : Int32 → SX → Prop} (K : qf_S f b n sh sb) (hk : k ≤ 64) (hv : ∀ i, i < k → ∃ q, q < 256 ∧ rd i = nI q) :
    ∀ (m i : Nat) (C : Nat → Nat) (he lo nm go pu : Nat → Int32), i ≤ k → k - i < m → qf_St f n sh C he lo nm go pu → qf_sm C 256 + (k - i) + 1 ≤ n →
      (∀ C' he' lo' nm' go' pu', qf_St f n sh C' he' lo' nm' go' pu' → (∀ p, p < 256 → C' p + qf_cr rd i p = C p + qf_cr rd k p) → qf_Oth f he lo nm go pu he' lo' nm' go' pu' → post (nI (qf_sm C' 256)) (nI k, sb, he', lo', nm', go', pu', rd)) →
      wX_pour_81 post (nI f) m (nI i) (nI k) sb he lo nm go pu rd := by
  intro m
  induction m with
  | zero => intro i C he lo nm go pu _ h; omega
  | succ m ih =>
    intro i C he lo nm go pu hi hm S hT H
    rw [wX_pour_81]
    refine pk_le k i (fun h => ?_) (fun h => ?_)
    · have e : i = k := by omega
      subst e
      refine ⟨vp_in_nI K.1 (by decide), ?_⟩
      have hf := K.1
      rw [nI_clamp (by omega), S.2]
      exact H C he lo nm go pu S (fun p _ => rfl) qf_Oth_r
    · obtain ⟨q, hq, eq⟩ := hv i h
      refine ⟨vp_in_nI (by omega) (by decide), ?_⟩
      rw [nI_clamp (by omega), eq]
      refine qf_x_ins K S (by omega) hq fun he' lo' nm' go' pu' S' O' => ?_
      intro x ex
      rw [nI_1] at ex
      rw [ex]
      refine ih (i + 1) (qf_inc C q) he' lo' nm' go' pu' (by omega) (by omega) S' (by rw [qf_T_inc hq]; omega) fun C' he2 lo2 nm2 go2 pu2 S2 h2 O2 => H C' he2 lo2 nm2 go2 pu2 S2 (fun p hp => ?_) (qf_Oth_t O' O2)
      have t := h2 p hp
      rw [qf_cr_s, qf_nq eq hq hp] at t
      have u : qf_inc C q p = C p + if q = p then 1 else 0 := rfl
      rw [u] at t
      omega
/-- all is put in again but one print p; x6: whether it was left out already -/
theorem qf_to101 {post : SX → Prop} (K : qf_S f b n sh sb) (hp : p < 256) (hk : k ≤ 64) (hv : ∀ i, i < k → ∃ q, q < 256 ∧ rd i = nI q) :
    ∀ (m i t : Nat) (C : Nat → Nat) (he lo nm go pu : Nat → Int32), i ≤ k → k - i < m → qf_St f n sh C he lo nm go pu → qf_sm C 256 + (k - i) + 1 ≤ n → (t = 0 ∨ t = 1) → (t = 0 → qf_cr rd i p < qf_cr rd k p) →
      (∀ C' he' lo' nm' go' pu', qf_St f n sh C' he' lo' nm' go' pu' → (∀ q, q < 256 → C' q + qf_cr rd i q + (if t = 0 ∧ p = q then 1 else 0) = C q + qf_cr rd k q) → qf_Oth f he lo nm go pu he' lo' nm' go' pu' → post (nI k, sb, he', lo', nm', go', pu', rd)) →
      wX_takeOut_101 post (nI f) (nI p) m (nI t) (nI i) (nI k) sb he lo nm go pu rd := by
  intro m
  induction m with
  | zero => intro i t C he lo nm go pu _ h; omega
  | succ m ih =>
    intro i t C he lo nm go pu hi hm S hT ht hg H
    rw [wX_takeOut_101]
    refine pk_le k i (fun h => ?_) (fun h => ?_)
    · have e : i = k := by omega
      subst e
      have t1 : t ≠ 0 := fun t0 => absurd (hg t0) (by omega)
      refine H C he lo nm go pu S (fun q _ => ?_) qf_Oth_r
      rw [if_neg (fun w => t1 w.1)]
      omega
    · obtain ⟨q, hq, eq⟩ := hv i h
      have put : (t = 0 → q ≠ p) → wX_takeOut_132 post (wX_takeOut_101 post (nI f) (nI p) m) (nI f) (nI p) (nI t) (nI i) (nI k) sb he lo nm go pu rd := by
        intro hne
        refine And.intro (vp_in_nI (by omega) (by decide)) ?_
        rw [nI_clamp (by omega), eq]
        refine qf_x_ins K S (by omega) hq fun he' lo' nm' go' pu' S' O' => ?_
        intro x ex
        rw [nI_1] at ex
        rw [ex]
        refine ih (i + 1) t (qf_inc C q) he' lo' nm' go' pu' (by omega) (by omega) S' (by rw [qf_T_inc hq]; omega) ht (fun t0 => ?_) fun C' he2 lo2 nm2 go2 pu2 S2 h2 O2 => H C' he2 lo2 nm2 go2 pu2 S2 (fun w hw => ?_) (qf_Oth_t O' O2)
        · rw [qf_cr_s, qf_nq eq hq hp, if_neg (hne t0)]
          exact hg t0
        · have r := h2 w hw
          rw [qf_cr_s, qf_nq eq hq hw] at r
          have u : qf_inc C q w = C w + if q = w then 1 else 0 := rfl
          rw [u] at r
          omega
      have t2 : t < 2 := by omega
      refine pk_eq t 0 (fun t0 => ?_) (fun t0 => put (fun w => absurd w t0))
      refine ⟨vp_in_nI (by omega) (by decide), ?_⟩
      rw [nI_clamp (show i < 2 ^ 31 by omega), eq]
      refine pk_eq q p (fun qp => ?_) (fun qp => put (fun _ => qp))
      intro x ex
      rw [nI_1] at ex
      rw [ex]
      refine ih (i + 1) 1 C he lo nm go pu (by omega) (by omega) S (by omega) (Or.inr rfl) (fun w => absurd w (by decide)) fun C' he2 lo2 nm2 go2 pu2 S2 h2 O2 => H C' he2 lo2 nm2 go2 pu2 S2 (fun w hw => ?_) O2
      have r := h2 w hw
      have u0 : (if (1 : Nat) = 0 ∧ p = w then 1 else 0) = 0 := if_neg (fun q => absurd q.1 (by decide))
      rw [qf_cr_s, qf_nq eq hq hw, qp, u0] at r
      have u : (if t = 0 ∧ p = w then 1 else 0) = if p = w then 1 else 0 := by
        by_cases pw : p = w
        · rw [if_pos pw, if_pos ⟨t0, pw⟩]
        · rw [if_neg pw, if_neg (fun q => pw q.2)]
      rw [u]
      omega
end
end
section
section
variable {rc : Int32} {sb he lo nm go pu rd : Nat → Int32} {f b n sh z p : Nat} {post : SX → Prop} {C : Nat → Nat} {oc : Nat → Bool} {ow lw : Nat → Nat}
theorem qf_to55 (K : qf_S f b n sh sb) {a e h k : Nat} {x2 : Int32} (a0 : 0 < a) (hen : e ≤ n) (hh : he f = nI h) (hk : k ≤ h) (h99 : h < 100) :
    ∀ (m d : Nat) (nm go pu : Nat → Int32), a ≤ d → d ≤ e → e - d < m →
      (∀ nm' go' pu', (∀ x, d ≤ x → x < e → nm' (64 * f + qf_sl n z x) = 0 ∧ go' (64 * f + qf_sl n z x) = 0 ∧ pu' (64 * f + qf_sl n z x) = 0) → (∀ i, (∀ x, d ≤ x → x < e → i ≠ 64 * f + qf_sl n z x) → nm' i = nm i ∧ go' i = go i ∧ pu' i = pu i) → ∃ n101 : Nat, wX_takeOut_101 post (nI f) x2 n101 0 0 (nI k) sb (upd he f (nI (h - k))) lo nm' go' pu' rd) →
      wX_takeOut_55 post (nI f) x2 (nI (qf_sl n z e)) m (nI (qf_sl n z d)) (nI k) sb he lo nm go pu rd := by
  intro m
  induction m with
  | zero => intro d nm go pu _ _ h; omega
  | succ m ih =>
    intro d nm go pu had hde hm H
    rw [wX_takeOut_55]
    by_cases e1 : d = e
    · subst e1
      have hf := K.1
      refine br_t rfl ⟨vp_in_nI hf (by decide), vp_in_nI hf (by decide), fun he1 e1 => ?_⟩
      rw [nI_clamp (by omega), hh, pk_sub hk, qf_by_n (by omega)] at e1
      rw [e1]
      exact H nm go pu (fun x k1 k2 => absurd k2 (by omega)) (fun i _ => ⟨rfl, rfl, rfl⟩)
    · refine br_f (fun t => ?_) ?_
      · have i := (nI_eq (Nat.lt_trans (qf_S_s K d) (by decide)) (Nat.lt_trans (qf_S_s K e) (by decide))).mp t
        exact e1 (qf_sl_inj (n := n) (z := z) (by omega) (by omega) i)
      · refine qf_x_fe K.1 (qf_S_s K d) (qf_x_afz K (ih (d + 1) _ _ _ (by omega) (by omega) (by omega) fun nm' go' pu' h1 h2 => H nm' go' pu' (fun x k1 k2 => ?_) (fun i hi => ?_)))
        · by_cases k : x = d
          · obtain ⟨q1, q2, q3⟩ := h2 (64 * f + qf_sl n z x) (fun w l1 l2 => qf_J_ne (by omega) (by omega) (by omega))
            rw [q1, q2, q3, k, pk_us, pk_us, pk_us]
            exact ⟨rfl, rfl, rfl⟩
          · exact h1 x (by omega) k2
        · obtain ⟨q1, q2, q3⟩ := h2 i (fun x l1 l2 => hi x (by omega) l2)
          have ne := hi d (Nat.le_refl d) (by omega)
          rw [pk_un ne] at q1 q2 q3
          exact ⟨q1, q2, q3⟩
/-- what is left to do once the stretch was read -/
theorem qf_to_r (K : qf_S f b n sh sb) (R : qf_RZ n (64 * f) sh z oc ow lw lo nm go pu) {a e k c : Nat} (hC : ∀ q, q < 256 → C q = qf_sm (qf_gp n sh z oc ow lw q) n) (hh : he f = nI (qf_sm C 256)) (hT : qf_sm C 256 + 1 ≤ n) (hp : p < 256)
    (hc : c < n) (hpc : qf_sl n z c = p / sh) (hCp : 0 < C p)
    (a0 : 0 < a) (hac : a ≤ c) (hce : c < e) (hen : e ≤ n) (hwa : ow a = a) (hfe : oc e = false)
    (hR : qf_RdC rd k (fun q => qf_sm (qf_gp n sh z oc ow lw q) a) (fun q => qf_sm (qf_gp n sh z oc ow lw q) e)) (hk : k + a = e)
    (H : ∀ rc' rd' C' he' lo' nm' go' pu', qf_St f n sh C' he' lo' nm' go' pu' → (∀ q, q < 256 → C' q + (if p = q then 1 else 0) = C q) → qf_Oth f he lo nm go pu he' lo' nm' go' pu' → post (rc', sb, he', lo', nm', go', pu', rd')) :
    ∃ n55 : Nat, wX_takeOut_55 post (nI f) (nI p) (nI (qf_sl n z e)) n55 (nI (qf_sl n z a)) (nI k) sb he lo nm go pu rd := by
  have n64 := qf_S_n K
  have L := R.2.1
  have T1 := qf_RdC_t k hR.1
  have crp : 0 < qf_cr rd k p := by
    rw [hC p hp] at hCp
    obtain ⟨x, hx, g⟩ := qf_sm_ex n hCp
    have wx : ow x = c := by
      by_cases t : ow x = c
      · exact t
      · rw [qf_gp_ne R hc hpc hx t] at g
        omega
    have lx := qf_le L (show x ≤ n by omega)
    have xe : x < e := by
      by_cases t : e ≤ x
      · have m1 := qf_mo L t (by omega)
        have m2 := qf_fr L hen hfe
        omega
      · exact Nat.lt_of_not_le t
    have s1 := qf_sm_mono (qf_gp n sh z oc ow lw p) (show a ≤ x by omega)
    have s2 := qf_sm_mono (qf_gp n sh z oc ow lw p) (show x + 1 ≤ e by omega)
    rw [qf_sm_s] at s2
    have s3 : qf_cr rd k p + qf_sm (qf_gp n sh z oc ow lw p) a = qf_sm (qf_gp n sh z oc ow lw p) e := hR.2 p hp
    omega
  have kT : k ≤ qf_sm C 256 := by
    rw [← T1]
    have : ∀ m, m ≤ 256 → qf_sm (fun q => qf_cr rd k q) m ≤ qf_sm C m := by
      intro m
      induction m with
      | zero => intro _; exact Nat.le_refl _
      | succ m ih =>
        intro hm
        have i := ih (by omega)
        have s3 : qf_cr rd k m + qf_sm (qf_gp n sh z oc ow lw m) a = qf_sm (qf_gp n sh z oc ow lw m) e := hR.2 m (by omega)
        have s4 := qf_sm_mono (qf_gp n sh z oc ow lw m) hen
        rw [← hC m (by omega)] at s4
        rw [qf_sm_s, qf_sm_s]
        show qf_sm (fun q => qf_cr rd k q) m + qf_cr rd k m ≤ _
        omega
    exact this 256 (Nat.le_refl _)
  refine ⟨n + 1, qf_to55 K a0 hen hh kT (by omega) (n + 1) a nm go pu (Nat.le_refl a) (by omega) (by omega) fun nm' go' pu' h1 h2 => ?_⟩
  obtain ⟨oc', ow', R', S'⟩ := qf_cut (lo := lo) (nm' := nm') (go' := go') (pu' := pu') R a0 (by omega) hen hwa hfe (fun d _ k1 k2 => h1 d k1 k2) (fun d hd k1 => h2 _ (fun x l1 l2 => qf_J_ne (by omega) (by omega) (by omega)))
  have C1 : ∀ q, q < 256 → qf_sm (qf_gp n sh z oc' ow' lw q) n + qf_cr rd k q = C q := by
    intro q hq
    have s1 := S' q
    have s3 : qf_cr rd k q + qf_sm (qf_gp n sh z oc ow lw q) a = qf_sm (qf_gp n sh z oc ow lw q) e := hR.2 q hq
    rw [hC q hq]
    omega
  have T2 : qf_sm (fun q => qf_sm (qf_gp n sh z oc' ow' lw q) n) 256 + k = qf_sm C 256 := by
    have s := qf_sm_plus (fun q => qf_sm (qf_gp n sh z oc' ow' lw q) n) (fun q => qf_cr rd k q) 256
    rw [T1] at s
    rw [← s]
    exact qf_sm_congr 256 C1
  refine ⟨k + 1, qf_to101 K hp (by omega) hR.1 (k + 1) 0 0 (fun q => qf_sm (qf_gp n sh z oc' ow' lw q) n) _ lo nm' go' pu' (by omega) (by omega) ⟨⟨z, oc', ow', lw, R', fun q _ => rfl⟩, ?_⟩ (by omega) (Or.inl rfl) (fun _ => crp) ?_⟩
  · rw [pk_us]
    exact congrArg nI (by omega)
  · intro C' he' lo' nm2 go2 pu2 S2 h3 O2
    refine H _ rd C' he' lo' nm2 go2 pu2 S2 (fun q hq => ?_) (qf_Oth_t ⟨fun g hg => pk_un hg, fun i hi => ?_⟩ O2)
    · have r : C' q + qf_cr rd 0 q + (if 0 = 0 ∧ p = q then 1 else 0) = qf_sm (qf_gp n sh z oc' ow' lw q) n + qf_cr rd k q := h3 q hq
      rw [qf_cr_0, C1 q hq] at r
      rw [← r]
      by_cases pq : p = q
      · rw [if_pos pq, if_pos ⟨rfl, pq⟩]
      · rw [if_neg pq, if_neg (fun w => pq w.2)]
    · obtain ⟨q1, q2, q3⟩ := h2 i (fun x _ _ t => by
        have := qf_S_s (z := z) K x
        omega)
      exact ⟨rfl, q1, q2, q3⟩
theorem qf_to10 (K : qf_S f b n sh sb) (R : qf_RZ n (64 * f) sh z oc ow lw lo nm go pu) {c : Nat} {x2 : Int32} (hc : c < n) (hoc : oc c = true)
    (H : ∀ d, d < c → oc d = false → (∀ x, d < x → x ≤ c → oc x = true) → wpX_after (fun r_20 => wpX_readStretch (fun r_29 u => match u with | (f_readCount_30, a_slotBits_31, a_held_32, a_lower_33, a_named_34, a_goesOn_35, a_pushed_36, a_read_37) => (∃ n55 : Nat, wX_takeOut_55 post (nI f) x2 r_29 n55 r_20 f_readCount_30 a_slotBits_31 a_held_32 a_lower_33 a_named_34 a_goesOn_35 a_pushed_36 a_read_37)) (rc, sb, he, lo, nm, go, pu, rd) (nI f) r_20 0) (rc, sb, he, lo, nm, go, pu, rd) (nI f) (nI (qf_sl n z d))) :
    ∀ m d, d ≤ c → d < m → (∀ x, d < x → x ≤ c → oc x = true) → wX_takeOut_10 post (nI f) x2 rc sb he lo nm go pu rd m (nI (qf_sl n z d)) := by
  intro m
  induction m with
  | zero => intro d _ h; omega
  | succ m ih =>
    intro d hd hm hx
    rw [wX_takeOut_10]
    refine qf_x_frz K R (show d ≤ n by omega) (fun od => ?_) (fun od => ?_)
    · have d0 := qf_op R.2.1 od
      obtain ⟨d', rfl⟩ : ∃ d', d = d' + 1 := ⟨d - 1, by omega⟩
      refine br_t rfl (qf_x_bez K (ih d' (by omega) (by omega) fun x h1 h2 => ?_))
      by_cases e : x = d' + 1
      · subst e
        exact od
      · exact hx x (by omega) h2
    · refine br_f (by decide) (H d ?_ od hx)
      by_cases e : d = c
      · rw [e, hoc] at od
        exact absurd od (by decide)
      · omega
/-- takeOut leaves one p less -/
theorem qf_x_to (K : qf_S f b n sh sb) (S : qf_St f n sh C he lo nm go pu) (hT : qf_sm C 256 + 1 ≤ n) (hp : p < 256) (hCp : 0 < C p)
    (H : ∀ rc' rd' C' he' lo' nm' go' pu', qf_St f n sh C' he' lo' nm' go' pu' → (∀ q, q < 256 → C' q + (if p = q then 1 else 0) = C q) → qf_Oth f he lo nm go pu he' lo' nm' go' pu' → post (rc', sb, he', lo', nm', go', pu', rd')) :
    wpX_takeOut post (rc, sb, he, lo, nm, go, pu, rd) (nI f) (nI p) := by
  obtain ⟨⟨z, oc, ow, lw, R, SS⟩, hh⟩ := S
  have n64 := qf_S_n K
  have L := R.2.1
  have hq : p / sh < n := by
    rw [Nat.div_lt_iff_lt_mul (by omega)]
    omega
  obtain ⟨c, hc, ec⟩ := qf_sl_sur R.1 hq
  have nc : qf_Nm n oc ow c := by
    have hCp' := hCp
    rw [SS p hp] at hCp'
    obtain ⟨x, hx, g⟩ := qf_sm_ex n hCp'
    cases ho : oc x with
    | false =>
      rw [qf_gp0 ho] at g
      omega
    | true =>
      refine ⟨x, hx, ho, ?_⟩
      by_cases t : ow x = c
      · exact t
      · rw [qf_gp_ne R hc ec hx t] at g
        omega
  unfold wpX_takeOut
  refine qf_x_so K hp ⟨n + 1, ?_⟩
  rw [← ec]
  refine qf_to10 K R hc (qf_nmo L nc) (fun d hd od hx => ?_) (n + 1) c (Nat.le_refl c) (by omega) (fun x h1 h2 => absurd h2 (by omega))
  have wa := qf_af L (show d < n by omega) od
  obtain ⟨e, h1, h2, h3, h4⟩ := qf_nxt L (show d + 1 ≤ n by omega)
  have ce : c < e := by
    by_cases t : e ≤ c
    · rw [hx e (by omega) t] at h4
      exact absurd h4 (by decide)
    · omega
  refine qf_x_afz K (qf_x_rt (k := 0) K R h1 h2 wa h3 h4 (by omega) (qf_RdC_0 rd _) fun k' rd' q1 q2 => ?_)
  exact qf_to_r K R SS hh hT hp hc ec hCp (by omega) (by omega) ce h2 wa h4 q1 (by omega) H
end
section
variable {rc : Int32} {sb he lo nm go pu rd : Nat → Int32} {f b n sh b' n' sh' : Nat} {post : SX → Prop} {C : Nat → Nat}
/-- as many were read as there are -/
theorem qf_ra_k {rd : Nat → Int32} {k : Nat} {C : Nat → Nat} (h : qf_RdC rd k (fun _ => 0) C) : qf_sm C 256 = k := by
  have t := qf_RdC_t k h.1
  have e : qf_sm (fun p => qf_cr rd k p) 256 = qf_sm C 256 := qf_sm_congr 256 fun p hp => by
    have s : qf_cr rd k p + 0 = C p := h.2 p hp
    rw [← s]
    rfl
  rw [← e, t]
theorem qf_x_rz (K : qf_S f b n sh sb) (S : qf_St f n sh C he lo nm go pu) (hT : qf_sm C 256 + 1 ≤ n) (hb : qf_B b' n' sh') (hT' : qf_sm C 256 + 1 ≤ n')
    (H : ∀ rc' rd' he' lo' nm' go' pu', qf_St f n' sh' C he' lo' nm' go' pu' → qf_Oth f he lo nm go pu he' lo' nm' go' pu' → post (rc', upd sb f (nI b'), he', lo', nm', go', pu', rd')) :
    wpX_resize post (rc, sb, he, lo, nm, go, pu, rd) (nI f) (nI b') := by
  have n64 := qf_S_n K
  have n64' := qf_B_n hb
  have hf := K.1
  unfold wpX_resize
  refine qf_x_ra K S.1 fun k rd' hR => ?_
  have kT := qf_ra_k hR
  refine qf_x_em hf fun nm1 go1 pu1 z1 f1 => ?_
  refine ⟨vp_in_nI hf (by decide), fun sb1 e1 => ⟨k + 1, ?_⟩⟩
  rw [nI_clamp (by omega), qf_by_n (by have := hb.2.1; omega)] at e1
  rw [e1]
  have K' : qf_S f b' n' sh' (upd sb f (nI b')) := ⟨hf, hb, pk_us⟩
  have Z : qf_sm (fun _ => 0) 256 = 0 := qf_sm_zero 256 fun _ _ => rfl
  have S0 : qf_St f n' sh' (fun _ => 0) (upd he f 0) lo nm1 go1 pu1 := by
    refine ⟨qf_Rep_0 (by omega) n64'.2.1 z1, ?_⟩
    rw [pk_us, Z]
    rfl
  refine qf_rz20 K' (by omega) hR.1 (k + 1) 0 (fun _ => 0) (upd he f 0) lo nm1 go1 pu1 (by omega) (by omega) S0 (by rw [Z]; omega) fun C' he' lo' nm' go' pu' S' h' O' => ?_
  have cc : ∀ p, p < 256 → C p = C' p := by
    intro p hp
    have t1 : C' p + qf_cr rd' 0 p = 0 + qf_cr rd' k p := h' p hp
    have t2 : qf_cr rd' k p + 0 = C p := hR.2 p hp
    rw [qf_cr_0] at t1
    omega
  refine H _ rd' he' lo' nm' go' pu' ⟨qf_Rep_cg S'.1 cc, ?_⟩ (qf_Oth_t ⟨fun g hg => pk_un hg, f1⟩ O')
  rw [S'.2]
  exact congrArg nI (qf_sm_congr 256 fun p hp => (cc p hp).symm)
end
end
section
theorem qf_f01 {f : Nat} (hf : f < 2) : f = 0 ∨ f = 1 := by omega
theorem qf_256 (f i : Nat) : (256 : Int32) * nI f + nI i = nI (256 * f + i) := by
  rw [show (256 : Int32) = nI 256 from rfl, pk_mul, nI_add]
theorem qf_1m {f : Nat} (hf : f < 2) : (1 : Int32) - nI f = nI (1 - f) := by
  rw [show (1 : Int32) = nI 1 from rfl, pk_sub (by omega)]
theorem qf_p6 {x : Nat} (h : x ≤ 6) : 2 ^ x ≤ 64 := Nat.pow_le_pow_right (by decide) h
theorem qf_fc (v : Int32) : (∃ f, f < 2 ∧ v = nI f) ∨ (¬ v = 0 ∧ ¬ v = 1) := by
  by_cases h0 : v = 0
  · exact Or.inl ⟨0, by decide, h0⟩
  · by_cases h1 : v = 1
    · exact Or.inl ⟨1, by decide, h1⟩
    · exact Or.inr ⟨h0, h1⟩
/-- the print of x -/
theorem qf_po (x : Int32) : ∃ p, p < 256 ∧ ((x * (-1640531535)).toUInt32 >>> ((24 : Int32).toUInt32 &&& Int32.toUInt32 31)).toInt32 = nI p := by
  have h := pk_ushr (x * (-1640531535)) 24 24 (by decide)
  have b := (x * (-1640531535)).toBitVec.isLt
  refine ⟨(x * (-1640531535)).toBitVec.toNat / 2 ^ 24, by omega, ?_⟩
  · apply Int32.toBitVec_inj.mp
    apply BitVec.eq_of_toNat_eq
    rw [h, pk_tn (by omega)]
section
variable {of sz : Nat → Int32} {f : Nat} {C D : Nat → Nat}
theorem qf_y_if1 {post : Int32 → Prop} (hf : f < 2) (h : post 1) : wpY_isFilter post (of, sz) (nI f) := by
  rcases qf_f01 hf with e | e
  · subst e
    exact br_t rfl h
  · subst e
    exact br_f (by decide) (br_t rfl h)
theorem qf_y_if0 {post : Int32 → Prop} {v : Int32} (hv : ¬ v = 0 ∧ ¬ v = 1) (h : post 0) : wpY_isFilter post (of, sz) v := br_f hv.1 (br_f hv.2 h)
theorem qf_yc14 {post : Int32 → Prop} (hf : f < 2) (ho : ∀ p, p < 256 → of (256 * f + p) = nI (C p)) (H : post (nI (qf_sm C 256))) :
    ∀ m i, i ≤ 256 → 256 - i < m → wY_count_14 post (nI f) of sz m (nI (qf_sm C i)) (nI i) := by
  intro m
  induction m with
  | zero => intro i _ h; omega
  | succ m ih =>
    intro i hi hm
    rw [wY_count_14]
    refine pk_le 256 i (fun h => ?_) (fun h => ?_)
    · have e : i = 256 := by omega
      rw [e]
      exact H
    · rw [qf_256]
      refine ⟨vp_in_nI (by omega) (by decide), fun x ex => fun y ey => ?_⟩
      rw [nI_clamp (by omega), ho i h, nI_add] at ex
      rw [nI_1] at ey
      rw [ex, ey]
      exact ih (i + 1) (by omega) (by omega)
theorem qf_y_ct {post : Int32 → Prop} (hf : f < 2) (ho : ∀ p, p < 256 → of (256 * f + p) = nI (C p)) (H : post (nI (qf_sm C 256))) : wpY_count post (of, sz) (nI f) := by
  unfold wpY_count
  exact qf_y_if1 hf (br_f (by decide) ⟨257, qf_yc14 hf ho H 257 0 (by omega) (by omega)⟩)
theorem qf_yl18 {post : Int32 → SY → Prop} {x2 : Int32} (hf : f < 2) : ∀ (m i : Nat) (of : Nat → Int32), i ≤ 256 → 256 - i < m →
    (∀ of', (∀ p, i ≤ p → p < 256 → of' (256 * f + p) = 0) → (∀ j, (j < 256 * f + i ∨ 256 * f + 256 ≤ j) → of' j = of j) → post x2 (of', sz)) →
    wY_clear_18 post (nI f) x2 m (nI i) of sz := by
  intro m
  induction m with
  | zero => intro i of _ h; omega
  | succ m ih =>
    intro i of hi hm H
    rw [wY_clear_18]
    refine pk_le 256 i (fun h => ?_) (fun h => ?_)
    · exact H of (fun p h1 h2 => absurd h2 (by omega)) (fun j _ => rfl)
    · rw [qf_256]
      refine ⟨vp_in_nI (by omega) (by decide), fun o1 e1 => fun y ey => ?_⟩
      rw [nI_clamp (by omega)] at e1
      rw [nI_1] at ey
      rw [e1, ey]
      refine ih (i + 1) _ (by omega) (by omega) fun of' h1 h2 => H of' (fun p k1 k2 => ?_) (fun j hj => ?_)
      · by_cases e : p = i
        · rw [h2 _ (Or.inl (by omega)), e, pk_us]
        · exact h1 p (by omega) k2
      · rw [h2 j (by omega), pk_un (by omega)]
theorem qf_yp72 {post : Int32 → SY → Prop} {x2 : Int32} (hf : f < 2) : ∀ (m i : Nat) (of : Nat → Int32), i ≤ 256 → 256 - i < m →
    (∀ p, i ≤ p → p < 256 → of (256 * f + p) = nI (C p)) → (∀ p, p < 256 → of (256 * (1 - f) + p) = nI (D p)) →
    (∀ of', (∀ p, i ≤ p → p < 256 → of' (256 * f + p) = nI (C p + D p)) → (∀ j, (j < 256 * f + i ∨ 256 * f + 256 ≤ j) → of' j = of j) → post x2 (of', sz)) →
    wY_pour_72 post (nI f) x2 m (nI i) of sz := by
  intro m
  induction m with
  | zero => intro i of _ h; omega
  | succ m ih =>
    intro i of hi hm hC hD H
    rw [wY_pour_72]
    refine pk_le 256 i (fun h => ?_) (fun h => ?_)
    · exact H of (fun p h1 h2 => absurd h2 (by omega)) (fun j _ => rfl)
    · rw [qf_1m hf, qf_256, qf_256]
      refine ⟨vp_in_nI (by omega) (by decide), vp_in_nI (by omega) (by decide), vp_in_nI (by omega) (by decide), fun o1 e1 => fun y ey => ?_⟩
      rw [nI_clamp (by omega), nI_clamp (by omega), hC i (Nat.le_refl i) h, hD i h, nI_add] at e1
      rw [nI_1] at ey
      rw [e1, ey]
      refine ih (i + 1) _ (by omega) (by omega) (fun p k1 k2 => ?_) (fun p hp => ?_) fun of' h1 h2 => H of' (fun p k1 k2 => ?_) (fun j hj => ?_)
      · rw [pk_un (by omega)]
        exact hC p (by omega) k2
      · rw [pk_un (by omega)]
        exact hD p hp
      · by_cases e : p = i
        · rw [h2 _ (Or.inl (by omega)), e, pk_us]
        · exact h1 p (by omega) k2
      · rw [h2 j (by omega), pk_un (by omega)]
/-- doubling until t fits: from b to w bits -/
theorem qf_yp33 {post : Int32 → SY → Prop} {t b w : Nat} (hf : f < 2) (ht : t < 64) (hb : 3 ≤ b) (hw : w ≤ 6) (hfit : t + 1 ≤ 2 ^ w) (hno : ∀ x, b ≤ x → x < w → 2 ^ x < t + 1)
    (H : ∀ sz', sz' f = nI (2 ^ w) → (∀ g, g ≠ f → sz' g = sz g) → ∃ n72 : Nat, wY_pour_72 post (nI f) (nI t) n72 0 of sz') :
    ∀ (m i x : Nat) (sz1 : Nat → Int32), i ≤ 3 → 3 - i < m → b ≤ x → x ≤ w → (x = w ∨ x = b + i) → sz1 f = nI (2 ^ x) → (∀ g, g ≠ f → sz1 g = sz g) →
      wY_pour_33 post (nI f) (nI t) m (nI i) of sz1 := by
  intro m
  induction m with
  | zero => intro i x sz1 _ h; omega
  | succ m ih =>
    intro i x sz1 hi hm hbx hxw hx hs ho
    have p6 := qf_p6 (show x ≤ 6 by omega)
    rw [wY_pour_33]
    refine pk_le 3 i (fun h => ?_) (fun h => ?_)
    · have e : x = w := by omega
      rw [e] at hs
      exact H sz1 hs ho
    · refine ⟨vp_in_nI hf (by decide), ?_⟩
      rw [nI_clamp (show f < 2 ^ 31 by omega), hs]
      refine pk_le (t + 1) (2 ^ x) (fun h1 => ?_) (fun h1 => ?_) (nI_1 t) rfl
      · intro y ey
        rw [nI_1] at ey
        rw [ey]
        have e : x = w := by
          by_cases k : x < w
          · have := hno x hbx k
            omega
          · omega
        exact ih (i + 1) x sz1 (by omega) (by omega) hbx hxw (Or.inl e) hs ho
      · refine ⟨vp_in_nI hf (by decide), vp_in_nI hf (by decide), fun sz2 e2 => fun y ey => ?_⟩
        rw [show (2 : Int32) = nI 2 from rfl, pk_mul, show 2 * 2 ^ x = 2 ^ (x + 1) by rw [Nat.pow_succ, Nat.mul_comm]] at e2
        rw [nI_1] at ey
        rw [e2, ey]
        have ne : x ≠ w := by
          intro k
          rw [k] at h1
          omega
        refine ih (i + 1) (x + 1) _ (by omega) (by omega) (by omega) (by omega) (by omega) pk_us (fun g hg => ?_)
        rw [pk_un hg]
        exact ho g hg
theorem qf_ypn {post : Int32 → Prop} {x2 : Int32} (hf : f < 2) (h2 : x2 < 0) (H : post (-3)) : ∀ (m i : Nat) (x3 : Int32), i ≤ 256 → 256 - i < m → wY_print_15 post (nI f) x2 of sz m x3 (nI i) := by
  intro m
  induction m with
  | zero => intro i x3 _ h; omega
  | succ m ih =>
    intro i x3 hi hm
    rw [wY_print_15]
    refine pk_le 256 i (fun h => H) (fun h => ?_)
    rw [qf_256]
    refine ⟨vp_in_nI (by omega) (by decide), fun x _ => br_t h2 fun y ey => ?_⟩
    rw [nI_1] at ey
    rw [ey]
    exact ih (i + 1) x (by omega) (by omega)
theorem qf_ypp {post : Int32 → Prop} {k : Nat} (hf : f < 2) (ho : ∀ p, p < 256 → of (256 * f + p) = nI (C p)) (hT : qf_sm C 256 < 1000) (hk : k < 2 ^ 31)
    (H1 : ∀ i, i < 256 → qf_sm C i ≤ k → k < qf_sm C (i + 1) → post (nI i)) (H2 : qf_sm C 256 ≤ k → post (-3)) :
    ∀ m i, i ≤ 256 → 256 - i < m → qf_sm C i ≤ k → wY_print_15 post (nI f) (nI k) of sz m (nI (qf_sm C i)) (nI i) := by
  intro m
  induction m with
  | zero => intro i _ h; omega
  | succ m ih =>
    intro i hi hm hs
    rw [wY_print_15]
    refine pk_le 256 i (fun h => ?_) (fun h => ?_)
    · have e : i = 256 := by omega
      rw [e] at hs
      exact H2 hs
    · rw [qf_256]
      refine ⟨vp_in_nI (by omega) (by decide), fun x ex => br_f (nI_pos hk) ?_⟩
      rw [nI_clamp (by omega), ho i h, nI_add] at ex
      rw [ex]
      have mo := qf_sm_mono C (show i + 1 ≤ 256 by omega)
      have es := qf_sm_s C i
      refine pk_le (qf_sm C i + C i) k (fun h1 => ?_) (fun h1 => ?_)
      · intro y ey
        rw [nI_1] at ey
        rw [ey]
        exact ih (i + 1) (by omega) (by omega) (by omega)
      · exact H1 i h hs (by omega)
end
end
section
section
variable {sb he lo nm go pu rd : Nat → Int32} {post : Int32 → SX → Prop} {C : Nat → Nat} {k : Nat}
theorem qf_cl_s {rd : Nat → Int32} {j q v : Nat} (e : rd j = nI q) (hq : q < 256) (hv : v ≤ 256) : qf_sm (fun p => qf_cr rd (j + 1) p) v = qf_sm (fun p => qf_cr rd j p) v + if q < v then 1 else 0 := by
  rw [← qf_sm_one q v, ← qf_sm_plus]
  refine qf_sm_congr v fun p hp => ?_
  show qf_cr rd (j + 1) p = qf_cr rd j p + if q = p then 1 else 0
  rw [qf_cr_s, qf_nq e hq (by omega)]
theorem qf_pr51 {J : Int32 → Prop} {i v t : Nat} (hk : k ≤ 64) (hv : ∀ i, i < k → ∃ q, q < 256 ∧ rd i = nI q) (hC : ∀ q, q < 256 → qf_cr rd k q = C q) (hT : qf_sm C 256 = k) (hi : i < k) (ei : rd i = nI v) (hv2 : v < 256) (ht : t < 2 ^ 31)
    (H1 : (t < qf_sm C v ∨ qf_sm C (v + 1) ≤ t) → J (nI (i + 1))) (H2 : qf_sm C v ≤ t → t < qf_sm C (v + 1) → post (nI v) (nI k, sb, he, lo, nm, go, pu, rd)) :
    ∀ m j, j ≤ k → k - j < m → wX_print_51 post J (nI t) (nI i) (nI k) sb he lo nm go pu rd m (nI (qf_sm (fun p => qf_cr rd j p) v)) (nI (qf_cr rd j v)) (nI j) := by
  intro m
  induction m with
  | zero => intro j _ h; omega
  | succ m ih =>
    intro j hj hm
    rw [wX_print_51]
    refine pk_le k j (fun h => ?_) (fun h => ?_)
    · have e : j = k := by omega
      subst e
      have c1 : qf_sm (fun p => qf_cr rd j p) v = qf_sm C v := qf_sm_congr v fun p hp => hC p (by omega)
      have m1 := qf_sm_mono C (show v ≤ 256 by omega)
      have m2 := qf_sm_mono C (show v + 1 ≤ 256 by omega)
      have es := qf_sm_s C v
      rw [c1, hC v hv2]
      refine pk_lt t (qf_sm C v) (fun h1 => ?_) (fun h1 => ?_)
      · intro x ex
        rw [nI_1] at ex
        rw [ex]
        exact H1 (Or.inl h1)
      · refine pk_le (qf_sm C v + C v) t (fun h2 => ?_) (fun h2 => ?_) (nI_add _ _) rfl
        · intro x ex
          rw [nI_1] at ex
          rw [ex]
          exact H1 (Or.inr (by omega))
        · refine ⟨vp_in_nI (by omega) (by decide), ?_⟩
          rw [nI_clamp (by omega), ei]
          exact H2 h1 (by omega)
    · obtain ⟨q, hq, eq⟩ := hv j h
      have nx : ∀ x4 : Int32, x4 = nI (qf_sm (fun p => qf_cr rd (j + 1) p) v) → wX_print_79 post J (wX_print_51 post J (nI t) (nI i) (nI k) sb he lo nm go pu rd m) (nI t) (nI i) x4 (nI (qf_cr rd j v)) (nI j) (nI k) sb he lo nm go pu rd := by
        intro x4 e4
        rw [e4]
        refine And.intro (vp_in_nI (by omega) (by decide)) ⟨vp_in_nI (by omega) (by decide), ?_⟩
        rw [nI_clamp (show j < 2 ^ 31 by omega), nI_clamp (show i < 2 ^ 31 by omega), eq, ei]
        refine pk_eq q v (fun h1 => ?_) (fun h1 => ?_)
        · intro x5 e5 x6 e6
          rw [nI_1] at e5 e6
          rw [e5, e6]
          have t := ih (j + 1) (by omega) (by omega)
          rw [qf_cr_s rd j v, qf_nq eq hq hv2, if_pos h1] at t
          exact t
        · intro x6 e6
          rw [nI_1] at e6
          rw [e6]
          have t := ih (j + 1) (by omega) (by omega)
          rw [qf_cr_s rd j v, qf_nq eq hq hv2, if_neg h1] at t
          exact t
      refine ⟨vp_in_nI (by omega) (by decide), vp_in_nI (by omega) (by decide), ?_⟩
      rw [nI_clamp (show j < 2 ^ 31 by omega), nI_clamp (show i < 2 ^ 31 by omega), eq, ei]
      refine pk_le v q (fun h1 => nx _ ?_) (fun h1 => ?_)
      · rw [qf_cl_s eq hq (by omega), if_neg (by omega)]
        rfl
      · intro x4 e4
        rw [nI_1] at e4
        refine nx x4 ?_
        rw [e4, qf_cl_s eq hq (by omega), if_pos h1]
theorem qf_pr34 {w t i0 : Nat} (hk : k ≤ 64) (hv : ∀ i, i < k → ∃ q, q < 256 ∧ rd i = nI q) (hC : ∀ q, q < 256 → qf_cr rd k q = C q) (hT : qf_sm C 256 = k) (ht : t < 2 ^ 31) (hw : w < 256) (h1 : qf_sm C w ≤ t) (h2 : t < qf_sm C (w + 1)) (h0 : i0 < k) (e0 : rd i0 = nI w)
    (H : post (nI w) (nI k, sb, he, lo, nm, go, pu, rd)) : ∀ m i, i ≤ i0 → i0 - i < m → wX_print_34 post (nI t) (nI k) sb he lo nm go pu rd m (nI i) := by
  intro m
  induction m with
  | zero => intro i _ h; omega
  | succ m ih =>
    intro i hi hm
    rw [wX_print_34]
    refine pk_le k i (fun h => absurd h (by omega)) (fun h => ?_)
    obtain ⟨v, hv2, ei⟩ := hv i h
    have z : qf_sm (fun p => qf_cr rd 0 p) v = 0 := qf_sm_zero v fun _ _ => rfl
    have t51 := qf_pr51 (post := post) (J := wX_print_34 post (nI t) (nI k) sb he lo nm go pu rd m) (sb := sb) (he := he) (lo := lo) (nm := nm) (go := go) (pu := pu) hk hv hC hT h ei hv2 ht ?_ ?_ (k + 1) 0 (by omega) (by omega)
    · rw [z, qf_cr_0] at t51
      exact ⟨k + 1, t51⟩
    · intro hn
      have ne : i ≠ i0 := by
        intro e
        rw [e, e0] at ei
        have := (nI_eq (by omega) (by omega)).mp ei
        subst this
        omega
      exact ih (i + 1) (by omega) (by omega)
    · intro a1 a2
      have e : v = w := by
        by_cases c1 : v < w
        · have := qf_sm_mono C (show v + 1 ≤ w by omega)
          omega
        · by_cases c2 : w < v
          · have := qf_sm_mono C (show w + 1 ≤ v by omega)
            omega
          · omega
      rw [e]
      exact H
end
end
section
def qf_XF (f b : Nat) (C : Nat → Nat) (sb he lo nm go pu : Nat → Int32) : Prop := qf_S f b (2 ^ b) (2 ^ (8 - b)) sb ∧ qf_St f (2 ^ b) (2 ^ (8 - b)) C he lo nm go pu ∧ qf_sm C 256 + 1 ≤ 2 ^ b
def qf_XS (b : Nat → Nat) (C : Nat → Nat → Nat) (sb he lo nm go pu : Nat → Int32) : Prop := ∀ f, f < 2 → qf_XF f (b f) (C f) sb he lo nm go pu
def qf_YS (b : Nat → Nat) (C : Nat → Nat → Nat) (of sz : Nat → Int32) : Prop := ∀ f, f < 2 → sz f = nI (2 ^ b f) ∧ ∀ p, p < 256 → of (256 * f + p) = nI (C f p)
def qf_sf {α : Type} (F : Nat → α) (f : Nat) (x : α) : Nat → α := fun g => if g = f then x else F g
theorem qf_sf_s {α : Type} (F : Nat → α) (f : Nat) (x : α) : qf_sf F f x f = x := if_pos rfl
theorem qf_sf_n {α : Type} (F : Nat → α) {f g : Nat} (x : α) (h : g ≠ f) : qf_sf F f x g = F g := if_neg h
/-- both filters: how many bits, and how often each print is there -/
def i_Rel (k : Nat) (u : SX) (v : SY) : Prop := ∃ (rc : Int32) (sb he lo nm go pu rd of sz : Nat → Int32) (b : Nat → Nat) (C : Nat → Nat → Nat), u = (rc, sb, he, lo, nm, go, pu, rd) ∧ v = (of, sz) ∧ qf_XS b C sb he lo nm go pu ∧ qf_YS b C of sz
theorem i_up {k : Nat} {u : SX} {v : SY} (h : i_Rel k u v) : i_Rel (k + 3) u v := h
section
variable {rc : Int32} {sb he lo nm go pu rd of sz sb' he' lo' nm' go' pu' of' sz' : Nat → Int32} {f k : Nat} {b : Nat → Nat} {C : Nat → Nat → Nat}
theorem qf_rel (X : qf_XS b C sb he lo nm go pu) (Y : qf_YS b C of sz) : i_Rel k (rc, sb, he, lo, nm, go, pu, rd) (of, sz) := ⟨rc, sb, he, lo, nm, go, pu, rd, of, sz, b, C, rfl, rfl, X, Y⟩
theorem qf_XS_u (X : qf_XS b C sb he lo nm go pu) (hf : f < 2) {bb : Nat} {CC : Nat → Nat} (F : qf_XF f bb CC sb' he' lo' nm' go' pu') (hs : ∀ g, g ≠ f → sb' g = sb g) (O : qf_Oth f he lo nm go pu he' lo' nm' go' pu') : qf_XS (qf_sf b f bb) (qf_sf C f CC) sb' he' lo' nm' go' pu' := by
  intro g hg
  by_cases e : g = f
  · subst e
    rw [qf_sf_s, qf_sf_s]
    exact F
  · rw [qf_sf_n _ _ e, qf_sf_n _ _ e]
    obtain ⟨⟨k1, k2, k3⟩, ⟨s1, s2⟩, t⟩ := X g hg
    have n64 := qf_B_n k2
    exact ⟨⟨k1, k2, by rw [hs g e]; exact k3⟩, ⟨qf_Rep_fr s1 (fun i h1 h2 => O.2 i (by omega)), by rw [O.1 g e]; exact s2⟩, t⟩
theorem qf_YS_u (Y : qf_YS b C of sz) {bb : Nat} {CC : Nat → Nat} (h1 : sz' f = nI (2 ^ bb)) (h2 : ∀ p, p < 256 → of' (256 * f + p) = nI (CC p)) (h3 : ∀ g, g < 2 → g ≠ f → sz' g = sz g) (h4 : ∀ g, g < 2 → g ≠ f → ∀ p, p < 256 → of' (256 * g + p) = of (256 * g + p)) : qf_YS (qf_sf b f bb) (qf_sf C f CC) of' sz' := by
  intro g hg
  by_cases e : g = f
  · subst e
    rw [qf_sf_s, qf_sf_s]
    exact ⟨h1, h2⟩
  · rw [qf_sf_n _ _ e, qf_sf_n _ _ e, h3 g hg e]
    refine ⟨(Y g hg).1, fun p hp => ?_⟩
    rw [h4 g hg e p hp]
    exact (Y g hg).2 p hp
end
section
variable {rc : Int32} {sb he lo nm go pu rd of sz : Nat → Int32} {f : Nat}
theorem qf_x_if1 {post : Int32 → Prop} (hf : f < 2) (h : post 1) : wpX_isFilter post (rc, sb, he, lo, nm, go, pu, rd) (nI f) := by
  rcases qf_f01 hf with e | e
  · subst e
    exact br_t rfl h
  · subst e
    exact br_f (by decide) (br_t rfl h)
theorem qf_x_if0 {post : Int32 → Prop} {v : Int32} (hv : ¬ v = 0 ∧ ¬ v = 1) (h : post 0) : wpX_isFilter post (rc, sb, he, lo, nm, go, pu, rd) v := br_f hv.1 (br_f hv.2 h)
theorem qf_x_po {post : Int32 → Prop} {v : Int32} {p : Nat} (e : ((v * (-1640531535)).toUInt32 >>> ((24 : Int32).toUInt32 &&& Int32.toUInt32 31)).toInt32 = nI p) (h : post (nI p)) : wpX_printOf post (rc, sb, he, lo, nm, go, pu, rd) v := by
  show post _
  rw [e]
  exact h
theorem qf_y_po {post : Int32 → Prop} {v : Int32} {p : Nat} (e : ((v * (-1640531535)).toUInt32 >>> ((24 : Int32).toUInt32 &&& Int32.toUInt32 31)).toInt32 = nI p) (h : post (nI p)) : wpY_printOf post (of, sz) v := by
  show post _
  rw [e]
  exact h
end
theorem i_vc0 : wpX_init (fun u => wpY_init (fun v => i_Rel 0 u v)) := by
  unfold wpX_init
  intro a2 e2 a4 e4
  unfold wpY_init
  intro s2 f2 s4 f4
  have n3 : vp_nar .byte 3 = nI 3 := by rw [vp_nar_byte]; decide
  refine qf_rel (b := fun _ => 3) (C := fun _ _ => 0) ?_ ?_
  · intro f hf
    have Z : qf_sm (fun _ => 0) 256 = 0 := qf_sm_zero 256 fun _ _ => rfl
    show qf_XF f 3 (fun _ => 0) a4 (fun _ => 0) (fun _ => 0) (fun _ => 0) (fun _ => 0) (fun _ => 0)
    refine ⟨⟨hf, ⟨by decide, by decide, rfl, rfl⟩, ?_⟩, ⟨qf_Rep_0 (by decide) (by decide) (fun j _ => ⟨rfl, rfl, rfl⟩), ?_⟩, ?_⟩
    · rcases qf_f01 hf with e | e
      · rw [e, e4, pk_un (by decide), e2, pk_us]
        exact n3
      · rw [e, e4, pk_us]
        exact n3
    · rw [Z]
      rfl
    · rw [Z]
      decide
  · intro f hf
    refine ⟨?_, fun p hp => rfl⟩
    rcases qf_f01 hf with e | e
    · rw [e, f4, pk_un (by decide), f2, pk_us]
      rfl
    · rw [e, f4, pk_us]
      rfl
end
section
theorem i_vc_printOf {k : Nat} {u : SX} {v : SY} (I : i_Rel k u v) (hk : k + 3 ≤ 1536) (v1 : Int32) : wpX_printOf (fun r => wpY_printOf (fun r' => r' = r ∧ i_Rel (k + 3) u v) v v1) u v1 := by
  obtain ⟨rc, sb, he, lo, nm, go, pu, rd, of, sz, b, C, rfl, rfl, X, Y⟩ := I
  exact ⟨rfl, qf_rel X Y⟩
theorem i_vc_count {k : Nat} {u : SX} {v : SY} (I : i_Rel k u v) (hk : k + 3 ≤ 1536) (v1 : Int32) : wpX_count (fun r => wpY_count (fun r' => r' = r ∧ i_Rel (k + 3) u v) v v1) u v1 := by
  obtain ⟨rc, sb, he, lo, nm, go, pu, rd, of, sz, b, C, rfl, rfl, X, Y⟩ := I
  rcases qf_fc v1 with ⟨f, hf, rfl⟩ | hv
  · obtain ⟨K, S, hT⟩ := X f hf
    obtain ⟨y1, y2⟩ := Y f hf
    unfold wpX_count
    refine qf_x_if1 hf (br_f (by decide) ⟨vp_in_nI hf (by decide), ?_⟩)
    rw [nI_clamp (by omega), S.2]
    exact qf_y_ct hf y2 ⟨rfl, qf_rel X Y⟩
  · unfold wpX_count
    refine qf_x_if0 hv (br_t rfl ?_)
    unfold wpY_count
    exact qf_y_if0 hv (br_t rfl ⟨rfl, qf_rel X Y⟩)
theorem i_vc_size {k : Nat} {u : SX} {v : SY} (I : i_Rel k u v) (hk : k + 3 ≤ 1536) (v1 : Int32) : wpX_size (fun r => wpY_size (fun r' => r' = r ∧ i_Rel (k + 3) u v) v v1) u v1 := by
  obtain ⟨rc, sb, he, lo, nm, go, pu, rd, of, sz, b, C, rfl, rfl, X, Y⟩ := I
  rcases qf_fc v1 with ⟨f, hf, rfl⟩ | hv
  · obtain ⟨K, S, hT⟩ := X f hf
    obtain ⟨y1, y2⟩ := Y f hf
    unfold wpX_size
    refine qf_x_if1 hf (br_f (by decide) (qf_x_sl K ?_))
    unfold wpY_size
    refine qf_y_if1 hf (br_f (by decide) ⟨vp_in_nI hf (by decide), ?_⟩)
    rw [nI_clamp (by omega), y1]
    exact ⟨rfl, qf_rel X Y⟩
  · unfold wpX_size
    refine qf_x_if0 hv (br_t rfl ?_)
    unfold wpY_size
    exact qf_y_if0 hv (br_t rfl ⟨rfl, qf_rel X Y⟩)
theorem i_vc_maybe {k : Nat} {u : SX} {v : SY} (I : i_Rel k u v) (hk : k + 3 ≤ 1536) (v1 : Int32) (v2 : Int32) : wpX_maybe (fun r => wpY_maybe (fun r' => r' = r ∧ i_Rel (k + 3) u v) v v1 v2) u v1 v2 := by
  obtain ⟨rc, sb, he, lo, nm, go, pu, rd, of, sz, b, C, rfl, rfl, X, Y⟩ := I
  rcases qf_fc v1 with ⟨f, hf, rfl⟩ | hv
  · obtain ⟨K, S, hT⟩ := X f hf
    obtain ⟨y1, y2⟩ := Y f hf
    obtain ⟨p, hp, ep⟩ := qf_po v2
    have n64 := qf_S_n K
    have cp := qf_sm_ge (g := C f) 256 hp
    unfold wpX_maybe
    refine qf_x_if1 hf (br_f (by decide) (qf_x_po ep (qf_x_tm K S.1 hp ?_)))
    have yy : ∀ P : Int32 → Prop, ((nI (C f p) ≤ 0 → P 0) ∧ (¬ nI (C f p) ≤ 0 → P 1)) → wpY_maybe P (of, sz) (nI f) v2 := by
      intro P hP
      unfold wpY_maybe
      refine qf_y_if1 hf (br_f (by decide) (qf_y_po ep ?_))
      intro x ex
      rw [qf_256] at ex
      rw [ex, nI_clamp (by omega), y2 p hp]
      exact ⟨vp_in_nI (by omega) (by decide), hP⟩
    exact br_c (fun a => yy _ (br_t a ⟨rfl, qf_rel X Y⟩)) (fun a => yy _ (br_f a ⟨rfl, qf_rel X Y⟩))
  · unfold wpX_maybe
    refine qf_x_if0 hv (br_t rfl ?_)
    unfold wpY_maybe
    exact qf_y_if0 hv (br_t rfl ⟨rfl, qf_rel X Y⟩)
theorem i_vc_times {k : Nat} {u : SX} {v : SY} (I : i_Rel k u v) (hk : k + 3 ≤ 1536) (v1 : Int32) (v2 : Int32) : wpX_times (fun r => wpY_times (fun r' => r' = r ∧ i_Rel (k + 3) u v) v v1 v2) u v1 v2 := by
  obtain ⟨rc, sb, he, lo, nm, go, pu, rd, of, sz, b, C, rfl, rfl, X, Y⟩ := I
  rcases qf_fc v1 with ⟨f, hf, rfl⟩ | hv
  · obtain ⟨K, S, hT⟩ := X f hf
    obtain ⟨y1, y2⟩ := Y f hf
    unfold wpX_times
    refine qf_x_if1 hf (br_f (by decide) ?_)
    rcases pk_ix v2 (n := 256) (by decide) with h | h | ⟨p, hp, rfl⟩
    · refine br_t h ?_
      unfold wpY_times
      exact qf_y_if1 hf (br_f (by decide) (br_t h ⟨rfl, qf_rel X Y⟩))
    · have h5 : (255 : Int32).toInt = 255 := by decide
      have h6 : (nI 256).toInt = 256 := nI_toInt (by decide)
      have h0 : (0 : Int32).toInt = 0 := by decide
      have hh : (256 : Int) ≤ v2.toInt := by
        rw [Int32.le_iff_toInt_le, h6] at h
        exact h
      have n0 : ¬ v2 < 0 := by
        rw [Int32.lt_iff_toInt_lt, h0]
        omega
      have n1 : ¬ v2 ≤ 255 := by
        rw [Int32.le_iff_toInt_le, h5]
        omega
      have n2 : 255 < v2 := by
        rw [Int32.lt_iff_toInt_lt, h5]
        omega
      refine br_f n0 (br_f n1 ?_)
      unfold wpY_times
      exact qf_y_if1 hf (br_f (by decide) (br_f n0 (br_t n2 ⟨rfl, qf_rel X Y⟩)))
    · have n0 : ¬ nI p < 0 := nI_pos (by omega)
      refine br_f n0 (pk_le p 255 (fun _ => qf_x_tm K S.1 hp ?_) (fun t => absurd t (by omega)))
      unfold wpY_times
      refine qf_y_if1 hf (br_f (by decide) (br_f n0 (pk_lt 255 p (fun t => absurd t (by omega)) (fun _ => ?_))))
      rw [qf_256, nI_clamp (by omega), y2 p hp]
      exact ⟨vp_in_nI (by omega) (by decide), rfl, qf_rel X Y⟩
  · unfold wpX_times
    refine qf_x_if0 hv (br_t rfl ?_)
    unfold wpY_times
    exact qf_y_if0 hv (br_t rfl ⟨rfl, qf_rel X Y⟩)
theorem i_vc_print {k : Nat} {u : SX} {v : SY} (I : i_Rel k u v) (hk : k + 3 ≤ 1536) (v1 : Int32) (v2 : Int32) : wpX_print (fun r u' => wpY_print (fun r' => r' = r ∧ i_Rel (k + 3) u' v) v v1 v2) u v1 v2 := by
  obtain ⟨rc, sb, he, lo, nm, go, pu, rd, of, sz, b, C, rfl, rfl, X, Y⟩ := I
  rcases qf_fc v1 with ⟨f, hf, rfl⟩ | hv
  · obtain ⟨K, S, hT⟩ := X f hf
    obtain ⟨y1, y2⟩ := Y f hf
    have n64 := qf_S_n K
    unfold wpX_print
    refine qf_x_if1 hf (br_f (by decide) ?_)
    by_cases h0 : v2 < 0
    · refine br_t h0 ?_
      unfold wpY_print
      exact qf_y_if1 hf (br_f (by decide) ⟨257, qf_ypn hf h0 ⟨rfl, qf_rel X Y⟩ 257 0 0 (by omega) (by omega)⟩)
    · obtain ⟨t, ht, rfl⟩ := nI_of h0
      refine br_f h0 ⟨vp_in_nI hf (by decide), ?_⟩
      rw [nI_clamp (show f < 2 ^ 31 by omega), S.2]
      refine pk_lt t (qf_sm (C f) 256) (fun h => ?_) (fun h => ?_)
      · refine qf_x_ra K S.1 fun c rd' hR => ?_
        have kT := qf_ra_k hR
        obtain ⟨w, hw1, hw2⟩ := pk_least (fun w => t < qf_sm (C f) (w + 1)) ⟨255, h⟩
        have hw : w < 256 := by
          by_cases q : 255 < w
          · exact absurd h (hw2 255 q)
          · omega
        have hw3 : qf_sm (C f) w ≤ t := by
          by_cases q : w = 0
          · rw [q, qf_sm_0]
            omega
          · have r := hw2 (w - 1) (by omega)
            rw [show w - 1 + 1 = w by omega] at r
            omega
        have hC : ∀ q, q < 256 → qf_cr rd' c q = C f q := by
          intro q hq
          have s : qf_cr rd' c q + 0 = C f q := hR.2 q hq
          omega
        have pos : 0 < qf_cr rd' c w := by
          rw [hC w hw]
          have hw1' : t < qf_sm (C f) (w + 1) := hw1
          rw [qf_sm_s] at hw1'
          omega
        obtain ⟨i0, h0', g0⟩ := qf_sm_ex c pos
        have e0 : rd' i0 = nI w := by
          by_cases q : rd' i0 = nI w
          · exact q
          · rw [if_neg q] at g0
            omega
        refine ⟨i0 + 1, qf_pr34 (by omega) hR.1 hC kT ht hw hw3 hw1 h0' e0 ?_ (i0 + 1) 0 (by omega) (by omega)⟩
        unfold wpY_print
        refine qf_y_if1 hf (br_f (by decide) ⟨257, qf_ypp hf y2 (by omega) ht (fun i hi a1 a2 => ?_) (fun a => absurd a (by omega)) 257 0 (by omega) (by omega) (by rw [qf_sm_0]; omega)⟩)
        have e : i = w := by
          have hw1' : t < qf_sm (C f) (w + 1) := hw1
          by_cases c1 : i < w
          · have := qf_sm_mono (C f) (show i + 1 ≤ w by omega)
            omega
          · by_cases c2 : w < i
            · have := qf_sm_mono (C f) (show w + 1 ≤ i by omega)
              omega
            · omega
        rw [e]
        exact ⟨rfl, qf_rel X Y⟩
      · unfold wpY_print
        refine qf_y_if1 hf (br_f (by decide) ⟨257, qf_ypp hf y2 (by omega) ht (fun i hi a1 a2 => ?_) (fun _ => ⟨rfl, qf_rel X Y⟩) 257 0 (by omega) (by omega) (by rw [qf_sm_0]; omega)⟩)
        have := qf_sm_mono (C f) (show i + 1 ≤ 256 by omega)
        omega
  · unfold wpX_print
    refine qf_x_if0 hv (br_t rfl ?_)
    unfold wpY_print
    exact qf_y_if0 hv (br_t rfl ⟨rfl, qf_rel X Y⟩)
end
section
theorem i_vc_add {k : Nat} {u : SX} {v : SY} (I : i_Rel k u v) (hk : k + 3 ≤ 1536) (v1 : Int32) (v2 : Int32) : wpX_add (fun r u' => wpY_add (fun r' v' => r' = r ∧ i_Rel (k + 3) u' v') v v1 v2) u v1 v2 := by
  obtain ⟨rc, sb, he, lo, nm, go, pu, rd, of, sz, b, C, rfl, rfl, X, Y⟩ := I
  rcases qf_fc v1 with ⟨f, hf, rfl⟩ | hv
  · obtain ⟨K, S, hT⟩ := X f hf
    obtain ⟨y1, y2⟩ := Y f hf
    obtain ⟨p, hp, ep⟩ := qf_po v2
    have n64 := qf_S_n K
    have one : nI (2 ^ b f) - 1 = nI (2 ^ b f - 1) := pk_sub (b := 1) (by omega)
    unfold wpX_add
    refine qf_x_if1 hf (br_f (by decide) ⟨vp_in_nI hf (by decide), qf_x_sl K ?_⟩)
    rw [nI_clamp (show f < 2 ^ 31 by omega), S.2, one]
    refine pk_lt (qf_sm (C f) 256) (2 ^ b f - 1) (fun h => ?_) (fun h => ?_)
    · refine qf_x_po ep (qf_x_ins K S (by omega) hp fun he' lo' nm' go' pu' S' O' => ?_)
      refine qf_x_tm K S'.1 hp ?_
      unfold wpY_add
      refine qf_y_if1 hf (br_f (by decide) (qf_y_ct hf y2 ⟨vp_in_nI hf (by decide), ?_⟩))
      rw [nI_clamp (show f < 2 ^ 31 by omega), y1, one]
      refine pk_lt (qf_sm (C f) 256) (2 ^ b f - 1) (fun _ => ?_) (fun t => absurd t (by omega))
      refine qf_y_po ep ?_
      intro x ex
      rw [qf_256] at ex
      rw [ex, nI_clamp (show 256 * f + p < 2 ^ 31 by omega)]
      have vi : vp_in (nI (256 * f + p)) 512 := vp_in_nI (by omega) (by decide)
      refine ⟨vi, vi, fun o1 e1 => ⟨vi, ?_⟩⟩
      rw [y2 p hp, nI_1] at e1
      have ei : qf_inc (C f) p p = C f p + 1 := by
        show C f p + (if p = p then 1 else 0) = C f p + 1
        rw [if_pos rfl]
      rw [e1, pk_us, ei]
      refine ⟨rfl, qf_rel (qf_XS_u X hf ⟨K, S', by rw [qf_T_inc hp]; omega⟩ (fun _ _ => rfl) O') (qf_YS_u Y y1 (fun q hq => ?_) (fun _ _ _ => rfl) (fun g hg hgf q hq => pk_un (by omega)))⟩
      by_cases pq : p = q
      · rw [← pq, pk_us, ei]
      · rw [pk_un (by omega), y2 q hq]
        show nI (C f q) = nI (C f q + if p = q then 1 else 0)
        rw [if_neg pq]
        rfl
    · unfold wpY_add
      refine qf_y_if1 hf (br_f (by decide) (qf_y_ct hf y2 ⟨vp_in_nI hf (by decide), ?_⟩))
      rw [nI_clamp (show f < 2 ^ 31 by omega), y1, one]
      exact pk_lt (qf_sm (C f) 256) (2 ^ b f - 1) (fun t => absurd t (by omega)) (fun _ => ⟨rfl, qf_rel X Y⟩)
  · unfold wpX_add
    refine qf_x_if0 hv (br_t rfl ?_)
    unfold wpY_add
    exact qf_y_if0 hv (br_t rfl ⟨rfl, qf_rel X Y⟩)
theorem i_vc_remove {k : Nat} {u : SX} {v : SY} (I : i_Rel k u v) (hk : k + 3 ≤ 1536) (v1 : Int32) (v2 : Int32) : wpX_remove (fun r u' => wpY_remove (fun r' v' => r' = r ∧ i_Rel (k + 3) u' v') v v1 v2) u v1 v2 := by
  obtain ⟨rc, sb, he, lo, nm, go, pu, rd, of, sz, b, C, rfl, rfl, X, Y⟩ := I
  rcases qf_fc v1 with ⟨f, hf, rfl⟩ | hv
  · obtain ⟨K, S, hT⟩ := X f hf
    obtain ⟨y1, y2⟩ := Y f hf
    obtain ⟨p, hp, ep⟩ := qf_po v2
    have n64 := qf_S_n K
    have cp := qf_sm_ge (g := C f) 256 hp
    have vi : vp_in (nI (256 * f + p)) 512 := vp_in_nI (by omega) (by decide)
    unfold wpX_remove
    refine qf_x_if1 hf (br_f (by decide) (qf_x_po ep (qf_x_tm K S.1 hp ?_)))
    refine pk_eq (C f p) 0 (fun h => ?_) (fun h => ?_)
    · unfold wpY_remove
      refine qf_y_if1 hf (br_f (by decide) (qf_y_po ep ?_))
      intro x ex
      rw [qf_256] at ex
      rw [ex, nI_clamp (show 256 * f + p < 2 ^ 31 by omega), y2 p hp, h]
      exact ⟨vi, br_t rfl ⟨rfl, qf_rel X Y⟩⟩
    · have one : nI (C f p) - 1 = nI (C f p - 1) := pk_sub (b := 1) (by omega)
      refine qf_x_to K S hT hp (by omega) fun rc' rd' C' he' lo' nm' go' pu' S' h' O' => ?_
      unfold wpY_remove
      refine qf_y_if1 hf (br_f (by decide) (qf_y_po ep ?_))
      intro x ex
      rw [qf_256] at ex
      rw [ex, nI_clamp (show 256 * f + p < 2 ^ 31 by omega), y2 p hp]
      refine ⟨vi, br_f (nI_ne0 (by omega) (by omega)) ⟨vi, vi, fun o1 e1 => ⟨vi, ?_⟩⟩⟩
      rw [one] at e1
      rw [e1, pk_us, one]
      have tt : qf_sm C' 256 + 1 = qf_sm (C f) 256 := by
        rw [← qf_T_inc (C := C') hp]
        exact qf_sm_congr 256 fun q hq => h' q hq
      refine ⟨rfl, qf_rel (qf_XS_u X hf ⟨K, S', by omega⟩ (fun _ _ => rfl) O') (qf_YS_u Y y1 (fun q hq => ?_) (fun _ _ _ => rfl) (fun g hg hgf q hq => pk_un (by omega)))⟩
      have t := h' q hq
      by_cases pq : p = q
      · rw [if_pos pq, ← pq] at t
        rw [← pq, pk_us]
        exact congrArg nI (by omega)
      · rw [if_neg pq] at t
        rw [pk_un (by omega), y2 q hq, ← t]
        rfl
  · unfold wpX_remove
    refine qf_x_if0 hv (br_t rfl ?_)
    unfold wpY_remove
    exact qf_y_if0 hv (br_t rfl ⟨rfl, qf_rel X Y⟩)
theorem i_vc_clear {k : Nat} {u : SX} {v : SY} (I : i_Rel k u v) (hk : k + 3 ≤ 1536) (v1 : Int32) : wpX_clear (fun r u' => wpY_clear (fun r' v' => r' = r ∧ i_Rel (k + 3) u' v') v v1) u v1 := by
  obtain ⟨rc, sb, he, lo, nm, go, pu, rd, of, sz, b, C, rfl, rfl, X, Y⟩ := I
  rcases qf_fc v1 with ⟨f, hf, rfl⟩ | hv
  · obtain ⟨K, S, hT⟩ := X f hf
    obtain ⟨y1, y2⟩ := Y f hf
    have n64 := qf_S_n K
    unfold wpX_clear
    refine qf_x_if1 hf (br_f (by decide) ⟨vp_in_nI hf (by decide), fun x ex => ?_⟩)
    rw [nI_clamp (by omega), S.2] at ex
    rw [ex]
    refine qf_x_em hf fun nm' go' pu' z1 f1 => ?_
    unfold wpY_clear
    refine qf_y_if1 hf (br_f (by decide) (qf_y_ct hf y2 ⟨257, qf_yl18 hf 257 0 of (by omega) (by omega) fun of' h1 h2 => ?_⟩))
    have Z : qf_sm (fun _ => 0) 256 = 0 := qf_sm_zero 256 fun _ _ => rfl
    refine ⟨rfl, qf_rel (qf_XS_u X hf (CC := fun _ => 0) ⟨K, ⟨qf_Rep_0 (by omega) n64.2.1 z1, ?_⟩, ?_⟩ (fun _ _ => rfl) ⟨fun g hg => pk_un hg, f1⟩) (qf_YS_u Y y1 (fun q hq => h1 q (by omega) hq) (fun _ _ _ => rfl) (fun g hg hgf q hq => h2 _ (by omega)))⟩
    · rw [pk_us, Z]
      rfl
    · rw [Z]
      omega
  · unfold wpX_clear
    refine qf_x_if0 hv (br_t rfl ?_)
    unfold wpY_clear
    exact qf_y_if0 hv (br_t rfl ⟨rfl, qf_rel X Y⟩)
theorem i_vc_grow {k : Nat} {u : SX} {v : SY} (I : i_Rel k u v) (hk : k + 3 ≤ 1536) (v1 : Int32) : wpX_grow (fun r u' => wpY_grow (fun r' v' => r' = r ∧ i_Rel (k + 3) u' v') v v1) u v1 := by
  obtain ⟨rc, sb, he, lo, nm, go, pu, rd, of, sz, b, C, rfl, rfl, X, Y⟩ := I
  rcases qf_fc v1 with ⟨f, hf, rfl⟩ | hv
  · obtain ⟨K, S, hT⟩ := X f hf
    obtain ⟨y1, y2⟩ := Y f hf
    have n64 := qf_S_n K
    have h3 := K.2.1.1
    have h6 := K.2.1.2.1
    have vf : vp_in (nI f) 2 := vp_in_nI hf (by decide)
    unfold wpX_grow
    refine qf_x_if1 hf (br_f (by decide) ⟨vf, ?_⟩)
    rw [nI_clamp (show f < 2 ^ 31 by omega), K.2.2]
    refine pk_eq (b f) 6 (fun h => ?_) (fun h => ?_)
    · unfold wpY_grow
      refine qf_y_if1 hf (br_f (by decide) ⟨vf, ?_⟩)
      rw [nI_clamp (show f < 2 ^ 31 by omega), y1, h]
      exact br_t rfl ⟨rfl, qf_rel X Y⟩
    · refine ⟨vf, ?_⟩
      rw [nI_1]
      have ps : 2 * 2 ^ b f = 2 ^ (b f + 1) := by rw [Nat.pow_succ, Nat.mul_comm]
      have p5 : 2 ^ b f ≤ 32 := Nat.pow_le_pow_right (n := 2) (by decide) (show b f ≤ 5 by omega)
      have B' : qf_B (b f + 1) (2 ^ (b f + 1)) (2 ^ (8 - (b f + 1))) := ⟨by omega, by omega, rfl, rfl⟩
      refine qf_x_rz K S hT B' (by omega) fun rc' rd' he' lo' nm' go' pu' S' O' => ?_
      have K' : qf_S f (b f + 1) (2 ^ (b f + 1)) (2 ^ (8 - (b f + 1))) (upd sb f (nI (b f + 1))) := ⟨hf, B', pk_us⟩
      refine qf_x_sl K' ?_
      unfold wpY_grow
      refine qf_y_if1 hf (br_f (by decide) ⟨vf, ?_⟩)
      rw [nI_clamp (show f < 2 ^ 31 by omega), y1]
      refine pk_eq (2 ^ b f) 64 (fun t => absurd t (by omega)) (fun _ => ⟨vf, vf, fun sz1 e1 => ⟨vf, ?_⟩⟩)
      rw [show (2 : Int32) = nI 2 from rfl, pk_mul, ps] at e1
      rw [e1, pk_us]
      exact ⟨rfl, qf_rel (qf_XS_u X hf ⟨K', S', by omega⟩ (fun g hg => pk_un hg) O') (qf_YS_u Y pk_us y2 (fun g _ hg => pk_un hg) (fun _ _ _ _ _ => rfl))⟩
  · unfold wpX_grow
    refine qf_x_if0 hv (br_t rfl ?_)
    unfold wpY_grow
    exact qf_y_if0 hv (br_t rfl ⟨rfl, qf_rel X Y⟩)
theorem i_vc_shrink {k : Nat} {u : SX} {v : SY} (I : i_Rel k u v) (hk : k + 3 ≤ 1536) (v1 : Int32) : wpX_shrink (fun r u' => wpY_shrink (fun r' v' => r' = r ∧ i_Rel (k + 3) u' v') v v1) u v1 := by
  obtain ⟨rc, sb, he, lo, nm, go, pu, rd, of, sz, b, C, rfl, rfl, X, Y⟩ := I
  rcases qf_fc v1 with ⟨f, hf, rfl⟩ | hv
  · obtain ⟨K, S, hT⟩ := X f hf
    obtain ⟨y1, y2⟩ := Y f hf
    have n64 := qf_S_n K
    have h3 := K.2.1.1
    have h6 := K.2.1.2.1
    have vf : vp_in (nI f) 2 := vp_in_nI hf (by decide)
    unfold wpX_shrink
    refine qf_x_if1 hf (br_f (by decide) ⟨vf, ?_⟩)
    rw [nI_clamp (show f < 2 ^ 31 by omega), K.2.2]
    refine pk_eq (b f) 3 (fun h => ?_) (fun h => ?_)
    · unfold wpY_shrink
      refine qf_y_if1 hf (br_f (by decide) ⟨vf, ?_⟩)
      rw [nI_clamp (show f < 2 ^ 31 by omega), y1, h]
      exact br_t rfl ⟨rfl, qf_rel X Y⟩
    · refine ⟨vf, qf_x_sl K ?_⟩
      obtain ⟨c, ec⟩ : ∃ c, b f = c + 1 := ⟨b f - 1, by omega⟩
      have ps : 2 ^ b f = 2 ^ c * 2 := by rw [ec, Nat.pow_succ]
      have p3 : 2 ^ 3 ≤ 2 ^ c := Nat.pow_le_pow_right (n := 2) (by decide) (show 3 ≤ c by omega)
      have dv : nI (2 ^ b f) / 2 = nI (2 ^ c) := by
        have t := pk_div (a := 2 ^ b f) (d := 2) (by omega) (by decide) (by decide)
        rw [show 2 ^ b f / 2 = 2 ^ c by omega] at t
        exact t
      have one : nI (2 ^ c) - 1 = nI (2 ^ c - 1) := pk_sub (b := 1) (by omega)
      have bm : nI (b f) - 1 = nI c := by
        have t := pk_sub (a := b f) (b := 1) (by omega)
        rw [show b f - 1 = c by omega] at t
        exact t
      rw [S.2, dv, one, bm]
      have cnt : ∀ P : Int32 → SY → Prop, ((nI (qf_sm (C f) 256) ≤ nI (2 ^ c - 1) → P (nI (2 ^ c)) (of, upd sz f (nI (2 ^ c)))) ∧ (¬ nI (qf_sm (C f) 256) ≤ nI (2 ^ c - 1) → P (-3) (of, sz))) → wpY_shrink P (of, sz) (nI f) := by
        intro P hP
        unfold wpY_shrink
        refine qf_y_if1 hf (br_f (by decide) ⟨vf, ?_⟩)
        rw [nI_clamp (show f < 2 ^ 31 by omega), y1]
        refine pk_eq (2 ^ b f) 8 (fun t => absurd t (by omega)) (fun _ => qf_y_ct hf y2 ⟨vf, by decide, ?_⟩)
        rw [dv, one]
        refine ⟨fun a => ⟨vf, by decide, vf, fun sz1 e1 => ⟨vf, ?_⟩⟩, hP.2⟩
        rw [e1, pk_us]
        exact hP.1 a
      refine ⟨by decide, br_c (fun a => ⟨vf, ?_⟩) (fun a => cnt _ (br_f a ⟨rfl, qf_rel X Y⟩))⟩
      have a' := (nI_leI (by omega) (by omega)).mp a
      have B' : qf_B c (2 ^ c) (2 ^ (8 - c)) := ⟨by omega, by omega, rfl, rfl⟩
      refine qf_x_rz K S hT B' (by omega) fun rc' rd' he' lo' nm' go' pu' S' O' => ?_
      have K' : qf_S f c (2 ^ c) (2 ^ (8 - c)) (upd sb f (nI c)) := ⟨hf, B', pk_us⟩
      refine qf_x_sl K' (cnt _ (br_t a ⟨rfl, qf_rel (qf_XS_u X hf ⟨K', S', by omega⟩ (fun g hg => pk_un hg) O') (qf_YS_u Y pk_us y2 (fun g _ hg => pk_un hg) (fun _ _ _ _ _ => rfl))⟩))
  · unfold wpX_shrink
    refine qf_x_if0 hv (br_t rfl ?_)
    unfold wpY_shrink
    exact qf_y_if0 hv (br_t rfl ⟨rfl, qf_rel X Y⟩)
end
section
section
variable {rc : Int32} {sb he lo nm go pu rd : Nat → Int32} {f t w : Nat} {post : Int32 → SX → Prop}
theorem qf_po71 {bf bg : Nat} {CF CG : Nat → Nat} (hf : f < 2) (F : qf_XF f bf CF sb he lo nm go pu) (G : qf_XF (1 - f) bg CG sb he lo nm go pu) (hT : qf_sm CF 256 + qf_sm CG 256 + 1 ≤ 2 ^ bf)
    (H : ∀ rc' rd' CC he' lo' nm' go' pu', qf_XF f bf CC sb he' lo' nm' go' pu' → (∀ p, p < 256 → CC p = CF p + CG p) → qf_Oth f he lo nm go pu he' lo' nm' go' pu' → post (nI (qf_sm CF 256 + qf_sm CG 256)) (rc', sb, he', lo', nm', go', pu', rd')) :
    wX_pour_71 post (nI f) rc sb he lo nm go pu rd := by
  unfold wX_pour_71
  rw [qf_1m hf]
  obtain ⟨Kg, Sg, Tg⟩ := G
  obtain ⟨K, S, T⟩ := F
  have n64 := qf_S_n Kg
  refine qf_x_ra Kg Sg.1 fun k rd' hR => ?_
  have kT := qf_ra_k hR
  refine ⟨k + 1, qf_po81 K (by omega) hR.1 (k + 1) 0 CF he lo nm go pu (by omega) (by omega) S (by omega) fun C' he' lo' nm' go' pu' S' h' O' => ?_⟩
  have cc : ∀ p, p < 256 → C' p = CF p + CG p := by
    intro p hp
    have t1 : C' p + qf_cr rd' 0 p = CF p + qf_cr rd' k p := h' p hp
    have t2 : qf_cr rd' k p + 0 = CG p := hR.2 p hp
    rw [qf_cr_0] at t1
    omega
  have ct : qf_sm C' 256 = qf_sm CF 256 + qf_sm CG 256 := by
    rw [← qf_sm_plus]
    exact qf_sm_congr 256 cc
  rw [ct]
  exact H _ rd' C' he' lo' nm' go' pu' ⟨K, S', by omega⟩ cc O'
theorem qf_po40 {b : Nat → Nat} {C : Nat → Nat → Nat} (X : qf_XS b C sb he lo nm go pu) (hf : f < 2) (et : t = qf_sm (C f) 256 + qf_sm (C (1 - f)) 256) (ht : t < 64) (hw : w ≤ 6) (hfit : t + 1 ≤ 2 ^ w) (hno : ∀ x, b f ≤ x → x < w → 2 ^ x < t + 1)
    (H : ∀ rc' rd' CC sb' he' lo' nm' go' pu', qf_XF f w CC sb' he' lo' nm' go' pu' → (∀ g, g ≠ f → sb' g = sb g) → (∀ p, p < 256 → CC p = C f p + C (1 - f) p) → qf_Oth f he lo nm go pu he' lo' nm' go' pu' → post (nI t) (rc', sb', he', lo', nm', go', pu', rd')) :
    ∀ m x, b f ≤ x → x ≤ w → w - x < m → wX_pour_40 post (nI f) (nI t) rc sb he lo nm go pu rd m (nI x) := by
  obtain ⟨K, S, hT⟩ := X f hf
  have G := X (1 - f) (by omega)
  have n64 := qf_S_n K
  have h3 := K.2.1.1
  intro m
  induction m with
  | zero => intro x _ _ h; omega
  | succ m ih =>
    intro x hx hxw hm
    have p6 := qf_p6 (show x ≤ 6 by omega)
    have p0 : 0 < 2 ^ x := Nat.two_pow_pos x
    have one : nI (2 ^ x) - 1 = nI (2 ^ x - 1) := pk_sub (b := 1) (by omega)
    rw [wX_pour_40]
    dsimp only
    rw [qf_tb_sl x (by omega) (by omega), one]
    refine pk_le t (2 ^ x - 1) (fun h => ?_) (fun h => ?_)
    · have e : x = w := by
        by_cases q : x < w
        · have := hno x hx q
          omega
        · omega
      subst e
      refine ⟨vp_in_nI hf (by decide), ?_⟩
      rw [nI_clamp (show f < 2 ^ 31 by omega), K.2.2]
      refine pk_le x (b f) (fun h1 => ?_) (fun h1 => ?_)
      · have e : x = b f := by omega
        subst e
        rw [et] at H
        exact qf_po71 hf ⟨K, S, hT⟩ G (by omega) fun rc' rd' CC he' lo' nm' go' pu' F' cc O' => H rc' rd' CC sb he' lo' nm' go' pu' F' (fun _ _ => rfl) cc O'
      · have B' : qf_B x (2 ^ x) (2 ^ (8 - x)) := ⟨by omega, by omega, rfl, rfl⟩
        refine qf_x_rz K S hT B' (by omega) fun rc' rd' he' lo' nm' go' pu' S' O' => ?_
        have K' : qf_S f x (2 ^ x) (2 ^ (8 - x)) (upd sb f (nI x)) := ⟨hf, B', pk_us⟩
        have F' : qf_XF f x (C f) (upd sb f (nI x)) he' lo' nm' go' pu' := ⟨K', S', by omega⟩
        have G' := qf_XS_u X hf F' (fun g hg => pk_un hg) O' (1 - f) (by omega)
        rw [qf_sf_n _ _ (show 1 - f ≠ f by omega), qf_sf_n _ _ (show 1 - f ≠ f by omega)] at G'
        rw [et] at H
        exact qf_po71 hf F' G' (by omega) fun rc2 rd2 CC he2 lo2 nm2 go2 pu2 F2 cc O2 => H rc2 rd2 CC _ he2 lo2 nm2 go2 pu2 F2 (fun g hg => pk_un hg) cc (qf_Oth_t O' O2)
    · intro y ey
      rw [nI_1] at ey
      rw [ey]
      have ne : x ≠ w := by
        intro e
        subst e
        omega
      exact ih (x + 1) (by omega) (by omega) (by omega)
end
theorem i_vc_pour {k : Nat} {u : SX} {v : SY} (I : i_Rel k u v) (hk : k + 3 ≤ 1536) (v1 : Int32) : wpX_pour (fun r u' => wpY_pour (fun r' v' => r' = r ∧ i_Rel (k + 3) u' v') v v1) u v1 := by
  obtain ⟨rc, sb, he, lo, nm, go, pu, rd, of, sz, b, C, rfl, rfl, X, Y⟩ := I
  rcases qf_fc v1 with ⟨f, hf, rfl⟩ | hv
  · obtain ⟨K, S, hT⟩ := X f hf
    obtain ⟨y1, y2⟩ := Y f hf
    have yg := (Y (1 - f) (by omega)).2
    have n64 := qf_S_n K
    have h3 := K.2.1.1
    have h6 := K.2.1.2.1
    have n0 := qf_S_n (X 0 (by decide)).1
    have n1 := qf_S_n (X 1 (by decide)).1
    have t0 := (X 0 (by decide)).2.2
    have t1 := (X 1 (by decide)).2.2
    have vf : vp_in (nI f) 2 := vp_in_nI hf (by decide)
    obtain ⟨t, et⟩ : ∃ t, t = qf_sm (C 0) 256 + qf_sm (C 1) 256 := ⟨_, rfl⟩
    have et2 : t = qf_sm (C f) 256 + qf_sm (C (1 - f)) 256 := by
      rcases qf_f01 hf with e | e
      · rw [e, et]
      · rw [e, et, Nat.add_comm]
    have yy : ∀ P : Int32 → SY → Prop, ((nI t ≤ 63 → (∃ n33 : Nat, wY_pour_33 P (nI f) (nI t) n33 0 of sz)) ∧ (¬ nI t ≤ 63 → P (-2) (of, sz))) → wpY_pour P (of, sz) (nI f) := by
      intro P hP
      unfold wpY_pour
      refine qf_y_if1 hf (br_f (by decide) (qf_y_ct (f := 0) (by decide) (Y 0 (by decide)).2 (qf_y_ct (f := 1) (by decide) (Y 1 (by decide)).2 ?_)))
      intro x ex
      rw [nI_add, ← et] at ex
      rw [ex]
      exact hP
    unfold wpX_pour
    refine qf_x_if1 hf (br_f (by decide) ?_)
    intro x ex
    rw [(X 0 (by decide)).2.1.2, (X 1 (by decide)).2.1.2, nI_add, ← et] at ex
    rw [ex]
    refine pk_le t 63 (fun h => ?_) (fun h => ?_)
    · refine ⟨vf, fun y ey => ?_⟩
      rw [nI_clamp (show f < 2 ^ 31 by omega), K.2.2] at ey
      rw [ey]
      obtain ⟨j, hj, hl⟩ := pk_least (fun j => t + 1 ≤ 2 ^ (b f + j)) ⟨6 - b f, by rw [show b f + (6 - b f) = 6 by omega]; omega⟩
      have j6 : b f + j ≤ 6 := by
        by_cases q : 6 - b f < j
        · refine absurd ?_ (hl (6 - b f) q)
          rw [show b f + (6 - b f) = 6 by omega]
          omega
        · omega
      have no : ∀ x, b f ≤ x → x < b f + j → 2 ^ x < t + 1 := by
        intro x k1 k2
        have q := hl (x - b f) (by omega)
        rw [show b f + (x - b f) = x by omega] at q
        omega
      refine ⟨j + 1, qf_po40 (w := b f + j) X hf et2 (by omega) j6 hj no ?_ (j + 1) (b f) (Nat.le_refl _) (by omega) (by omega)⟩
      intro rc' rd' CC sb' he' lo' nm' go' pu' F' hs' cc O'
      refine yy _ (br_t (nI_le (b := 63) h (by decide)) ⟨4, ?_⟩)
      refine qf_yp33 (f := f) (b := b f) (w := b f + j) hf (by omega) h3 j6 hj no ?_ 4 0 (b f) sz (by omega) (by omega) (Nat.le_refl _) (by omega) (Or.inr rfl) y1 (fun _ _ => rfl)
      intro sz' z1 z2
      refine ⟨257, qf_yp72 (C := C f) (D := C (1 - f)) hf 257 0 of (by omega) (by omega) (fun p _ hp => y2 p hp) yg fun of' o1 o2 => ⟨rfl, qf_rel (qf_XS_u X hf F' hs' O') (qf_YS_u Y z1 (fun p hp => ?_) (fun g _ hg => z2 g hg) (fun g hg hgf p hp => o2 _ (by omega)))⟩⟩
      rw [cc p hp]
      exact o1 p (by omega) hp
    · exact yy _ (br_f (nI_ge (a := 63) h (by omega)) ⟨rfl, qf_rel X Y⟩)
  · unfold wpX_pour
    refine qf_x_if0 hv (br_t rfl ?_)
    unfold wpY_pour
    exact qf_y_if0 hv (br_t rfl ⟨rfl, qf_rel X Y⟩)
end
