section
theorem pk_us {f : Nat → Int32} {k : Nat} {x : Int32} : upd f k x k = x := if_pos rfl
theorem pk_un {f : Nat → Int32} {k j : Nat} {x : Int32} (h : j ≠ k) : upd f k x j = f j := if_neg h
theorem pk_sub {a b : Nat} (h : b ≤ a) : nI a - nI b = nI (a - b) := by
  obtain ⟨c, rfl⟩ : ∃ c, a = c + b := ⟨a - b, by omega⟩
  rw [← nI_add, Int32.add_sub_cancel, Nat.add_sub_cancel]
theorem pk_m1 (n : Nat) : nI (n + 1) + (-1) = nI n := by
  rw [← nI_1, Int32.add_assoc, show (1 : Int32) + (-1) = 0 from rfl, Int32.add_zero]
theorem pk_mul (a b : Nat) : nI a * nI b = nI (a * b) := (Int32.ofNat_mul a b).symm
theorem pk_div {a d : Nat} (ha : a < 2 ^ 31) (h0 : 0 < d) (hd : d < 2 ^ 31) : nI a / nI d = nI (a / d) := by
  apply Int32.toInt_inj.mp
  rw [lg_idiv_nonneg (by rw [nI_toInt ha]; omega) (by rw [nI_toInt hd]; omega), nI_toInt ha, nI_toInt hd, nI_toInt (Nat.lt_of_le_of_lt (Nat.div_le_self a d) ha)]
  first | rfl | exact (Int.natCast_ediv _ _).symm
theorem pk_rem {a d : Nat} (ha : a < 2 ^ 31) (h0 : 0 < d) (hd : d < 2 ^ 31) : nI a - nI a / nI d * nI d = nI (a % d) := by
  rw [pk_div ha h0 hd, pk_mul, pk_sub (Nat.div_mul_le_self a d)]
  exact congrArg nI (by have := Nat.div_add_mod' a d; omega)
theorem pk_ix (x : Int32) {n : Nat} (hn : n < 2 ^ 31) : x < 0 ∨ nI n ≤ x ∨ ∃ j : Nat, j < n ∧ x = nI j := by
  by_cases h : x < 0
  · exact Or.inl h
  · obtain ⟨j, hj, rfl⟩ := nI_of h
    by_cases h2 : j < n
    · exact Or.inr (Or.inr ⟨j, h2, rfl⟩)
    · exact Or.inr (Or.inl (nI_le (by omega) hj))
theorem pk_le {x y : Int32} {A B : Prop} (a b : Nat) (f : a ≤ b → A) (g : b < a → B) (hx : x = nI a := by rfl) (hy : y = nI b := by rfl) (ha : a < 2 ^ 31 := by omega) (hb : b < 2 ^ 31 := by omega) : (x ≤ y → A) ∧ (¬ x ≤ y → B) := by
  subst hx hy
  rw [nI_leI ha hb]
  exact ⟨f, fun z => g (by omega)⟩
theorem pk_lt {x y : Int32} {A B : Prop} (a b : Nat) (f : a < b → A) (g : b ≤ a → B) (hx : x = nI a := by rfl) (hy : y = nI b := by rfl) (ha : a < 2 ^ 31 := by omega) (hb : b < 2 ^ 31 := by omega) : (x < y → A) ∧ (¬ x < y → B) := by
  subst hx hy
  rw [nI_ltI ha hb]
  exact ⟨f, fun z => g (by omega)⟩
theorem pk_eq {x y : Int32} {A B : Prop} (a b : Nat) (f : a = b → A) (g : a ≠ b → B) (hx : x = nI a := by rfl) (hy : y = nI b := by rfl) (ha : a < 2 ^ 31 := by omega) (hb : b < 2 ^ 31 := by omega) : (x = y → A) ∧ (¬ x = y → B) := by
  subst hx hy
  rw [nI_eq ha hb]
  exact ⟨f, g⟩
theorem pk_in {x : Int32} (n N : Nat) (h : n < N) (hx : x = nI n := by rfl) (hN : N < 2 ^ 31 := by omega) : vp_in x N := by
  subst hx
  exact vp_in_nI h hN
theorem pk_cl {x : Int32} (n : Nat) (hx : x = nI n := by rfl) (h : n < 2 ^ 31 := by omega) : x.toNatClampNeg = n := by
  subst hx
  exact nI_clamp h
theorem pk_tn {n : Nat} (h : n < 2 ^ 32) : (nI n).toBitVec.toNat = n := Nat.mod_eq_of_lt h
theorem pk_and (x : Int32) {m : Int32} (k : Nat) (hm : m.toBitVec.toNat = 2 ^ k - 1) : x &&& m = nI (x.toBitVec.toNat % 2 ^ k) := by
  apply Int32.toBitVec_inj.mp
  apply BitVec.eq_of_toNat_eq
  rw [Int32.toBitVec_and, BitVec.toNat_and, hm, Nat.and_two_pow_sub_one_eq_mod]
  show _ = (BitVec.ofNat 32 _).toNat
  rw [BitVec.toNat_ofNat]
  exact (Nat.mod_eq_of_lt (Nat.lt_of_le_of_lt (Nat.mod_le _ _) x.toBitVec.isLt)).symm
theorem pk_andN {n : Nat} (h : n < 2 ^ 32) {m : Int32} (k : Nat) (hm : m.toBitVec.toNat = 2 ^ k - 1) : nI n &&& m = nI (n % 2 ^ k) := by
  rw [pk_and _ k hm, pk_tn h]
theorem pk_andE (x : Int32) {m : Int32} (k : Nat) (hm : m.toBitVec.toNat = 2 ^ k - 1) : ∃ j : Nat, j < 2 ^ k ∧ x &&& m = nI j := ⟨_, Nat.mod_lt _ (Nat.two_pow_pos k), pk_and x k hm⟩
theorem pk_andIn (x : Int32) {m : Int32} (k : Nat) (hm : m.toBitVec.toNat = 2 ^ k - 1) (hk : k ≤ 30) : vp_in (x &&& m) (2 ^ k) := by
  obtain ⟨j, hj, e⟩ := pk_andE x k hm
  rw [e]
  exact vp_in_nI hj (Nat.lt_of_le_of_lt (Nat.pow_le_pow_right (by decide) hk) (by decide))
theorem pk_shr (a s : Int32) (k : Nat) (hs : (s.toBitVec.smod 32).toNat = k) : (a >>> s).toInt = a.toInt >>> k := by
  show (a.toBitVec.sshiftRight (s.toBitVec.smod 32).toNat).toInt = _
  rw [hs, BitVec.toInt_sshiftRight]
  rfl
theorem pk_shrN {n : Nat} (h : n < 2 ^ 31) (s : Int32) (k : Nat) (hs : (s.toBitVec.smod 32).toNat = k) : nI n >>> s = nI (n / 2 ^ k) := by
  apply Int32.toInt_inj.mp
  have h2 : n / 2 ^ k ≤ n := Nat.div_le_self _ _
  rw [pk_shr _ _ k hs, nI_toInt h, nI_toInt (by omega), Int.shiftRight_eq_div_pow]
  rfl
theorem pk_vb (z : Int32) : vp_nar .byte z.toInt8.toInt32 = z.toInt8.toInt32 := by rw [vp_nar_byte]; simp
end
section
/-! slots of the ring, what an instruction does, the ghost sequences, the invariant -/
def rc_sl (F k : Nat) : Nat := (F + k) % 6
theorem rc_sl_lt (F k : Nat) : rc_sl F k < 6 := Nat.mod_lt _ (by decide)
theorem rc_sl_inj {F j k : Nat} (hj : j < 6) (hk : k < 6) (h : rc_sl F j = rc_sl F k) : j = k := by
  unfold rc_sl at h
  omega
theorem rc_sl_s (F k : Nat) : rc_sl ((F + 1) % 6) k = rc_sl F (k + 1) := by
  unfold rc_sl
  omega
theorem rc_sl_0 {F : Nat} (h : F < 6) : rc_sl F 0 = F := by
  unfold rc_sl
  omega
theorem rc_un {a : Nat → Int32} {F c j : Nat} {v : Int32} (hj : j < 6) (hc : c < 6) (h : j ≠ c) : upd a (rc_sl F c) v (rc_sl F j) = a (rc_sl F j) := pk_un (fun e => h (rc_sl_inj hj hc e))
theorem rc_31 {n : Nat} (h : n < 16) : n < 2 ^ 31 := Nat.lt_trans h (by decide)
theorem rc_s31 (F k : Nat) : rc_sl F k < 2 ^ 31 := Nat.lt_trans (rc_sl_lt F k) (by decide)
theorem rc_nsl {F j k : Nat} (hj : j < 6) (hk : k < 6) (h : nI (rc_sl F j) = nI (rc_sl F k)) : j = k := rc_sl_inj hj hk ((nI_eq (rc_s31 F j) (rc_s31 F k)).mp h)
theorem rc_ne1 {n : Nat} (h : n < 2 ^ 31) : ¬ (-1 : Int32) = nI n := by
  intro e
  have h1 := nI_pos h
  rw [← e] at h1
  exact h1 (by decide)
theorem rc_rem {F k : Nat} (hF : F < 6) (hk : k ≤ 6) : (nI F + nI k) - (nI F + nI k) / 6 * 6 = nI (rc_sl F k) := by
  rw [nI_add]
  exact pk_rem (d := 6) (by omega) (by decide) (by decide)
theorem rc_scl (F k : Nat) : (nI (rc_sl F k)).toNatClampNeg = rc_sl F k := nI_clamp (rc_s31 F k)
theorem rc_sin (F k : Nat) : vp_in (nI (rc_sl F k)) 6 := vp_in_nI (rc_sl_lt F k) (by decide)
theorem rc_60 : ¬ (6 : Int32) = 0 := by decide
theorem rc_nm1 : vp_nar .byte (-1) = -1 := by rw [vp_nar_byte]; decide
def rc_set (s : Nat → Nat) (c v : Nat) : Nat → Nat := fun k => if k = c then v else s k
theorem rc_set_s {s : Nat → Nat} {c v : Nat} : rc_set s c v c = v := if_pos rfl
theorem rc_set_n {s : Nat → Nat} {c v k : Nat} (h : k ≠ c) : rc_set s c v k = s k := if_neg h
/-- what an instruction makes -/
def rc_val (o : Nat) (N x y : Int32) (c : Nat → Int32) : Int32 :=
  if o = 0 then N else if o = 1 then x + y else if o = 2 then x * y else if o = 3 then (if y = 0 then 0 else x / y) else c (x &&& 7).toNatClampNeg
def rc_hl (o : Nat) : Prop := 1 ≤ o ∧ o ≤ 6
def rc_hr (o : Nat) : Prop := (1 ≤ o ∧ o ≤ 3) ∨ o = 5
def rc_sL (o A B : Nat) : Nat := if o ≤ 4 then B else A
def rc_sR (o B D : Nat) : Nat := if o = 5 then B else D
def rc_trap (o : Nat) (x y : Int32) : Prop := (o = 3 ∧ y = 0) ∨ (o = 4 ∧ x < 0) ∨ (o = 5 ∧ y < 0) ∨ o = 9
def rc_slow (o : Nat) : Prop := o = 2 ∨ o = 3
/-- the program at a place -/
def rc_at (sz : Int32) (ops rgs nms : Nat → Int32) (p : Int32) (o A B D : Nat) (N : Int32) : Prop :=
  A < 4 ∧ B < 4 ∧ D < 4 ∧ ((o = 9 ∧ (p < 0 ∨ sz ≤ p)) ∨ (o ≤ 8 ∧ ∃ q : Nat, q < 16 ∧ p = nI q ∧ p < sz ∧ ops q = nI o ∧ rgs q &&& 3 = nI A ∧ (rgs q >>> ((2 : Int32) &&& 31)) &&& 3 = nI B ∧ rgs q >>> ((4 : Int32) &&& 31) = nI D ∧ nms q = N))
def rc_bit (gb p : Int32) : Int32 := ((gb.toUInt32 >>> ((p &&& 15).toUInt32 &&& Int32.toUInt32 31)).toInt32) &&& 1
def rc_nx (gb : Int32) (o : Nat) (p N : Int32) : Int32 := if o = 6 then (if rc_bit gb p = 0 then p + 1 else N) else if o = 7 then N else p + 1
def rc_R1 (o A B D : Nat) (N : Int32) (r c : Nat → Int32) : Nat → Int32 := if o ≤ 4 then upd r A (rc_val o N (r (rc_sL o A B)) (r (rc_sR o B D)) c) else r
def rc_C1 (o A B D : Nat) (r c : Nat → Int32) : Nat → Int32 := if o = 5 then upd c ((r (rc_sR o B D)) &&& 7).toNatClampNeg (r (rc_sL o A B)) else c
/-- the guessed path from a place, registers and cells on -/
def rc_gh (gb sz : Int32) (ops rgs nms : Nat → Int32) (P : Nat → Int32) (o A B D : Nat → Nat) (N : Nat → Int32) (R C : Nat → Nat → Int32) : Prop :=
  ∀ k : Nat, rc_at sz ops rgs nms (P k) (o k) (A k) (B k) (D k) (N k) ∧ R (k + 1) = rc_R1 (o k) (A k) (B k) (D k) (N k) (R k) (C k) ∧ C (k + 1) = rc_C1 (o k) (A k) (B k) (D k) (R k) (C k) ∧ P (k + 1) = rc_nx gb (o k) (P k) (N k)
/-- j is the last before k that writes r -/
def rc_lw (o A : Nat → Nat) (j r k : Nat) : Prop := j < k ∧ o j ≤ 4 ∧ A j = r ∧ ∀ i, j < i → i < k → ¬ (o i ≤ 4 ∧ A i = r)
def rc_opk (F : Nat) (o A : Nat → Nat) (s : Nat → Nat) (k : Nat) (v : Int32) (r : Nat) (fr vl : Int32) : Prop :=
  (fr = -1 ∧ vl = v) ∨ (s k = 0 ∧ ∃ j, j < k ∧ s j ≠ 2 ∧ fr = nI (rc_sl F j) ∧ rc_lw o A j r k)
def rc_opd (F U : Nat) (o A : Nat → Nat) (s : Nat → Nat) (R : Nat → Nat → Int32) (has : Nat → Prop) (src : Nat → Nat) (FR VL : Nat → Int32) : Prop :=
  ∀ k, k < U → (¬ has k → FR (rc_sl F k) = -1) ∧ (has k → rc_opk F o A s k (R k (src k)) (src k) (FR (rc_sl F k)) (VL (rc_sl F k)))
def rc_res (o s : Nat) (N p x y : Int32) (c : Nat → Int32) (r a t : Int32) : Prop :=
  (s = 2 → (o ≤ 4 → r = rc_val o N x y c) ∧ (o = 5 → a = y &&& 7) ∧ (o = 6 → r = if x = 0 then N else p + 1) ∧ (t = 0 ↔ ¬ rc_trap o x y)) ∧ (s ≠ 2 → t = 0) ∧ (o = 0 ∨ o = 7 ∨ (o = 6 ∧ s ≠ 2) → r = N)
def rc_K1 (F U : Nat) (o A : Nat → Nat) (P : Nat → Int32) (ft : Int32) (op pl gs tg : Nat → Int32) : Prop :=
  ∀ k, k < U → op (rc_sl F k) = nI (o k) ∧ pl (rc_sl F k) = P k ∧ (o k ≤ 4 → tg (rc_sl F k) = nI (A k)) ∧ (o k = 6 → gs (rc_sl F k) = P (k + 1)) ∧ (8 ≤ o k → k + 1 = U ∧ ft = 0)
def rc_K2 (F U : Nat) (o s l : Nat → Nat) (sg lf : Nat → Int32) : Prop :=
  ∀ k, k < U → sg (rc_sl F k) = nI (s k) ∧ s k ≤ 2 ∧ (s k = 1 → lf (rc_sl F k) = nI (l k) ∧ l k ≤ 5) ∧ (s k ≠ 0 → o k = 4 → ∀ j, j < k → o j ≠ 5)
def rc_K7 (U : Nat) (o s : Nat → Nat) : Prop := ∀ j k, j < U → k < U → s j = 1 → s k = 1 → rc_slow (o j) → rc_slow (o k) → j = k
def rc_K4 (F U : Nat) (o A B D s : Nat → Nat) (N P : Nat → Int32) (R C : Nat → Nat → Int32) (res ad tr : Nat → Int32) : Prop :=
  ∀ k, k < U → rc_res (o k) (s k) (N k) (P k) (R k (rc_sL (o k) (A k) (B k))) (R k (rc_sR (o k) (B k) (D k))) (C k) (res (rc_sl F k)) (ad (rc_sl F k)) (tr (rc_sl F k))
def rc_K5 (F U : Nat) (o A : Nat → Nat) (mk : Nat → Int32) : Prop :=
  ∀ r, r < 4 → (mk r = -1 ∧ ∀ k, k < U → ¬ (o k ≤ 4 ∧ A k = r)) ∨ (∃ k, k < U ∧ mk r = nI (rc_sl F k) ∧ rc_lw o A k r U)
def rc_K6 (U : Nat) (o : Nat → Nat) (P : Nat → Int32) (fa ft : Int32) : Prop := (ft ≠ 0 → fa = P U) ∧ (ft = 0 → ∃ k, k < U ∧ 8 ≤ o k)
def rc_OL (F U : Nat) (o A B s : Nat → Nat) (R : Nat → Nat → Int32) (LF LV : Nat → Int32) : Prop := rc_opd F U o A s R (fun k => rc_hl (o k)) (fun k => rc_sL (o k) (A k) (B k)) LF LV
def rc_OR (F U : Nat) (o A B D s : Nat → Nat) (R : Nat → Nat → Int32) (RF RV : Nat → Int32) : Prop := rc_opd F U o A s R (fun k => rc_hr (o k)) (fun k => rc_sR (o k) (B k) (D k)) RF RV
/-- the ring -/
def rc_I (F U : Nat) (P : Nat → Int32) (o A B D : Nat → Nat) (N : Nat → Int32) (R C : Nat → Nat → Int32) (s l : Nat → Nat) (fa ft : Int32) (op pl sg lf res ad tr gs tg LF RF LV RV mk : Nat → Int32) : Prop :=
  F < 6 ∧ U ≤ 6 ∧ rc_K1 F U o A P ft op pl gs tg ∧ rc_K2 F U o s l sg lf ∧ rc_K7 U o s ∧ rc_OL F U o A B s R LF LV ∧ rc_OR F U o A B D s R RF RV ∧ rc_K4 F U o A B D s N P R C res ad tr ∧ rc_K5 F U o A mk ∧ rc_K6 U o P fa ft
section
variable {gb sz : Int32} {ops rgs nms : Nat → Int32} {P : Nat → Int32} {o A B D : Nat → Nat} {N : Nat → Int32} {R C : Nat → Nat → Int32}
theorem rc_R_keep (g : rc_gh gb sz ops rgs nms P o A B D N R C) {r j : Nat} : ∀ k, j ≤ k → (∀ i, j ≤ i → i < k → ¬ (o i ≤ 4 ∧ A i = r)) → R k r = R j r := by
  intro k
  induction k with
  | zero =>
    intro h _
    have e : j = 0 := by omega
    rw [e]
  | succ k ih =>
    intro h hn
    by_cases e : j = k + 1
    · rw [e]
    · rw [← ih (by omega) (fun i h1 h2 => hn i h1 (by omega)), (g k).2.1]
      unfold rc_R1
      by_cases h4 : o k ≤ 4
      · rw [if_pos h4]
        exact pk_un (fun e => hn k (by omega) (by omega) ⟨h4, e.symm⟩)
      · rw [if_neg h4]
theorem rc_R_lw (g : rc_gh gb sz ops rgs nms P o A B D N R C) {j r k : Nat} (h : rc_lw o A j r k) : R k r = rc_val (o j) (N j) (R j (rc_sL (o j) (A j) (B j))) (R j (rc_sR (o j) (B j) (D j))) (C j) := by
  obtain ⟨h1, h2, h3, h4⟩ := h
  rw [rc_R_keep g (j := j + 1) k h1 (fun i hi hk => h4 i hi hk), (g j).2.1]
  unfold rc_R1
  rw [if_pos h2, h3]
  exact pk_us
theorem rc_C_keep (g : rc_gh gb sz ops rgs nms P o A B D N R C) : ∀ k, (∀ i, i < k → o i ≠ 5) → C k = C 0 := by
  intro k
  induction k with
  | zero => intro _; rfl
  | succ k ih =>
    intro h
    rw [← ih (fun i hi => h i (by omega)), (g k).2.2.1]
    unfold rc_C1
    rw [if_neg (h k (by omega))]
theorem rc_gh_s (g : rc_gh gb sz ops rgs nms P o A B D N R C) : rc_gh gb sz ops rgs nms (fun k => P (k + 1)) (fun k => o (k + 1)) (fun k => A (k + 1)) (fun k => B (k + 1)) (fun k => D (k + 1)) (fun k => N (k + 1)) (fun k => R (k + 1)) (fun k => C (k + 1)) := fun k => g (k + 1)
end
/-- a well-formed program -/
def rc_PG (sz : Int32) (ops rgs : Nat → Int32) : Prop := ∃ z : Nat, z ≤ 16 ∧ sz = nI z ∧ ∀ q, q < z → (∃ o, o ≤ 8 ∧ ops q = nI o) ∧ (∃ w, w < 64 ∧ rgs q = nI w)
theorem rc_at_ex {sz : Int32} {ops rgs : Nat → Int32} (nms : Nat → Int32) (h : rc_PG sz ops rgs) (p : Int32) : ∃ d : Nat × Nat × Nat × Nat × Int32, rc_at sz ops rgs nms p d.1 d.2.1 d.2.2.1 d.2.2.2.1 d.2.2.2.2 := by
  obtain ⟨z, hz, rfl, hp⟩ := h
  rcases pk_ix p (n := z) (by omega) with h1 | h1 | ⟨q, hq, rfl⟩
  · exact ⟨(9, 0, 0, 0, 0), by decide, by decide, by decide, Or.inl ⟨rfl, Or.inl h1⟩⟩
  · exact ⟨(9, 0, 0, 0, 0), by decide, by decide, by decide, Or.inl ⟨rfl, Or.inr h1⟩⟩
  · obtain ⟨⟨o, ho, eo⟩, ⟨w, hw, ew⟩⟩ := hp q hq
    refine ⟨(o, w % 4, w / 4 % 4, w / 16, nms q), ?_, ?_, ?_, Or.inr ⟨ho, q, by omega, rfl, nI_lt hq (by omega), eo, ?_, ?_, ?_, rfl⟩⟩
    · show w % 4 < 4; omega
    · show w / 4 % 4 < 4; omega
    · show w / 16 < 4; omega
    · rw [ew]; exact pk_andN (by omega) 2 (by decide)
    · rw [ew, pk_shrN (by omega) _ 2 (by decide)]; exact pk_andN (by omega) 2 (by decide)
    · rw [ew]; exact pk_shrN (by omega) _ 4 (by decide)
noncomputable def rc_dc {sz : Int32} {ops rgs : Nat → Int32} (nms : Nat → Int32) (h : rc_PG sz ops rgs) (p : Int32) : Nat × Nat × Nat × Nat × Int32 := (rc_at_ex nms h p).choose
noncomputable def rc_orb {sz : Int32} {ops rgs : Nat → Int32} (nms : Nat → Int32) (h : rc_PG sz ops rgs) (gb p : Int32) (r c : Nat → Int32) : Nat → Int32 × (Nat → Int32) × (Nat → Int32)
  | 0 => (p, r, c)
  | k + 1 => (rc_nx gb (rc_dc nms h (rc_orb nms h gb p r c k).1).1 (rc_orb nms h gb p r c k).1 (rc_dc nms h (rc_orb nms h gb p r c k).1).2.2.2.2, rc_R1 (rc_dc nms h (rc_orb nms h gb p r c k).1).1 (rc_dc nms h (rc_orb nms h gb p r c k).1).2.1 (rc_dc nms h (rc_orb nms h gb p r c k).1).2.2.1 (rc_dc nms h (rc_orb nms h gb p r c k).1).2.2.2.1 (rc_dc nms h (rc_orb nms h gb p r c k).1).2.2.2.2 (rc_orb nms h gb p r c k).2.1 (rc_orb nms h gb p r c k).2.2, rc_C1 (rc_dc nms h (rc_orb nms h gb p r c k).1).1 (rc_dc nms h (rc_orb nms h gb p r c k).1).2.1 (rc_dc nms h (rc_orb nms h gb p r c k).1).2.2.1 (rc_dc nms h (rc_orb nms h gb p r c k).1).2.2.2.1 (rc_orb nms h gb p r c k).2.1 (rc_orb nms h gb p r c k).2.2)
theorem rc_gh_ex {sz : Int32} {ops rgs : Nat → Int32} (nms : Nat → Int32) (h : rc_PG sz ops rgs) (gb p : Int32) (r c : Nat → Int32) : ∃ (P : Nat → Int32) (o A B D : Nat → Nat) (N : Nat → Int32) (R C : Nat → Nat → Int32), rc_gh gb sz ops rgs nms P o A B D N R C ∧ P 0 = p ∧ R 0 = r ∧ C 0 = c :=
  ⟨fun k => (rc_orb nms h gb p r c k).1, fun k => (rc_dc nms h (rc_orb nms h gb p r c k).1).1, fun k => (rc_dc nms h (rc_orb nms h gb p r c k).1).2.1, fun k => (rc_dc nms h (rc_orb nms h gb p r c k).1).2.2.1, fun k => (rc_dc nms h (rc_orb nms h gb p r c k).1).2.2.2.1, fun k => (rc_dc nms h (rc_orb nms h gb p r c k).1).2.2.2.2, fun k => (rc_orb nms h gb p r c k).2.1, fun k => (rc_orb nms h gb p r c k).2.2, fun k => ⟨(rc_at_ex nms h (rc_orb nms h gb p r c k).1).choose_spec, rfl, rfl, rfl⟩, rfl, rfl, rfl⟩
end
section
/-! the invariant is kept: pure rows -/
def rc_hd (i w fr vl fr' vl' : Int32) : Prop := (fr = i → fr' = -1 ∧ vl' = w) ∧ (fr ≠ i → fr' = fr ∧ vl' = vl)
def rc_ag (i : Nat) (a a' : Nat → Int32) : Prop := ∀ j, j ≠ i → a' j = a j
theorem rc_ag_k {F U k : Nat} {a a' : Nat → Int32} (h : rc_ag (rc_sl F U) a a') (hk : k < U) (hU : U < 6) : a' (rc_sl F k) = a (rc_sl F k) := h _ (fun e => Nat.ne_of_lt hk (rc_sl_inj (by omega) hU e))
theorem rc_res_01 {o : Nat} {N p x y : Int32} {c : Nat → Int32} {r a t : Int32} (h : rc_res o 0 N p x y c r a t) : rc_res o 1 N p x y c r a t := by
  refine ⟨fun z => absurd z (by decide), fun _ => h.2.1 (by decide), fun z => h.2.2 ?_⟩
  rcases z with z | z | z
  · exact Or.inl z
  · exact Or.inr (Or.inl z)
  · exact Or.inr (Or.inr ⟨z.1, by decide⟩)
section
variable {gb sz : Int32} {ops rgs nms : Nat → Int32} {P : Nat → Int32} {o A B D : Nat → Nat} {N : Nat → Int32} {R C : Nat → Nat → Int32} {F U : Nat} {s l : Nat → Nat} {fa ft : Int32} {op pl sg lf res ad tr gs tg LF RF LV RV mk : Nat → Int32}
theorem rc_cp_opd (g : rc_gh gb sz ops rgs nms P o A B D N R C) {c : Nat} {has : Nat → Prop} {src : Nat → Nat} {FR VL FR' VL' : Nat → Int32} {w : Int32} (hU : U ≤ 6) (h : rc_opd F U o A s R has src FR VL) (hc : c < U) (hs : s c = 1) (hw : o c ≤ 4 → w = rc_val (o c) (N c) (R c (rc_sL (o c) (A c) (B c))) (R c (rc_sR (o c) (B c) (D c))) (C c)) (hh : ∀ k, k < U → rc_hd (nI (rc_sl F c)) w (FR (rc_sl F k)) (VL (rc_sl F k)) (FR' (rc_sl F k)) (VL' (rc_sl F k))) : rc_opd F U o A (rc_set s c 2) R has src FR' VL' := by
  intro k hk
  obtain ⟨h1, h2⟩ := h k hk
  obtain ⟨d1, d2⟩ := hh k hk
  refine ⟨fun hn => ?_, fun hy => ?_⟩
  · have e := h1 hn
    rw [(d2 (by rw [e]; exact rc_ne1 (rc_s31 F c))).1]
    exact e
  · rcases h2 hy with ⟨e1, e2⟩ | ⟨s0, j, hj, sj, e, lw⟩
    · have d := d2 (by rw [e1]; exact rc_ne1 (rc_s31 F c))
      exact Or.inl ⟨d.1.trans e1, d.2.trans e2⟩
    · by_cases jc : j = c
      · subst jc
        have d := d1 e
        exact Or.inl ⟨d.1, d.2.trans ((hw lw.2.1).trans (rc_R_lw g lw).symm)⟩
      · have d := d2 (fun z => jc (rc_nsl (by omega) (by omega) (e.symm.trans z)))
        refine Or.inr ⟨?_, j, hj, ?_, d.1.trans e, lw⟩
        · have kc : k ≠ c := fun z => by rw [z, hs] at s0; exact absurd s0 (by decide)
          rw [rc_set_n kc]
          exact s0
        · rw [rc_set_n jc]
          exact sj
theorem rc_cp (g : rc_gh gb sz ops rgs nms P o A B D N R C) (h : rc_I F U P o A B D N R C s l fa ft op pl sg lf res ad tr gs tg LF RF LV RV mk) {c : Nat} (hc : c < U) (hs : s c = 1) {res' ad' tr' LF' RF' LV' RV' : Nat → Int32}
    (hr : rc_res (o c) 2 (N c) (P c) (R c (rc_sL (o c) (A c) (B c))) (R c (rc_sR (o c) (B c) (D c))) (C c) (res' (rc_sl F c)) (ad' (rc_sl F c)) (tr' (rc_sl F c)))
    (hn : ∀ j, j ≠ rc_sl F c → res' j = res j ∧ ad' j = ad j ∧ tr' j = tr j)
    (hL : ∀ k, k < U → rc_hd (nI (rc_sl F c)) (res' (rc_sl F c)) (LF (rc_sl F k)) (LV (rc_sl F k)) (LF' (rc_sl F k)) (LV' (rc_sl F k)))
    (hR : ∀ k, k < U → rc_hd (nI (rc_sl F c)) (res' (rc_sl F c)) (RF (rc_sl F k)) (RV (rc_sl F k)) (RF' (rc_sl F k)) (RV' (rc_sl F k))) :
    rc_I F U P o A B D N R C (rc_set s c 2) l fa ft op pl (upd sg (rc_sl F c) 2) lf res' ad' tr' gs tg LF' RF' LV' RV' mk := by
  obtain ⟨hF, hU, k1, k2, k7, kl, kr, k4, k5, k6⟩ := h
  have hw := (hr.1 rfl).1
  refine ⟨hF, hU, k1, ?_, ?_, rc_cp_opd g hU kl hc hs hw hL, rc_cp_opd g hU kr hc hs hw hR, ?_, k5, k6⟩
  · intro k hk
    obtain ⟨a1, a2, a3, a4⟩ := k2 k hk
    by_cases e : k = c
    · subst e
      rw [rc_set_s]
      exact ⟨pk_us, by decide, fun z => absurd z (by decide), fun _ => a4 (by omega)⟩
    · rw [rc_set_n e, rc_un (by omega) (by omega) e]
      exact ⟨a1, a2, a3, a4⟩
  · intro j k hj hk sj sk
    have e1 : j ≠ c := fun z => by rw [z, rc_set_s] at sj; exact absurd sj (by decide)
    have e2 : k ≠ c := fun z => by rw [z, rc_set_s] at sk; exact absurd sk (by decide)
    rw [rc_set_n e1] at sj
    rw [rc_set_n e2] at sk
    exact k7 j k hj hk sj sk
  · intro k hk
    by_cases e : k = c
    · subst e
      rw [rc_set_s]
      exact hr
    · obtain ⟨b1, b2, b3⟩ := hn (rc_sl F k) (fun z => e (rc_sl_inj (by omega) (by omega) z))
      rw [rc_set_n e, b1, b2, b3]
      exact k4 k hk
theorem rc_lfk (h : rc_I F U P o A B D N R C s l fa ft op pl sg lf res ad tr gs tg LF RF LV RV mk) {l' : Nat → Nat} {lf' : Nat → Int32} (hl : ∀ k, k < U → s k = 1 → lf' (rc_sl F k) = nI (l' k) ∧ l' k ≤ 5) : rc_I F U P o A B D N R C s l' fa ft op pl sg lf' res ad tr gs tg LF RF LV RV mk := by
  obtain ⟨hF, hU, k1, k2, k7, kl, kr, k4, k5, k6⟩ := h
  exact ⟨hF, hU, k1, fun k hk => ⟨(k2 k hk).1, (k2 k hk).2.1, hl k hk, (k2 k hk).2.2.2⟩, k7, kl, kr, k4, k5, k6⟩
theorem rc_bg_opd {c : Nat} {has : Nat → Prop} {src : Nat → Nat} {FR VL : Nat → Int32} (h : rc_opd F U o A s R has src FR VL) (hc : c < U) (hf : FR (rc_sl F c) = -1) : rc_opd F U o A (rc_set s c 1) R has src FR VL := by
  intro k hk
  obtain ⟨h1, h2⟩ := h k hk
  refine ⟨h1, fun hy => ?_⟩
  rcases h2 hy with e | ⟨s0, j, hj, sj, e, lw⟩
  · exact Or.inl e
  · have kc : k ≠ c := fun z => by rw [z, hf] at e; exact rc_ne1 (rc_s31 F j) e
    refine Or.inr ⟨?_, j, hj, ?_, e, lw⟩
    · rw [rc_set_n kc]
      exact s0
    · by_cases jc : j = c
      · rw [jc, rc_set_s]
        decide
      · rw [rc_set_n jc]
        exact sj
theorem rc_bg (h : rc_I F U P o A B D N R C s l fa ft op pl sg lf res ad tr gs tg LF RF LV RV mk) {c m : Nat} (hc : c < U) (hs : s c = 0) (hm : m ≤ 5) (hl : LF (rc_sl F c) = -1) (hr : RF (rc_sl F c) = -1) (h5 : o c = 4 → ∀ j, j < c → o j ≠ 5) (hw : rc_slow (o c) → ∀ j, j < U → s j = 1 → ¬ rc_slow (o j)) : rc_I F U P o A B D N R C (rc_set s c 1) (rc_set l c m) fa ft op pl (upd sg (rc_sl F c) 1) (upd lf (rc_sl F c) (nI m)) res ad tr gs tg LF RF LV RV mk := by
  obtain ⟨hF, hU, k1, k2, k7, kl, kr, k4, k5, k6⟩ := h
  refine ⟨hF, hU, k1, ?_, ?_, rc_bg_opd kl hc hl, rc_bg_opd kr hc hr, ?_, k5, k6⟩
  · intro k hk
    obtain ⟨a1, a2, a3, a4⟩ := k2 k hk
    by_cases e : k = c
    · subst e
      rw [rc_set_s, rc_set_s]
      exact ⟨pk_us, by decide, fun _ => ⟨pk_us, hm⟩, fun _ => h5⟩
    · rw [rc_set_n e, rc_set_n e, rc_un (by omega) (by omega) e, rc_un (by omega) (by omega) e]
      exact ⟨a1, a2, a3, a4⟩
  · intro j k hj hk sj sk wj wk
    by_cases e1 : j = c
    · by_cases e2 : k = c
      · rw [e1, e2]
      · rw [rc_set_n e2] at sk
        exact absurd wk (hw (e1 ▸ wj) k hk sk)
    · rw [rc_set_n e1] at sj
      by_cases e2 : k = c
      · exact absurd wj (hw (e2 ▸ wk) j hj sj)
      · rw [rc_set_n e2] at sk
        exact k7 j k hj hk sj sk wj wk
  · intro k hk
    by_cases e : k = c
    · subst e
      rw [rc_set_s]
      have q := k4 k hk
      rw [hs] at q
      exact rc_res_01 q
    · rw [rc_set_n e]
      exact k4 k hk
theorem rc_is_opd {has : Nat → Prop} {src : Nat → Nat} {FR VL FR' VL' : Nat → Int32} (h : rc_opd F U o A s R has src FR VL) (hU : U < 6) (a1 : rc_ag (rc_sl F U) FR FR') (a2 : rc_ag (rc_sl F U) VL VL') (n1 : ¬ has U → FR' (rc_sl F U) = -1) (n2 : has U → rc_opk F o A (rc_set s U 0) U (R U (src U)) (src U) (FR' (rc_sl F U)) (VL' (rc_sl F U))) : rc_opd F (U + 1) o A (rc_set s U 0) R has src FR' VL' := by
  intro k hk
  by_cases e : k = U
  · subst e
    exact ⟨n1, n2⟩
  · have hk' : k < U := by omega
    obtain ⟨h1, h2⟩ := h k hk'
    rw [rc_ag_k a1 hk' hU, rc_ag_k a2 hk' hU]
    refine ⟨h1, fun hy => ?_⟩
    rcases h2 hy with e1 | ⟨s0, j, hj, sj, e1, lw⟩
    · exact Or.inl e1
    · refine Or.inr ⟨?_, j, hj, ?_, e1, lw⟩
      · rw [rc_set_n e]
        exact s0
      · rw [rc_set_n (by omega)]
        exact sj
theorem rc_is (h : rc_I F U P o A B D N R C s l fa ft op pl sg lf res ad tr gs tg LF RF LV RV mk) (hU : U < 6) (hft : ft ≠ 0) {fa' ft' : Int32} {op' pl' sg' res' tr' gs' tg' LF' RF' LV' RV' mk' : Nat → Int32}
    (aop : rc_ag (rc_sl F U) op op') (apl : rc_ag (rc_sl F U) pl pl') (asg : rc_ag (rc_sl F U) sg sg') (ares : rc_ag (rc_sl F U) res res') (atr : rc_ag (rc_sl F U) tr tr') (ags : rc_ag (rc_sl F U) gs gs') (atg : rc_ag (rc_sl F U) tg tg') (aLF : rc_ag (rc_sl F U) LF LF') (aRF : rc_ag (rc_sl F U) RF RF') (aLV : rc_ag (rc_sl F U) LV LV') (aRV : rc_ag (rc_sl F U) RV RV')
    (eop : op' (rc_sl F U) = nI (o U)) (epl : pl' (rc_sl F U) = P U) (esg : sg' (rc_sl F U) = 0) (etr : tr' (rc_sl F U) = 0)
    (etg : o U ≤ 4 → tg' (rc_sl F U) = nI (A U)) (egs : o U = 6 → gs' (rc_sl F U) = P (U + 1)) (eres : o U = 0 ∨ o U = 7 ∨ o U = 6 → res' (rc_sl F U) = N U)
    (l1 : ¬ rc_hl (o U) → LF' (rc_sl F U) = -1) (l2 : rc_hl (o U) → rc_opk F o A (rc_set s U 0) U (R U (rc_sL (o U) (A U) (B U))) (rc_sL (o U) (A U) (B U)) (LF' (rc_sl F U)) (LV' (rc_sl F U)))
    (r1 : ¬ rc_hr (o U) → RF' (rc_sl F U) = -1) (r2 : rc_hr (o U) → rc_opk F o A (rc_set s U 0) U (R U (rc_sR (o U) (B U) (D U))) (rc_sR (o U) (B U) (D U)) (RF' (rc_sl F U)) (RV' (rc_sl F U)))
    (m1 : o U ≤ 4 → mk' = upd mk (A U) (nI (rc_sl F U))) (m2 : ¬ o U ≤ 4 → mk' = mk) (f1 : 8 ≤ o U → ft' = 0) (f2 : ¬ 8 ≤ o U → ft' ≠ 0 ∧ fa' = P (U + 1)) :
    rc_I F (U + 1) P o A B D N R C (rc_set s U 0) l fa' ft' op' pl' sg' lf res' ad tr' gs' tg' LF' RF' LV' RV' mk' := by
  obtain ⟨hF, _, k1, k2, k7, kl, kr, k4, k5, k6⟩ := h
  refine ⟨hF, hU, ?_, ?_, ?_, rc_is_opd kl hU aLF aLV l1 l2, rc_is_opd kr hU aRF aRV r1 r2, ?_, ?_, ?_⟩
  · intro k hk
    by_cases e : k = U
    · subst e
      exact ⟨eop, epl, etg, egs, fun z => ⟨rfl, f1 z⟩⟩
    · have hk' : k < U := by omega
      obtain ⟨a1, a2, a3, a4, a5⟩ := k1 k hk'
      rw [rc_ag_k aop hk' hU, rc_ag_k apl hk' hU, rc_ag_k atg hk' hU, rc_ag_k ags hk' hU]
      exact ⟨a1, a2, a3, a4, fun z => absurd (a5 z).2 hft⟩
  · intro k hk
    by_cases e : k = U
    · subst e
      rw [rc_set_s]
      exact ⟨esg, by decide, fun z => absurd z (by decide), fun z => absurd rfl z⟩
    · have hk' : k < U := by omega
      rw [rc_ag_k asg hk' hU, rc_set_n e]
      exact k2 k hk'
  · intro j k hj hk sj sk
    have e1 : j ≠ U := fun z => by rw [z, rc_set_s] at sj; exact absurd sj (by decide)
    have e2 : k ≠ U := fun z => by rw [z, rc_set_s] at sk; exact absurd sk (by decide)
    rw [rc_set_n e1] at sj
    rw [rc_set_n e2] at sk
    exact k7 j k (by omega) (by omega) sj sk
  · intro k hk
    by_cases e : k = U
    · subst e
      rw [rc_set_s]
      refine ⟨fun z => absurd z (by decide), fun _ => etr, fun z => eres ?_⟩
      rcases z with z | z | z
      · exact Or.inl z
      · exact Or.inr (Or.inl z)
      · exact Or.inr (Or.inr z.1)
    · have hk' : k < U := by omega
      rw [rc_ag_k ares hk' hU, rc_ag_k atr hk' hU, rc_set_n e]
      exact k4 k hk'
  · intro r hr
    by_cases w : o U ≤ 4 ∧ A U = r
    · refine Or.inr ⟨U, by omega, ?_, by omega, w.1, w.2, fun i h1 h2 => absurd h1 (by omega)⟩
      rw [m1 w.1, w.2]
      exact pk_us
    · have e : mk' r = mk r := by
        by_cases h4 : o U ≤ 4
        · rw [m1 h4]
          exact pk_un (fun z => w ⟨h4, z.symm⟩)
        · rw [m2 h4]
      rw [e]
      rcases k5 r hr with ⟨b1, b2⟩ | ⟨k, hk, b1, b2⟩
      · refine Or.inl ⟨b1, fun k hk => ?_⟩
        by_cases e : k = U
        · rw [e]
          exact w
        · exact b2 k (by omega)
      · refine Or.inr ⟨k, by omega, b1, by omega, b2.2.1, b2.2.2.1, fun i h1 h2 => ?_⟩
        by_cases e : i = U
        · rw [e]
          exact w
        · exact b2.2.2.2 i h1 (by omega)
  · by_cases h8 : 8 ≤ o U
    · exact ⟨fun z => absurd (f1 h8) z, fun _ => ⟨U, by omega, h8⟩⟩
    · exact ⟨fun _ => (f2 h8).2, fun z => absurd z (f2 h8).1⟩
end
end
section
/-! retiring, the empty ring, the measure -/
section
variable {gb sz : Int32} {ops rgs nms : Nat → Int32} {P : Nat → Int32} {o A B D : Nat → Nat} {N : Nat → Int32} {R C : Nat → Nat → Int32} {F V : Nat} {s l : Nat → Nat} {fa ft : Int32} {op pl sg lf res ad tr gs tg LF RF LV RV mk : Nat → Int32}
theorem rc_lw_s {j r k : Nat} (h : rc_lw o A (j + 1) r (k + 1)) : rc_lw (fun k => o (k + 1)) (fun k => A (k + 1)) j r k := by
  obtain ⟨h1, h2, h3, h4⟩ := h
  exact ⟨by omega, h2, h3, fun i hi hk => h4 (i + 1) (by omega) (by omega)⟩
theorem rc_rt_opd {has : Nat → Prop} {src : Nat → Nat} {FR VL : Nat → Int32} (h : rc_opd F (V + 1) o A s R has src FR VL) (hs : s 0 = 2) : rc_opd ((F + 1) % 6) V (fun k => o (k + 1)) (fun k => A (k + 1)) (fun k => s (k + 1)) (fun k => R (k + 1)) (fun k => has (k + 1)) (fun k => src (k + 1)) FR VL := by
  intro k hk
  obtain ⟨h1, h2⟩ := h (k + 1) (by omega)
  rw [rc_sl_s]
  refine ⟨h1, fun hy => ?_⟩
  rcases h2 hy with e1 | ⟨s0, j, hj, sj, e1, lw⟩
  · exact Or.inl e1
  · match j, hj, sj, e1, lw with
    | 0, _, sj, _, _ => exact absurd hs sj
    | j + 1, hj, sj, e1, lw => exact Or.inr ⟨s0, j, by omega, sj, by rw [rc_sl_s]; exact e1, rc_lw_s lw⟩
theorem rc_rt (h : rc_I F (V + 1) P o A B D N R C s l fa ft op pl sg lf res ad tr gs tg LF RF LV RV mk) (hs : s 0 = 2) (ho : o 0 ≤ 7) {mk' : Nat → Int32} (hm : ∀ r, r < 4 → (o 0 ≤ 4 ∧ A 0 = r ∧ mk r = nI (rc_sl F 0) → mk' r = -1) ∧ (¬ (o 0 ≤ 4 ∧ A 0 = r ∧ mk r = nI (rc_sl F 0)) → mk' r = mk r)) :
    rc_I ((F + 1) % 6) V (fun k => P (k + 1)) (fun k => o (k + 1)) (fun k => A (k + 1)) (fun k => B (k + 1)) (fun k => D (k + 1)) (fun k => N (k + 1)) (fun k => R (k + 1)) (fun k => C (k + 1)) (fun k => s (k + 1)) (fun k => l (k + 1)) fa ft op pl sg lf res ad tr gs tg LF RF LV RV mk' := by
  obtain ⟨hF, hU, k1, k2, k7, kl, kr, k4, k5, k6⟩ := h
  refine ⟨Nat.mod_lt _ (by decide), by omega, ?_, ?_, ?_, rc_rt_opd kl hs, rc_rt_opd kr hs, ?_, ?_, k6.1, ?_⟩
  · intro k hk
    rw [rc_sl_s]
    obtain ⟨a1, a2, a3, a4, a5⟩ := k1 (k + 1) (by omega)
    exact ⟨a1, a2, a3, a4, fun z => ⟨by have := (a5 z).1; omega, (a5 z).2⟩⟩
  · intro k hk
    rw [rc_sl_s]
    obtain ⟨a1, a2, a3, a4⟩ := k2 (k + 1) (by omega)
    exact ⟨a1, a2, a3, fun z1 z2 j hj => a4 z1 z2 (j + 1) (by omega)⟩
  · intro j k hj hk sj sk wj wk
    have := k7 (j + 1) (k + 1) (by omega) (by omega) sj sk wj wk
    omega
  · intro k hk
    rw [rc_sl_s]
    exact k4 (k + 1) (by omega)
  · intro r hr
    obtain ⟨m1, m2⟩ := hm r hr
    rcases k5 r hr with ⟨b1, b2⟩ | ⟨k, hk, b1, b2⟩
    · rw [m2 (fun z => rc_ne1 (rc_s31 F 0) (b1.symm.trans z.2.2))]
      exact Or.inl ⟨b1, fun k hk => b2 (k + 1) (by omega)⟩
    · match k, hk, b1, b2 with
      | 0, hk, b1, b2 =>
        rw [m1 ⟨b2.2.1, b2.2.2.1, b1⟩]
        exact Or.inl ⟨rfl, fun k hk => b2.2.2.2 (k + 1) (by omega) (by omega)⟩
      | k + 1, hk, b1, b2 =>
        rw [m2 (fun z => absurd (rc_nsl (by omega) (by omega) (b1.symm.trans z.2.2)) (by omega))]
        exact Or.inr ⟨k, by omega, by rw [rc_sl_s]; exact b1, rc_lw_s b2⟩
  · intro z
    obtain ⟨k, hk, h8⟩ := k6.2 z
    match k, hk, h8 with
    | 0, _, h8 => omega
    | k + 1, hk, h8 => exact ⟨k, by omega, h8⟩
theorem rc_I0 (hm : ∀ r, r < 4 → mk r = -1) (hft : ft ≠ 0) (hfa : fa = P 0) : rc_I 0 0 P o A B D N R C s l fa ft op pl sg lf res ad tr gs tg LF RF LV RV mk :=
  ⟨by decide, by decide, fun k hk => absurd hk (by omega), fun k hk => absurd hk (by omega), fun j k hj => absurd hj (by omega), fun k hk => absurd hk (by omega), fun k hk => absurd hk (by omega), fun k hk => absurd hk (by omega), fun r hr => Or.inl ⟨hm r hr, fun k hk => absurd hk (by omega)⟩, fun _ => hfa, fun z => absurd z hft⟩
end
/-- how many of the first k aren't ready -/
def rc_cnt (s : Nat → Nat) : Nat → Nat
  | 0 => 0
  | k + 1 => rc_cnt s k + (if s k = 2 then 0 else 1)
theorem rc_cnt_le (s : Nat → Nat) : ∀ k, rc_cnt s k ≤ k := by
  intro k
  induction k with
  | zero => exact Nat.le_refl _
  | succ k ih =>
    show rc_cnt s k + (if s k = 2 then 0 else 1) ≤ k + 1
    split <;> omega
theorem rc_cnt_mono {s t : Nat → Nat} : ∀ k, (∀ i, i < k → s i = 2 → t i = 2) → rc_cnt t k ≤ rc_cnt s k := by
  intro k
  induction k with
  | zero => intro _; exact Nat.le_refl _
  | succ k ih =>
    intro h
    have h1 := ih (fun i hi => h i (by omega))
    have h2 := h k (by omega)
    show rc_cnt t k + (if t k = 2 then 0 else 1) ≤ rc_cnt s k + (if s k = 2 then 0 else 1)
    by_cases e : s k = 2
    · rw [if_pos e, if_pos (h2 e)]
      omega
    · rw [if_neg e]
      split <;> omega
theorem rc_cnt_lt {s t : Nat → Nat} {c : Nat} (hs : s c ≠ 2) (ht : t c = 2) : ∀ k, c < k → (∀ i, i < k → s i = 2 → t i = 2) → rc_cnt t k < rc_cnt s k := by
  intro k
  induction k with
  | zero => intro h; omega
  | succ k ih =>
    intro hc h
    show rc_cnt t k + (if t k = 2 then 0 else 1) < rc_cnt s k + (if s k = 2 then 0 else 1)
    by_cases e : c = k
    · have h1 := rc_cnt_mono k (fun i hi => h i (by omega))
      subst e
      rw [if_pos ht, if_neg hs]
      omega
    · have h1 := ih (by omega) (fun i hi => h i (by omega))
      have h2 := h k (by omega)
      by_cases e : s k = 2
      · rw [if_pos e, if_pos (h2 e)]
        omega
      · rw [if_neg e]
        split <;> omega
theorem rc_cnt_pos {s : Nat → Nat} {c : Nat} (hs : s c ≠ 2) : ∀ k, c < k → 1 ≤ rc_cnt s k := by
  intro k
  induction k with
  | zero => intro h; omega
  | succ k ih =>
    intro hc
    show 1 ≤ rc_cnt s k + (if s k = 2 then 0 else 1)
    by_cases e : c = k
    · subst e
      rw [if_neg hs]
      omega
    · have := ih (by omega)
      omega
/-- the oldest is finished within m cycles -/
def rc_M (U : Nat) (o s l : Nat → Nat) (m : Nat) : Prop :=
  (U = 0 → 8 ≤ m) ∧ (0 < U → (s 0 = 2 → 1 ≤ m) ∧ (s 0 = 1 → 2 ≤ m ∧ l 0 + 1 ≤ m) ∧ (s 0 = 0 → 7 ≤ m ∧ (rc_slow (o 0) → ∀ j, j < U → rc_slow (o j) → s j = 1 → l j + rc_cnt s j + 5 ≤ m ∧ rc_cnt s j + 6 ≤ m)))
theorem rc_M16 {U : Nat} {o s l : Nat → Nat} (hU : U ≤ 6) (hl : ∀ k, k < U → s k = 1 → l k ≤ 5) : rc_M U o s l 16 := by
  refine ⟨fun _ => by decide, fun h0 => ⟨fun _ => by decide, fun h1 => ⟨by decide, ?_⟩, fun _ => ⟨by decide, fun _ j hj _ sj => ?_⟩⟩⟩
  · have := hl 0 h0 h1
    omega
  · have h1 := hl j hj sj
    have h2 := rc_cnt_le s j
    omega
theorem rc_M_pos {U : Nat} {o s l : Nat → Nat} {m : Nat} (hs : ∀ k, k < U → s k ≤ 2) (h : rc_M U o s l m) : 1 ≤ m := by
  by_cases e : U = 0
  · have := h.1 e
    omega
  · obtain ⟨h1, h2, h3⟩ := h.2 (by omega)
    have h4 := hs 0 (by omega)
    by_cases e1 : s 0 = 2
    · exact h1 e1
    · by_cases e2 : s 0 = 1
      · have := (h2 e2).1
        omega
      · have := (h3 (by omega)).1
        omega
def rc_Cp (U : Nat) (s l s1 l1 : Nat → Nat) : Prop :=
  (∀ j, j < U → s1 j = s j ∧ (s j = 1 → 2 ≤ l j ∧ l1 j = l j - 1)) ∨
  (∃ c, c < U ∧ s c = 1 ∧ s1 c = 2 ∧ ∀ j, j < U → j ≠ c → s1 j = s j ∧ (s j = 1 → l1 j = l j - 1 ∧ (j < c → 2 ≤ l j)))
def rc_Bg (U : Nat) (o s1 l1 s2 l2 : Nat → Nat) : Prop :=
  (∀ j, j < U → (s2 j = s1 j ∧ l2 j = l1 j) ∨ (s1 j = 0 ∧ s2 j = 1 ∧ l2 j ≤ 5)) ∧
  (0 < U → s1 0 = 0 → (¬ rc_slow (o 0) ∨ ∀ j, j < U → s1 j = 1 → ¬ rc_slow (o j)) → s2 0 = 1)
def rc_Is (U U3 : Nat) (s2 s3 : Nat → Nat) : Prop := (U3 = U ∧ 0 < U ∧ s3 = s2) ∨ (U3 = U + 1 ∧ s3 = rc_set s2 U 0)
theorem rc_Cp_2 {U : Nat} {s l s1 l1 : Nat → Nat} (h : rc_Cp U s l s1 l1) {i : Nat} (hi : i < U) (e : s i = 2) : s1 i = 2 := by
  rcases h with h | ⟨c, hc, sc, s1c, h⟩
  · rw [(h i hi).1, e]
  · have : i ≠ c := fun z => by rw [z, sc] at e; exact absurd e (by decide)
    rw [(h i hi this).1, e]
theorem rc_Bg_2 {U : Nat} {o s1 l1 s2 l2 : Nat → Nat} (h : rc_Bg U o s1 l1 s2 l2) {i : Nat} (hi : i < U) (e : s1 i = 2) : s2 i = 2 := by
  rcases h.1 i hi with h | h
  · rw [h.1, e]
  · omega
/-- complete and begin bring it one nearer -/
theorem rc_dec2 {U m : Nat} {o s l s1 l1 s2 l2 : Nat → Nat} (hM : rc_M U o s l m) (hU : 0 < U) (h0 : s 0 ≠ 2) (hs : s 0 ≤ 2) (hC : rc_Cp U s l s1 l1) (hB : rc_Bg U o s1 l1 s2 l2) (h7 : rc_K7 U o s2) : rc_M U o s2 l2 (m - 1) := by
  obtain ⟨_, M1, M0⟩ := hM.2 hU
  have mono : ∀ j, j < U → rc_cnt s2 j ≤ rc_cnt s j := fun j hj => rc_cnt_mono j (fun i hi e => rc_Bg_2 hB (by omega) (rc_Cp_2 hC (by omega) e))
  refine ⟨fun z => by omega, fun _ => ?_⟩
  by_cases e1 : s 0 = 1
  · obtain ⟨m1, m2⟩ := M1 e1
    have q : s1 0 = 2 ∨ (s1 0 = 1 ∧ 2 ≤ l 0 ∧ l1 0 = l 0 - 1) := by
      rcases hC with h | ⟨c, hc, sc, s1c, h⟩
      · obtain ⟨a1, a2⟩ := h 0 hU
        obtain ⟨a3, a4⟩ := a2 e1
        exact Or.inr ⟨by rw [a1, e1], a3, a4⟩
      · by_cases e : c = 0
        · exact Or.inl (by rw [← e]; exact s1c)
        · obtain ⟨a1, a2⟩ := h 0 hU (fun z => e z.symm)
          obtain ⟨a3, a4⟩ := a2 e1
          exact Or.inr ⟨by rw [a1, e1], a4 (by omega), a3⟩
    rcases q with q | ⟨q1, q2, q3⟩
    · have r := rc_Bg_2 hB hU q
      exact ⟨fun _ => by omega, fun z => by omega, fun z => by omega⟩
    · rcases hB.1 0 hU with ⟨r1, r2⟩ | ⟨r1, _⟩
      · exact ⟨fun z => by omega, fun _ => ⟨by omega, by omega⟩, fun z => by omega⟩
      · omega
  · have e0 : s 0 = 0 := by omega
    obtain ⟨m7, mj⟩ := M0 e0
    have t0 : s1 0 = 0 := by
      rcases hC with h | ⟨c, hc, sc, s1c, h⟩
      · rw [(h 0 hU).1, e0]
      · have : 0 ≠ c := fun z => by rw [← z, e0] at sc; exact absurd sc (by decide)
        rw [(h 0 hU this).1, e0]
    have l0 : s2 0 = 1 → l2 0 ≤ 5 := by
      intro z
      rcases hB.1 0 hU with ⟨r1, r2⟩ | ⟨_, _, r1⟩
      · omega
      · exact r1
    refine ⟨fun z => ?_, fun z => ⟨by omega, by have := l0 z; omega⟩, fun z => ?_⟩
    · rcases hB.1 0 hU with ⟨r1, r2⟩ | ⟨_, r1, _⟩ <;> omega
    · have nb : ¬ (¬ rc_slow (o 0) ∨ ∀ j, j < U → s1 j = 1 → ¬ rc_slow (o j)) := fun w => by
        have := hB.2 hU t0 w
        omega
      have sl0 : rc_slow (o 0) := Classical.byContradiction (fun w => nb (Or.inl w))
      have ex : ∃ j, j < U ∧ s1 j = 1 ∧ rc_slow (o j) := Classical.byContradiction (fun w => nb (Or.inr (fun j hj sj wj => w ⟨j, hj, sj, wj⟩)))
      obtain ⟨j, hj, sj, wj⟩ := ex
      have s2j : s2 j = 1 ∧ l2 j = l1 j := by
        rcases hB.1 j hj with ⟨r1, r2⟩ | ⟨r1, _⟩
        · exact ⟨by omega, r2⟩
        · omega
      have q : s j = 1 ∧ ((2 ≤ l j ∧ l1 j = l j - 1) ∨ (l1 j = l j - 1 ∧ rc_cnt s2 j + 1 ≤ rc_cnt s j ∧ 2 ≤ rc_cnt s j)) := by
        rcases hC with h | ⟨c, hc, sc, s1c, h⟩
        · obtain ⟨a1, a2⟩ := h j hj
          have b : s j = 1 := by omega
          exact ⟨b, Or.inl (a2 b)⟩
        · have jc : j ≠ c := fun w => by rw [w, s1c] at sj; exact absurd sj (by decide)
          obtain ⟨a1, a2⟩ := h j hj jc
          have b : s j = 1 := by omega
          obtain ⟨a3, a4⟩ := a2 b
          refine ⟨b, ?_⟩
          by_cases lt : j < c
          · exact Or.inl ⟨a4 lt, a3⟩
          · have cj : c < j := by omega
            have c0 : c ≠ 0 := fun w => by rw [w, e0] at sc; exact absurd sc (by decide)
            have d1 : rc_cnt s2 j < rc_cnt s j := rc_cnt_lt (c := c) (by rw [sc]; decide) (rc_Bg_2 hB hc s1c) j cj (fun i hi e => by
              by_cases ic : i = c
              · rw [ic]
                exact rc_Bg_2 hB hc s1c
              · exact rc_Bg_2 hB (by omega) (by rw [(h i (by omega) ic).1, e]))
            have d2 : 1 ≤ rc_cnt s2 j := rc_cnt_pos (c := 0) (by rw [z]; decide) j (by omega)
            exact Or.inr ⟨a3, by omega, by omega⟩
      obtain ⟨sj', q⟩ := q
      obtain ⟨b1, b2⟩ := mj sl0 j hj wj sj'
      have b3 := mono j hj
      have b4 : j ≠ 0 := fun w => by rw [w, t0] at sj; exact absurd sj (by decide)
      have b5 : 1 ≤ rc_cnt s j := rc_cnt_pos (c := 0) (by rw [e0]; decide) j (by omega)
      have fin : l2 j + rc_cnt s2 j + 5 ≤ m - 1 ∧ rc_cnt s2 j + 6 ≤ m - 1 ∧ 8 ≤ m := by
        rw [s2j.2]
        rcases q with ⟨q1, q2⟩ | ⟨q1, q2, q3⟩ <;> omega
      refine ⟨by omega, fun _ i hi wi si => ?_⟩
      rw [h7 i j hi hj si s2j.1 wi wj]
      exact ⟨fin.1, fin.2.1⟩
theorem rc_cnt_cg {s t : Nat → Nat} : ∀ k, (∀ i, i < k → t i = s i) → rc_cnt t k = rc_cnt s k := by
  intro k
  induction k with
  | zero => intro _; rfl
  | succ k ih =>
    intro h
    show rc_cnt t k + (if t k = 2 then 0 else 1) = rc_cnt s k + (if s k = 2 then 0 else 1)
    rw [ih (fun i hi => h i (by omega)), h k (by omega)]
theorem rc_dec {U U3 m : Nat} {o s l s1 l1 s2 l2 s3 : Nat → Nat} (hM : rc_M U o s l m) (h0 : 0 < U → s 0 ≠ 2) (hs : ∀ k, k < U → s k ≤ 2) (hC : rc_Cp U s l s1 l1) (hB : rc_Bg U o s1 l1 s2 l2) (h7 : rc_K7 U o s2) (hI : rc_Is U U3 s2 s3) : rc_M U3 o s3 l2 (m - 1) := by
  by_cases e : U = 0
  · have m8 := hM.1 e
    rcases hI with ⟨_, h, _⟩ | ⟨h1, h2⟩
    · omega
    · subst e
      have q : s3 0 = 0 := by rw [h2]; exact rc_set_s
      refine ⟨fun z => by omega, fun _ => ⟨fun z => by omega, fun z => by omega, fun _ => ⟨by omega, fun _ j hj _ sj => ?_⟩⟩⟩
      have j0 : j = 0 := by omega
      rw [j0] at sj
      omega
  · have k := rc_dec2 hM (by omega) (h0 (by omega)) (hs 0 (by omega)) hC hB h7
    rcases hI with ⟨h1, _, h2⟩ | ⟨h1, h2⟩
    · rw [h1, h2]
      exact k
    · obtain ⟨a1, a2, a3⟩ := k.2 (by omega)
      have q0 : s3 0 = s2 0 := by rw [h2]; exact rc_set_n (by omega)
      refine ⟨fun z => by omega, fun _ => ⟨fun z => a1 (by omega), fun z => a2 (by omega), fun z => ⟨(a3 (by omega)).1, fun w j hj wj sj => ?_⟩⟩⟩
      have jU : j ≠ U := fun w => by rw [w, h2, rc_set_s] at sj; exact absurd sj (by decide)
      have qj : s3 j = s2 j := by rw [h2]; exact rc_set_n jU
      have cj : rc_cnt s3 j = rc_cnt s2 j := rc_cnt_cg j (fun i hi => by rw [h2]; exact rc_set_n (by omega))
      rw [cj]
      exact (a3 (by omega)).2 w j (by omega) wj (by omega)
end
section
/-! work and hand -/
theorem rc_ag_u {i : Nat} {a : Nat → Int32} {v : Int32} : rc_ag i a (upd a i v) := fun _ h => pk_un h
theorem rc_ag_r {i : Nat} {a : Nat → Int32} : rc_ag i a a := fun _ _ => rfl
theorem rc_v0 {N x y : Int32} {c : Nat → Int32} : rc_val 0 N x y c = N := rfl
theorem rc_v1 {N x y : Int32} {c : Nat → Int32} : rc_val 1 N x y c = x + y := rfl
theorem rc_v2 {N x y : Int32} {c : Nat → Int32} : rc_val 2 N x y c = x * y := rfl
theorem rc_v3 {N x y : Int32} {c : Nat → Int32} : rc_val 3 N x y c = if y = 0 then 0 else x / y := rfl
theorem rc_v4 {N x y : Int32} {c : Nat → Int32} : rc_val 4 N x y c = c (x &&& 7).toNatClampNeg := rfl
theorem rc_res2 {o : Nat} {N p x y : Int32} {c : Nat → Int32} {r a t : Int32} (h1 : o ≤ 4 → r = rc_val o N x y c) (h2 : o = 5 → a = y &&& 7) (h3 : o = 6 → r = if x = 0 then N else p + 1) (h4 : t = 0 ↔ ¬ rc_trap o x y) (h5 : o = 0 ∨ o = 7 → r = N) : rc_res o 2 N p x y c r a t := by
  refine ⟨fun _ => ⟨h1, h2, h3, h4⟩, fun z => absurd rfl z, fun z => ?_⟩
  rcases z with z | z | z
  · exact h5 (Or.inl z)
  · exact h5 (Or.inr z)
  · exact absurd rfl z.2
theorem rc_b0 : vp_nar .boolean 0 = 0 := rfl
theorem rc_b1 : vp_nar .boolean 1 = 1 := rfl
theorem rc_m8 (x : Int32) : vp_in (x &&& 7) 8 := pk_andIn x 3 (by decide) (by decide)
section
variable {sz pc sta cnt gb fa ft fi un : Int32} {ops rgs nms reg cel op pl sg lf res ad tr gs tg LF RF LV RV mk : Nat → Int32}
theorem rc_work {post : SX → Prop} {i o : Nat} {N p x y : Int32} (hi : i < 6) (ho : o ≤ 9) (eop : op i = nI o) (hx : rc_hl o → LV i = x) (hy : rc_hr o → RV i = y) (hp : pl i = p) (hr : o = 0 ∨ o = 7 ∨ o = 6 → res i = N) (ht : tr i = 0)
    (H : ∀ res' ad' tr' : Nat → Int32, rc_ag i res res' → rc_ag i ad ad' → rc_ag i tr tr' → rc_res o 2 N p x y cel (res' i) (ad' i) (tr' i) → post (sz, pc, sta, cnt, gb, fa, ft, fi, un, ops, rgs, nms, reg, cel, op, pl, sg, lf, res', ad', tr', gs, tg, LF, RF, LV, RV, mk)) : wpX_work post (sz, pc, sta, cnt, gb, fa, ft, fi, un, ops, rgs, nms, reg, cel, op, pl, sg, lf, res, ad, tr, gs, tg, LF, RF, LV, RV, mk) (nI i) := by
  have hin : vp_in (nI i) 6 := vp_in_nI hi (by decide)
  have hcl : (nI i).toNatClampNeg = i := nI_clamp (by omega)
  unfold wpX_work
  refine ⟨hin, nm_r (e' := LV i) (by rw [hcl]) ⟨hin, nm_r (e' := RV i) (by rw [hcl]) ⟨hin, nm_r (e' := nI o) (by rw [hcl, eop]) ?_⟩⟩⟩
  refine pk_eq o 1 (fun e => ?_) (fun n1 => pk_eq o 2 (fun e => ?_) (fun n2 => pk_eq o 3 (fun e => ?_) (fun n3 => pk_eq o 4 (fun e => ?_) (fun n4 => pk_eq o 5 (fun e => ?_) (fun n5 => pk_eq o 6 (fun e => ?_) (fun n6 => pk_eq o 9 (fun e => ?_) (fun n9 => ?_)))))))
  · subst e
    refine ⟨hin, nm_r (e' := upd res i (LV i + RV i)) (by rw [hcl]) (H _ ad tr rc_ag_u rc_ag_r rc_ag_r (rc_res2 (fun _ => ?_) (fun z => absurd z (by decide)) (fun z => absurd z (by decide)) (by simp [rc_trap, ht]) (fun z => absurd z (by decide))))⟩
    rw [pk_us, hx ⟨by decide, by decide⟩, hy (Or.inl ⟨by decide, by decide⟩), rc_v1]
  · subst e
    refine ⟨hin, nm_r (e' := upd res i (LV i * RV i)) (by rw [hcl]) (H _ ad tr rc_ag_u rc_ag_r rc_ag_r (rc_res2 (fun _ => ?_) (fun z => absurd z (by decide)) (fun z => absurd z (by decide)) (by simp [rc_trap, ht]) (fun z => absurd z (by decide))))⟩
    rw [pk_us, hx ⟨by decide, by decide⟩, hy (Or.inl ⟨by decide, by decide⟩), rc_v2]
  · subst e
    have ex := hx ⟨by decide, by decide⟩
    have ey := hy (Or.inl ⟨by decide, by decide⟩)
    rw [ex, ey]
    refine br_c (fun h => ?_) (fun h => ?_)
    · unfold wX_work_78
      refine ⟨hin, nm_r (e' := upd tr i 1) (by rw [hcl, rc_b1]) (br_t h ⟨hin, nm_r (e' := upd res i 0) (by rw [hcl]) (H _ ad _ rc_ag_u rc_ag_r rc_ag_u (rc_res2 (fun _ => ?_) (fun z => absurd z (by decide)) (fun z => absurd z (by decide)) (by rw [pk_us]; simp [rc_trap, h]) (fun z => absurd z (by decide))))⟩)⟩
      rw [pk_us, rc_v3, if_pos h]
    · unfold wX_work_78
      refine ⟨hin, nm_r (e' := upd tr i 0) (by rw [hcl, rc_b0]) (br_f h ⟨h, hin, nm_r (e' := upd res i (x / y)) (by rw [hcl]) (H _ ad _ rc_ag_u rc_ag_r rc_ag_u (rc_res2 (fun _ => ?_) (fun z => absurd z (by decide)) (fun z => absurd z (by decide)) (by rw [pk_us]; simp [rc_trap, h]) (fun z => absurd z (by decide))))⟩)⟩
      rw [pk_us, rc_v3, if_neg h]
  · subst e
    have ex := hx ⟨by decide, by decide⟩
    rw [ex]
    refine br_c (fun h => ?_) (fun h => ?_)
    · unfold wX_work_119
      have h' : ¬ x < 0 := Int32.not_lt.mpr h
      refine ⟨hin, nm_r (e' := upd tr i 0) (by rw [hcl, rc_b0]) ⟨rc_m8 x, hin, nm_r (e' := upd res i (cel (x &&& 7).toNatClampNeg)) (by rw [hcl]) (H _ ad _ rc_ag_u rc_ag_r rc_ag_u (rc_res2 (fun _ => ?_) (fun z => absurd z (by decide)) (fun z => absurd z (by decide)) (by rw [pk_us]; simp [rc_trap, h']) (fun z => absurd z (by decide))))⟩⟩
      rw [pk_us, rc_v4]
    · unfold wX_work_119
      have h' : x < 0 := Int32.not_le.mp h
      refine ⟨hin, nm_r (e' := upd tr i 1) (by rw [hcl, rc_b1]) ⟨rc_m8 x, hin, nm_r (e' := upd res i (cel (x &&& 7).toNatClampNeg)) (by rw [hcl]) (H _ ad _ rc_ag_u rc_ag_r rc_ag_u (rc_res2 (fun _ => ?_) (fun z => absurd z (by decide)) (fun z => absurd z (by decide)) (by rw [pk_us]; simp [rc_trap, h']) (fun z => absurd z (by decide))))⟩⟩
      rw [pk_us, rc_v4]
  · subst e
    have ey := hy (Or.inr rfl)
    rw [ey]
    refine br_c (fun h => ?_) (fun h => ?_)
    · unfold wX_work_158
      have h' : ¬ y < 0 := Int32.not_lt.mpr h
      exact ⟨hin, nm_r (e' := upd tr i 0) (by rw [hcl, rc_b0]) ⟨hin, nm_r (e' := upd ad i (y &&& 7)) (by rw [hcl]) (H res _ _ rc_ag_r rc_ag_u rc_ag_u (rc_res2 (fun z => absurd z (by decide)) (fun _ => pk_us) (fun z => absurd z (by decide)) (by rw [pk_us]; simp [rc_trap, h']) (fun z => absurd z (by decide))))⟩⟩
    · unfold wX_work_158
      have h' : y < 0 := Int32.not_le.mp h
      exact ⟨hin, nm_r (e' := upd tr i 1) (by rw [hcl, rc_b1]) ⟨hin, nm_r (e' := upd ad i (y &&& 7)) (by rw [hcl]) (H res _ _ rc_ag_r rc_ag_u rc_ag_u (rc_res2 (fun z => absurd z (by decide)) (fun _ => pk_us) (fun z => absurd z (by decide)) (by rw [pk_us]; simp [rc_trap, h']) (fun z => absurd z (by decide))))⟩⟩
  · subst e
    have ex := hx ⟨by decide, by decide⟩
    rw [ex]
    refine br_c (fun h => ?_) (fun h => ?_)
    · refine ⟨hin, hin, nm_r (e' := upd res i (res i)) (by rw [hcl]) (H _ ad tr rc_ag_u rc_ag_r rc_ag_r (rc_res2 (fun z => absurd z (by decide)) (fun z => absurd z (by decide)) (fun _ => ?_) (by simp [rc_trap, ht]) (fun z => absurd z (by decide))))⟩
      rw [pk_us, if_pos h]
      exact hr (Or.inr (Or.inr rfl))
    · refine ⟨hin, hin, nm_r (e' := upd res i (p + 1)) (by rw [hcl, hp]) (H _ ad tr rc_ag_u rc_ag_r rc_ag_r (rc_res2 (fun z => absurd z (by decide)) (fun z => absurd z (by decide)) (fun _ => ?_) (by simp [rc_trap, ht]) (fun z => absurd z (by decide))))⟩
      rw [pk_us, if_neg h]
  · subst e
    exact ⟨hin, nm_r (e' := upd tr i 1) (by rw [hcl, rc_b1]) (H res ad _ rc_ag_r rc_ag_r rc_ag_u (rc_res2 (fun z => absurd z (by decide)) (fun z => absurd z (by decide)) (fun z => absurd z (by decide)) (by rw [pk_us]; simp [rc_trap]) (fun z => absurd z (by decide))))⟩
  · refine H res ad tr rc_ag_r rc_ag_r rc_ag_r (rc_res2 (fun z => ?_) (fun z => absurd z n5) (fun z => absurd z n6) ⟨fun _ z => ?_, fun _ => ht⟩ (fun z => hr (by omega)))
    · have e0 : o = 0 := by omega
      rw [e0, rc_v0]
      exact hr (Or.inl e0)
    · unfold rc_trap at z
      omega
theorem rc_hdu {i w : Int32} {F k : Nat} (a v : Nat → Int32) (h : a (rc_sl F k) = i) : rc_hd i w (a (rc_sl F k)) (v (rc_sl F k)) (upd a (rc_sl F k) (-1) (rc_sl F k)) (upd v (rc_sl F k) w (rc_sl F k)) := ⟨fun _ => ⟨pk_us, pk_us⟩, fun z => absurd h z⟩
theorem rc_hdn {i w fr vl : Int32} (h : ¬ fr = i) : rc_hd i w fr vl fr vl := ⟨fun z => absurd z h, fun _ => ⟨rfl, rfl⟩⟩
theorem rc_hand_49 {post : SX → Prop} {J : Int32 → (Nat → Int32) → (Nat → Int32) → (Nat → Int32) → (Nat → Int32) → (Nat → Int32) → (Nat → Int32) → (Nat → Int32) → (Nat → Int32) → (Nat → Int32) → (Nat → Int32) → (Nat → Int32) → (Nat → Int32) → (Nat → Int32) → (Nat → Int32) → (Nat → Int32) → (Nat → Int32) → (Nat → Int32) → (Nat → Int32) → (Nat → Int32) → Prop} {F k i : Nat} (hi : i < 6)
    (H : ∀ RF' RV' : Nat → Int32, rc_ag (rc_sl F k) RF RF' → rc_ag (rc_sl F k) RV RV' → rc_hd (nI i) (res i) (RF (rc_sl F k)) (RV (rc_sl F k)) (RF' (rc_sl F k)) (RV' (rc_sl F k)) → J (nI (k + 1)) ops rgs nms reg cel op pl sg lf res ad tr gs tg LF RF' LV RV' mk) : wX_hand_49 post J (nI i) (nI k) (nI (rc_sl F k)) sz pc sta cnt gb fa ft fi un ops rgs nms reg cel op pl sg lf res ad tr gs tg LF RF LV RV mk := by
  have hin : vp_in (nI i) 6 := vp_in_nI hi (by decide)
  have hcl : (nI i).toNatClampNeg = i := nI_clamp (by omega)
  unfold wX_hand_49
  refine ⟨rc_sin F k, br_c (fun h => ?_) (fun h => ?_)⟩
  · rw [rc_scl] at h
    exact ⟨rc_sin F k, nm_r (e' := upd RF (rc_sl F k) (-1)) (by rw [rc_scl, rc_nm1]) ⟨hin, rc_sin F k, nm_r (e' := upd RV (rc_sl F k) (res i)) (by rw [rc_scl, hcl]) (nm_r (nI_1 k) (H _ _ rc_ag_u rc_ag_u (rc_hdu RF RV h)))⟩⟩
  · rw [rc_scl] at h
    exact nm_r (nI_1 k) (H RF RV rc_ag_r rc_ag_r (rc_hdn h))
/-- what hand does to a ring place -/
def rc_h4 (F k i : Nat) (w : Int32) (LF RF LV RV LF' RF' LV' RV' : Nat → Int32) : Prop := rc_hd (nI i) w (LF (rc_sl F k)) (LV (rc_sl F k)) (LF' (rc_sl F k)) (LV' (rc_sl F k)) ∧ rc_hd (nI i) w (RF (rc_sl F k)) (RV (rc_sl F k)) (RF' (rc_sl F k)) (RV' (rc_sl F k))
def rc_e4 (F k : Nat) (LF RF LV RV LF' RF' LV' RV' : Nat → Int32) : Prop := LF' (rc_sl F k) = LF (rc_sl F k) ∧ RF' (rc_sl F k) = RF (rc_sl F k) ∧ LV' (rc_sl F k) = LV (rc_sl F k) ∧ RV' (rc_sl F k) = RV (rc_sl F k)
theorem rc_hand_lp {post : SX → Prop} {F U i : Nat} (hF : F < 6) (hU : U ≤ 6) (hi : i < 6) : ∀ d k n, k + d = U → d < n → ∀ LF RF LV RV : Nat → Int32,
    (∀ LF' RF' LV' RV' : Nat → Int32, (∀ j, k ≤ j → j < U → rc_h4 F j i (res i) LF RF LV RV LF' RF' LV' RV') → (∀ j, j < k → rc_e4 F j LF RF LV RV LF' RF' LV' RV') → post (sz, pc, sta, cnt, gb, fa, ft, nI F, nI U, ops, rgs, nms, reg, cel, op, pl, sg, lf, res, ad, tr, gs, tg, LF', RF', LV', RV', mk)) →
    wX_hand_2 post (nI i) sz pc sta cnt gb fa ft (nI F) (nI U) n (nI k) ops rgs nms reg cel op pl sg lf res ad tr gs tg LF RF LV RV mk := by
  have hin : vp_in (nI i) 6 := vp_in_nI hi (by decide)
  have hcl : (nI i).toNatClampNeg = i := nI_clamp (by omega)
  intro d
  induction d with
  | zero =>
    intro k n hk hn LF RF LV RV H
    match n, hn with
    | n + 1, _ => exact br_t (nI_le (by omega) (by omega)) (H LF RF LV RV (fun j h1 h2 => absurd h1 (by omega)) (fun j _ => ⟨rfl, rfl, rfl, rfl⟩))
  | succ d ih =>
    intro k n hk hn LF RF LV RV H
    match n, hn with
    | n + 1, hn =>
      have step : ∀ LF2 LV2 : Nat → Int32, rc_ag (rc_sl F k) LF LF2 → rc_ag (rc_sl F k) LV LV2 → rc_hd (nI i) (res i) (LF (rc_sl F k)) (LV (rc_sl F k)) (LF2 (rc_sl F k)) (LV2 (rc_sl F k)) → wX_hand_49 post (wX_hand_2 post (nI i) sz pc sta cnt gb fa ft (nI F) (nI U) n) (nI i) (nI k) (nI (rc_sl F k)) sz pc sta cnt gb fa ft (nI F) (nI U) ops rgs nms reg cel op pl sg lf res ad tr gs tg LF2 RF LV2 RV mk := by
        intro LF2 LV2 a1 a2 hd
        refine rc_hand_49 hi (fun RF2 RV2 a3 a4 hd2 => ih (k + 1) n (by omega) (by omega) LF2 RF2 LV2 RV2 (fun LF' RF' LV' RV' h1 h2 => H LF' RF' LV' RV' (fun j g1 g2 => ?_) (fun j g1 => ?_)))
        · by_cases e : j = k
          · obtain ⟨q1, q2, q3, q4⟩ := h2 k (by omega)
            rw [e]
            unfold rc_h4
            rw [q1, q2, q3, q4]
            exact ⟨hd, hd2⟩
          · have ne : rc_sl F j ≠ rc_sl F k := fun z => e (rc_sl_inj (by omega) (by omega) z)
            have q := h1 j (by omega) g2
            unfold rc_h4 at q
            rw [a1 _ ne, a2 _ ne, a3 _ ne, a4 _ ne] at q
            exact q
        · have ne : rc_sl F j ≠ rc_sl F k := fun z => absurd (rc_sl_inj (by omega) (by omega) z) (by omega)
          have q := h2 j (by omega)
          unfold rc_e4 at q
          rw [a1 _ ne, a2 _ ne, a3 _ ne, a4 _ ne] at q
          exact q
      refine br_f (nI_ge (by omega) (by omega)) ⟨rc_60, nm_r (rc_rem hF (by omega)) ⟨rc_sin F k, br_c (fun h => ?_) (fun h => ?_)⟩⟩
      · rw [rc_scl] at h
        exact ⟨rc_sin F k, nm_r (e' := upd LF (rc_sl F k) (-1)) (by rw [rc_scl, rc_nm1]) ⟨hin, rc_sin F k, nm_r (e' := upd LV (rc_sl F k) (res i)) (by rw [rc_scl, hcl]) (step _ _ rc_ag_u rc_ag_u (rc_hdu LF LV h))⟩⟩
      · rw [rc_scl] at h
        exact step LF LV rc_ag_r rc_ag_r (rc_hdn h)
theorem rc_hand {post : SX → Prop} {F U i : Nat} (hF : F < 6) (hU : U ≤ 6) (hi : i < 6)
    (H : ∀ LF' RF' LV' RV' : Nat → Int32, (∀ j, j < U → rc_h4 F j i (res i) LF RF LV RV LF' RF' LV' RV') → post (sz, pc, sta, cnt, gb, fa, ft, nI F, nI U, ops, rgs, nms, reg, cel, op, pl, sg, lf, res, ad, tr, gs, tg, LF', RF', LV', RV', mk)) :
    wpX_hand post (sz, pc, sta, cnt, gb, fa, ft, nI F, nI U, ops, rgs, nms, reg, cel, op, pl, sg, lf, res, ad, tr, gs, tg, LF, RF, LV, RV, mk) (nI i) :=
  ⟨U + 1, rc_hand_lp hF hU hi U 0 (U + 1) (by omega) (by omega) LF RF LV RV (fun LF' RF' LV' RV' h _ => H LF' RF' LV' RV' (fun j hj => h j (by omega) hj))⟩
end
end
section
/-! complete -/
theorem rc_lm0 : ∀ l, l < 6 → 0 < l → (nI l - 1).toInt8.toInt32.toInt8.toInt32 = nI (l - 1) := by decide +kernel
theorem rc_lm {l : Nat} (h : l ≤ 5) (h0 : 0 < l) : vp_nar .byte ((nI l - 1).toInt8.toInt32) = nI (l - 1) := by
  rw [vp_nar_byte]
  exact rc_lm0 l (by omega) h0
theorem rc_n2 : vp_nar .byte 2 = 2 := by rw [vp_nar_byte]; decide
theorem rc_n1 : vp_nar .byte 1 = 1 := by rw [vp_nar_byte]; decide
theorem rc_n0 : vp_nar .byte 0 = 0 := by rw [vp_nar_byte]; decide
theorem rc_10 : ¬ (1 : Int32) = 0 := by decide
theorem rc_res_c {o s : Nat} {N p x y : Int32} {c c' : Nat → Int32} {r a t : Int32} (e : o = 4 → c' = c) (h : rc_res o s N p x y c r a t) : rc_res o s N p x y c' r a t := by
  by_cases h4 : o = 4
  · rw [e h4]
    exact h
  · have v : o ≤ 4 → rc_val o N x y c' = rc_val o N x y c := by
      intro h5
      have : o = 0 ∨ o = 1 ∨ o = 2 ∨ o = 3 := by omega
      rcases this with z | z | z | z <;> subst z <;> rfl
    refine ⟨fun z => ⟨fun z1 => ?_, (h.1 z).2⟩, h.2⟩
    rw [v z1]
    exact (h.1 z).1 z1
theorem rc_opk_1 {F : Nat} {o A s : Nat → Nat} {k r : Nat} {v fr vl : Int32} (h : rc_opk F o A s k v r fr vl) (hs : s k ≠ 0) : vl = v := by
  rcases h with h | h
  · exact h.2
  · exact absurd h.1 hs
theorem rc_at_9 {sz : Int32} {ops rgs nms : Nat → Int32} {p : Int32} {o A B D : Nat} {N : Int32} (h : rc_at sz ops rgs nms p o A B D N) : o ≤ 9 := by
  rcases h.2.2.2 with h | h
  · omega
  · omega
section
variable {sz pc sta cnt gb fa ft fi un : Int32} {ops rgs nms reg cel op pl sg lf res ad tr gs tg LF RF LV RV mk : Nat → Int32} {P : Nat → Int32} {o A B D : Nat → Nat} {N : Nat → Int32} {R C : Nat → Nat → Int32} {F U : Nat} {s l : Nat → Nat}
theorem rc_c52_0 {post : SX → Prop} {n k : Nat} (h : wX_complete_4 post n 0 (nI (k + 1)) sz pc sta cnt gb fa ft fi un ops rgs nms reg cel op pl sg lf res ad tr gs tg LF RF LV RV mk) : wX_complete_52 post (wX_complete_4 post n) 0 (nI k) (nI (rc_sl F k)) sz pc sta cnt gb fa ft fi un ops rgs nms reg cel op pl sg lf res ad tr gs tg LF RF LV RV mk := by
  unfold wX_complete_52
  exact ⟨rc_sin F k, br_c (fun _ => br_t rfl (nm_r (nI_1 k) h)) (fun _ => nm_r (nI_1 k) h)⟩
theorem rc_c52_1 {post : SX → Prop} {n k : Nat} (h0 : ¬ lf (rc_sl F k) = 0) (h : wX_complete_4 post n 1 (nI (k + 1)) sz pc sta cnt gb fa ft fi un ops rgs nms reg cel op pl sg lf res ad tr gs tg LF RF LV RV mk) : wX_complete_52 post (wX_complete_4 post n) 1 (nI k) (nI (rc_sl F k)) sz pc sta cnt gb fa ft fi un ops rgs nms reg cel op pl sg lf res ad tr gs tg LF RF LV RV mk := by
  unfold wX_complete_52
  exact ⟨rc_sin F k, br_f (by rw [rc_scl]; exact h0) (nm_r (nI_1 k) h)⟩
theorem rc_c52_w {post : SX → Prop} {n k : Nat} {l0 : Nat → Nat} {lf0 : Nat → Int32} (g : rc_gh gb sz ops rgs nms P o A B D N R C) (gC : C 0 = cel) (hI : rc_I F U P o A B D N R C s l0 fa ft op pl sg lf0 res ad tr gs tg LF RF LV RV mk) (hk : k < U) (hs : s k = 1) (h0 : lf (rc_sl F k) = 0)
    (H : ∀ res' ad' tr' LF' RF' LV' RV' : Nat → Int32, rc_ag (rc_sl F k) res res' → rc_ag (rc_sl F k) ad ad' → rc_ag (rc_sl F k) tr tr' → rc_res (o k) 2 (N k) (P k) (R k (rc_sL (o k) (A k) (B k))) (R k (rc_sR (o k) (B k) (D k))) (C k) (res' (rc_sl F k)) (ad' (rc_sl F k)) (tr' (rc_sl F k)) → (∀ j, j < U → rc_h4 F j (rc_sl F k) (res' (rc_sl F k)) LF RF LV RV LF' RF' LV' RV') → wX_complete_4 post n 0 (nI (k + 1)) sz pc sta cnt gb fa ft (nI F) (nI U) ops rgs nms reg cel op pl (upd sg (rc_sl F k) 2) lf res' ad' tr' gs tg LF' RF' LV' RV' mk) :
    wX_complete_52 post (wX_complete_4 post n) 1 (nI k) (nI (rc_sl F k)) sz pc sta cnt gb fa ft (nI F) (nI U) ops rgs nms reg cel op pl sg lf res ad tr gs tg LF RF LV RV mk := by
  obtain ⟨hF, hU, k1, k2, k7, kl, kr, k4, k5, k6⟩ := hI
  have q4 := k4 k hk
  have s0 : s k ≠ 0 := by rw [hs]; decide
  have s2 : s k ≠ 2 := by rw [hs]; decide
  have hc : o k = 4 → C k = cel := fun z => (rc_C_keep g k ((k2 k hk).2.2.2 s0 z)).trans gC
  unfold wX_complete_52
  refine ⟨rc_sin F k, br_t (by rw [rc_scl]; exact h0) (br_f rc_10 ?_)⟩
  refine rc_work (rc_sl_lt F k) (rc_at_9 (g k).1) (k1 k hk).1 (fun z => rc_opk_1 ((kl k hk).2 z) s0) (fun z => rc_opk_1 ((kr k hk).2 z) s0) (k1 k hk).2.1 (fun z => q4.2.2 (by rcases z with z | z | z; exact Or.inl z; exact Or.inr (Or.inl z); exact Or.inr (Or.inr ⟨z, s2⟩))) (q4.2.1 s2) (fun res' ad' tr' a1 a2 a3 hr => ?_)
  dsimp only
  refine ⟨rc_sin F k, nm_r (e' := upd sg (rc_sl F k) 2) (by rw [rc_scl, rc_n2]) ?_⟩
  refine rc_hand hF hU (rc_sl_lt F k) (fun LF' RF' LV' RV' hh => ?_)
  dsimp only
  exact nm_r (nI_1 k) (H res' ad' tr' LF' RF' LV' RV' a1 a2 a3 (rc_res_c hc hr) hh)
/-- behind the one that has become ready: only the lefts fall -/
theorem rc_cp2 {post : SX → Prop} (hF : F < 6) (hU : U ≤ 6) (hs : ∀ j, j < U → sg (rc_sl F j) = nI (s j) ∧ s j ≤ 2) : ∀ d k n, k + d = U → d < n → ∀ lf : Nat → Int32, (∀ j, k ≤ j → j < U → s j = 1 → lf (rc_sl F j) = nI (l j) ∧ l j ≤ 5) →
    (∀ lf' : Nat → Int32, (∀ j, k ≤ j → j < U → s j = 1 → lf' (rc_sl F j) = nI (l j - 1)) → (∀ j, j < k → lf' (rc_sl F j) = lf (rc_sl F j)) → post (sz, pc, sta, cnt, gb, fa, ft, nI F, nI U, ops, rgs, nms, reg, cel, op, pl, sg, lf', res, ad, tr, gs, tg, LF, RF, LV, RV, mk)) →
    wX_complete_4 post n 0 (nI k) sz pc sta cnt gb fa ft (nI F) (nI U) ops rgs nms reg cel op pl sg lf res ad tr gs tg LF RF LV RV mk := by
  intro d
  induction d with
  | zero =>
    intro k n hk hn lf hl H
    match n, hn with
    | n + 1, _ => exact br_t (nI_le (by omega) (by omega)) (H lf (fun j h1 h2 => absurd h1 (by omega)) (fun j _ => rfl))
  | succ d ih =>
    intro k n hk hn lf hl H
    match n, hn with
    | n + 1, hn =>
      have step : ∀ lf2 : Nat → Int32, rc_ag (rc_sl F k) lf lf2 → (s k = 1 → lf2 (rc_sl F k) = nI (l k - 1)) → wX_complete_4 post n 0 (nI (k + 1)) sz pc sta cnt gb fa ft (nI F) (nI U) ops rgs nms reg cel op pl sg lf2 res ad tr gs tg LF RF LV RV mk := by
        intro lf2 a1 a2
        refine ih (k + 1) n (by omega) (by omega) lf2 (fun j h1 h2 h3 => ?_) (fun lf' h1 h2 => H lf' (fun j g1 g2 g3 => ?_) (fun j g1 => ?_))
        · rw [a1 _ (fun z => absurd (rc_sl_inj (by omega) (by omega) z) (by omega))]
          exact hl j (by omega) h2 h3
        · by_cases e : j = k
          · rw [e, h2 k (by omega)]
            rw [e] at g3
            exact a2 g3
          · exact h1 j (by omega) g2 g3
        · rw [h2 j (by omega)]
          exact a1 _ (fun z => absurd (rc_sl_inj (by omega) (by omega) z) (by omega))
      obtain ⟨b1, b2⟩ := hs k (by omega)
      refine br_f (nI_ge (by omega) (by omega)) ⟨rc_60, nm_r (rc_rem hF (by omega)) ⟨rc_sin F k, ?_⟩⟩
      rw [rc_scl, b1]
      refine pk_eq (s k) 1 (fun e => ?_) (fun e => nm_r (nI_1 k) (step lf rc_ag_r (fun z => absurd z e)))
      obtain ⟨c1, c2⟩ := hl k (by omega) (by omega) e
      refine ⟨rc_sin F k, ?_⟩
      rw [c1]
      refine pk_le (l k) 0 (fun e2 => rc_c52_0 (step lf rc_ag_r (fun _ => ?_))) (fun e2 => ⟨rc_sin F k, rc_sin F k, nm_r (e' := upd lf (rc_sl F k) (nI (l k - 1))) (by rw [rc_lm c2 e2]) (rc_c52_0 (step _ rc_ag_u (fun _ => pk_us)))⟩)
      rw [c1, show l k - 1 = l k by omega]
theorem rc_cp1 {post : SX → Prop} {l0 : Nat → Nat} {lf0 : Nat → Int32} (g : rc_gh gb sz ops rgs nms P o A B D N R C) (gC : C 0 = cel) (hI : rc_I F U P o A B D N R C s l0 fa ft op pl sg lf0 res ad tr gs tg LF RF LV RV mk) : ∀ d k n, k + d = U → d < n → ∀ lf : Nat → Int32, (∀ j, k ≤ j → j < U → s j = 1 → lf (rc_sl F j) = nI (l j) ∧ l j ≤ 5) →
    (∀ lf' : Nat → Int32, (∀ j, k ≤ j → j < U → s j = 1 → 2 ≤ l j ∧ lf' (rc_sl F j) = nI (l j - 1)) → (∀ j, j < k → lf' (rc_sl F j) = lf (rc_sl F j)) → post (sz, pc, sta, cnt, gb, fa, ft, nI F, nI U, ops, rgs, nms, reg, cel, op, pl, sg, lf', res, ad, tr, gs, tg, LF, RF, LV, RV, mk)) →
    (∀ (c : Nat) (lf' res' ad' tr' LF' RF' LV' RV' : Nat → Int32), k ≤ c → c < U → s c = 1 → rc_ag (rc_sl F c) res res' → rc_ag (rc_sl F c) ad ad' → rc_ag (rc_sl F c) tr tr' → rc_res (o c) 2 (N c) (P c) (R c (rc_sL (o c) (A c) (B c))) (R c (rc_sR (o c) (B c) (D c))) (C c) (res' (rc_sl F c)) (ad' (rc_sl F c)) (tr' (rc_sl F c)) → (∀ j, j < U → rc_h4 F j (rc_sl F c) (res' (rc_sl F c)) LF RF LV RV LF' RF' LV' RV') →
      (∀ j, k ≤ j → j < U → j ≠ c → s j = 1 → lf' (rc_sl F j) = nI (l j - 1) ∧ (j < c → 2 ≤ l j)) → (∀ j, j < k → lf' (rc_sl F j) = lf (rc_sl F j)) → post (sz, pc, sta, cnt, gb, fa, ft, nI F, nI U, ops, rgs, nms, reg, cel, op, pl, upd sg (rc_sl F c) 2, lf', res', ad', tr', gs, tg, LF', RF', LV', RV', mk)) →
    wX_complete_4 post n 1 (nI k) sz pc sta cnt gb fa ft (nI F) (nI U) ops rgs nms reg cel op pl sg lf res ad tr gs tg LF RF LV RV mk := by
  have hF := hI.1
  have hU := hI.2.1
  have k2 := hI.2.2.2.1
  intro d
  induction d with
  | zero =>
    intro k n hk hn lf hl H1 H2
    match n, hn with
    | n + 1, _ => exact br_t (nI_le (by omega) (by omega)) (H1 lf (fun j h1 h2 => absurd h1 (by omega)) (fun j _ => rfl))
  | succ d ih =>
    intro k n hk hn lf hl H1 H2
    match n, hn with
    | n + 1, hn =>
      have step : ∀ lf2 : Nat → Int32, rc_ag (rc_sl F k) lf lf2 → (s k = 1 → 2 ≤ l k ∧ lf2 (rc_sl F k) = nI (l k - 1)) → wX_complete_4 post n 1 (nI (k + 1)) sz pc sta cnt gb fa ft (nI F) (nI U) ops rgs nms reg cel op pl sg lf2 res ad tr gs tg LF RF LV RV mk := by
        intro lf2 a1 a2
        have ne : ∀ j, j < U → j ≠ k → lf2 (rc_sl F j) = lf (rc_sl F j) := fun j hj e => a1 _ (fun z => e (rc_sl_inj (by omega) (by omega) z))
        refine ih (k + 1) n (by omega) (by omega) lf2 (fun j h1 h2 h3 => ?_) (fun lf' h1 h2 => H1 lf' (fun j g1 g2 g3 => ?_) (fun j g1 => ?_)) (fun c lf' res' ad' tr' LF' RF' LV' RV' c1 c2 c3 c4 c5 c6 c7 c8 h1 h2 => H2 c lf' res' ad' tr' LF' RF' LV' RV' (by omega) c2 c3 c4 c5 c6 c7 c8 (fun j g1 g2 g3 g4 => ?_) (fun j g1 => ?_))
        · rw [ne j h2 (by omega)]
          exact hl j (by omega) h2 h3
        · by_cases e : j = k
          · rw [e] at g3
            rw [e, h2 k (by omega)]
            exact a2 g3
          · exact h1 j (by omega) g2 g3
        · rw [h2 j (by omega)]
          exact ne j (by omega) (by omega)
        · by_cases e : j = k
          · rw [e] at g4
            rw [e, h2 k (by omega)]
            exact ⟨(a2 g4).2, fun _ => (a2 g4).1⟩
          · exact h1 j (by omega) g2 g3 g4
        · rw [h2 j (by omega)]
          exact ne j (by omega) (by omega)
      have done : ∀ lf2 : Nat → Int32, s k = 1 → rc_ag (rc_sl F k) lf lf2 → lf2 (rc_sl F k) = 0 → wX_complete_52 post (wX_complete_4 post n) 1 (nI k) (nI (rc_sl F k)) sz pc sta cnt gb fa ft (nI F) (nI U) ops rgs nms reg cel op pl sg lf2 res ad tr gs tg LF RF LV RV mk := by
        intro lf2 sk a1 a2
        have ne : ∀ j, j < U → j ≠ k → lf2 (rc_sl F j) = lf (rc_sl F j) := fun j hj e => a1 _ (fun z => e (rc_sl_inj (by omega) (by omega) z))
        refine rc_c52_w g gC hI (by omega) sk a2 (fun res' ad' tr' LF' RF' LV' RV' c4 c5 c6 c7 c8 => ?_)
        refine rc_cp2 (s := rc_set s k 2) (l := l) hF hU (fun j hj => ?_) d (k + 1) n (by omega) (by omega) lf2 (fun j h1 h2 h3 => ?_) (fun lf' h1 h2 => H2 k lf' res' ad' tr' LF' RF' LV' RV' (by omega) (by omega) sk c4 c5 c6 c7 c8 (fun j g1 g2 g3 g4 => ⟨h1 j (by omega) g2 (by rw [rc_set_n g3]; exact g4), fun z => absurd z (by omega)⟩) (fun j g1 => ?_))
        · by_cases e : j = k
          · rw [e, rc_set_s]
            exact ⟨pk_us, by decide⟩
          · rw [rc_set_n e, rc_un (by omega) (by omega) e]
            exact ⟨(k2 j hj).1, (k2 j hj).2.1⟩
        · rw [rc_set_n (by omega)] at h3
          rw [ne j h2 (by omega)]
          exact hl j (by omega) h2 h3
        · rw [h2 j (by omega)]
          exact ne j (by omega) (by omega)
      obtain ⟨b1, b2, _, _⟩ := k2 k (by omega)
      refine br_f (nI_ge (by omega) (by omega)) ⟨rc_60, nm_r (rc_rem hF (by omega)) ⟨rc_sin F k, ?_⟩⟩
      rw [rc_scl, b1]
      refine pk_eq (s k) 1 (fun e => ?_) (fun e => nm_r (nI_1 k) (step lf rc_ag_r (fun z => absurd z e)))
      obtain ⟨c1, c2⟩ := hl k (by omega) (by omega) e
      refine ⟨rc_sin F k, ?_⟩
      rw [c1]
      refine pk_le (l k) 0 (fun e2 => done lf e rc_ag_r ?_) (fun e2 => ⟨rc_sin F k, rc_sin F k, nm_r (e' := upd lf (rc_sl F k) (nI (l k - 1))) (by rw [rc_lm c2 e2]) ?_⟩)
      · rw [c1, show l k = 0 by omega]
        rfl
      · by_cases e3 : 2 ≤ l k
        · refine rc_c52_1 ?_ (step _ rc_ag_u (fun _ => ⟨e3, pk_us⟩))
          rw [pk_us]
          exact nI_ne0 (by omega) (by omega)
        · refine done _ e rc_ag_u ?_
          rw [pk_us, show l k - 1 = 0 by omega]
          rfl
theorem rc_complete {post : SX → Prop} (g : rc_gh gb sz ops rgs nms P o A B D N R C) (gC : C 0 = cel) (hI : rc_I F U P o A B D N R C s l fa ft op pl sg lf res ad tr gs tg LF RF LV RV mk)
    (H : ∀ (s1 l1 : Nat → Nat) (sg' lf' res' ad' tr' LF' RF' LV' RV' : Nat → Int32), rc_Cp U s l s1 l1 → rc_I F U P o A B D N R C s1 l1 fa ft op pl sg' lf' res' ad' tr' gs tg LF' RF' LV' RV' mk → post (sz, pc, sta, cnt, gb, fa, ft, nI F, nI U, ops, rgs, nms, reg, cel, op, pl, sg', lf', res', ad', tr', gs, tg, LF', RF', LV', RV', mk)) :
    wpX_complete post (sz, pc, sta, cnt, gb, fa, ft, nI F, nI U, ops, rgs, nms, reg, cel, op, pl, sg, lf, res, ad, tr, gs, tg, LF, RF, LV, RV, mk) := by
  have k2 := hI.2.2.2.1
  refine ⟨U + 1, rc_cp1 (l := l) g gC hI U 0 (U + 1) (by omega) (by omega) lf (fun j _ h2 h3 => (k2 j h2).2.2.1 h3) (fun lf' h1 _ => ?_) (fun c lf' res' ad' tr' LF' RF' LV' RV' _ c2 c3 c4 c5 c6 c7 c8 h1 _ => ?_)⟩
  · refine H s (fun j => l j - 1) sg lf' res ad tr LF RF LV RV (Or.inl (fun j hj => ⟨rfl, fun z => ⟨(h1 j (by omega) hj z).1, rfl⟩⟩)) (rc_lfk hI (fun k hk z => ⟨(h1 k (by omega) hk z).2, ?_⟩))
    have := ((k2 k hk).2.2.1 z).2
    show l k - 1 ≤ 5
    omega
  · refine H (rc_set s c 2) (fun j => l j - 1) (upd sg (rc_sl F c) 2) lf' res' ad' tr' LF' RF' LV' RV' (Or.inr ⟨c, c2, c3, rc_set_s, fun j hj e => ⟨rc_set_n e, fun z => ⟨rfl, (h1 j (by omega) hj e z).2⟩⟩⟩) (rc_lfk (rc_cp g hI c2 c3 c7 (fun j hj => ⟨c4 j hj, c5 j hj, c6 j hj⟩) (fun k hk => (c8 k hk).1) (fun k hk => (c8 k hk).2)) (fun k hk z => ?_))
    have kc : k ≠ c := fun w => by rw [w, rc_set_s] at z; exact absurd z (by decide)
    rw [rc_set_n kc] at z
    have := ((k2 k hk).2.2.1 z).2
    exact ⟨(h1 k (by omega) hk kc z).1, show l k - 1 ≤ 5 by omega⟩
end
end
section
/-! begin -/
theorem rc_or0 {b : Nat} (h : b ≤ 1) : nI b ||| 0 = nI b := by
  have : b = 0 ∨ b = 1 := by omega
  rcases this with e | e <;> subst e <;> decide
theorem rc_or1 {b : Nat} (h : b ≤ 1) : nI b ||| 1 = nI 1 := by
  have : b = 0 ∨ b = 1 := by omega
  rcases this with e | e <;> subst e <;> decide
def rc_w (b w : Nat) : Nat := if w = 0 then b else 1
theorem rc_w_le {b w : Nat} (h : b ≤ 1) : rc_w b w ≤ 1 := by
  unfold rc_w
  split <;> omega
theorem rc_orw {b w : Nat} (hb : b ≤ 1) (hw : w ≤ 1) : nI b ||| nI w = nI (rc_w b w) := by
  have : w = 0 ∨ w = 1 := by omega
  rcases this with e | e
  · subst e
    exact rc_or0 hb
  · subst e
    exact rc_or1 hb
theorem rc_lb0 : ∀ m, m < 6 → (nI m).toInt8.toInt32.toInt8.toInt32 = nI m := by decide +kernel
theorem rc_lb {m : Nat} (h : m ≤ 5) : vp_nar .byte (nI m).toInt8.toInt32 = nI m := by
  rw [vp_nar_byte]
  exact rc_lb0 m (by omega)
theorem rc_lat {post : Int32 → Prop} {x : Int32} (H : ∀ m, m ≤ 5 → post (nI m)) : wpX_latency post x :=
  br_c (fun _ => H 5 (by decide)) (fun _ => br_c (fun _ => H 3 (by decide)) (fun _ => br_c (fun _ => H 2 (by decide)) (fun _ => H 1 (by decide))))
theorem rc_opd_fr {F U : Nat} {o A s : Nat → Nat} {R : Nat → Nat → Int32} {has : Nat → Prop} {src : Nat → Nat} {FR VL : Nat → Int32} (h : rc_opd F U o A s R has src FR VL) {k : Nat} (hk : k < U) : FR (rc_sl F k) = -1 ∨ ∃ n, n < 6 ∧ FR (rc_sl F k) = nI n := by
  obtain ⟨h1, h2⟩ := h k hk
  by_cases e : has k
  · rcases h2 e with q | ⟨_, j, _, _, q, _⟩
    · exact Or.inl q.1
    · exact Or.inr ⟨_, rc_sl_lt F j, q⟩
  · exact Or.inl (h1 e)
theorem rc_opd_0 {F U : Nat} {o A s : Nat → Nat} {R : Nat → Nat → Int32} {has : Nat → Prop} {src : Nat → Nat} {FR VL : Nat → Int32} (h : rc_opd F U o A s R has src FR VL) (hk : 0 < U) : FR (rc_sl F 0) = -1 := by
  obtain ⟨h1, h2⟩ := h 0 hk
  by_cases e : has 0
  · rcases h2 e with q | ⟨_, j, q, _⟩
    · exact q.1
    · omega
  · exact h1 e
section
variable {sz pc sta cnt gb fa ft fi un : Int32} {ops rgs nms reg cel op pl sg lf res ad tr gs tg LF RF LV RV mk : Nat → Int32} {P : Nat → Int32} {o A B D : Nat → Nat} {N : Nat → Int32} {R C : Nat → Nat → Int32} {F U : Nat} {s l : Nat → Nat}
theorem rc_bg1 {post : SX → Prop} (hF : F < 6) (hU : U ≤ 6) (hs : ∀ j, j < U → sg (rc_sl F j) = nI (s j) ∧ s j ≤ 2 ∧ op (rc_sl F j) = nI (o j) ∧ o j ≤ 9)
    (H : ∀ b, b ≤ 1 → (b = 0 ↔ ∀ j, j < U → s j = 1 → ¬ rc_slow (o j)) → ∃ n70, wX_begin_70 post sz pc sta cnt gb fa ft (nI F) (nI U) n70 (nI b) 0 0 ops rgs nms reg cel op pl sg lf res ad tr gs tg LF RF LV RV mk) : ∀ d k n b, k + d = U → d < n → b ≤ 1 → (b = 0 ↔ ∀ j, j < k → s j = 1 → ¬ rc_slow (o j)) →
    wX_begin_4 post sz pc sta cnt gb fa ft (nI F) (nI U) ops rgs nms reg cel op pl sg lf res ad tr gs tg LF RF LV RV mk n (nI b) (nI k) := by
  intro d
  induction d with
  | zero =>
    intro k n b hk hn hb hq
    match n, hn with
    | n + 1, _ =>
      have e : k = U := by omega
      subst e
      exact br_t (nI_le (by omega) (by omega)) (H b hb hq)
  | succ d ih =>
    intro k n b hk hn hb hq
    match n, hn with
    | n + 1, hn =>
      obtain ⟨b1, b2, b3, b4⟩ := hs k (by omega)
      have same : (s k = 1 → ¬ rc_slow (o k)) → wX_begin_4 post sz pc sta cnt gb fa ft (nI F) (nI U) ops rgs nms reg cel op pl sg lf res ad tr gs tg LF RF LV RV mk n (nI b) (nI (k + 1)) := fun z => ih (k + 1) n b (by omega) (by omega) hb ⟨fun w j hj => by
        by_cases e : j = k
        · rw [e]
          exact z
        · exact hq.mp w j (by omega), fun w => hq.mpr (fun j hj => w j (by omega))⟩
      have busy : s k = 1 → rc_slow (o k) → wX_begin_4 post sz pc sta cnt gb fa ft (nI F) (nI U) ops rgs nms reg cel op pl sg lf res ad tr gs tg LF RF LV RV mk n (nI 1) (nI (k + 1)) := fun z1 z2 => ih (k + 1) n 1 (by omega) (by omega) (by decide) ⟨fun w => absurd w (by decide), fun w => absurd z2 (w k (by omega) z1)⟩
      refine br_f (nI_ge (by omega) (by omega)) ⟨rc_60, nm_r (rc_rem hF (by omega)) ⟨rc_sin F k, ?_⟩⟩
      rw [rc_scl, b1, b3]
      refine pk_eq (s k) 1 (fun e => ⟨rc_sin F k, pk_eq (o k) 2 (fun e2 => nm_r (rc_or1 hb) (nm_r (nI_1 k) (busy e (Or.inl e2)))) (fun n2 => ⟨rc_sin F k, pk_eq (o k) 3 (fun e3 => nm_r (rc_or1 hb) (nm_r (nI_1 k) (busy e (Or.inr e3)))) (fun n3 => nm_r (rc_or0 hb) (nm_r (nI_1 k) (same (fun _ z => ?_))))⟩)⟩) (fun e => nm_r (rc_or0 hb) (nm_r (nI_1 k) (same (fun z => absurd z e))))
      rcases z with z | z
      · exact n2 z
      · exact n3 z
def rc_e (o e : Nat) : Nat := if o = 5 then 1 else e
theorem rc_e_le {o e : Nat} (h : e ≤ 1) : rc_e o e ≤ 1 := by
  unfold rc_e
  split <;> omega
theorem rc_b215 {post : SX → Prop} {n k b e : Nat} (hop : op (rc_sl F k) = nI (o k)) (ho : o k ≤ 9) (he : e ≤ 1) (h : wX_begin_70 post sz pc sta cnt gb fa ft fi un n (nI b) (nI (rc_e (o k) e)) (nI (k + 1)) ops rgs nms reg cel op pl sg lf res ad tr gs tg LF RF LV RV mk) : wX_begin_215 post (wX_begin_70 post sz pc sta cnt gb fa ft fi un n) (nI b) (nI e) (nI k) (nI (rc_sl F k)) sz pc sta cnt gb fa ft fi un ops rgs nms reg cel op pl sg lf res ad tr gs tg LF RF LV RV mk := by
  unfold wX_begin_215
  rw [rc_scl, hop]
  refine ⟨rc_sin F k, pk_eq (o k) 5 (fun z => nm_r (e' := nI (rc_e (o k) e)) ?_ (nm_r (nI_1 k) h)) (fun z => nm_r (e' := nI (rc_e (o k) e)) ?_ (nm_r (nI_1 k) h))⟩
  · rw [rc_or1 he]
    unfold rc_e
    rw [if_pos z]
  · rw [rc_or0 he]
    unfold rc_e
    rw [if_neg z]
/-- what lets an instruction begin -/
def rc_go (F k w b e : Nat) (o s : Nat → Nat) (LF RF : Nat → Int32) : Prop := s k = 0 ∧ LF (rc_sl F k) = -1 ∧ RF (rc_sl F k) = -1 ∧ (w = 0 ∨ b = 0) ∧ (o k = 4 → e = 0)
theorem rc_b184 {post : SX → Prop} {n k b e w : Nat} (hop : op (rc_sl F k) = nI (o k)) (ho : o k ≤ 9) (he : e ≤ 1) (hb : b ≤ 1) (hw : w ≤ 1) (h : ∀ m, m ≤ 5 → wX_begin_70 post sz pc sta cnt gb fa ft fi un n (nI (rc_w b w)) (nI (rc_e (o k) e)) (nI (k + 1)) ops rgs nms reg cel op pl (upd sg (rc_sl F k) 1) (upd lf (rc_sl F k) (nI m)) res ad tr gs tg LF RF LV RV mk) : wX_begin_184 post (wX_begin_70 post sz pc sta cnt gb fa ft fi un n) (nI b) (nI e) (nI k) (nI (rc_sl F k)) (nI w) sz pc sta cnt gb fa ft fi un ops rgs nms reg cel op pl sg lf res ad tr gs tg LF RF LV RV mk := by
  unfold wX_begin_184
  refine ⟨rc_sin F k, nm_r (e' := upd sg (rc_sl F k) 1) (by rw [rc_scl, rc_n1]) ⟨rc_sin F k, rc_lat (fun m hm => ⟨rc_sin F k, nm_r (e' := upd lf (rc_sl F k) (nI m)) (by rw [rc_scl, rc_lb hm]) (nm_r (rc_orw hb hw) (rc_b215 hop ho he (h m hm)))⟩)⟩⟩
theorem rc_b169 {post : SX → Prop} {n k b e w : Nat} (hop : op (rc_sl F k) = nI (o k)) (ho : o k ≤ 9) (he : e ≤ 1) (hb : b ≤ 1) (hw : w ≤ 1) (h1 : (o k = 4 → e = 0) → ∀ m, m ≤ 5 → wX_begin_70 post sz pc sta cnt gb fa ft fi un n (nI (rc_w b w)) (nI (rc_e (o k) e)) (nI (k + 1)) ops rgs nms reg cel op pl (upd sg (rc_sl F k) 1) (upd lf (rc_sl F k) (nI m)) res ad tr gs tg LF RF LV RV mk) (h2 : ¬ (o k = 4 → e = 0) → wX_begin_70 post sz pc sta cnt gb fa ft fi un n (nI b) (nI (rc_e (o k) e)) (nI (k + 1)) ops rgs nms reg cel op pl sg lf res ad tr gs tg LF RF LV RV mk) : wX_begin_169 post (wX_begin_70 post sz pc sta cnt gb fa ft fi un n) (nI b) (nI e) (nI k) (nI (rc_sl F k)) (nI w) sz pc sta cnt gb fa ft fi un ops rgs nms reg cel op pl sg lf res ad tr gs tg LF RF LV RV mk := by
  unfold wX_begin_169
  rw [rc_scl, hop]
  exact ⟨rc_sin F k, pk_eq (o k) 4 (fun z => pk_eq e 0 (fun z1 => rc_b184 hop ho he hb hw (h1 (fun _ => z1))) (fun z1 => rc_b215 hop ho he (h2 (fun z2 => z1 (z2 z))))) (fun z => rc_b184 hop ho he hb hw (h1 (fun z1 => absurd z1 z)))⟩
theorem rc_b152 {post : SX → Prop} {n k b e w : Nat} (hop : op (rc_sl F k) = nI (o k)) (ho : o k ≤ 9) (he : e ≤ 1) (h : wX_begin_70 post sz pc sta cnt gb fa ft fi un n (nI b) (nI (rc_e (o k) e)) (nI (k + 1)) ops rgs nms reg cel op pl sg lf res ad tr gs tg LF RF LV RV mk) : wX_begin_152 post (wX_begin_70 post sz pc sta cnt gb fa ft fi un n) (nI b) (nI e) (nI k) (nI (rc_sl F k)) (nI w) sz pc sta cnt gb fa ft fi un ops rgs nms reg cel op pl sg lf res ad tr gs tg LF RF LV RV mk := by
  unfold wX_begin_152 wX_begin_153
  exact br_t rfl (rc_b215 hop ho he h)
theorem rc_b153 {post : SX → Prop} {n k b e w : Nat} (hop : op (rc_sl F k) = nI (o k)) (ho : o k ≤ 9) (he : e ≤ 1) (hb : b ≤ 1) (hw : w ≤ 1) (h1 : (w = 0 ∨ b = 0) → (o k = 4 → e = 0) → ∀ m, m ≤ 5 → wX_begin_70 post sz pc sta cnt gb fa ft fi un n (nI (rc_w b w)) (nI (rc_e (o k) e)) (nI (k + 1)) ops rgs nms reg cel op pl (upd sg (rc_sl F k) 1) (upd lf (rc_sl F k) (nI m)) res ad tr gs tg LF RF LV RV mk) (h2 : ¬ ((w = 0 ∨ b = 0) ∧ (o k = 4 → e = 0)) → wX_begin_70 post sz pc sta cnt gb fa ft fi un n (nI b) (nI (rc_e (o k) e)) (nI (k + 1)) ops rgs nms reg cel op pl sg lf res ad tr gs tg LF RF LV RV mk) : wX_begin_153 post (wX_begin_70 post sz pc sta cnt gb fa ft fi un n) (nI b) (nI e) (nI k) (nI (rc_sl F k)) (nI w) 1 sz pc sta cnt gb fa ft fi un ops rgs nms reg cel op pl sg lf res ad tr gs tg LF RF LV RV mk := by
  unfold wX_begin_153
  refine br_f rc_10 (pk_eq w 0 (fun z => rc_b169 hop ho he hb hw (h1 (Or.inl z)) (fun z1 => h2 (fun z2 => z1 z2.2))) (fun z => pk_eq b 0 (fun z1 => rc_b169 hop ho he hb hw (h1 (Or.inr z1)) (fun z2 => h2 (fun z3 => z2 z3.2))) (fun z1 => rc_b215 hop ho he (h2 (fun z2 => ?_)))))
  rcases z2.1 with z3 | z3
  · exact z z3
  · exact z1 z3
theorem rc_nle0 : ¬ (0 : Int32) ≤ -1 := by decide
theorem rc_b116 {post : SX → Prop} {n k b e w : Nat} (hsg : sg (rc_sl F k) = nI (s k)) (hs2 : s k ≤ 2) (hop : op (rc_sl F k) = nI (o k)) (ho : o k ≤ 9) (he : e ≤ 1) (hb : b ≤ 1) (hw : w ≤ 1) (hL : LF (rc_sl F k) = -1 ∨ ∃ n, n < 6 ∧ LF (rc_sl F k) = nI n) (hR : RF (rc_sl F k) = -1 ∨ ∃ n, n < 6 ∧ RF (rc_sl F k) = nI n)
    (h1 : rc_go F k w b e o s LF RF → ∀ m, m ≤ 5 → wX_begin_70 post sz pc sta cnt gb fa ft fi un n (nI (rc_w b w)) (nI (rc_e (o k) e)) (nI (k + 1)) ops rgs nms reg cel op pl (upd sg (rc_sl F k) 1) (upd lf (rc_sl F k) (nI m)) res ad tr gs tg LF RF LV RV mk) (h2 : ¬ rc_go F k w b e o s LF RF → wX_begin_70 post sz pc sta cnt gb fa ft fi un n (nI b) (nI (rc_e (o k) e)) (nI (k + 1)) ops rgs nms reg cel op pl sg lf res ad tr gs tg LF RF LV RV mk) : wX_begin_116 post (wX_begin_70 post sz pc sta cnt gb fa ft fi un n) (nI b) (nI e) (nI k) (nI (rc_sl F k)) (nI w) sz pc sta cnt gb fa ft fi un ops rgs nms reg cel op pl sg lf res ad tr gs tg LF RF LV RV mk := by
  unfold wX_begin_116
  rw [rc_scl, hsg]
  refine ⟨rc_sin F k, pk_eq (s k) 0 (fun z => ⟨rc_sin F k, ?_⟩) (fun z => rc_b152 hop ho he (h2 (fun q => z q.1)))⟩
  rcases hL with eL | ⟨nL, hnL, eL⟩
  · refine br_f (by rw [eL]; exact rc_nle0) ⟨rc_sin F k, ?_⟩
    rcases hR with eR | ⟨nR, hnR, eR⟩
    · exact br_f (by rw [eR]; exact rc_nle0) (rc_b153 hop ho he hb hw (fun q1 q2 => h1 ⟨z, eL, eR, q1, q2⟩) (fun q => h2 (fun q2 => q q2.2.2.2)))
    · exact br_t (by rw [eR]; exact nI_pos' (by omega)) (rc_b152 hop ho he (h2 (fun q => rc_ne1 (n := nR) (by omega) (q.2.2.1.symm.trans eR))))
  · exact br_t (by rw [eL]; exact nI_pos' (by omega)) (rc_b152 hop ho he (h2 (fun q => rc_ne1 (n := nL) (by omega) (q.2.1.symm.trans eL))))
theorem rc_bg2 {post : SX → Prop} (ho : ∀ k, o k ≤ 9) : ∀ d k n, k + d = U → d < n → ∀ (sg lf : Nat → Int32) (s l : Nat → Nat) (b e : Nat), b ≤ 1 → e ≤ 1 → rc_I F U P o A B D N R C s l fa ft op pl sg lf res ad tr gs tg LF RF LV RV mk → (b = 0 → ∀ j, j < U → s j = 1 → ¬ rc_slow (o j)) → (e = 0 → ∀ j, j < k → o j ≠ 5) → (k = 0 → e = 0) →
    (∀ (s' l' : Nat → Nat) (sg' lf' : Nat → Int32), rc_I F U P o A B D N R C s' l' fa ft op pl sg' lf' res ad tr gs tg LF RF LV RV mk → (∀ j, j < U → (s' j = s j ∧ l' j = l j) ∨ (s j = 0 ∧ s' j = 1 ∧ l' j ≤ 5)) → (k = 0 → 0 < U → s 0 = 0 → (¬ rc_slow (o 0) ∨ b = 0) → s' 0 = 1) → post (sz, pc, sta, cnt, gb, fa, ft, nI F, nI U, ops, rgs, nms, reg, cel, op, pl, sg', lf', res, ad, tr, gs, tg, LF, RF, LV, RV, mk)) →
    wX_begin_70 post sz pc sta cnt gb fa ft (nI F) (nI U) n (nI b) (nI e) (nI k) ops rgs nms reg cel op pl sg lf res ad tr gs tg LF RF LV RV mk := by
  intro d
  induction d with
  | zero =>
    intro k n hk hn sg lf s l b e hb he hI _ _ _ H
    have hU := hI.2.1
    match n, hn with
    | n + 1, _ => exact br_t (nI_le (by omega) (by omega)) (H s l sg lf hI (fun j _ => Or.inl ⟨rfl, rfl⟩) (fun z1 z2 => by omega))
  | succ d ih =>
    intro k n hk hn sg lf s l b e hb he hI hq he5 hk0 H
    match n, hn with
    | n + 1, hn =>
      obtain ⟨hF, hU, k1, k2, k7, kl, kr, k4, k5, k6⟩ := id hI
      have kU : k < U := by omega
      have hop := (k1 k kU).1
      have e5 : rc_e (o k) e = 0 → ∀ j, j < k + 1 → o j ≠ 5 := by
        intro z j hj
        unfold rc_e at z
        by_cases q : o k = 5
        · rw [if_pos q] at z
          exact absurd z (by decide)
        · rw [if_neg q] at z
          by_cases jk : j = k
          · rw [jk]
            exact q
          · exact he5 z j (by omega)
      have go : ∀ w, w ≤ 1 → (w = 0 ↔ ¬ rc_slow (o k)) → wX_begin_116 post (wX_begin_70 post sz pc sta cnt gb fa ft (nI F) (nI U) n) (nI b) (nI e) (nI k) (nI (rc_sl F k)) (nI w) sz pc sta cnt gb fa ft (nI F) (nI U) ops rgs nms reg cel op pl sg lf res ad tr gs tg LF RF LV RV mk := by
        intro w hw hws
        refine rc_b116 (o := o) (s := s) (k2 k kU).1 (k2 k kU).2.1 hop (ho k) he hb hw (rc_opd_fr kl kU) (rc_opd_fr kr kU) (fun q m hm => ?_) (fun q => ?_)
        · obtain ⟨q1, q2, q3, q4, q5⟩ := q
          have wb : rc_slow (o k) → b = 0 := by
            intro z
            rcases q4 with q4 | q4
            · exact absurd z (hws.mp q4)
            · exact q4
          refine ih (k + 1) n (by omega) (by omega) (upd sg (rc_sl F k) 1) (upd lf (rc_sl F k) (nI m)) (rc_set s k 1) (rc_set l k m) (rc_w b w) (rc_e (o k) e) (rc_w_le hb) (rc_e_le he) (rc_bg hI kU q1 hm q2 q3 (fun z => he5 (q5 z)) (fun z => hq (wb z))) (fun z j hj sj wj => ?_) e5 (fun z => by omega) (fun s' l' sg' lf' hI' hr _ => H s' l' sg' lf' hI' (fun j hj => ?_) (fun z _ _ _ => ?_))
          · have w0 : w = 0 := by
              unfold rc_w at z
              split at z
              · assumption
              · exact absurd z (by decide)
            have b0 : b = 0 := by
              unfold rc_w at z
              rw [if_pos w0] at z
              exact z
            by_cases jk : j = k
            · rw [jk] at wj
              exact hws.mp w0 wj
            · rw [rc_set_n jk] at sj
              exact hq b0 j hj sj wj
          · by_cases jk : j = k
            · have z := hr j hj
              rw [jk] at z
              rw [rc_set_s, rc_set_s] at z
              rw [jk]
              rcases z with z | z
              · exact Or.inr ⟨q1, z.1, by omega⟩
              · exact absurd z.1 (by decide)
            · have z := hr j hj
              rw [rc_set_n jk, rc_set_n jk] at z
              exact z
          · have y := hr k kU
            rw [rc_set_s, rc_set_s, z] at y
            rcases y with y | y
            · exact y.1
            · exact absurd y.1 (by decide)
        · refine ih (k + 1) n (by omega) (by omega) sg lf s l b (rc_e (o k) e) hb (rc_e_le he) hI hq e5 (fun z => by omega) (fun s' l' sg' lf' hI' hr _ => H s' l' sg' lf' hI' hr (fun z1 z2 z3 z4 => absurd ?_ q))
          subst z1
          refine ⟨z3, rc_opd_0 kl z2, rc_opd_0 kr z2, ?_, fun _ => hk0 rfl⟩
          rcases z4 with z4 | z4
          · exact Or.inl (hws.mpr z4)
          · exact Or.inr z4
      refine br_f (nI_ge (by omega) (by omega)) ⟨rc_60, nm_r (rc_rem hF (by omega)) ⟨rc_sin F k, ?_⟩⟩
      rw [rc_scl, hop]
      have o9 := ho k
      exact pk_eq (o k) 2 (fun z => go 1 (by decide) ⟨fun y => absurd y (by decide), fun y => absurd (Or.inl z) y⟩) (fun n2 => ⟨rc_sin F k, pk_eq (o k) 3 (fun z => go 1 (by decide) ⟨fun y => absurd y (by decide), fun y => absurd (Or.inr z) y⟩) (fun n3 => go 0 (by decide) ⟨fun _ y => y.elim n2 n3, fun _ => rfl⟩)⟩)
theorem rc_begin {post : SX → Prop} (ho : ∀ k, o k ≤ 9) (hI : rc_I F U P o A B D N R C s l fa ft op pl sg lf res ad tr gs tg LF RF LV RV mk)
    (H : ∀ (s' l' : Nat → Nat) (sg' lf' : Nat → Int32), rc_Bg U o s l s' l' → rc_I F U P o A B D N R C s' l' fa ft op pl sg' lf' res ad tr gs tg LF RF LV RV mk → post (sz, pc, sta, cnt, gb, fa, ft, nI F, nI U, ops, rgs, nms, reg, cel, op, pl, sg', lf', res, ad, tr, gs, tg, LF, RF, LV, RV, mk)) : wpX_begin post (sz, pc, sta, cnt, gb, fa, ft, nI F, nI U, ops, rgs, nms, reg, cel, op, pl, sg, lf, res, ad, tr, gs, tg, LF, RF, LV, RV, mk) := by
  obtain ⟨hF, hU, k1, k2, k7, kl, kr, k4, k5, k6⟩ := id hI
  refine ⟨U + 1, rc_bg1 (s := s) (o := o) hF hU (fun j hj => ⟨(k2 j hj).1, (k2 j hj).2.1, (k1 j hj).1, ho j⟩) (fun b hb hq => ⟨U + 1, rc_bg2 ho U 0 (U + 1) (by omega) (by omega) sg lf s l b 0 hb (by decide) hI hq.mp (fun _ j hj => absurd hj (by omega)) (fun _ => rfl) (fun s' l' sg' lf' hI' hr h0 => H s' l' sg' lf' ⟨hr, fun z1 z2 z3 => h0 rfl z1 z2 ?_⟩ hI')⟩) U 0 (U + 1) 0 (by omega) (by omega) (by decide) ⟨fun _ j hj => absurd hj (by omega), fun _ => rfl⟩⟩
  rcases z3 with z3 | z3
  · exact Or.inl z3
  · exact Or.inr (hq.mpr z3)
end
end
section
/-! issue: reading operands, following, taking in -/
theorem rc_nm1' : vp_nar .byte ((-1 : Int32).toInt8.toInt32) = -1 := by rw [vp_nar_byte]; decide
theorem rc_lt0 : (-1 : Int32) < 0 := by decide
/-- a register's maker, or its value -/
def rc_mkr (F U : Nat) (o A s : Nat → Nat) (r : Nat) (v : Int32) (mk reg sg res : Nat → Int32) : Prop :=
  (mk r = -1 ∧ reg r = v) ∨ ∃ j, j < U ∧ mk r = nI (rc_sl F j) ∧ sg (rc_sl F j) = nI (s j) ∧ s j ≤ 2 ∧ (s j = 2 → res (rc_sl F j) = v) ∧ rc_lw o A j r U
section
variable {sz pc sta cnt gb fa ft fi un : Int32} {ops rgs nms reg cel op pl sg lf res ad tr gs tg LF RF LV RV mk : Nat → Int32} {o A : Nat → Nat} {F U : Nat} {s : Nat → Nat}
theorem rc_rl43 {post : SX → Prop} {i r : Nat} {f z v : Int32} (hi : i < 6) (hr : r < 4) (hz : vp_nar .byte z.toInt8.toInt32 = z) (hf : (f = -1 ∧ v = reg r) ∨ ∃ j, f = nI (rc_sl F j) ∧ v = res (rc_sl F j)) (H : post (sz, pc, sta, cnt, gb, fa, ft, fi, un, ops, rgs, nms, reg, cel, op, pl, sg, lf, res, ad, tr, gs, tg, upd LF i z, RF, upd LV i v, RV, mk)) : wX_readLeft_43 post (nI i) (nI r) f z (nI i) sz pc sta cnt gb fa ft fi un ops rgs nms reg cel op pl sg lf res ad tr gs tg LF RF LV RV mk := by
  have hin : vp_in (nI i) 6 := vp_in_nI hi (by decide)
  have hcl : (nI i).toNatClampNeg = i := nI_clamp (by omega)
  unfold wX_readLeft_43
  rcases hf with ⟨rfl, rfl⟩ | ⟨j, rfl, rfl⟩
  · exact ⟨hin, nm_r (e' := upd LF i z) (by rw [hcl, hz]) (br_f rc_nle0 ⟨vp_in_nI hr (by decide), hin, nm_r (e' := upd LV i (reg r)) (by rw [hcl, nI_clamp (by omega)]) H⟩)⟩
  · exact ⟨hin, nm_r (e' := upd LF i z) (by rw [hcl, hz]) (br_t (nI_pos' (rc_s31 F j)) ⟨rc_sin F j, hin, nm_r (e' := upd LV i (res (rc_sl F j))) (by rw [hcl, rc_scl]) H⟩)⟩
theorem rc_readLeft {post : SX → Prop} {r : Nat} {v : Int32} (hr : r < 4) (hm : rc_mkr F U o A s r v mk reg sg res) (H : ∀ LF' LV' : Nat → Int32, rc_ag (rc_sl F U) LF LF' → rc_ag (rc_sl F U) LV LV' → rc_opk F o A (rc_set s U 0) U v r (LF' (rc_sl F U)) (LV' (rc_sl F U)) → post (sz, pc, sta, cnt, gb, fa, ft, fi, un, ops, rgs, nms, reg, cel, op, pl, sg, lf, res, ad, tr, gs, tg, LF', RF, LV', RV, mk)) : wpX_readLeft post (sz, pc, sta, cnt, gb, fa, ft, fi, un, ops, rgs, nms, reg, cel, op, pl, sg, lf, res, ad, tr, gs, tg, LF, RF, LV, RV, mk) (nI (rc_sl F U)) (nI r) := by
  have hcl : (nI r).toNatClampNeg = r := nI_clamp (by omega)
  unfold wpX_readLeft
  rcases hm with ⟨e1, e2⟩ | ⟨j, hj, e1, e2, e3, e4, lw⟩
  · refine ⟨vp_in_nI hr (by decide), nm_r (e' := -1) (by rw [hcl, e1]) (br_t rc_lt0 ?_)⟩
    unfold wX_readLeft_25 wX_readLeft_26
    exact br_t rfl (rc_rl43 (F := F) (rc_sl_lt F U) hr rc_nm1' (Or.inl ⟨rfl, e2.symm⟩) (H _ _ rc_ag_u rc_ag_u (Or.inl ⟨pk_us, pk_us⟩)))
  · refine ⟨vp_in_nI hr (by decide), nm_r (e' := nI (rc_sl F j)) (by rw [hcl, e1]) (br_f (nI_pos (rc_s31 F j)) ⟨rc_sin F j, ?_⟩)⟩
    rw [rc_scl, e2]
    refine pk_eq (s j) 2 (fun z => ?_) (fun z => ?_)
    · unfold wX_readLeft_25 wX_readLeft_26
      exact br_t rfl (rc_rl43 (F := F) (rc_sl_lt F U) hr rc_nm1' (Or.inr ⟨j, rfl, (e4 z).symm⟩) (H _ _ rc_ag_u rc_ag_u (Or.inl ⟨pk_us, pk_us⟩)))
    · unfold wX_readLeft_26
      exact br_f rc_10 (rc_rl43 (F := F) (rc_sl_lt F U) hr (rc_lb (by have := rc_sl_lt F j; omega)) (Or.inr ⟨j, rfl, rfl⟩) (H _ _ rc_ag_u rc_ag_u (Or.inr ⟨rc_set_s, j, hj, by rw [rc_set_n (by omega)]; exact z, pk_us, lw⟩)))
theorem rc_rr43 {post : SX → Prop} {i r : Nat} {f z v : Int32} (hi : i < 6) (hr : r < 4) (hz : vp_nar .byte z.toInt8.toInt32 = z) (hf : (f = -1 ∧ v = reg r) ∨ ∃ j, f = nI (rc_sl F j) ∧ v = res (rc_sl F j)) (H : post (sz, pc, sta, cnt, gb, fa, ft, fi, un, ops, rgs, nms, reg, cel, op, pl, sg, lf, res, ad, tr, gs, tg, LF, upd RF i z, LV, upd RV i v, mk)) : wX_readRight_43 post (nI i) (nI r) f z (nI i) sz pc sta cnt gb fa ft fi un ops rgs nms reg cel op pl sg lf res ad tr gs tg LF RF LV RV mk := by
  have hin : vp_in (nI i) 6 := vp_in_nI hi (by decide)
  have hcl : (nI i).toNatClampNeg = i := nI_clamp (by omega)
  unfold wX_readRight_43
  rcases hf with ⟨rfl, rfl⟩ | ⟨j, rfl, rfl⟩
  · exact ⟨hin, nm_r (e' := upd RF i z) (by rw [hcl, hz]) (br_f rc_nle0 ⟨vp_in_nI hr (by decide), hin, nm_r (e' := upd RV i (reg r)) (by rw [hcl, nI_clamp (by omega)]) H⟩)⟩
  · exact ⟨hin, nm_r (e' := upd RF i z) (by rw [hcl, hz]) (br_t (nI_pos' (rc_s31 F j)) ⟨rc_sin F j, hin, nm_r (e' := upd RV i (res (rc_sl F j))) (by rw [hcl, rc_scl]) H⟩)⟩
theorem rc_readRight {post : SX → Prop} {r : Nat} {v : Int32} (hr : r < 4) (hm : rc_mkr F U o A s r v mk reg sg res) (H : ∀ RF' RV' : Nat → Int32, rc_ag (rc_sl F U) RF RF' → rc_ag (rc_sl F U) RV RV' → rc_opk F o A (rc_set s U 0) U v r (RF' (rc_sl F U)) (RV' (rc_sl F U)) → post (sz, pc, sta, cnt, gb, fa, ft, fi, un, ops, rgs, nms, reg, cel, op, pl, sg, lf, res, ad, tr, gs, tg, LF, RF', LV, RV', mk)) : wpX_readRight post (sz, pc, sta, cnt, gb, fa, ft, fi, un, ops, rgs, nms, reg, cel, op, pl, sg, lf, res, ad, tr, gs, tg, LF, RF, LV, RV, mk) (nI (rc_sl F U)) (nI r) := by
  have hcl : (nI r).toNatClampNeg = r := nI_clamp (by omega)
  unfold wpX_readRight
  rcases hm with ⟨e1, e2⟩ | ⟨j, hj, e1, e2, e3, e4, lw⟩
  · refine ⟨vp_in_nI hr (by decide), nm_r (e' := -1) (by rw [hcl, e1]) (br_t rc_lt0 ?_)⟩
    unfold wX_readRight_25 wX_readRight_26
    exact br_t rfl (rc_rr43 (F := F) (rc_sl_lt F U) hr rc_nm1' (Or.inl ⟨rfl, e2.symm⟩) (H _ _ rc_ag_u rc_ag_u (Or.inl ⟨pk_us, pk_us⟩)))
  · refine ⟨vp_in_nI hr (by decide), nm_r (e' := nI (rc_sl F j)) (by rw [hcl, e1]) (br_f (nI_pos (rc_s31 F j)) ⟨rc_sin F j, ?_⟩)⟩
    rw [rc_scl, e2]
    refine pk_eq (s j) 2 (fun z => ?_) (fun z => ?_)
    · unfold wX_readRight_25 wX_readRight_26
      exact br_t rfl (rc_rr43 (F := F) (rc_sl_lt F U) hr rc_nm1' (Or.inr ⟨j, rfl, (e4 z).symm⟩) (H _ _ rc_ag_u rc_ag_u (Or.inl ⟨pk_us, pk_us⟩)))
    · unfold wX_readRight_26
      exact br_f rc_10 (rc_rr43 (F := F) (rc_sl_lt F U) hr (rc_lb (by have := rc_sl_lt F j; omega)) (Or.inr ⟨j, rfl, rfl⟩) (H _ _ rc_ag_u rc_ag_u (Or.inr ⟨rc_set_s, j, hj, by rw [rc_set_n (by omega)]; exact z, pk_us, lw⟩)))
/-- what readOperands leaves -/
def rc_rd (F U : Nat) (o A s : Nat → Nat) (v : Nat → Int32) (q a b d i : Nat) (LF RF LV RV tg mk LF' RF' LV' RV' tg' mk' : Nat → Int32) : Prop :=
  rc_ag i LF LF' ∧ rc_ag i RF RF' ∧ rc_ag i LV LV' ∧ rc_ag i RV RV' ∧ rc_ag i tg tg' ∧ (¬ rc_hl q → LF' i = -1) ∧ (rc_hl q → rc_opk F o A (rc_set s U 0) U (v (rc_sL q a b)) (rc_sL q a b) (LF' i) (LV' i)) ∧ (¬ rc_hr q → RF' i = -1) ∧ (rc_hr q → rc_opk F o A (rc_set s U 0) U (v (rc_sR q b d)) (rc_sR q b d) (RF' i) (RV' i)) ∧ (q ≤ 4 → tg' i = nI a) ∧ (q ≤ 4 → mk' = upd mk a (nI i)) ∧ (¬ q ≤ 4 → mk' = mk)
theorem rc_ro84 {post : SX → Prop} {q a i : Nat} (hi : i < 6) (hq : q ≤ 8) (ha : a < 4) (H : ∀ tg' mk' : Nat → Int32, rc_ag i tg tg' → (q ≤ 4 → tg' i = nI a) → (q ≤ 4 → mk' = upd mk a (nI i)) → (¬ q ≤ 4 → mk' = mk) → post (sz, pc, sta, cnt, gb, fa, ft, fi, un, ops, rgs, nms, reg, cel, op, pl, sg, lf, res, ad, tr, gs, tg', LF, RF, LV, RV, mk')) : wX_readOperands_84 post (nI i) (nI q) (nI a) sz pc sta cnt gb fa ft fi un ops rgs nms reg cel op pl sg lf res ad tr gs tg LF RF LV RV mk := by
  have hin : vp_in (nI i) 6 := vp_in_nI hi (by decide)
  have hcl : (nI i).toNatClampNeg = i := nI_clamp (by omega)
  unfold wX_readOperands_84
  exact pk_lt 4 q (fun z => H tg mk rc_ag_r (fun w => absurd w (by omega)) (fun w => absurd w (by omega)) (fun _ => rfl)) (fun z => ⟨hin, nm_r (e' := upd tg i (nI a)) (by rw [hcl, rc_lb (by omega)]) ⟨vp_in_nI ha (by decide), nm_r (e' := upd mk a (nI i)) (by rw [nI_clamp (by omega), rc_lb (by omega)]) (H _ _ rc_ag_u (fun _ => pk_us) (fun _ => rfl) (fun w => absurd z w))⟩⟩)
theorem rc_sLb {q a b : Nat} (h : q ≤ 4) : rc_sL q a b = b := if_pos h
theorem rc_sLa {q a b : Nat} (h : ¬ q ≤ 4) : rc_sL q a b = a := if_neg h
theorem rc_sRb {q b d : Nat} (h : q = 5) : rc_sR q b d = b := if_pos h
theorem rc_sRd {q b d : Nat} (h : ¬ q = 5) : rc_sR q b d = d := if_neg h
theorem rc_ro49 {post : SX → Prop} {q a b d : Nat} {v : Nat → Int32} (hq : q ≤ 8) (hq2 : q = 0 ∨ 5 ≤ q) (ha : a < 4) (hb : b < 4) (hm : ∀ r, r < 4 → rc_mkr F U o A s r (v r) mk reg sg res) (hL : LF (rc_sl F U) = -1) (hR : RF (rc_sl F U) = -1) (H : ∀ LF' RF' LV' RV' tg' mk' : Nat → Int32, rc_rd F U o A s v q a b d (rc_sl F U) LF RF LV RV tg mk LF' RF' LV' RV' tg' mk' → post (sz, pc, sta, cnt, gb, fa, ft, fi, un, ops, rgs, nms, reg, cel, op, pl, sg, lf, res, ad, tr, gs, tg', LF', RF', LV', RV', mk')) : wX_readOperands_49 post (nI (rc_sl F U)) (nI q) (nI a) (nI b) sz pc sta cnt gb fa ft fi un ops rgs nms reg cel op pl sg lf res ad tr gs tg LF RF LV RV mk := by
  unfold wX_readOperands_49
  refine pk_eq q 5 (fun e => ?_) (fun n5 => pk_eq q 6 (fun e => ?_) (fun n6 => ?_))
  · refine rc_readLeft (o := o) (A := A) (s := s) ha (hm a ha) (fun LF' LV' a1 a2 p1 => ?_)
    dsimp only
    refine rc_readRight (o := o) (A := A) (s := s) hb (hm b hb) (fun RF' RV' a3 a4 p2 => ?_)
    dsimp only
    refine rc_ro84 (rc_sl_lt F U) hq ha (fun tg' mk' a5 c1 c2 c3 => H LF' RF' LV' RV' tg' mk' ⟨a1, a3, a2, a4, a5, fun z => absurd ⟨by omega, by omega⟩ z, fun _ => ?_, fun z => absurd (Or.inr e) z, fun _ => ?_, c1, c2, c3⟩)
    · rw [rc_sLa (by omega)]
      exact p1
    · rw [rc_sRb e]
      exact p2
  · refine rc_readLeft (o := o) (A := A) (s := s) ha (hm a ha) (fun LF' LV' a1 a2 p1 => ?_)
    dsimp only
    refine rc_ro84 (rc_sl_lt F U) hq ha (fun tg' mk' a5 c1 c2 c3 => H LF' RF LV' RV tg' mk' ⟨a1, rc_ag_r, a2, rc_ag_r, a5, fun z => absurd ⟨by omega, by omega⟩ z, fun _ => ?_, fun _ => hR, fun z => ?_, c1, c2, c3⟩)
    · rw [rc_sLa (by omega)]
      exact p1
    · unfold rc_hr at z
      omega
  · refine rc_ro84 (rc_sl_lt F U) hq ha (fun tg' mk' a5 c1 c2 c3 => H LF RF LV RV tg' mk' ⟨rc_ag_r, rc_ag_r, rc_ag_r, rc_ag_r, a5, fun _ => hL, fun z => ?_, fun _ => hR, fun z => ?_, c1, c2, c3⟩)
    · unfold rc_hl at z
      omega
    · unfold rc_hr at z
      omega
theorem rc_ro {post : SX → Prop} {q a b d : Nat} {w : Int32} {v : Nat → Int32} (hq : q ≤ 8) (ha : a < 4) (hb : b < 4) (hd : d < 4) (ea : w &&& 3 = nI a) (eb : (w >>> ((2 : Int32) &&& 31)) &&& 3 = nI b) (ed : w >>> ((4 : Int32) &&& 31) = nI d) (hm : ∀ r, r < 4 → rc_mkr F U o A s r (v r) mk reg sg res) (hL : LF (rc_sl F U) = -1) (hR : RF (rc_sl F U) = -1) (H : ∀ LF' RF' LV' RV' tg' mk' : Nat → Int32, rc_rd F U o A s v q a b d (rc_sl F U) LF RF LV RV tg mk LF' RF' LV' RV' tg' mk' → post (sz, pc, sta, cnt, gb, fa, ft, fi, un, ops, rgs, nms, reg, cel, op, pl, sg, lf, res, ad, tr, gs, tg', LF', RF', LV', RV', mk')) : wpX_readOperands post (sz, pc, sta, cnt, gb, fa, ft, fi, un, ops, rgs, nms, reg, cel, op, pl, sg, lf, res, ad, tr, gs, tg, LF, RF, LV, RV, mk) (nI (rc_sl F U)) (nI q) w := by
  unfold wpX_readOperands
  refine nm_r ea (nm_r eb (nm_r ed (pk_lt q 1 (fun z => rc_ro49 (d := d) hq (by omega) ha hb hm hL hR H) (fun z => pk_lt 4 q (fun z2 => rc_ro49 (d := d) hq (by omega) ha hb hm hL hR H) (fun z2 => ?_)))))
  refine rc_readLeft (o := o) (A := A) (s := s) hb (hm b hb) (fun LF' LV' a1 a2 p1 => ?_)
  dsimp only
  refine pk_eq q 4 (fun e => ?_) (fun n4 => ?_)
  · refine rc_ro84 (rc_sl_lt F U) hq ha (fun tg' mk' a5 c1 c2 c3 => H LF' RF LV' RV tg' mk' ⟨a1, rc_ag_r, a2, rc_ag_r, a5, fun z => absurd ⟨by omega, by omega⟩ z, fun _ => ?_, fun _ => hR, fun z => ?_, c1, c2, c3⟩)
    · rw [rc_sLb (by omega)]
      exact p1
    · unfold rc_hr at z
      omega
  · refine rc_readRight (o := o) (A := A) (s := s) hd (hm d hd) (fun RF' RV' a3 a4 p2 => ?_)
    dsimp only
    refine rc_ro84 (rc_sl_lt F U) hq ha (fun tg' mk' a5 c1 c2 c3 => H LF' RF' LV' RV' tg' mk' ⟨a1, a3, a2, a4, a5, fun z => absurd ⟨by omega, by omega⟩ z, fun _ => ?_, fun z => absurd (Or.inl ⟨by omega, by omega⟩) z, fun _ => ?_, c1, c2, c3⟩)
    · rw [rc_sLb (by omega)]
      exact p1
    · rw [rc_sRd (by omega)]
      exact p2
/-- what follow leaves -/
def rc_fw (gb ft : Int32) (q i : Nat) (p N : Int32) (res gs res' gs' : Nat → Int32) (fa' ft' : Int32) : Prop :=
  rc_ag i res res' ∧ rc_ag i gs gs' ∧ (q = 0 ∨ q = 7 ∨ q = 6 → res' i = N) ∧ (q = 6 → gs' i = rc_nx gb q p N) ∧ (q = 8 → ft' = 0) ∧ (q ≠ 8 → ft' = ft ∧ fa' = rc_nx gb q p N)
theorem rc_fw75 {post : SX → Prop} {i : Nat} {z : Int32} (hi : i < 6) (H : post (sz, pc, sta, cnt, gb, z, ft, fi, un, ops, rgs, nms, reg, cel, op, pl, sg, lf, res, ad, tr, upd gs i z, tg, LF, RF, LV, RV, mk)) : wX_follow_75 post (nI i) z (nI i) sz pc sta cnt gb fa ft fi un ops rgs nms reg cel op pl sg lf res ad tr gs tg LF RF LV RV mk := by
  have hin : vp_in (nI i) 6 := vp_in_nI hi (by decide)
  have hcl : (nI i).toNatClampNeg = i := nI_clamp (by omega)
  unfold wX_follow_75
  exact ⟨hin, nm_r (e' := upd gs i z) (by rw [hcl]) ⟨hin, nm_r (e' := z) (by rw [hcl, pk_us]) H⟩⟩
theorem rc_nx6 {gb p N : Int32} : rc_nx gb 6 p N = if rc_bit gb p = 0 then p + 1 else N := rfl
theorem rc_nx7 {gb p N : Int32} : rc_nx gb 7 p N = N := rfl
theorem rc_nxo {gb p N : Int32} {q : Nat} (h6 : q ≠ 6) (h7 : q ≠ 7) : rc_nx gb q p N = p + 1 := by
  unfold rc_nx
  rw [if_neg h6, if_neg h7]
theorem rc_fw27 {post : SX → Prop} {q i : Nat} {p N : Int32} (hi : i < 6) (hq : q ≤ 8) (hp : pl i = p) (H : ∀ (gs' : Nat → Int32) (fa' ft' : Int32), rc_ag i gs gs' → (q = 6 → gs' i = rc_nx gb q p N) → (q = 8 → ft' = 0) → (q ≠ 8 → ft' = ft ∧ fa' = rc_nx gb q p N) → post (sz, pc, sta, cnt, gb, fa', ft', fi, un, ops, rgs, nms, reg, cel, op, pl, sg, lf, res, ad, tr, gs', tg, LF, RF, LV, RV, mk)) : wX_follow_27 post (nI i) (nI q) N (p + 1) sz pc sta cnt gb fa ft fi un ops rgs nms reg cel op pl sg lf res ad tr gs tg LF RF LV RV mk := by
  have hin : vp_in (nI i) 6 := vp_in_nI hi (by decide)
  have hcl : (nI i).toNatClampNeg = i := nI_clamp (by omega)
  unfold wX_follow_27
  refine pk_eq q 6 (fun e => ⟨hin, ?_⟩) (fun n6 => pk_eq q 7 (fun e => ?_) (fun n7 => pk_eq q 8 (fun e => ?_) (fun n8 => ?_)))
  · rw [hcl, hp]
    subst e
    refine br_c (fun z => ?_) (fun z => ?_)
    · unfold wX_follow_57
      have k : rc_nx gb 6 p N = p + 1 := rc_nx6.trans (if_pos z)
      exact br_t rfl (rc_fw75 hi (H _ (p + 1) ft rc_ag_u (fun _ => pk_us.trans k.symm) (fun w => absurd w (by decide)) (fun _ => ⟨rfl, k.symm⟩)))
    · unfold wX_follow_57
      have k : rc_nx gb 6 p N = N := rc_nx6.trans (if_neg z)
      exact br_f rc_10 (rc_fw75 hi (H _ N ft rc_ag_u (fun _ => pk_us.trans k.symm) (fun w => absurd w (by decide)) (fun _ => ⟨rfl, k.symm⟩)))
  · subst e
    exact H gs N ft rc_ag_r (fun w => absurd w (by decide)) (fun w => absurd w (by decide)) (fun _ => ⟨rfl, rfl⟩)
  · subst e
    exact H gs (p + 1) 0 rc_ag_r (fun w => absurd w (by decide)) (fun _ => rfl) (fun w => absurd rfl w)
  · exact H gs (p + 1) ft rc_ag_r (fun w => absurd w n6) (fun w => absurd w n8) (fun _ => ⟨rfl, (rc_nxo n6 n7).symm⟩)
theorem rc_follow {post : SX → Prop} {q i : Nat} {p N : Int32} (hi : i < 6) (hq : q ≤ 8) (hp : pl i = p) (H : ∀ (res' gs' : Nat → Int32) (fa' ft' : Int32), rc_fw gb ft q i p N res gs res' gs' fa' ft' → post (sz, pc, sta, cnt, gb, fa', ft', fi, un, ops, rgs, nms, reg, cel, op, pl, sg, lf, res', ad, tr, gs', tg, LF, RF, LV, RV, mk)) : wpX_follow post (sz, pc, sta, cnt, gb, fa, ft, fi, un, ops, rgs, nms, reg, cel, op, pl, sg, lf, res, ad, tr, gs, tg, LF, RF, LV, RV, mk) (nI i) (nI q) N := by
  have hin : vp_in (nI i) 6 := vp_in_nI hi (by decide)
  have hcl : (nI i).toNatClampNeg = i := nI_clamp (by omega)
  unfold wpX_follow
  have f20 : wX_follow_20 post (nI i) (nI q) N (p + 1) sz pc sta cnt gb fa ft fi un ops rgs nms reg cel op pl sg lf res ad tr gs tg LF RF LV RV mk := by
    unfold wX_follow_20
    exact ⟨hin, nm_r (e' := upd res i N) (by rw [hcl]) (rc_fw27 hi hq hp (fun gs' fa' ft' a1 a2 a3 a4 => H _ gs' fa' ft' ⟨rc_ag_u, a1, fun _ => pk_us, a2, a3, a4⟩))⟩
  refine ⟨hin, nm_r (e' := p + 1) (by rw [hcl, hp]) (pk_eq q 0 (fun _ => f20) (fun n0 => pk_lt q 6 (fun z => ?_) (fun _ => f20)))⟩
  exact rc_fw27 hi hq hp (fun gs' fa' ft' a1 a2 a3 a4 => H res gs' fa' ft' ⟨rc_ag_r, a1, fun w => absurd w (by omega), a2, a3, a4⟩)
end
end
section
/-! issue -/
theorem rc_n9 : vp_nar .byte ((9 : Int32).toInt8.toInt32) = nI 9 := by rw [vp_nar_byte]; decide
theorem rc_ob0 : ∀ m, m < 9 → (nI m).toInt8.toInt32.toInt8.toInt32 = nI m := by decide +kernel
theorem rc_ob {m : Nat} (h : m ≤ 8) : vp_nar .byte (nI m).toInt8.toInt32 = nI m := by
  rw [vp_nar_byte]
  exact rc_ob0 m (by omega)
section
variable {sz pc sta cnt gb fa ft fi un : Int32} {ops rgs nms reg cel op pl sg lf res ad tr gs tg LF RF LV RV mk : Nat → Int32} {P : Nat → Int32} {o A B D : Nat → Nat} {N : Nat → Int32} {R C : Nat → Nat → Int32} {F U : Nat} {s l : Nat → Nat}
theorem rc_mkr_I (g : rc_gh gb sz ops rgs nms P o A B D N R C) (gR : R 0 = reg) (hI : rc_I F U P o A B D N R C s l fa ft op pl sg lf res ad tr gs tg LF RF LV RV mk) {sg' : Nat → Int32} (hU : U < 6) (hsg : rc_ag (rc_sl F U) sg sg') {r : Nat} (hr : r < 4) : rc_mkr F U o A s r (R U r) mk reg sg' res := by
  obtain ⟨hF, _, k1, k2, k7, kl, kr, k4, k5, k6⟩ := hI
  rcases k5 r hr with ⟨b1, b2⟩ | ⟨k, hk, b1, b2⟩
  · refine Or.inl ⟨b1, ?_⟩
    rw [rc_R_keep g (j := 0) U (by omega) (fun i _ hi => b2 i hi), gR]
  · refine Or.inr ⟨k, hk, b1, ?_, (k2 k hk).2.1, fun z => ?_, b2⟩
    · rw [rc_ag_k hsg hk hU]
      exact (k2 k hk).1
    · rw [rc_R_lw g b2]
      exact ((k4 k hk).1 z).1 b2.2.1
theorem rc_is72 {post : SX → Prop} (g : rc_gh gb sz ops rgs nms P o A B D N R C) (gR : R 0 = reg) (hI : rc_I F U P o A B D N R C s l fa ft op pl sg lf res ad tr gs tg LF RF LV RV mk) (hU : U < 6) (hft : ft ≠ 0)
    (H : ∀ (fa' ft' : Int32) (op' pl' sg' res' tr' gs' tg' LF' RF' LV' RV' mk' : Nat → Int32), rc_I F (U + 1) P o A B D N R C (rc_set s U 0) l fa' ft' op' pl' sg' lf res' ad tr' gs' tg' LF' RF' LV' RV' mk' → post (sz, pc, sta, cnt, gb, fa', ft', nI F, nI (U + 1), ops, rgs, nms, reg, cel, op', pl', sg', lf, res', ad, tr', gs', tg', LF', RF', LV', RV', mk')) :
    (o U = 9 → wX_issue_72 post (nI (rc_sl F U)) 0 9 sz pc sta cnt gb fa ft (nI F) (nI U) ops rgs nms reg cel op pl sg lf res ad tr gs tg LF RF LV RV mk) ∧ (o U ≤ 8 → wX_issue_72 post (nI (rc_sl F U)) 1 (nI (o U)) sz pc sta cnt gb fa ft (nI F) (nI U) ops rgs nms reg cel op pl sg lf res ad tr gs tg LF RF LV RV mk) := by
  have efa : fa = P U := hI.2.2.2.2.2.2.2.2.2.1 hft
  have hcl := rc_scl F U
  refine ⟨fun h9 => ?_, fun h8 => ?_⟩
  · unfold wX_issue_72
    refine ⟨rc_sin F U, nm_r (e' := upd op (rc_sl F U) (nI (o U))) (by rw [hcl, rc_n9, h9]) ⟨rc_sin F U, nm_r (e' := upd pl (rc_sl F U) (P U)) (by rw [hcl, efa]) ⟨rc_sin F U, nm_r (e' := upd sg (rc_sl F U) 0) (by rw [hcl, rc_n0]) ⟨rc_sin F U, nm_r (e' := upd tr (rc_sl F U) 0) (by rw [hcl, rc_b0]) ⟨rc_sin F U, nm_r (e' := upd LF (rc_sl F U) (-1)) (by rw [hcl, rc_nm1]) ⟨rc_sin F U, nm_r (e' := upd RF (rc_sl F U) (-1)) (by rw [hcl, rc_nm1]) (nm_r (nI_1 U) (br_t rfl ?_))⟩⟩⟩⟩⟩⟩
    refine H _ _ _ _ _ _ _ _ _ _ _ _ _ _ (rc_is hI hU hft rc_ag_u rc_ag_u rc_ag_u rc_ag_r rc_ag_u rc_ag_r rc_ag_r rc_ag_u rc_ag_u rc_ag_r rc_ag_r pk_us pk_us pk_us pk_us (fun z => absurd z (by omega)) (fun z => absurd z (by omega)) (fun z => absurd z (by omega)) (fun _ => pk_us) (fun z => ?_) (fun _ => pk_us) (fun z => ?_) (fun z => absurd z (by omega)) (fun _ => rfl) (fun _ => rfl) (fun z => absurd h9 (by omega)))
    · unfold rc_hl at z
      omega
    · unfold rc_hr at z
      omega
  · obtain ⟨hA, hB, hD, hat⟩ := (g U).1
    rcases hat with hat | ⟨_, q, hq, ep, elt, eo, ea, eb, ed, en⟩
    · omega
    have hfi : vp_in fa 16 := by
      rw [efa, ep]
      exact vp_in_nI hq (by decide)
    have hfc : fa.toNatClampNeg = q := by
      rw [efa, ep]
      exact nI_clamp (by omega)
    unfold wX_issue_72
    refine ⟨rc_sin F U, nm_r (e' := upd op (rc_sl F U) (nI (o U))) (by rw [hcl, rc_ob h8]) ⟨rc_sin F U, nm_r (e' := upd pl (rc_sl F U) (P U)) (by rw [hcl, efa]) ⟨rc_sin F U, nm_r (e' := upd sg (rc_sl F U) 0) (by rw [hcl, rc_n0]) ⟨rc_sin F U, nm_r (e' := upd tr (rc_sl F U) 0) (by rw [hcl, rc_b0]) ⟨rc_sin F U, nm_r (e' := upd LF (rc_sl F U) (-1)) (by rw [hcl, rc_nm1]) ⟨rc_sin F U, nm_r (e' := upd RF (rc_sl F U) (-1)) (by rw [hcl, rc_nm1]) (nm_r (nI_1 U) (br_f rc_10 ⟨hfi, ?_⟩))⟩⟩⟩⟩⟩⟩
    rw [hfc]
    refine rc_ro (o := o) (A := A) (s := s) (v := R U) (b := B U) (d := D U) h8 hA hB hD ea eb ed (fun r hr => rc_mkr_I g gR hI hU rc_ag_u hr) pk_us pk_us (fun LF' RF' LV' RV' tg' mk' hrd => ?_)
    dsimp only
    refine ⟨hfi, ?_⟩
    rw [hfc, en]
    refine rc_follow (p := P U) (rc_sl_lt F U) h8 pk_us (fun res' gs' fa' ft' hfw => ?_)
    dsimp only
    obtain ⟨r1, r2, r3, r4, r5, r6, r7, r8, r9, r10, r11, r12⟩ := hrd
    obtain ⟨w1, w2, w3, w4, w5, w6⟩ := hfw
    have nx := (g U).2.2.2
    refine H fa' ft' _ _ _ res' _ gs' tg' LF' RF' LV' RV' mk' (rc_is hI hU hft rc_ag_u rc_ag_u rc_ag_u w1 rc_ag_u w2 r5 (fun j hj => (r1 j hj).trans (pk_un hj)) (fun j hj => (r2 j hj).trans (pk_un hj)) r3 r4 pk_us pk_us pk_us pk_us r10 (fun z => (w4 z).trans nx.symm) w3 r6 r7 r8 r9 r11 r12 (fun z => w5 (by omega)) (fun z => ?_))
    obtain ⟨y1, y2⟩ := w6 (by omega)
    exact ⟨by rw [y1]; exact hft, y2.trans nx.symm⟩
theorem rc_issue {post : SX → Prop} (g : rc_gh gb sz ops rgs nms P o A B D N R C) (gR : R 0 = reg) (hI : rc_I F U P o A B D N R C s l fa ft op pl sg lf res ad tr gs tg LF RF LV RV mk)
    (H : ∀ (U' : Nat) (s' : Nat → Nat) (fa' ft' : Int32) (op' pl' sg' res' tr' gs' tg' LF' RF' LV' RV' mk' : Nat → Int32), rc_Is U U' s s' → rc_I F U' P o A B D N R C s' l fa' ft' op' pl' sg' lf res' ad tr' gs' tg' LF' RF' LV' RV' mk' → post (sz, pc, sta, cnt, gb, fa', ft', nI F, nI U', ops, rgs, nms, reg, cel, op', pl', sg', lf, res', ad, tr', gs', tg', LF', RF', LV', RV', mk')) :
    wpX_issue post (sz, pc, sta, cnt, gb, fa, ft, nI F, nI U, ops, rgs, nms, reg, cel, op, pl, sg, lf, res, ad, tr, gs, tg, LF, RF, LV, RV, mk) := by
  have hF := hI.1
  have hU := hI.2.1
  have k6 := hI.2.2.2.2.2.2.2.2.2
  unfold wpX_issue
  refine pk_le 6 U (fun z => H U s fa ft op pl sg res tr gs tg LF RF LV RV mk (Or.inl ⟨rfl, by omega, rfl⟩) hI) (fun z => br_c (fun e => ?_) (fun e => ?_))
  · obtain ⟨k, hk, _⟩ := k6.2 e
    exact H U s fa ft op pl sg res tr gs tg LF RF LV RV mk (Or.inl ⟨rfl, by omega, rfl⟩) hI
  · have efa : fa = P U := k6.1 e
    obtain ⟨j1, j2⟩ := rc_is72 (post := post) g gR hI z e (fun fa' ft' op' pl' sg' res' tr' gs' tg' LF' RF' LV' RV' mk' h => H (U + 1) _ fa' ft' op' pl' sg' res' tr' gs' tg' LF' RF' LV' RV' mk' (Or.inr ⟨rfl, rfl⟩) h)
    refine ⟨rc_60, nm_r (rc_rem hF (by omega)) ?_⟩
    obtain ⟨hA, hB, hD, hat⟩ := (g U).1
    rcases hat with ⟨h9, hout⟩ | ⟨h8, q, hq, ep, elt, eo, ea, eb, ed, en⟩
    · have i53 : wX_issue_52 post (nI (rc_sl F U)) sz pc sta cnt gb fa ft (nI F) (nI U) ops rgs nms reg cel op pl sg lf res ad tr gs tg LF RF LV RV mk := by
        unfold wX_issue_52 wX_issue_53
        exact br_t rfl (j1 h9)
      rw [← efa] at hout
      exact br_c (fun _ => i53) (fun h1 => br_c (fun _ => i53) (fun h2 => absurd hout (fun y => y.elim h1 h2)))
    · have hfi : vp_in fa 16 := by
        rw [efa, ep]
        exact vp_in_nI hq (by decide)
      have hfc : fa.toNatClampNeg = q := by
        rw [efa, ep]
        exact nI_clamp (by omega)
      have f0 : ¬ fa < 0 := by
        rw [efa, ep]
        exact nI_pos (by omega)
      have f1 : ¬ sz ≤ fa := by
        rw [efa]
        exact Int32.not_le.mpr elt
      refine br_f f0 (br_f f1 ?_)
      unfold wX_issue_53
      refine br_f rc_10 ⟨hfi, ?_⟩
      rw [hfc, eo]
      exact j2 h8
end
end
section
/-! refetch, retire -/
def rc_real (q : Nat) (p N x : Int32) : Int32 := if q = 6 then (if x = 0 then N else p + 1) else if q = 7 then N else p + 1
theorem rc_real_o {q : Nat} {p N x : Int32} (h6 : q ≠ 6) (h7 : q ≠ 7) : rc_real q p N x = p + 1 := by
  unfold rc_real
  rw [if_neg h6, if_neg h7]
theorem rc_real_6 {p N x : Int32} : rc_real 6 p N x = if x = 0 then N else p + 1 := rfl
theorem rc_real_7 {p N x : Int32} : rc_real 7 p N x = N := rfl
theorem rc_R1_le {q a b d : Nat} {N : Int32} {r c : Nat → Int32} (h : q ≤ 4) : rc_R1 q a b d N r c = upd r a (rc_val q N (r (rc_sL q a b)) (r (rc_sR q b d)) c) := if_pos h
theorem rc_R1_gt {q a b d : Nat} {N : Int32} {r c : Nat → Int32} (h : ¬ q ≤ 4) : rc_R1 q a b d N r c = r := if_neg h
theorem rc_C1_5 {q a b d : Nat} {r c : Nat → Int32} (h : q = 5) : rc_C1 q a b d r c = upd c ((r (rc_sR q b d)) &&& 7).toNatClampNeg (r (rc_sL q a b)) := if_pos h
theorem rc_C1_n {q a b d : Nat} {r c : Nat → Int32} (h : ¬ q = 5) : rc_C1 q a b d r c = c := if_neg h
theorem rc_rem1 {F : Nat} (hF : F < 6) : (nI F + 1) - (nI F + 1) / 6 * 6 = nI ((F + 1) % 6) := rc_rem (k := 1) hF (by decide)
section
variable {sz pc sta cnt gb fa ft fi un : Int32} {ops rgs nms reg cel op pl sg lf res ad tr gs tg LF RF LV RV mk : Nat → Int32}
theorem rc_rf_lp {post : SX → Prop} (H : ∀ mk' : Nat → Int32, (∀ r, r < 4 → mk' r = -1) → post (sz, pc, sta, cnt, gb, fa, ft, fi, un, ops, rgs, nms, reg, cel, op, pl, sg, lf, res, ad, tr, gs, tg, LF, RF, LV, RV, mk')) : ∀ d k n, k + d = 4 → d < n → ∀ mk : Nat → Int32, (∀ r, r < k → mk r = -1) → wX_refetch_22 post sz pc sta cnt gb fa ft fi un n (nI k) ops rgs nms reg cel op pl sg lf res ad tr gs tg LF RF LV RV mk := by
  intro d
  induction d with
  | zero =>
    intro k n hk hn mk hm
    match n, hn with
    | n + 1, _ => exact br_t (nI_le (a := 4) (by omega) (by omega)) (H mk (fun r hr => hm r (by omega)))
  | succ d ih =>
    intro k n hk hn mk hm
    match n, hn with
    | n + 1, hn =>
      refine br_f (nI_ge (b := 4) (by omega) (by omega)) ⟨vp_in_nI (by omega) (by decide), nm_r (e' := upd mk k (-1)) (by rw [nI_clamp (by omega), rc_nm1]) (nm_r (nI_1 k) (ih (k + 1) n (by omega) (by omega) _ (fun r hr => ?_)))⟩
      by_cases e : r = k
      · rw [e]
        exact pk_us
      · rw [pk_un e]
        exact hm r (by omega)
theorem rc_refetch {post : SX → Prop} {p : Int32} (H : ∀ mk' : Nat → Int32, (∀ r, r < 4 → mk' r = -1) → post (sz, pc, sta, cnt, gb, p, 1, nI 0, nI 0, ops, rgs, nms, reg, cel, op, pl, sg, lf, res, ad, tr, gs, tg, LF, RF, LV, RV, mk')) : wpX_refetch post (sz, pc, sta, cnt, gb, fa, ft, fi, un, ops, rgs, nms, reg, cel, op, pl, sg, lf, res, ad, tr, gs, tg, LF, RF, LV, RV, mk) p :=
  ⟨5, rc_rf_lp H 4 0 5 rfl (by decide) mk (fun r hr => absurd hr (by omega))⟩
theorem rc_rt157 {post : Int32 → SX → Prop} {i q : Nat} {z : Int32} (hi : i < 6) (hq : q ≤ 8) (z1 : q < 6 → pl i + 1 = z) (z2 : 6 ≤ q → q ≤ 7 → res i = z)
    (H8 : q = 8 → post 1 (sz, pc, 2, cnt, gb, fa, ft, fi, un, ops, rgs, nms, reg, cel, op, pl, sg, lf, res, ad, tr, gs, tg, LF, RF, LV, RV, mk)) (Hok : q ≤ 7 → (q = 6 → res i = gs i) → post 1 (sz, z, sta, cnt, gb, fa, ft, fi, un, ops, rgs, nms, reg, cel, op, pl, sg, lf, res, ad, tr, gs, tg, LF, RF, LV, RV, mk)) (Hre : q = 6 → ¬ res i = gs i → ∀ mk' : Nat → Int32, (∀ r, r < 4 → mk' r = -1) → post 1 (sz, z, sta, cnt, gb, z, 1, nI 0, nI 0, ops, rgs, nms, reg, cel, op, pl, sg, lf, res, ad, tr, gs, tg, LF, RF, LV, RV, mk')) : wX_retire_157 post (nI i) (nI q) sz pc sta cnt gb fa ft fi un ops rgs nms reg cel op pl sg lf res ad tr gs tg LF RF LV RV mk := by
  have hin : vp_in (nI i) 6 := vp_in_nI hi (by decide)
  have hcl : (nI i).toNatClampNeg = i := nI_clamp (by omega)
  unfold wX_retire_157
  refine pk_eq q 8 H8 (fun n8 => ?_)
  have t : wX_retire_194 post (nI i) (nI q) z sz pc sta cnt gb fa ft fi un ops rgs nms reg cel op pl sg lf res ad tr gs tg LF RF LV RV mk := by
    unfold wX_retire_194
    rw [hcl]
    refine pk_eq q 6 (fun e => ⟨hin, hin, br_c (fun h => Hok (by omega) (fun _ => h)) (fun h => ?_)⟩) (fun n6 => Hok (by omega) (fun e => absurd e n6))
    refine rc_refetch (fun mk' hm => ?_)
    dsimp only
    exact Hre e h mk' hm
  refine pk_lt q 6 (fun h => ⟨hin, ?_⟩) (fun h => ⟨hin, ?_⟩)
  · rw [hcl, z1 h]
    exact t
  · rw [hcl, z2 h (by omega)]
    exact t
end
section
variable {sz pc sta cnt gb fa ft fi un : Int32} {ops rgs nms reg cel op pl sg lf res ad tr gs tg LF RF LV RV mk : Nat → Int32} {P : Nat → Int32} {o A B D : Nat → Nat} {N : Nat → Int32} {R C : Nat → Nat → Int32} {F V : Nat} {s l : Nat → Nat}
/-- nothing is finished -/
theorem rc_retire_no {post : Int32 → SX → Prop} {U : Nat} (hI : rc_I F U P o A B D N R C s l fa ft op pl sg lf res ad tr gs tg LF RF LV RV mk) (h0 : 0 < U → s 0 ≠ 2) (H : post 0 (sz, pc, sta, cnt, gb, fa, ft, nI F, nI U, ops, rgs, nms, reg, cel, op, pl, sg, lf, res, ad, tr, gs, tg, LF, RF, LV, RV, mk)) : wpX_retire post (sz, pc, sta, cnt, gb, fa, ft, nI F, nI U, ops, rgs, nms, reg, cel, op, pl, sg, lf, res, ad, tr, gs, tg, LF, RF, LV, RV, mk) := by
  obtain ⟨hF, hU, k1, k2, _⟩ := hI
  unfold wpX_retire
  refine pk_eq U 0 (fun _ => H) (fun n0 => ⟨vp_in_nI hF (by decide), ?_⟩)
  obtain ⟨a1, a2, _⟩ := k2 0 (by omega)
  rw [rc_sl_0 hF] at a1
  rw [nI_clamp (by omega), a1]
  exact pk_eq (s 0) 2 (fun z => absurd z (h0 (by omega))) (fun _ => H)
/-- the oldest is ready -/
theorem rc_retire {post : Int32 → SX → Prop} (hPG : rc_PG sz ops rgs) (g : rc_gh gb sz ops rgs nms P o A B D N R C) (gP : P 0 = pc) (gR : R 0 = reg) (gC : C 0 = cel) (hI : rc_I F (V + 1) P o A B D N R C s l fa ft op pl sg lf res ad tr gs tg LF RF LV RV mk) (hs : s 0 = 2)
    (Ht : rc_trap (o 0) (reg (rc_sL (o 0) (A 0) (B 0))) (reg (rc_sR (o 0) (B 0) (D 0))) → post 0 (sz, pc, 3, cnt, gb, fa, ft, nI F, nI (V + 1), ops, rgs, nms, reg, cel, op, pl, sg, lf, res, ad, tr, gs, tg, LF, RF, LV, RV, mk))
    (H8 : ¬ rc_trap (o 0) (reg (rc_sL (o 0) (A 0) (B 0))) (reg (rc_sR (o 0) (B 0) (D 0))) → o 0 = 8 → ∀ fi' un' : Int32, post 1 (sz, pc, 2, cnt + 1, gb, fa, ft, fi', un', ops, rgs, nms, reg, cel, op, pl, sg, lf, res, ad, tr, gs, tg, LF, RF, LV, RV, mk))
    (H : ¬ rc_trap (o 0) (reg (rc_sL (o 0) (A 0) (B 0))) (reg (rc_sR (o 0) (B 0) (D 0))) → o 0 ≤ 7 → ∀ (F' U' : Nat) (P' : Nat → Int32) (o' A' B' D' : Nat → Nat) (N' : Nat → Int32) (R' C' : Nat → Nat → Int32) (s' l' : Nat → Nat) (fa' ft' : Int32) (mk' : Nat → Int32),
      rc_gh gb sz ops rgs nms P' o' A' B' D' N' R' C' → P' 0 = rc_real (o 0) pc (N 0) (reg (rc_sL (o 0) (A 0) (B 0))) → R' 0 = rc_R1 (o 0) (A 0) (B 0) (D 0) (N 0) reg cel → C' 0 = rc_C1 (o 0) (A 0) (B 0) (D 0) reg cel → rc_I F' U' P' o' A' B' D' N' R' C' s' l' fa' ft' op pl sg lf res ad tr gs tg LF RF LV RV mk' →
      post 1 (sz, rc_real (o 0) pc (N 0) (reg (rc_sL (o 0) (A 0) (B 0))), sta, cnt + 1, gb, fa', ft', nI F', nI U', ops, rgs, nms, rc_R1 (o 0) (A 0) (B 0) (D 0) (N 0) reg cel, rc_C1 (o 0) (A 0) (B 0) (D 0) reg cel, op, pl, sg, lf, res, ad, tr, gs, tg, LF, RF, LV, RV, mk')) :
    wpX_retire post (sz, pc, sta, cnt, gb, fa, ft, nI F, nI (V + 1), ops, rgs, nms, reg, cel, op, pl, sg, lf, res, ad, tr, gs, tg, LF, RF, LV, RV, mk) := by
  obtain ⟨hF, hU, k1, k2, k7, kl, kr, k4, k5, k6⟩ := id hI
  have e0 := rc_sl_0 hF
  obtain ⟨a1, a2, a3, a4, a5⟩ := k1 0 (by omega)
  obtain ⟨b1, b2, b3, b4⟩ := k2 0 (by omega)
  obtain ⟨c1, c2, c3⟩ := k4 0 (by omega)
  obtain ⟨d1, d2, d3, d4⟩ := c1 hs
  obtain ⟨hA, hB, hD, hat⟩ := (g 0).1
  have hin : vp_in (nI F) 6 := vp_in_nI hF (by decide)
  have hcl : (nI F).toNatClampNeg = F := nI_clamp (by omega)
  have s0 : s 0 ≠ 0 := by rw [hs]; decide
  have nx := (g 0).2.2.2
  have rx := (g 0).2.1
  have cx := (g 0).2.2.1
  have eL : rc_hl (o 0) → LV (rc_sl F 0) = R 0 (rc_sL (o 0) (A 0) (B 0)) := fun z => rc_opk_1 ((kl 0 (by omega)).2 z) s0
  rw [gR] at d1 d2 d3 d4 rx cx eL
  rw [gC] at d1 rx cx
  rw [gP] at a2 d3 nx
  rw [e0] at a1 a2 a3 a4 b1 d1 d2 d3 d4 c3 eL
  have o9 := rc_at_9 (g 0).1
  have hA31 : (nI (A 0)).toNatClampNeg = A 0 := nI_clamp (by omega)
  generalize ex : reg (rc_sL (o 0) (A 0) (B 0)) = x at *
  generalize ey : reg (rc_sR (o 0) (B 0) (D 0)) = y at *
  unfold wpX_retire
  refine pk_eq (V + 1) 0 (fun z => absurd z (by omega)) (fun _ => ⟨hin, ?_⟩)
  rw [hcl, b1]
  refine pk_eq (s 0) 2 (fun _ => ⟨hin, br_c (fun ht => ?_) (fun ht => Ht (Classical.byContradiction (fun z => ht (d4.mpr z))))⟩) (fun z => absurd hs z)
  have nt := d4.mp ht
  have o8 : o 0 ≤ 8 := by
    have : o 0 ≠ 9 := fun z => nt (Or.inr (Or.inr (Or.inr z)))
    omega
  refine ⟨hin, nm_r (e' := nI (o 0)) a1 (nm_e ⟨rc_60, nm_r (rc_rem1 hF) (nm_r (nI_pred V) ?_)⟩)⟩
  have z1 : o 0 < 6 → pl F + 1 = rc_real (o 0) pc (N 0) x := fun z => by rw [a2, rc_real_o (by omega) (by omega)]
  have z2 : 6 ≤ o 0 → o 0 ≤ 7 → res F = rc_real (o 0) pc (N 0) x := by
    intro y1 y2
    by_cases e : o 0 = 6
    · rw [d3 e, e]
      rfl
    · have e7 : o 0 = 7 := by omega
      rw [c3 (Or.inr (Or.inl e7)), e7]
      rfl
  have pz : o 0 ≤ 7 → (o 0 = 6 → res F = gs F) → P 1 = rc_real (o 0) pc (N 0) x := by
    intro y1 y2
    by_cases e : o 0 = 6
    · rw [← z2 (by omega) (by omega), y2 e]
      exact (a4 e).symm
    · by_cases e7 : o 0 = 7
      · rw [nx, e7]
        rfl
      · rw [nx, rc_nxo e e7, rc_real_o e e7]
  have re : o 0 ≤ 7 → ∀ mk' : Nat → Int32, (∀ r, r < 4 → mk' r = -1) → post 1 (sz, rc_real (o 0) pc (N 0) x, sta, cnt + 1, gb, rc_real (o 0) pc (N 0) x, 1, nI 0, nI 0, ops, rgs, nms, rc_R1 (o 0) (A 0) (B 0) (D 0) (N 0) reg cel, rc_C1 (o 0) (A 0) (B 0) (D 0) reg cel, op, pl, sg, lf, res, ad, tr, gs, tg, LF, RF, LV, RV, mk') := by
    intro h7 mk' hm
    obtain ⟨P', o', A', B', D', N', R', C', g', e1, e2, e3⟩ := rc_gh_ex nms hPG gb (rc_real (o 0) pc (N 0) x) (rc_R1 (o 0) (A 0) (B 0) (D 0) (N 0) reg cel) (rc_C1 (o 0) (A 0) (B 0) (D 0) reg cel)
    exact H nt h7 0 0 P' o' A' B' D' N' R' C' s l _ 1 mk' g' e1 e2 e3 (rc_I0 hm rc_10 e1.symm)
  have ok : o 0 ≤ 7 → (o 0 = 6 → res F = gs F) → ∀ mk' : Nat → Int32, (∀ r, r < 4 → (o 0 ≤ 4 ∧ A 0 = r ∧ mk r = nI (rc_sl F 0) → mk' r = -1) ∧ (¬ (o 0 ≤ 4 ∧ A 0 = r ∧ mk r = nI (rc_sl F 0)) → mk' r = mk r)) → post 1 (sz, rc_real (o 0) pc (N 0) x, sta, cnt + 1, gb, fa, ft, nI ((F + 1) % 6), nI V, ops, rgs, nms, rc_R1 (o 0) (A 0) (B 0) (D 0) (N 0) reg cel, rc_C1 (o 0) (A 0) (B 0) (D 0) reg cel, op, pl, sg, lf, res, ad, tr, gs, tg, LF, RF, LV, RV, mk') := by
    intro h7 h6 mk' hm
    exact H nt h7 ((F + 1) % 6) V _ _ _ _ _ _ _ _ _ _ fa ft mk' (rc_gh_s g) (pz h7 h6) rx cx (rc_rt hI hs h7 hm)
  refine pk_lt 4 (o 0) (fun h4 => pk_eq (o 0) 5 (fun e5 => ?_) (fun n5 => ?_)) (fun h4 => ?_)
  · have ec : rc_C1 (o 0) (A 0) (B 0) (D 0) reg cel = upd cel (ad F).toNatClampNeg (LV F) := by
      rw [rc_C1_5 e5, d2 e5, eL ⟨by omega, by omega⟩, ex, ey]
    refine ⟨hin, hin, by rw [d2 e5]; exact rc_m8 y, nm_r ec.symm (rc_rt157 hF o8 z1 z2 (fun z => absurd z (by omega)) (fun h7 h6 => ?_) (fun z => absurd z (by omega)))⟩
    have := ok h7 h6 mk (fun r hr => ⟨fun z => absurd z.1 (by omega), fun _ => rfl⟩)
    rw [rc_R1_gt (by omega)] at this
    exact this
  · have ok' := fun h7 h6 => ok h7 h6 mk (fun r hr => ⟨fun z => absurd z.1 (by omega), fun _ => rfl⟩)
    rw [rc_R1_gt (by omega), rc_C1_n n5] at ok' re
    exact rc_rt157 hF o8 z1 z2 (fun z => H8 nt z _ _) ok' (fun z _ => re (by omega))
  · have er : rc_R1 (o 0) (A 0) (B 0) (D 0) (N 0) reg cel = upd reg (A 0) (res F) := by
      rw [rc_R1_le h4, ex, ey, d1 h4]
    rw [a3 h4, hA31]
    refine ⟨hin, hin, vp_in_nI hA (by decide), nm_r er.symm ⟨hin, vp_in_nI hA (by decide), br_c (fun em => ⟨hin, vp_in_nI hA (by decide), nm_r (e' := upd mk (A 0) (-1)) (by rw [rc_nm1]) ?_⟩) (fun nm => ?_)⟩⟩
    · have ok' := fun h7 h6 => ok h7 h6 (upd mk (A 0) (-1)) (fun r hr => ⟨fun z => by rw [← z.2.1]; exact pk_us, fun z => pk_un (fun w => z ⟨h4, w.symm, by rw [w, e0]; exact em⟩)⟩)
      rw [rc_C1_n (by omega)] at ok'
      exact rc_rt157 hF o8 z1 z2 (fun z => absurd z (by omega)) ok' (fun z => absurd z (by omega))
    · have ok' := fun h7 h6 => ok h7 h6 mk (fun r hr => ⟨fun z => absurd (by rw [z.2.1]; rw [← e0]; exact z.2.2) nm, fun _ => rfl⟩)
      rw [rc_C1_n (by omega)] at ok'
      exact rc_rt157 hF o8 z1 z2 (fun z => absurd z (by omega)) ok' (fun z => absurd z (by omega))
end
end
section
/-! the reference's step -/
section
variable {sz sta pc cnt : Int32} {ops rgs nms reg cel : Nat → Int32}
theorem rc_y113 {post : Int32 → SY → Prop} {q a b d : Nat} {N : Int32} (hq : q ≤ 8) (ha : a < 4) (hb : b < 4) (hd : d < 4) (hf : vp_in pc 16) (hn : nms pc.toNatClampNeg = N) (h3 : q = 3 → ¬ reg d = 0)
    (H8 : q = 8 → post 1 (sz, 2, pc, cnt, ops, rgs, nms, reg, cel)) (H : q ≤ 7 → post 1 (sz, sta, rc_real q pc N (reg (rc_sL q a b)), cnt, ops, rgs, nms, rc_R1 q a b d N reg cel, rc_C1 q a b d reg cel)) : wY_step_113 post (nI q) (nI a) (nI b) (nI d) (pc + 1) sz sta pc cnt ops rgs nms reg cel := by
  have ia : vp_in (nI a) 4 := vp_in_nI ha (by decide)
  have ib : vp_in (nI b) 4 := vp_in_nI hb (by decide)
  have id' : vp_in (nI d) 4 := vp_in_nI hd (by decide)
  have ca : (nI a).toNatClampNeg = a := nI_clamp (by omega)
  have cb : (nI b).toNatClampNeg = b := nI_clamp (by omega)
  have cd : (nI d).toNatClampNeg = d := nI_clamp (by omega)
  unfold wY_step_113
  rw [ca, cb, cd, hn]
  refine pk_eq q 0 (fun e => ?_) (fun n0 => pk_eq q 1 (fun e => ?_) (fun n1 => pk_eq q 2 (fun e => ?_) (fun n2 => pk_eq q 3 (fun e => ?_) (fun n3 => pk_eq q 4 (fun e => ?_) (fun n4 => pk_eq q 5 (fun e => ?_) (fun n5 => pk_eq q 6 (fun e => ?_) (fun n6 => pk_eq q 7 (fun e => ?_) (fun n7 => H8 (by omega)))))))))
  · subst e
    exact ⟨hf, ia, nm_e (H (by decide))⟩
  · subst e
    exact ⟨ib, id', ia, nm_e (H (by decide))⟩
  · subst e
    exact ⟨ib, id', ia, nm_e (H (by decide))⟩
  · subst e
    have nz := h3 rfl
    have h := H (by decide)
    rw [rc_real_o (by decide) (by decide), rc_R1_le (by decide), rc_C1_n (by decide), rc_v3, rc_sLb (by decide), rc_sRd (by decide), if_neg nz] at h
    exact ⟨id', nm_e (br_f nz ⟨ib, nz, ia, nm_e h⟩)⟩
  · subst e
    exact ⟨ib, rc_m8 _, ia, nm_e (H (by decide))⟩
  · subst e
    exact ⟨ib, ia, rc_m8 _, nm_e (H (by decide))⟩
  · subst e
    have h := H (by decide)
    rw [rc_real_6, rc_R1_gt (by decide), rc_C1_n (by decide), rc_sLa (by decide)] at h
    refine ⟨ia, br_c (fun z => ⟨hf, nm_e ?_⟩) (fun z => ?_)⟩
    · rw [if_pos z] at h
      exact h
    · rw [if_neg z] at h
      exact h
  · subst e
    exact ⟨hf, nm_e (H (by decide))⟩
theorem rc_ystep {post : Int32 → SY → Prop} {q a b d : Nat} {N : Int32} (hat : rc_at sz ops rgs nms pc q a b d N)
    (Ht : rc_trap q (reg (rc_sL q a b)) (reg (rc_sR q b d)) → post 0 (sz, sta, pc, cnt, ops, rgs, nms, reg, cel))
    (H8 : ¬ rc_trap q (reg (rc_sL q a b)) (reg (rc_sR q b d)) → q = 8 → post 1 (sz, 2, pc, cnt, ops, rgs, nms, reg, cel))
    (H : ¬ rc_trap q (reg (rc_sL q a b)) (reg (rc_sR q b d)) → q ≤ 7 → post 1 (sz, sta, rc_real q pc N (reg (rc_sL q a b)), cnt, ops, rgs, nms, rc_R1 q a b d N reg cel, rc_C1 q a b d reg cel)) : wpY_step post (sz, sta, pc, cnt, ops, rgs, nms, reg, cel) := by
  obtain ⟨ha, hb, hd, hat⟩ := hat
  unfold wpY_step
  rcases hat with ⟨h9, hout⟩ | ⟨h8, p, hp, ep, elt, eo, ea, eb, ed, en⟩
  · have t := Ht (Or.inr (Or.inr (Or.inr h9)))
    exact br_c (fun _ => t) (fun h1 => br_c (fun h2 => absurd hout (fun y => y.elim h1 (fun w => Int32.not_le.mpr h2 w))) (fun _ => t))
  · have hf : vp_in pc 16 := by
      rw [ep]
      exact vp_in_nI hp (by decide)
    have hc : pc.toNatClampNeg = p := by
      rw [ep]
      exact nI_clamp (by omega)
    have f0 : ¬ pc < 0 := by
      rw [ep]
      exact nI_pos (by omega)
    have ib : vp_in (nI b) 4 := vp_in_nI hb (by decide)
    have id' : vp_in (nI d) 4 := vp_in_nI hd (by decide)
    have cb : (nI b).toNatClampNeg = b := nI_clamp (by omega)
    have cd : (nI d).toNatClampNeg = d := nI_clamp (by omega)
    have y113 : ¬ rc_trap q (reg (rc_sL q a b)) (reg (rc_sR q b d)) → wY_step_113 post (nI q) (nI a) (nI b) (nI d) (pc + 1) sz sta pc cnt ops rgs nms reg cel := by
      intro nt
      refine rc_y113 h8 ha hb hd hf (by rw [hc]; exact en) (fun e z => nt (Or.inl ⟨e, ?_⟩)) (H8 nt) (H nt)
      rw [rc_sRd (by omega)]
      exact z
    have y96 : (q = 4 → ¬ reg b < 0) → (q = 5 → ¬ reg b < 0) → wY_step_96 post (nI q) (nI a) (nI b) (nI d) (pc + 1) sz sta pc cnt ops rgs nms reg cel := by
      intro n4 n5
      unfold wY_step_96
      rw [cd]
      refine pk_eq q 3 (fun e => ⟨id', br_c (fun z => Ht (Or.inl ⟨e, ?_⟩)) (fun z => y113 (fun w => ?_))⟩) (fun n3 => y113 (fun w => ?_))
      · rw [rc_sRd (by omega)]
        exact z
      · rcases w with w | w | w | w
        · rw [rc_sRd (by omega)] at w
          exact z w.2
        · omega
        · omega
        · omega
      · rcases w with w | w | w | w
        · exact n3 w.1
        · rw [rc_sLb (by omega)] at w
          exact n4 w.1 w.2
        · rw [rc_sRb w.1] at w
          exact n5 w.1 w.2
        · omega
    have y87 : (q = 4 ∨ q = 5) → wY_step_87 post (nI q) (nI a) (nI b) (nI d) (pc + 1) sz sta pc cnt ops rgs nms reg cel := by
      intro e
      unfold wY_step_87
      rw [cb]
      refine ⟨ib, br_c (fun z => Ht ?_) (fun z => y96 (fun _ => z) (fun _ => z))⟩
      rcases e with e | e
      · refine Or.inr (Or.inl ⟨e, ?_⟩)
        rw [rc_sLb (by omega)]
        exact z
      · refine Or.inr (Or.inr (Or.inl ⟨e, ?_⟩))
        rw [rc_sRb e]
        exact z
    refine br_f f0 (br_t elt ⟨hf, nm_r (e' := nI q) (by rw [hc, eo]) ⟨hf, nm_r (e' := nI a) (by rw [hc, ea]) ⟨hf, nm_r (e' := nI b) (by rw [hc, eb]) ⟨hf, nm_r (e' := nI d) (by rw [hc, ed]) (nm_e ?_)⟩⟩⟩⟩)
    exact pk_eq q 4 (fun e => y87 (Or.inl e)) (fun n4 => pk_eq q 5 (fun e => y87 (Or.inr e)) (fun n5 => y96 (fun z => absurd z n4) (fun z => absurd z n5)))
end
end
section
/-! the relation, and the loop of finish -/
def rc_Run (sz pc gb fa ft fi un : Int32) (ops rgs nms reg cel op pl sg lf res ad tr gs tg LF RF LV RV mk : Nat → Int32) : Prop :=
  ∃ (F U : Nat) (P : Nat → Int32) (o A B D : Nat → Nat) (N : Nat → Int32) (R C : Nat → Nat → Int32) (s l : Nat → Nat), fi = nI F ∧ un = nI U ∧ rc_gh gb sz ops rgs nms P o A B D N R C ∧ P 0 = pc ∧ R 0 = reg ∧ C 0 = cel ∧ rc_I F U P o A B D N R C s l fa ft op pl sg lf res ad tr gs tg LF RF LV RV mk
/-- the same, with the measure at cycle c when d are done -/
def rc_RunM (c d : Nat) (sz pc gb fa ft fi un : Int32) (ops rgs nms reg cel op pl sg lf res ad tr gs tg LF RF LV RV mk : Nat → Int32) : Prop :=
  ∃ (F U : Nat) (P : Nat → Int32) (o A B D : Nat → Nat) (N : Nat → Int32) (R C : Nat → Nat → Int32) (s l : Nat → Nat) (m : Nat), fi = nI F ∧ un = nI U ∧ rc_gh gb sz ops rgs nms P o A B D N R C ∧ P 0 = pc ∧ R 0 = reg ∧ C 0 = cel ∧ rc_I F U P o A B D N R C s l fa ft op pl sg lf res ad tr gs tg LF RF LV RV mk ∧ rc_M U o s l m ∧ c + m ≤ 16 * (d + 1)
/-- the relation: what is finished is alike, the program is well-formed, and a running ring is in order -/
def i_Rel (k : Nat) (u : SX) (v : SY) : Prop := match u with
  | (sz, pc, sta, cnt, gb, fa, ft, fi, un, ops, rgs, nms, reg, cel, op, pl, sg, lf, res, ad, tr, gs, tg, LF, RF, LV, RV, mkr) => v = (sz, sta, pc, cnt, ops, rgs, nms, reg, cel) ∧ rc_PG sz ops rgs ∧ (sta = 1 → rc_Run sz pc gb fa ft fi un ops rgs nms reg cel op pl sg lf res ad tr gs tg LF RF LV RV mkr)
theorem rc_el {k : Nat} {Q : SX → SY → Prop} (h : ∀ (sz pc sta cnt gb fa ft fi un : Int32) (ops rgs nms reg cel op pl sg lf res ad tr gs tg LF RF LV RV mk : Nat → Int32), rc_PG sz ops rgs → (sta = 1 → rc_Run sz pc gb fa ft fi un ops rgs nms reg cel op pl sg lf res ad tr gs tg LF RF LV RV mk) → Q (sz, pc, sta, cnt, gb, fa, ft, fi, un, ops, rgs, nms, reg, cel, op, pl, sg, lf, res, ad, tr, gs, tg, LF, RF, LV, RV, mk) (sz, sta, pc, cnt, ops, rgs, nms, reg, cel)) : ∀ {u : SX} {v : SY}, i_Rel k u v → Q u v
  | (sz, pc, sta, cnt, gb, fa, ft, fi, un, ops, rgs, nms, reg, cel, op, pl, sg, lf, res, ad, tr, gs, tg, LF, RF, LV, RV, mkr), _, ⟨rfl, h1, h2⟩ => h sz pc sta cnt gb fa ft fi un ops rgs nms reg cel op pl sg lf res ad tr gs tg LF RF LV RV mkr h1 h2
theorem rc_M_I {F U : Nat} {P : Nat → Int32} {o A B D : Nat → Nat} {N : Nat → Int32} {R C : Nat → Nat → Int32} {s l : Nat → Nat} {fa ft : Int32} {op pl sg lf res ad tr gs tg LF RF LV RV mk : Nat → Int32} (hI : rc_I F U P o A B D N R C s l fa ft op pl sg lf res ad tr gs tg LF RF LV RV mk) : rc_M U o s l 16 := rc_M16 hI.2.1 (fun k hk z => ((hI.2.2.2.1 k hk).2.2.1 z).2)
theorem rc_s2_I {F U : Nat} {P : Nat → Int32} {o A B D : Nat → Nat} {N : Nat → Int32} {R C : Nat → Nat → Int32} {s l : Nat → Nat} {fa ft : Int32} {op pl sg lf res ad tr gs tg LF RF LV RV mk : Nat → Int32} (hI : rc_I F U P o A B D N R C s l fa ft op pl sg lf res ad tr gs tg LF RF LV RV mk) : ∀ k, k < U → s k ≤ 2 := fun k hk => (hI.2.2.2.1 k hk).2.1
theorem rc_21 : ¬ (2 : Int32) = 1 := by decide
theorem rc_31' : ¬ (3 : Int32) = 1 := by decide
theorem rc_z0 (x : Int32) : x + 0 = x := Int32.add_zero x
section
variable {sz gb : Int32} {ops rgs nms : Nat → Int32}
theorem rc_fin {G : Nat} (hG : G ≤ 200) {dn : Int32} {Z : (Int32 → SY → Prop) → Prop} {post : Int32 → SX → Prop} (hPG : rc_PG sz ops rgs)
    (H : ∀ (d : Nat) (u : SX) (v : SY), (∀ k, i_Rel k u v) → (∀ postY : Int32 → SY → Prop, postY (nI d) v → Z postY) → post (nI d) u) :
    ∀ n c d, c ≤ 3216 → 3216 < n + c → d ≤ G → ∀ (pc sta fa ft fi un : Int32) (reg cel op pl sg lf res ad tr gs tg LF RF LV RV mk : Nat → Int32), (sta = 1 → rc_RunM c d sz pc gb fa ft fi un ops rgs nms reg cel op pl sg lf res ad tr gs tg LF RF LV RV mk) →
    (∀ postY : Int32 → SY → Prop, (∃ n, wY_finish_17 postY (nI G) n (nI d) sz sta pc dn ops rgs nms reg cel) → Z postY) → wX_finish_28 post (nI G) n (nI d) (nI c) sz pc sta (dn + nI d) gb fa ft fi un ops rgs nms reg cel op pl sg lf res ad tr gs tg LF RF LV RV mk := by
  intro n
  induction n with
  | zero => intro c d hc hn; omega
  | succ n ih =>
    intro c d hc hn hd pc sta fa ft fi un reg cel op pl sg lf res ad tr gs tg LF RF LV RV mk hrun YK
    have exit : (G ≤ d ∨ ¬ sta = 1) → post (nI d) (sz, pc, sta, dn + nI d, gb, fa, ft, fi, un, ops, rgs, nms, reg, cel, op, pl, sg, lf, res, ad, tr, gs, tg, LF, RF, LV, RV, mk) := by
      intro hex
      refine H d _ (sz, sta, pc, dn + nI d, ops, rgs, nms, reg, cel) (fun k => ⟨rfl, hPG, fun z => ?_⟩) (fun postY hp => YK postY ⟨1, ?_⟩)
      · obtain ⟨F, U, P, o, A, B, D, N, R, C, s, l, m, h1, h2, h3, h4, h5, h6, h7, _⟩ := hrun z
        exact ⟨F, U, P, o, A, B, D, N, R, C, s, l, h1, h2, h3, h4, h5, h6, h7⟩
      · have e51 : wY_finish_51 postY (nI d) sz sta pc dn ops rgs nms reg cel := nm_e hp
        by_cases hgd : G ≤ d
        · exact br_t (nI_le hgd (by omega)) e51
        · exact br_f (nI_ge (by omega) (by omega)) (br_f (hex.resolve_left hgd) e51)
    by_cases hgd : G ≤ d
    · exact br_c (fun _ => exit (Or.inl hgd)) (fun _ => br_t (nI_le hgd (by omega)) (exit (Or.inl hgd)))
    have ngd : ¬ nI G ≤ nI d := nI_ge (by omega) (by omega)
    by_cases hst : sta = 1
    case neg => exact br_c (fun _ => exit (Or.inr hst)) (fun _ => br_f ngd (br_f hst (exit (Or.inr hst))))
    obtain ⟨F, U, P, o, A, B, D, N, R, C, s, l, m, rfl, rfl, g, gP, gR, gC, hI, hM, hcm⟩ := hrun hst
    have mp := rc_M_pos (rc_s2_I hI) hM
    have o9 : ∀ k, o k ≤ 9 := fun k => rc_at_9 (g k).1
    have c1 : ¬ (3216 : Int32) ≤ nI c := nI_ge (b := 3216) (by omega) (by decide)
    have ec : dn + nI d + 1 = dn + nI (d + 1) := by rw [Int32.add_assoc, nI_1]
    refine br_f c1 (br_f ngd (br_t hst ?_))
    by_cases hr : 0 < U ∧ s 0 = 2
    · obtain ⟨hU0, hs2⟩ := hr
      obtain ⟨V, rfl⟩ : ∃ V, U = V + 1 := ⟨U - 1, by omega⟩
      have hat := (g 0).1
      rw [gP] at hat
      refine rc_retire hPG g gP gR gC hI hs2 (fun ht => ?_) (fun nt h8 fi' un' => ?_) (fun nt h7 F' U' P' o' A' B' D' N' R' C' s' l' fa' ft' mk' g' e1 e2 e3 hI' => ?_)
      · dsimp only
        refine nm_r (rc_z0 (nI d)) (br_f ngd (br_f rc_31' (nm_r (nI_1 c) (ih (c + 1) d (by omega) (by omega) hd _ _ _ _ _ _ _ _ _ _ _ _ _ _ _ _ _ _ _ _ _ _ (fun z => absurd z rc_31') (fun postY hn => YK postY ?_)))))
        obtain ⟨n1, hn⟩ := hn
        exact ⟨n1 + 1, br_f ngd (br_t hst (rc_ystep hat (fun _ => br_t rfl hn) (fun z => absurd ht z) (fun z => absurd ht z)))⟩
      · dsimp only
        rw [ec]
        have k : wX_finish_28 post (nI G) n (nI (d + 1)) (nI (c + 1)) sz pc 2 (dn + nI (d + 1)) gb fa ft fi' un' ops rgs nms reg cel op pl sg lf res ad tr gs tg LF RF LV RV mk := by
          refine ih (c + 1) (d + 1) (by omega) (by omega) (by omega) _ _ _ _ _ _ _ _ _ _ _ _ _ _ _ _ _ _ _ _ _ _ (fun z => absurd z rc_21) (fun postY hn => YK postY ?_)
          obtain ⟨n1, hn⟩ := hn
          exact ⟨n1 + 1, br_f ngd (br_t hst (rc_ystep hat (fun z => absurd z nt) (fun _ _ => br_f rc_10 (nm_r (nI_1 d) hn)) (fun _ z => absurd h8 (by omega))))⟩
        exact nm_r (nI_1 d) (br_c (fun _ => nm_r (nI_1 c) k) (fun _ => br_f rc_21 (nm_r (nI_1 c) k)))
      · dsimp only
        rw [ec]
        have YK' : ∀ postY : Int32 → SY → Prop, (∃ n, wY_finish_17 postY (nI G) n (nI (d + 1)) sz sta (rc_real (o 0) pc (N 0) (reg (rc_sL (o 0) (A 0) (B 0)))) dn ops rgs nms (rc_R1 (o 0) (A 0) (B 0) (D 0) (N 0) reg cel) (rc_C1 (o 0) (A 0) (B 0) (D 0) reg cel)) → Z postY := by
          intro postY hn
          obtain ⟨n1, hn⟩ := hn
          exact YK postY ⟨n1 + 1, br_f ngd (br_t hst (rc_ystep hat (fun z => absurd z nt) (fun _ z => absurd h7 (by omega)) (fun _ _ => br_f rc_10 (nm_r (nI_1 d) hn))))⟩
        refine nm_r (nI_1 d) (br_c (fun _ => nm_r (nI_1 c) ?_) (fun _ => br_t hst ?_))
        · exact ih (c + 1) (d + 1) (by omega) (by omega) (by omega) _ _ _ _ _ _ _ _ _ _ _ _ _ _ _ _ _ _ _ _ _ _ (fun _ => ⟨F', U', P', o', A', B', D', N', R', C', s', l', 16, rfl, rfl, g', e1, e2, e3, hI', rc_M_I hI', by omega⟩) YK'
        · refine rc_complete g' e3 hI' (fun s1 l1 sg1 lf1 res1 ad1 tr1 LF1 RF1 LV1 RV1 _ hI1 => ?_)
          dsimp only
          refine rc_begin (fun k => rc_at_9 (g' k).1) hI1 (fun s2 l2 sg2 lf2 _ hI2 => ?_)
          dsimp only
          refine rc_issue g' e2 hI2 (fun U3 s3 fa3 ft3 op3 pl3 sg3 res3 tr3 gs3 tg3 LF3 RF3 LV3 RV3 mk3 _ hI3 => ?_)
          dsimp only
          exact nm_r (nI_1 c) (ih (c + 1) (d + 1) (by omega) (by omega) (by omega) _ _ _ _ _ _ _ _ _ _ _ _ _ _ _ _ _ _ _ _ _ _ (fun _ => ⟨F', U3, P', o', A', B', D', N', R', C', s3, l2, 16, rfl, rfl, g', e1, e2, e3, hI3, rc_M_I hI3, by omega⟩) YK')
    · have h0 : 0 < U → s 0 ≠ 2 := fun z1 z2 => hr ⟨z1, z2⟩
      refine rc_retire_no hI h0 ?_
      dsimp only
      refine nm_r (rc_z0 (nI d)) (br_f ngd (br_t hst ?_))
      refine rc_complete g gC hI (fun s1 l1 sg1 lf1 res1 ad1 tr1 LF1 RF1 LV1 RV1 hC hI1 => ?_)
      dsimp only
      refine rc_begin o9 hI1 (fun s2 l2 sg2 lf2 hB hI2 => ?_)
      dsimp only
      refine rc_issue g gR hI2 (fun U3 s3 fa3 ft3 op3 pl3 sg3 res3 tr3 gs3 tg3 LF3 RF3 LV3 RV3 mk3 hS hI3 => ?_)
      dsimp only
      exact nm_r (nI_1 c) (ih (c + 1) d (by omega) (by omega) hd _ _ _ _ _ _ _ _ _ _ _ _ _ _ _ _ _ _ _ _ _ _ (fun _ => ⟨F, U3, P, o, A, B, D, N, R, C, s3, l2, m - 1, rfl, rfl, g, gP, gR, gC, hI3, rc_dec hM h0 (rc_s2_I hI) hC hB hI2.2.2.2.2.1 hS, by omega⟩) YK)
end
end
section
/-! digest, in lockstep -/
section
variable (sz pc sta cnt gb fa ft fi un : Int32) (ops rgs nms reg cel op pl sg lf res ad tr gs tg LF RF LV RV mk : Nat → Int32)
theorem rc_dg30 : ∀ d k (x : Int32), k + d = 8 → ∃ r : Int32, (∀ post : Int32 → Prop, post r → wX_digest_30 post sz pc sta cnt gb fa ft fi un ops rgs nms reg cel op pl sg lf res ad tr gs tg LF RF LV RV mk (d + 1) x (nI k)) ∧ (∀ post : Int32 → Prop, post r → wY_digest_30 post sz sta pc cnt ops rgs nms reg cel (d + 1) x (nI k)) := by
  intro d
  induction d with
  | zero =>
    intro k x hk
    have h : (8 : Int32) ≤ nI k := nI_le (a := 8) (by omega) (by omega)
    exact ⟨x, fun _ hp => br_t h hp, fun _ hp => br_t h hp⟩
  | succ d ih =>
    intro k x hk
    have h : ¬ (8 : Int32) ≤ nI k := nI_ge (b := 8) (by omega) (by omega)
    have hi : vp_in (nI k) 8 := vp_in_nI (by omega) (by omega)
    obtain ⟨r, hX, hY⟩ := ih (k + 1) (x + ((nI k + 5) * (cel (nI k).toNatClampNeg))) (by omega)
    exact ⟨r, fun post hp => br_f h ⟨hi, nm_e (nm_r (nI_1 k) (hX post hp))⟩, fun post hp => br_f h ⟨hi, nm_e (nm_r (nI_1 k) (hY post hp))⟩⟩
theorem rc_dg4 : ∀ d k (x : Int32), k + d = 4 → ∃ r : Int32, (∀ post : Int32 → Prop, post r → wX_digest_4 post sz pc sta cnt gb fa ft fi un ops rgs nms reg cel op pl sg lf res ad tr gs tg LF RF LV RV mk (d + 1) x (nI k)) ∧ (∀ post : Int32 → Prop, post r → wY_digest_4 post sz sta pc cnt ops rgs nms reg cel (d + 1) x (nI k)) := by
  intro d
  induction d with
  | zero =>
    intro k x hk
    have h : (4 : Int32) ≤ nI k := nI_le (a := 4) (by omega) (by omega)
    obtain ⟨r, hX, hY⟩ := rc_dg30 sz pc sta cnt gb fa ft fi un ops rgs nms reg cel op pl sg lf res ad tr gs tg LF RF LV RV mk 8 0 x rfl
    exact ⟨r, fun post hp => br_t h ⟨9, hX post hp⟩, fun post hp => br_t h ⟨9, hY post hp⟩⟩
  | succ d ih =>
    intro k x hk
    have h : ¬ (4 : Int32) ≤ nI k := nI_ge (b := 4) (by omega) (by omega)
    have hi : vp_in (nI k) 4 := vp_in_nI (by omega) (by omega)
    obtain ⟨r, hX, hY⟩ := ih (k + 1) (x + ((nI k + 1) * (reg (nI k).toNatClampNeg))) (by omega)
    exact ⟨r, fun post hp => br_f h ⟨hi, nm_e (nm_r (nI_1 k) (hX post hp))⟩, fun post hp => br_f h ⟨hi, nm_e (nm_r (nI_1 k) (hY post hp))⟩⟩
end
end
section
/-! what is owed -/
theorem i_up {k : Nat} {u : SX} {v : SY} (h : i_Rel k u v) : i_Rel (k + 4) u v := h
theorem rc_PG0 {ops rgs : Nat → Int32} : rc_PG 0 ops rgs := ⟨0, by decide, rfl, fun q hq => absurd hq (by omega)⟩
theorem rc_01 : ¬ (0 : Int32) = 1 := by decide
theorem i_vc0 : wpX_init (fun u => wpY_init (fun v => i_Rel 0 u v)) := ⟨rfl, rc_PG0, fun z => absurd z rc_01⟩
theorem rc_rb0 : ∀ m, m < 64 → (nI m).toInt8.toInt32.toInt8.toInt32 = nI m := by decide +kernel
theorem rc_rb {m : Nat} (h : m < 64) : vp_nar .byte (nI m).toInt8.toInt32 = nI m := by
  rw [vp_nar_byte]
  exact rc_rb0 m h
theorem rc_PGs {z o w : Nat} {ops rgs : Nat → Int32} (hz : z < 16) (ho : o ≤ 8) (hw : w < 64) (h : rc_PG (nI z) ops rgs) : rc_PG (nI (z + 1)) (upd ops z (nI o)) (upd rgs z (nI w)) := by
  obtain ⟨z', hz', e, hp⟩ := h
  have ez : z = z' := (nI_eq (by omega) (by omega)).mp e
  subst ez
  refine ⟨z + 1, by omega, rfl, fun q hq => ?_⟩
  by_cases eq : q = z
  · rw [eq, pk_us, pk_us]
    exact ⟨⟨o, ho, rfl⟩, ⟨w, hw, rfl⟩⟩
  · rw [pk_un eq, pk_un eq]
    exact hp q (by omega)
theorem i_vc_emit {k : Nat} {u : SX} {v : SY} (I : i_Rel k u v) (hk : k + 4 ≤ 2048) (v1 : Int32) (v2 : Int32) (v3 : Int32) : wpX_emit (fun r u' => wpY_emit (fun r' v' => r' = r ∧ i_Rel (k + 4) u' v') v v1 v2 v3) u v1 v2 v3 := by
  refine rc_el (Q := fun u v => wpX_emit (fun r u' => wpY_emit (fun r' v' => r' = r ∧ i_Rel (k + 4) u' v') v v1 v2 v3) u v1 v2 v3) ?_ I
  intro sz pc sta cnt gb fa ft fi un ops rgs nms reg cel op pl sg lf res ad tr gs tg LF RF LV RV mk hPG hrun
  have rel : i_Rel (k + 4) (sz, pc, sta, cnt, gb, fa, ft, fi, un, ops, rgs, nms, reg, cel, op, pl, sg, lf, res, ad, tr, gs, tg, LF, RF, LV, RV, mk) (sz, sta, pc, cnt, ops, rgs, nms, reg, cel) := ⟨rfl, hPG, hrun⟩
  unfold wpX_emit
  refine br_c (fun h1 => br_t h1 ⟨rfl, rel⟩) (fun h1 => br_c (fun h2 => br_f h1 (br_t h2 ⟨rfl, rel⟩)) (fun h2 => br_c (fun h3 => br_f h1 (br_f h2 (br_t h3 ⟨rfl, rel⟩))) (fun h3 => br_c (fun h4 => br_c (fun h5 => ?_) (fun h5 => br_f h1 (br_f h2 (br_f h3 (br_t h4 (br_f h5 ⟨rfl, rel⟩)))))) (fun h4 => br_f h1 (br_f h2 (br_f h3 (br_f h4 ⟨rfl, rel⟩)))))))
  obtain ⟨z, hz, rfl, hp⟩ := id hPG
  have hz16 : z < 16 := by
    rcases Nat.lt_or_ge z 16 with q | q
    · exact q
    · exact absurd h5 (nI_nlt (b := 16) (by omega) (by omega))
  obtain ⟨o, ho, rfl⟩ := nI_of2 (M := 8) (n := 8) (by decide) h1 (Int32.not_lt.mp h2)
  obtain ⟨w, hw, rfl⟩ := nI_of2 (M := 63) (n := 63) (by decide) h3 h4
  have hin : vp_in (nI z) 16 := vp_in_nI hz16 (by decide)
  have hcl : (nI z).toNatClampNeg = z := nI_clamp (by omega)
  refine ⟨hin, nm_r (e' := upd ops z (nI o)) (by rw [hcl, rc_ob ho]) ⟨hin, nm_r (e' := upd rgs z (nI w)) (by rw [hcl, rc_rb (by omega)]) ⟨hin, nm_r (e' := upd nms z v3) (by rw [hcl]) (nm_r (nI_1 z) ?_)⟩⟩⟩
  unfold wpX_idle
  dsimp only
  unfold wpY_emit
  refine br_f h1 (br_f h2 (br_f h3 (br_t h4 (br_t h5 ⟨hin, nm_r (e' := upd ops z (nI o)) (by rw [hcl]) ⟨hin, nm_r (e' := upd rgs z (nI w)) (by rw [hcl]) ⟨hin, nm_r (e' := upd nms z v3) (by rw [hcl]) (nm_r (nI_1 z) ?_)⟩⟩⟩))))
  exact ⟨rfl, rfl, rc_PGs hz16 ho (by omega) hPG, fun y => absurd y rc_01⟩
theorem i_vc_clear {k : Nat} {u : SX} {v : SY} (I : i_Rel k u v) (hk : k + 4 ≤ 2048) : wpX_clear (fun u' => wpY_clear (fun v' => i_Rel (k + 4) u' v') v) u := by
  refine rc_el (Q := fun u v => wpX_clear (fun u' => wpY_clear (fun v' => i_Rel (k + 4) u' v') v) u) ?_ I
  intro sz pc sta cnt gb fa ft fi un ops rgs nms reg cel op pl sg lf res ad tr gs tg LF RF LV RV mk hPG hrun
  exact ⟨rfl, rc_PG0, fun y => absurd y rc_01⟩
theorem i_vc_length {k : Nat} {u : SX} {v : SY} (I : i_Rel k u v) (hk : k + 4 ≤ 2048) : wpX_length (fun r => wpY_length (fun r' => r' = r ∧ i_Rel (k + 4) u v) v) u := by
  refine rc_el (Q := fun u v => wpX_length (fun r => wpY_length (fun r' => r' = r ∧ i_Rel (k + 4) u v) v) u) ?_ I
  intro sz pc sta cnt gb fa ft fi un ops rgs nms reg cel op pl sg lf res ad tr gs tg LF RF LV RV mk hPG hrun
  exact ⟨rfl, rfl, hPG, hrun⟩
theorem i_vc_set {k : Nat} {u : SX} {v : SY} (I : i_Rel k u v) (hk : k + 4 ≤ 2048) (v1 : Int32) (v2 : Int32) : wpX_set (fun r u' => wpY_set (fun r' v' => r' = r ∧ i_Rel (k + 4) u' v') v v1 v2) u v1 v2 := by
  refine rc_el (Q := fun u v => wpX_set (fun r u' => wpY_set (fun r' v' => r' = r ∧ i_Rel (k + 4) u' v') v v1 v2) u v1 v2) ?_ I
  intro sz pc sta cnt gb fa ft fi un ops rgs nms reg cel op pl sg lf res ad tr gs tg LF RF LV RV mk hPG hrun
  have rel : i_Rel (k + 4) (sz, pc, sta, cnt, gb, fa, ft, fi, un, ops, rgs, nms, reg, cel, op, pl, sg, lf, res, ad, tr, gs, tg, LF, RF, LV, RV, mk) (sz, sta, pc, cnt, ops, rgs, nms, reg, cel) := ⟨rfl, hPG, hrun⟩
  unfold wpX_set
  refine br_c (fun hs => br_t hs ⟨rfl, rel⟩) (fun hs => ?_)
  by_cases h0 : v1 < 0
  · refine br_t h0 ?_
    unfold wX_set_28
    exact br_t (Int32.lt_trans h0 (by decide)) (br_f hs (br_t h0 ⟨rfl, rel⟩))
  · obtain ⟨j, hj, rfl⟩ := nI_of h0
    refine br_f h0 (pk_le 4 j (fun h4 => ?_) (fun h4 => ?_))
    · unfold wX_set_28
      refine pk_lt j 8 (fun h8 => ?_) (fun h8 => pk_le 16 j (fun h16 => ?_) (fun h16 => ?_))
      · exact br_f hs (br_f h0 (br_f (nI_nlt (a := 15) (by omega) (by decide)) (br_f (nI_ge (b := j) (a := 3) (by omega) hj) (br_f (nI_ge (b := 8) (by omega) (by decide)) ⟨rfl, rel⟩))))
      · exact br_f hs (br_f h0 (br_t (nI_lt (a := 15) (by omega) hj) ⟨rfl, rel⟩))
      · have e8 : nI j - 8 = nI (j - 8) := pk_sub (b := 8) h8
        have hin : vp_in (nI (j - 8)) 8 := vp_in_nI (by omega) (by decide)
        rw [e8]
        refine ⟨hin, nm_e (br_f hs (br_f h0 (br_f (nI_nlt (a := 15) (by omega) (by decide)) (br_f (nI_ge (b := j) (a := 3) (by omega) hj) (br_t (nI_le (a := 8) (by omega) hj) ?_)))))⟩
        unfold wY_set_31
        rw [e8]
        exact br_t (nI_lt (a := 3) (by omega) hj) ⟨hin, nm_e ⟨rfl, rfl, hPG, fun y => absurd y hs⟩⟩
    · have hin : vp_in (nI j) 4 := vp_in_nI (by omega) (by decide)
      refine ⟨hin, nm_e (br_f hs (br_f h0 (br_f (nI_nlt (a := 15) (by omega) (by decide)) (br_t (nI_le (b := 3) (by omega) (by decide)) ?_))))⟩
      unfold wY_set_31
      exact br_f (nI_nlt (a := 3) (by omega) (by decide)) ⟨hin, nm_e ⟨rfl, rfl, hPG, fun y => absurd y hs⟩⟩
theorem i_vc_start {k : Nat} {u : SX} {v : SY} (I : i_Rel k u v) (hk : k + 4 ≤ 2048) (v1 : Int32) : wpX_start (fun u' => wpY_start (fun v' => i_Rel (k + 4) u' v') v v1) u v1 := by
  refine rc_el (Q := fun u v => wpX_start (fun u' => wpY_start (fun v' => i_Rel (k + 4) u' v') v v1) u v1) ?_ I
  intro sz pc sta cnt gb fa ft fi un ops rgs nms reg cel op pl sg lf res ad tr gs tg LF RF LV RV mk hPG hrun
  unfold wpX_start
  refine rc_refetch (fun mk' hm => ?_)
  obtain ⟨P, o, A, B, D, N, R, C, g, e1, e2, e3⟩ := rc_gh_ex nms hPG v1 0 reg cel
  exact ⟨rfl, hPG, fun _ => ⟨0, 0, P, o, A, B, D, N, R, C, fun _ => 0, fun _ => 0, rfl, rfl, g, e1, e2, e3, rc_I0 hm rc_10 e1.symm⟩⟩
theorem i_vc_finish {k : Nat} {u : SX} {v : SY} (I : i_Rel k u v) (hk : k + 4 ≤ 2048) (v1 : Int32) : wpX_finish (fun r u' => wpY_finish (fun r' v' => r' = r ∧ i_Rel (k + 4) u' v') v v1) u v1 := by
  refine rc_el (Q := fun u v => wpX_finish (fun r u' => wpY_finish (fun r' v' => r' = r ∧ i_Rel (k + 4) u' v') v v1) u v1) ?_ I
  intro sz pc sta cnt gb fa ft fi un ops rgs nms reg cel op pl sg lf res ad tr gs tg LF RF LV RV mk hPG hrun
  have run : ∀ G, G ≤ 200 → (∀ postY : Int32 → SY → Prop, (∃ n, wY_finish_17 postY (nI G) n (nI 0) sz sta pc cnt ops rgs nms reg cel) → wpY_finish postY (sz, sta, pc, cnt, ops, rgs, nms, reg, cel) v1) → ∃ n, wX_finish_28 (fun r u' => wpY_finish (fun r' v' => r' = r ∧ i_Rel (k + 4) u' v') (sz, sta, pc, cnt, ops, rgs, nms, reg, cel) v1) (nI G) n 0 0 sz pc sta cnt gb fa ft fi un ops rgs nms reg cel op pl sg lf res ad tr gs tg LF RF LV RV mk := by
    intro G hG hY
    have t := rc_fin (Z := fun postY => wpY_finish postY (sz, sta, pc, cnt, ops, rgs, nms, reg, cel) v1) (post := fun r u' => wpY_finish (fun r' v' => r' = r ∧ i_Rel (k + 4) u' v') (sz, sta, pc, cnt, ops, rgs, nms, reg, cel) v1) hG (dn := cnt) (gb := gb) hPG (fun d u v hr hz => hz _ ⟨rfl, hr (k + 4)⟩) 3217 0 0 (by omega) (by omega) (by omega) pc sta fa ft fi un reg cel op pl sg lf res ad tr gs tg LF RF LV RV mk (fun y => by
      obtain ⟨F, U, P, o, A, B, D, N, R, C, s, l, h1, h2, h3, h4, h5, h6, h7⟩ := hrun y
      exact ⟨F, U, P, o, A, B, D, N, R, C, s, l, 16, h1, h2, h3, h4, h5, h6, h7, rc_M_I h7, by omega⟩) hY
    rw [show cnt + nI 0 = cnt from Int32.add_zero cnt] at t
    exact ⟨3217, t⟩
  unfold wpX_finish
  refine br_c (fun h0 => br_c (fun h2 => ?_) (fun h2 => ?_)) (fun h0 => ⟨1, ?_⟩)
  · obtain ⟨G, hG, rfl⟩ := nI_of2 (M := 200) (n := 200) (by decide) (Int32.not_lt.mpr h0) h2
    exact run G hG (fun postY h => br_t h2 h)
  · exact run 200 (by decide) (fun postY h => br_f h2 h)
  · have lt : v1 < 0 := Int32.not_le.mp h0
    have fin : wpY_finish (fun r' v' => r' = 0 ∧ i_Rel (k + 4) (sz, pc, sta, cnt, gb, fa, ft, fi, un, ops, rgs, nms, reg, cel, op, pl, sg, lf, res, ad, tr, gs, tg, LF, RF, LV, RV, mk) v') (sz, sta, pc, cnt, ops, rgs, nms, reg, cel) v1 := by
      refine br_t (Int32.le_trans (Int32.le_of_lt lt) (by decide)) ⟨1, br_t (Int32.le_of_lt lt) (nm_r (Int32.add_zero cnt) ⟨rfl, rfl, hPG, hrun⟩)⟩
    exact br_c (fun _ => fin) (fun _ => br_t (by decide) fin)
theorem i_vc_status {k : Nat} {u : SX} {v : SY} (I : i_Rel k u v) (hk : k + 4 ≤ 2048) : wpX_status (fun r => wpY_status (fun r' => r' = r ∧ i_Rel (k + 4) u v) v) u := by
  refine rc_el (Q := fun u v => wpX_status (fun r => wpY_status (fun r' => r' = r ∧ i_Rel (k + 4) u v) v) u) ?_ I
  intro sz pc sta cnt gb fa ft fi un ops rgs nms reg cel op pl sg lf res ad tr gs tg LF RF LV RV mk hPG hrun
  exact ⟨rfl, rfl, hPG, hrun⟩
theorem i_vc_position {k : Nat} {u : SX} {v : SY} (I : i_Rel k u v) (hk : k + 4 ≤ 2048) : wpX_position (fun r => wpY_position (fun r' => r' = r ∧ i_Rel (k + 4) u v) v) u := by
  refine rc_el (Q := fun u v => wpX_position (fun r => wpY_position (fun r' => r' = r ∧ i_Rel (k + 4) u v) v) u) ?_ I
  intro sz pc sta cnt gb fa ft fi un ops rgs nms reg cel op pl sg lf res ad tr gs tg LF RF LV RV mk hPG hrun
  exact ⟨rfl, rfl, hPG, hrun⟩
theorem i_vc_finished {k : Nat} {u : SX} {v : SY} (I : i_Rel k u v) (hk : k + 4 ≤ 2048) : wpX_finished (fun r => wpY_finished (fun r' => r' = r ∧ i_Rel (k + 4) u v) v) u := by
  refine rc_el (Q := fun u v => wpX_finished (fun r => wpY_finished (fun r' => r' = r ∧ i_Rel (k + 4) u v) v) u) ?_ I
  intro sz pc sta cnt gb fa ft fi un ops rgs nms reg cel op pl sg lf res ad tr gs tg LF RF LV RV mk hPG hrun
  exact ⟨rfl, rfl, hPG, hrun⟩
theorem i_vc_register {k : Nat} {u : SX} {v : SY} (I : i_Rel k u v) (hk : k + 4 ≤ 2048) (v1 : Int32) : wpX_register (fun r => wpY_register (fun r' => r' = r ∧ i_Rel (k + 4) u v) v v1) u v1 := by
  refine rc_el (Q := fun u v => wpX_register (fun r => wpY_register (fun r' => r' = r ∧ i_Rel (k + 4) u v) v v1) u v1) ?_ I
  intro sz pc sta cnt gb fa ft fi un ops rgs nms reg cel op pl sg lf res ad tr gs tg LF RF LV RV mk hPG hrun
  have rel : i_Rel (k + 4) (sz, pc, sta, cnt, gb, fa, ft, fi, un, ops, rgs, nms, reg, cel, op, pl, sg, lf, res, ad, tr, gs, tg, LF, RF, LV, RV, mk) (sz, sta, pc, cnt, ops, rgs, nms, reg, cel) := ⟨rfl, hPG, hrun⟩
  refine br_c (fun h0 => br_t h0 ⟨rfl, rel⟩) (fun h0 => ?_)
  obtain ⟨j, hj, rfl⟩ := nI_of h0
  exact pk_le j 3 (fun h => ⟨vp_in_nI (by omega) (by decide), br_f h0 (br_f (nI_nlt (a := 3) (by omega) (by decide)) ⟨vp_in_nI (by omega) (by decide), rfl, rel⟩)⟩) (fun h => br_f h0 (br_t (nI_lt (a := 3) h hj) ⟨rfl, rel⟩))
theorem i_vc_memory {k : Nat} {u : SX} {v : SY} (I : i_Rel k u v) (hk : k + 4 ≤ 2048) (v1 : Int32) : wpX_memory (fun r => wpY_memory (fun r' => r' = r ∧ i_Rel (k + 4) u v) v v1) u v1 := by
  refine rc_el (Q := fun u v => wpX_memory (fun r => wpY_memory (fun r' => r' = r ∧ i_Rel (k + 4) u v) v v1) u v1) ?_ I
  intro sz pc sta cnt gb fa ft fi un ops rgs nms reg cel op pl sg lf res ad tr gs tg LF RF LV RV mk hPG hrun
  have rel : i_Rel (k + 4) (sz, pc, sta, cnt, gb, fa, ft, fi, un, ops, rgs, nms, reg, cel, op, pl, sg, lf, res, ad, tr, gs, tg, LF, RF, LV, RV, mk) (sz, sta, pc, cnt, ops, rgs, nms, reg, cel) := ⟨rfl, hPG, hrun⟩
  refine br_c (fun h0 => br_t h0 ⟨rfl, rel⟩) (fun h0 => ?_)
  obtain ⟨j, hj, rfl⟩ := nI_of h0
  exact pk_le j 7 (fun h => ⟨vp_in_nI (by omega) (by decide), br_f h0 (br_f (nI_nlt (a := 7) (by omega) (by decide)) ⟨vp_in_nI (by omega) (by decide), rfl, rel⟩)⟩) (fun h => br_f h0 (br_t (nI_lt (a := 7) h hj) ⟨rfl, rel⟩))
theorem i_vc_digest {k : Nat} {u : SX} {v : SY} (I : i_Rel k u v) (hk : k + 4 ≤ 2048) : wpX_digest (fun r => wpY_digest (fun r' => r' = r ∧ i_Rel (k + 4) u v) v) u := by
  refine rc_el (Q := fun u v => wpX_digest (fun r => wpY_digest (fun r' => r' = r ∧ i_Rel (k + 4) u v) v) u) ?_ I
  intro sz pc sta cnt gb fa ft fi un ops rgs nms reg cel op pl sg lf res ad tr gs tg LF RF LV RV mk hPG hrun
  obtain ⟨r, hX, hY⟩ := rc_dg4 sz pc sta cnt gb fa ft fi un ops rgs nms reg cel op pl sg lf res ad tr gs tg LF RF LV RV mk 4 0 0 rfl
  exact ⟨5, hX _ ⟨5, hY _ ⟨rfl, rfl, hPG, hrun⟩⟩⟩
end
