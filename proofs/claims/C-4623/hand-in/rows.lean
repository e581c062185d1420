section
/-! pure rows to paste: stores, nI and lN arithmetic, masks, shifts, narrowing, branches by naturals (pk_le, pk_lt, pk_eq), loops (lp1 .. lp16: the measure of the state; rp1 ..: recursion), negatives. Take what you need -/
theorem pk_us {f : Nat → Int32} {k : Nat} {x : Int32} : upd f k x k = x := if_pos rfl
theorem pk_un {f : Nat → Int32} {k j : Nat} {x : Int32} (h : j ≠ k) : upd f k x j = f j := if_neg h
theorem pk_sub {a b : Nat} (h : b ≤ a) : nI a - nI b = nI (a - b) := by
  obtain ⟨c, rfl⟩ : ∃ c, a = c + b := ⟨a - b, by omega⟩
  rw [← nI_add, Int32.add_sub_cancel, Nat.add_sub_cancel]
theorem pk_m1 (n : Nat) : nI (n + 1) + (-1) = nI n := by
  rw [← nI_1, Int32.add_assoc, show (1 : Int32) + (-1) = 0 from rfl, Int32.add_zero]
theorem pk_mul (a b : Nat) : nI a * nI b = nI (a * b) := (Int32.ofNat_mul a b).symm
theorem pk_div {a d : Nat} (ha : a < 2 ^ 31) (h0 : 0 < d) (hd : d < 2 ^ 31) : nI a / nI d = nI (a / d) := by
  apply Int32.toInt_inj.mp
  rw [lg_idiv_nonneg (by rw [nI_toInt ha]; omega) (by rw [nI_toInt hd]; omega), nI_toInt ha, nI_toInt hd, nI_toInt (Nat.lt_of_le_of_lt (Nat.div_le_self a d) ha)]
  first | rfl | exact (Int.natCast_ediv _ _).symm
theorem pk_rem {a d : Nat} (ha : a < 2 ^ 31) (h0 : 0 < d) (hd : d < 2 ^ 31) : nI a - nI a / nI d * nI d = nI (a % d) := by
  rw [pk_div ha h0 hd, pk_mul, pk_sub (Nat.div_mul_le_self a d)]
  exact congrArg nI (by have := Nat.div_add_mod' a d; omega)
theorem pk_sub_toInt {a b : Nat} (ha : a < 2 ^ 30) (hb : b < 2 ^ 30) : (nI a - nI b).toInt = (a : Int) - b := by
  rw [Int32.toInt_sub, nI_toInt (by omega), nI_toInt (by omega)]
  exact Int.bmod_eq_of_le (by omega) (by omega)
theorem pk_sneg {a b : Nat} (hb : b < 2 ^ 30) (h : a < b) : nI a - nI b < 0 := by
  rw [Int32.lt_iff_toInt_lt, pk_sub_toInt (by omega) hb, show (0 : Int32).toInt = 0 from by decide]
  omega
theorem pk_ix (x : Int32) {n : Nat} (hn : n < 2 ^ 31) : x < 0 ∨ nI n ≤ x ∨ ∃ j : Nat, j < n ∧ x = nI j := by
  by_cases h : x < 0
  · exact Or.inl h
  · obtain ⟨j, hj, rfl⟩ := nI_of h
    by_cases h2 : j < n
    · exact Or.inr (Or.inr ⟨j, h2, rfl⟩)
    · exact Or.inr (Or.inl (nI_le (by omega) hj))
theorem pk_le {x y : Int32} {A B : Prop} (a b : Nat) (f : a ≤ b → A) (g : b < a → B) (hx : x = nI a := by rfl) (hy : y = nI b := by rfl) (ha : a < 2 ^ 31 := by omega) (hb : b < 2 ^ 31 := by omega) : (x ≤ y → A) ∧ (¬ x ≤ y → B) := by
  subst hx hy
  rw [nI_leI ha hb]
  exact ⟨f, fun z => g (by omega)⟩
theorem pk_lt {x y : Int32} {A B : Prop} (a b : Nat) (f : a < b → A) (g : b ≤ a → B) (hx : x = nI a := by rfl) (hy : y = nI b := by rfl) (ha : a < 2 ^ 31 := by omega) (hb : b < 2 ^ 31 := by omega) : (x < y → A) ∧ (¬ x < y → B) := by
  subst hx hy
  rw [nI_ltI ha hb]
  exact ⟨f, fun z => g (by omega)⟩
theorem pk_eq {x y : Int32} {A B : Prop} (a b : Nat) (f : a = b → A) (g : a ≠ b → B) (hx : x = nI a := by rfl) (hy : y = nI b := by rfl) (ha : a < 2 ^ 31 := by omega) (hb : b < 2 ^ 31 := by omega) : (x = y → A) ∧ (¬ x = y → B) := by
  subst hx hy
  rw [nI_eq ha hb]
  exact ⟨f, g⟩
theorem pk_in {x : Int32} (n N : Nat) (h : n < N) (hx : x = nI n := by rfl) (hN : N < 2 ^ 31 := by omega) : vp_in x N := by
  subst hx
  exact vp_in_nI h hN
theorem pk_cl {x : Int32} (n : Nat) (hx : x = nI n := by rfl) (h : n < 2 ^ 31 := by omega) : x.toNatClampNeg = n := by
  subst hx
  exact nI_clamp h
theorem pk_tn {n : Nat} (h : n < 2 ^ 32) : (nI n).toBitVec.toNat = n := Nat.mod_eq_of_lt h
theorem pk_and (x : Int32) {m : Int32} (k : Nat) (hm : m.toBitVec.toNat = 2 ^ k - 1) : x &&& m = nI (x.toBitVec.toNat % 2 ^ k) := by
  apply Int32.toBitVec_inj.mp
  apply BitVec.eq_of_toNat_eq
  rw [Int32.toBitVec_and, BitVec.toNat_and, hm, Nat.and_two_pow_sub_one_eq_mod]
  show _ = (BitVec.ofNat 32 _).toNat
  rw [BitVec.toNat_ofNat]
  exact (Nat.mod_eq_of_lt (Nat.lt_of_le_of_lt (Nat.mod_le _ _) x.toBitVec.isLt)).symm
theorem pk_andN {n : Nat} (h : n < 2 ^ 32) {m : Int32} (k : Nat) (hm : m.toBitVec.toNat = 2 ^ k - 1) : nI n &&& m = nI (n % 2 ^ k) := by
  rw [pk_and _ k hm, pk_tn h]
theorem pk_andE (x : Int32) {m : Int32} (k : Nat) (hm : m.toBitVec.toNat = 2 ^ k - 1) : ∃ j : Nat, j < 2 ^ k ∧ x &&& m = nI j := ⟨_, Nat.mod_lt _ (Nat.two_pow_pos k), pk_and x k hm⟩
theorem pk_andIn (x : Int32) {m : Int32} (k : Nat) (hm : m.toBitVec.toNat = 2 ^ k - 1) (hk : k ≤ 30) : vp_in (x &&& m) (2 ^ k) := by
  obtain ⟨j, hj, e⟩ := pk_andE x k hm
  rw [e]
  exact vp_in_nI hj (Nat.lt_of_le_of_lt (Nat.pow_le_pow_right (by decide) hk) (by decide))
theorem pk_shl (a s : Int32) (k : Nat) (hs : (s.toBitVec.smod 32).toNat = k) : (a <<< s).toBitVec.toNat = a.toBitVec.toNat * 2 ^ k % 2 ^ 32 := by
  show (a.toBitVec <<< (s.toBitVec.smod 32).toNat).toNat = _
  rw [hs, BitVec.toNat_shiftLeft, Nat.shiftLeft_eq]
theorem pk_shlN {n : Nat} (s : Int32) (k : Nat) (hs : (s.toBitVec.smod 32).toNat = k) (h : n * 2 ^ k < 2 ^ 32) : nI n <<< s = nI (n * 2 ^ k) := by
  apply Int32.toBitVec_inj.mp
  apply BitVec.eq_of_toNat_eq
  have hn : n < 2 ^ 32 := Nat.lt_of_le_of_lt (Nat.le_mul_of_pos_right n (Nat.two_pow_pos k)) h
  rw [pk_shl _ _ k hs, pk_tn hn, pk_tn h, Nat.mod_eq_of_lt h]
theorem pk_shr (a s : Int32) (k : Nat) (hs : (s.toBitVec.smod 32).toNat = k) : (a >>> s).toInt = a.toInt >>> k := by
  show (a.toBitVec.sshiftRight (s.toBitVec.smod 32).toNat).toInt = _
  rw [hs, BitVec.toInt_sshiftRight]
  rfl
theorem pk_shrN {n : Nat} (h : n < 2 ^ 31) (s : Int32) (k : Nat) (hs : (s.toBitVec.smod 32).toNat = k) : nI n >>> s = nI (n / 2 ^ k) := by
  apply Int32.toInt_inj.mp
  have h2 : n / 2 ^ k ≤ n := Nat.div_le_self _ _
  rw [pk_shr _ _ k hs, nI_toInt h, nI_toInt (by omega), Int.shiftRight_eq_div_pow]
  rfl
end
section
/-! lifts of plain functions to the arrays of the print -/
def zz_i (x : Fin 7) : Int32 := nI x.val
def zz_b (b : Bool) : Int32 := cond b 1 0
def zz_v (f : Nat → Fin 7) : Nat → Int32 := fun j => zz_i (f j)
def zz_k (f : Nat → Bool) : Nat → Int32 := fun j => zz_b (f j)
def zz_n (f : Nat → Nat) : Nat → Int32 := fun j => nI (f j)
def zz_u {α : Type} (A : Nat → α) (k : Nat) (x : α) : Nat → α := fun j => if j = k then x else A j
def zz_put {α : Type} (A : Nat → α) (o : Nat) (x y z : α) : Nat → α := fun j => if j = o then x else if j = o + 1 then y else if j = o + 2 then z else A j
theorem zz_us {α : Type} {A : Nat → α} {k : Nat} {x : α} : zz_u A k x k = x := if_pos rfl
theorem zz_un {α : Type} {A : Nat → α} {k j : Nat} {x : α} (h : j ≠ k) : zz_u A k x j = A j := if_neg h
theorem zz_p0 {α : Type} {A : Nat → α} {o : Nat} {x y z : α} : zz_put A o x y z o = x := if_pos rfl
theorem zz_p1 {α : Type} {A : Nat → α} {o : Nat} {x y z : α} : zz_put A o x y z (o + 1) = y := by
  unfold zz_put
  rw [if_neg (by omega), if_pos rfl]
theorem zz_p2 {α : Type} {A : Nat → α} {o : Nat} {x y z : α} : zz_put A o x y z (o + 2) = z := by
  unfold zz_put
  rw [if_neg (by omega), if_neg (by omega), if_pos rfl]
theorem zz_pn {α : Type} {A : Nat → α} {o j : Nat} {x y z : α} (h : j < o ∨ o + 3 ≤ j) : zz_put A o x y z j = A j := by
  unfold zz_put
  rw [if_neg (by omega), if_neg (by omega), if_neg (by omega)]
theorem zz_uuu {α : Type} {A : Nat → α} {o : Nat} {x y z : α} : zz_u (zz_u (zz_u A o x) (o + 1) y) (o + 2) z = zz_put A o x y z := by
  funext j
  unfold zz_u zz_put
  by_cases h2 : j = o + 2
  · rw [if_pos h2, if_neg (by omega), if_neg (by omega), if_pos h2]
  · rw [if_neg h2]
    by_cases h1 : j = o + 1
    · rw [if_pos h1, if_neg (by omega), if_pos h1]
    · rw [if_neg h1, if_neg h1, if_neg h2]
theorem zz_v_at {f : Nat → Fin 7} {x : Int32} (j : Nat) (hx : x = nI j) (hj : j < 2 ^ 31) : zz_v f x.toNatClampNeg = zz_i (f j) := by
  subst hx
  rw [nI_clamp hj]
  rfl
theorem zz_k_at {f : Nat → Bool} {x : Int32} (j : Nat) (hx : x = nI j) (hj : j < 2 ^ 31) : zz_k f x.toNatClampNeg = zz_b (f j) := by
  subst hx
  rw [nI_clamp hj]
  rfl
theorem zz_n_at {f : Nat → Nat} {x : Int32} (j : Nat) (hx : x = nI j) (hj : j < 2 ^ 31) : zz_n f x.toNatClampNeg = nI (f j) := by
  subst hx
  rw [nI_clamp hj]
  rfl
theorem zz_v_u {f : Nat → Fin 7} {x y : Int32} (j : Nat) (w : Fin 7) (hx : x = nI j) (hy : y = zz_i w) (hj : j < 2 ^ 31) : upd (zz_v f) x.toNatClampNeg y = zz_v (zz_u f j w) := by
  subst hx hy
  rw [nI_clamp hj]
  funext i
  unfold upd zz_v zz_u
  by_cases h : i = j
  · rw [if_pos h, if_pos h]
  · rw [if_neg h, if_neg h]
theorem zz_k_u {f : Nat → Bool} {x y : Int32} (j : Nat) (w : Bool) (hx : x = nI j) (hy : y = zz_b w) (hj : j < 2 ^ 31) : upd (zz_k f) x.toNatClampNeg y = zz_k (zz_u f j w) := by
  subst hx hy
  rw [nI_clamp hj]
  funext i
  unfold upd zz_k zz_u
  by_cases h : i = j
  · rw [if_pos h, if_pos h]
  · rw [if_neg h, if_neg h]
theorem zz_n_u {f : Nat → Nat} {x y : Int32} (j w : Nat) (hx : x = nI j) (hy : y = nI w) (hj : j < 2 ^ 31) : upd (zz_n f) x.toNatClampNeg y = zz_n (zz_u f j w) := by
  subst hx hy
  rw [nI_clamp hj]
  funext i
  unfold upd zz_n zz_u
  by_cases h : i = j
  · rw [if_pos h, if_pos h]
  · rw [if_neg h, if_neg h]
theorem zz_b1 : vp_nar .boolean 1 = zz_b true := rfl
theorem zz_b0 : vp_nar .boolean 0 = zz_b false := rfl
theorem zz_bn (b : Bool) : narrow .boolean (.int (zz_b b)) = .int (zz_b b) := by cases b <;> rfl
/-- a branch by a stored boolean -/
theorem zz_bz {x : Int32} {A B : Prop} (b : Bool) (hx : x = zz_b b) (f : b = false → A) (g : b = true → B) : (x = 0 → A) ∧ (¬ x = 0 → B) := by
  subst hx
  cases b
  · exact ⟨fun _ => f rfl, fun h => absurd rfl h⟩
  · exact ⟨fun h => absurd h (by decide), fun _ => g rfl⟩
/-- a branch by a stored number of the field -/
theorem zz_iz {x : Int32} {A B : Prop} (w : Fin 7) (hx : x = zz_i w) (f : w = 0 → A) (g : w ≠ 0 → B) : (x = 0 → A) ∧ (¬ x = 0 → B) := by
  subst hx
  have h : ∀ w : Fin 7, (zz_i w = 0 ↔ w = 0) := by decide +kernel
  rw [h w]
  exact ⟨f, g⟩
theorem zz_i1 (p v : Nat) : nI p * 3 + nI v = nI (p * 3 + v) := by
  rw [show (3 : Int32) = nI 3 from rfl, pk_mul, nI_add]
theorem zz_i2 (p v i : Nat) : (nI p * 3 + nI v) * 3 + nI i = nI ((p * 3 + v) * 3 + i) := by
  rw [zz_i1, zz_i1]
theorem zz_7 : ¬ (7 : Int32) = 0 := by decide
theorem zz_8 : ¬ (8 : Int32) = 0 := by decide
theorem zz_49 : ¬ (49 : Int32) = 0 := by decide
theorem zz_343 : ¬ (343 : Int32) = 0 := by decide
/-- three writes -/
theorem zz_fill {α : Type} (Wp : Nat → Nat → (Nat → α) → Prop) (o : Nat) (g : Nat → α → α) (A : Nat → α) (Kt : (Nat → α) → Prop)
    (hk : Kt (zz_put A o (g 0 (A o)) (g 1 (A (o + 1))) (g 2 (A (o + 2)))))
    (hx : ∀ n A', Kt A' → Wp (n + 1) 3 A')
    (hs : ∀ n i A', i < 3 → Wp n (i + 1) (zz_u A' (o + i) (g i (A' (o + i)))) → Wp (n + 1) i A') : ∃ n, Wp n 0 A := by
  refine ⟨4, hs 3 0 A (by omega) (hs 2 1 _ (by omega) (hs 1 2 _ (by omega) (hx 0 _ ?_)))⟩
  have e1 : zz_u A (o + 0) (g 0 (A (o + 0))) (o + 1) = A (o + 1) := zz_un (by omega)
  have e2 : zz_u (zz_u A (o + 0) (g 0 (A (o + 0)))) (o + 1) (g 1 (zz_u A (o + 0) (g 0 (A (o + 0))) (o + 1))) (o + 2) = A (o + 2) := by
    rw [zz_un (by omega), zz_un (by omega)]
  rw [e2, e1]
  show Kt (zz_u (zz_u (zz_u A o (g 0 (A o))) (o + 1) (g 1 (A (o + 1)))) (o + 2) (g 2 (A (o + 2))))
  rw [zz_uuu]
  exact hk
/-- three summands -/
theorem zz_sum3 (Wp : Nat → Nat → Nat → Prop) (g : Nat → Nat) (s : Nat)
    (hx : ∀ n, Wp (n + 1) 3 (s + g 0 + g 1 + g 2))
    (hs : ∀ n i t, i < 3 → Wp n (i + 1) (t + g i) → Wp (n + 1) i t) : ∃ n, Wp n 0 s :=
  ⟨4, hs 3 0 _ (by omega) (hs 2 1 _ (by omega) (hs 1 2 _ (by omega) (hx 0)))⟩
theorem zz_lt3 {P : Nat → Prop} (h0 : P 0) (h1 : P 1) (h2 : P 2) : ∀ v, v < 3 → P v := by
  intro v hv
  have h : v = 0 ∨ v = 1 ∨ v = 2 := by omega
  rcases h with rfl | rfl | rfl
  · exact h0
  · exact h1
  · exact h2
end
section
/-! spaces: K known, B the triples, L the leads, D the basis; functionals (a, b, c), equations (a, b, c, d) -/
def zz_ann (L : Nat → Bool) (D : Nat → Fin 7) (p : Nat) (a b c : Fin 7) : Prop :=
  ∀ v, v < 3 → L (p * 3 + v) = true → a * D ((p * 3 + v) * 3) + b * D ((p * 3 + v) * 3 + 1) + c * D ((p * 3 + v) * 3 + 2) = 0
def zz_Ann (K : Nat → Bool) (B : Nat → Fin 7) (L : Nat → Bool) (D : Nat → Fin 7) (p : Nat) (a b c d : Fin 7) : Prop :=
  K p = true → (a * B (p * 3) + b * B (p * 3 + 1) + c * B (p * 3 + 2) = d ∧ zz_ann L D p a b c)
def zz_ech (L : Nat → Bool) (D : Nat → Fin 7) (p : Nat) : Prop :=
  ∀ v, v < 3 → L (p * 3 + v) = true → D ((p * 3 + v) * 3 + v) = 1 ∧ ∀ u, u < v → D ((p * 3 + v) * 3 + u) = 0
theorem zz_row {D D' : Nat → Fin 7} {j : Nat} (h : ∀ i, i < 3 → D' (j + i) = D (j + i)) (a b c : Fin 7) : a * D' j + b * D' (j + 1) + c * D' (j + 2) = a * D j + b * D (j + 1) + c * D (j + 2) := by
  rw [show D' j = D j from h 0 (by omega), h 1 (by omega), h 2 (by omega)]
theorem zz_ann_cg {L L' : Nat → Bool} {D D' : Nat → Fin 7} {p : Nat} (hL : ∀ v, v < 3 → L' (p * 3 + v) = L (p * 3 + v)) (hD : ∀ v, v < 3 → ∀ i, i < 3 → D' ((p * 3 + v) * 3 + i) = D ((p * 3 + v) * 3 + i)) (a b c : Fin 7) : zz_ann L' D' p a b c ↔ zz_ann L D p a b c := by
  constructor
  · intro h v hv l
    exact (zz_row (hD v hv) a b c).symm.trans (h v hv (by rw [hL v hv]; exact l))
  · intro h v hv l
    exact (zz_row (hD v hv) a b c).trans (h v hv (by rw [← hL v hv]; exact l))
theorem zz_ech_cg {L L' : Nat → Bool} {D D' : Nat → Fin 7} {p : Nat} (hL : ∀ v, v < 3 → L' (p * 3 + v) = L (p * 3 + v)) (hD : ∀ v, v < 3 → ∀ i, i < 3 → D' ((p * 3 + v) * 3 + i) = D ((p * 3 + v) * 3 + i)) (h : zz_ech L D p) : zz_ech L' D' p := by
  intro v hv l
  rw [hL v hv] at l
  obtain ⟨h1, h2⟩ := h v hv l
  refine ⟨by rw [hD v hv v hv]; exact h1, fun u hu => ?_⟩
  rw [hD v hv u (by omega)]
  exact h2 u hu
theorem zz_g1 {a b c x y z t p q r : Fin 7} (h : a * p + b * q + c * r = 0) : a * (x - t * p) + b * (y - t * q) + c * (z - t * r) = a * x + b * y + c * z := by grind
/-! reduce -/
def zz_ri (L : Nat → Bool) (D : Nat → Fin 7) (p : Nat) (V : Nat → Fin 7) (v : Nat) (r : Int32) (W : Nat → Fin 7) : Prop :=
  (∀ a b c, zz_ann L D p a b c → a * W 0 + b * W 1 + c * W 2 = a * V 0 + b * V 1 + c * V 2) ∧
  (∀ u, u < v → L (p * 3 + u) = true → W u = 0) ∧
  ((r = -1 ∧ ∀ u, u < v → W u = 0) ∨ (∃ f, f < v ∧ r = nI f ∧ L (p * 3 + f) = false ∧ W f ≠ 0 ∧ ∀ u, u < f → W u = 0))
theorem zz_ri0 (L : Nat → Bool) (D : Nat → Fin 7) (p : Nat) (V : Nat → Fin 7) : zz_ri L D p V 0 (-1) V :=
  ⟨fun _ _ _ _ => rfl, fun u hu => absurd hu (Nat.not_lt_zero u), Or.inl ⟨rfl, fun u hu => absurd hu (Nat.not_lt_zero u)⟩⟩
theorem zz_ri_z {L : Nat → Bool} {D : Nat → Fin 7} {p : Nat} {V W : Nat → Fin 7} {v : Nat} {r : Int32} (h : zz_ri L D p V v r W) (z : W v = 0) : zz_ri L D p V (v + 1) r W := by
  obtain ⟨h1, h2, h3⟩ := h
  refine ⟨h1, fun u hu l => ?_, ?_⟩
  · by_cases e : u = v
    · rw [e]; exact z
    · exact h2 u (by omega) l
  · rcases h3 with ⟨hr, h3⟩ | ⟨f, hf, hr, hl, hw, h3⟩
    · refine Or.inl ⟨hr, fun u hu => ?_⟩
      by_cases e : u = v
      · rw [e]; exact z
      · exact h3 u (by omega)
    · exact Or.inr ⟨f, by omega, hr, hl, hw, h3⟩
theorem zz_ri_k {L : Nat → Bool} {D : Nat → Fin 7} {p : Nat} {V W : Nat → Fin 7} {v f : Nat} (h : zz_ri L D p V v (nI f) W) (hn : ¬ nI f = -1) (l : L (p * 3 + v) = false) : zz_ri L D p V (v + 1) (nI f) W := by
  obtain ⟨h1, h2, h3⟩ := h
  refine ⟨h1, fun u hu l' => ?_, ?_⟩
  · by_cases e : u = v
    · rw [e, l] at l'; cases l'
    · exact h2 u (by omega) l'
  · rcases h3 with ⟨hr, h3⟩ | ⟨f, hf, hr, hl, hw, h3⟩
    · exact absurd hr hn
    · exact Or.inr ⟨f, by omega, hr, hl, hw, h3⟩
theorem zz_ri_f {L : Nat → Bool} {D : Nat → Fin 7} {p : Nat} {V W : Nat → Fin 7} {v : Nat} (h : zz_ri L D p V v (-1) W) (hv : v < 3) (hn : ∀ f, f < 3 → ¬ nI f = -1) (l : L (p * 3 + v) = false) (z : W v ≠ 0) : zz_ri L D p V (v + 1) (nI v) W := by
  obtain ⟨h1, h2, h3⟩ := h
  refine ⟨h1, fun u hu l' => ?_, ?_⟩
  · by_cases e : u = v
    · rw [e, l] at l'; cases l'
    · exact h2 u (by omega) l'
  · rcases h3 with ⟨_, h3⟩ | ⟨f, hf, hr, _⟩
    · exact Or.inr ⟨v, by omega, rfl, l, z, h3⟩
    · exact absurd hr.symm (hn f (by omega))
theorem zz_p3 {α : Type} {A : Nat → α} {g : Nat → α} : ∀ u, u < 3 → zz_put A 0 (g 0) (g 1) (g 2) u = g u :=
  zz_lt3 rfl rfl rfl
theorem zz_ri_l {L : Nat → Bool} {D : Nat → Fin 7} {p : Nat} {V W : Nat → Fin 7} {v : Nat} {r : Int32} (h : zz_ri L D p V v r W) (hv : v < 3) (ec : zz_ech L D p) (l : L (p * 3 + v) = true) : zz_ri L D p V (v + 1) r (zz_put W 0 (W 0 - W v * D ((p * 3 + v) * 3)) (W 1 - W v * D ((p * 3 + v) * 3 + 1)) (W 2 - W v * D ((p * 3 + v) * 3 + 2))) := by
  obtain ⟨h1, h2, h3⟩ := h
  obtain ⟨e1, e2⟩ := ec v hv l
  have at' : ∀ u, u < 3 → zz_put W 0 (W 0 - W v * D ((p * 3 + v) * 3)) (W 1 - W v * D ((p * 3 + v) * 3 + 1)) (W 2 - W v * D ((p * 3 + v) * 3 + 2)) u = W u - W v * D ((p * 3 + v) * 3 + u) := zz_p3 (g := fun u => W u - W v * D ((p * 3 + v) * 3 + u))
  have lo : ∀ u, u < v → zz_put W 0 (W 0 - W v * D ((p * 3 + v) * 3)) (W 1 - W v * D ((p * 3 + v) * 3 + 1)) (W 2 - W v * D ((p * 3 + v) * 3 + 2)) u = W u := by
    intro u hu
    rw [at' u (by omega), e2 u hu]
    grind
  have ze : zz_put W 0 (W 0 - W v * D ((p * 3 + v) * 3)) (W 1 - W v * D ((p * 3 + v) * 3 + 1)) (W 2 - W v * D ((p * 3 + v) * 3 + 2)) v = 0 := by
    rw [at' v hv, e1]
    grind
  refine ⟨fun a b c ha => ?_, fun u hu l' => ?_, ?_⟩
  · rw [at' 0 (by omega), at' 1 (by omega), at' 2 (by omega), Nat.add_zero, zz_g1 (ha v hv l)]
    exact h1 a b c ha
  · by_cases e : u = v
    · rw [e]; exact ze
    · rw [lo u (by omega)]; exact h2 u (by omega) l'
  · rcases h3 with ⟨hr, h3⟩ | ⟨f, hf, hr, hl, hw, h3⟩
    · refine Or.inl ⟨hr, fun u hu => ?_⟩
      by_cases e : u = v
      · rw [e]; exact ze
      · rw [lo u (by omega)]; exact h3 u (by omega)
    · refine Or.inr ⟨f, by omega, hr, hl, by rw [lo f hf]; exact hw, fun u hu => ?_⟩
      rw [lo u (by omega)]; exact h3 u hu
/-! addDirection -/
def zz_inv (x : Fin 7) : Fin 7 := x * x * x * x * x
theorem zz_inv1 : ∀ x : Fin 7, x ≠ 0 → x * zz_inv x = 1 := by decide
def zz_AD (L : Nat → Bool) (D : Nat → Fin 7) (q : Nat) (W : Nat → Fin 7) (r : Bool) (L' : Nat → Bool) (D' : Nat → Fin 7) : Prop :=
  (r = false ∧ L' = L ∧ D' = D ∧ ∀ a b c, zz_ann L D q a b c → a * W 0 + b * W 1 + c * W 2 = 0) ∨
  (r = true ∧ zz_ech L' D' q ∧ (∀ a b c, zz_ann L' D' q a b c ↔ (zz_ann L D q a b c ∧ a * W 0 + b * W 1 + c * W 2 = 0)) ∧
    (∃ f, f < 3 ∧ L (q * 3 + f) = false ∧ L' = zz_u L (q * 3 + f) true) ∧
    ∀ p, p ≠ q → ∀ v, v < 3 → ∀ i, i < 3 → D' ((p * 3 + v) * 3 + i) = D ((p * 3 + v) * 3 + i))
theorem zz_g2 {a b c x y z t : Fin 7} : a * (x * t) + b * (y * t) + c * (z * t) = (a * x + b * y + c * z) * t := by grind
theorem zz_g3 {s t w : Fin 7} (h : s * t = 0) (hw : w * t = 1) : s = 0 := by
  have e : s = s * t * w := by grind
  rw [e, h]
  grind
theorem zz_AD_of {L : Nat → Bool} {D : Nat → Fin 7} {q : Nat} {V W : Nat → Fin 7} {f : Nat} (ec : zz_ech L D q) (hf : f < 3) (hl : L (q * 3 + f) = false) (hw : W f ≠ 0) (h0 : ∀ u, u < f → W u = 0)
    (h1 : ∀ a b c, zz_ann L D q a b c → a * W 0 + b * W 1 + c * W 2 = a * V 0 + b * V 1 + c * V 2) :
    zz_AD L D q V true (zz_u L (q * 3 + f) true) (zz_put D ((q * 3 + f) * 3) (W 0 * zz_inv (W f)) (W 1 * zz_inv (W f)) (W 2 * zz_inv (W f))) := by
  have i1 := zz_inv1 (W f) hw
  have P3 : ∀ u, u < 3 → zz_put D ((q * 3 + f) * 3) (W 0 * zz_inv (W f)) (W 1 * zz_inv (W f)) (W 2 * zz_inv (W f)) ((q * 3 + f) * 3 + u) = W u * zz_inv (W f) :=
    zz_lt3 zz_p0 zz_p1 zz_p2
  have Pn : ∀ p v, p * 3 + v ≠ q * 3 + f → ∀ i, i < 3 → zz_put D ((q * 3 + f) * 3) (W 0 * zz_inv (W f)) (W 1 * zz_inv (W f)) (W 2 * zz_inv (W f)) ((p * 3 + v) * 3 + i) = D ((p * 3 + v) * 3 + i) :=
    fun p v h i hi => zz_pn (by omega)
  refine Or.inr ⟨rfl, ?_, ?_, ⟨f, hf, hl, rfl⟩, fun p hp v hv i hi => Pn p v (by omega) i hi⟩
  · intro v hv l
    by_cases e : v = f
    · subst e
      refine ⟨by rw [P3 v hv]; exact i1, fun u hu => ?_⟩
      rw [P3 u (by omega), h0 u hu]
      grind
    · rw [zz_un (by omega)] at l
      obtain ⟨e1, e2⟩ := ec v hv l
      refine ⟨by rw [Pn q v (by omega) v hv]; exact e1, fun u hu => ?_⟩
      rw [Pn q v (by omega) u (by omega)]
      exact e2 u hu
  · intro a b c
    constructor
    · intro h
      have ha : zz_ann L D q a b c := by
        intro v hv l
        have ne : v ≠ f := fun e => by rw [e, hl] at l; cases l
        have := h v hv (by rw [zz_un (by omega)]; exact l)
        exact (zz_row (Pn q v (by omega)) a b c).symm.trans this
      refine ⟨ha, ?_⟩
      have := h f hf zz_us
      rw [zz_p0, zz_p1, zz_p2, zz_g2] at this
      rw [← h1 a b c ha]
      exact zz_g3 this i1
    · rintro ⟨ha, h⟩ v hv l
      by_cases e : v = f
      · subst e
        rw [zz_p0, zz_p1, zz_p2, zz_g2, h1 a b c ha, h]
        grind
      · rw [zz_un (by omega)] at l
        exact (zz_row (Pn q v (by omega)) a b c).trans (ha v hv l)
end
section
/-! the reached states, the steps' images, soundness and completeness of the spaces -/
def zz_d (e i : Nat) : Fin 7 := Fin.ofNat 7 (e / 7 ^ i)
def zz_val (g : Nat) (x y z : Fin 7) : Fin 7 := zz_d g 0 * x + zz_d g 1 * y + zz_d g 2 * z + zz_d g 3
def zz_lin (g : Nat) (x y z : Fin 7) : Fin 7 := zz_d g 0 * x + zz_d g 1 * y + zz_d g 2 * z
def zz_s (k i : Nat) (v x : Fin 7) : Fin 7 := if i = k then v else x
def zz_t (k i : Nat) (v x : Fin 7) : Fin 7 := if k < 3 ∧ i = k then v else x
def zz_co (k : Nat) (a b c : Fin 7) : Fin 7 := if k = 0 then a else if k = 1 then b else c
def zz_St (k g : Nat) (x y z x' y' z' : Fin 7) : Prop :=
  (k = 6 ∧ x' = x ∧ y' = y ∧ z' = z) ∨
  (k < 3 ∧ x' = zz_s k 0 (zz_val g x y z) x ∧ y' = zz_s k 1 (zz_val g x y z) y ∧ z' = zz_s k 2 (zz_val g x y z) z) ∨
  (∃ j v, j < 3 ∧ k = j + 3 ∧ x' = zz_s j 0 v x ∧ y' = zz_s j 1 v y ∧ z' = zz_s j 2 v z)
def zz_R (n : Nat) (E Q G : Nat → Nat) (p : Nat) (x y z : Fin 7) : Prop :=
  ∀ S : Nat → Fin 7 → Fin 7 → Fin 7 → Prop, S 0 0 0 0 → (∀ s, s < n → ∀ x y z x' y' z', S (E s % 8) x y z → zz_St (Q s) (G s) x y z x' y' z' → S (E s / 8) x' y' z') → S p x y z
def zz_Hd (n : Nat) (E Q G : Nat → Nat) (p : Nat) (a b c d : Fin 7) : Prop :=
  ∀ x y z, zz_R n E Q G p x y z → a * x + b * y + c * z = d
theorem zz_R0 {n : Nat} {E Q G : Nat → Nat} : zz_R n E Q G 0 0 0 0 := fun _ h _ => h
theorem zz_Rs {n : Nat} {E Q G : Nat → Nat} {s : Nat} {x y z x' y' z' : Fin 7} (hs : s < n) (h : zz_R n E Q G (E s % 8) x y z) (st : zz_St (Q s) (G s) x y z x' y' z') : zz_R n E Q G (E s / 8) x' y' z' :=
  fun S h0 h1 => h1 s hs x y z x' y' z' (h S h0 h1) st
/-- an equation pulled back under an assignment -/
def zz_pf (k i g : Nat) (a b c x : Fin 7) : Fin 7 := zz_s k i 0 x + zz_co k a b c * zz_d g i
theorem zz_pb_pt {k g : Nat} (hk : k < 3) (a b c d x y z : Fin 7) : (zz_pf k 0 g a b c a * x + zz_pf k 1 g a b c b * y + zz_pf k 2 g a b c c * z = d - zz_co k a b c * zz_d g 3) ↔ (a * zz_s k 0 (zz_val g x y z) x + b * zz_s k 1 (zz_val g x y z) y + c * zz_s k 2 (zz_val g x y z) z = d) := by
  have h : k = 0 ∨ k = 1 ∨ k = 2 := by omega
  unfold zz_pf zz_val
  generalize zz_d g 0 = g0
  generalize zz_d g 1 = g1
  generalize zz_d g 2 = g2
  generalize zz_d g 3 = g3
  rcases h with rfl | rfl | rfl
  · simp +decide only [zz_s, zz_co, reduceIte]
    constructor <;> intro h <;> grind
  · simp +decide only [zz_s, zz_co, reduceIte]
    constructor <;> intro h <;> grind
  · simp +decide only [zz_s, zz_co, reduceIte]
    constructor <;> intro h <;> grind
theorem zz_pb_dir {k g : Nat} (hk : k < 3) (a b c x y z : Fin 7) : zz_pf k 0 g a b c a * x + zz_pf k 1 g a b c b * y + zz_pf k 2 g a b c c * z = a * zz_s k 0 (zz_lin g x y z) x + b * zz_s k 1 (zz_lin g x y z) y + c * zz_s k 2 (zz_lin g x y z) z := by
  have h : k = 0 ∨ k = 1 ∨ k = 2 := by omega
  unfold zz_pf zz_lin
  generalize zz_d g 0 = g0
  generalize zz_d g 1 = g1
  generalize zz_d g 2 = g2
  rcases h with rfl | rfl | rfl
  · simp +decide only [zz_s, zz_co, reduceIte]
    grind
  · simp +decide only [zz_s, zz_co, reduceIte]
    grind
  · simp +decide only [zz_s, zz_co, reduceIte]
    grind
theorem zz_ts {k i : Nat} (hk : k < 3) (v x : Fin 7) : zz_t k i v x = zz_s k i v x := by
  unfold zz_t zz_s
  by_cases h : i = k
  · rw [if_pos ⟨hk, h⟩, if_pos h]
  · rw [if_neg (fun z => h z.2), if_neg h]
theorem zz_ti {k i : Nat} (hk : ¬ k < 3) (v x : Fin 7) : zz_t k i v x = x := if_neg (fun z => hk z.1)
/-- setting a coordinate that the functional does not see -/
theorem zz_free {j : Nat} (hj : j < 3) {a b c : Fin 7} (h : zz_co j a b c = 0) (v x y z : Fin 7) : a * zz_s j 0 v x + b * zz_s j 1 v y + c * zz_s j 2 v z = a * x + b * y + c * z := by
  have hh : j = 0 ∨ j = 1 ∨ j = 2 := by omega
  rcases hh with rfl | rfl | rfl
  · simp +decide only [zz_s, zz_co, reduceIte] at h ⊢
    grind
  · simp +decide only [zz_s, zz_co, reduceIte] at h ⊢
    grind
  · simp +decide only [zz_s, zz_co, reduceIte] at h ⊢
    grind
theorem zz_freed {j : Nat} (hj : j < 3) {a b c d x y z : Fin 7} (h : ∀ v, a * zz_s j 0 v x + b * zz_s j 1 v y + c * zz_s j 2 v z = d) : zz_co j a b c = 0 := by
  have h0 := h 0
  have h1 := h 1
  have hh : j = 0 ∨ j = 1 ∨ j = 2 := by omega
  rcases hh with rfl | rfl | rfl
  · simp +decide only [zz_s, zz_co, reduceIte] at h0 h1 ⊢
    grind
  · simp +decide only [zz_s, zz_co, reduceIte] at h0 h1 ⊢
    grind
  · simp +decide only [zz_s, zz_co, reduceIte] at h0 h1 ⊢
    grind
/-! the invariant of the spaces -/
def zz_Sd (n : Nat) (E Q G : Nat → Nat) (K : Nat → Bool) (B : Nat → Fin 7) (L : Nat → Bool) (D : Nat → Fin 7) : Prop :=
  ∀ p, p < 8 → ∀ a b c d, zz_Hd n E Q G p a b c d → zz_Ann K B L D p a b c d
def zz_PI (n : Nat) (E Q G : Nat → Nat) (K : Nat → Bool) (B : Nat → Fin 7) (L : Nat → Bool) (D : Nat → Fin 7) : Prop :=
  (∀ p, p < 8 → zz_ech L D p) ∧ (∀ p, p < 8 → K p = false → ∀ v, v < 3 → L (p * 3 + v) = false) ∧ K 0 = true ∧ (B 0 = 0 ∧ B 1 = 0 ∧ B 2 = 0) ∧ zz_Sd n E Q G K B L D
theorem zz_one : ¬ ∀ x y z : Fin 7, 0 * x + 0 * y + 0 * z = (1 : Fin 7) := fun h => absurd (h 0 0 0) (by decide)
theorem zz_nonempty {n : Nat} {E Q G : Nat → Nat} {K : Nat → Bool} {B : Nat → Fin 7} {L : Nat → Bool} {D : Nat → Fin 7} (S : zz_Sd n E Q G K B L D) {p : Nat} (hp : p < 8) (k : K p = true) : ∃ x y z, zz_R n E Q G p x y z := by
  refine Classical.byContradiction fun hn => ?_
  have h : zz_Hd n E Q G p 0 0 0 1 := fun x y z r => absurd ⟨x, y, z, r⟩ hn
  have := (S p hp 0 0 0 1 h k).1
  have e : ∀ x y z : Fin 7, 0 * x + 0 * y + 0 * z ≠ (1 : Fin 7) := by
    intro x y z
    rw [Fin.zero_mul, Fin.zero_mul, Fin.zero_mul]
    decide
  exact e _ _ _ this
/-- what a sound state gives for the images under a step -/
def zz_Im (k g : Nat) (B : Nat → Fin 7) (L : Nat → Bool) (D : Nat → Fin 7) (f : Nat) (a b c d : Fin 7) : Prop :=
  (a * zz_t k 0 (zz_val g (B (f * 3)) (B (f * 3 + 1)) (B (f * 3 + 2))) (B (f * 3)) + b * zz_t k 1 (zz_val g (B (f * 3)) (B (f * 3 + 1)) (B (f * 3 + 2))) (B (f * 3 + 1)) + c * zz_t k 2 (zz_val g (B (f * 3)) (B (f * 3 + 1)) (B (f * 3 + 2))) (B (f * 3 + 2)) = d) ∧
  (∀ v, v < 3 → L (f * 3 + v) = true → a * zz_t k 0 (zz_lin g (D ((f * 3 + v) * 3)) (D ((f * 3 + v) * 3 + 1)) (D ((f * 3 + v) * 3 + 2))) (D ((f * 3 + v) * 3)) + b * zz_t k 1 (zz_lin g (D ((f * 3 + v) * 3)) (D ((f * 3 + v) * 3 + 1)) (D ((f * 3 + v) * 3 + 2))) (D ((f * 3 + v) * 3 + 1)) + c * zz_t k 2 (zz_lin g (D ((f * 3 + v) * 3)) (D ((f * 3 + v) * 3 + 1)) (D ((f * 3 + v) * 3 + 2))) (D ((f * 3 + v) * 3 + 2)) = 0) ∧
  (∀ j, j < 3 → k = j + 3 → zz_co j a b c = 0)
theorem zz_Im_ann {k g : Nat} {B : Nat → Fin 7} {L : Nat → Bool} {D : Nat → Fin 7} {f : Nat} {a b c d : Fin 7} (hk : k < 3) :
    zz_Im k g B L D f a b c d ↔ (zz_pf k 0 g a b c a * B (f * 3) + zz_pf k 1 g a b c b * B (f * 3 + 1) + zz_pf k 2 g a b c c * B (f * 3 + 2) = d - zz_co k a b c * zz_d g 3 ∧ zz_ann L D f (zz_pf k 0 g a b c a) (zz_pf k 1 g a b c b) (zz_pf k 2 g a b c c)) := by
  unfold zz_Im zz_ann
  simp only [zz_ts hk]
  rw [zz_pb_pt hk]
  constructor
  · rintro ⟨h1, h2, _⟩
    exact ⟨h1, fun v hv l => (zz_pb_dir hk a b c _ _ _).trans (h2 v hv l)⟩
  · rintro ⟨h1, h2⟩
    exact ⟨h1, fun v hv l => (zz_pb_dir hk a b c _ _ _).symm.trans (h2 v hv l), fun j hj e => by omega⟩
theorem zz_Im_id {k g : Nat} {B : Nat → Fin 7} {L : Nat → Bool} {D : Nat → Fin 7} {f : Nat} {a b c d : Fin 7} (hk : ¬ k < 3) :
    zz_Im k g B L D f a b c d ↔ ((a * B (f * 3) + b * B (f * 3 + 1) + c * B (f * 3 + 2) = d ∧ zz_ann L D f a b c) ∧ ∀ j, j < 3 → k = j + 3 → zz_co j a b c = 0) := by
  unfold zz_Im zz_ann
  simp only [zz_ti hk]
  exact ⟨fun ⟨h1, h2, h3⟩ => ⟨⟨h1, h2⟩, h3⟩, fun ⟨⟨h1, h2⟩, h3⟩ => ⟨h1, h2, h3⟩⟩
theorem zz_s_self (j : Nat) (x y z : Fin 7) : zz_s j 0 (zz_co j x y z) x = x ∧ zz_s j 1 (zz_co j x y z) y = y ∧ (j < 3 → zz_s j 2 (zz_co j x y z) z = z) := by
  unfold zz_s zz_co
  refine ⟨?_, ?_, ?_⟩
  · by_cases h : 0 = j
    · rw [if_pos h, if_pos h.symm]
    · rw [if_neg h]
  · by_cases h : 1 = j
    · rw [if_pos h, if_neg (by omega), if_pos h.symm]
    · rw [if_neg h]
  · intro _
    by_cases h : 2 = j
    · rw [if_pos h, if_neg (by omega), if_neg (by omega)]
    · rw [if_neg h]
theorem zz_sound {n : Nat} {E Q G : Nat → Nat} {K : Nat → Bool} {B : Nat → Fin 7} {L : Nat → Bool} {D : Nat → Fin 7} (S : zz_Sd n E Q G K B L D) {s : Nat} (hs : s < n) (hq : Q s < 7) (k : K (E s % 8) = true) {a b c d : Fin 7} (h : zz_Hd n E Q G (E s / 8) a b c d) : zz_Im (Q s) (G s) B L D (E s % 8) a b c d := by
  have hf : E s % 8 < 8 := Nat.mod_lt _ (by decide)
  by_cases hk : Q s < 3
  · rw [zz_Im_ann hk]
    refine S _ hf _ _ _ _ ?_ k
    intro x y z r
    rw [zz_pb_pt hk]
    exact h _ _ _ (zz_Rs hs r (Or.inr (Or.inl ⟨hk, rfl, rfl, rfl⟩)))
  · rw [zz_Im_id hk]
    by_cases h6 : Q s = 6
    · refine ⟨S _ hf _ _ _ _ (fun x y z r => h _ _ _ (zz_Rs hs r (Or.inl ⟨h6, rfl, rfl, rfl⟩))) k, fun j hj e => by omega⟩
    · have hj : Q s - 3 < 3 := by omega
      have ej : Q s = (Q s - 3) + 3 := by omega
      obtain ⟨x0, y0, z0, r0⟩ := zz_nonempty S hf k
      have c0 : zz_co (Q s - 3) a b c = 0 := zz_freed hj (d := d) (x := x0) (y := y0) (z := z0) fun v => h _ _ _ (zz_Rs hs r0 (Or.inr (Or.inr ⟨_, v, hj, ej, rfl, rfl, rfl⟩)))
      refine ⟨S _ hf _ _ _ _ (fun x y z r => ?_) k, fun j hj' e => ?_⟩
      · obtain ⟨e0, e1, e2⟩ := zz_s_self (Q s - 3) x y z
        exact h _ _ _ (zz_Rs hs r (Or.inr (Or.inr ⟨_, zz_co (Q s - 3) x y z, hj, ej, e0.symm, e1.symm, (e2 hj).symm⟩)))
      · have : j = Q s - 3 := by omega
        rw [this]
        exact c0
/-- a step adds nothing to the spaces -/
def zz_Cl (n : Nat) (E Q G : Nat → Nat) (K : Nat → Bool) (B : Nat → Fin 7) (L : Nat → Bool) (D : Nat → Fin 7) (s : Nat) : Prop :=
  K (E s % 8) = true → K (E s / 8) = true ∧ ∀ a b c d, zz_Ann K B L D (E s / 8) a b c d → zz_Im (Q s) (G s) B L D (E s % 8) a b c d
theorem zz_complete {n : Nat} {E Q G : Nat → Nat} {K : Nat → Bool} {B : Nat → Fin 7} {L : Nat → Bool} {D : Nat → Fin 7} (I : zz_PI n E Q G K B L D) (hQ : ∀ s, s < n → Q s < 7) (C : ∀ s, s < n → zz_Cl n E Q G K B L D s) {p : Nat} {x y z : Fin 7} (r : zz_R n E Q G p x y z) : K p = true ∧ ∀ a b c d, zz_Ann K B L D p a b c d → a * x + b * y + c * z = d := by
  refine r (fun p x y z => K p = true ∧ ∀ a b c d, zz_Ann K B L D p a b c d → a * x + b * y + c * z = d) ?_ ?_
  · obtain ⟨_, _, k0, ⟨b0, b1, b2⟩, _⟩ := I
    refine ⟨k0, fun a b c d h => ?_⟩
    have := (h k0).1
    rw [show 0 * 3 = 0 from rfl, show 0 + 1 = 1 from rfl, show 0 + 2 = 2 from rfl, b0, b1, b2] at this
    exact this
  · intro s hs x y z x' y' z' ⟨kf, ih⟩ st
    obtain ⟨kq, hc⟩ := C s hs kf
    refine ⟨kq, fun a b c d h => ?_⟩
    have im := hc a b c d h
    by_cases hk : Q s < 3
    · have h2 := ih _ _ _ _ (fun _ => (zz_Im_ann hk).mp im)
      rw [zz_pb_pt hk] at h2
      rcases st with ⟨e, _⟩ | ⟨_, rfl, rfl, rfl⟩ | ⟨j, v, _, e, _⟩
      · omega
      · exact h2
      · omega
    · obtain ⟨h1, h3⟩ := (zz_Im_id hk).mp im
      have h2 := ih a b c d (fun _ => h1)
      rcases st with ⟨_, rfl, rfl, rfl⟩ | ⟨e, _⟩ | ⟨j, v, hj, e, rfl, rfl, rfl⟩
      · exact h2
      · omega
      · rw [zz_free hj (h3 j hj e)]
        exact h2
theorem zz_final {n : Nat} {E Q G : Nat → Nat} {K : Nat → Bool} {B : Nat → Fin 7} {L : Nat → Bool} {D : Nat → Fin 7} (I : zz_PI n E Q G K B L D) (hQ : ∀ s, s < n → Q s < 7) (C : ∀ s, s < n → zz_Cl n E Q G K B L D s) {p : Nat} (hp : p < 8) (a b c d : Fin 7) : zz_Ann K B L D p a b c d ↔ zz_Hd n E Q G p a b c d :=
  ⟨fun h x y z r => (zz_complete I hQ C r).2 a b c d h, fun h => I.2.2.2.2 p hp a b c d h⟩
end
section
/-! the invariant is kept by a new triple and by a new direction; the measure -/
section
variable {n : Nat} {E Q G : Nat → Nat} {K : Nat → Bool} {B : Nat → Fin 7} {L L' : Nat → Bool} {D D' : Nat → Fin 7} {W : Nat → Fin 7} {q : Nat} {r : Bool}
theorem zz_AD_ann (h : zz_AD L D q W r L' D') (a b c : Fin 7) : zz_ann L' D' q a b c ↔ (zz_ann L D q a b c ∧ a * W 0 + b * W 1 + c * W 2 = 0) := by
  rcases h with ⟨_, rfl, rfl, h⟩ | ⟨_, _, h, _⟩
  · exact ⟨fun z => ⟨z, h a b c z⟩, fun z => z.1⟩
  · exact h a b c
theorem zz_AD_far (h : zz_AD L D q W r L' D') {p : Nat} (hp : p ≠ q) : (∀ v, v < 3 → L' (p * 3 + v) = L (p * 3 + v)) ∧ (∀ v, v < 3 → ∀ i, i < 3 → D' ((p * 3 + v) * 3 + i) = D ((p * 3 + v) * 3 + i)) := by
  rcases h with ⟨_, rfl, rfl, h⟩ | ⟨_, _, _, ⟨f, hf, _, rfl⟩, hD⟩
  · exact ⟨fun _ _ => rfl, fun _ _ _ _ => rfl⟩
  · exact ⟨fun v hv => zz_un (by omega), hD p hp⟩
theorem zz_AD_ech (h : zz_AD L D q W r L' D') {p : Nat} (ec : zz_ech L D p) : zz_ech L' D' p := by
  by_cases hp : p = q
  · rcases h with ⟨_, rfl, rfl, h⟩ | ⟨_, h, _⟩
    · exact ec
    · rw [hp]; exact h
  · exact zz_ech_cg (zz_AD_far h hp).1 (zz_AD_far h hp).2 ec
theorem zz_PI_AD (I : zz_PI n E Q G K B L D) (hq : q < 8) (kq : K q = true) (h : zz_AD L D q W r L' D') (hs : ∀ a b c d, zz_Hd n E Q G q a b c d → a * W 0 + b * W 1 + c * W 2 = 0) : zz_PI n E Q G K B L' D' := by
  obtain ⟨i1, i2, i3, i4, i5⟩ := I
  refine ⟨fun p hp => zz_AD_ech h (i1 p hp), fun p hp kp v hv => ?_, i3, i4, fun p hp a b c d hh kp => ?_⟩
  · have ne : p ≠ q := fun e => by rw [e, kq] at kp; cases kp
    rw [(zz_AD_far h ne).1 v hv]
    exact i2 p hp kp v hv
  · obtain ⟨h1, h2⟩ := i5 p hp a b c d hh kp
    refine ⟨h1, ?_⟩
    by_cases e : p = q
    · rw [e] at hh h2 ⊢
      exact (zz_AD_ann h a b c).mpr ⟨h2, hs a b c d hh⟩
    · exact (zz_ann_cg (zz_AD_far h e).1 (zz_AD_far h e).2 a b c).mpr h2
theorem zz_PI_new (I : zz_PI n E Q G K B L D) (hq : q < 8) (kq : K q = false) (hs : ∀ a b c d, zz_Hd n E Q G q a b c d → a * W 0 + b * W 1 + c * W 2 = d) : zz_PI n E Q G (zz_u K q true) (zz_put B (q * 3) (W 0) (W 1) (W 2)) L D := by
  obtain ⟨i1, i2, i3, i4, i5⟩ := I
  have q0 : q ≠ 0 := fun e => by rw [e, i3] at kq; cases kq
  refine ⟨i1, fun p hp kp v hv => ?_, ?_, ?_, fun p hp a b c d hh kp => ?_⟩
  · by_cases e : p = q
    · rw [e, zz_us] at kp; cases kp
    · rw [zz_un e] at kp
      exact i2 p hp kp v hv
  · rw [zz_un (Ne.symm q0)]; exact i3
  · rw [zz_pn (by omega), zz_pn (by omega), zz_pn (by omega)]; exact i4
  · by_cases e : p = q
    · rw [e] at hh ⊢
      rw [zz_p0, zz_p1, zz_p2]
      exact ⟨hs a b c d hh, fun v hv l => by rw [i2 q hq kq v hv] at l; cases l⟩
    · rw [zz_un e] at kp
      rw [zz_pn (by omega), zz_pn (by omega), zz_pn (by omega)]
      exact i5 p hp a b c d hh kp
end
def zz_cb (f : Nat → Bool) : Nat → Nat
  | 0 => 0
  | n + 1 => zz_cb f n + cond (f n) 1 0
theorem zz_cb_le (f : Nat → Bool) : ∀ n, zz_cb f n ≤ n := by
  intro n
  induction n with
  | zero => exact Nat.le_refl 0
  | succ n ih =>
    show zz_cb f n + cond (f n) 1 0 ≤ n + 1
    cases f n
    · show zz_cb f n + 0 ≤ n + 1
      omega
    · show zz_cb f n + 1 ≤ n + 1
      omega
theorem zz_cb_cg {f g : Nat → Bool} : ∀ n, (∀ j, j < n → f j = g j) → zz_cb f n = zz_cb g n := by
  intro n
  induction n with
  | zero => intro _; rfl
  | succ n ih =>
    intro h
    show zz_cb f n + cond (f n) 1 0 = zz_cb g n + cond (g n) 1 0
    rw [ih (fun j hj => h j (by omega)), h n (by omega)]
theorem zz_cb_u {f : Nat → Bool} {j : Nat} (hj : f j = false) : ∀ n, j < n → zz_cb (zz_u f j true) n = zz_cb f n + 1 := by
  intro n
  induction n with
  | zero => intro h; omega
  | succ n ih =>
    intro h
    show zz_cb (zz_u f j true) n + cond (zz_u f j true n) 1 0 = zz_cb f n + cond (f n) 1 0 + 1
    by_cases e : j = n
    · subst e
      rw [zz_us, hj, zz_cb_cg j (fun i hi => zz_un (by omega))]
      rfl
    · rw [ih (by omega), zz_un (by omega)]
      omega
def zz_mu (K L : Nat → Bool) : Nat := zz_cb K 8 + zz_cb L 24
theorem zz_mu_le (K L : Nat → Bool) : zz_mu K L ≤ 32 := by
  have h1 := zz_cb_le K 8
  have h2 := zz_cb_le L 24
  unfold zz_mu
  omega
theorem zz_mu_AD {K L L' : Nat → Bool} {D D' W : Nat → Fin 7} {q : Nat} {r : Bool} (hq : q < 8) (h : zz_AD L D q W r L' D') : (r = false ∧ L' = L ∧ D' = D) ∨ (r = true ∧ zz_mu K L' = zz_mu K L + 1) := by
  rcases h with ⟨e, e1, e2, h⟩ | ⟨e, _, _, ⟨f, hf, hl, rfl⟩, hD⟩
  · exact Or.inl ⟨e, e1, e2⟩
  · refine Or.inr ⟨e, ?_⟩
    unfold zz_mu
    rw [zz_cb_u hl 24 (by omega)]
    omega
theorem zz_mu_new {K L : Nat → Bool} {q : Nat} (hq : q < 8) (kq : K q = false) : zz_mu (zz_u K q true) L = zz_mu K L + 1 := by
  unfold zz_mu
  rw [zz_cb_u kq 8 hq]
  omega
end
section
/-! the small functions of X -/
def zx_rm (e : Int32) : Int32 := e - e / 7 * 7
theorem zx_modT : ∀ w x d : Fin 7, (0 ≤ zx_rm (zz_i w - zz_i x * zz_i d) ∧ zx_rm (zz_i w - zz_i x * zz_i d) = zz_i (w - x * d)) ∨ (¬ 0 ≤ zx_rm (zz_i w - zz_i x * zz_i d) ∧ zx_rm (zz_i w - zz_i x * zz_i d) + 7 = zz_i (w - x * d)) := by decide +kernel
theorem zx_mod1T : ∀ w d : Fin 7, (0 ≤ zx_rm (zz_i w - zz_i d) ∧ zx_rm (zz_i w - zz_i d) = zz_i (w - d)) ∨ (¬ 0 ≤ zx_rm (zz_i w - zz_i d) ∧ zx_rm (zz_i w - zz_i d) + 7 = zz_i (w - d)) := by decide +kernel
theorem zx_mulT : ∀ w d : Fin 7, zx_rm (zz_i w * zz_i d) = zz_i (w * d) := by decide +kernel
theorem zx_mod {post : Int32 → Prop} {e : Int32} (w x d : Fin 7) (he : e = zz_i w - zz_i x * zz_i d) (h : post (zz_i (w - x * d))) : wpX_mod post e := by
  subst he
  refine ⟨zz_7, nm_e ?_⟩
  rcases zx_modT w x d with ⟨h1, h2⟩ | ⟨h1, h2⟩
  · exact br_t h1 (by rw [← h2] at h; exact h)
  · exact br_f h1 (by rw [← h2] at h; exact h)
theorem zx_mod1 {post : Int32 → Prop} {e : Int32} (w d : Fin 7) (he : e = zz_i w - zz_i d) (h : post (zz_i (w - d))) : wpX_mod post e := by
  subst he
  refine ⟨zz_7, nm_e ?_⟩
  rcases zx_mod1T w d with ⟨h1, h2⟩ | ⟨h1, h2⟩
  · exact br_t h1 (by rw [← h2] at h; exact h)
  · exact br_f h1 (by rw [← h2] at h; exact h)
theorem zx_dig_l {post : Int32 → Prop} {i : Nat} (hi : i < 2 ^ 31) : ∀ n m j, j ≤ i → i - j < n → m < 2 ^ 31 → post (nI (m / 7 ^ (i - j) % 7)) → wX_digitAt_4 post (nI i) n (nI m) (nI j) := by
  intro n
  induction n with
  | zero => intro m j _ h; omega
  | succ n ih =>
    intro m j hj hn hm hp
    refine pk_le i j (fun h => ⟨zz_7, ?_⟩) (fun h => ⟨zz_7, ?_⟩)
    · have e : i - j = 0 := by omega
      rw [e, Nat.pow_zero, Nat.div_one] at hp
      show post (nI m - nI m / nI 7 * nI 7)
      rw [pk_rem hm (by decide) (by decide)]
      exact hp
    · have e : i - j = (i - (j + 1)) + 1 := by omega
      rw [e, Nat.pow_succ, Nat.mul_comm, ← Nat.div_div_eq_div_mul] at hp
      refine nm_r (e' := nI (m / 7)) (pk_div (d := 7) hm (by decide) (by decide)) (nm_r (e' := nI (j + 1)) (nI_1 j) ?_)
      exact ih (m / 7) (j + 1) (by omega) (by omega) (Nat.lt_of_le_of_lt (Nat.div_le_self m 7) hm) hp
theorem zx_dig {post : Int32 → Prop} (e i : Nat) (hi : i ≤ 3) (he : e < 2401) (h : post (zz_i (zz_d e i))) : wpX_digitAt post (nI e) (nI i) :=
  ⟨i + 1, zx_dig_l (by omega) (i + 1) e 0 (Nat.zero_le i) (by omega) (by omega) h⟩
theorem zx_invT : ∀ x y : Fin 7, x ≠ 0 → (zx_rm (zz_i x * zz_i y) = 1 ↔ y = zz_inv x) := by decide +kernel
theorem zx_inv0 : ∀ x : Fin 7, x ≠ 0 → 1 ≤ (zz_inv x).val := by decide
theorem zx_inv_l {post : Int32 → Prop} {x : Fin 7} (hx : x ≠ 0) (h : post (zz_i (zz_inv x))) : ∀ n y, 1 ≤ y → y ≤ (zz_inv x).val → (zz_inv x).val - y < n → wX_inverse_2 post (zz_i x) n (nI y) := by
  have h7 := (zz_inv x).isLt
  intro n
  induction n with
  | zero => intro y _ _ h; omega
  | succ n ih =>
    intro y h1 hy hn
    refine br_f (nI_ge (b := 7) (by omega) (by decide)) ⟨zz_7, ?_⟩
    have T := zx_invT x ⟨y, by omega⟩ hx
    by_cases e : y = (zz_inv x).val
    · refine br_t (T.mpr (Fin.ext e)) ?_
      rw [e]
      exact h
    · refine br_f (fun z => e (congrArg Fin.val (T.mp z))) (nm_r (e' := nI (y + 1)) (nI_1 y) ?_)
      exact ih (y + 1) (by omega) (by omega) (by omega)
theorem zx_inv {post : Int32 → Prop} {x : Fin 7} (hx : x ≠ 0) (h : post (zz_i (zz_inv x))) : wpX_inverse post (zz_i x) :=
  ⟨7, zx_inv_l hx h 7 1 (Nat.le_refl 1) (zx_inv0 x hx) (by have := (zz_inv x).isLt; omega)⟩
theorem zz_fill0 {α : Type} (Wp : Nat → Nat → (Nat → α) → Prop) (g : Nat → α → α) (A : Nat → α) (Kt : (Nat → α) → Prop)
    (hk : Kt (zz_put A 0 (g 0 (A 0)) (g 1 (A 1)) (g 2 (A 2))))
    (hx : ∀ n A', Kt A' → Wp (n + 1) 3 A')
    (hs : ∀ n i A', i < 3 → Wp n (i + 1) (zz_u A' i (g i (A' i))) → Wp (n + 1) i A') : ∃ n, Wp n 0 A :=
  zz_fill Wp 0 g A Kt hk hx (fun n i A' hi h => hs n i A' hi (by rw [Nat.zero_add] at h; exact h))
theorem zz_nm1 : ∀ f, f < 3 → ¬ nI f = -1 := zz_lt3 (by decide) (by decide) (by decide)
theorem zz_33 : (3 : Int32) ≤ nI 3 := by decide
theorem zz_n3 {i : Nat} (h : i < 3) : ¬ (3 : Int32) ≤ nI i := nI_ge (b := 3) h (by decide)
theorem zz_in3 {i : Nat} (h : i < 3) : vp_in (nI i) 3 := vp_in_nI h (by decide)
theorem zz_in24 {p v : Nat} (hp : p < 8) (h : v < 3) : vp_in (nI p * 3 + nI v) 24 := pk_in (p * 3 + v) 24 (by omega) (zz_i1 p v)
theorem zz_in72 {p v i : Nat} (hp : p < 8) (h : v < 3) (hi : i < 3) : vp_in ((nI p * 3 + nI v) * 3 + nI i) 72 := pk_in ((p * 3 + v) * 3 + i) 72 (by omega) (zz_i2 p v i)
end
section
/-! reduce and addDirection of X -/
section
variable {fs fr : Int32} {xf xt xk xg xm : Nat → Int32} {K L : Nat → Bool} {B D : Nat → Fin 7}
theorem zx_red38 {post : Int32 → SX → Prop} {J : Int32 → Int32 → (Nat → Int32) → (Nat → Int32) → (Nat → Int32) → (Nat → Int32) → (Nat → Int32) → (Nat → Int32) → (Nat → Int32) → (Nat → Int32) → (Nat → Int32) → (Nat → Int32) → Prop} {p v : Nat} {x : Fin 7} {x2 : Int32} {W : Nat → Fin 7} (hp : p < 8) (hv : v < 3)
    (h : J x2 (nI (v + 1)) xf xt xk xg xm (zz_k K) (zz_v B) (zz_k L) (zz_v D) (zz_v (zz_put W 0 (W 0 - x * D ((p * 3 + v) * 3)) (W 1 - x * D ((p * 3 + v) * 3 + 1)) (W 2 - x * D ((p * 3 + v) * 3 + 2))))) : ∃ n, wX_reduce_38 post J (nI p) x2 (nI v) (zz_i x) fs fr n 0 xf xt xk xg xm (zz_k K) (zz_v B) (zz_k L) (zz_v D) (zz_v W) :=
  zz_fill0 (fun n i W => wX_reduce_38 post J (nI p) x2 (nI v) (zz_i x) fs fr n (nI i) xf xt xk xg xm (zz_k K) (zz_v B) (zz_k L) (zz_v D) (zz_v W)) (fun i w => w - x * D ((p * 3 + v) * 3 + i)) W (fun W => J x2 (nI (v + 1)) xf xt xk xg xm (zz_k K) (zz_v B) (zz_k L) (zz_v D) (zz_v W)) h
    (fun n W' hW => br_t zz_33 (nm_r (nI_1 v) hW))
    (fun n i W' hi hW => br_f (zz_n3 hi) ⟨zz_in3 hi, zz_in72 hp hv hi, zx_mod (W' i) x (D ((p * 3 + v) * 3 + i)) (by rw [zz_v_at i rfl (by omega), zz_v_at _ (zz_i2 p v i) (by omega)])
      ⟨zz_in3 hi, nm_r (zz_v_u i _ rfl rfl (by omega)) (nm_r (nI_1 i) hW)⟩⟩)
theorem zx_red4 {post : Int32 → SX → Prop} {p : Nat} {V : Nat → Fin 7} (hp : p < 8) (ec : zz_ech L D p) (hk : ∀ r W, zz_ri L D p V 3 r W → post r (fs, fr, xf, xt, xk, xg, xm, zz_k K, zz_v B, zz_k L, zz_v D, zz_v W)) :
    ∀ d v r W, v + d = 3 → zz_ri L D p V v r W → wX_reduce_4 post (nI p) fs fr (d + 1) r (nI v) xf xt xk xg xm (zz_k K) (zz_v B) (zz_k L) (zz_v D) (zz_v W) := by
  intro d
  induction d with
  | zero =>
    intro v r W hv ri
    have e : v = 3 := by omega
    subst e
    exact br_t zz_33 (hk r W ri)
  | succ d ih =>
    intro v r W hv ri
    have v3 : v < 3 := by omega
    refine br_f (zz_n3 v3) ⟨zz_in3 v3, nm_r (e' := zz_i (W v)) (zz_v_at v rfl (by omega)) ?_⟩
    refine zz_iz (W v) rfl (fun z => ?_) (fun nz => ⟨zz_in24 hp v3, zz_bz (L (p * 3 + v)) (zz_k_at _ (zz_i1 p v) (by omega)) (fun l => ?_) (fun l => ?_)⟩)
    · exact zz_iz (W v) rfl (fun _ => nm_r (nI_1 v) (ih (v + 1) r W (by omega) (zz_ri_z ri z))) (fun h => absurd z h)
    · refine zz_iz (W v) rfl (fun h => absurd h nz) (fun _ => ?_)
      rcases ri.2.2 with ⟨rfl, _⟩ | ⟨f, hf, rfl, _⟩
      · exact br_f (by decide) (nm_r (nI_1 v) (ih (v + 1) _ W (by omega) (zz_ri_f ri v3 zz_nm1 l nz)))
      · exact br_t (nI_pos' (by omega)) (nm_r (nI_1 v) (ih (v + 1) _ W (by omega) (zz_ri_k ri (zz_nm1 f (by omega)) l)))
    · exact zx_red38 hp v3 (ih (v + 1) r _ (by omega) (zz_ri_l ri v3 ec l))
theorem zx_reduce {post : Int32 → SX → Prop} {p : Nat} {W : Nat → Fin 7} (hp : p < 8) (ec : zz_ech L D p) (hk : ∀ r W', zz_ri L D p W 3 r W' → post r (fs, fr, xf, xt, xk, xg, xm, zz_k K, zz_v B, zz_k L, zz_v D, zz_v W')) : wpX_reduce post (fs, fr, xf, xt, xk, xg, xm, zz_k K, zz_v B, zz_k L, zz_v D, zz_v W) (nI p) :=
  ⟨4, zx_red4 hp ec hk 3 0 (-1) W rfl (zz_ri0 L D p W)⟩
theorem zx_ad36 {post : Int32 → SX → Prop} {p f : Nat} {y : Fin 7} {W : Nat → Fin 7} (hp : p < 8) (hf : f < 3)
    (h : post 1 (fs, fr, xf, xt, xk, xg, xm, zz_k K, zz_v B, zz_k L, zz_v (zz_put D ((p * 3 + f) * 3) (W 0 * y) (W 1 * y) (W 2 * y)), zz_v W)) : ∃ n, wX_addDirection_36 post (nI p) (nI f) (zz_i y) fs fr n 0 xf xt xk xg xm (zz_k K) (zz_v B) (zz_k L) (zz_v D) (zz_v W) :=
  zz_fill (fun n i D => wX_addDirection_36 post (nI p) (nI f) (zz_i y) fs fr n (nI i) xf xt xk xg xm (zz_k K) (zz_v B) (zz_k L) (zz_v D) (zz_v W)) ((p * 3 + f) * 3) (fun i _ => W i * y) D (fun D => post 1 (fs, fr, xf, xt, xk, xg, xm, zz_k K, zz_v B, zz_k L, zz_v D, zz_v W)) h
    (fun n D' hD => br_t zz_33 hD)
    (fun n i D' hi hD => br_f (zz_n3 hi) ⟨zz_in3 hi, zz_7, zz_in72 hp hf hi, nm_r (zz_v_u ((p * 3 + f) * 3 + i) (W i * y) (zz_i2 p f i) (by rw [zz_v_at i rfl (by omega)]; exact zx_mulT _ _) (by omega)) (nm_r (nI_1 i) hD)⟩)
theorem zx_addDir {post : Int32 → SX → Prop} {p : Nat} {W : Nat → Fin 7} (hp : p < 8) (ec : zz_ech L D p) (hk : ∀ r L' D' W', zz_AD L D p W r L' D' → post (zz_b r) (fs, fr, xf, xt, xk, xg, xm, zz_k K, zz_v B, zz_k L', zz_v D', zz_v W')) : wpX_addDirection post (fs, fr, xf, xt, xk, xg, xm, zz_k K, zz_v B, zz_k L, zz_v D, zz_v W) (nI p) := by
  unfold wpX_addDirection
  refine zx_reduce hp ec fun r W' ri => ?_
  obtain ⟨h1, h2, h3⟩ := ri
  rcases h3 with ⟨rfl, h3⟩ | ⟨f, hf, rfl, hl, hw, h3⟩
  · refine br_f (by decide) (hk false L D W' (Or.inl ⟨rfl, rfl, rfl, fun a b c ha => ?_⟩))
    rw [← h1 a b c ha, h3 0 (by omega), h3 1 (by omega), h3 2 (by omega)]
    grind
  · refine br_t (nI_pos' (by omega)) ⟨zz_in3 hf, ?_⟩
    rw [zz_v_at f rfl (by omega)]
    refine zx_inv hw ⟨zz_in24 hp hf, nm_r (zz_k_u (p * 3 + f) true (zz_i1 p f) zz_b1 (by omega)) ?_⟩
    exact zx_ad36 hp hf (hk true _ _ W' (zz_AD_of ec hf hl hw h3 h1))
end
end
section
/-! mapBase, mapDirection, joinBase, joinUnknown of X -/
def zz_kd (k : Nat) : Nat := if k < 3 then 0 else if k < 6 then 1 else 2
def zz_tg (k : Nat) : Nat := if k < 3 then k else if k < 6 then k - 3 else 0
theorem zz_kd0 {k : Nat} (h : k < 3) : zz_kd k = 0 := if_pos h
theorem zz_tg0 {k : Nat} (h : k < 3) : zz_tg k = k := if_pos h
theorem zz_kd1 {k : Nat} (h : ¬ k < 3) (h6 : k < 6) : zz_kd k = 1 := by unfold zz_kd; rw [if_neg h, if_pos h6]
theorem zz_tg1 {k : Nat} (h : ¬ k < 3) (h6 : k < 6) : zz_tg k = k - 3 := by unfold zz_tg; rw [if_neg h, if_pos h6]
theorem zz_kdn {k : Nat} (h : ¬ k < 3) : zz_kd k = 1 ∨ zz_kd k = 2 := by
  unfold zz_kd
  rw [if_neg h]
  by_cases h6 : k < 6
  · rw [if_pos h6]; exact Or.inl rfl
  · rw [if_neg h6]; exact Or.inr rfl
theorem zz_i4 (s i : Nat) : nI s * 4 + nI i = nI (s * 4 + i) := by
  rw [show (4 : Int32) = nI 4 from rfl, pk_mul, nI_add]
theorem zz_valN (g : Nat) (x y z : Fin 7) : ((zz_d g 3).val + (zz_d g 0).val * x.val + (zz_d g 1).val * y.val + (zz_d g 2).val * z.val) % 7 = (zz_val g x y z).val := by
  unfold zz_val
  rw [Fin.val_add, Fin.val_add, Fin.val_add, Fin.val_mul, Fin.val_mul, Fin.val_mul]
  omega
theorem zz_linN (g : Nat) (x y z : Fin 7) : (0 + (zz_d g 0).val * x.val + (zz_d g 1).val * y.val + (zz_d g 2).val * z.val) % 7 = (zz_lin g x y z).val := by
  unfold zz_lin
  rw [Fin.val_add, Fin.val_add, Fin.val_mul, Fin.val_mul, Fin.val_mul]
  omega
theorem zz_mulb (x y : Fin 7) : x.val * y.val ≤ 36 := by
  have h := Nat.mul_le_mul (Nat.le_of_lt_succ x.isLt) (Nat.le_of_lt_succ y.isLt)
  exact h
section
variable {fs fr : Int32} {xf xt xk xg xm : Nat → Int32} {K L : Nat → Bool} {B D W : Nat → Fin 7}
theorem zx_mb60 {post : SX → Prop} {s f k g : Nat} (hs : s < 12) (hf : f < 8) (hk : k < 3) (e3 : xg s = nI k) (e4 : ∀ i, i < 4 → xm (s * 4 + i) = zz_i (zz_d g i))
    (h : post (fs, fr, xf, xt, xk, xg, xm, zz_k K, zz_v B, zz_k L, zz_v D, zz_v (zz_u W k (zz_val g (B (f * 3)) (B (f * 3 + 1)) (B (f * 3 + 2)))))) : ∃ n, wX_mapBase_60 post (nI s) (nI f) fs fr xf xt xk xg xm (zz_k K) (zz_v B) (zz_k L) (zz_v D) (zz_v W) n (zz_i (zz_d g 3)) 0 := by
  refine zz_sum3 (fun n i t => wX_mapBase_60 post (nI s) (nI f) fs fr xf xt xk xg xm (zz_k K) (zz_v B) (zz_k L) (zz_v D) (zz_v W) n (nI t) (nI i)) (fun i => (zz_d g i).val * (B (f * 3 + i)).val) (zz_d g 3).val (fun n => ?_) (fun n i t hi ht => ?_)
  · have et : xg (nI s).toNatClampNeg = nI k := by rw [nI_clamp (by omega)]; exact e3
    refine br_t zz_33 ⟨vp_in_nI hs (by decide), zz_7, ?_, nm_r (zz_v_u k (zz_val g (B (f * 3)) (B (f * 3 + 1)) (B (f * 3 + 2))) et ?_ (by omega)) h⟩
    · rw [et]; exact zz_in3 hk
    · have b0 := zz_mulb (zz_d g 0) (B (f * 3))
      have b1 := zz_mulb (zz_d g 1) (B (f * 3 + 1))
      have b2 := zz_mulb (zz_d g 2) (B (f * 3 + 2))
      have b3 := (zz_d g 3).isLt
      have e := pk_rem (a := (zz_d g 3).val + (zz_d g 0).val * (B (f * 3 + 0)).val + (zz_d g 1).val * (B (f * 3 + 1)).val + (zz_d g 2).val * (B (f * 3 + 2)).val) (d := 7) (by rw [Nat.add_zero]; omega) (by decide) (by decide)
      exact e.trans (congrArg nI (zz_valN g _ _ _))
  · refine br_f (zz_n3 hi) ⟨pk_in (s * 4 + i) 48 (by omega) (zz_i4 s i), zz_in24 hf hi, nm_r (e' := nI (t + (zz_d g i).val * (B (f * 3 + i)).val)) ?_ (nm_r (nI_1 i) ht)⟩
    rw [zz_i4, nI_clamp (by omega), e4 i (by omega), zz_v_at _ (zz_i1 f i) (by omega)]
    unfold zz_i
    rw [pk_mul, nI_add]
theorem zx_mapBase {post : SX → Prop} {s f k g : Nat} (hs : s < 12) (hf : f < 8) (e1 : xf s = nI f) (e2 : xk s = nI (zz_kd k)) (e3 : xg s = nI (zz_tg k)) (e4 : k < 3 → ∀ i, i < 4 → xm (s * 4 + i) = zz_i (zz_d g i))
    (h : ∀ W' : Nat → Fin 7, W' 0 = zz_t k 0 (zz_val g (B (f * 3)) (B (f * 3 + 1)) (B (f * 3 + 2))) (B (f * 3)) → W' 1 = zz_t k 1 (zz_val g (B (f * 3)) (B (f * 3 + 1)) (B (f * 3 + 2))) (B (f * 3 + 1)) → W' 2 = zz_t k 2 (zz_val g (B (f * 3)) (B (f * 3 + 1)) (B (f * 3 + 2))) (B (f * 3 + 2)) → post (fs, fr, xf, xt, xk, xg, xm, zz_k K, zz_v B, zz_k L, zz_v D, zz_v W')) : wpX_mapBase post (fs, fr, xf, xt, xk, xg, xm, zz_k K, zz_v B, zz_k L, zz_v D, zz_v W) (nI s) := by
  refine ⟨vp_in_nI hs (by decide), nm_r (e' := nI f) (by rw [nI_clamp (by omega)]; exact e1) ?_⟩
  refine zz_fill0 (fun n i W => wX_mapBase_9 post (nI s) (nI f) fs fr n (nI i) xf xt xk xg xm (zz_k K) (zz_v B) (zz_k L) (zz_v D) (zz_v W)) (fun i _ => B (f * 3 + i)) W (fun W' => W' = zz_put W 0 (B (f * 3 + 0)) (B (f * 3 + 1)) (B (f * 3 + 2))) rfl (fun n W' hW => ?_) (fun n i W' hi hW => ?_)
  · subst hW
    refine br_t zz_33 ⟨vp_in_nI hs (by decide), ?_⟩
    have ek : xk (nI s).toNatClampNeg = nI (zz_kd k) := by rw [nI_clamp (by omega)]; exact e2
    rw [ek]
    by_cases hk : k < 3
    · rw [zz_kd0 hk]
      refine br_t rfl ⟨pk_in (s * 4 + 3) 48 (by omega) (zz_i4 s 3), nm_r (e' := zz_i (zz_d g 3)) ?_ ?_⟩
      · rw [show (3 : Int32) = nI 3 from rfl, zz_i4, nI_clamp (by omega)]
        exact e4 hk 3 (by omega)
      · rw [zz_tg0 hk] at e3
        refine zx_mb60 hs hf hk e3 (e4 hk) (h _ ?_ ?_ ?_)
        · rw [zz_ts hk]; rfl
        · rw [zz_ts hk]; rfl
        · rw [zz_ts hk]; rfl
    · refine br_f ?_ (h _ ?_ ?_ ?_)
      · rcases zz_kdn hk with e | e <;> rw [e] <;> decide
      · rw [zz_ti hk]; rfl
      · rw [zz_ti hk]; rfl
      · rw [zz_ti hk]; rfl
  · exact br_f (zz_n3 hi) ⟨zz_in24 hf hi, zz_in3 hi, nm_r (zz_v_u i (B (f * 3 + i)) rfl (zz_v_at _ (zz_i1 f i) (by omega)) (by omega)) (nm_r (nI_1 i) hW)⟩
theorem zx_md60 {post : SX → Prop} {s o k g : Nat} (hs : s < 12) (ho : o < 70) (hk : k < 3) (e3 : xg s = nI k) (e4 : ∀ i, i < 4 → xm (s * 4 + i) = zz_i (zz_d g i))
    (h : post (fs, fr, xf, xt, xk, xg, xm, zz_k K, zz_v B, zz_k L, zz_v D, zz_v (zz_u W k (zz_lin g (D o) (D (o + 1)) (D (o + 2)))))) : ∃ n, wX_mapDirection_60 post (nI s) (nI o) fs fr xf xt xk xg xm (zz_k K) (zz_v B) (zz_k L) (zz_v D) (zz_v W) n 0 0 := by
  refine zz_sum3 (fun n i t => wX_mapDirection_60 post (nI s) (nI o) fs fr xf xt xk xg xm (zz_k K) (zz_v B) (zz_k L) (zz_v D) (zz_v W) n (nI t) (nI i)) (fun i => (zz_d g i).val * (D (o + i)).val) 0 (fun n => ?_) (fun n i t hi ht => ?_)
  · have et : xg (nI s).toNatClampNeg = nI k := by rw [nI_clamp (by omega)]; exact e3
    refine br_t zz_33 ⟨vp_in_nI hs (by decide), zz_7, ?_, nm_r (zz_v_u k (zz_lin g (D o) (D (o + 1)) (D (o + 2))) et ?_ (by omega)) h⟩
    · rw [et]; exact zz_in3 hk
    · have b0 := zz_mulb (zz_d g 0) (D o)
      have b1 := zz_mulb (zz_d g 1) (D (o + 1))
      have b2 := zz_mulb (zz_d g 2) (D (o + 2))
      have e := pk_rem (a := 0 + (zz_d g 0).val * (D (o + 0)).val + (zz_d g 1).val * (D (o + 1)).val + (zz_d g 2).val * (D (o + 2)).val) (d := 7) (by rw [Nat.add_zero]; omega) (by decide) (by decide)
      exact e.trans (congrArg nI (zz_linN g _ _ _))
  · refine br_f (zz_n3 hi) ⟨pk_in (s * 4 + i) 48 (by omega) (zz_i4 s i), pk_in (o + i) 72 (by omega) (nI_add o i), nm_r (e' := nI (t + (zz_d g i).val * (D (o + i)).val)) ?_ (nm_r (nI_1 i) ht)⟩
    rw [zz_i4, nI_clamp (by omega), e4 i (by omega), zz_v_at _ (nI_add o i) (by omega)]
    unfold zz_i
    rw [pk_mul, nI_add]
theorem zx_mapDir {post : SX → Prop} {s f v k g : Nat} (hs : s < 12) (hf : f < 8) (hv : v < 3) (e1 : xf s = nI f) (e2 : xk s = nI (zz_kd k)) (e3 : xg s = nI (zz_tg k)) (e4 : k < 3 → ∀ i, i < 4 → xm (s * 4 + i) = zz_i (zz_d g i))
    (h : ∀ W' : Nat → Fin 7, W' 0 = zz_t k 0 (zz_lin g (D ((f * 3 + v) * 3)) (D ((f * 3 + v) * 3 + 1)) (D ((f * 3 + v) * 3 + 2))) (D ((f * 3 + v) * 3)) → W' 1 = zz_t k 1 (zz_lin g (D ((f * 3 + v) * 3)) (D ((f * 3 + v) * 3 + 1)) (D ((f * 3 + v) * 3 + 2))) (D ((f * 3 + v) * 3 + 1)) → W' 2 = zz_t k 2 (zz_lin g (D ((f * 3 + v) * 3)) (D ((f * 3 + v) * 3 + 1)) (D ((f * 3 + v) * 3 + 2))) (D ((f * 3 + v) * 3 + 2)) → post (fs, fr, xf, xt, xk, xg, xm, zz_k K, zz_v B, zz_k L, zz_v D, zz_v W')) : wpX_mapDirection post (fs, fr, xf, xt, xk, xg, xm, zz_k K, zz_v B, zz_k L, zz_v D, zz_v W) (nI s) (nI v) := by
  refine ⟨vp_in_nI hs (by decide), nm_r (e' := nI ((f * 3 + v) * 3)) (by rw [nI_clamp (by omega), e1, zz_i1]; exact pk_mul (f * 3 + v) 3) ?_⟩
  have ho : (f * 3 + v) * 3 < 70 := by omega
  generalize (f * 3 + v) * 3 = o at h ho
  refine zz_fill0 (fun n i W => wX_mapDirection_16 post (nI s) (nI o) fs fr n (nI i) xf xt xk xg xm (zz_k K) (zz_v B) (zz_k L) (zz_v D) (zz_v W)) (fun i _ => D (o + i)) W (fun W' => W' = zz_put W 0 (D (o + 0)) (D (o + 1)) (D (o + 2))) rfl (fun n W' hW => ?_) (fun n i W' hi hW => ?_)
  · subst hW
    refine br_t zz_33 ⟨vp_in_nI hs (by decide), ?_⟩
    have ek : xk (nI s).toNatClampNeg = nI (zz_kd k) := by rw [nI_clamp (by omega)]; exact e2
    rw [ek]
    by_cases hk : k < 3
    · rw [zz_kd0 hk]
      refine br_t rfl ?_
      rw [zz_tg0 hk] at e3
      refine zx_md60 hs ho hk e3 (e4 hk) (h _ ?_ ?_ ?_)
      · rw [zz_ts hk]; rfl
      · rw [zz_ts hk]; rfl
      · rw [zz_ts hk]; rfl
    · refine br_f ?_ (h _ ?_ ?_ ?_)
      · rcases zz_kdn hk with e | e <;> rw [e] <;> decide
      · rw [zz_ti hk]; rfl
      · rw [zz_ti hk]; rfl
      · rw [zz_ti hk]; rfl
  · exact br_f (zz_n3 hi) ⟨pk_in (o + i) 72 (by omega) (nI_add o i), zz_in3 hi, nm_r (zz_v_u i (D (o + i)) rfl (zz_v_at _ (nI_add o i) (by omega)) (by omega)) (nm_r (nI_1 i) hW)⟩
theorem zx_jb30 {post : Int32 → SX → Prop} {q : Nat} (hq : q < 8) (h : post 1 (fs, fr, xf, xt, xk, xg, xm, zz_k K, zz_v (zz_put B (q * 3) (W 0) (W 1) (W 2)), zz_k L, zz_v D, zz_v W)) : ∃ n, wX_joinBase_30 post (nI q) fs fr n 0 xf xt xk xg xm (zz_k K) (zz_v B) (zz_k L) (zz_v D) (zz_v W) :=
  zz_fill (fun n i B => wX_joinBase_30 post (nI q) fs fr n (nI i) xf xt xk xg xm (zz_k K) (zz_v B) (zz_k L) (zz_v D) (zz_v W)) (q * 3) (fun i _ => W i) B (fun B => post 1 (fs, fr, xf, xt, xk, xg, xm, zz_k K, zz_v B, zz_k L, zz_v D, zz_v W)) h
    (fun n B' hB => br_t zz_33 hB)
    (fun n i B' hi hB => br_f (zz_n3 hi) ⟨zz_in3 hi, zz_in24 hq hi, nm_r (zz_v_u (q * 3 + i) (W i) (zz_i1 q i) (zz_v_at i rfl (by omega)) (by omega)) (nm_r (nI_1 i) hB)⟩)
theorem zx_jb61 {post : Int32 → SX → Prop} {q : Nat} (hq : q < 8) (ec : zz_ech L D q) (h : ∀ r L' D' W', zz_AD L D q (zz_put W 0 (W 0 - B (q * 3)) (W 1 - B (q * 3 + 1)) (W 2 - B (q * 3 + 2))) r L' D' → post (zz_b r) (fs, fr, xf, xt, xk, xg, xm, zz_k K, zz_v B, zz_k L', zz_v D', zz_v W')) : ∃ n, wX_joinBase_61 post (nI q) fs fr n 0 xf xt xk xg xm (zz_k K) (zz_v B) (zz_k L) (zz_v D) (zz_v W) :=
  zz_fill0 (fun n i W => wX_joinBase_61 post (nI q) fs fr n (nI i) xf xt xk xg xm (zz_k K) (zz_v B) (zz_k L) (zz_v D) (zz_v W)) (fun i w => w - B (q * 3 + i)) W (fun V => V = zz_put W 0 (W 0 - B (q * 3)) (W 1 - B (q * 3 + 1)) (W 2 - B (q * 3 + 2))) rfl
    (fun n V hV => br_t zz_33 (zx_addDir hq ec fun r L' D' W' ad => ⟨zz_bn r, h r L' D' W' (by rw [hV] at ad; exact ad)⟩))
    (fun n i V hi hV => br_f (zz_n3 hi) ⟨zz_in3 hi, zz_in24 hq hi, zx_mod1 (V i) (B (q * 3 + i)) (by rw [zz_v_at i rfl (by omega), zz_v_at _ (zz_i1 q i) (by omega)])
      ⟨zz_in3 hi, nm_r (zz_v_u i _ rfl rfl (by omega)) (nm_r (nI_1 i) hV)⟩⟩)
theorem zx_ju14 {post : Int32 → SX → Prop} {s q j : Nat} (hs : s < 12) (hq : q < 8) (hj : j < 3) (e1 : xt s = nI q) (e3 : xg s = nI j) (ec : zz_ech L D q)
    (h : ∀ r L' D' W', zz_AD L D q (zz_put W 0 (zz_s j 0 1 0) (zz_s j 1 1 0) (zz_s j 2 1 0)) r L' D' → post (zz_b r) (fs, fr, xf, xt, xk, xg, xm, zz_k K, zz_v B, zz_k L', zz_v D', zz_v W')) : ∃ n, wX_joinUnknown_14 post (nI s) fs fr n 0 xf xt xk xg xm (zz_k K) (zz_v B) (zz_k L) (zz_v D) (zz_v W) := by
  have et : xg (nI s).toNatClampNeg = nI j := by rw [nI_clamp (by omega)]; exact e3
  have eq : xt (nI s).toNatClampNeg = nI q := by rw [nI_clamp (by omega)]; exact e1
  refine zz_fill0 (fun n i W => wX_joinUnknown_14 post (nI s) fs fr n (nI i) xf xt xk xg xm (zz_k K) (zz_v B) (zz_k L) (zz_v D) (zz_v W)) (fun i _ => zz_s j i 1 0) W (fun V => V = zz_put W 0 (zz_s j 0 1 0) (zz_s j 1 1 0) (zz_s j 2 1 0)) rfl (fun n V hV => ?_) (fun n i V hi hV => ?_)
  · refine br_t zz_33 ⟨vp_in_nI hs (by decide), ?_⟩
    rw [eq]
    exact zx_addDir hq ec fun r L' D' W' ad => ⟨zz_bn r, h r L' D' W' (by rw [hV] at ad; exact ad)⟩
  · refine br_f (zz_n3 hi) ⟨vp_in_nI hs (by decide), ?_⟩
    rw [et]
    refine pk_eq i j (fun e => ⟨zz_in3 hi, nm_r (zz_v_u i (zz_s j i 1 0) rfl ?_ (by omega)) (nm_r (nI_1 i) hV)⟩) (fun e => ⟨zz_in3 hi, nm_r (zz_v_u i (zz_s j i 1 0) rfl ?_ (by omega)) (nm_r (nI_1 i) hV)⟩)
    · unfold zz_s; rw [if_pos e]; rfl
    · unfold zz_s; rw [if_neg e]; rfl
end
end
section
/-! joinBase, joinUnknown, follow of X over the invariant -/
def zx_D (n : Nat) (E Q G : Nat → Nat) (xf xt xk xg xm : Nat → Int32) : Prop :=
  ∀ s, s < n → E s < 64 ∧ Q s < 7 ∧ G s < 2401 ∧ xf s = nI (E s % 8) ∧ xt s = nI (E s / 8) ∧ xk s = nI (zz_kd (Q s)) ∧ xg s = nI (zz_tg (Q s)) ∧ (Q s < 3 → ∀ i, i < 4 → xm (s * 4 + i) = zz_i (zz_d (G s) i))
/-- the image of the triple lies in the space at the step's end -/
def zz_Ib (k g : Nat) (K : Nat → Bool) (B : Nat → Fin 7) (L : Nat → Bool) (D : Nat → Fin 7) (f q : Nat) : Prop :=
  ∀ a b c d, zz_Ann K B L D q a b c d → a * zz_t k 0 (zz_val g (B (f * 3)) (B (f * 3 + 1)) (B (f * 3 + 2))) (B (f * 3)) + b * zz_t k 1 (zz_val g (B (f * 3)) (B (f * 3 + 1)) (B (f * 3 + 2))) (B (f * 3 + 1)) + c * zz_t k 2 (zz_val g (B (f * 3)) (B (f * 3 + 1)) (B (f * 3 + 2))) (B (f * 3 + 2)) = d
def zz_Iv (k g : Nat) (L : Nat → Bool) (D : Nat → Fin 7) (f q v : Nat) : Prop :=
  L (f * 3 + v) = true → ∀ a b c, zz_ann L D q a b c → a * zz_t k 0 (zz_lin g (D ((f * 3 + v) * 3)) (D ((f * 3 + v) * 3 + 1)) (D ((f * 3 + v) * 3 + 2))) (D ((f * 3 + v) * 3)) + b * zz_t k 1 (zz_lin g (D ((f * 3 + v) * 3)) (D ((f * 3 + v) * 3 + 1)) (D ((f * 3 + v) * 3 + 2))) (D ((f * 3 + v) * 3 + 1)) + c * zz_t k 2 (zz_lin g (D ((f * 3 + v) * 3)) (D ((f * 3 + v) * 3 + 1)) (D ((f * 3 + v) * 3 + 2))) (D ((f * 3 + v) * 3 + 2)) = 0
def zz_Iu (k : Nat) (L : Nat → Bool) (D : Nat → Fin 7) (q : Nat) : Prop :=
  ∀ j, j < 3 → k = j + 3 → ∀ a b c, zz_ann L D q a b c → zz_co j a b c = 0
theorem zz_Cl_of {n : Nat} {E Q G : Nat → Nat} {K : Nat → Bool} {B : Nat → Fin 7} {L : Nat → Bool} {D : Nat → Fin 7} {s : Nat} (kq : K (E s / 8) = true) (hb : zz_Ib (Q s) (G s) K B L D (E s % 8) (E s / 8)) (hv : ∀ v, v < 3 → zz_Iv (Q s) (G s) L D (E s % 8) (E s / 8) v) (hu : zz_Iu (Q s) L D (E s / 8)) : zz_Cl n E Q G K B L D s :=
  fun _ => ⟨kq, fun a b c d h => ⟨hb a b c d h, fun v v3 l => hv v v3 l a b c (h kq).2, fun j j3 e => hu j j3 e a b c (h kq).2⟩⟩
theorem zz_unit {j : Nat} (hj : j < 3) (a b c : Fin 7) : a * zz_s j 0 1 0 + b * zz_s j 1 1 0 + c * zz_s j 2 1 0 = zz_co j a b c := by
  have hh : j = 0 ∨ j = 1 ∨ j = 2 := by omega
  rcases hh with rfl | rfl | rfl <;> simp +decide only [zz_s, zz_co, reduceIte] <;> grind
theorem zz_g4 {a b c d x y z u v w : Fin 7} (h1 : a * x + b * y + c * z = d) (h2 : a * u + b * v + c * w = d) : a * (x - u) + b * (y - v) + c * (z - w) = 0 := by grind
theorem zz_g5 {a b c d x y z u v w : Fin 7} (h1 : a * (x - u) + b * (y - v) + c * (z - w) = 0) (h2 : a * u + b * v + c * w = d) : a * x + b * y + c * z = d := by grind
section
variable {n : Nat} {E Q G : Nat → Nat} {fs fr : Int32} {xf xt xk xg xm : Nat → Int32}
theorem zx_joinBase {post : Int32 → SX → Prop} {s : Nat} {K L : Nat → Bool} {B D W : Nat → Fin 7} (n12 : n ≤ 12) (hD : zx_D n E Q G xf xt xk xg xm) (hs : s < n) (I : zz_PI n E Q G K B L D) (kf : K (E s % 8) = true)
    (hk : ∀ r K' B' L' D' W', zz_PI n E Q G K' B' L' D' → K' (E s % 8) = true → K' (E s / 8) = true → ((r = false ∧ K' = K ∧ B' = B ∧ L' = L ∧ D' = D ∧ zz_Ib (Q s) (G s) K B L D (E s % 8) (E s / 8)) ∨ (r = true ∧ zz_mu K L + 1 ≤ zz_mu K' L')) → post (zz_b r) (fs, fr, xf, xt, xk, xg, xm, zz_k K', zz_v B', zz_k L', zz_v D', zz_v W')) : wpX_joinBase post (fs, fr, xf, xt, xk, xg, xm, zz_k K, zz_v B, zz_k L, zz_v D, zz_v W) (nI s) := by
  obtain ⟨d1, d2, d3, e1, e2, e3, e4, e5⟩ := hD s hs
  have hq : E s / 8 < 8 := by omega
  have hf : E s % 8 < 8 := by omega
  have so : ∀ a b c d, zz_Hd n E Q G (E s / 8) a b c d → zz_Im (Q s) (G s) B L D (E s % 8) a b c d := fun a b c d h => zz_sound I.2.2.2.2 hs d2 kf h
  unfold wpX_joinBase
  refine ⟨vp_in_nI (by omega) (by decide), nm_r (e' := nI (E s / 8)) (by rw [nI_clamp (by omega)]; exact e2) ?_⟩
  refine zx_mapBase (by omega) hf e1 e3 e4 e5 fun W' w0 w1 w2 => ?_
  refine ⟨vp_in_nI hq (by decide), zz_bz (K (E s / 8)) (zz_k_at _ rfl (by omega)) (fun kq => ⟨vp_in_nI hq (by decide), nm_r (zz_k_u (E s / 8) true rfl zz_b1 (by omega)) ?_⟩) (fun kq => ?_)⟩
  · refine zx_jb30 hq (hk true _ _ L D W' (zz_PI_new I hq kq fun a b c d h => ?_) ?_ zz_us (Or.inr ⟨rfl, Nat.le_of_eq (zz_mu_new hq kq).symm⟩))
    · rw [w0, w1, w2]
      exact (so a b c d h).1
    · by_cases e : E s % 8 = E s / 8
      · rw [e]; exact zz_us
      · rw [zz_un e]; exact kf
  · refine zx_jb61 hq (I.1 _ hq) fun r L' D' W2 ad => ?_
    have P3 : ∀ a b c : Fin 7, a * zz_put W' 0 (W' 0 - B (E s / 8 * 3)) (W' 1 - B (E s / 8 * 3 + 1)) (W' 2 - B (E s / 8 * 3 + 2)) 0 + b * zz_put W' 0 (W' 0 - B (E s / 8 * 3)) (W' 1 - B (E s / 8 * 3 + 1)) (W' 2 - B (E s / 8 * 3 + 2)) 1 + c * zz_put W' 0 (W' 0 - B (E s / 8 * 3)) (W' 1 - B (E s / 8 * 3 + 1)) (W' 2 - B (E s / 8 * 3 + 2)) 2 = a * (W' 0 - B (E s / 8 * 3)) + b * (W' 1 - B (E s / 8 * 3 + 1)) + c * (W' 2 - B (E s / 8 * 3 + 2)) := fun a b c => rfl
    have I' : zz_PI n E Q G K B L' D' := zz_PI_AD I hq kq ad fun a b c d h => by
      rw [P3, w0, w1, w2]
      exact zz_g4 (so a b c d h).1 (I.2.2.2.2 _ hq a b c d h kq).1
    refine hk r K B L' D' W2 I' kf kq ?_
    rcases zz_mu_AD (K := K) hq ad with ⟨rfl, rfl, rfl⟩ | ⟨rfl, h⟩
    · refine Or.inl ⟨rfl, rfl, rfl, rfl, rfl, fun a b c d h => ?_⟩
      have := ((zz_AD_ann ad a b c).mp (h kq).2).2
      rw [P3, w0, w1, w2] at this
      exact zz_g5 this (h kq).1
    · exact Or.inr ⟨rfl, Nat.le_of_eq h.symm⟩
theorem zx_joinUnknown {post : Int32 → SX → Prop} {s : Nat} {K L : Nat → Bool} {B D W : Nat → Fin 7} (n12 : n ≤ 12) (hD : zx_D n E Q G xf xt xk xg xm) (hs : s < n) (I : zz_PI n E Q G K B L D) (kf : K (E s % 8) = true) (kq : K (E s / 8) = true)
    (hk : ∀ r L' D' W', zz_PI n E Q G K B L' D' → ((r = false ∧ L' = L ∧ D' = D ∧ zz_Iu (Q s) L D (E s / 8)) ∨ (r = true ∧ zz_mu K L + 1 ≤ zz_mu K L')) → post (zz_b r) (fs, fr, xf, xt, xk, xg, xm, zz_k K, zz_v B, zz_k L', zz_v D', zz_v W')) : wpX_joinUnknown post (fs, fr, xf, xt, xk, xg, xm, zz_k K, zz_v B, zz_k L, zz_v D, zz_v W) (nI s) := by
  obtain ⟨d1, d2, d3, e1, e2, e3, e4, e5⟩ := hD s hs
  have hq : E s / 8 < 8 := by omega
  have so : ∀ a b c d, zz_Hd n E Q G (E s / 8) a b c d → zz_Im (Q s) (G s) B L D (E s % 8) a b c d := fun a b c d h => zz_sound I.2.2.2.2 hs d2 kf h
  have ek : xk (nI s).toNatClampNeg = nI (zz_kd (Q s)) := by rw [nI_clamp (by omega)]; exact e3
  unfold wpX_joinUnknown
  refine ⟨vp_in_nI (by omega) (by decide), ?_⟩
  rw [ek]
  by_cases hu : ¬ Q s < 3 ∧ Q s < 6
  · rw [zz_kd1 hu.1 hu.2]
    rw [zz_tg1 hu.1 hu.2] at e4
    have hj : Q s - 3 < 3 := by omega
    refine br_t rfl (zx_ju14 (by omega) hq hj e2 e4 (I.1 _ hq) fun r L' D' W2 ad => ?_)
    have P3 : ∀ a b c : Fin 7, a * zz_put W 0 (zz_s (Q s - 3) 0 1 0) (zz_s (Q s - 3) 1 1 0) (zz_s (Q s - 3) 2 1 0) 0 + b * zz_put W 0 (zz_s (Q s - 3) 0 1 0) (zz_s (Q s - 3) 1 1 0) (zz_s (Q s - 3) 2 1 0) 1 + c * zz_put W 0 (zz_s (Q s - 3) 0 1 0) (zz_s (Q s - 3) 1 1 0) (zz_s (Q s - 3) 2 1 0) 2 = zz_co (Q s - 3) a b c := fun a b c => zz_unit hj a b c
    have I' : zz_PI n E Q G K B L' D' := zz_PI_AD I hq kq ad fun a b c d h => by
      rw [P3]
      exact (so a b c d h).2.2 (Q s - 3) hj (by omega)
    refine hk r L' D' W2 I' ?_
    rcases zz_mu_AD (K := K) hq ad with ⟨rfl, rfl, rfl⟩ | ⟨rfl, h⟩
    · refine Or.inl ⟨rfl, rfl, rfl, fun j j3 e a b c h => ?_⟩
      have := ((zz_AD_ann ad a b c).mp h).2
      rw [P3] at this
      have ej : j = Q s - 3 := by omega
      rw [ej]
      exact this
    · exact Or.inr ⟨rfl, Nat.le_of_eq h.symm⟩
  · refine br_f ?_ (hk false L D W I (Or.inl ⟨rfl, rfl, rfl, fun j j3 e => by omega⟩))
    by_cases h3 : Q s < 3
    · rw [zz_kd0 h3]; decide
    · rcases zz_kdn h3 with e | e
      · exfalso
        have h6 : ¬ Q s < 6 := fun h => hu ⟨h3, h⟩
        unfold zz_kd at e
        rw [if_neg h3, if_neg h6] at e
        cases e
      · rw [e]; decide
/-- the state inside follow: K B L D at its start, K1 .. now -/
def zx_FI (n : Nat) (E Q G : Nat → Nat) (s : Nat) (K : Nat → Bool) (B : Nat → Fin 7) (L : Nat → Bool) (D : Nat → Fin 7) (v : Nat) (g : Bool) (K1 : Nat → Bool) (B1 : Nat → Fin 7) (L1 : Nat → Bool) (D1 : Nat → Fin 7) : Prop :=
  zz_PI n E Q G K1 B1 L1 D1 ∧ K1 (E s % 8) = true ∧ K1 (E s / 8) = true ∧
  ((g = false ∧ K1 = K ∧ B1 = B ∧ L1 = L ∧ D1 = D ∧ zz_Ib (Q s) (G s) K B L D (E s % 8) (E s / 8) ∧ ∀ u, u < v → zz_Iv (Q s) (G s) L D (E s % 8) (E s / 8) u) ∨ (g = true ∧ zz_mu K L + 1 ≤ zz_mu K1 L1))
def zx_FO (n : Nat) (E Q G : Nat → Nat) (s : Nat) (K : Nat → Bool) (B : Nat → Fin 7) (L : Nat → Bool) (D : Nat → Fin 7) (g : Bool) (K1 : Nat → Bool) (B1 : Nat → Fin 7) (L1 : Nat → Bool) (D1 : Nat → Fin 7) : Prop :=
  zz_PI n E Q G K1 B1 L1 D1 ∧ ((g = false ∧ K1 = K ∧ B1 = B ∧ L1 = L ∧ D1 = D ∧ zz_Cl n E Q G K B L D s) ∨ (g = true ∧ zz_mu K L + 1 ≤ zz_mu K1 L1))
theorem zx_fol24 {post : Int32 → SX → Prop} {s : Nat} {K0 L0 : Nat → Bool} {B0 D0 : Nat → Fin 7} (n12 : n ≤ 12) (hD : zx_D n E Q G xf xt xk xg xm) (hs : s < n)
    (hk : ∀ r K B L D W, zx_FO n E Q G s K0 B0 L0 D0 r K B L D → post (zz_b r) (fs, fr, xf, xt, xk, xg, xm, zz_k K, zz_v B, zz_k L, zz_v D, zz_v W)) :
    ∀ d v g K B L D W, v + d = 3 → zx_FI n E Q G s K0 B0 L0 D0 v g K B L D → wX_follow_24 post (nI s) (d + 1) (zz_b g) (nI v) fs fr xf xt xk xg xm (zz_k K) (zz_v B) (zz_k L) (zz_v D) (zz_v W) := by
  obtain ⟨d1, d2, d3, e1, e2, e3, e4, e5⟩ := hD s hs
  have hq : E s / 8 < 8 := by omega
  have hf : E s % 8 < 8 := by omega
  have ef : xf (nI s).toNatClampNeg = nI (E s % 8) := by rw [nI_clamp (by omega)]; exact e1
  have et : xt (nI s).toNatClampNeg = nI (E s / 8) := by rw [nI_clamp (by omega)]; exact e2
  intro d
  induction d with
  | zero =>
    intro v g K B L D W hv ⟨I, kf, kq, hF⟩
    have e : v = 3 := by omega
    subst e
    refine br_t zz_33 (zx_joinUnknown n12 hD hs I kf kq fun r L' D' W' I' hr => ?_)
    refine zz_bz g rfl (fun eg => zz_bz r rfl (fun er => ?_) (fun er => ?_)) (fun eg => ?_)
    · rcases hF with ⟨_, rfl, rfl, rfl, rfl, hb, hv⟩ | ⟨h, _⟩
      · rcases hr with ⟨_, rfl, rfl, hu⟩ | ⟨h, _⟩
        · exact hk false _ _ _ _ _ ⟨I', Or.inl ⟨rfl, rfl, rfl, rfl, rfl, zz_Cl_of kq hb hv hu⟩⟩
        · rw [er] at h; cases h
      · rw [eg] at h; cases h
    · rcases hF with ⟨_, rfl, rfl, rfl, rfl, _⟩ | ⟨h, _⟩
      · rcases hr with ⟨h, _⟩ | ⟨_, h⟩
        · rw [er] at h; cases h
        · exact hk true _ _ _ _ _ ⟨I', Or.inr ⟨rfl, h⟩⟩
      · rw [eg] at h; cases h
    · rcases hF with ⟨h, _⟩ | ⟨_, h⟩
      · rw [eg] at h; cases h
      · refine hk true _ _ _ _ _ ⟨I', Or.inr ⟨rfl, ?_⟩⟩
        rcases hr with ⟨_, rfl, rfl, _⟩ | ⟨_, h2⟩ <;> omega
  | succ d ih =>
    intro v g K B L D W hv ⟨I, kf, kq, hF⟩
    have v3 : v < 3 := by omega
    refine br_f (zz_n3 v3) ⟨vp_in_nI (by omega) (by decide), ?_⟩
    rw [ef]
    refine ⟨zz_in24 hf v3, zz_bz (L (E s % 8 * 3 + v)) (zz_k_at _ (zz_i1 _ v) (by omega)) (fun l => nm_r (nI_1 v) (ih (v + 1) g K B L D W (by omega) ⟨I, kf, kq, ?_⟩)) (fun l => ?_)⟩
    · rcases hF with ⟨h0, rfl, rfl, rfl, rfl, hb, hu⟩ | h
      · refine Or.inl ⟨h0, rfl, rfl, rfl, rfl, hb, fun u hu' => ?_⟩
        by_cases e : u = v
        · rw [e]; intro l'; rw [l] at l'; cases l'
        · exact hu u (by omega)
      · exact Or.inr h
    · refine zx_mapDir (by omega) hf v3 e1 e3 e4 e5 fun W' w0 w1 w2 => ⟨vp_in_nI (by omega) (by decide), ?_⟩
      rw [et]
      refine zx_addDir hq (I.1 _ hq) fun r L' D' W2 ad => ?_
      have I' : zz_PI n E Q G K B L' D' := zz_PI_AD I hq kq ad fun a b c d h => by
        rw [w0, w1, w2]
        exact (zz_sound I.2.2.2.2 hs d2 kf h).2.1 v v3 l
      have hr := zz_mu_AD (K := K) hq ad
      refine zz_bz g rfl (fun eg => zz_bz r rfl (fun er => nm_r (nI_1 v) (ih (v + 1) false K B L' D' W2 (by omega) ⟨I', kf, kq, ?_⟩)) (fun er => nm_r (nI_1 v) (ih (v + 1) true K B L' D' W2 (by omega) ⟨I', kf, kq, Or.inr ⟨rfl, ?_⟩⟩))) (fun eg => nm_r (nI_1 v) (ih (v + 1) true K B L' D' W2 (by omega) ⟨I', kf, kq, Or.inr ⟨rfl, ?_⟩⟩))
      · rcases hF with ⟨_, rfl, rfl, rfl, rfl, hb, hu⟩ | ⟨h, _⟩
        · rcases hr with ⟨_, rfl, rfl⟩ | ⟨h, _⟩
          · refine Or.inl ⟨rfl, rfl, rfl, rfl, rfl, hb, fun u hu' => ?_⟩
            by_cases e : u = v
            · rw [e]; intro _ a b c ha
              have := ((zz_AD_ann ad a b c).mp ha).2
              rw [w0, w1, w2] at this
              exact this
            · exact hu u (by omega)
          · rw [er] at h; cases h
        · rw [eg] at h; cases h
      · rcases hF with ⟨_, rfl, rfl, rfl, rfl, _⟩ | ⟨h, _⟩
        · rcases hr with ⟨h, _⟩ | ⟨_, h⟩
          · rw [er] at h; cases h
          · omega
        · rw [eg] at h; cases h
      · rcases hF with ⟨h, _⟩ | ⟨_, h⟩
        · rw [eg] at h; cases h
        · rcases hr with ⟨_, rfl, rfl⟩ | ⟨_, h2⟩ <;> omega
theorem zx_follow {post : Int32 → SX → Prop} {s : Nat} {K L : Nat → Bool} {B D W : Nat → Fin 7} (n12 : n ≤ 12) (hD : zx_D n E Q G xf xt xk xg xm) (hs : s < n) (I : zz_PI n E Q G K B L D)
    (hk : ∀ r K' B' L' D' W', zx_FO n E Q G s K B L D r K' B' L' D' → post (zz_b r) (fs, fr, xf, xt, xk, xg, xm, zz_k K', zz_v B', zz_k L', zz_v D', zz_v W')) : wpX_follow post (fs, fr, xf, xt, xk, xg, xm, zz_k K, zz_v B, zz_k L, zz_v D, zz_v W) (nI s) := by
  obtain ⟨d1, d2, d3, e1, e2, e3, e4, e5⟩ := hD s hs
  have hf : E s % 8 < 8 := by omega
  have ef : xf (nI s).toNatClampNeg = nI (E s % 8) := by rw [nI_clamp (by omega)]; exact e1
  unfold wpX_follow
  refine ⟨vp_in_nI (by omega) (by decide), ?_⟩
  dsimp only
  rw [ef]
  refine ⟨vp_in_nI hf (by decide), zz_bz (K (E s % 8)) (zz_k_at _ rfl (by omega)) (fun k => ?_) (fun k => ?_)⟩
  · refine hk false K B L D W ⟨I, Or.inl ⟨rfl, rfl, rfl, rfl, rfl, fun k' => ?_⟩⟩
    rw [k] at k'; cases k'
  · refine zx_joinBase n12 hD hs I k fun r K' B' L' D' W' I' kf kq hr => ⟨4, ?_⟩
    refine zx_fol24 n12 hD hs hk 3 0 r K' B' L' D' W' rfl ⟨I', kf, kq, ?_⟩
    rcases hr with ⟨h0, h1, h2, h3, h4, hb⟩ | h
    · exact Or.inl ⟨h0, h1, h2, h3, h4, hb, fun u hu => absurd hu (Nat.not_lt_zero u)⟩
    · exact Or.inr h
end
end
section
/-! prepare of X -/
theorem zz_cb_pos {f : Nat → Bool} {j : Nat} (hj : f j = true) : ∀ n, j < n → 1 ≤ zz_cb f n := by
  intro n
  induction n with
  | zero => intro h; omega
  | succ n ih =>
    intro h
    show 1 ≤ zz_cb f n + cond (f n) 1 0
    by_cases e : j = n
    · subst e
      rw [hj]
      exact Nat.le_add_left 1 _
    · exact Nat.le_trans (ih (by omega)) (Nat.le_add_right _ _)
theorem zz_PI0 {n : Nat} {E Q G : Nat → Nat} {K : Nat → Bool} {B : Nat → Fin 7} {L : Nat → Bool} {D : Nat → Fin 7} (hK : ∀ p, p < 8 → K p = true → p = 0) (k0 : K 0 = true) (hL : ∀ j, j < 24 → L j = false) (hB : ∀ j, j < 24 → B j = 0) : zz_PI n E Q G K B L D := by
  have lf : ∀ p, p < 8 → ∀ v, v < 3 → L (p * 3 + v) = true → False := by
    intro p hp v hv l
    rw [hL _ (by omega)] at l
    cases l
  refine ⟨fun p hp v hv l => (lf p hp v hv l).elim, fun p hp _ v hv => hL _ (by omega), k0, ⟨hB 0 (by omega), hB 1 (by omega), hB 2 (by omega)⟩, fun p hp a b c d h k => ⟨?_, fun v hv l => (lf p hp v hv l).elim⟩⟩
  have e := hK p hp k
  subst e
  have := h 0 0 0 zz_R0
  rw [show 0 * 3 = 0 from rfl, show 0 + 1 = 1 from rfl, show 0 + 2 = 2 from rfl, hB 0 (by omega), hB 1 (by omega), hB 2 (by omega)]
  exact this
section
variable {n : Nat} {E Q G : Nat → Nat} {fs fr : Int32} {xf xt xk xg xm : Nat → Int32}
theorem zx_pre87 {post : SX → Prop} {J : Int32 → Int32 → Int32 → Int32 → (Nat → Int32) → (Nat → Int32) → (Nat → Int32) → (Nat → Int32) → (Nat → Int32) → (Nat → Int32) → (Nat → Int32) → (Nat → Int32) → (Nat → Int32) → (Nat → Int32) → Prop} {c : Nat} {K0 L0 : Nat → Bool} {B0 D0 : Nat → Fin 7} (n12 : n ≤ 12) (hD : zx_D n E Q G xf xt xk xg xm)
    (hk : ∀ m K B L D W, zz_PI n E Q G K B L D → ((m = false ∧ ∀ t, t < n → zz_Cl n E Q G K B L D t) ∨ (m = true ∧ zz_mu K0 L0 + 1 ≤ zz_mu K L)) → J (zz_b m) (nI (c + 1)) (nI n) fr xf xt xk xg xm (zz_k K) (zz_v B) (zz_k L) (zz_v D) (zz_v W)) :
    ∀ d s m K B L D W, s + d = n → zz_PI n E Q G K B L D → ((m = false ∧ K = K0 ∧ B = B0 ∧ L = L0 ∧ D = D0 ∧ ∀ t, t < s → zz_Cl n E Q G K B L D t) ∨ (m = true ∧ zz_mu K0 L0 + 1 ≤ zz_mu K L)) → wX_prepare_87 post J (nI c) (d + 1) (zz_b m) (nI s) (nI n) fr xf xt xk xg xm (zz_k K) (zz_v B) (zz_k L) (zz_v D) (zz_v W) := by
  intro d
  induction d with
  | zero =>
    intro s m K B L D W hs I hI
    have e : s = n := by omega
    subst e
    refine br_t (nI_le (Nat.le_refl s) (by omega)) (nm_r (nI_1 c) (hk m K B L D W I ?_))
    rcases hI with ⟨h, _, _, _, _, h2⟩ | h
    · exact Or.inl ⟨h, h2⟩
    · exact Or.inr h
  | succ d ih =>
    intro s m K B L D W hs I hI
    have sn : s < n := by omega
    refine br_f (nI_ge sn (by omega)) (zx_follow n12 hD sn I fun r K' B' L' D' W' hF => ?_)
    obtain ⟨I', hF⟩ := hF
    refine zz_bz m rfl (fun em => zz_bz r rfl (fun er => nm_r (nI_1 s) (ih (s + 1) false K' B' L' D' W' (by omega) I' ?_)) (fun er => nm_r (nI_1 s) (ih (s + 1) true K' B' L' D' W' (by omega) I' (Or.inr ⟨rfl, ?_⟩)))) (fun em => nm_r (nI_1 s) (ih (s + 1) true K' B' L' D' W' (by omega) I' (Or.inr ⟨rfl, ?_⟩)))
    · rcases hI with ⟨_, rfl, rfl, rfl, rfl, h2⟩ | ⟨h, _⟩
      · rcases hF with ⟨_, rfl, rfl, rfl, rfl, hc⟩ | ⟨h, _⟩
        · refine Or.inl ⟨rfl, rfl, rfl, rfl, rfl, fun t ht => ?_⟩
          by_cases e : t = s
          · rw [e]; exact hc
          · exact h2 t (by omega)
        · rw [er] at h; cases h
      · rw [em] at h; cases h
    · rcases hI with ⟨_, rfl, rfl, rfl, rfl, h2⟩ | ⟨h, _⟩
      · rcases hF with ⟨h, _⟩ | ⟨_, h⟩
        · rw [er] at h; cases h
        · exact h
      · rw [em] at h; cases h
    · rcases hI with ⟨h, _⟩ | ⟨_, h⟩
      · rw [em] at h; cases h
      · rcases hF with ⟨_, rfl, rfl, rfl, rfl, _⟩ | ⟨_, h2⟩ <;> omega
theorem zx_pre73 {post : SX → Prop} (n12 : n ≤ 12) (hD : zx_D n E Q G xf xt xk xg xm)
    (hk : ∀ K B L D W, zz_PI n E Q G K B L D → (∀ t, t < n → zz_Cl n E Q G K B L D t) → post (nI n, fr, xf, xt, xk, xg, xm, zz_k K, zz_v B, zz_k L, zz_v D, zz_v W)) :
    ∀ d c m K B L D W, c + d = 40 → zz_PI n E Q G K B L D → ((m = true ∧ c + 1 ≤ zz_mu K L) ∨ (m = false ∧ ∀ t, t < n → zz_Cl n E Q G K B L D t)) → wX_prepare_73 post (d + 1) (zz_b m) (nI c) (nI n) fr xf xt xk xg xm (zz_k K) (zz_v B) (zz_k L) (zz_v D) (zz_v W) := by
  intro d
  induction d with
  | zero =>
    intro c m K B L D W hc I hI
    have e : c = 40 := by omega
    subst e
    refine br_t (nI_le (a := 40) (Nat.le_refl 40) (by decide)) ?_
    rcases hI with ⟨_, h⟩ | ⟨_, h⟩
    · have := zz_mu_le K L
      omega
    · exact hk K B L D W I h
  | succ d ih =>
    intro c m K B L D W hc I hI
    refine br_f (nI_ge (b := 40) (by omega) (by decide)) (zz_bz m rfl (fun em => ?_) (fun em => ⟨n + 1, ?_⟩))
    · rcases hI with ⟨h, _⟩ | ⟨_, h⟩
      · rw [em] at h; cases h
      · exact hk K B L D W I h
    · have hm : c + 1 ≤ zz_mu K L := by
        rcases hI with ⟨_, h⟩ | ⟨h, _⟩
        · exact h
        · rw [em] at h; cases h
      refine zx_pre87 (K0 := K) (B0 := B) (L0 := L) (D0 := D) n12 hD (fun m' K' B' L' D' W' I' h' => ?_) n 0 false K B L D W (by omega) I (Or.inl ⟨rfl, rfl, rfl, rfl, rfl, fun t ht => absurd ht (Nat.not_lt_zero t)⟩)
      refine ih (c + 1) m' K' B' L' D' W' (by omega) I' ?_
      rcases h' with h | ⟨h, h2⟩
      · exact Or.inr h
      · exact Or.inl ⟨h, by omega⟩
theorem zx_pre36 {post : SX → Prop} (n12 : n ≤ 12) (hD : zx_D n E Q G xf xt xk xg xm) {K : Nat → Bool} {D W : Nat → Fin 7} (hK : ∀ p, p < 8 → K p = false)
    (hk : ∀ K B L D W, zz_PI n E Q G K B L D → (∀ t, t < n → zz_Cl n E Q G K B L D t) → post (nI n, fr, xf, xt, xk, xg, xm, zz_k K, zz_v B, zz_k L, zz_v D, zz_v W)) :
    ∀ d i B L, i + d = 24 → (∀ j, j < i → L j = false) → (∀ j, j < i → B j = 0) → wX_prepare_36 post (nI n) fr (d + 1) (nI i) xf xt xk xg xm (zz_k K) (zz_v B) (zz_k L) (zz_v D) (zz_v W) := by
  intro d
  induction d with
  | zero =>
    intro i B L hi hL hB
    have e : i = 24 := by omega
    subst e
    refine br_t (nI_le (a := 24) (Nat.le_refl 24) (by decide)) (nm_r (zz_k_u (x := nI 0) 0 true rfl zz_b1 (by decide)) ⟨41, ?_⟩)
    have I : zz_PI n E Q G (zz_u K 0 true) B L D := by
      refine zz_PI0 (fun p hp k => ?_) zz_us hL hB
      refine Classical.byContradiction fun hn => ?_
      rw [zz_un hn, hK p hp] at k
      cases k
    refine zx_pre73 n12 hD hk 40 0 true (zz_u K 0 true) B L D W rfl I (Or.inl ⟨rfl, ?_⟩)
    have h := zz_cb_pos (f := zz_u K 0 true) (j := 0) zz_us 8 (by decide)
    unfold zz_mu
    omega
  | succ d ih =>
    intro i B L hi hL hB
    refine br_f (nI_ge (b := 24) (by omega) (by decide)) ⟨vp_in_nI (by omega) (by decide), nm_r (zz_k_u i false rfl zz_b0 (by omega)) ⟨vp_in_nI (by omega) (by decide), nm_r (zz_v_u i 0 rfl rfl (by omega)) (nm_r (nI_1 i) ?_)⟩⟩
    refine ih (i + 1) (zz_u B i 0) (zz_u L i false) (by omega) (fun j hj => ?_) (fun j hj => ?_)
    · by_cases e : j = i
      · rw [e]; exact zz_us
      · rw [zz_un e]; exact hL j (by omega)
    · by_cases e : j = i
      · rw [e]; exact zz_us
      · rw [zz_un e]; exact hB j (by omega)
theorem zx_pre15 {post : SX → Prop} (n12 : n ≤ 12) (hD : zx_D n E Q G xf xt xk xg xm) {L : Nat → Bool} {B D W : Nat → Fin 7}
    (hk : ∀ K B L D W, zz_PI n E Q G K B L D → (∀ t, t < n → zz_Cl n E Q G K B L D t) → post (nI n, fr, xf, xt, xk, xg, xm, zz_k K, zz_v B, zz_k L, zz_v D, zz_v W)) :
    ∀ d i K, i + d = 8 → (∀ j, j < i → K j = false) → wX_prepare_15 post (nI n) fr (d + 1) (nI i) xf xt xk xg xm (zz_k K) (zz_v B) (zz_k L) (zz_v D) (zz_v W) := by
  intro d
  induction d with
  | zero =>
    intro i K hi hK
    have e : i = 8 := by omega
    subst e
    exact br_t (nI_le (a := 8) (Nat.le_refl 8) (by decide)) ⟨25, zx_pre36 n12 hD hK hk 24 0 B L rfl (fun j hj => absurd hj (Nat.not_lt_zero j)) (fun j hj => absurd hj (Nat.not_lt_zero j))⟩
  | succ d ih =>
    intro i K hi hK
    refine br_f (nI_ge (b := 8) (by omega) (by decide)) ⟨vp_in_nI (by omega) (by decide), nm_r (zz_k_u i false rfl zz_b0 (by omega)) (nm_r (nI_1 i) (ih (i + 1) (zz_u K i false) (by omega) (fun j hj => ?_)))⟩
    by_cases e : j = i
    · rw [e]; exact zz_us
    · rw [zz_un e]; exact hK j (by omega)
end
/-- what holds of the spaces when they are ready -/
def zx_OK (n : Nat) (E Q G : Nat → Nat) (K : Nat → Bool) (B : Nat → Fin 7) (L : Nat → Bool) (D : Nat → Fin 7) : Prop :=
  (∀ p, p < 8 → zz_ech L D p) ∧ ∀ p, p < 8 → ∀ a b c d, zz_Ann K B L D p a b c d ↔ zz_Hd n E Q G p a b c d
theorem zx_prepare {n : Nat} {E Q G : Nat → Nat} {rd : Bool} {xf xt xk xg xm : Nat → Int32} {K L : Nat → Bool} {B D W : Nat → Fin 7} {post : SX → Prop} (n12 : n ≤ 12) (hD : zx_D n E Q G xf xt xk xg xm) (hr : rd = true → zx_OK n E Q G K B L D)
    (hk : ∀ K B L D W, zx_OK n E Q G K B L D → post (nI n, zz_b true, xf, xt, xk, xg, xm, zz_k K, zz_v B, zz_k L, zz_v D, zz_v W)) : wpX_prepare post (nI n, zz_b rd, xf, xt, xk, xg, xm, zz_k K, zz_v B, zz_k L, zz_v D, zz_v W) := by
  refine zz_bz rd rfl (fun e => ?_) (fun e => ?_)
  · refine ⟨9, zx_pre15 (fr := zz_b true) n12 hD (fun K B L D W I C => hk K B L D W ⟨I.1, fun p hp a b c d => zz_final I (fun s hs => (hD s hs).2.1) C hp a b c d⟩) 8 0 K rfl (fun j hj => absurd hj (Nat.not_lt_zero j))⟩
  · rw [e]
    exact hk K B L D W (hr e)
end
section
/-! Y: left, with, mark, take -/
def zy_x (x y z : Fin 7) : Nat := x.val + 7 * y.val + 49 * z.val
theorem zy_x_lt (x y z : Fin 7) : zy_x x y z < 343 := by
  have := x.isLt
  have := y.isLt
  have := z.isLt
  unfold zy_x
  omega
theorem zy_x_mod (x y z : Fin 7) : zy_x x y z % 7 = x.val ∧ zy_x x y z / 7 % 7 = y.val ∧ zy_x x y z / 49 = z.val ∧ zy_x x y z % 49 = x.val + 7 * y.val := by
  have := x.isLt
  have := y.isLt
  have := z.isLt
  unfold zy_x
  omega
theorem zy_x_inj {x y z x' y' z' : Fin 7} (h : zy_x x y z = zy_x x' y' z') : x = x' ∧ y = y' ∧ z = z' := by
  obtain ⟨a1, a2, a3, _⟩ := zy_x_mod x y z
  obtain ⟨b1, b2, b3, _⟩ := zy_x_mod x' y' z'
  rw [h] at a1 a2 a3
  exact ⟨Fin.ext (a1.symm.trans b1), Fin.ext (a2.symm.trans b2), Fin.ext (a3.symm.trans b3)⟩
theorem zy_tri {t : Nat} (h : t < 343) : ∃ x y z : Fin 7, t = zy_x x y z :=
  ⟨⟨t % 7, by omega⟩, ⟨t / 7 % 7, by omega⟩, ⟨t / 49, by omega⟩, by unfold zy_x; show t = t % 7 + 7 * (t / 7 % 7) + 49 * (t / 49); omega⟩
theorem zy_d0 (e : Nat) : (zz_d e 0).val = e % 7 := by
  show e / 7 ^ 0 % 7 = e % 7
  rw [Nat.pow_zero, Nat.div_one]
theorem zy_d1 (e : Nat) : (zz_d e 1).val = e / 7 % 7 := rfl
theorem zy_d2 (e : Nat) : (zz_d e 2).val = e / 49 % 7 := rfl
theorem zy_d3 {e : Nat} (h : e < 2401) : (zz_d e 3).val = e / 343 := by
  show e / 343 % 7 = e / 343
  omega
theorem zy_rem7 {a : Nat} (h : a < 2 ^ 31) : nI a - nI a / 7 * 7 = nI (a % 7) := pk_rem (d := 7) h (by decide) (by decide)
theorem zy_rem8 {a : Nat} (h : a < 2 ^ 31) : nI a - nI a / 8 * 8 = nI (a % 8) := pk_rem (d := 8) h (by decide) (by decide)
theorem zy_rem49 {a : Nat} (h : a < 2 ^ 31) : nI a - nI a / 49 * 49 = nI (a % 49) := pk_rem (d := 49) h (by decide) (by decide)
theorem zy_rem343 {a : Nat} (h : a < 2 ^ 31) : nI a - nI a / 343 * 343 = nI (a % 343) := pk_rem (d := 343) h (by decide) (by decide)
theorem zy_div7 {a : Nat} (h : a < 2 ^ 31) : nI a / 7 = nI (a / 7) := pk_div (d := 7) h (by decide) (by decide)
theorem zy_div8 {a : Nat} (h : a < 2 ^ 31) : nI a / 8 = nI (a / 8) := pk_div (d := 8) h (by decide) (by decide)
theorem zy_div49 {a : Nat} (h : a < 2 ^ 31) : nI a / 49 = nI (a / 49) := pk_div (d := 49) h (by decide) (by decide)
theorem zy_div343 {a : Nat} (h : a < 2 ^ 31) : nI a / 343 = nI (a / 343) := pk_div (d := 343) h (by decide) (by decide)
theorem zy_i (p t : Nat) : nI p * 343 + nI t = nI (p * 343 + t) := by
  rw [show (343 : Int32) = nI 343 from rfl, pk_mul, nI_add]
def zy_L (e : Nat) (x y z : Fin 7) : Nat := (zz_d e 0).val * x.val + (zz_d e 1).val * y.val + (zz_d e 2).val * z.val
theorem zy_L_lt (e : Nat) (x y z : Fin 7) : zy_L e x y z ≤ 108 := by
  have h0 := zz_mulb (zz_d e 0) x
  have h1 := zz_mulb (zz_d e 1) y
  have h2 := zz_mulb (zz_d e 2) z
  unfold zy_L
  omega
theorem zy_L_lin (e : Nat) (x y z : Fin 7) : zy_L e x y z % 7 = (zz_lin e x y z).val := by
  rw [← zz_linN]
  unfold zy_L
  rw [Nat.zero_add]
theorem zy_L_val {e : Nat} (he : e < 2401) (x y z : Fin 7) : (zy_L e x y z + e / 343) % 7 = (zz_val e x y z).val := by
  rw [← zz_valN, zy_d3 he]
  unfold zy_L
  congr 1
  omega
theorem zy_left {post : Int32 → Prop} {u : SY} (e : Nat) (x y z : Fin 7) (he : e < 2401) (h : post (nI (zy_L e x y z))) : wpY_left post u (nI e) (nI (zy_x x y z)) := by
  have ht := zy_x_lt x y z
  obtain ⟨a1, a2, a3, _⟩ := zy_x_mod x y z
  obtain ⟨u1, u2, u3, u4, u5, u6, u7, u8, u9, u10⟩ := u
  refine ⟨zz_7, zz_7, zz_7, zz_7, zz_7, zz_7, zz_49, zz_7, zz_49, ?_⟩
  have e1 : nI e - nI e / 7 * 7 = nI (zz_d e 0).val := by rw [zy_rem7 (by omega), zy_d0]
  have e2 : nI e / 7 - nI e / 7 / 7 * 7 = nI (zz_d e 1).val := by rw [zy_div7 (by omega), zy_rem7 (by omega), zy_d1]
  have e3 : nI e / 49 - nI e / 49 / 7 * 7 = nI (zz_d e 2).val := by rw [zy_div49 (by omega), zy_rem7 (by omega), zy_d2]
  have f1 : nI (zy_x x y z) - nI (zy_x x y z) / 7 * 7 = nI x.val := by rw [zy_rem7 (by omega), a1]
  have f2 : nI (zy_x x y z) / 7 - nI (zy_x x y z) / 7 / 7 * 7 = nI y.val := by rw [zy_div7 (by omega), zy_rem7 (by omega), a2]
  have f3 : nI (zy_x x y z) / 49 = nI z.val := by rw [zy_div49 (by omega), a3]
  rw [e1, e2, e3, f1, f2, f3, pk_mul, pk_mul, pk_mul, nI_add, nI_add]
  exact h
theorem zy_with {post : Int32 → Prop} {u : SY} (j : Nat) (v x y z : Fin 7) (hj : j < 3) (h : post (nI (zy_x (zz_s j 0 v x) (zz_s j 1 v y) (zz_s j 2 v z)))) : wpY_with post u (nI (zy_x x y z)) (nI j) (zz_i v) := by
  have ht := zy_x_lt x y z
  obtain ⟨a1, a2, a3, a4⟩ := zy_x_mod x y z
  obtain ⟨u1, u2, u3, u4, u5, u6, u7, u8, u9, u10⟩ := u
  have hh : j = 0 ∨ j = 1 ∨ j = 2 := by omega
  rcases hh with rfl | rfl | rfl
  · refine br_t rfl ⟨zz_7, ?_⟩
    rw [zy_rem7 (by omega), a1, pk_sub (by unfold zy_x; omega)]
    unfold zz_i
    rw [nI_add]
    have e : zy_x x y z - x.val + v.val = zy_x (zz_s 0 0 v x) (zz_s 0 1 v y) (zz_s 0 2 v z) := by
      show x.val + 7 * y.val + 49 * z.val - x.val + v.val = v.val + 7 * y.val + 49 * z.val
      omega
    rw [e]
    exact h
  · refine br_f (by decide) (br_t rfl ⟨zz_7, zz_49, ?_⟩)
    rw [zy_rem7 (by omega), a1, zy_div49 (by omega), a3]
    have e : nI x.val + 7 * zz_i v + nI z.val * 49 = nI (zy_x (zz_s 1 0 v x) (zz_s 1 1 v y) (zz_s 1 2 v z)) := by
      unfold zz_i
      rw [show (7 : Int32) = nI 7 from rfl, show (49 : Int32) = nI 49 from rfl, pk_mul, pk_mul, nI_add, nI_add]
      show nI (x.val + 7 * v.val + z.val * 49) = nI (x.val + 7 * v.val + 49 * z.val)
      rw [Nat.mul_comm z.val 49]
    rw [e]
    exact h
  · refine br_f (by decide) (br_f (by decide) ⟨zz_49, ?_⟩)
    rw [zy_rem49 (by omega), a4]
    have e : nI (x.val + 7 * y.val) + 49 * zz_i v = nI (zy_x (zz_s 2 0 v x) (zz_s 2 1 v y) (zz_s 2 2 v z)) := by
      unfold zz_i
      rw [show (49 : Int32) = nI 49 from rfl, pk_mul, nI_add]
      rfl
    rw [e]
    exact h
section
variable {gn fl : Nat} {fk : Bool} {E Q G T C H : Nat → Nat} {M : Nat → Bool}
theorem zy_mark {post : Int32 → SY → Prop} {p t : Nat} (hp : p < 8) (ht : t < 343) (h : post (zz_b (!M (p * 343 + t))) (nI gn, zz_b fk, nI fl, zz_n E, zz_n Q, zz_n G, zz_k (zz_u M (p * 343 + t) true), zz_n T, zz_n C, zz_n H)) : wpY_mark post (nI gn, zz_b fk, nI fl, zz_n E, zz_n Q, zz_n G, zz_k M, zz_n T, zz_n C, zz_n H) (nI p) (nI t) := by
  have hin : vp_in (nI p * 343 + nI t) 2744 := pk_in (p * 343 + t) 2744 (by omega) (zy_i p t)
  refine ⟨hin, zz_bz (M (p * 343 + t)) (zz_k_at _ (zy_i p t) (by omega)) (fun m => ⟨hin, nm_r (zz_k_u (p * 343 + t) true (zy_i p t) zz_b1 (by omega)) ⟨rfl, ?_⟩⟩) (fun m => ⟨hin, nm_r (zz_k_u (p * 343 + t) true (zy_i p t) zz_b1 (by omega)) ⟨rfl, ?_⟩⟩)⟩
  · rw [m] at h; exact h
  · rw [m] at h; exact h
end
theorem zy_mk {M : Nat → Bool} {j : Nat} (hj : j < 2744) : ((!M j) = false ∧ zz_u M j true = M) ∨ ((!M j) = true ∧ zz_cb (zz_u M j true) 2744 = zz_cb M 2744 + 1) := by
  cases h : M j
  · exact Or.inr ⟨rfl, zz_cb_u h 2744 hj⟩
  · refine Or.inl ⟨rfl, ?_⟩
    funext i
    by_cases e : i = j
    · rw [e, zz_us, h]
    · rw [zz_un e]
theorem zy_up {M : Nat → Bool} {i j : Nat} (h : M j = true) : zz_u M i true j = true := by
  unfold zz_u
  rw [h]
  exact ite_self true
/-- what take does to the marks -/
def zy_TK (k g q : Nat) (x y z : Fin 7) (M : Nat → Bool) (r : Bool) (M' : Nat → Bool) : Prop :=
  (∀ j, M j = true → M' j = true) ∧
  (∀ j, M' j = true → M j = true ∨ ∃ x' y' z', zz_St k g x y z x' y' z' ∧ j = q * 343 + zy_x x' y' z') ∧
  (∀ x' y' z', zz_St k g x y z x' y' z' → M' (q * 343 + zy_x x' y' z') = true) ∧
  ((r = false ∧ M' = M) ∨ (r = true ∧ zz_cb M 2744 + 1 ≤ zz_cb M' 2744))
theorem zy_TK1 {k g q : Nat} {x y z x0 y0 z0 : Fin 7} {M : Nat → Bool} (hq : q < 8) (st : zz_St k g x y z x0 y0 z0) (un : ∀ x' y' z', zz_St k g x y z x' y' z' → x' = x0 ∧ y' = y0 ∧ z' = z0) : zy_TK k g q x y z M (!M (q * 343 + zy_x x0 y0 z0)) (zz_u M (q * 343 + zy_x x0 y0 z0) true) := by
  have ht := zy_x_lt x0 y0 z0
  refine ⟨fun j hj => zy_up hj, fun j hj => ?_, fun x' y' z' s => ?_, ?_⟩
  · by_cases e : j = q * 343 + zy_x x0 y0 z0
    · exact Or.inr ⟨x0, y0, z0, st, e⟩
    · rw [zz_un e] at hj
      exact Or.inl hj
  · obtain ⟨rfl, rfl, rfl⟩ := un x' y' z' s
    exact zz_us
  · rcases zy_mk (M := M) (j := q * 343 + zy_x x0 y0 z0) (by omega) with h | ⟨h1, h2⟩
    · exact Or.inl h
    · exact Or.inr ⟨h1, Nat.le_of_eq h2.symm⟩
section
variable {gn fl : Nat} {fk : Bool} {E Q G T C H : Nat → Nat}
theorem zy_take94 {post : Int32 → SY → Prop} {s q j g : Nat} {x y z : Fin 7} {M0 : Nat → Bool} (hs : s < 12) (hq : q < 8) (hj : j < 3) (eQ : Q s = j + 3)
    (hk : ∀ r M, zy_TK (j + 3) g q x y z M0 r M → post (zz_b r) (nI gn, zz_b fk, nI fl, zz_n E, zz_n Q, zz_n G, zz_k M, zz_n T, zz_n C, zz_n H)) :
    ∀ d v r M, v + d = 7 →
      (∀ i, M0 i = true → M i = true) →
      (∀ i, M i = true → M0 i = true ∨ ∃ w : Fin 7, i = q * 343 + zy_x (zz_s j 0 w x) (zz_s j 1 w y) (zz_s j 2 w z)) →
      (∀ w : Fin 7, w.val < v → M (q * 343 + zy_x (zz_s j 0 w x) (zz_s j 1 w y) (zz_s j 2 w z)) = true) →
      ((r = false ∧ M = M0) ∨ (r = true ∧ zz_cb M0 2744 + 1 ≤ zz_cb M 2744)) →
      wY_take_94 post (nI s) (nI (zy_x x y z)) (nI q) (d + 1) (zz_b r) (nI v) (nI gn) (zz_b fk) (nI fl) (zz_n E) (zz_n Q) (zz_n G) (zz_k M) (zz_n T) (zz_n C) (zz_n H) := by
  intro d
  induction d with
  | zero =>
    intro v r M hv h0 h1 h2 h3
    have e : v = 7 := by omega
    subst e
    refine br_t (nI_le (a := 7) (Nat.le_refl 7) (by decide)) ⟨zz_bn r, hk r M ⟨h0, fun i hi => ?_, fun x' y' z' st => ?_, h3⟩⟩
    · rcases h1 i hi with h | ⟨w, h⟩
      · exact Or.inl h
      · exact Or.inr ⟨_, _, _, Or.inr (Or.inr ⟨j, w, hj, rfl, rfl, rfl, rfl⟩), h⟩
    · rcases st with ⟨e, _⟩ | ⟨e, _⟩ | ⟨j', w, hj', e, rfl, rfl, rfl⟩
      · omega
      · omega
      · have : j' = j := by omega
        subst this
        exact h2 w w.isLt
  | succ d ih =>
    intro v r M hv h0 h1 h2 h3
    have v7 : v < 7 := by omega
    refine br_f (nI_ge (b := 7) v7 (by decide)) ⟨vp_in_nI hs (by decide), ?_⟩
    have ek : zz_n Q (nI s).toNatClampNeg - 3 = nI j := by
      rw [zz_n_at s rfl (by omega), eQ]
      exact pk_sub (a := j + 3) (b := 3) (by omega)
    rw [ek]
    have X := zy_x_lt (zz_s j 0 ⟨v, v7⟩ x) (zz_s j 1 ⟨v, v7⟩ y) (zz_s j 2 ⟨v, v7⟩ z)
    refine zy_with j ⟨v, v7⟩ x y z hj (zy_mark hq X ?_)
    have mk := zy_mk (M := M) (j := q * 343 + zy_x (zz_s j 0 ⟨v, v7⟩ x) (zz_s j 1 ⟨v, v7⟩ y) (zz_s j 2 ⟨v, v7⟩ z)) (by omega)
    have g1 : ∀ i, zz_u M (q * 343 + zy_x (zz_s j 0 ⟨v, v7⟩ x) (zz_s j 1 ⟨v, v7⟩ y) (zz_s j 2 ⟨v, v7⟩ z)) true i = true → M0 i = true ∨ ∃ w : Fin 7, i = q * 343 + zy_x (zz_s j 0 w x) (zz_s j 1 w y) (zz_s j 2 w z) := by
      intro i hi
      by_cases e : i = q * 343 + zy_x (zz_s j 0 ⟨v, v7⟩ x) (zz_s j 1 ⟨v, v7⟩ y) (zz_s j 2 ⟨v, v7⟩ z)
      · exact Or.inr ⟨⟨v, v7⟩, e⟩
      · rw [zz_un e] at hi
        exact h1 i hi
    have g2 : ∀ w : Fin 7, w.val < v + 1 → zz_u M (q * 343 + zy_x (zz_s j 0 ⟨v, v7⟩ x) (zz_s j 1 ⟨v, v7⟩ y) (zz_s j 2 ⟨v, v7⟩ z)) true (q * 343 + zy_x (zz_s j 0 w x) (zz_s j 1 w y) (zz_s j 2 w z)) = true := by
      intro w hw
      by_cases e : w.val = v
      · have : w = ⟨v, v7⟩ := Fin.ext e
        rw [this]
        exact zz_us
      · exact zy_up (h2 w (by omega))
    have g0 : ∀ i, M0 i = true → zz_u M (q * 343 + zy_x (zz_s j 0 ⟨v, v7⟩ x) (zz_s j 1 ⟨v, v7⟩ y) (zz_s j 2 ⟨v, v7⟩ z)) true i = true := fun i hi => zy_up (h0 i hi)
    generalize q * 343 + zy_x (zz_s j 0 ⟨v, v7⟩ x) (zz_s j 1 ⟨v, v7⟩ y) (zz_s j 2 ⟨v, v7⟩ z) = i at mk g0 g1 g2 ⊢
    refine zz_bz (!M i) rfl (fun e => zz_bz r rfl (fun er => nm_r (nI_1 v) (ih (v + 1) false _ (by omega) g0 g1 g2 ?_)) (fun er => nm_r (nI_1 v) (ih (v + 1) true _ (by omega) g0 g1 g2 (Or.inr ⟨rfl, ?_⟩)))) (fun e => nm_r (nI_1 v) (ih (v + 1) true _ (by omega) g0 g1 g2 (Or.inr ⟨rfl, ?_⟩)))
    · rcases mk with ⟨_, h⟩ | ⟨h, _⟩
      · rcases h3 with ⟨_, h'⟩ | ⟨h', _⟩
        · exact Or.inl ⟨rfl, h.trans h'⟩
        · rw [er] at h'; cases h'
      · rw [e] at h; cases h
    · rcases h3 with ⟨h', _⟩ | ⟨_, h'⟩
      · rw [er] at h'; cases h'
      · rcases mk with ⟨_, h⟩ | ⟨h, _⟩
        · rw [h]; exact h'
        · rw [e] at h; cases h
    · rcases mk with ⟨h, _⟩ | ⟨_, h⟩
      · rw [e] at h; cases h
      · rcases h3 with ⟨_, h'⟩ | ⟨_, h'⟩
        · rw [h, h']; exact Nat.le_refl _
        · omega
theorem zy_take {post : Int32 → SY → Prop} {s : Nat} {x y z : Fin 7} {M : Nat → Bool} (hs : s < 12) (hE : E s < 64) (hQ : Q s < 7) (hG : G s < 2401)
    (hk : ∀ r M', zy_TK (Q s) (G s) (E s / 8) x y z M r M' → post (zz_b r) (nI gn, zz_b fk, nI fl, zz_n E, zz_n Q, zz_n G, zz_k M', zz_n T, zz_n C, zz_n H)) : wpY_take post (nI gn, zz_b fk, nI fl, zz_n E, zz_n Q, zz_n G, zz_k M, zz_n T, zz_n C, zz_n H) (nI s) (nI (zy_x x y z)) := by
  have hq : E s / 8 < 8 := by omega
  have hin : vp_in (nI s) 12 := vp_in_nI hs (by decide)
  have eE : zz_n E (nI s).toNatClampNeg = nI (E s) := zz_n_at s rfl (by omega)
  have eQ : zz_n Q (nI s).toNatClampNeg = nI (Q s) := zz_n_at s rfl (by omega)
  have eG : zz_n G (nI s).toNatClampNeg = nI (G s) := zz_n_at s rfl (by omega)
  refine ⟨hin, zz_8, nm_r (e' := nI (E s / 8)) (by rw [eE]; exact zy_div8 (by omega)) ⟨hin, ?_⟩⟩
  refine pk_eq (Q s) 6 (fun e6 => ?_) (fun n6 => ⟨hin, pk_le 3 (Q s) (fun h3 => ?_) (fun h3 => ⟨hin, ?_⟩) rfl eQ⟩) eQ
  · refine zy_mark hq (zy_x_lt x y z) ⟨zz_bn _, hk _ _ (zy_TK1 hq (Or.inl ⟨e6, rfl, rfl, rfl⟩) fun x' y' z' st => ?_)⟩
    rcases st with ⟨_, h⟩ | ⟨e, _⟩ | ⟨j', w, hj', e, _⟩
    · exact h
    · omega
    · omega
  · have ej : Q s = (Q s - 3) + 3 := by omega
    refine ⟨8, zy_take94 (j := Q s - 3) (g := G s) (M0 := M) hs hq (by omega) ej (fun r M' tk => hk r M' (by rw [ej]; exact tk)) 7 0 false M rfl (fun i hi => hi) (fun i hi => Or.inl hi) (fun w hw => absurd hw (Nat.not_lt_zero _)) (Or.inl ⟨rfl, rfl⟩)⟩
  · have hL := zy_L_lt (G s) x y z
    rw [eG]
    refine zy_left (G s) x y z hG ⟨hin, zz_343, zz_7, nm_r (e' := zz_i (zz_val (G s) x y z)) ?_ ⟨hin, ?_⟩⟩
    · rw [zy_div343 (by omega), nI_add, zy_rem7 (by omega), zy_L_val hG]
      rfl
    · rw [eQ]
      refine zy_with (Q s) (zz_val (G s) x y z) x y z h3 (zy_mark hq (zy_x_lt _ _ _) ⟨zz_bn _, hk _ _ (zy_TK1 hq (Or.inr (Or.inl ⟨h3, rfl, rfl, rfl⟩)) fun x' y' z' st => ?_)⟩)
      rcases st with ⟨e, _⟩ | ⟨_, h⟩ | ⟨j', w, hj', e, _⟩
      · omega
      · exact h
      · omega
end
end
section
/-! Y: work -/
def zy_D (n : Nat) (E Q G : Nat → Nat) : Prop := ∀ s, s < n → E s < 64 ∧ Q s < 7 ∧ G s < 2401
def zy_MS (n : Nat) (E Q G : Nat → Nat) (M : Nat → Bool) : Prop :=
  M 0 = true ∧ ∀ p, p < 8 → ∀ x y z, M (p * 343 + zy_x x y z) = true → zz_R n E Q G p x y z
def zy_Cl (E Q G : Nat → Nat) (M : Nat → Bool) (k : Nat) : Prop :=
  ∀ x y z, k % 343 = zy_x x y z → M (E (k / 343) % 8 * 343 + zy_x x y z) = true → ∀ x' y' z', zz_St (Q (k / 343)) (G (k / 343)) x y z x' y' z' → M (E (k / 343) / 8 * 343 + zy_x x' y' z') = true
theorem zy_MS_TK {n : Nat} {E Q G : Nat → Nat} {M M' : Nat → Bool} {s : Nat} {x y z : Fin 7} {r : Bool} (hs : s < n) (hE : E s < 64) (I : zy_MS n E Q G M) (h : M (E s % 8 * 343 + zy_x x y z) = true) (tk : zy_TK (Q s) (G s) (E s / 8) x y z M r M') : zy_MS n E Q G M' := by
  refine ⟨tk.1 _ I.1, fun p hp x1 y1 z1 h1 => ?_⟩
  rcases tk.2.1 _ h1 with h2 | ⟨x', y', z', st, e⟩
  · exact I.2 p hp x1 y1 z1 h2
  · have a := zy_x_lt x1 y1 z1
    have b := zy_x_lt x' y' z'
    have ep : p = E s / 8 := by omega
    have ex : zy_x x1 y1 z1 = zy_x x' y' z' := by omega
    obtain ⟨rfl, rfl, rfl⟩ := zy_x_inj ex
    rw [ep]
    exact zz_Rs hs (I.2 (E s % 8) (by omega) x y z h) st
theorem zy_R_M {n : Nat} {E Q G : Nat → Nat} {M : Nat → Bool} (hD : zy_D n E Q G) (I : zy_MS n E Q G M) (hC : ∀ k, k < n * 343 → zy_Cl E Q G M k) {p : Nat} {x y z : Fin 7} (r : zz_R n E Q G p x y z) : p < 8 ∧ M (p * 343 + zy_x x y z) = true := by
  refine r (fun p x y z => p < 8 ∧ M (p * 343 + zy_x x y z) = true) ⟨by decide, I.1⟩ ?_
  intro s hs x y z x' y' z' ⟨_, h⟩ st
  obtain ⟨hE, _, _⟩ := hD s hs
  refine ⟨by omega, ?_⟩
  have hx := zy_x_lt x y z
  have e1 : (s * 343 + zy_x x y z) / 343 = s := by omega
  have e2 : (s * 343 + zy_x x y z) % 343 = zy_x x y z := by omega
  have := hC (s * 343 + zy_x x y z) (by omega) x y z e2
  rw [e1] at this
  exact this h x' y' z' st
section
variable {n fl : Nat} {fk : Bool} {E Q G T C H : Nat → Nat}
theorem zy_w53 {post : SY → Prop} {J : Int32 → Int32 → Int32 → Int32 → (Nat → Int32) → (Nat → Int32) → (Nat → Int32) → (Nat → Int32) → (Nat → Int32) → (Nat → Int32) → (Nat → Int32) → Prop} {M0 : Nat → Bool} (n12 : n ≤ 12) (hD : zy_D n E Q G)
    (hk : ∀ m M, zy_MS n E Q G M → ((m = false ∧ ∀ k, k < n * 343 → zy_Cl E Q G M k) ∨ (m = true ∧ zz_cb M0 2744 + 1 ≤ zz_cb M 2744)) → J (zz_b m) (nI n) (zz_b fk) (nI fl) (zz_n E) (zz_n Q) (zz_n G) (zz_k M) (zz_n T) (zz_n C) (zz_n H)) :
    ∀ d k m M, k + d = n * 343 → zy_MS n E Q G M → ((m = false ∧ M = M0 ∧ ∀ i, i < k → zy_Cl E Q G M i) ∨ (m = true ∧ zz_cb M0 2744 + 1 ≤ zz_cb M 2744)) → wY_work_53 post J (d + 1) (zz_b m) (nI k) (nI n) (zz_b fk) (nI fl) (zz_n E) (zz_n Q) (zz_n G) (zz_k M) (zz_n T) (zz_n C) (zz_n H) := by
  have en : nI n * 343 = nI (n * 343) := pk_mul n 343
  intro d
  induction d with
  | zero =>
    intro k m M hk' I h
    have e : k = n * 343 := by omega
    subst e
    refine br_t (by rw [en]; exact nI_le (Nat.le_refl _) (by omega)) (hk m M I ?_)
    rcases h with ⟨h1, _, h2⟩ | h
    · exact Or.inl ⟨h1, h2⟩
    · exact Or.inr h
  | succ d ih =>
    intro k m M hk' I h
    have hs : k / 343 < n := by omega
    obtain ⟨hE, hQ, hG⟩ := hD (k / 343) hs
    have ht : k % 343 < 343 := Nat.mod_lt _ (by decide)
    obtain ⟨x, y, z, et⟩ := zy_tri ht
    have eE : zz_n E (nI (k / 343)).toNatClampNeg - zz_n E (nI (k / 343)).toNatClampNeg / 8 * 8 = nI (E (k / 343) % 8) := by
      rw [zz_n_at (k / 343) rfl (by omega)]
      exact zy_rem8 (by omega)
    have er : nI k - nI k / 343 * 343 = nI (k % 343) := zy_rem343 (by omega)
    have ei : (zz_n E (nI (k / 343)).toNatClampNeg - zz_n E (nI (k / 343)).toNatClampNeg / 8 * 8) * 343 + (nI k - nI k / 343 * 343) = nI (E (k / 343) % 8 * 343 + k % 343) := by
      rw [eE, er]
      exact zy_i _ _
    refine br_f (by rw [en]; exact nI_ge (by omega) (by omega)) ⟨zz_343, nm_r (e' := nI (k / 343)) (zy_div343 (by omega)) ⟨vp_in_nI (by omega) (by decide), zz_8, zz_343, pk_in (E (k / 343) % 8 * 343 + k % 343) 2744 (by omega) ei, zz_bz (M (E (k / 343) % 8 * 343 + k % 343)) (zz_k_at _ ei (by omega)) (fun hm => nm_r (nI_1 k) (ih (k + 1) m M (by omega) I ?_)) (fun hm => ⟨zz_343, ?_⟩)⟩⟩
    · rcases h with ⟨h1, h2, h3⟩ | h
      · refine Or.inl ⟨h1, h2, fun i hi => ?_⟩
        by_cases e : i = k
        · rw [e]
          intro x' y' z' e' hm'
          rw [← e', hm] at hm'
          cases hm'
        · exact h3 i (by omega)
      · exact Or.inr h
    · rw [er, et]
      rw [et] at hm
      refine zy_take (by omega) hE hQ hG fun r M' tk => ?_
      have I' := zy_MS_TK hs hE I hm tk
      refine zz_bz r rfl (fun er => nm_r (nI_1 k) (ih (k + 1) m M' (by omega) I' ?_)) (fun er => nm_r (nI_1 k) (ih (k + 1) true M' (by omega) I' (Or.inr ⟨rfl, ?_⟩)))
      · rcases tk.2.2.2 with ⟨_, e⟩ | ⟨e, _⟩
        · rcases h with ⟨h1, h2, h3⟩ | h
          · refine Or.inl ⟨h1, e.trans h2, fun i hi => ?_⟩
            by_cases ei' : i = k
            · rw [ei']
              intro x1 y1 z1 e1 _ x' y' z' st
              obtain ⟨rfl, rfl, rfl⟩ := zy_x_inj (et.symm.trans e1)
              exact tk.2.2.1 x' y' z' st
            · rw [e]; exact h3 i (by omega)
          · rw [e]; exact Or.inr h
        · rw [er] at e; cases e
      · rcases tk.2.2.2 with ⟨e, _⟩ | ⟨_, e⟩
        · rw [er] at e; cases e
        · rcases h with ⟨_, h2, _⟩ | ⟨_, h2⟩
          · rw [← h2]; exact e
          · omega
end
/-- what holds of the lists when they are known -/
def zy_OK (n : Nat) (E Q G T C : Nat → Nat) : Prop :=
  ∀ p, p < 8 → C p ≤ 343 ∧ (∀ i, i < C p → ∃ x y z, T (p * 343 + i) = zy_x x y z ∧ zz_R n E Q G p x y z) ∧ (∀ x y z, zz_R n E Q G p x y z → ∃ i, i < C p ∧ T (p * 343 + i) = zy_x x y z)
/-- the lists of the marks below s -/
def zy_LI (M : Nat → Bool) (s : Nat) (T C : Nat → Nat) : Prop :=
  ∀ p, p < 8 → (C p = 0 ∨ p * 343 + C p ≤ s) ∧ C p ≤ 343 ∧ (∀ i, i < C p → ∃ t, t < 343 ∧ T (p * 343 + i) = t ∧ M (p * 343 + t) = true) ∧ (∀ t, t < 343 → p * 343 + t < s → M (p * 343 + t) = true → ∃ i, i < C p ∧ T (p * 343 + i) = t)
theorem zy_LI_skip {M : Nat → Bool} {s : Nat} {T C : Nat → Nat} (h : zy_LI M s T C) (hm : M s = false) : zy_LI M (s + 1) T C := by
  intro p hp
  obtain ⟨h1, h2, h3, h4⟩ := h p hp
  refine ⟨by omega, h2, h3, fun t ht hs hM => ?_⟩
  by_cases e : p * 343 + t = s
  · rw [e, hm] at hM; cases hM
  · exact h4 t ht (by omega) hM
theorem zy_LI_add {M : Nat → Bool} {s : Nat} {T C : Nat → Nat} (hs : s < 2744) (h : zy_LI M s T C) (hm : M s = true) : C (s / 343) < 343 ∧ zy_LI M (s + 1) (zz_u T (s / 343 * 343 + C (s / 343)) (s % 343)) (zz_u C (s / 343) (C (s / 343) + 1)) := by
  have c343 : C (s / 343) < 343 := by
    obtain ⟨h1, h2, _⟩ := h (s / 343) (by omega)
    omega
  refine ⟨c343, fun p hp => ?_⟩
  obtain ⟨h1, h2, h3, h4⟩ := h p hp
  by_cases ep : p = s / 343
  · subst ep
    have sp : s / 343 * 343 + s % 343 = s := by omega
    rw [zz_us]
    refine ⟨by omega, by omega, fun i hi => ?_, fun t ht hts hM => ?_⟩
    · by_cases e : i = C (s / 343)
      · rw [e, zz_us]
        exact ⟨s % 343, Nat.mod_lt _ (by decide), rfl, by rw [sp]; exact hm⟩
      · rw [zz_un (by omega)]
        exact h3 i (by omega)
    · by_cases e : s / 343 * 343 + t = s
      · refine ⟨C (s / 343), by omega, ?_⟩
        rw [zz_us]
        omega
      · obtain ⟨i, hi, hT⟩ := h4 t ht (by omega) hM
        refine ⟨i, by omega, ?_⟩
        rw [zz_un (by omega)]
        exact hT
  · rw [zz_un ep]
    refine ⟨by omega, h2, fun i hi => ?_, fun t ht hts hM => ?_⟩
    · rw [zz_un (by omega)]
      exact h3 i hi
    · obtain ⟨i, hi, hT⟩ := h4 t ht (by omega) hM
      refine ⟨i, hi, ?_⟩
      rw [zz_un (by omega)]
      exact hT
theorem zy_OK_of {n : Nat} {E Q G : Nat → Nat} {M : Nat → Bool} {T C : Nat → Nat} (hD : zy_D n E Q G) (I : zy_MS n E Q G M) (hC : ∀ k, k < n * 343 → zy_Cl E Q G M k) (h : zy_LI M 2744 T C) : zy_OK n E Q G T C := by
  intro p hp
  obtain ⟨h1, h2, h3, h4⟩ := h p hp
  refine ⟨h2, fun i hi => ?_, fun x y z r => ?_⟩
  · obtain ⟨t, ht, e, hM⟩ := h3 i hi
    obtain ⟨x, y, z, et⟩ := zy_tri ht
    rw [et] at hM
    exact ⟨x, y, z, e.trans et, I.2 p hp x y z hM⟩
  · have hx := zy_x_lt x y z
    exact h4 (zy_x x y z) hx (by omega) (zy_R_M hD I hC r).2
section
variable {n fl : Nat} {fk : Bool} {E Q G H : Nat → Nat}
theorem zy_w145 {post : SY → Prop} {M : Nat → Bool} (hk : ∀ T C, zy_LI M 2744 T C → post (nI n, zz_b fk, nI fl, zz_n E, zz_n Q, zz_n G, zz_k M, zz_n T, zz_n C, zz_n H)) :
    ∀ d s T C, s + d = 2744 → zy_LI M s T C → wY_work_145 post (nI n) (zz_b fk) (nI fl) (d + 1) (nI s) (zz_n E) (zz_n Q) (zz_n G) (zz_k M) (zz_n T) (zz_n C) (zz_n H) := by
  intro d
  induction d with
  | zero =>
    intro s T C hs h
    have e : s = 2744 := by omega
    subst e
    exact br_t (nI_le (a := 2744) (Nat.le_refl _) (by decide)) (hk T C h)
  | succ d ih =>
    intro s T C hs h
    refine br_f (nI_ge (b := 2744) (by omega) (by decide)) ⟨vp_in_nI (by omega) (by decide), zz_bz (M s) (zz_k_at s rfl (by omega)) (fun hm => nm_r (nI_1 s) (ih (s + 1) T C (by omega) (zy_LI_skip h hm))) (fun hm => ?_)⟩
    obtain ⟨hc, h'⟩ := zy_LI_add (by omega) h hm
    have ed : nI s / 343 = nI (s / 343) := zy_div343 (by omega)
    have hin : vp_in (nI s / 343) 8 := by rw [ed]; exact vp_in_nI (by omega) (by decide)
    have eC : zz_n C (nI s / 343).toNatClampNeg = nI (C (s / 343)) := zz_n_at _ ed (by omega)
    have ei : nI s / 343 * 343 + zz_n C (nI s / 343).toNatClampNeg = nI (s / 343 * 343 + C (s / 343)) := by
      rw [eC, ed]
      exact zy_i _ _
    refine ⟨zz_343, zz_343, hin, zz_343, pk_in (s / 343 * 343 + C (s / 343)) 2744 (by omega) ei, nm_r (zz_n_u (s / 343 * 343 + C (s / 343)) (s % 343) ei (zy_rem343 (by omega)) (by omega)) ⟨zz_343, hin, hin, nm_r (zz_n_u (s / 343) (C (s / 343) + 1) ed (by rw [eC]; exact nI_1 _) (by omega)) (nm_r (nI_1 s) ?_)⟩⟩
    exact ih (s + 1) _ _ (by omega) h'
theorem zy_w124 {post : SY → Prop} {M : Nat → Bool} {T : Nat → Nat} (hk : ∀ T C, zy_LI M 2744 T C → post (nI n, zz_b fk, nI fl, zz_n E, zz_n Q, zz_n G, zz_k M, zz_n T, zz_n C, zz_n H)) :
    ∀ d i C, i + d = 8 → (∀ j, j < i → C j = 0) → wY_work_124 post (nI n) (zz_b fk) (nI fl) (d + 1) (nI i) (zz_n E) (zz_n Q) (zz_n G) (zz_k M) (zz_n T) (zz_n C) (zz_n H) := by
  intro d
  induction d with
  | zero =>
    intro i C hi h
    have e : i = 8 := by omega
    subst e
    refine br_t (nI_le (a := 8) (Nat.le_refl _) (by decide)) ⟨2745, zy_w145 hk 2744 0 T C rfl fun p hp => ?_⟩
    have hp0 := h p hp
    exact ⟨Or.inl hp0, by omega, fun i hi => by omega, fun t ht hs => absurd hs (Nat.not_lt_zero _)⟩
  | succ d ih =>
    intro i C hi h
    refine br_f (nI_ge (b := 8) (by omega) (by decide)) ⟨vp_in_nI (by omega) (by decide), nm_r (zz_n_u i 0 rfl rfl (by omega)) (nm_r (nI_1 i) (ih (i + 1) _ (by omega) fun j hj => ?_))⟩
    by_cases e : j = i
    · rw [e]; exact zz_us
    · rw [zz_un e]; exact h j (by omega)
theorem zy_w45 {post : SY → Prop} {T C : Nat → Nat} (n12 : n ≤ 12) (hD : zy_D n E Q G) (hk : ∀ M T C, zy_OK n E Q G T C → post (nI n, zz_b fk, nI fl, zz_n E, zz_n Q, zz_n G, zz_k M, zz_n T, zz_n C, zz_n H)) :
    ∀ d m M, zy_MS n E Q G M → (m = false → ∀ k, k < n * 343 → zy_Cl E Q G M k) → (m = true → 2745 ≤ d + zz_cb M 2744) → wY_work_45 post (d + 1) (zz_b m) (nI n) (zz_b fk) (nI fl) (zz_n E) (zz_n Q) (zz_n G) (zz_k M) (zz_n T) (zz_n C) (zz_n H) := by
  intro d
  induction d with
  | zero =>
    intro m M I hC hm
    refine zz_bz m rfl (fun e => ⟨9, zy_w124 (fun T C h => hk M T C (zy_OK_of hD I (hC e) h)) 8 0 C rfl (fun j hj => absurd hj (Nat.not_lt_zero j))⟩) (fun e => ?_)
    have h1 := hm e
    have h2 := zz_cb_le M 2744
    omega
  | succ d ih =>
    intro m M I hC hm
    refine zz_bz m rfl (fun e => ⟨9, zy_w124 (fun T C h => hk M T C (zy_OK_of hD I (hC e) h)) 8 0 C rfl (fun j hj => absurd hj (Nat.not_lt_zero j))⟩) (fun e => ⟨n * 343 + 1, ?_⟩)
    have h1 := hm e
    refine zy_w53 (M0 := M) n12 hD (fun m' M' I' h' => ih m' M' I' (fun e' => ?_) (fun e' => ?_)) (n * 343) 0 false M (by omega) I (Or.inl ⟨rfl, rfl, fun i hi => absurd hi (Nat.not_lt_zero i)⟩)
    · rcases h' with ⟨_, h⟩ | ⟨h, _⟩
      · exact h
      · rw [e'] at h; cases h
    · rcases h' with ⟨h, _⟩ | ⟨_, h⟩
      · rw [e'] at h; cases h
      · omega
theorem zy_w15 {post : SY → Prop} {T C : Nat → Nat} (n12 : n ≤ 12) (hD : zy_D n E Q G) (hk : ∀ M T C, zy_OK n E Q G T C → post (nI n, zz_b fk, nI fl, zz_n E, zz_n Q, zz_n G, zz_k M, zz_n T, zz_n C, zz_n H)) :
    ∀ d i M, i + d = 2744 → (∀ j, j < i → M j = decide (j = 0)) → wY_work_15 post (nI n) (zz_b fk) (nI fl) (d + 1) (nI i) (zz_n E) (zz_n Q) (zz_n G) (zz_k M) (zz_n T) (zz_n C) (zz_n H) := by
  intro d
  induction d with
  | zero =>
    intro i M hi h
    have e : i = 2744 := by omega
    subst e
    refine br_t (nI_le (a := 2744) (Nat.le_refl _) (by decide)) ⟨2746, zy_w45 n12 hD hk 2745 true M ⟨by rw [h 0 (by decide)]; rfl, fun p hp x y z hM => ?_⟩ (fun e => by cases e) (fun _ => by omega)⟩
    have hx := zy_x_lt x y z
    rw [h _ (by omega)] at hM
    have e0 := of_decide_eq_true hM
    have ep : p = 0 := by omega
    have ex : zy_x x y z = zy_x 0 0 0 := by
      show zy_x x y z = 0
      omega
    obtain ⟨rfl, rfl, rfl⟩ := zy_x_inj ex
    rw [ep]
    exact zz_R0
  | succ d ih =>
    intro i M hi h
    refine br_f (nI_ge (b := 2744) (by omega) (by decide)) (pk_eq i 0 (fun e => ⟨vp_in_nI (by omega) (by decide), nm_r (zz_k_u i true rfl zz_b1 (by omega)) (nm_r (nI_1 i) (ih (i + 1) _ (by omega) fun j hj => ?_))⟩) (fun e => ⟨vp_in_nI (by omega) (by decide), nm_r (zz_k_u i false rfl zz_b0 (by omega)) (nm_r (nI_1 i) (ih (i + 1) _ (by omega) fun j hj => ?_))⟩))
    · by_cases ej : j = i
      · rw [ej, zz_us, e]; rfl
      · rw [zz_un ej]; exact h j (by omega)
    · by_cases ej : j = i
      · rw [ej, zz_us]
        exact (decide_eq_false e).symm
      · rw [zz_un ej]; exact h j (by omega)
theorem zy_work {post : SY → Prop} {M : Nat → Bool} {T C : Nat → Nat} (n12 : n ≤ 12) (hD : zy_D n E Q G) (hr : fk = true → zy_OK n E Q G T C)
    (hk : ∀ M T C, zy_OK n E Q G T C → post (nI n, zz_b true, nI fl, zz_n E, zz_n Q, zz_n G, zz_k M, zz_n T, zz_n C, zz_n H)) : wpY_work post (nI n, zz_b fk, nI fl, zz_n E, zz_n Q, zz_n G, zz_k M, zz_n T, zz_n C, zz_n H) := by
  refine zz_bz fk rfl (fun e => ⟨2745, zy_w15 (fk := true) n12 hD hk 2744 0 M rfl (fun j hj => absurd hj (Nat.not_lt_zero j))⟩) (fun e => ?_)
  rw [e]
  exact hk M T C (hr e)
end
end
section
/-! counts, the hull of a space, its size and the number of its equations -/
noncomputable def zz_ind (P : Prop) : Nat := @ite Nat P (Classical.propDecidable P) 1 0
theorem zz_ind1 {P : Prop} (h : P) : zz_ind P = 1 := if_pos h
theorem zz_ind0 {P : Prop} (h : ¬ P) : zz_ind P = 0 := if_neg h
theorem zz_ind_cg {P Q : Prop} (h : P ↔ Q) : zz_ind P = zz_ind Q := by rw [propext h]
theorem zz_ind_and (P Q : Prop) : zz_ind (P ∧ Q) = zz_ind P * zz_ind Q := by
  by_cases hp : P
  · rw [zz_ind1 hp, Nat.one_mul]
    exact zz_ind_cg ⟨fun h => h.2, fun h => ⟨hp, h⟩⟩
  · rw [zz_ind0 hp, Nat.zero_mul]
    exact zz_ind0 (fun h => hp h.1)
theorem zz_ind_eq (a b : Fin 7) : zz_ind (a = b) = if a = b then 1 else 0 := by
  by_cases h : a = b
  · rw [zz_ind1 h, if_pos h]
  · rw [zz_ind0 h, if_neg h]
def zz_sm (f : Nat → Nat) : Nat → Nat
  | 0 => 0
  | n + 1 => zz_sm f n + f n
noncomputable def zz_ct (P : Nat → Prop) (n : Nat) : Nat := zz_sm (fun i => zz_ind (P i)) n
def zz_S7 (g : Fin 7 → Nat) : Nat := g 0 + g 1 + g 2 + g 3 + g 4 + g 5 + g 6
theorem zz_sm7 (f : Nat → Nat) : ∀ m, zz_sm f (7 * m) = zz_sm (fun j => zz_S7 (fun x => f (7 * j + x.val))) m := by
  intro m
  induction m with
  | zero => rfl
  | succ m ih =>
    show zz_sm f (7 * m) + f (7 * m) + f (7 * m + 1) + f (7 * m + 2) + f (7 * m + 3) + f (7 * m + 4) + f (7 * m + 5) + f (7 * m + 6) = zz_sm (fun j => zz_S7 (fun x => f (7 * j + x.val))) m + (f (7 * m) + f (7 * m + 1) + f (7 * m + 2) + f (7 * m + 3) + f (7 * m + 4) + f (7 * m + 5) + f (7 * m + 6))
    rw [ih]
    omega
theorem zz_sm1 (f : Nat → Nat) : zz_sm f 7 = zz_S7 (fun x => f x.val) := by
  show 0 + f 0 + f 1 + f 2 + f 3 + f 4 + f 5 + f 6 = f 0 + f 1 + f 2 + f 3 + f 4 + f 5 + f 6
  omega
theorem zz_sm343 (f : Nat → Nat) : zz_sm f 343 = zz_S7 fun z => zz_S7 fun y => zz_S7 fun x => f (7 * (7 * z.val + y.val) + x.val) := by
  rw [show (343 : Nat) = 7 * (7 * 7) from rfl, zz_sm7, zz_sm7, zz_sm1]
theorem zz_sm2401 (f : Nat → Nat) : zz_sm f 2401 = zz_S7 fun d => zz_S7 fun c => zz_S7 fun b => zz_S7 fun a => f (7 * (7 * (7 * d.val + c.val) + b.val) + a.val) := by
  rw [show (2401 : Nat) = 7 * (7 * (7 * 7)) from rfl, zz_sm7, zz_sm7, zz_sm7, zz_sm1]
theorem zz_S7_cg {f g : Fin 7 → Nat} (h : ∀ x, f x = g x) : zz_S7 f = zz_S7 g := by
  rw [funext h]
theorem zz_S7_swap (F : Fin 7 → Fin 7 → Nat) : zz_S7 (fun i => zz_S7 (fun j => F i j)) = zz_S7 (fun j => zz_S7 (fun i => F i j)) := by
  unfold zz_S7
  dsimp only
  omega
theorem zz_S7_mul (k : Nat) (g : Fin 7 → Nat) : zz_S7 (fun x => k * g x) = k * zz_S7 g := by
  unfold zz_S7
  simp only [Nat.mul_add]
theorem zz_S7_c (k : Nat) : zz_S7 (fun _ => k) = 7 * k := by
  unfold zz_S7
  dsimp only
  omega
/-- encoding of an equation and of a triple -/
theorem zz_enc (a b c d : Fin 7) : zz_d (7 * (7 * (7 * d.val + c.val) + b.val) + a.val) 0 = a ∧ zz_d (7 * (7 * (7 * d.val + c.val) + b.val) + a.val) 1 = b ∧ zz_d (7 * (7 * (7 * d.val + c.val) + b.val) + a.val) 2 = c ∧ zz_d (7 * (7 * (7 * d.val + c.val) + b.val) + a.val) 3 = d ∧ 7 * (7 * (7 * d.val + c.val) + b.val) + a.val < 2401 := by
  have := a.isLt
  have := b.isLt
  have := c.isLt
  have := d.isLt
  have q3 : (zz_d (7 * (7 * (7 * d.val + c.val) + b.val) + a.val) 3).val = (7 * (7 * (7 * d.val + c.val) + b.val) + a.val) / 343 % 7 := rfl
  refine ⟨Fin.ext ?_, Fin.ext ?_, Fin.ext ?_, Fin.ext ?_, by omega⟩
  · rw [zy_d0]; omega
  · rw [zy_d1]; omega
  · rw [zy_d2]; omega
  · rw [q3]; omega
theorem zz_encT (x y z : Fin 7) : zz_d (7 * (7 * z.val + y.val) + x.val) 0 = x ∧ zz_d (7 * (7 * z.val + y.val) + x.val) 1 = y ∧ zz_d (7 * (7 * z.val + y.val) + x.val) 2 = z ∧ 7 * (7 * z.val + y.val) + x.val = zy_x x y z := by
  have := x.isLt
  have := y.isLt
  have := z.isLt
  refine ⟨Fin.ext ?_, Fin.ext ?_, Fin.ext ?_, by unfold zy_x; omega⟩
  · rw [zy_d0]; omega
  · rw [zy_d1]; omega
  · rw [zy_d2]; omega
/-! a space of one point in its own numbers: l0 l1 l2 the leads, u v w the basis' numbers behind them -/
def zz_la (l0 l1 l2 : Bool) (u v w a b c : Fin 7) : Prop := (l2 = true → c = 0) ∧ (l1 = true → b + c * w = 0) ∧ (l0 = true → a + (b * u + c * v) = 0)
def zz_lm (l0 l1 l2 : Bool) (u v w x y z : Fin 7) : Prop := (l0 = false → x = 0) ∧ (l1 = false → y - cond l0 (x * u) 0 = 0) ∧ (l2 = false → z - (cond l0 (x * v) 0 + cond l1 ((y - cond l0 (x * u) 0) * w) 0) = 0)
theorem zz_ann_la {L : Nat → Bool} {D : Nat → Fin 7} {p : Nat} (ec : zz_ech L D p) (a b c : Fin 7) : zz_ann L D p a b c ↔ zz_la (L (p * 3)) (L (p * 3 + 1)) (L (p * 3 + 2)) (D (p * 3 * 3 + 1)) (D (p * 3 * 3 + 2)) (D ((p * 3 + 1) * 3 + 2)) a b c := by
  constructor
  · intro h
    refine ⟨fun l => ?_, fun l => ?_, fun l => ?_⟩
    · obtain ⟨e1, e2⟩ := ec 2 (by decide) l
      have e20 : D ((p * 3 + 2) * 3) = 0 := e2 0 (by decide)
      have e21 : D ((p * 3 + 2) * 3 + 1) = 0 := e2 1 (by decide)
      have h2 := h 2 (by decide) l
      rw [e20, e21, e1] at h2
      grind
    · obtain ⟨e1, e2⟩ := ec 1 (by decide) l
      have e10 : D ((p * 3 + 1) * 3) = 0 := e2 0 (by decide)
      have h1 := h 1 (by decide) l
      rw [e10, e1] at h1
      grind
    · obtain ⟨e1, e2⟩ := ec 0 (by decide) l
      have e00 : D (p * 3 * 3) = 1 := e1
      have h0 : a * D (p * 3 * 3) + b * D (p * 3 * 3 + 1) + c * D (p * 3 * 3 + 2) = 0 := h 0 (by decide) l
      rw [e00] at h0
      grind
  · rintro ⟨h2, h1, h0⟩
    refine zz_lt3 (fun l => ?_) (fun l => ?_) (fun l => ?_)
    · obtain ⟨e1, e2⟩ := ec 0 (by decide) l
      have e00 : D (p * 3 * 3) = 1 := e1
      show a * D (p * 3 * 3) + b * D (p * 3 * 3 + 1) + c * D (p * 3 * 3 + 2) = 0
      rw [e00]
      have := h0 l
      grind
    · obtain ⟨e1, e2⟩ := ec 1 (by decide) l
      have e10 : D ((p * 3 + 1) * 3) = 0 := e2 0 (by decide)
      rw [e10, e1]
      have := h1 l
      grind
    · obtain ⟨e1, e2⟩ := ec 2 (by decide) l
      have e20 : D ((p * 3 + 2) * 3) = 0 := e2 0 (by decide)
      have e21 : D ((p * 3 + 2) * 3 + 1) = 0 := e2 1 (by decide)
      rw [e20, e21, e1]
      have := h2 l
      grind
theorem zz_la_lm (l0 l1 l2 : Bool) (u v w x y z : Fin 7) : (∀ a b c, zz_la l0 l1 l2 u v w a b c → a * x + b * y + c * z = 0) ↔ zz_lm l0 l1 l2 u v w x y z := by
  constructor
  · intro h
    refine ⟨fun e => ?_, fun e => ?_, fun e => ?_⟩
    · have := h 1 0 0 ⟨fun _ => rfl, fun _ => by grind, fun l => by rw [e] at l; cases l⟩
      grind
    · have := h (cond l0 (-u) 0) 1 0 ⟨fun _ => rfl, fun l => (by rw [e] at l; cases l), fun l => by rw [l]; show -u + (1 * u + 0 * v) = 0; grind⟩
      cases l0
      · show y - 0 = 0
        have h' : (0 : Fin 7) * x + 1 * y + 0 * z = 0 := this
        grind
      · show y - x * u = 0
        have h' : -u * x + 1 * y + 0 * z = 0 := this
        grind
    · have := h (cond l0 (-(cond l1 (-w) 0 * u + v)) 0) (cond l1 (-w) 0) 1 ⟨fun l => (by rw [e] at l; cases l), fun l => (by rw [l]; show -w + 1 * w = 0; grind), fun l => by rw [l]; show -(cond l1 (-w) 0 * u + v) + (cond l1 (-w) 0 * u + 1 * v) = 0; grind⟩
      cases l0
      · cases l1
        · show z - (0 + 0) = 0
          have h' : (0 : Fin 7) * x + 0 * y + 1 * z = 0 := this
          grind
        · show z - (0 + (y - 0) * w) = 0
          have h' : (0 : Fin 7) * x + -w * y + 1 * z = 0 := this
          grind
      · cases l1
        · show z - (x * v + 0) = 0
          have h' : -(0 * u + v) * x + 0 * y + 1 * z = 0 := this
          grind
        · show z - (x * v + (y - x * u) * w) = 0
          have h' : -(-w * u + v) * x + -w * y + 1 * z = 0 := this
          grind
  · rintro ⟨h0, h1, h2⟩ a b c ⟨g2, g1, g0⟩
    cases l0
    · have e0 := h0 rfl
      cases l1
      · have e1 : y - 0 = 0 := h1 rfl
        cases l2
        · have e2 : z - (0 + 0) = 0 := h2 rfl
          grind
        · have c0 := g2 rfl
          grind
      · have b0 := g1 rfl
        cases l2
        · have e2 : z - (0 + (y - 0) * w) = 0 := h2 rfl
          grind
        · have c0 := g2 rfl
          grind
    · have a0 := g0 rfl
      cases l1
      · have e1 : y - x * u = 0 := h1 rfl
        cases l2
        · have e2 : z - (x * v + 0) = 0 := h2 rfl
          grind
        · have c0 := g2 rfl
          grind
      · have b0 := g1 rfl
        cases l2
        · have e2 : z - (x * v + (y - x * u) * w) = 0 := h2 rfl
          grind
        · have c0 := g2 rfl
          grind
def zz_dm (l0 l1 l2 : Bool) : Nat := cond l0 1 0 + cond l1 1 0 + cond l2 1 0
theorem zz_n1 : ∀ s : Fin 7, zz_S7 (fun z => if z - s = 0 then 1 else 0) = 1 := by decide
theorem zz_n2 : ∀ s : Fin 7, zz_S7 (fun z => if z + s = 0 then 1 else 0) = 1 := by decide
theorem zz_n3' : ∀ s : Fin 7, zz_S7 (fun z => if s = z then 1 else 0) = 1 := by decide
theorem zz_S7_f (l : Bool) (s : Fin 7) : zz_S7 (fun z => zz_ind (l = false → z - s = 0)) = cond l 7 1 := by
  cases l
  · rw [zz_S7_cg (g := fun z => if z - s = 0 then 1 else 0) fun z => (zz_ind_cg ⟨fun h => h rfl, fun h _ => h⟩).trans (zz_ind_eq _ _)]
    exact zz_n1 s
  · rw [zz_S7_cg (g := fun _ => 1) fun z => zz_ind1 (fun e => by cases e)]
    rfl
theorem zz_S7_t (l : Bool) (s : Fin 7) : zz_S7 (fun z => zz_ind (l = true → z + s = 0)) = cond l 1 7 := by
  cases l
  · rw [zz_S7_cg (g := fun _ => 1) fun z => zz_ind1 (fun e => by cases e)]
    rfl
  · rw [zz_S7_cg (g := fun z => if z + s = 0 then 1 else 0) fun z => (zz_ind_cg ⟨fun h => h rfl, fun h _ => h⟩).trans (zz_ind_eq _ _)]
    exact zz_n2 s
theorem zz_cnt_lm (l0 l1 l2 : Bool) (u v w b0 b1 b2 : Fin 7) : (zz_S7 fun z => zz_S7 fun y => zz_S7 fun x => zz_ind (zz_lm l0 l1 l2 u v w (x - b0) (y - b1) (z - b2))) = 7 ^ zz_dm l0 l1 l2 := by
  have e1 : (zz_S7 fun z => zz_S7 fun y => zz_S7 fun x => zz_ind (zz_lm l0 l1 l2 u v w (x - b0) (y - b1) (z - b2))) = zz_S7 fun x => zz_S7 fun y => zz_S7 fun z => zz_ind (zz_lm l0 l1 l2 u v w (x - b0) (y - b1) (z - b2)) := by
    rw [zz_S7_cg (f := fun z => zz_S7 fun y => zz_S7 fun x => zz_ind (zz_lm l0 l1 l2 u v w (x - b0) (y - b1) (z - b2))) fun z => zz_S7_swap _]
    rw [zz_S7_swap]
    exact zz_S7_cg fun x => zz_S7_swap _
  rw [e1]
  have e2 : ∀ x y, (zz_S7 fun z => zz_ind (zz_lm l0 l1 l2 u v w (x - b0) (y - b1) (z - b2))) = zz_ind (l0 = false → x - b0 = 0) * (zz_ind (l1 = false → y - (b1 + cond l0 ((x - b0) * u) 0) = 0) * cond l2 7 1) := by
    intro x y
    rw [← zz_S7_f l2 (b2 + (cond l0 ((x - b0) * v) 0 + cond l1 ((y - b1 - cond l0 ((x - b0) * u) 0) * w) 0)), ← zz_S7_mul, ← zz_S7_mul]
    refine zz_S7_cg fun z => ?_
    rw [← zz_ind_and, ← zz_ind_and]
    refine zz_ind_cg ?_
    unfold zz_lm
    generalize cond l0 ((x - b0) * u) 0 = c1
    generalize cond l0 ((x - b0) * v) 0 = c2
    generalize cond l1 ((y - b1 - c1) * w) 0 = c3
    have f1 : y - b1 - c1 = y - (b1 + c1) := by grind
    have f2 : z - b2 - (c2 + c3) = z - (b2 + (c2 + c3)) := by grind
    rw [f1, f2]
  have e3 : ∀ x, (zz_S7 fun y => zz_S7 fun z => zz_ind (zz_lm l0 l1 l2 u v w (x - b0) (y - b1) (z - b2))) = zz_ind (l0 = false → x - b0 = 0) * (cond l1 7 1 * cond l2 7 1) := by
    intro x
    rw [zz_S7_cg (e2 x), zz_S7_mul]
    congr 1
    rw [zz_S7_cg (g := fun y => cond l2 7 1 * zz_ind (l1 = false → y - (b1 + cond l0 ((x - b0) * u) 0) = 0)) fun y => Nat.mul_comm _ _, zz_S7_mul, zz_S7_f, Nat.mul_comm]
  rw [zz_S7_cg e3, zz_S7_cg (g := fun x => (cond l1 7 1 * cond l2 7 1) * zz_ind (l0 = false → x - b0 = 0)) fun x => Nat.mul_comm _ _, zz_S7_mul, zz_S7_f]
  cases l0 <;> cases l1 <;> cases l2 <;> rfl
theorem zz_cnt_la (l0 l1 l2 : Bool) (u v w b0 b1 b2 : Fin 7) : (zz_S7 fun d => zz_S7 fun c => zz_S7 fun b => zz_S7 fun a => zz_ind (a * b0 + b * b1 + c * b2 = d ∧ zz_la l0 l1 l2 u v w a b c)) = 7 ^ (3 - zz_dm l0 l1 l2) := by
  have e1 : (zz_S7 fun d => zz_S7 fun c => zz_S7 fun b => zz_S7 fun a => zz_ind (a * b0 + b * b1 + c * b2 = d ∧ zz_la l0 l1 l2 u v w a b c)) = zz_S7 fun c => zz_S7 fun b => zz_S7 fun a => zz_S7 fun d => zz_ind (a * b0 + b * b1 + c * b2 = d ∧ zz_la l0 l1 l2 u v w a b c) := by
    rw [zz_S7_swap]
    refine zz_S7_cg fun c => ?_
    rw [zz_S7_swap]
    refine zz_S7_cg fun b => ?_
    rw [zz_S7_swap]
  rw [e1]
  have e2 : ∀ c b a, (zz_S7 fun d => zz_ind (a * b0 + b * b1 + c * b2 = d ∧ zz_la l0 l1 l2 u v w a b c)) = zz_ind (zz_la l0 l1 l2 u v w a b c) := by
    intro c b a
    rw [zz_S7_cg (g := fun d => zz_ind (zz_la l0 l1 l2 u v w a b c) * (if a * b0 + b * b1 + c * b2 = d then 1 else 0)) fun d => by rw [zz_ind_and, Nat.mul_comm, zz_ind_eq], zz_S7_mul, zz_n3', Nat.mul_one]
  have e3 : ∀ c b, (zz_S7 fun a => zz_S7 fun d => zz_ind (a * b0 + b * b1 + c * b2 = d ∧ zz_la l0 l1 l2 u v w a b c)) = zz_ind (l2 = true → c = 0) * (zz_ind (l1 = true → b + c * w = 0) * cond l0 1 7) := by
    intro c b
    rw [zz_S7_cg (e2 c b), ← zz_S7_t l0 (b * u + c * v), ← zz_S7_mul, ← zz_S7_mul]
    refine zz_S7_cg fun a => ?_
    rw [← zz_ind_and, ← zz_ind_and]
    rfl
  have e4 : ∀ c, (zz_S7 fun b => zz_S7 fun a => zz_S7 fun d => zz_ind (a * b0 + b * b1 + c * b2 = d ∧ zz_la l0 l1 l2 u v w a b c)) = zz_ind (l2 = true → c + 0 = 0) * (cond l1 1 7 * cond l0 1 7) := by
    intro c
    rw [zz_S7_cg (e3 c), zz_S7_mul, Fin.add_zero]
    congr 1
    rw [zz_S7_cg (g := fun b => cond l0 1 7 * zz_ind (l1 = true → b + c * w = 0)) fun b => Nat.mul_comm _ _, zz_S7_mul, zz_S7_t, Nat.mul_comm]
  rw [zz_S7_cg e4, zz_S7_cg (g := fun c => (cond l1 1 7 * cond l0 1 7) * zz_ind (l2 = true → c + 0 = 0)) fun c => Nat.mul_comm _ _, zz_S7_mul, zz_S7_t]
  cases l0 <;> cases l1 <;> cases l2 <;> rfl
end
section
/-! what the ready spaces say of the equations and of the hull -/
def zz_In (n : Nat) (E Q G : Nat → Nat) (p : Nat) (x y z : Fin 7) : Prop := ∀ a b c d, zz_Hd n E Q G p a b c d → a * x + b * y + c * z = d
def zz_He (n : Nat) (E Q G : Nat → Nat) (p e : Nat) : Prop := zz_Hd n E Q G p (zz_d e 0) (zz_d e 1) (zz_d e 2) (zz_d e 3)
def zz_It (n : Nat) (E Q G : Nat → Nat) (p t : Nat) : Prop := zz_In n E Q G p (zz_d t 0) (zz_d t 1) (zz_d t 2)
theorem zz_In_e {n : Nat} {E Q G : Nat → Nat} {p : Nat} {x y z : Fin 7} : zz_In n E Q G p x y z ↔ ∀ e, e < 2401 → zz_He n E Q G p e → zz_lin e x y z = zz_d e 3 := by
  constructor
  · intro h e _ he
    exact h _ _ _ _ he
  · intro h a b c d hd
    obtain ⟨ea, eb, ec, ed, el⟩ := zz_enc a b c d
    have := h _ el (by unfold zz_He; rw [ea, eb, ec, ed]; exact hd)
    unfold zz_lin at this
    rw [ea, eb, ec, ed] at this
    exact this
theorem zz_g6 {a b c x y z u v w : Fin 7} : a * (x - u) + b * (y - v) + c * (z - w) = 0 ↔ a * x + b * y + c * z = a * u + b * v + c * w := by
  constructor <;> intro h <;> grind
section
variable {n : Nat} {E Q G : Nat → Nat} {K L : Nat → Bool} {B D : Nat → Fin 7} {p : Nat}
theorem zx_known (ok : zx_OK n E Q G K B L D) (hp : p < 8) : K p = true ↔ ∃ x y z, zz_R n E Q G p x y z :=
  ⟨fun k => zz_nonempty (fun p hp a b c d h => (ok.2 p hp a b c d).mpr h) hp k, fun ⟨x, y, z, r⟩ => by
    refine Classical.byContradiction fun hn => ?_
    have h := (ok.2 p hp 0 0 0 1).mp (fun k => absurd k hn) x y z r
    rw [Fin.zero_mul, Fin.zero_mul, Fin.zero_mul] at h
    exact absurd h (by decide)⟩
theorem zx_In (ok : zx_OK n E Q G K B L D) (hp : p < 8) {x y z : Fin 7} : zz_In n E Q G p x y z ↔ (K p = true ∧ ∀ a b c, zz_ann L D p a b c → a * (x - B (p * 3)) + b * (y - B (p * 3 + 1)) + c * (z - B (p * 3 + 2)) = 0) := by
  constructor
  · intro h
    have k : K p = true := by
      refine Classical.byContradiction fun hn => ?_
      have h := h 0 0 0 1 ((ok.2 p hp 0 0 0 1).mp (fun k => absurd k hn))
      rw [Fin.zero_mul, Fin.zero_mul, Fin.zero_mul] at h
      exact absurd h (by decide)
    refine ⟨k, fun a b c ha => ?_⟩
    rw [zz_g6]
    exact h a b c _ ((ok.2 p hp a b c _).mp fun _ => ⟨rfl, ha⟩)
  · rintro ⟨k, h⟩ a b c d hd
    obtain ⟨h1, h2⟩ := (ok.2 p hp a b c d).mpr hd k
    rw [← h1]
    exact zz_g6.mp (h a b c h2)
theorem zx_In_lm (ok : zx_OK n E Q G K B L D) (hp : p < 8) (k : K p = true) {x y z : Fin 7} : zz_In n E Q G p x y z ↔ zz_lm (L (p * 3)) (L (p * 3 + 1)) (L (p * 3 + 2)) (D (p * 3 * 3 + 1)) (D (p * 3 * 3 + 2)) (D ((p * 3 + 1) * 3 + 2)) (x - B (p * 3)) (y - B (p * 3 + 1)) (z - B (p * 3 + 2)) := by
  rw [zx_In ok hp, ← zz_la_lm]
  constructor
  · rintro ⟨_, h⟩ a b c ha
    exact h a b c ((zz_ann_la (ok.1 p hp) a b c).mpr ha)
  · intro h
    exact ⟨k, fun a b c ha => h a b c ((zz_ann_la (ok.1 p hp) a b c).mp ha)⟩
theorem zx_size (ok : zx_OK n E Q G K B L D) (hp : p < 8) (k : K p = true) : zz_ct (zz_It n E Q G p) 343 = 7 ^ zz_dm (L (p * 3)) (L (p * 3 + 1)) (L (p * 3 + 2)) := by
  unfold zz_ct
  rw [zz_sm343, ← zz_cnt_lm (L (p * 3)) (L (p * 3 + 1)) (L (p * 3 + 2)) (D (p * 3 * 3 + 1)) (D (p * 3 * 3 + 2)) (D ((p * 3 + 1) * 3 + 2)) (B (p * 3)) (B (p * 3 + 1)) (B (p * 3 + 2))]
  refine zz_S7_cg fun z => zz_S7_cg fun y => zz_S7_cg fun x => zz_ind_cg ?_
  obtain ⟨e0, e1, e2, _⟩ := zz_encT x y z
  unfold zz_It
  rw [e0, e1, e2]
  exact zx_In_lm ok hp k
theorem zz_sm0 {f : Nat → Nat} : ∀ n, (∀ i, i < n → f i = 0) → zz_sm f n = 0 := by
  intro n
  induction n with
  | zero => intro _; rfl
  | succ n ih =>
    intro h
    show zz_sm f n + f n = 0
    rw [ih (fun i hi => h i (by omega)), h n (by omega)]
theorem zz_smn {f : Nat → Nat} : ∀ n, (∀ i, i < n → f i = 1) → zz_sm f n = n := by
  intro n
  induction n with
  | zero => intro _; rfl
  | succ n ih =>
    intro h
    show zz_sm f n + f n = n + 1
    rw [ih (fun i hi => h i (by omega)), h n (by omega)]
theorem zx_size0 (ok : zx_OK n E Q G K B L D) (hp : p < 8) (k : K p = false) : zz_ct (zz_It n E Q G p) 343 = 0 := by
  refine zz_sm0 343 fun t _ => zz_ind0 fun h => ?_
  have := ((zx_In ok hp).mp h).1
  rw [k] at this
  cases this
theorem zx_He (ok : zx_OK n E Q G K B L D) (hp : p < 8) (e : Nat) : zz_He n E Q G p e ↔ zz_Ann K B L D p (zz_d e 0) (zz_d e 1) (zz_d e 2) (zz_d e 3) := (ok.2 p hp _ _ _ _).symm
theorem zx_eqs0 (ok : zx_OK n E Q G K B L D) (hp : p < 8) (k : K p = false) : zz_ct (zz_He n E Q G p) 2401 = 2401 := by
  refine zz_smn 2401 fun e _ => zz_ind1 ((zx_He ok hp e).mpr fun h => ?_)
  rw [k] at h
  cases h
theorem zx_eqs (ok : zx_OK n E Q G K B L D) (hp : p < 8) (k : K p = true) : zz_ct (zz_He n E Q G p) 2401 = 7 ^ (3 - zz_dm (L (p * 3)) (L (p * 3 + 1)) (L (p * 3 + 2))) := by
  unfold zz_ct
  rw [zz_sm2401, ← zz_cnt_la (L (p * 3)) (L (p * 3 + 1)) (L (p * 3 + 2)) (D (p * 3 * 3 + 1)) (D (p * 3 * 3 + 2)) (D ((p * 3 + 1) * 3 + 2)) (B (p * 3)) (B (p * 3 + 1)) (B (p * 3 + 2))]
  refine zz_S7_cg fun d => zz_S7_cg fun c => zz_S7_cg fun b => zz_S7_cg fun a => zz_ind_cg ?_
  obtain ⟨ea, eb, ec, ed, el⟩ := zz_enc a b c d
  rw [zx_He ok hp, ea, eb, ec, ed, ← zz_ann_la (ok.1 p hp)]
  exact ⟨fun h => h k, fun h _ => h⟩
/-- reduce tells whether a vector lies in the span -/
theorem zx_ri_dec {V W : Nat → Fin 7} {r : Int32} (ec : zz_ech L D p) (h : zz_ri L D p V 3 r W) : (r = -1 ∧ ∀ a b c, zz_ann L D p a b c → a * V 0 + b * V 1 + c * V 2 = 0) ∨ (∃ f, f < 3 ∧ r = nI f ∧ ¬ ∀ a b c, zz_ann L D p a b c → a * V 0 + b * V 1 + c * V 2 = 0) := by
  obtain ⟨h1, h2, h3⟩ := h
  rcases h3 with ⟨hr, h3⟩ | ⟨f, hf, hr, hl, hw, h3⟩
  · refine Or.inl ⟨hr, fun a b c ha => ?_⟩
    rw [← h1 a b c ha, h3 0 (by decide), h3 1 (by decide), h3 2 (by decide)]
    grind
  · refine Or.inr ⟨f, hf, hr, fun hh => ?_⟩
    have lm : zz_lm (L (p * 3)) (L (p * 3 + 1)) (L (p * 3 + 2)) (D (p * 3 * 3 + 1)) (D (p * 3 * 3 + 2)) (D ((p * 3 + 1) * 3 + 2)) (W 0) (W 1) (W 2) := by
      rw [← zz_la_lm]
      intro a b c ha
      have ha' := (zz_ann_la ec a b c).mpr ha
      rw [h1 a b c ha']
      exact hh a b c ha'
    obtain ⟨m0, m1, m2⟩ := lm
    have hc : f = 0 ∨ f = 1 ∨ f = 2 := by omega
    rcases hc with rfl | rfl | rfl
    · exact hw (m0 hl)
    · have w0 : W 0 = 0 := h3 0 (by decide)
      have := m1 hl
      rw [w0] at this
      refine hw ?_
      cases hl0 : L (p * 3)
      · rw [hl0] at this
        have h' : W 1 - 0 = 0 := this
        grind
      · rw [hl0] at this
        have h' : W 1 - 0 * D (p * 3 * 3 + 1) = 0 := this
        grind
    · have w0 : W 0 = 0 := h3 0 (by decide)
      have w1 : W 1 = 0 := h3 1 (by decide)
      have := m2 hl
      rw [w0, w1] at this
      refine hw ?_
      cases hl0 : L (p * 3) <;> cases hl1 : L (p * 3 + 1)
      · rw [hl0, hl1] at this
        have h' : W 2 - (0 + 0) = 0 := this
        grind
      · rw [hl0, hl1] at this
        have h' : W 2 - (0 + (0 - 0) * D ((p * 3 + 1) * 3 + 2)) = 0 := this
        grind
      · rw [hl0, hl1] at this
        have h' : W 2 - (0 * D (p * 3 * 3 + 2) + 0) = 0 := this
        grind
      · rw [hl0, hl1] at this
        have h' : W 2 - (0 * D (p * 3 * 3 + 2) + (0 - 0 * D (p * 3 * 3 + 1)) * D ((p * 3 + 1) * 3 + 2)) = 0 := this
        grind
end
end
section
/-! the questions of X, over ready spaces -/
def zx_I (n : Nat) (E Q G : Nat → Nat) (u : SX) : Prop :=
  ∃ (rd : Bool) (xf xt xk xg xm : Nat → Int32) (K : Nat → Bool) (B : Nat → Fin 7) (L : Nat → Bool) (D W : Nat → Fin 7), u = (nI n, zz_b rd, xf, xt, xk, xg, xm, zz_k K, zz_v B, zz_k L, zz_v D, zz_v W) ∧ zx_D n E Q G xf xt xk xg xm ∧ (rd = true → zx_OK n E Q G K B L D)
theorem zx_bad {post : Int32 → Prop} {x : Int32} (h : x < 0 ∨ nI 8 ≤ x) (hp : post 1) : wpX_badPoint post x := by
  by_cases h0 : x < 0
  · exact br_t h0 hp
  · have h8 : nI 8 ≤ x := h.resolve_left h0
    exact br_f h0 (br_f (Int32.not_lt.mpr h8) hp)
theorem zx_good {post : Int32 → Prop} {j : Nat} (hj : j < 8) (hp : post 0) : wpX_badPoint post (nI j) :=
  br_f (nI_pos (by omega)) (br_t (nI_lt (b := 8) hj (by decide)) hp)
section
variable {fs fr : Int32} {xf xt xk xg xm : Nat → Int32} {K L : Nat → Bool} {B D W : Nat → Fin 7}
theorem zx_k1 {t : Nat} {a b c x y z d : Fin 7} (ht : t = 7 - d.val + a.val * x.val + b.val * y.val + c.val * z.val) : t % 7 = 0 ↔ a * x + b * y + c * z = d := by
  have hd := d.isLt
  rw [Fin.ext_iff, Fin.val_add, Fin.val_add, Fin.val_mul, Fin.val_mul, Fin.val_mul, ht]
  omega
theorem zx_k2 {t : Nat} {a b c x y z : Fin 7} (ht : t = 0 + a.val * x.val + b.val * y.val + c.val * z.val) : t % 7 = 0 ↔ a * x + b * y + c * z = 0 := by
  rw [Fin.ext_iff, Fin.val_add, Fin.val_add, Fin.val_mul, Fin.val_mul, Fin.val_mul, ht]
  show _ ↔ _ = 0
  omega
theorem zx_kp68 {post : Int32 → Prop} {p e : Nat} (hp : p < 8) (he : e < 2401) (h1 : zz_ann L D p (zz_d e 0) (zz_d e 1) (zz_d e 2) → post 1) (h0 : ¬ zz_ann L D p (zz_d e 0) (zz_d e 1) (zz_d e 2) → post 0) :
    ∀ d v, v + d = 3 → (∀ u, u < v → L (p * 3 + u) = true → zz_d e 0 * D ((p * 3 + u) * 3) + zz_d e 1 * D ((p * 3 + u) * 3 + 1) + zz_d e 2 * D ((p * 3 + u) * 3 + 2) = 0) → wX_keeps_68 post (nI p) (nI e) fs fr xf xt xk xg xm (zz_k K) (zz_v B) (zz_k L) (zz_v D) (zz_v W) (d + 1) (nI v) := by
  intro d
  induction d with
  | zero =>
    intro v hv h
    have e : v = 3 := by omega
    subst e
    exact br_t zz_33 (h1 h)
  | succ d ih =>
    intro v hv h
    have v3 : v < 3 := by omega
    refine br_f (zz_n3 v3) (zz_sum3 (fun n i t => wX_keeps_80 post (wX_keeps_68 post (nI p) (nI e) fs fr xf xt xk xg xm (zz_k K) (zz_v B) (zz_k L) (zz_v D) (zz_v W) (d + 1)) (nI p) (nI e) (nI v) fs fr xf xt xk xg xm (zz_k K) (zz_v B) (zz_k L) (zz_v D) (zz_v W) n (nI t) (nI i)) (fun i => (zz_d e i).val * (D ((p * 3 + v) * 3 + i)).val) 0 (fun n => ?_) (fun n i t hi ht => ?_))
    · have b0 := zz_mulb (zz_d e 0) (D ((p * 3 + v) * 3))
      have b1 := zz_mulb (zz_d e 1) (D ((p * 3 + v) * 3 + 1))
      have b2 := zz_mulb (zz_d e 2) (D ((p * 3 + v) * 3 + 2))
      have ek := zx_k2 (t := 0 + (zz_d e 0).val * (D ((p * 3 + v) * 3)).val + (zz_d e 1).val * (D ((p * 3 + v) * 3 + 1)).val + (zz_d e 2).val * (D ((p * 3 + v) * 3 + 2)).val) rfl
      have er := zy_rem7 (a := 0 + (zz_d e 0).val * (D ((p * 3 + v) * 3)).val + (zz_d e 1).val * (D ((p * 3 + v) * 3 + 1)).val + (zz_d e 2).val * (D ((p * 3 + v) * 3 + 2)).val) (by omega)
      refine br_t zz_33 ⟨zz_in24 hp v3, zz_bz (L (p * 3 + v)) (zz_k_at _ (zz_i1 p v) (by omega)) (fun l => nm_r (nI_1 v) (ih (v + 1) (by omega) fun u hu lu => ?_)) (fun l => ⟨zz_7, pk_eq _ 0 (fun e0 => nm_r (nI_1 v) (ih (v + 1) (by omega) fun u hu lu => ?_)) (fun ne => h0 fun ha => ne (ek.mpr (ha v v3 l))) er rfl (by omega)⟩)⟩
      · by_cases ev : u = v
        · rw [ev, l] at lu; cases lu
        · exact h u (by omega) lu
      · by_cases ev : u = v
        · rw [ev]; exact ek.mp e0
        · exact h u (by omega) lu
    · refine br_f (zz_n3 hi) (zx_dig e i (by omega) he ⟨zz_in72 hp v3 hi, nm_r (e' := nI (t + (zz_d e i).val * (D ((p * 3 + v) * 3 + i)).val)) ?_ (nm_r (nI_1 i) ht)⟩)
      rw [zz_v_at _ (zz_i2 p v i) (by omega)]
      unfold zz_i
      rw [pk_mul, nI_add]
theorem zx_keeps {post : Int32 → Prop} {p e : Nat} (hp : p < 8) (he : e < 2401) (hk : ∀ r, (r = true ↔ zz_Ann K B L D p (zz_d e 0) (zz_d e 1) (zz_d e 2) (zz_d e 3)) → post (zz_b r)) : wpX_keeps post (fs, fr, xf, xt, xk, xg, xm, zz_k K, zz_v B, zz_k L, zz_v D, zz_v W) (nI p) (nI e) := by
  have d3 := (zz_d e 3).isLt
  refine ⟨vp_in_nI hp (by decide), zz_bz (K p) (zz_k_at p rfl (by omega)) (fun k => hk true ⟨fun _ k' => ?_, fun _ => rfl⟩) (fun k => ?_)⟩
  · rw [k] at k'; cases k'
  · refine zx_dig e 3 (by omega) he (nm_r (e' := nI (7 - (zz_d e 3).val)) (pk_sub (a := 7) (by omega)) ?_)
    refine zz_sum3 (fun n i t => wX_keeps_23 post (nI p) (nI e) fs fr xf xt xk xg xm (zz_k K) (zz_v B) (zz_k L) (zz_v D) (zz_v W) n (nI t) (nI i)) (fun i => (zz_d e i).val * (B (p * 3 + i)).val) (7 - (zz_d e 3).val) (fun n => ?_) (fun n i t hi ht => ?_)
    · have b0 := zz_mulb (zz_d e 0) (B (p * 3))
      have b1 := zz_mulb (zz_d e 1) (B (p * 3 + 1))
      have b2 := zz_mulb (zz_d e 2) (B (p * 3 + 2))
      have ek := zx_k1 (t := 7 - (zz_d e 3).val + (zz_d e 0).val * (B (p * 3)).val + (zz_d e 1).val * (B (p * 3 + 1)).val + (zz_d e 2).val * (B (p * 3 + 2)).val) rfl
      have er := zy_rem7 (a := 7 - (zz_d e 3).val + (zz_d e 0).val * (B (p * 3)).val + (zz_d e 1).val * (B (p * 3 + 1)).val + (zz_d e 2).val * (B (p * 3 + 2)).val) (by omega)
      refine br_t zz_33 ⟨zz_7, pk_eq _ 0 (fun e0 => ⟨4, zx_kp68 hp he (fun ha => hk true ⟨fun _ _ => ⟨ek.mp e0, ha⟩, fun _ => rfl⟩) (fun ha => hk false ⟨fun z => (by cases z), fun h => absurd (h k).2 ha⟩) 3 0 rfl (fun u hu => absurd hu (Nat.not_lt_zero u))⟩) (fun ne => hk false ⟨fun z => (by cases z), fun h => absurd (ek.mpr (h k).1) ne⟩) er rfl (by omega)⟩
    · refine br_f (zz_n3 hi) (zx_dig e i (by omega) he ⟨zz_in24 hp hi, nm_r (e' := nI (t + (zz_d e i).val * (B (p * 3 + i)).val)) ?_ (nm_r (nI_1 i) ht)⟩)
      rw [zz_v_at _ (zz_i1 p i) (by omega)]
      unfold zz_i
      rw [pk_mul, nI_add]
theorem zx_dim_s {post : Int32 → Prop} {p v c n : Nat} (hp : p < 8) (hv : v < 3) (h : wX_dimension_4 post (nI p) fs fr xf xt xk xg xm (zz_k K) (zz_v B) (zz_k L) (zz_v D) (zz_v W) n (nI (c + cond (L (p * 3 + v)) 1 0)) (nI (v + 1))) : wX_dimension_4 post (nI p) fs fr xf xt xk xg xm (zz_k K) (zz_v B) (zz_k L) (zz_v D) (zz_v W) (n + 1) (nI c) (nI v) := by
  refine br_f (zz_n3 hv) ⟨zz_in24 hp hv, zz_bz (L (p * 3 + v)) (zz_k_at _ (zz_i1 p v) (by omega)) (fun l => nm_r (nI_1 v) ?_) (fun l => nm_r (nI_1 c) (nm_r (nI_1 v) ?_))⟩
  · rw [l] at h; exact h
  · rw [l] at h; exact h
theorem zx_dimension {post : Int32 → Prop} {p : Nat} (hp : p < 8) (h : post (nI (zz_dm (L (p * 3)) (L (p * 3 + 1)) (L (p * 3 + 2))))) : wpX_dimension post (fs, fr, xf, xt, xk, xg, xm, zz_k K, zz_v B, zz_k L, zz_v D, zz_v W) (nI p) := by
  refine ⟨4, zx_dim_s (v := 0) (c := 0) hp (by omega) (zx_dim_s hp (by omega) (zx_dim_s hp (by omega) (br_t zz_33 ?_)))⟩
  rw [Nat.zero_add]
  exact h
theorem zx_power_l {post : Int32 → Prop} {k : Nat} (hk : k < 2 ^ 31) (h : post (nI (7 ^ k))) : ∀ d i, i + d = k → wX_power_4 post (nI k) (d + 1) (nI (7 ^ i)) (nI i) := by
  intro d
  induction d with
  | zero =>
    intro i hi
    have e : i = k := by omega
    subst e
    exact br_t (nI_le (Nat.le_refl i) hk) h
  | succ d ih =>
    intro i hi
    refine br_f (nI_ge (by omega) hk) (nm_r (e' := nI (7 ^ (i + 1))) ?_ (nm_r (nI_1 i) (ih (i + 1) (by omega))))
    rw [Nat.pow_succ]
    exact pk_mul (7 ^ i) 7
theorem zx_power {post : Int32 → Prop} {k : Nat} (hk : k < 2 ^ 31) (h : post (nI (7 ^ k))) : wpX_power post (nI k) :=
  ⟨k + 1, zx_power_l hk h k 0 (Nat.zero_add k)⟩
theorem zz_dm3 (l0 l1 l2 : Bool) : zz_dm l0 l1 l2 ≤ 3 := by cases l0 <;> cases l1 <;> cases l2 <;> decide
theorem zx_sizeOf {n : Nat} {E Q G : Nat → Nat} {post : Int32 → Prop} {p : Nat} (hp : p < 8) (ok : zx_OK n E Q G K B L D) (h : post (nI (zz_ct (zz_It n E Q G p) 343))) : wpX_sizeOf post (fs, fr, xf, xt, xk, xg, xm, zz_k K, zz_v B, zz_k L, zz_v D, zz_v W) (nI p) := by
  have d3 := zz_dm3 (L (p * 3)) (L (p * 3 + 1)) (L (p * 3 + 2))
  unfold wpX_sizeOf
  refine ⟨vp_in_nI hp (by decide), zz_bz (K p) (zz_k_at p rfl (by omega)) (fun k => ?_) (fun k => ?_)⟩
  · rw [zx_size0 ok hp k] at h
    exact h
  · rw [zx_size ok hp k] at h
    exact zx_dimension hp (zx_power (by omega) h)
theorem zx_contains {post : Int32 → SX → Prop} {p : Nat} {x y z : Fin 7} (hp : p < 8) (ec : zz_ech L D p) (hk : ∀ r W', (r = true ↔ ∀ a b c, zz_ann L D p a b c → a * (x - B (p * 3)) + b * (y - B (p * 3 + 1)) + c * (z - B (p * 3 + 2)) = 0) → post (zz_b r) (fs, fr, xf, xt, xk, xg, xm, zz_k K, zz_v B, zz_k L, zz_v D, zz_v W')) : wpX_contains post (fs, fr, xf, xt, xk, xg, xm, zz_k K, zz_v B, zz_k L, zz_v D, zz_v W) (nI p) (nI (zy_x x y z)) := by
  have ht := zy_x_lt x y z
  obtain ⟨a1, a2, a3, _⟩ := zy_x_mod x y z
  have d0 : zz_d (zy_x x y z) 0 = x := Fin.ext (by rw [zy_d0]; exact a1)
  have d1 : zz_d (zy_x x y z) 1 = y := Fin.ext (by rw [zy_d1]; exact a2)
  have d2 : zz_d (zy_x x y z) 2 = z := Fin.ext (by rw [zy_d2]; have := z.isLt; omega)
  refine zz_fill0 (fun n i W => wX_contains_2 post (nI p) (nI (zy_x x y z)) fs fr n (nI i) xf xt xk xg xm (zz_k K) (zz_v B) (zz_k L) (zz_v D) (zz_v W)) (fun i _ => zz_d (zy_x x y z) i - B (p * 3 + i)) W (fun V => V 0 = x - B (p * 3) ∧ V 1 = y - B (p * 3 + 1) ∧ V 2 = z - B (p * 3 + 2)) ?_ (fun n V hV => ?_) (fun n i V hi hV => ?_)
  · rw [d0, d1, d2]
    exact ⟨rfl, rfl, rfl⟩
  · obtain ⟨v0, v1, v2⟩ := hV
    refine br_t zz_33 (zx_reduce hp ec fun r W' ri => ?_)
    have dec := zx_ri_dec ec ri
    rw [v0, v1, v2] at dec
    rcases dec with ⟨rfl, h⟩ | ⟨f, hf, rfl, h⟩
    · exact br_f (by decide) (hk true W' ⟨fun _ => h, fun _ => rfl⟩)
    · exact br_t (nI_pos' (by omega)) (hk false W' ⟨fun z => (by cases z), fun h' => absurd h' h⟩)
  · exact br_f (zz_n3 hi) (zx_dig (zy_x x y z) i (by omega) (by omega) ⟨zz_in24 hp hi, zx_mod1 (zz_d (zy_x x y z) i) (B (p * 3 + i)) (by rw [zz_v_at _ (zz_i1 p i) (by omega)]) ⟨zz_in3 hi, nm_r (zz_v_u i _ rfl rfl (by omega)) (nm_r (nI_1 i) hV)⟩⟩)
/-- whether the space at p lies in the space at q -/
def zx_Ins (B : Nat → Fin 7) (L : Nat → Bool) (D : Nat → Fin 7) (p q : Nat) : Prop :=
  (∀ a b c, zz_ann L D q a b c → a * (B (p * 3) - B (q * 3)) + b * (B (p * 3 + 1) - B (q * 3 + 1)) + c * (B (p * 3 + 2) - B (q * 3 + 2)) = 0) ∧
  ∀ v, v < 3 → L (p * 3 + v) = true → ∀ a b c, zz_ann L D q a b c → a * D ((p * 3 + v) * 3) + b * D ((p * 3 + v) * 3 + 1) + c * D ((p * 3 + v) * 3 + 2) = 0
theorem zx_ins48 {post : Int32 → SX → Prop} {p q : Nat} (hp : p < 8) (hq : q < 8) (ec : zz_ech L D q)
    (h0 : ∀ a b c, zz_ann L D q a b c → a * (B (p * 3) - B (q * 3)) + b * (B (p * 3 + 1) - B (q * 3 + 1)) + c * (B (p * 3 + 2) - B (q * 3 + 2)) = 0)
    (hk : ∀ r W, (r = true ↔ zx_Ins B L D p q) → post (zz_b r) (fs, fr, xf, xt, xk, xg, xm, zz_k K, zz_v B, zz_k L, zz_v D, zz_v W)) :
    ∀ d v g W, v + d = 3 → (g = true → ∀ u, u < v → L (p * 3 + u) = true → ∀ a b c, zz_ann L D q a b c → a * D ((p * 3 + u) * 3) + b * D ((p * 3 + u) * 3 + 1) + c * D ((p * 3 + u) * 3 + 2) = 0) → (g = false → ¬ zx_Ins B L D p q) → wX_inside_48 post (nI p) (nI q) (d + 1) (zz_b g) (nI v) fs fr xf xt xk xg xm (zz_k K) (zz_v B) (zz_k L) (zz_v D) (zz_v W) := by
  intro d
  induction d with
  | zero =>
    intro v g W hv h1 h2
    have e : v = 3 := by omega
    subst e
    refine br_t zz_33 ⟨zz_bn g, hk g W ⟨fun eg => ⟨h0, h1 eg⟩, fun hi => ?_⟩⟩
    cases g
    · exact absurd hi (h2 rfl)
    · rfl
  | succ d ih =>
    intro v g W hv h1 h2
    have v3 : v < 3 := by omega
    refine br_f (zz_n3 v3) (zz_bz g rfl (fun eg => ⟨zz_bn g, hk g W ⟨fun eg' => ?_, fun hi => absurd hi (h2 eg)⟩⟩) (fun eg => ⟨zz_in24 hp v3, zz_bz (L (p * 3 + v)) (zz_k_at _ (zz_i1 p v) (by omega)) (fun l => nm_r (nI_1 v) (ih (v + 1) g W (by omega) (fun _ u hu lu => ?_) h2)) (fun l => ?_)⟩))
    · rw [eg] at eg'; cases eg'
    · by_cases ev : u = v
      · rw [ev, l] at lu; cases lu
      · exact h1 eg u (by omega) lu
    · refine zz_fill0 (fun n i W => wX_inside_76 post (wX_inside_48 post (nI p) (nI q) (d + 1)) (nI p) (nI q) (nI v) fs fr n (nI i) xf xt xk xg xm (zz_k K) (zz_v B) (zz_k L) (zz_v D) (zz_v W)) (fun i _ => D ((p * 3 + v) * 3 + i)) W (fun V => V 0 = D ((p * 3 + v) * 3) ∧ V 1 = D ((p * 3 + v) * 3 + 1) ∧ V 2 = D ((p * 3 + v) * 3 + 2)) ⟨rfl, rfl, rfl⟩ (fun n V hV => ?_) (fun n i V hi hV => ?_)
      · obtain ⟨v0, v1, v2⟩ := hV
        refine br_t zz_33 (zx_reduce hq ec fun r W' ri => ?_)
        have dec := zx_ri_dec ec ri
        rw [v0, v1, v2] at dec
        rcases dec with ⟨rfl, h⟩ | ⟨f, hf, rfl, h⟩
        · refine br_f (by decide) (nm_r (nI_1 v) (ih (v + 1) true W' (by omega) (fun _ u hu lu => ?_) (fun z => by cases z)))
          by_cases ev : u = v
          · rw [ev]; exact h
          · exact h1 eg u (by omega) lu
        · exact br_t (nI_pos' (by omega)) (nm_r (nI_1 v) (ih (v + 1) false W' (by omega) (fun z => by cases z) (fun _ hi => h (hi.2 v v3 l))))
      · exact br_f (zz_n3 hi) ⟨zz_in72 hp v3 hi, zz_in3 hi, nm_r (zz_v_u i _ rfl (zz_v_at _ (zz_i2 p v i) (by omega)) (by omega)) (nm_r (nI_1 i) hV)⟩
theorem zx_ins48f {post : Int32 → SX → Prop} {p q : Nat} (h : ¬ zx_Ins B L D p q) (hk : ∀ r W, (r = true ↔ zx_Ins B L D p q) → post (zz_b r) (fs, fr, xf, xt, xk, xg, xm, zz_k K, zz_v B, zz_k L, zz_v D, zz_v W)) : wX_inside_48 post (nI p) (nI q) 1 (zz_b false) 0 fs fr xf xt xk xg xm (zz_k K) (zz_v B) (zz_k L) (zz_v D) (zz_v W) :=
  br_f (by decide) (br_t rfl ⟨rfl, hk false W ⟨fun z => (by cases z), fun h' => absurd h' h⟩⟩)
theorem zx_inside {post : Int32 → SX → Prop} {p q : Nat} (hp : p < 8) (hq : q < 8) (ec : zz_ech L D q) (hk : ∀ r W', (r = true ↔ zx_Ins B L D p q) → post (zz_b r) (fs, fr, xf, xt, xk, xg, xm, zz_k K, zz_v B, zz_k L, zz_v D, zz_v W')) : wpX_inside post (fs, fr, xf, xt, xk, xg, xm, zz_k K, zz_v B, zz_k L, zz_v D, zz_v W) (nI p) (nI q) := by
  have i0 : nI p * 3 = nI (p * 3) := pk_mul p 3
  have i1 : nI p * 3 + 1 = nI (p * 3 + 1) := zz_i1 p 1
  have i2 : nI p * 3 + 2 = nI (p * 3 + 2) := zz_i1 p 2
  unfold wpX_inside
  refine ⟨pk_in (p * 3) 24 (by omega) i0, pk_in (p * 3 + 1) 24 (by omega) i1, pk_in (p * 3 + 2) 24 (by omega) i2, nm_r (e' := nI (zy_x (B (p * 3)) (B (p * 3 + 1)) (B (p * 3 + 2)))) ?_ ?_⟩
  · rw [zz_v_at _ i0 (by omega), zz_v_at _ i1 (by omega), zz_v_at _ i2 (by omega)]
    unfold zz_i
    rw [show (7 : Int32) = nI 7 from rfl, show (49 : Int32) = nI 49 from rfl, pk_mul, pk_mul, nI_add, nI_add]
    rfl
  · refine zx_contains hq ec fun r W' hr => ?_
    cases r
    · exact ⟨1, zx_ins48f (fun h => absurd (hr.mpr h.1) (by decide)) hk⟩
    · exact ⟨4, zx_ins48 hp hq ec (hr.mp rfl) hk 3 0 true W' rfl (fun _ u hu => absurd hu (Nat.not_lt_zero u)) (fun z => by cases z)⟩
end
end
section
/-! the public questions of X: the answers by the reached states alone -/
/-- the answer of constant -/
def zz_AC (n : Nat) (E Q G : Nat → Nat) (p j : Nat) (r : Int32) : Prop :=
  (∃ v, r = zz_i v ∧ (∃ x y z, zz_In n E Q G p x y z) ∧ ∀ x y z, zz_In n E Q G p x y z → zz_co j x y z = v) ∨
  (r = -4 ∧ ¬ ∃ v, (∃ x y z, zz_In n E Q G p x y z) ∧ ∀ x y z, zz_In n E Q G p x y z → zz_co j x y z = v)
/-- the fold of loosest -/
def zz_lf (s : Nat → Nat) : Nat → Nat → Nat → Nat → Nat
  | 0, _, _, c => c
  | d + 1, p, m, c => if s p ≤ m then (if s p = m then zz_lf s d (p + 1) m (c + 1) else zz_lf s d (p + 1) m c) else zz_lf s d (p + 1) (s p) 1
theorem zz_co_at (A : Nat → Fin 7) (o : Nat) : ∀ j, j < 3 → zz_co j (A o) (A (o + 1)) (A (o + 2)) = A (o + j) := zz_lt3 rfl rfl rfl
theorem zz_co_lin {j : Nat} (hj : j < 3) (x y z : Fin 7) : zz_s j 0 1 0 * x + zz_s j 1 1 0 * y + zz_s j 2 1 0 * z = zz_co j x y z := by
  have hh : j = 0 ∨ j = 1 ∨ j = 2 := by omega
  rcases hh with rfl | rfl | rfl <;> simp +decide only [zz_s, zz_co, reduceIte] <;> grind
theorem zz_co_add {j : Nat} (x y z u v w : Fin 7) : zz_co j (x + u) (y + v) (z + w) = zz_co j x y z + zz_co j u v w := by
  unfold zz_co
  by_cases h0 : j = 0
  · rw [if_pos h0, if_pos h0, if_pos h0]
  · rw [if_neg h0, if_neg h0, if_neg h0]
    by_cases h1 : j = 1
    · rw [if_pos h1, if_pos h1, if_pos h1]
    · rw [if_neg h1, if_neg h1, if_neg h1]
section
variable {n : Nat} {E Q G : Nat → Nat} {K L : Nat → Bool} {B D : Nat → Fin 7} {p : Nat}
theorem zx_In_base (ok : zx_OK n E Q G K B L D) (hp : p < 8) (k : K p = true) : zz_In n E Q G p (B (p * 3)) (B (p * 3 + 1)) (B (p * 3 + 2)) := by
  rw [zx_In ok hp]
  exact ⟨k, fun a b c _ => by grind⟩
theorem zx_In_dir (ok : zx_OK n E Q G K B L D) (hp : p < 8) (k : K p = true) {v : Nat} (hv : v < 3) (l : L (p * 3 + v) = true) : zz_In n E Q G p (B (p * 3) + D ((p * 3 + v) * 3)) (B (p * 3 + 1) + D ((p * 3 + v) * 3 + 1)) (B (p * 3 + 2) + D ((p * 3 + v) * 3 + 2)) := by
  rw [zx_In ok hp]
  refine ⟨k, fun a b c ha => ?_⟩
  have := ha v hv l
  grind
theorem zx_AC_no (ok : zx_OK n E Q G K B L D) (hp : p < 8) {j v : Nat} (k : K p = true) (hj : j < 3) (hv : v < 3) (l : L (p * 3 + v) = true) (h : D ((p * 3 + v) * 3 + j) ≠ 0) : zz_AC n E Q G p j (-4) := by
  refine Or.inr ⟨rfl, ?_⟩
  rintro ⟨w, _, hw⟩
  have h1 := hw _ _ _ (zx_In_base ok hp k)
  have h2 := hw _ _ _ (zx_In_dir ok hp k hv l)
  rw [zz_co_add, h1, zz_co_at D _ j hj] at h2
  refine h ?_
  grind
theorem zx_AC_un (ok : zx_OK n E Q G K B L D) (hp : p < 8) {j : Nat} (k : K p = false) : zz_AC n E Q G p j (-4) := by
  refine Or.inr ⟨rfl, ?_⟩
  rintro ⟨w, ⟨x, y, z, h⟩, _⟩
  have := ((zx_In ok hp).mp h).1
  rw [k] at this
  cases this
theorem zx_AC_yes (ok : zx_OK n E Q G K B L D) (hp : p < 8) {j : Nat} (k : K p = true) (hj : j < 3) (h : ∀ v, v < 3 → L (p * 3 + v) = true → D ((p * 3 + v) * 3 + j) = 0) : zz_AC n E Q G p j (zz_i (B (p * 3 + j))) := by
  refine Or.inl ⟨_, rfl, ⟨_, _, _, zx_In_base ok hp k⟩, fun x y z hi => ?_⟩
  have ha : zz_ann L D p (zz_s j 0 1 0) (zz_s j 1 1 0) (zz_s j 2 1 0) := by
    intro v hv l
    rw [zz_co_lin hj, zz_co_at D _ j hj]
    exact h v hv l
  have := hi _ _ _ _ ((ok.2 p hp _ _ _ (zz_s j 0 1 0 * B (p * 3) + zz_s j 1 1 0 * B (p * 3 + 1) + zz_s j 2 1 0 * B (p * 3 + 2))).mp fun _ => ⟨rfl, ha⟩)
  rw [zz_co_lin hj, zz_co_lin hj, zz_co_at B _ j hj] at this
  exact this
theorem zx_Ins_Hd (ok : zx_OK n E Q G K B L D) {q : Nat} (hp : p < 8) (hq : q < 8) (kp : K p = true) (kq : K q = true) : zx_Ins B L D p q ↔ ∀ a b c d, zz_Hd n E Q G q a b c d → zz_Hd n E Q G p a b c d := by
  constructor
  · rintro ⟨h1, h2⟩ a b c d hd
    obtain ⟨g1, g2⟩ := (ok.2 q hq a b c d).mpr hd kq
    refine (ok.2 p hp a b c d).mp fun _ => ⟨?_, fun v hv l => h2 v hv l a b c g2⟩
    rw [← g1]
    exact zz_g6.mp (h1 a b c g2)
  · intro h
    have key : ∀ a b c, zz_ann L D q a b c → zz_Ann K B L D p a b c (a * B (q * 3) + b * B (q * 3 + 1) + c * B (q * 3 + 2)) := fun a b c ha => (ok.2 p hp _ _ _ _).mpr (h _ _ _ _ ((ok.2 q hq _ _ _ _).mp fun _ => ⟨rfl, ha⟩))
    exact ⟨fun a b c ha => zz_g6.mpr (key a b c ha kp).1, fun v hv l a b c ha => (key a b c ha kp).2 v hv l⟩
theorem zx_c39 {post : Int32 → SX → Prop} {fs fr : Int32} {xf xt xk xg xm : Nat → Int32} {W : Nat → Fin 7} {j : Nat} (hp : p < 8) (hj : j < 3) (h0 : ∀ v, v < 3 → L (p * 3 + v) = true → D ((p * 3 + v) * 3 + j) ≠ 0 → post (-4) (fs, fr, xf, xt, xk, xg, xm, zz_k K, zz_v B, zz_k L, zz_v D, zz_v W)) (h1 : (∀ v, v < 3 → L (p * 3 + v) = true → D ((p * 3 + v) * 3 + j) = 0) → post (zz_i (B (p * 3 + j))) (fs, fr, xf, xt, xk, xg, xm, zz_k K, zz_v B, zz_k L, zz_v D, zz_v W)) :
    ∀ d v, v + d = 3 → (∀ u, u < v → L (p * 3 + u) = true → D ((p * 3 + u) * 3 + j) = 0) → wX_constant_39 post (nI p) (nI j) fs fr xf xt xk xg xm (zz_k K) (zz_v B) (zz_k L) (zz_v D) (zz_v W) (d + 1) (nI v) := by
  intro d
  induction d with
  | zero =>
    intro v hv h
    have e : v = 3 := by omega
    subst e
    refine br_t zz_33 ⟨zz_in24 hp hj, ?_⟩
    rw [zz_v_at _ (zz_i1 p j) (by omega)]
    exact h1 h
  | succ d ih =>
    intro v hv h
    have v3 : v < 3 := by omega
    refine br_f (zz_n3 v3) ⟨zz_in24 hp v3, zz_bz (L (p * 3 + v)) (zz_k_at _ (zz_i1 p v) (by omega)) (fun l => nm_r (nI_1 v) (ih (v + 1) (by omega) fun u hu lu => ?_)) (fun l => ⟨zz_in72 hp v3 hj, zz_iz (D ((p * 3 + v) * 3 + j)) (zz_v_at _ (zz_i2 p v j) (by omega)) (fun e => nm_r (nI_1 v) (ih (v + 1) (by omega) fun u hu lu => ?_)) (fun e => h0 v v3 l e)⟩)⟩
    · by_cases ev : u = v
      · rw [ev, l] at lu; cases lu
      · exact h u (by omega) lu
    · by_cases ev : u = v
      · rw [ev]; exact e
      · exact h u (by omega) lu
end
section
variable {n : Nat} {E Q G : Nat → Nat} {u : SX} {p : Nat}
theorem zx_ask {post : SX → Prop} (n12 : n ≤ 12) (I : zx_I n E Q G u) (hk : ∀ xf xt xk xg xm K B L D W, (∀ W', zx_I n E Q G (nI n, zz_b true, xf, xt, xk, xg, xm, zz_k K, zz_v B, zz_k L, zz_v D, zz_v W')) → zx_OK n E Q G K B L D → post (nI n, zz_b true, xf, xt, xk, xg, xm, zz_k K, zz_v B, zz_k L, zz_v D, zz_v W)) : wpX_prepare post u := by
  obtain ⟨rd, xf, xt, xk, xg, xm, K, B, L, D, W, rfl, hD, hr⟩ := I
  exact zx_prepare n12 hD hr fun K B L D W ok => hk xf xt xk xg xm K B L D W (fun W' => ⟨true, xf, xt, xk, xg, xm, K, B, L, D, W', rfl, hD, fun _ => ok⟩) ok
theorem zx_reached {post : Int32 → SX → Prop} (n12 : n ≤ 12) (I : zx_I n E Q G u) (hp : p < 8) (hk : ∀ r u', zx_I n E Q G u' → (r = true ↔ ∃ x y z, zz_R n E Q G p x y z) → post (zz_b r) u') : wpX_reached post u (nI p) := by
  obtain ⟨u1, u2, u3, u4, u5, u6, u7, u8, u9, u10, u11, u12⟩ := u
  unfold wpX_reached
  refine zx_good hp (br_t rfl (zx_ask n12 I fun xf xt xk xg xm K B L D W I' ok => ⟨vp_in_nI hp (by decide), ?_⟩))
  rw [zz_k_at p rfl (by omega)]
  exact ⟨zz_bn _, hk (K p) _ (I' W) (zx_known ok hp)⟩
theorem zx_holds {post : Int32 → SX → Prop} {e : Nat} (n12 : n ≤ 12) (I : zx_I n E Q G u) (hp : p < 8) (he : e < 2401) (hk : ∀ r u', zx_I n E Q G u' → (r = true ↔ zz_He n E Q G p e) → post (zz_b r) u') : wpX_holds post u (nI p) (nI e) := by
  obtain ⟨u1, u2, u3, u4, u5, u6, u7, u8, u9, u10, u11, u12⟩ := u
  unfold wpX_holds
  refine zx_good hp (br_t rfl (br_f (nI_pos (by omega)) (br_t (nI_le (b := 2400) (by omega) (by decide)) (zx_ask n12 I fun xf xt xk xg xm K B L D W I' ok => ?_))))
  exact zx_keeps hp he fun r hr => ⟨zz_bn r, hk r _ (I' W) (hr.trans (zx_He ok hp e).symm)⟩
theorem zx_equations {post : Int32 → SX → Prop} (n12 : n ≤ 12) (I : zx_I n E Q G u) (hp : p < 8) (hk : ∀ u', zx_I n E Q G u' → post (nI (zz_ct (zz_He n E Q G p) 2401)) u') : wpX_equations post u (nI p) := by
  obtain ⟨u1, u2, u3, u4, u5, u6, u7, u8, u9, u10, u11, u12⟩ := u
  unfold wpX_equations
  refine zx_good hp (br_t rfl (zx_ask n12 I fun xf xt xk xg xm K B L D W I' ok => ⟨vp_in_nI hp (by decide), zz_bz (K p) (zz_k_at p rfl (by omega)) (fun k => ?_) (fun k => ?_)⟩))
  · have h := hk _ (I' W)
    rw [zx_eqs0 ok hp k] at h
    exact h
  · have h := hk _ (I' W)
    rw [zx_eqs ok hp k] at h
    have d3 := zz_dm3 (L (p * 3)) (L (p * 3 + 1)) (L (p * 3 + 2))
    refine zx_dimension hp ?_
    rw [show (3 : Int32) = nI 3 from rfl, pk_sub d3]
    exact zx_power (by omega) h
theorem zx_span {post : Int32 → SX → Prop} (n12 : n ≤ 12) (I : zx_I n E Q G u) (hp : p < 8) (hk : ∀ u', zx_I n E Q G u' → post (nI (zz_ct (zz_It n E Q G p) 343)) u') : wpX_span post u (nI p) := by
  obtain ⟨u1, u2, u3, u4, u5, u6, u7, u8, u9, u10, u11, u12⟩ := u
  unfold wpX_span
  exact zx_good hp (br_t rfl (zx_ask n12 I fun xf xt xk xg xm K B L D W I' ok => zx_sizeOf hp ok (hk _ (I' W))))
theorem zx_inSpan {post : Int32 → SX → Prop} {x y z : Fin 7} (n12 : n ≤ 12) (I : zx_I n E Q G u) (hp : p < 8) (hk : ∀ r u', zx_I n E Q G u' → (r = true ↔ zz_In n E Q G p x y z) → post (zz_b r) u') : wpX_inSpan post u (nI p) (nI (zy_x x y z)) := by
  have ht := zy_x_lt x y z
  obtain ⟨u1, u2, u3, u4, u5, u6, u7, u8, u9, u10, u11, u12⟩ := u
  unfold wpX_inSpan
  refine zx_good hp (br_t rfl (br_f (nI_pos (by omega)) (br_t (nI_le (b := 342) (by omega) (by decide)) (zx_ask n12 I fun xf xt xk xg xm K B L D W I' ok => ⟨vp_in_nI hp (by decide), zz_bz (K p) (zz_k_at p rfl (by omega)) (fun k => hk false _ (I' W) ⟨fun z => (by cases z), fun h => ?_⟩) (fun k => ?_)⟩))))
  · have := ((zx_In ok hp).mp h).1
    rw [k] at this
    cases this
  · refine zx_contains hp (ok.1 p hp) fun r W' hr => ?_
    have hi : r = true ↔ zz_In n E Q G p x y z := by
      rw [hr, zx_In ok hp]
      exact ⟨fun h => ⟨k, h⟩, fun h => h.2⟩
    exact zz_bz r rfl (fun er => hk false _ (I' W') (by rw [er] at hi; exact hi)) (fun er => hk true _ (I' W') (by rw [er] at hi; exact hi))
theorem zx_constant {post : Int32 → SX → Prop} {j : Nat} (n12 : n ≤ 12) (I : zx_I n E Q G u) (hp : p < 8) (hj : j < 3) (hk : ∀ r u', zx_I n E Q G u' → zz_AC n E Q G p j r → post r u') : wpX_constant post u (nI p) (nI j) := by
  obtain ⟨u1, u2, u3, u4, u5, u6, u7, u8, u9, u10, u11, u12⟩ := u
  unfold wpX_constant
  refine zx_good hp (br_t rfl (br_f (nI_pos (by omega)) (br_t (nI_le (b := 2) (by omega) (by decide)) (zx_ask n12 I fun xf xt xk xg xm K B L D W I' ok => ⟨vp_in_nI hp (by decide), zz_bz (K p) (zz_k_at p rfl (by omega)) (fun k => hk _ _ (I' W) (zx_AC_un ok hp k)) (fun k => ⟨4, ?_⟩)⟩))))
  exact zx_c39 hp hj (fun v hv l h => hk _ _ (I' W) (zx_AC_no ok hp k hj hv l h)) (fun h => hk _ _ (I' W) (zx_AC_yes ok hp k hj h)) 3 0 rfl (fun u hu => absurd hu (Nat.not_lt_zero u))
theorem zx_implies {post : Int32 → SX → Prop} {q : Nat} (n12 : n ≤ 12) (I : zx_I n E Q G u) (hp : p < 8) (hq : q < 8) (hk : ∀ r u', zx_I n E Q G u' → (r = true ↔ ∀ a b c d, zz_Hd n E Q G q a b c d → zz_Hd n E Q G p a b c d) → post (zz_b r) u') : wpX_implies post u (nI p) (nI q) := by
  obtain ⟨u1, u2, u3, u4, u5, u6, u7, u8, u9, u10, u11, u12⟩ := u
  unfold wpX_implies
  refine zx_good hp (br_t rfl (zx_good hq (br_t rfl (zx_ask n12 I fun xf xt xk xg xm K B L D W I' ok => ⟨vp_in_nI hp (by decide), zz_bz (K p) (zz_k_at p rfl (by omega)) (fun kp => hk true _ (I' W) ⟨fun _ a b c d _ => ?_, fun _ => rfl⟩) (fun kp => ⟨vp_in_nI hq (by decide), zz_bz (K q) (zz_k_at q rfl (by omega)) (fun kq => hk false _ (I' W) ⟨fun z => (by cases z), fun h => ?_⟩) (fun kq => ?_)⟩)⟩))))
  · refine (ok.2 p hp a b c d).mp fun k => ?_
    rw [kp] at k; cases k
  · have h1 := h 0 0 0 1 ((ok.2 q hq 0 0 0 1).mp fun k => by rw [kq] at k; cases k)
    have h2 := ((ok.2 p hp 0 0 0 1).mpr h1 kp).1
    rw [Fin.zero_mul, Fin.zero_mul, Fin.zero_mul] at h2
    exact absurd h2 (by decide)
  · refine zx_inside hp hq (ok.1 q hq) fun r W' hr => ?_
    have hi := hr.trans (zx_Ins_Hd ok hp hq kp kq)
    exact zz_bz r rfl (fun er => hk false _ (I' W') (by rw [er] at hi; exact hi)) (fun er => hk true _ (I' W') (by rw [er] at hi; exact hi))
end
theorem zx_lo10 {n : Nat} {E Q G : Nat → Nat} {fs fr : Int32} {xf xt xk xg xm : Nat → Int32} {K L : Nat → Bool} {B D W : Nat → Fin 7} {post : Int32 → SX → Prop} (ok : zx_OK n E Q G K B L D) (s : Nat → Nat) (hs : ∀ p, p < 8 → s p = zz_ct (zz_It n E Q G p) 343 ∧ s p < 2 ^ 31) :
    ∀ d p m c, p + d = 8 → m < 2 ^ 31 → c ≤ p → post (nI (zz_lf s d p m c)) (fs, fr, xf, xt, xk, xg, xm, zz_k K, zz_v B, zz_k L, zz_v D, zz_v W) → wX_loosest_10 post fs fr xf xt xk xg xm (zz_k K) (zz_v B) (zz_k L) (zz_v D) (zz_v W) (d + 1) (nI m) (nI c) (nI p) := by
  intro d
  induction d with
  | zero =>
    intro p m c hp hm hc h
    have e : p = 8 := by omega
    subst e
    exact br_t (nI_le (a := 8) (Nat.le_refl 8) (by decide)) h
  | succ d ih =>
    intro p m c hp hm hc h
    have p8 : p < 8 := by omega
    obtain ⟨es, hsm⟩ := hs p p8
    refine br_f (nI_ge (b := 8) p8 (by decide)) (zx_sizeOf p8 ok ?_)
    rw [← es]
    unfold zz_lf at h
    refine pk_le (s p) m (fun le => ?_) (fun gt => ?_)
    · rw [if_pos le] at h
      refine pk_le (s p) m (fun _ => ?_) (fun gt => absurd le (by omega))
      refine pk_eq (s p) m (fun e => nm_r (nI_1 c) (nm_r (nI_1 p) (ih (p + 1) m (c + 1) (by omega) hm (by omega) ?_))) (fun ne => nm_r (nI_1 p) (ih (p + 1) m c (by omega) hm (by omega) ?_))
      · rw [if_pos e] at h; exact h
      · rw [if_neg ne] at h; exact h
    · rw [if_neg (by omega)] at h
      refine pk_le (s p) m (fun le => absurd le (by omega)) (fun _ => ?_)
      exact br_t rfl (nm_r (e' := nI 1) rfl (nm_r (nI_1 p) (ih (p + 1) (s p) 1 (by omega) hsm (by omega) h)))
theorem zz_sm_le {f : Nat → Nat} : ∀ n, (∀ i, i < n → f i ≤ 1) → zz_sm f n ≤ n := by
  intro n
  induction n with
  | zero => intro _; exact Nat.le_refl 0
  | succ n ih =>
    intro h
    have h1 := ih (fun i hi => h i (by omega))
    have h2 := h n (by omega)
    show zz_sm f n + f n ≤ n + 1
    omega
theorem zz_ind_le (P : Prop) : zz_ind P ≤ 1 := by
  by_cases h : P
  · rw [zz_ind1 h]; exact Nat.le_refl 1
  · rw [zz_ind0 h]; exact Nat.zero_le 1
theorem zz_ct_le (P : Nat → Prop) (n : Nat) : zz_ct P n ≤ n := zz_sm_le n fun _ _ => zz_ind_le _
theorem zx_loosest {n : Nat} {E Q G : Nat → Nat} {u : SX} {post : Int32 → SX → Prop} (n12 : n ≤ 12) (I : zx_I n E Q G u) (hk : ∀ u', zx_I n E Q G u' → post (nI (zz_lf (fun p => zz_ct (zz_It n E Q G p) 343) 8 0 0 0)) u') : wpX_loosest post u := by
  obtain ⟨u1, u2, u3, u4, u5, u6, u7, u8, u9, u10, u11, u12⟩ := u
  unfold wpX_loosest
  refine zx_ask n12 I fun xf xt xk xg xm K B L D W I' ok => ⟨9, ?_⟩
  refine zx_lo10 ok (fun p => zz_ct (zz_It n E Q G p) 343) (fun p hp => ⟨rfl, ?_⟩) 8 0 0 0 rfl (by decide) (Nat.le_refl 0) (hk _ (I' W))
  have := zz_ct_le (zz_It n E Q G p) 343
  show zz_ct (zz_It n E Q G p) 343 < 2 ^ 31
  omega
end
section
/-! the questions of Y -/
theorem zy_bad {post : Int32 → Prop} {u : SY} {x : Int32} (h : x < 0 ∨ nI 8 ≤ x) (hp : post 0) : wpY_isPoint post u x := by
  obtain ⟨u1, u2, u3, u4, u5, u6, u7, u8, u9, u10⟩ := u
  by_cases h0 : x < 0
  · exact br_t h0 hp
  · have h8 : nI 8 ≤ x := h.resolve_left h0
    exact br_f h0 (br_t h8 hp)
theorem zy_good {post : Int32 → Prop} {u : SY} {j : Nat} (hj : j < 8) (hp : post 1) : wpY_isPoint post u (nI j) := by
  obtain ⟨u1, u2, u3, u4, u5, u6, u7, u8, u9, u10⟩ := u
  exact br_f (nI_pos (by omega)) (br_f (nI_ge (b := 8) hj (by decide)) hp)
theorem zy_dig {post : Int32 → Prop} {u : SY} {e : Nat} (he : e < 2401) (hp : post 1) : wpY_areDigits post u (nI e) := by
  obtain ⟨u1, u2, u3, u4, u5, u6, u7, u8, u9, u10⟩ := u
  exact br_f (nI_pos (by omega)) (br_f (nI_nlt (a := 2400) (b := e) (by omega) (by decide)) hp)
theorem zy_keeps {post : Int32 → Prop} {u : SY} (e : Nat) (x y z : Fin 7) (he : e < 2401) (hk : ∀ r, (r = true ↔ zz_lin e x y z = zz_d e 3) → post (zz_b r)) : wpY_keeps post u (nI e) (nI (zy_x x y z)) := by
  obtain ⟨u1, u2, u3, u4, u5, u6, u7, u8, u9, u10⟩ := u
  have hL := zy_L_lt e x y z
  have e1 := zy_L_lin e x y z
  have e2 := zy_d3 he
  unfold wpY_keeps
  refine zy_left e x y z he ⟨zz_7, zz_343, pk_eq (zy_L e x y z % 7) (e / 343) (fun h => hk true ⟨fun _ => ?_, fun _ => rfl⟩) (fun h => hk false ⟨fun z => (by cases z), fun h' => absurd ?_ h⟩) (zy_rem7 (by omega)) (zy_div343 (by omega)) (by omega) (by omega)⟩
  · refine Fin.ext ?_
    rw [← e1, e2]
    exact h
  · rw [e1, ← e2, h']
section
variable {n : Nat} {E Q G : Nat → Nat} {p : Nat}
theorem zy_h24 {post : Int32 → SY → Prop} {fl e : Nat} {fk : Bool} {M : Nat → Bool} {T C H : Nat → Nat} (hp : p < 8) (he : e < 2401) (ok : zy_OK n E Q G T C) (hk : ∀ r, (r = true ↔ zz_He n E Q G p e) → post (zz_b r) (nI n, zz_b fk, nI fl, zz_n E, zz_n Q, zz_n G, zz_k M, zz_n T, zz_n C, zz_n H)) :
    ∀ d i, i + d = C p → (∀ k, k < i → ∀ x y z, T (p * 343 + k) = zy_x x y z → zz_lin e x y z = zz_d e 3) → wY_holds_24 post (nI p) (nI e) (nI n) (zz_b fk) (nI fl) (zz_n E) (zz_n Q) (zz_n G) (zz_k M) (zz_n T) (zz_n C) (zz_n H) (d + 1) (nI i) := by
  obtain ⟨c1, c2, c3⟩ := ok p hp
  have eC : zz_n C (nI p).toNatClampNeg = nI (C p) := zz_n_at p rfl (by omega)
  intro d
  induction d with
  | zero =>
    intro i hi h
    have e0 : i = C p := by omega
    refine ⟨vp_in_nI hp (by decide), br_t (by rw [eC, e0]; exact nI_le (Nat.le_refl _) (by omega)) (hk true ⟨fun _ x y z r => ?_, fun _ => rfl⟩)⟩
    obtain ⟨k, hk', eT⟩ := c3 x y z r
    exact h k (by omega) x y z eT
  | succ d ih =>
    intro i hi h
    obtain ⟨x, y, z, eT, r0⟩ := c2 i (by omega)
    refine ⟨vp_in_nI hp (by decide), br_f (by rw [eC]; exact nI_ge (by omega) (by omega)) ⟨pk_in (p * 343 + i) 2744 (by omega) (zy_i p i), ?_⟩⟩
    rw [zz_n_at (p * 343 + i) (zy_i p i) (by omega), eT]
    refine zy_keeps e x y z he fun r hr => zz_bz r rfl (fun er => hk false ⟨fun z => (by cases z), fun hh => ?_⟩) (fun er => nm_r (nI_1 i) (ih (i + 1) (by omega) fun k hk' x' y' z' eT' => ?_))
    · have := hr.mpr (hh x y z r0)
      rw [er] at this
      cases this
    · by_cases ek : k = i
      · rw [ek, eT] at eT'
        obtain ⟨rfl, rfl, rfl⟩ := zy_x_inj eT'
        exact hr.mp er
      · exact h k (by omega) x' y' z' eT'
theorem zy_holds {post : Int32 → SY → Prop} {fl e : Nat} {fk : Bool} {M : Nat → Bool} {T C H : Nat → Nat} (n12 : n ≤ 12) (hD : zy_D n E Q G) (hp : p < 8) (he : e < 2401) (hr : fk = true → zy_OK n E Q G T C)
    (hk : ∀ r M T C, zy_OK n E Q G T C → (r = true ↔ zz_He n E Q G p e) → post (zz_b r) (nI n, zz_b true, nI fl, zz_n E, zz_n Q, zz_n G, zz_k M, zz_n T, zz_n C, zz_n H)) : wpY_holds post (nI n, zz_b fk, nI fl, zz_n E, zz_n Q, zz_n G, zz_k M, zz_n T, zz_n C, zz_n H) (nI p) (nI e) := by
  unfold wpY_holds
  refine zy_good hp (br_f (by decide) (zy_dig he (br_f (by decide) (zy_work n12 hD hr fun M T C ok => ⟨C p + 1, ?_⟩))))
  exact zy_h24 hp he ok (fun r h => hk r M T C ok h) (C p) 0 (Nat.zero_add _) (fun k hk' => absurd hk' (Nat.not_lt_zero k))
/-- the list of the equations that hold -/
def zy_HL (P : Nat → Prop) (c : Nat) (H : Nat → Nat) : Prop := c ≤ 2401 ∧ (∀ i, i < c → H i < 2401 ∧ P (H i)) ∧ ∀ e, e < 2401 → P e → ∃ i, i < c ∧ H i = e
theorem zz_ct_s (P : Nat → Prop) (n : Nat) : zz_ct P (n + 1) = zz_ct P n + zz_ind (P n) := rfl
theorem zy_l7 {post : SY → Prop} (n12 : n ≤ 12) (hD : zy_D n E Q G) (hp : p < 8)
    (hk : ∀ fk M T C H, (fk = true → zy_OK n E Q G T C) → zy_HL (zz_He n E Q G p) (zz_ct (zz_He n E Q G p) 2401) H → post (nI n, zz_b fk, nI (zz_ct (zz_He n E Q G p) 2401), zz_n E, zz_n Q, zz_n G, zz_k M, zz_n T, zz_n C, zz_n H)) :
    ∀ d e fl fk M T C H, e + d = 2401 → fl = zz_ct (zz_He n E Q G p) e → (∀ i, i < fl → H i < e ∧ zz_He n E Q G p (H i)) → (∀ i, i < e → zz_He n E Q G p i → ∃ k, k < fl ∧ H k = i) → (fk = true → zy_OK n E Q G T C) → wY_list_7 post (nI p) (d + 1) (nI e) (nI n) (zz_b fk) (nI fl) (zz_n E) (zz_n Q) (zz_n G) (zz_k M) (zz_n T) (zz_n C) (zz_n H) := by
  intro d
  induction d with
  | zero =>
    intro e fl fk M T C H he ef h1 h2 hr
    have e0 : e = 2401 := by omega
    subst e0
    subst ef
    exact br_t (nI_le (a := 2401) (Nat.le_refl _) (by decide)) (hk fk M T C H hr ⟨zz_ct_le _ _, h1, h2⟩)
  | succ d ih =>
    intro e fl fk M T C H he ef h1 h2 hr
    have fle := zz_ct_le (zz_He n E Q G p) e
    refine br_f (nI_ge (b := 2401) (by omega) (by decide)) (zy_holds n12 hD hp (by omega) hr fun r M T C ok hh => ?_)
    refine zz_bz r rfl (fun er => nm_r (nI_1 e) (ih (e + 1) fl true M T C H (by omega) ?_ (fun i hi => ⟨?_, (h1 i hi).2⟩) (fun i hi hP => ?_) (fun _ => ok))) (fun er => ⟨vp_in_nI (by omega) (by decide), nm_r (zz_n_u fl e rfl rfl (by omega)) (nm_r (nI_1 fl) (nm_r (nI_1 e) (ih (e + 1) (fl + 1) true M T C (zz_u H fl e) (by omega) ?_ (fun i hi => ?_) (fun i hi hP => ?_) (fun _ => ok))))⟩)
    · rw [zz_ct_s, zz_ind0 (fun h => by rw [hh.mpr h] at er; cases er)]
      exact ef
    · have := (h1 i hi).1
      omega
    · by_cases ei : i = e
      · rw [ei] at hP
        rw [hh.mpr hP] at er
        cases er
      · exact h2 i (by omega) hP
    · rw [zz_ct_s, zz_ind1 (hh.mp er), ef]
    · by_cases ei : i = fl
      · rw [ei, zz_us]
        exact ⟨by omega, hh.mp er⟩
      · rw [zz_un ei]
        have := h1 i (by omega)
        exact ⟨by omega, this.2⟩
    · by_cases ei : i = e
      · exact ⟨fl, by omega, by rw [zz_us]; exact ei.symm⟩
      · obtain ⟨k, hk', eH⟩ := h2 i (by omega) hP
        exact ⟨k, by omega, by rw [zz_un (by omega)]; exact eH⟩
theorem zy_list {post : SY → Prop} {fl : Nat} {fk : Bool} {M : Nat → Bool} {T C H : Nat → Nat} (n12 : n ≤ 12) (hD : zy_D n E Q G) (hp : p < 8) (hr : fk = true → zy_OK n E Q G T C)
    (hk : ∀ fk M T C H, (fk = true → zy_OK n E Q G T C) → zy_HL (zz_He n E Q G p) (zz_ct (zz_He n E Q G p) 2401) H → post (nI n, zz_b fk, nI (zz_ct (zz_He n E Q G p) 2401), zz_n E, zz_n Q, zz_n G, zz_k M, zz_n T, zz_n C, zz_n H)) : wpY_list post (nI n, zz_b fk, nI fl, zz_n E, zz_n Q, zz_n G, zz_k M, zz_n T, zz_n C, zz_n H) (nI p) :=
  ⟨2402, zy_l7 n12 hD hp hk 2401 0 0 fk M T C H rfl rfl (fun i hi => absurd hi (Nat.not_lt_zero i)) (fun i hi => absurd hi (Nat.not_lt_zero i)) hr⟩
theorem zy_ka {post : Int32 → Prop} {fl : Nat} {fk : Bool} {M : Nat → Bool} {T C H : Nat → Nat} {x y z : Fin 7} (hl : zy_HL (zz_He n E Q G p) fl H) (hk : ∀ r, (r = true ↔ zz_In n E Q G p x y z) → post (zz_b r)) :
    ∀ d i, i + d = fl → (∀ k, k < i → zz_lin (H k) x y z = zz_d (H k) 3) → wY_keepsAll_2 post (nI (zy_x x y z)) (nI n) (zz_b fk) (nI fl) (zz_n E) (zz_n Q) (zz_n G) (zz_k M) (zz_n T) (zz_n C) (zz_n H) (d + 1) (nI i) := by
  obtain ⟨l1, l2, l3⟩ := hl
  intro d
  induction d with
  | zero =>
    intro i hi h
    have e0 : i = fl := by omega
    subst e0
    refine br_t (nI_le (Nat.le_refl _) (by omega)) (hk true ⟨fun _ => zz_In_e.mpr fun e he hP => ?_, fun _ => rfl⟩)
    obtain ⟨k, hk', eH⟩ := l3 e he hP
    rw [← eH]
    exact h k hk'
  | succ d ih =>
    intro i hi h
    obtain ⟨b1, b2⟩ := l2 i (by omega)
    refine br_f (nI_ge (by omega) (by omega)) ⟨vp_in_nI (by omega) (by decide), ?_⟩
    rw [zz_n_at i rfl (by omega)]
    refine zy_keeps (H i) x y z b1 fun r hr => zz_bz r rfl (fun er => hk false ⟨fun z => (by cases z), fun hh => ?_⟩) (fun er => nm_r (nI_1 i) (ih (i + 1) (by omega) fun k hk' => ?_))
    · have := hr.mpr (zz_In_e.mp hh (H i) b1 b2)
      rw [er] at this
      cases this
    · by_cases ek : k = i
      · rw [ek]; exact hr.mp er
      · exact h k (by omega)
theorem zy_keepsAll {post : Int32 → Prop} {fl : Nat} {fk : Bool} {M : Nat → Bool} {T C H : Nat → Nat} {x y z : Fin 7} (hl : zy_HL (zz_He n E Q G p) fl H) (hk : ∀ r, (r = true ↔ zz_In n E Q G p x y z) → post (zz_b r)) : wpY_keepsAll post (nI n, zz_b fk, nI fl, zz_n E, zz_n Q, zz_n G, zz_k M, zz_n T, zz_n C, zz_n H) (nI (zy_x x y z)) :=
  ⟨fl + 1, zy_ka hl hk fl 0 (Nat.zero_add fl) (fun k hk' => absurd hk' (Nat.not_lt_zero k))⟩
theorem zy_It {x y z : Fin 7} : zz_It n E Q G p (zy_x x y z) ↔ zz_In n E Q G p x y z := by
  obtain ⟨e0, e1, e2, e3⟩ := zz_encT x y z
  rw [e3] at e0 e1 e2
  unfold zz_It
  rw [e0, e1, e2]
theorem zy_s19 {post : Int32 → SY → Prop} {fl : Nat} {fk : Bool} {M : Nat → Bool} {T C H : Nat → Nat} (hl : zy_HL (zz_He n E Q G p) fl H) (hk : post (nI (zz_ct (zz_It n E Q G p) 343)) (nI n, zz_b fk, nI fl, zz_n E, zz_n Q, zz_n G, zz_k M, zz_n T, zz_n C, zz_n H)) :
    ∀ d t c, t + d = 343 → c = zz_ct (zz_It n E Q G p) t → wY_span_19 post (nI n) (zz_b fk) (nI fl) (zz_n E) (zz_n Q) (zz_n G) (zz_k M) (zz_n T) (zz_n C) (zz_n H) (d + 1) (nI c) (nI t) := by
  intro d
  induction d with
  | zero =>
    intro t c ht hc
    have e : t = 343 := by omega
    subst e
    rw [← hc] at hk
    exact br_t (nI_le (a := 343) (Nat.le_refl _) (by decide)) hk
  | succ d ih =>
    intro t c ht hc
    obtain ⟨x, y, z, et⟩ := zy_tri (t := t) (by omega)
    refine br_f (nI_ge (b := 343) (by omega) (by decide)) ?_
    have key : wpY_keepsAll (fun r_25 => ((r_25 = 0 → ∀ x3_37 : Int32, x3_37 = nI t + 1 → wY_span_19 post (nI n) (zz_b fk) (nI fl) (zz_n E) (zz_n Q) (zz_n G) (zz_k M) (zz_n T) (zz_n C) (zz_n H) (d + 1) (nI c) x3_37) ∧ (¬ r_25 = 0 → ∀ x2_38 : Int32, x2_38 = nI c + 1 → ∀ x3_39 : Int32, x3_39 = nI t + 1 → wY_span_19 post (nI n) (zz_b fk) (nI fl) (zz_n E) (zz_n Q) (zz_n G) (zz_k M) (zz_n T) (zz_n C) (zz_n H) (d + 1) x2_38 x3_39))) (nI n, zz_b fk, nI fl, zz_n E, zz_n Q, zz_n G, zz_k M, zz_n T, zz_n C, zz_n H) (nI (zy_x x y z)) := by
      refine zy_keepsAll hl fun r hr => ?_
      rw [← zy_It, ← et] at hr
      refine zz_bz r rfl (fun er => nm_r (nI_1 t) (ih (t + 1) c (by omega) ?_)) (fun er => nm_r (nI_1 c) (nm_r (nI_1 t) (ih (t + 1) (c + 1) (by omega) ?_)))
      · rw [zz_ct_s, zz_ind0 (fun h => by rw [hr.mpr h] at er; cases er)]
        exact hc
      · rw [zz_ct_s, zz_ind1 (hr.mp er), hc]
    rw [← et] at key
    exact key
theorem zy_span0 {post : Int32 → SY → Prop} {fl : Nat} {fk : Bool} {M : Nat → Bool} {T C H : Nat → Nat} (n12 : n ≤ 12) (hD : zy_D n E Q G) (hp : p < 8) (hr : fk = true → zy_OK n E Q G T C)
    (hk : ∀ fl fk M T C H, (fk = true → zy_OK n E Q G T C) → post (nI (zz_ct (zz_It n E Q G p) 343)) (nI n, zz_b fk, nI fl, zz_n E, zz_n Q, zz_n G, zz_k M, zz_n T, zz_n C, zz_n H)) : wpY_span post (nI n, zz_b fk, nI fl, zz_n E, zz_n Q, zz_n G, zz_k M, zz_n T, zz_n C, zz_n H) (nI p) := by
  unfold wpY_span
  exact zy_good hp (br_f (by decide) (zy_list n12 hD hp hr fun fk M T C H hr' hl => ⟨344, zy_s19 hl (hk _ fk M T C H hr') 343 0 0 rfl rfl⟩))
theorem zy_digit {post : Int32 → Prop} {u : SY} {j : Nat} {x y z : Fin 7} (hj : j < 3) (h : post (zz_i (zz_co j x y z))) : wpY_digit post u (nI (zy_x x y z)) (nI j) := by
  have ht := zy_x_lt x y z
  obtain ⟨a1, a2, a3, _⟩ := zy_x_mod x y z
  obtain ⟨u1, u2, u3, u4, u5, u6, u7, u8, u9, u10⟩ := u
  have hh : j = 0 ∨ j = 1 ∨ j = 2 := by omega
  rcases hh with rfl | rfl | rfl
  · refine br_t rfl ⟨zz_7, ?_⟩
    rw [zy_rem7 (by omega), a1]
    exact h
  · refine br_f (by decide) (br_t rfl ⟨zz_7, zz_7, ?_⟩)
    rw [zy_div7 (by omega), zy_rem7 (by omega), a2]
    exact h
  · refine br_f (by decide) (br_f (by decide) ⟨zz_49, ?_⟩)
    rw [zy_div49 (by omega), a3]
    exact h
/-- the state of constant's loop -/
def zy_CI (n : Nat) (E Q G : Nat → Nat) (p j t : Nat) (r : Int32) : Prop :=
  (r = -4 ∧ ∀ x y z, zy_x x y z < t → ¬ zz_In n E Q G p x y z) ∨
  (∃ v, r = zz_i v ∧ (∃ x y z, zy_x x y z < t ∧ zz_In n E Q G p x y z) ∧ ∀ x y z, zy_x x y z < t → zz_In n E Q G p x y z → zz_co j x y z = v)
theorem zy_CI_end {j : Nat} {r : Int32} (h : zy_CI n E Q G p j 343 r) : zz_AC n E Q G p j r := by
  rcases h with ⟨hr, h⟩ | ⟨v, hr, ⟨x, y, z, _, h1⟩, h2⟩
  · refine Or.inr ⟨hr, ?_⟩
    rintro ⟨w, ⟨x, y, z, hi⟩, _⟩
    exact h x y z (zy_x_lt x y z) hi
  · exact Or.inl ⟨v, hr, ⟨x, y, z, h1⟩, fun x y z hi => h2 x y z (zy_x_lt x y z) hi⟩
theorem zy_i_nn : ∀ v : Fin 7, ¬ zz_i v < 0 := by decide +kernel
theorem zy_i_inj {v w : Fin 7} (h : zz_i v = zz_i w) : v = w := by
  have hv := v.isLt
  have hw := w.isLt
  exact Fin.ext ((nI_eq (by omega) (by omega)).mp h)
theorem zy_c33 {post : Int32 → SY → Prop} {fl j : Nat} {fk : Bool} {M : Nat → Bool} {T C H : Nat → Nat} (hj : j < 3) (hl : zy_HL (zz_He n E Q G p) fl H) (hk : ∀ r, zz_AC n E Q G p j r → post r (nI n, zz_b fk, nI fl, zz_n E, zz_n Q, zz_n G, zz_k M, zz_n T, zz_n C, zz_n H)) :
    ∀ d t r, t + d = 343 → zy_CI n E Q G p j t r → wY_constant_33 post (nI j) (nI n) (zz_b fk) (nI fl) (zz_n E) (zz_n Q) (zz_n G) (zz_k M) (zz_n T) (zz_n C) (zz_n H) (d + 1) r (nI t) := by
  intro d
  induction d with
  | zero =>
    intro t r ht h
    have e : t = 343 := by omega
    subst e
    exact br_t (nI_le (a := 343) (Nat.le_refl _) (by decide)) (hk r (zy_CI_end h))
  | succ d ih =>
    intro t r ht h
    obtain ⟨x, y, z, et⟩ := zy_tri (t := t) (by omega)
    subst et
    refine br_f (nI_ge (b := 343) (by omega) (by decide)) (zy_keepsAll hl fun g hg => zz_bz g rfl (fun eg => nm_r (nI_1 _) (ih (zy_x x y z + 1) r (by omega) ?_)) (fun eg => ?_))
    · have hn : ¬ zz_In n E Q G p x y z := fun hi => by rw [hg.mpr hi] at eg; cases eg
      have cut : ∀ x' y' z', zy_x x' y' z' < zy_x x y z + 1 → zz_In n E Q G p x' y' z' → zy_x x' y' z' < zy_x x y z := by
        intro x' y' z' hlt hi
        by_cases ex : zy_x x' y' z' = zy_x x y z
        · obtain ⟨rfl, rfl, rfl⟩ := zy_x_inj ex
          exact absurd hi hn
        · omega
      rcases h with ⟨hr, h⟩ | ⟨v, hr, ⟨x0, y0, z0, h0, h1⟩, h2⟩
      · exact Or.inl ⟨hr, fun x' y' z' hlt hi => h x' y' z' (cut x' y' z' hlt hi) hi⟩
      · exact Or.inr ⟨v, hr, ⟨x0, y0, z0, by omega, h1⟩, fun x' y' z' hlt hi => h2 x' y' z' (cut x' y' z' hlt hi) hi⟩
    · have hy := hg.mp eg
      have nx : (∀ x' y' z', zy_x x' y' z' < zy_x x y z → zz_In n E Q G p x' y' z' → zz_co j x' y' z' = zz_co j x y z) → zy_CI n E Q G p j (zy_x x y z + 1) (zz_i (zz_co j x y z)) := by
        intro hh
        refine Or.inr ⟨_, rfl, ⟨x, y, z, by omega, hy⟩, fun x' y' z' hlt hi => ?_⟩
        by_cases ex : zy_x x' y' z' = zy_x x y z
        · obtain ⟨rfl, rfl, rfl⟩ := zy_x_inj ex
          rfl
        · exact hh x' y' z' (by omega) hi
      rcases h with ⟨rfl, h⟩ | ⟨v, rfl, ⟨x0, y0, z0, h0, h1⟩, h2⟩
      · refine br_t (by decide) ?_
        unfold wY_constant_68
        exact zy_digit hj (nm_r (nI_1 _) (ih (zy_x x y z + 1) _ (by omega) (nx fun x' y' z' hlt hi => absurd hi (h x' y' z' hlt))))
      · refine br_f (zy_i_nn v) (zy_digit hj (br_c (fun e => ?_) (fun e => hk _ (Or.inr ⟨rfl, ?_⟩))))
        · unfold wY_constant_68
          refine zy_digit hj (nm_r (nI_1 _) (ih (zy_x x y z + 1) _ (by omega) (nx fun x' y' z' hlt hi => ?_)))
          rw [h2 x' y' z' hlt hi]
          exact (zy_i_inj e).symm
        · rintro ⟨w, _, hw⟩
          refine e (congrArg zz_i ?_)
          rw [hw x y z hy, ← hw x0 y0 z0 h1]
          exact h2 x0 y0 z0 h0 h1
end
end
section
/-! the public questions of Y -/
def zy_I (n : Nat) (E Q G : Nat → Nat) (v : SY) : Prop :=
  ∃ (fk : Bool) (fl : Nat) (M : Nat → Bool) (T C H : Nat → Nat), v = (nI n, zz_b fk, nI fl, zz_n E, zz_n Q, zz_n G, zz_k M, zz_n T, zz_n C, zz_n H) ∧ (fk = true → zy_OK n E Q G T C)
section
variable {n : Nat} {E Q G : Nat → Nat} {v : SY} {p : Nat}
theorem zy_reached {post : Int32 → SY → Prop} (n12 : n ≤ 12) (hD : zy_D n E Q G) (I : zy_I n E Q G v) (hp : p < 8) (hk : ∀ r v', zy_I n E Q G v' → (r = true ↔ ∃ x y z, zz_R n E Q G p x y z) → post (zz_b r) v') : wpY_reached post v (nI p) := by
  obtain ⟨fk, fl, M, T, C, H, rfl, hr⟩ := I
  unfold wpY_reached
  refine zy_work n12 hD hr fun M T C ok => zy_good hp (br_f (by decide) ⟨vp_in_nI hp (by decide), ?_⟩)
  obtain ⟨c1, c2, c3⟩ := ok p hp
  refine pk_le (C p) 0 (fun h => hk false _ ⟨true, fl, M, T, C, H, rfl, fun _ => ok⟩ ⟨fun z => (by cases z), ?_⟩) (fun h => hk true _ ⟨true, fl, M, T, C, H, rfl, fun _ => ok⟩ ⟨fun _ => ?_, fun _ => rfl⟩) (zz_n_at p rfl (by omega)) rfl (by omega) (by decide)
  · rintro ⟨x, y, z, r⟩
    obtain ⟨i, hi, _⟩ := c3 x y z r
    omega
  · obtain ⟨x, y, z, _, r⟩ := c2 0 h
    exact ⟨x, y, z, r⟩
theorem zy_reachedB {post : Int32 → SY → Prop} {x : Int32} (n12 : n ≤ 12) (hD : zy_D n E Q G) (I : zy_I n E Q G v) (hx : x < 0 ∨ nI 8 ≤ x) (hk : ∀ v', zy_I n E Q G v' → post 0 v') : wpY_reached post v x := by
  obtain ⟨fk, fl, M, T, C, H, rfl, hr⟩ := I
  unfold wpY_reached
  exact zy_work n12 hD hr fun M T C ok => zy_bad hx (br_t rfl (hk _ ⟨true, fl, M, T, C, H, rfl, fun _ => ok⟩))
theorem zy_holdsP {post : Int32 → SY → Prop} {e : Nat} (n12 : n ≤ 12) (hD : zy_D n E Q G) (I : zy_I n E Q G v) (hp : p < 8) (he : e < 2401) (hk : ∀ r v', zy_I n E Q G v' → (r = true ↔ zz_He n E Q G p e) → post (zz_b r) v') : wpY_holds post v (nI p) (nI e) := by
  obtain ⟨fk, fl, M, T, C, H, rfl, hr⟩ := I
  exact zy_holds n12 hD hp he hr fun r M T C ok h => hk r _ ⟨true, fl, M, T, C, H, rfl, fun _ => ok⟩ h
theorem zy_equations {post : Int32 → SY → Prop} (n12 : n ≤ 12) (hD : zy_D n E Q G) (I : zy_I n E Q G v) (hp : p < 8) (hk : ∀ v', zy_I n E Q G v' → post (nI (zz_ct (zz_He n E Q G p) 2401)) v') : wpY_equations post v (nI p) := by
  obtain ⟨fk, fl, M, T, C, H, rfl, hr⟩ := I
  unfold wpY_equations
  exact zy_good hp (br_f (by decide) (zy_list n12 hD hp hr fun fk M T C H hr' hl => hk _ ⟨fk, _, M, T, C, H, rfl, hr'⟩))
theorem zy_span {post : Int32 → SY → Prop} (n12 : n ≤ 12) (hD : zy_D n E Q G) (I : zy_I n E Q G v) (hp : p < 8) (hk : ∀ v', zy_I n E Q G v' → post (nI (zz_ct (zz_It n E Q G p) 343)) v') : wpY_span post v (nI p) := by
  obtain ⟨fk, fl, M, T, C, H, rfl, hr⟩ := I
  exact zy_span0 n12 hD hp hr fun fl fk M T C H hr' => hk _ ⟨fk, fl, M, T, C, H, rfl, hr'⟩
theorem zy_inSpan {post : Int32 → SY → Prop} {x y z : Fin 7} (n12 : n ≤ 12) (hD : zy_D n E Q G) (I : zy_I n E Q G v) (hp : p < 8) (hk : ∀ r v', zy_I n E Q G v' → (r = true ↔ zz_In n E Q G p x y z) → post (zz_b r) v') : wpY_inSpan post v (nI p) (nI (zy_x x y z)) := by
  have ht := zy_x_lt x y z
  obtain ⟨fk, fl, M, T, C, H, rfl, hr⟩ := I
  unfold wpY_inSpan
  exact zy_good hp (br_f (by decide) (br_f (nI_pos (by omega)) (br_t (nI_le (b := 342) (by omega) (by decide)) (zy_list n12 hD hp hr fun fk M T C H hr' hl => zy_keepsAll hl fun r hi => ⟨zz_bn r, hk r _ ⟨fk, _, M, T, C, H, rfl, hr'⟩ hi⟩))))
theorem zy_constant {post : Int32 → SY → Prop} {j : Nat} (n12 : n ≤ 12) (hD : zy_D n E Q G) (I : zy_I n E Q G v) (hp : p < 8) (hj : j < 3) (hk : ∀ r v', zy_I n E Q G v' → zz_AC n E Q G p j r → post r v') : wpY_constant post v (nI p) (nI j) := by
  obtain ⟨fk, fl, M, T, C, H, rfl, hr⟩ := I
  unfold wpY_constant
  refine zy_good hp (br_f (by decide) (br_f (nI_pos (by omega)) (br_t (nI_le (b := 2) (by omega) (by decide)) (zy_list n12 hD hp hr fun fk M T C H hr' hl => ⟨344, ?_⟩))))
  exact zy_c33 hj hl (fun r h => hk r _ ⟨fk, _, M, T, C, H, rfl, hr'⟩ h) 343 0 (-4) rfl (Or.inl ⟨rfl, fun x y z h => absurd h (Nat.not_lt_zero _)⟩)
theorem zy_imp_e {q : Nat} : (∀ e, e < 2401 → zz_He n E Q G q e → zz_He n E Q G p e) ↔ ∀ a b c d, zz_Hd n E Q G q a b c d → zz_Hd n E Q G p a b c d := by
  constructor
  · intro h a b c d hd
    obtain ⟨ea, eb, ec, ed, el⟩ := zz_enc a b c d
    have := h _ el (by unfold zz_He; rw [ea, eb, ec, ed]; exact hd)
    unfold zz_He at this
    rw [ea, eb, ec, ed] at this
    exact this
  · intro h e _ he
    exact h _ _ _ _ he
theorem zy_im25 {post : Int32 → SY → Prop} {q fl : Nat} {H : Nat → Nat} (n12 : n ≤ 12) (hD : zy_D n E Q G) (hp : p < 8) (hl : zy_HL (zz_He n E Q G q) fl H)
    (hk : ∀ r v', zy_I n E Q G v' → (r = true ↔ ∀ a b c d, zz_Hd n E Q G q a b c d → zz_Hd n E Q G p a b c d) → post (zz_b r) v') :
    ∀ d i fk M T C, i + d = fl → (∀ k, k < i → zz_He n E Q G p (H k)) → (fk = true → zy_OK n E Q G T C) → wY_implies_25 post (nI p) (d + 1) (nI i) (nI n) (zz_b fk) (nI fl) (zz_n E) (zz_n Q) (zz_n G) (zz_k M) (zz_n T) (zz_n C) (zz_n H) := by
  obtain ⟨l1, l2, l3⟩ := hl
  intro d
  induction d with
  | zero =>
    intro i fk M T C hi h hr
    have e0 : i = fl := by omega
    subst e0
    refine br_t (nI_le (Nat.le_refl _) (by omega)) (hk true _ ⟨fk, i, M, T, C, H, rfl, hr⟩ ⟨fun _ => zy_imp_e.mp fun e he hP => ?_, fun _ => rfl⟩)
    obtain ⟨k, hk', eH⟩ := l3 e he hP
    rw [← eH]
    exact h k hk'
  | succ d ih =>
    intro i fk M T C hi h hr
    obtain ⟨b1, b2⟩ := l2 i (by omega)
    refine br_f (nI_ge (by omega) (by omega)) ⟨vp_in_nI (by omega) (by decide), ?_⟩
    rw [zz_n_at i rfl (by omega)]
    refine zy_holds n12 hD hp b1 hr fun r M T C ok hh => zz_bz r rfl (fun er => hk false _ ⟨true, fl, M, T, C, H, rfl, fun _ => ok⟩ ⟨fun z => (by cases z), fun hi' => ?_⟩) (fun er => nm_r (nI_1 i) (ih (i + 1) true M T C (by omega) (fun k hk' => ?_) (fun _ => ok)))
    · have := hh.mpr (zy_imp_e.mpr hi' (H i) b1 b2)
      rw [er] at this
      cases this
    · by_cases ek : k = i
      · rw [ek]; exact hh.mp er
      · exact h k (by omega)
theorem zy_implies {post : Int32 → SY → Prop} {q : Nat} (n12 : n ≤ 12) (hD : zy_D n E Q G) (I : zy_I n E Q G v) (hp : p < 8) (hq : q < 8) (hk : ∀ r v', zy_I n E Q G v' → (r = true ↔ ∀ a b c d, zz_Hd n E Q G q a b c d → zz_Hd n E Q G p a b c d) → post (zz_b r) v') : wpY_implies post v (nI p) (nI q) := by
  obtain ⟨fk, fl, M, T, C, H, rfl, hr⟩ := I
  unfold wpY_implies
  exact zy_good hp (br_f (by decide) (zy_good hq (br_f (by decide) (zy_list n12 hD hq hr fun fk M T C H hr' hl => ⟨_, zy_im25 n12 hD hp hl hk _ 0 fk M T C (Nat.zero_add _) (fun k hk' => absurd hk' (Nat.not_lt_zero k)) hr'⟩))))
theorem zy_lo6 {post : Int32 → SY → Prop} (n12 : n ≤ 12) (hD : zy_D n E Q G) (s : Nat → Nat) (hs : ∀ p, p < 8 → s p = zz_ct (zz_It n E Q G p) 343 ∧ s p < 2 ^ 31) :
    ∀ d p m c fl fk M T C H, p + d = 8 → m < 2 ^ 31 → c ≤ p → (fk = true → zy_OK n E Q G T C) → (∀ v', zy_I n E Q G v' → post (nI (zz_lf s d p m c)) v') → wY_loosest_6 post (d + 1) (nI m) (nI c) (nI p) (nI n) (zz_b fk) (nI fl) (zz_n E) (zz_n Q) (zz_n G) (zz_k M) (zz_n T) (zz_n C) (zz_n H) := by
  intro d
  induction d with
  | zero =>
    intro p m c fl fk M T C H hp hm hc hr h
    have e : p = 8 := by omega
    subst e
    exact br_t (nI_le (a := 8) (Nat.le_refl 8) (by decide)) (h _ ⟨fk, fl, M, T, C, H, rfl, hr⟩)
  | succ d ih =>
    intro p m c fl fk M T C H hp hm hc hr h
    have p8 : p < 8 := by omega
    obtain ⟨es, hsm⟩ := hs p p8
    refine br_f (nI_ge (b := 8) p8 (by decide)) (zy_span0 n12 hD p8 hr fun fl fk M T C H hr' => ?_)
    rw [← es]
    unfold zz_lf at h
    refine pk_le (s p) m (fun le => ?_) (fun gt => ?_)
    · rw [if_pos le] at h
      refine pk_le (s p) m (fun _ => ?_) (fun gt => absurd le (by omega))
      refine pk_eq (s p) m (fun e => nm_r (nI_1 c) (nm_r (nI_1 p) (ih (p + 1) m (c + 1) fl fk M T C H (by omega) hm (by omega) hr' ?_))) (fun ne => nm_r (nI_1 p) (ih (p + 1) m c fl fk M T C H (by omega) hm (by omega) hr' ?_))
      · rw [if_pos e] at h; exact h
      · rw [if_neg ne] at h; exact h
    · rw [if_neg (by omega)] at h
      refine pk_le (s p) m (fun le => absurd le (by omega)) (fun _ => ?_)
      exact br_t rfl (nm_r (e' := nI 1) rfl (nm_r (nI_1 p) (ih (p + 1) (s p) 1 fl fk M T C H (by omega) hsm (by omega) hr' h)))
theorem zz_ct_pos {P : Nat → Prop} {i : Nat} (hi : P i) : ∀ n, i < n → 1 ≤ zz_ct P n := by
  intro n
  induction n with
  | zero => intro h; omega
  | succ n ih =>
    intro h
    rw [zz_ct_s]
    by_cases e : i = n
    · rw [← e, zz_ind1 hi]
      omega
    · have := ih (by omega)
      omega
theorem zy_m1 {k : Nat} (h : k < 2 ^ 31) : ¬ nI k ≤ -1 := by
  intro z
  rw [Int32.le_iff_toInt_le, nI_toInt h, show (-1 : Int32).toInt = -1 from by decide] at z
  omega
theorem zy_loosest {post : Int32 → SY → Prop} (n12 : n ≤ 12) (hD : zy_D n E Q G) (I : zy_I n E Q G v) (hk : ∀ v', zy_I n E Q G v' → post (nI (zz_lf (fun p => zz_ct (zz_It n E Q G p) 343) 8 0 0 0)) v') : wpY_loosest post v := by
  obtain ⟨fk, fl, M, T, C, H, rfl, hr⟩ := I
  have pos : 1 ≤ zz_ct (zz_It n E Q G 0) 343 := zz_ct_pos (i := zy_x 0 0 0) (zy_It.mpr fun a b c d h => h 0 0 0 zz_R0) 343 (by decide)
  have le := zz_ct_le (zz_It n E Q G 0) 343
  refine ⟨9, br_f (by decide) (zy_span0 (p := 0) n12 hD (by decide) hr fun fl fk M T C H hr' => ?_)⟩
  refine br_f (zy_m1 (by omega)) (br_f (zy_m1 (by omega)) (br_t rfl (nm_r (e' := nI 1) rfl (nm_r (e' := nI 1) rfl ?_))))
  refine zy_lo6 n12 hD (fun p => zz_ct (zz_It n E Q G p) 343) (fun p hp => ⟨rfl, ?_⟩) 7 1 (zz_ct (zz_It n E Q G 0) 343) 1 fl fk M T C H rfl (by omega) (Nat.le_refl 1) hr' fun v' I' => ?_
  · have := zz_ct_le (zz_It n E Q G p) 343
    show zz_ct (zz_It n E Q G p) 343 < 2 ^ 31
    omega
  · have h := hk v' I'
    rw [show zz_lf (fun p => zz_ct (zz_It n E Q G p) 343) 8 0 0 0 = zz_lf (fun p => zz_ct (zz_It n E Q G p) 343) 7 1 (zz_ct (zz_It n E Q G 0) 343) 1 from if_neg (by show ¬ zz_ct (zz_It n E Q G 0) 343 ≤ 0; omega)] at h
    exact h
end
end
section
/-! adding a step: both sides -/
theorem zz_gt {x : Int32} (a : Nat) (ha : a + 1 < 2 ^ 31) (h : nI (a + 1) ≤ x) : ¬ x ≤ nI a :=
  fun z => nI_ge (a := a) (b := a + 1) (by omega) ha (Int32.le_trans h z)
theorem zz_nn {x : Int32} {a : Nat} (ha : a < 2 ^ 31) (h : nI a ≤ x) : ¬ x < 0 := Int32.not_lt.mpr (Int32.le_trans (nI_pos' ha) h)
theorem zx_D_add {n e k g : Nat} {E Q G : Nat → Nat} {xf xt xk xg xm xm' : Nat → Int32} {y1 y2 y3 y4 : Int32} (hD : zx_D n E Q G xf xt xk xg xm) (he : e < 64) (hk : k < 7) (hg : g < 2401)
    (h1 : y1 = nI (e % 8)) (h2 : y2 = nI (e / 8)) (h3 : y3 = nI (zz_kd k)) (h4 : y4 = nI (zz_tg k)) (hm : ∀ j, j < n * 4 → xm' j = xm j) (ht : k < 3 → ∀ i, i < 4 → xm' (n * 4 + i) = zz_i (zz_d g i)) :
    zx_D (n + 1) (zz_u E n e) (zz_u Q n k) (zz_u G n g) (upd xf n y1) (upd xt n y2) (upd xk n y3) (upd xg n y4) xm' := by
  intro s hs
  by_cases es : s = n
  · subst es
    rw [zz_us, zz_us, zz_us, pk_us, pk_us, pk_us, pk_us]
    exact ⟨he, hk, hg, h1, h2, h3, h4, ht⟩
  · obtain ⟨d1, d2, d3, e1, e2, e3, e4, e5⟩ := hD s (by omega)
    rw [zz_un es, zz_un es, zz_un es, pk_un es, pk_un es, pk_un es, pk_un es]
    exact ⟨d1, d2, d3, e1, e2, e3, e4, fun h3 i hi => by rw [hm _ (by omega)]; exact e5 h3 i hi⟩
theorem zx_D_cut {n : Nat} {E Q G : Nat → Nat} {xf xt xk xg xm : Nat → Int32} (hD : zx_D (n + 1) E Q G xf xt xk xg xm) : zx_D n E Q G xf xt xk xg xm := fun s hs => hD s (by omega)
theorem zy_D_add {n e k g : Nat} {E Q G : Nat → Nat} (hD : zy_D n E Q G) (he : e < 64) (hk : k < 7) (hg : g < 2401) : zy_D (n + 1) (zz_u E n e) (zz_u Q n k) (zz_u G n g) := by
  intro s hs
  by_cases es : s = n
  · subst es
    rw [zz_us, zz_us, zz_us]
    exact ⟨he, hk, hg⟩
  · rw [zz_un es, zz_un es, zz_un es]
    exact hD s (by omega)
/-- X's new step -/
theorem zx_addStep {post : Int32 → SX → Prop} {n e k g kd tg : Nat} {E Q G : Nat → Nat} {fr : Int32} {xf xt xk xg xm : Nat → Int32} {K L : Nat → Bool} {B D W : Nat → Fin 7} (hn : n < 12) (he : e < 64) (hk : k < 7) (hg : g < 2401) (ekd : kd = zz_kd k) (etg : tg = zz_tg k) (hD : zx_D n E Q G xf xt xk xg xm)
    (h : ∀ xf' xt' xk' xg' : Nat → Int32, (∀ xm' : Nat → Int32, (∀ j, j < n * 4 → xm' j = xm j) → (k < 3 → ∀ i, i < 4 → xm' (n * 4 + i) = zz_i (zz_d g i)) → zx_I (n + 1) (zz_u E n e) (zz_u Q n k) (zz_u G n g) (nI (n + 1), 0, xf', xt', xk', xg', xm', zz_k K, zz_v B, zz_k L, zz_v D, zz_v W)) → post (nI n) (nI (n + 1), 0, xf', xt', xk', xg', xm, zz_k K, zz_v B, zz_k L, zz_v D, zz_v W)) : wpX_addStep post (nI n, fr, xf, xt, xk, xg, xm, zz_k K, zz_v B, zz_k L, zz_v D, zz_v W) (nI e) (nI kd) (nI tg) := by
  have hin : vp_in (nI n) 12 := vp_in_nI hn (by decide)
  have cl : (nI n).toNatClampNeg = n := nI_clamp (by omega)
  have e1 : nI e &&& 7 = nI (e % 8) := pk_andN (by omega) 3 (by decide)
  have e2 : nI e >>> ((3 : Int32) &&& 31) = nI (e / 8) := pk_shrN (by omega) _ 3 (by decide)
  refine ⟨hin, nm_e ⟨hin, nm_e ⟨hin, nm_e ⟨hin, nm_e (nm_r (nI_1 n) ?_)⟩⟩⟩⟩
  rw [cl]
  refine h _ _ _ _ fun xm' hm ht => ⟨false, _, _, _, _, xm', K, B, L, D, W, rfl, zx_D_add hD he hk hg e1 e2 (by rw [ekd]) (by rw [etg]) hm ht, fun z => by cases z⟩
/-- X's loop over the digits -/
theorem zx_as56 {post : Int32 → SX → Prop} {n g : Nat} {fs fr : Int32} {xf xt xk xg xm0 : Nat → Int32} {K L : Nat → Bool} {B D W : Nat → Fin 7} (hn : n < 12) (hg : g < 2401)
    (h : ∀ xm : Nat → Int32, (∀ j, j < n * 4 → xm j = xm0 j) → (∀ i, i < 4 → xm (n * 4 + i) = zz_i (zz_d g i)) → post (nI n) (fs, fr, xf, xt, xk, xg, xm, zz_k K, zz_v B, zz_k L, zz_v D, zz_v W)) :
    ∀ d i xm, i + d = 4 → (∀ j, j < n * 4 → xm j = xm0 j) → (∀ k, k < i → xm (n * 4 + k) = zz_i (zz_d g k)) → wX_assign_56 post (nI g) (nI n) fs fr (d + 1) (nI i) xf xt xk xg xm (zz_k K) (zz_v B) (zz_k L) (zz_v D) (zz_v W) := by
  intro d
  induction d with
  | zero =>
    intro i xm hi h1 h2
    have e : i = 4 := by omega
    subst e
    exact br_t (nI_le (a := 4) (Nat.le_refl 4) (by decide)) (h xm h1 h2)
  | succ d ih =>
    intro i xm hi h1 h2
    refine br_f (nI_ge (b := 4) (by omega) (by decide)) (zx_dig g i (by omega) hg ⟨pk_in (n * 4 + i) 48 (by omega) (zz_i4 n i), nm_e (nm_r (nI_1 i) ?_)⟩)
    rw [zz_i4, nI_clamp (by omega)]
    refine ih (i + 1) _ (by omega) (fun j hj => ?_) (fun k hk => ?_)
    · rw [pk_un (by omega)]
      exact h1 j hj
    · by_cases ek : k = i
      · rw [ek, pk_us]
      · rw [pk_un (by omega)]
        exact h2 k (by omega)
/-- Y's new step -/
theorem zy_add {post : Int32 → SY → Prop} {n e k g : Nat} {E Q G : Nat → Nat} {v : SY} (hn : n < 12) (I : zy_I n E Q G v) (h : ∀ v', zy_I (n + 1) (zz_u E n e) (zz_u Q n k) (zz_u G n g) v' → post (nI n) v') : wpY_add post v (nI e) (nI k) (nI g) := by
  obtain ⟨fk, fl, M, T, C, H, rfl, hr⟩ := I
  have hin : vp_in (nI n) 12 := vp_in_nI hn (by decide)
  refine pk_eq n 12 (fun z => by omega) (fun _ => ⟨hin, nm_r (zz_n_u n e rfl rfl (by omega)) ⟨hin, nm_r (zz_n_u n k rfl rfl (by omega)) ⟨hin, nm_r (zz_n_u n g rfl rfl (by omega)) (nm_r (e' := nI (n + 1)) (nI_1 n) ?_)⟩⟩⟩) rfl rfl (by omega) (by decide)
  rw [nI_pred]
  exact h _ ⟨false, fl, M, T, C, H, rfl, fun z => by cases z⟩
theorem zy_addF {post : Int32 → SY → Prop} {E Q G : Nat → Nat} {v : SY} {y1 y2 y3 : Int32} (I : zy_I 12 E Q G v) (h : post (-3) v) : wpY_add post v y1 y2 y3 := by
  obtain ⟨fk, fl, M, T, C, H, rfl, hr⟩ := I
  exact br_t rfl h
end
section
/-! the relation and what is owed -/
theorem zz_beq {r r' : Bool} {P : Prop} (h : r = true ↔ P) (h' : r' = true ↔ P) : zz_b r' = zz_b r := by
  have e : r' = r := by
    cases r <;> cases r'
    · rfl
    · exact absurd (h.mpr (h'.mp rfl)) (by decide)
    · exact absurd (h'.mpr (h.mp rfl)) (by decide)
    · rfl
  rw [e]
theorem zz_ACeq {n : Nat} {E Q G : Nat → Nat} {p j : Nat} {r r' : Int32} (h : zz_AC n E Q G p j r) (h' : zz_AC n E Q G p j r') : r' = r := by
  rcases h with ⟨v, rfl, ⟨x, y, z, hi⟩, hv⟩ | ⟨rfl, hn⟩
  · rcases h' with ⟨v', rfl, _, hv'⟩ | ⟨_, hn⟩
    · rw [← hv x y z hi, ← hv' x y z hi]
    · exact absurd ⟨v, ⟨x, y, z, hi⟩, hv⟩ hn
  · rcases h' with ⟨v', rfl, he, hv'⟩ | ⟨rfl, _⟩
    · exact absurd ⟨v', he, hv'⟩ hn
    · rfl
theorem zy_digB {post : Int32 → Prop} {u : SY} {x : Int32} (h : x < 0 ∨ nI 2401 ≤ x) (hp : post 0) : wpY_areDigits post u x := by
  obtain ⟨u1, u2, u3, u4, u5, u6, u7, u8, u9, u10⟩ := u
  by_cases h0 : x < 0
  · exact br_t h0 hp
  · exact br_f h0 (br_t (Int32.not_le.mp (zz_gt 2400 (by decide) (h.resolve_left h0))) hp)
theorem zx_badE {post : Int32 → Prop} {x : Int32} (h : x < 0 ∨ nI 64 ≤ x) (hp : post 1) : wpX_badEnds post x := by
  by_cases h0 : x < 0
  · exact br_t h0 hp
  · exact br_f h0 (br_f (zz_gt 63 (by decide) (h.resolve_left h0)) hp)
theorem zx_goodE {post : Int32 → Prop} {e : Nat} (he : e < 64) (hp : post 0) : wpX_badEnds post (nI e) :=
  br_f (nI_pos (by omega)) (br_t (nI_le (b := 63) (by omega) (by decide)) hp)
/-- both states speak of the same steps -/
def i_Rel (k : Nat) (u : SX) (v : SY) : Prop := ∃ (n : Nat) (E Q G : Nat → Nat), n ≤ 12 ∧ zy_D n E Q G ∧ zx_I n E Q G u ∧ zy_I n E Q G v
theorem i_up {k : Nat} {u : SX} {v : SY} (h : i_Rel k u v) : i_Rel (k + 4) u v := h
theorem i_vc0 : wpX_init (fun u => wpY_init (fun v => i_Rel 0 u v)) := by
  refine ⟨0, fun _ => 0, fun _ => 0, fun _ => 0, by decide, fun s hs => absurd hs (Nat.not_lt_zero s), ?_, ?_⟩
  · exact ⟨false, fun _ => 0, fun _ => 0, fun _ => 0, fun _ => 0, fun _ => 0, fun _ => false, fun _ => 0, fun _ => false, fun _ => 0, fun _ => 0, rfl, fun s hs => absurd hs (Nat.not_lt_zero s), fun z => by cases z⟩
  · exact ⟨false, 0, fun _ => false, fun _ => 0, fun _ => 0, fun _ => 0, rfl, fun z => by cases z⟩
theorem i_vc_assign {k : Nat} {u : SX} {v : SY} (I : i_Rel k u v) (hk : k + 4 ≤ 2048) (v1 : Int32) (v2 : Int32) (v3 : Int32) : wpX_assign (fun r u' => wpY_assign (fun r' v' => r' = r ∧ i_Rel (k + 4) u' v') v v1 v2 v3) u v1 v2 v3 := by
  have I0 := I
  obtain ⟨n, E, Q, G, n12, hD, IX, IY⟩ := I
  obtain ⟨rd, xf, xt, xk, xg, xm, K, B, L, D, W, rfl, hDx, hr⟩ := IX
  obtain ⟨w1, w2, w3, w4, w5, w6, w7, w8, w9, w10⟩ := v
  unfold wpX_assign wpY_assign
  rcases pk_ix v1 (n := 64) (by decide) with h1 | h1 | ⟨e, he, rfl⟩
  · exact zx_badE (Or.inl h1) (br_f (by decide) (br_t h1 ⟨rfl, I0⟩))
  · exact zx_badE (Or.inr h1) (br_f (by decide) (br_f (zz_nn (by decide) h1) (br_f (zz_gt 63 (by decide) h1) ⟨rfl, I0⟩)))
  have p1 : ¬ nI e < 0 := nI_pos (by omega)
  have q1 : nI e ≤ 63 := nI_le (b := 63) (by omega) (by decide)
  refine zx_goodE he (br_t rfl ?_)
  rcases pk_ix v2 (n := 3) (by decide) with h2 | h2 | ⟨j, hj, rfl⟩
  · exact br_t h2 (br_f p1 (br_t q1 (br_t h2 ⟨rfl, I0⟩)))
  · have g2 : (2 : Int32) < v2 := Int32.not_le.mp (zz_gt 2 (by decide) h2)
    exact br_f (zz_nn (by decide) h2) (br_t g2 (br_f p1 (br_t q1 (br_f (zz_nn (by decide) h2) (br_t g2 ⟨rfl, I0⟩)))))
  have p2 : ¬ nI j < 0 := nI_pos (by omega)
  have q2 : ¬ (2 : Int32) < nI j := nI_nlt (a := 2) (b := j) (by omega) (by decide)
  refine br_f p2 (br_f q2 ?_)
  rcases pk_ix v3 (n := 2401) (by decide) with h3 | h3 | ⟨g, hg, rfl⟩
  · exact br_t h3 (br_f p1 (br_t q1 (br_f p2 (br_f q2 (zy_digB (Or.inl h3) (br_t rfl ⟨rfl, I0⟩))))))
  · exact br_f (zz_nn (by decide) h3) (br_f (zz_gt 2400 (by decide) h3) (br_f p1 (br_t q1 (br_f p2 (br_f q2 (zy_digB (Or.inr h3) (br_t rfl ⟨rfl, I0⟩)))))))
  refine br_f (nI_pos (by omega)) (br_t (nI_le (b := 2400) (by omega) (by decide)) ?_)
  by_cases hn : n < 12
  · refine br_t (nI_lt (b := 12) hn (by decide)) (zx_addStep (k := j) (g := g) (kd := 0) hn he (by omega) hg (zz_kd0 hj).symm (zz_tg0 hj).symm hDx fun xf' xt' xk' xg' hI => ⟨5, ?_⟩)
    refine zx_as56 hn hg (fun xm' m1 m2 => ?_) 4 0 xm rfl (fun _ _ => rfl) (fun i hi => absurd hi (Nat.not_lt_zero i))
    exact br_f p1 (br_t q1 (br_f p2 (br_f q2 (zy_dig hg (br_f (by decide) (zy_add hn IY fun v' I' => ⟨rfl, n + 1, _, _, _, by omega, zy_D_add hD he (by omega) hg, hI xm' m1 (fun _ => m2), I'⟩))))))
  · have e12 : n = 12 := by omega
    subst e12
    exact br_f (by decide) (br_f p1 (br_t q1 (br_f p2 (br_f q2 (zy_dig hg (br_f (by decide) (zy_addF IY ⟨rfl, I0⟩)))))))
theorem i_vc_forget {k : Nat} {u : SX} {v : SY} (I : i_Rel k u v) (hk : k + 4 ≤ 2048) (v1 : Int32) (v2 : Int32) : wpX_forget (fun r u' => wpY_forget (fun r' v' => r' = r ∧ i_Rel (k + 4) u' v') v v1 v2) u v1 v2 := by
  have I0 := I
  obtain ⟨n, E, Q, G, n12, hD, IX, IY⟩ := I
  obtain ⟨rd, xf, xt, xk, xg, xm, K, B, L, D, W, rfl, hDx, hr⟩ := IX
  obtain ⟨w1, w2, w3, w4, w5, w6, w7, w8, w9, w10⟩ := v
  unfold wpX_forget wpY_forget
  rcases pk_ix v1 (n := 64) (by decide) with h1 | h1 | ⟨e, he, rfl⟩
  · exact zx_badE (Or.inl h1) (br_f (by decide) (br_t h1 ⟨rfl, I0⟩))
  · exact zx_badE (Or.inr h1) (br_f (by decide) (br_f (zz_nn (by decide) h1) (br_f (zz_gt 63 (by decide) h1) ⟨rfl, I0⟩)))
  have p1 : ¬ nI e < 0 := nI_pos (by omega)
  have q1 : nI e ≤ 63 := nI_le (b := 63) (by omega) (by decide)
  refine zx_goodE he (br_t rfl ?_)
  rcases pk_ix v2 (n := 3) (by decide) with h2 | h2 | ⟨j, hj, rfl⟩
  · exact br_t h2 (br_f p1 (br_t q1 (br_t h2 ⟨rfl, I0⟩)))
  · exact br_f (zz_nn (by decide) h2) (br_f (zz_gt 2 (by decide) h2) (br_f p1 (br_t q1 (br_f (zz_nn (by decide) h2) (br_f (zz_gt 2 (by decide) h2) ⟨rfl, I0⟩)))))
  have p2 : ¬ nI j < 0 := nI_pos (by omega)
  have q2 : nI j ≤ 2 := nI_le (b := 2) (by omega) (by decide)
  have e3 : 3 + nI j = nI (j + 3) := by
    rw [show (3 : Int32) = nI 3 from rfl, nI_add, Nat.add_comm]
  rw [e3]
  refine br_f p2 (br_t q2 ?_)
  by_cases hn : n < 12
  · refine br_t (nI_lt (b := 12) hn (by decide)) (zx_addStep (k := j + 3) (g := 0) (kd := 1) hn he (by omega) (by decide) (zz_kd1 (by omega) (by omega)).symm (by rw [zz_tg1 (by omega) (by omega)]; omega) hDx fun xf' xt' xk' xg' hI => ?_)
    exact br_f p1 (br_t q1 (br_f p2 (br_t q2 (zy_add hn IY fun v' I' => ⟨rfl, n + 1, _, _, _, by omega, zy_D_add hD he (by omega) (by decide), hI xm (fun _ _ => rfl) (fun z => by omega), I'⟩))))
  · have e12 : n = 12 := by omega
    subst e12
    exact br_f (by decide) (br_f p1 (br_t q1 (br_f p2 (br_t q2 (zy_addF IY ⟨rfl, I0⟩)))))
theorem i_vc_pass {k : Nat} {u : SX} {v : SY} (I : i_Rel k u v) (hk : k + 4 ≤ 2048) (v1 : Int32) : wpX_pass (fun r u' => wpY_pass (fun r' v' => r' = r ∧ i_Rel (k + 4) u' v') v v1) u v1 := by
  have I0 := I
  obtain ⟨n, E, Q, G, n12, hD, IX, IY⟩ := I
  obtain ⟨rd, xf, xt, xk, xg, xm, K, B, L, D, W, rfl, hDx, hr⟩ := IX
  obtain ⟨w1, w2, w3, w4, w5, w6, w7, w8, w9, w10⟩ := v
  unfold wpX_pass wpY_pass
  rcases pk_ix v1 (n := 64) (by decide) with h1 | h1 | ⟨e, he, rfl⟩
  · exact zx_badE (Or.inl h1) (br_f (by decide) (br_t h1 ⟨rfl, I0⟩))
  · exact zx_badE (Or.inr h1) (br_f (by decide) (br_f (zz_nn (by decide) h1) (br_f (zz_gt 63 (by decide) h1) ⟨rfl, I0⟩)))
  have p1 : ¬ nI e < 0 := nI_pos (by omega)
  have q1 : nI e ≤ 63 := nI_le (b := 63) (by omega) (by decide)
  refine zx_goodE he (br_t rfl ?_)
  by_cases hn : n < 12
  · refine br_t (nI_lt (b := 12) hn (by decide)) (zx_addStep (k := 6) (g := 0) (kd := 2) (tg := 0) hn he (by decide) (by decide) rfl rfl hDx fun xf' xt' xk' xg' hI => ?_)
    exact br_f p1 (br_t q1 (zy_add (k := 6) (g := 0) hn IY fun v' I' => ⟨rfl, n + 1, _, _, _, by omega, zy_D_add hD he (by decide) (by decide), hI xm (fun _ _ => rfl) (fun z => by omega), I'⟩))
  · have e12 : n = 12 := by omega
    subst e12
    exact br_f (by decide) (br_f p1 (br_t q1 (zy_addF IY ⟨rfl, I0⟩)))
theorem i_vc_drop {k : Nat} {u : SX} {v : SY} (I : i_Rel k u v) (hk : k + 4 ≤ 2048) : wpX_drop (fun r u' => wpY_drop (fun r' v' => r' = r ∧ i_Rel (k + 4) u' v') v) u := by
  have I0 := I
  obtain ⟨n, E, Q, G, n12, hD, IX, IY⟩ := I
  obtain ⟨rd, xf, xt, xk, xg, xm, K, B, L, D, W, rfl, hDx, hr⟩ := IX
  obtain ⟨fk, fl, M, T, C, H, rfl, hr'⟩ := IY
  cases n with
  | zero => exact br_t rfl (br_t rfl ⟨rfl, I0⟩)
  | succ n =>
    have ne : ¬ nI (n + 1) = 0 := nI_ne0 (by omega) (by omega)
    exact br_f ne (nm_r (nI_pred n) (br_f ne (nm_r (nI_pred n) ⟨rfl, n, E, Q, G, by omega, fun s hs => hD s (by omega), ⟨false, xf, xt, xk, xg, xm, K, B, L, D, W, rfl, zx_D_cut hDx, fun z => by cases z⟩, ⟨false, fl, M, T, C, H, rfl, fun z => by cases z⟩⟩)))
theorem i_vc_clear {k : Nat} {u : SX} {v : SY} (I : i_Rel k u v) (hk : k + 4 ≤ 2048) : wpX_clear (fun u' => wpY_clear (fun v' => i_Rel (k + 4) u' v') v) u := by
  obtain ⟨n, E, Q, G, n12, hD, IX, IY⟩ := I
  obtain ⟨rd, xf, xt, xk, xg, xm, K, B, L, D, W, rfl, hDx, hr⟩ := IX
  obtain ⟨fk, fl, M, T, C, H, rfl, hr'⟩ := IY
  exact ⟨0, E, Q, G, by decide, fun s hs => absurd hs (Nat.not_lt_zero s), ⟨false, xf, xt, xk, xg, xm, K, B, L, D, W, rfl, fun s hs => absurd hs (Nat.not_lt_zero s), fun z => by cases z⟩, ⟨false, fl, M, T, C, H, rfl, fun z => by cases z⟩⟩
theorem i_vc_reached {k : Nat} {u : SX} {v : SY} (I : i_Rel k u v) (hk : k + 4 ≤ 2048) (v1 : Int32) : wpX_reached (fun r u' => wpY_reached (fun r' v' => r' = r ∧ i_Rel (k + 4) u' v') v v1) u v1 := by
  obtain ⟨n, E, Q, G, n12, hD, IX, IY⟩ := I
  have hx := pk_ix v1 (n := 8) (by decide)
  rw [← or_assoc] at hx
  rcases hx with h1 | ⟨p, hp, rfl⟩
  · obtain ⟨u1, u2, u3, u4, u5, u6, u7, u8, u9, u10, u11, u12⟩ := u
    unfold wpX_reached
    exact zx_bad h1 (br_f (by decide) (zy_reachedB n12 hD IY h1 fun v' I' => ⟨rfl, n, E, Q, G, n12, hD, IX, I'⟩))
  · exact zx_reached n12 IX hp fun r u' IX' hr => zy_reached n12 hD IY hp fun r' v' IY' hr' => ⟨zz_beq hr hr', n, E, Q, G, n12, hD, IX', IY'⟩
theorem i_vc_holds {k : Nat} {u : SX} {v : SY} (I : i_Rel k u v) (hk : k + 4 ≤ 2048) (v1 : Int32) (v2 : Int32) : wpX_holds (fun r u' => wpY_holds (fun r' v' => r' = r ∧ i_Rel (k + 4) u' v') v v1 v2) u v1 v2 := by
  have I0 := I
  obtain ⟨n, E, Q, G, n12, hD, IX, IY⟩ := I
  have hx := pk_ix v1 (n := 8) (by decide)
  rw [← or_assoc] at hx
  rcases hx with h1 | ⟨p, hp, rfl⟩
  · obtain ⟨u1, u2, u3, u4, u5, u6, u7, u8, u9, u10, u11, u12⟩ := u
    obtain ⟨w1, w2, w3, w4, w5, w6, w7, w8, w9, w10⟩ := v
    unfold wpX_holds wpY_holds
    exact zx_bad h1 (br_f (by decide) (zy_bad h1 (br_t rfl ⟨rfl, I0⟩)))
  · rcases pk_ix v2 (n := 2401) (by decide) with h2 | h2 | ⟨e, he, rfl⟩
    · obtain ⟨u1, u2, u3, u4, u5, u6, u7, u8, u9, u10, u11, u12⟩ := u
      obtain ⟨w1, w2, w3, w4, w5, w6, w7, w8, w9, w10⟩ := v
      unfold wpX_holds wpY_holds
      exact zx_good hp (br_t rfl (br_t h2 (zy_good hp (br_f (by decide) (zy_digB (Or.inl h2) (br_t rfl ⟨rfl, I0⟩))))))
    · obtain ⟨u1, u2, u3, u4, u5, u6, u7, u8, u9, u10, u11, u12⟩ := u
      obtain ⟨w1, w2, w3, w4, w5, w6, w7, w8, w9, w10⟩ := v
      unfold wpX_holds wpY_holds
      exact zx_good hp (br_t rfl (br_f (zz_nn (by decide) h2) (br_f (zz_gt 2400 (by decide) h2) (zy_good hp (br_f (by decide) (zy_digB (Or.inr h2) (br_t rfl ⟨rfl, I0⟩)))))))
    · exact zx_holds n12 IX hp he fun r u' IX' hr => zy_holdsP n12 hD IY hp he fun r' v' IY' hr' => ⟨zz_beq hr hr', n, E, Q, G, n12, hD, IX', IY'⟩
theorem i_vc_equations {k : Nat} {u : SX} {v : SY} (I : i_Rel k u v) (hk : k + 4 ≤ 2048) (v1 : Int32) : wpX_equations (fun r u' => wpY_equations (fun r' v' => r' = r ∧ i_Rel (k + 4) u' v') v v1) u v1 := by
  have I0 := I
  obtain ⟨n, E, Q, G, n12, hD, IX, IY⟩ := I
  have hx := pk_ix v1 (n := 8) (by decide)
  rw [← or_assoc] at hx
  rcases hx with h1 | ⟨p, hp, rfl⟩
  · obtain ⟨u1, u2, u3, u4, u5, u6, u7, u8, u9, u10, u11, u12⟩ := u
    obtain ⟨w1, w2, w3, w4, w5, w6, w7, w8, w9, w10⟩ := v
    unfold wpX_equations wpY_equations
    exact zx_bad h1 (br_f (by decide) (zy_bad h1 (br_t rfl ⟨rfl, I0⟩)))
  · exact zx_equations n12 IX hp fun u' IX' => zy_equations n12 hD IY hp fun v' IY' => ⟨rfl, n, E, Q, G, n12, hD, IX', IY'⟩
theorem i_vc_span {k : Nat} {u : SX} {v : SY} (I : i_Rel k u v) (hk : k + 4 ≤ 2048) (v1 : Int32) : wpX_span (fun r u' => wpY_span (fun r' v' => r' = r ∧ i_Rel (k + 4) u' v') v v1) u v1 := by
  have I0 := I
  obtain ⟨n, E, Q, G, n12, hD, IX, IY⟩ := I
  have hx := pk_ix v1 (n := 8) (by decide)
  rw [← or_assoc] at hx
  rcases hx with h1 | ⟨p, hp, rfl⟩
  · obtain ⟨u1, u2, u3, u4, u5, u6, u7, u8, u9, u10, u11, u12⟩ := u
    obtain ⟨w1, w2, w3, w4, w5, w6, w7, w8, w9, w10⟩ := v
    unfold wpX_span wpY_span
    exact zx_bad h1 (br_f (by decide) (zy_bad h1 (br_t rfl ⟨rfl, I0⟩)))
  · exact zx_span n12 IX hp fun u' IX' => zy_span n12 hD IY hp fun v' IY' => ⟨rfl, n, E, Q, G, n12, hD, IX', IY'⟩
theorem i_vc_inSpan {k : Nat} {u : SX} {v : SY} (I : i_Rel k u v) (hk : k + 4 ≤ 2048) (v1 : Int32) (v2 : Int32) : wpX_inSpan (fun r u' => wpY_inSpan (fun r' v' => r' = r ∧ i_Rel (k + 4) u' v') v v1 v2) u v1 v2 := by
  have I0 := I
  obtain ⟨n, E, Q, G, n12, hD, IX, IY⟩ := I
  have hx := pk_ix v1 (n := 8) (by decide)
  rw [← or_assoc] at hx
  rcases hx with h1 | ⟨p, hp, rfl⟩
  · obtain ⟨u1, u2, u3, u4, u5, u6, u7, u8, u9, u10, u11, u12⟩ := u
    obtain ⟨w1, w2, w3, w4, w5, w6, w7, w8, w9, w10⟩ := v
    unfold wpX_inSpan wpY_inSpan
    exact zx_bad h1 (br_f (by decide) (zy_bad h1 (br_t rfl ⟨rfl, I0⟩)))
  · rcases pk_ix v2 (n := 343) (by decide) with h2 | h2 | ⟨t, ht, rfl⟩
    · obtain ⟨u1, u2, u3, u4, u5, u6, u7, u8, u9, u10, u11, u12⟩ := u
      obtain ⟨w1, w2, w3, w4, w5, w6, w7, w8, w9, w10⟩ := v
      unfold wpX_inSpan wpY_inSpan
      exact zx_good hp (br_t rfl (br_t h2 (zy_good hp (br_f (by decide) (br_t h2 ⟨rfl, I0⟩)))))
    · obtain ⟨u1, u2, u3, u4, u5, u6, u7, u8, u9, u10, u11, u12⟩ := u
      obtain ⟨w1, w2, w3, w4, w5, w6, w7, w8, w9, w10⟩ := v
      unfold wpX_inSpan wpY_inSpan
      exact zx_good hp (br_t rfl (br_f (zz_nn (by decide) h2) (br_f (zz_gt 342 (by decide) h2) (zy_good hp (br_f (by decide) (br_f (zz_nn (by decide) h2) (br_f (zz_gt 342 (by decide) h2) ⟨rfl, I0⟩)))))))
    · obtain ⟨x, y, z, rfl⟩ := zy_tri ht
      exact zx_inSpan n12 IX hp fun r u' IX' hr => zy_inSpan n12 hD IY hp fun r' v' IY' hr' => ⟨zz_beq hr hr', n, E, Q, G, n12, hD, IX', IY'⟩
theorem i_vc_constant {k : Nat} {u : SX} {v : SY} (I : i_Rel k u v) (hk : k + 4 ≤ 2048) (v1 : Int32) (v2 : Int32) : wpX_constant (fun r u' => wpY_constant (fun r' v' => r' = r ∧ i_Rel (k + 4) u' v') v v1 v2) u v1 v2 := by
  have I0 := I
  obtain ⟨n, E, Q, G, n12, hD, IX, IY⟩ := I
  have hx := pk_ix v1 (n := 8) (by decide)
  rw [← or_assoc] at hx
  rcases hx with h1 | ⟨p, hp, rfl⟩
  · obtain ⟨u1, u2, u3, u4, u5, u6, u7, u8, u9, u10, u11, u12⟩ := u
    obtain ⟨w1, w2, w3, w4, w5, w6, w7, w8, w9, w10⟩ := v
    unfold wpX_constant wpY_constant
    exact zx_bad h1 (br_f (by decide) (zy_bad h1 (br_t rfl ⟨rfl, I0⟩)))
  · rcases pk_ix v2 (n := 3) (by decide) with h2 | h2 | ⟨j, hj, rfl⟩
    · obtain ⟨u1, u2, u3, u4, u5, u6, u7, u8, u9, u10, u11, u12⟩ := u
      obtain ⟨w1, w2, w3, w4, w5, w6, w7, w8, w9, w10⟩ := v
      unfold wpX_constant wpY_constant
      exact zx_good hp (br_t rfl (br_t h2 (zy_good hp (br_f (by decide) (br_t h2 ⟨rfl, I0⟩)))))
    · obtain ⟨u1, u2, u3, u4, u5, u6, u7, u8, u9, u10, u11, u12⟩ := u
      obtain ⟨w1, w2, w3, w4, w5, w6, w7, w8, w9, w10⟩ := v
      unfold wpX_constant wpY_constant
      exact zx_good hp (br_t rfl (br_f (zz_nn (by decide) h2) (br_f (zz_gt 2 (by decide) h2) (zy_good hp (br_f (by decide) (br_f (zz_nn (by decide) h2) (br_f (zz_gt 2 (by decide) h2) ⟨rfl, I0⟩)))))))
    · exact zx_constant n12 IX hp hj fun r u' IX' hr => zy_constant n12 hD IY hp hj fun r' v' IY' hr' => ⟨zz_ACeq hr hr', n, E, Q, G, n12, hD, IX', IY'⟩
theorem i_vc_implies {k : Nat} {u : SX} {v : SY} (I : i_Rel k u v) (hk : k + 4 ≤ 2048) (v1 : Int32) (v2 : Int32) : wpX_implies (fun r u' => wpY_implies (fun r' v' => r' = r ∧ i_Rel (k + 4) u' v') v v1 v2) u v1 v2 := by
  have I0 := I
  obtain ⟨n, E, Q, G, n12, hD, IX, IY⟩ := I
  have hx := pk_ix v1 (n := 8) (by decide)
  rw [← or_assoc] at hx
  rcases hx with h1 | ⟨p, hp, rfl⟩
  · obtain ⟨u1, u2, u3, u4, u5, u6, u7, u8, u9, u10, u11, u12⟩ := u
    obtain ⟨w1, w2, w3, w4, w5, w6, w7, w8, w9, w10⟩ := v
    unfold wpX_implies wpY_implies
    exact zx_bad h1 (br_f (by decide) (zy_bad h1 (br_t rfl ⟨rfl, I0⟩)))
  · have hy := pk_ix v2 (n := 8) (by decide)
    rw [← or_assoc] at hy
    rcases hy with h2 | ⟨q, hq, rfl⟩
    · obtain ⟨u1, u2, u3, u4, u5, u6, u7, u8, u9, u10, u11, u12⟩ := u
      obtain ⟨w1, w2, w3, w4, w5, w6, w7, w8, w9, w10⟩ := v
      unfold wpX_implies wpY_implies
      exact zx_good hp (br_t rfl (zx_bad h2 (br_f (by decide) (zy_good hp (br_f (by decide) (zy_bad h2 (br_t rfl ⟨rfl, I0⟩)))))))
    · exact zx_implies n12 IX hp hq fun r u' IX' hr => zy_implies n12 hD IY hp hq fun r' v' IY' hr' => ⟨zz_beq hr hr', n, E, Q, G, n12, hD, IX', IY'⟩
theorem i_vc_loosest {k : Nat} {u : SX} {v : SY} (I : i_Rel k u v) (hk : k + 4 ≤ 2048) : wpX_loosest (fun r u' => wpY_loosest (fun r' v' => r' = r ∧ i_Rel (k + 4) u' v') v) u := by
  obtain ⟨n, E, Q, G, n12, hD, IX, IY⟩ := I
  exact zx_loosest n12 IX fun u' IX' => zy_loosest n12 hD IY fun v' IY' => ⟨rfl, n, E, Q, G, n12, hD, IX', IY'⟩
end
