section
theorem pk_us {f : Nat → Int32} {k : Nat} {x : Int32} : upd f k x k = x := if_pos rfl
theorem pk_un {f : Nat → Int32} {k j : Nat} {x : Int32} (h : j ≠ k) : upd f k x j = f j := if_neg h
theorem pk_uLs {f : Nat → Int64} {k : Nat} {x : Int64} : vp_updL f k x k = x := if_pos rfl
theorem pk_uLn {f : Nat → Int64} {k j : Nat} {x : Int64} (h : j ≠ k) : vp_updL f k x j = f j := if_neg h
theorem pk_sub {a b : Nat} (h : b ≤ a) : nI a - nI b = nI (a - b) := by
  obtain ⟨c, rfl⟩ : ∃ c, a = c + b := ⟨a - b, by omega⟩
  rw [← nI_add, Int32.add_sub_cancel, Nat.add_sub_cancel]
theorem pk_m1 (n : Nat) : nI (n + 1) + (-1) = nI n := by
  rw [← nI_1, Int32.add_assoc, show (1 : Int32) + (-1) = 0 from rfl, Int32.add_zero]
theorem pk_mul (a b : Nat) : nI a * nI b = nI (a * b) := (Int32.ofNat_mul a b).symm
theorem pk_div {a d : Nat} (ha : a < 2 ^ 31) (h0 : 0 < d) (hd : d < 2 ^ 31) : nI a / nI d = nI (a / d) := by
  apply Int32.toInt_inj.mp
  rw [lg_idiv_nonneg (by rw [nI_toInt ha]; omega) (by rw [nI_toInt hd]; omega), nI_toInt ha, nI_toInt hd, nI_toInt (Nat.lt_of_le_of_lt (Nat.div_le_self a d) ha)]
  first | rfl | exact (Int.natCast_ediv _ _).symm
theorem pk_rem {a d : Nat} (ha : a < 2 ^ 31) (h0 : 0 < d) (hd : d < 2 ^ 31) : nI a - nI a / nI d * nI d = nI (a % d) := by
  rw [pk_div ha h0 hd, pk_mul, pk_sub (Nat.div_mul_le_self a d)]
  exact congrArg nI (by have := Nat.div_add_mod' a d; omega)
theorem pk_sub_toInt {a b : Nat} (ha : a < 2 ^ 30) (hb : b < 2 ^ 30) : (nI a - nI b).toInt = (a : Int) - b := by
  rw [Int32.toInt_sub, nI_toInt (by omega), nI_toInt (by omega)]
  exact Int.bmod_eq_of_le (by omega) (by omega)
theorem pk_sneg {a b : Nat} (hb : b < 2 ^ 30) (h : a < b) : nI a - nI b < 0 := by
  rw [Int32.lt_iff_toInt_lt, pk_sub_toInt (by omega) hb, show (0 : Int32).toInt = 0 from by decide]
  omega
theorem pk_ix (x : Int32) {n : Nat} (hn : n < 2 ^ 31) : x < 0 ∨ nI n ≤ x ∨ ∃ j : Nat, j < n ∧ x = nI j := by
  by_cases h : x < 0
  · exact Or.inl h
  · obtain ⟨j, hj, rfl⟩ := nI_of h
    by_cases h2 : j < n
    · exact Or.inr (Or.inr ⟨j, h2, rfl⟩)
    · exact Or.inr (Or.inl (nI_le (by omega) hj))
theorem pk_le {x y : Int32} {A B : Prop} (a b : Nat) (f : a ≤ b → A) (g : b < a → B) (hx : x = nI a := by rfl) (hy : y = nI b := by rfl) (ha : a < 2 ^ 31 := by omega) (hb : b < 2 ^ 31 := by omega) : (x ≤ y → A) ∧ (¬ x ≤ y → B) := by
  subst hx hy
  rw [nI_leI ha hb]
  exact ⟨f, fun z => g (by omega)⟩
theorem pk_lt {x y : Int32} {A B : Prop} (a b : Nat) (f : a < b → A) (g : b ≤ a → B) (hx : x = nI a := by rfl) (hy : y = nI b := by rfl) (ha : a < 2 ^ 31 := by omega) (hb : b < 2 ^ 31 := by omega) : (x < y → A) ∧ (¬ x < y → B) := by
  subst hx hy
  rw [nI_ltI ha hb]
  exact ⟨f, fun z => g (by omega)⟩
theorem pk_eq {x y : Int32} {A B : Prop} (a b : Nat) (f : a = b → A) (g : a ≠ b → B) (hx : x = nI a := by rfl) (hy : y = nI b := by rfl) (ha : a < 2 ^ 31 := by omega) (hb : b < 2 ^ 31 := by omega) : (x = y → A) ∧ (¬ x = y → B) := by
  subst hx hy
  rw [nI_eq ha hb]
  exact ⟨f, g⟩
theorem pk_in {x : Int32} (n N : Nat) (h : n < N) (hx : x = nI n := by rfl) (hN : N < 2 ^ 31 := by omega) : vp_in x N := by
  subst hx
  exact vp_in_nI h hN
theorem pk_cl {x : Int32} (n : Nat) (hx : x = nI n := by rfl) (h : n < 2 ^ 31 := by omega) : x.toNatClampNeg = n := by
  subst hx
  exact nI_clamp h
theorem pk_tn {n : Nat} (h : n < 2 ^ 32) : (nI n).toBitVec.toNat = n := Nat.mod_eq_of_lt h
theorem pk_and (x : Int32) {m : Int32} (k : Nat) (hm : m.toBitVec.toNat = 2 ^ k - 1) : x &&& m = nI (x.toBitVec.toNat % 2 ^ k) := by
  apply Int32.toBitVec_inj.mp
  apply BitVec.eq_of_toNat_eq
  rw [Int32.toBitVec_and, BitVec.toNat_and, hm, Nat.and_two_pow_sub_one_eq_mod]
  show _ = (BitVec.ofNat 32 _).toNat
  rw [BitVec.toNat_ofNat]
  exact (Nat.mod_eq_of_lt (Nat.lt_of_le_of_lt (Nat.mod_le _ _) x.toBitVec.isLt)).symm
theorem pk_andN {n : Nat} (h : n < 2 ^ 32) {m : Int32} (k : Nat) (hm : m.toBitVec.toNat = 2 ^ k - 1) : nI n &&& m = nI (n % 2 ^ k) := by
  rw [pk_and _ k hm, pk_tn h]
theorem pk_andE (x : Int32) {m : Int32} (k : Nat) (hm : m.toBitVec.toNat = 2 ^ k - 1) : ∃ j : Nat, j < 2 ^ k ∧ x &&& m = nI j := ⟨_, Nat.mod_lt _ (Nat.two_pow_pos k), pk_and x k hm⟩
theorem pk_andIn (x : Int32) {m : Int32} (k : Nat) (hm : m.toBitVec.toNat = 2 ^ k - 1) (hk : k ≤ 30) : vp_in (x &&& m) (2 ^ k) := by
  obtain ⟨j, hj, e⟩ := pk_andE x k hm
  rw [e]
  exact vp_in_nI hj (Nat.lt_of_le_of_lt (Nat.pow_le_pow_right (by decide) hk) (by decide))
theorem pk_shl (a s : Int32) (k : Nat) (hs : (s.toBitVec.smod 32).toNat = k) : (a <<< s).toBitVec.toNat = a.toBitVec.toNat * 2 ^ k % 2 ^ 32 := by
  show (a.toBitVec <<< (s.toBitVec.smod 32).toNat).toNat = _
  rw [hs, BitVec.toNat_shiftLeft, Nat.shiftLeft_eq]
theorem pk_shlN {n : Nat} (s : Int32) (k : Nat) (hs : (s.toBitVec.smod 32).toNat = k) (h : n * 2 ^ k < 2 ^ 32) : nI n <<< s = nI (n * 2 ^ k) := by
  apply Int32.toBitVec_inj.mp
  apply BitVec.eq_of_toNat_eq
  have hn : n < 2 ^ 32 := Nat.lt_of_le_of_lt (Nat.le_mul_of_pos_right n (Nat.two_pow_pos k)) h
  rw [pk_shl _ _ k hs, pk_tn hn, pk_tn h, Nat.mod_eq_of_lt h]
theorem pk_shr (a s : Int32) (k : Nat) (hs : (s.toBitVec.smod 32).toNat = k) : (a >>> s).toInt = a.toInt >>> k := by
  show (a.toBitVec.sshiftRight (s.toBitVec.smod 32).toNat).toInt = _
  rw [hs, BitVec.toInt_sshiftRight]
  rfl
theorem pk_shrN {n : Nat} (h : n < 2 ^ 31) (s : Int32) (k : Nat) (hs : (s.toBitVec.smod 32).toNat = k) : nI n >>> s = nI (n / 2 ^ k) := by
  apply Int32.toInt_inj.mp
  have h2 : n / 2 ^ k ≤ n := Nat.div_le_self _ _
  rw [pk_shr _ _ k hs, nI_toInt h, nI_toInt (by omega), Int.shiftRight_eq_div_pow]
  rfl
theorem pk_loop {σ : Type} (W : Nat → Nat → σ → Prop) (I : Nat → σ → Prop) (e i0 : Nat) (s : σ) (hi : i0 ≤ e) (h0 : I i0 s) (hx : ∀ n s, I e s → W (n + 1) e s)
    (hs : ∀ n i s, i < e → I i s → (∀ s', I (i + 1) s' → W n (i + 1) s') → W (n + 1) i s) : ∃ n, W n i0 s :=
  ⟨e + 1, loop_i W I e hx hs (e + 1) i0 s hi (by omega) h0⟩
end
section
/-! PURE: layouts, contents, rows; no program in sight. w: the wide layout -/
/-- blocks a row -/
def ra_d (w : Bool) : Nat := if w = true then 4 else 2
/-- the layout as the program's int -/
def ra_i (w : Bool) : Int32 := if w = true then 1 else 0
/-- the member that holds block b -/
def ra_m (w : Bool) (b : Nat) : Nat := if b % ra_d w < b / ra_d w % (ra_d w + 1) then b % ra_d w else b % ra_d w + 1
/-- the parity of row r -/
def ra_p (w : Bool) (B : Nat → Int32) (r : Nat) : Int32 :=
  if w = true then B (4 * r) ^^^ B (4 * r + 1) ^^^ B (4 * r + 2) ^^^ B (4 * r + 3) else B (2 * r) ^^^ B (2 * r + 1)
/-- what member m holds in row r -/
def ra_L (w : Bool) (B : Nat → Int32) (r m : Nat) : Int32 :=
  if m = r % (ra_d w + 1) then ra_p w B r else if m < r % (ra_d w + 1) then B (ra_d w * r + m) else B (ra_d w * r + (m - 1))
/-- row r is good: each member but the failed one holds its content -/
def ra_G (w : Bool) (F : Int32) (D B : Nat → Int32) (r : Nat) : Prop := ∀ m : Nat, m < ra_d w + 1 → nI m ≠ F → D (m * 16 + r) = ra_L w B r m
/-- the exclusive or of row r over the members below c but one -/
def ra_x (D : Nat → Int32) (r : Nat) (but : Int32) : Nat → Int32
  | 0 => 0
  | c + 1 => if nI c = but then ra_x D r but c else ra_x D r but c ^^^ D (c * 16 + r)
/-- a store to member m unless it has failed -/
def ra_u (F : Int32) (D : Nat → Int32) (m r : Nat) (v : Int32) : Nat → Int32 := if nI m = F then D else upd D (m * 16 + r) v

theorem ra_xlc (a b c : Int32) : a ^^^ (b ^^^ c) = b ^^^ (a ^^^ c) := by
  rw [← Int32.xor_assoc, Int32.xor_comm a b, Int32.xor_assoc]
theorem ra_xc (a b : Int32) : a ^^^ (a ^^^ b) = b := by
  rw [← Int32.xor_assoc, Int32.xor_self, Int32.zero_xor]
theorem ra_dT : ra_d true = 4 := rfl
theorem ra_dF : ra_d false = 2 := rfl
theorem ra_d5 (w : Bool) : ra_d w + 1 ≤ 5 := by cases w <;> decide
theorem ra_d0 (w : Bool) : 0 < ra_d w := by cases w <;> decide
theorem ra_xs (D : Nat → Int32) (r : Nat) (but : Int32) (c : Nat) : ra_x D r but (c + 1) = if nI c = but then ra_x D r but c else ra_x D r but c ^^^ D (c * 16 + r) := rfl
theorem ra_ne {a b : Nat} (ha : a < 8) (hb : b < 8) (h : a ≠ b) : ¬ nI a = nI b := by
  rw [nI_eq (by omega) (by omega)]; exact h
theorem ra_nm1 {a : Nat} (h : a < 2 ^ 31) : ¬ nI a = -1 := by
  intro e
  have := nI_pos (n := a) h
  rw [e] at this
  exact this (by decide)
/-- an own copy of the chains -/
theorem ra_x3 (D : Nat → Int32) (r : Nat) (but : Int32) (f0 f1 f2 : Bool) (h0 : (nI 0 = but) ↔ f0 = true) (h1 : (nI 1 = but) ↔ f1 = true) (h2 : (nI 2 = but) ↔ f2 = true) :
    ra_x D r but 3 = (if f0 = true then 0 else D r) ^^^ (if f1 = true then 0 else D (16 + r)) ^^^ (if f2 = true then 0 else D (32 + r)) := by
  simp only [ra_x, h0, h1, h2]
  cases f0 <;> cases f1 <;> cases f2 <;> simp
theorem ra_x5 (D : Nat → Int32) (r : Nat) (but : Int32) (f0 f1 f2 f3 f4 : Bool) (h0 : (nI 0 = but) ↔ f0 = true) (h1 : (nI 1 = but) ↔ f1 = true) (h2 : (nI 2 = but) ↔ f2 = true) (h3 : (nI 3 = but) ↔ f3 = true) (h4 : (nI 4 = but) ↔ f4 = true) :
    ra_x D r but 5 = (if f0 = true then 0 else D r) ^^^ (if f1 = true then 0 else D (16 + r)) ^^^ (if f2 = true then 0 else D (32 + r)) ^^^ (if f3 = true then 0 else D (48 + r)) ^^^ (if f4 = true then 0 else D (64 + r)) := by
  simp only [ra_x, h0, h1, h2, h3, h4]
  cases f0 <;> cases f1 <;> cases f2 <;> cases f3 <;> cases f4 <;> simp
theorem ra_eqb {a b : Nat} (ha : a < 8) (hb : b < 8) : (nI a = nI b) ↔ decide (a = b) = true := by
  rw [nI_eq (by omega) (by omega), decide_eq_true_eq]
theorem ra_eqm {a : Nat} (ha : a < 8) : (nI a = -1) ↔ false = true := by
  constructor
  · intro h; exact absurd h (ra_nm1 (by omega))
  · intro h; cases h
/-- the others of a narrow row say what the one holds -/
theorem ra_xF {D B : Nat → Int32} {r m : Nat} (hm : m < 3) (h : ∀ j : Nat, j < 3 → j ≠ m → D (j * 16 + r) = ra_L false B r j) : ra_x D r (nI m) 3 = ra_L false B r m := by
  rw [ra_x3 D r (nI m) _ _ _ (ra_eqb (by omega) (by omega)) (ra_eqb (by omega) (by omega)) (ra_eqb (by omega) (by omega))]
  have hp : r % 3 = 0 ∨ r % 3 = 1 ∨ r % 3 = 2 := by omega
  have h0 : 0 ≠ m → D r = ra_L false B r 0 := fun z => by have := h 0 (by omega) z; rwa [Nat.zero_mul, Nat.zero_add] at this
  have h1 : 1 ≠ m → D (16 + r) = ra_L false B r 1 := fun z => h 1 (by omega) z
  have h2 : 2 ≠ m → D (32 + r) = ra_L false B r 2 := fun z => h 2 (by omega) z
  have hm' : m = 0 ∨ m = 1 ∨ m = 2 := by omega
  clear h
  rcases hm' with rfl | rfl | rfl
  · rw [h1 (by decide), h2 (by decide)]
    rcases hp with hp | hp | hp <;> simp [ra_L, ra_p, ra_d, hp, Int32.xor_comm, Int32.xor_assoc, ra_xlc, ra_xc]
  · rw [h0 (by decide), h2 (by decide)]
    rcases hp with hp | hp | hp <;> simp [ra_L, ra_p, ra_d, hp, Int32.xor_comm, Int32.xor_assoc, ra_xlc, ra_xc]
  · rw [h0 (by decide), h1 (by decide)]
    rcases hp with hp | hp | hp <;> simp [ra_L, ra_p, ra_d, hp, Int32.xor_comm, Int32.xor_assoc, ra_xlc, ra_xc]
/-- the same of a wide row -/
theorem ra_xT {D B : Nat → Int32} {r m : Nat} (hm : m < 5) (h : ∀ j : Nat, j < 5 → j ≠ m → D (j * 16 + r) = ra_L true B r j) : ra_x D r (nI m) 5 = ra_L true B r m := by
  rw [ra_x5 D r (nI m) _ _ _ _ _ (ra_eqb (by omega) (by omega)) (ra_eqb (by omega) (by omega)) (ra_eqb (by omega) (by omega)) (ra_eqb (by omega) (by omega)) (ra_eqb (by omega) (by omega))]
  have hp : r % 5 = 0 ∨ r % 5 = 1 ∨ r % 5 = 2 ∨ r % 5 = 3 ∨ r % 5 = 4 := by omega
  have h0 : 0 ≠ m → D r = ra_L true B r 0 := fun z => by have := h 0 (by omega) z; rwa [Nat.zero_mul, Nat.zero_add] at this
  have h1 : 1 ≠ m → D (16 + r) = ra_L true B r 1 := fun z => h 1 (by omega) z
  have h2 : 2 ≠ m → D (32 + r) = ra_L true B r 2 := fun z => h 2 (by omega) z
  have h3 : 3 ≠ m → D (48 + r) = ra_L true B r 3 := fun z => h 3 (by omega) z
  have h4 : 4 ≠ m → D (64 + r) = ra_L true B r 4 := fun z => h 4 (by omega) z
  have hm' : m = 0 ∨ m = 1 ∨ m = 2 ∨ m = 3 ∨ m = 4 := by omega
  clear h
  rcases hm' with rfl | rfl | rfl | rfl | rfl
  · rw [h1 (by decide), h2 (by decide), h3 (by decide), h4 (by decide)]
    rcases hp with hp | hp | hp | hp | hp <;> simp [ra_L, ra_p, ra_d, hp, Int32.xor_comm, Int32.xor_assoc, ra_xlc, ra_xc]
  · rw [h0 (by decide), h2 (by decide), h3 (by decide), h4 (by decide)]
    rcases hp with hp | hp | hp | hp | hp <;> simp [ra_L, ra_p, ra_d, hp, Int32.xor_comm, Int32.xor_assoc, ra_xlc, ra_xc]
  · rw [h0 (by decide), h1 (by decide), h3 (by decide), h4 (by decide)]
    rcases hp with hp | hp | hp | hp | hp <;> simp [ra_L, ra_p, ra_d, hp, Int32.xor_comm, Int32.xor_assoc, ra_xlc, ra_xc]
  · rw [h0 (by decide), h1 (by decide), h2 (by decide), h4 (by decide)]
    rcases hp with hp | hp | hp | hp | hp <;> simp [ra_L, ra_p, ra_d, hp, Int32.xor_comm, Int32.xor_assoc, ra_xlc, ra_xc]
  · rw [h0 (by decide), h1 (by decide), h2 (by decide), h3 (by decide)]
    rcases hp with hp | hp | hp | hp | hp <;> simp [ra_L, ra_p, ra_d, hp, Int32.xor_comm, Int32.xor_assoc, ra_xlc, ra_xc]
theorem ra_xo {w : Bool} {D B : Nat → Int32} {r m : Nat} (hm : m < ra_d w + 1) (h : ∀ j : Nat, j < ra_d w + 1 → j ≠ m → D (j * 16 + r) = ra_L w B r j) : ra_x D r (nI m) (ra_d w + 1) = ra_L w B r m := by
  cases w
  · exact ra_xF hm h
  · exact ra_xT hm h
/-- a good row's exclusive or is 0 -/
theorem ra_xz {w : Bool} {D B : Nat → Int32} {r : Nat} (h : ra_G w (-1) D B r) : ra_x D r (-1) (ra_d w + 1) = 0 := by
  have g : ∀ j : Nat, j < ra_d w + 1 → D (j * 16 + r) = ra_L w B r j := fun j hj => h j hj (ra_nm1 (by have := ra_d5 w; omega))
  clear h
  cases w
  · have h0 : D r = ra_L false B r 0 := by have := g 0 (by decide); rwa [Nat.zero_mul, Nat.zero_add] at this
    have h1 : D (16 + r) = ra_L false B r 1 := g 1 (by decide)
    have h2 : D (32 + r) = ra_L false B r 2 := g 2 (by decide)
    have hp : r % 3 = 0 ∨ r % 3 = 1 ∨ r % 3 = 2 := by omega
    show ra_x D r (-1) 3 = 0
    rw [ra_x3 D r (-1) _ _ _ (ra_eqm (by omega)) (ra_eqm (by omega)) (ra_eqm (by omega)), h0, h1, h2]
    rcases hp with hp | hp | hp <;> simp [ra_L, ra_p, ra_d, hp, Int32.xor_comm, Int32.xor_assoc, ra_xlc, ra_xc]
  · have h0 : D r = ra_L true B r 0 := by have := g 0 (by decide); rwa [Nat.zero_mul, Nat.zero_add] at this
    have h1 : D (16 + r) = ra_L true B r 1 := g 1 (by decide)
    have h2 : D (32 + r) = ra_L true B r 2 := g 2 (by decide)
    have h3 : D (48 + r) = ra_L true B r 3 := g 3 (by decide)
    have h4 : D (64 + r) = ra_L true B r 4 := g 4 (by decide)
    have hp : r % 5 = 0 ∨ r % 5 = 1 ∨ r % 5 = 2 ∨ r % 5 = 3 ∨ r % 5 = 4 := by omega
    show ra_x D r (-1) 5 = 0
    rw [ra_x5 D r (-1) _ _ _ _ _ (ra_eqm (by omega)) (ra_eqm (by omega)) (ra_eqm (by omega)) (ra_eqm (by omega)) (ra_eqm (by omega)), h0, h1, h2, h3, h4]
    rcases hp with hp | hp | hp | hp | hp <;> simp [ra_L, ra_p, ra_d, hp, Int32.xor_comm, Int32.xor_assoc, ra_xlc, ra_xc]
/-! members -/
theorem ra_mlt (w : Bool) (b : Nat) : ra_m w b < ra_d w + 1 := by
  have := Nat.mod_lt b (ra_d0 w)
  unfold ra_m
  split <;> omega
theorem ra_mlt5 (w : Bool) (b : Nat) : ra_m w b < 5 := Nat.lt_of_lt_of_le (ra_mlt w b) (ra_d5 w)
theorem ra_plt (w : Bool) (r : Nat) : r % (ra_d w + 1) < ra_d w + 1 := Nat.mod_lt r (Nat.succ_pos _)
theorem ra_plt5 (w : Bool) (r : Nat) : r % (ra_d w + 1) < 5 := Nat.lt_of_lt_of_le (ra_plt w r) (ra_d5 w)
theorem ra_mnp (w : Bool) (b : Nat) : ra_m w b ≠ b / ra_d w % (ra_d w + 1) := by
  unfold ra_m
  split <;> omega
theorem ra_Lm (w : Bool) (B : Nat → Int32) (b : Nat) : ra_L w B (b / ra_d w) (ra_m w b) = B b := by
  have e := Nat.div_add_mod b (ra_d w)
  unfold ra_L ra_m
  by_cases h : b % ra_d w < b / ra_d w % (ra_d w + 1)
  · rw [if_pos h, if_neg (by omega), if_pos h, e]
  · rw [if_neg h, if_neg (by omega), if_neg (by omega), Nat.add_sub_cancel, e]
/-- a row's content looks at its own blocks alone -/
theorem ra_Lc {w : Bool} {B B' : Nat → Int32} {r m : Nat} (hm : m < ra_d w + 1) (h : ∀ i : Nat, i < ra_d w → B' (ra_d w * r + i) = B (ra_d w * r + i)) : ra_L w B' r m = ra_L w B r m := by
  unfold ra_L
  have hp := ra_plt w r
  by_cases h1 : m = r % (ra_d w + 1)
  · rw [if_pos h1, if_pos h1]
    cases w
    · have e0 : B' (2 * r) = B (2 * r) := h 0 (by decide)
      have e1 : B' (2 * r + 1) = B (2 * r + 1) := h 1 (by decide)
      show B' (2 * r) ^^^ B' (2 * r + 1) = B (2 * r) ^^^ B (2 * r + 1)
      rw [e0, e1]
    · have e0 : B' (4 * r) = B (4 * r) := h 0 (by decide)
      have e1 : B' (4 * r + 1) = B (4 * r + 1) := h 1 (by decide)
      have e2 : B' (4 * r + 2) = B (4 * r + 2) := h 2 (by decide)
      have e3 : B' (4 * r + 3) = B (4 * r + 3) := h 3 (by decide)
      show B' (4 * r) ^^^ B' (4 * r + 1) ^^^ B' (4 * r + 2) ^^^ B' (4 * r + 3) = B (4 * r) ^^^ B (4 * r + 1) ^^^ B (4 * r + 2) ^^^ B (4 * r + 3)
      rw [e0, e1, e2, e3]
  · rw [if_neg h1, if_neg h1]
    by_cases h2 : m < r % (ra_d w + 1)
    · rw [if_pos h2, if_pos h2]; exact h m (by omega)
    · rw [if_neg h2, if_neg h2]; exact h (m - 1) (by omega)
/-- a written block: the other members' contents stay -/
theorem ra_Lu {w : Bool} {B : Nat → Int32} {b m : Nat} {v : Int32} (hm : m < ra_d w + 1) (h1 : m ≠ b / ra_d w % (ra_d w + 1)) (h2 : m ≠ ra_m w b) : ra_L w (upd B b v) (b / ra_d w) m = ra_L w B (b / ra_d w) m := by
  have e := Nat.div_add_mod b (ra_d w)
  have hd := Nat.mod_lt b (ra_d0 w)
  unfold ra_m at h2
  unfold ra_L
  rw [if_neg h1, if_neg h1]
  by_cases h3 : m < b / ra_d w % (ra_d w + 1)
  · rw [if_pos h3, if_pos h3]
    refine pk_un ?_
    intro z
    have z2 : m = b % ra_d w := by omega
    rw [← z2, if_pos h3] at h2
    exact h2 rfl
  · rw [if_neg h3, if_neg h3]
    refine pk_un ?_
    intro z
    have z2 : m - 1 = b % ra_d w := by omega
    by_cases h4 : b % ra_d w < b / ra_d w % (ra_d w + 1)
    · omega
    · rw [if_neg h4] at h2; omega
/-- a written block: the parity's content -/
theorem ra_Lp {w : Bool} {B : Nat → Int32} {b : Nat} {v : Int32} : ra_L w (upd B b v) (b / ra_d w) (b / ra_d w % (ra_d w + 1)) = ra_L w B (b / ra_d w) (b / ra_d w % (ra_d w + 1)) ^^^ B b ^^^ v := by
  unfold ra_L
  rw [if_pos rfl, if_pos rfl]
  cases w
  · rw [ra_dF]
    show upd B b v (2 * (b / 2)) ^^^ upd B b v (2 * (b / 2) + 1) = (B (2 * (b / 2)) ^^^ B (2 * (b / 2) + 1)) ^^^ B b ^^^ v
    have e : b = 2 * (b / 2) ∨ b = 2 * (b / 2) + 1 := by omega
    generalize b / 2 = r at e
    rcases e with rfl | rfl
    · rw [pk_us, pk_un (by omega)]
      simp [Int32.xor_comm, Int32.xor_assoc, ra_xlc, ra_xc]
    · rw [pk_us, pk_un (by omega)]
      simp [Int32.xor_comm, Int32.xor_assoc, ra_xlc, ra_xc]
  · rw [ra_dT]
    show upd B b v (4 * (b / 4)) ^^^ upd B b v (4 * (b / 4) + 1) ^^^ upd B b v (4 * (b / 4) + 2) ^^^ upd B b v (4 * (b / 4) + 3) = (B (4 * (b / 4)) ^^^ B (4 * (b / 4) + 1) ^^^ B (4 * (b / 4) + 2) ^^^ B (4 * (b / 4) + 3)) ^^^ B b ^^^ v
    have e : b = 4 * (b / 4) ∨ b = 4 * (b / 4) + 1 ∨ b = 4 * (b / 4) + 2 ∨ b = 4 * (b / 4) + 3 := by omega
    generalize b / 4 = r at e
    rcases e with rfl | rfl | rfl | rfl
    · rw [pk_us, pk_un (by omega), pk_un (by omega), pk_un (by omega)]
      simp [Int32.xor_comm, Int32.xor_assoc, ra_xlc, ra_xc]
    · rw [pk_us, pk_un (by omega), pk_un (by omega), pk_un (by omega)]
      simp [Int32.xor_comm, Int32.xor_assoc, ra_xlc, ra_xc]
    · rw [pk_us, pk_un (by omega), pk_un (by omega), pk_un (by omega)]
      simp [Int32.xor_comm, Int32.xor_assoc, ra_xlc, ra_xc]
    · rw [pk_us, pk_un (by omega), pk_un (by omega), pk_un (by omega)]
      simp [Int32.xor_comm, Int32.xor_assoc, ra_xlc, ra_xc]
/-! stores -/
theorem ra_uw {F : Int32} {D : Nat → Int32} {m r : Nat} {v : Int32} (h : nI m ≠ F) : ra_u F D m r v (m * 16 + r) = v := by
  unfold ra_u
  rw [if_neg h]
  exact pk_us
theorem ra_uo {F : Int32} {D : Nat → Int32} {m r j i : Nat} {v : Int32} (hr : r < 16) (hi : i < 16) (h : j ≠ m ∨ i ≠ r) : ra_u F D m r v (j * 16 + i) = D (j * 16 + i) := by
  unfold ra_u
  split
  · rfl
  · exact pk_un (by omega)
/-- a store leaves a row that it isn't in -/
theorem ra_Gu {w : Bool} {F F' : Int32} {D B : Nat → Int32} {m r i : Nat} {v : Int32} (hr : r < 16) (hi : i < 16) (h : i ≠ r) (g : ra_G w F D B i) : ra_G w F (ra_u F' D m r v) B i := by
  intro j hj hF
  rw [ra_uo hr hi (Or.inr h)]
  exact g j hj hF
/-- a row whose cells are the same -/
theorem ra_Gc {w : Bool} {F : Int32} {D D' B B' : Nat → Int32} {r : Nat} (g : ra_G w F D B r) (hD : ∀ j : Nat, j < 5 → nI j ≠ F → D' (j * 16 + r) = D (j * 16 + r)) (hB : ∀ i : Nat, i < ra_d w → B' (ra_d w * r + i) = B (ra_d w * r + i)) : ra_G w F D' B' r := by
  intro j hj hF
  have := ra_d5 w
  rw [hD j (by omega) hF, ra_Lc hj hB]
  exact g j hj hF
/-- a whole write keeps its row good -/
theorem ra_Gw {w : Bool} {F : Int32} {D B : Nat → Int32} {b : Nat} {v : Int32} (hb : b / ra_d w < 16) (g : ra_G w F D B (b / ra_d w)) :
    ra_G w F (ra_u F (ra_u F D (ra_m w b) (b / ra_d w) v) (b / ra_d w % (ra_d w + 1)) (b / ra_d w) (D (b / ra_d w % (ra_d w + 1) * 16 + b / ra_d w) ^^^ B b ^^^ v)) (upd B b v) (b / ra_d w) := by
  intro j hj hF
  have hnp := ra_mnp w b
  by_cases h1 : j = b / ra_d w % (ra_d w + 1)
  · subst h1
    rw [ra_uw hF, ra_Lp, g _ hj hF]
  · rw [ra_uo hb hb (Or.inl h1)]
    by_cases h2 : j = ra_m w b
    · subst h2
      rw [ra_uw hF, ra_Lm, pk_us]
    · rw [ra_uo hb hb (Or.inl h2), ra_Lu hj h1 h2]
      exact g _ hj hF
/-- data alone written: all but the parity hold their contents -/
theorem ra_Gd {w : Bool} {F : Int32} {D B : Nat → Int32} {b : Nat} {v : Int32} (hb : b / ra_d w < 16) (g : ra_G w F D B (b / ra_d w)) :
    ∀ j : Nat, j < ra_d w + 1 → j ≠ b / ra_d w % (ra_d w + 1) → nI j ≠ F → ra_u F D (ra_m w b) (b / ra_d w) v (j * 16 + b / ra_d w) = ra_L w (upd B b v) (b / ra_d w) j := by
  intro j hj h1 hF
  by_cases h2 : j = ra_m w b
  · subst h2
    rw [ra_uw hF, ra_Lm, pk_us]
  · rw [ra_uo hb hb (Or.inl h2), ra_Lu hj h1 h2]
    exact g _ hj hF
/-- mending makes a row good -/
theorem ra_Gm {w : Bool} {D B : Nat → Int32} {r m : Nat} (hr : r < 16) (hm : m < ra_d w + 1) (h : ∀ j : Nat, j < ra_d w + 1 → j ≠ m → D (j * 16 + r) = ra_L w B r j) :
    ra_G w (-1) (ra_u (-1) D m r (ra_x D r (nI m) (ra_d w + 1))) B r := by
  intro j hj hF
  by_cases h1 : j = m
  · subst h1
    rw [ra_uw hF, ra_xo hm h]
  · rw [ra_uo hr hr (Or.inl h1)]
    exact h j hj h1
end
section
/-! the layout of an array: stage st, k groups moved -/
def ra_bw (st k b : Nat) : Bool := decide (st = 2) || (decide (st = 1) && decide (b < 4 * k))
def ra_iw (st k r : Nat) : Bool := decide (st = 2) || (decide (st = 1) && decide (r < k))
def ra_us (st k r : Nat) : Bool := (!decide (st = 1)) || (decide (r < k) || decide (2 * k ≤ r))
def ra_K (st k : Nat) : Prop := (st = 0 ∧ k = 0) ∨ (st = 1 ∧ k ≤ 6) ∨ (st = 2 ∧ k = 6)
def ra_sz (k : Nat) : Nat := if k = 6 then 48 else 24
/-- all rows in use are good -/
def ra_A (F : Int32) (st k : Nat) (D B : Nat → Int32) : Prop := ∀ r : Nat, r < 12 → ra_us st k r = true → ra_G (ra_iw st k r) F D B r
theorem ra_iT : ra_i true = 1 := rfl
theorem ra_iF : ra_i false = 0 := rfl
theorem ra_bw0 {k b : Nat} : ra_bw 0 k b = false := rfl
theorem ra_bw2 {k b : Nat} : ra_bw 2 k b = true := rfl
theorem ra_bw1t {k b : Nat} (h : b < 4 * k) : ra_bw 1 k b = true := by simp [ra_bw, h]
theorem ra_bw1f {k b : Nat} (h : ¬ b < 4 * k) : ra_bw 1 k b = false := by simp [ra_bw, h]
theorem ra_iw0 {k r : Nat} : ra_iw 0 k r = false := rfl
theorem ra_iw2 {k r : Nat} : ra_iw 2 k r = true := rfl
theorem ra_iw1t {k r : Nat} (h : r < k) : ra_iw 1 k r = true := by simp [ra_iw, h]
theorem ra_iw1f {k r : Nat} (h : ¬ r < k) : ra_iw 1 k r = false := by simp [ra_iw, h]
theorem ra_us0 {k r : Nat} : ra_us 0 k r = true := rfl
theorem ra_us2 {k r : Nat} : ra_us 2 k r = true := rfl
theorem ra_us1t {k r : Nat} (h : r < k ∨ 2 * k ≤ r) : ra_us 1 k r = true := by
  rcases h with h | h <;> simp [ra_us, h]
theorem ra_us1f {k r : Nat} (h : ¬ (r < k ∨ 2 * k ≤ r)) : ra_us 1 k r = false := by
  have h1 : ¬ r < k := fun z => h (Or.inl z)
  have h2 : ¬ 2 * k ≤ r := fun z => h (Or.inr z)
  simp only [ra_us, h1, h2, decide_true, decide_false, Bool.not_true, Bool.or_false]
theorem ra_us1i {k r : Nat} (h : ra_us 1 k r = true) : r < k ∨ 2 * k ≤ r := by
  by_cases z : r < k ∨ 2 * k ≤ r
  · exact z
  · rw [ra_us1f z] at h; cases h
theorem ra_K2 {st k : Nat} (h : ra_K st k) : st ≤ 2 := by
  rcases h with ⟨a, b⟩ | ⟨a, b⟩ | ⟨a, b⟩ <;> omega
theorem ra_K6 {st k : Nat} (h : ra_K st k) : k ≤ 6 := by
  rcases h with ⟨a, b⟩ | ⟨a, b⟩ | ⟨a, b⟩ <;> omega
theorem ra_sz48 (k : Nat) : ra_sz k ≤ 48 := by unfold ra_sz; split <;> omega
/-- a block's row: within, in use, of the block's layout -/
theorem ra_lay {st k b : Nat} (K : ra_K st k) (h6 : st = 1 → k < 6) (hb : b < ra_sz k) :
    b / ra_d (ra_bw st k b) < 12 ∧ ra_us st k (b / ra_d (ra_bw st k b)) = true ∧ ra_iw st k (b / ra_d (ra_bw st k b)) = ra_bw st k b := by
  rcases K with ⟨rfl, rfl⟩ | ⟨rfl, hk⟩ | ⟨rfl, rfl⟩
  · have hb : b < 24 := hb
    rw [ra_bw0, ra_dF]
    exact ⟨by omega, rfl, rfl⟩
  · have hk6 := h6 rfl
    have hb : b < 24 := by unfold ra_sz at hb; rw [if_neg (by omega)] at hb; exact hb
    by_cases z : b < 4 * k
    · rw [ra_bw1t z, ra_dT]
      exact ⟨by omega, ra_us1t (by omega), ra_iw1t (by omega)⟩
    · rw [ra_bw1f z, ra_dF]
      exact ⟨by omega, ra_us1t (by omega), ra_iw1f (by omega)⟩
  · have hb : b < 48 := hb
    rw [ra_bw2, ra_dT]
    exact ⟨by omega, rfl, rfl⟩
/-- the other rows in use don't hold the block -/
theorem ra_sep {st k b r : Nat} (K : ra_K st k) (h6 : st = 1 → k < 6) (hb : b < ra_sz k) (hr : r < 12) (hu : ra_us st k r = true) (hn : r ≠ b / ra_d (ra_bw st k b)) :
    ∀ i : Nat, i < ra_d (ra_iw st k r) → ra_d (ra_iw st k r) * r + i ≠ b := by
  rcases K with ⟨rfl, rfl⟩ | ⟨rfl, hk⟩ | ⟨rfl, rfl⟩
  · rw [ra_bw0, ra_dF] at hn
    rw [ra_iw0, ra_dF]
    intro i hi
    omega
  · have hk6 := h6 rfl
    have hb : b < 24 := by unfold ra_sz at hb; rw [if_neg (by omega)] at hb; exact hb
    have hu := ra_us1i hu
    by_cases z : b < 4 * k
    · rw [ra_bw1t z, ra_dT] at hn
      by_cases y : r < k
      · rw [ra_iw1t y, ra_dT]; intro i hi; omega
      · rw [ra_iw1f y, ra_dF]; intro i hi; omega
    · rw [ra_bw1f z, ra_dF] at hn
      by_cases y : r < k
      · rw [ra_iw1t y, ra_dT]; intro i hi; omega
      · rw [ra_iw1f y, ra_dF]; intro i hi; omega
  · rw [ra_bw2, ra_dT] at hn
    rw [ra_iw2, ra_dT]
    intro i hi
    omega
/-- a whole write keeps all rows good -/
theorem ra_Aw {F : Int32} {st k b : Nat} {w : Bool} {D B : Nat → Int32} {v : Int32} (K : ra_K st k) (h6 : st = 1 → k < 6) (hb : b < ra_sz k) (hw : ra_bw st k b = w) (a : ra_A F st k D B) :
    ra_A F st k (ra_u F (ra_u F D (ra_m w b) (b / ra_d w) v) (b / ra_d w % (ra_d w + 1)) (b / ra_d w) (D (b / ra_d w % (ra_d w + 1) * 16 + b / ra_d w) ^^^ B b ^^^ v)) (upd B b v) := by
  subst hw
  obtain ⟨h1, h2, h3⟩ := ra_lay K h6 hb
  intro r hr hu
  by_cases e : r = b / ra_d (ra_bw st k b)
  · subst e
    have g := a _ h1 h2
    rw [h3] at g ⊢
    exact ra_Gw (by omega) g
  · refine ra_Gc (a r hr hu) (fun j hj hF => ?_) (fun i hi => pk_un (ra_sep K h6 hb hr hu e i hi))
    rw [ra_uo (by omega) (by omega) (Or.inr e), ra_uo (by omega) (by omega) (Or.inr e)]
/-- one row unclosed: all other rows good, its data too -/
def ra_O (st k : Nat) (D B : Nat → Int32) (o : Nat) : Prop :=
  o < 12 ∧ ra_us st k o = true ∧ (∀ j : Nat, j < ra_d (ra_iw st k o) + 1 → j ≠ o % (ra_d (ra_iw st k o) + 1) → D (j * 16 + o) = ra_L (ra_iw st k o) B o j) ∧
  ∀ r : Nat, r < 12 → ra_us st k r = true → r ≠ o → ra_G (ra_iw st k r) (-1) D B r
theorem ra_AO {st k o : Nat} {D B : Nat → Int32} (ho : o < 12) (hu : ra_us st k o = true) (a : ra_A (-1) st k D B) : ra_O st k D B o :=
  ⟨ho, hu, fun j hj _ => a o ho hu j hj (ra_nm1 (by have := ra_d5 (ra_iw st k o); omega)), fun r hr h _ => a r hr h⟩
/-- data written, parity not -/
theorem ra_Od {st k b : Nat} {w : Bool} {D B : Nat → Int32} {v : Int32} (K : ra_K st k) (h6 : st = 1 → k < 6) (hb : b < ra_sz k) (hw : ra_bw st k b = w) (a : ra_A (-1) st k D B) :
    ra_O st k (ra_u (-1) D (ra_m w b) (b / ra_d w) v) (upd B b v) (b / ra_d w) := by
  subst hw
  obtain ⟨h1, h2, h3⟩ := ra_lay K h6 hb
  refine ⟨h1, h2, ?_, ?_⟩
  · have g := a _ h1 h2
    rw [h3] at g ⊢
    intro j hj hn
    exact ra_Gd (by omega) g j hj hn (ra_nm1 (by have := ra_d5 (ra_bw st k b); omega))
  · intro r hr hu e
    refine ra_Gc (a r hr hu) (fun j hj hF => ?_) (fun i hi => pk_un (ra_sep K h6 hb hr hu e i hi))
    rw [ra_uo (by omega) (by omega) (Or.inr e)]
/-- the unclosed row mended -/
theorem ra_Om {st k o : Nat} {D B : Nat → Int32} (h : ra_O st k D B o) :
    ra_A (-1) st k (ra_u (-1) D (o % (ra_d (ra_iw st k o) + 1)) o (ra_x D o (nI (o % (ra_d (ra_iw st k o) + 1))) (ra_d (ra_iw st k o) + 1))) B := by
  obtain ⟨ho, hu, hd, hg⟩ := h
  intro r hr hur
  by_cases e : r = o
  · subst e
    exact ra_Gm (by omega) (ra_plt _ _) hd
  · exact ra_Gu (by omega) (by omega) e (hg r hr hur e)
end
section
/-! the component's small methods, each with a general post -/
section RAW
variable {rn F sg mv cp op : Int32} {D G : Nat → Int32}
theorem ra_sh1 {b : Nat} (h : b < 64) : nI b >>> ((1 : Int32) &&& 31) = nI (b / 2) := pk_shrN (by omega) _ 1 (by decide)
theorem ra_sh2 {b : Nat} (h : b < 64) : nI b >>> ((2 : Int32) &&& 31) = nI (b / 4) := pk_shrN (by omega) _ 2 (by decide)
theorem ra_r3 {r : Nat} (h : r < 64) : nI r - nI r / 3 * 3 = nI (r % 3) := pk_rem (d := 3) (by omega) (by omega) (by omega)
theorem ra_r5 {r : Nat} (h : r < 64) : nI r - nI r / 5 * 5 = nI (r % 5) := pk_rem (d := 5) (by omega) (by omega) (by omega)
theorem ra_a1 {b : Nat} (h : b < 64) : nI b &&& 1 = nI (b % 2) := pk_andN (by omega) 1 (by decide)
theorem ra_a3 {b : Nat} (h : b < 64) : nI b &&& 3 = nI (b % 4) := pk_andN (by omega) 2 (by decide)
theorem ra_ix (m r : Nat) : nI m * 16 + nI r = nI (m * 16 + r) := by
  rw [show nI m * 16 = nI (m * 16) from pk_mul m 16, nI_add]
theorem ra_4k (k : Nat) : 4 * nI k = nI (4 * k) := pk_mul 4 k
theorem ra_2k (k : Nat) : 2 * nI k = nI (2 * k) := pk_mul 2 k
theorem ra_wRow {w : Bool} {b : Nat} {post : Int32 → Prop} (hb : b < 64) (h : post (nI (b / ra_d w))) : wpX_rowOf post (nI b) (ra_i w) := by
  cases w
  · exact br_t rfl (by rw [ra_sh1 hb]; exact h)
  · exact br_f (by decide) (by rw [ra_sh2 hb]; exact h)
theorem ra_wMem {w : Bool} {b : Nat} {post : Int32 → Prop} (hb : b < 64) (h : post (nI (ra_m w b))) : wpX_memberOf post (nI b) (ra_i w) := by
  cases w
  · refine br_t rfl ?_
    rw [ra_sh1 hb]
    refine br_t rfl ⟨by decide, ?_⟩
    rw [ra_r3 (by omega)]
    refine br_t rfl ?_
    rw [ra_a1 hb]
    refine pk_le (b / 2 % 3) (b % 2) (fun z => ?_) (fun z => ?_)
    · have e : ra_m false b = b % 2 + 1 := if_neg (show ¬ b % 2 < b / 2 % 3 by omega)
      rw [e] at h
      rw [nI_1]
      exact h
    · have e : ra_m false b = b % 2 := if_pos (show b % 2 < b / 2 % 3 by omega)
      rw [e] at h
      exact h
  · refine br_f (by decide) ?_
    rw [ra_sh2 hb]
    refine br_f (by decide) ⟨by decide, ?_⟩
    rw [ra_r5 (by omega)]
    refine br_f (by decide) ?_
    rw [ra_a3 hb]
    refine pk_le (b / 4 % 5) (b % 4) (fun z => ?_) (fun z => ?_)
    · have e : ra_m true b = b % 4 + 1 := if_neg (show ¬ b % 4 < b / 4 % 5 by omega)
      rw [e] at h
      rw [nI_1]
      exact h
    · have e : ra_m true b = b % 4 := if_pos (show b % 4 < b / 4 % 5 by omega)
      rw [e] at h
      exact h
theorem ra_wPar {w : Bool} {r : Nat} {post : Int32 → Prop} (hr : r < 64) (h : post (nI (r % (ra_d w + 1)))) : wpX_parityOf post (nI r) (ra_i w) := by
  cases w
  · exact br_t rfl ⟨by decide, by rw [ra_r3 hr]; exact h⟩
  · exact br_f (by decide) ⟨by decide, by rw [ra_r5 hr]; exact h⟩
theorem ra_wBw {st k b : Nat} {post : Int32 → Prop} (hs : st ≤ 2) (hk : k ≤ 6) (hb : b < 64) (h : post (ra_i (ra_bw st k b))) : wpX_blockIsWide post (rn, F, nI st, nI k, cp, op, D, G) (nI b) := by
  have e : st = 0 ∨ st = 1 ∨ st = 2 := by omega
  rcases e with rfl | rfl | rfl
  · rw [ra_bw0] at h
    exact br_f (by decide) (br_f (by decide) h)
  · refine br_f (by decide) (br_t rfl ?_)
    rw [ra_4k]
    refine pk_le (4 * k) b (fun z => ?_) (fun z => ?_)
    · rw [ra_bw1f (by omega)] at h; exact h
    · rw [ra_bw1t z] at h; exact h
  · rw [ra_bw2] at h
    exact br_t rfl h
theorem ra_wIw {st k r : Nat} {post : Int32 → Prop} (hs : st ≤ 2) (hk : k ≤ 6) (hr : r < 64) (h : post (ra_i (ra_iw st k r))) : wpX_isWide post (rn, F, nI st, nI k, cp, op, D, G) (nI r) := by
  have e : st = 0 ∨ st = 1 ∨ st = 2 := by omega
  rcases e with rfl | rfl | rfl
  · rw [ra_iw0] at h
    exact br_f (by decide) (br_f (by decide) h)
  · refine br_f (by decide) (br_t rfl ?_)
    refine pk_le k r (fun z => ?_) (fun z => ?_)
    · rw [ra_iw1f (by omega)] at h; exact h
    · rw [ra_iw1t z] at h; exact h
  · rw [ra_iw2] at h
    exact br_t rfl h
theorem ra_wUs {st k r : Nat} {post : Int32 → Prop} (hs : st ≤ 2) (hk : k ≤ 6) (hr : r < 64) (h : post (ra_i (ra_us st k r))) : wpX_inUse post (rn, F, nI st, nI k, cp, op, D, G) (nI r) := by
  have e : st = 0 ∨ st = 1 ∨ st = 2 := by omega
  rcases e with rfl | rfl | rfl
  · rw [ra_us0] at h
    exact br_f (by decide) h
  · refine br_t rfl (pk_lt r k (fun z => ?_) (fun z => ?_))
    · rw [ra_us1t (Or.inl z)] at h; exact h
    · rw [ra_2k]
      refine pk_lt r (2 * k) (fun y => ?_) (fun y => ?_)
      · rw [ra_us1f (by omega)] at h; exact h
      · rw [ra_us1t (Or.inr y)] at h; exact h
  · rw [ra_us2] at h
    exact br_f (by decide) h
theorem ra_wOthL {r c : Nat} {but : Int32} {post : Int32 → Prop} (hr : r < 16) (hc : c ≤ 5) (h : post (ra_x D r but c)) : ∃ n : Nat, wX_others_17 post (nI r) but (nI c) rn F sg mv cp op D G n 0 0 := by
  refine loop_0 (fun n i s => wX_others_17 post (nI r) but (nI c) rn F sg mv cp op D G n s (nI i)) (fun i s => s = ra_x D r but i) c 0 rfl ?_ ?_
  · intro n s e
    refine br_t (Int32.le_refl _) ?_
    rw [e]
    exact h
  · intro n i s hi e ih
    refine br_f (nI_ge hi (by omega)) (br_c (fun z => ?_) (fun z => ?_))
    · refine nm_r (nI_1 i) (ih _ ?_)
      rw [e]
      exact (if_pos z).symm
    · rw [ra_ix, nI_clamp (by omega)]
      refine ⟨vp_in_nI (by omega) (by omega), nm_e (nm_r (nI_1 i) (ih _ ?_))⟩
      rw [e]
      exact (if_neg z).symm
theorem ra_wOth {w : Bool} {r : Nat} {but : Int32} {post : Int32 → Prop} (hr : r < 16) (h : post (ra_x D r but (ra_d w + 1))) : wpX_others post (rn, F, sg, mv, cp, op, D, G) (nI r) but (ra_i w) := by
  cases w
  · exact br_t rfl (ra_wOthL (c := 3) hr (by omega) h)
  · exact br_f (by decide) (ra_wOthL (c := 5) hr (by omega) h)
theorem ra_wPut {m r : Nat} {v : Int32} {post : SX → Prop} (hm : m < 5) (hr : r < 16) (h : post (rn, F, sg, mv, cp, op, ra_u F D m r v, G)) : wpX_put post (rn, F, sg, mv, cp, op, D, G) (nI m) (nI r) v := by
  refine br_c (fun z => ?_) (fun z => ?_)
  · rw [show ra_u F D m r v = D from if_pos z] at h
    exact h
  · rw [show ra_u F D m r v = upd D (m * 16 + r) v from if_neg z] at h
    rw [ra_ix, nI_clamp (by omega)]
    exact ⟨vp_in_nI (by omega) (by omega), nm_e h⟩
theorem ra_wFF {w : Bool} {b : Nat} {B : Nat → Int32} {post : Int32 → Prop} (hb : b < 64) (hr : b / ra_d w < 16) (g : ra_G w F D B (b / ra_d w)) (h : post (B b)) : wpX_fetchFrom post (rn, F, sg, mv, cp, op, D, G) (nI b) (ra_i w) := by
  have hm := ra_mlt w b
  have hm5 := ra_mlt5 w b
  have hd5 := ra_d5 w
  unfold wpX_fetchFrom
  dsimp only
  refine ra_wRow hb (ra_wMem hb ?_)
  refine br_c (fun z => ?_) (fun z => ?_)
  · refine ra_wOth hr ?_
    rw [ra_xo hm (fun j hj hne => g j hj (by rw [← z]; exact ra_ne (by omega) (by omega) hne)), ra_Lm]
    exact h
  · rw [ra_ix, nI_clamp (by omega)]
    refine ⟨vp_in_nI (by omega) (by omega), ?_⟩
    rw [g _ hm z, ra_Lm]
    exact h
theorem ra_wFe {st k b : Nat} {B : Nat → Int32} {post : Int32 → Prop} (K : ra_K st k) (h6 : st = 1 → k < 6) (hb : b < ra_sz k) (a : ra_A F st k D B) (h : post (B b)) : wpX_fetch post (rn, F, nI st, nI k, cp, op, D, G) (nI b) := by
  have h48 := ra_sz48 k
  obtain ⟨h1, h2, h3⟩ := ra_lay K h6 hb
  have g := a _ h1 h2
  rw [h3] at g
  unfold wpX_fetch
  dsimp only
  exact ra_wBw (ra_K2 K) (ra_K6 K) (by omega) (ra_wFF (by omega) (by omega) g h)
theorem ra_wSt {st k b : Nat} {w : Bool} {B : Nat → Int32} {v pt : Int32} {post : SX → Prop} (hs : st ≤ 2) (hk : k ≤ 6) (hb : b < 64) (hw : ra_bw st k b = w) (hr : b / ra_d w < 16) (g : ra_G w F D B (b / ra_d w))
    (h0 : pt = 0 → post (rn, F, nI st, nI k, cp, nI (b / ra_d w), D, G))
    (h1 : pt = 1 → post (rn, F, nI st, nI k, cp, nI (b / ra_d w), ra_u F D (ra_m w b) (b / ra_d w) v, G))
    (h2 : pt = 2 → post (rn, F, nI st, nI k, cp, nI (b / ra_d w), ra_u F (ra_u F D (ra_m w b) (b / ra_d w) v) (b / ra_d w % (ra_d w + 1)) (b / ra_d w) (D (b / ra_d w % (ra_d w + 1) * 16 + b / ra_d w) ^^^ B b ^^^ v), G))
    (h3 : ¬ pt = 0 → ¬ pt = 1 → ¬ pt = 2 → post (rn, F, nI st, nI k, cp, -1, ra_u F (ra_u F D (ra_m w b) (b / ra_d w) v) (b / ra_d w % (ra_d w + 1)) (b / ra_d w) (D (b / ra_d w % (ra_d w + 1) * 16 + b / ra_d w) ^^^ B b ^^^ v), G)) :
    wpX_store post (rn, F, nI st, nI k, cp, op, D, G) (nI b) v pt := by
  have hm5 := ra_mlt5 w b
  have hp5 := ra_plt5 w (b / ra_d w)
  unfold wpX_store
  dsimp only
  refine ra_wBw hs hk hb ?_
  rw [hw]
  refine ra_wRow hb (ra_wMem hb (ra_wPar (by omega) (ra_wFF hb hr g ?_)))
  rw [ra_ix, nI_clamp (by omega)]
  refine ⟨vp_in_nI (by omega) (by omega), nm_e ?_⟩
  refine br_c (fun z => h0 z) (fun z0 => ra_wPut hm5 hr ?_)
  refine br_c (fun z => h1 z) (fun z1 => ra_wPut hp5 hr ?_)
  exact br_c (fun z => h2 z) (fun z2 => h3 z0 z1 z2)
theorem ra_wMe {w : Bool} {r m : Nat} {post : SX → Prop} (hm : m < 5) (hr : r < 16) (h : post (rn, F, sg, mv, cp, op, ra_u F D m r (ra_x D r (nI m) (ra_d w + 1)), G)) : wpX_mend post (rn, F, sg, mv, cp, op, D, G) (nI r) (nI m) (ra_i w) := by
  unfold wpX_mend
  dsimp only
  exact ra_wOth hr (ra_wPut hm hr h)
/-! sizes, blocks -/
theorem ra_szE {k : Nat} (hk : k ≤ 6) {A B : Prop} (h48 : k = 6 → A) (h24 : ¬ k = 6 → B) : (nI k = 6 → A) ∧ (¬ nI k = 6 → B) := pk_eq k 6 h48 h24
theorem ra_wSz {k : Nat} {post : Int32 → Prop} (hk : k ≤ 6) (h : post (nI (ra_sz k))) : wpX_size post (rn, F, sg, nI k, cp, op, D, G) := by
  refine ra_szE hk (fun z => ?_) (fun z => ?_)
  · rw [show ra_sz k = 48 from if_pos z] at h; exact h
  · rw [show ra_sz k = 24 from if_neg z] at h; exact h
theorem ra_wIb1 {k b : Nat} {post : Int32 → Prop} (hk : k ≤ 6) (hb : b < ra_sz k) (h : post 1) : wpX_isBlock post (rn, F, sg, nI k, cp, op, D, G) (nI b) := by
  have h48 := ra_sz48 k
  unfold wpX_isBlock
  dsimp only
  refine ra_wSz hk ?_
  exact br_f (nI_pos (by omega)) (br_f (nI_ge hb (by omega)) h)
theorem ra_wIb0 {k : Nat} {x : Int32} {post : Int32 → Prop} (hk : k ≤ 6) (hx : x < 0 ∨ nI (ra_sz k) ≤ x) (h : post 0) : wpX_isBlock post (rn, F, sg, nI k, cp, op, D, G) x := by
  unfold wpX_isBlock
  dsimp only
  refine ra_wSz hk ?_
  refine br_c (fun _ => h) (fun z => ?_)
  rcases hx with hx | hx
  · exact absurd hx z
  · exact br_t hx h
end RAW
end
section
/-! the component's loops -/
section RAL
variable {rn F sg mv cp op : Int32} {D G : Nat → Int32}
theorem ra_wWW {k s : Nat} {post : SX → Prop} (hk : k < 6) (hs : s + 2 ≤ 4)
    (h : post (rn, F, sg, nI k, cp, op, ra_u F (ra_u F D (ra_m true (4 * k + s)) k (G s)) (ra_m true (4 * k + (s + 1))) k (G (s + 1)), G)) :
    ∃ n : Nat, wX_writeWide_2 post (nI (s + 2)) n (nI s) rn F sg (nI k) cp op D G := by
  refine ⟨0 + 1 + 1 + 1, ?_⟩
  refine br_f (nI_ge (by omega) (by omega)) ?_
  rw [ra_4k, nI_add, nI_clamp (by omega)]
  refine ra_wMem (w := true) (by omega) ⟨vp_in_nI (by omega) (by omega), ?_⟩
  refine ra_wPut (ra_mlt5 _ _) (by omega) (nm_r (nI_1 s) ?_)
  refine br_f (nI_ge (by omega) (by omega)) ?_
  rw [ra_4k, nI_add, nI_clamp (by omega)]
  refine ra_wMem (w := true) (by omega) ⟨vp_in_nI (by omega) (by omega), ?_⟩
  refine ra_wPut (ra_mlt5 _ _) (by omega) (nm_r (nI_1 (s + 1)) ?_)
  exact br_t (Int32.le_refl _) h
theorem ra_wW0 {k : Nat} {post : SX → Prop} (hk : k < 6)
    (h : post (rn, F, sg, nI k, cp, op, ra_u F (ra_u F D (ra_m true (4 * k)) k (G 0)) (ra_m true (4 * k + 1)) k (G 1), G)) :
    wpX_writeWide post (rn, F, sg, nI k, cp, op, D, G) 0 2 := ra_wWW (s := 0) hk (by omega) h
theorem ra_wW2 {k : Nat} {post : SX → Prop} (hk : k < 6)
    (h : post (rn, F, sg, nI k, cp, op, ra_u F (ra_u F D (ra_m true (4 * k + 2)) k (G 2)) (ra_m true (4 * k + 3)) k (G 3), G)) :
    wpX_writeWide post (rn, F, sg, nI k, cp, op, D, G) 2 4 := ra_wWW (s := 2) hk (by omega) h
/-- one row emptied -/
theorem ra_wF1 {r : Nat} {post : SX → Prop} {J : Int32 → Int32 → Int32 → Int32 → Int32 → Int32 → Int32 → (Nat → Int32) → (Nat → Int32) → Prop} (hr : r < 16)
    (h : ∀ D' : Nat → Int32, (∀ j i : Nat, i < 16 → i ≠ r → D' (j * 16 + i) = D (j * 16 + i)) → (∀ j : Nat, j < 5 → nI j ≠ F → D' (j * 16 + r) = 0) → J (nI (r + 1)) rn F sg mv cp op D' G) :
    ∃ n : Nat, wX_finish_11 post J (nI r) n 0 rn F sg mv cp op D G := by
  refine loop_0 (fun n i s => wX_finish_11 post J (nI r) n (nI i) rn F sg mv cp op s G)
    (fun i s => (∀ j q : Nat, q < 16 → q ≠ r → s (j * 16 + q) = D (j * 16 + q)) ∧ (∀ j : Nat, j < i → nI j ≠ F → s (j * 16 + r) = 0)) 5 D ⟨fun _ _ _ _ => rfl, fun j hj => absurd hj (Nat.not_lt_zero j)⟩ ?_ ?_
  · intro n s hI
    exact br_t (by decide) (nm_r (nI_1 r) (h s hI.1 hI.2))
  · intro n i s hi hI ih
    refine br_f (nI_ge (b := 5) hi (by omega)) (ra_wPut hi hr (nm_r (nI_1 i) (ih _ ⟨?_, ?_⟩)))
    · intro j q hq hn
      rw [ra_uo hr hq (Or.inr hn)]
      exact hI.1 j q hq hn
    · intro j hj hF
      by_cases e : j = i
      · subst e
        exact ra_uw hF
      · rw [ra_uo hr hr (Or.inl e)]
        exact hI.2 j (by omega) hF
/-- the rows 6 .. 11 emptied -/
theorem ra_wFi {post : SX → Prop}
    (h : ∀ D' : Nat → Int32, (∀ j i : Nat, i < 6 → D' (j * 16 + i) = D (j * 16 + i)) → (∀ j i : Nat, j < 5 → 6 ≤ i → i < 12 → nI j ≠ F → D' (j * 16 + i) = 0) → post (rn, F, 2, mv, cp, op, D', G)) :
    wpX_finish post (rn, F, sg, mv, cp, op, D, G) := by
  refine pk_loop (fun n i s => wX_finish_3 post n (nI i) rn F sg mv cp op s G)
    (fun i s => 6 ≤ i ∧ (∀ j q : Nat, q < 6 → s (j * 16 + q) = D (j * 16 + q)) ∧ (∀ j q : Nat, j < 5 → 6 ≤ q → q < i → nI j ≠ F → s (j * 16 + q) = 0)) 12 6 D (by omega) ⟨Nat.le_refl 6, fun _ _ _ => rfl, fun j q _ h1 h2 => absurd h2 (by omega)⟩ ?_ ?_
  · intro n s hI
    exact br_t (by decide) (h s hI.2.1 hI.2.2)
  · intro n i s hi hI ih
    have h6 := hI.1
    refine br_f (nI_ge (b := 12) hi (by omega)) (ra_wF1 (by omega) (fun D' h1 h2 => ih D' ⟨by omega, ?_, ?_⟩))
    · intro j q hq
      rw [h1 j q (by omega) (by omega)]
      exact hI.2.1 j q hq
    · intro j q hj hq1 hq2 hF
      by_cases e : q = i
      · subst e
        exact h2 j hj hF
      · rw [h1 j q (by omega) e]
        exact hI.2.2 j q hj hq1 (by omega) hF
/-! moving a group -/
/-- the group read: its four blocks -/
theorem ra_wMg {k : Nat} {B : Nat → Int32} {pt : Int32} {post : SX → Prop} (hk : k < 6) (g0 : ra_G false F D B (2 * k)) (g1 : ra_G false F D B (2 * k + 1))
    (h : ∀ G' : Nat → Int32, (∀ i : Nat, i < 4 → G' i = B (4 * k + i)) → (pt = 0 → post (rn, F, sg, nI k, cp, op, D, G')) ∧
      (¬ pt = 0 → ((nI k = 0 → (∃ n46 : Nat, wX_moveGroup_46 post pt n46 0 rn F sg (nI k) cp op D G')) ∧ (¬ nI k = 0 → (wX_moveGroup_92 post pt rn F sg (nI k) cp op D G'))))) :
    wpX_moveGroup post (rn, F, sg, nI k, cp, op, D, G) pt := by
  refine loop_0 (fun n i s => wX_moveGroup_2 post pt rn F sg (nI k) cp op n (nI i) D s) (fun i s => ∀ j : Nat, j < i → s j = B (4 * k + j)) 4 G lt_0 ?_ ?_
  · intro n s hI
    exact br_t (by decide) (h s hI)
  · intro n i s hi hI ih
    refine br_f (nI_ge (b := 4) hi (by omega)) ?_
    rw [ra_4k, nI_add, nI_clamp (by omega)]
    have g : ra_G false F D B ((4 * k + i) / ra_d false) := by
      rw [ra_dF]
      by_cases e : i < 2
      · rw [show (4 * k + i) / 2 = 2 * k by omega]; exact g0
      · rw [show (4 * k + i) / 2 = 2 * k + 1 by omega]; exact g1
    refine ra_wFF (w := false) (by omega) (by rw [ra_dF]; omega) g ⟨vp_in_nI hi (by omega), nm_e (nm_r (nI_1 i) (ih _ ?_))⟩
    intro j hj
    by_cases e : j = i
    · subst e
      exact pk_us
    · rw [pk_un e]
      exact hI j (by omega)
/-- the copies of the first group -/
theorem ra_wMc {pt : Int32} {post : SX → Prop}
    (h : ∀ D' : Nat → Int32, (∀ j i : Nat, i < 12 → D' (j * 16 + i) = D (j * 16 + i)) → (nI 3 ≠ F → ∀ i : Nat, i < 4 → D' (3 * 16 + (12 + i)) = G i) → (nI 4 ≠ F → ∀ i : Nat, i < 4 → D' (4 * 16 + (12 + i)) = G i) →
      wX_moveGroup_92 post pt rn F sg mv 1 op D' G) :
    ∃ n : Nat, wX_moveGroup_46 post pt n 0 rn F sg mv cp op D G := by
  refine loop_0 (fun n i s => wX_moveGroup_46 post pt n (nI i) rn F sg mv cp op s G)
    (fun i s => (∀ j q : Nat, q < 12 → s (j * 16 + q) = D (j * 16 + q)) ∧ (nI 3 ≠ F → ∀ q : Nat, q < i → s (3 * 16 + (12 + q)) = G q) ∧ (nI 4 ≠ F → ∀ q : Nat, q < i → s (4 * 16 + (12 + q)) = G q)) 4 D
    ⟨fun _ _ _ => rfl, fun _ => lt_0, fun _ => lt_0⟩ ?_ ?_
  · intro n s hI
    exact br_t (by decide) (h s hI.1 hI.2.1 hI.2.2)
  · intro n i s hi hI ih
    refine br_f (nI_ge (b := 4) hi (by omega)) ⟨vp_in_nI hi (by omega), ?_⟩
    rw [show 12 + nI i = nI (12 + i) from nI_add 12 i, nI_clamp (by omega)]
    refine ra_wPut (m := 3) (by omega) (by omega) ⟨vp_in_nI hi (by omega), ?_⟩
    refine ra_wPut (m := 4) (by omega) (by omega) (nm_r (nI_1 i) (ih _ ⟨?_, ?_, ?_⟩))
    · intro j q hq
      rw [ra_uo (by omega) (by omega) (Or.inr (by omega)), ra_uo (by omega) (by omega) (Or.inr (by omega))]
      exact hI.1 j q hq
    · intro hF q hq
      rw [ra_uo (by omega) (by omega) (Or.inl (by omega))]
      by_cases e : q = i
      · subst e
        exact ra_uw hF
      · rw [ra_uo (by omega) (by omega) (Or.inr (by omega))]
        exact hI.2.1 hF q (by omega)
    · intro hF q hq
      by_cases e : q = i
      · subst e
        exact ra_uw hF
      · rw [ra_uo (by omega) (by omega) (Or.inr (by omega)), ra_uo (by omega) (by omega) (Or.inl (by omega))]
        exact hI.2.2 hF q (by omega)
/-- half a group written -/
def ra_h1 (F : Int32) (D G : Nat → Int32) (k : Nat) : Nat → Int32 := ra_u F (ra_u F D (ra_m true (4 * k)) k (G 0)) (ra_m true (4 * k + 1)) k (G 1)
/-- all of it written -/
def ra_h2 (F : Int32) (D G : Nat → Int32) (k : Nat) : Nat → Int32 :=
  ra_u F (ra_u F (ra_u F (ra_h1 F D G k) (ra_m true (4 * k + 2)) k (G 2)) (ra_m true (4 * k + 3)) k (G 3)) (k % 5) k (G 0 ^^^ G 1 ^^^ G 2 ^^^ G 3)
theorem ra_wM9 {k : Nat} {pt : Int32} {post : SX → Prop} (hk : k < 6)
    (h1 : pt = 1 → post (rn, F, sg, nI k, cp, op, D, G))
    (h2 : ¬ pt = 1 → pt = 2 → post (rn, F, sg, nI k, cp, op, ra_h1 F D G k, G))
    (h3 : ¬ pt = 1 → ¬ pt = 2 → pt = 3 → post (rn, F, sg, nI k, cp, op, ra_h2 F D G k, G))
    (h4 : ¬ pt = 1 → ¬ pt = 2 → ¬ pt = 3 → pt ≤ 4 → post (rn, F, sg, nI (k + 1), 0, op, ra_h2 F D G k, G))
    (h5 : ¬ pt = 1 → ¬ pt = 2 → ¬ pt = 3 → ¬ pt ≤ 4 → ¬ k = 5 → post (rn, F, sg, nI (k + 1), 0, op, ra_h2 F D G k, G))
    (h6 : ¬ pt = 1 → ¬ pt = 2 → ¬ pt = 3 → ¬ pt ≤ 4 → k = 5 → ∀ D' : Nat → Int32, (∀ j i : Nat, i < 6 → D' (j * 16 + i) = ra_h2 F D G k (j * 16 + i)) →
      (∀ j i : Nat, j < 5 → 6 ≤ i → i < 12 → nI j ≠ F → D' (j * 16 + i) = 0) → post (rn, F, 2, nI (k + 1), 0, op, D', G)) :
    wX_moveGroup_92 post pt rn F sg (nI k) cp op D G := by
  unfold wX_moveGroup_92
  refine br_c h1 (fun z1 => ra_wW0 hk ?_)
  refine br_c (h2 z1) (fun z2 => ra_wW2 hk ?_)
  dsimp only
  rw [ra_r5 (by omega)]
  refine ⟨by decide, ra_wPut (by omega) (by omega) ?_⟩
  refine br_c (h3 z1 z2) (fun z3 => nm_r (nI_1 k) ?_)
  refine br_c (h4 z1 z2 z3) (fun z4 => ?_)
  refine pk_eq (k + 1) 6 (fun e => ?_) (fun e => ?_)
  · exact ra_wFi (h6 z1 z2 z3 z4 (by omega))
  · exact h5 z1 z2 z3 z4 (by omega)
/-! taking back -/
def ra_tb (F : Int32) (D G : Nat → Int32) : Nat → Int32 :=
  ra_u F (ra_u F (ra_u F (ra_u F (ra_u F (ra_u F D 1 0 (G 0)) 2 0 (G 1)) 0 1 (G 2)) 2 1 (G 3)) 0 0 (G 0 ^^^ G 1)) 1 1 (G 2 ^^^ G 3)
theorem ra_wT4 {post : SX → Prop} (h : post (rn, F, sg, mv, 0, op, ra_tb F D G, G)) : ∃ n : Nat, wX_takeBack_49 post n 0 rn F sg mv cp op D G := by
  refine ⟨0 + 1 + 1 + 1 + 1 + 1, ?_⟩
  show wX_takeBack_49 post _ (nI 0) rn F sg mv cp op D G
  refine br_f (by decide) ?_
  rw [ra_sh1 (by omega), nI_clamp (by omega)]
  refine ra_wMem (w := false) (by omega) ⟨vp_in_nI (by omega) (by omega), ra_wPut (ra_mlt5 _ _) (by omega) (nm_r (nI_1 0) ?_)⟩
  refine br_f (by decide) ?_
  rw [ra_sh1 (by omega), nI_clamp (by omega)]
  refine ra_wMem (w := false) (by omega) ⟨vp_in_nI (by omega) (by omega), ra_wPut (ra_mlt5 _ _) (by omega) (nm_r (nI_1 1) ?_)⟩
  refine br_f (by decide) ?_
  rw [ra_sh1 (by omega), nI_clamp (by omega)]
  refine ra_wMem (w := false) (by omega) ⟨vp_in_nI (by omega) (by omega), ra_wPut (ra_mlt5 _ _) (by omega) (nm_r (nI_1 2) ?_)⟩
  refine br_f (by decide) ?_
  rw [ra_sh1 (by omega), nI_clamp (by omega)]
  refine ra_wMem (w := false) (by omega) ⟨vp_in_nI (by omega) (by omega), ra_wPut (ra_mlt5 _ _) (by omega) (nm_r (nI_1 3) ?_)⟩
  refine br_t (by decide) ?_
  exact ra_wPut (m := 0) (r := 0) (by omega) (by omega) (ra_wPut (m := 1) (r := 1) (by omega) (by omega) h)
theorem ra_wT1 {x : Nat} {post : SX → Prop} (hx : x < 5) (h : ∀ G' : Nat → Int32, (∀ i : Nat, i < 4 → G' i = D (x * 16 + (12 + i))) → post (rn, F, sg, mv, 0, op, ra_tb F D G', G')) :
    ∃ n : Nat, wX_takeBack_16 post (nI x) rn F sg mv cp op n 0 D G := by
  refine loop_0 (fun n i s => wX_takeBack_16 post (nI x) rn F sg mv cp op n (nI i) D s) (fun i s => ∀ j : Nat, j < i → s j = D (x * 16 + (12 + j))) 4 G lt_0 ?_ ?_
  · intro n s hI
    exact br_t (by decide) (ra_wT4 (h s hI))
  · intro n i s hi hI ih
    refine br_f (nI_ge (b := 4) hi (by omega)) ?_
    rw [show nI x * 16 = nI (x * 16) from pk_mul x 16, show nI (x * 16) + 12 = nI (x * 16 + 12) from nI_add _ 12, nI_add, nI_clamp (by omega), nI_clamp (by omega)]
    refine ⟨vp_in_nI (by omega) (by omega), vp_in_nI hi (by omega), nm_e (nm_r (nI_1 i) (ih _ ?_))⟩
    intro j hj
    by_cases e : j = i
    · subst e
      rw [pk_us, Nat.add_assoc]
    · rw [pk_un e]
      exact hI j (by omega)
theorem ra_wTb {post : SX → Prop}
    (h : ∀ (x : Nat) (G' : Nat → Int32), (x = 3 ∨ x = 4) → nI x ≠ F → (∀ i : Nat, i < 4 → G' i = D (x * 16 + (12 + i))) → post (rn, F, sg, mv, 0, op, ra_tb F D G', G')) :
    wpX_takeBack post (rn, F, sg, mv, cp, op, D, G) := by
  refine br_c (fun z => ?_) (fun z => ?_)
  · exact ra_wT1 (x := 4) (by omega) (fun G' hG => h 4 G' (Or.inr rfl) (by rw [z]; decide) hG)
  · exact ra_wT1 (x := 3) (by omega) (fun G' hG => h 3 G' (Or.inl rfl) (fun e => z e.symm) hG)
/-! a member lost, a member replaced, the rows looked at -/
theorem ra_wFl {m : Nat} {post : Int32 → SX → Prop} (hm : m < 5) (h : ∀ D' : Nat → Int32, (∀ j i : Nat, i < 16 → j ≠ m → D' (j * 16 + i) = D (j * 16 + i)) → post 0 (rn, F, sg, mv, cp, op, D', G)) :
    ∃ n : Nat, wX_fail_44 post (nI m) rn F sg mv cp op n 0 D G := by
  refine loop_0 (fun n i s => wX_fail_44 post (nI m) rn F sg mv cp op n (nI i) s G) (fun _ s => ∀ j q : Nat, q < 16 → j ≠ m → s (j * 16 + q) = D (j * 16 + q)) 16 D (fun _ _ _ _ => rfl) ?_ ?_
  · intro n s hI
    exact br_t (by decide) (h s hI)
  · intro n i s hi hI ih
    refine br_f (nI_ge (b := 16) hi (by omega)) ?_
    rw [ra_ix, nI_clamp (by omega)]
    refine ⟨vp_in_nI (by omega) (by omega), nm_e (nm_r (nI_1 i) (ih _ ?_))⟩
    intro j q hq hn
    rw [pk_un (by omega)]
    exact hI j q hq hn
theorem ra_wR3 {m : Nat} {post : Int32 → SX → Prop} (hm : m < 5)
    (h : ∀ D' : Nat → Int32, (∀ j i : Nat, i < 16 → j ≠ m → D' (j * 16 + i) = D (j * 16 + i)) → ∃ n58 : Nat, wX_replace_58 post (nI m) n58 0 rn F sg mv cp op D' G) :
    ∃ n : Nat, wX_replace_32 post (nI m) rn F sg mv cp op n 0 D G := by
  refine loop_0 (fun n i s => wX_replace_32 post (nI m) rn F sg mv cp op n (nI i) s G) (fun _ s => ∀ j q : Nat, q < 16 → j ≠ m → s (j * 16 + q) = D (j * 16 + q)) 16 D (fun _ _ _ _ => rfl) ?_ ?_
  · intro n s hI
    exact br_t (by decide) (h s hI)
  · intro n i s hi hI ih
    refine br_f (nI_ge (b := 16) hi (by omega)) ?_
    rw [ra_ix, nI_clamp (by omega)]
    refine ⟨vp_in_nI (by omega) (by omega), nm_e (nm_r (nI_1 i) (ih _ ?_))⟩
    intro j q hq hn
    rw [pk_un (by omega)]
    exact hI j q hq hn
theorem ra_wR5 {m st k : Nat} {B : Nat → Int32} {post : Int32 → SX → Prop} (hm : m < 5) (hs : st ≤ 2) (hk : k ≤ 6) (a : ra_A (nI m) st k D B)
    (h : ∀ D' : Nat → Int32, ra_A (-1) st k D' B → post (nI m) (rn, -1, nI st, nI k, cp, op, D', G)) :
    ∃ n : Nat, wX_replace_58 post (nI m) n 0 rn (-1) (nI st) (nI k) cp op D G := by
  refine loop_0 (fun n i s => wX_replace_58 post (nI m) n (nI i) rn (-1) (nI st) (nI k) cp op s G)
    (fun i s => ∀ r : Nat, r < 12 → ra_us st k r = true → (r < i → ra_G (ra_iw st k r) (-1) s B r) ∧ (i ≤ r → ra_G (ra_iw st k r) (nI m) s B r)) 12 D
    (fun r hr hu => ⟨fun z => absurd z (Nat.not_lt_zero r), fun _ => a r hr hu⟩) ?_ ?_
  · intro n s hI
    exact br_t (by decide) (h s (fun r hr hu => (hI r hr hu).1 hr))
  · intro n i s hi hI ih
    refine br_f (nI_ge (b := 12) hi (by omega)) (ra_wIw hs hk (by omega) (ra_wUs hs hk (by omega) ?_))
    have skip : (ra_us st k i = true → ra_G (ra_iw st k i) (-1) s B i) → wX_replace_58 post (nI m) n (nI (i + 1)) rn (-1) (nI st) (nI k) cp op s G := by
      intro hg
      refine ih s (fun r hr hu => ⟨fun z => ?_, fun z => (hI r hr hu).2 (by omega)⟩)
      by_cases e : r = i
      · subst e
        exact hg hu
      · exact (hI r hr hu).1 (by omega)
    have men : m < ra_d (ra_iw st k i) + 1 → ra_us st k i = true → wX_replace_87 post (wX_replace_58 post (nI m) n) (nI m) (nI i) (ra_i (ra_iw st k i)) rn (-1) (nI st) (nI k) cp op s G := by
      intro hmd hui
      unfold wX_replace_87
      refine ra_wMe hm (by omega) (nm_r (nI_1 i) (ih _ ?_))
      intro r hr hu
      refine ⟨fun z => ?_, fun z => ra_Gu (by omega) (by omega) (by omega) ((hI r hr hu).2 (by omega))⟩
      by_cases e : r = i
      · subst e
        have := ra_d5 (ra_iw st k r)
        exact ra_Gm (by omega) hmd (fun j hj hn => (hI r hr hu).2 (Nat.le_refl r) j hj (ra_ne (by omega) (by omega) hn))
      · exact ra_Gu (by omega) (by omega) e ((hI r hr hu).1 (by omega))
    cases hui : ra_us st k i with
    | false => exact br_t rfl (nm_r (nI_1 i) (skip (fun z => by rw [hui] at z; cases z)))
    | true =>
      refine br_f (by decide) ?_
      cases hwi : ra_iw st k i with
      | false =>
        rw [hwi] at skip men
        refine br_t rfl (pk_le 3 m (fun z => nm_r (nI_1 i) (skip (fun hu j hj _ => ?_))) (fun z => men (by rw [ra_dF]; omega) hui))
        have g := (hI i hi hui).2 (Nat.le_refl i)
        rw [hwi] at g
        rw [ra_dF] at hj
        exact g j (by rw [ra_dF]; omega) (ra_ne (by omega) (by omega) (by omega))
      | true =>
        rw [hwi] at men
        exact br_f (by decide) (men (by rw [ra_dT]; omega) hui)
theorem ra_wSc {st k : Nat} {B : Nat → Int32} {post : Int32 → Prop} (hs : st ≤ 2) (hk : k ≤ 6) (a : ra_A (-1) st k D B) (h : post 0) :
    ∃ n : Nat, wX_scrub_24 post rn F (nI st) (nI k) cp op D G n 0 0 := by
  refine loop_0 (fun n i s => wX_scrub_24 post rn F (nI st) (nI k) cp op D G n s (nI i)) (fun _ s => s = 0) 12 0 rfl ?_ ?_
  · intro n s hI
    subst hI
    exact br_t (by decide) h
  · intro n i s hi hI ih
    subst hI
    refine br_f (nI_ge (b := 12) hi (by omega)) (ra_wUs hs hk (by omega) ?_)
    cases hui : ra_us st k i with
    | false => exact br_t rfl (nm_r (nI_1 i) (ih _ rfl))
    | true =>
      refine br_f (by decide) (ra_wIw hs hk (by omega) (ra_wOth (by omega) ?_))
      rw [ra_xz (a i hi hui)]
      exact br_t rfl (nm_r (nI_1 i) (ih _ rfl))
/-! sums, fills -/
def ra_sm (B : Nat → Int32) : Nat → Int32
  | 0 => 0
  | n + 1 => ra_sm B n + B n
theorem ra_wSu {st k : Nat} {B : Nat → Int32} {post : Int32 → Prop} (K : ra_K st k) (h6 : st = 1 → k < 6) (a : ra_A F st k D B) (h : post (ra_sm B (ra_sz k))) :
    ∃ n : Nat, wX_sum_18 post (nI (ra_sz k)) rn F (nI st) (nI k) cp op D G n 0 0 := by
  have h48 := ra_sz48 k
  refine loop_0 (fun n i s => wX_sum_18 post (nI (ra_sz k)) rn F (nI st) (nI k) cp op D G n s (nI i)) (fun i s => s = ra_sm B i) (ra_sz k) 0 rfl ?_ ?_
  · intro n s hI
    subst hI
    exact br_t (Int32.le_refl _) h
  · intro n i s hi hI ih
    subst hI
    exact br_f (nI_ge hi (by omega)) (ra_wFe K h6 hi a (nm_e (nm_r (nI_1 i) (ih _ rfl))))
/-- the blocks after c steps of a fill -/
def ra_fl (B : Nat → Int32) (b : Nat) (v s : Int32) (c : Nat) : Nat → Int32 := fun j => if b ≤ j ∧ j < b + c then v + nI (j - b) * s else B j
theorem ra_fl0 (B : Nat → Int32) (b : Nat) (v s : Int32) : ra_fl B b v s 0 = B := by
  funext j
  exact if_neg (by omega)
theorem ra_fls (B : Nat → Int32) (b : Nat) (v s : Int32) (c : Nat) : upd (ra_fl B b v s c) (b + c) (v + nI c * s) = ra_fl B b v s (c + 1) := by
  funext j
  unfold ra_fl
  by_cases e : j = b + c
  · subst e
    rw [pk_us, if_pos (by omega), Nat.add_sub_cancel_left]
  · rw [pk_un e]
    by_cases z : b ≤ j ∧ j < b + c
    · rw [if_pos z, if_pos (by omega)]
    · rw [if_neg z, if_neg (by omega)]
theorem ra_wS3 {st k b : Nat} {B : Nat → Int32} {v : Int32} {post : SX → Prop} (K : ra_K st k) (h6 : st = 1 → k < 6) (hb : b < ra_sz k) (a : ra_A F st k D B)
    (h : ∀ D' : Nat → Int32, ra_A F st k D' (upd B b v) → post (rn, F, nI st, nI k, cp, -1, D', G)) : wpX_store post (rn, F, nI st, nI k, cp, op, D, G) (nI b) v 3 := by
  have h48 := ra_sz48 k
  obtain ⟨h1, h2, h3⟩ := ra_lay K h6 hb
  have g := a _ h1 h2
  rw [h3] at g
  exact ra_wSt (ra_K2 K) (ra_K6 K) (by omega) rfl (by omega) g (fun z => absurd z (by decide)) (fun z => absurd z (by decide)) (fun z => absurd z (by decide)) (fun _ _ _ => h _ (ra_Aw K h6 hb rfl a))
theorem ra_wFill {st k b c : Nat} {B : Nat → Int32} {v s : Int32} {post : Int32 → SX → Prop} (K : ra_K st k) (h6 : st = 1 → k < 6) (hb : b + c ≤ ra_sz k) (a : ra_A F st k D B)
    (h : ∀ D' : Nat → Int32, ra_A F st k D' (ra_fl B b v s c) → post 0 (rn, F, nI st, nI k, cp, -1, D', G)) :
    ∃ n : Nat, wX_fill_47 post (nI b) (nI c) v s n 0 rn F (nI st) (nI k) cp (-1) D G := by
  have h48 := ra_sz48 k
  refine loop_0 (fun n i q => wX_fill_47 post (nI b) (nI c) v s n (nI i) rn F (nI st) (nI k) cp (-1) q G) (fun i q => ra_A F st k q (ra_fl B b v s i)) c D (by rw [ra_fl0]; exact a) ?_ ?_
  · intro n q hI
    exact br_t (Int32.le_refl _) (h q hI)
  · intro n i q hi hI ih
    refine br_f (nI_ge hi (by omega)) ?_
    rw [nI_add]
    refine ra_wS3 K h6 (by omega) hI (fun D' hD => nm_r (nI_1 i) (ih D' ?_))
    rw [ra_fls] at hD
    exact hD
end RAL
end
section
/-! the reference's walks -/
section RAY
variable {dn bg lo : Int32} {B : Nat → Int32}
theorem ra_ySz {k : Nat} {post : Int32 → Prop} (hk : k ≤ 6) (h : post (nI (ra_sz k))) : wpY_size post (dn, bg, nI k, lo, B) := by
  refine ra_szE hk (fun z => ?_) (fun z => ?_)
  · rw [show ra_sz k = 48 from if_pos z] at h; exact h
  · rw [show ra_sz k = 24 from if_neg z] at h; exact h
theorem ra_yNb0 {k b : Nat} {post : Int32 → Prop} (hk : k ≤ 6) (hb : b < ra_sz k) (h : post 0) : wpY_noBlock post (dn, bg, nI k, lo, B) (nI b) := by
  have h48 := ra_sz48 k
  refine br_f (nI_pos (by omega)) (ra_ySz hk ?_)
  exact br_f (nI_ge hb (by omega)) (br_t (nI_lt (b := 48) (by omega) (by omega)) h)
theorem ra_yNb1 {k : Nat} {x : Int32} {post : Int32 → Prop} (hk : k ≤ 6) (hx : x < 0 ∨ nI (ra_sz k) ≤ x) (h : post 1) : wpY_noBlock post (dn, bg, nI k, lo, B) x := by
  refine br_c (fun _ => h) (fun z => ra_ySz hk ?_)
  rcases hx with hx | hx
  · exact absurd hx z
  · exact br_t hx h
theorem ra_ySu {k : Nat} {post : Int32 → Prop} (hk : k ≤ 6) (h : post (ra_sm B (ra_sz k))) : ∃ n : Nat, wY_sum_13 post dn bg (nI k) lo B n 0 0 := by
  have h48 := ra_sz48 k
  refine loop_0 (fun n i s => wY_sum_13 post dn bg (nI k) lo B n s (nI i)) (fun i s => s = ra_sm B i) (ra_sz k) 0 rfl ?_ ?_
  · intro n s hI
    subst hI
    show wY_sum_13 post dn bg (nI k) lo B (n + 1) _ (nI (ra_sz k))
    unfold wY_sum_13
    refine ra_ySz hk ?_
    exact br_t (Int32.le_refl _) h
  · intro n i s hi hI ih
    subst hI
    show wY_sum_13 post dn bg (nI k) lo B (n + 1) _ (nI i)
    unfold wY_sum_13
    refine ra_ySz hk ?_
    refine br_f (nI_ge hi (by omega)) (br_f (nI_ge (b := 48) (by omega) (by omega)) ⟨vp_in_nI (by omega) (by omega), ?_⟩)
    rw [nI_clamp (by omega)]
    exact nm_e (nm_r (nI_1 i) (ih _ rfl))
def ra_fy (B : Nat → Int32) (b : Nat) (v s : Int32) (c i : Nat) : Nat → Int32 := fun j => if j < i then ra_fl B b v s c j else B j
theorem ra_fy0 (b : Nat) (v s : Int32) (c : Nat) : ra_fy B b v s c 0 = B := by
  funext j
  exact if_neg (Nat.not_lt_zero j)
theorem ra_fy48 {b : Nat} {v s : Int32} {c : Nat} (h : b + c ≤ 48) : ra_fy B b v s c 48 = ra_fl B b v s c := by
  funext j
  unfold ra_fy
  by_cases z : j < 48
  · rw [if_pos z]
  · rw [if_neg z]
    exact (if_neg (by omega)).symm
theorem ra_fyu {b : Nat} {v s : Int32} {c i : Nat} (h1 : b ≤ i) (h2 : i < b + c) : upd (ra_fy B b v s c i) i (v + s * (nI i - nI b)) = ra_fy B b v s c (i + 1) := by
  funext j
  unfold ra_fy
  by_cases e : j = i
  · subst e
    rw [pk_us, if_pos (by omega), pk_sub h1, Int32.mul_comm]
    exact (if_pos ⟨h1, h2⟩).symm
  · rw [pk_un e]
    by_cases z : j < i
    · rw [if_pos z, if_pos (by omega)]
    · rw [if_neg z, if_neg (by omega)]
theorem ra_fyn {b : Nat} {v s : Int32} {c i : Nat} (h : ¬ (b ≤ i ∧ i < b + c)) : ra_fy B b v s c i = ra_fy B b v s c (i + 1) := by
  funext j
  unfold ra_fy
  by_cases e : j = i
  · subst e
    rw [if_neg (Nat.lt_irrefl j), if_pos (Nat.lt_succ_self j)]
    exact (if_neg h).symm
  · by_cases z : j < i
    · rw [if_pos z, if_pos (by omega)]
    · rw [if_neg z, if_neg (by omega)]
theorem ra_yFill {b c : Nat} {mv v s : Int32} {post : Int32 → SY → Prop} (hb : b + c ≤ 48) (h : post 0 (dn, bg, mv, lo, ra_fl B b v s c)) :
    ∃ n : Nat, wY_fill_43 post (nI b) (nI c) v s dn bg mv lo n 0 B := by
  refine loop_0 (fun n i q => wY_fill_43 post (nI b) (nI c) v s dn bg mv lo n (nI i) q) (fun i q => q = ra_fy B b v s c i) 48 B (ra_fy0 b v s c).symm ?_ ?_
  · intro n q hI
    subst hI
    rw [ra_fy48 hb]
    exact br_t (by decide) h
  · intro n i q hi hI ih
    subst hI
    refine br_f (nI_ge (b := 48) hi (by omega)) (pk_lt i b (fun z => nm_r (nI_1 i) (ih _ (ra_fyn (by omega)))) (fun z => ?_))
    rw [nI_add]
    refine pk_le (b + c) i (fun y => nm_r (nI_1 i) (ih _ (ra_fyn (by omega)))) (fun y => ⟨vp_in_nI hi (by omega), ?_⟩)
    rw [nI_clamp (by omega)]
    exact nm_e (nm_r (nI_1 i) (ih _ (ra_fyu z y)))
/-- the upper half emptied below i -/
def ra_z (B : Nat → Int32) (i : Nat) : Nat → Int32 := fun j => if 24 ≤ j ∧ j < i then 0 else B j
theorem ra_yM2 {mv : Int32} {post : SY → Prop} (h : post (dn, bg, mv, lo, ra_z B 48)) : ∃ n : Nat, wY_move_22 post dn bg mv lo n 24 B := by
  refine pk_loop (fun n i q => wY_move_22 post dn bg mv lo n (nI i) q) (fun i q => 24 ≤ i ∧ q = ra_z B i) 48 24 B (by omega) ⟨Nat.le_refl 24, ?_⟩ ?_ ?_
  · funext j
    exact (if_neg (by omega)).symm
  · intro n q hI
    rw [hI.2]
    exact br_t (by decide) h
  · intro n i q hi hI ih
    have h24 := hI.1
    refine br_f (nI_ge (b := 48) hi (by omega)) ⟨vp_in_nI hi (by omega), ?_⟩
    rw [nI_clamp (by omega)]
    refine nm_e (nm_r (nI_1 i) (ih _ ⟨by omega, ?_⟩))
    rw [hI.2]
    funext j
    unfold ra_z
    by_cases e : j = i
    · subst e
      rw [pk_us, if_pos (by omega)]
    · rw [pk_un e]
      by_cases z : 24 ≤ j ∧ j < i
      · rw [if_pos z, if_pos (by omega)]
      · rw [if_neg z, if_neg (by omega)]
theorem ra_yM5 {post : SY → Prop} (h : post (dn, bg, nI 6, lo, ra_z B 48)) : wpY_move post (dn, bg, nI 5, lo, B) := by
  refine nm_r (nI_1 5) ?_
  exact br_t rfl (ra_yM2 h)
theorem ra_yMn {k : Nat} {post : SY → Prop} (hk : k < 5) (h : post (dn, bg, nI (k + 1), lo, B)) : wpY_move post (dn, bg, nI k, lo, B) := by
  refine nm_r (nI_1 k) ?_
  exact pk_eq (k + 1) 6 (fun z => absurd z (by omega)) (fun _ => h)
end RAY
end
section
/-! moves, ends, returns: pure -/
theorem ra_ur {F : Int32} {D : Nat → Int32} {m r j i : Nat} {v : Int32} (hr : r < 16) (hi : i < 16) (hF : nI j ≠ F) : ra_u F D m r v (j * 16 + i) = if j = m ∧ i = r then v else D (j * 16 + i) := by
  by_cases e : j = m ∧ i = r
  · rw [if_pos e]
    obtain ⟨rfl, rfl⟩ := e
    exact ra_uw hF
  · rw [if_neg e]
    exact ra_uo hr hi (by omega)
theorem ra_L0 {w : Bool} {B : Nat → Int32} {r m : Nat} (hm : m < ra_d w + 1) (h : ∀ i : Nat, i < ra_d w → B (ra_d w * r + i) = 0) : ra_L w B r m = 0 := by
  rw [ra_Lc (B := fun _ => 0) hm h]
  unfold ra_L ra_p
  cases w
  · split
    · simp
    · split <;> rfl
  · split
    · simp
    · split <;> rfl
theorem ra_h1o {F : Int32} {D G : Nat → Int32} {k j i : Nat} (hk : k < 6) (hi : i < 16) (h : i ≠ k) : ra_h1 F D G k (j * 16 + i) = D (j * 16 + i) := by
  unfold ra_h1
  rw [ra_uo (by omega) hi (Or.inr h), ra_uo (by omega) hi (Or.inr h)]
theorem ra_h2o {F : Int32} {D G : Nat → Int32} {k j i : Nat} (hk : k < 6) (hi : i < 16) (h : i ≠ k) : ra_h2 F D G k (j * 16 + i) = D (j * 16 + i) := by
  unfold ra_h2
  rw [ra_uo (by omega) hi (Or.inr h), ra_uo (by omega) hi (Or.inr h), ra_uo (by omega) hi (Or.inr h), ra_h1o hk hi h]
theorem ra_mt {k i : Nat} (hi : i < 4) : ra_m true (4 * k + i) = if i < k % 5 then i else i + 1 := by
  unfold ra_m
  rw [ra_dT, show (4 * k + i) % 4 = i by omega, show (4 * k + i) / 4 = k by omega]
/-- the row written is good -/
theorem ra_h2g {F : Int32} {D G B : Nat → Int32} {k : Nat} (hk : k < 6) (hG : ∀ i : Nat, i < 4 → G i = B (4 * k + i)) : ra_G true F (ra_h2 F D G k) B k := by
  intro m hm hF
  have hm : m < 5 := hm
  have e0 : ra_m true (4 * k) = if 0 < k % 5 then 0 else 1 := ra_mt (i := 0) (by omega)
  have e1 := ra_mt (k := k) (i := 1) (by omega)
  have e2 := ra_mt (k := k) (i := 2) (by omega)
  have e3 := ra_mt (k := k) (i := 3) (by omega)
  have g0 : G 0 = B (4 * k) := hG 0 (by omega)
  have g1 := hG 1 (by omega)
  have g2 := hG 2 (by omega)
  have g3 := hG 3 (by omega)
  unfold ra_h2 ra_h1
  rw [ra_ur (by omega) (by omega) hF, ra_ur (by omega) (by omega) hF, ra_ur (by omega) (by omega) hF, ra_ur (by omega) (by omega) hF, ra_ur (by omega) (by omega) hF, e0, e1, e2, e3, g0, g1, g2, g3]
  have hL : ra_L true B k m = if m = k % 5 then B (4 * k) ^^^ B (4 * k + 1) ^^^ B (4 * k + 2) ^^^ B (4 * k + 3) else if m < k % 5 then B (4 * k + m) else B (4 * k + (m - 1)) := rfl
  rw [hL]
  have hp : k % 5 = 0 ∨ k % 5 = 1 ∨ k % 5 = 2 ∨ k % 5 = 3 ∨ k % 5 = 4 := by omega
  have hm' : m = 0 ∨ m = 1 ∨ m = 2 ∨ m = 3 ∨ m = 4 := by omega
  clear hL e0 e1 e2 e3 g0 g1 g2 g3 hG hF
  rcases hp with hp | hp | hp | hp | hp <;> rw [hp] <;> rcases hm' with rfl | rfl | rfl | rfl | rfl <;> simp
/-- after the move -/
theorem ra_mvA {F : Int32} {D D' G B : Nat → Int32} {k : Nat} (hk : k < 6) (a : ra_A F 1 k D B) (hD : ∀ j i : Nat, i < 12 → D' (j * 16 + i) = D (j * 16 + i)) (hG : ∀ i : Nat, i < 4 → G i = B (4 * k + i)) :
    ra_A F 1 (k + 1) (ra_h2 F D' G k) B := by
  intro r hr hu
  have hu := ra_us1i hu
  by_cases e : r = k
  · subst e
    rw [ra_iw1t (by omega)]
    exact ra_h2g hk hG
  · have hw : ra_iw 1 (k + 1) r = ra_iw 1 k r := by
      by_cases z : r < k
      · rw [ra_iw1t z, ra_iw1t (by omega)]
      · rw [ra_iw1f z, ra_iw1f (by omega)]
    rw [hw]
    refine ra_Gc (a r hr (ra_us1t (by omega))) (fun j hj _ => ?_) (fun _ _ => rfl)
    rw [ra_h2o hk (by omega) e, hD j r hr]
/-- between: all rows in use stay -/
theorem ra_mvK {F : Int32} {D D' B : Nat → Int32} {k : Nat} (h0 : 0 < k) (a : ra_A F 1 k D B) (hD : ∀ j i : Nat, i < 12 → i ≠ k → D' (j * 16 + i) = D (j * 16 + i)) : ra_A F 1 k D' B := by
  intro r hr hu
  have hu' := ra_us1i hu
  exact ra_Gc (a r hr hu) (fun j hj _ => hD j r hr (by omega)) (fun _ _ => rfl)
/-- the end of the growth -/
theorem ra_fin {F : Int32} {D D' B B' : Nat → Int32} (a : ra_A F 1 6 D B) (hB : ∀ j : Nat, j < 24 → B' j = B j) (hz : ∀ j : Nat, 24 ≤ j → j < 48 → B' j = 0) (h1 : ∀ j i : Nat, i < 6 → D' (j * 16 + i) = D (j * 16 + i))
    (h2 : ∀ j i : Nat, j < 5 → 6 ≤ i → i < 12 → nI j ≠ F → D' (j * 16 + i) = 0) : ra_A F 2 6 D' B' := by
  intro r hr _
  rw [ra_iw2]
  by_cases z : r < 6
  · have g := a r hr (ra_us1t (Or.inl z))
    rw [ra_iw1t z] at g
    refine ra_Gc g (fun j hj _ => h1 j r z) (fun i hi => hB _ ?_)
    rw [ra_dT] at hi ⊢
    omega
  · intro m hm hF
    rw [h2 m r hm (by omega) hr hF]
    refine (ra_L0 hm (fun i hi => hz _ ?_ ?_)).symm
    · rw [ra_dT] at hi ⊢
      omega
    · rw [ra_dT] at hi ⊢
      omega
/-- the first group put back -/
theorem ra_tbo {F : Int32} {D G : Nat → Int32} {j i : Nat} (hi : i < 16) (h : 2 ≤ i) : ra_tb F D G (j * 16 + i) = D (j * 16 + i) := by
  unfold ra_tb
  rw [ra_uo (by omega) hi (Or.inr (by omega)), ra_uo (by omega) hi (Or.inr (by omega)), ra_uo (by omega) hi (Or.inr (by omega)), ra_uo (by omega) hi (Or.inr (by omega)), ra_uo (by omega) hi (Or.inr (by omega)), ra_uo (by omega) hi (Or.inr (by omega))]
theorem ra_tbg {F : Int32} {D G B : Nat → Int32} (hG : ∀ i : Nat, i < 4 → G i = B i) : ra_G false F (ra_tb F D G) B 0 ∧ ra_G false F (ra_tb F D G) B 1 := by
  have g0 := hG 0 (by omega)
  have g1 := hG 1 (by omega)
  have g2 := hG 2 (by omega)
  have g3 := hG 3 (by omega)
  constructor
  · intro m hm hF
    have hm : m < 3 := hm
    have hm' : m = 0 ∨ m = 1 ∨ m = 2 := by omega
    unfold ra_tb
    rw [ra_ur (by omega) (by omega) hF, ra_ur (by omega) (by omega) hF, ra_ur (by omega) (by omega) hF, ra_ur (by omega) (by omega) hF, ra_ur (by omega) (by omega) hF, ra_ur (by omega) (by omega) hF, g0, g1, g2, g3]
    clear hF
    rcases hm' with rfl | rfl | rfl <;> simp [ra_L, ra_p, ra_d]
  · intro m hm hF
    have hm : m < 3 := hm
    have hm' : m = 0 ∨ m = 1 ∨ m = 2 := by omega
    unfold ra_tb
    rw [ra_ur (by omega) (by omega) hF, ra_ur (by omega) (by omega) hF, ra_ur (by omega) (by omega) hF, ra_ur (by omega) (by omega) hF, ra_ur (by omega) (by omega) hF, ra_ur (by omega) (by omega) hF, g0, g1, g2, g3]
    clear hF
    rcases hm' with rfl | rfl | rfl <;> simp [ra_L, ra_p, ra_d]
theorem ra_tbA {F : Int32} {D G B : Nat → Int32} (hG : ∀ i : Nat, i < 4 → G i = B i) (h : ∀ r : Nat, 2 ≤ r → r < 12 → ra_G false F D B r) : ra_A F 1 0 (ra_tb F D G) B := by
  intro r hr _
  rw [ra_iw1f (by omega)]
  have g := ra_tbg (F := F) (D := D) hG
  by_cases e0 : r = 0
  · subst e0
    exact g.1
  · by_cases e1 : r = 1
    · subst e1
      exact g.2
    · exact ra_Gc (h r (by omega) hr) (fun j hj _ => ra_tbo (by omega) (by omega)) (fun _ _ => rfl)
end
section
/-! the relation -/
/-- growth has begun, as the reference keeps it -/
def ra_b (st : Nat) : Int32 := if st = 0 then 0 else 1
/-- the number of members -/
def ra_n (st : Nat) : Nat := if st = 0 then 3 else 5
/-- the failed member: none, or one of the members -/
def ra_R (st : Nat) (F : Int32) : Prop := F = -1 ∨ ∃ f : Nat, f < ra_n st ∧ F = nI f
/-- a dead array: whole, with one unclosed row, or with its first group copied -/
def ra_M (st k : Nat) (F cp op : Int32) (D B : Nat → Int32) : Prop :=
  (cp = 0 ∧ op = -1 ∧ ra_A F st k D B) ∨
  (cp = 0 ∧ F = -1 ∧ ∃ o : Nat, op = nI o ∧ ra_O st k D B o) ∨
  (cp = 1 ∧ op = -1 ∧ st = 1 ∧ k = 0 ∧ (∀ r : Nat, 2 ≤ r → r < 12 → ra_G false F D B r) ∧ (nI 3 ≠ F → ∀ i : Nat, i < 4 → D (3 * 16 + (12 + i)) = B i) ∧ (nI 4 ≠ F → ∀ i : Nat, i < 4 → D (4 * 16 + (12 + i)) = B i))
def i_Rel (_ : Nat) (u : SX) (v : SY) : Prop :=
  (∃ (st q : Nat) (F : Int32) (D G B : Nat → Int32), u = (1, F, nI st, nI q, 0, -1, D, G) ∧ v = (0, ra_b st, nI q, F, B) ∧ ra_K st q ∧ (st = 1 → q < 6) ∧ ra_R st F ∧ ra_A F st q D B) ∨
  (∃ (st q : Nat) (F cp op : Int32) (D G B : Nat → Int32), u = (0, F, nI st, nI q, cp, op, D, G) ∧ v = (1, ra_b st, nI q, F, B) ∧ ra_K st q ∧ (st = 1 → q = 6 → ∀ j : Nat, 24 ≤ j → j < 48 → B j = 0) ∧ ra_R st F ∧ ra_M st q F cp op D B)
/-- a running array -/
theorem ra_up {k st q : Nat} {F : Int32} {D G B : Nat → Int32} (K : ra_K st q) (h6 : st = 1 → q < 6) (hF : ra_R st F) (a : ra_A F st q D B) : i_Rel k (1, F, nI st, nI q, 0, -1, D, G) (0, ra_b st, nI q, F, B) :=
  Or.inl ⟨st, q, F, D, G, B, rfl, rfl, K, h6, hF, a⟩
/-- a dead one -/
theorem ra_dn {k st q : Nat} {F cp op : Int32} {D G B : Nat → Int32} (K : ra_K st q) (hz : st = 1 → q = 6 → ∀ j : Nat, 24 ≤ j → j < 48 → B j = 0) (hF : ra_R st F) (m : ra_M st q F cp op D B) : i_Rel k (0, F, nI st, nI q, cp, op, D, G) (1, ra_b st, nI q, F, B) :=
  Or.inr ⟨st, q, F, cp, op, D, G, B, rfl, rfl, K, hz, hF, m⟩
theorem ra_n5 (st : Nat) : ra_n st ≤ 5 := by unfold ra_n; split <;> omega
theorem ra_R01 {F : Int32} (h : ra_R 0 F) : ra_R 1 F := by
  rcases h with h | ⟨f, h, e⟩
  · exact Or.inl h
  · exact Or.inr ⟨f, Nat.lt_of_lt_of_le h (by decide), e⟩
theorem ra_R12 {F : Int32} (h : ra_R 1 F) : ra_R 2 F := h
section RAR
variable {rn F sg mv cp op : Int32} {D G : Nat → Int32}
/-- a move, whole or broken off -/
theorem ra_wMv {k : Nat} {B : Nat → Int32} {pt : Int32} {post : SX → Prop} (hk : k < 6) (a : ra_A F 1 k D B)
    (hm : (pt = 0 ∨ pt = 1 ∨ pt = 2 ∨ pt = 3) → ∀ (c : Int32) (D' G' : Nat → Int32), ra_M 1 k F c (-1) D' B → post (rn, F, 1, nI k, c, -1, D', G'))
    (h4 : ¬ pt = 0 → ¬ pt = 1 → ¬ pt = 2 → ¬ pt = 3 → pt ≤ 4 → ∀ D' G' : Nat → Int32, ra_A F 1 (k + 1) D' B → post (rn, F, 1, nI (k + 1), 0, -1, D', G'))
    (h5 : ¬ pt ≤ 4 → ¬ k = 5 → ∀ D' G' : Nat → Int32, ra_A F 1 (k + 1) D' B → post (rn, F, 1, nI (k + 1), 0, -1, D', G'))
    (h6 : ¬ pt ≤ 4 → k = 5 → ∀ D' G' : Nat → Int32, ra_A F 2 6 D' (ra_z B 48) → post (rn, F, 2, nI (k + 1), 0, -1, D', G')) :
    wpX_moveGroup post (rn, F, 1, nI k, 0, -1, D, G) pt := by
  have g0 : ra_G false F D B (2 * k) := by
    have g := a (2 * k) (by omega) (ra_us1t (by omega))
    rw [ra_iw1f (by omega)] at g
    exact g
  have g1 : ra_G false F D B (2 * k + 1) := by
    have g := a (2 * k + 1) (by omega) (ra_us1t (by omega))
    rw [ra_iw1f (by omega)] at g
    exact g
  refine ra_wMg hk g0 g1 (fun G' hG => ?_)
  refine br_c (fun z => hm (Or.inl z) 0 D G' (Or.inl ⟨rfl, rfl, a⟩)) (fun z0 => ?_)
  refine pk_eq k 0 (fun e => ?_) (fun e => ?_)
  · subst e
    refine ra_wMc (fun D' hD c3 c4 => ?_)
    have hG' : ∀ i : Nat, i < 4 → G' i = B i := fun i hi => by
      have := hG i hi
      rwa [Nat.mul_zero, Nat.zero_add] at this
    have gr : ∀ D2 : Nat → Int32, (∀ j i : Nat, i < 16 → i ≠ 0 → D2 (j * 16 + i) = D' (j * 16 + i)) → ra_M 1 0 F 1 (-1) D2 B := by
      intro D2 h2
      refine Or.inr (Or.inr ⟨rfl, rfl, rfl, rfl, ?_, ?_, ?_⟩)
      · intro r h2r hr
        have g := a r hr (ra_us1t (by omega))
        rw [ra_iw1f (by omega)] at g
        refine ra_Gc g (fun j hj _ => ?_) (fun _ _ => rfl)
        rw [h2 j r (by omega) (by omega), hD j r hr]
      · intro hF i hi
        rw [h2 3 (12 + i) (by omega) (by omega), c3 hF i hi, hG' i hi]
      · intro hF i hi
        rw [h2 4 (12 + i) (by omega) (by omega), c4 hF i hi, hG' i hi]
    refine ra_wM9 hk (fun z => ?_) (fun _ z => ?_) (fun _ _ z => ?_) (fun z1 z2 z3 z4 => ?_) (fun z1 z2 z3 z4 z5 => ?_) (fun z1 z2 z3 z4 z5 => ?_)
    · exact hm (Or.inr (Or.inl z)) 1 D' G' (gr D' (fun _ _ _ _ => rfl))
    · exact hm (Or.inr (Or.inr (Or.inl z))) 1 _ G' (gr _ (fun j i hi h => ra_h1o hk hi h))
    · exact hm (Or.inr (Or.inr (Or.inr z))) 1 _ G' (gr _ (fun j i hi h => ra_h2o hk hi h))
    · exact h4 z0 z1 z2 z3 z4 _ G' (ra_mvA hk a hD hG)
    · exact h5 z4 z5 _ G' (ra_mvA hk a hD hG)
    · exact absurd z5 (by decide)
  · have kp : 0 < k := by omega
    refine ra_wM9 hk (fun z => ?_) (fun _ z => ?_) (fun _ _ z => ?_) (fun z1 z2 z3 z4 => ?_) (fun z1 z2 z3 z4 z5 => ?_) (fun z1 z2 z3 z4 z5 => ?_)
    · exact hm (Or.inr (Or.inl z)) 0 D G' (Or.inl ⟨rfl, rfl, a⟩)
    · exact hm (Or.inr (Or.inr (Or.inl z))) 0 _ G' (Or.inl ⟨rfl, rfl, ra_mvK kp a (fun j i hi h => ra_h1o hk (by omega) h)⟩)
    · exact hm (Or.inr (Or.inr (Or.inr z))) 0 _ G' (Or.inl ⟨rfl, rfl, ra_mvK kp a (fun j i hi h => ra_h2o hk (by omega) h)⟩)
    · exact h4 z0 z1 z2 z3 z4 _ G' (ra_mvA hk a (fun _ _ _ => rfl) hG)
    · exact h5 z4 z5 _ G' (ra_mvA hk a (fun _ _ _ => rfl) hG)
    · intro D' d1 d2
      refine h6 z4 z5 D' G' ?_
      have b := ra_mvA hk a (fun _ _ _ => rfl) hG
      subst z5
      exact ra_fin b (fun j hj => if_neg (by omega)) (fun j h1 h2 => if_pos ⟨h1, h2⟩) d1 d2
/-- a mount's end -/
theorem ra_wM5 {st k : Nat} {B : Nat → Int32} {post : Int32 → SX → Prop} (K : ra_K st k) (hF : ra_R st F) (hz : st = 1 → k = 6 → ∀ j : Nat, 24 ≤ j → j < 48 → B j = 0) (a : ra_A F st k D B)
    (h : ∀ (st' : Nat) (D' : Nat → Int32), ra_K st' k → (st' = 1 → k < 6) → ra_R st' F → ra_b st' = ra_b st → ra_A F st' k D' B → post 0 (1, F, nI st', nI k, 0, -1, D', G)) :
    wX_mount_59 post rn F (nI st) (nI k) 0 (-1) D G := by
  rcases K with ⟨rfl, rfl⟩ | ⟨rfl, hk⟩ | ⟨rfl, rfl⟩
  · exact br_f (by decide) (h 0 D (Or.inl ⟨rfl, rfl⟩) (fun z => absurd z (by decide)) hF rfl a)
  · refine br_t rfl (pk_eq k 6 (fun e => ?_) (fun e => ?_))
    · subst e
      exact ra_wFi (fun D' d1 d2 => h 2 D' (Or.inr (Or.inr ⟨rfl, rfl⟩)) (fun z => absurd z (by decide)) hF rfl (ra_fin a (fun _ _ => rfl) (hz rfl rfl) d1 d2))
    · exact h 1 D (Or.inr (Or.inl ⟨rfl, hk⟩)) (fun _ => by omega) hF rfl a
  · exact br_f (by decide) (h 2 D (Or.inr (Or.inr ⟨rfl, rfl⟩)) (fun z => absurd z (by decide)) hF rfl a)
/-- a broken write -/
theorem ra_wSc4 {st k b : Nat} {B : Nat → Int32} {v : Int32} {t : Nat} {post : SX → Prop} (K : ra_K st k) (h6 : st = 1 → k < 6) (hb : b < ra_sz k) (ht : t ≤ 3) (a : ra_A (-1) st k D B)
    (h0 : t = 0 → ∀ (o : Int32) (D' : Nat → Int32), ra_M st k (-1) 0 o D' B → post (rn, -1, nI st, nI k, 0, o, D', G))
    (h1 : ¬ t = 0 → ∀ (o : Int32) (D' : Nat → Int32), ra_M st k (-1) 0 o D' (upd B b v) → post (rn, -1, nI st, nI k, 0, o, D', G)) : wpX_store post (rn, -1, nI st, nI k, 0, op, D, G) (nI b) v (nI t) := by
  have h48 := ra_sz48 k
  obtain ⟨l1, l2, l3⟩ := ra_lay K h6 hb
  have g := a _ l1 l2
  rw [l3] at g
  refine ra_wSt (ra_K2 K) (ra_K6 K) (by omega) rfl (by omega) g (fun z => ?_) (fun z => ?_) (fun z => ?_) (fun z0 z1 z2 => ?_)
  · have e : t = 0 := (nI_eq (b := 0) (by omega) (by omega)).mp z
    exact h0 e _ _ (Or.inr (Or.inl ⟨rfl, rfl, _, rfl, ra_AO l1 l2 a⟩))
  · have e : t = 1 := (nI_eq (b := 1) (by omega) (by omega)).mp z
    exact h1 (by omega) _ _ (Or.inr (Or.inl ⟨rfl, rfl, _, rfl, ra_Od K h6 hb rfl a⟩))
  · have e : t = 2 := (nI_eq (b := 2) (by omega) (by omega)).mp z
    exact h1 (by omega) _ _ (Or.inr (Or.inl ⟨rfl, rfl, _, rfl, ra_AO l1 l2 (ra_Aw K h6 hb rfl a)⟩))
  · exact h1 (fun e => z0 (by rw [e]; rfl)) _ _ (Or.inl ⟨rfl, rfl, ra_Aw K h6 hb rfl a⟩)
theorem ra_wNm {st : Nat} {post : Int32 → Prop} (hs : st ≤ 2) (h : post (nI (ra_n st))) : wpX_members post (rn, F, nI st, mv, cp, op, D, G) := by
  have e : st = 0 ∨ st = 1 ∨ st = 2 := by omega
  rcases e with rfl | rfl | rfl
  · exact br_t rfl h
  · exact br_f (by decide) h
  · exact br_f (by decide) h
theorem ra_yNm {st : Nat} {dn lo : Int32} {B : Nat → Int32} {post : Int32 → Prop} (hs : st ≤ 2) (h : post (nI (ra_n st))) : wpY_members post (dn, ra_b st, mv, lo, B) := by
  have e : st = 0 ∨ st = 1 ∨ st = 2 := by omega
  rcases e with rfl | rfl | rfl
  · exact br_t rfl h
  · exact br_f (by decide) h
  · exact br_f (by decide) h
end RAR
end
section
/-! the owed statements -/
theorem i_up {k : Nat} {u : SX} {v : SY} (h : i_Rel k u v) : i_Rel (k + 5) u v := h
theorem i_vc0 : wpX_init (fun u => wpY_init (fun v => i_Rel 0 u v)) := by
  refine ra_up (k := 0) (st := 0) (q := 0) (Or.inl ⟨rfl, rfl⟩) (fun z => absurd z (by decide)) (Or.inl rfl) ?_
  intro r hr hu m hm hF
  exact (ra_L0 hm (fun _ _ => rfl)).symm
theorem i_vc_up {k : Nat} {u : SX} {v : SY} (I : i_Rel k u v) (hk : k + 5 ≤ 2560) : wpX_up (fun r => wpY_up (fun r' => r' = r ∧ i_Rel (k + 5) u v) v) u := by
  have I' := i_up I
  rcases I with ⟨st, q, F, D, G, B, rfl, rfl, K, h6, hF, a⟩ | ⟨st, q, F, cp, op, D, G, B, rfl, rfl, K, hz, hF, m⟩
  · exact br_f (by decide) (br_t rfl ⟨rfl, I'⟩)
  · exact br_t rfl (br_f (by decide) ⟨rfl, I'⟩)
theorem i_vc_size {k : Nat} {u : SX} {v : SY} (I : i_Rel k u v) (hk : k + 5 ≤ 2560) : wpX_size (fun r => wpY_size (fun r' => r' = r ∧ i_Rel (k + 5) u v) v) u := by
  have I' := i_up I
  rcases I with ⟨st, q, F, D, G, B, rfl, rfl, K, h6, hF, a⟩ | ⟨st, q, F, cp, op, D, G, B, rfl, rfl, K, hz, hF, m⟩
  · exact ra_wSz (ra_K6 K) (ra_ySz (ra_K6 K) ⟨rfl, I'⟩)
  · exact ra_wSz (ra_K6 K) (ra_ySz (ra_K6 K) ⟨rfl, I'⟩)
theorem i_vc_members {k : Nat} {u : SX} {v : SY} (I : i_Rel k u v) (hk : k + 5 ≤ 2560) : wpX_members (fun r => wpY_members (fun r' => r' = r ∧ i_Rel (k + 5) u v) v) u := by
  have I' := i_up I
  rcases I with ⟨st, q, F, D, G, B, rfl, rfl, K, h6, hF, a⟩ | ⟨st, q, F, cp, op, D, G, B, rfl, rfl, K, hz, hF, m⟩
  · exact ra_wNm (ra_K2 K) (ra_yNm (ra_K2 K) ⟨rfl, I'⟩)
  · exact ra_wNm (ra_K2 K) (ra_yNm (ra_K2 K) ⟨rfl, I'⟩)
theorem i_vc_failed {k : Nat} {u : SX} {v : SY} (I : i_Rel k u v) (hk : k + 5 ≤ 2560) : wpX_failed (fun r => wpY_failed (fun r' => r' = r ∧ i_Rel (k + 5) u v) v) u := by
  have I' := i_up I
  rcases I with ⟨st, q, F, D, G, B, rfl, rfl, K, h6, hF, a⟩ | ⟨st, q, F, cp, op, D, G, B, rfl, rfl, K, hz, hF, m⟩
  · exact And.intro rfl I'
  · exact And.intro rfl I'
/-- the growth, on both sides -/
theorem ra_gr {st q : Nat} {rn F cp op dn lo : Int32} {D G B : Nat → Int32} {P : Int32 → Int32 → Prop} (K : ra_K st q) (h : ∀ r : Int32, (r = 1 → st = 1 ∧ q < 6) → (¬ r = 1 → ¬ (st = 1 ∧ q < 6)) → P r r) :
    wpX_growth (fun r => wpY_growth (fun r' => P r' r) (dn, ra_b st, nI q, lo, B)) (rn, F, nI st, nI q, cp, op, D, G) := by
  rcases K with ⟨rfl, rfl⟩ | ⟨rfl, hk⟩ | ⟨rfl, rfl⟩
  · exact br_f (by decide) (br_t rfl (h 0 (fun z => absurd z (by decide)) (fun _ z => absurd z.1 (by decide))))
  · refine pk_eq q 6 (fun e => ?_) (fun e => ?_)
    · subst e
      exact br_f (by decide) (br_t rfl (h 2 (fun z => absurd z (by decide)) (fun _ z => absurd z.2 (by decide))))
    · refine br_f (by decide) (pk_eq q 6 (fun z => absurd z e) (fun _ => ?_))
      exact h 1 (fun _ => ⟨rfl, by omega⟩) (fun z => absurd rfl z)
  · exact br_t rfl (br_f (by decide) (br_t rfl (h 2 (fun z => absurd z (by decide)) (fun _ z => absurd z.1 (by decide)))))
/-- the reference's growth -/
theorem ra_yG1 {q : Nat} {dn lo : Int32} {B : Nat → Int32} {post : Int32 → Prop} (hq : q < 6) (h : post 1) : wpY_growth post (dn, ra_b 1, nI q, lo, B) :=
  br_f (by decide) (pk_eq q 6 (fun z => absurd z (by omega)) (fun _ => h))
theorem ra_yG0 {dn lo mv : Int32} {B : Nat → Int32} {post : Int32 → Prop} (h : post 0) : wpY_growth post (dn, ra_b 0, mv, lo, B) := br_t rfl h
theorem ra_yG2 {dn lo : Int32} {B : Nat → Int32} {post : Int32 → Prop} (h : post 2) : wpY_growth post (dn, ra_b 2, nI 6, lo, B) := br_f (by decide) (br_t rfl h)
theorem i_vc_growth {k : Nat} {u : SX} {v : SY} (I : i_Rel k u v) (hk : k + 5 ≤ 2560) : wpX_growth (fun r => wpY_growth (fun r' => r' = r ∧ i_Rel (k + 5) u v) v) u := by
  have I' := i_up I
  rcases I with ⟨st, q, F, D, G, B, rfl, rfl, K, h6, hF, a⟩ | ⟨st, q, F, cp, op, D, G, B, rfl, rfl, K, hz, hF, m⟩
  · exact ra_gr (P := fun r' r => r' = r ∧ _) K (fun r _ _ => ⟨rfl, I'⟩)
  · exact ra_gr (P := fun r' r => r' = r ∧ _) K (fun r _ _ => ⟨rfl, I'⟩)
theorem i_vc_groups {k : Nat} {u : SX} {v : SY} (I : i_Rel k u v) (hk : k + 5 ≤ 2560) : wpX_groups (fun r => wpY_groups (fun r' => r' = r ∧ i_Rel (k + 5) u v) v) u := by
  have I' := i_up I
  rcases I with ⟨st, q, F, D, G, B, rfl, rfl, K, h6, hF, a⟩ | ⟨st, q, F, cp, op, D, G, B, rfl, rfl, K, hz, hF, m⟩
  · exact And.intro rfl I'
  · exact And.intro rfl I'
/-- an int is a block or isn't -/
theorem ra_blk (x : Int32) (q : Nat) : (∃ b : Nat, b < ra_sz q ∧ x = nI b) ∨ (x < 0 ∨ nI (ra_sz q) ≤ x) := by
  have h48 := ra_sz48 q
  rcases pk_ix x (n := ra_sz q) (by omega) with h | h | h
  · exact Or.inr (Or.inl h)
  · exact Or.inr (Or.inr h)
  · exact Or.inl h
theorem i_vc_read {k : Nat} {u : SX} {v : SY} (I : i_Rel k u v) (hk : k + 5 ≤ 2560) (v1 : Int32) : wpX_read (fun r => wpY_read (fun r' => r' = r ∧ i_Rel (k + 5) u v) v v1) u v1 := by
  have I' := i_up I
  rcases I with ⟨st, q, F, D, G, B, rfl, rfl, K, h6, hF, a⟩ | ⟨st, q, F, cp, op, D, G, B, rfl, rfl, K, hz, hF, m⟩
  · have h48 := ra_sz48 q
    rcases ra_blk v1 q with ⟨b, hb, rfl⟩ | hx
    · refine br_f (by decide) (ra_wIb1 (ra_K6 K) hb (br_f (by decide) (ra_wFe K h6 hb a ?_)))
      refine br_t rfl (ra_yNb0 (ra_K6 K) hb (br_t rfl ⟨vp_in_nI (by omega) (by omega), ?_⟩))
      rw [nI_clamp (by omega)]
      exact ⟨rfl, I'⟩
    · exact br_f (by decide) (ra_wIb0 (ra_K6 K) hx (br_t rfl (br_t rfl (ra_yNb1 (ra_K6 K) hx (br_f (by decide) ⟨rfl, I'⟩)))))
  · exact br_t rfl (br_f (by decide) ⟨rfl, I'⟩)
theorem i_vc_sum {k : Nat} {u : SX} {v : SY} (I : i_Rel k u v) (hk : k + 5 ≤ 2560) : wpX_sum (fun r => wpY_sum (fun r' => r' = r ∧ i_Rel (k + 5) u v) v) u := by
  have I' := i_up I
  rcases I with ⟨st, q, F, D, G, B, rfl, rfl, K, h6, hF, a⟩ | ⟨st, q, F, cp, op, D, G, B, rfl, rfl, K, hz, hF, m⟩
  · refine br_f (by decide) (ra_wSz (ra_K6 K) (ra_wSu K h6 a ?_))
    exact br_t rfl (ra_ySu (ra_K6 K) ⟨rfl, I'⟩)
  · exact br_t rfl (br_f (by decide) ⟨rfl, I'⟩)
theorem i_vc_write {k : Nat} {u : SX} {v : SY} (I : i_Rel k u v) (hk : k + 5 ≤ 2560) (v1 : Int32) (v2 : Int32) : wpX_write (fun r u' => wpY_write (fun r' v' => r' = r ∧ i_Rel (k + 5) u' v') v v1 v2) u v1 v2 := by
  have I' := i_up I
  rcases I with ⟨st, q, F, D, G, B, rfl, rfl, K, h6, hF, a⟩ | ⟨st, q, F, cp, op, D, G, B, rfl, rfl, K, hz, hF, m⟩
  · have h48 := ra_sz48 q
    rcases ra_blk v1 q with ⟨b, hb, rfl⟩ | hx
    · refine br_f (by decide) (ra_wIb1 (ra_K6 K) hb (br_f (by decide) (ra_wS3 K h6 hb a (fun D' a' => ?_))))
      refine br_t rfl (ra_yNb0 (ra_K6 K) hb (br_t rfl ⟨vp_in_nI (by omega) (by omega), ?_⟩))
      rw [nI_clamp (by omega)]
      exact nm_e ⟨rfl, ra_up K h6 hF a'⟩
    · exact br_f (by decide) (ra_wIb0 (ra_K6 K) hx (br_t rfl (br_t rfl (ra_yNb1 (ra_K6 K) hx (br_f (by decide) ⟨rfl, I'⟩)))))
  · exact br_t rfl (br_f (by decide) ⟨rfl, I'⟩)
theorem i_vc_fill {k : Nat} {u : SX} {v : SY} (I : i_Rel k u v) (hk : k + 5 ≤ 2560) (v1 : Int32) (v2 : Int32) (v3 : Int32) (v4 : Int32) : wpX_fill (fun r u' => wpY_fill (fun r' v' => r' = r ∧ i_Rel (k + 5) u' v') v v1 v2 v3 v4) u v1 v2 v3 v4 := by
  have I' := i_up I
  rcases I with ⟨st, q, F, D, G, B, rfl, rfl, K, h6, hF, a⟩ | ⟨st, q, F, cp, op, D, G, B, rfl, rfl, K, hz, hF, m⟩
  · have h48 := ra_sz48 q
    have h24 : 24 ≤ ra_sz q := by unfold ra_sz; split <;> omega
    refine br_f (by decide) (br_c (fun z1 => br_t rfl (br_t z1 ⟨rfl, I'⟩)) (fun z1 => br_c (fun z2 => ra_wSz (ra_K6 K) ?_) (fun z2 => br_t rfl (br_f z1 (br_f z2 ⟨rfl, I'⟩)))))
    refine br_c (fun z3 => br_t rfl (br_f z1 (br_t z2 (br_t z3 ⟨rfl, I'⟩)))) (fun z3 => ?_)
    obtain ⟨c, hc, rfl⟩ := nI_of2 (M := 24) (n := 24) (by decide) (fun z => z1 (Int32.lt_trans z (by decide))) z2
    obtain ⟨b, hb, rfl⟩ := nI_of z3
    refine br_c (fun z4 => ?_) (fun z4 => br_t rfl (br_f z1 (br_t z2 (br_f z3 (ra_ySz (ra_K6 K) (br_f z4 ⟨rfl, I'⟩))))))
    have hbc : b + c ≤ ra_sz q := by
      have z5 := z4
      rw [pk_sub (by omega), nI_leI hb (by omega)] at z5
      omega
    exact ra_wFill K h6 hbc a (fun D' a' => br_t rfl (br_f z1 (br_t z2 (br_f z3 (ra_ySz (ra_K6 K) (br_t z4 (ra_yFill (by omega) ⟨rfl, ra_up K h6 hF a'⟩)))))))
  · exact br_t rfl (br_f (by decide) ⟨rfl, I'⟩)
theorem i_vc_writeCrash {k : Nat} {u : SX} {v : SY} (I : i_Rel k u v) (hk : k + 5 ≤ 2560) (v1 : Int32) (v2 : Int32) (v3 : Int32) : wpX_writeCrash (fun r u' => wpY_writeCrash (fun r' v' => r' = r ∧ i_Rel (k + 5) u' v') v v1 v2 v3) u v1 v2 v3 := by
  have I' := i_up I
  rcases I with ⟨st, q, F, D, G, B, rfl, rfl, K, h6, hF, a⟩ | ⟨st, q, F, cp, op, D, G, B, rfl, rfl, K, hz, hF, m⟩
  · have h48 := ra_sz48 q
    have hz : ∀ B' : Nat → Int32, st = 1 → q = 6 → ∀ j : Nat, 24 ≤ j → j < 48 → B' j = 0 := fun B' e1 e2 => absurd (h6 e1) (by omega)
    rcases ra_blk v1 q with ⟨b, hb, rfl⟩ | hx
    · refine br_f (by decide) (ra_wIb1 (ra_K6 K) hb (br_f (by decide) ?_))
      refine br_c (fun z1 => br_t rfl (ra_yNb0 (ra_K6 K) hb (br_t rfl (br_t z1 ⟨rfl, I'⟩)))) (fun z1 => br_c (fun z2 => ?_) (fun z2 => br_t rfl (ra_yNb0 (ra_K6 K) hb (br_t rfl (br_f z1 (br_f z2 ⟨rfl, I'⟩))))))
      obtain ⟨t, ht, rfl⟩ := nI_of2 (M := 3) (n := 3) (by decide) z1 z2
      rcases hF with rfl | ⟨f, hf, rfl⟩
      · refine br_t rfl (ra_wSc4 K h6 hb ht a (fun e o D' m' => ?_) (fun e o D' m' => ?_))
        · subst e
          exact br_t rfl (ra_yNb0 (ra_K6 K) hb (br_t rfl (br_f z1 (br_t z2 (br_t (by decide) (br_t (by decide) ⟨rfl, ra_dn K (hz _) (Or.inl rfl) m'⟩))))))
        · refine br_t rfl (ra_yNb0 (ra_K6 K) hb (br_t rfl (br_f z1 (br_t z2 (br_t (by decide) (br_f (nI_nle (by omega) (by omega)) ⟨vp_in_nI (by omega) (by omega), ?_⟩))))))
          rw [nI_clamp (by omega)]
          exact nm_e ⟨rfl, ra_dn K (hz _) (Or.inl rfl) m'⟩
      · have := ra_n5 st
        exact br_f (ra_nm1 (by omega)) (br_t rfl (ra_yNb0 (ra_K6 K) hb (br_t rfl (br_f z1 (br_t z2 (br_f (nI_pos (by omega)) ⟨rfl, I'⟩))))))
    · exact br_f (by decide) (ra_wIb0 (ra_K6 K) hx (br_t rfl (br_t rfl (ra_yNb1 (ra_K6 K) hx (br_f (by decide) ⟨rfl, I'⟩)))))
  · exact br_t rfl (br_f (by decide) ⟨rfl, I'⟩)
theorem i_vc_begin {k : Nat} {u : SX} {v : SY} (I : i_Rel k u v) (hk : k + 5 ≤ 2560) : wpX_begin (fun r u' => wpY_begin (fun r' v' => r' = r ∧ i_Rel (k + 5) u' v') v) u := by
  have I' := i_up I
  rcases I with ⟨st, q, F, D, G, B, rfl, rfl, K, h6, hF, a⟩ | ⟨st, q, F, cp, op, D, G, B, rfl, rfl, K, hz, hF, m⟩
  · rcases K with ⟨rfl, rfl⟩ | ⟨rfl, hq⟩ | ⟨rfl, rfl⟩
    · rcases hF with rfl | ⟨f, hf, rfl⟩
      · refine br_f (by decide) (br_t rfl (br_t rfl (br_t rfl (br_t rfl (br_t (by decide) ⟨rfl, ?_⟩)))))
        refine ra_up (st := 1) (q := 0) (Or.inr (Or.inl ⟨rfl, by decide⟩)) (fun _ => by decide) (Or.inl rfl) ?_
        intro r hr _
        rw [ra_iw1f (by omega)]
        exact a r hr rfl
      · have := ra_n5 0
        exact br_f (by decide) (br_t rfl (br_f (ra_nm1 (by omega)) (br_t rfl (br_t rfl (br_f (nI_pos (by omega)) ⟨rfl, I'⟩)))))
    · exact br_f (by decide) (br_f (by decide) (br_t rfl (br_f (by decide) ⟨rfl, I'⟩)))
    · exact br_f (by decide) (br_f (by decide) (br_t rfl (br_f (by decide) ⟨rfl, I'⟩)))
  · exact br_t rfl (br_f (by decide) ⟨rfl, I'⟩)
theorem i_vc_step {k : Nat} {u : SX} {v : SY} (I : i_Rel k u v) (hk : k + 5 ≤ 2560) : wpX_step (fun r u' => wpY_step (fun r' v' => r' = r ∧ i_Rel (k + 5) u' v') v) u := by
  have I' := i_up I
  rcases I with ⟨st, q, F, D, G, B, rfl, rfl, K, h6, hF, a⟩ | ⟨st, q, F, cp, op, D, G, B, rfl, rfl, K, hz, hF, m⟩
  · rcases K with ⟨rfl, rfl⟩ | ⟨rfl, hq⟩ | ⟨rfl, rfl⟩
    · exact br_f (by decide) (br_f (by decide) (br_t rfl (ra_yG0 (br_f (by decide) ⟨rfl, I'⟩))))
    · have hq6 := h6 rfl
      refine br_f (by decide) (br_t rfl (pk_eq q 6 (fun z => absurd z (by omega)) (fun _ => ?_)))
      refine ra_wMv hq6 a (fun z => ?_) (fun _ _ _ _ z => ?_) (fun _ e D' G' a' => ?_) (fun _ e D' G' a' => ?_)
      · rcases z with z | z | z | z <;> exact absurd z (by decide)
      · exact absurd z (by decide)
      · exact br_t rfl (ra_yG1 hq6 (br_t rfl (ra_yMn (by omega) ⟨rfl, ra_up (st := 1) (Or.inr (Or.inl ⟨rfl, by omega⟩)) (fun _ => by omega) hF a'⟩)))
      · subst e
        exact br_t rfl (ra_yG1 hq6 (br_t rfl (ra_yM5 ⟨rfl, ra_up (st := 2) (Or.inr (Or.inr ⟨rfl, rfl⟩)) (fun z => absurd z (by decide)) hF a'⟩)))
    · exact br_f (by decide) (br_f (by decide) (br_t rfl (ra_yG2 (br_f (by decide) ⟨rfl, I'⟩))))
  · exact br_t rfl (br_f (by decide) ⟨rfl, I'⟩)
theorem i_vc_stepCrash {k : Nat} {u : SX} {v : SY} (I : i_Rel k u v) (hk : k + 5 ≤ 2560) (v1 : Int32) : wpX_stepCrash (fun r u' => wpY_stepCrash (fun r' v' => r' = r ∧ i_Rel (k + 5) u' v') v v1) u v1 := by
  have I' := i_up I
  rcases I with ⟨st, q, F, D, G, B, rfl, rfl, K, h6, hF, a⟩ | ⟨st, q, F, cp, op, D, G, B, rfl, rfl, K, hz, hF, m⟩
  · rcases K with ⟨rfl, rfl⟩ | ⟨rfl, hq⟩ | ⟨rfl, rfl⟩
    · exact br_f (by decide) (br_f (by decide) (br_t rfl (ra_yG0 (br_f (by decide) ⟨rfl, I'⟩))))
    · have hq6 := h6 rfl
      refine br_f (by decide) (br_t rfl (pk_eq q 6 (fun z => absurd z (by omega)) (fun _ => ?_)))
      refine br_c (fun z1 => br_t rfl (ra_yG1 hq6 (br_t rfl (br_t z1 ⟨rfl, I'⟩)))) (fun z1 => br_c (fun z2 => ?_) (fun z2 => br_t rfl (ra_yG1 hq6 (br_t rfl (br_f z1 (br_f z2 ⟨rfl, I'⟩))))))
      refine ra_wMv hq6 a (fun z c D' G' m' => ?_) (fun z3 z4 z5 z6 _ D' G' a' => ?_) (fun z => absurd z2 z) (fun z => absurd z2 z)
      · have n4 : ¬ v1 = 4 := by rcases z with rfl | rfl | rfl | rfl <;> decide
        exact br_t rfl (ra_yG1 hq6 (br_t rfl (br_f z1 (br_t z2 (br_f n4 ⟨rfl, ra_dn (st := 1) (Or.inr (Or.inl ⟨rfl, hq⟩)) (fun _ e => absurd hq6 (by omega)) hF m'⟩)))))
      · obtain ⟨t, ht, rfl⟩ := nI_of2 (M := 4) (n := 4) (by decide) z1 z2
        have e4 : t = 4 := by
          have n0 : t ≠ 0 := fun e => z3 (by rw [e]; rfl)
          have n1 : t ≠ 1 := fun e => z4 (by rw [e]; rfl)
          have n2 : t ≠ 2 := fun e => z5 (by rw [e]; rfl)
          have n3 : t ≠ 3 := fun e => z6 (by rw [e]; rfl)
          omega
        subst e4
        by_cases e : q = 5
        · subst e
          refine br_t rfl (ra_yG1 hq6 (br_t rfl (br_f z1 (br_t z2 (br_t rfl (ra_yM5 ⟨rfl, ?_⟩))))))
          refine ra_dn (st := 1) (q := 6) (Or.inr (Or.inl ⟨rfl, by decide⟩)) (fun _ _ j h1 h2 => if_pos ⟨h1, h2⟩) hF (Or.inl ⟨rfl, rfl, ?_⟩)
          intro r hr hu
          have hu' := ra_us1i hu
          refine ra_Gc (a' r hr hu) (fun _ _ _ => rfl) (fun i hi => if_neg ?_)
          rw [ra_iw1t (by omega), ra_dT] at hi ⊢
          omega
        · refine br_t rfl (ra_yG1 hq6 (br_t rfl (br_f z1 (br_t z2 (br_t rfl (ra_yMn (by omega) ⟨rfl, ?_⟩))))))
          exact ra_dn (st := 1) (q := q + 1) (Or.inr (Or.inl ⟨rfl, by omega⟩)) (fun _ e6 => absurd e6 (by omega)) hF (Or.inl ⟨rfl, rfl, a'⟩)
    · exact br_f (by decide) (br_f (by decide) (br_t rfl (ra_yG2 (br_f (by decide) ⟨rfl, I'⟩))))
  · exact br_t rfl (br_f (by decide) ⟨rfl, I'⟩)
theorem i_vc_crash {k : Nat} {u : SX} {v : SY} (I : i_Rel k u v) (hk : k + 5 ≤ 2560) : wpX_crash (fun r u' => wpY_crash (fun r' v' => r' = r ∧ i_Rel (k + 5) u' v') v) u := by
  have I' := i_up I
  rcases I with ⟨st, q, F, D, G, B, rfl, rfl, K, h6, hF, a⟩ | ⟨st, q, F, cp, op, D, G, B, rfl, rfl, K, hz, hF, m⟩
  · exact br_f (by decide) (br_t rfl ⟨rfl, ra_dn K (fun e1 e2 => absurd (h6 e1) (by omega)) hF (Or.inl ⟨rfl, rfl, a⟩)⟩)
  · exact br_t rfl (br_f (by decide) ⟨rfl, I'⟩)
theorem i_vc_mount {k : Nat} {u : SX} {v : SY} (I : i_Rel k u v) (hk : k + 5 ≤ 2560) : wpX_mount (fun r u' => wpY_mount (fun r' v' => r' = r ∧ i_Rel (k + 5) u' v') v) u := by
  have I' := i_up I
  rcases I with ⟨st, q, F, D, G, B, rfl, rfl, K, h6, hF, a⟩ | ⟨st, q, F, cp, op, D, G, B, rfl, rfl, K, hz, hF, m⟩
  · exact br_f (by decide) (br_t rfl ⟨rfl, I'⟩)
  · have fin : ∀ (st' : Nat) (D' G' : Nat → Int32), ra_K st' q → (st' = 1 → q < 6) → ra_R st' F → ra_b st' = ra_b st → ra_A F st' q D' B →
        wpY_mount (fun r' v' => r' = 0 ∧ i_Rel (k + 5) (1, F, nI st', nI q, 0, -1, D', G') v') (1, ra_b st, nI q, F, B) := by
      intro st' D' G' K' h6' hF' hb a'
      rw [← hb]
      exact br_f (by decide) ⟨rfl, ra_up K' h6' hF' a'⟩
    rcases m with ⟨rfl, rfl, a⟩ | ⟨rfl, rfl, o, rfl, hO⟩ | ⟨rfl, rfl, rfl, rfl, hg, c3, c4⟩
    · exact br_t rfl (br_t rfl (br_t rfl (ra_wM5 K hF hz a (fun st' D' => fin st' D' G))))
    · have ho := hO.1
      refine br_t rfl (br_f (ra_nm1 (by omega)) (ra_wIw (ra_K2 K) (ra_K6 K) (by omega) (ra_wPar (by omega) (ra_wMe (ra_plt5 _ _) (by omega) ?_))))
      exact br_t rfl (ra_wM5 K hF hz (ra_Om hO) (fun st' D' => fin st' D' G))
    · refine br_t rfl (br_t rfl (br_f (by decide) (ra_wTb (fun x G' hx hxF hG => ?_))))
      refine ra_wM5 (st := 1) (k := 0) K hF hz (ra_tbA (fun i hi => ?_) hg) (fun st' D' => fin st' D' G')
      rw [hG i hi]
      rcases hx with rfl | rfl
      · exact c3 hxF i hi
      · exact c4 hxF i hi
theorem i_vc_fail {k : Nat} {u : SX} {v : SY} (I : i_Rel k u v) (hk : k + 5 ≤ 2560) (v1 : Int32) : wpX_fail (fun r u' => wpY_fail (fun r' v' => r' = r ∧ i_Rel (k + 5) u' v') v v1) u v1 := by
  have I' := i_up I
  rcases I with ⟨st, q, F, D, G, B, rfl, rfl, K, h6, hF, a⟩ | ⟨st, q, F, cp, op, D, G, B, rfl, rfl, K, hz, hF, m⟩
  · have hn5 := ra_n5 st
    refine br_f (by decide) (ra_wNm (ra_K2 K) ?_)
    refine br_c (fun z1 => br_t rfl (br_t z1 ⟨rfl, I'⟩)) (fun z1 => br_c (fun z2 => ?_) (fun z2 => br_t rfl (br_f z1 (ra_yNm (ra_K2 K) (br_f z2 ⟨rfl, I'⟩)))))
    obtain ⟨f, hf, rfl⟩ := nI_of z1
    have hfn : f < ra_n st := by
      have z3 := z2
      rw [nI_ltI hf (by omega)] at z3
      exact z3
    rcases hF with rfl | ⟨g, hg, rfl⟩
    · refine br_t rfl (ra_wFl (by omega) (fun D' hD => ?_))
      refine br_t rfl (br_f z1 (ra_yNm (ra_K2 K) (br_t z2 (br_t (by decide) ⟨rfl, ra_up K h6 (Or.inr ⟨f, hfn, rfl⟩) ?_⟩))))
      intro r hr hu j hj hF
      have := ra_d5 (ra_iw st q r)
      rw [hD j r (by omega) (fun e => hF (by rw [e]))]
      exact a r hr hu j hj (ra_nm1 (by omega))
    · exact br_f (ra_nm1 (by omega)) (br_t rfl (br_f z1 (ra_yNm (ra_K2 K) (br_t z2 (br_f (nI_pos (by omega)) ⟨rfl, I'⟩)))))
  · exact br_t rfl (br_f (by decide) ⟨rfl, I'⟩)
theorem i_vc_replace {k : Nat} {u : SX} {v : SY} (I : i_Rel k u v) (hk : k + 5 ≤ 2560) : wpX_replace (fun r u' => wpY_replace (fun r' v' => r' = r ∧ i_Rel (k + 5) u' v') v) u := by
  have I' := i_up I
  rcases I with ⟨st, q, F, D, G, B, rfl, rfl, K, h6, hF, a⟩ | ⟨st, q, F, cp, op, D, G, B, rfl, rfl, K, hz, hF, m⟩
  · rcases hF with rfl | ⟨f, hf, rfl⟩
    · exact br_f (by decide) (br_t rfl (br_t rfl (br_f (by decide) ⟨rfl, I'⟩)))
    · have hn5 := ra_n5 st
      refine br_f (by decide) (br_f (ra_nm1 (by omega)) (ra_wR3 (by omega) (fun D' hD => ?_)))
      have a' : ra_A (nI f) st q D' B := fun r hr hu => ra_Gc (a r hr hu) (fun j hj hF => hD j r (by omega) (fun e => hF (by rw [e]))) (fun _ _ => rfl)
      refine ra_wR5 (by omega) (ra_K2 K) (ra_K6 K) a' (fun D2 a2 => ?_)
      exact br_t rfl (br_t (nI_pos' (by omega)) ⟨rfl, ra_up K h6 (Or.inl rfl) a2⟩)
  · exact br_t rfl (br_f (by decide) ⟨rfl, I'⟩)
theorem i_vc_scrub {k : Nat} {u : SX} {v : SY} (I : i_Rel k u v) (hk : k + 5 ≤ 2560) : wpX_scrub (fun r => wpY_scrub (fun r' => r' = r ∧ i_Rel (k + 5) u v) v) u := by
  have I' := i_up I
  rcases I with ⟨st, q, F, D, G, B, rfl, rfl, K, h6, hF, a⟩ | ⟨st, q, F, cp, op, D, G, B, rfl, rfl, K, hz, hF, m⟩
  · rcases hF with rfl | ⟨f, hf, rfl⟩
    · exact br_f (by decide) (br_t rfl (ra_wSc (ra_K2 K) (ra_K6 K) a (br_t rfl (br_t (by decide) ⟨rfl, I'⟩))))
    · have hn5 := ra_n5 st
      exact br_f (by decide) (br_f (ra_nm1 (by omega)) (br_t rfl (br_f (nI_pos (by omega)) ⟨rfl, I'⟩)))
  · exact br_t rfl (br_f (by decide) ⟨rfl, I'⟩)
end
