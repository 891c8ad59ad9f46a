section
/-! rows pasted from the kit's rows to paste (starting text) -/
theorem pk_us {f : Nat → Int32} {k : Nat} {x : Int32} : upd f k x k = x := if_pos rfl
theorem pk_un {f : Nat → Int32} {k j : Nat} {x : Int32} (h : j ≠ k) : upd f k x j = f j := if_neg h
theorem pk_sub {a b : Nat} (h : b ≤ a) : nI a - nI b = nI (a - b) := by
  obtain ⟨c, rfl⟩ : ∃ c, a = c + b := ⟨a - b, by omega⟩
  rw [← nI_add, Int32.add_sub_cancel, Nat.add_sub_cancel]
theorem pk_mul (a b : Nat) : nI a * nI b = nI (a * b) := (Int32.ofNat_mul a b).symm
theorem pk_div {a d : Nat} (ha : a < 2 ^ 31) (h0 : 0 < d) (hd : d < 2 ^ 31) : nI a / nI d = nI (a / d) := by
  apply Int32.toInt_inj.mp
  rw [lg_idiv_nonneg (by rw [nI_toInt ha]; omega) (by rw [nI_toInt hd]; omega), nI_toInt ha, nI_toInt hd, nI_toInt (Nat.lt_of_le_of_lt (Nat.div_le_self a d) ha)]
  first | rfl | exact (Int.natCast_ediv _ _).symm
theorem pk_rem {a d : Nat} (ha : a < 2 ^ 31) (h0 : 0 < d) (hd : d < 2 ^ 31) : nI a - nI a / nI d * nI d = nI (a % d) := by
  rw [pk_div ha h0 hd, pk_mul, pk_sub (Nat.div_mul_le_self a d)]
  exact congrArg nI (by have := Nat.div_add_mod' a d; omega)
theorem pk_ix (x : Int32) {n : Nat} (hn : n < 2 ^ 31) : x < 0 ∨ nI n ≤ x ∨ ∃ j : Nat, j < n ∧ x = nI j := by
  by_cases h : x < 0
  · exact Or.inl h
  · obtain ⟨j, hj, rfl⟩ := nI_of h
    by_cases h2 : j < n
    · exact Or.inr (Or.inr ⟨j, h2, rfl⟩)
    · exact Or.inr (Or.inl (nI_le (by omega) hj))
theorem pk_le {x y : Int32} {A B : Prop} (a b : Nat) (f : a ≤ b → A) (g : b < a → B) (hx : x = nI a := by rfl) (hy : y = nI b := by rfl) (ha : a < 2 ^ 31 := by omega) (hb : b < 2 ^ 31 := by omega) : (x ≤ y → A) ∧ (¬ x ≤ y → B) := by
  subst hx hy
  rw [nI_leI ha hb]
  exact ⟨f, fun z => g (by omega)⟩
theorem pk_lt {x y : Int32} {A B : Prop} (a b : Nat) (f : a < b → A) (g : b ≤ a → B) (hx : x = nI a := by rfl) (hy : y = nI b := by rfl) (ha : a < 2 ^ 31 := by omega) (hb : b < 2 ^ 31 := by omega) : (x < y → A) ∧ (¬ x < y → B) := by
  subst hx hy
  rw [nI_ltI ha hb]
  exact ⟨f, fun z => g (by omega)⟩
theorem pk_eq {x y : Int32} {A B : Prop} (a b : Nat) (f : a = b → A) (g : a ≠ b → B) (hx : x = nI a := by rfl) (hy : y = nI b := by rfl) (ha : a < 2 ^ 31 := by omega) (hb : b < 2 ^ 31 := by omega) : (x = y → A) ∧ (¬ x = y → B) := by
  subst hx hy
  rw [nI_eq ha hb]
  exact ⟨f, g⟩
theorem pk_in {x : Int32} (n N : Nat) (h : n < N) (hx : x = nI n := by rfl) (hN : N < 2 ^ 31 := by omega) : vp_in x N := by
  subst hx
  exact vp_in_nI h hN
theorem pk_cl {x : Int32} (n : Nat) (hx : x = nI n := by rfl) (h : n < 2 ^ 31 := by omega) : x.toNatClampNeg = n := by
  subst hx
  exact nI_clamp h
theorem pk_tn {n : Nat} (h : n < 2 ^ 32) : (nI n).toBitVec.toNat = n := Nat.mod_eq_of_lt h
theorem pk_and (x : Int32) {m : Int32} (k : Nat) (hm : m.toBitVec.toNat = 2 ^ k - 1) : x &&& m = nI (x.toBitVec.toNat % 2 ^ k) := by
  apply Int32.toBitVec_inj.mp
  apply BitVec.eq_of_toNat_eq
  rw [Int32.toBitVec_and, BitVec.toNat_and, hm, Nat.and_two_pow_sub_one_eq_mod]
  show _ = (BitVec.ofNat 32 _).toNat
  rw [BitVec.toNat_ofNat]
  exact (Nat.mod_eq_of_lt (Nat.lt_of_le_of_lt (Nat.mod_le _ _) x.toBitVec.isLt)).symm
theorem pk_andN {n : Nat} (h : n < 2 ^ 32) {m : Int32} (k : Nat) (hm : m.toBitVec.toNat = 2 ^ k - 1) : nI n &&& m = nI (n % 2 ^ k) := by
  rw [pk_and _ k hm, pk_tn h]
theorem pk_shr (a s : Int32) (k : Nat) (hs : (s.toBitVec.smod 32).toNat = k) : (a >>> s).toInt = a.toInt >>> k := by
  show (a.toBitVec.sshiftRight (s.toBitVec.smod 32).toNat).toInt = _
  rw [hs, BitVec.toInt_sshiftRight]
  rfl
theorem pk_shrN {n : Nat} (h : n < 2 ^ 31) (s : Int32) (k : Nat) (hs : (s.toBitVec.smod 32).toNat = k) : nI n >>> s = nI (n / 2 ^ k) := by
  apply Int32.toInt_inj.mp
  have h2 : n / 2 ^ k ≤ n := Nat.div_le_self _ _
  rw [pk_shr _ _ k hs, nI_toInt h, nI_toInt (by omega), Int.shiftRight_eq_div_pow]
  rfl
theorem pk_vb (z : Int32) : vp_nar .byte z.toInt8.toInt32 = z.toInt8.toInt32 := by rw [vp_nar_byte]; simp
def bt (x : Int32) (i : Nat) : Bool := x.toBitVec.getLsbD i
theorem b_ext {x y : Int32} (h : ∀ i, i < 32 → bt x i = bt y i) : x = y := Int32.toBitVec_inj.mp (BitVec.eq_of_getLsbD_eq (fun i hi => h i hi))
theorem b_or (x y : Int32) (i : Nat) : bt (x ||| y) i = (bt x i || bt y i) := by unfold bt; rw [Int32.toBitVec_or, BitVec.getLsbD_or]
theorem b_and (x y : Int32) (i : Nat) : bt (x &&& y) i = (bt x i && bt y i) := by unfold bt; rw [Int32.toBitVec_and, BitVec.getLsbD_and]
theorem b_xor (x y : Int32) (i : Nat) : bt (x ^^^ y) i = (bt x i ^^ bt y i) := by unfold bt; rw [Int32.toBitVec_xor, BitVec.getLsbD_xor]
theorem b_big {x : Int32} {i : Nat} (h : 32 ≤ i) : bt x i = false := BitVec.getLsbD_of_ge _ _ h
theorem b_m1 : ∀ i, i < 32 → bt (-1) i = true := by decide +kernel
theorem b_0 (i : Nat) : bt 0 i = false := BitVec.getLsbD_zero
theorem s_l : ∀ n, n < 32 → ((nI n &&& 31).toBitVec.smod 32).toNat = n := by decide +kernel
theorem b_shl (n : Nat) (hn : n < 32) (x : Int32) {i : Nat} (hi : i < 32) : bt (x <<< (nI n &&& 31)) i = (decide (n ≤ i) && bt x (i - n)) := by
  unfold bt
  rw [Int32.toBitVec_shiftLeft]
  show (x.toBitVec <<< ((nI n &&& 31).toBitVec.smod 32).toNat).getLsbD i = _
  rw [s_l n hn, BitVec.getLsbD_shiftLeft]
  rcases Nat.lt_or_ge i n with h | h
  · simp [h, Nat.not_le.mpr h]
  · simp [hi, h, Nat.not_lt.mpr h]
end
section
/-! the pure picture: bits, folds, arrays, kinds, one cell's and one pair's operations -/
def mt_i (b : Bool) : Int32 := if b = true then 1 else 0
abbrev mt_S : Type := Bool × Bool × Bool
def mt_it {σ : Type} (g : σ → Nat → σ) : Nat → Nat → σ → σ
  | 0, _, s => s
  | d + 1, j, s => mt_it g d (j + 1) (g s j)
theorem mt_it_0 {σ : Type} (g : σ → Nat → σ) (j : Nat) (s : σ) : mt_it g 0 j s = s := rfl
theorem mt_it_s {σ : Type} (g : σ → Nat → σ) (d j : Nat) (s : σ) : mt_it g (d + 1) j s = mt_it g d (j + 1) (g s j) := rfl
theorem mt_it_add {σ : Type} (g : σ → Nat → σ) (d2 : Nat) : ∀ (d1 j : Nat) (s : σ), mt_it g (d1 + d2) j s = mt_it g d2 (j + d1) (mt_it g d1 j s) := by
  intro d1
  induction d1 with
  | zero => intro j s; rw [Nat.zero_add]; rfl
  | succ d1 ih =>
    intro j s
    rw [show d1 + 1 + d2 = (d1 + d2) + 1 by omega, mt_it_s, mt_it_s, ih, show j + 1 + d1 = j + (d1 + 1) by omega]
theorem mt_it_last {σ : Type} (g : σ → Nat → σ) (d j : Nat) (s : σ) : mt_it g (d + 1) j s = g (mt_it g d j s) (j + d) := by
  rw [mt_it_add]; rfl
theorem mt_it_congr {σ : Type} {g h : σ → Nat → σ} : ∀ (d j : Nat) (s : σ), (∀ i s, j ≤ i → i < j + d → g s i = h s i) → mt_it g d j s = mt_it h d j s := by
  intro d
  induction d with
  | zero => intro j s _; rfl
  | succ d ih =>
    intro j s e
    rw [mt_it_s, mt_it_s, e j s (Nat.le_refl _) (by omega)]
    exact ih (j + 1) _ (fun i s h1 h2 => e i s (by omega) (by omega))
theorem mt_it_shift {σ : Type} (g : σ → Nat → σ) (b : Nat) : ∀ (d j : Nat) (s : σ), mt_it g d (b + j) s = mt_it (fun s i => g s (b + i)) d j s := by
  intro d
  induction d with
  | zero => intro j s; rfl
  | succ d ih =>
    intro j s
    rw [mt_it_s, mt_it_s]
    exact ih (j + 1) _
/-- a loop with a counter: the fold of what is left -/
theorem mt_lp {σ : Type} (W : Nat → Nat → σ → Prop) (g : σ → Nat → σ) (e : Nat) (hs : ∀ n i s, i < e → W n (i + 1) (g s i) → W (n + 1) i s) : ∀ d n i s, i + d = e → d < n → (∀ n, W (n + 1) e (mt_it g d i s)) → W n i s := by
  intro d
  induction d with
  | zero =>
    intro n i s hi hn hx
    obtain ⟨n, rfl⟩ : ∃ m, n = m + 1 := ⟨n - 1, by omega⟩
    have : i = e := by omega
    subst this
    exact hx n
  | succ d ih =>
    intro n i s hi hn hx
    obtain ⟨n, rfl⟩ : ∃ m, n = m + 1 := ⟨n - 1, by omega⟩
    exact hs n i s (by omega) (ih n (i + 1) (g s i) (by omega) (by omega) hx)
def mt_D (D : Nat → Bool) : Nat → Int32 := fun j => mt_i (D j)
def mt_N (Z : Nat → Nat) : Nat → Int32 := fun j => nI (Z j)
def mt_ub (f : Nat → Bool) (k : Nat) (x : Bool) : Nat → Bool := fun j => if j = k then x else f j
def mt_un (f : Nat → Nat) (k : Nat) (x : Nat) : Nat → Nat := fun j => if j = k then x else f j
def mt_us (f : Nat → mt_S) (k : Nat) (x : mt_S) : Nat → mt_S := fun j => if j = k then x else f j
theorem mt_D_upd (D : Nat → Bool) (k : Nat) (x : Bool) : upd (mt_D D) k (mt_i x) = mt_D (mt_ub D k x) := by
  funext j
  unfold upd mt_D mt_ub
  by_cases h : j = k
  · rw [if_pos h, if_pos h]
  · rw [if_neg h, if_neg h]
theorem mt_N_upd (Z : Nat → Nat) (k x : Nat) : upd (mt_N Z) k (nI x) = mt_N (mt_un Z k x) := by
  funext j
  unfold upd mt_N mt_un
  by_cases h : j = k
  · rw [if_pos h, if_pos h]
  · rw [if_neg h, if_neg h]
theorem mt_ub_s (f : Nat → Bool) (k : Nat) (x : Bool) : mt_ub f k x k = x := if_pos rfl
theorem mt_ub_n {f : Nat → Bool} {k j : Nat} {x : Bool} (h : j ≠ k) : mt_ub f k x j = f j := if_neg h
theorem mt_ub_self (f : Nat → Bool) (k : Nat) : mt_ub f k (f k) = f := by
  funext j
  unfold mt_ub
  by_cases h : j = k
  · rw [if_pos h, h]
  · rw [if_neg h]
theorem mt_ub_ub (f : Nat → Bool) (k : Nat) (x y : Bool) : mt_ub (mt_ub f k x) k y = mt_ub f k y := by
  funext j
  unfold mt_ub
  by_cases h : j = k
  · rw [if_pos h, if_pos h]
  · rw [if_neg h, if_neg h, if_neg h]
theorem mt_un_le {f : Nat → Nat} {k x b : Nat} (h : ∀ j, f j ≤ b) (hx : x ≤ b) : ∀ j, mt_un f k x j ≤ b := by
  intro j
  unfold mt_un
  by_cases e : j = k
  · rw [if_pos e]; exact hx
  · rw [if_neg e]; exact h j
theorem mt_us_s (f : Nat → mt_S) (k : Nat) (x : mt_S) : mt_us f k x k = x := if_pos rfl
theorem mt_us_n {f : Nat → mt_S} {k j : Nat} {x : mt_S} (h : j ≠ k) : mt_us f k x j = f j := if_neg h
theorem mt_us_self (f : Nat → mt_S) (k : Nat) : mt_us f k (f k) = f := by
  funext j
  unfold mt_us
  by_cases h : j = k
  · rw [if_pos h, h]
  · rw [if_neg h]
theorem mt_us_us (f : Nat → mt_S) (k : Nat) (x y : mt_S) : mt_us (mt_us f k x) k y = mt_us f k y := by
  funext j
  unfold mt_us
  by_cases h : j = k
  · rw [if_pos h, if_pos h]
  · rw [if_neg h, if_neg h, if_neg h]
theorem mt_D_at (D : Nat → Bool) {j : Nat} (h : j < 2 ^ 31) : mt_D D (nI j).toNatClampNeg = mt_i (D j) := by rw [nI_clamp h]; rfl
theorem mt_N_at (Z : Nat → Nat) {j : Nat} (h : j < 2 ^ 31) : mt_N Z (nI j).toNatClampNeg = nI (Z j) := by rw [nI_clamp h]; rfl
theorem mt_nar (b : Bool) : narrow .boolean (.int (mt_i b)) = .int (mt_i b) := by cases b <;> rfl
theorem mt_fit (b : Bool) : fits .boolean (.int (mt_i b)) = true := by cases b <;> rfl
theorem mt_i_inj : ∀ {a b : Bool}, mt_i a = mt_i b → a = b := by decide
theorem mt_1s (b : Bool) : (1 : Int32) - mt_i b = mt_i (!b) := by cases b <;> rfl
theorem mt_or0 (b : Bool) : mt_i b ||| 0 = mt_i b := by cases b <;> rfl
theorem mt_or1 (b : Bool) : mt_i b ||| 1 = mt_i true := by cases b <;> rfl
/-- the kinds: none, and the fourteen -/
def mt_K (k : Int32) : Prop := k = -1 ∨ k = 0 ∨ k = 1 ∨ k = 2 ∨ k = 3 ∨ k = 4 ∨ k = 5 ∨ k = 6 ∨ k = 7 ∨ k = 8 ∨ k = 9 ∨ k = 10 ∨ k = 11 ∨ k = 12 ∨ k = 13
theorem mt_K_m : mt_K (-1) := Or.inl rfl
theorem mt_K_n : ∀ k : Nat, k < 14 → mt_K (nI k) := by
  unfold mt_K
  decide +kernel
/-- what hold makes of the bit -/
def mt_h (k : Int32) (b o : Bool) : Bool :=
  if k = 0 then false else if k = 1 then true
  else if k = 10 ∧ o = false then false else if k = 11 ∧ o = false then true
  else if k = 12 ∧ o = true then false else if k = 13 ∧ o = true then true else b
/-- the bit behind a write of the own cell, ahead of hold -/
def mt_ro (k : Int32) (b x : Bool) : Bool := if k = 2 ∧ x = true then b else if k = 3 ∧ x = false then b else x
/-- the bit behind a write of the other cell, ahead of hold -/
def mt_ra (k : Int32) (b o x : Bool) : Bool :=
  if k = 4 then (if (!o && x) = true then !b else b)
  else if k = 5 then (if (o && !x) = true then !b else b)
  else if k = 6 then (if (!o && x) = true then false else b)
  else if k = 7 then (if (!o && x) = true then true else b)
  else if k = 8 then (if (o && !x) = true then false else b)
  else if k = 9 then (if (o && !x) = true then true else b)
  else b
def mt_wo (k : Int32) (b o x : Bool) : Bool := mt_h k (mt_ro k b x) o
def mt_wa (k : Int32) (b o x : Bool) : Bool := mt_h k (mt_ra k b o x) x
/-- one operation at the own cell; at the other one -/
def mt_fo (k : Int32) (s : mt_S) (q : Nat) : mt_S :=
  if q = 0 then (mt_wo k s.1 s.2.1 false, s.2.1, s.2.2)
  else if q = 1 then (mt_wo k s.1 s.2.1 true, s.2.1, s.2.2)
  else (s.1, s.2.1, s.2.2 || (s.1 != decide (q = 3)))
def mt_fa (k : Int32) (s : mt_S) (q : Nat) : mt_S :=
  if q = 0 then (mt_wa k s.1 s.2.1 false, false, s.2.2)
  else if q = 1 then (mt_wa k s.1 s.2.1 true, true, s.2.2)
  else (s.1, s.2.1, s.2.2 || (s.2.1 != decide (q = 3)))
def mt_f (k : Int32) (own : Bool) (s : mt_S) (q : Nat) : mt_S := if own = true then mt_fo k s q else mt_fa k s q
/-- a visit of march m; a march; a run from a filling -/
def mt_vis (k : Int32) (own : Bool) (Z O : Nat → Nat) (m : Nat) (s : mt_S) : mt_S := mt_it (fun s j => mt_f k own s (O (4 * m + j))) (Z m) 0 s
def mt_mX (D : Nat → Bool) (Z O : Nat → Nat) (w k : Int32) (bl : Bool) (s : mt_S) (m : Nat) : mt_S :=
  if nI m = w then s
  else if k < 4 then mt_vis k true Z O m s
  else if (bl == !(D m)) = true then mt_vis k false Z O m (mt_vis k true Z O m s)
  else mt_vis k true Z O m (mt_vis k false Z O m s)
def mt_rX (c : Nat) (D : Nat → Bool) (Z O : Nat → Nat) (w k : Int32) (bl b o : Bool) : mt_S := mt_it (mt_mX D Z O w k bl) c 0 (mt_h k b o, o, false)
/-- whether it fails -/
def mt_F (c : Nat) (D : Nat → Bool) (Z O : Nat → Nat) (w k : Int32) (bl b o : Bool) : Bool := (mt_rX c D Z O w k bl b o).2.2
/-- finite facts on one operation -/
theorem mt_h4 {k : Int32} (hk : mt_K k) (h : k < 4) (b o o' : Bool) : mt_h k b o = mt_h k b o' := by
  rcases hk with rfl | rfl | rfl | rfl | rfl | rfl | rfl | rfl | rfl | rfl | rfl | rfl | rfl | rfl | rfl
  all_goals first | rfl | exact absurd h (by decide)
theorem mt_hh {k : Int32} (hk : mt_K k) (b o : Bool) : mt_h k (mt_h k b o) o = mt_h k b o := by
  rcases hk with rfl | rfl | rfl | rfl | rfl | rfl | rfl | rfl | rfl | rfl | rfl | rfl | rfl | rfl | rfl
  all_goals (cases b <;> cases o <;> rfl)
theorem mt_hm (b o : Bool) : mt_h (-1) b o = b := rfl
theorem mt_wom (b o x : Bool) : mt_wo (-1) b o x = x := rfl
end
section
/-! X: hold, writeOwn, writeOther over the pure picture -/
theorem mt_hold {post : SX → Prop} {fc fw ff : Int32} {ad az ao : Nat → Int32} {k : Int32} (hk : mt_K k) (b o : Bool) (h : post (fc, fw, k, mt_i (mt_h k b o), mt_i o, ff, ad, az, ao)) : wpX_hold post (fc, fw, k, mt_i b, mt_i o, ff, ad, az, ao) := by
  rcases hk with rfl | rfl | rfl | rfl | rfl | rfl | rfl | rfl | rfl | rfl | rfl | rfl | rfl | rfl | rfl
  all_goals (cases b <;> cases o)
  all_goals (repeat (first | exact h | refine br_t (by decide) ?_ | refine br_f (by decide) ?_ | refine And.intro (by decide) ?_ | refine nm_e ?_))
theorem mt_wOwn {post : SX → Prop} {fc fw ff : Int32} {ad az ao : Nat → Int32} {k : Int32} (hk : mt_K k) (b o x : Bool) (h : post (fc, fw, k, mt_i (mt_wo k b o x), mt_i o, ff, ad, az, ao)) : wpX_writeOwn post (fc, fw, k, mt_i b, mt_i o, ff, ad, az, ao) (mt_i x) := by
  rcases hk with rfl | rfl | rfl | rfl | rfl | rfl | rfl | rfl | rfl | rfl | rfl | rfl | rfl | rfl | rfl
  all_goals (cases b <;> cases o <;> cases x)
  all_goals (repeat (first | exact h | refine br_t (by decide) ?_ | refine br_f (by decide) ?_ | refine And.intro (by decide) ?_ | refine nm_e ?_))
theorem mt_wOth {post : SX → Prop} {fc fw ff : Int32} {ad az ao : Nat → Int32} {k : Int32} (hk : mt_K k) (b o x : Bool) (h : post (fc, fw, k, mt_i (mt_wa k b o x), mt_i x, ff, ad, az, ao)) : wpX_writeOther post (fc, fw, k, mt_i b, mt_i o, ff, ad, az, ao) (mt_i x) := by
  rcases hk with rfl | rfl | rfl | rfl | rfl | rfl | rfl | rfl | rfl | rfl | rfl | rfl | rfl | rfl | rfl
  all_goals (cases b <;> cases o <;> cases x)
  all_goals (repeat (first | exact h | refine br_t (by decide) ?_ | refine br_f (by decide) ?_ | refine And.intro (by decide) ?_ | refine nm_e ?_))
end
section
/-! X: a visit, a run -/
section
variable {c : Nat} {w k : Int32} {D : Nat → Bool} {Z O : Nat → Nat}
theorem mt_v50 {post : SX → Prop} {J : Int32 → Int32 → Int32 → Int32 → Int32 → Int32 → Int32 → (Nat → Int32) → (Nat → Int32) → (Nat → Int32) → Prop} {x1 x2 fc fw kd bt ot : Int32} {ad az ao : Nat → Int32} {i q : Nat} (hq : q = 2 ∨ q = 3) (y f : Bool) (h : J (nI (i + 1)) fc fw kd bt ot (mt_i (f || (y != decide (q = 3)))) ad az ao) : wX_visit_50 post J x1 x2 (nI i) (nI q) (mt_i y) (mt_i f) fc fw kd bt ot (mt_i f) ad az ao := by
  rcases hq with rfl | rfl
  all_goals cases y
  · exact br_t (by decide) (nm_r (mt_or0 f) (And.intro (mt_nar f) (And.intro (mt_fit f) (nm_r (nI_1 i) (by rw [show (f || (false != decide (2 = 3))) = f by cases f <;> rfl] at h; exact h)))))
  · exact br_f (by decide) (nm_r (mt_or1 f) (And.intro (mt_nar true) (And.intro (mt_fit true) (nm_r (nI_1 i) (by rw [show (f || (true != decide (2 = 3))) = true by cases f <;> rfl] at h; exact h)))))
  · exact br_f (by decide) (nm_r (mt_or1 f) (And.intro (mt_nar true) (And.intro (mt_fit true) (nm_r (nI_1 i) (by rw [show (f || (false != decide (3 = 3))) = true by cases f <;> rfl] at h; exact h)))))
  · exact br_t (by decide) (nm_r (mt_or0 f) (And.intro (mt_nar f) (And.intro (mt_fit f) (nm_r (nI_1 i) (by rw [show (f || (true != decide (3 = 3))) = f by cases f <;> rfl] at h; exact h)))))
theorem mt_ix {m i : Nat} : nI m * 4 + nI i = nI (4 * m + i) := by
  rw [show (4 : Int32) = nI 4 from rfl, pk_mul, nI_add, Nat.mul_comm]
theorem mt_vstep {post : SX → Prop} (hk : mt_K k) {m i n : Nat} (hm : m < 6) (hZ : ∀ j, Z j ≤ 4) (hO : ∀ j, O j ≤ 3) (own : Bool) (s : mt_S) (hi : i < Z m) (h : wX_visit_2 post (nI m) (mt_i own) n (nI (i + 1)) (nI c) w k (mt_i (mt_f k own s (O (4 * m + i))).1) (mt_i (mt_f k own s (O (4 * m + i))).2.1) (mt_i (mt_f k own s (O (4 * m + i))).2.2) (mt_D D) (mt_N Z) (mt_N O)) : wX_visit_2 post (nI m) (mt_i own) (n + 1) (nI i) (nI c) w k (mt_i s.1) (mt_i s.2.1) (mt_i s.2.2) (mt_D D) (mt_N Z) (mt_N O) := by
  have hz := hZ m
  refine And.intro (vp_in_nI hm (by decide)) (br_f ?_ (And.intro ?_ (nm_r (e' := nI (O (4 * m + i))) ?_ ?_)))
  · rw [mt_N_at Z (by omega)]
    exact nI_ge hi (by omega)
  · rw [mt_ix]
    exact vp_in_nI (by omega) (by decide)
  · rw [mt_ix, mt_N_at O (by omega)]
  · have hq := hO (4 * m + i)
    revert h
    generalize O (4 * m + i) = q at hq ⊢
    intro h
    obtain ⟨b, o, f⟩ := s
    rcases (by omega : q = 0 ∨ q = 1 ∨ q = 2 ∨ q = 3) with rfl | rfl | rfl | rfl
    · refine br_t (by decide) ?_
      cases own
      · exact br_t rfl (mt_wOth hk b o false (nm_r (nI_1 i) h))
      · exact br_f (by decide) (mt_wOwn hk b o false (nm_r (nI_1 i) h))
    · refine br_t (by decide) ?_
      cases own
      · exact br_t rfl (mt_wOth hk b o true (nm_r (nI_1 i) h))
      · exact br_f (by decide) (mt_wOwn hk b o true (nm_r (nI_1 i) h))
    · refine br_f (by decide) ?_
      cases own
      · exact br_t rfl (mt_v50 (Or.inl rfl) o f h)
      · exact br_f (by decide) (mt_v50 (Or.inl rfl) b f h)
    · refine br_f (by decide) ?_
      cases own
      · exact br_t rfl (mt_v50 (Or.inr rfl) o f h)
      · exact br_f (by decide) (mt_v50 (Or.inr rfl) b f h)
theorem mt_visit {post : SX → Prop} (hk : mt_K k) {m : Nat} (hm : m < 6) (hZ : ∀ j, Z j ≤ 4) (hO : ∀ j, O j ≤ 3) (own : Bool) (s : mt_S) (h : post (nI c, w, k, mt_i (mt_vis k own Z O m s).1, mt_i (mt_vis k own Z O m s).2.1, mt_i (mt_vis k own Z O m s).2.2, mt_D D, mt_N Z, mt_N O)) : wpX_visit post (nI c, w, k, mt_i s.1, mt_i s.2.1, mt_i s.2.2, mt_D D, mt_N Z, mt_N O) (nI m) (mt_i own) := by
  have hz := hZ m
  refine Exists.intro (Z m + 1) ?_
  refine mt_lp (fun n i s => wX_visit_2 post (nI m) (mt_i own) n (nI i) (nI c) w k (mt_i s.1) (mt_i s.2.1) (mt_i s.2.2) (mt_D D) (mt_N Z) (mt_N O)) (fun s j => mt_f k own s (O (4 * m + j))) (Z m) (fun n i s hi hW => mt_vstep hk hm hZ hO own s hi hW) (Z m) (Z m + 1) 0 s (by omega) (by omega) ?_
  intro n
  refine And.intro (vp_in_nI hm (by decide)) (br_t ?_ h)
  rw [mt_N_at Z (by omega)]
  exact nI_le (Nat.le_refl _) (by omega)
theorem mt_rstep {post : Int32 → SX → Prop} (hk : mt_K k) {m n : Nat} (hc : c ≤ 6) (hZ : ∀ j, Z j ≤ 4) (hO : ∀ j, O j ≤ 3) (bl : Bool) (s : mt_S) (hm : m < c) (h : wX_runs_28 post k (mt_i bl) n (nI (m + 1)) (nI c) w k (mt_i (mt_mX D Z O w k bl s m).1) (mt_i (mt_mX D Z O w k bl s m).2.1) (mt_i (mt_mX D Z O w k bl s m).2.2) (mt_D D) (mt_N Z) (mt_N O)) : wX_runs_28 post k (mt_i bl) (n + 1) (nI m) (nI c) w k (mt_i s.1) (mt_i s.2.1) (mt_i s.2.2) (mt_D D) (mt_N Z) (mt_N O) := by
  have h6 : m < 6 := by omega
  refine br_f (nI_ge hm (by omega)) (And.intro (vp_in_nI h6 (by decide)) ?_)
  rw [mt_D_at D (by omega)]
  -- what runs_61 asks, for a known ownFirst
  have key : ∀ of : Bool, of = (bl == !(D m)) → wX_runs_61 post (wX_runs_28 post k (mt_i bl) n) k (mt_i bl) (nI m) (mt_i of) (nI c) w k (mt_i s.1) (mt_i s.2.1) (mt_i s.2.2) (mt_D D) (mt_N Z) (mt_N O) := by
    intro of hof
    by_cases hw : nI m = w
    · refine br_t hw (br_t hw (nm_r (nI_1 m) ?_))
      unfold mt_mX at h
      rw [if_pos hw] at h
      exact h
    · refine br_f hw ?_
      unfold mt_mX at h
      rw [if_neg hw] at h
      by_cases h4 : k < 4
      · rw [if_pos h4] at h
        exact br_f (Int32.not_le.mpr h4) (mt_visit hk h6 hZ hO true s (nm_r (nI_1 m) h))
      · rw [if_neg h4] at h
        refine br_t (Int32.not_lt.mp h4) (br_f hw ?_)
        rw [← hof] at h
        cases of
        · rw [if_neg Bool.false_ne_true] at h
          exact mt_visit hk h6 hZ hO false s (br_t rfl (mt_visit hk h6 hZ hO true _ (nm_r (nI_1 m) h)))
        · rw [if_pos rfl] at h
          exact mt_visit hk h6 hZ hO true s (br_f (by decide) (mt_visit hk h6 hZ hO false _ (nm_r (nI_1 m) h)))
  cases hd : D m
  · refine br_t rfl ?_
    rw [hd] at key
    cases bl
    · exact br_f (by decide) (key false rfl)
    · exact br_t rfl (key true rfl)
  · refine br_f (by decide) ?_
    rw [hd] at key
    cases bl
    · exact br_t rfl (key true rfl)
    · exact br_f (by decide) (key false rfl)
theorem mt_runs {post : Int32 → SX → Prop} (hk : mt_K k) (hc : c ≤ 6) (hZ : ∀ j, Z j ≤ 4) (hO : ∀ j, O j ≤ 3) (bl b o : Bool) {x1 x2 x3 x4 : Int32} (h : ∀ y1 y2 y3 y4 : Int32, post (mt_i (mt_F c D Z O w k bl b o)) (nI c, w, y1, y2, y3, y4, mt_D D, mt_N Z, mt_N O)) : wpX_runs post (nI c, w, x1, x2, x3, x4, mt_D D, mt_N Z, mt_N O) k (mt_i bl) (mt_i b) (mt_i o) := by
  refine mt_hold hk b o (Exists.intro (c + 1) ?_)
  refine mt_lp (fun n i s => wX_runs_28 post k (mt_i bl) n (nI i) (nI c) w k (mt_i s.1) (mt_i s.2.1) (mt_i s.2.2) (mt_D D) (mt_N Z) (mt_N O)) (mt_mX D Z O w k bl) c (fun n i s hi hW => mt_rstep hk hc hZ hO bl s hi hW) c (c + 1) 0 (mt_h k b o, o, false) (by omega) (by omega) ?_
  intro n
  exact br_t (nI_le (Nat.le_refl _) (by omega)) (And.intro (mt_nar _) (h _ _ _ _))
end
end
section
/-! X: quiet, silent, isFound -/
def mt_sn (b : Bool) : Nat := if b = true then 0 else 1
def mt_q (c : Nat) (D : Nat → Bool) (Z O : Nat → Nat) (w : Int32) : Nat := mt_sn (mt_F c D Z O w (-1) true false false) + mt_sn (mt_F c D Z O w (-1) true true false)
def mt_n (c : Nat) (D : Nat → Bool) (Z O : Nat → Nat) (w k : Int32) (bl : Bool) : Nat :=
  if k < 4 then mt_sn (mt_F c D Z O w k bl false false) + mt_sn (mt_F c D Z O w k bl true false)
  else mt_sn (mt_F c D Z O w k bl false false) + mt_sn (mt_F c D Z O w k bl true false) + mt_sn (mt_F c D Z O w k bl false true) + mt_sn (mt_F c D Z O w k bl true true)
def mt_si (c : Nat) (D : Nat → Bool) (Z O : Nat → Nat) (w k : Int32) (bl : Bool) : Nat :=
  mt_it (fun t _ => t * mt_q c D Z O w) (if k < 4 then 4 else 3) 0 (mt_n c D Z O w k bl)
def mt_fd (c : Nat) (D : Nat → Bool) (Z O : Nat → Nat) (w k : Int32) (bl : Bool) : Bool := decide (mt_si c D Z O w k bl = 0)
theorem mt_sn_le (b : Bool) : mt_sn b ≤ 1 := by cases b <;> decide
theorem mt_q_le (c : Nat) (D : Nat → Bool) (Z O : Nat → Nat) (w : Int32) : mt_q c D Z O w ≤ 2 := by
  have h1 := mt_sn_le (mt_F c D Z O w (-1) true false false)
  have h2 := mt_sn_le (mt_F c D Z O w (-1) true true false)
  unfold mt_q
  omega
theorem mt_si_le (c : Nat) (D : Nat → Bool) (Z O : Nat → Nat) (w k : Int32) (bl : Bool) : mt_si c D Z O w k bl ≤ 32 := by
  have hq := mt_q_le c D Z O w
  have h1 := mt_sn_le (mt_F c D Z O w k bl false false)
  have h2 := mt_sn_le (mt_F c D Z O w k bl true false)
  have h3 := mt_sn_le (mt_F c D Z O w k bl false true)
  have h4 := mt_sn_le (mt_F c D Z O w k bl true true)
  unfold mt_si mt_n
  by_cases h : k < 4
  · rw [if_pos h, if_pos h]
    have hn : mt_sn (mt_F c D Z O w k bl false false) + mt_sn (mt_F c D Z O w k bl true false) ≤ 2 := by omega
    exact Nat.mul_le_mul (Nat.mul_le_mul (Nat.mul_le_mul (Nat.mul_le_mul hn hq) hq) hq) hq
  · rw [if_neg h, if_neg h]
    have hn : mt_sn (mt_F c D Z O w k bl false false) + mt_sn (mt_F c D Z O w k bl true false) + mt_sn (mt_F c D Z O w k bl false true) + mt_sn (mt_F c D Z O w k bl true true) ≤ 4 := by omega
    exact Nat.mul_le_mul (Nat.mul_le_mul (Nat.mul_le_mul hn hq) hq) hq
section
variable {c : Nat} {w k : Int32} {D : Nat → Bool} {Z O : Nat → Nat}
theorem mt_qs {post : Int32 → SX → Prop} (hc : c ≤ 6) (hZ : ∀ j, Z j ≤ 4) (hO : ∀ j, O j ≤ 3) (b : Bool) (t n : Nat) (z : Int32) (e : mt_i b + 1 = z) {x1 x2 x3 x4 : Int32} (h : ∀ y1 y2 y3 y4 : Int32, wX_quiet_4 post n (nI (t + mt_sn (mt_F c D Z O w (-1) true b false))) z (nI c) w y1 y2 y3 y4 (mt_D D) (mt_N Z) (mt_N O)) : wX_quiet_4 post (n + 1) (nI t) (mt_i b) (nI c) w x1 x2 x3 x4 (mt_D D) (mt_N Z) (mt_N O) := by
  refine br_f (by cases b <;> decide) (mt_runs mt_K_m hc hZ hO true b false ?_)
  intro y1 y2 y3 y4
  have h' := h y1 y2 y3 y4
  cases hF : mt_F c D Z O w (-1) true b false
  · rw [hF] at h'
    exact br_t rfl (nm_r (nI_1 t) (nm_r e h'))
  · rw [hF] at h'
    exact br_f (by decide) (nm_r (Int32.add_zero (nI t)) (nm_r e h'))
theorem mt_quiet {post : Int32 → SX → Prop} (hc : c ≤ 6) (hZ : ∀ j, Z j ≤ 4) (hO : ∀ j, O j ≤ 3) {x1 x2 x3 x4 : Int32} (h : ∀ y1 y2 y3 y4 : Int32, post (nI (mt_q c D Z O w)) (nI c, w, y1, y2, y3, y4, mt_D D, mt_N Z, mt_N O)) : wpX_quiet post (nI c, w, x1, x2, x3, x4, mt_D D, mt_N Z, mt_N O) := by
  refine Exists.intro 3 ?_
  refine mt_qs hc hZ hO false 0 2 (mt_i true) (by decide) ?_
  intro y1 y2 y3 y4
  refine mt_qs hc hZ hO true _ 1 2 (by decide) ?_
  intro z1 z2 z3 z4
  refine br_t (by decide) ?_
  have h' := h z1 z2 z3 z4
  unfold mt_q at h'
  rw [Nat.zero_add]
  exact h'
theorem mt_s27 {post : Int32 → SX → Prop} {J : Int32 → Int32 → Int32 → Int32 → Int32 → Int32 → Int32 → Int32 → (Nat → Int32) → (Nat → Int32) → (Nat → Int32) → Prop} (hk : mt_K k) (hc : c ≤ 6) (hZ : ∀ j, Z j ≤ 4) (hO : ∀ j, O j ≤ 3) (bl b o : Bool) (t : Nat) (f f' : Int32) (eb : f &&& 1 = mt_i b) (eo : f >>> ((1 : Int32) &&& 31) = mt_i o) (e : f + 1 = f') {x1 x2 x3 x4 : Int32} (h : ∀ y1 y2 y3 y4 : Int32, J (nI (t + mt_sn (mt_F c D Z O w k bl b o))) f' (nI c) w y1 y2 y3 y4 (mt_D D) (mt_N Z) (mt_N O)) : wX_silent_27 post J k (mt_i bl) (nI t) f 1 (nI c) w x1 x2 x3 x4 (mt_D D) (mt_N Z) (mt_N O) := by
  refine br_f (by decide) ?_
  rw [eb, eo]
  refine mt_runs hk hc hZ hO bl b o ?_
  intro y1 y2 y3 y4
  have h' := h y1 y2 y3 y4
  cases hF : mt_F c D Z O w k bl b o
  · rw [hF] at h'
    exact br_t rfl (nm_r (nI_1 t) (nm_r e h'))
  · rw [hF] at h'
    exact br_f (by decide) (nm_r (Int32.add_zero (nI t)) (nm_r e h'))
theorem mt_s86 {post : Int32 → SX → Prop} {x1 x2 x3 x4 : Int32} (q d : Nat) (hd : d < 100) (t : Nat) (h : post (nI (mt_it (fun t _ => t * q) d 0 t)) (nI c, w, x1, x2, x3, x4, mt_D D, mt_N Z, mt_N O)) : ∃ n, wX_silent_86 post (nI d) (nI q) (nI c) w x1 x2 x3 x4 (mt_D D) (mt_N Z) (mt_N O) n (nI t) 0 := by
  refine Exists.intro (d + 1) ?_
  refine mt_lp (fun n i s => wX_silent_86 post (nI d) (nI q) (nI c) w x1 x2 x3 x4 (mt_D D) (mt_N Z) (mt_N O) n (nI s) (nI i)) (fun t _ => t * q) d ?_ d (d + 1) 0 t (by omega) (by omega) ?_
  · intro n i s hi hW
    exact br_f (nI_ge hi (by omega)) (nm_r (pk_mul s q) (nm_r (nI_1 i) hW))
  · intro n
    exact br_t (nI_le (Nat.le_refl _) (by omega)) h
theorem mt_silent {post : Int32 → SX → Prop} (hk : mt_K k) (hc : c ≤ 6) (hZ : ∀ j, Z j ≤ 4) (hO : ∀ j, O j ≤ 3) (bl : Bool) {x1 x2 x3 x4 : Int32} (h : ∀ y1 y2 y3 y4 : Int32, post (nI (mt_si c D Z O w k bl)) (nI c, w, y1, y2, y3, y4, mt_D D, mt_N Z, mt_N O)) : wpX_silent post (nI c, w, x1, x2, x3, x4, mt_D D, mt_N Z, mt_N O) k (mt_i bl) := by
  refine Exists.intro 5 ?_
  unfold mt_si mt_n at h
  by_cases h4 : k < 4
  · have h4' : ¬ (4 : Int32) ≤ k := Int32.not_le.mpr h4
    rw [if_pos h4, if_pos h4] at h
    refine br_f (by decide) (br_f h4' (br_f (by decide) (mt_s27 hk hc hZ hO bl false false 0 0 1 (by decide) (by decide) (by decide) ?_)))
    intro y1 y2 y3 y4
    refine br_f (by decide) (br_f h4' (br_f (by decide) (mt_s27 hk hc hZ hO bl true false _ 1 2 (by decide) (by decide) (by decide) ?_)))
    intro y1 y2 y3 y4
    rw [Nat.zero_add]
    refine br_f (by decide) (br_f h4' (br_t (by decide) (br_t rfl (nm_r (Int32.add_zero _) (nm_r (e' := 3) (by decide) ?_)))))
    refine br_f (by decide) (br_f h4' (br_t (by decide) (br_t rfl (nm_r (Int32.add_zero _) (nm_r (e' := 4) (by decide) ?_)))))
    refine br_t (by decide) (br_t h4 ?_)
    refine mt_quiet hc hZ hO ?_
    intro y1 y2 y3 y4
    exact mt_s86 _ 4 (by decide) _ (h y1 y2 y3 y4)
  · have h4' : (4 : Int32) ≤ k := Int32.not_lt.mp h4
    rw [if_neg h4, if_neg h4] at h
    refine br_f (by decide) (br_t h4' (mt_s27 hk hc hZ hO bl false false 0 0 1 (by decide) (by decide) (by decide) ?_))
    intro y1 y2 y3 y4
    refine br_f (by decide) (br_t h4' (mt_s27 hk hc hZ hO bl true false _ 1 2 (by decide) (by decide) (by decide) ?_))
    intro y1 y2 y3 y4
    refine br_f (by decide) (br_t h4' (mt_s27 hk hc hZ hO bl false true _ 2 3 (by decide) (by decide) (by decide) ?_))
    intro y1 y2 y3 y4
    refine br_f (by decide) (br_t h4' (mt_s27 hk hc hZ hO bl true true _ 3 4 (by decide) (by decide) (by decide) ?_))
    intro y1 y2 y3 y4
    rw [Nat.zero_add]
    refine br_t (by decide) (br_f h4 ?_)
    refine mt_quiet hc hZ hO ?_
    intro y1 y2 y3 y4
    exact mt_s86 _ 3 (by decide) _ (h y1 y2 y3 y4)
theorem mt_isFound {post : Int32 → SX → Prop} (hk : mt_K k) (hc : c ≤ 6) (hZ : ∀ j, Z j ≤ 4) (hO : ∀ j, O j ≤ 3) (bl : Bool) {x1 x2 x3 x4 : Int32} (h : ∀ y1 y2 y3 y4 : Int32, post (mt_i (mt_fd c D Z O w k bl)) (nI c, w, y1, y2, y3, y4, mt_D D, mt_N Z, mt_N O)) : wpX_isFound post (nI c, w, x1, x2, x3, x4, mt_D D, mt_N Z, mt_N O) k (mt_i bl) := by
  refine mt_silent hk hc hZ hO bl ?_
  intro y1 y2 y3 y4
  have h' := h y1 y2 y3 y4
  have hl := mt_si_le c D Z O w k bl
  unfold mt_fd at h'
  by_cases hz : mt_si c D Z O w k bl = 0
  · rw [decide_eq_true hz] at h'
    exact br_t (by rw [hz]; rfl) h'
  · rw [decide_eq_false hz] at h'
    exact br_f (nI_ne0 (by omega) (by omega)) h'
end
end
section
/-! Y: the memory by its bits; bit, put, settle, write -/
def mt_e (b0 b1 b2 b3 b4 : Bool) : Nat := b0.toNat + 2 * b1.toNat + 4 * b2.toNat + 8 * b3.toNat + 16 * b4.toNat
def mt_m (β : Nat → Bool) : Int32 := nI (mt_e (β 0) (β 1) (β 2) (β 3) (β 4))
theorem mt_b5 : ∀ b0 b1 b2 b3 b4 : Bool, (nI (mt_e b0 b1 b2 b3 b4) >>> (nI 0 &&& 31)) &&& 1 = mt_i b0 ∧ (nI (mt_e b0 b1 b2 b3 b4) >>> (nI 1 &&& 31)) &&& 1 = mt_i b1 ∧ (nI (mt_e b0 b1 b2 b3 b4) >>> (nI 2 &&& 31)) &&& 1 = mt_i b2 ∧ (nI (mt_e b0 b1 b2 b3 b4) >>> (nI 3 &&& 31)) &&& 1 = mt_i b3 ∧ (nI (mt_e b0 b1 b2 b3 b4) >>> (nI 4 &&& 31)) &&& 1 = mt_i b4 := by decide +kernel
def mt_pw (m : Int32) (c : Nat) (x : Bool) : Int32 := (m &&& (((1 : Int32) <<< (nI c &&& 31)) ^^^ (-1))) ||| (mt_i x <<< (nI c &&& 31))
theorem mt_p5 : ∀ x b0 b1 b2 b3 b4 : Bool, mt_pw (nI (mt_e b0 b1 b2 b3 b4)) 0 x = nI (mt_e x b1 b2 b3 b4) ∧ mt_pw (nI (mt_e b0 b1 b2 b3 b4)) 1 x = nI (mt_e b0 x b2 b3 b4) ∧ mt_pw (nI (mt_e b0 b1 b2 b3 b4)) 2 x = nI (mt_e b0 b1 x b3 b4) ∧ mt_pw (nI (mt_e b0 b1 b2 b3 b4)) 3 x = nI (mt_e b0 b1 b2 x b4) ∧ mt_pw (nI (mt_e b0 b1 b2 b3 b4)) 4 x = nI (mt_e b0 b1 b2 b3 x) := by decide +kernel
theorem mt_fl : ∀ F : Nat, F < 32 → nI F = mt_m (fun c => F.testBit c) := by
  unfold mt_m
  decide +kernel
theorem mt_c5 {c : Nat} (h : c < 5) : c = 0 ∨ c = 1 ∨ c = 2 ∨ c = 3 ∨ c = 4 := by omega
theorem mt_bitE (β : Nat → Bool) {c : Nat} (h : c < 5) : (mt_m β >>> (nI c &&& 31)) &&& 1 = mt_i (β c) := by
  have e := mt_b5 (β 0) (β 1) (β 2) (β 3) (β 4)
  rcases mt_c5 h with rfl | rfl | rfl | rfl | rfl
  · exact e.1
  · exact e.2.1
  · exact e.2.2.1
  · exact e.2.2.2.1
  · exact e.2.2.2.2
theorem mt_putE (β : Nat → Bool) {c : Nat} (h : c < 5) (x : Bool) : (mt_m β &&& (((1 : Int32) <<< (nI c &&& 31)) ^^^ (-1))) ||| (mt_i x <<< (nI c &&& 31)) = mt_m (mt_ub β c x) := by
  have e := mt_p5 x (β 0) (β 1) (β 2) (β 3) (β 4)
  rcases mt_c5 h with rfl | rfl | rfl | rfl | rfl
  · exact e.1
  · exact e.2.1
  · exact e.2.2.1
  · exact e.2.2.2.1
  · exact e.2.2.2.2
theorem mt_ubif (β : Nat → Bool) (v : Nat) (on now : Bool) : mt_ub β v (if on = true then now else β v) = if on = true then mt_ub β v now else β := by
  cases on
  · exact mt_ub_self β v
  · rfl
section
variable {fs fm k f4 f5 : Int32} {ad am ao : Nat → Int32} {β : Nat → Bool} {v a c : Nat}
theorem mt_bit {post : Int32 → Prop} (hc : c < 5) (h : post (mt_i (β c))) : wpY_bit post (fs, mt_m β, k, f4, f5, ad, am, ao) (nI c) := by
  show post ((mt_m β >>> (nI c &&& 31)) &&& 1)
  rw [mt_bitE β hc]
  exact h
theorem mt_put {post : SY → Prop} (hc : c < 5) (x : Bool) (h : post (fs, mt_m (mt_ub β c x), k, f4, f5, ad, am, ao)) : wpY_put post (fs, mt_m β, k, f4, f5, ad, am, ao) (nI c) (mt_i x) :=
  nm_r (mt_putE β hc x) h
theorem mt_settle {post : SY → Prop} (hk : mt_K k) (hv : v < 5) (ha : a < 5) (h : post (fs, mt_m (mt_ub β v (mt_h k (β v) (β a))), k, nI v, nI a, ad, am, ao)) : wpY_settle post (fs, mt_m β, k, nI v, nI a, ad, am, ao) := by
  rcases hk with rfl | rfl | rfl | rfl | rfl | rfl | rfl | rfl | rfl | rfl | rfl | rfl | rfl | rfl | rfl
  · rw [show mt_ub β v (mt_h (-1) (β v) (β a)) = β from mt_ub_self β v] at h
    exact br_f (by decide) (br_f (by decide) (br_t (by decide) h))
  · exact br_t rfl (mt_put hv false (br_t (by decide) h))
  · exact br_f (by decide) (br_t rfl (mt_put hv true (br_t (by decide) h)))
  · rw [show mt_ub β v (mt_h 2 (β v) (β a)) = β from mt_ub_self β v] at h
    exact br_f (by decide) (br_f (by decide) (br_t (by decide) h))
  · rw [show mt_ub β v (mt_h 3 (β v) (β a)) = β from mt_ub_self β v] at h
    exact br_f (by decide) (br_f (by decide) (br_t (by decide) h))
  · rw [show mt_ub β v (mt_h 4 (β v) (β a)) = β from mt_ub_self β v] at h
    exact br_f (by decide) (br_f (by decide) (br_t (by decide) h))
  · rw [show mt_ub β v (mt_h 5 (β v) (β a)) = β from mt_ub_self β v] at h
    exact br_f (by decide) (br_f (by decide) (br_t (by decide) h))
  · rw [show mt_ub β v (mt_h 6 (β v) (β a)) = β from mt_ub_self β v] at h
    exact br_f (by decide) (br_f (by decide) (br_t (by decide) h))
  · rw [show mt_ub β v (mt_h 7 (β v) (β a)) = β from mt_ub_self β v] at h
    exact br_f (by decide) (br_f (by decide) (br_t (by decide) h))
  · rw [show mt_ub β v (mt_h 8 (β v) (β a)) = β from mt_ub_self β v] at h
    exact br_f (by decide) (br_f (by decide) (br_t (by decide) h))
  · rw [show mt_ub β v (mt_h 9 (β v) (β a)) = β from mt_ub_self β v] at h
    exact br_f (by decide) (br_f (by decide) (br_t (by decide) h))
  · refine br_f (by decide) (br_f (by decide) (br_f (by decide) (mt_bit ha (And.intro (by decide) ?_))))
    cases hb : β a
    · rw [hb] at h
      exact br_t (by decide) (And.intro (by decide) (mt_put hv false h))
    · rw [hb, show mt_ub β v (mt_h 10 (β v) true) = β from mt_ub_self β v] at h
      exact br_f (by decide) h
  · refine br_f (by decide) (br_f (by decide) (br_f (by decide) (mt_bit ha (And.intro (by decide) ?_))))
    cases hb : β a
    · rw [hb] at h
      exact br_t (by decide) (And.intro (by decide) (mt_put hv true h))
    · rw [hb, show mt_ub β v (mt_h 11 (β v) true) = β from mt_ub_self β v] at h
      exact br_f (by decide) h
  · refine br_f (by decide) (br_f (by decide) (br_f (by decide) (mt_bit ha (And.intro (by decide) ?_))))
    cases hb : β a
    · rw [hb, show mt_ub β v (mt_h 12 (β v) false) = β from mt_ub_self β v] at h
      exact br_f (by decide) h
    · rw [hb] at h
      exact br_t (by decide) (And.intro (by decide) (mt_put hv false h))
  · refine br_f (by decide) (br_f (by decide) (br_f (by decide) (mt_bit ha (And.intro (by decide) ?_))))
    cases hb : β a
    · rw [hb, show mt_ub β v (mt_h 13 (β v) false) = β from mt_ub_self β v] at h
      exact br_f (by decide) h
    · rw [hb] at h
      exact br_t (by decide) (And.intro (by decide) (mt_put hv true h))
theorem mt_195 {post : SY → Prop} (hk : mt_K k) (hv : v < 5) (ha : a < 5) (h : post (fs, mt_m (mt_ub β v (mt_h k (β v) (β a))), k, nI v, nI a, ad, am, ao)) : wY_write_195 post fs (mt_m β) k (nI v) (nI a) ad am ao := mt_settle hk hv ha h
theorem mt_178 {post : SY → Prop} (hv : v < 5) (on now : Bool) (h : wY_write_195 post fs (mt_m (if on = true then mt_ub β v now else β)) k (nI v) (nI a) ad am ao) : wY_write_178 post (mt_i on) (mt_i now) fs (mt_m β) k (nI v) (nI a) ad am ao := by
  cases on
  · exact br_t rfl h
  · exact br_f (by decide) (mt_put hv now h)
theorem mt_58 {post : SY → Prop} (old x : Bool) {x1 fM fC fO : Int32} (h : wY_write_88 post x1 (mt_i (!old && x)) (mt_i (old && !x)) fs fM k fC fO ad am ao) : wY_write_58 post x1 (mt_i x) (mt_i old) fs fM k fC fO ad am ao := by
  cases old <;> cases x
  · exact br_t rfl (br_f (by decide) (br_f (by decide) h))
  · exact br_t rfl (br_t rfl (br_f (by decide) h))
  · exact br_f (by decide) (br_t rfl (br_t rfl h))
  · exact br_f (by decide) (br_t rfl (br_f (by decide) h))
theorem mt_88a {post : SY → Prop} (hk : mt_K k) (hv : v < 5) (old x : Bool) (h : wY_write_195 post fs (mt_m (mt_ub β v (mt_ra k (β v) old x))) k (nI v) (nI a) ad am ao) : wY_write_88 post (nI a) (mt_i (!old && x)) (mt_i (old && !x)) fs (mt_m β) k (nI v) (nI a) ad am ao := by
  rcases hk with rfl | rfl | rfl | rfl | rfl | rfl | rfl | rfl | rfl | rfl | rfl | rfl | rfl | rfl | rfl
  · rw [show mt_ub β v (mt_ra (-1) (β v) old x) = β from mt_ub_self β v] at h
    exact br_t (by decide) h
  · rw [show mt_ub β v (mt_ra 0 (β v) old x) = β from mt_ub_self β v] at h
    exact br_t (by decide) h
  · rw [show mt_ub β v (mt_ra 1 (β v) old x) = β from mt_ub_self β v] at h
    exact br_t (by decide) h
  · rw [show mt_ub β v (mt_ra 2 (β v) old x) = β from mt_ub_self β v] at h
    exact br_t (by decide) h
  · rw [show mt_ub β v (mt_ra 3 (β v) old x) = β from mt_ub_self β v] at h
    exact br_t (by decide) h
  · rw [show mt_ub β v (mt_ra 4 (β v) old x) = (if (!old && x) = true then mt_ub β v (!(β v)) else β) from mt_ubif β v _ _] at h
    refine br_f (by decide) (br_f (by decide) (br_t rfl ?_))
    refine br_t rfl (br_f (by decide) (mt_bit hv ?_))
    rw [mt_1s]
    exact mt_178 hv _ _ h
  · rw [show mt_ub β v (mt_ra 5 (β v) old x) = (if (old && !x) = true then mt_ub β v (!(β v)) else β) from mt_ubif β v _ _] at h
    refine br_f (by decide) (br_f (by decide) (br_t rfl ?_))
    refine br_f (by decide) (br_f (by decide) (br_f (by decide) (br_f (by decide) (mt_bit hv ?_))))
    rw [mt_1s]
    exact mt_178 hv _ _ h
  · rw [show mt_ub β v (mt_ra 6 (β v) old x) = (if (!old && x) = true then mt_ub β v false else β) from mt_ubif β v _ _] at h
    refine br_f (by decide) (br_f (by decide) (br_t rfl ?_))
    exact br_f (by decide) (br_t rfl (br_t (by decide) (And.intro (by decide) (mt_178 hv _ false h))))
  · rw [show mt_ub β v (mt_ra 7 (β v) old x) = (if (!old && x) = true then mt_ub β v true else β) from mt_ubif β v _ _] at h
    refine br_f (by decide) (br_f (by decide) (br_t rfl ?_))
    exact br_f (by decide) (br_f (by decide) (br_t rfl (br_t (by decide) (And.intro (by decide) (mt_178 hv _ true h)))))
  · rw [show mt_ub β v (mt_ra 8 (β v) old x) = (if (old && !x) = true then mt_ub β v false else β) from mt_ubif β v _ _] at h
    refine br_f (by decide) (br_f (by decide) (br_t rfl ?_))
    exact br_f (by decide) (br_f (by decide) (br_f (by decide) (br_t (by decide) (And.intro (by decide) (mt_178 hv _ false h)))))
  · rw [show mt_ub β v (mt_ra 9 (β v) old x) = (if (old && !x) = true then mt_ub β v true else β) from mt_ubif β v _ _] at h
    refine br_f (by decide) (br_f (by decide) (br_t rfl ?_))
    exact br_f (by decide) (br_f (by decide) (br_f (by decide) (br_t (by decide) (And.intro (by decide) (mt_178 hv _ true h)))))
  · rw [show mt_ub β v (mt_ra 10 (β v) old x) = β from mt_ub_self β v] at h
    exact br_f (by decide) (br_t (by decide) h)
  · rw [show mt_ub β v (mt_ra 11 (β v) old x) = β from mt_ub_self β v] at h
    exact br_f (by decide) (br_t (by decide) h)
  · rw [show mt_ub β v (mt_ra 12 (β v) old x) = β from mt_ub_self β v] at h
    exact br_f (by decide) (br_t (by decide) h)
  · rw [show mt_ub β v (mt_ra 13 (β v) old x) = β from mt_ub_self β v] at h
    exact br_f (by decide) (br_t (by decide) h)
theorem mt_88n {post : SY → Prop} (hk : mt_K k) {x5 z0 fM fC : Int32} (hc : c < 5) (ha : a < 5) (hca : 4 ≤ k → c ≠ a) (h : wY_write_195 post fs fM k fC (nI a) ad am ao) : wY_write_88 post (nI c) x5 z0 fs fM k fC (nI a) ad am ao := by
  have hn : 4 ≤ k → ¬ nI c = nI a := fun h4 e => hca h4 ((nI_eq (by omega) (by omega)).mp e)
  by_cases h4 : k < 4
  · exact br_t h4 h
  · refine br_f h4 ?_
    by_cases h9 : 9 < k
    · exact br_t h9 h
    · exact br_f h9 (br_f (hn (Int32.not_lt.mp h4)) h)
theorem mt_44 {post : SY → Prop} (hc : c < 5) (x : Bool) {x3 fC fO : Int32} (h : wY_write_58 post (nI c) (mt_i x) x3 fs (mt_m (mt_ub β c x)) k fC fO ad am ao) : wY_write_44 post (nI c) (mt_i x) x3 fs (mt_m β) k fC fO ad am ao := br_t rfl (mt_put hc x h)
/-- a write of a third cell -/
theorem mt_wthird {post : SY → Prop} (hk : mt_K k) (hv : v < 5) (ha : a < 5) (hc : c < 5) (hcv : c ≠ v) (hca : 4 ≤ k → c ≠ a) (x : Bool) (hs : mt_h k (β v) (β a) = β v) (h : post (fs, mt_m (mt_ub β c x), k, nI v, nI a, ad, am, ao)) : wpY_write post (fs, mt_m β, k, nI v, nI a, ad, am, ao) (nI c) (mt_i x) := by
  have hn : ¬ nI c = nI v := fun e => hcv ((nI_eq (by omega) (by omega)).mp e)
  have key : wY_write_44 post (nI c) (mt_i x) (mt_i (β c)) fs (mt_m β) k (nI v) (nI a) ad am ao := by
    refine mt_44 hc x (mt_58 _ _ (mt_88n hk hc ha hca (mt_195 hk hv ha ?_)))
    have e1 : mt_ub β c x v = β v := mt_ub_n (fun e => hcv e.symm)
    have e2 : mt_h k (β v) (mt_ub β c x a) = β v := by
      by_cases h4 : k < 4
      · rw [mt_h4 hk h4 _ _ (β a)]; exact hs
      · rw [mt_ub_n (fun e => hca (Int32.not_lt.mp h4) e.symm)]; exact hs
    rw [e1, e2, ← e1, mt_ub_self]
    exact h
  unfold wpY_write
  dsimp only
  refine mt_bit hc ?_
  exact br_c (fun _ => br_f hn key) (fun _ => br_c (fun _ => br_f hn key) (fun _ => key))
/-- a write of the fault's cell -/
theorem mt_wown {post : SY → Prop} (hk : mt_K k) (hv : v < 5) (ha : a < 5) (hva : 4 ≤ k → v ≠ a) (x : Bool) (h : post (fs, mt_m (mt_ub β v (mt_wo k (β v) (β a) x)), k, nI v, nI a, ad, am, ao)) : wpY_write post (fs, mt_m β, k, nI v, nI a, ad, am, ao) (nI v) (mt_i x) := by
  -- whatever bit y the cell has behind the put
  have k58 : ∀ (y old : Bool), mt_ro k (β v) x = y → wY_write_58 post (nI v) (mt_i x) (mt_i old) fs (mt_m (mt_ub β v y)) k (nI v) (nI a) ad am ao := by
    intro y old hy
    refine mt_58 _ _ (mt_88n hk hv ha hva (mt_195 hk hv ha ?_))
    rw [mt_ub_s, mt_ub_ub]
    have e2 : mt_h k y (mt_ub β v y a) = mt_wo k (β v) (β a) x := by
      unfold mt_wo
      rw [hy]
      by_cases h4 : k < 4
      · exact mt_h4 hk h4 _ _ _
      · rw [mt_ub_n (fun e => hva (Int32.not_lt.mp h4) e.symm)]
    rw [e2]
    exact h
  have k44 : ∀ old : Bool, mt_ro k (β v) x = x → wY_write_44 post (nI v) (mt_i x) (mt_i old) fs (mt_m β) k (nI v) (nI a) ad am ao := fun old e => mt_44 hv x (k58 x old e)
  have kst : ∀ old : Bool, mt_ro k (β v) x = β v → wY_write_45 post (nI v) (mt_i x) (mt_i old) 1 fs (mt_m β) k (nI v) (nI a) ad am ao := by
    intro old e
    have := k58 (β v) old e
    rw [mt_ub_self] at this
    exact br_f (by decide) this
  unfold wpY_write
  dsimp only
  refine mt_bit hv ?_
  by_cases h2 : k = 2
  · subst h2
    refine br_t rfl (br_t rfl ?_)
    revert k44 kst
    cases β v
    · intro k44 kst
      exact br_t (by decide) (kst false (by cases x <;> rfl))
    · intro k44 kst
      exact br_f (by decide) (k44 true (by cases x <;> rfl))
  · refine br_f h2 ?_
    by_cases h3 : k = 3
    · subst h3
      refine br_t rfl (br_t rfl ?_)
      revert k44 kst
      cases β v
      · intro k44 kst
        exact br_f (by decide) (k44 false (by cases x <;> rfl))
      · intro k44 kst
        exact br_t (by decide) (kst true (by cases x <;> rfl))
    · refine br_f h3 (k44 _ ?_)
      unfold mt_ro
      rw [if_neg (fun e => h2 e.1), if_neg (fun e => h3 e.1)]
/-- a write of the other cell -/
theorem mt_woth {post : SY → Prop} (hk : mt_K k) (h4 : 4 ≤ k) (hv : v < 5) (ha : a < 5) (hav : a ≠ v) (x : Bool) (h : post (fs, mt_m (mt_ub (mt_ub β a x) v (mt_wa k (β v) (β a) x)), k, nI v, nI a, ad, am, ao)) : wpY_write post (fs, mt_m β, k, nI v, nI a, ad, am, ao) (nI a) (mt_i x) := by
  have h2 : ¬ k = 2 := fun e => absurd h4 (by rw [e]; decide)
  have h3 : ¬ k = 3 := fun e => absurd h4 (by rw [e]; decide)
  unfold wpY_write
  dsimp only
  refine mt_bit ha ?_
  refine (br_f h2 (br_f h3 (mt_44 ha x (mt_58 _ _ (mt_88a hk hv (β a) x (mt_195 hk hv ha ?_))))))
  have e1 : mt_ub β a x v = β v := mt_ub_n (fun e => hav e.symm)
  rw [e1, mt_ub_s, mt_ub_n hav, mt_ub_s, mt_ub_ub]
  exact h
end
end
section
/-! Y: one operation at one cell, against the split state: the pair, and every third cell by itself -/
abbrev mt_P : Type := mt_S × (Nat → mt_S)
def mt_st (k : Int32) (v a : Nat) (s : mt_P) (c q : Nat) : mt_P :=
  if c = v then (mt_f k true s.1 q, s.2)
  else if 4 ≤ k ∧ c = a then (mt_f k false s.1 q, s.2)
  else (s.1, mt_us s.2 c (mt_f (-1) true (s.2 c) q))
def mt_any (T : Nat → mt_S) : Bool := (T 0).2.2 || (T 1).2.2 || (T 2).2.2 || (T 3).2.2 || (T 4).2.2
def mt_inv (k : Int32) (v a : Nat) (β : Nat → Bool) (f : Bool) (s : mt_P) : Prop :=
  β v = s.1.1 ∧ (4 ≤ k → β a = s.1.2.1) ∧ (∀ c, c ≠ v → (4 ≤ k → c ≠ a) → β c = (s.2 c).1) ∧ mt_h k s.1.1 s.1.2.1 = s.1.1 ∧ f = (s.1.2.2 || mt_any s.2)
theorem mt_bo : ∀ g p t : Bool, (g || (p || t)) = ((p || g) || t) := by decide
theorem mt_bo' : ∀ g p t : Bool, (g || (p || t)) = (p || (g || t)) := by decide
theorem mt_bo0 : ∀ g a b c d e : Bool, ((a || g) || b || c || d || e) = (g || (a || b || c || d || e)) := by decide
theorem mt_bo1 : ∀ g a b c d e : Bool, (a || (b || g) || c || d || e) = (g || (a || b || c || d || e)) := by decide
theorem mt_bo2 : ∀ g a b c d e : Bool, (a || b || (c || g) || d || e) = (g || (a || b || c || d || e)) := by decide
theorem mt_bo3 : ∀ g a b c d e : Bool, (a || b || c || (d || g) || e) = (g || (a || b || c || d || e)) := by decide
theorem mt_bo4 : ∀ g a b c d e : Bool, (a || b || c || d || (e || g)) = (g || (a || b || c || d || e)) := by decide
theorem mt_any_us (T : Nat → mt_S) {c : Nat} (hc : c < 5) (s : mt_S) (g : Bool) (e : s.2.2 = ((T c).2.2 || g)) : mt_any (mt_us T c s) = (g || mt_any T) := by
  rcases mt_c5 hc with rfl | rfl | rfl | rfl | rfl
  · show (s.2.2 || (T 1).2.2 || (T 2).2.2 || (T 3).2.2 || (T 4).2.2) = _
    rw [e]; exact mt_bo0 _ _ _ _ _ _
  · show ((T 0).2.2 || s.2.2 || (T 2).2.2 || (T 3).2.2 || (T 4).2.2) = _
    rw [e]; exact mt_bo1 _ _ _ _ _ _
  · show ((T 0).2.2 || (T 1).2.2 || s.2.2 || (T 3).2.2 || (T 4).2.2) = _
    rw [e]; exact mt_bo2 _ _ _ _ _ _
  · show ((T 0).2.2 || (T 1).2.2 || (T 2).2.2 || s.2.2 || (T 4).2.2) = _
    rw [e]; exact mt_bo3 _ _ _ _ _ _
  · show ((T 0).2.2 || (T 1).2.2 || (T 2).2.2 || (T 3).2.2 || s.2.2) = _
    rw [e]; exact mt_bo4 _ _ _ _ _ _
section
variable {fs k f4 f5 : Int32} {ad am ao : Nat → Int32} {β : Nat → Bool} {v a c q : Nat}
theorem mt_fr {post : Int32 → SY → Prop} (hc : c < 5) (hq : q = 2 ∨ q = 3) (h : post (mt_i (β c != decide (q = 3))) (fs, mt_m β, k, f4, f5, ad, am, ao)) : wpY_fails post (fs, mt_m β, k, f4, f5, ad, am, ao) (nI q) (nI c) := by
  rcases hq with rfl | rfl
  · refine br_t (by decide) (mt_bit hc ?_)
    cases hb : β c
    · rw [hb] at h
      exact br_t (by decide) h
    · rw [hb] at h
      exact br_f (by decide) h
  · refine br_t (by decide) (mt_bit hc ?_)
    cases hb : β c
    · rw [hb] at h
      exact br_f (by decide) h
    · rw [hb] at h
      exact br_t (by decide) h
/-- an operation at the fault's cell -/
theorem mt_yown {post : Int32 → SY → Prop} (hk : mt_K k) (hv : v < 5) (ha : a < 5) (hva : 4 ≤ k → a ≠ v) (hq : q ≤ 3) {f b o fp : Bool} {T : Nat → mt_S} (I : mt_inv k v a β f ((b, o, fp), T)) (h : ∀ (β' : Nat → Bool) (g : Bool), mt_inv k v a β' (g || f) (mt_f k true (b, o, fp) q, T) → post (mt_i g) (fs, mt_m β', k, nI v, nI a, ad, am, ao)) : wpY_fails post (fs, mt_m β, k, nI v, nI a, ad, am, ao) (nI q) (nI v) := by
  obtain ⟨i1, i2, i3, i4, i5⟩ := I
  dsimp only at i1 i2 i3 i4 i5
  have ew : ∀ x, mt_wo k (β v) (β a) x = mt_wo k b o x := by
    intro x
    by_cases h4 : k < 4
    · rw [i1]; exact mt_h4 hk h4 _ _ _
    · rw [i1, i2 (Int32.not_lt.mp h4)]
  have iw : ∀ x, mt_inv k v a (mt_ub β v (mt_wo k (β v) (β a) x)) (false || f) ((mt_wo k b o x, o, fp), T) := by
    intro x
    refine ⟨?_, fun h4 => ?_, fun c' h1 h2 => ?_, mt_hh hk _ _, i5⟩
    · rw [mt_ub_s, ew]
    · rw [mt_ub_n (hva h4)]; exact i2 h4
    · rw [mt_ub_n h1]; exact i3 c' h1 h2
  have ir : ∀ y, mt_inv k v a β ((β v != y) || f) ((b, o, fp || (b != y)), T) := by
    intro y
    refine ⟨i1, i2, i3, i4, ?_⟩
    rw [i1, i5]
    exact mt_bo _ _ _
  rcases (by omega : q = 0 ∨ q = 1 ∨ q = 2 ∨ q = 3) with rfl | rfl | rfl | rfl
  · exact br_f (by decide) (mt_wown hk hv ha (fun h4 e => hva h4 e.symm) false (h _ false (iw false)))
  · exact br_f (by decide) (mt_wown hk hv ha (fun h4 e => hva h4 e.symm) true (h _ false (iw true)))
  · exact mt_fr hv (Or.inl rfl) (h β _ (ir _))
  · exact mt_fr hv (Or.inr rfl) (h β _ (ir _))
/-- an operation at the other cell -/
theorem mt_yoth {post : Int32 → SY → Prop} (hk : mt_K k) (h4 : 4 ≤ k) (hv : v < 5) (ha : a < 5) (hav : a ≠ v) (hq : q ≤ 3) {f b o fp : Bool} {T : Nat → mt_S} (I : mt_inv k v a β f ((b, o, fp), T)) (h : ∀ (β' : Nat → Bool) (g : Bool), mt_inv k v a β' (g || f) (mt_f k false (b, o, fp) q, T) → post (mt_i g) (fs, mt_m β', k, nI v, nI a, ad, am, ao)) : wpY_fails post (fs, mt_m β, k, nI v, nI a, ad, am, ao) (nI q) (nI a) := by
  obtain ⟨i1, i2, i3, i4, i5⟩ := I
  dsimp only at i1 i2 i3 i4 i5
  have i2' := i2 h4
  have iw : ∀ x, mt_inv k v a (mt_ub (mt_ub β a x) v (mt_wa k (β v) (β a) x)) (false || f) ((mt_wa k b o x, x, fp), T) := by
    intro x
    refine ⟨?_, fun _ => ?_, fun c' h1 h2 => ?_, mt_hh hk _ _, i5⟩
    · rw [mt_ub_s, i1, i2']
    · rw [mt_ub_n hav, mt_ub_s]
    · rw [mt_ub_n h1, mt_ub_n (h2 h4)]; exact i3 c' h1 h2
  have ir : ∀ y, mt_inv k v a β ((β a != y) || f) ((b, o, fp || (o != y)), T) := by
    intro y
    refine ⟨i1, i2, i3, i4, ?_⟩
    rw [i2', i5]
    exact mt_bo _ _ _
  rcases (by omega : q = 0 ∨ q = 1 ∨ q = 2 ∨ q = 3) with rfl | rfl | rfl | rfl
  · exact br_f (by decide) (mt_woth hk h4 hv ha hav false (h _ false (iw false)))
  · exact br_f (by decide) (mt_woth hk h4 hv ha hav true (h _ false (iw true)))
  · exact mt_fr ha (Or.inl rfl) (h β _ (ir _))
  · exact mt_fr ha (Or.inr rfl) (h β _ (ir _))
/-- an operation at a third cell -/
theorem mt_ythird {post : Int32 → SY → Prop} (hk : mt_K k) (hv : v < 5) (ha : a < 5) (hc : c < 5) (hcv : c ≠ v) (hca : 4 ≤ k → c ≠ a) (hq : q ≤ 3) {f b o fp : Bool} {T : Nat → mt_S} (I : mt_inv k v a β f ((b, o, fp), T)) (h : ∀ (β' : Nat → Bool) (g : Bool), mt_inv k v a β' (g || f) ((b, o, fp), mt_us T c (mt_f (-1) true (T c) q)) → post (mt_i g) (fs, mt_m β', k, nI v, nI a, ad, am, ao)) : wpY_fails post (fs, mt_m β, k, nI v, nI a, ad, am, ao) (nI q) (nI c) := by
  obtain ⟨i1, i2, i3, i4, i5⟩ := I
  dsimp only at i1 i2 i3 i4 i5
  have hs : mt_h k (β v) (β a) = β v := by
    by_cases h4 : k < 4
    · rw [i1, mt_h4 hk h4 _ _ o]; exact i4
    · rw [i1, i2 (Int32.not_lt.mp h4)]; exact i4
  have iw : ∀ x o', mt_inv k v a (mt_ub β c x) (false || f) ((b, o, fp), mt_us T c (x, o', (T c).2.2)) := by
    intro x o'
    refine ⟨?_, fun h4 => ?_, fun c' h1 h2 => ?_, i4, ?_⟩
    · rw [mt_ub_n (fun e => hcv e.symm)]; exact i1
    · rw [mt_ub_n (fun e => hca h4 e.symm)]; exact i2 h4
    · by_cases e : c' = c
      · subst e
        rw [mt_ub_s]
        show _ = (mt_us T c' _ c').1
        rw [mt_us_s]
      · rw [mt_ub_n e]
        show _ = (mt_us T c _ c').1
        rw [mt_us_n e]; exact i3 c' h1 h2
    · show (false || f) = (fp || mt_any (mt_us T c (x, o', (T c).2.2)))
      rw [mt_any_us T hc (x, o', (T c).2.2) false (Bool.or_false _).symm]
      exact i5
  have ir : ∀ y, mt_inv k v a β ((β c != y) || f) ((b, o, fp), mt_us T c ((T c).1, (T c).2.1, (T c).2.2 || ((T c).1 != y))) := by
    intro y
    refine ⟨i1, i2, fun c' h1 h2 => ?_, i4, ?_⟩
    · by_cases e : c' = c
      · subst e
        show _ = (mt_us T c' _ c').1
        rw [mt_us_s]; exact i3 c' h1 h2
      · show _ = (mt_us T c _ c').1
        rw [mt_us_n e]; exact i3 c' h1 h2
    · show ((β c != y) || f) = (fp || mt_any (mt_us T c ((T c).1, (T c).2.1, (T c).2.2 || ((T c).1 != y))))
      rw [mt_any_us T hc ((T c).1, (T c).2.1, (T c).2.2 || ((T c).1 != y)) ((T c).1 != y) rfl, i3 c hcv hca, i5]
      exact mt_bo' _ _ _
  rcases (by omega : q = 0 ∨ q = 1 ∨ q = 2 ∨ q = 3) with rfl | rfl | rfl | rfl
  · exact br_f (by decide) (mt_wthird hk hv ha hc hcv hca false hs (h _ false (iw false _)))
  · exact br_f (by decide) (mt_wthird hk hv ha hc hcv hca true hs (h _ false (iw true _)))
  · exact mt_fr hc (Or.inl rfl) (h β _ (ir _))
  · exact mt_fr hc (Or.inr rfl) (h β _ (ir _))
theorem mt_ystep {post : Int32 → SY → Prop} (hk : mt_K k) (hv : v < 5) (ha : a < 5) (hva : 4 ≤ k → a ≠ v) (hc : c < 5) (hq : q ≤ 3) {f : Bool} {s : mt_P} (I : mt_inv k v a β f s) (h : ∀ (β' : Nat → Bool) (g : Bool), mt_inv k v a β' (g || f) (mt_st k v a s c q) → post (mt_i g) (fs, mt_m β', k, nI v, nI a, ad, am, ao)) : wpY_fails post (fs, mt_m β, k, nI v, nI a, ad, am, ao) (nI q) (nI c) := by
  obtain ⟨⟨b, o, fp⟩, T⟩ := s
  unfold mt_st at h
  by_cases hcv : c = v
  · rw [if_pos hcv] at h
    rw [hcv]
    exact mt_yown hk hv ha hva hq I h
  · rw [if_neg hcv] at h
    by_cases hca : 4 ≤ k ∧ c = a
    · rw [if_pos hca] at h
      rw [hca.2]
      exact mt_yoth hk hca.1 hv ha (hva hca.1) hq I h
    · rw [if_neg hca] at h
      exact mt_ythird hk hv ha hc hcv (fun h4 e => hca ⟨h4, e⟩) hq I h
end
end
section
/-! Y: a march, a run -/
def mt_ce (d : Bool) (z t : Nat) : Nat := if d = true then 4 - t / z else t / z
def mt_ev (D : Nat → Bool) (Z O : Nat → Nat) (k : Int32) (v a m : Nat) (s : mt_P) (t : Nat) : mt_P := mt_st k v a s (mt_ce (D m) (Z m) t) (O (4 * m + t % Z m))
section
variable {c : Nat} {w k : Int32} {D : Nat → Bool} {Z O : Nat → Nat} {β : Nat → Bool} {v a : Nat}
theorem mt_ce5 (d : Bool) {z t : Nat} (h : t < 5 * z) : mt_ce d z t < 5 := by
  have h1 : t / z < 5 := Nat.div_lt_of_lt_mul (by rw [Nat.mul_comm]; exact h)
  unfold mt_ce
  by_cases hd : d = true
  · rw [if_pos hd]; exact Nat.lt_of_le_of_lt (Nat.sub_le _ _) (by decide)
  · rw [if_neg hd]; exact h1
theorem mt_82 {post : Int32 → SY → Prop} {J14 J26 : Int32 → Int32 → Int32 → Int32 → Int32 → Int32 → Int32 → (Nat → Int32) → (Nat → Int32) → (Nat → Int32) → Prop} (hk : mt_K k) (hv : v < 5) (ha : a < 5) (hva : 4 ≤ k → a ≠ v) (hZ : ∀ j, Z j ≤ 4) (hO : ∀ j, O j ≤ 3) {m t x : Nat} (hm : m < 6) (ht : t < 5 * Z m) (hx : x < 5) {f : Bool} {s : mt_P} (I : mt_inv k v a β f s) (h : ∀ (β' : Nat → Bool) (f' : Bool), mt_inv k v a β' f' (mt_st k v a s x (O (4 * m + t % Z m))) → J26 (mt_i f') (nI (t + 1)) (nI c) (mt_m β') k (nI v) (nI a) (mt_D D) (mt_N Z) (mt_N O)) : wY_run_82 post J14 J26 w (mt_i f) (nI m) (nI t) (nI x) (nI c) (mt_m β) k (nI v) (nI a) (mt_D D) (mt_N Z) (mt_N O) := by
  have hz := hZ m
  have hz0 : 0 < Z m := by omega
  have hr : t % Z m < Z m := Nat.mod_lt _ hz0
  have eix : 4 * nI m + (nI t - nI t / mt_N Z (nI m).toNatClampNeg * mt_N Z (nI m).toNatClampNeg) = nI (4 * m + t % Z m) := by
    rw [mt_N_at Z (by omega), pk_rem (by omega) hz0 (by omega), show (4 : Int32) = nI 4 from rfl, pk_mul, nI_add]
  refine And.intro (vp_in_nI hm (by decide)) (And.intro ?_ (And.intro ?_ ?_))
  · rw [mt_N_at Z (by omega)]; exact nI_ne0 hz0 (by omega)
  · rw [eix]; exact vp_in_nI (by omega) (by decide)
  · rw [eix, mt_N_at O (by omega)]
    refine mt_ystep hk hv ha hva hx (hO _) I ?_
    intro β' g I'
    have h' := h β' (g || f) I'
    cases g
    · refine br_t rfl ?_
      cases f
      · exact br_t rfl (nm_r (nI_1 t) h')
      · exact br_f (by decide) (nm_r (nI_1 t) h')
    · exact br_f (by decide) (nm_r (nI_1 t) h')
theorem mt_26s {post : Int32 → SY → Prop} {J : Int32 → Int32 → Int32 → Int32 → Int32 → Int32 → Int32 → (Nat → Int32) → (Nat → Int32) → (Nat → Int32) → Prop} (hk : mt_K k) (hv : v < 5) (ha : a < 5) (hva : 4 ≤ k → a ≠ v) (hZ : ∀ j, Z j ≤ 4) (hO : ∀ j, O j ≤ 3) {m t n : Nat} (hm : m < 6) (hw : ¬ nI m = w) (ht : t < 5 * Z m) {f : Bool} {s : mt_P} (I : mt_inv k v a β f s) (h : ∀ (β' : Nat → Bool) (f' : Bool), mt_inv k v a β' f' (mt_ev D Z O k v a m s t) → wY_run_26 post J w (nI m) n (mt_i f') (nI (t + 1)) (nI c) (mt_m β') k (nI v) (nI a) (mt_D D) (mt_N Z) (mt_N O)) : wY_run_26 post J w (nI m) (n + 1) (mt_i f) (nI t) (nI c) (mt_m β) k (nI v) (nI a) (mt_D D) (mt_N Z) (mt_N O) := by
  have hz := hZ m
  have hz0 : 0 < Z m := by omega
  have hin : vp_in (nI m) 6 := vp_in_nI hm (by decide)
  have h1 : t / Z m < 5 := Nat.div_lt_of_lt_mul (by rw [Nat.mul_comm]; exact ht)
  have hne : ¬ mt_N Z (nI m).toNatClampNeg = 0 := by rw [mt_N_at Z (by omega)]; exact nI_ne0 hz0 (by omega)
  refine And.intro hin (br_f ?_ (br_f hw (And.intro hin ?_)))
  · rw [mt_N_at Z (by omega), show (5 : Int32) = nI 5 from rfl, pk_mul]
    exact nI_ge ht (by omega)
  · have h5 := mt_ce5 (D m) ht
    unfold mt_ev at h
    have key := mt_82 (post := post) (J14 := J) (w := w) (c := c) (D := D) hk hv ha hva hZ hO hm ht h5 I h
    rw [mt_D_at D (by omega)]
    unfold mt_ce at key
    cases hd : D m
    · rw [hd, if_neg Bool.false_ne_true] at key
      refine br_f (by decide) (And.intro hin (And.intro hne ?_))
      rw [show nI t / mt_N Z (nI m).toNatClampNeg = nI (t / Z m) by rw [mt_N_at Z (by omega), pk_div (by omega) hz0 (by omega)]]
      exact key
    · rw [hd, if_pos rfl] at key
      refine br_t rfl (And.intro hin (And.intro hne ?_))
      rw [show 4 - nI t / mt_N Z (nI m).toNatClampNeg = nI (4 - t / Z m) by rw [mt_N_at Z (by omega), pk_div (by omega) hz0 (by omega), show (4 : Int32) = nI 4 from rfl, pk_sub (by omega)]]
      exact key
theorem mt_26 {post : Int32 → SY → Prop} {J : Int32 → Int32 → Int32 → Int32 → Int32 → Int32 → Int32 → (Nat → Int32) → (Nat → Int32) → (Nat → Int32) → Prop} (hk : mt_K k) (hv : v < 5) (ha : a < 5) (hva : 4 ≤ k → a ≠ v) (hZ : ∀ j, Z j ≤ 4) (hO : ∀ j, O j ≤ 3) {m : Nat} (hm : m < 6) (hw : ¬ nI m = w) {f : Bool} {s : mt_P} (I : mt_inv k v a β f s) (h : ∀ (β' : Nat → Bool) (f' : Bool), mt_inv k v a β' f' (mt_it (mt_ev D Z O k v a m) (5 * Z m) 0 s) → J (mt_i f') (nI (m + 1)) (nI c) (mt_m β') k (nI v) (nI a) (mt_D D) (mt_N Z) (mt_N O)) : ∃ n, wY_run_26 post J w (nI m) n (mt_i f) 0 (nI c) (mt_m β) k (nI v) (nI a) (mt_D D) (mt_N Z) (mt_N O) := by
  have hz := hZ m
  refine Exists.intro (5 * Z m + 1) ?_
  refine mt_lp (fun n t s => ∀ (β : Nat → Bool) (f : Bool), mt_inv k v a β f s → wY_run_26 post J w (nI m) n (mt_i f) (nI t) (nI c) (mt_m β) k (nI v) (nI a) (mt_D D) (mt_N Z) (mt_N O)) (mt_ev D Z O k v a m) (5 * Z m) (fun n i s hi hW β f I => mt_26s hk hv ha hva hZ hO hm hw hi I hW) (5 * Z m) (5 * Z m + 1) 0 s (by omega) (by omega) ?_ β f I
  intro n β' f' I'
  refine And.intro (vp_in_nI hm (by decide)) (br_t ?_ (nm_r (nI_1 m) (h β' f' I')))
  rw [mt_N_at Z (by omega), show (5 : Int32) = nI 5 from rfl, pk_mul]
  exact nI_le (Nat.le_refl _) (by omega)
theorem mt_26w {post : Int32 → SY → Prop} {J : Int32 → Int32 → Int32 → Int32 → Int32 → Int32 → Int32 → (Nat → Int32) → (Nat → Int32) → (Nat → Int32) → Prop} {m : Nat} (hm : m < 6) (hw : nI m = w) {x3 fM f4 f5 : Int32} (h : J x3 (nI (m + 1)) (nI c) fM k f4 f5 (mt_D D) (mt_N Z) (mt_N O)) : ∃ n, wY_run_26 post J w (nI m) n x3 0 (nI c) fM k f4 f5 (mt_D D) (mt_N Z) (mt_N O) :=
  Exists.intro 1 (And.intro (vp_in_nI hm (by decide)) (br_c (fun _ => nm_r (nI_1 m) h) (fun _ => br_t hw (nm_r (nI_1 m) h))))
end
/-- a visit of one cell, in the split state -/
def mt_C (Z O : Nat → Nat) (k : Int32) (v a m : Nat) (x : Nat) (s : mt_P) : mt_P :=
  if x = v then (mt_vis k true Z O m s.1, s.2)
  else if 4 ≤ k ∧ x = a then (mt_vis k false Z O m s.1, s.2)
  else (s.1, mt_us s.2 x (mt_vis (-1) true Z O m (s.2 x)))
theorem mt_cv (O : Nat → Nat) (k : Int32) (v a m x : Nat) : ∀ (d j : Nat) (s : mt_P), mt_it (fun s j => mt_st k v a s x (O (4 * m + j))) d j s = if x = v then (mt_it (fun s j => mt_f k true s (O (4 * m + j))) d j s.1, s.2) else if 4 ≤ k ∧ x = a then (mt_it (fun s j => mt_f k false s (O (4 * m + j))) d j s.1, s.2) else (s.1, mt_us s.2 x (mt_it (fun s j => mt_f (-1) true s (O (4 * m + j))) d j (s.2 x))) := by
  intro d
  induction d with
  | zero =>
    intro j s
    by_cases h1 : x = v
    · rw [if_pos h1]; rfl
    · rw [if_neg h1]
      by_cases h2 : 4 ≤ k ∧ x = a
      · rw [if_pos h2]; rfl
      · rw [if_neg h2]
        show s = (s.1, mt_us s.2 x (s.2 x))
        rw [mt_us_self]
  | succ d ih =>
    intro j s
    rw [mt_it_s, ih]
    by_cases h1 : x = v
    · rw [if_pos h1, if_pos h1, show mt_st k v a s x (O (4 * m + j)) = (mt_f k true s.1 (O (4 * m + j)), s.2) from if_pos h1]
      rfl
    · rw [if_neg h1, if_neg h1]
      by_cases h2 : 4 ≤ k ∧ x = a
      · rw [if_pos h2, if_pos h2, show mt_st k v a s x (O (4 * m + j)) = (mt_f k false s.1 (O (4 * m + j)), s.2) from (if_neg h1).trans (if_pos h2)]
        rfl
      · rw [if_neg h2, if_neg h2, show mt_st k v a s x (O (4 * m + j)) = (s.1, mt_us s.2 x (mt_f (-1) true (s.2 x) (O (4 * m + j)))) from (if_neg h1).trans (if_neg h2)]
        show (s.1, mt_us (mt_us s.2 x (mt_f (-1) true (s.2 x) (O (4 * m + j)))) x (mt_it _ d (j + 1) (mt_us s.2 x (mt_f (-1) true (s.2 x) (O (4 * m + j))) x))) = _
        rw [mt_us_us, mt_us_s]
        rfl
theorem mt_ev1 (D : Nat → Bool) (Z O : Nat → Nat) (k : Int32) (v a m i b : Nat) (s : mt_P) (hb : b = i * Z m) : mt_it (mt_ev D Z O k v a m) (Z m) b s = mt_C Z O k v a m (if D m = true then 4 - i else i) s := by
  have e := mt_it_shift (mt_ev D Z O k v a m) b (Z m) 0 s
  rw [Nat.add_zero] at e
  rw [e]
  have e2 : mt_it (fun s j => mt_ev D Z O k v a m s (b + j)) (Z m) 0 s = mt_it (fun s j => mt_st k v a s (if D m = true then 4 - i else i) (O (4 * m + j))) (Z m) 0 s := by
    apply mt_it_congr
    intro j s _ hj
    rw [Nat.zero_add] at hj
    have hz : 0 < Z m := by omega
    have e3 : (b + j) / Z m = i := by
      rw [hb, Nat.mul_comm, Nat.mul_add_div hz, Nat.div_eq_of_lt hj, Nat.add_zero]
    have e4 : (b + j) % Z m = j := by
      rw [hb, Nat.mul_comm, Nat.mul_add_mod, Nat.mod_eq_of_lt hj]
    show mt_st k v a s (if D m = true then 4 - (b + j) / Z m else (b + j) / Z m) (O (4 * m + (b + j) % Z m)) = _
    rw [e3, e4]
  rw [e2]
  exact mt_cv O k v a m _ (Z m) 0 s
theorem mt_ev5 (D : Nat → Bool) (Z O : Nat → Nat) (k : Int32) (v a m : Nat) (s : mt_P) : mt_it (mt_ev D Z O k v a m) (5 * Z m) 0 s = mt_C Z O k v a m (if D m = true then 0 else 4) (mt_C Z O k v a m (if D m = true then 1 else 3) (mt_C Z O k v a m 2 (mt_C Z O k v a m (if D m = true then 3 else 1) (mt_C Z O k v a m (if D m = true then 4 else 0) s)))) := by
  have h2 : (if D m = true then 4 - 2 else 2) = 2 := by cases D m <;> rfl
  have e0 := mt_ev1 D Z O k v a m 0 0 s (by omega)
  have e1 := fun s => mt_ev1 D Z O k v a m 1 (0 + Z m) s (by omega)
  have e2 := fun s => mt_ev1 D Z O k v a m 2 (0 + Z m + Z m) s (by omega)
  have e3 := fun s => mt_ev1 D Z O k v a m 3 (0 + Z m + Z m + Z m) s (by omega)
  have e4 := fun s => mt_ev1 D Z O k v a m 4 (0 + Z m + Z m + Z m + Z m) s (by omega)
  rw [show 5 * Z m = Z m + (Z m + (Z m + (Z m + Z m))) by omega, mt_it_add, mt_it_add, mt_it_add, mt_it_add, e0, e1, e2, e3, e4, h2]
theorem mt_march5 (D : Nat → Bool) (Z O : Nat → Nat) {w k : Int32} {v a m : Nat} (hv : v < 5) (ha : a < 5) (hva : 4 ≤ k → a ≠ v) (hw : ¬ nI m = w) (s : mt_P) : (mt_it (mt_ev D Z O k v a m) (5 * Z m) 0 s).1 = mt_mX D Z O w k (decide (v < a)) s.1 m ∧ ∀ i, i < 5 → (mt_it (mt_ev D Z O k v a m) (5 * Z m) 0 s).2 i = if i ≠ v ∧ (4 ≤ k → i ≠ a) then mt_vis (-1) true Z O m (s.2 i) else s.2 i := by
  rw [mt_ev5]
  unfold mt_mX
  rw [if_neg hw]
  by_cases h4 : k < 4
  · have h4' : ¬ (4 : Int32) ≤ k := Int32.not_le.mpr h4
    constructor
    · cases D m <;> rcases mt_c5 hv with rfl | rfl | rfl | rfl | rfl <;> simp [mt_C, h4, h4']
    · intro i hi
      rcases mt_c5 hi with rfl | rfl | rfl | rfl | rfl <;> cases D m <;> rcases mt_c5 hv with rfl | rfl | rfl | rfl | rfl <;> simp [mt_C, mt_us, h4, h4']
  · have h4' : (4 : Int32) ≤ k := Int32.not_lt.mp h4
    have hne := hva h4'
    constructor
    · cases D m <;> rcases mt_c5 hv with rfl | rfl | rfl | rfl | rfl <;> rcases mt_c5 ha with rfl | rfl | rfl | rfl | rfl <;> first | exact absurd rfl hne | simp [mt_C, h4, h4']
    · intro i hi
      rcases mt_c5 hi with rfl | rfl | rfl | rfl | rfl <;> cases D m <;> rcases mt_c5 hv with rfl | rfl | rfl | rfl | rfl <;> rcases mt_c5 ha with rfl | rfl | rfl | rfl | rfl <;> first | exact absurd rfl hne | simp [mt_C, mt_us, h4, h4']
section
variable {c : Nat} {w k : Int32} {D : Nat → Bool} {Z O : Nat → Nat} {v a : Nat}
theorem mt_14 {post : Int32 → SY → Prop} (hk : mt_K k) (hv : v < 5) (ha : a < 5) (hva : 4 ≤ k → a ≠ v) (hc : c ≤ 6) (hZ : ∀ j, Z j ≤ 4) (hO : ∀ j, O j ≤ 3) : ∀ (d n m : Nat) (β : Nat → Bool) (f : Bool) (s : mt_P), m + d = c → d < n → mt_inv k v a β f s → (∀ (β' : Nat → Bool) (f' : Bool) (s' : mt_P), mt_inv k v a β' f' s' → s'.1 = mt_it (mt_mX D Z O w k (decide (v < a))) d m s.1 → (∀ i, i < 5 → s'.2 i = if i ≠ v ∧ (4 ≤ k → i ≠ a) then mt_it (mt_mX D Z O w (-1) true) d m (s.2 i) else s.2 i) → post (mt_i f') (nI c, mt_m β', k, nI v, nI a, mt_D D, mt_N Z, mt_N O)) → wY_run_14 post w n (mt_i f) (nI m) (nI c) (mt_m β) k (nI v) (nI a) (mt_D D) (mt_N Z) (mt_N O) := by
  intro d
  induction d with
  | zero =>
    intro n m β f s hm hn I h
    obtain ⟨n, rfl⟩ : ∃ m, n = m + 1 := ⟨n - 1, by omega⟩
    refine br_t (nI_le (by omega) (by omega)) (And.intro (mt_nar f) (h β f s I rfl ?_))
    intro i _
    split <;> rfl
  | succ d ih =>
    intro n m β f s hm hn I h
    obtain ⟨n, rfl⟩ : ∃ m, n = m + 1 := ⟨n - 1, by omega⟩
    have h6 : m < 6 := by omega
    refine br_f (nI_ge (by omega) (by omega)) ?_
    by_cases hw : nI m = w
    · refine mt_26w h6 hw (ih n (m + 1) β f s (by omega) (by omega) I ?_)
      intro β' f' s' I' e1 e2
      refine h β' f' s' I' ?_ ?_
      · rw [e1, mt_it_s, show mt_mX D Z O w k (decide (v < a)) s.1 m = s.1 from if_pos hw]
      · intro i hi
        rw [e2 i hi, mt_it_s, show mt_mX D Z O w (-1) true (s.2 i) m = s.2 i from if_pos hw]
    · obtain ⟨m1, m2⟩ := mt_march5 D Z O hv ha hva hw s
      refine mt_26 hk hv ha hva hZ hO h6 hw I ?_
      intro β' f' I'
      refine ih n (m + 1) β' f' _ (by omega) (by omega) I' ?_
      intro β'' f'' s'' I'' e1 e2
      refine h β'' f'' s'' I'' ?_ ?_
      · rw [e1, mt_it_s, m1]
      · intro i hi
        rw [e2 i hi, m2 i hi, mt_it_s, show mt_mX D Z O w (-1) true (s.2 i) m = mt_vis (-1) true Z O m (s.2 i) from (if_neg hw).trans (if_pos (by decide))]
        by_cases hcond : i ≠ v ∧ (4 ≤ k → i ≠ a)
        · rw [if_pos hcond, if_pos hcond, if_pos hcond]
        · rw [if_neg hcond, if_neg hcond, if_neg hcond]
end
/-- the run as the reference does it: the pair, or some third cell -/
def mt_tf (S : Bool → Bool) (pr : Bool) (v a F i : Nat) : Bool := (!(i == v) && (!pr || !(i == a))) && S (F.testBit i)
def mt_R (P : Bool → Bool → Bool) (S : Bool → Bool) (pr : Bool) (v a F : Nat) : Bool :=
  P (F.testBit v) (pr && F.testBit a) || (mt_tf S pr v a F 0 || mt_tf S pr v a F 1 || mt_tf S pr v a F 2 || mt_tf S pr v a F 3 || mt_tf S pr v a F 4)
section
variable {c : Nat} {w k : Int32} {D : Nat → Bool} {Z O : Nat → Nat} {v a : Nat}
theorem mt_tfE (S : Bool → Bool) (F i : Nat) (x : mt_S) (hx : x.2.2 = S (F.testBit i)) (y : mt_S) (hy : y.2.2 = false) : (if i ≠ v ∧ (4 ≤ k → i ≠ a) then x else y).2.2 = mt_tf S (decide (4 ≤ k)) v a F i := by
  unfold mt_tf
  by_cases h1 : i = v
  · rw [if_neg (fun e => e.1 h1), hy]; simp [h1]
  · by_cases h4 : 4 ≤ k
    · by_cases h2 : i = a
      · rw [if_neg (fun e => e.2 h4 h2), hy]; simp [h4, h2]
      · rw [if_pos ⟨h1, fun _ => h2⟩, hx]; simp [h1, h2]
    · rw [if_pos ⟨h1, fun e => absurd e h4⟩, hx]; simp [h1, h4]
theorem mt_run {post : Int32 → SY → Prop} (hk : mt_K k) (hv : v < 5) (ha : a < 5) (hva : 4 ≤ k → a ≠ v) (hc : c ≤ 6) (hZ : ∀ j, Z j ≤ 4) (hO : ∀ j, O j ≤ 3) {F : Nat} (hF : F < 32) {mem : Int32} (h : ∀ mem' : Int32, post (mt_i (mt_R (fun b o => mt_F c D Z O w k (decide (v < a)) b o) (fun b => mt_F c D Z O w (-1) true b false) (decide (4 ≤ k)) v a F)) (nI c, mem', k, nI v, nI a, mt_D D, mt_N Z, mt_N O)) : wpY_run post (nI c, mem, k, nI v, nI a, mt_D D, mt_N Z, mt_N O) (nI F) w := by
  show wpY_settle _ (nI c, nI F, k, nI v, nI a, mt_D D, mt_N Z, mt_N O)
  rw [mt_fl F hF]
  refine mt_settle hk hv ha (Exists.intro (c + 1) ?_)
  have eo : mt_h k (F.testBit v) (F.testBit a) = mt_h k (F.testBit v) (decide (4 ≤ k) && F.testBit a) := by
    by_cases h4 : 4 ≤ k
    · rw [decide_eq_true h4, Bool.true_and]
    · exact mt_h4 hk (Int32.not_le.mp h4) _ _ _
  refine mt_14 hk hv ha hva hc hZ hO c (c + 1) 0 _ false ((mt_h k (F.testBit v) (decide (4 ≤ k) && F.testBit a), (decide (4 ≤ k) && F.testBit a), false), fun i => (F.testBit i, false, false)) (by omega) (by omega) ?_ ?_
  · refine ⟨?_, fun h4 => ?_, fun c' h1 h2 => ?_, mt_hh hk _ _, rfl⟩
    · rw [mt_ub_s]; exact eo
    · rw [mt_ub_n (hva h4)]
      show F.testBit a = (decide (4 ≤ k) && F.testBit a)
      rw [decide_eq_true h4, Bool.true_and]
    · rw [mt_ub_n h1]
  · intro β' f' s' I' e1 e2
    have hf := I'.2.2.2.2
    have h' := h (mt_m β')
    have eR : f' = mt_R (fun b o => mt_F c D Z O w k (decide (v < a)) b o) (fun b => mt_F c D Z O w (-1) true b false) (decide (4 ≤ k)) v a F := by
      have et : ∀ i, i < 5 → (s'.2 i).2.2 = mt_tf (fun b => mt_F c D Z O w (-1) true b false) (decide (4 ≤ k)) v a F i := by
        intro i hi
        rw [e2 i hi]
        exact mt_tfE (fun b => mt_F c D Z O w (-1) true b false) F i _ rfl _ rfl
      rw [hf, e1]
      unfold mt_R mt_any
      rw [et 0 (by decide), et 1 (by decide), et 2 (by decide), et 3 (by decide), et 4 (by decide)]
      rfl
    rw [eR]
    exact h'
end
end
section
/-! Y: count = 32 - silent -/
def mt_cn (P : Bool → Bool → Bool) (S : Bool → Bool) (pr : Bool) (v a : Nat) : Nat := mt_it (fun n F => if mt_R P S pr v a F = true then n + 1 else n) 32 0 0
def mt_pk2 (p0 p1 p2 p3 : Bool) (b o : Bool) : Bool := match b, o with
  | false, false => p0
  | true, false => p1
  | false, true => p2
  | true, true => p3
def mt_pk1 (p0 p1 : Bool) (b : Bool) : Bool := match b with
  | false => p0
  | true => p1
theorem mt_pk2E (P : Bool → Bool → Bool) : P = mt_pk2 (P false false) (P true false) (P false true) (P true true) := by
  funext b o
  cases b <;> cases o <;> rfl
theorem mt_pk1E (S : Bool → Bool) : S = mt_pk1 (S false) (S true) := by
  funext b
  cases b <;> rfl
set_option maxRecDepth 100000 in
theorem mt_cn1d : ∀ v, v < 5 → ∀ p0 p1 s0 s1 : Bool, mt_cn (mt_pk2 p0 p1 false false) (mt_pk1 s0 s1) false v 0 = 32 - (mt_sn p0 + mt_sn p1) * (mt_sn s0 + mt_sn s1) * (mt_sn s0 + mt_sn s1) * (mt_sn s0 + mt_sn s1) * (mt_sn s0 + mt_sn s1) := by decide +kernel
set_option maxRecDepth 100000 in
theorem mt_cn2d : ∀ v, v < 5 → ∀ a, a < 5 → a ≠ v → ∀ p0 p1 p2 p3 s0 s1 : Bool, mt_cn (mt_pk2 p0 p1 p2 p3) (mt_pk1 s0 s1) true v a = 32 - (mt_sn p0 + mt_sn p1 + mt_sn p2 + mt_sn p3) * (mt_sn s0 + mt_sn s1) * (mt_sn s0 + mt_sn s1) * (mt_sn s0 + mt_sn s1) := by decide +kernel
theorem mt_R1 (P : Bool → Bool → Bool) (S : Bool → Bool) (v a F : Nat) : mt_R P S false v a F = mt_R (mt_pk2 (P false false) (P true false) false false) (mt_pk1 (S false) (S true)) false v 0 F := by
  rw [← mt_pk1E]
  unfold mt_R mt_tf
  simp only [Bool.false_and, Bool.not_false, Bool.true_or, Bool.and_true]
  congr 1
  cases F.testBit v <;> rfl
theorem mt_cnE (c : Nat) (D : Nat → Bool) (Z O : Nat → Nat) (w k : Int32) {v a : Nat} (hv : v < 5) (ha : a < 5) (hva : 4 ≤ k → a ≠ v) : mt_cn (fun b o => mt_F c D Z O w k (decide (v < a)) b o) (fun b => mt_F c D Z O w (-1) true b false) (decide (4 ≤ k)) v a = 32 - mt_si c D Z O w k (decide (v < a)) := by
  unfold mt_si mt_n
  by_cases h4 : k < 4
  · rw [if_pos h4, if_pos h4, decide_eq_false (Int32.not_le.mpr h4)]
    have e : mt_cn (fun b o => mt_F c D Z O w k (decide (v < a)) b o) (fun b => mt_F c D Z O w (-1) true b false) false v a = mt_cn (mt_pk2 (mt_F c D Z O w k (decide (v < a)) false false) (mt_F c D Z O w k (decide (v < a)) true false) false false) (mt_pk1 (mt_F c D Z O w (-1) true false false) (mt_F c D Z O w (-1) true true false)) false v 0 := by
      unfold mt_cn
      apply mt_it_congr
      intro F n _ _
      rw [mt_R1]
    rw [e, mt_cn1d v hv]
    rfl
  · rw [if_neg h4, if_neg h4, decide_eq_true (Int32.not_lt.mp h4), mt_pk2E (fun b o => mt_F c D Z O w k (decide (v < a)) b o), mt_pk1E (fun b => mt_F c D Z O w (-1) true b false), mt_cn2d v hv a ha (hva (Int32.not_lt.mp h4))]
    rfl
section
variable {c : Nat} {w k : Int32} {D : Nat → Bool} {Z O : Nat → Nat} {v a : Nat}
theorem mt_count {post : Int32 → SY → Prop} (hk : mt_K k) (hv : v < 5) (ha : a < 5) (hva : 4 ≤ k → a ≠ v) (hc : c ≤ 6) (hZ : ∀ j, Z j ≤ 4) (hO : ∀ j, O j ≤ 3) {x1 x2 x3 x4 : Int32} (h : ∀ y1 y2 y3 y4 : Int32, post (nI (32 - mt_si c D Z O w k (decide (v < a)))) (nI c, y1, y2, y3, y4, mt_D D, mt_N Z, mt_N O)) : wpY_count post (nI c, x1, x2, x3, x4, mt_D D, mt_N Z, mt_N O) k (nI v) (nI a) w := by
  refine Exists.intro 33 ?_
  refine mt_lp (fun n i s => ∀ mem : Int32, wY_count_21 post w n (nI s) (nI i) (nI c) mem k (nI v) (nI a) (mt_D D) (mt_N Z) (mt_N O)) (fun n F => if mt_R (fun b o => mt_F c D Z O w k (decide (v < a)) b o) (fun b => mt_F c D Z O w (-1) true b false) (decide (4 ≤ k)) v a F = true then n + 1 else n) 32 ?_ 32 33 0 0 (by omega) (by omega) ?_ x1
  · intro n i s hi hW mem
    refine br_f (nI_ge (b := 32) hi (by decide)) (mt_run hk hv ha hva hc hZ hO hi ?_)
    intro mem'
    have hW' := hW mem'
    revert hW'
    cases mt_R (fun b o => mt_F c D Z O w k (decide (v < a)) b o) (fun b => mt_F c D Z O w (-1) true b false) (decide (4 ≤ k)) v a i
    · intro hW'
      exact br_t rfl (nm_r (nI_1 i) hW')
    · intro hW'
      exact br_f (by decide) (nm_r (nI_1 s) (nm_r (nI_1 i) hW'))
  · intro n mem
    have e := mt_cnE c D Z O w k hv ha hva
    unfold mt_cn at e
    refine br_t (nI_le (a := 32) (by decide) (by decide)) ?_
    rw [e]
    exact h _ _ _ _
end
theorem mt_bl {c : Nat} {D : Nat → Bool} {Z O : Nat → Nat} {w k : Int32} (h4 : k < 4) (b b' : Bool) : mt_si c D Z O w k b = mt_si c D Z O w k b' := by
  have e : ∀ x y, mt_F c D Z O w k b x y = mt_F c D Z O w k b' x y := by
    intro x y
    unfold mt_F mt_rX
    rw [mt_it_congr (g := mt_mX D Z O w k b) (h := mt_mX D Z O w k b')]
    intro m s _ _
    unfold mt_mX
    rw [if_pos h4, if_pos h4]
  unfold mt_si mt_n
  rw [e false false, e true false, e false true, e true true]
end
section
/-! faults, finds, foundFrom, sound, steps: lemmas for each side -/
theorem mt_gt {x : Int32} {n : Nat} (hn : n + 1 < 2 ^ 31) (h : nI (n + 1) ≤ x) : nI n < x := by
  rw [Int32.le_iff_toInt_le, nI_toInt hn] at h
  rw [Int32.lt_iff_toInt_lt, nI_toInt (by omega)]
  omega
theorem mt_yf0 {post : Int32 → Prop} {p0 p1 z0 a1 a2 a3 a4 a5 : Int32} {a6 a7 a8 : Nat → Int32} (hb : p0 < 0 ∨ 13 < p0 ∨ p1 < 0 ∨ 4 < p1) (h : post 0) : wY_fault_19 post p0 p1 z0 a1 a2 a3 a4 a5 a6 a7 a8 :=
  br_c (fun _ => h) (fun n1 => br_c (fun _ => h) (fun n2 => br_c (fun _ => h) (fun n3 => br_c (fun _ => h) (fun n4 => (hb.elim n1 (fun z => z.elim n2 (fun z => z.elim n3 n4))).elim))))
theorem mt_yf {post : Int32 → Prop} {p0 p1 p2 : Int32} {u : SY} (hb : p0 < 0 ∨ 13 < p0 ∨ p1 < 0 ∨ 4 < p1) (h : post 0) : wpY_fault post u p0 p1 p2 := by
  obtain ⟨a1, a2, a3, a4, a5, a6, a7, a8⟩ := u
  exact br_c (fun _ => mt_yf0 hb h) (fun _ => br_c (fun _ => mt_yf0 hb h) (fun _ => br_c (fun _ => mt_yf0 hb h) (fun _ => mt_yf0 hb h)))
theorem mt_xf {post : Int32 → Prop} {p0 p1 p2 : Int32} (hb : p0 < 0 ∨ 14 ≤ p0 ∨ p1 < 0 ∨ 5 ≤ p1) (h : post 0) : wpX_isFault post p0 p1 p2 :=
  br_c (fun _ => br_t rfl h) (fun n1 => br_c (fun _ => br_t rfl h) (fun n2 => br_c (fun _ => br_t rfl h) (fun n3 => br_c (fun _ => br_t rfl h) (fun n4 => (hb.elim n1 (fun z => z.elim n2 (fun z => z.elim n3 n4))).elim))))
theorem mt_yg {post : Int32 → Prop} {k v : Nat} (hk : k < 14) (hv : v < 5) (z : Bool) {a1 a2 a3 a4 a5 : Int32} {a6 a7 a8 : Nat → Int32} (h : post (mt_i (decide (k < 4) || z))) : wY_fault_19 post (nI k) (nI v) (mt_i z) a1 a2 a3 a4 a5 a6 a7 a8 := by
  refine br_f (nI_pos (by omega)) (br_f (nI_nlt (a := 13) (b := k) (by omega) (by decide)) (br_f (nI_pos (by omega)) (br_f (nI_nlt (a := 4) (b := v) (by omega) (by decide)) ?_)))
  by_cases h4 : k < 4
  · rw [decide_eq_true h4, Bool.true_or] at h
    exact br_t (nI_lt (b := 4) h4 (by decide)) h
  · rw [decide_eq_false h4, Bool.false_or] at h
    refine br_f (nI_nlt (a := k) (b := 4) (by omega) (by omega)) ?_
    cases z
    · exact br_t rfl h
    · exact br_f (by decide) h
theorem mt_yfn {post : Int32 → Prop} {k v a : Nat} {u : SY} (hk : k < 14) (hv : v < 5) (ha : a < 5) (h : post (mt_i (decide (k < 4) || decide (a ≠ v)))) : wpY_fault post u (nI k) (nI v) (nI a) := by
  obtain ⟨a1, a2, a3, a4, a5, a6, a7, a8⟩ := u
  refine br_f (nI_pos (by omega)) (br_f (nI_nlt (a := 4) (b := a) (by omega) (by omega)) ?_)
  by_cases e : a = v
  · rw [decide_eq_false (p := a ≠ v) (fun z => z e)] at h
    exact br_t (by rw [e]) (mt_yg hk hv false h)
  · rw [decide_eq_true (p := a ≠ v) e] at h
    exact br_f (fun z => e ((nI_eq (by omega) (by omega)).mp z)) (mt_yg hk hv true h)
theorem mt_yfb {post : Int32 → Prop} {k v : Nat} {u : SY} {p2 : Int32} (hk : k < 14) (hv : v < 5) (h2 : p2 < 0 ∨ 4 < p2) (h : post (mt_i (decide (k < 4)))) : wpY_fault post u (nI k) (nI v) p2 := by
  obtain ⟨a1, a2, a3, a4, a5, a6, a7, a8⟩ := u
  have h' : post (mt_i (decide (k < 4) || false)) := by rw [Bool.or_false]; exact h
  rcases h2 with h2 | h2
  · exact br_t h2 (mt_yg hk hv false h')
  · exact br_c (fun _ => mt_yg hk hv false h') (fun _ => br_t h2 (mt_yg hk hv false h'))
theorem mt_xg {post : Int32 → Prop} {k v : Nat} {p2 : Int32} (hk : k < 14) (hv : v < 5) (h : (k < 4 → post 1) ∧ (¬ k < 4 → ((p2 < 0 → post 0) ∧ (¬ p2 < 0 → ((5 ≤ p2 → post 0) ∧ (¬ 5 ≤ p2 → ((p2 = nI v → post 0) ∧ (¬ p2 = nI v → post 1)))))))) : wpX_isFault post (nI k) (nI v) p2 := by
  refine br_f (nI_pos (by omega)) (br_f (nI_ge (b := 14) hk (by decide)) (br_f (nI_pos (by omega)) (br_f (nI_ge (b := 5) hv (by decide)) (br_f (by decide) ?_))))
  by_cases h4 : k < 4
  · exact br_t (nI_lt (b := 4) h4 (by decide)) (h.1 h4)
  · exact br_f (nI_nlt (a := k) (b := 4) (by omega) (by omega)) (h.2 h4)
/-- a fault: both sides agree, and what a true answer says -/
theorem mt_flt (p0 p1 p2 : Int32) : ∃ r : Bool, (∀ post : Int32 → Prop, post (mt_i r) → wpX_isFault post p0 p1 p2) ∧ (∀ (post : Int32 → Prop) (u : SY), post (mt_i r) → wpY_fault post u p0 p1 p2) ∧ (r = true → ∃ k v : Nat, k < 14 ∧ v < 5 ∧ p0 = nI k ∧ p1 = nI v ∧ (4 ≤ k → ∃ a : Nat, a < 5 ∧ a ≠ v ∧ p2 = nI a)) := by
  rcases pk_ix p0 (n := 14) (by decide) with h | h | ⟨k, hk, rfl⟩
  · exact ⟨false, fun post hp => mt_xf (Or.inl h) hp, fun post u hp => mt_yf (Or.inl h) hp, fun z => absurd z (by decide)⟩
  · exact ⟨false, fun post hp => mt_xf (Or.inr (Or.inl h)) hp, fun post u hp => mt_yf (Or.inr (Or.inl (mt_gt (n := 13) (by decide) h))) hp, fun z => absurd z (by decide)⟩
  rcases pk_ix p1 (n := 5) (by decide) with h | h | ⟨v, hv, rfl⟩
  · exact ⟨false, fun post hp => mt_xf (Or.inr (Or.inr (Or.inl h))) hp, fun post u hp => mt_yf (Or.inr (Or.inr (Or.inl h))) hp, fun z => absurd z (by decide)⟩
  · exact ⟨false, fun post hp => mt_xf (Or.inr (Or.inr (Or.inr h))) hp, fun post u hp => mt_yf (Or.inr (Or.inr (Or.inr (mt_gt (n := 4) (by decide) h)))) hp, fun z => absurd z (by decide)⟩
  by_cases h4 : k < 4
  · refine ⟨true, fun post hp => mt_xg hk hv (br_t h4 hp), fun post u hp => ?_, fun _ => ⟨k, v, hk, hv, rfl, rfl, fun z => absurd h4 (by omega)⟩⟩
    have e : decide (k < 4) = true := decide_eq_true h4
    rcases pk_ix p2 (n := 5) (by decide) with h | h | ⟨a, ha, rfl⟩
    · exact mt_yfb hk hv (Or.inl h) (by rw [e]; exact hp)
    · exact mt_yfb hk hv (Or.inr (mt_gt (n := 4) (by decide) h)) (by rw [e]; exact hp)
    · exact mt_yfn hk hv ha (by rw [e, Bool.true_or]; exact hp)
  · have e : decide (k < 4) = false := decide_eq_false h4
    rcases pk_ix p2 (n := 5) (by decide) with h | h | ⟨a, ha, rfl⟩
    · exact ⟨false, fun post hp => mt_xg hk hv (br_f h4 (br_t h hp)), fun post u hp => mt_yfb hk hv (Or.inl h) (by rw [e]; exact hp), fun z => absurd z (by decide)⟩
    · exact ⟨false, fun post hp => mt_xg hk hv (br_f h4 (br_c (fun _ => hp) (fun _ => br_t h hp))), fun post u hp => mt_yfb hk hv (Or.inr (mt_gt (n := 4) (by decide) h)) (by rw [e]; exact hp), fun z => absurd z (by decide)⟩
    · by_cases hav : a = v
      · refine ⟨false, fun post hp => mt_xg hk hv (br_f h4 (br_f (nI_pos (by omega)) (br_f (nI_ge (b := 5) ha (by decide)) (br_t (by rw [hav]) hp)))), fun post u hp => mt_yfn hk hv ha (by rw [e, decide_eq_false (p := a ≠ v) (fun z => z hav)]; exact hp), fun z => absurd z (by decide)⟩
      · refine ⟨true, fun post hp => mt_xg hk hv (br_f h4 (br_f (nI_pos (by omega)) (br_f (nI_ge (b := 5) ha (by decide)) (br_f (fun z => hav ((nI_eq (by omega) (by omega)).mp z)) hp)))), fun post u hp => mt_yfn hk hv ha (by rw [e, decide_eq_true (p := a ≠ v) hav]; exact hp), fun _ => ⟨k, v, hk, hv, rfl, rfl, fun _ => ⟨a, ha, hav, rfl⟩⟩⟩
theorem mt_k4 {k : Nat} (hk : k < 14) : (nI k < 4) = (k < 4) := propext (nI_ltI (b := 4) (by omega) (by decide))
theorem mt_k4' {k : Nat} (hk : k < 14) : ((4 : Int32) ≤ nI k) = (4 ≤ k) := propext (nI_leI (a := 4) (by decide) (by omega))
section
variable {c : Nat} {w : Int32} {D : Nat → Bool} {Z O : Nat → Nat}
theorem mt_x21 {post : Int32 → SX → Prop} {k : Int32} (hk : mt_K k) (hc : c ≤ 6) (hZ : ∀ j, Z j ≤ 4) (hO : ∀ j, O j ≤ 3) (bl : Bool) {x1 x2 x3 x4 : Int32} (h : ∀ y1 y2 y3 y4 : Int32, post (mt_i (mt_fd c D Z O w k bl)) (nI c, w, y1, y2, y3, y4, mt_D D, mt_N Z, mt_N O)) : wX_finds_21 post (mt_i bl) k (nI c) w x1 x2 x3 x4 (mt_D D) (mt_N Z) (mt_N O) := by
  refine mt_isFound hk hc hZ hO bl ?_
  intro y1 y2 y3 y4
  have h' := h y1 y2 y3 y4
  revert h'
  cases mt_fd c D Z O w k bl
  · exact fun h' => br_t rfl h'
  · exact fun h' => br_f (by decide) h'
theorem mt_y23 {post : Int32 → SY → Prop} {k : Int32} {v a : Nat} (hk : mt_K k) (hv : v < 5) (ha : a < 5) (hva : 4 ≤ k → a ≠ v) (hc : c ≤ 6) (hZ : ∀ j, Z j ≤ 4) (hO : ∀ j, O j ≤ 3) {x1 x2 x3 x4 : Int32} (h : ∀ y1 y2 y3 y4 : Int32, post (mt_i (mt_fd c D Z O (-1) k (decide (v < a)))) (nI c, y1, y2, y3, y4, mt_D D, mt_N Z, mt_N O)) : wY_finds_23 post (nI a) (nI v) k (nI c) x1 x2 x3 x4 (mt_D D) (mt_N Z) (mt_N O) := by
  refine mt_count hk hv ha hva hc hZ hO ?_
  intro y1 y2 y3 y4
  have h' := h y1 y2 y3 y4
  have hl := mt_si_le c D Z O (-1) k (decide (v < a))
  unfold mt_fd at h'
  by_cases e : mt_si c D Z O (-1) k (decide (v < a)) = 0
  · rw [decide_eq_true e] at h'
    exact br_t (by rw [e]; rfl) h'
  · rw [decide_eq_false e] at h'
    exact br_f (fun z => e (by have := (nI_eq (b := 32) (by omega) (by decide)).mp z; omega)) h'
/-- finds on the reference's side, by naturals -/
def mt_ff (c : Nat) (D : Nat → Bool) (Z O : Nat → Nat) (k v a : Nat) : Bool := (decide (k < 4) || decide (a ≠ v)) && mt_fd c D Z O (-1) (nI k) (decide (v < a))
theorem mt_fdb {k : Int32} (h4 : k < 4) (b b' : Bool) : mt_fd c D Z O w k b = mt_fd c D Z O w k b' := by
  unfold mt_fd
  rw [mt_bl h4 b b']
theorem mt_yfinds {post : Int32 → SY → Prop} {k v a : Nat} (hk : k < 14) (hv : v < 5) (ha : a < 5) (hc : c ≤ 6) (hZ : ∀ j, Z j ≤ 4) (hO : ∀ j, O j ≤ 3) {x1 x2 x3 x4 : Int32} (h : ∀ y1 y2 y3 y4 : Int32, post (mt_i (mt_ff c D Z O k v a)) (nI c, y1, y2, y3, y4, mt_D D, mt_N Z, mt_N O)) : wpY_finds post (nI c, x1, x2, x3, x4, mt_D D, mt_N Z, mt_N O) (nI k) (nI v) (nI a) := by
  unfold wpY_finds
  dsimp only
  refine mt_yfn hk hv ha ?_
  unfold mt_ff at h
  by_cases h4 : k < 4
  · rw [decide_eq_true h4, Bool.true_or] at h ⊢
    refine br_f (by decide) (br_f (nI_ge (b := 4) h4 (by decide)) ?_)
    refine mt_y23 (a := 0) (mt_K_n k hk) hv (by decide) (fun z => absurd z (nI_ge (b := 4) h4 (by decide))) hc hZ hO ?_
    intro y1 y2 y3 y4
    have h' := h y1 y2 y3 y4
    rw [Bool.true_and, mt_fdb (nI_lt (b := 4) h4 (by decide)) _ (decide (v < 0))] at h'
    exact h'
  · rw [decide_eq_false h4, Bool.false_or] at h ⊢
    by_cases e : a = v
    · rw [decide_eq_false (p := a ≠ v) (fun z => z e), Bool.false_and] at h
      rw [decide_eq_false (p := a ≠ v) (fun z => z e)]
      exact br_t rfl (h _ _ _ _)
    · rw [decide_eq_true (p := a ≠ v) e, Bool.true_and] at h
      rw [decide_eq_true (p := a ≠ v) e]
      exact br_f (by decide) (br_t (nI_le (a := 4) (by omega) (by omega)) (mt_y23 (mt_K_n k hk) hv ha (fun _ => e) hc hZ hO h))
end
end
section
/-! found, covered, foundSet, spare: each side's value -/
def mt_fv (l fT fF : Bool) : Nat := if l = true then (if fT = true then 5 else 0) else (if fT = true then 10 else 0) + (if fF = true then 10 else 0)
def mt_y25 (l fT fF : Bool) : Nat := mt_it (fun n c => if ((!l || c % 5 == 0) && ((l || decide (c % 5 ≠ c / 5)) && (if c / 5 < c % 5 then fT else fF))) = true then n + 1 else n) 25 0 0
theorem mt_y25a : ∀ fT fF : Bool, mt_y25 false fT fF = mt_fv false fT fF := by decide +kernel
theorem mt_y25b : ∀ f : Bool, mt_y25 true f f = mt_fv true f f := by decide +kernel
/-- what found answers -/
def mt_fo' (c : Nat) (D : Nat → Bool) (Z O : Nat → Nat) (w : Int32) (k : Nat) : Nat := mt_fv (decide (k < 4)) (mt_fd c D Z O w (nI k) true) (mt_fd c D Z O w (nI k) false)
theorem mt_half {post : Int32 → Prop} {k : Nat} (hk : k < 14) (h : post (nI (if k < 4 then 5 else 10))) : wpX_half post (nI k) := by
  by_cases h4 : k < 4
  · rw [if_pos h4] at h
    exact br_f (nI_ge (b := 4) h4 (by decide)) h
  · rw [if_neg h4] at h
    exact br_t (nI_le (a := 4) (by omega) (by omega)) h
section
variable {c : Nat} {w : Int32} {D : Nat → Bool} {Z O : Nat → Nat}
theorem mt_x29 {post : Int32 → SX → Prop} {k z : Nat} (hk : k < 14) (hc : c ≤ 6) (hZ : ∀ j, Z j ≤ 4) (hO : ∀ j, O j ≤ 3) {x1 x2 x3 x4 : Int32} (h : ∀ y1 y2 y3 y4 : Int32, post (nI (if k < 4 then z else z + (if mt_fd c D Z O w (nI k) false = true then 10 else 0))) (nI c, w, y1, y2, y3, y4, mt_D D, mt_N Z, mt_N O)) : wX_found_29 post (nI k) (nI z) (nI c) w x1 x2 x3 x4 (mt_D D) (mt_N Z) (mt_N O) := by
  by_cases h4 : k < 4
  · rw [if_pos h4] at h
    exact br_t (nI_lt (b := 4) h4 (by decide)) (h _ _ _ _)
  · rw [if_neg h4] at h
    refine br_f (nI_nlt (a := k) (b := 4) (by omega) (by omega)) (mt_isFound (mt_K_n k hk) hc hZ hO false ?_)
    intro y1 y2 y3 y4
    have h' := h y1 y2 y3 y4
    revert h'
    cases mt_fd c D Z O w (nI k) false
    · exact fun h' => br_t rfl h'
    · intro h'
      refine br_f (by decide) (mt_half hk ?_)
      rw [if_neg h4]
      exact nm_r (nI_add z 10) h'
theorem mt_xfound {post : Int32 → SX → Prop} {k : Nat} (hk : k < 14) (hc : c ≤ 6) (hZ : ∀ j, Z j ≤ 4) (hO : ∀ j, O j ≤ 3) {x1 x2 x3 x4 : Int32} (h : ∀ y1 y2 y3 y4 : Int32, post (nI (mt_fo' c D Z O w k)) (nI c, w, y1, y2, y3, y4, mt_D D, mt_N Z, mt_N O)) : wpX_found post (nI c, w, x1, x2, x3, x4, mt_D D, mt_N Z, mt_N O) (nI k) := by
  refine br_f (nI_pos (by omega)) (br_t (nI_lt (b := 14) hk (by decide)) (mt_isFound (mt_K_n k hk) hc hZ hO true ?_))
  intro y1 y2 y3 y4
  unfold mt_fo' mt_fv at h
  revert h
  cases mt_fd c D Z O w (nI k) true
  · intro h
    refine br_t rfl (mt_x29 (z := 0) hk hc hZ hO ?_)
    intro z1 z2 z3 z4
    have h' := h z1 z2 z3 z4
    by_cases h4 : k < 4
    · rw [if_pos h4]
      rw [decide_eq_true h4] at h'
      exact h'
    · rw [if_neg h4]
      rw [decide_eq_false h4] at h'
      exact h'
  · intro h
    refine br_f (by decide) (mt_half hk (mt_x29 hk hc hZ hO ?_))
    intro z1 z2 z3 z4
    have h' := h z1 z2 z3 z4
    by_cases h4 : k < 4
    · rw [if_pos h4, if_pos h4]
      rw [decide_eq_true h4] at h'
      exact h'
    · rw [if_neg h4, if_neg h4]
      rw [decide_eq_false h4] at h'
      exact h'
theorem mt_y38 {post : Int32 → SY → Prop} {J : Int32 → Int32 → Int32 → Int32 → Int32 → Int32 → Int32 → (Nat → Int32) → (Nat → Int32) → (Nat → Int32) → Prop} {k n i : Nat} (hk : k < 14) (hi : i < 25) (hc : c ≤ 6) (hZ : ∀ j, Z j ≤ 4) (hO : ∀ j, O j ≤ 3) (z : Bool) {x1 x2 x3 x4 : Int32} (h : ∀ y1 y2 y3 y4 : Int32, J (nI (if (z && mt_ff c D Z O k (i / 5) (i % 5)) = true then n + 1 else n)) (nI (i + 1)) (nI c) y1 y2 y3 y4 (mt_D D) (mt_N Z) (mt_N O)) : wY_found_38 post J (nI k) (nI n) (nI i) (mt_i z) (nI c) x1 x2 x3 x4 (mt_D D) (mt_N Z) (mt_N O) := by
  cases z
  · exact br_t rfl (nm_r (nI_1 i) (h _ _ _ _))
  · refine br_f (by decide) (And.intro (by decide) (And.intro (by decide) ?_))
    rw [show nI i - nI i / 5 * 5 = nI (i % 5) from pk_rem (d := 5) (by omega) (by decide) (by decide), show nI i / 5 = nI (i / 5) from pk_div (d := 5) (by omega) (by decide) (by decide)]
    refine mt_yfinds hk (by omega) (by omega) hc hZ hO ?_
    intro y1 y2 y3 y4
    have h' := h y1 y2 y3 y4
    rw [Bool.true_and] at h'
    revert h'
    cases mt_ff c D Z O k (i / 5) (i % 5)
    · exact fun h' => br_t rfl (nm_r (nI_1 i) h')
    · exact fun h' => br_f (by decide) (nm_r (nI_1 n) (nm_r (nI_1 i) h'))
theorem mt_yf25 {k : Nat} (hk : k < 14) : mt_it (fun n i => if ((!decide (k < 4) || i % 5 == 0) && mt_ff c D Z O k (i / 5) (i % 5)) = true then n + 1 else n) 25 0 0 = mt_fo' c D Z O (-1) k := by
  have e : mt_it (fun n i => if ((!decide (k < 4) || i % 5 == 0) && mt_ff c D Z O k (i / 5) (i % 5)) = true then n + 1 else n) 25 0 0 = mt_y25 (decide (k < 4)) (mt_fd c D Z O (-1) (nI k) true) (mt_fd c D Z O (-1) (nI k) false) := by
    unfold mt_y25
    apply mt_it_congr
    intro i n _ _
    unfold mt_ff
    by_cases h : i / 5 < i % 5
    · rw [decide_eq_true h, if_pos h]
    · rw [decide_eq_false h, if_neg h]
  rw [e]
  unfold mt_fo'
  by_cases h4 : k < 4
  · rw [decide_eq_true h4, mt_fdb (k := nI k) (nI_lt (b := 4) h4 (by decide)) false true]
    exact mt_y25b _
  · rw [decide_eq_false h4]
    exact mt_y25a _ _
theorem mt_yfound {post : Int32 → SY → Prop} {k : Nat} (hk : k < 14) (hc : c ≤ 6) (hZ : ∀ j, Z j ≤ 4) (hO : ∀ j, O j ≤ 3) {x1 x2 x3 x4 : Int32} (h : ∀ y1 y2 y3 y4 : Int32, post (nI (mt_fo' c D Z O (-1) k)) (nI c, y1, y2, y3, y4, mt_D D, mt_N Z, mt_N O)) : wpY_found post (nI c, x1, x2, x3, x4, mt_D D, mt_N Z, mt_N O) (nI k) := by
  refine br_f (nI_pos (by omega)) (br_t (nI_le (b := 13) (by omega) (by decide)) (Exists.intro 26 ?_))
  refine mt_lp (fun n i s => ∀ y1 y2 y3 y4 : Int32, wY_found_16 post (nI k) n (nI s) (nI i) (nI c) y1 y2 y3 y4 (mt_D D) (mt_N Z) (mt_N O)) (fun n i => if ((!decide (k < 4) || i % 5 == 0) && mt_ff c D Z O k (i / 5) (i % 5)) = true then n + 1 else n) 25 ?_ 25 26 0 0 (by omega) (by omega) ?_ x1 x2 x3 x4
  · intro n i s hi hW y1 y2 y3 y4
    refine br_f (nI_ge (b := 25) hi (by decide)) ?_
    by_cases h4 : k < 4
    · refine br_f (nI_ge (b := 4) h4 (by decide)) (And.intro (by decide) ?_)
      rw [decide_eq_true h4] at hW
      rw [show nI i - nI i / 5 * 5 = nI (i % 5) from pk_rem (d := 5) (by omega) (by decide) (by decide)]
      by_cases h0 : i % 5 = 0
      · refine br_t (by rw [h0]; rfl) (mt_y38 hk hi hc hZ hO true ?_)
        rw [h0] at hW ⊢
        exact hW
      · refine br_f (nI_ne0 (by omega) (by omega)) (mt_y38 hk hi hc hZ hO false ?_)
        rw [show (i % 5 == 0) = false from beq_false_of_ne h0] at hW
        exact hW
    · refine br_t (nI_le (a := 4) (by omega) (by omega)) (mt_y38 hk hi hc hZ hO true ?_)
      rw [decide_eq_false h4] at hW
      exact hW
  · intro n y1 y2 y3 y4
    refine br_t (nI_le (a := 25) (by decide) (by decide)) ?_
    rw [mt_yf25 hk]
    exact h _ _ _ _
/-- what covered answers -/
def mt_cg (c : Nat) (D : Nat → Bool) (Z O : Nat → Nat) (s : Int32) (k : Nat) : Int32 := if mt_fo' c D Z O (-1) k = (if k < 4 then 5 else 20) then s ||| ((1 : Int32) <<< (nI k &&& 31)) else s
theorem mt_fo'_le (c : Nat) (D : Nat → Bool) (Z O : Nat → Nat) (w : Int32) (k : Nat) : mt_fo' c D Z O w k ≤ 20 := by
  unfold mt_fo' mt_fv
  cases decide (k < 4) <;> cases mt_fd c D Z O w (nI k) true <;> cases mt_fd c D Z O w (nI k) false <;> decide
theorem mt_xc21 {post : Int32 → SX → Prop} {J : Int32 → Int32 → Int32 → Int32 → Int32 → Int32 → Int32 → Int32 → (Nat → Int32) → (Nat → Int32) → (Nat → Int32) → Prop} {k z : Nat} {s : Int32} (hk : k < 14) (hz : z = if k < 4 then 5 else 20) (hc : c ≤ 6) (hZ : ∀ j, Z j ≤ 4) (hO : ∀ j, O j ≤ 3) {x1 x2 x3 x4 : Int32} (h : ∀ y1 y2 y3 y4 : Int32, J (mt_cg c D Z O s k) (nI (k + 1)) (nI c) (-1) y1 y2 y3 y4 (mt_D D) (mt_N Z) (mt_N O)) : wX_covered_21 post J s (nI k) (nI z) (nI c) (-1) x1 x2 x3 x4 (mt_D D) (mt_N Z) (mt_N O) := by
  refine mt_xfound hk hc hZ hO ?_
  intro y1 y2 y3 y4
  have h' := h y1 y2 y3 y4
  have hl := mt_fo'_le c D Z O (-1) k
  have hz20 : z ≤ 20 := by rw [hz]; split <;> decide
  unfold mt_cg at h'
  rw [← hz] at h'
  by_cases e : mt_fo' c D Z O (-1) k = z
  · rw [if_pos e] at h'
    exact br_t (by rw [e]) (nm_e (nm_r (nI_1 k) h'))
  · rw [if_neg e] at h'
    exact br_f (fun q => e ((nI_eq (by omega) (by omega)).mp q)) (nm_r Int32.or_zero (nm_r (nI_1 k) h'))
theorem mt_xcov {post : Int32 → SX → Prop} (hc : c ≤ 6) (hZ : ∀ j, Z j ≤ 4) (hO : ∀ j, O j ≤ 3) {x1 x2 x3 x4 : Int32} (h : ∀ y1 y2 y3 y4 : Int32, post (mt_it (mt_cg c D Z O) 14 0 0) (nI c, -1, y1, y2, y3, y4, mt_D D, mt_N Z, mt_N O)) : wpX_covered post (nI c, -1, x1, x2, x3, x4, mt_D D, mt_N Z, mt_N O) := by
  refine Exists.intro 15 ?_
  refine mt_lp (fun n i s => ∀ y1 y2 y3 y4 : Int32, wX_covered_4 post n s (nI i) (nI c) (-1) y1 y2 y3 y4 (mt_D D) (mt_N Z) (mt_N O)) (mt_cg c D Z O) 14 ?_ 14 15 0 0 (by omega) (by omega) ?_ x1 x2 x3 x4
  · intro n i s hi hW y1 y2 y3 y4
    refine br_f (nI_ge (b := 14) hi (by decide)) ?_
    by_cases h4 : i < 4
    · exact br_f (nI_ge (b := 4) h4 (by decide)) (mt_xc21 (z := 5) hi (by rw [if_pos h4]) hc hZ hO hW)
    · exact br_t (nI_le (a := 4) (by omega) (by omega)) (mt_xc21 (z := 20) hi (by rw [if_neg h4]) hc hZ hO hW)
  · intro n y1 y2 y3 y4
    exact br_t (nI_le (a := 14) (by decide) (by decide)) (h _ _ _ _)
theorem mt_yc26 {post : Int32 → SY → Prop} {J : Int32 → Int32 → Int32 → Int32 → Int32 → Int32 → Int32 → (Nat → Int32) → (Nat → Int32) → (Nat → Int32) → Prop} {k z : Nat} {s : Int32} (hz : z = if k < 4 then 5 else 20) {x1 x2 x3 x4 : Int32} (h : J (mt_cg c D Z O s k) (nI (k + 1)) (nI c) x1 x2 x3 x4 (mt_D D) (mt_N Z) (mt_N O)) : wY_covered_26 post J s (nI k) (nI z) (nI (mt_fo' c D Z O (-1) k)) (nI c) x1 x2 x3 x4 (mt_D D) (mt_N Z) (mt_N O) := by
  have hl := mt_fo'_le c D Z O (-1) k
  have hz20 : z ≤ 20 := by rw [hz]; split <;> decide
  unfold mt_cg at h
  rw [← hz] at h
  by_cases e : mt_fo' c D Z O (-1) k = z
  · rw [if_pos e] at h
    exact br_t (by rw [e]) (nm_e (nm_r (nI_1 k) h))
  · rw [if_neg e] at h
    exact br_f (fun q => e ((nI_eq (by omega) (by omega)).mp q)) (nm_r (nI_1 k) h)
theorem mt_ycov {post : Int32 → SY → Prop} (hc : c ≤ 6) (hZ : ∀ j, Z j ≤ 4) (hO : ∀ j, O j ≤ 3) {x1 x2 x3 x4 : Int32} (h : ∀ y1 y2 y3 y4 : Int32, post (mt_it (mt_cg c D Z O) 14 0 0) (nI c, y1, y2, y3, y4, mt_D D, mt_N Z, mt_N O)) : wpY_covered post (nI c, x1, x2, x3, x4, mt_D D, mt_N Z, mt_N O) := by
  refine Exists.intro 15 ?_
  refine mt_lp (fun n i s => ∀ y1 y2 y3 y4 : Int32, wY_covered_4 post n s (nI i) (nI c) y1 y2 y3 y4 (mt_D D) (mt_N Z) (mt_N O)) (mt_cg c D Z O) 14 ?_ 14 15 0 0 (by omega) (by omega) ?_ x1 x2 x3 x4
  · intro n i s hi hW y1 y2 y3 y4
    refine br_f (nI_ge (b := 14) hi (by decide)) (mt_yfound hi hc hZ hO ?_)
    intro z1 z2 z3 z4
    by_cases h4 : i < 4
    · exact br_f (nI_ge (b := 4) h4 (by decide)) (mt_yc26 (z := 5) (by rw [if_pos h4]) (hW z1 z2 z3 z4))
    · exact br_t (nI_le (a := 4) (by omega) (by omega)) (mt_yc26 (z := 20) (by rw [if_neg h4]) (hW z1 z2 z3 z4))
  · intro n y1 y2 y3 y4
    exact br_t (nI_le (a := 14) (by decide) (by decide)) (h _ _ _ _)
end
end
section
/-! foundSet, without, spare -/
def mt_fg (c : Nat) (D : Nat → Bool) (Z O : Nat → Nat) (w s : Int32) (k : Nat) : Int32 :=
  (s ||| (if mt_fd c D Z O w (nI k) true = true then (1 : Int32) <<< (nI (2 * k) &&& 31) else 0)) ||| (if mt_fd c D Z O w (nI k) false = true then (2 : Int32) <<< (nI (2 * k) &&& 31) else 0)
def mt_fs (c : Nat) (D : Nat → Bool) (Z O : Nat → Nat) (w : Int32) : Int32 := mt_it (mt_fg c D Z O w) 14 0 0
section
variable {c : Nat} {w : Int32} {D : Nat → Bool} {Z O : Nat → Nat}
theorem mt_2x (k : Nat) : 2 * nI k = nI (2 * k) := by rw [show (2 : Int32) = nI 2 from rfl, pk_mul]
theorem mt_xf29 {post : Int32 → SX → Prop} {J : Int32 → Int32 → Int32 → Int32 → Int32 → Int32 → Int32 → Int32 → (Nat → Int32) → (Nat → Int32) → (Nat → Int32) → Prop} {k : Nat} {s z : Int32} (hk : k < 14) (hc : c ≤ 6) (hZ : ∀ j, Z j ≤ 4) (hO : ∀ j, O j ≤ 3) {x1 x2 x3 x4 : Int32} (h : ∀ y1 y2 y3 y4 : Int32, J ((s ||| z) ||| (if mt_fd c D Z O w (nI k) false = true then (2 : Int32) <<< (nI (2 * k) &&& 31) else 0)) (nI (k + 1)) (nI c) w y1 y2 y3 y4 (mt_D D) (mt_N Z) (mt_N O)) : wX_foundSet_29 post J (nI k) z s (nI c) w x1 x2 x3 x4 (mt_D D) (mt_N Z) (mt_N O) := by
  refine nm_e (mt_isFound (mt_K_n k hk) hc hZ hO false ?_)
  intro y1 y2 y3 y4
  have h' := h y1 y2 y3 y4
  revert h'
  cases mt_fd c D Z O w (nI k) false
  · exact fun h' => br_t rfl (nm_e (nm_r (nI_1 k) h'))
  · exact fun h' => br_f (by decide) (nm_r (by rw [mt_2x]; rfl) (nm_r (nI_1 k) h'))
theorem mt_foundSet {post : Int32 → SX → Prop} (hc : c ≤ 6) (hZ : ∀ j, Z j ≤ 4) (hO : ∀ j, O j ≤ 3) {x1 x2 x3 x4 : Int32} (h : ∀ y1 y2 y3 y4 : Int32, post (mt_fs c D Z O w) (nI c, w, y1, y2, y3, y4, mt_D D, mt_N Z, mt_N O)) : wpX_foundSet post (nI c, w, x1, x2, x3, x4, mt_D D, mt_N Z, mt_N O) := by
  refine Exists.intro 15 ?_
  refine mt_lp (fun n i s => ∀ y1 y2 y3 y4 : Int32, wX_foundSet_4 post n s (nI i) (nI c) w y1 y2 y3 y4 (mt_D D) (mt_N Z) (mt_N O)) (mt_fg c D Z O w) 14 ?_ 14 15 0 0 (by omega) (by omega) ?_ x1 x2 x3 x4
  · intro n i s hi hW y1 y2 y3 y4
    refine br_f (nI_ge (b := 14) hi (by decide)) (mt_isFound (mt_K_n i hi) hc hZ hO true ?_)
    intro z1 z2 z3 z4
    unfold mt_fg at hW
    revert hW
    cases mt_fd c D Z O w (nI i) true
    · exact fun hW => br_t rfl (mt_xf29 hi hc hZ hO hW)
    · intro hW
      refine br_f (by decide) ?_
      rw [mt_2x]
      exact mt_xf29 hi hc hZ hO hW
  · intro n y1 y2 y3 y4
    exact br_t (nI_le (a := 14) (by decide) (by decide)) (h _ _ _ _)
end
/-- the sets by their bits -/
theorem mt_bt1 : ∀ n, n < 32 → ∀ i, i < 32 → bt ((1 : Int32) <<< (nI n &&& 31)) i = (i == n) := by decide +kernel
theorem mt_bt2 : ∀ n, n < 31 → ∀ i, i < 32 → bt ((2 : Int32) <<< (nI n &&& 31)) i = (i == n + 1) := by decide +kernel
theorem mt_fsb (c : Nat) (D : Nat → Bool) (Z O : Nat → Nat) (w : Int32) : ∀ d, d ≤ 14 → ∀ i, i < 32 → bt (mt_it (mt_fg c D Z O w) d 0 0) i = (decide (i < 2 * d) && (if i % 2 = 0 then mt_fd c D Z O w (nI (i / 2)) true else mt_fd c D Z O w (nI (i / 2)) false)) := by
  intro d
  induction d with
  | zero =>
    intro _ i _
    show bt 0 i = _
    rw [b_0, decide_eq_false (by omega), Bool.false_and]
  | succ d ih =>
    intro hd i hi
    rw [mt_it_last, Nat.zero_add]
    unfold mt_fg
    rw [b_or, b_or]
    have e := ih (by omega) i hi
    unfold mt_fg at e
    rw [e]
    have e1 : bt (if mt_fd c D Z O w (nI d) true = true then (1 : Int32) <<< (nI (2 * d) &&& 31) else 0) i = (mt_fd c D Z O w (nI d) true && (i == 2 * d)) := by
      cases mt_fd c D Z O w (nI d) true
      · exact b_0 i
      · rw [if_pos rfl, mt_bt1 _ (by omega) i hi, Bool.true_and]
    have e2 : bt (if mt_fd c D Z O w (nI d) false = true then (2 : Int32) <<< (nI (2 * d) &&& 31) else 0) i = (mt_fd c D Z O w (nI d) false && (i == 2 * d + 1)) := by
      cases mt_fd c D Z O w (nI d) false
      · exact b_0 i
      · rw [if_pos rfl, mt_bt2 _ (by omega) i hi, Bool.true_and]
    rw [e1, e2]
    rcases (by omega : i < 2 * d ∨ i = 2 * d ∨ i = 2 * d + 1 ∨ 2 * (d + 1) ≤ i) with h | h | h | h
    · rw [decide_eq_true h, decide_eq_true (by omega : i < 2 * (d + 1)), beq_false_of_ne (by omega : i ≠ 2 * d), beq_false_of_ne (by omega : i ≠ 2 * d + 1)]
      simp
    · have ed : i / 2 = d := by omega
      rw [ed, if_pos (by omega), decide_eq_false (by omega : ¬ i < 2 * d), decide_eq_true (by omega : i < 2 * (d + 1)), beq_false_of_ne (by omega : i ≠ 2 * d + 1), h]
      simp
    · have ed : i / 2 = d := by omega
      rw [ed, if_neg (by omega), decide_eq_false (by omega : ¬ i < 2 * d), decide_eq_true (by omega : i < 2 * (d + 1)), beq_false_of_ne (by omega : i ≠ 2 * d), h]
      simp
    · rw [decide_eq_false (by omega : ¬ i < 2 * d), decide_eq_false (by omega : ¬ i < 2 * (d + 1)), beq_false_of_ne (by omega : i ≠ 2 * d), beq_false_of_ne (by omega : i ≠ 2 * d + 1)]
      simp
theorem mt_sub (x y : Int32) : x &&& (y ^^^ (-1)) = 0 ↔ ∀ i, i < 32 → bt x i = true → bt y i = true := by
  constructor
  · intro h i hi hx
    have e : bt (x &&& (y ^^^ (-1))) i = false := by rw [h]; exact b_0 i
    rw [b_and, b_xor, b_m1 i hi, hx] at e
    revert e
    cases bt y i
    · decide
    · exact fun _ => rfl
  · intro h
    apply b_ext
    intro i hi
    rw [b_and, b_xor, b_m1 i hi, b_0]
    cases hx : bt x i
    · rfl
    · rw [h i hi hx]; rfl
/-- what makes a march spare -/
def mt_sp (c : Nat) (D : Nat → Bool) (Z O : Nat → Nat) (m : Nat) : Prop := ∀ k, k < 14 → ∀ b : Bool, mt_fd c D Z O (-1) (nI k) b = true → mt_fd c D Z O (nI m) (nI k) b = true
theorem mt_spX (c : Nat) (D : Nat → Bool) (Z O : Nat → Nat) (m : Nat) : mt_fs c D Z O (-1) &&& (mt_fs c D Z O (nI m) ^^^ (-1)) = 0 ↔ mt_sp c D Z O m := by
  rw [mt_sub]
  unfold mt_fs mt_sp
  constructor
  · intro h k hk b hb
    cases b
    · have := h (2 * k + 1) (by omega)
      rw [mt_fsb c D Z O _ 14 (by decide) _ (by omega), mt_fsb c D Z O _ 14 (by decide) _ (by omega), show (2 * k + 1) / 2 = k by omega, if_neg (by omega), if_neg (by omega), decide_eq_true (by omega), Bool.true_and, Bool.true_and] at this
      exact this hb
    · have := h (2 * k) (by omega)
      rw [mt_fsb c D Z O _ 14 (by decide) _ (by omega), mt_fsb c D Z O _ 14 (by decide) _ (by omega), show (2 * k) / 2 = k by omega, if_pos (by omega), if_pos (by omega), decide_eq_true (by omega), Bool.true_and, Bool.true_and] at this
      exact this hb
  · intro h i hi
    rw [mt_fsb c D Z O _ 14 (by decide) _ hi, mt_fsb c D Z O _ 14 (by decide) _ hi]
    by_cases h28 : i < 2 * 14
    · rw [decide_eq_true h28, Bool.true_and, Bool.true_and]
      by_cases h2 : i % 2 = 0
      · rw [if_pos h2, if_pos h2]
        exact h (i / 2) (by omega) true
      · rw [if_neg h2, if_neg h2]
        exact h (i / 2) (by omega) false
    · rw [decide_eq_false h28, Bool.false_and]
      exact fun z => absurd z (by decide)
theorem mt_all (t : Nat → Bool) : ∀ (d j : Nat) (s : Bool), mt_it (fun s i => s && t i) d j s = true ↔ (s = true ∧ ∀ i, j ≤ i → i < j + d → t i = true) := by
  intro d
  induction d with
  | zero =>
    intro j s
    rw [mt_it_0]
    exact ⟨fun h => ⟨h, fun i h1 h2 => by omega⟩, fun h => h.1⟩
  | succ d ih =>
    intro j s
    rw [mt_it_s, ih, Bool.and_eq_true]
    constructor
    · intro h
      refine ⟨h.1.1, fun i h1 h2 => ?_⟩
      rcases Nat.eq_or_lt_of_le h1 with e | e
      · rw [← e]; exact h.1.2
      · exact h.2 i e (by omega)
    · intro h
      exact ⟨⟨h.1, h.2 j (Nat.le_refl _) (by omega)⟩, fun i h1 h2 => h.2 i (by omega) (by omega)⟩
theorem mt_allF (t : Nat → Bool) (d j : Nat) : mt_it (fun s i => s && t i) d j false = false := by
  cases h : mt_it (fun s i => s && t i) d j false
  · rfl
  · exact absurd ((mt_all t d j false).mp h).1 (by decide)
/-- one fault of the reference's loop: not lost without march m -/
def mt_tw (c : Nat) (D : Nat → Bool) (Z O : Nat → Nat) (m k i : Nat) : Bool := !(mt_ff c D Z O k (i / 5) (i % 5) && !(mt_fd c D Z O (nI m) (nI k) (decide (i / 5 < i % 5))))
def mt_wt (c : Nat) (D : Nat → Bool) (Z O : Nat → Nat) (m k : Nat) : Bool := mt_it (fun s i => s && mt_tw c D Z O m k i) 25 0 true
def mt_sY (c : Nat) (D : Nat → Bool) (Z O : Nat → Nat) (m : Nat) : Bool := mt_it (fun s k => s && mt_wt c D Z O m k) 14 0 true
theorem mt_spY (c : Nat) (D : Nat → Bool) (Z O : Nat → Nat) (m : Nat) : mt_sY c D Z O m = true ↔ mt_sp c D Z O m := by
  unfold mt_sY mt_wt mt_sp
  rw [mt_all]
  constructor
  · intro h k hk b hb
    have h1 := ((mt_all (fun i => mt_tw c D Z O m k i) 25 0 true).mp (h.2 k (Nat.zero_le _) (by omega))).2
    cases b
    · have h2 := h1 5 (by decide) (by decide)
      unfold mt_tw mt_ff at h2
      rw [show decide (5 / 5 < 5 % 5) = false from rfl, show decide (5 % 5 ≠ 5 / 5) = true from rfl, hb] at h2
      revert h2
      cases mt_fd c D Z O (nI m) (nI k) false
      · rw [Bool.or_true]; decide
      · exact fun _ => rfl
    · have h2 := h1 1 (by decide) (by decide)
      unfold mt_tw mt_ff at h2
      rw [show decide (1 / 5 < 1 % 5) = true from rfl, show decide (1 % 5 ≠ 1 / 5) = true from rfl, hb] at h2
      revert h2
      cases mt_fd c D Z O (nI m) (nI k) true
      · rw [Bool.or_true]; decide
      · exact fun _ => rfl
  · intro h
    refine ⟨rfl, fun k _ hk => ?_⟩
    rw [mt_all]
    refine ⟨rfl, fun i _ hi => ?_⟩
    unfold mt_tw mt_ff
    have := h k (by omega) (decide (i / 5 < i % 5))
    revert this
    cases mt_fd c D Z O (-1) (nI k) (decide (i / 5 < i % 5))
    · intro _; rw [Bool.and_false]; rfl
    · intro z; rw [z rfl]; simp
section
variable {c : Nat} {w : Int32} {D : Nat → Bool} {Z O : Nat → Nat}
/-- what spare answers -/
def mt_sg (c : Nat) (D : Nat → Bool) (Z O : Nat → Nat) (s : Int32) (m : Nat) : Int32 := if mt_sY c D Z O m = true then s ||| ((1 : Int32) <<< (nI m &&& 31)) else s
theorem mt_xspare {post : Int32 → SX → Prop} (hc : c ≤ 6) (hZ : ∀ j, Z j ≤ 4) (hO : ∀ j, O j ≤ 3) {x1 x2 x3 x4 : Int32} (h : ∀ y1 y2 y3 y4 : Int32, post (mt_it (mt_sg c D Z O) c 0 0) (nI c, -1, y1, y2, y3, y4, mt_D D, mt_N Z, mt_N O)) : wpX_spare post (nI c, -1, x1, x2, x3, x4, mt_D D, mt_N Z, mt_N O) := by
  refine mt_foundSet hc hZ hO ?_
  intro y1 y2 y3 y4
  refine Exists.intro (c + 1) ?_
  refine mt_lp (fun n i s => ∀ y0 y1 y2 y3 y4 : Int32, wX_spare_9 post (mt_fs c D Z O (-1)) n s (nI i) (nI c) y0 y1 y2 y3 y4 (mt_D D) (mt_N Z) (mt_N O)) (mt_sg c D Z O) c ?_ c (c + 1) 0 0 (by omega) (by omega) ?_ (-1) y1 y2 y3 y4
  · intro n i s hi hW y0 y1 y2 y3 y4
    refine br_f (nI_ge hi (by omega)) (mt_foundSet hc hZ hO ?_)
    intro z1 z2 z3 z4
    have hW' := hW (nI i) z1 z2 z3 z4
    unfold mt_sg at hW'
    by_cases e : mt_sY c D Z O i = true
    · rw [if_pos e] at hW'
      exact br_t ((mt_spX c D Z O i).mpr ((mt_spY c D Z O i).mp e)) (nm_e (nm_r (nI_1 i) hW'))
    · rw [if_neg e] at hW'
      exact br_f (fun z => e ((mt_spY c D Z O i).mpr ((mt_spX c D Z O i).mp z))) (nm_r Int32.or_zero (nm_r (nI_1 i) hW'))
  · intro n y0 y1 y2 y3 y4
    exact br_t (nI_le (Nat.le_refl _) (by omega)) (h _ _ _ _)
theorem mt_yw65 {post : Int32 → SY → Prop} {J : Int32 → Int32 → Int32 → Int32 → Int32 → Int32 → Int32 → (Nat → Int32) → (Nat → Int32) → (Nat → Int32) → Prop} {p1 p2 : Int32} {i : Nat} (z : Bool) {x0 x1 x2 x3 x4 : Int32} {a6 a7 a8 : Nat → Int32} (h : J (mt_i (!z)) (nI (i + 1)) x0 x1 x2 x3 x4 a6 a7 a8) : wY_without_65 post J p1 p2 (nI i) (mt_i z) x0 x1 x2 x3 x4 a6 a7 a8 := by
  cases z
  · exact br_t rfl (nm_r (nI_1 i) h)
  · exact br_f (by decide) (nm_r (nI_1 i) h)
theorem mt_yw51 {post : Int32 → SY → Prop} {J : Int32 → Int32 → Int32 → Int32 → Int32 → Int32 → Int32 → (Nat → Int32) → (Nat → Int32) → (Nat → Int32) → Prop} {k : Int32} {m i v a : Nat} (hk : mt_K k) (hv : v < 5) (ha : a < 5) (hva : 4 ≤ k → a ≠ v) (hc : c ≤ 6) (hZ : ∀ j, Z j ≤ 4) (hO : ∀ j, O j ≤ 3) {p2 : Int32} {x1 x2 x3 x4 : Int32} (h : ∀ y1 y2 y3 y4 : Int32, J (mt_i (mt_fd c D Z O (nI m) k (decide (v < a)))) (nI (i + 1)) (nI c) y1 y2 y3 y4 (mt_D D) (mt_N Z) (mt_N O)) : wY_without_51 post J (nI m) p2 (nI i) (nI a) (nI v) k (nI c) x1 x2 x3 x4 (mt_D D) (mt_N Z) (mt_N O) := by
  refine mt_count hk hv ha hva hc hZ hO ?_
  intro y1 y2 y3 y4
  have h' := h y1 y2 y3 y4
  have hl := mt_si_le c D Z O (nI m) k (decide (v < a))
  unfold mt_fd at h'
  by_cases e : mt_si c D Z O (nI m) k (decide (v < a)) = 0
  · rw [decide_eq_true e] at h'
    exact br_t (by rw [e]; decide) (mt_yw65 false h')
  · rw [decide_eq_false e] at h'
    exact br_f (nI_ge (b := 32) (by omega) (by decide)) (mt_yw65 true h')
theorem mt_ywo {post : Int32 → SY → Prop} {m k : Nat} (hk : k < 14) (hc : c ≤ 6) (hZ : ∀ j, Z j ≤ 4) (hO : ∀ j, O j ≤ 3) : ∀ (d n i : Nat) (ok : Bool), i + d = 25 → d < n → (∀ y1 y2 y3 y4 : Int32, post (mt_i (mt_it (fun s i => s && mt_tw c D Z O m k i) d i ok)) (nI c, y1, y2, y3, y4, mt_D D, mt_N Z, mt_N O)) → ∀ y1 y2 y3 y4 : Int32, wY_without_5 post (nI m) (nI k) n (mt_i ok) (nI i) (nI c) y1 y2 y3 y4 (mt_D D) (mt_N Z) (mt_N O) := by
  intro d
  induction d with
  | zero =>
    intro n i ok hi hn h y1 y2 y3 y4
    obtain ⟨n, rfl⟩ : ∃ m, n = m + 1 := ⟨n - 1, by omega⟩
    exact br_t (nI_le (a := 25) (by omega) (by omega)) (And.intro (mt_nar ok) (h _ _ _ _))
  | succ d ih =>
    intro n i ok hi hn h y1 y2 y3 y4
    obtain ⟨n, rfl⟩ : ∃ m, n = m + 1 := ⟨n - 1, by omega⟩
    refine br_f (nI_ge (b := 25) (by omega) (by decide)) ?_
    cases ok
    · rw [mt_allF] at h
      exact br_t rfl (And.intro (mt_nar false) (h _ _ _ _))
    · rw [mt_it_s, Bool.true_and] at h
      refine br_f (by decide) (And.intro (by decide) (And.intro (by decide) ?_))
      have er : nI i - nI i / 5 * 5 = nI (i % 5) := pk_rem (d := 5) (by omega) (by decide) (by decide)
      have ed : nI i / 5 = nI (i / 5) := pk_div (d := 5) (by omega) (by decide) (by decide)
      rw [er, ed]
      refine mt_yfinds hk (by omega) (by omega) hc hZ hO ?_
      intro z1 z2 z3 z4
      have next := ih n (i + 1) (mt_tw c D Z O m k i) (by omega) (by omega) h
      unfold mt_tw at next
      by_cases hf : mt_ff c D Z O k (i / 5) (i % 5) = true
      · rw [hf, Bool.true_and, Bool.not_not] at next
        rw [hf]
        refine br_f (by decide) (And.intro (by decide) ?_)
        by_cases h4 : k < 4
        · refine br_f (nI_ge (b := 4) h4 (by decide)) ?_
          refine mt_yw51 (a := 0) (mt_K_n k hk) (by omega) (by decide) (fun z => absurd z (nI_ge (b := 4) h4 (by decide))) hc hZ hO ?_
          rw [mt_fdb (nI_lt (b := 4) h4 (by decide)) _ (decide (i / 5 < i % 5))]
          exact next
        · refine br_t (nI_le (a := 4) (by omega) (by omega)) (And.intro (by decide) ?_)
          refine mt_yw51 (mt_K_n k hk) (by omega) (by omega) (fun _ e => ?_) hc hZ hO next
          unfold mt_ff at hf
          rw [decide_eq_false h4, Bool.false_or, decide_eq_false (fun z => z e), Bool.false_and] at hf
          exact absurd hf (by decide)
      · have hf' : mt_ff c D Z O k (i / 5) (i % 5) = false := by
          cases h9 : mt_ff c D Z O k (i / 5) (i % 5)
          · rfl
          · exact absurd h9 hf
        rw [hf', Bool.false_and] at next
        rw [hf']
        exact br_t rfl (mt_yw65 false (next _ _ _ _))
theorem mt_ywout {post : Int32 → SY → Prop} {m k : Nat} (hk : k < 14) (hc : c ≤ 6) (hZ : ∀ j, Z j ≤ 4) (hO : ∀ j, O j ≤ 3) {x1 x2 x3 x4 : Int32} (h : ∀ y1 y2 y3 y4 : Int32, post (mt_i (mt_wt c D Z O m k)) (nI c, y1, y2, y3, y4, mt_D D, mt_N Z, mt_N O)) : wpY_without post (nI c, x1, x2, x3, x4, mt_D D, mt_N Z, mt_N O) (nI m) (nI k) :=
  Exists.intro 26 (mt_ywo hk hc hZ hO 25 26 0 true (by omega) (by omega) h x1 x2 x3 x4)
theorem mt_y17 {post : Int32 → SY → Prop} {J : Int32 → Int32 → Int32 → Int32 → Int32 → Int32 → Int32 → (Nat → Int32) → (Nat → Int32) → (Nat → Int32) → Prop} {s : Int32} {m : Nat} (hc : c ≤ 6) (hZ : ∀ j, Z j ≤ 4) (hO : ∀ j, O j ≤ 3) : ∀ (d n k : Nat) (ok : Bool), k + d = 14 → d < n → (∀ y1 y2 y3 y4 : Int32, wY_spare_42 post J s (nI m) (mt_i (mt_it (fun s k => s && mt_wt c D Z O m k) d k ok)) (nI c) y1 y2 y3 y4 (mt_D D) (mt_N Z) (mt_N O)) → ∀ y1 y2 y3 y4 : Int32, wY_spare_17 post J s (nI m) n (mt_i ok) (nI k) (nI c) y1 y2 y3 y4 (mt_D D) (mt_N Z) (mt_N O) := by
  intro d
  induction d with
  | zero =>
    intro n k ok hk hn h y1 y2 y3 y4
    obtain ⟨n, rfl⟩ : ∃ m, n = m + 1 := ⟨n - 1, by omega⟩
    exact br_t (nI_le (a := 14) (by omega) (by omega)) (h _ _ _ _)
  | succ d ih =>
    intro n k ok hk hn h y1 y2 y3 y4
    obtain ⟨n, rfl⟩ : ∃ m, n = m + 1 := ⟨n - 1, by omega⟩
    refine br_f (nI_ge (b := 14) (by omega) (by decide)) ?_
    cases ok
    · rw [mt_allF] at h
      exact br_t rfl (h _ _ _ _)
    · rw [mt_it_s, Bool.true_and] at h
      refine br_f (by decide) (mt_ywout (by omega) hc hZ hO ?_)
      intro z1 z2 z3 z4
      exact nm_r (nI_1 k) (ih n (k + 1) (mt_wt c D Z O m k) (by omega) (by omega) h z1 z2 z3 z4)
theorem mt_yspare {post : Int32 → SY → Prop} (hc : c ≤ 6) (hZ : ∀ j, Z j ≤ 4) (hO : ∀ j, O j ≤ 3) {x1 x2 x3 x4 : Int32} (h : ∀ y1 y2 y3 y4 : Int32, post (mt_it (mt_sg c D Z O) c 0 0) (nI c, y1, y2, y3, y4, mt_D D, mt_N Z, mt_N O)) : wpY_spare post (nI c, x1, x2, x3, x4, mt_D D, mt_N Z, mt_N O) := by
  refine Exists.intro (c + 1) ?_
  refine mt_lp (fun n i s => ∀ y1 y2 y3 y4 : Int32, wY_spare_4 post n s (nI i) (nI c) y1 y2 y3 y4 (mt_D D) (mt_N Z) (mt_N O)) (mt_sg c D Z O) c ?_ c (c + 1) 0 0 (by omega) (by omega) ?_ x1 x2 x3 x4
  · intro n i s hi hW y1 y2 y3 y4
    refine br_f (nI_ge hi (by omega)) (Exists.intro 15 ?_)
    refine mt_y17 hc hZ hO 14 15 0 true (by omega) (by omega) ?_ y1 y2 y3 y4
    intro z1 z2 z3 z4
    have hW' := hW z1 z2 z3 z4
    unfold mt_sg mt_sY at hW'
    revert hW'
    cases mt_it (fun s k => s && mt_wt c D Z O i k) 14 0 true
    · exact fun hW' => br_t rfl (nm_r (nI_1 i) hW')
    · exact fun hW' => br_f (by decide) (nm_e (nm_r (nI_1 i) hW'))
  · intro n y1 y2 y3 y4
    exact br_t (nI_le (Nat.le_refl _) (by omega)) (h _ _ _ _)
end
end
section
/-! the relation, and the short methods -/
/-- the relation: the same test on both sides, no march left out; the fields of a run at hand are free -/
def i_Rel (k : Nat) (u : SX) (v : SY) : Prop := ∃ (c : Nat) (D : Nat → Bool) (Z O : Nat → Nat) (x1 x2 x3 x4 y1 y2 y3 y4 : Int32), c ≤ 6 ∧ (∀ j, Z j ≤ 4) ∧ (∀ j, O j ≤ 3) ∧ u = (nI c, -1, x1, x2, x3, x4, mt_D D, mt_N Z, mt_N O) ∧ v = (nI c, y1, y2, y3, y4, mt_D D, mt_N Z, mt_N O)
theorem mt_mk {k c : Nat} {D : Nat → Bool} {Z O : Nat → Nat} (hc : c ≤ 6) (hZ : ∀ j, Z j ≤ 4) (hO : ∀ j, O j ≤ 3) (x1 x2 x3 x4 y1 y2 y3 y4 : Int32) : i_Rel k (nI c, -1, x1, x2, x3, x4, mt_D D, mt_N Z, mt_N O) (nI c, y1, y2, y3, y4, mt_D D, mt_N Z, mt_N O) :=
  ⟨c, D, Z, O, x1, x2, x3, x4, y1, y2, y3, y4, hc, hZ, hO, rfl, rfl⟩
theorem i_up {k : Nat} {u : SX} {v : SY} (h : i_Rel k u v) : i_Rel (k + 4) u v := h
theorem i_vc0 : wpX_init (fun u => wpY_init (fun v => i_Rel 0 u v)) :=
  ⟨0, fun _ => false, fun _ => 0, fun _ => 0, 0, 0, 0, 0, 0, 0, 0, 0, by decide, fun _ => Nat.zero_le _, fun _ => Nat.zero_le _, rfl, rfl⟩
theorem mt_nbi (b : Bool) : vp_nar .byte (mt_i b).toInt8.toInt32 = mt_i b := by rw [vp_nar_byte]; cases b <;> decide
theorem mt_nbn : ∀ q, q < 8 → vp_nar .byte (nI q).toInt8.toInt32 = nI q := by
  have h : ∀ q, q < 8 → (nI q).toInt8.toInt32.toInt8.toInt32 = nI q := by decide +kernel
  intro q hq
  rw [vp_nar_byte]
  exact h q hq
theorem mt_nb0 : vp_nar .byte 0 = nI 0 := by rw [vp_nar_byte]; decide
section
variable {c : Nat} {w x1 x2 x3 x4 : Int32} {D : Nat → Bool} {Z O : Nat → Nat}
theorem mt_xm {post : Int32 → SX → Prop} (d : Bool) (h1 : c < 6 → post (nI c) (nI (c + 1), w, x1, x2, x3, x4, mt_D (mt_ub D c d), mt_N (mt_un Z c 0), mt_N O)) (h2 : ¬ c < 6 → post (-2) (nI c, w, x1, x2, x3, x4, mt_D D, mt_N Z, mt_N O)) (hc : c ≤ 6) : wX_march_11 post (mt_i d) (nI c) w x1 x2 x3 x4 (mt_D D) (mt_N Z) (mt_N O) := by
  by_cases h : c < 6
  · have hin : vp_in (nI c) 6 := vp_in_nI h (by decide)
    refine br_t (nI_lt (b := 6) h (by decide)) (And.intro hin (nm_r (e' := mt_D (mt_ub D c d)) ?_ (And.intro hin (nm_r (e' := mt_N (mt_un Z c 0)) ?_ (nm_r (nI_1 c) ?_)))))
    · rw [mt_nbi, nI_clamp (by omega), mt_D_upd]
    · rw [mt_nb0, nI_clamp (by omega), mt_N_upd]
    · rw [nI_pred]
      exact h1 h
  · exact br_f (nI_nlt (b := 6) (by omega) (by omega)) (h2 h)
theorem mt_ym {post : Int32 → SY → Prop} (d : Bool) (h1 : c < 6 → post (nI c) (nI (c + 1), x1, x2, x3, x4, mt_D (mt_ub D c d), mt_N (mt_un Z c 0), mt_N O)) (h2 : ¬ c < 6 → post (-2) (nI c, x1, x2, x3, x4, mt_D D, mt_N Z, mt_N O)) (hc : c ≤ 6) : wY_march_11 post (mt_i d) (nI c) x1 x2 x3 x4 (mt_D D) (mt_N Z) (mt_N O) := by
  by_cases h : c < 6
  · have hin : vp_in (nI c) 6 := vp_in_nI h (by decide)
    refine br_t (nI_lt (b := 6) h (by decide)) (And.intro hin (nm_r (e' := mt_D (mt_ub D c d)) ?_ (And.intro hin (nm_r (e' := mt_N (mt_un Z c 0)) ?_ (nm_r (nI_1 c) ?_)))))
    · rw [nI_clamp (by omega), mt_D_upd]
    · rw [nI_clamp (by omega), show (0 : Int32) = nI 0 from rfl, mt_N_upd]
    · rw [nI_pred]
      exact h1 h
  · exact br_f (nI_nlt (b := 6) (by omega) (by omega)) (h2 h)
theorem mt_xop {post : Int32 → SX → Prop} {m q : Nat} (hm : m + 1 ≤ 6) (hq : q ≤ 3) (hZ : ∀ j, Z j ≤ 4) (h1 : Z m < 4 → post (nI (Z m + 1)) (nI (m + 1), w, x1, x2, x3, x4, mt_D D, mt_N (mt_un Z m (Z m + 1)), mt_N (mt_un O (4 * m + Z m) q))) (h2 : ¬ Z m < 4 → post (-2) (nI (m + 1), w, x1, x2, x3, x4, mt_D D, mt_N Z, mt_N O)) : wpX_op post (nI (m + 1), w, x1, x2, x3, x4, mt_D D, mt_N Z, mt_N O) (nI q) := by
  have hz := hZ m
  have hin : vp_in (nI m) 6 := vp_in_nI (by omega) (by decide)
  have ez : mt_N Z (nI m).toNatClampNeg = nI (Z m) := mt_N_at Z (by omega)
  refine br_f (nI_pos (by omega)) (br_f (nI_nlt (a := 3) hq (by decide)) (br_f (nI_ne0 (by omega) (by omega)) (nm_r (nI_pred m) (And.intro hin ?_))))
  by_cases h : Z m < 4
  · refine br_t (by rw [ez]; exact nI_lt (b := 4) h (by decide)) (And.intro hin (And.intro ?_ (nm_r (e' := mt_N (mt_un O (4 * m + Z m) q)) ?_ (And.intro hin (And.intro hin (nm_r (e' := mt_N (mt_un Z m (Z m + 1))) ?_ (And.intro hin ?_)))))))
    · rw [ez, mt_ix]; exact vp_in_nI (by omega) (by decide)
    · rw [ez, mt_ix, nI_clamp (by omega), mt_nbn q (by omega), mt_N_upd]
    · rw [ez, nI_1, nI_clamp (by omega), mt_nbn _ (by omega), mt_N_upd]
    · rw [mt_N_at _ (by omega), show mt_un Z m (Z m + 1) m = Z m + 1 from if_pos rfl]
      exact h1 h
  · exact br_f (by rw [ez]; exact nI_nlt (b := 4) (by omega) (by omega)) (h2 h)
theorem mt_iy {m i : Nat} : 4 * nI m + nI i = nI (4 * m + i) := by
  rw [show (4 : Int32) = nI 4 from rfl, pk_mul, nI_add]
theorem mt_yop {post : Int32 → SY → Prop} {m q : Nat} (hm : m + 1 ≤ 6) (hq : q ≤ 3) (hZ : ∀ j, Z j ≤ 4) (h1 : Z m < 4 → post (nI (Z m + 1)) (nI (m + 1), x1, x2, x3, x4, mt_D D, mt_N (mt_un Z m (Z m + 1)), mt_N (mt_un O (4 * m + Z m) q))) (h2 : ¬ Z m < 4 → post (-2) (nI (m + 1), x1, x2, x3, x4, mt_D D, mt_N Z, mt_N O)) : wpY_op post (nI (m + 1), x1, x2, x3, x4, mt_D D, mt_N Z, mt_N O) (nI q) := by
  have hz := hZ m
  have hin : vp_in (nI m) 6 := vp_in_nI (by omega) (by decide)
  have ez : mt_N Z (nI m).toNatClampNeg = nI (Z m) := mt_N_at Z (by omega)
  refine br_f (nI_pos (by omega)) (br_f (nI_nlt (a := 3) hq (by decide)) (br_f (nI_ne0 (by omega) (by omega)) (nm_r (nI_pred m) (And.intro hin ?_))))
  by_cases h : Z m < 4
  · refine br_t (by rw [ez]; exact nI_lt (b := 4) h (by decide)) (And.intro hin (And.intro ?_ (nm_r (e' := mt_N (mt_un O (4 * m + Z m) q)) ?_ (And.intro hin (And.intro hin (nm_r (e' := mt_N (mt_un Z m (Z m + 1))) ?_ (And.intro hin ?_)))))))
    · rw [ez, mt_iy]; exact vp_in_nI (by omega) (by decide)
    · rw [ez, mt_iy, nI_clamp (by omega), mt_N_upd]
    · rw [ez, nI_1, nI_clamp (by omega), mt_N_upd]
    · rw [mt_N_at _ (by omega), show mt_un Z m (Z m + 1) m = Z m + 1 from if_pos rfl]
      exact h1 h
  · exact br_f (by rw [ez]; exact nI_nlt (b := 4) (by omega) (by omega)) (h2 h)
theorem mt_xdrop {post : Int32 → SX → Prop} {m : Nat} (hm : m + 1 ≤ 6) (hZ : ∀ j, Z j ≤ 4) (h1 : Z m = 0 → post (nI m) (nI m, w, x1, x2, x3, x4, mt_D D, mt_N Z, mt_N O)) (h2 : ¬ Z m = 0 → post (nI (m + 1)) (nI (m + 1), w, x1, x2, x3, x4, mt_D D, mt_N (mt_un Z m (Z m - 1)), mt_N O)) : wpX_drop post (nI (m + 1), w, x1, x2, x3, x4, mt_D D, mt_N Z, mt_N O) := by
  have hz := hZ m
  have hin : vp_in (nI m) 6 := vp_in_nI (by omega) (by decide)
  have ez : mt_N Z (nI m).toNatClampNeg = nI (Z m) := mt_N_at Z (by omega)
  refine br_f (nI_ne0 (by omega) (by omega)) ?_
  rw [nI_pred]
  refine And.intro hin ?_
  by_cases h : Z m = 0
  · exact br_t (by rw [ez, h]; decide) (nm_e (h1 h))
  · refine br_f (by rw [ez]; exact nI_nle (by omega) (by omega)) (And.intro hin (And.intro hin (nm_r (e' := mt_N (mt_un Z m (Z m - 1))) ?_ (h2 h))))
    rw [ez, show nI (Z m) - 1 = nI (Z m - 1) from pk_sub (b := 1) (by omega), nI_clamp (by omega), mt_nbn _ (by omega), mt_N_upd]
theorem mt_ydrop {post : Int32 → SY → Prop} {m : Nat} (hm : m + 1 ≤ 6) (hZ : ∀ j, Z j ≤ 4) (h1 : Z m = 0 → post (nI m) (nI m, x1, x2, x3, x4, mt_D D, mt_N Z, mt_N O)) (h2 : ¬ Z m = 0 → post (nI (m + 1)) (nI (m + 1), x1, x2, x3, x4, mt_D D, mt_N (mt_un Z m (Z m - 1)), mt_N O)) : wpY_drop post (nI (m + 1), x1, x2, x3, x4, mt_D D, mt_N Z, mt_N O) := by
  have hz := hZ m
  have hin : vp_in (nI m) 6 := vp_in_nI (by omega) (by decide)
  have ez : mt_N Z (nI m).toNatClampNeg = nI (Z m) := mt_N_at Z (by omega)
  refine br_f (nI_ne0 (by omega) (by omega)) ?_
  rw [nI_pred]
  refine And.intro hin ?_
  by_cases h : Z m = 0
  · exact br_t (by rw [ez, h]; decide) (nm_e (h1 h))
  · refine br_f (by rw [ez]; exact nI_nle (by omega) (by omega)) (And.intro hin (And.intro hin (nm_r (e' := mt_N (mt_un Z m (Z m - 1))) ?_ (h2 h))))
    rw [ez, show nI (Z m) - 1 = nI (Z m - 1) from pk_sub (b := 1) (by omega), nI_clamp (by omega), mt_N_upd]
/-- steps -/
def mt_sf (Z : Nat → Nat) (s : Int32) (m : Nat) : Int32 := s + 5 * nI (Z m)
theorem mt_xsteps {post : Int32 → Prop} (hc : c ≤ 6) (h : post (mt_it (mt_sf Z) c 0 0)) : wpX_steps post (nI c, w, x1, x2, x3, x4, mt_D D, mt_N Z, mt_N O) := by
  refine Exists.intro (c + 1) ?_
  refine mt_lp (fun n i s => wX_steps_4 post (nI c) w x1 x2 x3 x4 (mt_D D) (mt_N Z) (mt_N O) n s (nI i)) (mt_sf Z) c ?_ c (c + 1) 0 0 (by omega) (by omega) ?_
  · intro n i s hi hW
    exact br_f (nI_ge hi (by omega)) (And.intro (vp_in_nI (by omega) (by decide)) (nm_r (e' := mt_sf Z s i) (by rw [mt_N_at Z (by omega)]; rfl) (nm_r (nI_1 i) hW)))
  · intro n
    exact br_t (nI_le (Nat.le_refl _) (by omega)) h
theorem mt_ysteps {post : Int32 → Prop} (hc : c ≤ 6) (h : post (mt_it (mt_sf Z) c 0 0)) : wpY_steps post (nI c, x1, x2, x3, x4, mt_D D, mt_N Z, mt_N O) := by
  refine Exists.intro (c + 1) ?_
  refine mt_lp (fun n i s => wY_steps_4 post (nI c) x1 x2 x3 x4 (mt_D D) (mt_N Z) (mt_N O) n s (nI i)) (mt_sf Z) c ?_ c (c + 1) 0 0 (by omega) (by omega) ?_
  · intro n i s hi hW
    exact br_f (nI_ge hi (by omega)) (And.intro (vp_in_nI (by omega) (by decide)) (nm_r (e' := mt_sf Z s i) (by rw [mt_N_at Z (by omega)]; rfl) (nm_r (nI_1 i) hW)))
  · intro n
    exact br_t (nI_le (Nat.le_refl _) (by omega)) h
end
end
section
/-! what is owed, one a method -/
theorem mt_0s (c : Nat) : c = 0 ∨ ∃ m, c = m + 1 := by
  cases c with
  | zero => exact Or.inl rfl
  | succ m => exact Or.inr ⟨m, rfl⟩
theorem i_vc_march {k : Nat} {u : SX} {v : SY} (I : i_Rel k u v) (hk : k + 4 ≤ 2048) (v1 : Int32) : wpX_march (fun r u' => wpY_march (fun r' v' => r' = r ∧ i_Rel (k + 4) u' v') v v1) u v1 := by
  obtain ⟨c, D, Z, O, x1, x2, x3, x4, y1, y2, y3, y4, hc, hZ, hO, rfl, rfl⟩ := I
  by_cases h0 : v1 = 0
  · subst h0
    refine br_t rfl (mt_xm false (fun h => ?_) (fun h => ?_) hc)
    · exact br_t rfl (mt_ym false (fun _ => ⟨rfl, mt_mk (by omega) (mt_un_le hZ (by decide)) hO _ _ _ _ _ _ _ _⟩) (fun n => absurd h n) hc)
    · exact br_t rfl (mt_ym false (fun n => absurd n h) (fun _ => ⟨rfl, mt_mk hc hZ hO _ _ _ _ _ _ _ _⟩) hc)
  · refine br_f h0 ?_
    by_cases h1 : v1 = 1
    · subst h1
      refine br_t rfl (mt_xm true (fun h => ?_) (fun h => ?_) hc)
      · exact br_f h0 (br_t rfl (mt_ym true (fun _ => ⟨rfl, mt_mk (by omega) (mt_un_le hZ (by decide)) hO _ _ _ _ _ _ _ _⟩) (fun n => absurd h n) hc))
      · exact br_f h0 (br_t rfl (mt_ym true (fun n => absurd n h) (fun _ => ⟨rfl, mt_mk hc hZ hO _ _ _ _ _ _ _ _⟩) hc))
    · exact br_f h1 (br_f h0 (br_f h1 ⟨rfl, mt_mk hc hZ hO _ _ _ _ _ _ _ _⟩))
theorem i_vc_op {k : Nat} {u : SX} {v : SY} (I : i_Rel k u v) (hk : k + 4 ≤ 2048) (v1 : Int32) : wpX_op (fun r u' => wpY_op (fun r' v' => r' = r ∧ i_Rel (k + 4) u' v') v v1) u v1 := by
  obtain ⟨c, D, Z, O, x1, x2, x3, x4, y1, y2, y3, y4, hc, hZ, hO, rfl, rfl⟩ := I
  have rel := mt_mk (k := k + 4) (D := D) hc hZ hO x1 x2 x3 x4 y1 y2 y3 y4
  rcases pk_ix v1 (n := 4) (by decide) with h | h | ⟨q, hq, rfl⟩
  · exact br_t h (br_t h ⟨rfl, rel⟩)
  · have h3 : (3 : Int32) < v1 := mt_gt (n := 3) (by decide) h
    exact br_c (fun z => br_t z ⟨rfl, rel⟩) (fun z => br_t h3 (br_f z (br_t h3 ⟨rfl, rel⟩)))
  · have p1 : ¬ nI q < 0 := nI_pos (by omega)
    have p2 : ¬ (3 : Int32) < nI q := nI_nlt (a := 3) (by omega) (by decide)
    rcases mt_0s c with rfl | ⟨m, rfl⟩
    · exact br_f p1 (br_f p2 (br_t rfl (br_f p1 (br_f p2 (br_t rfl ⟨rfl, rel⟩)))))
    · refine mt_xop hc (by omega) hZ (fun h => ?_) (fun h => ?_)
      · exact mt_yop hc (by omega) hZ (fun _ => ⟨rfl, mt_mk hc (mt_un_le hZ (by omega)) (mt_un_le hO (by omega)) _ _ _ _ _ _ _ _⟩) (fun n => absurd h n)
      · exact mt_yop hc (by omega) hZ (fun n => absurd n h) (fun _ => ⟨rfl, rel⟩)
theorem i_vc_drop {k : Nat} {u : SX} {v : SY} (I : i_Rel k u v) (hk : k + 4 ≤ 2048) : wpX_drop (fun r u' => wpY_drop (fun r' v' => r' = r ∧ i_Rel (k + 4) u' v') v) u := by
  obtain ⟨c, D, Z, O, x1, x2, x3, x4, y1, y2, y3, y4, hc, hZ, hO, rfl, rfl⟩ := I
  have rel := mt_mk (k := k + 4) (D := D) hc hZ hO x1 x2 x3 x4 y1 y2 y3 y4
  rcases mt_0s c with rfl | ⟨m, rfl⟩
  · exact br_t rfl (br_t rfl ⟨rfl, rel⟩)
  · have hz := hZ m
    refine mt_xdrop hc hZ (fun h => ?_) (fun h => ?_)
    · exact mt_ydrop hc hZ (fun _ => ⟨rfl, mt_mk (by omega) hZ hO _ _ _ _ _ _ _ _⟩) (fun n => absurd h n)
    · exact mt_ydrop hc hZ (fun n => absurd n h) (fun _ => ⟨rfl, mt_mk hc (mt_un_le hZ (by omega)) hO _ _ _ _ _ _ _ _⟩)
theorem i_vc_turn {k : Nat} {u : SX} {v : SY} (I : i_Rel k u v) (hk : k + 4 ≤ 2048) (v1 : Int32) : wpX_turn (fun r u' => wpY_turn (fun r' v' => r' = r ∧ i_Rel (k + 4) u' v') v v1) u v1 := by
  obtain ⟨c, D, Z, O, x1, x2, x3, x4, y1, y2, y3, y4, hc, hZ, hO, rfl, rfl⟩ := I
  have rel := mt_mk (k := k + 4) (D := D) hc hZ hO x1 x2 x3 x4 y1 y2 y3 y4
  rcases pk_ix v1 (n := c) (by omega) with h | h | ⟨j, hj, rfl⟩
  · exact br_t h (br_t h ⟨rfl, rel⟩)
  · have h' : ¬ v1 < nI c := Int32.not_lt.mpr h
    exact br_c (fun z => br_t z ⟨rfl, rel⟩) (fun z => br_f h' (br_f z (br_f h' ⟨rfl, rel⟩)))
  · have p1 : ¬ nI j < 0 := nI_pos (by omega)
    have p2 : nI j < nI c := nI_lt hj (by omega)
    have hin : vp_in (nI j) 6 := vp_in_nI (by omega) (by decide)
    refine br_f p1 (br_t p2 (And.intro hin (And.intro hin (nm_r (e' := mt_D (mt_ub D j (!(D j)))) ?_ ?_))))
    · rw [mt_D_at D (by omega), mt_1s, mt_nbi, nI_clamp (by omega), mt_D_upd]
    · refine br_f p1 (br_t p2 (And.intro hin (And.intro hin (nm_r (e' := mt_D (mt_ub D j (!(D j)))) ?_ ⟨rfl, mt_mk hc hZ hO _ _ _ _ _ _ _ _⟩))))
      rw [mt_D_at D (by omega), mt_1s, nI_clamp (by omega), mt_D_upd]
theorem i_vc_marches {k : Nat} {u : SX} {v : SY} (I : i_Rel k u v) (hk : k + 4 ≤ 2048) : wpX_marches (fun r => wpY_marches (fun r' => r' = r ∧ i_Rel (k + 4) u v) v) u := by
  obtain ⟨c, D, Z, O, x1, x2, x3, x4, y1, y2, y3, y4, hc, hZ, hO, rfl, rfl⟩ := I
  exact ⟨rfl, mt_mk hc hZ hO _ _ _ _ _ _ _ _⟩
theorem mt_snd {c : Nat} {D : Nat → Bool} {Z O : Nat → Nat} : 32 - mt_si c D Z O (-1) (-1) false = 0 ↔ mt_q c D Z O (-1) = 2 := by
  rw [mt_bl (k := -1) (by decide) false true]
  have e : mt_n c D Z O (-1) (-1) true = mt_q c D Z O (-1) := if_pos (by decide)
  unfold mt_si
  rw [e, if_pos (by decide : (-1 : Int32) < 4)]
  have h := mt_q_le c D Z O (-1)
  generalize mt_q c D Z O (-1) = q at h ⊢
  rcases (by omega : q = 0 ∨ q = 1 ∨ q = 2) with rfl | rfl | rfl <;> decide
theorem i_vc_sound {k : Nat} {u : SX} {v : SY} (I : i_Rel k u v) (hk : k + 4 ≤ 2048) : wpX_sound (fun r u' => wpY_sound (fun r' v' => r' = r ∧ i_Rel (k + 4) u' v') v) u := by
  obtain ⟨c, D, Z, O, x1, x2, x3, x4, y1, y2, y3, y4, hc, hZ, hO, rfl, rfl⟩ := I
  refine mt_quiet hc hZ hO ?_
  intro z1 z2 z3 z4
  have hq := mt_q_le c D Z O (-1)
  have hl := mt_si_le c D Z O (-1) (-1) false
  by_cases e : mt_q c D Z O (-1) = 2
  · refine br_t (by rw [e]; rfl) ?_
    refine mt_count (v := 0) (a := 0) (x1 := y1) (x2 := y2) (x3 := y3) (x4 := y4) mt_K_m (by decide) (by decide) (fun z => absurd z (by decide)) hc hZ hO ?_
    intro y1 y2 y3 y4
    have e0 := mt_snd.mpr e
    exact br_t (by rw [show decide (0 < 0) = false from rfl, e0]; rfl) ⟨rfl, mt_mk hc hZ hO _ _ _ _ _ _ _ _⟩
  · refine br_f (fun z => e ((nI_eq (b := 2) (by omega) (by decide)).mp z)) ?_
    refine mt_count (v := 0) (a := 0) (x1 := y1) (x2 := y2) (x3 := y3) (x4 := y4) mt_K_m (by decide) (by decide) (fun z => absurd z (by decide)) hc hZ hO ?_
    intro y1 y2 y3 y4
    have e0 : ¬ 32 - mt_si c D Z O (-1) (-1) false = 0 := fun z => e (mt_snd.mp z)
    exact br_f (nI_ne0 (by rw [show decide (0 < 0) = false from rfl]; omega) (by omega)) ⟨rfl, mt_mk hc hZ hO _ _ _ _ _ _ _ _⟩
theorem i_vc_steps {k : Nat} {u : SX} {v : SY} (I : i_Rel k u v) (hk : k + 4 ≤ 2048) : wpX_steps (fun r => wpY_steps (fun r' => r' = r ∧ i_Rel (k + 4) u v) v) u := by
  obtain ⟨c, D, Z, O, x1, x2, x3, x4, y1, y2, y3, y4, hc, hZ, hO, rfl, rfl⟩ := I
  exact mt_xsteps hc (mt_ysteps hc ⟨rfl, mt_mk hc hZ hO _ _ _ _ _ _ _ _⟩)
theorem i_vc_finds {k : Nat} {u : SX} {v : SY} (I : i_Rel k u v) (hk : k + 4 ≤ 2048) (v1 : Int32) (v2 : Int32) (v3 : Int32) : wpX_finds (fun r u' => wpY_finds (fun r' v' => r' = r ∧ i_Rel (k + 4) u' v') v v1 v2 v3) u v1 v2 v3 := by
  obtain ⟨c, D, Z, O, x1, x2, x3, x4, y1, y2, y3, y4, hc, hZ, hO, rfl, rfl⟩ := I
  obtain ⟨r, hX, hY, hr⟩ := mt_flt v1 v2 v3
  unfold wpX_finds wpY_finds
  dsimp only
  refine hX _ ?_
  cases r
  · refine br_t rfl (hY _ _ ?_)
    exact br_t rfl ⟨rfl, mt_mk hc hZ hO _ _ _ _ _ _ _ _⟩
  · obtain ⟨q, p, hq, hp, rfl, rfl, ha⟩ := hr rfl
    have hK := mt_K_n q hq
    -- for either answer to v < a, both sides
    have key : ∀ bl : Bool, (4 ≤ q → ∀ a, a < 5 → v3 = nI a → bl = decide (p < a)) → wX_finds_21 (fun r u' => wpY_finds (fun r' v' => r' = r ∧ i_Rel (k + 4) u' v') (nI c, y1, y2, y3, y4, mt_D D, mt_N Z, mt_N O) (nI q) (nI p) v3) (mt_i bl) (nI q) (nI c) (-1) x1 x2 x3 x4 (mt_D D) (mt_N Z) (mt_N O) := by
      intro bl hb
      refine mt_x21 hK hc hZ hO bl ?_
      intro z1 z2 z3 z4
      unfold wpY_finds
      dsimp only
      refine hY _ _ (br_f (by decide) ?_)
      by_cases h4 : q < 4
      · refine br_f (nI_ge (b := 4) h4 (by decide)) (mt_y23 (a := 0) hK hp (by decide) (fun z => absurd z (nI_ge (b := 4) h4 (by decide))) hc hZ hO ?_)
        intro w1 w2 w3 w4
        exact ⟨congrArg mt_i (mt_fdb (nI_lt (b := 4) h4 (by decide)) _ _), mt_mk hc hZ hO _ _ _ _ _ _ _ _⟩
      · obtain ⟨a, ha5, hap, rfl⟩ := ha (by omega)
        refine br_t (nI_le (a := 4) (by omega) (by omega)) (mt_y23 hK hp ha5 (fun _ => hap) hc hZ hO ?_)
        intro w1 w2 w3 w4
        exact ⟨by rw [hb (by omega) a ha5 rfl], mt_mk hc hZ hO _ _ _ _ _ _ _ _⟩
    refine br_f (by decide) (br_c (fun hle => ?_) (fun hle => ?_))
    · refine key false (fun _ a h5 e => ?_)
      rw [e, nI_leI (by omega) (by omega)] at hle
      rw [decide_eq_false (by omega)]
    · refine key true (fun _ a h5 e => ?_)
      rw [e, nI_leI (by omega) (by omega)] at hle
      rw [decide_eq_true (by omega)]
theorem i_vc_found {k : Nat} {u : SX} {v : SY} (I : i_Rel k u v) (hk : k + 4 ≤ 2048) (v1 : Int32) : wpX_found (fun r u' => wpY_found (fun r' v' => r' = r ∧ i_Rel (k + 4) u' v') v v1) u v1 := by
  obtain ⟨c, D, Z, O, x1, x2, x3, x4, y1, y2, y3, y4, hc, hZ, hO, rfl, rfl⟩ := I
  have rel := mt_mk (k := k + 4) (D := D) hc hZ hO x1 x2 x3 x4 y1 y2 y3 y4
  rcases pk_ix v1 (n := 14) (by decide) with h | h | ⟨q, hq, rfl⟩
  · exact br_t h (br_t h ⟨rfl, rel⟩)
  · have h1 : ¬ v1 < 14 := Int32.not_lt.mpr h
    have h2 : ¬ v1 ≤ 13 := Int32.not_le.mpr (mt_gt (n := 13) (by decide) h)
    exact br_c (fun z => br_t z ⟨rfl, rel⟩) (fun z => br_f h1 (br_f z (br_f h2 ⟨rfl, rel⟩)))
  · refine mt_xfound hq hc hZ hO ?_
    intro z1 z2 z3 z4
    refine mt_yfound hq hc hZ hO ?_
    intro w1 w2 w3 w4
    exact ⟨rfl, mt_mk hc hZ hO _ _ _ _ _ _ _ _⟩
theorem i_vc_covered {k : Nat} {u : SX} {v : SY} (I : i_Rel k u v) (hk : k + 4 ≤ 2048) : wpX_covered (fun r u' => wpY_covered (fun r' v' => r' = r ∧ i_Rel (k + 4) u' v') v) u := by
  obtain ⟨c, D, Z, O, x1, x2, x3, x4, y1, y2, y3, y4, hc, hZ, hO, rfl, rfl⟩ := I
  refine mt_xcov hc hZ hO ?_
  intro z1 z2 z3 z4
  refine mt_ycov hc hZ hO ?_
  intro w1 w2 w3 w4
  exact ⟨rfl, mt_mk hc hZ hO _ _ _ _ _ _ _ _⟩
theorem i_vc_foundFrom {k : Nat} {u : SX} {v : SY} (I : i_Rel k u v) (hk : k + 4 ≤ 2048) (v1 : Int32) (v2 : Int32) (v3 : Int32) : wpX_foundFrom (fun r u' => wpY_foundFrom (fun r' v' => r' = r ∧ i_Rel (k + 4) u' v') v v1 v2 v3) u v1 v2 v3 := by
  obtain ⟨c, D, Z, O, x1, x2, x3, x4, y1, y2, y3, y4, hc, hZ, hO, rfl, rfl⟩ := I
  obtain ⟨r, hX, hY, hr⟩ := mt_flt v1 v2 v3
  unfold wpX_foundFrom wpY_foundFrom
  dsimp only
  refine hX _ ?_
  cases r
  · refine br_t rfl (hY _ _ ?_)
    exact br_t rfl ⟨rfl, mt_mk hc hZ hO _ _ _ _ _ _ _ _⟩
  · obtain ⟨q, p, hq, hp, rfl, rfl, ha⟩ := hr rfl
    have hK := mt_K_n q hq
    have key : ∀ bl : Bool, (4 ≤ q → ∀ a, a < 5 → v3 = nI a → bl = decide (p < a)) → wX_foundFrom_23 (fun r u' => wpY_foundFrom (fun r' v' => r' = r ∧ i_Rel (k + 4) u' v') (nI c, y1, y2, y3, y4, mt_D D, mt_N Z, mt_N O) (nI q) (nI p) v3) (mt_i bl) (nI q) 32 (nI c) (-1) x1 x2 x3 x4 (mt_D D) (mt_N Z) (mt_N O) := by
      intro bl hb
      refine mt_silent hK hc hZ hO bl ?_
      intro z1 z2 z3 z4
      have hl := mt_si_le c D Z O (-1) (nI q) bl
      have es : (32 : Int32) - nI (mt_si c D Z O (-1) (nI q) bl) = nI (32 - mt_si c D Z O (-1) (nI q) bl) := pk_sub (a := 32) hl
      dsimp only
      rw [es]
      unfold wpY_foundFrom
      dsimp only
      refine hY _ _ (br_f (by decide) ?_)
      by_cases h4 : q < 4
      · refine br_f (nI_ge (b := 4) h4 (by decide)) (mt_count (a := 0) hK hp (by decide) (fun z => absurd z (nI_ge (b := 4) h4 (by decide))) hc hZ hO ?_)
        intro w1 w2 w3 w4
        exact ⟨by rw [mt_bl (nI_lt (b := 4) h4 (by decide)) (decide (p < 0)) bl], mt_mk hc hZ hO _ _ _ _ _ _ _ _⟩
      · obtain ⟨a, ha5, hap, rfl⟩ := ha (by omega)
        refine br_t (nI_le (a := 4) (by omega) (by omega)) (mt_count hK hp ha5 (fun _ => hap) hc hZ hO ?_)
        intro w1 w2 w3 w4
        exact ⟨by rw [hb (by omega) a ha5 rfl], mt_mk hc hZ hO _ _ _ _ _ _ _ _⟩
    refine br_f (by decide) (br_c (fun hle => ?_) (fun hle => ?_))
    · refine key false (fun _ a h5 e => ?_)
      rw [e, nI_leI (by omega) (by omega)] at hle
      rw [decide_eq_false (by omega)]
    · refine key true (fun _ a h5 e => ?_)
      rw [e, nI_leI (by omega) (by omega)] at hle
      rw [decide_eq_true (by omega)]
theorem i_vc_spare {k : Nat} {u : SX} {v : SY} (I : i_Rel k u v) (hk : k + 4 ≤ 2048) : wpX_spare (fun r u' => wpY_spare (fun r' v' => r' = r ∧ i_Rel (k + 4) u' v') v) u := by
  obtain ⟨c, D, Z, O, x1, x2, x3, x4, y1, y2, y3, y4, hc, hZ, hO, rfl, rfl⟩ := I
  refine mt_xspare hc hZ hO ?_
  intro z1 z2 z3 z4
  refine mt_yspare hc hZ hO ?_
  intro w1 w2 w3 w4
  exact ⟨rfl, mt_mk hc hZ hO _ _ _ _ _ _ _ _⟩
end
