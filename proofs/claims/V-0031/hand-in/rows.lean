section
/-! rows of the kit (kit/rows), then small ones of this claim -/
theorem pk_us {f : Nat → Int32} {k : Nat} {x : Int32} : upd f k x k = x := if_pos rfl
theorem pk_un {f : Nat → Int32} {k j : Nat} {x : Int32} (h : j ≠ k) : upd f k x j = f j := if_neg h
theorem pk_uLs {f : Nat → Int64} {k : Nat} {x : Int64} : vp_updL f k x k = x := if_pos rfl
theorem pk_uLn {f : Nat → Int64} {k j : Nat} {x : Int64} (h : j ≠ k) : vp_updL f k x j = f j := if_neg h
theorem pk_sub {a b : Nat} (h : b ≤ a) : nI a - nI b = nI (a - b) := by
  obtain ⟨c, rfl⟩ : ∃ c, a = c + b := ⟨a - b, by omega⟩
  rw [← nI_add, Int32.add_sub_cancel, Nat.add_sub_cancel]
theorem pk_m1 (n : Nat) : nI (n + 1) + (-1) = nI n := by
  rw [← nI_1, Int32.add_assoc, show (1 : Int32) + (-1) = 0 from rfl, Int32.add_zero]
theorem pk_mul (a b : Nat) : nI a * nI b = nI (a * b) := (Int32.ofNat_mul a b).symm
theorem pk_div {a d : Nat} (ha : a < 2 ^ 31) (h0 : 0 < d) (hd : d < 2 ^ 31) : nI a / nI d = nI (a / d) := by
  apply Int32.toInt_inj.mp
  rw [lg_idiv_nonneg (by rw [nI_toInt ha]; omega) (by rw [nI_toInt hd]; omega), nI_toInt ha, nI_toInt hd, nI_toInt (Nat.lt_of_le_of_lt (Nat.div_le_self a d) ha)]
  first | rfl | exact (Int.natCast_ediv _ _).symm
theorem pk_rem {a d : Nat} (ha : a < 2 ^ 31) (h0 : 0 < d) (hd : d < 2 ^ 31) : nI a - nI a / nI d * nI d = nI (a % d) := by
  rw [pk_div ha h0 hd, pk_mul, pk_sub (Nat.div_mul_le_self a d)]
  exact congrArg nI (by have := Nat.div_add_mod' a d; omega)
theorem pk_ix (x : Int32) {n : Nat} (hn : n < 2 ^ 31) : x < 0 ∨ nI n ≤ x ∨ ∃ j : Nat, j < n ∧ x = nI j := by
  by_cases h : x < 0
  · exact Or.inl h
  · obtain ⟨j, hj, rfl⟩ := nI_of h
    by_cases h2 : j < n
    · exact Or.inr (Or.inr ⟨j, h2, rfl⟩)
    · exact Or.inr (Or.inl (nI_le (by omega) hj))
theorem pk_le {x y : Int32} {A B : Prop} (a b : Nat) (f : a ≤ b → A) (g : b < a → B) (hx : x = nI a := by rfl) (hy : y = nI b := by rfl) (ha : a < 2 ^ 31 := by omega) (hb : b < 2 ^ 31 := by omega) : (x ≤ y → A) ∧ (¬ x ≤ y → B) := by
  subst hx hy
  rw [nI_leI ha hb]
  exact ⟨f, fun z => g (by omega)⟩
theorem pk_lt {x y : Int32} {A B : Prop} (a b : Nat) (f : a < b → A) (g : b ≤ a → B) (hx : x = nI a := by rfl) (hy : y = nI b := by rfl) (ha : a < 2 ^ 31 := by omega) (hb : b < 2 ^ 31 := by omega) : (x < y → A) ∧ (¬ x < y → B) := by
  subst hx hy
  rw [nI_ltI ha hb]
  exact ⟨f, fun z => g (by omega)⟩
theorem pk_eq {x y : Int32} {A B : Prop} (a b : Nat) (f : a = b → A) (g : a ≠ b → B) (hx : x = nI a := by rfl) (hy : y = nI b := by rfl) (ha : a < 2 ^ 31 := by omega) (hb : b < 2 ^ 31 := by omega) : (x = y → A) ∧ (¬ x = y → B) := by
  subst hx hy
  rw [nI_eq ha hb]
  exact ⟨f, g⟩
theorem pk_in {x : Int32} (n N : Nat) (h : n < N) (hx : x = nI n := by rfl) (hN : N < 2 ^ 31 := by omega) : vp_in x N := by
  subst hx
  exact vp_in_nI h hN
theorem pk_cl {x : Int32} (n : Nat) (hx : x = nI n := by rfl) (h : n < 2 ^ 31 := by omega) : x.toNatClampNeg = n := by
  subst hx
  exact nI_clamp h
theorem pk_loop {σ : Type} (W : Nat → Nat → σ → Prop) (I : Nat → σ → Prop) (e i0 : Nat) (s : σ) (hi : i0 ≤ e) (h0 : I i0 s) (hx : ∀ n s, I e s → W (n + 1) e s)
    (hs : ∀ n i s, i < e → I i s → (∀ s', I (i + 1) s' → W n (i + 1) s') → W (n + 1) i s) : ∃ n, W n i0 s :=
  ⟨e + 1, loop_i W I e hx hs (e + 1) i0 s hi (by omega) h0⟩

theorem ix_l (k p c : Nat) : nI p * nI k + nI c = nI (k * p + c) := by rw [pk_mul, nI_add, Nat.mul_comm]
theorem ix_r (k p c : Nat) : nI k * nI p + nI c = nI (k * p + c) := by rw [pk_mul, nI_add]
theorem ix_l0 (k p : Nat) : nI p * nI k = nI (k * p) := by rw [pk_mul, Nat.mul_comm]
theorem ix_r0 (k p : Nat) : nI k * nI p = nI (k * p) := pk_mul k p
theorem ix_m {n : Nat} (h : 0 < n) : nI n - 1 = nI (n - 1) := by
  obtain ⟨m, rfl⟩ : ∃ m, n = m + 1 := ⟨n - 1, by omega⟩
  exact nI_pred m
theorem ix_n {n : Nat} (h : 0 < n) : nI n + (-1) = nI (n - 1) := by
  obtain ⟨m, rfl⟩ : ∃ m, n = m + 1 := ⟨n - 1, by omega⟩
  exact pk_m1 m
/-- a read -/
theorem rd_e {α : Type} {a : Nat → α} {x : Int32} {m : Nat} (hx : x = nI m) (hm : m < 2 ^ 31 := by omega) : a x.toNatClampNeg = a m := by
  subst hx; rw [nI_clamp hm]
theorem rd_n {α : Type} {P : α → Prop} {a : Nat → α} {x : Int32} (m : Nat) (hx : x = nI m) (h : P (a m)) (hm : m < 2 ^ 31 := by omega) : ∀ y, y = a x.toNatClampNeg → P y := by
  intro y ey; rw [ey, rd_e (a := a) hx hm]; exact h
/-- a named read of a known value -/
theorem rd_v {α : Type} {P : α → Prop} {a : Nat → α} {x : Int32} {v : α} (m : Nat) (hx : x = nI m) (hv : a m = v) (h : P v) (hm : m < 2 ^ 31 := by omega) : ∀ y, y = a x.toNatClampNeg → P y := by
  intro y ey; rw [ey, rd_e (a := a) hx hm, hv]; exact h
/-- stores -/
theorem up_L {P : (Nat → Int64) → Prop} {f : Nat → Int64} {x : Int32} {v : Int64} (m : Nat) (w : Int64) (hx : x = nI m) (hv : v = w) (h : P (vp_updL f m w)) (hm : m < 2 ^ 31 := by omega) : ∀ y, y = vp_updL f x.toNatClampNeg v → P y := by
  intro y ey; rw [ey, hx, nI_clamp hm, hv]; exact h
theorem up_I {P : (Nat → Int32) → Prop} {f : Nat → Int32} {x : Int32} {v : Int32} (m : Nat) (w : Int32) (hx : x = nI m) (hv : v = w) (h : P (upd f m w)) (hm : m < 2 ^ 31 := by omega) : ∀ y, y = upd f x.toNatClampNeg v → P y := by
  intro y ey; rw [ey, hx, nI_clamp hm, hv]; exact h
theorem vb_0 : vp_nar .boolean 0 = 0 := by decide
theorem vb_1 : vp_nar .boolean 1 = 1 := by decide
theorem z6_0 (x : Int64) : (0 : Int32).toInt64 * x = 0 := by
  rw [show (0 : Int32).toInt64 = 0 from by decide, Int64.zero_mul]
theorem z6_1 (x : Int64) : (1 : Int32).toInt64 * x = x := by
  rw [show (1 : Int32).toInt64 = 1 from by decide, Int64.one_mul]
/-- in a range -/
def ir_in (x : Int32) (n : Nat) : Prop := ∃ j : Nat, j < n ∧ x = nI j
theorem ir_mono {x : Int32} {n m : Nat} (h : ir_in x n) (hm : n ≤ m) : ir_in x m := by
  obtain ⟨j, hj, e⟩ := h
  exact ⟨j, by omega, e⟩
theorem pk_eq' {x y : Int32} {A B : Prop} (a b : Nat) (hx : x = nI a) (hy : y = nI b) (f : a = b → A) (g : a ≠ b → B) (ha : a < 2 ^ 31 := by omega) (hb : b < 2 ^ 31 := by omega) : (x = y → A) ∧ (¬ x = y → B) := pk_eq a b f g hx hy ha hb

theorem sb_e {x y x' y' : Int64} (h : x = x') (h2 : y = y') : x - y = x' - y' := by rw [h, h2]
theorem ad_e {x y x' y' : Int64} (h : x = x') (h2 : y = y') : x + y = x' + y' := by rw [h, h2]
theorem ml_e {x y x' y' : Int64} (h : x = x') (h2 : y = y') : x * y = x' * y' := by rw [h, h2]
theorem ti_e {x x' : Int32} (h : x = x') : x.toInt64 = x'.toInt64 := by rw [h]
theorem ic_g {α : Type} {c d : Prop} [Decidable c] [Decidable d] {x y : α} (h : c ↔ d) : (if c then x else y) = if d then x else y := by
  by_cases hc : c
  · rw [if_pos hc, if_pos (h.mp hc)]
  · rw [if_neg hc, if_neg (fun z => hc (h.mpr z))]
end
section
/-! the pure walk that raises the conditions: K known, F forms, h H hypotheses, C the conditions so far -/
/-- a condition: its place, the number of its hypotheses, these, its goal -/
abbrev Cd_t : Type := Int32 × Nat × (Nat → Nat → Int64) × (Nat → Int64)
/-- the walk's state: K, F, h, H, C, live -/
abbrev Ws_t : Type := (Nat → Bool) × (Nat → Nat → Int64) × Nat × (Nat → Nat → Int64) × List Cd_t × Bool
def pw_goal (s : Int32) (w : Nat → Int64) (bd : Int64) : Nat → Int64 := fun j => if j < 6 then s.toInt64 * w j else bd
def pw_false : Nat → Int64 := fun j => if j < 6 then 0 else -1
def pw_dif (F : Nat → Nat → Int64) (a b : Nat) : Nat → Int64 := fun j => F a j - F b j
def pw_hn (h : Nat) : Nat := if h < 6 then h + 1 else h
def pw_hH (h : Nat) (H : Nat → Nat → Int64) (g : Nat → Int64) : Nat → Nat → Int64 := fun i => if i = h then g else H i
def pw_cg (K : Nat → Bool) (F : Nat → Nat → Int64) (a b : Nat) (c : Int32) : Nat → Int64 :=
  if (K a && K b) = true then pw_goal 1 (pw_dif F a b) (c.toInt64 - pw_dif F a b 6) else pw_false
def pw_cond (P : Nat → Int32) (K : Nat → Bool) (F : Nat → Nat → Int64) (h : Nat) (H : Nat → Nat → Int64) (pc : Int32) (q : Nat) : Cd_t :=
  (pc, h, H, pw_cg K F (P (4 * q + 1)).toNatClampNeg (P (4 * q + 2)).toNatClampNeg (P (4 * q + 3)))
def pw_enter (P : Nat → Int32) (K : Nat → Bool) (F : Nat → Nat → Int64) (h : Nat) (H : Nat → Nat → Int64) (pc : Int32) : Nat → Nat → List Cd_t
  | 0, _ => []
  | n + 1, q => if P (4 * q) = 11 then pw_cond P K F h H pc q :: pw_enter P K F h H pc n (q + 1) else []
def pw_isG (P : Nat → Int32) (L t : Nat) : Bool := decide (t < L) && decide (P (4 * t) = 11) && (decide (t = 0) || !decide (P (4 * (t - 1)) = 11))
def pw_goto (P : Nat → Int32) (L : Nat) (K : Nat → Bool) (F : Nat → Nat → Int64) (h : Nat) (H : Nat → Nat → Int64) (pc : Int32) (t : Nat) : List Cd_t :=
  if pw_isG P L t = true then pw_enter P K F h H pc (L - t) t else [(pc, h, H, pw_false)]
def pw_sK (K : Nat → Bool) (a : Nat) (b : Bool) : Nat → Bool := fun i => if i = a then b else K i
def pw_sF (F : Nat → Nat → Int64) (a : Nat) (w : Nat → Int64) : Nat → Nat → Int64 := fun i => if i = a then w else F i
def pw_F0 : Nat → Nat → Int64 := fun i j => if i = j ∧ i < 6 then 1 else 0
def pw_K0 : Nat → Bool := fun _ => true
def pw_H0 : Nat → Nat → Int64 := fun _ _ => 0
def pw_acc (K : Nat → Bool) (F : Nat → Nat → Int64) (h : Nat) (H : Nat → Nat → Int64) (pc : Int32) (x : Nat) (m : Nat) : List Cd_t :=
  if K x = true then [(pc, h, H, pw_goal (-1) (F x) (F x 6)), (pc, h, H, pw_goal 1 (F x) ((nI m - 1).toInt64 - F x 6))] else [(pc, h, H, pw_false), (pc, h, H, pw_false)]
def pw_sw (F : Nat → Nat → Int64) (o : Int32) (b : Nat) (c : Int32) : Nat → Int64 := fun j =>
  if o = 5 then (if j = 6 then F b 6 + c.toInt64 else F b j) else if o = 3 then F b j + F c.toNatClampNeg j else F b j - F c.toNatClampNeg j
noncomputable def pw_small (w : Nat → Int64) : Bool := @decide ((∀ j, j < 6 → ¬ w j < -16 ∧ w j ≤ 16) ∧ ¬ w 6 < -2147483648 ∧ w 6 ≤ 2147483647) (Classical.propDecidable _)
noncomputable def pw_sok (K : Nat → Bool) (F : Nat → Nat → Int64) (o : Int32) (b : Nat) (c : Int32) : Bool := K b && (decide (o = 5) || K c.toNatClampNeg) && pw_small (pw_sw F o b c)
noncomputable def pw_sum (o : Int32) (a b : Nat) (c : Int32) (K : Nat → Bool) (F : Nat → Nat → Int64) (h : Nat) (H : Nat → Nat → Int64) (C : List Cd_t) (pc : Int32) : Ws_t :=
  if pw_sok K F o b c = true then (pw_sK K a true, pw_sF F a (pw_sw F o b c), h, H, C ++ [(pc, h, H, pw_goal (-1) (pw_sw F o b c) (pw_sw F o b c 6 + 2147483648))] ++ [(pc, h, H, pw_goal 1 (pw_sw F o b c) (2147483647 - pw_sw F o b c 6))], true)
  else (pw_sK K a false, F, h, H, C, true)
def pw_bra (P : Nat → Int32) (L a b t : Nat) (K : Nat → Bool) (F : Nat → Nat → Int64) (h : Nat) (H : Nat → Nat → Int64) (C : List Cd_t) (pc : Int32) : Ws_t :=
  if (K a && K b) = true then (K, F, pw_hn h, pw_hH h H (pw_goal 1 (pw_dif F a b) (-1 - pw_dif F a b 6)), C ++ pw_goto P L K F (pw_hn h) (pw_hH h H (pw_goal (-1) (pw_dif F a b) (pw_dif F a b 6))) pc t, true)
  else (K, F, h, H, C ++ pw_goto P L K F h H pc t, true)
noncomputable def pw_ins (P : Nat → Int32) (L la lb : Nat) (pc : Int32) (o a b c : Int32) (K : Nat → Bool) (F : Nat → Nat → Int64) (h : Nat) (H : Nat → Nat → Int64) (C : List Cd_t) : Ws_t :=
  if o = 0 then (K, F, h, H, C, false)
  else if o = 1 then (pw_sK K a.toNatClampNeg true, pw_sF F a.toNatClampNeg (fun j => if j < 6 then 0 else c.toInt64), h, H, C, true)
  else if o = 2 then (pw_sK K a.toNatClampNeg (K b.toNatClampNeg), pw_sF F a.toNatClampNeg (F b.toNatClampNeg), h, H, C, true)
  else if o = 3 ∨ o = 4 ∨ o = 5 then pw_sum o a.toNatClampNeg b.toNatClampNeg c K F h H C pc
  else if o = 6 then (pw_sK K a.toNatClampNeg false, F, h, H, C, true)
  else if o = 7 then (pw_sK K a.toNatClampNeg false, F, h, H, C ++ pw_acc K F h H pc c.toNatClampNeg (if b = 0 then la else lb), true)
  else if o = 8 then (K, F, h, H, C ++ pw_acc K F h H pc b.toNatClampNeg (if a = 0 then la else lb), true)
  else if o = 9 then (K, F, h, H, C ++ pw_goto P L K F h H pc a.toNatClampNeg, false)
  else if o = 10 then pw_bra P L a.toNatClampNeg b.toNatClampNeg c.toNatClampNeg K F h H C pc
  else (K, F, h, H, C, true)
/-- the hypotheses of a group -/
def pw_grp (P : Nat → Int32) : Nat → Nat → Nat → (Nat → Nat → Int64) → Nat × (Nat → Nat → Int64)
  | 0, _, h, H => (h, H)
  | n + 1, q, h, H => if P (4 * q) = 11 then pw_grp P n (q + 1) (pw_hn h) (pw_hH h H (pw_goal 1 (pw_dif pw_F0 (P (4 * q + 1)).toNatClampNeg (P (4 * q + 2)).toNatClampNeg) (P (4 * q + 3)).toInt64)) else (h, H)
noncomputable def pw_one (P : Nat → Int32) (L la lb p : Nat) (s : Ws_t) : Ws_t :=
  if P (4 * p) = 11 then
    (if pw_isG P L p = true then (pw_K0, pw_F0, (pw_grp P (L - p) p 0 pw_H0).1, (pw_grp P (L - p) p 0 pw_H0).2,
      s.2.2.2.2.1 ++ (if s.2.2.2.2.2 = true ∧ 0 < p then pw_enter P s.1 s.2.1 s.2.2.1 s.2.2.2.1 (nI p) (L - p) p else []), true) else s)
  else if s.2.2.2.2.2 = true then pw_ins P L la lb (nI p) (P (4 * p)) (P (4 * p + 1)) (P (4 * p + 2)) (P (4 * p + 3)) s.1 s.2.1 s.2.2.1 s.2.2.2.1 s.2.2.2.2.1 else s
noncomputable def pw_walk (P : Nat → Int32) (L la lb : Nat) : Nat → Nat → Ws_t → Ws_t
  | 0, _, s => s
  | n + 1, p, s => pw_walk P L la lb n (p + 1) (pw_one P L la lb p s)
/-- all the conditions of a code -/
noncomputable def pw_all (P : Nat → Int32) (L la lb : Nat) : List Cd_t := (pw_walk P L la lb L 0 (pw_K0, pw_F0, 0, pw_H0, [], true)).2.2.2.2.1

/-! what a well-formed code holds -/
def pw_okI (o a b c : Int32) : Prop :=
  o = 0 ∨ (o = 1 ∧ ir_in a 6) ∨ (o = 2 ∧ ir_in a 6 ∧ ir_in b 7) ∨ (o = 3 ∧ ir_in a 6 ∧ ir_in b 7 ∧ ir_in c 7) ∨ (o = 4 ∧ ir_in a 6 ∧ ir_in b 7 ∧ ir_in c 7)
  ∨ (o = 5 ∧ ir_in a 6 ∧ ir_in b 7) ∨ (o = 6 ∧ ir_in a 6 ∧ ir_in b 7 ∧ ir_in c 7) ∨ (o = 7 ∧ ir_in a 6 ∧ ir_in b 2 ∧ ir_in c 7) ∨ (o = 8 ∧ ir_in a 2 ∧ ir_in b 7 ∧ ir_in c 7)
  ∨ (o = 9 ∧ ir_in a 48) ∨ (o = 10 ∧ ir_in a 7 ∧ ir_in b 7 ∧ ir_in c 48) ∨ (o = 11 ∧ ir_in a 7 ∧ ir_in b 7)
def pw_ok (P : Nat → Int32) (L : Nat) : Prop := ∀ p, p < L → pw_okI (P (4 * p)) (P (4 * p + 1)) (P (4 * p + 2)) (P (4 * p + 3))
theorem pw_okInv {P : Nat → Int32} {L q : Nat} (h : pw_ok P L) (hq : q < L) (e : P (4 * q) = 11) : ir_in (P (4 * q + 1)) 7 ∧ ir_in (P (4 * q + 2)) 7 := by
  have := h q hq
  unfold pw_okI at this
  rw [e] at this
  rcases this with h | h | h | h | h | h | h | h | h | h | h | h
  · exact absurd h (by decide)
  · exact absurd h.1 (by decide)
  · exact absurd h.1 (by decide)
  · exact absurd h.1 (by decide)
  · exact absurd h.1 (by decide)
  · exact absurd h.1 (by decide)
  · exact absurd h.1 (by decide)
  · exact absurd h.1 (by decide)
  · exact absurd h.1 (by decide)
  · exact absurd h.1 (by decide)
  · exact absurd h.1 (by decide)
  · exact h.2
/-! what every state of the walk holds -/
def pw_inv (K : Nat → Bool) (F : Nat → Nat → Int64) (h : Nat) : Prop := K 6 = true ∧ (∀ j, j < 7 → F 6 j = 0) ∧ h ≤ 6
theorem pw_hn_le {h : Nat} (hh : h ≤ 6) : pw_hn h ≤ 6 := by
  unfold pw_hn; split <;> omega
theorem pw_inv0 : pw_inv pw_K0 pw_F0 0 := ⟨rfl, fun j hj => by unfold pw_F0; rw [if_neg (by omega)], by omega⟩
theorem pw_inv_h {K : Nat → Bool} {F : Nat → Nat → Int64} {h h' : Nat} (I : pw_inv K F h) (hh : h' ≤ 6) : pw_inv K F h' := ⟨I.1, I.2.1, hh⟩
theorem pw_inv_s {K : Nat → Bool} {F : Nat → Nat → Int64} {h a : Nat} {b : Bool} {w : Nat → Int64} (I : pw_inv K F h) (ha : a < 6) : pw_inv (pw_sK K a b) (pw_sF F a w) h :=
  ⟨by unfold pw_sK; rw [if_neg (by omega)]; exact I.1, fun j hj => by unfold pw_sF; rw [if_neg (by omega)]; exact I.2.1 j hj, I.2.2⟩
theorem pw_inv_k {K : Nat → Bool} {F : Nat → Nat → Int64} {h a : Nat} {b : Bool} (I : pw_inv K F h) (ha : a < 6) : pw_inv (pw_sK K a b) F h :=
  ⟨by unfold pw_sK; rw [if_neg (by omega)]; exact I.1, I.2.1, I.2.2⟩
theorem pw_grp_le {P : Nat → Int32} : ∀ (n q h : Nat) (H : Nat → Nat → Int64), h ≤ 6 → (pw_grp P n q h H).1 ≤ 6 := by
  intro n
  induction n with
  | zero => intro q h H hh; exact hh
  | succ n ih =>
    intro q h H hh
    unfold pw_grp
    split
    · exact ih _ _ _ (pw_hn_le hh)
    · exact hh
theorem pw_enter_len {P : Nat → Int32} {K : Nat → Bool} {F : Nat → Nat → Int64} {h : Nat} {H : Nat → Nat → Int64} {pc : Int32} : ∀ n q, (pw_enter P K F h H pc n q).length ≤ n := by
  intro n
  induction n with
  | zero => intro q; exact Nat.le_refl 0
  | succ n ih =>
    intro q
    unfold pw_enter
    split
    · have := ih (q + 1); simp only [List.length_cons]; omega
    · exact Nat.zero_le _
theorem pw_goto_len {P : Nat → Int32} {L : Nat} {K : Nat → Bool} {F : Nat → Nat → Int64} {h : Nat} {H : Nat → Nat → Int64} {pc : Int32} {t : Nat} : (pw_goto P L K F h H pc t).length ≤ L + 1 := by
  unfold pw_goto
  split
  · have := pw_enter_len (P := P) (K := K) (F := F) (h := h) (H := H) (pc := pc) (L - t) t; omega
  · simp only [List.length_cons, List.length_nil]; omega
theorem pw_acc_len {K : Nat → Bool} {F : Nat → Nat → Int64} {h : Nat} {H : Nat → Nat → Int64} {pc : Int32} {x m : Nat} : (pw_acc K F h H pc x m).length = 2 := by
  unfold pw_acc; split <;> rfl
theorem pw_one_len {P : Nat → Int32} {L la lb p : Nat} {s : Ws_t} : (pw_one P L la lb p s).2.2.2.2.1.length ≤ s.2.2.2.2.1.length + (L + 2) := by
  unfold pw_one
  split
  · split
    · simp only [List.length_append]
      split
      · have := pw_enter_len (P := P) (K := s.1) (F := s.2.1) (h := s.2.2.1) (H := s.2.2.2.1) (pc := nI p) (L - p) p; omega
      · simp only [List.length_nil]; omega
    · omega
  · split
    · unfold pw_ins
      split
      · dsimp only; omega
      split
      · dsimp only; omega
      split
      · dsimp only; omega
      split
      · unfold pw_sum
        split
        · simp only [List.length_append, List.length_cons, List.length_nil]; omega
        · dsimp only; omega
      split
      · dsimp only; omega
      split
      · simp only [List.length_append, pw_acc_len]; omega
      split
      · simp only [List.length_append, pw_acc_len]; omega
      split
      · simp only [List.length_append]
        have := pw_goto_len (P := P) (L := L) (K := s.1) (F := s.2.1) (h := s.2.2.1) (H := s.2.2.2.1) (pc := nI p) (t := (P (4 * p + 1)).toNatClampNeg)
        omega
      split
      · unfold pw_bra
        split
        · simp only [List.length_append]
          refine Nat.add_le_add_left (Nat.le_trans pw_goto_len (by omega)) _
        · simp only [List.length_append]
          refine Nat.add_le_add_left (Nat.le_trans pw_goto_len (by omega)) _
      · dsimp only; omega
    · omega
theorem ir_cl {x : Int32} {n : Nat} (h : ir_in x n) (hn : n < 2 ^ 31) : x.toNatClampNeg < n := by
  obtain ⟨j, hj, rfl⟩ := h
  rw [nI_clamp (by omega)]; exact hj
theorem pw_one_inv {P : Nat → Int32} {L la lb p : Nat} {s : Ws_t} (ok : pw_ok P L) (hp : p < L) (I : pw_inv s.1 s.2.1 s.2.2.1) : pw_inv (pw_one P L la lb p s).1 (pw_one P L la lb p s).2.1 (pw_one P L la lb p s).2.2.1 := by
  have o := ok p hp
  unfold pw_one
  split
  · split
    · exact ⟨pw_inv0.1, pw_inv0.2.1, pw_grp_le _ _ _ _ (by omega)⟩
    · exact I
  · split
    · unfold pw_okI at o
      unfold pw_ins
      generalize P (4 * p) = oo at o ⊢
      rcases o with h | h | h | h | h | h | h | h | h | h | h | h
      · rw [if_pos h]; exact I
      · obtain ⟨rfl, ha⟩ := h
        rw [if_neg (by decide), if_pos rfl]; exact pw_inv_s I (ir_cl ha (by decide))
      · obtain ⟨rfl, ha, -⟩ := h
        rw [if_neg (by decide), if_neg (by decide), if_pos rfl]; exact pw_inv_s I (ir_cl ha (by decide))
      · obtain ⟨rfl, ha, -⟩ := h
        rw [if_neg (by decide), if_neg (by decide), if_neg (by decide), if_pos (by decide)]
        unfold pw_sum
        split
        · exact pw_inv_s I (ir_cl ha (by decide))
        · exact pw_inv_k I (ir_cl ha (by decide))
      · obtain ⟨rfl, ha, -⟩ := h
        rw [if_neg (by decide), if_neg (by decide), if_neg (by decide), if_pos (by decide)]
        unfold pw_sum
        split
        · exact pw_inv_s I (ir_cl ha (by decide))
        · exact pw_inv_k I (ir_cl ha (by decide))
      · obtain ⟨rfl, ha, -⟩ := h
        rw [if_neg (by decide), if_neg (by decide), if_neg (by decide), if_pos (by decide)]
        unfold pw_sum
        split
        · exact pw_inv_s I (ir_cl ha (by decide))
        · exact pw_inv_k I (ir_cl ha (by decide))
      · obtain ⟨rfl, ha, -⟩ := h
        rw [if_neg (by decide), if_neg (by decide), if_neg (by decide), if_neg (by decide), if_pos rfl]; exact pw_inv_k I (ir_cl ha (by decide))
      · obtain ⟨rfl, ha, -⟩ := h
        rw [if_neg (by decide), if_neg (by decide), if_neg (by decide), if_neg (by decide), if_neg (by decide), if_pos rfl]; exact pw_inv_k I (ir_cl ha (by decide))
      · obtain ⟨rfl, -⟩ := h
        rw [if_neg (by decide), if_neg (by decide), if_neg (by decide), if_neg (by decide), if_neg (by decide), if_neg (by decide), if_pos rfl]; exact I
      · obtain ⟨rfl, -⟩ := h
        rw [if_neg (by decide), if_neg (by decide), if_neg (by decide), if_neg (by decide), if_neg (by decide), if_neg (by decide), if_neg (by decide), if_pos rfl]; exact I
      · obtain ⟨rfl, -⟩ := h
        rw [if_neg (by decide), if_neg (by decide), if_neg (by decide), if_neg (by decide), if_neg (by decide), if_neg (by decide), if_neg (by decide), if_neg (by decide), if_pos rfl]
        unfold pw_bra
        split
        · exact pw_inv_h I (pw_hn_le I.2.2)
        · exact I
      · obtain ⟨rfl, -⟩ := h
        rw [if_neg (by decide), if_neg (by decide), if_neg (by decide), if_neg (by decide), if_neg (by decide), if_neg (by decide), if_neg (by decide), if_neg (by decide), if_neg (by decide)]
        exact I
    · exact I
theorem pw_walk_len {P : Nat → Int32} {L la lb : Nat} : ∀ (n p : Nat) (s : Ws_t), (pw_walk P L la lb n p s).2.2.2.2.1.length ≤ s.2.2.2.2.1.length + n * (L + 2) := by
  intro n
  induction n with
  | zero => intro p s; unfold pw_walk; omega
  | succ n ih =>
    intro p s
    unfold pw_walk
    have a := ih (p + 1) (pw_one P L la lb p s)
    have b := pw_one_len (P := P) (L := L) (la := la) (lb := lb) (p := p) (s := s)
    have c : (n + 1) * (L + 2) = n * (L + 2) + (L + 2) := Nat.succ_mul n (L + 2)
    omega
theorem pw_all_len {P : Nat → Int32} {L la lb : Nat} (hL : L ≤ 48) : (pw_all P L la lb).length ≤ 2400 := by
  have a := pw_walk_len (P := P) (L := L) (la := la) (lb := lb) L 0 (pw_K0, pw_F0, 0, pw_H0, [], true)
  have b : L * (L + 2) ≤ 48 * 50 := Nat.mul_le_mul hL (by omega)
  have c : ([] : List Cd_t).length = 0 := rfl
  unfold pw_all
  dsimp only at a
  omega
end
section
/-! relations of the walk's arrays to the pure state, and the component's small methods -/
def pw_KR (kn : Nat → Int32) (K : Nat → Bool) : Prop := ∀ i, i < 7 → kn i = if K i = true then 1 else 0
def pw_FR (fo : Nat → Int64) (K : Nat → Bool) (F : Nat → Nat → Int64) : Prop := ∀ i j, i < 7 → j < 7 → K i = true → fo (7 * i + j) = F i j
def pw_HR (li : Nat → Int64) (h : Nat) (H : Nat → Nat → Int64) : Prop := ∀ i j, i < h → j < 7 → li (7 * i + j) = H i j
def xs_T (cp hc : Nat → Int32) (ht gt : Nat → Int64) (C : List Cd_t) : Prop := ∀ k cd, k < 40 → C[k]? = some cd →
  cp k = cd.1 ∧ hc k = nI cd.2.1 ∧ cd.2.1 ≤ 6 ∧ (∀ i j, i < cd.2.1 → j < 7 → ht (42 * k + 7 * i + j) = cd.2.2.1 i j) ∧ ∀ j, j < 7 → gt (7 * k + j) = cd.2.2.2 j
def xs_R (cp hc : Nat → Int32) (ht gt fo : Nat → Int64) (kn : Nat → Int32) (li : Nat → Int64) (K : Nat → Bool) (F : Nat → Nat → Int64) (h : Nat) (H : Nat → Nat → Int64) (C : List Cd_t) : Prop :=
  xs_T cp hc ht gt C ∧ pw_KR kn K ∧ pw_FR fo K F ∧ pw_HR li h H ∧ h ≤ 6
theorem pw_K_1 {kn : Nat → Int32} {K : Nat → Bool} {a : Nat} (R : pw_KR kn K) (ha : a < 7) (h : K a = true) : kn a = 1 := by rw [R a ha, h]; rfl
theorem pw_K_0 {kn : Nat → Int32} {K : Nat → Bool} {a : Nat} (R : pw_KR kn K) (ha : a < 7) (h : K a = false) : kn a = 0 := by rw [R a ha, h]; rfl
theorem pw_K_s {kn : Nat → Int32} {K : Nat → Bool} {a : Nat} {b : Bool} {v : Int32} (R : pw_KR kn K) (hv : v = if b = true then 1 else 0) : pw_KR (upd kn a v) (pw_sK K a b) := by
  intro i hi
  unfold upd pw_sK
  by_cases e : i = a
  · rw [if_pos e, if_pos e]; exact hv
  · rw [if_neg e, if_neg e]; exact R i hi
theorem pw_F_k {fo : Nat → Int64} {K : Nat → Bool} {F : Nat → Nat → Int64} {a : Nat} (R : pw_FR fo K F) : pw_FR fo (pw_sK K a false) F := by
  intro i j hi hj hk
  unfold pw_sK at hk
  by_cases e : i = a
  · rw [if_pos e] at hk; exact absurd hk (by decide)
  · rw [if_neg e] at hk; exact R i j hi hj hk
theorem pw_F_s {fo fo' w : Nat → Int64} {K : Nat → Bool} {F : Nat → Nat → Int64} {a : Nat} {b : Bool} {d : Nat → Int64} (R : pw_FR fo K F) (hf : ∀ i j, i < 7 → j < 7 → fo' (7 * i + j) = if i = a then w j else fo (7 * i + j)) (hw : b = true → ∀ j, j < 7 → w j = d j) : pw_FR fo' (pw_sK K a b) (pw_sF F a d) := by
  intro i j hi hj hk
  rw [hf i j hi hj]
  unfold pw_sK at hk
  unfold pw_sF
  by_cases e : i = a
  · rw [if_pos e] at hk; rw [if_pos e, if_pos e]; exact hw hk j hj
  · rw [if_neg e] at hk; rw [if_neg e, if_neg e]; exact R i j hi hj hk
theorem pw_F_x {fo : Nat → Int64} {K : Nat → Bool} {F : Nat → Nat → Int64} {a : Nat} {b : Bool} {d : Nat → Int64} (hb : b = false) (R : pw_FR fo K F) : pw_FR fo (pw_sK K a b) (pw_sF F a d) := by
  intro i j hi hj hk
  unfold pw_sK at hk
  unfold pw_sF
  by_cases e : i = a
  · rw [if_pos e, hb] at hk; exact absurd hk (by decide)
  · rw [if_neg e] at hk; rw [if_neg e]; exact R i j hi hj hk
theorem pw_goal_lt {s : Int32} {w d : Nat → Int64} {bd : Int64} (h : ∀ j, j < 7 → w j = d j) : ∀ j, j < 6 → s.toInt64 * w j = pw_goal s d bd j := by
  intro j hj
  unfold pw_goal
  rw [if_pos hj, h j (by omega)]
theorem pw_goal_6 {s : Int32} {d : Nat → Int64} {bd : Int64} : pw_goal s d bd 6 = bd := rfl
theorem pw_false_lt {w : Nat → Int64} : ∀ j, j < 6 → (0 : Int32).toInt64 * w j = pw_false j := by
  intro j hj
  unfold pw_false
  rw [if_pos hj, z6_0]
theorem pw_F_d {fo w : Nat → Int64} {K : Nat → Bool} {F : Nat → Nat → Int64} {a b : Nat} (R : pw_FR fo K F) (ha : a < 7) (hb : b < 7) (hk : (K a && K b) = true) (hw : ∀ j, j < 7 → w j = fo (7 * a + j) - fo (7 * b + j)) : ∀ j, j < 7 → w j = pw_dif F a b j := by
  intro j hj
  rw [Bool.and_eq_true] at hk
  rw [hw j hj, R a j ha hj hk.1, R b j hb hj hk.2]
  rfl
theorem lu_s {s f : Nat → Int64} {i : Nat} {v : Int64} (I : ∀ j, j < i → s j = f j) (hv : v = f i) : ∀ j, j < i + 1 → vp_updL s i v j = f j := by
  intro j hj
  unfold vp_updL
  by_cases e : j = i
  · rw [if_pos e, e]; exact hv
  · rw [if_neg e]; exact I j (by omega)
/-- a block at b of width e, written cell by cell -/
theorem lu_b {s a f : Nat → Int64} {b e i : Nat} {v : Int64} (hi : i < e) (I : (∀ j, j < i → s (b + j) = f j) ∧ ∀ m, ¬ (b ≤ m ∧ m < b + e) → s m = a m) (hv : v = f i) : (∀ j, j < i + 1 → vp_updL s (b + i) v (b + j) = f j) ∧ ∀ m, ¬ (b ≤ m ∧ m < b + e) → vp_updL s (b + i) v m = a m := by
  constructor
  · intro j hj
    unfold vp_updL
    by_cases e : j = i
    · rw [if_pos (by omega), e]; exact hv
    · rw [if_neg (by omega)]; exact I.1 j (by omega)
  · intro m hm
    unfold vp_updL
    rw [if_neg (by omega)]; exact I.2 m hm
theorem xs_T_push {cp hc cp' hc' : Nat → Int32} {ht gt ht' gt' : Nat → Int64} {C : List Cd_t} {pc : Int32} {h : Nat} {H : Nat → Nat → Int64} {g : Nat → Int64} (T : xs_T cp hc ht gt C) (hh : h ≤ 6)
    (A : C.length < 40 → cp' = upd cp C.length pc ∧ hc' = upd hc C.length (nI h) ∧ (∀ i j, i < h → j < 7 → ht' (42 * C.length + 7 * i + j) = H i j) ∧ (∀ m, m < 42 * C.length → ht' m = ht m) ∧ (∀ j, j < 7 → gt' (7 * C.length + j) = g j) ∧ ∀ m, m < 7 * C.length → gt' m = gt m)
    (B : ¬ C.length < 40 → cp' = cp ∧ hc' = hc ∧ ht' = ht ∧ gt' = gt) : xs_T cp' hc' ht' gt' (C ++ [(pc, h, H, g)]) := by
  intro k cd hk e
  rw [List.getElem?_append] at e
  by_cases hc0 : C.length < 40
  · obtain ⟨a1, a2, a3, a4, a5, a6⟩ := A hc0
    by_cases hkl : k < C.length
    · rw [if_pos hkl] at e
      obtain ⟨t1, t2, t3, t4, t5⟩ := T k cd hk e
      refine ⟨?_, ?_, t3, ?_, ?_⟩
      · rw [a1, pk_un (by omega)]; exact t1
      · rw [a2, pk_un (by omega)]; exact t2
      · intro i j hi hj; rw [a4 _ (by omega)]; exact t4 i j hi hj
      · intro j hj; rw [a6 _ (by omega)]; exact t5 j hj
    · rw [if_neg hkl] at e
      by_cases hke : k = C.length
      · subst hke
        rw [Nat.sub_self] at e
        cases e
        refine ⟨?_, ?_, hh, a3, a5⟩
        · rw [a1, pk_us]
        · rw [a2, pk_us]
      · obtain ⟨m, hm⟩ : ∃ m, k - C.length = m + 1 := ⟨k - C.length - 1, by omega⟩
        rw [hm] at e
        exact absurd e (by simp)
  · obtain ⟨rfl, rfl, rfl, rfl⟩ := B hc0
    rw [if_pos (by omega)] at e
    exact T k cd hk e
section
variable {fLA fLB fSC fPL fLD fST fCC fLV fLC : Int32} {aRG aCE aSO aPR aMU aLS aLH aLB aCP aHC aKN aTR : Nat → Int32} {aHT aGT aFO aWK aLI aSU : Nat → Int64}
variable {P : Nat → Int32} {L la lb h : Nat} {K : Nat → Bool} {F : Nat → Nat → Int64} {H : Nat → Nat → Int64} {C : List Cd_t}
theorem xw_take {post : SX → Prop} {x : Int32} {o : Nat} (hx : x = nI o) (ho : o < 7) (hp : ∀ w : Nat → Int64, (∀ j, j < 7 → w j = aFO (7 * o + j)) → post (fLA, fLB, fSC, fPL, fLD, fST, fCC, fLV, fLC, aRG, aCE, aSO, aPR, aMU, aLS, aLH, aLB, aCP, aHC, aHT, aGT, aFO, aKN, w, aLI, aSU, aTR)) : wpX_takeForm post (fLA, fLB, fSC, fPL, fLD, fST, fCC, fLV, fLC, aRG, aCE, aSO, aPR, aMU, aLS, aLH, aLB, aCP, aHC, aHT, aGT, aFO, aKN, aWK, aLI, aSU, aTR) x := by
  subst hx
  exact loop_0 (fun n i s => wX_takeForm_2 post (nI o) fLA fLB fSC fPL fLD fST fCC fLV fLC n (nI i) aRG aCE aSO aPR aMU aLS aLH aLB aCP aHC aHT aGT aFO aKN s aLI aSU aTR) (fun i s => ∀ j, j < i → s j = aFO (7 * o + j)) 7 aWK (fun j hj => absurd hj (Nat.not_lt_zero j))
    (fun n s I => br_t (nI_le (Nat.le_refl 7) (by decide)) (hp s I))
    (fun n i s hi I k => br_f (nI_ge (b := 7) hi (by decide)) ⟨pk_in (7 * o + i) 49 (by omega) (ix_l 7 o i), pk_in i 7 hi rfl,
      up_L i (aFO (7 * o + i)) rfl (rd_e (ix_l 7 o i)) (nm_r (nI_1 i) (k _ (lu_s I rfl)))⟩)
theorem xw_give {post : SX → Prop} {x : Int32} {r : Nat} (hx : x = nI r) (hr : r < 7) (hp : ∀ fo : Nat → Int64, (∀ i j, i < 7 → j < 7 → fo (7 * i + j) = if i = r then aWK j else aFO (7 * i + j)) → post (fLA, fLB, fSC, fPL, fLD, fST, fCC, fLV, fLC, aRG, aCE, aSO, aPR, aMU, aLS, aLH, aLB, aCP, aHC, aHT, aGT, fo, upd aKN r 1, aWK, aLI, aSU, aTR)) : wpX_giveForm post (fLA, fLB, fSC, fPL, fLD, fST, fCC, fLV, fLC, aRG, aCE, aSO, aPR, aMU, aLS, aLH, aLB, aCP, aHC, aHT, aGT, aFO, aKN, aWK, aLI, aSU, aTR) x := by
  subst hx
  exact loop_0 (fun n i s => wX_giveForm_2 post (nI r) fLA fLB fSC fPL fLD fST fCC fLV fLC n (nI i) aRG aCE aSO aPR aMU aLS aLH aLB aCP aHC aHT aGT s aKN aWK aLI aSU aTR) (fun i s => (∀ j, j < i → s (7 * r + j) = aWK j) ∧ ∀ m, ¬ (7 * r ≤ m ∧ m < 7 * r + 7) → s m = aFO m) 7 aFO ⟨fun j hj => absurd hj (Nat.not_lt_zero j), fun m _ => rfl⟩
    (fun n s I => br_t (nI_le (Nat.le_refl 7) (by decide)) ⟨pk_in r 7 hr rfl, up_I r 1 rfl vb_1 (hp s (fun i j hi hj => by
      by_cases e : i = r
      · rw [if_pos e, e]; exact I.1 j hj
      · rw [if_neg e]; exact I.2 _ (by omega)))⟩)
    (fun n i s hi I k => br_f (nI_ge (b := 7) hi (by decide)) ⟨pk_in i 7 hi rfl, pk_in (7 * r + i) 49 (by omega) (ix_l 7 r i),
      up_L (7 * r + i) (aWK i) (ix_l 7 r i) (rd_e rfl) (nm_r (nI_1 i) (k _ (lu_b hi I rfl)))⟩)
theorem xw_diff {post : Int32 → SX → Prop} {x y : Int32} {a b : Nat} (hx : x = nI a) (hy : y = nI b) (ha : a < 7) (hb : b < 7) (hK : pw_KR aKN K) (h0 : (K a && K b) = false → post 0 (fLA, fLB, fSC, fPL, fLD, fST, fCC, fLV, fLC, aRG, aCE, aSO, aPR, aMU, aLS, aLH, aLB, aCP, aHC, aHT, aGT, aFO, aKN, aWK, aLI, aSU, aTR))
    (h1 : (K a && K b) = true → ∀ w : Nat → Int64, (∀ j, j < 7 → w j = aFO (7 * a + j) - aFO (7 * b + j)) → post 1 (fLA, fLB, fSC, fPL, fLD, fST, fCC, fLV, fLC, aRG, aCE, aSO, aPR, aMU, aLS, aLH, aLB, aCP, aHC, aHT, aGT, aFO, aKN, w, aLI, aSU, aTR)) : wpX_difference post (fLA, fLB, fSC, fPL, fLD, fST, fCC, fLV, fLC, aRG, aCE, aSO, aPR, aMU, aLS, aLH, aLB, aCP, aHC, aHT, aGT, aFO, aKN, aWK, aLI, aSU, aTR) x y := by
  subst hx hy
  refine ⟨pk_in a 7 ha rfl, ?_⟩
  cases ka : K a with
  | false => exact br_t ((rd_e rfl).trans (pw_K_0 hK ha ka)) (h0 (by rw [ka]; rfl))
  | true =>
    refine br_f (by rw [rd_e (a := aKN) (x := nI a) rfl, pw_K_1 hK ha ka]; decide) ⟨pk_in b 7 hb rfl, ?_⟩
    cases kb : K b with
    | false => exact br_t ((rd_e rfl).trans (pw_K_0 hK hb kb)) (h0 (by rw [ka, kb]; rfl))
    | true =>
      refine br_f (by rw [rd_e (a := aKN) (x := nI b) rfl, pw_K_1 hK hb kb]; decide) ?_
      exact loop_0 (fun n i s => wX_difference_22 post (nI a) (nI b) fLA fLB fSC fPL fLD fST fCC fLV fLC n (nI i) aRG aCE aSO aPR aMU aLS aLH aLB aCP aHC aHT aGT aFO aKN s aLI aSU aTR) (fun i s => ∀ j, j < i → s j = aFO (7 * a + j) - aFO (7 * b + j)) 7 aWK (fun j hj => absurd hj (Nat.not_lt_zero j))
        (fun n s I => br_t (nI_le (Nat.le_refl 7) (by decide)) (h1 (by rw [ka, kb]; rfl) s I))
        (fun n i s hi I k => br_f (nI_ge (b := 7) hi (by decide)) ⟨pk_in (7 * a + i) 49 (by omega) (ix_l 7 a i), pk_in (7 * b + i) 49 (by omega) (ix_l 7 b i), pk_in i 7 hi rfl,
          up_L i (aFO (7 * a + i) - aFO (7 * b + i)) rfl (sb_e (rd_e (ix_l 7 a i)) (rd_e (ix_l 7 b i))) (nm_r (nI_1 i) (k _ (lu_s (f := fun j => aFO (7 * a + j) - aFO (7 * b + j)) I rfl)))⟩)
theorem xw_addH {post : SX → Prop} {s : Int32} {bd : Int64} {g : Nat → Int64} (hh : h ≤ 6) (hH : pw_HR aLI h H) (hg : ∀ j, j < 6 → s.toInt64 * aWK j = g j) (hb : bd = g 6)
    (hp : ∀ li : Nat → Int64, pw_HR li (pw_hn h) (pw_hH h H g) → post (fLA, fLB, fSC, fPL, fLD, fST, fCC, fLV, nI (pw_hn h), aRG, aCE, aSO, aPR, aMU, aLS, aLH, aLB, aCP, aHC, aHT, aGT, aFO, aKN, aWK, li, aSU, aTR)) : wpX_addHypothesis post (fLA, fLB, fSC, fPL, fLD, fST, fCC, fLV, nI h, aRG, aCE, aSO, aPR, aMU, aLS, aLH, aLB, aCP, aHC, aHT, aGT, aFO, aKN, aWK, aLI, aSU, aTR) s bd := by
  by_cases h6 : h < 6
  · have e : pw_hn h = h + 1 := if_pos h6
    rw [e] at hp
    refine br_t (nI_lt (b := 6) h6 (by decide)) (nm_r (ix_l0 7 h) ?_)
    exact loop_0 (fun n i s1 => wX_addHypothesis_22 post s bd (nI (7 * h)) fLA fLB fSC fPL fLD fST fCC fLV (nI h) n (nI i) aRG aCE aSO aPR aMU aLS aLH aLB aCP aHC aHT aGT aFO aKN aWK s1 aSU aTR) (fun i s1 => (∀ j, j < i → s1 (7 * h + j) = g j) ∧ ∀ m, ¬ (7 * h ≤ m ∧ m < 7 * h + 7) → s1 m = aLI m) 6 aLI ⟨fun j hj => absurd hj (Nat.not_lt_zero j), fun m _ => rfl⟩
      (fun n s1 I => br_t (nI_le (Nat.le_refl 6) (by decide)) ⟨pk_in (7 * h + 6) 42 (by omega) (nI_add (7 * h) 6), up_L (7 * h + 6) (g 6) (nI_add (7 * h) 6) hb (nm_r (nI_1 h) (hp _ (fun i j hi hj => by
        have Q := lu_b (i := 6) (e := 7) (by omega) I (v := g 6) rfl
        unfold pw_hH
        by_cases ei : i = h
        · rw [if_pos ei, ei]; exact Q.1 j hj
        · rw [if_neg ei, Q.2 _ (by omega)]; exact hH i j (by omega) hj)))⟩)
      (fun n i s1 hi I k => br_f (nI_ge (b := 6) hi (by decide)) ⟨pk_in i 7 (by omega) rfl, pk_in (7 * h + i) 42 (by omega) (nI_add (7 * h) i),
        up_L (7 * h + i) (g i) (nI_add (7 * h) i) (by rw [rd_e (a := aWK) (x := nI i) rfl]; exact hg i hi) (nm_r (nI_1 i) (k _ (lu_b (by omega) I rfl)))⟩)
  · have e : pw_hn h = h := if_neg h6
    rw [e] at hp
    exact br_f (nI_nlt (b := 6) (by omega) (by omega)) (hp _ (fun i j hi hj => by
      unfold pw_hH
      rw [if_neg (by omega)]; exact hH i j hi hj))
theorem xw_raise {post : SX → Prop} {pc s : Int32} {bd : Int64} (g : Nat → Int64) (R : xs_R aCP aHC aHT aGT aFO aKN aLI K F h H C) (hC : C.length < 2 ^ 30) (hg : ∀ j, j < 6 → s.toInt64 * aWK j = g j) (hb : bd = g 6)
    (hp : ∀ (cp hc : Nat → Int32) (ht gt : Nat → Int64), xs_R cp hc ht gt aFO aKN aLI K F h H (C ++ [(pc, h, H, g)]) → post ((nI la), (nI lb), fSC, (nI L), fLD, fST, nI (C ++ [(pc, h, H, g)]).length, fLV, (nI h), aRG, aCE, aSO, P, aMU, aLS, aLH, aLB, cp, hc, ht, gt, aFO, aKN, aWK, aLI, aSU, aTR)) : wpX_raise post ((nI la), (nI lb), fSC, (nI L), fLD, fST, (nI C.length), fLV, (nI h), aRG, aCE, aSO, P, aMU, aLS, aLH, aLB, aCP, aHC, aHT, aGT, aFO, aKN, aWK, aLI, aSU, aTR) pc s bd := by
  obtain ⟨T, R2, R3, R4, hh⟩ := R
  refine nm_r (e' := nI (C ++ [(pc, h, H, g)]).length) (by rw [List.length_append]; exact nI_1 _) ?_
  by_cases hk : C.length < 40
  · refine br_t (nI_lt (b := 40) hk (by decide)) ⟨pk_in C.length 40 hk rfl, up_I C.length pc rfl rfl ⟨pk_in C.length 40 hk rfl, up_I C.length (nI h) rfl rfl ?_⟩⟩
    exact loop_0 (fun n i s1 => wX_raise_46 post s bd (nI C.length) (nI la) (nI lb) fSC (nI L) fLD fST (nI (C ++ [(pc, h, H, g)]).length) fLV (nI h) n (nI i) aRG aCE aSO P aMU aLS aLH aLB (upd aCP C.length pc) (upd aHC C.length (nI h)) s1 aGT aFO aKN aWK aLI aSU aTR)
      (fun i s1 => (∀ j, j < i → s1 (42 * C.length + j) = aLI j) ∧ ∀ m, ¬ (42 * C.length ≤ m ∧ m < 42 * C.length + 42) → s1 m = aHT m) (7 * h) aHT ⟨fun j hj => absurd hj (Nat.not_lt_zero j), fun m _ => rfl⟩
      (fun n s1 I => pk_le (7 * h) (7 * h) (fun _ =>
        loop_0 (fun n i s2 => wX_raise_87 post s bd (nI C.length) (nI la) (nI lb) fSC (nI L) fLD fST (nI (C ++ [(pc, h, H, g)]).length) fLV (nI h) n (nI i) aRG aCE aSO P aMU aLS aLH aLB (upd aCP C.length pc) (upd aHC C.length (nI h)) s1 s2 aFO aKN aWK aLI aSU aTR)
          (fun i s2 => (∀ j, j < i → s2 (7 * C.length + j) = g j) ∧ ∀ m, ¬ (7 * C.length ≤ m ∧ m < 7 * C.length + 7) → s2 m = aGT m) 6 aGT ⟨fun j hj => absurd hj (Nat.not_lt_zero j), fun m _ => rfl⟩
          (fun n s2 I2 => br_t (nI_le (Nat.le_refl 6) (by decide)) ⟨pk_in (7 * C.length + 6) 280 (by omega) (ix_l 7 C.length 6), up_L (7 * C.length + 6) (g 6) (ix_l 7 C.length 6) hb (hp _ _ _ _ ⟨xs_T_push T hh (fun _ => ⟨rfl, rfl, fun i j hi hj => by
              rw [Nat.add_assoc, I.1 (7 * i + j) (by omega)]; exact R4 i j hi hj, fun m hm => I.2 m (by omega), (lu_b (i := 6) (e := 7) (by omega) I2 (v := g 6) rfl).1, fun m hm => (lu_b (i := 6) (e := 7) (by omega) I2 (v := g 6) rfl).2 m (by omega)⟩) (fun z => absurd hk z), R2, R3, R4, hh⟩)⟩)
          (fun n i s2 hi I2 k => br_f (nI_ge (b := 6) hi (by decide)) ⟨pk_in i 7 (by omega) rfl, pk_in (7 * C.length + i) 280 (by omega) (ix_l 7 C.length i),
            up_L (7 * C.length + i) (g i) (ix_l 7 C.length i) (by rw [rd_e (a := aWK) (x := nI i) rfl]; exact hg i hi) (nm_r (nI_1 i) (k _ (lu_b (by omega) I2 rfl)))⟩)) (fun z => absurd z (Nat.lt_irrefl _)) (ix_l0 7 h) rfl)
      (fun n i s1 hi I k => pk_le (7 * h) i (fun z => absurd hi (by omega)) (fun _ => ⟨pk_in i 42 (by omega) rfl, pk_in (42 * C.length + i) 1680 (by omega) (ix_l 42 C.length i),
        up_L (42 * C.length + i) (aLI i) (ix_l 42 C.length i) (rd_e rfl) (nm_r (nI_1 i) (k _ (lu_b (by omega) I rfl)))⟩) (ix_l0 7 h) rfl)
  · exact br_f (nI_nlt (b := 40) (by omega) (by omega)) (hp _ _ _ _ ⟨xs_T_push T hh (fun z => absurd z hk) (fun _ => ⟨rfl, rfl, rfl, rfl⟩), R2, R3, R4, hh⟩)
theorem xw_isInv {post : Int32 → Prop} {x : Int32} {t : Nat} (hx : x = nI t) (ht : t < 1000) (hL : L ≤ 48) (h1 : t < L → P (4 * t) = 11 → post 1) (h0 : ¬ (t < L ∧ P (4 * t) = 11) → post 0) : wpX_isInv post (fLA, fLB, fSC, nI L, fLD, fST, fCC, fLV, fLC, aRG, aCE, aSO, P, aMU, aLS, aLH, aLB, aCP, aHC, aHT, aGT, aFO, aKN, aWK, aLI, aSU, aTR) x := by
  subst hx
  refine br_f (nI_pos (by omega)) (pk_le L t (fun z => h0 (by omega)) (fun z => ⟨pk_in (4 * t) 192 (by omega) (ix_l0 4 t), ?_⟩))
  by_cases e : P (4 * t) = 11
  · exact br_t ((rd_e (ix_l0 4 t)).trans e) (h1 z e)
  · exact br_f (fun y => e ((rd_e (ix_l0 4 t)).symm.trans y)) (h0 (fun y => e y.2))
theorem xw_isG {post : Int32 → Prop} {x : Int32} {t : Nat} (hx : x = nI t) (ht : t < 1000) (hL : L ≤ 48) (h1 : pw_isG P L t = true → post 1) (h0 : pw_isG P L t = false → post 0) : wpX_isGroupStart post (fLA, fLB, fSC, nI L, fLD, fST, fCC, fLV, fLC, aRG, aCE, aSO, P, aMU, aLS, aLH, aLB, aCP, aHC, aHT, aGT, aFO, aKN, aWK, aLI, aSU, aTR) x := by
  unfold wpX_isGroupStart
  refine xw_isInv hx ht hL (fun a b => br_f (by decide) ?_) (fun z => br_t rfl (h0 ?_))
  · by_cases t0 : t = 0
    · subst t0
      refine br_t (c := x - 1 < 0) (by rw [hx]; decide) (br_t rfl (h1 ?_))
      unfold pw_isG
      rw [decide_eq_true a, decide_eq_true b]; rfl
    · refine xw_isInv (t := t - 1) (by rw [hx]; exact ix_m (by omega)) (by omega) hL (fun c d => br_f (by decide) (h0 ?_)) (fun z => br_t rfl (h1 ?_))
      · unfold pw_isG
        rw [decide_eq_true a, decide_eq_true b, decide_eq_true d, decide_eq_false t0]; rfl
      · unfold pw_isG
        rw [decide_eq_true a, decide_eq_true b, decide_eq_false (fun y => z ⟨by omega, y⟩), decide_eq_false t0]; rfl
  · unfold pw_isG
    by_cases a : t < L
    · rw [decide_eq_true a, decide_eq_false (fun y => z ⟨a, y⟩)]; rfl
    · rw [decide_eq_false a]; rfl
end
end
section
/-! the component's walk: enter, goTo, groups -/
def xb_b (b : Bool) : Int32 := if b = true then 1 else 0
theorem fr_8 {i j : Nat} (hi : i < 7) (hj : j < 7) : ((7 * i + j) % 8 = 0 ∧ 7 * i + j < 8 * 6) ↔ (i = j ∧ i < 6) := by omega
section
variable {fLA fLB fSC fPL fLD fST fCC fLV fLC : Int32} {aRG aCE aSO aPR aMU aLS aLH aLB aCP aHC aKN aTR : Nat → Int32} {aHT aGT aFO aWK aLI aSU : Nat → Int64}
variable {P : Nat → Int32} {L la lb h : Nat} {K : Nat → Bool} {F : Nat → Nat → Int64} {H : Nat → Nat → Int64} {C : List Cd_t}
theorem xw_enter2 {post : SX → Prop} {pc : Int32} (ok : pw_ok P L) (hL : L ≤ 48) : ∀ (n q : Nat) (C : List Cd_t) (cp hc : Nat → Int32) (ht gt wk : Nat → Int64), q + n = L → xs_R cp hc ht gt aFO aKN aLI K F h H C → C.length + n < 2 ^ 30 →
    (∀ (cp hc : Nat → Int32) (ht gt wk : Nat → Int64), xs_R cp hc ht gt aFO aKN aLI K F h H (C ++ pw_enter P K F h H pc n q) → post ((nI la), (nI lb), fSC, (nI L), fLD, fST, nI (C ++ pw_enter P K F h H pc n q).length, fLV, (nI h), aRG, aCE, aSO, P, aMU, aLS, aLH, aLB, cp, hc, ht, gt, aFO, aKN, wk, aLI, aSU, aTR)) →
    wX_enter_2 post pc (n + 1) (nI q) (nI la) (nI lb) fSC (nI L) fLD fST (nI C.length) fLV (nI h) aRG aCE aSO P aMU aLS aLH aLB cp hc ht gt aFO aKN wk aLI aSU aTR := by
  intro n
  induction n with
  | zero =>
    intro q C cp hc ht gt wk hq R hC hp
    have e : C ++ pw_enter P K F h H pc 0 q = C := List.append_nil C
    rw [e] at hp
    exact pk_le L q (fun _ => hp _ _ _ _ _ R) (fun z => absurd z (by omega))
  | succ n ih =>
    intro q C cp hc ht gt wk hq R hC hp
    have hqL : q < L := by omega
    refine br_f (nI_ge (b := L) hqL (by omega)) ⟨pk_in (4 * q) 192 (by omega) (ix_l0 4 q), ?_⟩
    by_cases e11 : P (4 * q) = 11
    · obtain ⟨⟨a, ha, ea⟩, ⟨b, hb, eb⟩⟩ := pw_okInv ok hqL e11
      have e : C ++ pw_enter P K F h H pc (n + 1) q = C ++ [(pc, h, H, pw_cg K F a b (P (4 * q + 3)))] ++ pw_enter P K F h H pc n (q + 1) := by
        rw [show pw_enter P K F h H pc (n + 1) q = _ from if_pos e11, List.append_cons]
        unfold pw_cond
        rw [ea, eb, nI_clamp (by omega), nI_clamp (by omega)]
      rw [e] at hp
      refine br_t ((rd_e (ix_l0 4 q)).trans e11) ⟨pk_in (4 * q + 1) 192 (by omega) (ix_l 4 q 1), pk_in (4 * q + 2) 192 (by omega) (ix_l 4 q 2), ?_⟩
      have hC1 : ∀ x : Cd_t, (C ++ [x]).length + n < 2 ^ 30 := fun x => by rw [List.length_append]; simp only [List.length_cons, List.length_nil]; omega
      refine xw_diff (K := K) (a := a) (b := b) ((rd_e (ix_l 4 q 1)).trans ea) ((rd_e (ix_l 4 q 2)).trans eb) ha hb R.2.1 (fun k0 => ?_) (fun k1 w hw => ?_)
      · have eg : pw_cg K F a b (P (4 * q + 3)) = pw_false := if_neg (by rw [k0]; decide)
        rw [eg] at hp
        exact br_t rfl (xw_raise pw_false R (by omega) pw_false_lt rfl (fun cp hc ht gt R' => nm_r (nI_1 q) (ih (q + 1) _ cp hc ht gt _ (by omega) R' (hC1 _) hp)))
      · have eg : pw_cg K F a b (P (4 * q + 3)) = pw_goal 1 (pw_dif F a b) ((P (4 * q + 3)).toInt64 - pw_dif F a b 6) := if_pos k1
        rw [eg] at hp
        have hd := pw_F_d R.2.2.1 ha hb k1 hw
        exact br_f (by decide) ⟨pk_in (4 * q + 3) 192 (by omega) (ix_l 4 q 3), xw_raise _ R (by omega) (pw_goal_lt hd) (sb_e (ti_e (rd_e (ix_l 4 q 3))) (hd 6 (by omega)))
          (fun cp hc ht gt R' => nm_r (nI_1 q) (ih (q + 1) _ cp hc ht gt _ (by omega) R' (hC1 _) hp))⟩
    · have e : C ++ pw_enter P K F h H pc (n + 1) q = C := by
        rw [show pw_enter P K F h H pc (n + 1) q = [] from if_neg e11, List.append_nil]
      rw [e] at hp
      exact br_f (fun y => e11 ((rd_e (ix_l0 4 q)).symm.trans y)) (hp _ _ _ _ _ R)
theorem xw_enter {post : SX → Prop} {pc x : Int32} {q : Nat} (hx : x = nI q) (hq : q ≤ L) (ok : pw_ok P L) (hL : L ≤ 48) (R : xs_R aCP aHC aHT aGT aFO aKN aLI K F h H C) (hC : C.length + 48 < 2 ^ 30)
    (hp : ∀ (cp hc : Nat → Int32) (ht gt wk : Nat → Int64), xs_R cp hc ht gt aFO aKN aLI K F h H (C ++ pw_enter P K F h H pc (L - q) q) → post ((nI la), (nI lb), fSC, (nI L), fLD, fST, nI (C ++ pw_enter P K F h H pc (L - q) q).length, fLV, (nI h), aRG, aCE, aSO, P, aMU, aLS, aLH, aLB, cp, hc, ht, gt, aFO, aKN, wk, aLI, aSU, aTR)) : wpX_enter post ((nI la), (nI lb), fSC, (nI L), fLD, fST, (nI C.length), fLV, (nI h), aRG, aCE, aSO, P, aMU, aLS, aLH, aLB, aCP, aHC, aHT, aGT, aFO, aKN, aWK, aLI, aSU, aTR) x pc := by
  subst hx
  exact ⟨L - q + 1, xw_enter2 ok hL (L - q) q C _ _ _ _ _ (by omega) R (by omega) hp⟩
theorem xw_goto {post : SX → Prop} {pc x : Int32} {t : Nat} (hx : x = nI t) (ht : t < 1000) (ok : pw_ok P L) (hL : L ≤ 48) (R : xs_R aCP aHC aHT aGT aFO aKN aLI K F h H C) (hC : C.length + 48 < 2 ^ 30)
    (hp : ∀ (cp hc : Nat → Int32) (ht gt wk : Nat → Int64), xs_R cp hc ht gt aFO aKN aLI K F h H (C ++ pw_goto P L K F h H pc t) → post ((nI la), (nI lb), fSC, (nI L), fLD, fST, nI (C ++ pw_goto P L K F h H pc t).length, fLV, (nI h), aRG, aCE, aSO, P, aMU, aLS, aLH, aLB, cp, hc, ht, gt, aFO, aKN, wk, aLI, aSU, aTR)) : wpX_goTo post ((nI la), (nI lb), fSC, (nI L), fLD, fST, (nI C.length), fLV, (nI h), aRG, aCE, aSO, P, aMU, aLS, aLH, aLB, aCP, aHC, aHT, aGT, aFO, aKN, aWK, aLI, aSU, aTR) x pc := by
  unfold wpX_goTo
  refine xw_isG hx ht hL (fun g => br_f (by decide) ?_) (fun g => br_t rfl ?_)
  · have e : pw_goto P L K F h H pc t = pw_enter P K F h H pc (L - t) t := if_pos g
    rw [e] at hp
    have htL : t < L := by
      unfold pw_isG at g
      simp only [Bool.and_eq_true, decide_eq_true_eq] at g
      exact g.1.1
    exact xw_enter hx (by omega) ok hL R hC hp
  · have e : pw_goto P L K F h H pc t = [(pc, h, H, pw_false)] := if_neg (by rw [g]; decide)
    rw [e] at hp
    exact xw_raise pw_false R (by omega) pw_false_lt rfl (fun cp hc ht gt R' => hp cp hc ht gt _ R')
theorem xw_fresh {post : SX → Prop} (hp : ∀ (fo : Nat → Int64) (kn : Nat → Int32), pw_KR kn pw_K0 → pw_FR fo pw_K0 pw_F0 → post (fLA, fLB, fSC, fPL, fLD, fST, fCC, fLV, nI 0, aRG, aCE, aSO, aPR, aMU, aLS, aLH, aLB, aCP, aHC, aHT, aGT, fo, kn, aWK, aLI, aSU, aTR)) : wpX_freshStretch post (fLA, fLB, fSC, fPL, fLD, fST, fCC, fLV, fLC, aRG, aCE, aSO, aPR, aMU, aLS, aLH, aLB, aCP, aHC, aHT, aGT, aFO, aKN, aWK, aLI, aSU, aTR) := by
  exact loop_0 (fun n i s => wX_freshStretch_2 post fLA fLB fSC fPL fLD fST fCC fLV fLC n (nI i) aRG aCE aSO aPR aMU aLS aLH aLB aCP aHC aHT aGT s aKN aWK aLI aSU aTR) (fun i s => ∀ m, m < i → s m = 0) 49 aFO (fun j hj => absurd hj (Nat.not_lt_zero j))
    (fun n s I => br_t (nI_le (Nat.le_refl 49) (by decide))
      (loop_0 (fun n i (s2 : (Nat → Int64) × (Nat → Int32)) => wX_freshStretch_23 post fLA fLB fSC fPL fLD fST fCC fLV fLC n (nI i) aRG aCE aSO aPR aMU aLS aLH aLB aCP aHC aHT aGT s2.1 s2.2 aWK aLI aSU aTR)
        (fun i s2 => (∀ m, m < 49 → s2.1 m = if m % 8 = 0 ∧ m < 8 * i then 1 else 0) ∧ ∀ r, r < i → s2.2 r = 1) 6 (s, aKN) ⟨fun m hm => by rw [if_neg (by omega)]; exact I m hm, fun r hr => absurd hr (Nat.not_lt_zero r)⟩
        (fun n s2 J => br_t (nI_le (Nat.le_refl 6) (by decide)) (nm_r (congrArg (upd s2.2 6) vb_1) (hp s2.1 _ (fun i hi => by
            unfold upd pw_K0
            by_cases e : i = 6
            · rw [if_pos e, if_pos rfl]
            · rw [if_neg e, if_pos rfl]; exact J.2 i (by omega)) (fun i j hi hj _ => by
            rw [J.1 _ (by omega)]
            unfold pw_F0
            exact ic_g (fr_8 hi hj)))))
        (fun n i s2 hi J k => br_f (nI_ge (b := 6) hi (by decide)) ⟨pk_in (7 * i + i) 49 (by omega) (ix_l 7 i i), up_L (7 * i + i) 1 (ix_l 7 i i) rfl ⟨pk_in i 7 (by omega) rfl, up_I i 1 rfl vb_1 (nm_r (nI_1 i) (k (_, _) ⟨fun m hm => by
            show vp_updL s2.1 (7 * i + i) 1 m = _
            unfold vp_updL
            by_cases e : m = 7 * i + i
            · rw [if_pos e, if_pos (by omega)]
            · rw [if_neg e, J.1 m hm]
              exact ic_g (by omega), fun r hr => by
            show upd s2.2 i 1 r = 1
            unfold upd
            by_cases e : r = i
            · rw [if_pos e]
            · rw [if_neg e]; exact J.2 r (by omega)⟩))⟩⟩)))
    (fun n i s hi I k => br_f (nI_ge (b := 49) hi (by decide)) ⟨pk_in i 49 hi rfl, up_L i 0 rfl rfl (nm_r (nI_1 i) (k _ (lu_s (f := fun _ => 0) I rfl)))⟩)
theorem xw_grp2 {post : SX → Prop} (ok : pw_ok P L) (hL : L ≤ 48) (hK : pw_KR aKN pw_K0) (hF : pw_FR aFO pw_K0 pw_F0) : ∀ (n q h : Nat) (H : Nat → Nat → Int64) (wk li : Nat → Int64), q + n = L → h ≤ 6 → pw_HR li h H →
    (∀ wk li : Nat → Int64, pw_HR li (pw_grp P n q h H).1 (pw_grp P n q h H).2 → post (fLA, fLB, fSC, nI L, fLD, fST, fCC, fLV, nI (pw_grp P n q h H).1, aRG, aCE, aSO, P, aMU, aLS, aLH, aLB, aCP, aHC, aHT, aGT, aFO, aKN, wk, li, aSU, aTR)) → wX_visitGroup_28 post (n + 1) (nI q) fLA fLB fSC (nI L) fLD fST fCC fLV (nI h) aRG aCE aSO P aMU aLS aLH aLB aCP aHC aHT aGT aFO aKN wk li aSU aTR := by
  intro n
  induction n with
  | zero =>
    intro q h H wk li hq hh hH hp
    exact pk_le L q (fun _ => hp wk li hH) (fun z => absurd z (by omega))
  | succ n ih =>
    intro q h H wk li hq hh hH hp
    have hqL : q < L := by omega
    refine br_f (nI_ge (b := L) hqL (by omega)) ⟨pk_in (4 * q) 192 (by omega) (ix_l0 4 q), ?_⟩
    by_cases e11 : P (4 * q) = 11
    · obtain ⟨⟨a, ha, ea⟩, ⟨b, hb, eb⟩⟩ := pw_okInv ok hqL e11
      rw [show pw_grp P (n + 1) q h H = _ from if_pos e11, ea, eb, nI_clamp (by omega), nI_clamp (by omega)] at hp
      refine br_t ((rd_e (ix_l0 4 q)).trans e11) ⟨pk_in (4 * q + 1) 192 (by omega) (ix_l 4 q 1), pk_in (4 * q + 2) 192 (by omega) (ix_l 4 q 2), ?_⟩
      refine xw_diff (K := pw_K0) (a := a) (b := b) ((rd_e (ix_l 4 q 1)).trans ea) ((rd_e (ix_l 4 q 2)).trans eb) ha hb hK (fun k0 => absurd (show (true && true) = false from k0) (by decide)) (fun k1 w hw => ?_)
      have hd := pw_F_d hF ha hb k1 hw
      exact ⟨pk_in (4 * q + 3) 192 (by omega) (ix_l 4 q 3), xw_addH (g := pw_goal 1 (pw_dif pw_F0 a b) (P (4 * q + 3)).toInt64) hh hH (pw_goal_lt hd) (ti_e (rd_e (ix_l 4 q 3)))
        (fun li hli => nm_r (nI_1 q) (ih (q + 1) _ _ _ li (by omega) (pw_hn_le hh) hli hp))⟩
    · rw [show pw_grp P (n + 1) q h H = (h, H) from if_neg e11] at hp
      exact br_f (fun y => e11 ((rd_e (ix_l0 4 q)).symm.trans y)) (hp wk li hH)
theorem xw_group17 {post : SX → Prop} {p : Nat} (hpL : p ≤ L) (ok : pw_ok P L) (hL : L ≤ 48) (T : xs_T aCP aHC aHT aGT C)
    (hp : ∀ (fo wk li : Nat → Int64) (kn : Nat → Int32), xs_R aCP aHC aHT aGT fo kn li pw_K0 pw_F0 (pw_grp P (L - p) p 0 pw_H0).1 (pw_grp P (L - p) p 0 pw_H0).2 C → post ((nI la), (nI lb), fSC, (nI L), fLD, fST, (nI C.length), 1, nI (pw_grp P (L - p) p 0 pw_H0).1, aRG, aCE, aSO, P, aMU, aLS, aLH, aLB, aCP, aHC, aHT, aGT, fo, kn, wk, li, aSU, aTR)) : wX_visitGroup_17 post (nI p) (nI la) (nI lb) fSC (nI L) fLD fST (nI C.length) fLV fLC aRG aCE aSO P aMU aLS aLH aLB aCP aHC aHT aGT aFO aKN aWK aLI aSU aTR := by
  unfold wX_visitGroup_17
  refine xw_fresh (fun fo kn hK hF => ?_)
  exact ⟨L - p + 1, xw_grp2 ok hL hK hF (L - p) p 0 pw_H0 _ _ (by omega) (by omega) (fun i j hi _ => absurd hi (Nat.not_lt_zero i)) (fun wk li hH => hp fo wk li kn ⟨T, hK, hF, hH, pw_grp_le _ _ _ _ (by omega)⟩)⟩
theorem xw_group {post : SX → Prop} {p : Nat} {l : Bool} (hpL : p < L) (ok : pw_ok P L) (hL : L ≤ 48) (R : xs_R aCP aHC aHT aGT aFO aKN aLI K F h H C) (hC : C.length + 48 < 2 ^ 30)
    (hp : ∀ (C' : List Cd_t) (cp hc : Nat → Int32) (ht gt fo wk li : Nat → Int64) (kn : Nat → Int32), C' = C ++ (if l = true ∧ 0 < p then pw_enter P K F h H (nI p) (L - p) p else []) → xs_R cp hc ht gt fo kn li pw_K0 pw_F0 (pw_grp P (L - p) p 0 pw_H0).1 (pw_grp P (L - p) p 0 pw_H0).2 C' →
      post ((nI la), (nI lb), fSC, (nI L), fLD, fST, nI C'.length, 1, nI (pw_grp P (L - p) p 0 pw_H0).1, aRG, aCE, aSO, P, aMU, aLS, aLH, aLB, cp, hc, ht, gt, fo, kn, wk, li, aSU, aTR)) : wpX_visitGroup post ((nI la), (nI lb), fSC, (nI L), fLD, fST, (nI C.length), xb_b l, (nI h), aRG, aCE, aSO, P, aMU, aLS, aLH, aLB, aCP, aHC, aHT, aGT, aFO, aKN, aWK, aLI, aSU, aTR) (nI p) := by
  cases l with
  | false => exact br_t rfl (xw_group17 (by omega) ok hL R.1 (fun fo wk li kn R' => hp C _ _ _ _ fo wk li kn (by rw [if_neg (fun z => absurd z.1 (by decide)), List.append_nil]) R'))
  | true =>
    refine br_f (by decide) (pk_le p 0 (fun z => ?_) (fun z => ?_))
    · exact xw_group17 (by omega) ok hL R.1 (fun fo wk li kn R' => hp C _ _ _ _ fo wk li kn (by rw [if_neg (by omega), List.append_nil]) R')
    · refine xw_enter rfl (by omega) ok hL R hC (fun cp hc ht gt wk R' => ?_)
      exact xw_group17 (C := C ++ pw_enter P K F h H (nI p) (L - p) p) (by omega) ok hL R'.1 (fun fo wk li kn R'' => hp _ cp hc ht gt fo wk li kn (by rw [if_pos ⟨rfl, z⟩]) R'')
end
end
section
/-! the component's walk: sums, accesses, branches, the instruction, refresh -/
theorem pw_small_t {w : Nat → Int64} (h : (∀ j, j < 6 → ¬ w j < -16 ∧ w j ≤ 16) ∧ ¬ w 6 < -2147483648 ∧ w 6 ≤ 2147483647) : pw_small w = true := @decide_eq_true _ (Classical.propDecidable _) h
theorem pw_small_f {w : Nat → Int64} (h : ¬ ((∀ j, j < 6 → ¬ w j < -16 ∧ w j ≤ 16) ∧ ¬ w 6 < -2147483648 ∧ w 6 ≤ 2147483647)) : pw_small w = false := @decide_eq_false _ (Classical.propDecidable _) h
theorem pw_small_c {w d : Nat → Int64} (h : ∀ j, j < 7 → w j = d j) : pw_small w = pw_small d := by
  unfold pw_small
  rw [h 6 (by omega)]
  have e : (∀ j, j < 6 → ¬ w j < -16 ∧ w j ≤ 16) ↔ (∀ j, j < 6 → ¬ d j < -16 ∧ d j ≤ 16) := by
    constructor
    · intro a j hj; rw [← h j (by omega)]; exact a j hj
    · intro a j hj; rw [h j (by omega)]; exact a j hj
  exact decide_eq_decide.mpr (and_congr e Iff.rfl)
theorem pw_sw_5 {F : Nat → Nat → Int64} {b j : Nat} {c : Int32} : pw_sw F 5 b c j = if j = 6 then F b 6 + c.toInt64 else F b j := rfl
theorem pw_sw_3 {F : Nat → Nat → Int64} {b j : Nat} {c : Int32} : pw_sw F 3 b c j = F b j + F c.toNatClampNeg j := rfl
theorem pw_sw_4 {F : Nat → Nat → Int64} {b j : Nat} {c : Int32} : pw_sw F 4 b c j = F b j - F c.toNatClampNeg j := rfl
theorem m1_m (x y : Int64) : x + (-1) * y = x - y := by
  rw [Int64.neg_mul, Int64.one_mul, Int64.sub_eq_add_neg]
section
variable {fLA fLB fSC fPL fLD fST fCC fLV fLC : Int32} {aRG aCE aSO aPR aMU aLS aLH aLB aCP aHC aKN aTR : Nat → Int32} {aHT aGT aFO aWK aLI aSU : Nat → Int64}
variable {P : Nat → Int32} {L la lb h : Nat} {K : Nat → Bool} {F : Nat → Nat → Int64} {H : Nat → Nat → Int64} {C : List Cd_t}
theorem xw_small {post : Int32 → Prop} (h1 : pw_small aWK = true → post 1) (h0 : pw_small aWK = false → post 0) : wpX_workIsSmall post (fLA, fLB, fSC, fPL, fLD, fST, fCC, fLV, fLC, aRG, aCE, aSO, aPR, aMU, aLS, aLH, aLB, aCP, aHC, aHT, aGT, aFO, aKN, aWK, aLI, aSU, aTR) := by
  refine loop_0 (fun n i (_ : Unit) => wX_workIsSmall_2 post fLA fLB fSC fPL fLD fST fCC fLV fLC aRG aCE aSO aPR aMU aLS aLH aLB aCP aHC aHT aGT aFO aKN aWK aLI aSU aTR n (nI i)) (fun i _ => ∀ j, j < i → ¬ aWK j < -16 ∧ aWK j ≤ 16) 6 () (fun j hj => absurd hj (Nat.not_lt_zero j)) ?_ ?_
  · intro n _ I
    refine br_t (nI_le (Nat.le_refl 6) (by decide)) (br_c (fun z => h0 (pw_small_f (fun y => y.2.1 z))) (fun z => br_c (fun z2 => h0 (pw_small_f (fun y => ?_))) (fun z2 => h1 (pw_small_t ⟨I, z, Int64.not_lt.mp z2⟩))))
    exact Int64.not_lt.mpr y.2.2 z2
  · intro n i _ hi I k
    refine br_f (nI_ge (b := 6) hi (by decide)) ⟨pk_in i 7 (by omega) rfl, ?_⟩
    rw [rd_e (a := aWK) (x := nI i) rfl]
    refine br_c (fun z => h0 (pw_small_f (fun y => (y.1 i hi).1 z))) (fun z => ⟨pk_in i 7 (by omega) rfl, br_c (fun z2 => nm_r (nI_1 i) (k () (fun j hj => ?_))) (fun z2 => h0 (pw_small_f (fun y => z2 (y.1 i hi).2)))⟩)
    by_cases e : j = i
    · rw [e]; exact ⟨z, z2⟩
    · exact I j (by omega)
theorem xw_s160 {post : SX → Prop} {pc x : Int32} {a : Nat} {d : Nat → Int64} (hx : x = nI a) (ha : a < 6) (R : xs_R aCP aHC aHT aGT aFO aKN aLI K F h H C) (hC : C.length + 48 < 2 ^ 30) (hw : ∀ j, j < 7 → aWK j = d j)
    (h1 : pw_small d = true → ∀ (cp hc : Nat → Int32) (ht gt fo : Nat → Int64) (kn : Nat → Int32), xs_R cp hc ht gt fo kn aLI (pw_sK K a true) (pw_sF F a d) h H (C ++ [(pc, h, H, pw_goal (-1) d (d 6 + 2147483648))] ++ [(pc, h, H, pw_goal 1 d (2147483647 - d 6))]) →
      post ((nI la), (nI lb), fSC, (nI L), fLD, fST, nI (C ++ [(pc, h, H, pw_goal (-1) d (d 6 + 2147483648))] ++ [(pc, h, H, pw_goal 1 d (2147483647 - d 6))]).length, fLV, (nI h), aRG, aCE, aSO, P, aMU, aLS, aLH, aLB, cp, hc, ht, gt, fo, kn, aWK, aLI, aSU, aTR))
    (h0 : pw_small d = false → ∀ kn : Nat → Int32, xs_R aCP aHC aHT aGT aFO kn aLI (pw_sK K a false) F h H C → post ((nI la), (nI lb), fSC, (nI L), fLD, fST, (nI C.length), fLV, (nI h), aRG, aCE, aSO, P, aMU, aLS, aLH, aLB, aCP, aHC, aHT, aGT, aFO, kn, aWK, aLI, aSU, aTR)) : wX_visitSum_160 post pc x (nI la) (nI lb) fSC (nI L) fLD fST (nI C.length) fLV (nI h) aRG aCE aSO P aMU aLS aLH aLB aCP aHC aHT aGT aFO aKN aWK aLI aSU aTR := by
  subst hx
  unfold wX_visitSum_160
  refine xw_small (fun s => br_f (by decide) ?_) (fun s => br_t rfl ⟨pk_in a 7 (by omega) rfl, up_I a 0 rfl vb_0 (h0 (by rw [← pw_small_c hw]; exact s) _ ⟨R.1, pw_K_s R.2.1 rfl, pw_F_k R.2.2.1, R.2.2.2⟩)⟩)
  refine xw_raise _ R (by omega) (pw_goal_lt hw) (by rw [hw 6 (by omega)]; rfl) (fun cp hc ht gt R1 => ?_)
  refine xw_raise _ R1 (by rw [List.length_append]; simp only [List.length_cons, List.length_nil]; omega) (pw_goal_lt hw) (by rw [hw 6 (by omega)]; rfl) (fun cp hc ht gt R2 => ?_)
  refine xw_give rfl (by omega) (fun fo hf => ?_)
  exact h1 (by rw [← pw_small_c hw]; exact s) cp hc ht gt fo _ ⟨R2.1, pw_K_s R2.2.1 rfl, pw_F_s R2.2.2.1 hf (fun _ => hw), R2.2.2.2⟩
theorem xw_s121 {post : SX → Prop} {pc x3 x5 : Int32} {x6 : Int64} {c : Nat} (hx : x5 = nI c) (hc : c < 7) (hp : ∀ w : Nat → Int64, (∀ j, j < 7 → w j = aWK j + x6 * aFO (7 * c + j)) → wX_visitSum_160 post pc x3 fLA fLB fSC fPL fLD fST fCC fLV fLC aRG aCE aSO aPR aMU aLS aLH aLB aCP aHC aHT aGT aFO aKN w aLI aSU aTR) : ∃ n, wX_visitSum_121 post pc x3 x5 x6 fLA fLB fSC fPL fLD fST fCC fLV fLC n 0 aRG aCE aSO aPR aMU aLS aLH aLB aCP aHC aHT aGT aFO aKN aWK aLI aSU aTR := by
  subst hx
  exact loop_0 (fun n i s => wX_visitSum_121 post pc x3 (nI c) x6 fLA fLB fSC fPL fLD fST fCC fLV fLC n (nI i) aRG aCE aSO aPR aMU aLS aLH aLB aCP aHC aHT aGT aFO aKN s aLI aSU aTR) (fun i s => ∀ j, j < 7 → s j = if j < i then aWK j + x6 * aFO (7 * c + j) else aWK j) 7 aWK (fun j hj => by rw [if_neg (by omega)])
    (fun n s I => br_t (nI_le (Nat.le_refl 7) (by decide)) (hp s (fun j hj => by rw [I j hj, if_pos hj])))
    (fun n i s hi I k => br_f (nI_ge (b := 7) hi (by decide)) ⟨pk_in i 7 hi rfl, pk_in (7 * c + i) 49 (by omega) (ix_l 7 c i), pk_in i 7 hi rfl,
      up_L i (aWK i + x6 * aFO (7 * c + i)) rfl (ad_e ((rd_e rfl).trans ((I i hi).trans (if_neg (Nat.lt_irrefl i)))) (ml_e rfl (rd_e (ix_l 7 c i)))) (nm_r (nI_1 i) (k _ (fun j hj => by
        unfold vp_updL
        by_cases e : j = i
        · rw [if_pos e, if_pos (by omega), e]
        · rw [if_neg e, I j hj]
          exact ic_g (by omega))))⟩)
theorem xw_s77 {post : SX → Prop} {pc o x3 x4 x5 : Int32} {b : Nat} (hx : x4 = nI b) (hb : b < 7) (ho : o = 3 ∨ o = 4 ∨ o = 5) (hc : o ≠ 5 → ir_in x5 7) (hF : pw_FR aFO K F) (kb : K b = true) (kc : o ≠ 5 → K x5.toNatClampNeg = true)
    (hp : ∀ w : Nat → Int64, (∀ j, j < 7 → w j = pw_sw F o b x5 j) → wX_visitSum_160 post pc x3 fLA fLB fSC fPL fLD fST fCC fLV fLC aRG aCE aSO aPR aMU aLS aLH aLB aCP aHC aHT aGT aFO aKN w aLI aSU aTR) : wX_visitSum_77 post pc o x3 x4 x5 fLA fLB fSC fPL fLD fST fCC fLV fLC aRG aCE aSO aPR aMU aLS aLH aLB aCP aHC aHT aGT aFO aKN aWK aLI aSU aTR := by
  unfold wX_visitSum_77
  refine xw_take hx hb (fun w hw => ?_)
  have hw' : ∀ j, j < 7 → w j = F b j := fun j hj => (hw j hj).trans (hF b j hb hj kb)
  rcases ho with rfl | rfl | rfl
  · obtain ⟨c, hc7, rfl⟩ := hc (by decide)
    have kc' := kc (by decide)
    rw [nI_clamp (by omega)] at kc'
    refine br_f (by decide) (br_t rfl (xw_s121 rfl hc7 (fun w2 hw2 => hp w2 (fun j hj => ?_))))
    rw [hw2 j hj, hw' j hj, pw_sw_3, nI_clamp (by omega), Int64.one_mul, hF c j hc7 hj kc']
  · obtain ⟨c, hc7, rfl⟩ := hc (by decide)
    have kc' := kc (by decide)
    rw [nI_clamp (by omega)] at kc'
    refine br_f (by decide) (br_f (by decide) (xw_s121 rfl hc7 (fun w2 hw2 => hp w2 (fun j hj => ?_))))
    rw [hw2 j hj, hw' j hj, pw_sw_4, nI_clamp (by omega), m1_m, hF c j hc7 hj kc']
  · refine br_t rfl (nm_e (hp _ (fun j hj => ?_)))
    rw [pw_sw_5]
    unfold vp_updL
    by_cases e : j = 6
    · rw [if_pos e, if_pos e, hw' 6 (by omega)]
    · rw [if_neg e, if_neg e]; exact hw' j hj
theorem xw_sum {post : SX → Prop} {p a b : Nat} {o c : Int32} (hp : p < L) (hL : L ≤ 48) (eo : P (4 * p) = o) (ea : P (4 * p + 1) = nI a) (eb : P (4 * p + 2) = nI b) (ec : P (4 * p + 3) = c) (ha : a < 6) (hb : b < 7) (ho : o = 3 ∨ o = 4 ∨ o = 5) (hc : o ≠ 5 → ir_in c 7)
    (R : xs_R aCP aHC aHT aGT aFO aKN aLI K F h H C) (hC : C.length + 48 < 2 ^ 30)
    (k : ∀ (K' : Nat → Bool) (F' : Nat → Nat → Int64) (C' : List Cd_t) (cp hc : Nat → Int32) (ht gt fo wk : Nat → Int64) (kn : Nat → Int32), (K', F', h, H, C', true) = pw_sum o a b c K F h H C (nI p) → xs_R cp hc ht gt fo kn aLI K' F' h H C' → post ((nI la), (nI lb), fSC, (nI L), fLD, fST, nI C'.length, fLV, (nI h), aRG, aCE, aSO, P, aMU, aLS, aLH, aLB, cp, hc, ht, gt, fo, kn, wk, aLI, aSU, aTR)) : wpX_visitSum post ((nI la), (nI lb), fSC, (nI L), fLD, fST, (nI C.length), fLV, (nI h), aRG, aCE, aSO, P, aMU, aLS, aLH, aLB, aCP, aHC, aHT, aGT, aFO, aKN, aWK, aLI, aSU, aTR) (nI p) := by
  have bad : pw_sok K F o b c = false → ∀ (wk : Nat → Int64) (kn : Nat → Int32), xs_R aCP aHC aHT aGT aFO kn aLI (pw_sK K a false) F h H C → post ((nI la), (nI lb), fSC, (nI L), fLD, fST, (nI C.length), fLV, (nI h), aRG, aCE, aSO, P, aMU, aLS, aLH, aLB, aCP, aHC, aHT, aGT, aFO, kn, wk, aLI, aSU, aTR) := fun e wk kn R' =>
    k _ _ _ _ _ _ _ _ wk kn (by unfold pw_sum; rw [if_neg (by rw [e]; decide)]) R'
  have good : K b = true → (o ≠ 5 → K c.toNatClampNeg = true) → wX_visitSum_77 post (nI p) o (nI a) (nI b) c (nI la) (nI lb) fSC (nI L) fLD fST (nI C.length) fLV (nI h) aRG aCE aSO P aMU aLS aLH aLB aCP aHC aHT aGT aFO aKN aWK aLI aSU aTR := by
    intro kb kc
    refine xw_s77 (K := K) (F := F) rfl hb ho hc R.2.2.1 kb kc (fun w hw => ?_)
    have e0 : (K b && (decide (o = 5) || K c.toNatClampNeg)) = true := by
      rw [kb]
      by_cases o5 : o = 5
      · rw [decide_eq_true o5]; rfl
      · rw [kc o5, Bool.or_true]; rfl
    refine xw_s160 (d := pw_sw F o b c) rfl ha R hC hw (fun s cp hc ht gt fo kn R' => k _ _ _ cp hc ht gt fo w kn ?_ R') (fun s kn R' => bad ?_ w kn R')
    · unfold pw_sum
      rw [if_pos (by unfold pw_sok; rw [e0, s]; rfl)]
    · unfold pw_sok; rw [s, Bool.and_false]
  refine ⟨pk_in (4 * p) 192 (by omega) (ix_l0 4 p), rd_v (4 * p) (ix_l0 4 p) eo ⟨pk_in (4 * p + 1) 192 (by omega) (ix_l 4 p 1), rd_v (4 * p + 1) (ix_l 4 p 1) ea ⟨pk_in (4 * p + 2) 192 (by omega) (ix_l 4 p 2), rd_v (4 * p + 2) (ix_l 4 p 2) eb
    ⟨pk_in (4 * p + 3) 192 (by omega) (ix_l 4 p 3), rd_v (4 * p + 3) (ix_l 4 p 3) ec ⟨pk_in b 7 hb rfl, ?_⟩⟩⟩⟩⟩
  cases kb : K b with
  | false => exact br_t ((rd_e rfl).trans (pw_K_0 R.2.1 hb kb)) ⟨pk_in a 7 (by omega) rfl, up_I a 0 rfl vb_0 (bad (by unfold pw_sok; rw [kb]; rfl) _ _ ⟨R.1, pw_K_s R.2.1 rfl, pw_F_k R.2.2.1, R.2.2.2⟩)⟩
  | true =>
    refine br_f (by rw [rd_e (a := aKN) (x := nI b) rfl, pw_K_1 R.2.1 hb kb]; decide) (br_c (fun o5 => good kb (fun z => absurd o5 z)) (fun o5 => ?_))
    obtain ⟨c', hc7, rfl⟩ := hc o5
    refine ⟨pk_in c' 7 hc7 rfl, ?_⟩
    have ecl : (nI c').toNatClampNeg = c' := nI_clamp (by omega)
    cases kc : K c' with
    | false => exact br_t ((rd_e rfl).trans (pw_K_0 R.2.1 hc7 kc)) ⟨pk_in a 7 (by omega) rfl, up_I a 0 rfl vb_0 (bad (by unfold pw_sok; rw [ecl, kc, decide_eq_false o5, Bool.or_false, Bool.and_false]; rfl) _ _ ⟨R.1, pw_K_s R.2.1 rfl, pw_F_k R.2.2.1, R.2.2.2⟩)⟩
    | true => exact br_f (by rw [rd_e (a := aKN) (x := nI c') rfl, pw_K_1 R.2.1 hc7 kc]; decide) (good kb (fun _ => by rw [ecl]; exact kc))
theorem xw_acc {post : SX → Prop} {pc x1 x2 : Int32} {x m : Nat} (hx : x2 = nI x) (hx7 : x < 7) (hm : (if x1 = 0 then la else lb) = m) (R : xs_R aCP aHC aHT aGT aFO aKN aLI K F h H C) (hC : C.length + 48 < 2 ^ 30)
    (hp : ∀ (cp hc : Nat → Int32) (ht gt wk : Nat → Int64), xs_R cp hc ht gt aFO aKN aLI K F h H (C ++ pw_acc K F h H pc x m) → post ((nI la), (nI lb), fSC, (nI L), fLD, fST, nI (C ++ pw_acc K F h H pc x m).length, fLV, (nI h), aRG, aCE, aSO, P, aMU, aLS, aLH, aLB, cp, hc, ht, gt, aFO, aKN, wk, aLI, aSU, aTR)) : wpX_visitAccess post ((nI la), (nI lb), fSC, (nI L), fLD, fST, (nI C.length), fLV, (nI h), aRG, aCE, aSO, P, aMU, aLS, aLH, aLB, aCP, aHC, aHT, aGT, aFO, aKN, aWK, aLI, aSU, aTR) pc x1 x2 := by
  subst hx
  have hC1 : ∀ c : Cd_t, (C ++ [c]).length < 2 ^ 30 := fun c => by rw [List.length_append]; simp only [List.length_cons, List.length_nil]; omega
  refine ⟨pk_in x 7 hx7 rfl, ?_⟩
  cases kx : K x with
  | false =>
    have e : C ++ pw_acc K F h H pc x m = C ++ [(pc, h, H, pw_false)] ++ [(pc, h, H, pw_false)] := by
      rw [show pw_acc K F h H pc x m = [(pc, h, H, pw_false), (pc, h, H, pw_false)] from if_neg (by rw [kx]; decide), List.append_assoc]; rfl
    rw [e] at hp
    refine br_t ((rd_e rfl).trans (pw_K_0 R.2.1 hx7 kx)) ?_
    refine xw_raise pw_false R (by omega) pw_false_lt rfl (fun cp hc ht gt R1 => ?_)
    exact xw_raise pw_false R1 (hC1 _) pw_false_lt rfl (fun cp hc ht gt R2 => hp cp hc ht gt _ R2)
  | true =>
    have e : C ++ pw_acc K F h H pc x m = C ++ [(pc, h, H, pw_goal (-1) (F x) (F x 6))] ++ [(pc, h, H, pw_goal 1 (F x) ((nI m - 1).toInt64 - F x 6))] := by
      rw [show pw_acc K F h H pc x m = [(pc, h, H, pw_goal (-1) (F x) (F x 6)), (pc, h, H, pw_goal 1 (F x) ((nI m - 1).toInt64 - F x 6))] from if_pos kx, List.append_assoc]; rfl
    rw [e] at hp
    refine br_f (by rw [rd_e (a := aKN) (x := nI x) rfl, pw_K_1 R.2.1 hx7 kx]; decide) ?_
    refine xw_take rfl hx7 (fun w hw => ?_)
    have hw' : ∀ j, j < 7 → w j = F x j := fun j hj => (hw j hj).trans (R.2.2.1 x j hx7 hj kx)
    have go : ∀ r : Int32, r = nI m → wpX_raise (fun u => match u with | (fLA, fLB, fSC, fPL, fLD, fST, fCC, fLV, fLC, aRG, aCE, aSO, aPR, aMU, aLS, aLH, aLB, aCP, aHC, aHT, aGT, aFO, aKN, aWK, aLI, aSU, aTR) => wpX_raise (fun u => match u with | (fLA, fLB, fSC, fPL, fLD, fST, fCC, fLV, fLC, aRG, aCE, aSO, aPR, aMU, aLS, aLH, aLB, aCP, aHC, aHT, aGT, aFO, aKN, aWK, aLI, aSU, aTR) => post (fLA, fLB, fSC, fPL, fLD, fST, fCC, fLV, fLC, aRG, aCE, aSO, aPR, aMU, aLS, aLH, aLB, aCP, aHC, aHT, aGT, aFO, aKN, aWK, aLI, aSU, aTR)) (fLA, fLB, fSC, fPL, fLD, fST, fCC, fLV, fLC, aRG, aCE, aSO, aPR, aMU, aLS, aLH, aLB, aCP, aHC, aHT, aGT, aFO, aKN, aWK, aLI, aSU, aTR) pc 1 ((r - 1).toInt64 - aWK 6)) ((nI la), (nI lb), fSC, (nI L), fLD, fST, (nI C.length), fLV, (nI h), aRG, aCE, aSO, P, aMU, aLS, aLH, aLB, aCP, aHC, aHT, aGT, aFO, aKN, w, aLI, aSU, aTR) pc (-1) (w 6) := by
      intro r er
      refine xw_raise _ R (by omega) (pw_goal_lt hw') (by rw [hw' 6 (by omega)]; rfl) (fun cp hc ht gt R1 => ?_)
      exact xw_raise _ R1 (hC1 _) (pw_goal_lt hw') (by rw [hw' 6 (by omega), er]; rfl) (fun cp hc ht gt R2 => hp cp hc ht gt _ R2)
    by_cases x0 : x1 = 0
    · rw [if_pos x0] at hm
      exact br_t x0 (go _ (congrArg nI hm))
    · rw [if_neg x0] at hm
      exact br_f x0 (go _ (congrArg nI hm))
theorem xw_branch {post : SX → Prop} {pc x y z : Int32} {a b t : Nat} (hx : x = nI a) (hy : y = nI b) (hz : z = nI t) (ha : a < 7) (hb : b < 7) (ht : t < 48) (ok : pw_ok P L) (hL : L ≤ 48) (R : xs_R aCP aHC aHT aGT aFO aKN aLI K F h H C) (hC : C.length + 48 < 2 ^ 30)
    (k : ∀ (h' : Nat) (H' : Nat → Nat → Int64) (C' : List Cd_t) (cp hc : Nat → Int32) (ht gt wk li : Nat → Int64), (K, F, h', H', C', true) = pw_bra P L a b t K F h H C pc → xs_R cp hc ht gt aFO aKN li K F h' H' C' → post ((nI la), (nI lb), fSC, (nI L), fLD, fST, nI C'.length, fLV, nI h', aRG, aCE, aSO, P, aMU, aLS, aLH, aLB, cp, hc, ht, gt, aFO, aKN, wk, li, aSU, aTR)) : wpX_visitBranch post ((nI la), (nI lb), fSC, (nI L), fLD, fST, (nI C.length), fLV, (nI h), aRG, aCE, aSO, P, aMU, aLS, aLH, aLB, aCP, aHC, aHT, aGT, aFO, aKN, aWK, aLI, aSU, aTR) pc x y z := by
  unfold wpX_visitBranch
  refine xw_diff hx hy ha hb R.2.1 (fun k0 => ?_) (fun k1 w hw => ?_)
  · refine br_t rfl (xw_goto hz (by omega) ok hL R hC (fun cp hc ht gt wk R' => k h H _ cp hc ht gt wk _ ?_ R'))
    unfold pw_bra
    rw [if_neg (by rw [k0]; decide)]
  · have hd := pw_F_d R.2.2.1 ha hb k1 hw
    refine br_f (by decide) (xw_addH (g := pw_goal (-1) (pw_dif F a b) (pw_dif F a b 6)) R.2.2.2.2 R.2.2.2.1 (pw_goal_lt hd) (hd 6 (by omega)) (fun li hli => ?_))
    refine xw_goto hz (by omega) ok hL ⟨R.1, R.2.1, R.2.2.1, hli, pw_hn_le R.2.2.2.2⟩ hC (fun cp hc ht gt wk R1 => ?_)
    refine xw_diff hx hy ha hb R.2.1 (fun k0 => absurd (k0.symm.trans k1) (by decide)) (fun _ w2 hw2 => ?_)
    have hd2 := pw_F_d R.2.2.1 ha hb k1 hw2
    have hli' : pw_HR li h H := fun i j hi hj => by
      have h6 := R.2.2.2.2
      rw [hli i j (by unfold pw_hn; split <;> omega) hj]
      unfold pw_hH
      rw [if_neg (by omega)]
    refine xw_addH (g := pw_goal 1 (pw_dif F a b) (-1 - pw_dif F a b 6)) R.2.2.2.2 hli' (pw_goal_lt hd2) (by rw [hd2 6 (by omega)]; rfl) (fun li2 hli2 => ?_)
    refine k (pw_hn h) (pw_hH h H (pw_goal 1 (pw_dif F a b) (-1 - pw_dif F a b 6))) _ cp hc ht gt w2 li2 ?_ ⟨R1.1, R1.2.1, R1.2.2.1, hli2, pw_hn_le R.2.2.2.2⟩
    unfold pw_bra
    rw [if_pos k1]
theorem xw_ins {post : SX → Prop} {p : Nat} (hp : p < L) (ok : pw_ok P L) (hL : L ≤ 48) (hv : pw_inv K F h) (h11 : ¬ P (4 * p) = 11) (R : xs_R aCP aHC aHT aGT aFO aKN aLI K F h H C) (hC : C.length + 48 < 2 ^ 30)
    (k : ∀ (K' : Nat → Bool) (F' : Nat → Nat → Int64) (h' : Nat) (H' : Nat → Nat → Int64) (C' : List Cd_t) (l' : Bool) (cp hc : Nat → Int32) (ht gt fo wk li : Nat → Int64) (kn : Nat → Int32),
      (K', F', h', H', C', l') = pw_ins P L la lb (nI p) (P (4 * p)) (P (4 * p + 1)) (P (4 * p + 2)) (P (4 * p + 3)) K F h H C → xs_R cp hc ht gt fo kn li K' F' h' H' C' →
      post ((nI la), (nI lb), fSC, (nI L), fLD, fST, nI C'.length, xb_b l', nI h', aRG, aCE, aSO, P, aMU, aLS, aLH, aLB, cp, hc, ht, gt, fo, kn, wk, li, aSU, aTR)) : wpX_visitInstruction post ((nI la), (nI lb), fSC, (nI L), fLD, fST, (nI C.length), 1, (nI h), aRG, aCE, aSO, P, aMU, aLS, aLH, aLB, aCP, aHC, aHT, aGT, aFO, aKN, aWK, aLI, aSU, aTR) (nI p) := by
  have ok1 := ok p hp
  unfold pw_okI at ok1
  generalize eo : P (4 * p) = o at ok1 k h11
  generalize ea : P (4 * p + 1) = x at ok1 k
  generalize eb : P (4 * p + 2) = y at ok1 k
  generalize ec : P (4 * p + 3) = z at ok1 k
  refine ⟨pk_in (4 * p + 1) 192 (by omega) (ix_l 4 p 1), rd_v (4 * p + 1) (ix_l 4 p 1) ea ⟨pk_in (4 * p + 2) 192 (by omega) (ix_l 4 p 2), rd_v (4 * p + 2) (ix_l 4 p 2) eb ⟨pk_in (4 * p + 3) 192 (by omega) (ix_l 4 p 3), rd_v (4 * p + 3) (ix_l 4 p 3) ec
    ⟨pk_in (4 * p) 192 (by omega) (ix_l0 4 p), rd_v (4 * p) (ix_l0 4 p) eo ?_⟩⟩⟩⟩
  rcases ok1 with rfl | ⟨rfl, ⟨a, ha, rfl⟩⟩ | ⟨rfl, ⟨a, ha, rfl⟩, ⟨b, hb, rfl⟩⟩ | ⟨rfl, ⟨a, ha, rfl⟩, ⟨b, hb, rfl⟩, hc⟩ | ⟨rfl, ⟨a, ha, rfl⟩, ⟨b, hb, rfl⟩, hc⟩ | ⟨rfl, ⟨a, ha, rfl⟩, ⟨b, hb, rfl⟩⟩ | ⟨rfl, ⟨a, ha, rfl⟩, -⟩
    | ⟨rfl, ⟨a, ha, rfl⟩, ⟨b, hb, rfl⟩, ⟨c, hc, rfl⟩⟩ | ⟨rfl, ⟨a, ha, rfl⟩, ⟨b, hb, rfl⟩, -⟩ | ⟨rfl, ⟨a, ha, rfl⟩⟩ | ⟨rfl, ⟨a, ha, rfl⟩, ⟨b, hb, rfl⟩, ⟨c, hc, rfl⟩⟩ | ⟨rfl, -⟩
  · exact br_f (by decide) (br_f (by decide) (br_t (by decide) (k K F h H C false _ _ _ _ _ _ _ _ rfl R)))
  · have ca : (nI a).toNatClampNeg = a := nI_clamp (by omega)
    refine br_f (by decide) (br_f (by decide) (br_f (by decide) (br_t (by decide) (?_))))
    refine xw_take (o := 6) rfl (by omega) (fun w hw => nm_e ?_)
    refine xw_give rfl (by omega) (fun fo hf => ?_)
    refine k (pw_sK K a true) (pw_sF F a (fun j => if j < 6 then 0 else z.toInt64)) h H C true _ _ _ _ fo _ _ _ (by unfold pw_ins; rw [if_neg (by decide), if_pos rfl, ca]) ⟨R.1, pw_K_s R.2.1 rfl, pw_F_s R.2.2.1 hf (fun _ j hj => ?_), R.2.2.2⟩
    unfold vp_updL
    by_cases e : j = 6
    · rw [if_pos e, if_neg (by omega)]
    · rw [if_neg e, if_pos (by omega), hw j hj, R.2.2.1 6 j (by omega) hj hv.1]; exact hv.2.1 j hj
  · have ca : (nI a).toNatClampNeg = a := nI_clamp (by omega)
    have cb : (nI b).toNatClampNeg = b := nI_clamp (by omega)
    refine br_f (by decide) (br_f (by decide) (br_f (by decide) (br_f (by decide) (br_t (by decide) (⟨pk_in b 7 hb rfl, ?_⟩)))))
    have e : pw_ins P L la lb (nI p) 2 (nI a) (nI b) z K F h H C = (pw_sK K a (K b), pw_sF F a (F b), h, H, C, true) := by
      unfold pw_ins; rw [if_neg (by decide), if_neg (by decide), if_pos rfl, ca, cb]
    cases kb : K b with
    | false =>
      exact br_t ((rd_e rfl).trans (pw_K_0 R.2.1 hb kb)) ⟨pk_in a 7 (by omega) rfl, up_I a 0 rfl vb_0 (k _ _ _ _ _ true _ _ _ _ _ _ _ _ e.symm ⟨R.1, pw_K_s R.2.1 (by rw [kb]; rfl), pw_F_x kb R.2.2.1, R.2.2.2⟩)⟩
    | true =>
      refine br_f (by rw [rd_e (a := aKN) (x := nI b) rfl, pw_K_1 R.2.1 hb kb]; decide) ?_
      refine xw_take rfl hb (fun w hw => ?_)
      refine xw_give rfl (by omega) (fun fo hf => ?_)
      exact k _ _ _ _ _ true _ _ _ _ fo _ _ _ e.symm ⟨R.1, pw_K_s R.2.1 (by rw [kb]; rfl), pw_F_s R.2.2.1 hf (fun _ j hj => (hw j hj).trans (R.2.2.1 b j hb hj kb)), R.2.2.2⟩
  · have ca : (nI a).toNatClampNeg = a := nI_clamp (by omega)
    have cb : (nI b).toNatClampNeg = b := nI_clamp (by omega)
    have e : pw_ins P L la lb (nI p) 3 (nI a) (nI b) z K F h H C = pw_sum 3 a b z K F h H C (nI p) := by
      unfold pw_ins; rw [if_neg (by decide), if_neg (by decide), if_neg (by decide), if_pos (by decide), ca, cb]
    refine br_f (by decide) (br_f (by decide) (br_f (by decide) (br_f (by decide) (br_f (by decide) (br_t (by decide) (?_))))))
    exact xw_sum hp hL eo ea eb ec ha hb (by decide) (fun _ => hc) R hC (fun K' F' C' cp hc ht gt fo wk kn e1 R1 => k K' F' h H C' true cp hc ht gt fo wk _ kn (e1.trans e.symm) R1)
  · have ca : (nI a).toNatClampNeg = a := nI_clamp (by omega)
    have cb : (nI b).toNatClampNeg = b := nI_clamp (by omega)
    have e : pw_ins P L la lb (nI p) 4 (nI a) (nI b) z K F h H C = pw_sum 4 a b z K F h H C (nI p) := by
      unfold pw_ins; rw [if_neg (by decide), if_neg (by decide), if_neg (by decide), if_pos (by decide), ca, cb]
    refine br_f (by decide) (br_f (by decide) (br_f (by decide) (br_f (by decide) (br_f (by decide) (br_f (by decide) (br_t (by decide) (?_)))))))
    exact xw_sum hp hL eo ea eb ec ha hb (by decide) (fun _ => hc) R hC (fun K' F' C' cp hc ht gt fo wk kn e1 R1 => k K' F' h H C' true cp hc ht gt fo wk _ kn (e1.trans e.symm) R1)
  · have ca : (nI a).toNatClampNeg = a := nI_clamp (by omega)
    have cb : (nI b).toNatClampNeg = b := nI_clamp (by omega)
    have e : pw_ins P L la lb (nI p) 5 (nI a) (nI b) z K F h H C = pw_sum 5 a b z K F h H C (nI p) := by
      unfold pw_ins; rw [if_neg (by decide), if_neg (by decide), if_neg (by decide), if_pos (by decide), ca, cb]
    refine br_f (by decide) (br_f (by decide) (br_f (by decide) (br_f (by decide) (br_f (by decide) (br_f (by decide) (br_f (by decide) (br_t (by decide) (?_))))))))
    exact xw_sum hp hL eo ea eb ec ha hb (by decide) (fun z => absurd rfl z) R hC (fun K' F' C' cp hc ht gt fo wk kn e1 R1 => k K' F' h H C' true cp hc ht gt fo wk _ kn (e1.trans e.symm) R1)
  · have ca : (nI a).toNatClampNeg = a := nI_clamp (by omega)
    have e : pw_ins P L la lb (nI p) 6 (nI a) y z K F h H C = (pw_sK K a false, F, h, H, C, true) := by
      unfold pw_ins; rw [if_neg (by decide), if_neg (by decide), if_neg (by decide), if_neg (by decide), if_pos rfl, ca]
    exact br_f (by decide) (br_f (by decide) (br_f (by decide) (br_f (by decide) (br_f (by decide) (br_f (by decide) (br_f (by decide) (br_f (by decide) (br_t (by decide) (⟨pk_in a 7 (by omega) rfl, up_I a 0 rfl vb_0 (k _ _ _ _ _ true _ _ _ _ _ _ _ _ e.symm ⟨R.1, pw_K_s R.2.1 rfl, pw_F_k R.2.2.1, R.2.2.2⟩)⟩)))))))))
  · have ca : (nI a).toNatClampNeg = a := nI_clamp (by omega)
    have cc : (nI c).toNatClampNeg = c := nI_clamp (by omega)
    have e : pw_ins P L la lb (nI p) 7 (nI a) (nI b) (nI c) K F h H C = (pw_sK K a false, F, h, H, C ++ pw_acc K F h H (nI p) c (if nI b = 0 then la else lb), true) := by
      unfold pw_ins; rw [if_neg (by decide), if_neg (by decide), if_neg (by decide), if_neg (by decide), if_neg (by decide), if_pos rfl, ca, cc]
    refine br_f (by decide) (br_f (by decide) (br_f (by decide) (br_f (by decide) (br_f (by decide) (br_f (by decide) (br_f (by decide) (br_f (by decide) (br_f (by decide) (br_t (by decide) (?_))))))))))
    refine xw_acc rfl hc rfl R hC (fun cp hc ht gt wk R1 => ?_)
    exact ⟨pk_in a 7 (by omega) rfl, up_I a 0 rfl vb_0 (k _ _ _ _ _ true _ _ _ _ _ _ _ _ e.symm ⟨R1.1, pw_K_s R1.2.1 rfl, pw_F_k R1.2.2.1, R1.2.2.2⟩)⟩
  · have cb : (nI b).toNatClampNeg = b := nI_clamp (by omega)
    have e : pw_ins P L la lb (nI p) 8 (nI a) (nI b) z K F h H C = (K, F, h, H, C ++ pw_acc K F h H (nI p) b (if nI a = 0 then la else lb), true) := by
      unfold pw_ins; rw [if_neg (by decide), if_neg (by decide), if_neg (by decide), if_neg (by decide), if_neg (by decide), if_neg (by decide), if_pos rfl, cb]
    refine br_f (by decide) (br_f (by decide) (br_f (by decide) (br_f (by decide) (br_f (by decide) (br_f (by decide) (br_f (by decide) (br_f (by decide) (br_f (by decide) (br_f (by decide) (br_t (by decide) (?_)))))))))))
    exact xw_acc rfl hb rfl R hC (fun cp hc ht gt wk R1 => k _ _ _ _ _ true _ _ _ _ _ _ _ _ e.symm R1)
  · have ca : (nI a).toNatClampNeg = a := nI_clamp (by omega)
    have e : pw_ins P L la lb (nI p) 9 (nI a) y z K F h H C = (K, F, h, H, C ++ pw_goto P L K F h H (nI p) a, false) := by
      unfold pw_ins; rw [if_neg (by decide), if_neg (by decide), if_neg (by decide), if_neg (by decide), if_neg (by decide), if_neg (by decide), if_neg (by decide), if_pos rfl, ca]
    refine br_f (by decide) (br_f (by decide) (br_f (by decide) (br_f (by decide) (br_f (by decide) (br_f (by decide) (br_f (by decide) (br_f (by decide) (br_f (by decide) (br_f (by decide) (br_f (by decide) (br_t (by decide) (?_))))))))))))
    exact xw_goto rfl (by omega) ok hL R hC (fun cp hc ht gt wk R1 => k _ _ _ _ _ false _ _ _ _ _ _ _ _ e.symm R1)
  · have ca : (nI a).toNatClampNeg = a := nI_clamp (by omega)
    have cb : (nI b).toNatClampNeg = b := nI_clamp (by omega)
    have cc : (nI c).toNatClampNeg = c := nI_clamp (by omega)
    have e : pw_ins P L la lb (nI p) 10 (nI a) (nI b) (nI c) K F h H C = pw_bra P L a b c K F h H C (nI p) := by
      unfold pw_ins; rw [if_neg (by decide), if_neg (by decide), if_neg (by decide), if_neg (by decide), if_neg (by decide), if_neg (by decide), if_neg (by decide), if_neg (by decide), if_pos rfl, ca, cb, cc]
    refine br_f (by decide) (br_f (by decide) (br_f (by decide) (br_f (by decide) (br_f (by decide) (br_f (by decide) (br_f (by decide) (br_f (by decide) (br_f (by decide) (br_f (by decide) (br_f (by decide) (br_f (by decide) (br_t (by decide) (?_)))))))))))))
    exact xw_branch rfl rfl rfl ha hb hc ok hL R hC (fun h' H' C' cp hc ht gt wk li e1 R1 => k _ _ h' H' C' true cp hc ht gt _ wk li _ (e1.trans e.symm) R1)
  · exact absurd rfl h11
end
end
section
/-! refresh -/
section
variable {fLA fLB fSC fPL fLD fST fCC fLV fLC : Int32} {aRG aCE aSO aPR aMU aLS aLH aLB aCP aHC aKN aTR : Nat → Int32} {aHT aGT aFO aWK aLI aSU : Nat → Int64}
variable {P : Nat → Int32} {L la lb : Nat}
theorem xw_ref2 {post : SX → Prop} (ok : pw_ok P L) (hL : L ≤ 48) : ∀ (n p : Nat) (K : Nat → Bool) (F : Nat → Nat → Int64) (h : Nat) (H : Nat → Nat → Int64) (C : List Cd_t) (l : Bool) (cp hc : Nat → Int32) (ht gt fo wk li : Nat → Int64) (kn : Nat → Int32),
    p + n = L → pw_inv K F h → xs_R cp hc ht gt fo kn li K F h H C → C.length + n * (L + 2) < 2 ^ 29 →
    (∀ (C' : List Cd_t) (cp hc : Nat → Int32) (ht gt fo wk li : Nat → Int64) (kn : Nat → Int32) (lc lv : Int32), C' = (pw_walk P L la lb n p (K, F, h, H, C, l)).2.2.2.2.1 → xs_T cp hc ht gt C' →
      post ((nI la), (nI lb), fSC, (nI L), fLD, fST, nI C'.length, lv, lc, aRG, aCE, aSO, P, aMU, aLS, aLH, aLB, cp, hc, ht, gt, fo, kn, wk, li, aSU, aTR)) →
    wX_refresh_29 post (n + 1) (nI p) (nI la) (nI lb) fSC (nI L) fLD fST (nI C.length) (xb_b l) (nI h) aRG aCE aSO P aMU aLS aLH aLB cp hc ht gt fo kn wk li aSU aTR := by
  intro n
  induction n with
  | zero =>
    intro p K F h H C l cp hc ht gt fo wk li kn hp I R hC k
    exact pk_le L p (fun _ => k C cp hc ht gt fo wk li kn _ _ rfl R.1) (fun z => absurd z (by omega))
  | succ n ih =>
    intro p K F h H C l cp hc ht gt fo wk li kn hp I R hC k
    have hpL : p < L := by omega
    have hC2 : C.length + (L + 2) + n * (L + 2) < 2 ^ 29 := by
      have : (n + 1) * (L + 2) = n * (L + 2) + (L + 2) := Nat.succ_mul n (L + 2)
      omega
    have next : ∀ (K' : Nat → Bool) (F' : Nat → Nat → Int64) (h' : Nat) (H' : Nat → Nat → Int64) (C' : List Cd_t) (l' : Bool) (cp hc : Nat → Int32) (ht gt fo wk li : Nat → Int64) (kn : Nat → Int32),
        (K', F', h', H', C', l') = pw_one P L la lb p (K, F, h, H, C, l) → xs_R cp hc ht gt fo kn li K' F' h' H' C' →
        wX_refresh_29 post (n + 1) (nI (p + 1)) (nI la) (nI lb) fSC (nI L) fLD fST (nI C'.length) (xb_b l') (nI h') aRG aCE aSO P aMU aLS aLH aLB cp hc ht gt fo kn wk li aSU aTR := by
      intro K' F' h' H' C' l' cp hc ht gt fo wk li kn e R'
      have I' := pw_one_inv (la := la) (lb := lb) (s := (K, F, h, H, C, l)) ok hpL I
      have len := pw_one_len (P := P) (L := L) (la := la) (lb := lb) (p := p) (s := (K, F, h, H, C, l))
      rw [← e] at I' len
      dsimp only at I' len
      rw [show pw_walk P L la lb (n + 1) p (K, F, h, H, C, l) = pw_walk P L la lb n (p + 1) (pw_one P L la lb p (K, F, h, H, C, l)) from rfl, ← e] at k
      exact ih (p + 1) K' F' h' H' C' l' cp hc ht gt fo wk li kn (by omega) I' R' (by omega) k
    refine br_f (nI_ge (b := L) hpL (by omega)) ⟨pk_in (4 * p) 192 (by omega) (ix_l0 4 p), ?_⟩
    by_cases e11 : P (4 * p) = 11
    · refine br_t ((rd_e (ix_l0 4 p)).trans e11) (xw_isG rfl (by omega) hL (fun g => br_f (by decide) ?_) (fun g => br_t rfl (nm_r (nI_1 p) ?_)))
      · refine xw_group hpL ok hL R (by omega) (fun C' cp hc ht gt fo wk li kn eC R' => nm_r (nI_1 p) ?_)
        refine next pw_K0 pw_F0 _ _ C' true cp hc ht gt fo wk li kn ?_ R'
        unfold pw_one
        rw [if_pos e11, if_pos g, eC]
      · refine next K F h H C l cp hc ht gt fo wk li kn ?_ R
        unfold pw_one
        rw [if_pos e11, if_neg (by rw [g]; decide)]
    · refine br_f (fun y => e11 ((rd_e (ix_l0 4 p)).symm.trans y)) ?_
      cases l with
      | false =>
        refine br_t rfl (nm_r (nI_1 p) (next K F h H C false cp hc ht gt fo wk li kn ?_ R))
        unfold pw_one
        rw [if_neg e11, if_neg (fun z : false = true => absurd z (by decide))]
      | true =>
        refine br_f (by decide) (xw_ins hpL ok hL I e11 R (by omega) (fun K' F' h' H' C' l' cp hc ht gt fo wk li kn e R' => nm_r (nI_1 p) (next K' F' h' H' C' l' cp hc ht gt fo wk li kn ?_ R')))
        unfold pw_one
        rw [if_neg e11, if_pos rfl]; exact e
theorem xw_refresh {post : SX → Prop} (ok : pw_ok P L) (hL : L ≤ 48) (hs : fST = 0 → fCC = nI (pw_all P L la lb).length ∧ xs_T aCP aHC aHT aGT (pw_all P L la lb))
    (hp : ∀ (cp hc : Nat → Int32) (ht gt fo wk li : Nat → Int64) (kn : Nat → Int32) (lc lv : Int32), xs_T cp hc ht gt (pw_all P L la lb) →
      post (nI la, nI lb, fSC, nI L, fLD, 0, nI (pw_all P L la lb).length, lv, lc, aRG, aCE, aSO, P, aMU, aLS, aLH, aLB, cp, hc, ht, gt, fo, kn, wk, li, aSU, aTR)) : wpX_refresh post (nI la, nI lb, fSC, nI L, fLD, fST, fCC, fLV, fLC, aRG, aCE, aSO, P, aMU, aLS, aLH, aLB, aCP, aHC, aHT, aGT, aFO, aKN, aWK, aLI, aSU, aTR) := by
  by_cases s0 : fST = 0
  · obtain ⟨e, T⟩ := hs s0
    subst s0 e
    exact br_t rfl (hp _ _ _ _ _ _ _ _ _ _ T)
  · refine br_f s0 ?_
    refine xw_fresh (fun fo kn hK hF => ?_)
    have z : L * (L + 2) ≤ 48 * 50 := Nat.mul_le_mul hL (by omega)
    exact ⟨L + 1, xw_ref2 (la := la) (lb := lb) ok hL L 0 pw_K0 pw_F0 0 pw_H0 [] true _ _ _ _ fo _ _ kn (by omega) pw_inv0 ⟨fun k cd _ e => absurd e (by simp), hK, hF, fun i j hi _ => absurd hi (Nat.not_lt_zero i), by omega⟩ (by simp only [List.length_nil]; omega)
      (fun C' cp hc ht gt fo wk li kn lc lv e T => by
        subst e
        exact hp cp hc ht gt fo wk li kn lc lv T)⟩
end
end
section
/-! the reference's walk: small methods -/
def ys_T (wa cpc cn : Int32) (ch cg : Nat → Int64) (C : List Cd_t) : Prop := ∀ k cd, k < 40 → wa = nI k → C[k]? = some cd →
  cpc = cd.1 ∧ cn = nI cd.2.1 ∧ cd.2.1 ≤ 6 ∧ (∀ i j, i < cd.2.1 → j < 7 → ch (7 * i + j) = cd.2.2.1 i j) ∧ ∀ j, j < 7 → cg j = cd.2.2.2 j
def ys_R (wa cpc cn : Int32) (ch cg fo : Nat → Int64) (kn : Nat → Int32) (hy : Nat → Int64) (K : Nat → Bool) (F : Nat → Nat → Int64) (h : Nat) (H : Nat → Nat → Int64) (C : List Cd_t) : Prop :=
  ys_T wa cpc cn ch cg C ∧ pw_KR kn K ∧ pw_FR fo K F ∧ pw_HR hy h H ∧ h ≤ 6
theorem ys_T_hit {wa pc : Int32} {ch' cg' : Nat → Int64} {C : List Cd_t} {h : Nat} {H : Nat → Nat → Int64} {g : Nat → Int64} (hC : C.length < 2 ^ 30) (hh : h ≤ 6) (e : nI C.length = wa)
    (a1 : ∀ i j, i < h → j < 7 → ch' (7 * i + j) = H i j) (a2 : ∀ j, j < 7 → cg' j = g j) : ys_T wa pc (nI h) ch' cg' (C ++ [(pc, h, H, g)]) := by
  intro k cd hk ek eC
  have : C.length = k := (nI_eq (by omega) (by omega)).mp (e.trans ek)
  subst this
  rw [List.getElem?_append, if_neg (Nat.lt_irrefl _), Nat.sub_self] at eC
  cases eC
  exact ⟨rfl, rfl, hh, a1, a2⟩
theorem ys_T_miss {wa cpc cn pc : Int32} {ch cg : Nat → Int64} {C : List Cd_t} {h : Nat} {H : Nat → Nat → Int64} {g : Nat → Int64} (T : ys_T wa cpc cn ch cg C) (e : ¬ nI C.length = wa) : ys_T wa cpc cn ch cg (C ++ [(pc, h, H, g)]) := by
  intro k cd hk ek eC
  have n : ¬ k = C.length := fun z => e (by rw [ek, z])
  rw [List.getElem?_append] at eC
  by_cases hkl : k < C.length
  · rw [if_pos hkl] at eC
    exact T k cd hk ek eC
  · rw [if_neg hkl] at eC
    obtain ⟨m, hm⟩ : ∃ m, k - C.length = m + 1 := ⟨k - C.length - 1, by omega⟩
    rw [hm] at eC
    exact absurd eC (by simp)
section
variable {gLA gLB gN gLEN gHN gRA gWA gCP gCN : Int32} {bSR bPR bMU bRG bCE bKN bRO : Nat → Int32} {bFO bHY bD bCH bCG : Nat → Int64}
variable {P : Nat → Int32} {L la lb h : Nat} {K : Nat → Bool} {F : Nat → Nat → Int64} {H : Nat → Nat → Int64} {C : List Cd_t}
theorem yw_diff {post : Int32 → SY → Prop} {x y : Int32} {a b : Nat} (hx : x = nI a) (hy : y = nI b) (ha : a < 7) (hb : b < 7) (hK : pw_KR bKN K) (h0 : (K a && K b) = false → post 0 (gLA, gLB, gN, gLEN, gHN, gRA, gWA, gCP, gCN, bSR, bPR, bMU, bRG, bCE, bFO, bKN, bHY, bD, bCH, bCG, bRO))
    (h1 : (K a && K b) = true → ∀ w : Nat → Int64, (∀ j, j < 7 → w j = bFO (7 * a + j) - bFO (7 * b + j)) → post 1 (gLA, gLB, gN, gLEN, gHN, gRA, gWA, gCP, gCN, bSR, bPR, bMU, bRG, bCE, bFO, bKN, bHY, w, bCH, bCG, bRO)) : wpY_diff post (gLA, gLB, gN, gLEN, gHN, gRA, gWA, gCP, gCN, bSR, bPR, bMU, bRG, bCE, bFO, bKN, bHY, bD, bCH, bCG, bRO) x y := by
  subst hx hy
  refine ⟨pk_in a 7 ha rfl, ?_⟩
  cases ka : K a with
  | false => exact br_t ((rd_e rfl).trans (pw_K_0 hK ha ka)) (h0 (by rw [ka]; rfl))
  | true =>
    refine br_f (by rw [rd_e (a := bKN) (x := nI a) rfl, pw_K_1 hK ha ka]; decide) ⟨pk_in b 7 hb rfl, ?_⟩
    cases kb : K b with
    | false => exact br_t ((rd_e rfl).trans (pw_K_0 hK hb kb)) (h0 (by rw [ka, kb]; rfl))
    | true =>
      refine br_f (by rw [rd_e (a := bKN) (x := nI b) rfl, pw_K_1 hK hb kb]; decide) ?_
      exact loop_0 (fun n i s => wY_diff_22 post (nI a) (nI b) gLA gLB gN gLEN gHN gRA gWA gCP gCN n (nI i) bSR bPR bMU bRG bCE bFO bKN bHY s bCH bCG bRO) (fun i s => ∀ j, j < i → s j = bFO (7 * a + j) - bFO (7 * b + j)) 7 bD (fun j hj => absurd hj (Nat.not_lt_zero j))
        (fun n s I => br_t (nI_le (Nat.le_refl 7) (by decide)) (h1 (by rw [ka, kb]; rfl) s I))
        (fun n i s hi I k => br_f (nI_ge (b := 7) hi (by decide)) ⟨pk_in (7 * a + i) 49 (by omega) (ix_r 7 a i), pk_in (7 * b + i) 49 (by omega) (ix_r 7 b i), pk_in i 7 hi rfl,
          up_L i (bFO (7 * a + i) - bFO (7 * b + i)) rfl (sb_e (rd_e (ix_r 7 a i)) (rd_e (ix_r 7 b i))) (nm_r (nI_1 i) (k _ (lu_s (f := fun j => bFO (7 * a + j) - bFO (7 * b + j)) I rfl)))⟩)
theorem yw_addH {post : SY → Prop} {s : Int32} {bd : Int64} {g : Nat → Int64} (hh : h ≤ 6) (hH : pw_HR bHY h H) (hg : ∀ j, j < 6 → s.toInt64 * bD j = g j) (hb : bd = g 6)
    (hp : ∀ li : Nat → Int64, pw_HR li (pw_hn h) (pw_hH h H g) → post (gLA, gLB, gN, gLEN, nI (pw_hn h), gRA, gWA, gCP, gCN, bSR, bPR, bMU, bRG, bCE, bFO, bKN, li, bD, bCH, bCG, bRO)) : wpY_addHyp post (gLA, gLB, gN, gLEN, nI h, gRA, gWA, gCP, gCN, bSR, bPR, bMU, bRG, bCE, bFO, bKN, bHY, bD, bCH, bCG, bRO) s bd := by
  by_cases h6 : h < 6
  · have e : pw_hn h = h + 1 := if_pos h6
    rw [e] at hp
    refine br_t (nI_lt (b := 6) h6 (by decide)) ?_
    exact loop_0 (fun n i s1 => wY_addHyp_13 post s bd gLA gLB gN gLEN (nI h) gRA gWA gCP gCN n (nI i) bSR bPR bMU bRG bCE bFO bKN s1 bD bCH bCG bRO) (fun i s1 => (∀ j, j < i → s1 (7 * h + j) = g j) ∧ ∀ m, ¬ (7 * h ≤ m ∧ m < 7 * h + 7) → s1 m = bHY m) 6 bHY ⟨fun j hj => absurd hj (Nat.not_lt_zero j), fun m _ => rfl⟩
      (fun n s1 I => br_t (nI_le (Nat.le_refl 6) (by decide)) ⟨pk_in (7 * h + 6) 42 (by omega) (ix_r 7 h 6), up_L (7 * h + 6) (g 6) (ix_r 7 h 6) hb (nm_r (nI_1 h) (hp _ (fun i j hi hj => by
        have Q := lu_b (i := 6) (e := 7) (by omega) I (v := g 6) rfl
        unfold pw_hH
        by_cases ei : i = h
        · rw [if_pos ei, ei]; exact Q.1 j hj
        · rw [if_neg ei, Q.2 _ (by omega)]; exact hH i j (by omega) hj)))⟩)
      (fun n i s1 hi I k => br_f (nI_ge (b := 6) hi (by decide)) ⟨pk_in i 7 (by omega) rfl, pk_in (7 * h + i) 42 (by omega) (ix_r 7 h i),
        up_L (7 * h + i) (g i) (ix_r 7 h i) (by rw [rd_e (a := bD) (x := nI i) rfl]; exact hg i hi) (nm_r (nI_1 i) (k _ (lu_b (by omega) I rfl)))⟩)
  · have e : pw_hn h = h := if_neg h6
    rw [e] at hp
    exact br_f (nI_nlt (b := 6) (by omega) (by omega)) (hp _ (fun i j hi hj => by
      unfold pw_hH
      rw [if_neg (by omega)]; exact hH i j hi hj))
theorem yw_raise {post : SY → Prop} {pc s : Int32} {bd : Int64} (g : Nat → Int64) (R : ys_R gWA gCP gCN bCH bCG bFO bKN bHY K F h H C) (hC : C.length < 2 ^ 30) (hg : ∀ j, j < 6 → s.toInt64 * bD j = g j) (hb : bd = g 6)
    (hp : ∀ (cpc cn : Int32) (ch cg : Nat → Int64), ys_R gWA cpc cn ch cg bFO bKN bHY K F h H (C ++ [(pc, h, H, g)]) → post ((nI la), (nI lb), gN, (nI L), (nI h), nI (C ++ [(pc, h, H, g)]).length, gWA, cpc, cn, bSR, P, bMU, bRG, bCE, bFO, bKN, bHY, bD, ch, cg, bRO)) : wpY_raise post ((nI la), (nI lb), gN, (nI L), (nI h), (nI C.length), gWA, gCP, gCN, bSR, P, bMU, bRG, bCE, bFO, bKN, bHY, bD, bCH, bCG, bRO) pc s bd := by
  obtain ⟨T, R2, R3, R4, hh⟩ := R
  have e1 : nI C.length + 1 = nI (C ++ [(pc, h, H, g)]).length := by rw [List.length_append]; exact nI_1 _
  by_cases hk : nI C.length = gWA
  · refine br_t hk ?_
    exact loop_0 (fun n i s1 => wY_raise_27 post s bd (nI la) (nI lb) gN (nI L) (nI h) (nI C.length) gWA pc (nI h) n (nI i) bSR P bMU bRG bCE bFO bKN bHY bD s1 bCG bRO)
      (fun i s1 => ∀ j, j < i → s1 j = bHY j) 42 bCH (fun j hj => absurd hj (Nat.not_lt_zero j))
      (fun n s1 I => br_t (nI_le (Nat.le_refl 42) (by decide))
        (loop_0 (fun n i s2 => wY_raise_57 post s bd (nI la) (nI lb) gN (nI L) (nI h) (nI C.length) gWA pc (nI h) n (nI i) bSR P bMU bRG bCE bFO bKN bHY bD s1 s2 bRO)
          (fun i s2 => ∀ j, j < i → s2 j = g j) 6 bCG (fun j hj => absurd hj (Nat.not_lt_zero j))
          (fun n s2 I2 => br_t (nI_le (Nat.le_refl 6) (by decide)) (nm_r (congrArg (vp_updL s2 6) hb) (nm_r e1 (hp _ _ _ _ ⟨ys_T_hit hC hh hk (fun i j hi hj => (I _ (by omega)).trans (R4 i j hi hj)) (lu_s I2 rfl), R2, R3, R4, hh⟩))))
          (fun n i s2 hi I2 k => br_f (nI_ge (b := 6) hi (by decide)) ⟨pk_in i 7 (by omega) rfl, pk_in i 7 (by omega) rfl,
            up_L i (g i) rfl (by rw [rd_e (a := bD) (x := nI i) rfl]; exact hg i hi) (nm_r (nI_1 i) (k _ (lu_s I2 rfl)))⟩)))
      (fun n i s1 hi I k => br_f (nI_ge (b := 42) hi (by decide)) ⟨pk_in i 42 hi rfl, pk_in i 42 hi rfl,
        up_L i (bHY i) rfl (rd_e rfl) (nm_r (nI_1 i) (k _ (lu_s I rfl)))⟩)
  · exact br_f hk (nm_r e1 (hp _ _ _ _ ⟨ys_T_miss T hk, R2, R3, R4, hh⟩))
theorem yw_isG {post : Int32 → Prop} {x : Int32} {t : Nat} (hx : x = nI t) (ht : t < 1000) (hL : L ≤ 48) (h1 : pw_isG P L t = true → post 1) (h0 : pw_isG P L t = false → post 0) : wpY_groupStart post (gLA, gLB, gN, nI L, gHN, gRA, gWA, gCP, gCN, bSR, P, bMU, bRG, bCE, bFO, bKN, bHY, bD, bCH, bCG, bRO) x := by
  subst hx
  refine pk_le L t (fun z => h0 ?_) (fun z => ⟨pk_in (4 * t) 192 (by omega) (ix_r0 4 t), br_c (fun e => ?_) (fun e => h0 ?_)⟩)
  · unfold pw_isG
    rw [decide_eq_false (by omega : ¬ t < L)]; rfl
  · rw [rd_e (a := P) (x := 4 * nI t) (ix_r0 4 t)] at e
    refine pk_eq t 0 (fun t0 => h1 ?_) (fun t0 => ?_)
    · subst t0
      unfold pw_isG
      rw [decide_eq_true z, decide_eq_true e]; rfl
    · have ex : nI 4 * nI t - nI 4 = nI (4 * (t - 1)) := by
        rw [ix_r0, pk_sub (by omega)]
        exact congrArg nI (by omega)
      refine ⟨pk_in (4 * (t - 1)) 192 (by omega) ex, br_c (fun e2 => h0 ?_) (fun e2 => h1 ?_)⟩
      · rw [rd_e (a := P) (x := 4 * nI t - 4) (m := 4 * (t - 1)) ex] at e2
        unfold pw_isG
        rw [decide_eq_true z, decide_eq_true e, decide_eq_true e2, decide_eq_false t0]; rfl
      · rw [rd_e (a := P) (x := 4 * nI t - 4) (m := 4 * (t - 1)) ex] at e2
        unfold pw_isG
        rw [decide_eq_true z, decide_eq_true e, decide_eq_false e2, decide_eq_false t0]; rfl
  · rw [rd_e (a := P) (x := 4 * nI t) (ix_r0 4 t)] at e
    unfold pw_isG
    rw [decide_eq_false e, Bool.and_false]; rfl
theorem yw_enter2 {post : SY → Prop} {pc : Int32} (ok : pw_ok P L) (hL : L ≤ 48) : ∀ (n q : Nat) (C : List Cd_t) (cpc cn : Int32) (ch cg d : Nat → Int64), q + n = L → ys_R gWA cpc cn ch cg bFO bKN bHY K F h H C → C.length + n < 2 ^ 30 →
    (∀ (cpc cn : Int32) (ch cg d : Nat → Int64), ys_R gWA cpc cn ch cg bFO bKN bHY K F h H (C ++ pw_enter P K F h H pc n q) → post ((nI la), (nI lb), gN, (nI L), (nI h), nI (C ++ pw_enter P K F h H pc n q).length, gWA, cpc, cn, bSR, P, bMU, bRG, bCE, bFO, bKN, bHY, d, ch, cg, bRO)) →
    wY_enter_2 post pc (n + 1) (nI q) (nI la) (nI lb) gN (nI L) (nI h) (nI C.length) gWA cpc cn bSR P bMU bRG bCE bFO bKN bHY d ch cg bRO := by
  intro n
  induction n with
  | zero =>
    intro q C cpc cn ch cg d hq R hC hp
    have e : C ++ pw_enter P K F h H pc 0 q = C := List.append_nil C
    rw [e] at hp
    exact pk_le L q (fun _ => hp _ _ _ _ _ R) (fun z => absurd z (by omega))
  | succ n ih =>
    intro q C cpc cn ch cg d hq R hC hp
    have hqL : q < L := by omega
    refine br_f (nI_ge (b := L) hqL (by omega)) ⟨pk_in (4 * q) 192 (by omega) (ix_r0 4 q), ?_⟩
    by_cases e11 : P (4 * q) = 11
    · obtain ⟨⟨a, ha, ea⟩, ⟨b, hb, eb⟩⟩ := pw_okInv ok hqL e11
      have e : C ++ pw_enter P K F h H pc (n + 1) q = C ++ [(pc, h, H, pw_cg K F a b (P (4 * q + 3)))] ++ pw_enter P K F h H pc n (q + 1) := by
        rw [show pw_enter P K F h H pc (n + 1) q = _ from if_pos e11, List.append_cons]
        unfold pw_cond
        rw [ea, eb, nI_clamp (by omega), nI_clamp (by omega)]
      rw [e] at hp
      refine br_t ((rd_e (ix_r0 4 q)).trans e11) ⟨pk_in (4 * q + 1) 192 (by omega) (ix_r 4 q 1), pk_in (4 * q + 2) 192 (by omega) (ix_r 4 q 2), ?_⟩
      have hC1 : ∀ x : Cd_t, (C ++ [x]).length + n < 2 ^ 30 := fun x => by rw [List.length_append]; simp only [List.length_cons, List.length_nil]; omega
      refine yw_diff (K := K) (a := a) (b := b) ((rd_e (ix_r 4 q 1)).trans ea) ((rd_e (ix_r 4 q 2)).trans eb) ha hb R.2.1 (fun k0 => ?_) (fun k1 w hw => ?_)
      · have eg : pw_cg K F a b (P (4 * q + 3)) = pw_false := if_neg (by rw [k0]; decide)
        rw [eg] at hp
        exact br_t rfl (yw_raise pw_false R (by omega) pw_false_lt rfl (fun cpc cn ch cg R' => nm_r (nI_1 q) (ih (q + 1) _ cpc cn ch cg _ (by omega) R' (hC1 _) hp)))
      · have eg : pw_cg K F a b (P (4 * q + 3)) = pw_goal 1 (pw_dif F a b) ((P (4 * q + 3)).toInt64 - pw_dif F a b 6) := if_pos k1
        rw [eg] at hp
        have hd := pw_F_d R.2.2.1 ha hb k1 hw
        exact br_f (by decide) ⟨pk_in (4 * q + 3) 192 (by omega) (ix_r 4 q 3), yw_raise _ R (by omega) (pw_goal_lt hd) (sb_e (ti_e (rd_e (ix_r 4 q 3))) (hd 6 (by omega)))
          (fun cpc cn ch cg R' => nm_r (nI_1 q) (ih (q + 1) _ cpc cn ch cg _ (by omega) R' (hC1 _) hp))⟩
    · have e : C ++ pw_enter P K F h H pc (n + 1) q = C := by
        rw [show pw_enter P K F h H pc (n + 1) q = [] from if_neg e11, List.append_nil]
      rw [e] at hp
      exact br_f (fun y => e11 ((rd_e (ix_r0 4 q)).symm.trans y)) (hp _ _ _ _ _ R)
theorem yw_enter {post : SY → Prop} {pc x : Int32} {q : Nat} (hx : x = nI q) (hq : q ≤ L) (ok : pw_ok P L) (hL : L ≤ 48) (R : ys_R gWA gCP gCN bCH bCG bFO bKN bHY K F h H C) (hC : C.length + 48 < 2 ^ 30)
    (hp : ∀ (cpc cn : Int32) (ch cg d : Nat → Int64), ys_R gWA cpc cn ch cg bFO bKN bHY K F h H (C ++ pw_enter P K F h H pc (L - q) q) → post ((nI la), (nI lb), gN, (nI L), (nI h), nI (C ++ pw_enter P K F h H pc (L - q) q).length, gWA, cpc, cn, bSR, P, bMU, bRG, bCE, bFO, bKN, bHY, d, ch, cg, bRO)) : wpY_enter post ((nI la), (nI lb), gN, (nI L), (nI h), (nI C.length), gWA, gCP, gCN, bSR, P, bMU, bRG, bCE, bFO, bKN, bHY, bD, bCH, bCG, bRO) x pc := by
  subst hx
  exact ⟨L - q + 1, yw_enter2 ok hL (L - q) q C _ _ _ _ _ (by omega) R (by omega) hp⟩
theorem yw_goto {post : SY → Prop} {pc x : Int32} {t : Nat} (hx : x = nI t) (ht : t < 1000) (ok : pw_ok P L) (hL : L ≤ 48) (R : ys_R gWA gCP gCN bCH bCG bFO bKN bHY K F h H C) (hC : C.length + 48 < 2 ^ 30)
    (hp : ∀ (cpc cn : Int32) (ch cg d : Nat → Int64), ys_R gWA cpc cn ch cg bFO bKN bHY K F h H (C ++ pw_goto P L K F h H pc t) → post ((nI la), (nI lb), gN, (nI L), (nI h), nI (C ++ pw_goto P L K F h H pc t).length, gWA, cpc, cn, bSR, P, bMU, bRG, bCE, bFO, bKN, bHY, d, ch, cg, bRO)) : wpY_goTo post ((nI la), (nI lb), gN, (nI L), (nI h), (nI C.length), gWA, gCP, gCN, bSR, P, bMU, bRG, bCE, bFO, bKN, bHY, bD, bCH, bCG, bRO) x pc := by
  unfold wpY_goTo
  refine yw_isG hx ht hL (fun g => br_f (by decide) ?_) (fun g => br_t rfl ?_)
  · have e : pw_goto P L K F h H pc t = pw_enter P K F h H pc (L - t) t := if_pos g
    rw [e] at hp
    have htL : t < L := by
      unfold pw_isG at g
      simp only [Bool.and_eq_true, decide_eq_true_eq] at g
      exact g.1.1
    exact yw_enter hx (by omega) ok hL R hC hp
  · have e : pw_goto P L K F h H pc t = [(pc, h, H, pw_false)] := if_neg (by rw [g]; decide)
    rw [e] at hp
    exact yw_raise pw_false R (by omega) pw_false_lt rfl (fun cpc cn ch cg R' => hp cpc cn ch cg _ R')
theorem yw_fresh {post : SY → Prop} (hp : ∀ (fo : Nat → Int64) (kn : Nat → Int32), pw_KR kn pw_K0 → pw_FR fo pw_K0 pw_F0 → post (gLA, gLB, gN, gLEN, nI 0, gRA, gWA, gCP, gCN, bSR, bPR, bMU, bRG, bCE, fo, kn, bHY, bD, bCH, bCG, bRO)) : wpY_fresh post (gLA, gLB, gN, gLEN, gHN, gRA, gWA, gCP, gCN, bSR, bPR, bMU, bRG, bCE, bFO, bKN, bHY, bD, bCH, bCG, bRO) := by
  refine loop_0 (fun n i (s : (Nat → Int64) × (Nat → Int32)) => wY_fresh_2 post gLA gLB gN gLEN gHN gRA gWA gCP gCN n (nI i) bSR bPR bMU bRG bCE s.1 s.2 bHY bD bCH bCG bRO)
    (fun i s => (∀ r j, r < i → j < 7 → s.1 (7 * r + j) = pw_F0 r j) ∧ ∀ r, r < i → s.2 r = 1) 7 (bFO, bKN) ⟨fun r j hr _ => absurd hr (Nat.not_lt_zero r), fun r hr => absurd hr (Nat.not_lt_zero r)⟩ ?_ ?_
  · intro n s I
    exact br_t (nI_le (Nat.le_refl 7) (by decide)) (hp s.1 s.2 (fun i hi => I.2 i hi) (fun i j hi hj _ => I.1 i j hi hj))
  · intro n r s hr I k
    refine br_f (nI_ge (b := 7) hr (by decide)) ⟨pk_in r 7 hr rfl, up_I r 1 rfl vb_1 ?_⟩
    refine loop_0 (fun n2 i s2 => wY_fresh_17 post (wY_fresh_2 post gLA gLB gN gLEN gHN gRA gWA gCP gCN n) (nI r) gLA gLB gN gLEN gHN gRA gWA gCP gCN n2 (nI i) bSR bPR bMU bRG bCE s2 (upd s.2 r 1) bHY bD bCH bCG bRO)
      (fun i s2 => (∀ j, j < i → s2 (7 * r + j) = pw_F0 r j) ∧ ∀ m, ¬ (7 * r ≤ m ∧ m < 7 * r + 7) → s2 m = s.1 m) 7 s.1 ⟨fun j hj => absurd hj (Nat.not_lt_zero j), fun m _ => rfl⟩ ?_ ?_
    · intro n2 s2 J
      refine br_t (nI_le (Nat.le_refl 7) (by decide)) (nm_r (nI_1 r) (k (s2, upd s.2 r 1) ⟨fun r' j hr' hj => ?_, fun r' hr' => ?_⟩))
      · show s2 (7 * r' + j) = pw_F0 r' j
        by_cases e : r' = r
        · rw [e]; exact J.1 j hj
        · rw [J.2 _ (by omega)]; exact I.1 r' j (by omega) hj
      · show upd s.2 r 1 r' = 1
        unfold upd
        by_cases e : r' = r
        · rw [if_pos e]
        · rw [if_neg e]; exact I.2 r' (by omega)
    · intro n2 i s2 hi J k2
      refine br_f (nI_ge (b := 7) hi (by decide)) (pk_eq r i (fun e => pk_le 6 r (fun z => ?_) (fun z => ?_)) (fun e => ?_))
      · exact ⟨pk_in (7 * r + i) 49 (by omega) (ix_r 7 r i), up_L (7 * r + i) (pw_F0 r i) (ix_r 7 r i) (by unfold pw_F0; rw [if_neg (by omega)]) (nm_r (nI_1 i) (k2 _ (lu_b hi J rfl)))⟩
      · exact ⟨pk_in (7 * r + i) 49 (by omega) (ix_r 7 r i), up_L (7 * r + i) (pw_F0 r i) (ix_r 7 r i) (by unfold pw_F0; rw [if_pos ⟨e, z⟩]) (nm_r (nI_1 i) (k2 _ (lu_b hi J rfl)))⟩
      · exact ⟨pk_in (7 * r + i) 49 (by omega) (ix_r 7 r i), up_L (7 * r + i) (pw_F0 r i) (ix_r 7 r i) (by unfold pw_F0; rw [if_neg (fun y => e y.1)]) (nm_r (nI_1 i) (k2 _ (lu_b hi J rfl)))⟩
end
end
section
/-! the reference's walk: sums, accesses -/
section
variable {gLA gLB gN gLEN gHN gRA gWA gCP gCN : Int32} {bSR bPR bMU bRG bCE bKN bRO : Nat → Int32} {bFO bHY bD bCH bCG : Nat → Int64}
variable {P : Nat → Int32} {L la lb h : Nat} {K : Nat → Bool} {F : Nat → Nat → Int64} {H : Nat → Nat → Int64} {C : List Cd_t}
theorem yw_s225_0 {post : SY → Prop} {pc x : Int32} {a : Nat} (hx : x = nI a) (ha : a < 6) (R : ys_R gWA gCP gCN bCH bCG bFO bKN bHY K F h H C)
    (hp : ∀ kn : Nat → Int32, ys_R gWA gCP gCN bCH bCG bFO kn bHY (pw_sK K a false) F h H C → post ((nI la), (nI lb), gN, (nI L), (nI h), (nI C.length), gWA, gCP, gCN, bSR, P, bMU, bRG, bCE, bFO, kn, bHY, bD, bCH, bCG, bRO)) : wY_sum_225 post pc x 0 (nI la) (nI lb) gN (nI L) (nI h) (nI C.length) gWA gCP gCN bSR P bMU bRG bCE bFO bKN bHY bD bCH bCG bRO := by
  subst hx
  exact ⟨pk_in a 7 (by omega) rfl, up_I a 0 rfl vb_0 (br_t rfl (hp _ ⟨R.1, pw_K_s R.2.1 rfl, pw_F_k R.2.2.1, R.2.2.2⟩))⟩
theorem yw_s225_1 {post : SY → Prop} {pc x : Int32} {a : Nat} {d : Nat → Int64} (hx : x = nI a) (ha : a < 6) (R : ys_R gWA gCP gCN bCH bCG bFO bKN bHY K F h H C) (hC : C.length + 48 < 2 ^ 30) (hw : ∀ j, j < 7 → bD j = d j)
    (h1 : ∀ (cpc cn : Int32) (ch cg fo : Nat → Int64) (kn : Nat → Int32), ys_R gWA cpc cn ch cg fo kn bHY (pw_sK K a true) (pw_sF F a d) h H (C ++ [(pc, h, H, pw_goal (-1) d (d 6 + 2147483648))] ++ [(pc, h, H, pw_goal 1 d (2147483647 - d 6))]) →
      post ((nI la), (nI lb), gN, (nI L), (nI h), nI (C ++ [(pc, h, H, pw_goal (-1) d (d 6 + 2147483648))] ++ [(pc, h, H, pw_goal 1 d (2147483647 - d 6))]).length, gWA, cpc, cn, bSR, P, bMU, bRG, bCE, fo, kn, bHY, bD, ch, cg, bRO)) : wY_sum_225 post pc x 1 (nI la) (nI lb) gN (nI L) (nI h) (nI C.length) gWA gCP gCN bSR P bMU bRG bCE bFO bKN bHY bD bCH bCG bRO := by
  subst hx
  refine ⟨pk_in a 7 (by omega) rfl, up_I a 1 rfl vb_1 (br_f (by decide) ?_)⟩
  have R0 : ys_R gWA gCP gCN bCH bCG (fun m => if 7 * a ≤ m ∧ m < 7 * a + 7 then d (m - 7 * a) else bFO m) (upd bKN a 1) bHY (pw_sK K a true) (pw_sF F a d) h H C := by
    refine ⟨R.1, pw_K_s R.2.1 rfl, pw_F_s (w := d) R.2.2.1 (fun i j hi hj => ?_) (fun _ j _ => rfl), R.2.2.2⟩
    by_cases e : i = a
    · subst e
      rw [if_pos rfl, if_pos (by omega)]
      exact congrArg d (by omega)
    · rw [if_neg e, if_neg (by omega)]
  have up : ∀ (cpc cn : Int32) (ch cg fo fo' : Nat → Int64) (kn : Nat → Int32) (C' : List Cd_t), ys_T gWA cpc cn ch cg C' → (∀ m, fo m = fo' m) → ys_T gWA cpc cn ch cg C' := fun _ _ _ _ _ _ _ _ T _ => T
  refine yw_raise (K := pw_sK K a true) (F := fun i j => bFO (7 * i + j)) (pw_goal (-1) d (d 6 + 2147483648)) ⟨R.1, R0.2.1, fun i j _ _ _ => rfl, R.2.2.2⟩ (by omega) (pw_goal_lt hw) (by rw [hw 6 (by omega)]; rfl) (fun cpc cn ch cg R1 => ?_)
  refine yw_raise (K := pw_sK K a true) (F := fun i j => bFO (7 * i + j)) (pw_goal 1 d (2147483647 - d 6)) R1 (by rw [List.length_append]; simp only [List.length_cons, List.length_nil]; omega) (pw_goal_lt hw) (by rw [hw 6 (by omega)]; rfl) (fun cpc cn ch cg R2 => ?_)
  exact loop_0 (fun n i s => wY_sum_276 post (nI a) (nI la) (nI lb) gN (nI L) (nI h) (nI (C ++ [(pc, h, H, pw_goal (-1) d (d 6 + 2147483648))] ++ [(pc, h, H, pw_goal 1 d (2147483647 - d 6))]).length) gWA cpc cn n (nI i) bSR P bMU bRG bCE s (upd bKN a 1) bHY bD ch cg bRO)
    (fun i s => (∀ j, j < i → s (7 * a + j) = bD j) ∧ ∀ m, ¬ (7 * a ≤ m ∧ m < 7 * a + 7) → s m = bFO m) 7 bFO ⟨fun j hj => absurd hj (Nat.not_lt_zero j), fun m _ => rfl⟩
    (fun n s I => br_t (nI_le (Nat.le_refl 7) (by decide)) (h1 cpc cn ch cg s _ ⟨R2.1, R0.2.1, pw_F_s (w := d) R.2.2.1 (fun i j hi hj => by
      by_cases e : i = a
      · rw [if_pos e, e, I.1 j hj, hw j hj]
      · rw [if_neg e]; exact I.2 _ (by omega)) (fun _ j _ => rfl), R.2.2.2⟩))
    (fun n i s hi I k => br_f (nI_ge (b := 7) hi (by decide)) ⟨pk_in i 7 hi rfl, pk_in (7 * a + i) 49 (by omega) (ix_r 7 a i),
      up_L (7 * a + i) (bD i) (ix_r 7 a i) (rd_e rfl) (nm_r (nI_1 i) (k _ (lu_b hi I rfl)))⟩)
theorem yw_s150 {post : SY → Prop} {pc x : Int32} (h1 : pw_small bD = true → wY_sum_225 post pc x 1 gLA gLB gN gLEN gHN gRA gWA gCP gCN bSR bPR bMU bRG bCE bFO bKN bHY bD bCH bCG bRO) (h0 : pw_small bD = false → wY_sum_225 post pc x 0 gLA gLB gN gLEN gHN gRA gWA gCP gCN bSR bPR bMU bRG bCE bFO bKN bHY bD bCH bCG bRO) : ∃ n, wY_sum_150 post pc x gLA gLB gN gLEN gHN gRA gWA gCP gCN bSR bPR bMU bRG bCE bFO bKN bHY bD bCH bCG bRO n 1 0 := by
  refine loop_0 (fun n i (s : Int32) => wY_sum_150 post pc x gLA gLB gN gLEN gHN gRA gWA gCP gCN bSR bPR bMU bRG bCE bFO bKN bHY bD bCH bCG bRO n s (nI i)) (fun i s => (s = 1 ∧ ∀ j, j < i → ¬ bD j < -16 ∧ bD j ≤ 16) ∨ (s = 0 ∧ ∃ j, j < 6 ∧ ¬ (¬ bD j < -16 ∧ bD j ≤ 16))) 6 1 (Or.inl ⟨rfl, fun j hj => absurd hj (Nat.not_lt_zero j)⟩) ?_ ?_
  · intro n s I
    refine br_t (nI_le (Nat.le_refl 6) (by decide)) (br_c (fun z => h0 (pw_small_f (fun y => y.2.1 z))) (fun z => br_c (fun z2 => ?_) (fun z2 => h0 (pw_small_f (fun y => z2 y.2.2)))))
    rcases I with ⟨rfl, I⟩ | ⟨rfl, j, hj, I⟩
    · exact h1 (pw_small_t ⟨I, z, z2⟩)
    · exact h0 (pw_small_f (fun y => I (y.1 j hj)))
  · intro n i s hi I k
    refine br_f (nI_ge (b := 6) hi (by decide)) ⟨pk_in i 7 (by omega) rfl, ?_⟩
    rw [rd_e (a := bD) (x := nI i) rfl]
    refine br_c (fun z => nm_r (nI_1 i) (k 0 (Or.inr ⟨rfl, i, hi, fun y => y.1 z⟩))) (fun z => ⟨pk_in i 7 (by omega) rfl, br_c (fun z2 => nm_r (nI_1 i) (k s ?_)) (fun z2 => nm_r (nI_1 i) (k 0 (Or.inr ⟨rfl, i, hi, fun y => z2 y.2⟩)))⟩)
    rcases I with ⟨e, I⟩ | I
    · refine Or.inl ⟨e, fun j hj => ?_⟩
      by_cases ej : j = i
      · rw [ej]; exact ⟨z, z2⟩
      · exact I j (by omega)
    · exact Or.inr I
theorem yw_s40 {post : SY → Prop} {pc o x3 x4 x5 : Int32} {b : Nat} (hx : x4 = nI b) (hb : b < 7) (ho : o = 3 ∨ o = 4 ∨ o = 5) (hc : o ≠ 5 → ir_in x5 7) (hF : pw_FR bFO K F) (kb : K b = true) (kc : o ≠ 5 → K x5.toNatClampNeg = true)
    (hp : ∀ w : Nat → Int64, (∀ j, j < 7 → w j = pw_sw F o b x5 j) → ∃ n, wY_sum_150 post pc x3 gLA gLB gN gLEN gHN gRA gWA gCP gCN bSR bPR bMU bRG bCE bFO bKN bHY w bCH bCG bRO n 1 0) : ∃ n, wY_sum_40 post pc o x3 x4 x5 1 gLA gLB gN gLEN gHN gRA gWA gCP gCN n 0 bSR bPR bMU bRG bCE bFO bKN bHY bD bCH bCG bRO := by
  subst hx
  rcases ho with rfl | rfl | rfl
  · obtain ⟨c, hc7, rfl⟩ := hc (by decide)
    have kc' := kc (by decide)
    rw [nI_clamp (by omega)] at kc'
    refine loop_0 (fun n i s => wY_sum_40 post pc 3 x3 (nI b) (nI c) 1 gLA gLB gN gLEN gHN gRA gWA gCP gCN n (nI i) bSR bPR bMU bRG bCE bFO bKN bHY s bCH bCG bRO) (fun i s => ∀ j, j < i → s j = pw_sw F 3 b (nI c) j) 7 bD (fun j hj => absurd hj (Nat.not_lt_zero j)) ?_ ?_
    · intro n s I
      exact br_t (nI_le (Nat.le_refl 7) (by decide)) (br_f (by decide) (hp s I))
    · intro n i s hi I k
      have ef : bFO (7 * b + i) + bFO (7 * c + i) = pw_sw F 3 b (nI c) i := by
        rw [pw_sw_3, nI_clamp (by omega), hF b i hb hi kb, hF c i hc7 hi kc']
      refine br_f (nI_ge (b := 7) hi (by decide)) ⟨pk_in (7 * b + i) 49 (by omega) (ix_r 7 b i), pk_in i 7 hi rfl, up_L i (bFO (7 * b + i)) rfl (rd_e (ix_r 7 b i)) (br_t rfl ⟨pk_in i 7 hi rfl, pk_in (7 * c + i) 49 (by omega) (ix_r 7 c i), pk_in i 7 hi rfl,
        up_L i (bFO (7 * b + i) + bFO (7 * c + i)) rfl (ad_e ((rd_e rfl).trans pk_uLs) (rd_e (ix_r 7 c i))) (br_f (by decide) (nm_r (nI_1 i) (k _ (fun j hj => ?_))))⟩)⟩
      unfold vp_updL
      by_cases e : j = i
      · rw [if_pos e, e]; exact ef
      · rw [if_neg e, if_neg e]; exact I j (by omega)
  · obtain ⟨c, hc7, rfl⟩ := hc (by decide)
    have kc' := kc (by decide)
    rw [nI_clamp (by omega)] at kc'
    refine loop_0 (fun n i s => wY_sum_40 post pc 4 x3 (nI b) (nI c) 1 gLA gLB gN gLEN gHN gRA gWA gCP gCN n (nI i) bSR bPR bMU bRG bCE bFO bKN bHY s bCH bCG bRO) (fun i s => ∀ j, j < i → s j = pw_sw F 4 b (nI c) j) 7 bD (fun j hj => absurd hj (Nat.not_lt_zero j)) ?_ ?_
    · intro n s I
      exact br_t (nI_le (Nat.le_refl 7) (by decide)) (br_f (by decide) (hp s I))
    · intro n i s hi I k
      have ef : bFO (7 * b + i) - bFO (7 * c + i) = pw_sw F 4 b (nI c) i := by
        rw [pw_sw_4, nI_clamp (by omega), hF b i hb hi kb, hF c i hc7 hi kc']
      refine br_f (nI_ge (b := 7) hi (by decide)) ⟨pk_in (7 * b + i) 49 (by omega) (ix_r 7 b i), pk_in i 7 hi rfl, up_L i (bFO (7 * b + i)) rfl (rd_e (ix_r 7 b i)) (br_f (by decide) (br_t rfl ⟨pk_in i 7 hi rfl, pk_in (7 * c + i) 49 (by omega) (ix_r 7 c i), pk_in i 7 hi rfl,
        up_L i (bFO (7 * b + i) - bFO (7 * c + i)) rfl (sb_e ((rd_e rfl).trans pk_uLs) (rd_e (ix_r 7 c i))) (nm_r (nI_1 i) (k _ (fun j hj => ?_)))⟩))⟩
      unfold vp_updL
      by_cases e : j = i
      · rw [if_pos e, e]; exact ef
      · rw [if_neg e, if_neg e]; exact I j (by omega)
  · refine loop_0 (fun n i s => wY_sum_40 post pc 5 x3 (nI b) x5 1 gLA gLB gN gLEN gHN gRA gWA gCP gCN n (nI i) bSR bPR bMU bRG bCE bFO bKN bHY s bCH bCG bRO) (fun i s => ∀ j, j < i → s j = F b j) 7 bD (fun j hj => absurd hj (Nat.not_lt_zero j)) ?_ ?_
    · intro n s I
      refine br_t (nI_le (Nat.le_refl 7) (by decide)) (br_t rfl (nm_e (hp _ (fun j hj => ?_))))
      rw [pw_sw_5]
      unfold vp_updL
      by_cases e : j = 6
      · rw [if_pos e, if_pos e, I 6 (by omega)]
      · rw [if_neg e, if_neg e]; exact I j hj
    · intro n i s hi I k
      exact br_f (nI_ge (b := 7) hi (by decide)) ⟨pk_in (7 * b + i) 49 (by omega) (ix_r 7 b i), pk_in i 7 hi rfl, up_L i (bFO (7 * b + i)) rfl (rd_e (ix_r 7 b i)) (br_f (by decide) (br_f (by decide) (nm_r (nI_1 i) (k _ (lu_s I (hF b i hb hi kb))))))⟩
theorem yw_sum {post : SY → Prop} {p a b : Nat} {o c : Int32} (ha : a < 6) (hb : b < 7) (ho : o = 3 ∨ o = 4 ∨ o = 5) (hc : o ≠ 5 → ir_in c 7)
    (R : ys_R gWA gCP gCN bCH bCG bFO bKN bHY K F h H C) (hC : C.length + 48 < 2 ^ 30)
    (k : ∀ (K' : Nat → Bool) (F' : Nat → Nat → Int64) (C' : List Cd_t) (cpc cn : Int32) (ch cg fo d : Nat → Int64) (kn : Nat → Int32), (K', F', h, H, C', true) = pw_sum o a b c K F h H C (nI p) → ys_R gWA cpc cn ch cg fo kn bHY K' F' h H C' → post ((nI la), (nI lb), gN, (nI L), (nI h), nI C'.length, gWA, cpc, cn, bSR, P, bMU, bRG, bCE, fo, kn, bHY, d, ch, cg, bRO)) : wpY_sum post ((nI la), (nI lb), gN, (nI L), (nI h), (nI C.length), gWA, gCP, gCN, bSR, P, bMU, bRG, bCE, bFO, bKN, bHY, bD, bCH, bCG, bRO) (nI p) o (nI a) (nI b) c := by
  have bad : pw_sok K F o b c = false → ∀ (d : Nat → Int64), wY_sum_225 post (nI p) (nI a) 0 (nI la) (nI lb) gN (nI L) (nI h) (nI C.length) gWA gCP gCN bSR P bMU bRG bCE bFO bKN bHY d bCH bCG bRO := fun e d =>
    yw_s225_0 rfl ha R (fun kn R' => k _ _ _ _ _ _ _ _ d kn (by unfold pw_sum; rw [if_neg (by rw [e]; decide)]) R')
  have good : K b = true → (o ≠ 5 → K c.toNatClampNeg = true) → wY_sum_25 post (nI p) o (nI a) (nI b) c (nI la) (nI lb) gN (nI L) (nI h) (nI C.length) gWA gCP gCN bSR P bMU bRG bCE bFO bKN bHY bD bCH bCG bRO := by
    intro kb kc
    refine br_f (by decide) ?_
    refine yw_s40 (K := K) (F := F) rfl hb ho hc R.2.2.1 kb kc (fun w hw => ?_)
    have e0 : (K b && (decide (o = 5) || K c.toNatClampNeg)) = true := by
      rw [kb]
      by_cases o5 : o = 5
      · rw [decide_eq_true o5]; rfl
      · rw [kc o5, Bool.or_true]; rfl
    refine yw_s150 (fun s => ?_) (fun s => bad ?_ w)
    · rw [pw_small_c hw] at s
      refine yw_s225_1 (d := pw_sw F o b c) rfl ha R hC hw (fun cpc cn ch cg fo kn R' => k _ _ _ cpc cn ch cg fo w kn ?_ R')
      unfold pw_sum
      rw [if_pos (by unfold pw_sok; rw [e0, s]; rfl)]
    · rw [pw_small_c hw] at s
      unfold pw_sok; rw [s, Bool.and_false]
  refine ⟨pk_in b 7 hb rfl, ?_⟩
  cases kb : K b with
  | false => exact br_t ((rd_e rfl).trans (pw_K_0 R.2.1 hb kb)) (br_t rfl (bad (by unfold pw_sok; rw [kb]; rfl) _))
  | true =>
    refine br_f (by rw [rd_e (a := bKN) (x := nI b) rfl, pw_K_1 R.2.1 hb kb]; decide) (br_c (fun o5 => good kb (fun z => absurd o5 z)) (fun o5 => ?_))
    obtain ⟨c', hc7, rfl⟩ := hc o5
    refine ⟨pk_in c' 7 hc7 rfl, ?_⟩
    have ecl : (nI c').toNatClampNeg = c' := nI_clamp (by omega)
    cases kc : K c' with
    | false => exact br_t ((rd_e rfl).trans (pw_K_0 R.2.1 hc7 kc)) (br_t rfl (bad (by unfold pw_sok; rw [ecl, kc, decide_eq_false o5, Bool.or_false, Bool.and_false]; rfl) _))
    | true => exact br_f (by rw [rd_e (a := bKN) (x := nI c') rfl, pw_K_1 R.2.1 hc7 kc]; decide) (good kb (fun _ => by rw [ecl]; exact kc))
theorem yw_acc {post : SY → Prop} {pc x1 x2 : Int32} {x m : Nat} (hx : x1 = nI x) (hx7 : x < 7) (hm : x2 = nI m) (hv : pw_inv K F h) (R : ys_R gWA gCP gCN bCH bCG bFO bKN bHY K F h H C) (hC : C.length + 48 < 2 ^ 30)
    (hp : ∀ (cpc cn : Int32) (ch cg d : Nat → Int64), ys_R gWA cpc cn ch cg bFO bKN bHY K F h H (C ++ pw_acc K F h H pc x m) → post ((nI la), (nI lb), gN, (nI L), (nI h), nI (C ++ pw_acc K F h H pc x m).length, gWA, cpc, cn, bSR, P, bMU, bRG, bCE, bFO, bKN, bHY, d, ch, cg, bRO)) : wpY_access post ((nI la), (nI lb), gN, (nI L), (nI h), (nI C.length), gWA, gCP, gCN, bSR, P, bMU, bRG, bCE, bFO, bKN, bHY, bD, bCH, bCG, bRO) pc x1 x2 := by
  have hC1 : ∀ c : Cd_t, (C ++ [c]).length < 2 ^ 30 := fun c => by rw [List.length_append]; simp only [List.length_cons, List.length_nil]; omega
  unfold wpY_access
  refine yw_diff (a := x) (b := 6) hx rfl hx7 (by omega) R.2.1 (fun k0 => ?_) (fun k1 w hw => ?_)
  · have kx : K x = false := by rw [hv.1, Bool.and_true] at k0; exact k0
    have e : C ++ pw_acc K F h H pc x m = C ++ [(pc, h, H, pw_false)] ++ [(pc, h, H, pw_false)] := by
      rw [show pw_acc K F h H pc x m = [(pc, h, H, pw_false), (pc, h, H, pw_false)] from if_neg (by rw [kx]; decide), List.append_assoc]; rfl
    rw [e] at hp
    refine br_t rfl ?_
    refine yw_raise pw_false R (by omega) pw_false_lt rfl (fun cpc cn ch cg R1 => ?_)
    exact yw_raise pw_false R1 (hC1 _) pw_false_lt rfl (fun cpc cn ch cg R2 => hp cpc cn ch cg _ R2)
  · have kx : K x = true := by rw [hv.1, Bool.and_true] at k1; exact k1
    have e : C ++ pw_acc K F h H pc x m = C ++ [(pc, h, H, pw_goal (-1) (F x) (F x 6))] ++ [(pc, h, H, pw_goal 1 (F x) ((nI m - 1).toInt64 - F x 6))] := by
      rw [show pw_acc K F h H pc x m = [(pc, h, H, pw_goal (-1) (F x) (F x 6)), (pc, h, H, pw_goal 1 (F x) ((nI m - 1).toInt64 - F x 6))] from if_pos kx, List.append_assoc]; rfl
    rw [e] at hp
    have hw' : ∀ j, j < 7 → w j = F x j := fun j hj => by
      rw [pw_F_d R.2.2.1 hx7 (by omega) k1 hw j hj]
      unfold pw_dif
      rw [hv.2.1 j hj, Int64.sub_zero]
    refine br_f (by decide) ?_
    refine yw_raise _ R (by omega) (pw_goal_lt hw') (by rw [hw' 6 (by omega)]; rfl) (fun cpc cn ch cg R1 => ?_)
    exact yw_raise _ R1 (hC1 _) (pw_goal_lt hw') (by rw [hw' 6 (by omega), hm]; rfl) (fun cpc cn ch cg R2 => hp cpc cn ch cg _ R2)
end
end
section
/-! the reference's walk: the instruction, groups, the walk -/
section
variable {gLA gLB gN gLEN gHN gRA gWA gCP gCN : Int32} {bSR bPR bMU bRG bCE bKN bRO : Nat → Int32} {bFO bHY bD bCH bCG : Nat → Int64}
variable {P : Nat → Int32} {L la lb h : Nat} {K : Nat → Bool} {F : Nat → Nat → Int64} {H : Nat → Nat → Int64} {C : List Cd_t}
theorem yw_w216 {post : SY → Prop} {J : Int32 → Int32 → Int32 → Int32 → Int32 → Int32 → Int32 → Int32 → Int32 → Int32 → Int32 → (Nat → Int32) → (Nat → Int32) → (Nat → Int32) → (Nat → Int32) → (Nat → Int32) → (Nat → Int64) → (Nat → Int32) → (Nat → Int64) → (Nat → Int64) → (Nat → Int64) → (Nat → Int64) → (Nat → Int32) → Prop} {x2 x3 o y z : Int32} {a : Nat} (ha : a < 7)
    (hp : ∀ fo : Nat → Int64, (∀ i j, i < 7 → j < 7 → fo (7 * i + j) = if i = a then (if j < 6 then 0 else z.toInt64) else bFO (7 * i + j)) → wY_walk_259 post J x2 x3 o (nI a) y z gLA gLB gN gLEN gHN gRA gWA gCP gCN bSR bPR bMU bRG bCE fo bKN bHY bD bCH bCG bRO) : ∃ n, wY_walk_216 post J x2 x3 o (nI a) y z gLA gLB gN gLEN gHN gRA gWA gCP gCN n 0 bSR bPR bMU bRG bCE bFO bKN bHY bD bCH bCG bRO := by
  refine loop_0 (fun n i s => wY_walk_216 post J x2 x3 o (nI a) y z gLA gLB gN gLEN gHN gRA gWA gCP gCN n (nI i) bSR bPR bMU bRG bCE s bKN bHY bD bCH bCG bRO) (fun i s => (∀ j, j < i → s (7 * a + j) = if j < 6 then 0 else z.toInt64) ∧ ∀ m, ¬ (7 * a ≤ m ∧ m < 7 * a + 7) → s m = bFO m) 6 bFO ⟨fun j hj => absurd hj (Nat.not_lt_zero j), fun m _ => rfl⟩ ?_ ?_
  · intro n s I
    refine br_t (nI_le (Nat.le_refl 6) (by decide)) ⟨pk_in (7 * a + 6) 49 (by omega) (ix_r 7 a 6), up_L (7 * a + 6) z.toInt64 (ix_r 7 a 6) rfl (hp _ (fun i j hi hj => ?_))⟩
    have Q := lu_b (f := fun j => if j < 6 then 0 else z.toInt64) (i := 6) (e := 7) (by omega) I (v := z.toInt64) rfl
    by_cases e : i = a
    · rw [if_pos e, e]; exact Q.1 j hj
    · rw [if_neg e]; exact Q.2 _ (by omega)
  · intro n i s hi I k
    exact br_f (nI_ge (b := 6) hi (by decide)) ⟨pk_in (7 * a + i) 49 (by omega) (ix_r 7 a i), up_L (7 * a + i) 0 (ix_r 7 a i) rfl (nm_r (nI_1 i) (k _ (lu_b (f := fun j => if j < 6 then 0 else z.toInt64) (by omega) I (if_pos hi).symm)))⟩
theorem yw_w282 {post : SY → Prop} {J : Int32 → Int32 → Int32 → Int32 → Int32 → Int32 → Int32 → Int32 → Int32 → Int32 → Int32 → (Nat → Int32) → (Nat → Int32) → (Nat → Int32) → (Nat → Int32) → (Nat → Int32) → (Nat → Int64) → (Nat → Int32) → (Nat → Int64) → (Nat → Int64) → (Nat → Int64) → (Nat → Int64) → (Nat → Int32) → Prop} {x2 x3 o z : Int32} {a b : Nat} (ha : a < 7) (hb : b < 7)
    (hp : ∀ fo : Nat → Int64, (∀ i j, i < 7 → j < 7 → fo (7 * i + j) = if i = a then bFO (7 * b + j) else bFO (7 * i + j)) → wY_walk_321 post J x2 x3 o (nI a) (nI b) z gLA gLB gN gLEN gHN gRA gWA gCP gCN bSR bPR bMU bRG bCE fo bKN bHY bD bCH bCG bRO) : ∃ n, wY_walk_282 post J x2 x3 o (nI a) (nI b) z gLA gLB gN gLEN gHN gRA gWA gCP gCN n 0 bSR bPR bMU bRG bCE bFO bKN bHY bD bCH bCG bRO := by
  refine loop_0 (fun n i s => wY_walk_282 post J x2 x3 o (nI a) (nI b) z gLA gLB gN gLEN gHN gRA gWA gCP gCN n (nI i) bSR bPR bMU bRG bCE s bKN bHY bD bCH bCG bRO) (fun i s => ((∀ j, j < i → s (7 * a + j) = bFO (7 * b + j)) ∧ ∀ m, ¬ (7 * a ≤ m ∧ m < 7 * a + 7) → s m = bFO m) ∧ ∀ j, i ≤ j → j < 7 → s (7 * a + j) = bFO (7 * a + j)) 7 bFO ⟨⟨fun j hj => absurd hj (Nat.not_lt_zero j), fun m _ => rfl⟩, fun j _ _ => rfl⟩ ?_ ?_
  · intro n s I
    refine br_t (nI_le (Nat.le_refl 7) (by decide)) (hp s (fun i j hi hj => ?_))
    by_cases e : i = a
    · rw [if_pos e, e]; exact I.1.1 j hj
    · rw [if_neg e]; exact I.1.2 _ (by omega)
  · intro n i s hi I k
    have ev : s (7 * b + i) = bFO (7 * b + i) := by
      by_cases e : b = a
      · rw [e]; exact I.2 i (Nat.le_refl i) hi
      · exact I.1.2 _ (by omega)
    refine br_f (nI_ge (b := 7) hi (by decide)) ⟨pk_in (7 * b + i) 49 (by omega) (ix_r 7 b i), pk_in (7 * a + i) 49 (by omega) (ix_r 7 a i), up_L (7 * a + i) (bFO (7 * b + i)) (ix_r 7 a i) ((rd_e (ix_r 7 b i)).trans ev) (nm_r (nI_1 i) (k _ ⟨lu_b hi I.1 rfl, fun j hj hj7 => ?_⟩))⟩
    unfold vp_updL
    rw [if_neg (by omega)]; exact I.2 j (by omega) hj7
theorem yw_ins {post : SY → Prop} {J : Int32 → Int32 → Int32 → Int32 → Int32 → Int32 → Int32 → Int32 → Int32 → Int32 → Int32 → (Nat → Int32) → (Nat → Int32) → (Nat → Int32) → (Nat → Int32) → (Nat → Int32) → (Nat → Int64) → (Nat → Int32) → (Nat → Int64) → (Nat → Int64) → (Nat → Int64) → (Nat → Int64) → (Nat → Int32) → Prop} {p : Nat} {x2 : Int32} (hp : p < L) (ok : pw_ok P L) (hL : L ≤ 48) (hv : pw_inv K F h) (h11 : ¬ P (4 * p) = 11) (R : ys_R gWA gCP gCN bCH bCG bFO bKN bHY K F h H C) (hC : C.length + 48 < 2 ^ 30)
    (hx2 : x2 = if P (4 * p) = 0 then 0 else 1)
    (k : ∀ (K' : Nat → Bool) (F' : Nat → Nat → Int64) (h' : Nat) (H' : Nat → Nat → Int64) (C' : List Cd_t) (l' : Bool) (cpc cn : Int32) (ch cg fo d hy : Nat → Int64) (kn : Nat → Int32),
      (K', F', h', H', C', l') = pw_ins P L la lb (nI p) (P (4 * p)) (P (4 * p + 1)) (P (4 * p + 2)) (P (4 * p + 3)) K F h H C → ys_R gWA cpc cn ch cg fo kn hy K' F' h' H' C' →
      J (xb_b l') (nI (p + 1)) (nI la) (nI lb) gN (nI L) (nI h') (nI C'.length) gWA cpc cn bSR P bMU bRG bCE fo kn hy d ch cg bRO) : wY_walk_199 post J x2 (nI p) (P (4 * p)) (P (4 * p + 1)) (P (4 * p + 2)) (P (4 * p + 3)) (nI la) (nI lb) gN (nI L) (nI h) (nI C.length) gWA gCP gCN bSR P bMU bRG bCE bFO bKN bHY bD bCH bCG bRO := by
  have ok1 := ok p hp
  unfold pw_okI at ok1
  generalize eo : P (4 * p) = o at ok1 k h11 hx2 ⊢
  generalize ea : P (4 * p + 1) = x at ok1 k ⊢
  generalize eb : P (4 * p + 2) = y at ok1 k ⊢
  generalize ec : P (4 * p + 3) = z at ok1 k ⊢
  rcases ok1 with rfl | ⟨rfl, ⟨a, ha, rfl⟩⟩ | ⟨rfl, ⟨a, ha, rfl⟩, ⟨b, hb, rfl⟩⟩ | ⟨rfl, ⟨a, ha, rfl⟩, ⟨b, hb, rfl⟩, hc⟩ | ⟨rfl, ⟨a, ha, rfl⟩, ⟨b, hb, rfl⟩, hc⟩ | ⟨rfl, ⟨a, ha, rfl⟩, ⟨b, hb, rfl⟩⟩ | ⟨rfl, ⟨a, ha, rfl⟩, -⟩
    | ⟨rfl, ⟨a, ha, rfl⟩, ⟨b, hb, rfl⟩, ⟨c, hc, rfl⟩⟩ | ⟨rfl, ⟨a, ha, rfl⟩, ⟨b, hb, rfl⟩, -⟩ | ⟨rfl, ⟨a, ha, rfl⟩⟩ | ⟨rfl, ⟨a, ha, rfl⟩, ⟨b, hb, rfl⟩, ⟨c, hc, rfl⟩⟩ | ⟨rfl, -⟩
  · rw [if_pos rfl] at hx2
    subst hx2
    exact br_f (by decide) (br_f (by decide) (br_f (by decide) (br_f (by decide) (br_f (by decide) (br_f (by decide) (br_f (by decide) (br_f (by decide) (br_f (by decide) (br_f (by decide) (nm_r (nI_1 p) (k K F h H C false _ _ _ _ _ _ _ _ rfl R)))))))))))
  · rw [if_neg (by decide)] at hx2
    subst hx2
    have ca : (nI a).toNatClampNeg = a := nI_clamp (by omega)
    refine br_t (by decide) (⟨pk_in a 7 (by omega) rfl, up_I a 1 rfl vb_1 ?_⟩)
    refine yw_w216 (by omega) (fun fo hf => ?_)
    refine br_f (by decide) (br_f (by decide) (br_f (by decide) (br_f (by decide) (br_f (by decide) (br_f (by decide) (br_f (by decide) (br_f (by decide) (br_f (by decide) (nm_r (nI_1 p) (k (pw_sK K a true) (pw_sF F a (fun j => if j < 6 then 0 else z.toInt64)) h H C true _ _ _ _ fo _ _ _ ?_ ?_))))))))))
    · unfold pw_ins; rw [if_neg (by decide), if_pos rfl, ca]
    · exact ⟨R.1, pw_K_s R.2.1 rfl, pw_F_s (w := fun j => if j < 6 then 0 else z.toInt64) R.2.2.1 hf (fun _ j _ => rfl), R.2.2.2⟩
  · rw [if_neg (by decide)] at hx2
    subst hx2
    have ca : (nI a).toNatClampNeg = a := nI_clamp (by omega)
    have cb : (nI b).toNatClampNeg = b := nI_clamp (by omega)
    have e : pw_ins P L la lb (nI p) 2 (nI a) (nI b) z K F h H C = (pw_sK K a (K b), pw_sF F a (F b), h, H, C, true) := by
      unfold pw_ins; rw [if_neg (by decide), if_neg (by decide), if_pos rfl, ca, cb]
    have ev : vp_nar .boolean (bKN (nI b).toNatClampNeg) = if K b = true then 1 else 0 := by
      rw [cb, R.2.1 b hb]
      cases K b with
      | false => exact vb_0
      | true => exact vb_1
    refine br_f (by decide) (br_t (by decide) (⟨pk_in b 7 hb rfl, pk_in a 7 (by omega) rfl, up_I a (if K b = true then 1 else 0) rfl ev ?_⟩))
    refine yw_w282 (by omega) hb (fun fo hf => ?_)
    refine br_f (by decide) (br_f (by decide) (br_f (by decide) (br_f (by decide) (br_f (by decide) (br_f (by decide) (br_f (by decide) (br_f (by decide) (nm_r (nI_1 p) (k _ _ h H C true _ _ _ _ fo _ _ _ e.symm ?_)))))))))
    exact ⟨R.1, pw_K_s R.2.1 rfl, pw_F_s (w := fun j => bFO (7 * b + j)) R.2.2.1 hf (fun kb j hj => R.2.2.1 b j hb hj kb), R.2.2.2⟩
  · rw [if_neg (by decide)] at hx2
    subst hx2
    have ca : (nI a).toNatClampNeg = a := nI_clamp (by omega)
    have cb : (nI b).toNatClampNeg = b := nI_clamp (by omega)
    have e : pw_ins P L la lb (nI p) 3 (nI a) (nI b) z K F h H C = pw_sum 3 a b z K F h H C (nI p) := by
      unfold pw_ins; rw [if_neg (by decide), if_neg (by decide), if_neg (by decide), if_pos (by decide), ca, cb]
    refine br_f (by decide) (br_f (by decide) (br_t (by decide) (?_)))
    exact yw_sum ha hb (by decide) (fun _ => hc) R hC (fun K' F' C' cpc cn ch cg fo d kn e1 R1 => br_f (by decide) (br_f (by decide) (br_f (by decide) (br_f (by decide) (br_f (by decide) (nm_r (nI_1 p) (k K' F' h H C' true cpc cn ch cg fo d _ kn (e1.trans e.symm) R1)))))))
  · rw [if_neg (by decide)] at hx2
    subst hx2
    have ca : (nI a).toNatClampNeg = a := nI_clamp (by omega)
    have cb : (nI b).toNatClampNeg = b := nI_clamp (by omega)
    have e : pw_ins P L la lb (nI p) 4 (nI a) (nI b) z K F h H C = pw_sum 4 a b z K F h H C (nI p) := by
      unfold pw_ins; rw [if_neg (by decide), if_neg (by decide), if_neg (by decide), if_pos (by decide), ca, cb]
    refine br_f (by decide) (br_f (by decide) (br_f (by decide) (br_t (by decide) (?_))))
    exact yw_sum ha hb (by decide) (fun _ => hc) R hC (fun K' F' C' cpc cn ch cg fo d kn e1 R1 => br_f (by decide) (br_f (by decide) (br_f (by decide) (br_f (by decide) (br_f (by decide) (nm_r (nI_1 p) (k K' F' h H C' true cpc cn ch cg fo d _ kn (e1.trans e.symm) R1)))))))
  · rw [if_neg (by decide)] at hx2
    subst hx2
    have ca : (nI a).toNatClampNeg = a := nI_clamp (by omega)
    have cb : (nI b).toNatClampNeg = b := nI_clamp (by omega)
    have e : pw_ins P L la lb (nI p) 5 (nI a) (nI b) z K F h H C = pw_sum 5 a b z K F h H C (nI p) := by
      unfold pw_ins; rw [if_neg (by decide), if_neg (by decide), if_neg (by decide), if_pos (by decide), ca, cb]
    refine br_f (by decide) (br_f (by decide) (br_f (by decide) (br_f (by decide) (br_t (by decide) (?_)))))
    exact yw_sum ha hb (by decide) (fun z => absurd rfl z) R hC (fun K' F' C' cpc cn ch cg fo d kn e1 R1 => br_f (by decide) (br_f (by decide) (br_f (by decide) (br_f (by decide) (br_f (by decide) (nm_r (nI_1 p) (k K' F' h H C' true cpc cn ch cg fo d _ kn (e1.trans e.symm) R1)))))))
  · rw [if_neg (by decide)] at hx2
    subst hx2
    have ca : (nI a).toNatClampNeg = a := nI_clamp (by omega)
    have e : pw_ins P L la lb (nI p) 6 (nI a) y z K F h H C = (pw_sK K a false, F, h, H, C, true) := by
      unfold pw_ins; rw [if_neg (by decide), if_neg (by decide), if_neg (by decide), if_neg (by decide), if_pos rfl, ca]
    refine br_f (by decide) (br_f (by decide) (br_f (by decide) (br_f (by decide) (br_f (by decide) (br_t (by decide) (⟨pk_in a 7 (by omega) rfl, up_I a 0 rfl vb_0 ?_⟩))))))
    exact br_f (by decide) (br_f (by decide) (br_f (by decide) (br_f (by decide) (nm_r (nI_1 p) (k _ _ _ _ _ true _ _ _ _ _ _ _ _ e.symm ⟨R.1, pw_K_s R.2.1 rfl, pw_F_k R.2.2.1, R.2.2.2⟩)))))
  · rw [if_neg (by decide)] at hx2
    subst hx2
    have ca : (nI a).toNatClampNeg = a := nI_clamp (by omega)
    have cc : (nI c).toNatClampNeg = c := nI_clamp (by omega)
    have e : pw_ins P L la lb (nI p) 7 (nI a) (nI b) (nI c) K F h H C = (pw_sK K a false, F, h, H, C ++ pw_acc K F h H (nI p) c (if nI b = 0 then la else lb), true) := by
      unfold pw_ins; rw [if_neg (by decide), if_neg (by decide), if_neg (by decide), if_neg (by decide), if_neg (by decide), if_pos rfl, ca, cc]
    have go : ∀ sz : Int32, sz = nI (if nI b = 0 then la else lb) → wY_walk_394 post J 1 (nI p) 7 (nI a) (nI b) (nI c) sz (nI c) (nI p) (nI la) (nI lb) gN (nI L) (nI h) (nI C.length) gWA gCP gCN bSR P bMU bRG bCE bFO bKN bHY bD bCH bCG bRO := by
      intro sz hsz
      unfold wY_walk_394
      refine yw_acc rfl hc hsz hv R hC (fun cpc cn ch cg d R1 => ⟨pk_in a 7 (by omega) rfl, up_I a 0 rfl vb_0 ?_⟩)
      exact br_f (by decide) (br_f (by decide) (br_f (by decide) (nm_r (nI_1 p) (k _ _ _ _ _ true _ _ _ _ _ _ _ _ e.symm ⟨R1.1, pw_K_s R1.2.1 rfl, pw_F_k R1.2.2.1, R1.2.2.2⟩))))
    refine br_f (by decide) (br_f (by decide) (br_f (by decide) (br_f (by decide) (br_f (by decide) (br_f (by decide) (br_t (by decide) (br_c (fun z => go _ ?_) (fun z => go _ ?_))))))))
    · rw [if_pos z]
    · rw [if_neg z]
  · rw [if_neg (by decide)] at hx2
    subst hx2
    have cb : (nI b).toNatClampNeg = b := nI_clamp (by omega)
    have e : pw_ins P L la lb (nI p) 8 (nI a) (nI b) z K F h H C = (K, F, h, H, C ++ pw_acc K F h H (nI p) b (if nI a = 0 then la else lb), true) := by
      unfold pw_ins; rw [if_neg (by decide), if_neg (by decide), if_neg (by decide), if_neg (by decide), if_neg (by decide), if_neg (by decide), if_pos rfl, cb]
    have go : ∀ sz : Int32, sz = nI (if nI a = 0 then la else lb) → wY_walk_432 post J 1 (nI p) 8 (nI a) (nI b) z sz (nI b) (nI p) (nI la) (nI lb) gN (nI L) (nI h) (nI C.length) gWA gCP gCN bSR P bMU bRG bCE bFO bKN bHY bD bCH bCG bRO := by
      intro sz hsz
      unfold wY_walk_432
      refine yw_acc rfl hb hsz hv R hC (fun cpc cn ch cg d R1 => ?_)
      exact br_f (by decide) (br_f (by decide) (nm_r (nI_1 p) (k _ _ _ _ _ true _ _ _ _ _ _ _ _ e.symm R1)))
    refine br_f (by decide) (br_f (by decide) (br_f (by decide) (br_f (by decide) (br_f (by decide) (br_f (by decide) (br_f (by decide) (br_t (by decide) (br_c (fun z => go _ ?_) (fun z => go _ ?_)))))))))
    · rw [if_pos z]
    · rw [if_neg z]
  · rw [if_neg (by decide)] at hx2
    subst hx2
    have ca : (nI a).toNatClampNeg = a := nI_clamp (by omega)
    have e : pw_ins P L la lb (nI p) 9 (nI a) y z K F h H C = (K, F, h, H, C ++ pw_goto P L K F h H (nI p) a, false) := by
      unfold pw_ins; rw [if_neg (by decide), if_neg (by decide), if_neg (by decide), if_neg (by decide), if_neg (by decide), if_neg (by decide), if_neg (by decide), if_pos rfl, ca]
    refine br_f (by decide) (br_f (by decide) (br_f (by decide) (br_f (by decide) (br_f (by decide) (br_f (by decide) (br_f (by decide) (br_f (by decide) (br_t (by decide) (?_)))))))))
    exact yw_goto rfl (by omega) ok hL R hC (fun cpc cn ch cg d R1 => br_f (by decide) (nm_r (nI_1 p) (k _ _ _ _ _ false _ _ _ _ _ _ _ _ e.symm R1)))
  · rw [if_neg (by decide)] at hx2
    subst hx2
    have ca : (nI a).toNatClampNeg = a := nI_clamp (by omega)
    have cb : (nI b).toNatClampNeg = b := nI_clamp (by omega)
    have cc : (nI c).toNatClampNeg = c := nI_clamp (by omega)
    have e : pw_ins P L la lb (nI p) 10 (nI a) (nI b) (nI c) K F h H C = pw_bra P L a b c K F h H C (nI p) := by
      unfold pw_ins; rw [if_neg (by decide), if_neg (by decide), if_neg (by decide), if_neg (by decide), if_neg (by decide), if_neg (by decide), if_neg (by decide), if_neg (by decide), if_pos rfl, ca, cb, cc]
    refine br_f (by decide) (br_f (by decide) (br_f (by decide) (br_f (by decide) (br_f (by decide) (br_f (by decide) (br_f (by decide) (br_f (by decide) (br_f (by decide) (br_t (by decide) (?_))))))))))
    refine yw_diff rfl rfl ha hb R.2.1 (fun k0 => ?_) (fun k1 w hw => ?_)
    · refine br_t rfl (yw_goto rfl (by omega) ok hL R hC (fun cpc cn ch cg d R1 => nm_r (nI_1 p) (k K F h H _ true _ _ _ _ _ _ _ _ ?_ R1)))
      rw [e]
      unfold pw_bra
      rw [if_neg (by rw [k0]; decide)]
    · have hd := pw_F_d R.2.2.1 ha hb k1 hw
      refine br_f (by decide) (yw_addH (g := pw_goal (-1) (pw_dif F a b) (pw_dif F a b 6)) R.2.2.2.2 R.2.2.2.1 (pw_goal_lt hd) (hd 6 (by omega)) (fun li hli => ?_))
      refine yw_goto rfl (by omega) ok hL ⟨R.1, R.2.1, R.2.2.1, hli, pw_hn_le R.2.2.2.2⟩ hC (fun cpc cn ch cg d R1 => ?_)
      refine yw_diff rfl rfl ha hb R.2.1 (fun k0 => absurd (k0.symm.trans k1) (by decide)) (fun _ w2 hw2 => ?_)
      have hd2 := pw_F_d R.2.2.1 ha hb k1 hw2
      have hli' : pw_HR li h H := fun i j hi hj => by
        have h6 := R.2.2.2.2
        rw [hli i j (by unfold pw_hn; split <;> omega) hj]
        unfold pw_hH
        rw [if_neg (by omega)]
      refine yw_addH (g := pw_goal 1 (pw_dif F a b) (-1 - pw_dif F a b 6)) R.2.2.2.2 hli' (pw_goal_lt hd2) (by rw [hd2 6 (by omega)]; rfl) (fun li2 hli2 => nm_r (nI_1 p) ?_)
      refine k K F (pw_hn h) (pw_hH h H (pw_goal 1 (pw_dif F a b) (-1 - pw_dif F a b 6))) _ true _ _ _ _ _ _ li2 _ ?_ ⟨R1.1, R1.2.1, R1.2.2.1, hli2, pw_hn_le R.2.2.2.2⟩
      rw [e]
      unfold pw_bra
      rw [if_pos k1]
  · exact absurd rfl h11
theorem yw_grp2 {post : SY → Prop} {J : Int32 → Int32 → Int32 → Int32 → Int32 → Int32 → Int32 → Int32 → Int32 → Int32 → Int32 → (Nat → Int32) → (Nat → Int32) → (Nat → Int32) → (Nat → Int32) → (Nat → Int32) → (Nat → Int64) → (Nat → Int32) → (Nat → Int64) → (Nat → Int64) → (Nat → Int64) → (Nat → Int64) → (Nat → Int32) → Prop} {p : Nat} (ok : pw_ok P L) (hL : L ≤ 48) (hK : pw_KR bKN pw_K0) (hF : pw_FR bFO pw_K0 pw_F0) : ∀ (n q h : Nat) (H : Nat → Nat → Int64) (d hy : Nat → Int64), q + n = L → h ≤ 6 → pw_HR hy h H →
    (∀ d hy : Nat → Int64, pw_HR hy (pw_grp P n q h H).1 (pw_grp P n q h H).2 → J 1 (nI (p + 1)) gLA gLB gN (nI L) (nI (pw_grp P n q h H).1) gRA gWA gCP gCN bSR P bMU bRG bCE bFO bKN hy d bCH bCG bRO) → wY_walk_103 post J 1 (nI p) (n + 1) (nI q) gLA gLB gN (nI L) (nI h) gRA gWA gCP gCN bSR P bMU bRG bCE bFO bKN hy d bCH bCG bRO := by
  intro n
  induction n with
  | zero =>
    intro q h H d hy hq hh hH hp
    exact pk_le L q (fun _ => nm_r (nI_1 p) (hp d hy hH)) (fun z => absurd z (by omega))
  | succ n ih =>
    intro q h H d hy hq hh hH hp
    have hqL : q < L := by omega
    refine br_f (nI_ge (b := L) hqL (by omega)) ⟨pk_in (4 * q) 192 (by omega) (ix_r0 4 q), ?_⟩
    by_cases e11 : P (4 * q) = 11
    · obtain ⟨⟨a, ha, ea⟩, ⟨b, hb, eb⟩⟩ := pw_okInv ok hqL e11
      rw [show pw_grp P (n + 1) q h H = _ from if_pos e11, ea, eb, nI_clamp (by omega), nI_clamp (by omega)] at hp
      refine br_t ((rd_e (ix_r0 4 q)).trans e11) ⟨pk_in (4 * q + 1) 192 (by omega) (ix_r 4 q 1), pk_in (4 * q + 2) 192 (by omega) (ix_r 4 q 2), ?_⟩
      refine yw_diff (K := pw_K0) (a := a) (b := b) ((rd_e (ix_r 4 q 1)).trans ea) ((rd_e (ix_r 4 q 2)).trans eb) ha hb hK (fun k0 => absurd (show (true && true) = false from k0) (by decide)) (fun k1 w hw => ?_)
      have hd := pw_F_d hF ha hb k1 hw
      exact br_f (by decide) ⟨pk_in (4 * q + 3) 192 (by omega) (ix_r 4 q 3), yw_addH (g := pw_goal 1 (pw_dif pw_F0 a b) (P (4 * q + 3)).toInt64) hh hH (pw_goal_lt hd) (ti_e (rd_e (ix_r 4 q 3)))
        (fun li hli => nm_r (nI_1 q) (ih (q + 1) _ _ _ li (by omega) (pw_hn_le hh) hli hp))⟩
    · rw [show pw_grp P (n + 1) q h H = (h, H) from if_neg e11] at hp
      exact br_f (fun y => e11 ((rd_e (ix_r0 4 q)).symm.trans y)) (nm_r (nI_1 p) (hp d hy hH))
theorem yw_w94 {post : SY → Prop} {J : Int32 → Int32 → Int32 → Int32 → Int32 → Int32 → Int32 → Int32 → Int32 → Int32 → Int32 → (Nat → Int32) → (Nat → Int32) → (Nat → Int32) → (Nat → Int32) → (Nat → Int32) → (Nat → Int64) → (Nat → Int32) → (Nat → Int64) → (Nat → Int64) → (Nat → Int64) → (Nat → Int64) → (Nat → Int32) → Prop} {p : Nat} (hpL : p ≤ L) (ok : pw_ok P L) (hL : L ≤ 48) (T : ys_T gWA gCP gCN bCH bCG C)
    (hp : ∀ (fo d hy : Nat → Int64) (kn : Nat → Int32), ys_R gWA gCP gCN bCH bCG fo kn hy pw_K0 pw_F0 (pw_grp P (L - p) p 0 pw_H0).1 (pw_grp P (L - p) p 0 pw_H0).2 C → J 1 (nI (p + 1)) (nI la) (nI lb) gN (nI L) (nI (pw_grp P (L - p) p 0 pw_H0).1) (nI C.length) gWA gCP gCN bSR P bMU bRG bCE fo kn hy d bCH bCG bRO) : wY_walk_94 post J (nI p) (nI la) (nI lb) gN (nI L) gHN (nI C.length) gWA gCP gCN bSR P bMU bRG bCE bFO bKN bHY bD bCH bCG bRO := by
  unfold wY_walk_94
  refine yw_fresh (fun fo kn hK hF => ?_)
  exact ⟨L - p + 1, yw_grp2 ok hL hK hF (L - p) p 0 pw_H0 _ _ (by omega) (by omega) (fun i j hi _ => absurd hi (Nat.not_lt_zero i)) (fun d hy hH => hp fo d hy kn ⟨T, hK, hF, hH, pw_grp_le _ _ _ _ (by omega)⟩)⟩
theorem yw_walk2 {post : SY → Prop} (ok : pw_ok P L) (hL : L ≤ 48) : ∀ (n p : Nat) (K : Nat → Bool) (F : Nat → Nat → Int64) (h : Nat) (H : Nat → Nat → Int64) (C : List Cd_t) (l : Bool) (cpc cn : Int32) (ch cg fo d hy : Nat → Int64) (kn : Nat → Int32),
    p + n = L → pw_inv K F h → ys_R gWA cpc cn ch cg fo kn hy K F h H C → C.length + n * (L + 2) < 2 ^ 29 →
    (∀ (C' : List Cd_t) (cpc cn : Int32) (ch cg fo d hy : Nat → Int64) (kn : Nat → Int32) (hn : Int32), C' = (pw_walk P L la lb n p (K, F, h, H, C, l)).2.2.2.2.1 → ys_T gWA cpc cn ch cg C' →
      post ((nI la), (nI lb), gN, (nI L), hn, nI C'.length, gWA, cpc, cn, bSR, P, bMU, bRG, bCE, fo, kn, hy, d, ch, cg, bRO)) →
    wY_walk_18 post (n + 1) (xb_b l) (nI p) (nI la) (nI lb) gN (nI L) (nI h) (nI C.length) gWA cpc cn bSR P bMU bRG bCE fo kn hy d ch cg bRO := by
  intro n
  induction n with
  | zero =>
    intro p K F h H C l cpc cn ch cg fo d hy kn hp I R hC k
    exact pk_le L p (fun _ => k C cpc cn ch cg fo d hy kn _ rfl R.1) (fun z => absurd z (by omega))
  | succ n ih =>
    intro p K F h H C l cpc cn ch cg fo d hy kn hp I R hC k
    have hpL : p < L := by omega
    have hC2 : C.length + (L + 2) + n * (L + 2) < 2 ^ 29 := by
      have : (n + 1) * (L + 2) = n * (L + 2) + (L + 2) := Nat.succ_mul n (L + 2)
      omega
    have next : ∀ (K' : Nat → Bool) (F' : Nat → Nat → Int64) (h' : Nat) (H' : Nat → Nat → Int64) (C' : List Cd_t) (l' : Bool) (cpc cn : Int32) (ch cg fo d hy : Nat → Int64) (kn : Nat → Int32),
        (K', F', h', H', C', l') = pw_one P L la lb p (K, F, h, H, C, l) → ys_R gWA cpc cn ch cg fo kn hy K' F' h' H' C' →
        wY_walk_18 post (n + 1) (xb_b l') (nI (p + 1)) (nI la) (nI lb) gN (nI L) (nI h') (nI C'.length) gWA cpc cn bSR P bMU bRG bCE fo kn hy d ch cg bRO := by
      intro K' F' h' H' C' l' cpc cn ch cg fo d hy kn e R'
      have I' := pw_one_inv (la := la) (lb := lb) (s := (K, F, h, H, C, l)) ok hpL I
      have len := pw_one_len (P := P) (L := L) (la := la) (lb := lb) (p := p) (s := (K, F, h, H, C, l))
      rw [← e] at I' len
      dsimp only at I' len
      rw [show pw_walk P L la lb (n + 1) p (K, F, h, H, C, l) = pw_walk P L la lb n (p + 1) (pw_one P L la lb p (K, F, h, H, C, l)) from rfl, ← e] at k
      exact ih (p + 1) K' F' h' H' C' l' cpc cn ch cg fo d hy kn (by omega) I' R' (by omega) k
    refine br_f (nI_ge (b := L) hpL (by omega)) ⟨pk_in (4 * p) 192 (by omega) (ix_r0 4 p), rd_n (4 * p) (ix_r0 4 p) ⟨pk_in (4 * p + 1) 192 (by omega) (ix_r 4 p 1), rd_n (4 * p + 1) (ix_r 4 p 1) ⟨pk_in (4 * p + 2) 192 (by omega) (ix_r 4 p 2), rd_n (4 * p + 2) (ix_r 4 p 2)
      ⟨pk_in (4 * p + 3) 192 (by omega) (ix_r 4 p 3), rd_n (4 * p + 3) (ix_r 4 p 3) ?_⟩⟩⟩⟩
    refine yw_isG rfl (by omega) hL (fun g => br_f (by decide) ?_) (fun g => br_t rfl ?_)
    · have e11 : P (4 * p) = 11 := by
        unfold pw_isG at g
        simp only [Bool.and_eq_true, decide_eq_true_eq] at g
        exact g.1.2
      have grp : ∀ (C' : List Cd_t) (cpc cn : Int32) (ch cg d : Nat → Int64), C' = C ++ (if l = true ∧ 0 < p then pw_enter P K F h H (nI p) (L - p) p else []) → ys_T gWA cpc cn ch cg C' →
          wY_walk_94 post (wY_walk_18 post (n + 1)) (nI p) (nI la) (nI lb) gN (nI L) (nI h) (nI C'.length) gWA cpc cn bSR P bMU bRG bCE fo kn hy d ch cg bRO := by
        intro C' cpc cn ch cg d eC T
        refine yw_w94 (by omega) ok hL T (fun fo d hy kn R' => ?_)
        refine next pw_K0 pw_F0 _ _ C' true cpc cn ch cg fo d hy kn ?_ R'
        unfold pw_one
        rw [if_pos e11, if_pos g, eC]
      cases l with
      | false => exact br_t rfl (grp C _ _ _ _ _ (by rw [if_neg (fun z => absurd z.1 (by decide)), List.append_nil]) R.1)
      | true =>
        refine br_f (by decide) (pk_le p 0 (fun z => ?_) (fun z => ?_))
        · exact grp C _ _ _ _ _ (by rw [if_neg (by omega), List.append_nil]) R.1
        · exact yw_enter rfl (by omega) ok hL R (by omega) (fun cpc cn ch cg d R' => grp _ _ _ _ _ _ (by rw [if_pos ⟨rfl, z⟩]) R'.1)
    · refine br_c (fun e11 => nm_r (nI_1 p) ?_) (fun e11 => ?_)
      · refine next K F h H C l cpc cn ch cg fo d hy kn ?_ R
        unfold pw_one
        rw [if_pos e11, if_neg (by rw [g]; decide)]
      · cases l with
        | false =>
          refine br_t rfl (nm_r (nI_1 p) (next K F h H C false cpc cn ch cg fo d hy kn ?_ R))
          unfold pw_one
          rw [if_neg e11, if_neg (fun z : false = true => absurd z (by decide))]
        | true =>
          have go : ∀ x2 : Int32, x2 = (if P (4 * p) = 0 then 0 else 1) → wY_walk_199 post (wY_walk_18 post (n + 1)) x2 (nI p) (P (4 * p)) (P (4 * p + 1)) (P (4 * p + 2)) (P (4 * p + 3)) (nI la) (nI lb) gN (nI L) (nI h) (nI C.length) gWA cpc cn bSR P bMU bRG bCE fo kn hy d ch cg bRO := by
            intro x2 hx2
            refine yw_ins hpL ok hL I e11 R (by omega) hx2 (fun K' F' h' H' C' l' cpc cn ch cg fo d hy kn e R' => next K' F' h' H' C' l' cpc cn ch cg fo d hy kn ?_ R')
            unfold pw_one
            rw [if_neg e11, if_pos rfl]; exact e
          refine br_f (by decide) (br_c (fun z => go 0 ?_) (fun z => go 1 ?_))
          · rw [if_pos z]
          · rw [if_neg z]
theorem yw_walk {post : SY → Prop} {wa : Int32} (ok : pw_ok P L) (hL : L ≤ 48)
    (hp : ∀ (cpc cn : Int32) (ch cg fo d hy : Nat → Int64) (kn : Nat → Int32) (hn : Int32), ys_T wa cpc cn ch cg (pw_all P L la lb) →
      post (nI la, nI lb, gN, nI L, hn, nI (pw_all P L la lb).length, wa, cpc, cn, bSR, P, bMU, bRG, bCE, fo, kn, hy, d, ch, cg, bRO)) : wpY_walk post (nI la, nI lb, gN, nI L, gHN, gRA, gWA, gCP, gCN, bSR, P, bMU, bRG, bCE, bFO, bKN, bHY, bD, bCH, bCG, bRO) wa := by
  unfold wpY_walk
  refine yw_fresh (fun fo kn hK hF => ?_)
  have z : L * (L + 2) ≤ 48 * 50 := Nat.mul_le_mul hL (by omega)
  exact ⟨L + 1, yw_walk2 (la := la) (lb := lb) ok hL L 0 pw_K0 pw_F0 0 pw_H0 [] true _ _ _ _ fo _ _ kn (by omega) pw_inv0 ⟨fun k cd _ _ e => absurd e (by simp), hK, hF, fun i j hi _ => absurd hi (Nat.not_lt_zero i), by omega⟩ (by simp only [List.length_nil]; omega)
    (fun C' cpc cn ch cg fo d hy kn hn e T => by
      subst e
      exact hp cpc cn ch cg fo d hy kn hn T)⟩
end
end
section
/-! forms of statements and instructions -/
theorem ir_y {v : Int32} {n : Nat} (hn : n < 2 ^ 31) (h0 : ¬ v < 0) (h1 : ¬ nI n ≤ v) : ir_in v n := by
  rcases pk_ix v hn with h | h | h
  · exact absurd h h0
  · exact absurd h h1
  · exact h
theorem ir_n0 {v : Int32} {n : Nat} (hn : n < 2 ^ 31) (h : v < 0) : ¬ ir_in v n := by
  rintro ⟨j, hj, rfl⟩
  exact nI_pos (by omega) h
theorem ir_n1 {v : Int32} {n : Nat} (hn : n < 2 ^ 31) (h : nI n ≤ v) : ¬ ir_in v n := by
  rintro ⟨j, hj, rfl⟩
  exact nI_ge hj hn h
theorem ir_y2 {v : Int32} {n : Nat} (hn : n + 1 < 2 ^ 31) (h0 : ¬ v < 0) (h1 : ¬ nI n < v) : ir_in v (n + 1) := by
  obtain ⟨j, hj, rfl⟩ := nI_of h0
  rw [nI_ltI (by omega) hj] at h1
  exact ⟨j, by omega, rfl⟩
theorem ir_n2 {v : Int32} {n : Nat} (hn : n + 1 < 2 ^ 31) (h : nI n < v) : ¬ ir_in v (n + 1) := by
  rintro ⟨j, hj, rfl⟩
  rw [nI_ltI (by omega) (by omega)] at h
  omega
/-- the range of a field's type -/
def fm_T (t : Nat) (v : Int32) : Prop := if t = 1 then ir_in v 6 else if t = 2 then ir_in v 7 else if t = 3 then ir_in v 2 else if t = 4 then ir_in v 48 else if t = 6 then ¬ v < -1000 ∧ ¬ 1000 < v else True
def wf_kp (o : Int32) (f : Nat) (v : Int32) : Int32 := if o = 0 ∨ o = 13 ∨ (o = 1 ∧ f = 2) ∨ (o = 2 ∧ f = 3) ∨ (o = 9 ∧ 2 ≤ f) then 0 else v
def wf_F (a b c : Int32) : Prop := ir_in a 6 ∧ (¬ b < -1000 ∧ ¬ 1000 < b) ∧ ir_in c 7
def wf_ok (o a b c : Int32) : Prop := pw_okI o a b c ∨ (o = 12 ∧ wf_F a b c) ∨ o = 13
section
variable {fLA fLB fSC fPL fLD fST fCC fLV fLC : Int32} {aRG aCE aSO aPR aMU aLS aLH aLB aCP aHC aKN aTR : Nat → Int32} {aHT aGT aFO aWK aLI aSU : Nat → Int64}
theorem xf_fits {post : Int32 → Prop} {v : Int32} : ∀ t : Nat, t < 7 → (fm_T t v → post 1) → (¬ fm_T t v → post 0) → wpX_fits post (fLA, fLB, fSC, fPL, fLD, fST, fCC, fLV, fLC, aRG, aCE, aSO, aPR, aMU, aLS, aLH, aLB, aCP, aHC, aHT, aGT, aFO, aKN, aWK, aLI, aSU, aTR) (nI t) v
  | 0, _, h1, _ => br_t (by decide) (h1 trivial)
  | 1, _, h1, h0 => br_f (by decide) (br_f (by decide) (br_t rfl (br_c (fun z => h0 (ir_n0 (by decide) z)) (fun z => br_c (fun y => h0 (ir_n1 (n := 6) (by decide) y)) (fun y => h1 (ir_y (n := 6) (by decide) z y))))))
  | 2, _, h1, h0 => br_f (by decide) (br_f (by decide) (br_f (by decide) (br_t rfl (br_c (fun z => h0 (ir_n0 (by decide) z)) (fun z => br_c (fun y => h0 (ir_n2 (n := 6) (by decide) y)) (fun y => h1 (ir_y2 (n := 6) (by decide) z y)))))))
  | 3, _, h1, h0 => br_f (by decide) (br_f (by decide) (br_f (by decide) (br_f (by decide) (br_t rfl (br_c (fun z => h0 (ir_n0 (by decide) z)) (fun z => br_c (fun y => h0 (ir_n2 (n := 1) (by decide) y)) (fun y => h1 (ir_y2 (n := 1) (by decide) z y))))))))
  | 4, _, h1, h0 => br_f (by decide) (br_f (by decide) (br_f (by decide) (br_f (by decide) (br_f (by decide) (br_t rfl (br_c (fun z => h0 (ir_n0 (by decide) z)) (fun z => br_c (fun y => h0 (ir_n1 (n := 48) (by decide) y)) (fun y => h1 (ir_y (n := 48) (by decide) z y)))))))))
  | 5, _, h1, _ => br_f (by decide) (br_f (by decide) (br_f (by decide) (br_f (by decide) (br_f (by decide) (br_f (by decide) (br_t rfl (h1 trivial)))))))
  | 6, _, h1, h0 => br_f (by decide) (br_f (by decide) (br_f (by decide) (br_f (by decide) (br_f (by decide) (br_f (by decide) (br_f (by decide) (br_t rfl (br_c (fun z => h0 (fun q => q.1 z)) (fun z => br_c (fun y => h0 (fun q => q.2 y)) (fun y => h1 ⟨z, y⟩))))))))))
theorem xf_wf3 {post : Int32 → Prop} {d a b c : Int32} (tA tB tC : Nat) (hA : tA < 7) (hB : tB < 7) (hC : tC < 7) (h0 : 0 ≤ d) (e1 : d / 100 = nI tA) (e2 : (d / 10) - (d / 10) / 10 * 10 = nI tB) (e3 : d - d / 10 * 10 = nI tC)
    (k1 : fm_T tA a ∧ fm_T tB b ∧ fm_T tC c → post 1) (k0 : ¬ (fm_T tA a ∧ fm_T tB b ∧ fm_T tC c) → post 0) : ((0 ≤ d → (¬ (100 : Int32) = 0 ∧ (∀ x6 : Int32, x6 = d / 100 → (¬ (10 : Int32) = 0 ∧ (¬ (10 : Int32) = 0 ∧ (∀ x7 : Int32, x7 = (d / 10) - (d / 10) / 10 * 10 → (¬ (10 : Int32) = 0 ∧ (∀ x8 : Int32, x8 = d - d / 10 * 10 → (wpX_fits (fun r_37 => (((r_37 = 0 → (post 0)) ∧ (¬ r_37 = 0 → (wpX_fits (fun r_66 => (((r_66 = 0 → (post 0)) ∧ (¬ r_66 = 0 → (wpX_fits (fun r_95 => (((r_95 = 0 → (post 0)) ∧ (¬ r_95 = 0 → (post 1))))) (fLA, fLB, fSC, fPL, fLD, fST, fCC, fLV, fLC, aRG, aCE, aSO, aPR, aMU, aLS, aLH, aLB, aCP, aHC, aHT, aGT, aFO, aKN, aWK, aLI, aSU, aTR) x8 c))))) (fLA, fLB, fSC, fPL, fLD, fST, fCC, fLV, fLC, aRG, aCE, aSO, aPR, aMU, aLS, aLH, aLB, aCP, aHC, aHT, aGT, aFO, aKN, aWK, aLI, aSU, aTR) x7 b))))) (fLA, fLB, fSC, fPL, fLD, fST, fCC, fLV, fLC, aRG, aCE, aSO, aPR, aMU, aLS, aLH, aLB, aCP, aHC, aHT, aGT, aFO, aKN, aWK, aLI, aSU, aTR) x6 a))))))))) ∧ (¬ 0 ≤ d → (post 0))) := by
  refine br_t h0 ⟨by decide, nm_r e1 ⟨by decide, by decide, nm_r e2 ⟨by decide, nm_r e3 ?_⟩⟩⟩
  refine xf_fits tA hA (fun fa => br_f (by decide) ?_) (fun fa => br_t rfl (k0 (fun z => fa z.1)))
  refine xf_fits tB hB (fun fb => br_f (by decide) ?_) (fun fb => br_t rfl (k0 (fun z => fb z.2.1)))
  exact xf_fits tC hC (fun fc => br_f (by decide) (k1 ⟨fa, fb, fc⟩)) (fun fc => br_t rfl (k0 (fun z => fc z.2.2)))
end
theorem ok_e {o a b c : Int32} : pw_okI o a b c ↔ (o = 0 ∨ (o = 1 ∧ ir_in a 6) ∨ (o = 2 ∧ ir_in a 6 ∧ ir_in b 7) ∨ (o = 3 ∧ ir_in a 6 ∧ ir_in b 7 ∧ ir_in c 7) ∨ (o = 4 ∧ ir_in a 6 ∧ ir_in b 7 ∧ ir_in c 7)
  ∨ (o = 5 ∧ ir_in a 6 ∧ ir_in b 7) ∨ (o = 6 ∧ ir_in a 6 ∧ ir_in b 7 ∧ ir_in c 7) ∨ (o = 7 ∧ ir_in a 6 ∧ ir_in b 2 ∧ ir_in c 7) ∨ (o = 8 ∧ ir_in a 2 ∧ ir_in b 7 ∧ ir_in c 7)
  ∨ (o = 9 ∧ ir_in a 48) ∨ (o = 10 ∧ ir_in a 7 ∧ ir_in b 7 ∧ ir_in c 48) ∨ (o = 11 ∧ ir_in a 7 ∧ ir_in b 7)) := Iff.rfl
theorem ok_0 {a b c : Int32} : pw_okI 0 a b c ↔ (True) := by
  rw [ok_e]
  constructor
  · intro _; trivial
  · intro _; exact Or.inl rfl
theorem ok_1 {a b c : Int32} : pw_okI 1 a b c ↔ (ir_in a 6) := by
  rw [ok_e]
  constructor
  · intro h
    rcases h with h | h | h | h | h | h | h | h | h | h | h | h
    · exact absurd h (by decide)
    · exact h.2
    · exact absurd h.1 (by decide)
    · exact absurd h.1 (by decide)
    · exact absurd h.1 (by decide)
    · exact absurd h.1 (by decide)
    · exact absurd h.1 (by decide)
    · exact absurd h.1 (by decide)
    · exact absurd h.1 (by decide)
    · exact absurd h.1 (by decide)
    · exact absurd h.1 (by decide)
    · exact absurd h.1 (by decide)
  · intro h
    exact Or.inr (Or.inl ⟨rfl, h⟩)
theorem ok_2 {a b c : Int32} : pw_okI 2 a b c ↔ (ir_in a 6 ∧ ir_in b 7) := by
  rw [ok_e]
  constructor
  · intro h
    rcases h with h | h | h | h | h | h | h | h | h | h | h | h
    · exact absurd h (by decide)
    · exact absurd h.1 (by decide)
    · exact h.2
    · exact absurd h.1 (by decide)
    · exact absurd h.1 (by decide)
    · exact absurd h.1 (by decide)
    · exact absurd h.1 (by decide)
    · exact absurd h.1 (by decide)
    · exact absurd h.1 (by decide)
    · exact absurd h.1 (by decide)
    · exact absurd h.1 (by decide)
    · exact absurd h.1 (by decide)
  · intro h
    exact Or.inr (Or.inr (Or.inl ⟨rfl, h⟩))
theorem ok_3 {a b c : Int32} : pw_okI 3 a b c ↔ (ir_in a 6 ∧ ir_in b 7 ∧ ir_in c 7) := by
  rw [ok_e]
  constructor
  · intro h
    rcases h with h | h | h | h | h | h | h | h | h | h | h | h
    · exact absurd h (by decide)
    · exact absurd h.1 (by decide)
    · exact absurd h.1 (by decide)
    · exact h.2
    · exact absurd h.1 (by decide)
    · exact absurd h.1 (by decide)
    · exact absurd h.1 (by decide)
    · exact absurd h.1 (by decide)
    · exact absurd h.1 (by decide)
    · exact absurd h.1 (by decide)
    · exact absurd h.1 (by decide)
    · exact absurd h.1 (by decide)
  · intro h
    exact Or.inr (Or.inr (Or.inr (Or.inl ⟨rfl, h⟩)))
theorem ok_4 {a b c : Int32} : pw_okI 4 a b c ↔ (ir_in a 6 ∧ ir_in b 7 ∧ ir_in c 7) := by
  rw [ok_e]
  constructor
  · intro h
    rcases h with h | h | h | h | h | h | h | h | h | h | h | h
    · exact absurd h (by decide)
    · exact absurd h.1 (by decide)
    · exact absurd h.1 (by decide)
    · exact absurd h.1 (by decide)
    · exact h.2
    · exact absurd h.1 (by decide)
    · exact absurd h.1 (by decide)
    · exact absurd h.1 (by decide)
    · exact absurd h.1 (by decide)
    · exact absurd h.1 (by decide)
    · exact absurd h.1 (by decide)
    · exact absurd h.1 (by decide)
  · intro h
    exact Or.inr (Or.inr (Or.inr (Or.inr (Or.inl ⟨rfl, h⟩))))
theorem ok_5 {a b c : Int32} : pw_okI 5 a b c ↔ (ir_in a 6 ∧ ir_in b 7) := by
  rw [ok_e]
  constructor
  · intro h
    rcases h with h | h | h | h | h | h | h | h | h | h | h | h
    · exact absurd h (by decide)
    · exact absurd h.1 (by decide)
    · exact absurd h.1 (by decide)
    · exact absurd h.1 (by decide)
    · exact absurd h.1 (by decide)
    · exact h.2
    · exact absurd h.1 (by decide)
    · exact absurd h.1 (by decide)
    · exact absurd h.1 (by decide)
    · exact absurd h.1 (by decide)
    · exact absurd h.1 (by decide)
    · exact absurd h.1 (by decide)
  · intro h
    exact Or.inr (Or.inr (Or.inr (Or.inr (Or.inr (Or.inl ⟨rfl, h⟩)))))
theorem ok_6 {a b c : Int32} : pw_okI 6 a b c ↔ (ir_in a 6 ∧ ir_in b 7 ∧ ir_in c 7) := by
  rw [ok_e]
  constructor
  · intro h
    rcases h with h | h | h | h | h | h | h | h | h | h | h | h
    · exact absurd h (by decide)
    · exact absurd h.1 (by decide)
    · exact absurd h.1 (by decide)
    · exact absurd h.1 (by decide)
    · exact absurd h.1 (by decide)
    · exact absurd h.1 (by decide)
    · exact h.2
    · exact absurd h.1 (by decide)
    · exact absurd h.1 (by decide)
    · exact absurd h.1 (by decide)
    · exact absurd h.1 (by decide)
    · exact absurd h.1 (by decide)
  · intro h
    exact Or.inr (Or.inr (Or.inr (Or.inr (Or.inr (Or.inr (Or.inl ⟨rfl, h⟩))))))
theorem ok_7 {a b c : Int32} : pw_okI 7 a b c ↔ (ir_in a 6 ∧ ir_in b 2 ∧ ir_in c 7) := by
  rw [ok_e]
  constructor
  · intro h
    rcases h with h | h | h | h | h | h | h | h | h | h | h | h
    · exact absurd h (by decide)
    · exact absurd h.1 (by decide)
    · exact absurd h.1 (by decide)
    · exact absurd h.1 (by decide)
    · exact absurd h.1 (by decide)
    · exact absurd h.1 (by decide)
    · exact absurd h.1 (by decide)
    · exact h.2
    · exact absurd h.1 (by decide)
    · exact absurd h.1 (by decide)
    · exact absurd h.1 (by decide)
    · exact absurd h.1 (by decide)
  · intro h
    exact Or.inr (Or.inr (Or.inr (Or.inr (Or.inr (Or.inr (Or.inr (Or.inl ⟨rfl, h⟩)))))))
theorem ok_8 {a b c : Int32} : pw_okI 8 a b c ↔ (ir_in a 2 ∧ ir_in b 7 ∧ ir_in c 7) := by
  rw [ok_e]
  constructor
  · intro h
    rcases h with h | h | h | h | h | h | h | h | h | h | h | h
    · exact absurd h (by decide)
    · exact absurd h.1 (by decide)
    · exact absurd h.1 (by decide)
    · exact absurd h.1 (by decide)
    · exact absurd h.1 (by decide)
    · exact absurd h.1 (by decide)
    · exact absurd h.1 (by decide)
    · exact absurd h.1 (by decide)
    · exact h.2
    · exact absurd h.1 (by decide)
    · exact absurd h.1 (by decide)
    · exact absurd h.1 (by decide)
  · intro h
    exact Or.inr (Or.inr (Or.inr (Or.inr (Or.inr (Or.inr (Or.inr (Or.inr (Or.inl ⟨rfl, h⟩))))))))
theorem ok_9 {a b c : Int32} : pw_okI 9 a b c ↔ (ir_in a 48) := by
  rw [ok_e]
  constructor
  · intro h
    rcases h with h | h | h | h | h | h | h | h | h | h | h | h
    · exact absurd h (by decide)
    · exact absurd h.1 (by decide)
    · exact absurd h.1 (by decide)
    · exact absurd h.1 (by decide)
    · exact absurd h.1 (by decide)
    · exact absurd h.1 (by decide)
    · exact absurd h.1 (by decide)
    · exact absurd h.1 (by decide)
    · exact absurd h.1 (by decide)
    · exact h.2
    · exact absurd h.1 (by decide)
    · exact absurd h.1 (by decide)
  · intro h
    exact Or.inr (Or.inr (Or.inr (Or.inr (Or.inr (Or.inr (Or.inr (Or.inr (Or.inr (Or.inl ⟨rfl, h⟩)))))))))
theorem ok_10 {a b c : Int32} : pw_okI 10 a b c ↔ (ir_in a 7 ∧ ir_in b 7 ∧ ir_in c 48) := by
  rw [ok_e]
  constructor
  · intro h
    rcases h with h | h | h | h | h | h | h | h | h | h | h | h
    · exact absurd h (by decide)
    · exact absurd h.1 (by decide)
    · exact absurd h.1 (by decide)
    · exact absurd h.1 (by decide)
    · exact absurd h.1 (by decide)
    · exact absurd h.1 (by decide)
    · exact absurd h.1 (by decide)
    · exact absurd h.1 (by decide)
    · exact absurd h.1 (by decide)
    · exact absurd h.1 (by decide)
    · exact h.2
    · exact absurd h.1 (by decide)
  · intro h
    exact Or.inr (Or.inr (Or.inr (Or.inr (Or.inr (Or.inr (Or.inr (Or.inr (Or.inr (Or.inr (Or.inl ⟨rfl, h⟩))))))))))
theorem ok_11 {a b c : Int32} : pw_okI 11 a b c ↔ (ir_in a 7 ∧ ir_in b 7) := by
  rw [ok_e]
  constructor
  · intro h
    rcases h with h | h | h | h | h | h | h | h | h | h | h | h
    · exact absurd h (by decide)
    · exact absurd h.1 (by decide)
    · exact absurd h.1 (by decide)
    · exact absurd h.1 (by decide)
    · exact absurd h.1 (by decide)
    · exact absurd h.1 (by decide)
    · exact absurd h.1 (by decide)
    · exact absurd h.1 (by decide)
    · exact absurd h.1 (by decide)
    · exact absurd h.1 (by decide)
    · exact absurd h.1 (by decide)
    · exact h.2
  · intro h
    exact Or.inr (Or.inr (Or.inr (Or.inr (Or.inr (Or.inr (Or.inr (Or.inr (Or.inr (Or.inr (Or.inr (⟨rfl, h⟩)))))))))))
theorem ok_12 {a b c : Int32} : ¬ pw_okI 12 a b c := by
  rw [ok_e]
  intro h
  rcases h with h | h | h | h | h | h | h | h | h | h | h | h
  · exact absurd h (by decide)
  · exact absurd h.1 (by decide)
  · exact absurd h.1 (by decide)
  · exact absurd h.1 (by decide)
  · exact absurd h.1 (by decide)
  · exact absurd h.1 (by decide)
  · exact absurd h.1 (by decide)
  · exact absurd h.1 (by decide)
  · exact absurd h.1 (by decide)
  · exact absurd h.1 (by decide)
  · exact absurd h.1 (by decide)
  · exact absurd h.1 (by decide)
theorem ok_13 {a b c : Int32} : ¬ pw_okI 13 a b c := by
  rw [ok_e]
  intro h
  rcases h with h | h | h | h | h | h | h | h | h | h | h | h
  · exact absurd h (by decide)
  · exact absurd h.1 (by decide)
  · exact absurd h.1 (by decide)
  · exact absurd h.1 (by decide)
  · exact absurd h.1 (by decide)
  · exact absurd h.1 (by decide)
  · exact absurd h.1 (by decide)
  · exact absurd h.1 (by decide)
  · exact absurd h.1 (by decide)
  · exact absurd h.1 (by decide)
  · exact absurd h.1 (by decide)
  · exact absurd h.1 (by decide)
theorem ok_13w {a b c : Int32} : wf_ok 13 a b c := Or.inr (Or.inr rfl)
theorem ok_12w {a b c : Int32} : wf_ok 12 a b c ↔ wf_F a b c := ⟨fun h => h.elim (fun z => absurd z ok_12) (fun z => z.elim (fun y => y.2) (fun y => absurd y (by decide))), fun h => Or.inr (Or.inl ⟨rfl, h⟩)⟩
theorem ok_0w {a b c : Int32} : wf_ok 0 a b c ↔ (True) := ⟨fun h => h.elim (fun z => ok_0.mp z) (fun z => z.elim (fun y => absurd y.1 (by decide)) (fun y => absurd y (by decide))), fun h => Or.inl (ok_0.mpr h)⟩
theorem ok_1w {a b c : Int32} : wf_ok 1 a b c ↔ (ir_in a 6) := ⟨fun h => h.elim (fun z => ok_1.mp z) (fun z => z.elim (fun y => absurd y.1 (by decide)) (fun y => absurd y (by decide))), fun h => Or.inl (ok_1.mpr h)⟩
theorem ok_2w {a b c : Int32} : wf_ok 2 a b c ↔ (ir_in a 6 ∧ ir_in b 7) := ⟨fun h => h.elim (fun z => ok_2.mp z) (fun z => z.elim (fun y => absurd y.1 (by decide)) (fun y => absurd y (by decide))), fun h => Or.inl (ok_2.mpr h)⟩
theorem ok_3w {a b c : Int32} : wf_ok 3 a b c ↔ (ir_in a 6 ∧ ir_in b 7 ∧ ir_in c 7) := ⟨fun h => h.elim (fun z => ok_3.mp z) (fun z => z.elim (fun y => absurd y.1 (by decide)) (fun y => absurd y (by decide))), fun h => Or.inl (ok_3.mpr h)⟩
theorem ok_4w {a b c : Int32} : wf_ok 4 a b c ↔ (ir_in a 6 ∧ ir_in b 7 ∧ ir_in c 7) := ⟨fun h => h.elim (fun z => ok_4.mp z) (fun z => z.elim (fun y => absurd y.1 (by decide)) (fun y => absurd y (by decide))), fun h => Or.inl (ok_4.mpr h)⟩
theorem ok_5w {a b c : Int32} : wf_ok 5 a b c ↔ (ir_in a 6 ∧ ir_in b 7) := ⟨fun h => h.elim (fun z => ok_5.mp z) (fun z => z.elim (fun y => absurd y.1 (by decide)) (fun y => absurd y (by decide))), fun h => Or.inl (ok_5.mpr h)⟩
theorem ok_6w {a b c : Int32} : wf_ok 6 a b c ↔ (ir_in a 6 ∧ ir_in b 7 ∧ ir_in c 7) := ⟨fun h => h.elim (fun z => ok_6.mp z) (fun z => z.elim (fun y => absurd y.1 (by decide)) (fun y => absurd y (by decide))), fun h => Or.inl (ok_6.mpr h)⟩
theorem ok_7w {a b c : Int32} : wf_ok 7 a b c ↔ (ir_in a 6 ∧ ir_in b 2 ∧ ir_in c 7) := ⟨fun h => h.elim (fun z => ok_7.mp z) (fun z => z.elim (fun y => absurd y.1 (by decide)) (fun y => absurd y (by decide))), fun h => Or.inl (ok_7.mpr h)⟩
theorem ok_8w {a b c : Int32} : wf_ok 8 a b c ↔ (ir_in a 2 ∧ ir_in b 7 ∧ ir_in c 7) := ⟨fun h => h.elim (fun z => ok_8.mp z) (fun z => z.elim (fun y => absurd y.1 (by decide)) (fun y => absurd y (by decide))), fun h => Or.inl (ok_8.mpr h)⟩
theorem ok_9w {a b c : Int32} : wf_ok 9 a b c ↔ (ir_in a 48) := ⟨fun h => h.elim (fun z => ok_9.mp z) (fun z => z.elim (fun y => absurd y.1 (by decide)) (fun y => absurd y (by decide))), fun h => Or.inl (ok_9.mpr h)⟩
theorem ok_10w {a b c : Int32} : wf_ok 10 a b c ↔ (ir_in a 7 ∧ ir_in b 7 ∧ ir_in c 48) := ⟨fun h => h.elim (fun z => ok_10.mp z) (fun z => z.elim (fun y => absurd y.1 (by decide)) (fun y => absurd y (by decide))), fun h => Or.inl (ok_10.mpr h)⟩
theorem ok_11w {a b c : Int32} : wf_ok 11 a b c ↔ (ir_in a 7 ∧ ir_in b 7) := ⟨fun h => h.elim (fun z => ok_11.mp z) (fun z => z.elim (fun y => absurd y.1 (by decide)) (fun y => absurd y (by decide))), fun h => Or.inl (ok_11.mpr h)⟩
/-- an op out of 0..13 -/
theorem ok_out {o a b c : Int32} (h : o < 0 ∨ 13 < o) : ¬ wf_ok o a b c := by
  have hn : ∀ k : Nat, k < 14 → ¬ o = nI k := by
    rintro k hk rfl
    rcases h with h | h
    · exact nI_pos (by omega) h
    · exact nI_nlt (b := k) (a := 13) (by omega) (by decide) h
  intro z
  rcases z with z | z | z
  · rw [ok_e] at z
    rcases z with z | z | z | z | z | z | z | z | z | z | z | z
    · exact hn 0 (by omega) z
    · exact hn 1 (by omega) z.1
    · exact hn 2 (by omega) z.1
    · exact hn 3 (by omega) z.1
    · exact hn 4 (by omega) z.1
    · exact hn 5 (by omega) z.1
    · exact hn 6 (by omega) z.1
    · exact hn 7 (by omega) z.1
    · exact hn 8 (by omega) z.1
    · exact hn 9 (by omega) z.1
    · exact hn 10 (by omega) z.1
    · exact hn 11 (by omega) z.1
  · exact hn 12 (by omega) z.1
  · exact hn 13 (by omega) z
theorem o_cases (o : Int32) : o < 0 ∨ 13 < o ∨ o = 0 ∨ o = 1 ∨ o = 2 ∨ o = 3 ∨ o = 4 ∨ o = 5 ∨ o = 6 ∨ o = 7 ∨ o = 8 ∨ o = 9 ∨ o = 10 ∨ o = 11 ∨ o = 12 ∨ o = 13 := by
  by_cases h0 : o < 0
  · exact Or.inl h0
  by_cases h1 : 13 < o
  · exact Or.inr (Or.inl h1)
  refine Or.inr (Or.inr ?_)
  obtain ⟨j, hj, rfl⟩ := ir_y2 (n := 13) (by decide) h0 h1
  have : j = 0 ∨ j = 1 ∨ j = 2 ∨ j = 3 ∨ j = 4 ∨ j = 5 ∨ j = 6 ∨ j = 7 ∨ j = 8 ∨ j = 9 ∨ j = 10 ∨ j = 11 ∨ j = 12 ∨ j = 13 := by omega
  rcases this with rfl | rfl | rfl | rfl | rfl | rfl | rfl | rfl | rfl | rfl | rfl | rfl | rfl | rfl
  · exact Or.inl rfl
  · exact Or.inr (Or.inl rfl)
  · exact Or.inr (Or.inr (Or.inl rfl))
  · exact Or.inr (Or.inr (Or.inr (Or.inl rfl)))
  · exact Or.inr (Or.inr (Or.inr (Or.inr (Or.inl rfl))))
  · exact Or.inr (Or.inr (Or.inr (Or.inr (Or.inr (Or.inl rfl)))))
  · exact Or.inr (Or.inr (Or.inr (Or.inr (Or.inr (Or.inr (Or.inl rfl))))))
  · exact Or.inr (Or.inr (Or.inr (Or.inr (Or.inr (Or.inr (Or.inr (Or.inl rfl)))))))
  · exact Or.inr (Or.inr (Or.inr (Or.inr (Or.inr (Or.inr (Or.inr (Or.inr (Or.inl rfl))))))))
  · exact Or.inr (Or.inr (Or.inr (Or.inr (Or.inr (Or.inr (Or.inr (Or.inr (Or.inr (Or.inl rfl)))))))))
  · exact Or.inr (Or.inr (Or.inr (Or.inr (Or.inr (Or.inr (Or.inr (Or.inr (Or.inr (Or.inr (Or.inl rfl))))))))))
  · exact Or.inr (Or.inr (Or.inr (Or.inr (Or.inr (Or.inr (Or.inr (Or.inr (Or.inr (Or.inr (Or.inr (Or.inl rfl)))))))))))
  · exact Or.inr (Or.inr (Or.inr (Or.inr (Or.inr (Or.inr (Or.inr (Or.inr (Or.inr (Or.inr (Or.inr (Or.inr (Or.inl rfl))))))))))))
  · exact Or.inr (Or.inr (Or.inr (Or.inr (Or.inr (Or.inr (Or.inr (Or.inr (Or.inr (Or.inr (Or.inr (Or.inr (Or.inr (rfl)))))))))))))
section
variable {fLA fLB fSC fPL fLD fST fCC fLV fLC : Int32} {aRG aCE aSO aPR aMU aLS aLH aLB aCP aHC aKN aTR : Nat → Int32} {aHT aGT aFO aWK aLI aSU : Nat → Int64}
theorem xf_wf {post : Int32 → Prop} {o a b c : Int32} (k1 : wf_ok o a b c → post 1) (k0 : ¬ wf_ok o a b c → post 0) : wpX_wellFormed post (fLA, fLB, fSC, fPL, fLD, fST, fCC, fLV, fLC, aRG, aCE, aSO, aPR, aMU, aLS, aLH, aLB, aCP, aHC, aHT, aGT, aFO, aKN, aWK, aLI, aSU, aTR) o a b c := by
  unfold wpX_wellFormed wpX_shape
  rcases o_cases o with h | h | rfl | rfl | rfl | rfl | rfl | rfl | rfl | rfl | rfl | rfl | rfl | rfl | rfl | rfl
  · exact br_t h (br_f (by decide) (k0 (ok_out (Or.inl h))))
  · exact br_f (fun z => absurd (Int32.lt_trans h z) (by decide)) (br_t h (br_f (by decide) (k0 (ok_out (Or.inr h)))))
  · exact br_f (by decide) (br_f (by decide) (br_t (by decide) (xf_wf3 0 0 0 (by decide) (by decide) (by decide) (by decide) (by decide) (by decide) (by decide) (fun z => k1 (ok_0w.mpr trivial)) (fun z => k0 (fun q => by have y := q; exact z ⟨trivial, trivial, trivial⟩)))))
  · exact br_f (by decide) (br_f (by decide) (br_f (by decide) (br_t (by decide) (xf_wf3 1 0 5 (by decide) (by decide) (by decide) (by decide) (by decide) (by decide) (by decide) (fun z => k1 (ok_1w.mpr z.1)) (fun z => k0 (fun q => by have y := ok_1w.mp q; exact z ⟨y, trivial, trivial⟩))))))
  · exact br_f (by decide) (br_f (by decide) (br_f (by decide) (br_f (by decide) (br_t (by decide) (xf_wf3 1 2 0 (by decide) (by decide) (by decide) (by decide) (by decide) (by decide) (by decide) (fun z => k1 (ok_2w.mpr ⟨z.1, z.2.1⟩)) (fun z => k0 (fun q => by have y := ok_2w.mp q; exact z ⟨y.1, y.2, trivial⟩)))))))
  · exact br_f (by decide) (br_f (by decide) (br_f (by decide) (br_f (by decide) (br_f (by decide) (br_t (by decide) (xf_wf3 1 2 2 (by decide) (by decide) (by decide) (by decide) (by decide) (by decide) (by decide) (fun z => k1 (ok_3w.mpr ⟨z.1, z.2.1, z.2.2⟩)) (fun z => k0 (fun q => by have y := ok_3w.mp q; exact z ⟨y.1, y.2.1, y.2.2⟩))))))))
  · exact br_f (by decide) (br_f (by decide) (br_f (by decide) (br_f (by decide) (br_f (by decide) (br_f (by decide) (br_t (by decide) (xf_wf3 1 2 2 (by decide) (by decide) (by decide) (by decide) (by decide) (by decide) (by decide) (fun z => k1 (ok_4w.mpr ⟨z.1, z.2.1, z.2.2⟩)) (fun z => k0 (fun q => by have y := ok_4w.mp q; exact z ⟨y.1, y.2.1, y.2.2⟩)))))))))
  · exact br_f (by decide) (br_f (by decide) (br_f (by decide) (br_f (by decide) (br_f (by decide) (br_f (by decide) (br_f (by decide) (br_t (by decide) (xf_wf3 1 2 5 (by decide) (by decide) (by decide) (by decide) (by decide) (by decide) (by decide) (fun z => k1 (ok_5w.mpr ⟨z.1, z.2.1⟩)) (fun z => k0 (fun q => by have y := ok_5w.mp q; exact z ⟨y.1, y.2, trivial⟩))))))))))
  · exact br_f (by decide) (br_f (by decide) (br_f (by decide) (br_f (by decide) (br_f (by decide) (br_f (by decide) (br_f (by decide) (br_f (by decide) (br_t (by decide) (xf_wf3 1 2 2 (by decide) (by decide) (by decide) (by decide) (by decide) (by decide) (by decide) (fun z => k1 (ok_6w.mpr ⟨z.1, z.2.1, z.2.2⟩)) (fun z => k0 (fun q => by have y := ok_6w.mp q; exact z ⟨y.1, y.2.1, y.2.2⟩)))))))))))
  · exact br_f (by decide) (br_f (by decide) (br_f (by decide) (br_f (by decide) (br_f (by decide) (br_f (by decide) (br_f (by decide) (br_f (by decide) (br_f (by decide) (br_t (by decide) (xf_wf3 1 3 2 (by decide) (by decide) (by decide) (by decide) (by decide) (by decide) (by decide) (fun z => k1 (ok_7w.mpr ⟨z.1, z.2.1, z.2.2⟩)) (fun z => k0 (fun q => by have y := ok_7w.mp q; exact z ⟨y.1, y.2.1, y.2.2⟩))))))))))))
  · exact br_f (by decide) (br_f (by decide) (br_f (by decide) (br_f (by decide) (br_f (by decide) (br_f (by decide) (br_f (by decide) (br_f (by decide) (br_f (by decide) (br_f (by decide) (br_t (by decide) (xf_wf3 3 2 2 (by decide) (by decide) (by decide) (by decide) (by decide) (by decide) (by decide) (fun z => k1 (ok_8w.mpr ⟨z.1, z.2.1, z.2.2⟩)) (fun z => k0 (fun q => by have y := ok_8w.mp q; exact z ⟨y.1, y.2.1, y.2.2⟩)))))))))))))
  · exact br_f (by decide) (br_f (by decide) (br_f (by decide) (br_f (by decide) (br_f (by decide) (br_f (by decide) (br_f (by decide) (br_f (by decide) (br_f (by decide) (br_f (by decide) (br_f (by decide) (br_t (by decide) (xf_wf3 4 0 0 (by decide) (by decide) (by decide) (by decide) (by decide) (by decide) (by decide) (fun z => k1 (ok_9w.mpr z.1)) (fun z => k0 (fun q => by have y := ok_9w.mp q; exact z ⟨y, trivial, trivial⟩))))))))))))))
  · exact br_f (by decide) (br_f (by decide) (br_f (by decide) (br_f (by decide) (br_f (by decide) (br_f (by decide) (br_f (by decide) (br_f (by decide) (br_f (by decide) (br_f (by decide) (br_f (by decide) (br_f (by decide) (br_t (by decide) (xf_wf3 2 2 4 (by decide) (by decide) (by decide) (by decide) (by decide) (by decide) (by decide) (fun z => k1 (ok_10w.mpr ⟨z.1, z.2.1, z.2.2⟩)) (fun z => k0 (fun q => by have y := ok_10w.mp q; exact z ⟨y.1, y.2.1, y.2.2⟩)))))))))))))))
  · exact br_f (by decide) (br_f (by decide) (br_f (by decide) (br_f (by decide) (br_f (by decide) (br_f (by decide) (br_f (by decide) (br_f (by decide) (br_f (by decide) (br_f (by decide) (br_f (by decide) (br_f (by decide) (br_f (by decide) (br_t (by decide) (xf_wf3 2 2 5 (by decide) (by decide) (by decide) (by decide) (by decide) (by decide) (by decide) (fun z => k1 (ok_11w.mpr ⟨z.1, z.2.1⟩)) (fun z => k0 (fun q => by have y := ok_11w.mp q; exact z ⟨y.1, y.2, trivial⟩))))))))))))))))
  · exact br_f (by decide) (br_f (by decide) (br_f (by decide) (br_f (by decide) (br_f (by decide) (br_f (by decide) (br_f (by decide) (br_f (by decide) (br_f (by decide) (br_f (by decide) (br_f (by decide) (br_f (by decide) (br_f (by decide) (br_f (by decide) (br_t (by decide) (xf_wf3 1 6 2 (by decide) (by decide) (by decide) (by decide) (by decide) (by decide) (by decide) (fun z => k1 (ok_12w.mpr ⟨z.1, z.2.1, z.2.2⟩)) (fun z => k0 (fun q => by have y := ok_12w.mp q; exact z ⟨y.1, y.2.1, y.2.2⟩)))))))))))))))))
  · exact br_f (by decide) (br_f (by decide) (br_f (by decide) (br_f (by decide) (br_f (by decide) (br_f (by decide) (br_f (by decide) (br_f (by decide) (br_f (by decide) (br_f (by decide) (br_f (by decide) (br_f (by decide) (br_f (by decide) (br_f (by decide) (br_f (by decide) (br_t (by decide) (xf_wf3 0 0 0 (by decide) (by decide) (by decide) (by decide) (by decide) (by decide) (by decide) (fun z => k1 (ok_13w)) (fun z => k0 (fun q => by have y := q; exact z ⟨trivial, trivial, trivial⟩))))))))))))))))))
theorem xf_kept {post : Int32 → Prop} {o v : Int32} {f : Nat} (ho : ¬ o < 0) (ho2 : ¬ 13 < o) (hf : f = 1 ∨ f = 2 ∨ f = 3) (h : post (wf_kp o f v)) : wpX_kept post (fLA, fLB, fSC, fPL, fLD, fST, fCC, fLV, fLC, aRG, aCE, aSO, aPR, aMU, aLS, aLH, aLB, aCP, aHC, aHT, aGT, aFO, aKN, aWK, aLI, aSU, aTR) o (nI f) v := by
  unfold wpX_kept wpX_shape
  rcases o_cases o with z | z | rfl | rfl | rfl | rfl | rfl | rfl | rfl | rfl | rfl | rfl | rfl | rfl | rfl | rfl
  · exact absurd z ho
  · exact absurd z ho2
  · rcases hf with rfl | rfl | rfl
    · exact br_f (by decide) (br_f (by decide) (br_t (by decide) (br_t rfl ⟨by decide, nm_r (e' := 0) (by decide) (br_t rfl h)⟩)))
    · exact br_f (by decide) (br_f (by decide) (br_t (by decide) (br_f (by decide) (br_t rfl ⟨by decide, by decide, nm_r (e' := 0) (by decide) (br_t rfl h)⟩))))
    · exact br_f (by decide) (br_f (by decide) (br_t (by decide) (br_f (by decide) (br_f (by decide) ⟨by decide, nm_r (e' := 0) (by decide) (br_t rfl h)⟩))))
  · rcases hf with rfl | rfl | rfl
    · exact br_f (by decide) (br_f (by decide) (br_f (by decide) (br_t (by decide) (br_t rfl ⟨by decide, nm_r (e' := 1) (by decide) (br_f (by decide) h)⟩))))
    · exact br_f (by decide) (br_f (by decide) (br_f (by decide) (br_t (by decide) (br_f (by decide) (br_t rfl ⟨by decide, by decide, nm_r (e' := 0) (by decide) (br_t rfl h)⟩)))))
    · exact br_f (by decide) (br_f (by decide) (br_f (by decide) (br_t (by decide) (br_f (by decide) (br_f (by decide) ⟨by decide, nm_r (e' := 5) (by decide) (br_f (by decide) h)⟩)))))
  · rcases hf with rfl | rfl | rfl
    · exact br_f (by decide) (br_f (by decide) (br_f (by decide) (br_f (by decide) (br_t (by decide) (br_t rfl ⟨by decide, nm_r (e' := 1) (by decide) (br_f (by decide) h)⟩)))))
    · exact br_f (by decide) (br_f (by decide) (br_f (by decide) (br_f (by decide) (br_t (by decide) (br_f (by decide) (br_t rfl ⟨by decide, by decide, nm_r (e' := 2) (by decide) (br_f (by decide) h)⟩))))))
    · exact br_f (by decide) (br_f (by decide) (br_f (by decide) (br_f (by decide) (br_t (by decide) (br_f (by decide) (br_f (by decide) ⟨by decide, nm_r (e' := 0) (by decide) (br_t rfl h)⟩))))))
  · rcases hf with rfl | rfl | rfl
    · exact br_f (by decide) (br_f (by decide) (br_f (by decide) (br_f (by decide) (br_f (by decide) (br_t (by decide) (br_t rfl ⟨by decide, nm_r (e' := 1) (by decide) (br_f (by decide) h)⟩))))))
    · exact br_f (by decide) (br_f (by decide) (br_f (by decide) (br_f (by decide) (br_f (by decide) (br_t (by decide) (br_f (by decide) (br_t rfl ⟨by decide, by decide, nm_r (e' := 2) (by decide) (br_f (by decide) h)⟩)))))))
    · exact br_f (by decide) (br_f (by decide) (br_f (by decide) (br_f (by decide) (br_f (by decide) (br_t (by decide) (br_f (by decide) (br_f (by decide) ⟨by decide, nm_r (e' := 2) (by decide) (br_f (by decide) h)⟩)))))))
  · rcases hf with rfl | rfl | rfl
    · exact br_f (by decide) (br_f (by decide) (br_f (by decide) (br_f (by decide) (br_f (by decide) (br_f (by decide) (br_t (by decide) (br_t rfl ⟨by decide, nm_r (e' := 1) (by decide) (br_f (by decide) h)⟩)))))))
    · exact br_f (by decide) (br_f (by decide) (br_f (by decide) (br_f (by decide) (br_f (by decide) (br_f (by decide) (br_t (by decide) (br_f (by decide) (br_t rfl ⟨by decide, by decide, nm_r (e' := 2) (by decide) (br_f (by decide) h)⟩))))))))
    · exact br_f (by decide) (br_f (by decide) (br_f (by decide) (br_f (by decide) (br_f (by decide) (br_f (by decide) (br_t (by decide) (br_f (by decide) (br_f (by decide) ⟨by decide, nm_r (e' := 2) (by decide) (br_f (by decide) h)⟩))))))))
  · rcases hf with rfl | rfl | rfl
    · exact br_f (by decide) (br_f (by decide) (br_f (by decide) (br_f (by decide) (br_f (by decide) (br_f (by decide) (br_f (by decide) (br_t (by decide) (br_t rfl ⟨by decide, nm_r (e' := 1) (by decide) (br_f (by decide) h)⟩))))))))
    · exact br_f (by decide) (br_f (by decide) (br_f (by decide) (br_f (by decide) (br_f (by decide) (br_f (by decide) (br_f (by decide) (br_t (by decide) (br_f (by decide) (br_t rfl ⟨by decide, by decide, nm_r (e' := 2) (by decide) (br_f (by decide) h)⟩)))))))))
    · exact br_f (by decide) (br_f (by decide) (br_f (by decide) (br_f (by decide) (br_f (by decide) (br_f (by decide) (br_f (by decide) (br_t (by decide) (br_f (by decide) (br_f (by decide) ⟨by decide, nm_r (e' := 5) (by decide) (br_f (by decide) h)⟩)))))))))
  · rcases hf with rfl | rfl | rfl
    · exact br_f (by decide) (br_f (by decide) (br_f (by decide) (br_f (by decide) (br_f (by decide) (br_f (by decide) (br_f (by decide) (br_f (by decide) (br_t (by decide) (br_t rfl ⟨by decide, nm_r (e' := 1) (by decide) (br_f (by decide) h)⟩)))))))))
    · exact br_f (by decide) (br_f (by decide) (br_f (by decide) (br_f (by decide) (br_f (by decide) (br_f (by decide) (br_f (by decide) (br_f (by decide) (br_t (by decide) (br_f (by decide) (br_t rfl ⟨by decide, by decide, nm_r (e' := 2) (by decide) (br_f (by decide) h)⟩))))))))))
    · exact br_f (by decide) (br_f (by decide) (br_f (by decide) (br_f (by decide) (br_f (by decide) (br_f (by decide) (br_f (by decide) (br_f (by decide) (br_t (by decide) (br_f (by decide) (br_f (by decide) ⟨by decide, nm_r (e' := 2) (by decide) (br_f (by decide) h)⟩))))))))))
  · rcases hf with rfl | rfl | rfl
    · exact br_f (by decide) (br_f (by decide) (br_f (by decide) (br_f (by decide) (br_f (by decide) (br_f (by decide) (br_f (by decide) (br_f (by decide) (br_f (by decide) (br_t (by decide) (br_t rfl ⟨by decide, nm_r (e' := 1) (by decide) (br_f (by decide) h)⟩))))))))))
    · exact br_f (by decide) (br_f (by decide) (br_f (by decide) (br_f (by decide) (br_f (by decide) (br_f (by decide) (br_f (by decide) (br_f (by decide) (br_f (by decide) (br_t (by decide) (br_f (by decide) (br_t rfl ⟨by decide, by decide, nm_r (e' := 3) (by decide) (br_f (by decide) h)⟩)))))))))))
    · exact br_f (by decide) (br_f (by decide) (br_f (by decide) (br_f (by decide) (br_f (by decide) (br_f (by decide) (br_f (by decide) (br_f (by decide) (br_f (by decide) (br_t (by decide) (br_f (by decide) (br_f (by decide) ⟨by decide, nm_r (e' := 2) (by decide) (br_f (by decide) h)⟩)))))))))))
  · rcases hf with rfl | rfl | rfl
    · exact br_f (by decide) (br_f (by decide) (br_f (by decide) (br_f (by decide) (br_f (by decide) (br_f (by decide) (br_f (by decide) (br_f (by decide) (br_f (by decide) (br_f (by decide) (br_t (by decide) (br_t rfl ⟨by decide, nm_r (e' := 3) (by decide) (br_f (by decide) h)⟩)))))))))))
    · exact br_f (by decide) (br_f (by decide) (br_f (by decide) (br_f (by decide) (br_f (by decide) (br_f (by decide) (br_f (by decide) (br_f (by decide) (br_f (by decide) (br_f (by decide) (br_t (by decide) (br_f (by decide) (br_t rfl ⟨by decide, by decide, nm_r (e' := 2) (by decide) (br_f (by decide) h)⟩))))))))))))
    · exact br_f (by decide) (br_f (by decide) (br_f (by decide) (br_f (by decide) (br_f (by decide) (br_f (by decide) (br_f (by decide) (br_f (by decide) (br_f (by decide) (br_f (by decide) (br_t (by decide) (br_f (by decide) (br_f (by decide) ⟨by decide, nm_r (e' := 2) (by decide) (br_f (by decide) h)⟩))))))))))))
  · rcases hf with rfl | rfl | rfl
    · exact br_f (by decide) (br_f (by decide) (br_f (by decide) (br_f (by decide) (br_f (by decide) (br_f (by decide) (br_f (by decide) (br_f (by decide) (br_f (by decide) (br_f (by decide) (br_f (by decide) (br_t (by decide) (br_t rfl ⟨by decide, nm_r (e' := 4) (by decide) (br_f (by decide) h)⟩))))))))))))
    · exact br_f (by decide) (br_f (by decide) (br_f (by decide) (br_f (by decide) (br_f (by decide) (br_f (by decide) (br_f (by decide) (br_f (by decide) (br_f (by decide) (br_f (by decide) (br_f (by decide) (br_t (by decide) (br_f (by decide) (br_t rfl ⟨by decide, by decide, nm_r (e' := 0) (by decide) (br_t rfl h)⟩)))))))))))))
    · exact br_f (by decide) (br_f (by decide) (br_f (by decide) (br_f (by decide) (br_f (by decide) (br_f (by decide) (br_f (by decide) (br_f (by decide) (br_f (by decide) (br_f (by decide) (br_f (by decide) (br_t (by decide) (br_f (by decide) (br_f (by decide) ⟨by decide, nm_r (e' := 0) (by decide) (br_t rfl h)⟩)))))))))))))
  · rcases hf with rfl | rfl | rfl
    · exact br_f (by decide) (br_f (by decide) (br_f (by decide) (br_f (by decide) (br_f (by decide) (br_f (by decide) (br_f (by decide) (br_f (by decide) (br_f (by decide) (br_f (by decide) (br_f (by decide) (br_f (by decide) (br_t (by decide) (br_t rfl ⟨by decide, nm_r (e' := 2) (by decide) (br_f (by decide) h)⟩)))))))))))))
    · exact br_f (by decide) (br_f (by decide) (br_f (by decide) (br_f (by decide) (br_f (by decide) (br_f (by decide) (br_f (by decide) (br_f (by decide) (br_f (by decide) (br_f (by decide) (br_f (by decide) (br_f (by decide) (br_t (by decide) (br_f (by decide) (br_t rfl ⟨by decide, by decide, nm_r (e' := 2) (by decide) (br_f (by decide) h)⟩))))))))))))))
    · exact br_f (by decide) (br_f (by decide) (br_f (by decide) (br_f (by decide) (br_f (by decide) (br_f (by decide) (br_f (by decide) (br_f (by decide) (br_f (by decide) (br_f (by decide) (br_f (by decide) (br_f (by decide) (br_t (by decide) (br_f (by decide) (br_f (by decide) ⟨by decide, nm_r (e' := 4) (by decide) (br_f (by decide) h)⟩))))))))))))))
  · rcases hf with rfl | rfl | rfl
    · exact br_f (by decide) (br_f (by decide) (br_f (by decide) (br_f (by decide) (br_f (by decide) (br_f (by decide) (br_f (by decide) (br_f (by decide) (br_f (by decide) (br_f (by decide) (br_f (by decide) (br_f (by decide) (br_f (by decide) (br_t (by decide) (br_t rfl ⟨by decide, nm_r (e' := 2) (by decide) (br_f (by decide) h)⟩))))))))))))))
    · exact br_f (by decide) (br_f (by decide) (br_f (by decide) (br_f (by decide) (br_f (by decide) (br_f (by decide) (br_f (by decide) (br_f (by decide) (br_f (by decide) (br_f (by decide) (br_f (by decide) (br_f (by decide) (br_f (by decide) (br_t (by decide) (br_f (by decide) (br_t rfl ⟨by decide, by decide, nm_r (e' := 2) (by decide) (br_f (by decide) h)⟩)))))))))))))))
    · exact br_f (by decide) (br_f (by decide) (br_f (by decide) (br_f (by decide) (br_f (by decide) (br_f (by decide) (br_f (by decide) (br_f (by decide) (br_f (by decide) (br_f (by decide) (br_f (by decide) (br_f (by decide) (br_f (by decide) (br_t (by decide) (br_f (by decide) (br_f (by decide) ⟨by decide, nm_r (e' := 5) (by decide) (br_f (by decide) h)⟩)))))))))))))))
  · rcases hf with rfl | rfl | rfl
    · exact br_f (by decide) (br_f (by decide) (br_f (by decide) (br_f (by decide) (br_f (by decide) (br_f (by decide) (br_f (by decide) (br_f (by decide) (br_f (by decide) (br_f (by decide) (br_f (by decide) (br_f (by decide) (br_f (by decide) (br_f (by decide) (br_t (by decide) (br_t rfl ⟨by decide, nm_r (e' := 1) (by decide) (br_f (by decide) h)⟩)))))))))))))))
    · exact br_f (by decide) (br_f (by decide) (br_f (by decide) (br_f (by decide) (br_f (by decide) (br_f (by decide) (br_f (by decide) (br_f (by decide) (br_f (by decide) (br_f (by decide) (br_f (by decide) (br_f (by decide) (br_f (by decide) (br_f (by decide) (br_t (by decide) (br_f (by decide) (br_t rfl ⟨by decide, by decide, nm_r (e' := 6) (by decide) (br_f (by decide) h)⟩))))))))))))))))
    · exact br_f (by decide) (br_f (by decide) (br_f (by decide) (br_f (by decide) (br_f (by decide) (br_f (by decide) (br_f (by decide) (br_f (by decide) (br_f (by decide) (br_f (by decide) (br_f (by decide) (br_f (by decide) (br_f (by decide) (br_f (by decide) (br_t (by decide) (br_f (by decide) (br_f (by decide) ⟨by decide, nm_r (e' := 2) (by decide) (br_f (by decide) h)⟩))))))))))))))))
  · rcases hf with rfl | rfl | rfl
    · exact br_f (by decide) (br_f (by decide) (br_f (by decide) (br_f (by decide) (br_f (by decide) (br_f (by decide) (br_f (by decide) (br_f (by decide) (br_f (by decide) (br_f (by decide) (br_f (by decide) (br_f (by decide) (br_f (by decide) (br_f (by decide) (br_f (by decide) (br_t (by decide) (br_t rfl ⟨by decide, nm_r (e' := 0) (by decide) (br_t rfl h)⟩))))))))))))))))
    · exact br_f (by decide) (br_f (by decide) (br_f (by decide) (br_f (by decide) (br_f (by decide) (br_f (by decide) (br_f (by decide) (br_f (by decide) (br_f (by decide) (br_f (by decide) (br_f (by decide) (br_f (by decide) (br_f (by decide) (br_f (by decide) (br_f (by decide) (br_t (by decide) (br_f (by decide) (br_t rfl ⟨by decide, by decide, nm_r (e' := 0) (by decide) (br_t rfl h)⟩)))))))))))))))))
    · exact br_f (by decide) (br_f (by decide) (br_f (by decide) (br_f (by decide) (br_f (by decide) (br_f (by decide) (br_f (by decide) (br_f (by decide) (br_f (by decide) (br_f (by decide) (br_f (by decide) (br_f (by decide) (br_f (by decide) (br_f (by decide) (br_f (by decide) (br_t (by decide) (br_f (by decide) (br_f (by decide) ⟨by decide, nm_r (e' := 0) (by decide) (br_t rfl h)⟩)))))))))))))))))
end
section
variable {gLA gLB gN gLEN gHN gRA gWA gCP gCN : Int32} {bSR bPR bMU bRG bCE bKN bRO : Nat → Int32} {bFO bHY bD bCH bCG : Nat → Int64}
theorem yf_stored {post : Int32 → Prop} {o v : Int32} {f : Nat} (ho : ¬ o < 0) (ho2 : ¬ 13 < o) (hf : f = 1 ∨ f = 2 ∨ f = 3) (h : post (wf_kp o f v)) : wpY_stored post (gLA, gLB, gN, gLEN, gHN, gRA, gWA, gCP, gCN, bSR, bPR, bMU, bRG, bCE, bFO, bKN, bHY, bD, bCH, bCG, bRO) o (nI f) v := by
  rcases o_cases o with z | z | rfl | rfl | rfl | rfl | rfl | rfl | rfl | rfl | rfl | rfl | rfl | rfl | rfl | rfl
  · exact absurd z ho
  · exact absurd z ho2
  · rcases hf with rfl | rfl | rfl
    · exact br_t rfl h
    · exact br_t rfl h
    · exact br_t rfl h
  · rcases hf with rfl | rfl | rfl
    · exact br_f (by decide) (br_f (by decide) (br_t rfl (br_f (by decide) (br_f (by decide) (br_f (by decide) h)))))
    · exact br_f (by decide) (br_f (by decide) (br_t rfl (br_t rfl h)))
    · exact br_f (by decide) (br_f (by decide) (br_t rfl (br_f (by decide) (br_f (by decide) (br_f (by decide) h)))))
  · rcases hf with rfl | rfl | rfl
    · exact br_f (by decide) (br_f (by decide) (br_f (by decide) (br_t rfl (br_f (by decide) (br_f (by decide) h)))))
    · exact br_f (by decide) (br_f (by decide) (br_f (by decide) (br_t rfl (br_f (by decide) (br_f (by decide) h)))))
    · exact br_f (by decide) (br_f (by decide) (br_f (by decide) (br_t rfl (br_t rfl h))))
  · rcases hf with rfl | rfl | rfl
    · exact br_f (by decide) (br_f (by decide) (br_f (by decide) (br_f (by decide) (br_f (by decide) h))))
    · exact br_f (by decide) (br_f (by decide) (br_f (by decide) (br_f (by decide) (br_f (by decide) h))))
    · exact br_f (by decide) (br_f (by decide) (br_f (by decide) (br_f (by decide) (br_f (by decide) h))))
  · rcases hf with rfl | rfl | rfl
    · exact br_f (by decide) (br_f (by decide) (br_f (by decide) (br_f (by decide) (br_f (by decide) h))))
    · exact br_f (by decide) (br_f (by decide) (br_f (by decide) (br_f (by decide) (br_f (by decide) h))))
    · exact br_f (by decide) (br_f (by decide) (br_f (by decide) (br_f (by decide) (br_f (by decide) h))))
  · rcases hf with rfl | rfl | rfl
    · exact br_f (by decide) (br_f (by decide) (br_f (by decide) (br_f (by decide) (br_f (by decide) h))))
    · exact br_f (by decide) (br_f (by decide) (br_f (by decide) (br_f (by decide) (br_f (by decide) h))))
    · exact br_f (by decide) (br_f (by decide) (br_f (by decide) (br_f (by decide) (br_f (by decide) h))))
  · rcases hf with rfl | rfl | rfl
    · exact br_f (by decide) (br_f (by decide) (br_f (by decide) (br_f (by decide) (br_f (by decide) h))))
    · exact br_f (by decide) (br_f (by decide) (br_f (by decide) (br_f (by decide) (br_f (by decide) h))))
    · exact br_f (by decide) (br_f (by decide) (br_f (by decide) (br_f (by decide) (br_f (by decide) h))))
  · rcases hf with rfl | rfl | rfl
    · exact br_f (by decide) (br_f (by decide) (br_f (by decide) (br_f (by decide) (br_f (by decide) h))))
    · exact br_f (by decide) (br_f (by decide) (br_f (by decide) (br_f (by decide) (br_f (by decide) h))))
    · exact br_f (by decide) (br_f (by decide) (br_f (by decide) (br_f (by decide) (br_f (by decide) h))))
  · rcases hf with rfl | rfl | rfl
    · exact br_f (by decide) (br_f (by decide) (br_f (by decide) (br_f (by decide) (br_f (by decide) h))))
    · exact br_f (by decide) (br_f (by decide) (br_f (by decide) (br_f (by decide) (br_f (by decide) h))))
    · exact br_f (by decide) (br_f (by decide) (br_f (by decide) (br_f (by decide) (br_f (by decide) h))))
  · rcases hf with rfl | rfl | rfl
    · exact br_f (by decide) (br_f (by decide) (br_f (by decide) (br_f (by decide) (br_t rfl (br_t (by decide) h)))))
    · exact br_f (by decide) (br_f (by decide) (br_f (by decide) (br_f (by decide) (br_t rfl (br_f (by decide) h)))))
    · exact br_f (by decide) (br_f (by decide) (br_f (by decide) (br_f (by decide) (br_t rfl (br_f (by decide) h)))))
  · rcases hf with rfl | rfl | rfl
    · exact br_f (by decide) (br_f (by decide) (br_f (by decide) (br_f (by decide) (br_f (by decide) h))))
    · exact br_f (by decide) (br_f (by decide) (br_f (by decide) (br_f (by decide) (br_f (by decide) h))))
    · exact br_f (by decide) (br_f (by decide) (br_f (by decide) (br_f (by decide) (br_f (by decide) h))))
  · rcases hf with rfl | rfl | rfl
    · exact br_f (by decide) (br_f (by decide) (br_f (by decide) (br_f (by decide) (br_f (by decide) h))))
    · exact br_f (by decide) (br_f (by decide) (br_f (by decide) (br_f (by decide) (br_f (by decide) h))))
    · exact br_f (by decide) (br_f (by decide) (br_f (by decide) (br_f (by decide) (br_f (by decide) h))))
  · rcases hf with rfl | rfl | rfl
    · exact br_f (by decide) (br_f (by decide) (br_f (by decide) (br_f (by decide) (br_f (by decide) h))))
    · exact br_f (by decide) (br_f (by decide) (br_f (by decide) (br_f (by decide) (br_f (by decide) h))))
    · exact br_f (by decide) (br_f (by decide) (br_f (by decide) (br_f (by decide) (br_f (by decide) h))))
  · rcases hf with rfl | rfl | rfl
    · exact br_f (by decide) (br_t rfl h)
    · exact br_f (by decide) (br_t rfl h)
    · exact br_f (by decide) (br_t rfl h)
end
end
section
/-! the reference's test of forms -/
def mk_b (p : Prop) (x : Int32) : Prop := (x = 1 ∧ p) ∨ (x = 0 ∧ ¬ p)
theorem mk_el {p : Prop} {x : Int32} {A B : Prop} (m : mk_b p x) (f : ¬ p → A) (g : p → B) : (x = 0 → A) ∧ (¬ x = 0 → B) := by
  rcases m with ⟨rfl, h⟩ | ⟨rfl, h⟩
  · exact br_f (by decide) (g h)
  · exact br_t rfl (f h)
theorem mk_r {v : Int32} {G0 G1 : Prop} (m : Nat) (hm : m + 1 < 2 ^ 31) (h0 : mk_b (ir_in v (m + 1)) 0 → G0) (h1 : mk_b (ir_in v (m + 1)) 1 → G1) : (v < 0 → G0) ∧ (¬ v < 0 → ((nI m < v → G0) ∧ (¬ nI m < v → G1))) :=
  br_c (fun z => h0 (Or.inr ⟨rfl, ir_n0 hm z⟩)) (fun z => br_c (fun y => h0 (Or.inr ⟨rfl, ir_n2 hm y⟩)) (fun y => h1 (Or.inl ⟨rfl, ir_y2 hm z y⟩)))
theorem i2_el {x : Int32} {A B : Prop} (f : ir_in x 2 → A) (g : ¬ ir_in x 2 → B) : (x = 0 → A) ∧ (¬ x = 0 → ((x = 1 → A) ∧ (¬ x = 1 → B))) := by
  refine br_c (fun z => f ⟨0, by decide, z⟩) (fun z => br_c (fun y => f ⟨1, by decide, y⟩) (fun y => g ?_))
  rintro ⟨j, hj, rfl⟩
  have : j = 0 ∨ j = 1 := by omega
  rcases this with rfl | rfl
  · exact z rfl
  · exact y rfl
theorem i48_el {x : Int32} {A B : Prop} (f : ir_in x 48 → A) (g : ¬ ir_in x 48 → B) : (x < 0 → B) ∧ (¬ x < 0 → ((47 < x → B) ∧ (¬ 47 < x → A))) :=
  br_c (fun z => g (ir_n0 (by decide) z)) (fun z => br_c (fun y => g (ir_n2 (n := 47) (by decide) y)) (fun y => f (ir_y2 (n := 47) (by decide) z y)))
theorem ok_ne {o a b c : Int32} (h : ∀ k : Nat, k < 12 → ¬ o = nI k) : ¬ pw_okI o a b c := by
  intro z
  rw [ok_e] at z
  rcases z with z | z | z | z | z | z | z | z | z | z | z | z
  · exact h 0 (by omega) z
  · exact h 1 (by omega) z.1
  · exact h 2 (by omega) z.1
  · exact h 3 (by omega) z.1
  · exact h 4 (by omega) z.1
  · exact h 5 (by omega) z.1
  · exact h 6 (by omega) z.1
  · exact h 7 (by omega) z.1
  · exact h 8 (by omega) z.1
  · exact h 9 (by omega) z.1
  · exact h 10 (by omega) z.1
  · exact h 11 (by omega) z.1
section
variable {gLA gLB gN gLEN gHN gRA gWA gCP gCN : Int32} {bSR bPR bMU bRG bCE bKN bRO : Nat → Int32} {bFO bHY bD bCH bCG : Nat → Int64}
theorem yf_67 {post : Int32 → Prop} {o a b c x5 x6 x7 z0 : Int32} (m5 : mk_b (ir_in a 6) x5) (m6 : mk_b (ir_in a 7) x6) (m7 : mk_b (ir_in b 7) x7) (m8 : mk_b (ir_in c 7) z0)
    (k1 : pw_okI o a b c → post 1) (k0 : ¬ pw_okI o a b c → post 0) : wY_wellFormed_67 post o a b c x5 x6 x7 z0 gLA gLB gN gLEN gHN gRA gWA gCP gCN bSR bPR bMU bRG bCE bFO bKN bHY bD bCH bCG bRO := by
  have out : (∀ k : Nat, k < 12 → ¬ o = nI k) → wY_wellFormed_67 post o a b c x5 x6 x7 z0 gLA gLB gN gLEN gHN gRA gWA gCP gCN bSR bPR bMU bRG bCE bFO bKN bHY bD bCH bCG bRO := fun h =>
    br_f (h 0 (by omega)) (br_f (h 1 (by omega)) (br_f (h 2 (by omega)) (br_f (h 5 (by omega)) (br_f (h 3 (by omega)) (br_f (h 4 (by omega)) (br_f (h 6 (by omega)) (br_f (h 7 (by omega)) (br_f (h 8 (by omega)) (br_f (h 9 (by omega)) (br_f (h 10 (by omega)) (br_f (h 11 (by omega)) (k0 (ok_ne h)))))))))))))
  rcases o_cases o with h | h | rfl | rfl | rfl | rfl | rfl | rfl | rfl | rfl | rfl | rfl | rfl | rfl | rfl | rfl
  · refine out ?_
    rintro k hk rfl
    exact nI_pos (by omega) h
  · refine out ?_
    rintro k hk rfl
    exact nI_nlt (b := k) (a := 13) (by omega) (by decide) h
  · exact br_t (by decide) (k1 (ok_0.mpr trivial))
  · refine br_f (by decide) (br_t (by decide) (?_))
    rcases m5 with ⟨rfl, h⟩ | ⟨rfl, h⟩
    · exact ⟨narrow_b1, k1 (ok_1.mpr h)⟩
    · exact ⟨narrow_b0, k0 (fun z => h (ok_1.mp z))⟩
  · exact br_f (by decide) (br_f (by decide) (br_t (by decide) (mk_el m5 (fun z => k0 (fun q => z (ok_2.mp q).1)) (fun z => mk_el m7 (fun y => k0 (fun q => y (ok_2.mp q).2)) (fun y => k1 (ok_2.mpr ⟨z, y⟩))))))
  · exact br_f (by decide) (br_f (by decide) (br_f (by decide) (br_f (by decide) (br_t (by decide) (mk_el m5 (fun z => k0 (fun q => z (ok_3.mp q).1)) (fun z => mk_el m7 (fun y => k0 (fun q => y (ok_3.mp q).2.1)) (fun y => mk_el m8 (fun x => k0 (fun q => x (ok_3.mp q).2.2)) (fun x => k1 (ok_3.mpr ⟨z, y, x⟩)))))))))
  · exact br_f (by decide) (br_f (by decide) (br_f (by decide) (br_f (by decide) (br_f (by decide) (br_t (by decide) (mk_el m5 (fun z => k0 (fun q => z (ok_4.mp q).1)) (fun z => mk_el m7 (fun y => k0 (fun q => y (ok_4.mp q).2.1)) (fun y => mk_el m8 (fun x => k0 (fun q => x (ok_4.mp q).2.2)) (fun x => k1 (ok_4.mpr ⟨z, y, x⟩))))))))))
  · exact br_f (by decide) (br_f (by decide) (br_f (by decide) (br_t (by decide) (mk_el m5 (fun z => k0 (fun q => z (ok_5.mp q).1)) (fun z => mk_el m7 (fun y => k0 (fun q => y (ok_5.mp q).2)) (fun y => k1 (ok_5.mpr ⟨z, y⟩)))))))
  · exact br_f (by decide) (br_f (by decide) (br_f (by decide) (br_f (by decide) (br_f (by decide) (br_f (by decide) (br_t (by decide) (mk_el m5 (fun z => k0 (fun q => z (ok_6.mp q).1)) (fun z => mk_el m7 (fun y => k0 (fun q => y (ok_6.mp q).2.1)) (fun y => mk_el m8 (fun x => k0 (fun q => x (ok_6.mp q).2.2)) (fun x => k1 (ok_6.mpr ⟨z, y, x⟩)))))))))))
  · exact br_f (by decide) (br_f (by decide) (br_f (by decide) (br_f (by decide) (br_f (by decide) (br_f (by decide) (br_f (by decide) (br_t (by decide) (mk_el m5 (fun z => k0 (fun q => z (ok_7.mp q).1)) (fun z => i2_el (fun y => mk_el m8 (fun x => k0 (fun q => x (ok_7.mp q).2.2)) (fun x => k1 (ok_7.mpr ⟨z, y, x⟩))) (fun y => k0 (fun q => y (ok_7.mp q).2.1)))))))))))
  · exact br_f (by decide) (br_f (by decide) (br_f (by decide) (br_f (by decide) (br_f (by decide) (br_f (by decide) (br_f (by decide) (br_f (by decide) (br_t (by decide) (i2_el (fun z => mk_el m7 (fun y => k0 (fun q => y (ok_8.mp q).2.1)) (fun y => mk_el m8 (fun x => k0 (fun q => x (ok_8.mp q).2.2)) (fun x => k1 (ok_8.mpr ⟨z, y, x⟩)))) (fun z => k0 (fun q => z (ok_8.mp q).1)))))))))))
  · exact br_f (by decide) (br_f (by decide) (br_f (by decide) (br_f (by decide) (br_f (by decide) (br_f (by decide) (br_f (by decide) (br_f (by decide) (br_f (by decide) (br_t (by decide) (i48_el (fun z => k1 (ok_9.mpr z)) (fun z => k0 (fun q => z (ok_9.mp q)))))))))))))
  · exact br_f (by decide) (br_f (by decide) (br_f (by decide) (br_f (by decide) (br_f (by decide) (br_f (by decide) (br_f (by decide) (br_f (by decide) (br_f (by decide) (br_f (by decide) (br_t (by decide) (mk_el m6 (fun z => k0 (fun q => z (ok_10.mp q).1)) (fun z => mk_el m7 (fun y => k0 (fun q => y (ok_10.mp q).2.1)) (fun y => i48_el (fun x => k1 (ok_10.mpr ⟨z, y, x⟩)) (fun x => k0 (fun q => x (ok_10.mp q).2.2)))))))))))))))
  · exact br_f (by decide) (br_f (by decide) (br_f (by decide) (br_f (by decide) (br_f (by decide) (br_f (by decide) (br_f (by decide) (br_f (by decide) (br_f (by decide) (br_f (by decide) (br_f (by decide) (br_t (by decide) (mk_el m6 (fun z => k0 (fun q => z (ok_11.mp q).1)) (fun z => mk_el m7 (fun y => k0 (fun q => y (ok_11.mp q).2)) (fun y => k1 (ok_11.mpr ⟨z, y⟩)))))))))))))))
  · exact out (fun k hk e => by have := (nI_eq (a := 12) (b := k) (by decide) (by omega)).mp e; omega)
  · exact out (fun k hk e => by have := (nI_eq (a := 13) (b := k) (by decide) (by omega)).mp e; omega)
theorem yf_wf {post : Int32 → Prop} {o a b c : Int32} (k1 : pw_okI o a b c → post 1) (k0 : ¬ pw_okI o a b c → post 0) : wpY_wellFormed post (gLA, gLB, gN, gLEN, gHN, gRA, gWA, gCP, gCN, bSR, bPR, bMU, bRG, bCE, bFO, bKN, bHY, bD, bCH, bCG, bRO) o a b c := by
  have s48 : ∀ x5 x6 x7 : Int32, mk_b (ir_in a 6) x5 → mk_b (ir_in a 7) x6 → mk_b (ir_in b 7) x7 → wY_wellFormed_48 post o a b c x5 x6 x7 gLA gLB gN gLEN gHN gRA gWA gCP gCN bSR bPR bMU bRG bCE bFO bKN bHY bD bCH bCG bRO := fun x5 x6 x7 m5 m6 m7 =>
    mk_r 6 (by decide) (fun m8 => yf_67 m5 m6 m7 m8 k1 k0) (fun m8 => yf_67 m5 m6 m7 m8 k1 k0)
  have s31 : ∀ x5 x6 : Int32, mk_b (ir_in a 6) x5 → mk_b (ir_in a 7) x6 → wY_wellFormed_31 post o a b c x5 x6 gLA gLB gN gLEN gHN gRA gWA gCP gCN bSR bPR bMU bRG bCE bFO bKN bHY bD bCH bCG bRO := fun x5 x6 m5 m6 =>
    mk_r 6 (by decide) (fun m7 => s48 _ _ _ m5 m6 m7) (fun m7 => s48 _ _ _ m5 m6 m7)
  have s14 : ∀ x5 : Int32, mk_b (ir_in a 6) x5 → wY_wellFormed_14 post o a b c x5 gLA gLB gN gLEN gHN gRA gWA gCP gCN bSR bPR bMU bRG bCE bFO bKN bHY bD bCH bCG bRO := fun x5 m5 =>
    mk_r 6 (by decide) (fun m6 => s31 _ _ m5 m6) (fun m6 => s31 _ _ m5 m6)
  exact mk_r 5 (by decide) (fun m5 => s14 _ m5) (fun m5 => s14 _ m5)
end
end
section
/-! the source list -/
/-- the FORs not yet closed before statement i, innermost first -/
def so_stk (S : Nat → Int32) : Nat → List Nat
  | 0 => []
  | i + 1 => if S (4 * i) = 12 then i :: so_stk S i else if S (4 * i) = 13 then (so_stk S i).tail else so_stk S i
def so_ok (S : Nat → Int32) (n : Nat) : Prop := ∀ i, i < n → wf_ok (S (4 * i)) (S (4 * i + 1)) (S (4 * i + 2)) (S (4 * i + 3)) ∧ (S (4 * i) = 12 → (so_stk S i).length < 2) ∧ (S (4 * i) = 13 → 0 < (so_stk S i).length) ∧ (S (4 * i) = 11 → ∀ j, j < i → S (4 * j) = 11)
theorem so_len (S : Nat → Int32) : ∀ i, (so_stk S i).length ≤ i := by
  intro i
  induction i with
  | zero => exact Nat.le_refl 0
  | succ i ih =>
    unfold so_stk
    split
    · simp only [List.length_cons]; omega
    · split
      · rw [List.length_tail]; omega
      · omega
theorem so_12 {S : Nat → Int32} {i : Nat} (h : S (4 * i) = 12) : so_stk S (i + 1) = i :: so_stk S i := if_pos h
theorem so_13 {S : Nat → Int32} {i : Nat} (h : S (4 * i) = 13) : so_stk S (i + 1) = (so_stk S i).tail := by
  show (if _ then _ else _) = _
  rw [if_neg (by rw [h]; decide), if_pos h]
theorem so_o {S : Nat → Int32} {i : Nat} (h : ¬ S (4 * i) = 12) (h2 : ¬ S (4 * i) = 13) : so_stk S (i + 1) = so_stk S i := by
  show (if _ then _ else _) = _
  rw [if_neg h, if_neg h2]
theorem so_stk_c {S S' : Nat → Int32} : ∀ i, (∀ j, j < i → S' (4 * j) = S (4 * j)) → so_stk S' i = so_stk S i := by
  intro i
  induction i with
  | zero => intro _; rfl
  | succ i ih =>
    intro h
    unfold so_stk
    rw [h i (by omega), ih (fun j hj => h j (by omega))]
theorem so_pre {S : Nat → Int32} {n m : Nat} (h : so_ok S n) (hm : m ≤ n) : so_ok S m := fun i hi => h i (by omega)
def so_up (S : Nat → Int32) (n : Nat) (a b c d : Int32) : Nat → Int32 := upd (upd (upd (upd S (4 * n) a) (4 * n + 1) b) (4 * n + 2) c) (4 * n + 3) d
theorem so_up_lt {S : Nat → Int32} {n m : Nat} {a b c d : Int32} (h : m < 4 * n) : so_up S n a b c d m = S m := by
  unfold so_up upd
  rw [if_neg (by omega), if_neg (by omega), if_neg (by omega), if_neg (by omega)]
theorem so_up_gt {S : Nat → Int32} {n m : Nat} {a b c d : Int32} (h : 4 * n + 4 ≤ m) : so_up S n a b c d m = S m := by
  unfold so_up upd
  rw [if_neg (by omega), if_neg (by omega), if_neg (by omega), if_neg (by omega)]
theorem so_up_0 {S : Nat → Int32} {n : Nat} {a b c d : Int32} : so_up S n a b c d (4 * n) = a := by
  unfold so_up upd
  rw [if_neg (by omega), if_neg (by omega), if_neg (by omega), if_pos rfl]
theorem so_up_1 {S : Nat → Int32} {n : Nat} {a b c d : Int32} : so_up S n a b c d (4 * n + 1) = b := by
  unfold so_up upd
  rw [if_neg (by omega), if_neg (by omega), if_pos rfl]
theorem so_up_2 {S : Nat → Int32} {n : Nat} {a b c d : Int32} : so_up S n a b c d (4 * n + 2) = c := by
  unfold so_up upd
  rw [if_neg (by omega), if_pos rfl]
theorem so_up_3 {S : Nat → Int32} {n : Nat} {a b c d : Int32} : so_up S n a b c d (4 * n + 3) = d := by
  unfold so_up upd
  rw [if_pos rfl]
/-- whether a statement may come now -/
def sy_al (S : Nat → Int32) (n : Nat) (k : Int32) : Prop := (k = 11 → ∀ j, j < n → S (4 * j) = 11) ∧ (k = 12 → (so_stk S n).length < 2) ∧ (k = 13 → 0 < (so_stk S n).length) ∧ (k = 11 ∨ k = 12 ∨ k = 13 ∨ (¬ k < 1 ∧ ¬ 8 < k))
theorem kp_ok {o a b c : Int32} (h : wf_ok o a b c) : wf_ok o (wf_kp o 1 a) (wf_kp o 2 b) (wf_kp o 3 c) := by
  rcases o_cases o with z | z | rfl | rfl | rfl | rfl | rfl | rfl | rfl | rfl | rfl | rfl | rfl | rfl | rfl | rfl
  · exact absurd h (ok_out (Or.inl z))
  · exact absurd h (ok_out (Or.inr z))
  · exact ok_0w.mpr trivial
  · exact ok_1w.mpr (ok_1w.mp h)
  · exact ok_2w.mpr (ok_2w.mp h)
  · exact h
  · exact h
  · exact h
  · exact h
  · exact h
  · exact h
  · exact ok_9w.mpr (ok_9w.mp h)
  · exact h
  · exact h
  · exact h
  · exact ok_13w
theorem so_push {S : Nat → Int32} {n : Nat} {k x y z : Int32} (h : so_ok S n) (A : sy_al S n k) (B : wf_ok k x y z) : so_ok (so_up S n k (wf_kp k 1 x) (wf_kp k 2 y) (wf_kp k 3 z)) (n + 1) := by
  intro i hi
  have es : ∀ i, i ≤ n → so_stk (so_up S n k (wf_kp k 1 x) (wf_kp k 2 y) (wf_kp k 3 z)) i = so_stk S i := fun i hi => so_stk_c i (fun j hj => so_up_lt (by omega))
  by_cases e : i = n
  · subst e
    rw [so_up_0, so_up_1, so_up_2, so_up_3, es i (Nat.le_refl i)]
    refine ⟨kp_ok B, A.2.1, A.2.2.1, fun q j hj => ?_⟩
    rw [so_up_lt (by omega)]; exact A.1 q j hj
  · obtain ⟨h1, h2, h3, h4⟩ := h i (by omega)
    rw [so_up_lt (by omega), so_up_lt (by omega), so_up_lt (by omega), so_up_lt (by omega), es i (by omega)]
    refine ⟨h1, h2, h3, fun q j hj => ?_⟩
    rw [so_up_lt (by omega)]; exact h4 q j hj
section
variable {fLA fLB fSC fPL fLD fST fCC fLV fLC : Int32} {aRG aCE aSO aPR aMU aLS aLH aLB aCP aHC aKN aTR : Nat → Int32} {aHT aGT aFO aWK aLI aSU : Nat → Int64}
variable {n : Nat}
theorem xs_open {post : Int32 → Prop} (ok : so_ok aSO n) (hn : n ≤ 24) (h : post (nI (so_stk aSO n).length)) : wpX_openLoops post (fLA, fLB, nI n, fPL, fLD, fST, fCC, fLV, fLC, aRG, aCE, aSO, aPR, aMU, aLS, aLH, aLB, aCP, aHC, aHT, aGT, aFO, aKN, aWK, aLI, aSU, aTR) := by
  refine loop_0 (fun m i (s : Int32) => wX_openLoops_4 post fLA fLB (nI n) fPL fLD fST fCC fLV fLC aRG aCE aSO aPR aMU aLS aLH aLB aCP aHC aHT aGT aFO aKN aWK aLI aSU aTR m s (nI i)) (fun i s => s = nI (so_stk aSO i).length) n 0 rfl (fun m s I => ?_) (fun m i s hi I k => ?_)
  · subst I
    exact pk_le n n (fun _ => h) (fun z => absurd z (Nat.lt_irrefl _))
  · subst I
    refine br_f (nI_ge hi (by omega)) ⟨pk_in (4 * i) 96 (by omega) (ix_l0 4 i), rd_n (4 * i) (ix_l0 4 i) ?_⟩
    refine br_c (fun e => nm_e (nm_r (nI_1 i) (k _ ?_))) (fun e => br_c (fun e2 => nm_e (nm_r (nI_1 i) (k _ ?_))) (fun e2 => nm_r (nI_1 i) (k _ ?_)))
    · rw [so_12 e]; exact nI_1 _
    · rw [so_13 e2, List.length_tail]; exact ix_n ((ok i hi).2.2.1 e2)
    · rw [so_o e e2]
theorem xs_allow {post : Int32 → Prop} {k : Int32} (ok : so_ok aSO n) (hn : n ≤ 24) (h1 : sy_al aSO n k → post 1) (h0 : ¬ sy_al aSO n k → post 0) : wpX_allowedNow post (fLA, fLB, nI n, fPL, fLD, fST, fCC, fLV, fLC, aRG, aCE, aSO, aPR, aMU, aLS, aLH, aLB, aCP, aHC, aHT, aGT, aFO, aKN, aWK, aLI, aSU, aTR) k := by
  have hl := so_len aSO n
  refine br_c (fun e => ?_) (fun e => br_c (fun e2 => ?_) (fun e2 => br_c (fun e3 => ?_) (fun e3 => br_c (fun z => h0 ?_) (fun z => br_c (fun z2 => h0 ?_) (fun z2 => h1 ?_)))))
  · subst e
    refine pk_eq n 0 (fun z => h1 ⟨fun _ j hj => absurd hj (by omega), fun y => absurd y (by decide), fun y => absurd y (by decide), Or.inl rfl⟩) (fun z => ?_)
    have ex : (nI n - 1) * 4 = nI (4 * (n - 1)) := by rw [ix_m (by omega)]; exact ix_l0 4 (n - 1)
    refine ⟨pk_in (4 * (n - 1)) 96 (by omega) ex, ?_⟩
    rw [rd_e (a := aSO) ex]
    refine br_c (fun y => h1 ⟨fun _ j hj => ?_, fun y => absurd y (by decide), fun y => absurd y (by decide), Or.inl rfl⟩) (fun y => h0 (fun q => y (q.1 rfl (n - 1) (by omega))))
    by_cases ej : j = n - 1
    · rw [ej]; exact y
    · exact (ok (n - 1) (by omega)).2.2.2 y j (by omega)
  · subst e2
    refine xs_open ok hn (pk_le 2 (so_stk aSO n).length (fun z => h0 (fun q => absurd (q.2.1 rfl) (by omega))) (fun z => h1 ⟨fun y => absurd y (by decide), fun _ => z, fun y => absurd y (by decide), Or.inr (Or.inl rfl)⟩))
  · subst e3
    refine xs_open ok hn (pk_le (so_stk aSO n).length 0 (fun z => h0 (fun q => absurd (q.2.2.1 rfl) (by omega))) (fun z => h1 ⟨fun y => absurd y (by decide), fun y => absurd y (by decide), fun _ => z, Or.inr (Or.inr (Or.inl rfl))⟩))
  · rintro ⟨-, -, -, y | y | y | y⟩
    · exact e y
    · exact e2 y
    · exact e3 y
    · exact y.1 z
  · rintro ⟨-, -, -, y | y | y | y⟩
    · exact e y
    · exact e2 y
    · exact e3 y
    · exact y.2 z2
  · exact ⟨fun y => absurd y e, fun y => absurd y e2, fun y => absurd y e3, Or.inr (Or.inr (Or.inr ⟨z, z2⟩))⟩
theorem al_rng {S : Nat → Int32} {n : Nat} {k x y z : Int32} (A : wf_ok k x y z) : ¬ k < 0 ∧ ¬ 13 < k := ⟨fun h => ok_out (Or.inl h) A, fun h => ok_out (Or.inr h) A⟩
theorem xs_say {post : Int32 → SX → Prop} {k x y z : Int32} (ok : so_ok aSO n) (hn : n ≤ 24) (h1 : n < 24 → sy_al aSO n k → wf_ok k x y z → post 1 (fLA, fLB, nI (n + 1), fPL, fLD, fST, fCC, fLV, fLC, aRG, aCE, so_up aSO n k (wf_kp k 1 x) (wf_kp k 2 y) (wf_kp k 3 z), aPR, aMU, aLS, aLH, aLB, aCP, aHC, aHT, aGT, aFO, aKN, aWK, aLI, aSU, aTR))
    (h0 : ¬ (n < 24 ∧ sy_al aSO n k ∧ wf_ok k x y z) → post 0 (fLA, fLB, nI n, fPL, fLD, fST, fCC, fLV, fLC, aRG, aCE, aSO, aPR, aMU, aLS, aLH, aLB, aCP, aHC, aHT, aGT, aFO, aKN, aWK, aLI, aSU, aTR)) : wpX_say post (fLA, fLB, nI n, fPL, fLD, fST, fCC, fLV, fLC, aRG, aCE, aSO, aPR, aMU, aLS, aLH, aLB, aCP, aHC, aHT, aGT, aFO, aKN, aWK, aLI, aSU, aTR) k x y z := by
  refine pk_lt n 24 (fun hn2 => ?_) (fun hn2 => h0 (fun q => absurd q.1 (by omega)))
  refine xs_allow ok hn (fun A => br_f (by decide) ?_) (fun A => br_t rfl (h0 (fun q => A q.2.1)))
  refine xf_wf (fun B => br_f (by decide) ?_) (fun B => br_t rfl (h0 (fun q => B q.2.2)))
  obtain ⟨r1, r2⟩ := al_rng (S := aSO) (n := n) B
  have e : ∀ c : Nat, nI (4 * n) + nI c = nI (4 * n + c) := fun c => nI_add _ _
  refine nm_r (ix_l0 4 n) ⟨pk_in (4 * n) 96 (by omega) rfl, up_I (4 * n) k rfl rfl ?_⟩
  refine xf_kept (f := 1) r1 r2 (by decide) ⟨pk_in (4 * n + 1) 96 (by omega) (e 1), up_I (4 * n + 1) _ (e 1) rfl ?_⟩
  refine xf_kept (f := 2) r1 r2 (by decide) ⟨pk_in (4 * n + 2) 96 (by omega) (e 2), up_I (4 * n + 2) _ (e 2) rfl ?_⟩
  refine xf_kept (f := 3) r1 r2 (by decide) ⟨pk_in (4 * n + 3) 96 (by omega) (e 3), up_I (4 * n + 3) _ (e 3) rfl (nm_r (nI_1 n) ?_)⟩
  exact h1 hn2 A B
end
section
variable {gLA gLB gN gLEN gHN gRA gWA gCP gCN : Int32} {bSR bPR bMU bRG bCE bKN bRO : Nat → Int32} {bFO bHY bD bCH bCG : Nat → Int64}
variable {n : Nat}
theorem ys_open {post : Int32 → Prop} (ok : so_ok bSR n) (hn : n ≤ 24) (h : post (nI (so_stk bSR n).length)) : wpY_openLoops post (gLA, gLB, nI n, gLEN, gHN, gRA, gWA, gCP, gCN, bSR, bPR, bMU, bRG, bCE, bFO, bKN, bHY, bD, bCH, bCG, bRO) := by
  refine loop_0 (fun m i (s : Int32) => wY_openLoops_4 post gLA gLB (nI n) gLEN gHN gRA gWA gCP gCN bSR bPR bMU bRG bCE bFO bKN bHY bD bCH bCG bRO m s (nI i)) (fun i s => s = nI (so_stk bSR i).length) n 0 rfl (fun m s I => ?_) (fun m i s hi I k => ?_)
  · subst I
    exact pk_le n n (fun _ => h) (fun z => absurd z (Nat.lt_irrefl _))
  · subst I
    refine br_f (nI_ge hi (by omega)) ⟨pk_in (4 * i) 96 (by omega) (ix_r0 4 i), ?_⟩
    have er : bSR (4 * nI i).toNatClampNeg = bSR (4 * i) := rd_e (ix_r0 4 i)
    rw [er]
    refine br_c (fun e => nm_e ⟨pk_in (4 * i) 96 (by omega) (ix_r0 4 i), ?_⟩) (fun e => ⟨pk_in (4 * i) 96 (by omega) (ix_r0 4 i), ?_⟩)
    · rw [er]
      refine br_f (by rw [e]; decide) (nm_r (nI_1 i) (k _ ?_))
      rw [so_12 e]; exact nI_1 _
    · rw [er]
      refine br_c (fun e2 => nm_e (nm_r (nI_1 i) (k _ ?_))) (fun e2 => nm_r (nI_1 i) (k _ ?_))
      · rw [so_13 e2, List.length_tail]; exact ix_n ((ok i hi).2.2.1 e2)
      · rw [so_o e e2]
theorem ys_132 {post : Int32 → SY → Prop} {k x y z f : Int32} (hn : n < 24) (hf : f = 0 ∨ f = 1) (r : f = 1 → ¬ k < 0 ∧ ¬ 13 < k)
    (h1 : f = 1 → (k = 11 → ∀ j, j < n → bSR (4 * j) = 11) → post 1 (gLA, gLB, nI (n + 1), gLEN, gHN, gRA, gWA, gCP, gCN, so_up bSR n k (wf_kp k 1 x) (wf_kp k 2 y) (wf_kp k 3 z), bPR, bMU, bRG, bCE, bFO, bKN, bHY, bD, bCH, bCG, bRO))
    (h0 : (f = 0 ∨ ¬ (k = 11 → ∀ j, j < n → bSR (4 * j) = 11)) → post 0 (gLA, gLB, nI n, gLEN, gHN, gRA, gWA, gCP, gCN, bSR, bPR, bMU, bRG, bCE, bFO, bKN, bHY, bD, bCH, bCG, bRO)) : ∃ m, wY_say_132 post k x y z gLA gLB (nI n) gLEN gHN gRA gWA gCP gCN bSR bPR bMU bRG bCE bFO bKN bHY bD bCH bCG bRO m f 0 := by
  refine loop_0 (fun m i (s : Int32) => wY_say_132 post k x y z gLA gLB (nI n) gLEN gHN gRA gWA gCP gCN bSR bPR bMU bRG bCE bFO bKN bHY bD bCH bCG bRO m s (nI i)) (fun i s => (s = f ∧ (k = 11 → ∀ j, j < i → bSR (4 * j) = 11)) ∨ (s = 0 ∧ ¬ (k = 11 → ∀ j, j < n → bSR (4 * j) = 11))) n f (Or.inl ⟨rfl, fun _ j hj => absurd hj (Nat.not_lt_zero j)⟩) (fun m s I => ?_) (fun m i s hi I kk => ?_)
  · refine pk_le n n (fun _ => ?_) (fun z => absurd z (Nat.lt_irrefl _))
    rcases I with ⟨rfl, I⟩ | ⟨rfl, I⟩
    · rcases hf with rfl | rfl
      · exact br_t rfl (h0 (Or.inl rfl))
      · obtain ⟨r1, r2⟩ := r rfl
        refine br_f (by decide) ⟨pk_in (4 * n) 96 (by omega) (ix_r0 4 n), up_I (4 * n) k (ix_r0 4 n) rfl ?_⟩
        refine yf_stored (f := 1) r1 r2 (by decide) ⟨pk_in (4 * n + 1) 96 (by omega) (ix_r 4 n 1), up_I (4 * n + 1) _ (ix_r 4 n 1) rfl ?_⟩
        refine yf_stored (f := 2) r1 r2 (by decide) ⟨pk_in (4 * n + 2) 96 (by omega) (ix_r 4 n 2), up_I (4 * n + 2) _ (ix_r 4 n 2) rfl ?_⟩
        refine yf_stored (f := 3) r1 r2 (by decide) ⟨pk_in (4 * n + 3) 96 (by omega) (ix_r 4 n 3), up_I (4 * n + 3) _ (ix_r 4 n 3) rfl (nm_r (nI_1 n) ?_)⟩
        exact h1 rfl I
    · exact br_t rfl (h0 (Or.inr I))
  · refine br_f (nI_ge hi (by omega)) (br_c (fun e => ⟨pk_in (4 * i) 96 (by omega) (ix_r0 4 i), ?_⟩) (fun e => nm_r (nI_1 i) (kk s ?_)))
    · have er : bSR (4 * nI i).toNatClampNeg = bSR (4 * i) := rd_e (ix_r0 4 i)
      rw [er]
      refine br_c (fun e2 => nm_r (nI_1 i) (kk s ?_)) (fun e2 => nm_r (nI_1 i) (kk 0 (Or.inr ⟨rfl, fun q => e2 (q e i hi)⟩)))
      rcases I with ⟨a, I⟩ | I
      · refine Or.inl ⟨a, fun _ j hj => ?_⟩
        by_cases ej : j = i
        · rw [ej]; exact e2
        · exact I e j (by omega)
      · exact Or.inr I
    · rcases I with ⟨a, I⟩ | I
      · exact Or.inl ⟨a, fun q => absurd q e⟩
      · exact Or.inr I
theorem ys_say {post : Int32 → SY → Prop} {k x y z : Int32} (ok : so_ok bSR n) (hn : n ≤ 24) (h1 : n < 24 → sy_al bSR n k → wf_ok k x y z → post 1 (gLA, gLB, nI (n + 1), gLEN, gHN, gRA, gWA, gCP, gCN, so_up bSR n k (wf_kp k 1 x) (wf_kp k 2 y) (wf_kp k 3 z), bPR, bMU, bRG, bCE, bFO, bKN, bHY, bD, bCH, bCG, bRO))
    (h0 : ¬ (n < 24 ∧ sy_al bSR n k ∧ wf_ok k x y z) → post 0 (gLA, gLB, nI n, gLEN, gHN, gRA, gWA, gCP, gCN, bSR, bPR, bMU, bRG, bCE, bFO, bKN, bHY, bD, bCH, bCG, bRO)) : wpY_say post (gLA, gLB, nI n, gLEN, gHN, gRA, gWA, gCP, gCN, bSR, bPR, bMU, bRG, bCE, bFO, bKN, bHY, bD, bCH, bCG, bRO) k x y z := by
  have hl := so_len bSR n
  refine pk_lt n 24 (fun hn2 => ?_) (fun hn2 => h0 (fun q => absurd q.1 (by omega)))
  have no : ¬ (sy_al bSR n k ∧ wf_ok k x y z) → ∃ m, wY_say_132 post k x y z gLA gLB (nI n) gLEN gHN gRA gWA gCP gCN bSR bPR bMU bRG bCE bFO bKN bHY bD bCH bCG bRO m 0 0 := fun q =>
    ys_132 hn2 (Or.inl rfl) (fun z => absurd z (by decide)) (fun z => absurd z (by decide)) (fun _ => h0 (fun w => q w.2))
  refine br_c (fun e => ?_) (fun e => br_c (fun e2 => ?_) (fun e2 => ?_))
  · subst e
    have nf : ¬ wf_F x y z → ∃ m, wY_say_132 post 12 x y z gLA gLB (nI n) gLEN gHN gRA gWA gCP gCN bSR bPR bMU bRG bCE bFO bKN bHY bD bCH bCG bRO m 0 0 := fun q => no (fun w => q (ok_12w.mp w.2))
    refine br_c (fun a => nf (fun q => ir_n0 (by decide) a q.1)) (fun a => br_c (fun b => nf (fun q => ir_n2 (n := 5) (by decide) b q.1)) (fun b => br_c (fun c => nf (fun q => q.2.1.1 c)) (fun c => br_c (fun d => nf (fun q => q.2.1.2 d)) (fun d =>
      br_c (fun f => nf (fun q => ir_n0 (by decide) f q.2.2)) (fun f => br_c (fun g => nf (fun q => ir_n2 (n := 6) (by decide) g q.2.2)) (fun g => ?_))))))
    have B : wf_ok 12 x y z := ok_12w.mpr ⟨ir_y2 (n := 5) (by decide) a b, ⟨c, d⟩, ir_y2 (n := 6) (by decide) f g⟩
    refine ys_open ok hn (pk_le 2 (so_stk bSR n).length (fun q => no (fun w => absurd (w.1.2.1 rfl) (by omega))) (fun q => ?_))
    exact ys_132 hn2 (Or.inr rfl) (fun _ => ⟨by decide, by decide⟩) (fun _ I => h1 hn2 ⟨I, fun _ => q, fun y => absurd y (by decide), Or.inr (Or.inl rfl)⟩ B) (fun w => w.elim (fun v => absurd v (by decide)) (fun v => absurd (fun v2 => absurd v2 (by decide)) v))
  · subst e2
    refine ys_open ok hn (pk_le (so_stk bSR n).length 0 (fun q => no (fun w => absurd (w.1.2.2.1 rfl) (by omega))) (fun q => ?_))
    exact ys_132 hn2 (Or.inr rfl) (fun _ => ⟨by decide, by decide⟩) (fun _ I => h1 hn2 ⟨I, fun y => absurd y (by decide), fun _ => q, Or.inr (Or.inr (Or.inl rfl))⟩ ok_13w) (fun w => w.elim (fun v => absurd v (by decide)) (fun v => absurd (fun v2 => absurd v2 (by decide)) v))
  · have eB : wf_ok k x y z → pw_okI k x y z := fun w => w.elim id (fun w => w.elim (fun v => absurd v.1 e) (fun v => absurd v e2))
    have s110 : (k = 11 ∨ (¬ k < 1 ∧ ¬ 8 < k)) → wY_say_110 post k x y z gLA gLB (nI n) gLEN gHN gRA gWA gCP gCN bSR bPR bMU bRG bCE bFO bKN bHY bD bCH bCG bRO := by
      intro hk
      unfold wY_say_110
      refine yf_wf (fun B => br_f (by decide) ?_) (fun B => br_t rfl (no (fun w => B (eB w.2))))
      refine ys_132 hn2 (Or.inr rfl) (fun _ => al_rng (S := bSR) (n := n) (Or.inl B)) (fun _ I => h1 hn2 ⟨I, fun y => absurd y e, fun y => absurd y e2, ?_⟩ (Or.inl B)) (fun w => h0 (fun q => w.elim (fun v => absurd v (by decide)) (fun v => v q.2.1.1)))
      rcases hk with hk | hk
      · exact Or.inl hk
      · exact Or.inr (Or.inr (Or.inr hk))
    have s104 : ¬ (¬ k < 1 ∧ ¬ 8 < k) → wY_say_104 post k x y z gLA gLB (nI n) gLEN gHN gRA gWA gCP gCN bSR bPR bMU bRG bCE bFO bKN bHY bD bCH bCG bRO := fun q =>
      br_c (fun e3 => s110 (Or.inl e3)) (fun e3 => no (fun w => by
        rcases w.1.2.2.2 with v | v | v | v
        · exact e3 v
        · exact e v
        · exact e2 v
        · exact q v))
    exact br_c (fun a => s104 (fun q => q.1 a)) (fun a => br_c (fun b => s110 (Or.inr ⟨a, Int32.not_lt.mpr b⟩)) (fun b => s104 (fun q => b (Int32.not_lt.mp q.2))))
end
end
section
/-! the machine -/
def rg_v (rg : Nat → Int32) (x : Int32) : Int32 := if x < 0 then 0 else if x < 6 then rg x.toNatClampNeg else 0
def rn_pc (p : Nat) (o a b c : Int32) (rg : Nat → Int32) : Int32 := if o = 9 then a else if o = 10 then (if rg_v rg a < rg_v rg b then nI (p + 1) else c) else nI (p + 1)
def rn_rg (o a b c : Int32) (rg ce : Nat → Int32) : Nat → Int32 :=
  if o = 1 then upd rg a.toNatClampNeg c else if o = 2 then upd rg a.toNatClampNeg (rg_v rg b) else if o = 3 ∨ o = 6 then upd rg a.toNatClampNeg (rg_v rg b + rg_v rg c)
  else if o = 4 then upd rg a.toNatClampNeg (rg_v rg b - rg_v rg c) else if o = 5 then upd rg a.toNatClampNeg (rg_v rg b + c) else if o = 7 then upd rg a.toNatClampNeg (ce (16 * b.toNatClampNeg + (rg_v rg c).toNatClampNeg)) else rg
def rn_ce (o a b c : Int32) (rg ce : Nat → Int32) : Nat → Int32 := if o = 8 then upd ce (16 * a.toNatClampNeg + (rg_v rg b).toNatClampNeg) (rg_v rg c) else ce
def ic_ok (la lb : Nat) (a i : Int32) : Prop := ¬ a < 0 ∧ ¬ 1 < a ∧ ¬ i < 0 ∧ ¬ (if a = 0 then nI la else nI lb) ≤ i
def rn_bad (la lb : Nat) (o a b c : Int32) (rg : Nat → Int32) : Prop := (o = 7 ∧ ¬ ic_ok la lb b (rg_v rg c)) ∨ (o = 8 ∧ ¬ ic_ok la lb a (rg_v rg b))
theorem ic_ix {la lb : Nat} {a i : Int32} (hla : la ≤ 16) (hlb : lb ≤ 16) (h : ic_ok la lb a i) : ∃ a' i', a' < 2 ∧ i' < 16 ∧ a = nI a' ∧ i = nI i' := by
  obtain ⟨h1, h2, h3, h4⟩ := h
  obtain ⟨a', ha, e⟩ := ir_y2 (n := 1) (by decide) h1 h2
  obtain ⟨i', hi, e2⟩ := nI_of h3
  refine ⟨a', i', ha, ?_, e, e2⟩
  rw [e2] at h4
  by_cases z : a = 0
  · rw [if_pos z, nI_leI (by omega) hi] at h4; omega
  · rw [if_neg z, nI_leI (by omega) hi] at h4; omega
def pr_ok (P rg : Nat → Int32) : Nat → Nat → Bool
  | 0, _ => true
  | n + 1, q => if P (4 * q) = 11 then (if (rg_v rg (P (4 * q + 1))).toInt64 - (rg_v rg (P (4 * q + 2))).toInt64 ≤ (P (4 * q + 3)).toInt64 then pr_ok P rg n (q + 1) else false) else true
theorem le5 {x : Int32} : x ≤ 5 ↔ x < 6 := by
  rw [Int32.le_iff_toInt_le, Int32.lt_iff_toInt_lt, show (5 : Int32).toInt = 5 from by decide, show (6 : Int32).toInt = 6 from by decide]; omega
section
variable {fLA fLB fSC fPL fLD fST fCC fLV fLC : Int32} {aRG aCE aSO aPR aMU aLS aLH aLB aCP aHC aKN aTR : Nat → Int32} {aHT aGT aFO aWK aLI aSU : Nat → Int64}
variable {P : Nat → Int32} {L la lb : Nat}
theorem xr_reg {post : Int32 → Prop} {x : Int32} (h : post (rg_v aRG x)) : wpX_register post (fLA, fLB, fSC, fPL, fLD, fST, fCC, fLV, fLC, aRG, aCE, aSO, aPR, aMU, aLS, aLH, aLB, aCP, aHC, aHT, aGT, aFO, aKN, aWK, aLI, aSU, aTR) x := by
  unfold rg_v at h
  refine br_c (fun z => ?_) (fun z => br_c (fun y => ?_) (fun y => ?_))
  · rw [if_pos z] at h; exact h
  · obtain ⟨j, hj, e⟩ := ir_y (v := x) (n := 6) (by decide) z (fun q => absurd y (Int32.not_lt.mpr q))
    rw [if_neg z, if_pos y] at h
    exact ⟨pk_in j 6 hj e, h⟩
  · rw [if_neg z, if_neg y] at h; exact h
theorem xr_set {post : Int32 → SX → Prop} {a : Nat} {x v : Int32} (hx : x = nI a) (ha : a < 6) (h : post 1 (fLA, fLB, fSC, fPL, fLD, fST, fCC, fLV, fLC, upd aRG a v, aCE, aSO, aPR, aMU, aLS, aLH, aLB, aCP, aHC, aHT, aGT, aFO, aKN, aWK, aLI, aSU, aTR)) : wpX_setRegister post (fLA, fLB, fSC, fPL, fLD, fST, fCC, fLV, fLC, aRG, aCE, aSO, aPR, aMU, aLS, aLH, aLB, aCP, aHC, aHT, aGT, aFO, aKN, aWK, aLI, aSU, aTR) x v := by
  subst hx
  exact br_f (nI_pos (by omega)) (br_t (nI_lt (b := 6) ha (by decide)) ⟨pk_in a 6 ha rfl, up_I a v rfl rfl h⟩)
theorem xr_isC {post : Int32 → Prop} {a i : Int32} (h1 : ic_ok la lb a i → post 1) (h0 : ¬ ic_ok la lb a i → post 0) : wpX_isCell post (nI la, nI lb, fSC, fPL, fLD, fST, fCC, fLV, fLC, aRG, aCE, aSO, aPR, aMU, aLS, aLH, aLB, aCP, aHC, aHT, aGT, aFO, aKN, aWK, aLI, aSU, aTR) a i := by
  refine br_c (fun z => h0 (fun q => q.1 z)) (fun z => br_c (fun y => h0 (fun q => q.2.1 y)) (fun y => br_c (fun x => h0 (fun q => q.2.2.1 x)) (fun x => ?_)))
  refine br_c (fun w => br_c (fun v => h0 (fun q => ?_)) (fun v => h1 ⟨z, y, x, ?_⟩)) (fun w => br_c (fun v => h0 (fun q => ?_)) (fun v => h1 ⟨z, y, x, ?_⟩))
  · have := q.2.2.2; rw [if_pos w] at this; exact this v
  · rw [if_pos w]; exact v
  · have := q.2.2.2; rw [if_neg w] at this; exact this v
  · rw [if_neg w]; exact v
theorem xr_setC {post : Int32 → SX → Prop} {a i v : Int32} (hla : la ≤ 16) (hlb : lb ≤ 16) (h1 : ic_ok la lb a i → post 1 (nI la, nI lb, fSC, fPL, fLD, fST, fCC, fLV, fLC, aRG, upd aCE (16 * a.toNatClampNeg + i.toNatClampNeg) v, aSO, aPR, aMU, aLS, aLH, aLB, aCP, aHC, aHT, aGT, aFO, aKN, aWK, aLI, aSU, aTR)) (h0 : ¬ ic_ok la lb a i → post 0 (nI la, nI lb, fSC, fPL, fLD, fST, fCC, fLV, fLC, aRG, aCE, aSO, aPR, aMU, aLS, aLH, aLB, aCP, aHC, aHT, aGT, aFO, aKN, aWK, aLI, aSU, aTR)) : wpX_setCell post (nI la, nI lb, fSC, fPL, fLD, fST, fCC, fLV, fLC, aRG, aCE, aSO, aPR, aMU, aLS, aLH, aLB, aCP, aHC, aHT, aGT, aFO, aKN, aWK, aLI, aSU, aTR) a i v := by
  unfold wpX_setCell
  refine xr_isC (fun q => br_f (by decide) ?_) (fun q => br_t rfl (h0 q))
  obtain ⟨a', i', ha, hi, rfl, rfl⟩ := ic_ix hla hlb q
  have h2 := h1 q
  rw [nI_clamp (by omega), nI_clamp (by omega)] at h2
  exact ⟨pk_in (16 * a' + i') 32 (by omega) (ix_l 16 a' i'), up_I (16 * a' + i') v (ix_l 16 a' i') rfl h2⟩
theorem xr_cell {post : Int32 → Prop} {a i : Int32} (hla : la ≤ 16) (hlb : lb ≤ 16) (h1 : ic_ok la lb a i → post (aCE (16 * a.toNatClampNeg + i.toNatClampNeg))) (h0 : ¬ ic_ok la lb a i → post 0) : wpX_cell post (nI la, nI lb, fSC, fPL, fLD, fST, fCC, fLV, fLC, aRG, aCE, aSO, aPR, aMU, aLS, aLH, aLB, aCP, aHC, aHT, aGT, aFO, aKN, aWK, aLI, aSU, aTR) a i := by
  unfold wpX_cell
  refine xr_isC (fun q => br_f (by decide) ?_) (fun q => br_t rfl (h0 q))
  obtain ⟨a', i', ha, hi, rfl, rfl⟩ := ic_ix hla hlb q
  have h2 := h1 q
  rw [nI_clamp (by omega), nI_clamp (by omega)] at h2
  refine ⟨pk_in (16 * a' + i') 32 (by omega) (ix_l 16 a' i'), ?_⟩
  rw [rd_e (a := aCE) (x := nI a' * 16 + nI i') (ix_l 16 a' i')]
  exact h2
theorem xr_pre {post : Int32 → Prop} (hL : L ≤ 48) (h : post (if pr_ok P aRG L 0 = true then 1 else 0)) : wpX_preconditionHolds post (fLA, fLB, fSC, nI L, fLD, fST, fCC, fLV, fLC, aRG, aCE, aSO, P, aMU, aLS, aLH, aLB, aCP, aHC, aHT, aGT, aFO, aKN, aWK, aLI, aSU, aTR) := by
  have key : ∀ n q, q + n = L → post (if pr_ok P aRG n q = true then 1 else 0) → wX_preconditionHolds_2 post fLA fLB fSC (nI L) fLD fST fCC fLV fLC aRG aCE aSO P aMU aLS aLH aLB aCP aHC aHT aGT aFO aKN aWK aLI aSU aTR (n + 1) (nI q) := by
    intro n
    induction n with
    | zero => intro q hq h; exact pk_le L q (fun _ => h) (fun z => absurd z (by omega))
    | succ n ih =>
      intro q hq h
      unfold pr_ok at h
      refine br_f (nI_ge (b := L) (by omega) (by omega)) ⟨pk_in (4 * q) 192 (by omega) (ix_l0 4 q), ?_⟩
      rw [rd_e (a := P) (x := nI q * 4) (ix_l0 4 q)]
      refine br_c (fun e => ⟨pk_in (4 * q + 1) 192 (by omega) (ix_l 4 q 1), ?_⟩) (fun e => ?_)
      · rw [if_pos e] at h
        rw [rd_e (a := P) (x := nI q * 4 + 1) (ix_l 4 q 1)]
        refine xr_reg ⟨pk_in (4 * q + 2) 192 (by omega) (ix_l 4 q 2), ?_⟩
        rw [rd_e (a := P) (x := nI q * 4 + 2) (ix_l 4 q 2)]
        refine xr_reg ⟨pk_in (4 * q + 3) 192 (by omega) (ix_l 4 q 3), ?_⟩
        rw [rd_e (a := P) (x := nI q * 4 + 3) (ix_l 4 q 3)]
        refine br_c (fun z => nm_r (nI_1 q) (ih (q + 1) (by omega) ?_)) (fun z => ?_)
        · rw [if_pos z] at h; exact h
        · rw [if_neg z] at h; exact h
      · rw [if_neg e] at h; exact h
  exact ⟨L + 1, key L 0 (by omega) h⟩
theorem xr_fail {post : Int32 → Prop} {p : Nat} (hp : p < L) (hL : L ≤ 48) (h1 : rn_bad la lb (P (4 * p)) (P (4 * p + 1)) (P (4 * p + 2)) (P (4 * p + 3)) aRG → post 1) (h0 : ¬ rn_bad la lb (P (4 * p)) (P (4 * p + 1)) (P (4 * p + 2)) (P (4 * p + 3)) aRG → post 0) : wpX_accessFails post (nI la, nI lb, fSC, nI L, fLD, fST, fCC, fLV, fLC, aRG, aCE, aSO, P, aMU, aLS, aLH, aLB, aCP, aHC, aHT, aGT, aFO, aKN, aWK, aLI, aSU, aTR) (nI p) := by
  refine ⟨pk_in (4 * p) 192 (by omega) (ix_l0 4 p), rd_n (4 * p) (ix_l0 4 p) ⟨pk_in (4 * p + 1) 192 (by omega) (ix_l 4 p 1), rd_n (4 * p + 1) (ix_l 4 p 1) ⟨pk_in (4 * p + 2) 192 (by omega) (ix_l 4 p 2), rd_n (4 * p + 2) (ix_l 4 p 2) (br_c (fun e => ⟨pk_in (4 * p + 3) 192 (by omega) (ix_l 4 p 3), ?_⟩) (fun e => br_c (fun e2 => ?_) (fun e2 => h0 ?_)))⟩⟩⟩
  · rw [rd_e (a := P) (x := nI p * 4 + 3) (ix_l 4 p 3)]
    refine xr_reg (xr_isC (fun q => br_f (by decide) (h0 ?_)) (fun q => br_t rfl (h1 (Or.inl ⟨e, q⟩))))
    rintro (z | z)
    · exact z.2 q
    · rw [z.1] at e; exact absurd e (by decide)
  · refine xr_reg (xr_isC (fun q => br_f (by decide) (h0 ?_)) (fun q => br_t rfl (h1 (Or.inr ⟨e2, q⟩))))
    rintro (z | z)
    · exact e z.1
    · exact z.2 q
  · rintro (z | z)
    · exact e z.1
    · exact e2 z.1
theorem xr_exec {post : Int32 → SX → Prop} {p : Nat} (hp : p < L) (hL : L ≤ 48) (hla : la ≤ 16) (hlb : lb ≤ 16) (ok : pw_ok P L) (h00 : ¬ P (4 * p) = 0) (nb : ¬ rn_bad la lb (P (4 * p)) (P (4 * p + 1)) (P (4 * p + 2)) (P (4 * p + 3)) aRG)
    (h : post (rn_pc p (P (4 * p)) (P (4 * p + 1)) (P (4 * p + 2)) (P (4 * p + 3)) aRG) (nI la, nI lb, fSC, nI L, fLD, fST, fCC, fLV, fLC, rn_rg (P (4 * p)) (P (4 * p + 1)) (P (4 * p + 2)) (P (4 * p + 3)) aRG aCE, rn_ce (P (4 * p)) (P (4 * p + 1)) (P (4 * p + 2)) (P (4 * p + 3)) aRG aCE, aSO, P, aMU, aLS, aLH, aLB, aCP, aHC, aHT, aGT, aFO, aKN, aWK, aLI, aSU, aTR)) : wpX_execute post (nI la, nI lb, fSC, nI L, fLD, fST, fCC, fLV, fLC, aRG, aCE, aSO, P, aMU, aLS, aLH, aLB, aCP, aHC, aHT, aGT, aFO, aKN, aWK, aLI, aSU, aTR) (nI p) := by
  have ok1 := ok p hp
  unfold pw_okI at ok1
  generalize eo : P (4 * p) = o at ok1 h nb h00
  generalize ea : P (4 * p + 1) = x at ok1 h nb
  generalize eb : P (4 * p + 2) = y at ok1 h nb
  generalize ec : P (4 * p + 3) = z at ok1 h nb
  have e1 : nI p + 1 = nI (p + 1) := nI_1 p
  refine ⟨pk_in (4 * p + 1) 192 (by omega) (ix_l 4 p 1), rd_v (4 * p + 1) (ix_l 4 p 1) ea ⟨pk_in (4 * p + 2) 192 (by omega) (ix_l 4 p 2), rd_v (4 * p + 2) (ix_l 4 p 2) eb ⟨pk_in (4 * p + 3) 192 (by omega) (ix_l 4 p 3), rd_v (4 * p + 3) (ix_l 4 p 3) ec ?_⟩⟩⟩
  refine xr_reg (xr_reg ⟨pk_in (4 * p) 192 (by omega) (ix_l0 4 p), rd_v (4 * p) (ix_l0 4 p) eo ?_⟩)
  rw [e1]
  rcases ok1 with rfl | ⟨rfl, ⟨a, ha, rfl⟩⟩ | ⟨rfl, ⟨a, ha, rfl⟩, -⟩ | ⟨rfl, ⟨a, ha, rfl⟩, -⟩ | ⟨rfl, ⟨a, ha, rfl⟩, -⟩ | ⟨rfl, ⟨a, ha, rfl⟩, -⟩ | ⟨rfl, ⟨a, ha, rfl⟩, -⟩
    | ⟨rfl, ⟨a, ha, rfl⟩, -⟩ | ⟨rfl, -⟩ | ⟨rfl, -⟩ | ⟨rfl, -⟩ | ⟨rfl, -⟩
  · exact absurd rfl h00
  · have ca : (nI a).toNatClampNeg = a := nI_clamp (by omega)
    rw [show rn_rg 1 (nI a) y z aRG aCE = upd aRG a z from congrArg (fun m => upd aRG m z) ca] at h
    exact br_f (by decide) (br_f (by decide) (br_t (by decide) (xr_set rfl ha h)))
  · have ca : (nI a).toNatClampNeg = a := nI_clamp (by omega)
    rw [show rn_rg 2 (nI a) y z aRG aCE = upd aRG a (rg_v aRG y) from congrArg (fun m => upd aRG m (rg_v aRG y)) ca] at h
    exact br_f (by decide) (br_f (by decide) (br_f (by decide) (br_t (by decide) (xr_set rfl ha h))))
  · have ca : (nI a).toNatClampNeg = a := nI_clamp (by omega)
    rw [show rn_rg 3 (nI a) y z aRG aCE = upd aRG a (rg_v aRG y + rg_v aRG z) from congrArg (fun m => upd aRG m (rg_v aRG y + rg_v aRG z)) ca] at h
    refine br_f (by decide) (br_f (by decide) (br_f (by decide) (br_f (by decide) (br_t (by decide) (?_)))))
    unfold wX_execute_134
    rw [e1]
    exact xr_set rfl ha h
  · have ca : (nI a).toNatClampNeg = a := nI_clamp (by omega)
    rw [show rn_rg 4 (nI a) y z aRG aCE = upd aRG a (rg_v aRG y - rg_v aRG z) from congrArg (fun m => upd aRG m (rg_v aRG y - rg_v aRG z)) ca] at h
    exact br_f (by decide) (br_f (by decide) (br_f (by decide) (br_f (by decide) (br_f (by decide) (br_t (by decide) (xr_set rfl ha h))))))
  · have ca : (nI a).toNatClampNeg = a := nI_clamp (by omega)
    rw [show rn_rg 5 (nI a) y z aRG aCE = upd aRG a (rg_v aRG y + z) from congrArg (fun m => upd aRG m (rg_v aRG y + z)) ca] at h
    exact br_f (by decide) (br_f (by decide) (br_f (by decide) (br_f (by decide) (br_f (by decide) (br_f (by decide) (br_t (by decide) (xr_set rfl ha h)))))))
  · have ca : (nI a).toNatClampNeg = a := nI_clamp (by omega)
    rw [show rn_rg 6 (nI a) y z aRG aCE = upd aRG a (rg_v aRG y + rg_v aRG z) from congrArg (fun m => upd aRG m (rg_v aRG y + rg_v aRG z)) ca] at h
    refine br_f (by decide) (br_f (by decide) (br_f (by decide) (br_f (by decide) (br_f (by decide) (br_f (by decide) (br_f (by decide) (br_t (by decide) (?_))))))))
    unfold wX_execute_134
    rw [e1]
    exact xr_set rfl ha h
  · have ca : (nI a).toNatClampNeg = a := nI_clamp (by omega)
    rw [show rn_rg 7 (nI a) y z aRG aCE = upd aRG a (aCE (16 * y.toNatClampNeg + (rg_v aRG z).toNatClampNeg)) from congrArg (fun m => upd aRG m (aCE (16 * y.toNatClampNeg + (rg_v aRG z).toNatClampNeg))) ca] at h
    refine br_f (by decide) (br_f (by decide) (br_f (by decide) (br_f (by decide) (br_f (by decide) (br_f (by decide) (br_f (by decide) (br_f (by decide) (br_t (by decide) (xr_cell hla hlb (fun q => xr_set rfl ha h) (fun q => absurd (Or.inl ⟨rfl, q⟩) nb))))))))))
  · refine br_f (by decide) (br_f (by decide) (br_f (by decide) (br_f (by decide) (br_f (by decide) (br_f (by decide) (br_f (by decide) (br_f (by decide) (br_f (by decide) (br_t (by decide) (xr_setC hla hlb (fun q => h) (fun q => absurd (Or.inr ⟨rfl, q⟩) nb)))))))))))
  · exact br_f (by decide) (br_f (by decide) (br_f (by decide) (br_f (by decide) (br_f (by decide) (br_f (by decide) (br_f (by decide) (br_f (by decide) (br_f (by decide) (br_f (by decide) (br_t (by decide) (h)))))))))))
  · refine br_f (by decide) (br_f (by decide) (br_f (by decide) (br_f (by decide) (br_f (by decide) (br_f (by decide) (br_f (by decide) (br_f (by decide) (br_f (by decide) (br_f (by decide) (br_f (by decide) (br_t (by decide) (xr_reg (br_c (fun q => ?_) (fun q => ?_))))))))))))))
    · rw [show rn_pc p 10 x y z aRG = nI (p + 1) from if_pos q] at h; exact h
    · rw [show rn_pc p 10 x y z aRG = z from if_neg q] at h; exact h
  · exact br_f (by decide) (br_t (by decide) h)
end
section
variable {gLA gLB gN gLEN gHN gRA gWA gCP gCN : Int32} {bSR bPR bMU bRG bCE bKN bRO : Nat → Int32} {bFO bHY bD bCH bCG : Nat → Int64}
variable {P : Nat → Int32} {L la lb : Nat}
theorem yr_reg {post : Int32 → Prop} {x : Int32} (h : post (rg_v bRG x)) : wpY_register post (gLA, gLB, gN, gLEN, gHN, gRA, gWA, gCP, gCN, bSR, bPR, bMU, bRG, bCE, bFO, bKN, bHY, bD, bCH, bCG, bRO) x := by
  unfold rg_v at h
  refine br_c (fun z => ?_) (fun z => br_c (fun y => ?_) (fun y => ?_))
  · rw [if_pos z] at h; exact h
  · obtain ⟨j, hj, e⟩ := ir_y (v := x) (n := 6) (by decide) z (fun q => absurd (le5.mp y) (Int32.not_lt.mpr q))
    rw [if_neg z, if_pos (le5.mp y)] at h
    exact ⟨pk_in j 6 hj e, h⟩
  · rw [if_neg z, if_neg (fun q => y (le5.mpr q))] at h; exact h
theorem yr_isC {post : Int32 → Prop} {a i : Int32} (h1 : ic_ok la lb a i → post 1) (h0 : ¬ ic_ok la lb a i → post 0) : wpY_inArray post (nI la, nI lb, gN, gLEN, gHN, gRA, gWA, gCP, gCN, bSR, bPR, bMU, bRG, bCE, bFO, bKN, bHY, bD, bCH, bCG, bRO) a i := by
  refine br_c (fun z => h0 (fun q => q.1 z)) (fun z => br_c (fun y => h0 (fun q => q.2.1 y)) (fun y => br_c (fun x => ?_) (fun x => h0 (fun q => x (Int32.not_lt.mp q.2.2.1)))))
  have x' : ¬ i < 0 := Int32.not_lt.mpr x
  refine br_c (fun w => br_c (fun v => h0 (fun q => ?_)) (fun v => h1 ⟨z, y, x', ?_⟩)) (fun w => br_c (fun v => h0 (fun q => ?_)) (fun v => h1 ⟨z, y, x', ?_⟩))
  · have := q.2.2.2; rw [if_pos w] at this; exact this v
  · rw [if_pos w]; exact v
  · have := q.2.2.2; rw [if_neg w] at this; exact this v
  · rw [if_neg w]; exact v
theorem yr_setC {post : Int32 → SY → Prop} {a i v : Int32} (hla : la ≤ 16) (hlb : lb ≤ 16) (h1 : ic_ok la lb a i → post 1 (nI la, nI lb, gN, gLEN, gHN, gRA, gWA, gCP, gCN, bSR, bPR, bMU, bRG, upd bCE (16 * a.toNatClampNeg + i.toNatClampNeg) v, bFO, bKN, bHY, bD, bCH, bCG, bRO)) (h0 : ¬ ic_ok la lb a i → post 0 (nI la, nI lb, gN, gLEN, gHN, gRA, gWA, gCP, gCN, bSR, bPR, bMU, bRG, bCE, bFO, bKN, bHY, bD, bCH, bCG, bRO)) : wpY_setCell post (nI la, nI lb, gN, gLEN, gHN, gRA, gWA, gCP, gCN, bSR, bPR, bMU, bRG, bCE, bFO, bKN, bHY, bD, bCH, bCG, bRO) a i v := by
  unfold wpY_setCell
  refine yr_isC (fun q => br_f (by decide) ?_) (fun q => br_t rfl (h0 q))
  obtain ⟨a', i', ha, hi, rfl, rfl⟩ := ic_ix hla hlb q
  have h2 := h1 q
  rw [nI_clamp (by omega), nI_clamp (by omega)] at h2
  exact ⟨pk_in (16 * a' + i') 32 (by omega) (ix_r 16 a' i'), up_I (16 * a' + i') v (ix_r 16 a' i') rfl h2⟩
theorem yr_cell {post : Int32 → Prop} {a i : Int32} (hla : la ≤ 16) (hlb : lb ≤ 16) (h1 : ic_ok la lb a i → post (bCE (16 * a.toNatClampNeg + i.toNatClampNeg))) (h0 : ¬ ic_ok la lb a i → post 0) : wpY_cell post (nI la, nI lb, gN, gLEN, gHN, gRA, gWA, gCP, gCN, bSR, bPR, bMU, bRG, bCE, bFO, bKN, bHY, bD, bCH, bCG, bRO) a i := by
  unfold wpY_cell
  refine yr_isC (fun q => br_f (by decide) ?_) (fun q => br_t rfl (h0 q))
  obtain ⟨a', i', ha, hi, rfl, rfl⟩ := ic_ix hla hlb q
  have h2 := h1 q
  rw [nI_clamp (by omega), nI_clamp (by omega)] at h2
  refine ⟨pk_in (16 * a' + i') 32 (by omega) (ix_r 16 a' i'), ?_⟩
  rw [rd_e (a := bCE) (x := 16 * nI a' + nI i') (ix_r 16 a' i')]
  exact h2
theorem yr_228 {post : Int32 → SY → Prop} {J : Int32 → Int32 → (Nat → Int32) → (Nat → Int32) → (Nat → Int32) → (Nat → Int32) → (Nat → Int32) → (Nat → Int64) → (Nat → Int32) → (Nat → Int64) → (Nat → Int64) → (Nat → Int64) → (Nat → Int64) → (Nat → Int32) → Prop} {p : Nat} {o x y z xc : Int32} (hla : la ≤ 16) (hlb : lb ≤ 16) (ok1 : pw_okI o x y z) (h00 : ¬ o = 0) (nb : ¬ rn_bad la lb o x y z bRG)
    (h : J (rn_pc p o x y z bRG) (xc + 1) bSR bPR bMU (rn_rg o x y z bRG bCE) (rn_ce o x y z bRG bCE) bFO bKN bHY bD bCH bCG bRO) : wY_run_228 post J (nI p) xc o x y z (rg_v bRG x) (rg_v bRG y) (rg_v bRG z) gLA gLB gN gLEN gHN gRA gWA gCP gCN bSR bPR bMU bRG bCE bFO bKN bHY bD bCH bCG bRO := by
  unfold pw_okI at ok1
  refine nm_r (nI_1 p) ?_
  rcases ok1 with rfl | ⟨rfl, ⟨a, ha, rfl⟩⟩ | ⟨rfl, ⟨a, ha, rfl⟩, -⟩ | ⟨rfl, ⟨a, ha, rfl⟩, -⟩ | ⟨rfl, ⟨a, ha, rfl⟩, -⟩ | ⟨rfl, ⟨a, ha, rfl⟩, -⟩ | ⟨rfl, ⟨a, ha, rfl⟩, -⟩
    | ⟨rfl, ⟨a, ha, rfl⟩, -⟩ | ⟨rfl, -⟩ | ⟨rfl, -⟩ | ⟨rfl, -⟩ | ⟨rfl, -⟩
  · exact absurd rfl h00
  · have ca : (nI a).toNatClampNeg = a := nI_clamp (by omega)
    rw [show rn_rg 1 (nI a) y z bRG bCE = upd bRG a z from congrArg (fun m => upd bRG m z) ca] at h
    exact br_t (by decide) (⟨pk_in a 6 ha rfl, up_I a _ rfl rfl (br_f (by decide) (br_f (by decide) (br_f (by decide) (br_f (by decide) (br_f (by decide) (br_f (by decide) (br_f (by decide) (br_f (by decide) (br_f (by decide) (nm_e h))))))))))⟩)
  · have ca : (nI a).toNatClampNeg = a := nI_clamp (by omega)
    rw [show rn_rg 2 (nI a) y z bRG bCE = upd bRG a (rg_v bRG y) from congrArg (fun m => upd bRG m (rg_v bRG y)) ca] at h
    exact br_f (by decide) (br_t (by decide) (⟨pk_in a 6 ha rfl, up_I a _ rfl rfl (br_f (by decide) (br_f (by decide) (br_f (by decide) (br_f (by decide) (br_f (by decide) (br_f (by decide) (br_f (by decide) (br_f (by decide) (nm_e h)))))))))⟩))
  · have ca : (nI a).toNatClampNeg = a := nI_clamp (by omega)
    rw [show rn_rg 3 (nI a) y z bRG bCE = upd bRG a (rg_v bRG y + rg_v bRG z) from congrArg (fun m => upd bRG m (rg_v bRG y + rg_v bRG z)) ca] at h
    exact br_f (by decide) (br_f (by decide) (br_t (by decide) (⟨pk_in a 6 ha rfl, up_I a _ rfl rfl (br_f (by decide) (br_f (by decide) (br_f (by decide) (br_f (by decide) (br_f (by decide) (br_f (by decide) (nm_e h)))))))⟩)))
  · have ca : (nI a).toNatClampNeg = a := nI_clamp (by omega)
    rw [show rn_rg 4 (nI a) y z bRG bCE = upd bRG a (rg_v bRG y - rg_v bRG z) from congrArg (fun m => upd bRG m (rg_v bRG y - rg_v bRG z)) ca] at h
    exact br_f (by decide) (br_f (by decide) (br_f (by decide) (br_f (by decide) (br_t (by decide) (⟨pk_in a 6 ha rfl, up_I a _ rfl rfl (br_f (by decide) (br_f (by decide) (br_f (by decide) (br_f (by decide) (br_f (by decide) (nm_e h))))))⟩)))))
  · have ca : (nI a).toNatClampNeg = a := nI_clamp (by omega)
    rw [show rn_rg 5 (nI a) y z bRG bCE = upd bRG a (rg_v bRG y + z) from congrArg (fun m => upd bRG m (rg_v bRG y + z)) ca] at h
    exact br_f (by decide) (br_f (by decide) (br_f (by decide) (br_f (by decide) (br_f (by decide) (br_t (by decide) (⟨pk_in a 6 ha rfl, up_I a _ rfl rfl (br_f (by decide) (br_f (by decide) (br_f (by decide) (br_f (by decide) (nm_e h)))))⟩))))))
  · have ca : (nI a).toNatClampNeg = a := nI_clamp (by omega)
    rw [show rn_rg 6 (nI a) y z bRG bCE = upd bRG a (rg_v bRG y + rg_v bRG z) from congrArg (fun m => upd bRG m (rg_v bRG y + rg_v bRG z)) ca] at h
    exact br_f (by decide) (br_f (by decide) (br_f (by decide) (br_t (by decide) (⟨pk_in a 6 ha rfl, up_I a _ rfl rfl (br_f (by decide) (br_f (by decide) (br_f (by decide) (br_f (by decide) (br_f (by decide) (br_f (by decide) (nm_e h)))))))⟩))))
  · have ca : (nI a).toNatClampNeg = a := nI_clamp (by omega)
    rw [show rn_rg 7 (nI a) y z bRG bCE = upd bRG a (bCE (16 * y.toNatClampNeg + (rg_v bRG z).toNatClampNeg)) from congrArg (fun m => upd bRG m (bCE (16 * y.toNatClampNeg + (rg_v bRG z).toNatClampNeg))) ca] at h
    have q : ic_ok la lb y (rg_v bRG z) := Classical.byContradiction (fun q => nb (Or.inl ⟨rfl, q⟩))
    obtain ⟨y', i', hy, hi, rfl, ei⟩ := ic_ix hla hlb q
    have ex : nI 16 * nI y' + rg_v bRG z = nI (16 * y' + i') := by rw [ei]; exact ix_r 16 y' i'
    rw [ei, nI_clamp (by omega), nI_clamp (by omega)] at h
    exact br_f (by decide) (br_f (by decide) (br_f (by decide) (br_f (by decide) (br_f (by decide) (br_f (by decide) (br_t (by decide) (⟨pk_in (16 * y' + i') 32 (by omega) ex, pk_in a 6 ha rfl, up_I a _ rfl (rd_e ex) (br_f (by decide) (br_f (by decide) (br_f (by decide) (nm_e h))))⟩)))))))
  · have q : ic_ok la lb x (rg_v bRG y) := Classical.byContradiction (fun q => nb (Or.inr ⟨rfl, q⟩))
    obtain ⟨x', i', hx, hi, rfl, ei⟩ := ic_ix hla hlb q
    have ex : nI 16 * nI x' + rg_v bRG y = nI (16 * x' + i') := by rw [ei]; exact ix_r 16 x' i'
    rw [show rn_ce 8 (nI x') y z bRG bCE = upd bCE (16 * x' + i') (rg_v bRG z) from by
      show upd bCE (16 * (nI x').toNatClampNeg + (rg_v bRG y).toNatClampNeg) (rg_v bRG z) = _
      rw [ei, nI_clamp (by omega), nI_clamp (by omega)]] at h
    exact br_f (by decide) (br_f (by decide) (br_f (by decide) (br_f (by decide) (br_f (by decide) (br_f (by decide) (br_f (by decide) (br_t (by decide) (⟨pk_in (16 * x' + i') 32 (by omega) ex, up_I (16 * x' + i') _ ex rfl (br_f (by decide) (br_f (by decide) (nm_e h)))⟩))))))))
  · exact br_f (by decide) (br_f (by decide) (br_f (by decide) (br_f (by decide) (br_f (by decide) (br_f (by decide) (br_f (by decide) (br_f (by decide) (br_t (by decide) (br_f (by decide) (nm_e h))))))))))
  · refine br_f (by decide) (br_f (by decide) (br_f (by decide) (br_f (by decide) (br_f (by decide) (br_f (by decide) (br_f (by decide) (br_f (by decide) (br_f (by decide) (br_t (by decide) (br_c (fun q => nm_e ?_) (fun q => nm_e ?_)))))))))))
    · rw [show rn_pc p 10 x y z bRG = nI (p + 1) from if_pos q] at h; exact h
    · rw [show rn_pc p 10 x y z bRG = z from if_neg q] at h; exact h
  · exact br_f (by decide) (br_f (by decide) (br_f (by decide) (br_f (by decide) (br_f (by decide) (br_f (by decide) (br_f (by decide) (br_f (by decide) (br_f (by decide) (br_f (by decide) (nm_e h))))))))))
end
end
section
/-! the machine: both sides in lockstep -/
theorem rn_pc_in {P : Nat → Int32} {L p : Nat} {rg : Nat → Int32} (ok : pw_ok P L) (hL : L ≤ 48) (hp : p < L) : ∃ q, q ≤ 48 ∧ rn_pc p (P (4 * p)) (P (4 * p + 1)) (P (4 * p + 2)) (P (4 * p + 3)) rg = nI q := by
  have o := ok p hp
  unfold rn_pc
  by_cases h9 : P (4 * p) = 9
  · rw [if_pos h9]
    rw [h9] at o
    obtain ⟨j, hj, e⟩ := ok_9.mp o
    exact ⟨j, by omega, e⟩
  · rw [if_neg h9]
    by_cases h10 : P (4 * p) = 10
    · rw [if_pos h10]
      rw [h10] at o
      obtain ⟨j, hj, e⟩ := (ok_10.mp o).2.2
      split
      · exact ⟨p + 1, by omega, rfl⟩
      · exact ⟨j, by omega, e⟩
    · rw [if_neg h10]
      exact ⟨p + 1, by omega, rfl⟩
section
variable {fLA fLB fSC fPL fLD fST fCC fLV fLC : Int32} {aRG aCE aSO aPR aMU aLS aLH aLB aCP aHC aKN aTR : Nat → Int32} {aHT aGT aFO aWK aLI aSU : Nat → Int64}
variable {gLA gLB gN gLEN gHN gRA gWA gCP gCN : Int32} {bSR bPR bMU bRG bCE bKN bRO : Nat → Int32} {bFO bHY bD bCH bCG : Nat → Int64}
variable {P : Nat → Int32} {L la lb : Nat}
theorem rn_lock (ok : pw_ok P L) (hL : L ≤ 48) (hla : la ≤ 16) (hlb : lb ≤ 16) : ∀ (d c pc : Nat) (rg ce : Nat → Int32), c + d = 4000 → pc ≤ 48 → ∃ (r : Int32) (rg' ce' : Nat → Int32),
    (∀ post : Int32 → SX → Prop, post r (nI la, nI lb, fSC, nI L, fLD, fST, fCC, fLV, fLC, rg', ce', aSO, P, aMU, aLS, aLH, aLB, aCP, aHC, aHT, aGT, aFO, aKN, aWK, aLI, aSU, aTR) → wX_run_14 post (d + 1) (nI pc) (nI c) (nI la) (nI lb) fSC (nI L) fLD fST fCC fLV fLC rg ce aSO P aMU aLS aLH aLB aCP aHC aHT aGT aFO aKN aWK aLI aSU aTR) ∧
    (∀ post : Int32 → SY → Prop, post r (nI la, nI lb, gN, nI L, gHN, gRA, gWA, gCP, gCN, bSR, P, bMU, rg', ce', bFO, bKN, bHY, bD, bCH, bCG, bRO) → wY_run_88 post (nI la) (nI lb) gN (nI L) gHN gRA gWA gCP gCN (d + 1) (nI pc) (nI c) bSR P bMU rg ce bFO bKN bHY bD bCH bCG bRO) := by
  intro d
  induction d with
  | zero =>
    intro c pc rg ce hc hpc
    by_cases hp : pc < L
    · exact ⟨-2, rg, ce, fun post h => br_f (nI_nlt (a := 4000) (b := c) (by omega) (by decide)) (br_f (nI_pos (by omega)) (br_t (nI_lt hp (by omega)) (pk_eq c 4000 (fun _ => h) (fun z => absurd hc z)))),
        fun post h => br_f (nI_nlt (a := 4000) (b := c) (by omega) (by decide)) (br_t (nI_lt hp (by omega)) (pk_eq c 4000 (fun _ => h) (fun z => absurd hc z)))⟩
    · exact ⟨-1, rg, ce, fun post h => br_f (nI_nlt (a := 4000) (b := c) (by omega) (by decide)) (br_f (nI_pos (by omega)) (br_f (nI_nlt (by omega) (by omega)) h)),
        fun post h => br_f (nI_nlt (a := 4000) (b := c) (by omega) (by decide)) (br_f (nI_nlt (by omega) (by omega)) h)⟩
  | succ d ih =>
    intro c pc rg ce hc hpc
    have hc4 : ¬ nI 4000 < nI c := nI_nlt (by omega) (by decide)
    have hc5 : ¬ nI c = nI 4000 := fun e => by have := (nI_eq (by omega) (by decide)).mp e; omega
    by_cases hp : pc < L
    · have x4 : vp_in (nI pc * nI 4) 192 := pk_in (4 * pc) 192 (by omega) (ix_l0 4 pc)
      have ex : P (nI pc * nI 4).toNatClampNeg = P (4 * pc) := rd_e (ix_l0 4 pc)
      have rdY : ∀ {A : Int32 → Int32 → Int32 → Int32 → Prop}, A (P (4 * pc)) (P (4 * pc + 1)) (P (4 * pc + 2)) (P (4 * pc + 3)) →
          (vp_in (4 * nI pc) 192 ∧ ∀ x3 : Int32, x3 = P (4 * nI pc).toNatClampNeg → (vp_in (4 * nI pc + 1) 192 ∧ ∀ x4 : Int32, x4 = P (4 * nI pc + 1).toNatClampNeg → (vp_in (4 * nI pc + 2) 192 ∧ ∀ x5 : Int32, x5 = P (4 * nI pc + 2).toNatClampNeg → (vp_in (4 * nI pc + 3) 192 ∧ ∀ x6 : Int32, x6 = P (4 * nI pc + 3).toNatClampNeg → A x3 x4 x5 x6)))) := fun h =>
        ⟨pk_in (4 * pc) 192 (by omega) (ix_r0 4 pc), rd_n (4 * pc) (ix_r0 4 pc) ⟨pk_in (4 * pc + 1) 192 (by omega) (ix_r 4 pc 1), rd_n (4 * pc + 1) (ix_r 4 pc 1) ⟨pk_in (4 * pc + 2) 192 (by omega) (ix_r 4 pc 2), rd_n (4 * pc + 2) (ix_r 4 pc 2) ⟨pk_in (4 * pc + 3) 192 (by omega) (ix_r 4 pc 3), rd_n (4 * pc + 3) (ix_r 4 pc 3) h⟩⟩⟩⟩
      by_cases h00 : P (4 * pc) = 0
      · refine ⟨-1, rg, ce, fun post h => br_f hc4 (br_f (nI_pos (by omega)) (br_t (nI_lt hp (by omega)) (br_f hc5 ⟨x4, br_t (ex.trans h00) h⟩))), fun post h => br_f hc4 (br_t (nI_lt hp (by omega)) (br_f hc5 ?_))⟩
        exact rdY (br_t h00 h)
      · by_cases nb : rn_bad la lb (P (4 * pc)) (P (4 * pc + 1)) (P (4 * pc + 2)) (P (4 * pc + 3)) rg
        · refine ⟨nI pc, rg, ce, fun post h => br_f hc4 (br_f (nI_pos (by omega)) (br_t (nI_lt hp (by omega)) (br_f hc5 ⟨x4, br_f (fun z => h00 (ex.symm.trans z)) ?_⟩))), fun post h => br_f hc4 (br_t (nI_lt hp (by omega)) (br_f hc5 ?_))⟩
          · exact xr_fail hp hL (fun _ => br_f (by decide) h) (fun z => absurd nb z)
          · refine rdY (br_f h00 (yr_reg (yr_reg (yr_reg ?_))))
            rcases nb with ⟨e, q⟩ | ⟨e, q⟩
            · exact br_t e (yr_isC (fun z => absurd z q) (fun _ => br_t rfl h))
            · exact br_f (by rw [e]; decide) (br_t e (yr_isC (fun z => absurd z q) (fun _ => br_t rfl h)))
        · obtain ⟨q, hq, eq⟩ := rn_pc_in (rg := rg) ok hL hp
          obtain ⟨r, rg', ce', hX, hY⟩ := ih (c + 1) q (rn_rg (P (4 * pc)) (P (4 * pc + 1)) (P (4 * pc + 2)) (P (4 * pc + 3)) rg ce) (rn_ce (P (4 * pc)) (P (4 * pc + 1)) (P (4 * pc + 2)) (P (4 * pc + 3)) rg ce) (by omega) hq
          refine ⟨r, rg', ce', fun post h => br_f hc4 (br_f (nI_pos (by omega)) (br_t (nI_lt hp (by omega)) (br_f hc5 ⟨x4, br_f (fun z => h00 (ex.symm.trans z)) ?_⟩))), fun post h => br_f hc4 (br_t (nI_lt hp (by omega)) (br_f hc5 ?_))⟩
          · refine xr_fail hp hL (fun z => absurd z nb) (fun _ => br_t rfl ?_)
            refine xr_exec hp hL hla hlb ok h00 nb (nm_r (nI_1 c) ?_)
            rw [eq]
            exact hX post h
          · refine rdY (br_f h00 (yr_reg (yr_reg (yr_reg ?_))))
            have last : wY_run_228 post (wY_run_88 post (nI la) (nI lb) gN (nI L) gHN gRA gWA gCP gCN (d + 1)) (nI pc) (nI c) (P (4 * pc)) (P (4 * pc + 1)) (P (4 * pc + 2)) (P (4 * pc + 3)) (rg_v rg (P (4 * pc + 1))) (rg_v rg (P (4 * pc + 2))) (rg_v rg (P (4 * pc + 3))) (nI la) (nI lb) gN (nI L) gHN gRA gWA gCP gCN bSR P bMU rg ce bFO bKN bHY bD bCH bCG bRO := by
              refine yr_228 hla hlb (ok pc hp) h00 nb ?_
              rw [eq, nI_1 c]
              exact hY post h
            have s209 : wY_run_209 post (wY_run_88 post (nI la) (nI lb) gN (nI L) gHN gRA gWA gCP gCN (d + 1)) (nI pc) (nI c) (P (4 * pc)) (P (4 * pc + 1)) (P (4 * pc + 2)) (P (4 * pc + 3)) (rg_v rg (P (4 * pc + 1))) (rg_v rg (P (4 * pc + 2))) (rg_v rg (P (4 * pc + 3))) (nI la) (nI lb) gN (nI L) gHN gRA gWA gCP gCN bSR P bMU rg ce bFO bKN bHY bD bCH bCG bRO :=
              br_c (fun e => yr_isC (fun _ => br_f (by decide) last) (fun z => absurd (Or.inr ⟨e, z⟩) nb)) (fun _ => last)
            exact br_c (fun e => yr_isC (fun _ => br_f (by decide) s209) (fun z => absurd (Or.inl ⟨e, z⟩) nb)) (fun _ => s209)
    · exact ⟨-1, rg, ce, fun post h => br_f hc4 (br_f (nI_pos (by omega)) (br_f (nI_nlt (by omega) (by omega)) h)), fun post h => br_f hc4 (br_f (nI_nlt (by omega) (by omega)) h)⟩
theorem rn_run (ok : pw_ok P L) (hL : L ≤ 48) (hla : la ≤ 16) (hlb : lb ≤ 16) : ∃ (r : Int32) (rg' ce' : Nat → Int32),
    (∀ post : Int32 → SX → Prop, post r (nI la, nI lb, fSC, nI L, fLD, fST, fCC, fLV, fLC, rg', ce', aSO, P, aMU, aLS, aLH, aLB, aCP, aHC, aHT, aGT, aFO, aKN, aWK, aLI, aSU, aTR) → wpX_run post (nI la, nI lb, fSC, nI L, fLD, fST, fCC, fLV, fLC, aRG, aCE, aSO, P, aMU, aLS, aLH, aLB, aCP, aHC, aHT, aGT, aFO, aKN, aWK, aLI, aSU, aTR)) ∧
    (∀ post : Int32 → SY → Prop, post r (nI la, nI lb, gN, nI L, gHN, gRA, gWA, gCP, gCN, bSR, P, bMU, rg', ce', bFO, bKN, bHY, bD, bCH, bCG, bRO) → wpY_run post (nI la, nI lb, gN, nI L, gHN, gRA, gWA, gCP, gCN, bSR, P, bMU, aRG, aCE, bFO, bKN, bHY, bD, bCH, bCG, bRO)) := by
  have keyY : ∀ (post : Int32 → SY → Prop), (pr_ok P aRG L 0 = true → ∃ n, wY_run_88 post (nI la) (nI lb) gN (nI L) gHN gRA gWA gCP gCN n 0 0 bSR P bMU aRG aCE bFO bKN bHY bD bCH bCG bRO) → (pr_ok P aRG L 0 = false → post (-3) (nI la, nI lb, gN, nI L, gHN, gRA, gWA, gCP, gCN, bSR, P, bMU, aRG, aCE, bFO, bKN, bHY, bD, bCH, bCG, bRO)) → wpY_run post (nI la, nI lb, gN, nI L, gHN, gRA, gWA, gCP, gCN, bSR, P, bMU, aRG, aCE, bFO, bKN, bHY, bD, bCH, bCG, bRO) := by
    intro post h1 h0
    have key : ∀ n q, q + n = L → (pr_ok P aRG n q = true → ∃ n, wY_run_88 post (nI la) (nI lb) gN (nI L) gHN gRA gWA gCP gCN n 0 0 bSR P bMU aRG aCE bFO bKN bHY bD bCH bCG bRO) → (pr_ok P aRG n q = false → post (-3) (nI la, nI lb, gN, nI L, gHN, gRA, gWA, gCP, gCN, bSR, P, bMU, aRG, aCE, bFO, bKN, bHY, bD, bCH, bCG, bRO)) → wY_run_2 post (nI la) (nI lb) gN (nI L) gHN gRA gWA gCP gCN bSR P bMU aRG aCE bFO bKN bHY bD bCH bCG bRO (n + 1) (nI q) := by
      intro n
      induction n with
      | zero => intro q hq h1 h0; exact pk_le L q (fun _ => h1 rfl) (fun z => absurd z (by omega))
      | succ n ih =>
        intro q hq h1 h0
        unfold pr_ok at h1 h0
        refine br_f (nI_ge (b := L) (by omega) (by omega)) ⟨pk_in (4 * q) 192 (by omega) (ix_r0 4 q), ?_⟩
        rw [rd_e (a := P) (x := 4 * nI q) (ix_r0 4 q)]
        refine br_c (fun e => ⟨pk_in (4 * q + 1) 192 (by omega) (ix_r 4 q 1), ?_⟩) (fun e => ?_)
        · rw [if_pos e] at h1 h0
          rw [rd_e (a := P) (x := 4 * nI q + 1) (ix_r 4 q 1)]
          refine yr_reg ⟨pk_in (4 * q + 2) 192 (by omega) (ix_r 4 q 2), ?_⟩
          rw [rd_e (a := P) (x := 4 * nI q + 2) (ix_r 4 q 2)]
          refine yr_reg ⟨pk_in (4 * q + 3) 192 (by omega) (ix_r 4 q 3), ?_⟩
          rw [rd_e (a := P) (x := 4 * nI q + 3) (ix_r 4 q 3)]
          refine br_c (fun z => nm_r (nI_1 q) (ih (q + 1) (by omega) ?_ ?_)) (fun z => ?_)
          · rw [if_pos z] at h1; exact h1
          · rw [if_pos z] at h0; exact h0
          · rw [if_neg z] at h0; exact h0 rfl
        · rw [if_neg e] at h1; exact h1 rfl
    exact ⟨L + 1, key L 0 (by omega) h1 h0⟩
  cases hpr : pr_ok P aRG L 0 with
  | false =>
    refine ⟨-3, aRG, aCE, fun post h => ?_, fun post h => keyY post (fun z => absurd (hpr.symm.trans z) (by decide)) (fun _ => h)⟩
    unfold wpX_run
    refine xr_pre hL ?_
    rw [if_neg (by rw [hpr]; decide)]
    exact br_t rfl h
  | true =>
    obtain ⟨r, rg', ce', hX, hY⟩ := rn_lock (fSC := fSC) (fLD := fLD) (fST := fST) (fCC := fCC) (fLV := fLV) (fLC := fLC) (aSO := aSO) (aMU := aMU) (aLS := aLS) (aLH := aLH) (aLB := aLB) (aCP := aCP) (aHC := aHC) (aHT := aHT) (aGT := aGT) (aFO := aFO) (aKN := aKN) (aWK := aWK) (aLI := aLI) (aSU := aSU) (aTR := aTR)
      (gN := gN) (gHN := gHN) (gRA := gRA) (gWA := gWA) (gCP := gCP) (gCN := gCN) (bSR := bSR) (bMU := bMU) (bFO := bFO) (bKN := bKN) (bHY := bHY) (bD := bD) (bCH := bCH) (bCG := bCG) (bRO := bRO) ok hL hla hlb 4000 0 0 aRG aCE (by omega) (by omega)
    refine ⟨r, rg', ce', fun post h => ?_, fun post h => keyY post (fun _ => ⟨4001, hY post h⟩) (fun z => absurd (hpr.symm.trans z) (by decide))⟩
    unfold wpX_run
    refine xr_pre hL ?_
    rw [if_pos hpr]
    exact br_f (by decide) ⟨4001, hX post h⟩
end
end
section
/-! rows of multipliers: codes t < 15625, six digits to the base 5 -/
def dv_d (t : Nat) : Nat → Nat
  | 0 => t
  | k + 1 => dv_d t k / 5
def dg_d (t i : Nat) : Nat := dv_d t (5 - i) % 5
def dg_tot (t : Nat) : Nat := dg_d t 0 + dg_d t 1 + dg_d t 2 + dg_d t 3 + dg_d t 4 + dg_d t 5
def dg_sup (n t : Nat) : Prop := ∀ i, n ≤ i → i < 6 → dg_d t i = 0
def dg_lst (t : Nat) : Nat → Nat
  | 0 => 0
  | m + 1 => if dg_d t m = 0 then dg_lst t m else m
def nx_c (n t : Nat) : Option Nat :=
  if dg_tot t = 4 then (if dg_lst t n = 0 then none else some (t - dg_d t (dg_lst t n) * 5 ^ (5 - dg_lst t n) + 5 ^ (6 - dg_lst t n)))
  else if n = 0 then none else some (t + 5 ^ (6 - n))
def it_c (n : Nat) : Nat → Option Nat
  | 0 => some 0
  | i + 1 => match it_c n i with
    | none => none
    | some t => nx_c n t
theorem dg_e (t : Nat) : dg_d t 0 = t / 5 / 5 / 5 / 5 / 5 % 5 ∧ dg_d t 1 = t / 5 / 5 / 5 / 5 % 5 ∧ dg_d t 2 = t / 5 / 5 / 5 % 5 ∧ dg_d t 3 = t / 5 / 5 % 5 ∧ dg_d t 4 = t / 5 % 5 ∧ dg_d t 5 = t % 5 := ⟨rfl, rfl, rfl, rfl, rfl, rfl⟩
theorem dg_lt (t i : Nat) : dg_d t i < 5 := Nat.mod_lt _ (by decide)
theorem dg_i {i : Nat} (h : i < 6) : i = 0 ∨ i = 1 ∨ i = 2 ∨ i = 3 ∨ i = 4 ∨ i = 5 := by omega
theorem lst_lt {t n : Nat} : dg_lst t n = 0 ∨ dg_lst t n < n := by
  induction n with
  | zero => exact Or.inl rfl
  | succ n ih =>
    unfold dg_lst
    split
    · rcases ih with h | h
      · exact Or.inl h
      · exact Or.inr (by omega)
    · exact Or.inr (by omega)
/-- beyond the last nonzero place all is zero -/
theorem lst_gt {t : Nat} : ∀ n i, dg_lst t n < i → i < n → dg_d t i = 0 := by
  intro n
  induction n with
  | zero => intro i _ h; omega
  | succ n ih =>
    intro i h1 h2
    unfold dg_lst at h1
    by_cases z : dg_d t n = 0
    · rw [if_pos z] at h1
      by_cases e : i = n
      · rw [e]; exact z
      · exact ih i h1 (by omega)
    · rw [if_neg z] at h1; omega
theorem lst_nz {t : Nat} : ∀ n, (∃ i, i < n ∧ ¬ dg_d t i = 0) → ¬ dg_d t (dg_lst t n) = 0 := by
  intro n
  induction n with
  | zero => rintro ⟨i, hi, _⟩; omega
  | succ n ih =>
    rintro ⟨i, hi, h⟩
    unfold dg_lst
    by_cases z : dg_d t n = 0
    · rw [if_pos z]
      refine ih ⟨i, ?_, h⟩
      by_cases e : i = n
      · rw [e] at h; exact absurd z h
      · omega
    · rw [if_neg z]; exact z
theorem it_end : it_c 0 210 = none ∧ it_c 1 210 = none ∧ it_c 2 210 = none ∧ it_c 3 210 = none ∧ it_c 4 210 = none ∧ it_c 5 210 = none ∧ it_c 6 210 = none := by
  refine ⟨?_, ?_, ?_, ?_, ?_, ?_, ?_⟩ <;> decide +kernel
theorem it_end' {n : Nat} (h : n ≤ 6) : it_c n 210 = none := by
  obtain ⟨a, b, c, d, e, f, g⟩ := it_end
  have : n = 0 ∨ n = 1 ∨ n = 2 ∨ n = 3 ∨ n = 4 ∨ n = 5 ∨ n = 6 := by omega
  rcases this with rfl | rfl | rfl | rfl | rfl | rfl | rfl
  · exact a
  · exact b
  · exact c
  · exact d
  · exact e
  · exact f
  · exact g
theorem dg_sum {t : Nat} (h : t < 15625) : t = 3125 * dg_d t 0 + 625 * dg_d t 1 + 125 * dg_d t 2 + 25 * dg_d t 3 + 5 * dg_d t 4 + dg_d t 5 := by
  obtain ⟨e0, e1, e2, e3, e4, e5⟩ := dg_e t
  rw [e0, e1, e2, e3, e4, e5]
  omega
theorem dg_of {a b c d e f : Nat} (ha : a < 5) (hb : b < 5) (hc : c < 5) (hd : d < 5) (he : e < 5) (hf : f < 5) {t : Nat} (ht : t = 3125 * a + 625 * b + 125 * c + 25 * d + 5 * e + f) : dg_d t 0 = a ∧ dg_d t 1 = b ∧ dg_d t 2 = c ∧ dg_d t 3 = d ∧ dg_d t 4 = e ∧ dg_d t 5 = f := by
  obtain ⟨e0, e1, e2, e3, e4, e5⟩ := dg_e t
  have h1 : t / 5 = 625 * a + 125 * b + 25 * c + 5 * d + e := by omega
  have h2 : t / 5 / 5 = 125 * a + 25 * b + 5 * c + d := by omega
  have h3 : t / 5 / 5 / 5 = 25 * a + 5 * b + c := by omega
  have h4 : t / 5 / 5 / 5 / 5 = 5 * a + b := by omega
  have h5 : t / 5 / 5 / 5 / 5 / 5 = a := by omega
  rw [e0, e1, e2, e3, e4, e5, h5, h4, h3, h2, h1]
  omega
theorem nx_d1 {n t : Nat} (hn : 0 < n) (hn6 : n ≤ 6) (ht : t < 15625) (h4 : dg_tot t < 4) : t + 5 ^ (6 - n) < 15625 ∧ ∀ i, i < 6 → dg_d (t + 5 ^ (6 - n)) i = if i = n - 1 then dg_d t i + 1 else dg_d t i := by
  have s := dg_sum ht
  unfold dg_tot at h4
  have l := dg_lt t
  generalize ea : dg_d t 0 = a at s h4
  generalize eb : dg_d t 1 = b at s h4
  generalize ec : dg_d t 2 = c at s h4
  generalize ed : dg_d t 3 = d at s h4
  generalize ee : dg_d t 4 = e at s h4
  generalize ef : dg_d t 5 = f at s h4
  have : n = 1 ∨ n = 2 ∨ n = 3 ∨ n = 4 ∨ n = 5 ∨ n = 6 := by omega
  rcases this with rfl | rfl | rfl | rfl | rfl | rfl
  · obtain ⟨q0, q1, q2, q3, q4, q5⟩ := dg_of (a := (a + 1)) (b := b) (c := c) (d := d) (e := e) (f := f) (by omega) (by omega) (by omega) (by omega) (by omega) (by omega) (t := t + 3125) (by omega)
    refine ⟨show t + 3125 < 15625 by omega, fun i hi => ?_⟩
    rcases dg_i hi with rfl | rfl | rfl | rfl | rfl | rfl
    · rw [if_pos (by omega)]; exact q0.trans (by omega)
    · rw [if_neg (by omega)]; exact q1.trans (by omega)
    · rw [if_neg (by omega)]; exact q2.trans (by omega)
    · rw [if_neg (by omega)]; exact q3.trans (by omega)
    · rw [if_neg (by omega)]; exact q4.trans (by omega)
    · rw [if_neg (by omega)]; exact q5.trans (by omega)
  · obtain ⟨q0, q1, q2, q3, q4, q5⟩ := dg_of (a := a) (b := (b + 1)) (c := c) (d := d) (e := e) (f := f) (by omega) (by omega) (by omega) (by omega) (by omega) (by omega) (t := t + 625) (by omega)
    refine ⟨show t + 625 < 15625 by omega, fun i hi => ?_⟩
    rcases dg_i hi with rfl | rfl | rfl | rfl | rfl | rfl
    · rw [if_neg (by omega)]; exact q0.trans (by omega)
    · rw [if_pos (by omega)]; exact q1.trans (by omega)
    · rw [if_neg (by omega)]; exact q2.trans (by omega)
    · rw [if_neg (by omega)]; exact q3.trans (by omega)
    · rw [if_neg (by omega)]; exact q4.trans (by omega)
    · rw [if_neg (by omega)]; exact q5.trans (by omega)
  · obtain ⟨q0, q1, q2, q3, q4, q5⟩ := dg_of (a := a) (b := b) (c := (c + 1)) (d := d) (e := e) (f := f) (by omega) (by omega) (by omega) (by omega) (by omega) (by omega) (t := t + 125) (by omega)
    refine ⟨show t + 125 < 15625 by omega, fun i hi => ?_⟩
    rcases dg_i hi with rfl | rfl | rfl | rfl | rfl | rfl
    · rw [if_neg (by omega)]; exact q0.trans (by omega)
    · rw [if_neg (by omega)]; exact q1.trans (by omega)
    · rw [if_pos (by omega)]; exact q2.trans (by omega)
    · rw [if_neg (by omega)]; exact q3.trans (by omega)
    · rw [if_neg (by omega)]; exact q4.trans (by omega)
    · rw [if_neg (by omega)]; exact q5.trans (by omega)
  · obtain ⟨q0, q1, q2, q3, q4, q5⟩ := dg_of (a := a) (b := b) (c := c) (d := (d + 1)) (e := e) (f := f) (by omega) (by omega) (by omega) (by omega) (by omega) (by omega) (t := t + 25) (by omega)
    refine ⟨show t + 25 < 15625 by omega, fun i hi => ?_⟩
    rcases dg_i hi with rfl | rfl | rfl | rfl | rfl | rfl
    · rw [if_neg (by omega)]; exact q0.trans (by omega)
    · rw [if_neg (by omega)]; exact q1.trans (by omega)
    · rw [if_neg (by omega)]; exact q2.trans (by omega)
    · rw [if_pos (by omega)]; exact q3.trans (by omega)
    · rw [if_neg (by omega)]; exact q4.trans (by omega)
    · rw [if_neg (by omega)]; exact q5.trans (by omega)
  · obtain ⟨q0, q1, q2, q3, q4, q5⟩ := dg_of (a := a) (b := b) (c := c) (d := d) (e := (e + 1)) (f := f) (by omega) (by omega) (by omega) (by omega) (by omega) (by omega) (t := t + 5) (by omega)
    refine ⟨show t + 5 < 15625 by omega, fun i hi => ?_⟩
    rcases dg_i hi with rfl | rfl | rfl | rfl | rfl | rfl
    · rw [if_neg (by omega)]; exact q0.trans (by omega)
    · rw [if_neg (by omega)]; exact q1.trans (by omega)
    · rw [if_neg (by omega)]; exact q2.trans (by omega)
    · rw [if_neg (by omega)]; exact q3.trans (by omega)
    · rw [if_pos (by omega)]; exact q4.trans (by omega)
    · rw [if_neg (by omega)]; exact q5.trans (by omega)
  · obtain ⟨q0, q1, q2, q3, q4, q5⟩ := dg_of (a := a) (b := b) (c := c) (d := d) (e := e) (f := (f + 1)) (by omega) (by omega) (by omega) (by omega) (by omega) (by omega) (t := t + 1) (by omega)
    refine ⟨show t + 1 < 15625 by omega, fun i hi => ?_⟩
    rcases dg_i hi with rfl | rfl | rfl | rfl | rfl | rfl
    · rw [if_neg (by omega)]; exact q0.trans (by omega)
    · rw [if_neg (by omega)]; exact q1.trans (by omega)
    · rw [if_neg (by omega)]; exact q2.trans (by omega)
    · rw [if_neg (by omega)]; exact q3.trans (by omega)
    · rw [if_neg (by omega)]; exact q4.trans (by omega)
    · rw [if_pos (by omega)]; exact q5.trans (by omega)
theorem nx_d2 {l t : Nat} (hl : 0 < l) (hl6 : l < 6) (ht : t < 15625) (h4 : dg_tot t = 4) (hz : ¬ dg_d t l = 0) (hs : ∀ i, l < i → i < 6 → dg_d t i = 0) : t - dg_d t l * 5 ^ (5 - l) + 5 ^ (6 - l) < 15625 ∧ t < t - dg_d t l * 5 ^ (5 - l) + 5 ^ (6 - l) ∧ ∀ i, i < 6 → dg_d (t - dg_d t l * 5 ^ (5 - l) + 5 ^ (6 - l)) i = if i = l then 0 else if i = l - 1 then dg_d t i + 1 else dg_d t i := by
  have s := dg_sum ht
  unfold dg_tot at h4
  have k := dg_lt t
  have : l = 1 ∨ l = 2 ∨ l = 3 ∨ l = 4 ∨ l = 5 := by omega
  rcases this with rfl | rfl | rfl | rfl | rfl
  · have z2 := hs 2 (by omega) (by omega)
    have z3 := hs 3 (by omega) (by omega)
    have z4 := hs 4 (by omega) (by omega)
    have z5 := hs 5 (by omega) (by omega)
    generalize ea : dg_d t 0 = a at s h4 hz ⊢
    generalize eb : dg_d t 1 = b at s h4 hz ⊢
    generalize ec : dg_d t 2 = c at s h4 hz z2 ⊢
    generalize ed : dg_d t 3 = d at s h4 hz z3 ⊢
    generalize ee : dg_d t 4 = e at s h4 hz z4 ⊢
    generalize ef : dg_d t 5 = f at s h4 hz z5 ⊢
    have k0 := k 0; have k1 := k 1; have k2 := k 2; have k3 := k 3; have k4 := k 4; have k5 := k 5
    rw [ea] at k0; rw [eb] at k1; rw [ec] at k2; rw [ed] at k3; rw [ee] at k4; rw [ef] at k5
    obtain ⟨q0, q1, q2, q3, q4, q5⟩ := dg_of (a := (a + 1)) (b := 0) (c := c) (d := d) (e := e) (f := f) (by omega) (by omega) (by omega) (by omega) (by omega) (by omega) (t := t - b * 625 + 3125) (by omega)
    refine ⟨show t - b * 625 + 3125 < 15625 by omega, show t < t - b * 625 + 3125 by omega, fun i hi => ?_⟩
    rcases dg_i hi with rfl | rfl | rfl | rfl | rfl | rfl
    · rw [if_neg (by omega), if_pos (by omega)]; exact q0.trans (by omega)
    · rw [if_pos rfl]; exact q1
    · rw [if_neg (by omega), if_neg (by omega)]; exact q2.trans (by omega)
    · rw [if_neg (by omega), if_neg (by omega)]; exact q3.trans (by omega)
    · rw [if_neg (by omega), if_neg (by omega)]; exact q4.trans (by omega)
    · rw [if_neg (by omega), if_neg (by omega)]; exact q5.trans (by omega)
  · have z3 := hs 3 (by omega) (by omega)
    have z4 := hs 4 (by omega) (by omega)
    have z5 := hs 5 (by omega) (by omega)
    generalize ea : dg_d t 0 = a at s h4 hz ⊢
    generalize eb : dg_d t 1 = b at s h4 hz ⊢
    generalize ec : dg_d t 2 = c at s h4 hz ⊢
    generalize ed : dg_d t 3 = d at s h4 hz z3 ⊢
    generalize ee : dg_d t 4 = e at s h4 hz z4 ⊢
    generalize ef : dg_d t 5 = f at s h4 hz z5 ⊢
    have k0 := k 0; have k1 := k 1; have k2 := k 2; have k3 := k 3; have k4 := k 4; have k5 := k 5
    rw [ea] at k0; rw [eb] at k1; rw [ec] at k2; rw [ed] at k3; rw [ee] at k4; rw [ef] at k5
    obtain ⟨q0, q1, q2, q3, q4, q5⟩ := dg_of (a := a) (b := (b + 1)) (c := 0) (d := d) (e := e) (f := f) (by omega) (by omega) (by omega) (by omega) (by omega) (by omega) (t := t - c * 125 + 625) (by omega)
    refine ⟨show t - c * 125 + 625 < 15625 by omega, show t < t - c * 125 + 625 by omega, fun i hi => ?_⟩
    rcases dg_i hi with rfl | rfl | rfl | rfl | rfl | rfl
    · rw [if_neg (by omega), if_neg (by omega)]; exact q0.trans (by omega)
    · rw [if_neg (by omega), if_pos (by omega)]; exact q1.trans (by omega)
    · rw [if_pos rfl]; exact q2
    · rw [if_neg (by omega), if_neg (by omega)]; exact q3.trans (by omega)
    · rw [if_neg (by omega), if_neg (by omega)]; exact q4.trans (by omega)
    · rw [if_neg (by omega), if_neg (by omega)]; exact q5.trans (by omega)
  · have z4 := hs 4 (by omega) (by omega)
    have z5 := hs 5 (by omega) (by omega)
    generalize ea : dg_d t 0 = a at s h4 hz ⊢
    generalize eb : dg_d t 1 = b at s h4 hz ⊢
    generalize ec : dg_d t 2 = c at s h4 hz ⊢
    generalize ed : dg_d t 3 = d at s h4 hz ⊢
    generalize ee : dg_d t 4 = e at s h4 hz z4 ⊢
    generalize ef : dg_d t 5 = f at s h4 hz z5 ⊢
    have k0 := k 0; have k1 := k 1; have k2 := k 2; have k3 := k 3; have k4 := k 4; have k5 := k 5
    rw [ea] at k0; rw [eb] at k1; rw [ec] at k2; rw [ed] at k3; rw [ee] at k4; rw [ef] at k5
    obtain ⟨q0, q1, q2, q3, q4, q5⟩ := dg_of (a := a) (b := b) (c := (c + 1)) (d := 0) (e := e) (f := f) (by omega) (by omega) (by omega) (by omega) (by omega) (by omega) (t := t - d * 25 + 125) (by omega)
    refine ⟨show t - d * 25 + 125 < 15625 by omega, show t < t - d * 25 + 125 by omega, fun i hi => ?_⟩
    rcases dg_i hi with rfl | rfl | rfl | rfl | rfl | rfl
    · rw [if_neg (by omega), if_neg (by omega)]; exact q0.trans (by omega)
    · rw [if_neg (by omega), if_neg (by omega)]; exact q1.trans (by omega)
    · rw [if_neg (by omega), if_pos (by omega)]; exact q2.trans (by omega)
    · rw [if_pos rfl]; exact q3
    · rw [if_neg (by omega), if_neg (by omega)]; exact q4.trans (by omega)
    · rw [if_neg (by omega), if_neg (by omega)]; exact q5.trans (by omega)
  · have z5 := hs 5 (by omega) (by omega)
    generalize ea : dg_d t 0 = a at s h4 hz ⊢
    generalize eb : dg_d t 1 = b at s h4 hz ⊢
    generalize ec : dg_d t 2 = c at s h4 hz ⊢
    generalize ed : dg_d t 3 = d at s h4 hz ⊢
    generalize ee : dg_d t 4 = e at s h4 hz ⊢
    generalize ef : dg_d t 5 = f at s h4 hz z5 ⊢
    have k0 := k 0; have k1 := k 1; have k2 := k 2; have k3 := k 3; have k4 := k 4; have k5 := k 5
    rw [ea] at k0; rw [eb] at k1; rw [ec] at k2; rw [ed] at k3; rw [ee] at k4; rw [ef] at k5
    obtain ⟨q0, q1, q2, q3, q4, q5⟩ := dg_of (a := a) (b := b) (c := c) (d := (d + 1)) (e := 0) (f := f) (by omega) (by omega) (by omega) (by omega) (by omega) (by omega) (t := t - e * 5 + 25) (by omega)
    refine ⟨show t - e * 5 + 25 < 15625 by omega, show t < t - e * 5 + 25 by omega, fun i hi => ?_⟩
    rcases dg_i hi with rfl | rfl | rfl | rfl | rfl | rfl
    · rw [if_neg (by omega), if_neg (by omega)]; exact q0.trans (by omega)
    · rw [if_neg (by omega), if_neg (by omega)]; exact q1.trans (by omega)
    · rw [if_neg (by omega), if_neg (by omega)]; exact q2.trans (by omega)
    · rw [if_neg (by omega), if_pos (by omega)]; exact q3.trans (by omega)
    · rw [if_pos rfl]; exact q4
    · rw [if_neg (by omega), if_neg (by omega)]; exact q5.trans (by omega)
  · generalize ea : dg_d t 0 = a at s h4 hz ⊢
    generalize eb : dg_d t 1 = b at s h4 hz ⊢
    generalize ec : dg_d t 2 = c at s h4 hz ⊢
    generalize ed : dg_d t 3 = d at s h4 hz ⊢
    generalize ee : dg_d t 4 = e at s h4 hz ⊢
    generalize ef : dg_d t 5 = f at s h4 hz ⊢
    have k0 := k 0; have k1 := k 1; have k2 := k 2; have k3 := k 3; have k4 := k 4; have k5 := k 5
    rw [ea] at k0; rw [eb] at k1; rw [ec] at k2; rw [ed] at k3; rw [ee] at k4; rw [ef] at k5
    obtain ⟨q0, q1, q2, q3, q4, q5⟩ := dg_of (a := a) (b := b) (c := c) (d := d) (e := (e + 1)) (f := 0) (by omega) (by omega) (by omega) (by omega) (by omega) (by omega) (t := t - f * 1 + 5) (by omega)
    refine ⟨show t - f * 1 + 5 < 15625 by omega, show t < t - f * 1 + 5 by omega, fun i hi => ?_⟩
    rcases dg_i hi with rfl | rfl | rfl | rfl | rfl | rfl
    · rw [if_neg (by omega), if_neg (by omega)]; exact q0.trans (by omega)
    · rw [if_neg (by omega), if_neg (by omega)]; exact q1.trans (by omega)
    · rw [if_neg (by omega), if_neg (by omega)]; exact q2.trans (by omega)
    · rw [if_neg (by omega), if_neg (by omega)]; exact q3.trans (by omega)
    · rw [if_neg (by omega), if_pos (by omega)]; exact q4.trans (by omega)
    · rw [if_pos rfl]; exact q5
/-- no row between a row that isn't full and its next -/
theorem gp_1 {n t s : Nat} (hn : 0 < n) (hn6 : n ≤ 6) (ht : t < 15625) (hs : s < 15625) (st : dg_sup n t) (ss : dg_sup n s) (h1 : t < s) (h2 : s < t + 5 ^ (6 - n)) : False := by
  have a := dg_sum ht
  have b := dg_sum hs
  have : n = 1 ∨ n = 2 ∨ n = 3 ∨ n = 4 ∨ n = 5 ∨ n = 6 := by omega
  rcases this with rfl | rfl | rfl | rfl | rfl | rfl
  · rw [st 1 (by omega) (by omega)] at a; rw [ss 1 (by omega) (by omega)] at b
    rw [st 2 (by omega) (by omega)] at a; rw [ss 2 (by omega) (by omega)] at b
    rw [st 3 (by omega) (by omega)] at a; rw [ss 3 (by omega) (by omega)] at b
    rw [st 4 (by omega) (by omega)] at a; rw [ss 4 (by omega) (by omega)] at b
    rw [st 5 (by omega) (by omega)] at a; rw [ss 5 (by omega) (by omega)] at b
    have h3 : s < t + 3125 := h2
    omega
  · rw [st 2 (by omega) (by omega)] at a; rw [ss 2 (by omega) (by omega)] at b
    rw [st 3 (by omega) (by omega)] at a; rw [ss 3 (by omega) (by omega)] at b
    rw [st 4 (by omega) (by omega)] at a; rw [ss 4 (by omega) (by omega)] at b
    rw [st 5 (by omega) (by omega)] at a; rw [ss 5 (by omega) (by omega)] at b
    have h3 : s < t + 625 := h2
    omega
  · rw [st 3 (by omega) (by omega)] at a; rw [ss 3 (by omega) (by omega)] at b
    rw [st 4 (by omega) (by omega)] at a; rw [ss 4 (by omega) (by omega)] at b
    rw [st 5 (by omega) (by omega)] at a; rw [ss 5 (by omega) (by omega)] at b
    have h3 : s < t + 125 := h2
    omega
  · rw [st 4 (by omega) (by omega)] at a; rw [ss 4 (by omega) (by omega)] at b
    rw [st 5 (by omega) (by omega)] at a; rw [ss 5 (by omega) (by omega)] at b
    have h3 : s < t + 25 := h2
    omega
  · rw [st 5 (by omega) (by omega)] at a; rw [ss 5 (by omega) (by omega)] at b
    have h3 : s < t + 5 := h2
    omega
  · have h3 : s < t + 1 := h2
    omega
/-- no row between a full row and its next -/
theorem gp_2 {l t s : Nat} (hl6 : l < 6) (ht : t < 15625) (hs : s < 15625) (h4 : dg_tot t = 4) (hz : ∀ i, l < i → i < 6 → dg_d t i = 0) (h1 : t < s) (h2 : s < t - dg_d t l * 5 ^ (5 - l) + 5 ^ (6 - l)) : ¬ dg_tot s ≤ 4 := by
  intro s4
  have a := dg_sum ht
  have b := dg_sum hs
  obtain ⟨t0, t1, t2, t3, t4, t5⟩ := dg_e t
  obtain ⟨s0, s1, s2, s3, s4', s5⟩ := dg_e s
  have k := dg_lt s
  have k0 := k 0; have k1 := k 1; have k2 := k 2; have k3 := k 3; have k4 := k 4; have k5 := k 5
  unfold dg_tot at h4 s4
  have : l = 0 ∨ l = 1 ∨ l = 2 ∨ l = 3 ∨ l = 4 ∨ l = 5 := by omega
  rcases this with rfl | rfl | rfl | rfl | rfl | rfl
  · have z1 := hz 1 (by omega) (by omega)
    have z2 := hz 2 (by omega) (by omega)
    have z3 := hz 3 (by omega) (by omega)
    have z4 := hz 4 (by omega) (by omega)
    have z5 := hz 5 (by omega) (by omega)
    have h3 : s < t - dg_d t 0 * 3125 + 15625 := h2
    omega
  · have z2 := hz 2 (by omega) (by omega)
    have z3 := hz 3 (by omega) (by omega)
    have z4 := hz 4 (by omega) (by omega)
    have z5 := hz 5 (by omega) (by omega)
    have h3 : s < t - dg_d t 1 * 625 + 3125 := h2
    have eq : s / 5 / 5 / 5 / 5 / 5 = t / 5 / 5 / 5 / 5 / 5 := by omega
    have d0 : dg_d s 0 = dg_d t 0 := by rw [s0, t0, eq]
    omega
  · have z3 := hz 3 (by omega) (by omega)
    have z4 := hz 4 (by omega) (by omega)
    have z5 := hz 5 (by omega) (by omega)
    have h3 : s < t - dg_d t 2 * 125 + 625 := h2
    have eq : s / 5 / 5 / 5 / 5 = t / 5 / 5 / 5 / 5 := by omega
    have d0 : dg_d s 0 = dg_d t 0 := by rw [s0, t0, eq]
    have d1 : dg_d s 1 = dg_d t 1 := by rw [s1, t1, eq]
    omega
  · have z4 := hz 4 (by omega) (by omega)
    have z5 := hz 5 (by omega) (by omega)
    have h3 : s < t - dg_d t 3 * 25 + 125 := h2
    have eq : s / 5 / 5 / 5 = t / 5 / 5 / 5 := by omega
    have d0 : dg_d s 0 = dg_d t 0 := by rw [s0, t0, eq]
    have d1 : dg_d s 1 = dg_d t 1 := by rw [s1, t1, eq]
    have d2 : dg_d s 2 = dg_d t 2 := by rw [s2, t2, eq]
    omega
  · have z5 := hz 5 (by omega) (by omega)
    have h3 : s < t - dg_d t 4 * 5 + 25 := h2
    have eq : s / 5 / 5 = t / 5 / 5 := by omega
    have d0 : dg_d s 0 = dg_d t 0 := by rw [s0, t0, eq]
    have d1 : dg_d s 1 = dg_d t 1 := by rw [s1, t1, eq]
    have d2 : dg_d s 2 = dg_d t 2 := by rw [s2, t2, eq]
    have d3 : dg_d s 3 = dg_d t 3 := by rw [s3, t3, eq]
    omega
  · have h3 : s < t - dg_d t 5 * 1 + 5 := h2
    have eq : s / 5 = t / 5 := by omega
    have d0 : dg_d s 0 = dg_d t 0 := by rw [s0, t0, eq]
    have d1 : dg_d s 1 = dg_d t 1 := by rw [s1, t1, eq]
    have d2 : dg_d s 2 = dg_d t 2 := by rw [s2, t2, eq]
    have d3 : dg_d s 3 = dg_d t 3 := by rw [s3, t3, eq]
    have d4 : dg_d s 4 = dg_d t 4 := by rw [s4', t4, eq]
    omega
end
section
/-! sums of rows, and the component's checks of them -/
def rw_s (H : Nat → Nat → Int64) (m : Nat → Int64) (j : Nat) : Nat → Int64
  | 0 => 0
  | n + 1 => rw_s H m j n + m n * H n j
def rg_ok (G s : Nat → Int64) : Prop := (∀ j, j < 6 → s j = G j) ∧ ¬ G 6 < s 6
def rv_ok (cd : Cd_t) (r : Nat → Int32) : Prop := (∀ i, i < 6 → ¬ r i < 0 ∧ r i ≤ 1000) ∧ (∀ i, cd.2.1 ≤ i → i < 6 → r i = 0) ∧ rg_ok cd.2.2.2 (fun j => rw_s cd.2.2.1 (fun i => (r i).toInt64) j cd.2.1)
def gd_t (cd : Cd_t) (t : Nat) : Prop := dg_tot t ≤ 4 ∧ dg_sup cd.2.1 t ∧ rg_ok cd.2.2.2 (fun j => rw_s cd.2.2.1 (fun i => lN (dg_d t i)) j cd.2.1)
theorem rg_c {G s s' : Nat → Int64} (h : ∀ j, j < 7 → s j = s' j) : rg_ok G s ↔ rg_ok G s' := by
  unfold rg_ok
  rw [h 6 (by omega)]
  constructor
  · rintro ⟨a, b⟩; exact ⟨fun j hj => by rw [← h j (by omega)]; exact a j hj, b⟩
  · rintro ⟨a, b⟩; exact ⟨fun j hj => by rw [h j (by omega)]; exact a j hj, b⟩
theorem rw_c {H : Nat → Nat → Int64} {m m' : Nat → Int64} {j : Nat} : ∀ n, (∀ i, i < n → m i = m' i) → rw_s H m j n = rw_s H m' j n := by
  intro n
  induction n with
  | zero => intro _; rfl
  | succ n ih =>
    intro h
    unfold rw_s
    rw [ih (fun i hi => h i (by omega)), h n (by omega)]
theorem rw_0 {H : Nat → Nat → Int64} {m : Nat → Int64} {j : Nat} : ∀ n, (∀ i, i < n → m i = 0) → rw_s H m j n = 0 := by
  intro n
  induction n with
  | zero => intro _; rfl
  | succ n ih =>
    intro h
    unfold rw_s
    rw [ih (fun i hi => h i (by omega)), h n (by omega), Int64.zero_mul, Int64.zero_add]
theorem rw_u {H : Nat → Nat → Int64} {m m' : Nat → Int64} {j a : Nat} {d : Int64} (ho : ∀ i, i ≠ a → m' i = m i) (ha : m' a = m a + d) : ∀ n, a < n → rw_s H m' j n = rw_s H m j n + d * H a j := by
  intro n
  induction n with
  | zero => intro h; omega
  | succ n ih =>
    intro h
    unfold rw_s
    by_cases e : a = n
    · subst e
      rw [rw_c (m := m') (m' := m) a (fun i hi => ho i (by omega)), ha, Int64.add_mul, Int64.add_assoc]
    · rw [ih (by omega), ho n (by omega), Int64.add_assoc, Int64.add_assoc, Int64.add_comm (d * H a j)]
theorem ng_l : ∀ d, d < 5 → (-(nI d)).toInt64 = -(lN d) := by
  intro d hd
  have : d = 0 ∨ d = 1 ∨ d = 2 ∨ d = 3 ∨ d = 4 := by omega
  rcases this with rfl | rfl | rfl | rfl | rfl <;> decide
section
variable {fLA fLB fSC fPL fLD fST fCC fLV fLC : Int32} {aRG aCE aSO aPR aMU aLS aLH aLB aCP aHC aKN aTR : Nat → Int32} {aHT aGT aFO aWK aLI aSU : Nat → Int64}
theorem xc_clear {post : SX → Prop} (hp : ∀ su : Nat → Int64, (∀ j, j < 7 → su j = 0) → post (fLA, fLB, fSC, fPL, fLD, fST, fCC, fLV, fLC, aRG, aCE, aSO, aPR, aMU, aLS, aLH, aLB, aCP, aHC, aHT, aGT, aFO, aKN, aWK, aLI, su, aTR)) : wpX_clearSums post (fLA, fLB, fSC, fPL, fLD, fST, fCC, fLV, fLC, aRG, aCE, aSO, aPR, aMU, aLS, aLH, aLB, aCP, aHC, aHT, aGT, aFO, aKN, aWK, aLI, aSU, aTR) :=
  loop_0 (fun n i s => wX_clearSums_2 post fLA fLB fSC fPL fLD fST fCC fLV fLC n (nI i) aRG aCE aSO aPR aMU aLS aLH aLB aCP aHC aHT aGT aFO aKN aWK aLI s aTR) (fun i s => ∀ j, j < i → s j = 0) 7 aSU (fun j hj => absurd hj (Nat.not_lt_zero j))
    (fun n s I => br_t (nI_le (Nat.le_refl 7) (by decide)) (hp s I))
    (fun n i s hi I k => br_f (nI_ge (b := 7) hi (by decide)) ⟨pk_in i 7 hi rfl, up_L i 0 rfl rfl (nm_r (nI_1 i) (k _ (lu_s (f := fun _ => 0) I rfl)))⟩)
theorem xc_add {post : SX → Prop} {k i : Nat} {x y : Int32} {m : Int64} (hx : x = nI k) (hy : y = nI i) (hk : k < 40) (hi6 : i < 6) (hp : ∀ su : Nat → Int64, (∀ j, j < 7 → su j = aSU j + m * aHT (42 * k + 7 * i + j)) → post (fLA, fLB, fSC, fPL, fLD, fST, fCC, fLV, fLC, aRG, aCE, aSO, aPR, aMU, aLS, aLH, aLB, aCP, aHC, aHT, aGT, aFO, aKN, aWK, aLI, su, aTR)) : wpX_addTimes post (fLA, fLB, fSC, fPL, fLD, fST, fCC, fLV, fLC, aRG, aCE, aSO, aPR, aMU, aLS, aLH, aLB, aCP, aHC, aHT, aGT, aFO, aKN, aWK, aLI, aSU, aTR) x y m := by
  subst hx hy
  refine nm_r (e' := nI (42 * k + 7 * i)) (by rw [show nI k * 42 = nI (42 * k) from ix_l0 42 k, show nI i * 7 = nI (7 * i) from ix_l0 7 i, nI_add]) ?_
  exact loop_0 (fun n j s => wX_addTimes_14 post m (nI (42 * k + 7 * i)) fLA fLB fSC fPL fLD fST fCC fLV fLC n (nI j) aRG aCE aSO aPR aMU aLS aLH aLB aCP aHC aHT aGT aFO aKN aWK aLI s aTR) (fun j0 s => ∀ j, j < 7 → s j = if j < j0 then aSU j + m * aHT (42 * k + 7 * i + j) else aSU j) 7 aSU (fun j hj => by rw [if_neg (by omega)])
    (fun n s I => br_t (nI_le (Nat.le_refl 7) (by decide)) (hp s (fun j hj => by rw [I j hj, if_pos hj])))
    (fun n j s hj I kk => br_f (nI_ge (b := 7) hj (by decide)) ⟨pk_in j 7 hj rfl, pk_in (42 * k + 7 * i + j) 1680 (by omega) (nI_add _ _), pk_in j 7 hj rfl,
      up_L j (aSU j + m * aHT (42 * k + 7 * i + j)) rfl (ad_e ((rd_e rfl).trans ((I j hj).trans (if_neg (Nat.lt_irrefl j)))) (ml_e rfl (rd_e (nI_add _ _)))) (nm_r (nI_1 j) (kk _ (fun j' hj' => by
        unfold vp_updL
        by_cases e : j' = j
        · rw [if_pos e, if_pos (by omega), e]
        · rw [if_neg e, I j' hj']
          exact ic_g (by omega))))⟩)
theorem xc_show {post : Int32 → Prop} {k : Nat} {x : Int32} {G : Nat → Int64} (hx : x = nI k) (hk : k < 40) (hg : ∀ j, j < 7 → aGT (7 * k + j) = G j) (h1 : rg_ok G aSU → post 1) (h0 : ¬ rg_ok G aSU → post 0) : wpX_sumsShowGoal post (fLA, fLB, fSC, fPL, fLD, fST, fCC, fLV, fLC, aRG, aCE, aSO, aPR, aMU, aLS, aLH, aLB, aCP, aHC, aHT, aGT, aFO, aKN, aWK, aLI, aSU, aTR) x := by
  subst hx
  refine loop_0 (fun n i (_ : Unit) => wX_sumsShowGoal_2 post (nI k) fLA fLB fSC fPL fLD fST fCC fLV fLC aRG aCE aSO aPR aMU aLS aLH aLB aCP aHC aHT aGT aFO aKN aWK aLI aSU aTR n (nI i)) (fun i _ => ∀ j, j < i → aSU j = G j) 6 () (fun j hj => absurd hj (Nat.not_lt_zero j)) ?_ ?_
  · intro n _ I
    refine br_t (nI_le (Nat.le_refl 6) (by decide)) ⟨pk_in (7 * k + 6) 280 (by omega) (ix_l 7 k 6), ?_⟩
    rw [rd_e (a := aGT) (x := nI k * 7 + 6) (ix_l 7 k 6), hg 6 (by omega)]
    exact br_c (fun z => h0 (fun q => q.2 z)) (fun z => h1 ⟨I, z⟩)
  · intro n i _ hi I kk
    refine br_f (nI_ge (b := 6) hi (by decide)) ⟨pk_in i 7 (by omega) rfl, pk_in (7 * k + i) 280 (by omega) (ix_l 7 k i), ?_⟩
    rw [rd_e (a := aGT) (x := nI k * 7 + nI i) (ix_l 7 k i), hg i (by omega), rd_e (a := aSU) (x := nI i) rfl]
    refine br_c (fun z => nm_r (nI_1 i) (kk () (fun j hj => ?_))) (fun z => h0 (fun q => z (q.1 i hi)))
    by_cases e : j = i
    · rw [e]; exact z
    · exact I j (by omega)
/-- the tables' entry of condition k -/
def xc_T (cp hc : Nat → Int32) (ht gt : Nat → Int64) (k : Nat) (cd : Cd_t) : Prop := cp k = cd.1 ∧ hc k = nI cd.2.1 ∧ cd.2.1 ≤ 6 ∧ (∀ i j, i < cd.2.1 → j < 7 → ht (42 * k + 7 * i + j) = cd.2.2.1 i j) ∧ ∀ j, j < 7 → gt (7 * k + j) = cd.2.2.2 j
theorem xc_valid {post : Int32 → SX → Prop} {k : Nat} {x : Int32} {cd : Cd_t} (hx : x = nI k) (hk : k < 40) (T : xc_T aCP aHC aHT aGT k cd) (h1 : rv_ok cd (fun i => aMU (6 * k + i)) → ∀ su, post 1 (fLA, fLB, fSC, fPL, fLD, fST, fCC, fLV, fLC, aRG, aCE, aSO, aPR, aMU, aLS, aLH, aLB, aCP, aHC, aHT, aGT, aFO, aKN, aWK, aLI, su, aTR)) (h0 : ¬ rv_ok cd (fun i => aMU (6 * k + i)) → ∀ su, post 0 (fLA, fLB, fSC, fPL, fLD, fST, fCC, fLV, fLC, aRG, aCE, aSO, aPR, aMU, aLS, aLH, aLB, aCP, aHC, aHT, aGT, aFO, aKN, aWK, aLI, su, aTR)) : wpX_rowIsValid post (fLA, fLB, fSC, fPL, fLD, fST, fCC, fLV, fLC, aRG, aCE, aSO, aPR, aMU, aLS, aLH, aLB, aCP, aHC, aHT, aGT, aFO, aKN, aWK, aLI, aSU, aTR) x := by
  subst hx
  obtain ⟨-, t2, t3, t4, t5⟩ := T
  refine ⟨pk_in k 40 hk rfl, rd_v k rfl t2 ?_⟩
  refine xc_clear (fun su hsu => ?_)
  refine loop_0 (fun n i s => wX_rowIsValid_13 post (nI k) (nI cd.2.1) n (nI i) fLA fLB fSC fPL fLD fST fCC fLV fLC aRG aCE aSO aPR aMU aLS aLH aLB aCP aHC aHT aGT aFO aKN aWK aLI s aTR)
    (fun i s => (∀ i', i' < i → ¬ aMU (6 * k + i') < 0 ∧ aMU (6 * k + i') ≤ 1000) ∧ (∀ i', cd.2.1 ≤ i' → i' < i → aMU (6 * k + i') = 0) ∧ ∀ j, j < 7 → s j = rw_s cd.2.2.1 (fun i => (aMU (6 * k + i)).toInt64) j (if i < cd.2.1 then i else cd.2.1)) 6 su
    ⟨fun i hi => absurd hi (Nat.not_lt_zero i), fun i _ hi => absurd hi (Nat.not_lt_zero i), fun j hj => by
      rw [hsu j hj, rw_0 _ (fun i hi => by split at hi <;> omega)]⟩ ?_ ?_
  · rintro n s ⟨I1, I2, I3⟩
    refine br_t (nI_le (Nat.le_refl 6) (by decide)) (xc_show rfl hk t5 (fun q => ⟨narrow_b1, h1 ⟨I1, I2, ?_⟩ _⟩) (fun q => ⟨narrow_b0, h0 (fun w => q ?_) _⟩))
    · refine (rg_c (fun j hj => ?_)).mp q
      rw [I3 j hj, if_neg (by omega)]
    · refine (rg_c (fun j hj => ?_)).mpr w.2.2
      rw [I3 j hj, if_neg (by omega)]
  · rintro n i s hi ⟨I1, I2, I3⟩ kk
    refine br_f (nI_ge (b := 6) hi (by decide)) ⟨pk_in (6 * k + i) 240 (by omega) (ix_l 6 k i), rd_n (6 * k + i) (ix_l 6 k i) ?_⟩
    refine br_c (fun z => h0 (fun w => (w.1 i hi).1 z) _) (fun z => br_c (fun z2 => ?_) (fun z2 => h0 (fun w => z2 (w.1 i hi).2) _))
    have J1 : ∀ i', i' < i + 1 → ¬ aMU (6 * k + i') < 0 ∧ aMU (6 * k + i') ≤ 1000 := fun i' hi' => by
      by_cases e : i' = i
      · rw [e]; exact ⟨z, z2⟩
      · exact I1 i' (by omega)
    refine pk_le cd.2.1 i (fun y => br_c (fun w => nm_r (nI_1 i) (kk s ⟨J1, fun i' h' hi' => ?_, fun j hj => ?_⟩)) (fun w => h0 (fun v => w (v.2.1 i y hi)) _)) (fun y => ?_)
    · by_cases e : i' = i
      · rw [e]; exact w
      · exact I2 i' h' (by omega)
    · rw [I3 j hj, if_neg (by omega), if_neg (by omega)]
    · refine xc_add rfl rfl hk hi (fun su2 hsu2 => nm_r (nI_1 i) (kk su2 ⟨J1, fun i' h' hi' => I2 i' h' (by omega), fun j hj => ?_⟩))
      rw [hsu2 j hj, I3 j hj, t4 i j y hj, if_pos y]
      by_cases e : i + 1 < cd.2.1
      · rw [if_pos e]; rfl
      · rw [if_neg e, show cd.2.1 = i + 1 from by omega]; rfl
end
end
section
/-! the component's search of a row -/
theorem tt_1 {t t' a : Nat} (ha : a < 6) (h : ∀ i, i < 6 → dg_d t' i = if i = a then dg_d t i + 1 else dg_d t i) : dg_tot t' = dg_tot t + 1 := by
  have h0 := h 0 (by omega); have h1 := h 1 (by omega); have h2 := h 2 (by omega); have h3 := h 3 (by omega); have h4 := h 4 (by omega); have h5 := h 5 (by omega)
  unfold dg_tot
  rcases dg_i ha with rfl | rfl | rfl | rfl | rfl | rfl <;> simp at h0 h1 h2 h3 h4 h5 <;> omega
theorem tt_2 {t t' l : Nat} (hl : 0 < l) (hl6 : l < 6) (h : ∀ i, i < 6 → dg_d t' i = if i = l then 0 else if i = l - 1 then dg_d t i + 1 else dg_d t i) : dg_tot t' + dg_d t l = dg_tot t + 1 := by
  have h0 := h 0 (by omega); have h1 := h 1 (by omega); have h2 := h 2 (by omega); have h3 := h 3 (by omega); have h4 := h 4 (by omega); have h5 := h 5 (by omega)
  unfold dg_tot
  rcases dg_i hl6 with rfl | rfl | rfl | rfl | rfl | rfl <;> simp at h0 h1 h2 h3 h4 h5 <;> omega
theorem tt_le {t i : Nat} (hi : i < 6) : dg_d t i ≤ dg_tot t := by
  unfold dg_tot
  rcases dg_i hi with rfl | rfl | rfl | rfl | rfl | rfl <;> omega
theorem tt_2le {t i j : Nat} (hi : i < 6) (hj : j < 6) (hij : i < j) : dg_d t i + dg_d t j ≤ dg_tot t := by
  unfold dg_tot
  rcases dg_i hi with rfl | rfl | rfl | rfl | rfl | rfl <;> rcases dg_i hj with rfl | rfl | rfl | rfl | rfl | rfl <;> omega
theorem tt_nz {t n : Nat} (h : dg_sup n t) (h4 : dg_tot t = 4) (hn : n ≤ 6) : ∃ i, i < n ∧ ¬ dg_d t i = 0 := by
  apply Classical.byContradiction
  intro q
  have z : ∀ i, i < 6 → dg_d t i = 0 := fun i hi => by
    by_cases e : i < n
    · exact Classical.byContradiction (fun y => q ⟨i, e, y⟩)
    · exact h i (by omega) hi
  unfold dg_tot at h4
  rw [z 0 (by omega), z 1 (by omega), z 2 (by omega), z 3 (by omega), z 4 (by omega), z 5 (by omega)] at h4
  omega
theorem it_s {n i t : Nat} {r : Option Nat} (h : it_c n i = some t) (hr : nx_c n t = r) : it_c n (i + 1) = r := by
  show (match it_c n i with | none => none | some t => nx_c n t) = r
  rw [h]; exact hr
theorem dg_0 {i : Nat} (hi : i < 6) : dg_d 0 i = 0 := by
  rcases dg_i hi with rfl | rfl | rfl | rfl | rfl | rfl <;> rfl
section
variable {fLA fLB fSC fPL fLD fST fCC fLV fLC : Int32} {aRG aCE aSO aPR aMU aLS aLH aLB aCP aHC aKN aTR : Nat → Int32} {aHT aGT aFO aWK aLI aSU : Nat → Int64}
theorem xc_37 {post : Int32 → SX → Prop} {k : Nat} {cd : Cd_t} (hk : k < 40) (T : xc_T aCP aHC aHT aGT k cd)
    (h1 : ∀ (t : Nat) (su : Nat → Int64) (tr : Nat → Int32), t < 15625 → gd_t cd t → (∀ s, s < t → ¬ gd_t cd s) → (∀ i, i < 6 → tr i = nI (dg_d t i)) → post 1 (fLA, fLB, fSC, fPL, fLD, fST, fCC, fLV, fLC, aRG, aCE, aSO, aPR, aMU, aLS, aLH, aLB, aCP, aHC, aHT, aGT, aFO, aKN, aWK, aLI, su, tr))
    (h0 : (∀ t, t < 15625 → ¬ gd_t cd t) → ∀ (su : Nat → Int64) (tr : Nat → Int32), post 0 (fLA, fLB, fSC, fPL, fLD, fST, fCC, fLV, fLC, aRG, aCE, aSO, aPR, aMU, aLS, aLH, aLB, aCP, aHC, aHT, aGT, aFO, aKN, aWK, aLI, su, tr)) :
    ∀ (d i t : Nat) (su : Nat → Int64) (tr : Nat → Int32), i + d = 210 → it_c cd.2.1 i = some t → t < 15625 → dg_tot t ≤ 4 → dg_sup cd.2.1 t → (∀ i, i < 6 → tr i = nI (dg_d t i)) → (∀ j, j < 7 → su j = rw_s cd.2.2.1 (fun i => lN (dg_d t i)) j cd.2.1) → (∀ s, s < t → ¬ gd_t cd s) →
      wX_findRow_37 post (nI k) (nI cd.2.1) (d + 1) (nI (dg_tot t)) (nI i) fLA fLB fSC fPL fLD fST fCC fLV fLC aRG aCE aSO aPR aMU aLS aLH aLB aCP aHC aHT aGT aFO aKN aWK aLI su tr := by
  obtain ⟨-, t2, t3, t4, t5⟩ := T
  intro d
  induction d with
  | zero =>
    intro i t su tr hi hit
    have e : i = 210 := by omega
    rw [e, it_end' t3] at hit
    exact absurd hit (by simp)
  | succ d ih =>
    intro i t su tr hi hit ht h4 hs htr hsu hlo
    refine br_f (nI_ge (b := 210) (by omega) (by decide)) (xc_show rfl hk t5 (fun q => br_f (by decide) (h1 t su tr ht ⟨h4, hs, (rg_c hsu).mp q⟩ hlo htr)) (fun q => br_t rfl ?_))
    have ng : ¬ gd_t cd t := fun w => q ((rg_c hsu).mpr w.2.2)
    -- the step to a next row t'
    have go : ∀ (t' : Nat) (su' : Nat → Int64) (tr' : Nat → Int32), nx_c cd.2.1 t = some t' → t' < 15625 → dg_tot t' ≤ 4 → dg_sup cd.2.1 t' → (∀ i, i < 6 → tr' i = nI (dg_d t' i)) → (∀ j, j < 7 → su' j = rw_s cd.2.2.1 (fun i => lN (dg_d t' i)) j cd.2.1) → (∀ s, t < s → s < t' → ¬ gd_t cd s) →
        wX_findRow_37 post (nI k) (nI cd.2.1) (d + 1) (nI (dg_tot t')) (nI (i + 1)) fLA fLB fSC fPL fLD fST fCC fLV fLC aRG aCE aSO aPR aMU aLS aLH aLB aCP aHC aHT aGT aFO aKN aWK aLI su' tr' := by
      intro t' su' tr' e1 e2 e3 e4 e5 e6 e7
      refine ih (i + 1) t' su' tr' (by omega) (it_s hit e1) e2 e3 e4 e5 e6 (fun s hst => ?_)
      by_cases c1 : s < t
      · exact hlo s c1
      · by_cases c2 : s = t
        · rw [c2]; exact ng
        · exact e7 s (by omega) hst
    refine nm_e (pk_eq (dg_tot t) 4 (fun e4 => ?_) (fun e4 => ?_))
    · -- full
      have nz := tt_nz hs e4 t3
      have lnz := lst_nz cd.2.1 nz
      refine loop_0 (fun m i' (s : Int32) => wX_findRow_71 post (wX_findRow_37 post (nI k) (nI cd.2.1) (d + 1)) (nI k) (nI cd.2.1) (nI (dg_tot t)) (nI i) fLA fLB fSC fPL fLD fST fCC fLV fLC aRG aCE aSO aPR aMU aLS aLH aLB aCP aHC aHT aGT aFO aKN aWK aLI su tr m s (nI i')) (fun i' s => s = nI (dg_lst t i')) cd.2.1 0 rfl ?_ ?_
      · intro m s I
        subst I
        refine pk_le cd.2.1 cd.2.1 (fun _ => ?_) (fun z => absurd z (Nat.lt_irrefl _))
        have l6 : dg_lst t cd.2.1 < 6 := by
          rcases lst_lt (t := t) (n := cd.2.1) with z | z <;> omega
        have hz : ∀ i, dg_lst t cd.2.1 < i → i < 6 → dg_d t i = 0 := fun i a b => by
          by_cases c : i < cd.2.1
          · exact lst_gt _ i a c
          · exact hs i (by omega) b
        generalize el : dg_lst t cd.2.1 = l at l6 hz lnz
        have etr : tr l = nI (dg_d t l) := htr l l6
        have d5 := dg_lt t l
        refine ⟨pk_in l 6 l6 rfl, ?_⟩
        rw [rd_e (a := tr) (x := nI l) rfl, etr, ng_l _ d5]
        refine xc_add rfl rfl hk l6 (fun su1 hsu1 => ⟨pk_in l 6 l6 rfl, ?_⟩)
        refine nm_r (e' := nI (4 - dg_d t l)) (by rw [rd_e (a := tr) (x := nI l) rfl, etr, e4]; exact pk_sub (by omega)) ⟨pk_in l 6 l6 rfl, up_I l 0 rfl rfl ?_⟩
        by_cases l0 : l = 0
        · subst l0
          refine nm_e (br_f (by decide) (h0 (fun s hs5 w => ?_) _ _))
          by_cases c1 : s < t
          · exact hlo s c1 w
          · by_cases c2 : s = t
            · rw [c2] at w; exact ng w
            · refine gp_2 (l := 0) (by omega) ht hs5 e4 hz (by omega) ?_ w.1
              have sm := dg_sum ht
              have z1 := hz 1 (by omega) (by omega); have z2 := hz 2 (by omega) (by omega); have z3 := hz 3 (by omega) (by omega); have z4 := hz 4 (by omega) (by omega); have z5 := hz 5 (by omega) (by omega)
              show s < t - dg_d t 0 * 3125 + 15625
              omega
        · have l0' : 0 < l := by omega
          obtain ⟨n1, n2, n3⟩ := nx_d2 l0' l6 ht e4 lnz hz
          have enx : nx_c cd.2.1 t = some (t - dg_d t l * 5 ^ (5 - l) + 5 ^ (6 - l)) := by
            unfold nx_c
            rw [if_pos e4, el, if_neg l0]
          have gap : ∀ s, t < s → s < t - dg_d t l * 5 ^ (5 - l) + 5 ^ (6 - l) → ¬ gd_t cd s := fun s a b w => gp_2 l6 ht (by omega) e4 hz a b w.1
          generalize et' : t - dg_d t l * 5 ^ (5 - l) + 5 ^ (6 - l) = t' at n1 n2 n3 enx gap
          have hln : l < cd.2.1 := by
            rcases lst_lt (t := t) (n := cd.2.1) with z | z <;> omega
          have tot' := tt_2 l0' l6 n3
          refine nm_r (ix_m l0') (br_t (nI_pos' (by omega)) ?_)
          refine xc_add rfl rfl hk (by omega) (fun su2 hsu2 => ⟨pk_in (l - 1) 6 (by omega) rfl, pk_in (l - 1) 6 (by omega) rfl, ?_⟩)
          have d1 : dg_d t (l - 1) + 1 < 2 ^ 31 := by have := dg_lt t (l - 1); omega
          refine up_I (l - 1) (nI (dg_d t (l - 1) + 1)) rfl (by rw [rd_e (a := upd tr l 0) (x := nI (l - 1)) rfl, pk_un (by omega), htr _ (by omega)]; exact nI_1 _) ?_
          refine nm_r (e' := nI (dg_tot t')) (by rw [nI_1]; exact congrArg nI (by omega)) (nm_r (nI_1 i) ?_)
          refine go t' su2 _ enx n1 (by have : 0 < dg_d t l := by omega
                                        omega) (fun i' a b => ?_) (fun i' b => ?_) (fun j hj => ?_) gap
          · rw [n3 i' b, if_neg (by omega), if_neg (by omega)]; exact hs i' a b
          · unfold upd
            rw [n3 i' b]
            by_cases c1 : i' = l - 1
            · rw [if_pos c1, if_neg (by omega), if_pos c1, c1]
            · rw [if_neg c1, if_neg c1]
              by_cases c2 : i' = l
              · rw [if_pos c2, if_pos c2]; rfl
              · rw [if_neg c2, if_neg c2]; exact htr i' b
          · rw [hsu2 j hj, hsu1 j hj, hsu j hj, t4 l j hln hj, t4 (l - 1) j (by omega) hj]
            have q1 := rw_u (H := cd.2.2.1) (j := j) (m := fun i => lN (dg_d t i)) (m' := fun i => if i = l then 0 else lN (dg_d t i)) (a := l) (d := -(lN (dg_d t l))) (fun i hi => if_neg hi) (by
              show (if l = l then (0 : Int64) else _) = lN (dg_d t l) + -(lN (dg_d t l))
              rw [if_pos rfl, Int64.add_right_neg]) cd.2.1 hln
            have q2 := rw_u (H := cd.2.2.1) (j := j) (m := fun i => if i = l then 0 else lN (dg_d t i)) (m' := fun i => if i = l then 0 else if i = l - 1 then lN (dg_d t i) + 1 else lN (dg_d t i)) (a := l - 1) (d := 1) (fun i hi => by
              show (if i = l then (0 : Int64) else if i = l - 1 then _ else _) = if i = l then 0 else _
              rw [if_neg hi]) (by
              show (if l - 1 = l then (0 : Int64) else if l - 1 = l - 1 then _ else _) = (if l - 1 = l then 0 else _) + 1
              rw [if_neg (by omega), if_pos rfl, if_neg (by omega)]) cd.2.1 (by omega)
            rw [← q1, ← q2]
            refine rw_c _ (fun i hi => ?_)
            show (if i = l then (0 : Int64) else if i = l - 1 then lN (dg_d t i) + 1 else lN (dg_d t i)) = lN (dg_d t' i)
            rw [n3 i (by omega)]
            by_cases c1 : i = l
            · rw [if_pos c1, if_pos c1]; rfl
            · rw [if_neg c1, if_neg c1]
              by_cases c2 : i = l - 1
              · rw [if_pos c2, if_pos c2]; exact lN_1 _
              · rw [if_neg c2, if_neg c2]
      · intro m i' s hi' I kk
        subst I
        refine br_f (nI_ge hi' (by omega)) ⟨pk_in i' 6 (by omega) rfl, ?_⟩
        rw [rd_e (a := tr) (x := nI i') rfl, htr i' (by omega)]
        have d5 := dg_lt t i'
        refine pk_eq (dg_d t i') 0 (fun z => nm_r (nI_1 i') (kk _ ?_)) (fun z => nm_r (nI_1 i') (kk _ ?_))
        · show nI (dg_lst t i') = nI (dg_lst t (i' + 1))
          rw [show dg_lst t (i' + 1) = dg_lst t i' from if_pos z]
        · show nI i' = nI (dg_lst t (i' + 1))
          rw [show dg_lst t (i' + 1) = i' from if_neg z]
    · -- not full
      by_cases n0 : cd.2.1 = 0
      · rw [n0] at hs ⊢
        refine br_f (by decide) (h0 (fun s hs5 w => ?_) _ _)
        have ws := w.2.1
        rw [n0] at ws
        have a := dg_sum ht
        have b := dg_sum hs5
        rw [hs 0 (by omega) (by omega), hs 1 (by omega) (by omega), hs 2 (by omega) (by omega), hs 3 (by omega) (by omega), hs 4 (by omega) (by omega), hs 5 (by omega) (by omega)] at a
        rw [ws 0 (by omega) (by omega), ws 1 (by omega) (by omega), ws 2 (by omega) (by omega), ws 3 (by omega) (by omega), ws 4 (by omega) (by omega), ws 5 (by omega) (by omega)] at b
        have c : s = t := by omega
        rw [c] at w
        exact ng w
      · have n0' : 0 < cd.2.1 := by omega
        obtain ⟨n1, n3⟩ := nx_d1 n0' t3 ht (by omega)
        have enx : nx_c cd.2.1 t = some (t + 5 ^ (6 - cd.2.1)) := by
          unfold nx_c
          rw [if_neg e4, if_neg n0]
        have gap : ∀ s, t < s → s < t + 5 ^ (6 - cd.2.1) → ¬ gd_t cd s := fun s a b w => gp_1 n0' t3 ht (by omega) hs w.2.1 a b
        generalize et' : t + 5 ^ (6 - cd.2.1) = t' at n1 n3 enx gap
        have tot' := tt_1 (a := cd.2.1 - 1) (by omega) n3
        rw [ix_m n0']
        refine br_t (nI_pos' (by omega)) ?_
        refine xc_add rfl rfl hk (by omega) (fun su2 hsu2 => ⟨pk_in (cd.2.1 - 1) 6 (by omega) rfl, pk_in (cd.2.1 - 1) 6 (by omega) rfl, ?_⟩)
        refine up_I (cd.2.1 - 1) (nI (dg_d t (cd.2.1 - 1) + 1)) rfl (by rw [rd_e (a := tr) (x := nI (cd.2.1 - 1)) rfl, htr _ (by omega)]; exact nI_1 _) ?_
        refine nm_r (e' := nI (dg_tot t')) (by rw [nI_1]; exact congrArg nI (by omega)) (nm_r (nI_1 i) ?_)
        refine go t' su2 _ enx n1 (by omega) (fun i' a b => ?_) (fun i' b => ?_) (fun j hj => ?_) gap
        · rw [n3 i' b, if_neg (by omega)]; exact hs i' a b
        · unfold upd
          rw [n3 i' b]
          by_cases c1 : i' = cd.2.1 - 1
          · rw [if_pos c1, if_pos c1, c1]
          · rw [if_neg c1, if_neg c1]; exact htr i' b
        · rw [hsu2 j hj, hsu j hj, t4 (cd.2.1 - 1) j (by omega) hj]
          have q2 := rw_u (H := cd.2.2.1) (j := j) (m := fun i => lN (dg_d t i)) (m' := fun i => if i = cd.2.1 - 1 then lN (dg_d t i) + 1 else lN (dg_d t i)) (a := cd.2.1 - 1) (d := 1) (fun i hi => if_neg hi) (if_pos rfl) cd.2.1 (by omega)
          rw [← q2]
          refine rw_c _ (fun i hi => ?_)
          show (if i = cd.2.1 - 1 then lN (dg_d t i) + 1 else lN (dg_d t i)) = lN (dg_d t' i)
          rw [n3 i (by omega)]
          by_cases c2 : i = cd.2.1 - 1
          · rw [if_pos c2, if_pos c2]; exact lN_1 _
          · rw [if_neg c2, if_neg c2]
theorem xc_find {post : Int32 → SX → Prop} {k : Nat} {x : Int32} {cd : Cd_t} (hx : x = nI k) (hk : k < 40) (T : xc_T aCP aHC aHT aGT k cd)
    (h1 : ∀ (t : Nat) (su : Nat → Int64) (tr : Nat → Int32), t < 15625 → gd_t cd t → (∀ s, s < t → ¬ gd_t cd s) → (∀ i, i < 6 → tr i = nI (dg_d t i)) → post 1 (fLA, fLB, fSC, fPL, fLD, fST, fCC, fLV, fLC, aRG, aCE, aSO, aPR, aMU, aLS, aLH, aLB, aCP, aHC, aHT, aGT, aFO, aKN, aWK, aLI, su, tr))
    (h0 : (∀ t, t < 15625 → ¬ gd_t cd t) → ∀ (su : Nat → Int64) (tr : Nat → Int32), post 0 (fLA, fLB, fSC, fPL, fLD, fST, fCC, fLV, fLC, aRG, aCE, aSO, aPR, aMU, aLS, aLH, aLB, aCP, aHC, aHT, aGT, aFO, aKN, aWK, aLI, su, tr)) : wpX_findRow post (fLA, fLB, fSC, fPL, fLD, fST, fCC, fLV, fLC, aRG, aCE, aSO, aPR, aMU, aLS, aLH, aLB, aCP, aHC, aHT, aGT, aFO, aKN, aWK, aLI, aSU, aTR) x := by
  subst hx
  refine ⟨pk_in k 40 hk rfl, rd_v k rfl T.2.1 ?_⟩
  refine xc_clear (fun su hsu => ?_)
  refine loop_0 (fun n i s => wX_findRow_13 post (nI k) (nI cd.2.1) fLA fLB fSC fPL fLD fST fCC fLV fLC n (nI i) aRG aCE aSO aPR aMU aLS aLH aLB aCP aHC aHT aGT aFO aKN aWK aLI su s) (fun i s => ∀ j, j < i → s j = 0) 6 aTR (fun j hj => absurd hj (Nat.not_lt_zero j)) ?_ ?_
  · intro n s I
    refine br_t (nI_le (Nat.le_refl 6) (by decide)) ⟨211, xc_37 hk T h1 h0 210 0 0 su s (by omega) rfl (by omega) (by decide) (fun i _ hi => dg_0 hi) (fun i hi => ?_) (fun j hj => ?_) (fun s hs => absurd hs (Nat.not_lt_zero s))⟩
    · rw [I i hi, dg_0 hi]; rfl
    · have t3 := T.2.2.1
      rw [hsu j hj, rw_0 _ (fun i hi => ?_)]
      rw [dg_0 (by omega)]; rfl
  · intro n i s hi I kk
    refine br_f (nI_ge (b := 6) hi (by decide)) ⟨pk_in i 6 hi rfl, up_I i 0 rfl rfl (nm_r (nI_1 i) (kk _ (fun j hj => ?_)))⟩
    unfold upd
    by_cases e : j = i
    · rw [if_pos e]
    · rw [if_neg e]; exact I j (by omega)
end
end
section
/-! the reference's rows -/
theorem lu_i {s a f : Nat → Int32} {b e i : Nat} {v : Int32} (hi : i < e) (I : (∀ j, j < i → s (b + j) = f j) ∧ ∀ m, ¬ (b ≤ m ∧ m < b + e) → s m = a m) (hv : v = f i) : (∀ j, j < i + 1 → upd s (b + i) v (b + j) = f j) ∧ ∀ m, ¬ (b ≤ m ∧ m < b + e) → upd s (b + i) v m = a m := by
  constructor
  · intro j hj
    unfold upd
    by_cases e : j = i
    · rw [if_pos (by omega), e]; exact hv
    · rw [if_neg (by omega)]; exact I.1 j (by omega)
  · intro m hm
    unfold upd
    rw [if_neg (by omega)]; exact I.2 m hm
def mu_w (mu : Nat → Int32) (k t : Nat) : Nat → Int32 := fun m => if 6 * k ≤ m ∧ m < 6 * k + 6 then nI (dg_d t (m - 6 * k)) else mu m
theorem mu_e {s mu : Nat → Int32} {k t : Nat} (I : (∀ j, j < 6 → s (6 * k + j) = nI (dg_d t j)) ∧ ∀ m, ¬ (6 * k ≤ m ∧ m < 6 * k + 6) → s m = mu m) : s = mu_w mu k t := by
  funext m
  unfold mu_w
  by_cases h : 6 * k ≤ m ∧ m < 6 * k + 6
  · rw [if_pos h]
    have := I.1 (m - 6 * k) (by omega)
    rw [show 6 * k + (m - 6 * k) = m from by omega] at this
    exact this
  · rw [if_neg h]; exact I.2 m h
theorem rv_c {cd : Cd_t} {r r' : Nat → Int32} (h6 : cd.2.1 ≤ 6) (h : ∀ i, i < 6 → r i = r' i) : rv_ok cd r ↔ rv_ok cd r' := by
  have key : ∀ {r r' : Nat → Int32}, (∀ i, i < 6 → r i = r' i) → rv_ok cd r → rv_ok cd r' := by
    rintro r r' h ⟨a, b, c⟩
    refine ⟨fun i hi => by rw [← h i hi]; exact a i hi, fun i hi hi6 => by rw [← h i hi6]; exact b i hi hi6, (rg_c (fun j hj => ?_)).mp c⟩
    exact rw_c _ (fun i hi => by rw [h i (by omega)])
  exact ⟨key h, key (fun i hi => (h i hi).symm)⟩
theorem rv_gd {cd : Cd_t} {t : Nat} {r : Nat → Int32} (h6 : cd.2.1 ≤ 6) (hr : ∀ i, i < 6 → r i = nI (dg_d t i)) : (dg_tot t ≤ 4 ∧ rv_ok cd r) ↔ gd_t cd t := by
  have d5 := dg_lt t
  have es : ∀ j, j < 7 → rw_s cd.2.2.1 (fun i => (r i).toInt64) j cd.2.1 = rw_s cd.2.2.1 (fun i => lN (dg_d t i)) j cd.2.1 := fun j _ => rw_c _ (fun i hi => by
    have := d5 i
    rw [hr i (by omega)]; exact nI_l (by omega))
  constructor
  · rintro ⟨a, b⟩
    refine ⟨a, fun i hi hi6 => ?_, (rg_c es).mp b.2.2⟩
    have z := b.2.1 i hi hi6
    have := d5 i
    rw [hr i hi6] at z
    exact (nI_eq (b := 0) (by omega) (by decide)).mp z
  · rintro ⟨a, b, c⟩
    refine ⟨a, fun i hi => ?_, fun i hi hi6 => ?_, (rg_c es).mpr c⟩
    · have := d5 i
      rw [hr i hi]
      exact ⟨nI_pos (by omega), nI_le (b := 1000) (by omega) (by decide)⟩
    · rw [hr i hi6, b i hi hi6]; rfl
def yc_T (cn : Int32) (ch cg : Nat → Int64) (cd : Cd_t) : Prop := cn = nI cd.2.1 ∧ cd.2.1 ≤ 6 ∧ (∀ i j, i < cd.2.1 → j < 7 → ch (7 * i + j) = cd.2.2.1 i j) ∧ ∀ j, j < 7 → cg j = cd.2.2.2 j
section
variable {fLA fLB fSC fPL fLD fST fCC fLV fLC : Int32} {aRG aCE aSO aPR aMU aLS aLH aLB aCP aHC aKN aTR : Nat → Int32} {aHT aGT aFO aWK aLI aSU : Nat → Int64}
theorem xc_53 {post : Int32 → SX → Prop} {J : Int32 → Int32 → Int32 → Int32 → Int32 → Int32 → Int32 → Int32 → Int32 → Int32 → Int32 → (Nat → Int32) → (Nat → Int32) → (Nat → Int32) → (Nat → Int32) → (Nat → Int32) → (Nat → Int32) → (Nat → Int32) → (Nat → Int32) → (Nat → Int32) → (Nat → Int32) → (Nat → Int64) → (Nat → Int64) → (Nat → Int64) → (Nat → Int32) → (Nat → Int64) → (Nat → Int64) → (Nat → Int64) → (Nat → Int32) → Prop} {x1 : Int32} {f k t : Nat} (hk : k < 40) (htr : ∀ i, i < 6 → aTR i = nI (dg_d t i)) (hp : J (nI (f + 1)) (nI (k + 1)) fLA fLB fSC fPL fLD fST fCC fLV fLC aRG aCE aSO aPR (mu_w aMU k t) aLS aLH aLB aCP aHC aHT aGT aFO aKN aWK aLI aSU aTR) : ∃ n, wX_certify_53 post J x1 (nI f) (nI k) fLA fLB fSC fPL fLD fST fCC fLV fLC n 0 aRG aCE aSO aPR aMU aLS aLH aLB aCP aHC aHT aGT aFO aKN aWK aLI aSU aTR := by
  refine loop_0 (fun n i s => wX_certify_53 post J x1 (nI f) (nI k) fLA fLB fSC fPL fLD fST fCC fLV fLC n (nI i) aRG aCE aSO aPR s aLS aLH aLB aCP aHC aHT aGT aFO aKN aWK aLI aSU aTR) (fun i s => (∀ j, j < i → s (6 * k + j) = nI (dg_d t j)) ∧ ∀ m, ¬ (6 * k ≤ m ∧ m < 6 * k + 6) → s m = aMU m) 6 aMU ⟨fun j hj => absurd hj (Nat.not_lt_zero j), fun m _ => rfl⟩ ?_ ?_
  · intro n s I
    rw [mu_e I]
    exact br_t (nI_le (Nat.le_refl 6) (by decide)) (nm_r (nI_1 f) (nm_r (nI_1 k) hp))
  · intro n i s hi I kk
    exact br_f (nI_ge (b := 6) hi (by decide)) ⟨pk_in i 6 hi rfl, pk_in (6 * k + i) 240 (by omega) (ix_l 6 k i), up_I (6 * k + i) (nI (dg_d t i)) (ix_l 6 k i) ((rd_e rfl).trans (htr i hi)) (nm_r (nI_1 i) (kk _ (lu_i (f := fun j => nI (dg_d t j)) hi I rfl)))⟩
end
section
variable {gLA gLB gN gLEN gHN gRA gWA gCP gCN : Int32} {bSR bPR bMU bRG bCE bKN bRO : Nat → Int32} {bFO bHY bD bCH bCG : Nat → Int64}
theorem yc_58 {post : Int32 → Prop} {cd : Cd_t} (T : yc_T gCN bCH bCG cd) (h1 : rg_ok cd.2.2.2 (fun j => rw_s cd.2.2.1 (fun i => (bRO i).toInt64) j cd.2.1) → post 1) (h0 : ¬ rg_ok cd.2.2.2 (fun j => rw_s cd.2.2.1 (fun i => (bRO i).toInt64) j cd.2.1) → post 0) : ∃ n, wY_valid_58 post gLA gLB gN gLEN gHN gRA gWA gCP gCN bSR bPR bMU bRG bCE bFO bKN bHY bD bCH bCG bRO n 0 := by
  obtain ⟨rfl, t3, t4, t5⟩ := T
  refine loop_0 (fun n j (_ : Unit) => wY_valid_58 post gLA gLB gN gLEN gHN gRA gWA gCP (nI cd.2.1) bSR bPR bMU bRG bCE bFO bKN bHY bD bCH bCG bRO n (nI j)) (fun j0 _ => (∀ j, j < j0 → j < 6 → rw_s cd.2.2.1 (fun i => (bRO i).toInt64) j cd.2.1 = cd.2.2.2 j) ∧ (j0 = 7 → ¬ cd.2.2.2 6 < rw_s cd.2.2.1 (fun i => (bRO i).toInt64) 6 cd.2.1)) 7 () ⟨fun j hj => absurd hj (Nat.not_lt_zero j), fun z => absurd z (by decide)⟩ ?_ ?_
  · rintro n _ ⟨I1, I2⟩
    exact br_t (nI_le (Nat.le_refl 7) (by decide)) (h1 ⟨fun j hj => I1 j (by omega) hj, I2 rfl⟩)
  · rintro n j _ hj ⟨I1, I2⟩ kk
    refine br_f (nI_ge (b := 7) hj (by decide)) ?_
    refine loop_0 (fun m i (s : Int64) => wY_valid_69 post (wY_valid_58 post gLA gLB gN gLEN gHN gRA gWA gCP (nI cd.2.1) bSR bPR bMU bRG bCE bFO bKN bHY bD bCH bCG bRO n) (nI j) gLA gLB gN gLEN gHN gRA gWA gCP (nI cd.2.1) bSR bPR bMU bRG bCE bFO bKN bHY bD bCH bCG bRO m s (nI i)) (fun i s => s = rw_s cd.2.2.1 (fun i => (bRO i).toInt64) j i) cd.2.1 0 rfl ?_ ?_
    · intro m s I
      subst I
      refine pk_le cd.2.1 cd.2.1 (fun _ => ?_) (fun z => absurd z (Nat.lt_irrefl _))
      refine pk_le 6 j (fun z => ?_) (fun z => ⟨pk_in j 7 hj rfl, ?_⟩)
      · have ej : j = 6 := by omega
        subst ej
        refine br_t rfl ?_
        rw [t5 6 (by omega)]
        exact br_c (fun q => nm_r (nI_1 6) (kk () ⟨fun j' a b => I1 j' (by omega) b, fun _ => Int64.not_lt.mpr q⟩)) (fun q => h0 (fun w => q (Int64.not_lt.mp w.2)))
      · rw [rd_e (a := bCG) (x := nI j) rfl, t5 j hj]
        refine br_c (fun q => pk_eq j 6 (fun y => absurd z (by omega)) (fun y => nm_r (nI_1 j) (kk () ⟨fun j' a b => ?_, fun w => absurd w (by omega)⟩))) (fun q => h0 (fun w => q (w.1 j z)))
        by_cases e : j' = j
        · rw [e]; exact q
        · exact I1 j' (by omega) b
    · intro m i s hi I k2
      subst I
      refine br_f (nI_ge hi (by omega)) ⟨pk_in i 6 (by omega) rfl, pk_in (7 * i + j) 42 (by omega) (ix_r 7 i j), nm_r (ad_e rfl (ml_e (ti_e (rd_e rfl)) ((rd_e (ix_r 7 i j)).trans (t4 i j hi hj)))) (nm_r (nI_1 i) (k2 _ rfl))⟩
theorem yc_valid {post : Int32 → Prop} {cd : Cd_t} (T : yc_T gCN bCH bCG cd) (h1 : rv_ok cd bRO → post 1) (h0 : ¬ rv_ok cd bRO → post 0) : wpY_valid post (gLA, gLB, gN, gLEN, gHN, gRA, gWA, gCP, gCN, bSR, bPR, bMU, bRG, bCE, bFO, bKN, bHY, bD, bCH, bCG, bRO) := by
  have T' := T
  obtain ⟨rfl, t3, t4, t5⟩ := T'
  refine loop_0 (fun n i (_ : Unit) => wY_valid_2 post gLA gLB gN gLEN gHN gRA gWA gCP (nI cd.2.1) bSR bPR bMU bRG bCE bFO bKN bHY bD bCH bCG bRO n (nI i)) (fun i _ => (∀ i', i' < i → ¬ bRO i' < 0 ∧ bRO i' ≤ 1000) ∧ ∀ i', cd.2.1 ≤ i' → i' < i → bRO i' = 0) 6 () ⟨fun i hi => absurd hi (Nat.not_lt_zero i), fun i _ hi => absurd hi (Nat.not_lt_zero i)⟩ ?_ ?_
  · rintro n _ ⟨I1, I2⟩
    exact br_t (nI_le (Nat.le_refl 6) (by decide)) (yc_58 T (fun q => h1 ⟨I1, I2, q⟩) (fun q => h0 (fun w => q w.2.2)))
  · rintro n i _ hi ⟨I1, I2⟩ kk
    refine br_f (nI_ge (b := 6) hi (by decide)) ⟨pk_in i 6 hi rfl, ?_⟩
    rw [rd_e (a := bRO) (x := nI i) rfl]
    refine br_c (fun z => h0 (fun w => (w.1 i hi).1 z)) (fun z => ⟨pk_in i 6 hi rfl, br_c (fun z2 => ?_) (fun z2 => h0 (fun w => z2 (w.1 i hi).2))⟩)
    have J1 : ∀ i', i' < i + 1 → ¬ bRO i' < 0 ∧ bRO i' ≤ 1000 := fun i' hi' => by
      by_cases e : i' = i
      · rw [e]; exact ⟨z, z2⟩
      · exact I1 i' (by omega)
    refine pk_lt i cd.2.1 (fun y => nm_r (nI_1 i) (kk () ⟨J1, fun i' a b => absurd a (by omega)⟩)) (fun y => ⟨pk_in i 6 hi rfl, br_c (fun w => nm_r (nI_1 i) (kk () ⟨J1, fun i' a b => ?_⟩)) (fun w => h0 (fun v => w (v.2.1 i y hi)))⟩)
    by_cases e : i' = i
    · rw [e]; exact w
    · exact I2 i' a (by omega)
theorem yc_113 {post : Int32 → SY → Prop} {J16 : Int32 → Int32 → Int32 → Int32 → Int32 → Int32 → Int32 → Int32 → Int32 → Int32 → Int32 → (Nat → Int32) → (Nat → Int32) → (Nat → Int32) → (Nat → Int32) → (Nat → Int32) → (Nat → Int64) → (Nat → Int32) → (Nat → Int64) → (Nat → Int64) → (Nat → Int64) → (Nat → Int64) → (Nat → Int32) → Prop} {J34 : Int32 → Int32 → Int32 → (Nat → Int32) → (Nat → Int32) → (Nat → Int32) → (Nat → Int32) → (Nat → Int32) → (Nat → Int64) → (Nat → Int32) → (Nat → Int64) → (Nat → Int64) → (Nat → Int64) → (Nat → Int64) → (Nat → Int32) → Prop} {x1 x5 : Int32} {f k t : Nat} (hk : k < 40) (hro : ∀ i, i < 6 → bRO i = nI (dg_d t i)) (hp : J34 (nI (f + 1)) 0 (x5 + 1) bSR bPR (mu_w bMU k t) bRG bCE bFO bKN bHY bD bCH bCG bRO) : ∃ n, wY_certify_113 post J16 J34 x1 (nI f) (nI k) x5 gLA gLB gN gLEN gHN gRA gWA gCP gCN n 0 bSR bPR bMU bRG bCE bFO bKN bHY bD bCH bCG bRO := by
  refine loop_0 (fun n i s => wY_certify_113 post J16 J34 x1 (nI f) (nI k) x5 gLA gLB gN gLEN gHN gRA gWA gCP gCN n (nI i) bSR bPR s bRG bCE bFO bKN bHY bD bCH bCG bRO) (fun i s => (∀ j, j < i → s (6 * k + j) = nI (dg_d t j)) ∧ ∀ m, ¬ (6 * k ≤ m ∧ m < 6 * k + 6) → s m = bMU m) 6 bMU ⟨fun j hj => absurd hj (Nat.not_lt_zero j), fun m _ => rfl⟩ ?_ ?_
  · intro n s I
    rw [mu_e I]
    exact br_t (nI_le (Nat.le_refl 6) (by decide)) (nm_r (nI_1 f) (nm_e hp))
  · intro n i s hi I kk
    exact br_f (nI_ge (b := 6) hi (by decide)) ⟨pk_in i 6 hi rfl, pk_in (6 * k + i) 240 (by omega) (ix_r 6 k i), up_I (6 * k + i) (nI (dg_d t i)) (ix_r 6 k i) ((rd_e rfl).trans (hro i hi)) (nm_r (nI_1 i) (kk _ (lu_i (f := fun j => nI (dg_d t j)) hi I rfl)))⟩
theorem yc_57s {post : Int32 → SY → Prop} {J16 : Int32 → Int32 → Int32 → Int32 → Int32 → Int32 → Int32 → Int32 → Int32 → Int32 → Int32 → (Nat → Int32) → (Nat → Int32) → (Nat → Int32) → (Nat → Int32) → (Nat → Int32) → (Nat → Int64) → (Nat → Int32) → (Nat → Int64) → (Nat → Int64) → (Nat → Int64) → (Nat → Int64) → (Nat → Int32) → Prop} {J34 : Int32 → Int32 → Int32 → (Nat → Int32) → (Nat → Int32) → (Nat → Int32) → (Nat → Int32) → (Nat → Int32) → (Nat → Int64) → (Nat → Int32) → (Nat → Int64) → (Nat → Int64) → (Nat → Int64) → (Nat → Int64) → (Nat → Int32) → Prop} {x1 x2 x3 x4 x5 x8 : Int32} {n m a i : Nat} (hm : m < 2 ^ 31) (hi : i < 6) (hx : nI i + (-1) = x8)
    (h : wY_certify_57 post J16 J34 x1 x2 x3 x4 x5 gLA gLB gN gLEN gHN gRA gWA gCP gCN n (nI (m / 5)) (nI (a + m % 5)) x8 bSR bPR bMU bRG bCE bFO bKN bHY bD bCH bCG (upd bRO i (nI (m % 5)))) : wY_certify_57 post J16 J34 x1 x2 x3 x4 x5 gLA gLB gN gLEN gHN gRA gWA gCP gCN (n + 1) (nI m) (nI a) (nI i) bSR bPR bMU bRG bCE bFO bKN bHY bD bCH bCG bRO :=
  br_f (nI_pos (by omega)) ⟨by decide, pk_in i 6 hi rfl, up_I i (nI (m % 5)) rfl (pk_rem (d := 5) hm (by decide) (by decide)) ⟨by decide, nm_r (pk_div (d := 5) hm (by decide) (by decide)) ⟨pk_in i 6 hi rfl, nm_r (e' := nI (a + m % 5)) (by rw [rd_e (a := upd bRO i (nI (m % 5))) (x := nI i) rfl, pk_us, nI_add]) (nm_r hx h)⟩⟩⟩
theorem yc_57 {post : Int32 → SY → Prop} {J16 : Int32 → Int32 → Int32 → Int32 → Int32 → Int32 → Int32 → Int32 → Int32 → Int32 → Int32 → (Nat → Int32) → (Nat → Int32) → (Nat → Int32) → (Nat → Int32) → (Nat → Int32) → (Nat → Int64) → (Nat → Int32) → (Nat → Int64) → (Nat → Int64) → (Nat → Int64) → (Nat → Int64) → (Nat → Int32) → Prop} {J34 : Int32 → Int32 → Int32 → (Nat → Int32) → (Nat → Int32) → (Nat → Int32) → (Nat → Int32) → (Nat → Int32) → (Nat → Int64) → (Nat → Int32) → (Nat → Int64) → (Nat → Int64) → (Nat → Int64) → (Nat → Int64) → (Nat → Int32) → Prop} {x1 x2 x3 x4 : Int32} {t : Nat} (ht : t < 15625)
    (h : ∀ ro : Nat → Int32, (∀ i, i < 6 → ro i = nI (dg_d t i)) → ((4 < nI (dg_tot t) → ∀ x5' : Int32, x5' = nI t + 1 → J34 x2 x4 x5' bSR bPR bMU bRG bCE bFO bKN bHY bD bCH bCG ro) ∧ (¬ 4 < nI (dg_tot t) → wpY_valid (fun r => ((r = 0 → ∀ x5' : Int32, x5' = nI t + 1 → J34 x2 x4 x5' bSR bPR bMU bRG bCE bFO bKN bHY bD bCH bCG ro) ∧ (¬ r = 0 → ∃ n, wY_certify_113 post J16 J34 x1 x2 x3 (nI t) gLA gLB gN gLEN gHN gRA gWA gCP gCN n 0 bSR bPR bMU bRG bCE bFO bKN bHY bD bCH bCG ro))) (gLA, gLB, gN, gLEN, gHN, gRA, gWA, gCP, gCN, bSR, bPR, bMU, bRG, bCE, bFO, bKN, bHY, bD, bCH, bCG, ro)))) :
    ∃ n, wY_certify_57 post J16 J34 x1 x2 x3 x4 (nI t) gLA gLB gN gLEN gHN gRA gWA gCP gCN n (nI t) 0 5 bSR bPR bMU bRG bCE bFO bKN bHY bD bCH bCG bRO := by
  refine ⟨7, ?_⟩
  refine yc_57s (a := 0) (i := 5) (x8 := nI 4) (by omega) (by omega) (by decide) ?_
  refine yc_57s (i := 4) (x8 := nI 3) (by omega) (by omega) (by decide) ?_
  refine yc_57s (i := 3) (x8 := nI 2) (by omega) (by omega) (by decide) ?_
  refine yc_57s (i := 2) (x8 := nI 1) (by omega) (by omega) (by decide) ?_
  refine yc_57s (i := 1) (x8 := nI 0) (by omega) (by omega) (by decide) ?_
  refine yc_57s (i := 0) (x8 := -1) (by omega) (by omega) (by decide) ?_
  refine br_t (by decide) ?_
  have e := h _ (fun i hi => by
    obtain ⟨e0, e1, e2, e3, e4, e5⟩ := dg_e t
    show upd (upd (upd (upd (upd (upd bRO 5 (nI (t % 5))) 4 (nI (t / 5 % 5))) 3 (nI (t / 5 / 5 % 5))) 2 (nI (t / 5 / 5 / 5 % 5))) 1 (nI (t / 5 / 5 / 5 / 5 % 5))) 0 (nI (t / 5 / 5 / 5 / 5 / 5 % 5)) i = _
    unfold upd
    rcases dg_i hi with rfl | rfl | rfl | rfl | rfl | rfl
    · rw [if_pos rfl, e0]
    · rw [if_neg (by omega), if_pos rfl, e1]
    · rw [if_neg (by omega), if_neg (by omega), if_pos rfl, e2]
    · rw [if_neg (by omega), if_neg (by omega), if_neg (by omega), if_pos rfl, e3]
    · rw [if_neg (by omega), if_neg (by omega), if_neg (by omega), if_neg (by omega), if_pos rfl, e4]
    · rw [if_neg (by omega), if_neg (by omega), if_neg (by omega), if_neg (by omega), if_neg (by omega), if_pos rfl, e5])
  have et : 0 + t % 5 + t / 5 % 5 + t / 5 / 5 % 5 + t / 5 / 5 / 5 % 5 + t / 5 / 5 / 5 / 5 % 5 + t / 5 / 5 / 5 / 5 / 5 % 5 = dg_tot t := by
    obtain ⟨e0, e1, e2, e3, e4, e5⟩ := dg_e t
    unfold dg_tot
    rw [e0, e1, e2, e3, e4, e5]
    omega
  rw [et]
  exact e
theorem yc_34 {post : Int32 → SY → Prop} {J16 : Int32 → Int32 → Int32 → Int32 → Int32 → Int32 → Int32 → Int32 → Int32 → Int32 → Int32 → (Nat → Int32) → (Nat → Int32) → (Nat → Int32) → (Nat → Int32) → (Nat → Int32) → (Nat → Int64) → (Nat → Int32) → (Nat → Int64) → (Nat → Int64) → (Nat → Int64) → (Nat → Int64) → (Nat → Int32) → Prop} {x1 : Int32} {f k : Nat} {cd : Cd_t} (hk : k < 40) (T : yc_T gCN bCH bCG cd)
    (h1 : ∀ (t : Nat) (ro : Nat → Int32), t < 15625 → gd_t cd t → (∀ s, s < t → ¬ gd_t cd s) → J16 (nI (f + 1)) (nI (k + 1)) gLA gLB gN gLEN gHN gRA gWA gCP gCN bSR bPR (mu_w bMU k t) bRG bCE bFO bKN bHY bD bCH bCG ro)
    (h0 : (∀ t, t < 15625 → ¬ gd_t cd t) → ∀ ro : Nat → Int32, J16 (nI f) (nI (k + 1)) gLA gLB gN gLEN gHN gRA gWA gCP gCN bSR bPR bMU bRG bCE bFO bKN bHY bD bCH bCG ro) :
    ∀ (d t : Nat) (ro : Nat → Int32), t + d = 15625 → (∀ s, s < t → ¬ gd_t cd s) → wY_certify_34 post J16 x1 (nI k) gLA gLB gN gLEN gHN gRA gWA gCP gCN (d + 1) (nI f) 1 (nI t) bSR bPR bMU bRG bCE bFO bKN bHY bD bCH bCG ro := by
  intro d
  induction d with
  | zero =>
    intro t ro ht hlo
    exact pk_le 15625 t (fun _ => nm_r (nI_1 k) (h0 (fun s hs => hlo s (by omega)) ro)) (fun z => absurd z (by omega))
  | succ d ih =>
    intro t ro ht hlo
    have ht5 : t < 15625 := by omega
    refine br_f (nI_ge (b := 15625) ht5 (by decide)) (br_f (by decide) (yc_57 ht5 (fun ro' hro => ?_)))
    have d4 : dg_tot t < 2 ^ 31 := by
      have := dg_lt t
      have a0 := this 0; have a1 := this 1; have a2 := this 2; have a3 := this 3; have a4 := this 4; have a5 := this 5
      unfold dg_tot; omega
    have next : ¬ gd_t cd t → ∀ x5' : Int32, x5' = nI t + 1 → wY_certify_34 post J16 x1 (nI k) gLA gLB gN gLEN gHN gRA gWA gCP gCN (d + 1) (nI f) 1 x5' bSR bPR bMU bRG bCE bFO bKN bHY bD bCH bCG ro' := fun q => nm_r (nI_1 t) (ih (t + 1) ro' (by omega) (fun s hs => by
      by_cases c : s = t
      · rw [c]; exact q
      · exact hlo s (by omega)))
    refine pk_lt 4 (dg_tot t) (fun z => next (fun w => absurd w.1 (by omega))) (fun z => ?_)
    refine yc_valid T (fun v => br_f (by decide) ?_) (fun v => br_t rfl (next (fun w => v ((rv_gd T.2.1 hro).mpr w).2)))
    have g : gd_t cd t := (rv_gd T.2.1 hro).mp ⟨z, v⟩
    refine yc_113 hk hro ?_
    rw [nI_1 t]
    exact pk_le 15625 (t + 1) (fun _ => nm_r (nI_1 k) (h1 t ro' ht5 g hlo)) (fun _ => br_t rfl (nm_r (nI_1 k) (h1 t ro' ht5 g hlo)))
end
end
section
/-! certify and check, both sides in lockstep -/
theorem gd_u {cd : Cd_t} {t t' : Nat} (a : gd_t cd t) (b : ∀ s, s < t → ¬ gd_t cd s) (a' : gd_t cd t') (b' : ∀ s, s < t' → ¬ gd_t cd s) : t' = t := by
  by_cases h : t' < t
  · exact absurd a' (b t' h)
  · by_cases h2 : t < t'
    · exact absurd a (b' t h2)
    · omega
theorem gd_ex (cd : Cd_t) : (∃ t, t < 15625 ∧ gd_t cd t ∧ ∀ s, s < t → ¬ gd_t cd s) ∨ ∀ t, t < 15625 → ¬ gd_t cd t := by
  by_cases h : ∀ t, t < 15625 → ¬ gd_t cd t
  · exact Or.inr h
  · refine Or.inl ?_
    have key : ∀ n, (∃ t, t < n ∧ gd_t cd t) → ∃ t, t < n ∧ gd_t cd t ∧ ∀ s, s < t → ¬ gd_t cd s := by
      intro n
      induction n with
      | zero => rintro ⟨t, ht, _⟩; omega
      | succ n ih =>
        rintro ⟨t, ht, g⟩
        by_cases c : ∃ t, t < n ∧ gd_t cd t
        · obtain ⟨t', a, b, d⟩ := ih c
          exact ⟨t', by omega, b, d⟩
        · have : t = n := by
            by_cases e : t = n
            · exact e
            · exact absurd ⟨t, by omega, g⟩ c
          exact ⟨t, ht, g, fun s hs gs => c ⟨s, by omega, gs⟩⟩
    refine key 15625 ?_
    apply Classical.byContradiction
    intro q
    exact h (fun t ht g => q ⟨t, ht, g⟩)
section
variable {fLA fLB fSC fPL fLD fST fCC fLV fLC : Int32} {aRG aCE aSO aPR aMU aLS aLH aLB aCP aHC aKN aTR : Nat → Int32} {aHT aGT aFO aWK aLI aSU : Nat → Int64}
variable {gLA gLB gN gLEN gHN gRA gWA gCP gCN : Int32} {bSR bPR bMU bRG bCE bKN bRO : Nat → Int32} {bFO bHY bD bCH bCG : Nat → Int64}
variable {P : Nat → Int32} {L la lb : Nat}
theorem yc_have {post : Int32 → SY → Prop} {x : Int32} (ok : pw_ok P L) (hL : L ≤ 48)
    (h1 : ∀ k : Nat, x = nI k → k < 40 → k < (pw_all P L la lb).length → ∀ (cpc cn : Int32) (ch cg fo d hy : Nat → Int64) (kn : Nat → Int32) (hn : Int32), ys_T (nI k) cpc cn ch cg (pw_all P L la lb) →
      post 1 (nI la, nI lb, gN, nI L, hn, nI (pw_all P L la lb).length, nI k, cpc, cn, bSR, P, bMU, bRG, bCE, fo, kn, hy, d, ch, cg, bRO))
    (h0 : (¬ ∃ k : Nat, x = nI k ∧ k < 40 ∧ k < (pw_all P L la lb).length) → ∀ (hn ra wa cpc cn : Int32) (fo hy dd ch cg : Nat → Int64) (kn ro : Nat → Int32), post 0 (nI la, nI lb, gN, nI L, hn, ra, wa, cpc, cn, bSR, P, bMU, bRG, bCE, fo, kn, hy, dd, ch, cg, ro)) : wpY_have post (nI la, nI lb, gN, nI L, gHN, gRA, gWA, gCP, gCN, bSR, P, bMU, bRG, bCE, bFO, bKN, bHY, bD, bCH, bCG, bRO) x := by
  have hlen := pw_all_len (P := P) (la := la) (lb := lb) hL
  refine br_c (fun z => h0 ?_ _ _ _ _ _ _ _ _ _ _ _ _) (fun z => br_c (fun z2 => ?_) (fun z2 => h0 ?_ _ _ _ _ _ _ _ _ _ _ _ _))
  · rintro ⟨k, rfl, a, b⟩
    exact nI_pos (by omega) z
  · obtain ⟨k, hk, rfl⟩ := ir_y (n := 40) (by decide) z (fun q => absurd z2 (Int32.not_lt.mpr q))
    refine yw_walk (la := la) (lb := lb) ok hL (fun cpc cn ch cg fo d hy kn hn T => ?_)
    refine pk_le (pw_all P L la lb).length k (fun q => h0 ?_ _ _ _ _ _ _ _ _ _ _ _ _) (fun q => h1 k rfl hk q _ _ _ _ _ _ _ _ _ T)
    rintro ⟨k', e, a, b⟩
    have := (nI_eq (by omega) (by omega)).mp e
    omega
  · rintro ⟨k, rfl, a, b⟩
    exact z2 (nI_lt (b := 40) a (by decide))
theorem xc_of {C : List Cd_t} {k : Nat} (T : xs_T aCP aHC aHT aGT C) (hk : k < 40) (hC : k < C.length) : ∃ cd, C[k]? = some cd ∧ xc_T aCP aHC aHT aGT k cd :=
  ⟨C[k], List.getElem?_eq_getElem hC, T k _ hk (List.getElem?_eq_getElem hC)⟩
theorem yc_of {C : List Cd_t} {k : Nat} {cd : Cd_t} (T : ys_T (nI k) gCP gCN bCH bCG C) (hk : k < 40) (e : C[k]? = some cd) : gCP = cd.1 ∧ yc_T gCN bCH bCG cd := by
  obtain ⟨a, b, c, d, f⟩ := T k cd hk rfl e
  exact ⟨a, b, c, d, f⟩
theorem yc_idle {post : Int32 → SY → Prop} {fr f : Nat} (ok : pw_ok P L) (hL : L ≤ 48) (hfr : fr < 40) (h : ∀ (hn ra wa cpc cn : Int32) (fo hy dd ch cg : Nat → Int64) (kn ro : Nat → Int32), post (nI f) (nI la, nI lb, gN, nI L, hn, ra, wa, cpc, cn, bSR, P, bMU, bRG, bCE, fo, kn, hy, dd, ch, cg, ro)) : ∀ (d kk : Nat), kk + d = fr + 8 → ¬ (kk < 40 ∧ kk < (pw_all P L la lb).length) → ∀ (hn ra wa cpc cn : Int32) (fo hy dd ch cg : Nat → Int64) (kn ro : Nat → Int32), wY_certify_16 post (nI fr) (d + 1) (nI f) (nI kk) (nI la) (nI lb) gN (nI L) hn ra wa cpc cn bSR P bMU bRG bCE fo kn hy dd ch cg ro := by
  intro d
  induction d with
  | zero =>
    intro kk hkk q hn ra wa cpc cn fo hy dd ch cg kn ro
    exact pk_le (fr + 8) kk (fun _ => h _ _ _ _ _ _ _ _ _ _ _ _) (fun z => absurd z (by omega)) (nI_add fr 8) rfl
  | succ d ih =>
    intro kk hkk q hn ra wa cpc cn fo hy dd ch cg kn ro
    refine pk_le (fr + 8) kk (fun z => absurd z (by omega)) (fun z => ?_) (nI_add fr 8) rfl
    refine yc_have (la := la) (lb := lb) ok hL (fun k e a b => ?_) (fun _ hn ra wa cpc cn fo hy dd ch cg kn ro => ⟨1, br_f (by decide) (br_t rfl (nm_r (nI_1 kk) (ih (kk + 1) (by omega) (by omega) hn ra wa cpc cn fo hy dd ch cg kn ro)))⟩)
    have := (nI_eq (by omega) (by omega)).mp e
    exact absurd ⟨by omega, by omega⟩ q
theorem ce_lock {fr : Nat} (ok : pw_ok P L) (hL : L ≤ 48) (hfr : fr < 40) (T : xs_T aCP aHC aHT aGT (pw_all P L la lb)) : ∀ (d kk f : Nat) (mu : Nat → Int32), kk + d = fr + 8 → ∃ (r : Int32) (mu' : Nat → Int32),
    (∀ (post : Int32 → SX → Prop) (su : Nat → Int64) (tr : Nat → Int32), (∀ (su : Nat → Int64) (tr : Nat → Int32), post r (nI la, nI lb, fSC, nI L, fLD, fST, nI (pw_all P L la lb).length, fLV, fLC, aRG, aCE, aSO, P, mu', aLS, aLH, aLB, aCP, aHC, aHT, aGT, aFO, aKN, aWK, aLI, su, tr)) → wX_certify_20 post (nI fr) (d + 1) (nI f) (nI kk) (nI la) (nI lb) fSC (nI L) fLD fST (nI (pw_all P L la lb).length) fLV fLC aRG aCE aSO P mu aLS aLH aLB aCP aHC aHT aGT aFO aKN aWK aLI su tr) ∧
    (∀ (post : Int32 → SY → Prop), (∀ (hn ra wa cpc cn : Int32) (fo hy dd ch cg : Nat → Int64) (kn ro : Nat → Int32), post r (nI la, nI lb, gN, nI L, hn, ra, wa, cpc, cn, bSR, P, mu', bRG, bCE, fo, kn, hy, dd, ch, cg, ro)) → ∀ (hn ra wa cpc cn : Int32) (fo hy dd ch cg : Nat → Int64) (kn ro : Nat → Int32), wY_certify_16 post (nI fr) (d + 1) (nI f) (nI kk) (nI la) (nI lb) gN (nI L) hn ra wa cpc cn bSR P mu bRG bCE fo kn hy dd ch cg ro) := by
  have hlen := pw_all_len (P := P) (la := la) (lb := lb) hL
  intro d
  induction d with
  | zero =>
    intro kk f mu hkk
    exact ⟨nI f, mu, fun post su tr h => pk_le (fr + 8) kk (fun _ => h _ _) (fun z => absurd z (by omega)) (nI_add fr 8) rfl,
      fun post h hn ra wa cpc cn fo hy dd ch cg kn ro => pk_le (fr + 8) kk (fun _ => h hn ra wa cpc cn fo hy dd ch cg kn ro) (fun z => absurd z (by omega)) (nI_add fr 8) rfl⟩
  | succ d ih =>
    intro kk f mu hkk
    by_cases q : kk < 40 ∧ kk < (pw_all P L la lb).length
    · obtain ⟨cd, ecd, Tc⟩ := xc_of T q.1 q.2
      have head : ∀ {post : Int32 → SX → Prop} {su : Nat → Int64} {tr : Nat → Int32}, wpX_findRow (fun r_34 u => match u with | (fLA, fLB, fSC, fPL, fLD, fST, fCC, fLV, fLC, aRG, aCE, aSO, aPR, aMU, aLS, aLH, aLB, aCP, aHC, aHT, aGT, aFO, aKN, aWK, aLI, aSU, aTR) => (((r_34 = 0 → (∀ x3_63 : Int32, x3_63 = nI kk + 1 → (wX_certify_20 post (nI fr) (d + 1) (nI f) x3_63 fLA fLB fSC fPL fLD fST fCC fLV fLC aRG aCE aSO aPR aMU aLS aLH aLB aCP aHC aHT aGT aFO aKN aWK aLI aSU aTR))) ∧ (¬ r_34 = 0 → (∃ n53 : Nat, wX_certify_53 post (wX_certify_20 post (nI fr) (d + 1)) (nI fr) (nI f) (nI kk) fLA fLB fSC fPL fLD fST fCC fLV fLC n53 0 aRG aCE aSO aPR aMU aLS aLH aLB aCP aHC aHT aGT aFO aKN aWK aLI aSU aTR))))) (nI la, nI lb, fSC, nI L, fLD, fST, nI (pw_all P L la lb).length, fLV, fLC, aRG, aCE, aSO, P, mu, aLS, aLH, aLB, aCP, aHC, aHT, aGT, aFO, aKN, aWK, aLI, su, tr) (nI kk) →
          wX_certify_20 post (nI fr) (d + 1 + 1) (nI f) (nI kk) (nI la) (nI lb) fSC (nI L) fLD fST (nI (pw_all P L la lb).length) fLV fLC aRG aCE aSO P mu aLS aLH aLB aCP aHC aHT aGT aFO aKN aWK aLI su tr := fun h =>
        pk_le (fr + 8) kk (fun z => absurd z (by omega)) (fun _ => br_f (nI_ge (b := 40) q.1 (by decide)) (br_f (nI_ge q.2 (by omega)) h)) (nI_add fr 8) rfl
      have headY : ∀ {post : Int32 → SY → Prop} (hn ra wa cpc cn : Int32) (fo hy dd ch cg : Nat → Int64) (kn ro : Nat → Int32), (∀ (hn ra wa cpc cn : Int32) (fo hy dd ch cg : Nat → Int64) (kn ro : Nat → Int32), yc_T cn ch cg cd → ∃ n34 : Nat, wY_certify_34 post (wY_certify_16 post (nI fr) (d + 1)) (nI fr) (nI kk) (nI la) (nI lb) gN (nI L) hn ra wa cpc cn n34 (nI f) 1 0 bSR P mu bRG bCE fo kn hy dd ch cg ro) →
          wY_certify_16 post (nI fr) (d + 1 + 1) (nI f) (nI kk) (nI la) (nI lb) gN (nI L) hn ra wa cpc cn bSR P mu bRG bCE fo kn hy dd ch cg ro := by
        intro post hn ra wa cpc cn fo hy dd ch cg kn ro h
        refine pk_le (fr + 8) kk (fun z => absurd z (by omega)) (fun _ => ?_) (nI_add fr 8) rfl
        refine yc_have (la := la) (lb := lb) ok hL (fun k e a b cpc cn ch cg fo d hy kn hn TY => ?_) (fun w => absurd ⟨kk, rfl, q.1, q.2⟩ w)
        have ek := (nI_eq (by omega) (by omega)).mp e
        subst ek
        exact h _ _ _ _ _ _ _ _ _ _ _ _ (yc_of TY q.1 ecd).2
      rcases gd_ex cd with ⟨t, ht, g, hlo⟩ | none
      · obtain ⟨r, mu', hX, hY⟩ := ih (kk + 1) (f + 1) (mu_w mu kk t) (by omega)
        refine ⟨r, mu', fun post su tr h => head (xc_find rfl q.1 Tc (fun t' su tr ht' g' hlo' htr => br_f (by decide) ?_) (fun w => absurd g (w t ht))), fun post h hn ra wa cpc cn fo hy dd ch cg kn ro => headY hn ra wa cpc cn fo hy dd ch cg kn ro (fun hn ra wa cpc cn fo hy dd ch cg kn ro Ty => ⟨15626, ?_⟩)⟩
        · have et := gd_u g hlo g' hlo'
          subst et
          exact xc_53 q.1 htr (hX post su tr h)
        · refine yc_34 q.1 Ty (fun t' ro ht' g' hlo' => ?_) (fun w => absurd g (w t ht)) 15625 0 _ (by omega) (fun s hs => absurd hs (Nat.not_lt_zero s))
          have et := gd_u g hlo g' hlo'
          subst et
          exact hY post h _ _ _ _ _ _ _ _ _ _ _ _
      · obtain ⟨r, mu', hX, hY⟩ := ih (kk + 1) f mu (by omega)
        refine ⟨r, mu', fun post su tr h => head (xc_find rfl q.1 Tc (fun t' su tr ht' g' hlo' htr => absurd g' (none t' ht')) (fun w su tr => br_t rfl (nm_r (nI_1 kk) (hX post su tr h)))), fun post h hn ra wa cpc cn fo hy dd ch cg kn ro => headY hn ra wa cpc cn fo hy dd ch cg kn ro (fun hn ra wa cpc cn fo hy dd ch cg kn ro Ty => ⟨15626, ?_⟩)⟩
        exact yc_34 q.1 Ty (fun t' ro ht' g' hlo' => absurd g' (none t' ht')) (fun w ro => hY post h _ _ _ _ _ _ _ _ _ _ _ _) 15625 0 _ (by omega) (fun s hs => absurd hs (Nat.not_lt_zero s))
    · refine ⟨nI f, mu, fun post su tr h => pk_le (fr + 8) kk (fun z => absurd z (by omega)) (fun _ => ?_) (nI_add fr 8) rfl, fun post h hn ra wa cpc cn fo hy dd ch cg kn ro => yc_idle ok hL hfr h (d + 1) kk hkk q hn ra wa cpc cn fo hy dd ch cg kn ro⟩
      by_cases c : kk < 40
      · exact br_f (nI_ge (b := 40) c (by decide)) (br_t (nI_le (by omega) (by omega)) (h _ _))
      · exact br_t (nI_le (a := 40) (by omega) (by omega)) (h _ _)
theorem ck_lock (ok : pw_ok P L) (hL : L ≤ 48) (h40 : (pw_all P L la lb).length ≤ 40) (T : xs_T aCP aHC aHT aGT (pw_all P L la lb)) : ∀ (d k : Nat), k + d = (pw_all P L la lb).length → ∃ r : Int32,
    (∀ (post : Int32 → SX → Prop) (su : Nat → Int64), (∀ su : Nat → Int64, post r (nI la, nI lb, fSC, nI L, fLD, fST, nI (pw_all P L la lb).length, fLV, fLC, aRG, aCE, aSO, P, aMU, aLS, aLH, aLB, aCP, aHC, aHT, aGT, aFO, aKN, aWK, aLI, su, aTR)) → wX_check_18 post (d + 1) (nI k) (nI la) (nI lb) fSC (nI L) fLD fST (nI (pw_all P L la lb).length) fLV fLC aRG aCE aSO P aMU aLS aLH aLB aCP aHC aHT aGT aFO aKN aWK aLI su aTR) ∧
    (∀ (post : Int32 → SY → Prop), (∀ (hn ra wa cpc cn : Int32) (fo hy dd ch cg : Nat → Int64) (kn ro : Nat → Int32), post r (nI la, nI lb, gN, nI L, hn, ra, wa, cpc, cn, bSR, P, aMU, bRG, bCE, fo, kn, hy, dd, ch, cg, ro)) → ∀ (hn ra wa cpc cn : Int32) (fo hy dd ch cg : Nat → Int64) (kn ro : Nat → Int32), wY_check_16 post (nI (pw_all P L la lb).length) (d + 1) (nI k) (nI la) (nI lb) gN (nI L) hn ra wa cpc cn bSR P aMU bRG bCE fo kn hy dd ch cg ro) := by
  have hlen := pw_all_len (P := P) (la := la) (lb := lb) hL
  intro d
  induction d with
  | zero =>
    intro k hk
    exact ⟨-1, fun post su h => pk_le (pw_all P L la lb).length k (fun _ => h _) (fun z => absurd z (by omega)), fun post h hn ra wa cpc cn fo hy dd ch cg kn ro => pk_le (pw_all P L la lb).length k (fun _ => h hn ra wa cpc cn fo hy dd ch cg kn ro) (fun z => absurd z (by omega))⟩
  | succ d ih =>
    intro k hk
    have q : k < 40 ∧ k < (pw_all P L la lb).length := ⟨by omega, by omega⟩
    obtain ⟨cd, ecd, Tc⟩ := xc_of T q.1 q.2
    have headY : ∀ {post : Int32 → SY → Prop} (hn ra wa cpc cn : Int32) (fo hy dd ch cg : Nat → Int64) (kn ro : Nat → Int32), (∀ (hn ra wa cpc cn : Int32) (fo hy dd ch cg : Nat → Int64) (kn ro : Nat → Int32), yc_T cn ch cg cd → (∀ i, i < 6 → ro i = aMU (6 * k + i)) → wpY_valid (fun r_48 => (((r_48 = 0 → (post (nI k) (nI la, nI lb, gN, nI L, hn, ra, wa, cpc, cn, bSR, P, aMU, bRG, bCE, fo, kn, hy, dd, ch, cg, ro))) ∧ (¬ r_48 = 0 → (∀ x2_71 : Int32, x2_71 = nI k + 1 → (wY_check_16 post (nI (pw_all P L la lb).length) (d + 1) x2_71 (nI la) (nI lb) gN (nI L) hn ra wa cpc cn bSR P aMU bRG bCE fo kn hy dd ch cg ro)))))) (nI la, nI lb, gN, nI L, hn, ra, wa, cpc, cn, bSR, P, aMU, bRG, bCE, fo, kn, hy, dd, ch, cg, ro)) →
        wY_check_16 post (nI (pw_all P L la lb).length) (d + 1 + 1) (nI k) (nI la) (nI lb) gN (nI L) hn ra wa cpc cn bSR P aMU bRG bCE fo kn hy dd ch cg ro := by
      intro post hn ra wa cpc cn fo hy dd ch cg kn ro h
      refine pk_le (pw_all P L la lb).length k (fun z => absurd z (by omega)) (fun _ => ?_)
      refine yw_walk (la := la) (lb := lb) ok hL (fun cpc cn ch cg fo dd hy kn hn TY => ?_)
      refine loop_0 (fun m i s => wY_check_28 post (wY_check_16 post (nI (pw_all P L la lb).length) (d + 1)) (nI (pw_all P L la lb).length) (nI k) (nI la) (nI lb) gN (nI L) hn (nI (pw_all P L la lb).length) (nI k) cpc cn m (nI i) bSR P aMU bRG bCE fo kn hy dd ch cg s) (fun i s => ∀ j, j < i → s j = aMU (6 * k + j)) 6 ro (fun j hj => absurd hj (Nat.not_lt_zero j)) ?_ ?_
      · intro m s I
        exact br_t (nI_le (Nat.le_refl 6) (by decide)) (h _ _ _ _ _ _ _ _ _ _ _ _ (yc_of TY q.1 ecd).2 I)
      · intro m i s hi I kk
        refine br_f (nI_ge (b := 6) hi (by decide)) ⟨pk_in (6 * k + i) 240 (by omega) (ix_r 6 k i), pk_in i 6 hi rfl, up_I i (aMU (6 * k + i)) rfl (rd_e (ix_r 6 k i)) (nm_r (nI_1 i) (kk _ (fun j hj => ?_)))⟩
        unfold upd
        by_cases e : j = i
        · rw [if_pos e, e]
        · rw [if_neg e]; exact I j (by omega)
    by_cases v : rv_ok cd (fun i => aMU (6 * k + i))
    · obtain ⟨r, hX, hY⟩ := ih (k + 1) (by omega)
      refine ⟨r, fun post su h => pk_le (pw_all P L la lb).length k (fun z => absurd z (by omega)) (fun _ => ?_), fun post h hn ra wa cpc cn fo hy dd ch cg kn ro => headY hn ra wa cpc cn fo hy dd ch cg kn ro (fun hn ra wa cpc cn fo hy dd ch cg kn ro Ty er => ?_)⟩
      · exact xc_valid rfl q.1 Tc (fun _ su => br_f (by decide) (nm_r (nI_1 k) (hX post su h))) (fun w => absurd v w)
      · exact yc_valid Ty (fun _ => br_f (by decide) (nm_r (nI_1 k) (hY post h hn ra wa cpc cn fo hy dd ch cg kn ro))) (fun w => absurd ((rv_c Ty.2.1 er).mpr v) w)
    · refine ⟨nI k, fun post su h => pk_le (pw_all P L la lb).length k (fun z => absurd z (by omega)) (fun _ => ?_), fun post h hn ra wa cpc cn fo hy dd ch cg kn ro => headY hn ra wa cpc cn fo hy dd ch cg kn ro (fun hn ra wa cpc cn fo hy dd ch cg kn ro Ty er => ?_)⟩
      · exact xc_valid rfl q.1 Tc (fun w => absurd w v) (fun _ su => br_t rfl (h su))
      · exact yc_valid Ty (fun w => absurd ((rv_c Ty.2.1 er).mp w) v) (fun _ => br_t rfl (h hn ra wa cpc cn fo hy dd ch cg kn ro))
end
end
section
/-! translation: pure emission, and the component's -/
abbrev Pr_t : Type := (Nat → Int32) × Nat
def em_s (s : Pr_t) (o a b c : Int32) : Pr_t := if s.2 < 48 then (so_up s.1 s.2 o a b c, s.2 + 1) else s
def iv_s (S : Nat → Int32) : Nat → Nat → Pr_t → Pr_t
  | 0, _, s => s
  | d + 1, i, s => iv_s S d (i + 1) (if S (4 * i) = 11 then em_s s 11 (S (4 * i + 1)) (S (4 * i + 2)) (S (4 * i + 3)) else s)
def b2_s (S : Nat → Int32) : List Nat → Pr_t → Pr_t
  | [], s => s
  | o :: _, s => em_s (em_s s 11 6 (S (4 * o + 1)) (-(S (4 * o + 2)))) 11 (S (4 * o + 1)) (S (4 * o + 3)) (-1)
def bu_s (S : Nat → Int32) (n f : Nat) (rest : List Nat) (s : Pr_t) : Pr_t := em_s (b2_s S rest (iv_s S n 0 s)) 11 6 (S (4 * f + 1)) (-(S (4 * f + 2)))
theorem em_t {s : Pr_t} {o a b c : Int32} (h : s.2 < 48) : em_s s o a b c = (so_up s.1 s.2 o a b c, s.2 + 1) := if_pos h
theorem em_f {s : Pr_t} {o a b c : Int32} (h : ¬ s.2 < 48) : em_s s o a b c = s := if_neg h
theorem em_48 {s : Pr_t} {o a b c : Int32} (h : s.2 ≤ 48) : (em_s s o a b c).2 ≤ 48 := by
  by_cases z : s.2 < 48
  · rw [em_t z]; exact z
  · rw [em_f z]; exact h
theorem iv_48 {S : Nat → Int32} : ∀ (d i : Nat) (s : Pr_t), s.2 ≤ 48 → (iv_s S d i s).2 ≤ 48 := by
  intro d
  induction d with
  | zero => intro i s h; exact h
  | succ d ih =>
    intro i s h
    unfold iv_s
    refine ih _ _ ?_
    split
    · exact em_48 h
    · exact h
theorem b2_48 {S : Nat → Int32} {r : List Nat} {s : Pr_t} (h : s.2 ≤ 48) : (b2_s S r s).2 ≤ 48 := by
  cases r with
  | nil => exact h
  | cons o r => exact em_48 (em_48 h)
theorem bu_48 {S : Nat → Int32} {n f : Nat} {r : List Nat} {s : Pr_t} (h : s.2 ≤ 48) : (bu_s S n f r s).2 ≤ 48 := em_48 (b2_48 (iv_48 _ _ _ h))
/-! two programs that agree but at some holes -/
def ag_s (Hs : List Nat) (s t : Pr_t) : Prop := s.2 = t.2 ∧ ∀ m, m ∉ Hs → s.1 m = t.1 m
theorem up_ag {Hs : List Nat} {P Q : Nat → Int32} {l : Nat} {o a b c : Int32} (h : ∀ m, m ∉ Hs → P m = Q m) : ∀ m, m ∉ Hs → so_up P l o a b c m = so_up Q l o a b c m := by
  intro m hm
  unfold so_up upd
  by_cases e3 : m = 4 * l + 3
  · rw [if_pos e3, if_pos e3]
  · rw [if_neg e3, if_neg e3]
    by_cases e2 : m = 4 * l + 2
    · rw [if_pos e2, if_pos e2]
    · rw [if_neg e2, if_neg e2]
      by_cases e1 : m = 4 * l + 1
      · rw [if_pos e1, if_pos e1]
      · rw [if_neg e1, if_neg e1]
        by_cases e0 : m = 4 * l
        · rw [if_pos e0, if_pos e0]
        · rw [if_neg e0, if_neg e0]; exact h m hm
theorem em_ag {Hs : List Nat} {s t : Pr_t} {o a b c : Int32} (h : ag_s Hs s t) : ag_s Hs (em_s s o a b c) (em_s t o a b c) := by
  obtain ⟨h1, h2⟩ := h
  by_cases z : s.2 < 48
  · rw [em_t z, em_t (s := t) (by omega)]
    refine ⟨by show s.2 + 1 = t.2 + 1; omega, ?_⟩
    show ∀ m, m ∉ Hs → so_up s.1 s.2 o a b c m = so_up t.1 t.2 o a b c m
    rw [h1]
    exact up_ag h2
  · rw [em_f z, em_f (s := t) (by omega)]
    exact ⟨h1, h2⟩
theorem iv_ag {Hs : List Nat} {S : Nat → Int32} : ∀ (d i : Nat) (s t : Pr_t), ag_s Hs s t → ag_s Hs (iv_s S d i s) (iv_s S d i t) := by
  intro d
  induction d with
  | zero => intro i s t h; exact h
  | succ d ih =>
    intro i s t h
    unfold iv_s
    refine ih _ _ _ ?_
    by_cases e : S (4 * i) = 11
    · rw [if_pos e, if_pos e]; exact em_ag h
    · rw [if_neg e, if_neg e]; exact h
theorem b2_ag {Hs : List Nat} {S : Nat → Int32} {r : List Nat} {s t : Pr_t} (h : ag_s Hs s t) : ag_s Hs (b2_s S r s) (b2_s S r t) := by
  cases r with
  | nil => exact h
  | cons o r => exact em_ag (em_ag h)
theorem bu_ag {Hs : List Nat} {S : Nat → Int32} {n f : Nat} {r : List Nat} {s t : Pr_t} (h : ag_s Hs s t) : ag_s Hs (bu_s S n f r s) (bu_s S n f r t) := em_ag (b2_ag (iv_ag _ _ _ _ h))
/-! a program grows -/
def gr_s (s t : Pr_t) : Prop := s.2 ≤ t.2 ∧ ∀ m, m < 4 * s.2 → t.1 m = s.1 m
theorem gr_0 {s : Pr_t} : gr_s s s := ⟨Nat.le_refl _, fun _ _ => rfl⟩
theorem gr_t {s t u : Pr_t} (a : gr_s s t) (b : gr_s t u) : gr_s s u := ⟨Nat.le_trans a.1 b.1, fun m hm => by
  have := a.1
  rw [b.2 m (by omega), a.2 m hm]⟩
theorem em_gr {s : Pr_t} {o a b c : Int32} : gr_s s (em_s s o a b c) := by
  by_cases z : s.2 < 48
  · rw [em_t z]
    exact ⟨by show s.2 ≤ s.2 + 1; omega, fun m hm => so_up_lt hm⟩
  · rw [em_f z]; exact gr_0
theorem iv_gr {S : Nat → Int32} : ∀ (d i : Nat) (s : Pr_t), gr_s s (iv_s S d i s) := by
  intro d
  induction d with
  | zero => intro i s; exact gr_0
  | succ d ih =>
    intro i s
    unfold iv_s
    refine gr_t ?_ (ih _ _)
    split
    · exact em_gr
    · exact gr_0
theorem b2_gr {S : Nat → Int32} {r : List Nat} {s : Pr_t} : gr_s s (b2_s S r s) := by
  cases r with
  | nil => exact gr_0
  | cons o r => exact gr_t em_gr em_gr
theorem bu_gr {S : Nat → Int32} {n f : Nat} {r : List Nat} {s : Pr_t} : gr_s s (bu_s S n f r s) := gr_t (iv_gr _ _ _) (gr_t b2_gr em_gr)
/-! its length -/
def iv_n (S : Nat → Int32) : Nat → Nat
  | 0 => 0
  | i + 1 => iv_n S i + (if S (4 * i) = 11 then 1 else 0)
theorem em_ln {s : Pr_t} {o a b c : Int32} (h : s.2 < 48) : (em_s s o a b c).2 = s.2 + 1 := by rw [em_t h]
theorem iv_mono {S : Nat → Int32} {i : Nat} : ∀ d, iv_n S i ≤ iv_n S (i + d) := by
  intro d
  induction d with
  | zero => exact Nat.le_refl _
  | succ d ih =>
    show _ ≤ iv_n S (i + d) + _
    omega
theorem iv_ln {S : Nat → Int32} : ∀ (d i : Nat) (s : Pr_t), s.2 + (iv_n S (i + d) - iv_n S i) ≤ 48 → (iv_s S d i s).2 = s.2 + (iv_n S (i + d) - iv_n S i) := by
  intro d
  induction d with
  | zero => intro i s h; show s.2 = s.2 + (iv_n S i - iv_n S i); omega
  | succ d ih =>
    intro i s h
    unfold iv_s
    have e1 : i + (d + 1) = i + 1 + d := by omega
    have m := iv_mono (S := S) (i := i + 1) d
    have e2 : iv_n S (i + 1) = iv_n S i + (if S (4 * i) = 11 then 1 else 0) := rfl
    rw [e1] at h ⊢
    by_cases e : S (4 * i) = 11
    · rw [if_pos e] at e2 ⊢
      rw [ih (i + 1) _ (by rw [em_ln (by omega)]; omega), em_ln (by omega)]
      omega
    · rw [if_neg e] at e2 ⊢
      rw [ih (i + 1) _ (by omega)]
      omega
theorem bu_ln {S : Nat → Int32} {n f : Nat} {r : List Nat} {s : Pr_t} (h : s.2 + (1 + iv_n S n + (if r = [] then 0 else 2)) ≤ 48) : (bu_s S n f r s).2 = s.2 + (1 + iv_n S n + (if r = [] then 0 else 2)) := by
  have a := iv_ln (S := S) n 0 s (by rw [Nat.zero_add]; show s.2 + (iv_n S n - 0) ≤ 48; omega)
  rw [Nat.zero_add, show iv_n S 0 = 0 from rfl, Nat.sub_zero] at a
  unfold bu_s
  cases r with
  | nil =>
    rw [if_pos rfl] at h ⊢
    show (em_s (iv_s S n 0 s) 11 6 _ _).2 = _
    rw [em_ln (by omega)]; omega
  | cons o r =>
    rw [if_neg (by simp)] at h ⊢
    show (em_s (em_s (em_s (iv_s S n 0 s) 11 6 _ _) 11 _ _ _) 11 6 _ _).2 = _
    rw [em_ln (by rw [em_ln (by rw [em_ln (by omega)]; omega), em_ln (by omega)]; omega), em_ln (by rw [em_ln (by omega)]; omega), em_ln (by omega)]; omega
/-! well-formed code -/
theorem em_ok {s : Pr_t} {o a b c : Int32} (h : pw_ok s.1 s.2) (hi : pw_okI o a b c) : pw_ok (em_s s o a b c).1 (em_s s o a b c).2 := by
  by_cases z : s.2 < 48
  · rw [em_t z]
    intro p hp
    show pw_okI (so_up s.1 s.2 o a b c (4 * p)) (so_up s.1 s.2 o a b c (4 * p + 1)) (so_up s.1 s.2 o a b c (4 * p + 2)) (so_up s.1 s.2 o a b c (4 * p + 3))
    have hp' : p < s.2 + 1 := hp
    by_cases e : p = s.2
    · subst e
      rw [so_up_0, so_up_1, so_up_2, so_up_3]; exact hi
    · rw [so_up_lt (by omega), so_up_lt (by omega), so_up_lt (by omega), so_up_lt (by omega)]; exact h p (by omega)
  · rw [em_f z]; exact h
theorem iv_ok {S : Nat → Int32} : ∀ (d i : Nat) (s : Pr_t), (∀ j, i ≤ j → j < i + d → S (4 * j) = 11 → pw_okI 11 (S (4 * j + 1)) (S (4 * j + 2)) (S (4 * j + 3))) → pw_ok s.1 s.2 → pw_ok (iv_s S d i s).1 (iv_s S d i s).2 := by
  intro d
  induction d with
  | zero => intro i s _ h; exact h
  | succ d ih =>
    intro i s hS h
    unfold iv_s
    refine ih (i + 1) _ (fun j a b => hS j (by omega) (by omega)) ?_
    by_cases e : S (4 * i) = 11
    · rw [if_pos e]; exact em_ok h (hS i (Nat.le_refl i) (by omega) e)
    · rw [if_neg e]; exact h
section
variable {fLA fLB fSC fPL fLD fST fCC fLV fLC : Int32} {aRG aCE aSO aPR aMU aLS aLH aLB aCP aHC aKN aTR : Nat → Int32} {aHT aGT aFO aWK aLI aSU : Nat → Int64}
variable {n : Nat} {s : Pr_t}
theorem xe_em {post : SX → Prop} {o a b c : Int32} (h48 : s.2 ≤ 48) (h : post (fLA, fLB, fSC, nI (em_s s o a b c).2, fLD, fST, fCC, fLV, fLC, aRG, aCE, aSO, (em_s s o a b c).1, aMU, aLS, aLH, aLB, aCP, aHC, aHT, aGT, aFO, aKN, aWK, aLI, aSU, aTR)) : wpX_emit post (fLA, fLB, fSC, nI s.2, fLD, fST, fCC, fLV, fLC, aRG, aCE, aSO, s.1, aMU, aLS, aLH, aLB, aCP, aHC, aHT, aGT, aFO, aKN, aWK, aLI, aSU, aTR) o a b c := by
  refine pk_lt s.2 48 (fun z => ?_) (fun z => ?_)
  · rw [em_t z] at h
    have e : ∀ c : Nat, nI (4 * s.2) + nI c = nI (4 * s.2 + c) := fun c => nI_add _ _
    exact nm_r (ix_l0 4 s.2) ⟨pk_in (4 * s.2) 192 (by omega) rfl, up_I (4 * s.2) _ rfl rfl ⟨pk_in (4 * s.2 + 1) 192 (by omega) (e 1), up_I (4 * s.2 + 1) _ (e 1) rfl ⟨pk_in (4 * s.2 + 2) 192 (by omega) (e 2), up_I (4 * s.2 + 2) _ (e 2) rfl ⟨pk_in (4 * s.2 + 3) 192 (by omega) (e 3), up_I (4 * s.2 + 3) _ (e 3) rfl (nm_r (nI_1 s.2) h)⟩⟩⟩⟩
  · rw [em_f (by omega)] at h; exact h
theorem xe_129 {post : SX → Prop} {f d : Nat} (h48 : s.2 ≤ 48) (hd : 0 < d) (hd2 : d ≤ 2) (hf : f < 24) (e : aLS (d - 1) = nI f) (h : post (fLA, fLB, fSC, nI (em_s s 11 6 (aSO (4 * f + 1)) (-(aSO (4 * f + 2)))).2, nI d, fST, fCC, fLV, fLC, aRG, aCE, aSO, (em_s s 11 6 (aSO (4 * f + 1)) (-(aSO (4 * f + 2)))).1, aMU, aLS, aLH, aLB, aCP, aHC, aHT, aGT, aFO, aKN, aWK, aLI, aSU, aTR)) : wX_emitBundle_129 post fLA fLB fSC (nI s.2) (nI d) fST fCC fLV fLC aRG aCE aSO s.1 aMU aLS aLH aLB aCP aHC aHT aGT aFO aKN aWK aLI aSU aTR := by
  have ed : nI d - 1 = nI (d - 1) := ix_m hd
  refine ⟨pk_in (d - 1) 2 (by omega) ed, nm_r (e' := nI (4 * f)) (by rw [rd_e (a := aLS) ed, e]; exact ix_l0 4 f) ⟨pk_in (4 * f + 1) 96 (by omega) (nI_add (4 * f) 1), pk_in (4 * f + 2) 96 (by omega) (nI_add (4 * f) 2), ?_⟩⟩
  rw [rd_e (a := aSO) (x := nI (4 * f) + 1) (m := 4 * f + 1) (nI_add (4 * f) 1), rd_e (a := aSO) (x := nI (4 * f) + 2) (m := 4 * f + 2) (nI_add (4 * f) 2)]
  exact xe_em h48 h
/-- the stack as the component holds it -/
def xk_R (ls : Nat → Int32) (f : Nat) (r : List Nat) (d : Nat) : Prop := (d = 1 ∧ r = [] ∧ ls 0 = nI f) ∨ ∃ o, d = 2 ∧ r = [o] ∧ o < 24 ∧ ls 0 = nI o ∧ ls 1 = nI f
theorem xe_bundle {post : SX → Prop} {f d : Nat} {r : List Nat} (h48 : s.2 ≤ 48) (hn : n ≤ 24) (hf : f < 24) (hk : xk_R aLS f r d) (h : post (fLA, fLB, nI n, nI (bu_s aSO n f r s).2, nI d, fST, fCC, fLV, fLC, aRG, aCE, aSO, (bu_s aSO n f r s).1, aMU, aLS, aLH, aLB, aCP, aHC, aHT, aGT, aFO, aKN, aWK, aLI, aSU, aTR)) : wpX_emitBundle post (fLA, fLB, nI n, nI s.2, nI d, fST, fCC, fLV, fLC, aRG, aCE, aSO, s.1, aMU, aLS, aLH, aLB, aCP, aHC, aHT, aGT, aFO, aKN, aWK, aLI, aSU, aTR) := by
  have hd : 0 < d ∧ d ≤ 2 := by
    rcases hk with k | ⟨o, k⟩ <;> omega
  refine br_t (nI_lt (a := 0) hd.1 (by omega)) ?_
  have key : ∀ (m i : Nat) (s : Pr_t), i + m = n → s.2 ≤ 48 → post (fLA, fLB, nI n, nI (em_s (b2_s aSO r (iv_s aSO m i s)) 11 6 (aSO (4 * f + 1)) (-(aSO (4 * f + 2)))).2, nI d, fST, fCC, fLV, fLC, aRG, aCE, aSO, (em_s (b2_s aSO r (iv_s aSO m i s)) 11 6 (aSO (4 * f + 1)) (-(aSO (4 * f + 2)))).1, aMU, aLS, aLH, aLB, aCP, aHC, aHT, aGT, aFO, aKN, aWK, aLI, aSU, aTR) → wX_emitBundle_10 post (m + 1) (nI i) fLA fLB (nI n) (nI s.2) (nI d) fST fCC fLV fLC aRG aCE aSO s.1 aMU aLS aLH aLB aCP aHC aHT aGT aFO aKN aWK aLI aSU aTR := by
    intro m
    induction m with
    | zero =>
      intro i s hi h48 h
      refine pk_le n i (fun _ => ?_) (fun z => absurd z (by omega))
      rcases hk with ⟨rfl, rfl, e0⟩ | ⟨o, rfl, rfl, ho, e0, e1⟩
      · exact br_f (by decide) (xe_129 h48 (by omega) (by omega) hf e0 h)
      · refine br_t rfl (nm_r (e' := nI (4 * o)) (by rw [e0]; exact ix_l0 4 o) ⟨pk_in (4 * o + 1) 96 (by omega) (nI_add (4 * o) 1), rd_n (4 * o + 1) (nI_add (4 * o) 1) ⟨pk_in (4 * o + 2) 96 (by omega) (nI_add (4 * o) 2), ?_⟩⟩)
        rw [rd_e (a := aSO) (x := nI (4 * o) + 2) (m := 4 * o + 2) (nI_add (4 * o) 2)]
        refine xe_em h48 ⟨pk_in (4 * o + 3) 96 (by omega) (nI_add (4 * o) 3), ?_⟩
        rw [rd_e (a := aSO) (x := nI (4 * o) + 3) (m := 4 * o + 3) (nI_add (4 * o) 3)]
        exact xe_em (em_48 h48) (xe_129 (em_48 (em_48 h48)) (by omega) (by omega) hf e1 h)
    | succ m ih =>
      intro i s hi h48 h
      refine br_f (nI_ge (b := n) (by omega) (by omega)) (nm_r (ix_l0 4 i) ⟨pk_in (4 * i) 96 (by omega) rfl, ?_⟩)
      rw [rd_e (a := aSO) (x := nI (4 * i)) rfl]
      unfold iv_s at h
      refine br_c (fun e => ⟨pk_in (4 * i + 1) 96 (by omega) (nI_add (4 * i) 1), pk_in (4 * i + 2) 96 (by omega) (nI_add (4 * i) 2), pk_in (4 * i + 3) 96 (by omega) (nI_add (4 * i) 3), ?_⟩) (fun e => nm_r (nI_1 i) (ih (i + 1) s (by omega) h48 ?_))
      · rw [rd_e (a := aSO) (x := nI (4 * i) + 1) (m := 4 * i + 1) (nI_add (4 * i) 1), rd_e (a := aSO) (x := nI (4 * i) + 2) (m := 4 * i + 2) (nI_add (4 * i) 2), rd_e (a := aSO) (x := nI (4 * i) + 3) (m := 4 * i + 3) (nI_add (4 * i) 3)]
        rw [if_pos e] at h
        exact xe_em h48 (nm_r (nI_1 i) (ih (i + 1) _ (by omega) (em_48 h48) h))
      · rw [if_neg e] at h; exact h
  exact ⟨n + 1, key n 0 s (by omega) h48 h⟩
theorem xe_open {post : SX → Prop} {x : Int32} {i d : Nat} {r : List Nat} (hx : x = nI i) (hi : i < 24) (h48 : s.2 ≤ 48) (hn : n ≤ 24) (hd : d < 2) (hk : xk_R (upd aLS d (nI i)) i r (d + 1))
    (h : ∀ s1 s2 : Pr_t, s1 = em_s s 1 (aSO (4 * i + 1)) 0 (aSO (4 * i + 2)) → s2 = bu_s aSO n i r s1 → post (fLA, fLB, nI n, nI (em_s s2 10 (aSO (4 * i + 1)) (aSO (4 * i + 3)) 0).2, nI (d + 1), fST, fCC, fLV, fLC, aRG, aCE, aSO, (em_s s2 10 (aSO (4 * i + 1)) (aSO (4 * i + 3)) 0).1, aMU, upd aLS d (nI i), upd aLH d (nI s1.2), upd aLB d (nI s2.2), aCP, aHC, aHT, aGT, aFO, aKN, aWK, aLI, aSU, aTR)) : wpX_openLoop post (fLA, fLB, nI n, nI s.2, nI d, fST, fCC, fLV, fLC, aRG, aCE, aSO, s.1, aMU, aLS, aLH, aLB, aCP, aHC, aHT, aGT, aFO, aKN, aWK, aLI, aSU, aTR) x := by
  subst hx
  refine br_t (nI_lt (b := 2) hd (by decide)) ⟨pk_in (4 * i + 1) 96 (by omega) (ix_l 4 i 1), rd_n (4 * i + 1) (ix_l 4 i 1) ⟨pk_in (4 * i + 3) 96 (by omega) (ix_l 4 i 3), rd_n (4 * i + 3) (ix_l 4 i 3) ⟨pk_in (4 * i + 2) 96 (by omega) (ix_l 4 i 2), ?_⟩⟩⟩
  rw [rd_e (a := aSO) (x := nI i * 4 + 2) (ix_l 4 i 2)]
  refine xe_em h48 ⟨pk_in d 2 hd rfl, up_I d (nI i) rfl rfl ⟨pk_in d 2 hd rfl, up_I d _ rfl rfl (nm_r (nI_1 d) ?_)⟩⟩
  refine xe_bundle (em_48 h48) hn hi hk ⟨pk_in d 2 hd rfl, up_I d _ rfl rfl ?_⟩
  exact xe_em (bu_48 (em_48 h48)) (h _ _ rfl rfl)
theorem xe_close {post : SX → Prop} {d f hd br : Nat} {r : List Nat} (h48 : s.2 ≤ 48) (hn : n ≤ 24) (hf : f < 24) (hk : xk_R aLS f r d) (eh : aLH (d - 1) = nI hd) (eb : aLB (d - 1) = nI br) (hb : br < 48)
    (h : ∀ s1 : Pr_t, s1 = em_s (em_s s 5 (aSO (4 * f + 1)) (aSO (4 * f + 1)) 1) 9 (nI hd) 0 0 → post (fLA, fLB, nI n, nI (bu_s aSO n f r (upd s1.1 (4 * br + 3) (nI s1.2), s1.2)).2, nI (d - 1), fST, fCC, fLV, fLC, aRG, aCE, aSO, (bu_s aSO n f r (upd s1.1 (4 * br + 3) (nI s1.2), s1.2)).1, aMU, aLS, aLH, aLB, aCP, aHC, aHT, aGT, aFO, aKN, aWK, aLI, aSU, aTR)) : wpX_closeLoop post (fLA, fLB, nI n, nI s.2, nI d, fST, fCC, fLV, fLC, aRG, aCE, aSO, s.1, aMU, aLS, aLH, aLB, aCP, aHC, aHT, aGT, aFO, aKN, aWK, aLI, aSU, aTR) := by
  have hd2 : 0 < d ∧ d ≤ 2 := by
    rcases hk with k | ⟨o, k⟩ <;> omega
  have els : aLS (d - 1) = nI f := by
    rcases hk with ⟨rfl, _, e0⟩ | ⟨o, rfl, _, _, _, e1⟩
    · exact e0
    · exact e1
  have ex : nI f * nI 4 + nI 1 = nI (4 * f + 1) := ix_l 4 f 1
  refine br_t (nI_lt (a := 0) hd2.1 (by omega)) (nm_r (ix_m hd2.1) ⟨pk_in (d - 1) 2 (by omega) rfl, ?_⟩)
  rw [rd_e (a := aLS) (x := nI (d - 1)) rfl, els]
  refine ⟨pk_in (4 * f + 1) 96 (by omega) ex, rd_n (4 * f + 1) ex ?_⟩
  refine xe_em h48 ⟨pk_in (d - 1) 2 (by omega) rfl, ?_⟩
  rw [rd_e (a := aLH) (x := nI (d - 1)) rfl, eh]
  refine xe_em (em_48 h48) ⟨pk_in (d - 1) 2 (by omega) rfl, rd_v (d - 1) rfl eb ?_⟩
  refine br_f (nI_pos (by omega)) (br_f (nI_ge (b := 48) hb (by decide)) ⟨pk_in (4 * br + 3) 192 (by omega) (ix_l 4 br 3), up_I (4 * br + 3) _ (ix_l 4 br 3) rfl ?_⟩)
  unfold wX_closeLoop_84
  refine xe_bundle (s := (upd (em_s (em_s s 5 (aSO (4 * f + 1)) (aSO (4 * f + 1)) 1) 9 (nI hd) 0 0).1 (4 * br + 3) (nI (em_s (em_s s 5 (aSO (4 * f + 1)) (aSO (4 * f + 1)) 1) 9 (nI hd) 0 0).2), (em_s (em_s s 5 (aSO (4 * f + 1)) (aSO (4 * f + 1)) 1) 9 (nI hd) 0 0).2)) (em_48 (em_48 h48)) hn hf hk (nm_r (ix_m hd2.1) ?_)
  exact h _ rfl
end
end
section
/-! translation: the reference's -/
def ho_d : List Nat → Int32
  | [] => -1
  | a :: _ => nI a
def sz_s (S : Nat → Int32) (n j : Nat) : Nat := if S (4 * j) = 12 then 2 + (1 + iv_n S n + (if so_stk S j = [] then 0 else 2)) else if S (4 * j) = 13 then 2 + (1 + iv_n S n + (if (so_stk S j).tail = [] then 0 else 2)) else 1
def pl_s (S : Nat → Int32) (n : Nat) : Nat → Nat
  | 0 => 0
  | j + 1 => pl_s S n j + sz_s S n j
def cs_o (S : Nat → Int32) (i : Nat) : Nat → Nat → Option Nat
  | 0, _ => none
  | d + 1, j => if S (4 * j) = 13 ∧ ho_d (so_stk S j) = nI i then some j else cs_o S i d (j + 1)
def co_v : Option Nat → Int32
  | none => -1
  | some j => nI j
def ev_v (S : Nat → Int32) (n : Nat) : Option Nat → Int32
  | none => 2
  | some j => nI (pl_s S n j + 2)
def ev_s (S : Nat → Int32) (n i : Nat) : Int32 := ev_v S n (cs_o S i (n - (i + 1)) (i + 1))
theorem cs_in {S : Nat → Int32} {i : Nat} : ∀ (d j k : Nat), cs_o S i d j = some k → j ≤ k ∧ k < j + d ∧ S (4 * k) = 13 ∧ ho_d (so_stk S k) = nI i := by
  intro d
  induction d with
  | zero => intro j k h; exact absurd h (by simp [cs_o])
  | succ d ih =>
    intro j k h
    unfold cs_o at h
    by_cases e : S (4 * j) = 13 ∧ ho_d (so_stk S j) = nI i
    · rw [if_pos e] at h
      cases h
      exact ⟨Nat.le_refl _, by omega, e.1, e.2⟩
    · rw [if_neg e] at h
      obtain ⟨a, b, c⟩ := ih (j + 1) k h
      exact ⟨by omega, by omega, c⟩
theorem cs_eq {S : Nat → Int32} {i e : Nat} (h1 : S (4 * e) = 13) (h2 : ho_d (so_stk S e) = nI i) : ∀ (d j : Nat), j ≤ e → e < j + d → (∀ k, j ≤ k → k < e → ¬ (S (4 * k) = 13 ∧ ho_d (so_stk S k) = nI i)) → cs_o S i d j = some e := by
  intro d
  induction d with
  | zero => intro j a b; omega
  | succ d ih =>
    intro j a b h
    unfold cs_o
    by_cases c : j = e
    · subst c
      rw [if_pos ⟨h1, h2⟩]
    · rw [if_neg (h j (Nat.le_refl j) (by omega))]
      exact ih (j + 1) (by omega) (by omega) (fun k hk hk2 => h k (by omega) hk2)
/-- what lies below a loop on the stack -/
theorem sk_f {S : Nat → Int32} {f : Nat} {r : List Nat} : ∀ (j : Nat) (a : List Nat), so_stk S j = a ++ f :: r → so_stk S f = r ∧ f < j := by
  intro j
  induction j with
  | zero => intro a h; exact absurd h (by simp [so_stk])
  | succ j ih =>
    intro a h
    by_cases e : S (4 * j) = 12
    · rw [so_12 e] at h
      cases a with
      | nil =>
        rw [List.nil_append] at h
        injection h with h1 h2
        subst h1
        exact ⟨h2, by omega⟩
      | cons x a =>
        rw [List.cons_append] at h
        injection h with h1 h2
        obtain ⟨p, q⟩ := ih a h2
        exact ⟨p, by omega⟩
    · by_cases e2 : S (4 * j) = 13
      · rw [so_13 e2] at h
        cases hs : so_stk S j with
        | nil => rw [hs] at h; exact absurd h (by simp)
        | cons x t =>
          rw [hs, List.tail_cons] at h
          obtain ⟨p, q⟩ := ih (x :: a) (by rw [hs, h, List.cons_append])
          exact ⟨p, by omega⟩
      · rw [so_o e e2] at h
        obtain ⟨p, q⟩ := ih a h
        exact ⟨p, by omega⟩
theorem sk_lt {S : Nat → Int32} : ∀ (j x : Nat), x ∈ so_stk S j → x < j := by
  intro j x h
  obtain ⟨a, r, e⟩ := List.append_of_mem h
  exact (sk_f j a e).2
/-- a loop once closed never comes back -/
theorem sk_gone {S : Nat → Int32} {f j : Nat} (hj : f ∉ so_stk S j) (hf : f < j) : ∀ d, f ∉ so_stk S (j + d) := by
  intro d
  induction d with
  | zero => exact hj
  | succ d ih =>
    show f ∉ so_stk S (j + d + 1)
    by_cases e : S (4 * (j + d)) = 12
    · rw [so_12 e, List.mem_cons]
      rintro (z | z)
      · omega
      · exact ih z
    · by_cases e2 : S (4 * (j + d)) = 13
      · rw [so_13 e2]
        exact fun z => ih (List.mem_of_mem_tail z)
      · rw [so_o e e2]; exact ih
theorem sk_cl {S : Nat → Int32} {f e : Nat} (h : f ∈ so_stk S e) : ∀ k, f + 1 ≤ k → k < e → e ≤ 1000 → ¬ (S (4 * k) = 13 ∧ ho_d (so_stk S k) = nI f) := by
  rintro k hk1 hk2 he ⟨a, b⟩
  cases hs : so_stk S k with
  | nil =>
    rw [hs] at b
    have : (-1 : Int32) < 0 := by decide
    rw [show ho_d [] = -1 from rfl] at b
    rw [b] at this
    exact nI_pos (by omega) this
  | cons x t =>
    rw [hs] at b
    have hx := sk_lt k x (by rw [hs]; exact List.mem_cons_self)
    have ex : x = f := (nI_eq (by omega) (by omega)).mp b
    subst ex
    have ht : x ∉ t := by
      intro z
      obtain ⟨p, q⟩ := sk_f (S := S) (f := x) (r := t) k [] (by rw [hs]; rfl)
      have := sk_lt x x (by rw [p]; exact z)
      omega
    have g := sk_gone (S := S) (f := x) (j := k + 1) (by rw [so_13 a, hs, List.tail_cons]; exact ht) (by omega) (e - (k + 1))
    rw [show k + 1 + (e - (k + 1)) = e from by omega] at g
    exact g h
theorem dr_t (l : List Nat) (d : Nat) : l.tail.drop d = l.drop (d + 1) := by
  cases l with
  | nil => simp
  | cons a l => rfl
section
variable {gLA gLB gN gLEN gHN gRA gWA gCP gCN : Int32} {bSR bPR bMU bRG bCE bKN bRO : Nat → Int32} {bFO bHY bD bCH bCG : Nat → Int64}
variable {n : Nat} {s : Pr_t}
theorem yo_op6 {post : Int32 → Prop} : ∀ (j d : Nat), j + d ≤ 1000 → j ≤ 24 → post (ho_d ((so_stk bSR j).drop d)) → wY_opener_6 post gLA gLB gN gLEN gHN gRA gWA gCP gCN bSR bPR bMU bRG bCE bFO bKN bHY bD bCH bCG bRO (j + 1) (nI d) (nI j + (-1)) := by
  intro j
  induction j with
  | zero =>
    intro d _ _ h
    rw [show (so_stk bSR 0).drop d = [] from List.drop_nil] at h
    exact br_t (by decide) h
  | succ j ih =>
    intro d hd hj h
    rw [pk_m1]
    have er : bSR (4 * nI j).toNatClampNeg = bSR (4 * j) := rd_e (ix_r0 4 j)
    have p4 : vp_in (4 * nI j) 96 := pk_in (4 * j) 96 (by omega) (ix_r0 4 j)
    refine br_f (nI_pos (by omega)) ⟨p4, ?_⟩
    rw [er]
    refine br_c (fun e => nm_r (nI_1 d) ⟨p4, ?_⟩) (fun e => ⟨p4, ?_⟩)
    · rw [er]
      refine br_f (by rw [e]; decide) (nm_e (ih (d + 1) (by omega) (by omega) ?_))
      rw [so_13 e, dr_t] at h; exact h
    · rw [er]
      refine br_c (fun e2 => ?_) (fun e2 => nm_e (ih d (by omega) (by omega) ?_))
      · rw [so_12 e2] at h
        refine pk_eq d 0 (fun z => ?_) (fun z => nm_r (ix_n (by omega)) (nm_e (ih (d - 1) (by omega) (by omega) ?_)))
        · subst z; exact h
        · obtain ⟨d', rfl⟩ : ∃ d', d = d' + 1 := ⟨d - 1, by omega⟩
          exact h
      · rw [so_o e2 e] at h; exact h
theorem yo_op {post : Int32 → Prop} {x : Int32} {i : Nat} (hx : x = nI i) (hi : i ≤ 24) (h : post (ho_d (so_stk bSR i))) : wpY_opener post (gLA, gLB, gN, gLEN, gHN, gRA, gWA, gCP, gCN, bSR, bPR, bMU, bRG, bCE, bFO, bKN, bHY, bD, bCH, bCG, bRO) x := by
  subst hx
  refine nm_r (e' := nI i + (-1)) (Int32.sub_eq_add_neg _ _) ?_
  exact ⟨i + 1, yo_op6 i 0 (by omega) hi (by rw [List.drop_zero]; exact h)⟩
theorem iv_le {S : Nat → Int32} : ∀ i, iv_n S i ≤ i := by
  intro i
  induction i with
  | zero => exact Nat.le_refl 0
  | succ i ih =>
    unfold iv_n
    split <;> omega
theorem yo_bs {post : Int32 → Prop} {x : Int32} {f : Nat} (hx : x = nI f) (hf : f ≤ 24) (hn : n ≤ 24) (h : post (nI (1 + iv_n bSR n + (if so_stk bSR f = [] then 0 else 2)))) : wpY_bundleSize post (gLA, gLB, nI n, gLEN, gHN, gRA, gWA, gCP, gCN, bSR, bPR, bMU, bRG, bCE, bFO, bKN, bHY, bD, bCH, bCG, bRO) x := by
  refine loop_0 (fun m i (z : Int32) => wY_bundleSize_4 post x gLA gLB (nI n) gLEN gHN gRA gWA gCP gCN bSR bPR bMU bRG bCE bFO bKN bHY bD bCH bCG bRO m z (nI i)) (fun i z => z = nI (1 + iv_n bSR i)) n 1 rfl (fun m z I => ?_) (fun m i z hi I k => ?_)
  · subst I
    refine pk_le n n (fun _ => yo_op hx hf ?_) (fun z => absurd z (Nat.lt_irrefl _))
    cases hs : so_stk bSR f with
    | nil =>
      rw [hs, if_pos rfl] at h
      exact br_t (by decide) h
    | cons a r =>
      rw [hs, if_neg (by simp)] at h
      have := sk_lt f a (by rw [hs]; exact List.mem_cons_self)
      exact br_f (nI_pos (by omega)) (nm_r (nI_add _ 2) h)
  · subst I
    have er : bSR (4 * nI i).toNatClampNeg = bSR (4 * i) := rd_e (ix_r0 4 i)
    refine br_f (nI_ge hi (by omega)) ⟨pk_in (4 * i) 96 (by omega) (ix_r0 4 i), ?_⟩
    rw [er]
    have e0 : iv_n bSR (i + 1) = iv_n bSR i + (if bSR (4 * i) = 11 then 1 else 0) := rfl
    refine br_c (fun e => nm_r (nI_1 _) (nm_r (nI_1 i) (k _ ?_))) (fun e => nm_r (nI_1 i) (k _ ?_))
    · rw [e0, if_pos e]; rfl
    · rw [e0, if_neg e]; rfl
theorem yo_pl {post : Int32 → Prop} {x : Int32} {i : Nat} (hx : x = nI i) (hi : i ≤ n) (ok : so_ok bSR n) (hn : n ≤ 24) (h : post (nI (pl_s bSR n i))) : wpY_place post (gLA, gLB, nI n, gLEN, gHN, gRA, gWA, gCP, gCN, bSR, bPR, bMU, bRG, bCE, bFO, bKN, bHY, bD, bCH, bCG, bRO) x := by
  subst hx
  refine loop_0 (fun m j (z : Int32) => wY_place_4 post (nI i) gLA gLB (nI n) gLEN gHN gRA gWA gCP gCN bSR bPR bMU bRG bCE bFO bKN bHY bD bCH bCG bRO m z (nI j)) (fun j z => z = nI (pl_s bSR n j)) i 0 rfl (fun m z I => ?_) (fun m j z hj I k => ?_)
  · subst I
    exact pk_le i i (fun _ => h) (fun z => absurd z (Nat.lt_irrefl _))
  · subst I
    have er : bSR (4 * nI j).toNatClampNeg = bSR (4 * j) := rd_e (ix_r0 4 j)
    have p4 : vp_in (4 * nI j) 96 := pk_in (4 * j) 96 (by omega) (ix_r0 4 j)
    have e0 : pl_s bSR n (j + 1) = pl_s bSR n j + sz_s bSR n j := rfl
    have e2 : ∀ b : Nat, nI (pl_s bSR n j) + (2 + nI b) = nI (pl_s bSR n j + (2 + b)) := fun b => by
      rw [show (2 : Int32) + nI b = nI (2 + b) from nI_add 2 b, nI_add]
    refine br_f (nI_ge hj (by omega)) ⟨p4, ?_⟩
    rw [er]
    refine br_c (fun e => yo_bs rfl (by omega) hn (nm_r (e2 _) (nm_r (nI_1 j) (k _ ?_)))) (fun e => ⟨p4, ?_⟩)
    · rw [e0]
      unfold sz_s
      rw [if_pos e]
    · refine br_c (fun e3 => ?_) (fun e3 => nm_r (nI_1 _) (nm_r (nI_1 j) (k _ ?_)))
      · refine yo_op rfl (by omega) ?_
        cases hs : so_stk bSR j with
        | nil =>
          have := (ok j (by omega)).2.2.1 e3
          rw [hs] at this
          exact absurd this (by decide)
        | cons f r =>
          obtain ⟨p, q⟩ := sk_f (S := bSR) (f := f) (r := r) j [] (by rw [hs]; rfl)
          refine yo_bs (f := f) rfl (by omega) hn (nm_r (e2 _) (nm_r (nI_1 j) (k _ ?_)))
          rw [e0, p]
          unfold sz_s
          rw [if_neg e, if_pos e3, hs, List.tail_cons]
      · rw [e0]
        unfold sz_s
        rw [if_neg e, if_neg e3]
theorem yo_exit {Q : Int32 → Prop} {x : Int32} {i : Nat} (hx : x = nI i) (hi : i < n) (ok : so_ok bSR n) (hn : n ≤ 24) (h : Q (ev_s bSR n i)) : wpY_closer (fun r => wpY_place (fun r2 => ∀ x7 : Int32, x7 = r2 + 2 → Q x7) (gLA, gLB, nI n, gLEN, gHN, gRA, gWA, gCP, gCN, bSR, bPR, bMU, bRG, bCE, bFO, bKN, bHY, bD, bCH, bCG, bRO) r) (gLA, gLB, nI n, gLEN, gHN, gRA, gWA, gCP, gCN, bSR, bPR, bMU, bRG, bCE, bFO, bKN, bHY, bD, bCH, bCG, bRO) x := by
  subst hx
  refine nm_r (nI_1 i) ?_
  have key : ∀ (d j : Nat), j + d = n → Q (ev_v bSR n (cs_o bSR i d j)) → wY_closer_4 (fun r => wpY_place (fun r2 => ∀ x7 : Int32, x7 = r2 + 2 → Q x7) (gLA, gLB, nI n, gLEN, gHN, gRA, gWA, gCP, gCN, bSR, bPR, bMU, bRG, bCE, bFO, bKN, bHY, bD, bCH, bCG, bRO) r) (nI i) gLA gLB (nI n) gLEN gHN gRA gWA gCP gCN bSR bPR bMU bRG bCE bFO bKN bHY bD bCH bCG bRO (d + 1) (nI j) := by
    intro d
    induction d with
    | zero =>
      intro j hj h
      refine pk_le n j (fun _ => ⟨1, br_t (by decide) (nm_r (e' := 2) (by decide) h)⟩) (fun z => absurd z (by omega))
    | succ d ih =>
      intro j hj h
      have er : bSR (4 * nI j).toNatClampNeg = bSR (4 * j) := rd_e (ix_r0 4 j)
      refine br_f (nI_ge (b := n) (by omega) (by omega)) ⟨pk_in (4 * j) 96 (by omega) (ix_r0 4 j), ?_⟩
      rw [er]
      unfold cs_o at h
      refine br_c (fun e => yo_op rfl (by omega) (br_c (fun e2 => ?_) (fun e2 => nm_r (nI_1 j) (ih (j + 1) (by omega) ?_)))) (fun e => nm_r (nI_1 j) (ih (j + 1) (by omega) ?_))
      · rw [if_pos ⟨e, e2⟩] at h
        exact yo_pl rfl (by omega) ok hn (nm_r (nI_add _ 2) h)
      · rw [if_neg (fun z => e2 z.2)] at h; exact h
      · rw [if_neg (fun z => e z.1)] at h; exact h
  exact ⟨n - (i + 1) + 1, key (n - (i + 1)) (i + 1) (by omega) h⟩
theorem ye_em {post : SY → Prop} {o a b c : Int32} (h48 : s.2 ≤ 48) (h : post (gLA, gLB, gN, nI (em_s s o a b c).2, gHN, gRA, gWA, gCP, gCN, bSR, (em_s s o a b c).1, bMU, bRG, bCE, bFO, bKN, bHY, bD, bCH, bCG, bRO)) : wpY_emit post (gLA, gLB, gN, nI s.2, gHN, gRA, gWA, gCP, gCN, bSR, s.1, bMU, bRG, bCE, bFO, bKN, bHY, bD, bCH, bCG, bRO) o a b c := by
  refine pk_lt s.2 48 (fun z => ?_) (fun z => ?_)
  · rw [em_t z] at h
    exact ⟨pk_in (4 * s.2) 192 (by omega) (ix_r0 4 s.2), up_I (4 * s.2) _ (ix_r0 4 s.2) rfl ⟨pk_in (4 * s.2 + 1) 192 (by omega) (ix_r 4 s.2 1), up_I (4 * s.2 + 1) _ (ix_r 4 s.2 1) rfl ⟨pk_in (4 * s.2 + 2) 192 (by omega) (ix_r 4 s.2 2), up_I (4 * s.2 + 2) _ (ix_r 4 s.2 2) rfl ⟨pk_in (4 * s.2 + 3) 192 (by omega) (ix_r 4 s.2 3), up_I (4 * s.2 + 3) _ (ix_r 4 s.2 3) rfl (nm_r (nI_1 s.2) h)⟩⟩⟩⟩
  · rw [em_f (by omega)] at h; exact h
theorem ye_131 {post : SY → Prop} {f : Nat} (h48 : s.2 ≤ 48) (hf : f < 24) (h : post (gLA, gLB, gN, nI (em_s s 11 6 (bSR (4 * f + 1)) (-(bSR (4 * f + 2)))).2, gHN, gRA, gWA, gCP, gCN, bSR, (em_s s 11 6 (bSR (4 * f + 1)) (-(bSR (4 * f + 2)))).1, bMU, bRG, bCE, bFO, bKN, bHY, bD, bCH, bCG, bRO)) : wY_emitBundle_131 post (nI f) gLA gLB gN (nI s.2) gHN gRA gWA gCP gCN bSR s.1 bMU bRG bCE bFO bKN bHY bD bCH bCG bRO := by
  refine ⟨pk_in (4 * f + 1) 96 (by omega) (ix_r 4 f 1), pk_in (4 * f + 2) 96 (by omega) (ix_r 4 f 2), ?_⟩
  rw [rd_e (a := bSR) (x := 4 * nI f + 1) (ix_r 4 f 1), rd_e (a := bSR) (x := 4 * nI f + 2) (ix_r 4 f 2)]
  exact ye_em h48 h
theorem ye_bundle {post : SY → Prop} {x : Int32} {f : Nat} (hx : x = nI f) (h48 : s.2 ≤ 48) (hn : n ≤ 24) (hf : f < 24) (h : post (gLA, gLB, nI n, nI (bu_s bSR n f (so_stk bSR f) s).2, gHN, gRA, gWA, gCP, gCN, bSR, (bu_s bSR n f (so_stk bSR f) s).1, bMU, bRG, bCE, bFO, bKN, bHY, bD, bCH, bCG, bRO)) : wpY_emitBundle post (gLA, gLB, nI n, nI s.2, gHN, gRA, gWA, gCP, gCN, bSR, s.1, bMU, bRG, bCE, bFO, bKN, bHY, bD, bCH, bCG, bRO) x := by
  subst hx
  have key : ∀ (m i : Nat) (s : Pr_t), i + m = n → s.2 ≤ 48 → post (gLA, gLB, nI n, nI (em_s (b2_s bSR (so_stk bSR f) (iv_s bSR m i s)) 11 6 (bSR (4 * f + 1)) (-(bSR (4 * f + 2)))).2, gHN, gRA, gWA, gCP, gCN, bSR, (em_s (b2_s bSR (so_stk bSR f) (iv_s bSR m i s)) 11 6 (bSR (4 * f + 1)) (-(bSR (4 * f + 2)))).1, bMU, bRG, bCE, bFO, bKN, bHY, bD, bCH, bCG, bRO) → wY_emitBundle_2 post (nI f) (m + 1) (nI i) gLA gLB (nI n) (nI s.2) gHN gRA gWA gCP gCN bSR s.1 bMU bRG bCE bFO bKN bHY bD bCH bCG bRO := by
    intro m
    induction m with
    | zero =>
      intro i s hi h48 h
      refine pk_le n i (fun _ => ?_) (fun z => absurd z (by omega))
      refine yo_op rfl (by omega) ?_
      cases hs : so_stk bSR f with
      | nil =>
        rw [hs] at h
        exact br_t (by decide) (ye_131 h48 hf h)
      | cons o r =>
        rw [hs] at h
        have ho := sk_lt f o (by rw [hs]; exact List.mem_cons_self)
        refine br_f (nI_pos (by omega)) ⟨pk_in (4 * o + 1) 96 (by omega) (ix_r 4 o 1), pk_in (4 * o + 2) 96 (by omega) (ix_r 4 o 2), ?_⟩
        have e1 : bSR (4 * nI o + 1).toNatClampNeg = bSR (4 * o + 1) := rd_e (ix_r 4 o 1)
        have e2 : bSR (4 * nI o + 2).toNatClampNeg = bSR (4 * o + 2) := rd_e (ix_r 4 o 2)
        have e3 : bSR (4 * nI o + 3).toNatClampNeg = bSR (4 * o + 3) := rd_e (ix_r 4 o 3)
        show wpY_emit _ _ 11 6 (bSR (4 * nI o + 1).toNatClampNeg) (-(bSR (4 * nI o + 2).toNatClampNeg))
        rw [e1, e2]
        refine ye_em h48 ⟨pk_in (4 * o + 1) 96 (by omega) (ix_r 4 o 1), pk_in (4 * o + 3) 96 (by omega) (ix_r 4 o 3), ?_⟩
        show wpY_emit _ _ 11 (bSR (4 * nI o + 1).toNatClampNeg) (bSR (4 * nI o + 3).toNatClampNeg) (-1)
        rw [e1, e3]
        exact ye_em (em_48 h48) (ye_131 (em_48 (em_48 h48)) hf h)
    | succ m ih =>
      intro i s hi h48 h
      have er : bSR (4 * nI i).toNatClampNeg = bSR (4 * i) := rd_e (ix_r0 4 i)
      refine br_f (nI_ge (b := n) (by omega) (by omega)) ⟨pk_in (4 * i) 96 (by omega) (ix_r0 4 i), ?_⟩
      rw [er]
      unfold iv_s at h
      refine br_c (fun e => ⟨pk_in (4 * i + 1) 96 (by omega) (ix_r 4 i 1), pk_in (4 * i + 2) 96 (by omega) (ix_r 4 i 2), pk_in (4 * i + 3) 96 (by omega) (ix_r 4 i 3), ?_⟩) (fun e => nm_r (nI_1 i) (ih (i + 1) s (by omega) h48 ?_))
      · rw [rd_e (a := bSR) (x := 4 * nI i + 1) (ix_r 4 i 1), rd_e (a := bSR) (x := 4 * nI i + 2) (ix_r 4 i 2), rd_e (a := bSR) (x := 4 * nI i + 3) (ix_r 4 i 3)]
        rw [if_pos e] at h
        exact ye_em h48 (nm_r (nI_1 i) (ih (i + 1) _ (by omega) (em_48 h48) h))
      · rw [if_neg e] at h; exact h
  exact ⟨n + 1, key n 0 s (by omega) h48 h⟩
end
end
section
/-! translation: both sides in lockstep -/
theorem sk_12 {S : Nat → Int32} : ∀ (j f : Nat), f ∈ so_stk S j → S (4 * f) = 12 := by
  intro j
  induction j with
  | zero => intro f h; exact absurd h (by simp [so_stk])
  | succ j ih =>
    intro f h
    by_cases e : S (4 * j) = 12
    · rw [so_12 e, List.mem_cons] at h
      rcases h with h | h
      · rw [h]; exact e
      · exact ih f h
    · by_cases e2 : S (4 * j) = 13
      · rw [so_13 e2] at h; exact ih f (List.mem_of_mem_tail h)
      · rw [so_o e e2] at h; exact ih f h
theorem iv_pre {S : Nat → Int32} {n i : Nat} (ok : so_ok S n) (hi : i < n) (h : ¬ S (4 * i) = 11) : iv_n S n = iv_n S i := by
  have key : ∀ d, i + d ≤ n → iv_n S (i + d) = iv_n S i := by
    intro d
    induction d with
    | zero => intro _; rfl
    | succ d ih =>
      intro hd
      show iv_n S (i + d) + (if S (4 * (i + d)) = 11 then 1 else 0) = _
      have ne : ¬ S (4 * (i + d)) = 11 := by
        intro e
        by_cases z : d = 0
        · subst z; exact h e
        · exact h ((ok (i + d) (by omega)).2.2.2 e i (by omega))
      rw [if_neg ne, ih (by omega)]; rfl
  have := key (n - i) (by omega)
  rw [show i + (n - i) = n from by omega] at this
  exact this
theorem pl_mono {S : Nat → Int32} {n i : Nat} : ∀ d, pl_s S n i ≤ pl_s S n (i + d) := by
  intro d
  induction d with
  | zero => exact Nat.le_refl _
  | succ d ih =>
    show _ ≤ pl_s S n (i + d) + _
    omega
theorem pl_le {S : Nat → Int32} {n i j : Nat} (h : i ≤ j) : pl_s S n i ≤ pl_s S n j := by
  have := pl_mono (S := S) (n := n) (i := i) (j - i)
  rw [show i + (j - i) = j from by omega] at this
  exact this
theorem sz_12 {S : Nat → Int32} {n j : Nat} (h : S (4 * j) = 12) : sz_s S n j = 2 + (1 + iv_n S n + (if so_stk S j = [] then 0 else 2)) := if_pos h
theorem sz_13 {S : Nat → Int32} {n j : Nat} (h : S (4 * j) = 13) : sz_s S n j = 2 + (1 + iv_n S n + (if (so_stk S j).tail = [] then 0 else 2)) := by
  unfold sz_s
  rw [if_neg (by rw [h]; decide), if_pos h]
theorem sz_o {S : Nat → Int32} {n j : Nat} (h : ¬ S (4 * j) = 12) (h2 : ¬ S (4 * j) = 13) : sz_s S n j = 1 := by
  unfold sz_s
  rw [if_neg h, if_neg h2]
def ho_l (S : Nat → Int32) (n f : Nat) : Nat := 4 * (pl_s S n (f + 1) - 1) + 3
theorem so_F {S : Nat → Int32} {n j f : Nat} (ok : so_ok S n) (hj : j ≤ n) (h : f ∈ so_stk S j) : f < n ∧ ir_in (S (4 * f + 1)) 6 ∧ ir_in (S (4 * f + 3)) 7 := by
  have a := sk_lt j f h
  have b := sk_12 j f h
  have c := (ok f (by omega)).1
  rw [b] at c
  obtain ⟨d, _, e⟩ := ok_12w.mp c
  exact ⟨by omega, d, e⟩
theorem in_6 : ir_in 6 7 := ⟨6, by decide, rfl⟩
theorem b2_ok {S : Nat → Int32} {r : List Nat} {s : Pr_t} (h : pw_ok s.1 s.2) (hr : ∀ o, o ∈ r → ir_in (S (4 * o + 1)) 6 ∧ ir_in (S (4 * o + 3)) 7) : pw_ok (b2_s S r s).1 (b2_s S r s).2 := by
  cases r with
  | nil => exact h
  | cons o r =>
    obtain ⟨a, b⟩ := hr o List.mem_cons_self
    exact em_ok (em_ok h (ok_11.mpr ⟨in_6, ir_mono a (by omega)⟩)) (ok_11.mpr ⟨ir_mono a (by omega), b⟩)
theorem bu_ok {S : Nat → Int32} {n f : Nat} {r : List Nat} {s : Pr_t} (ok : so_ok S n) (h : pw_ok s.1 s.2) (hf : ir_in (S (4 * f + 1)) 6) (hr : ∀ o, o ∈ r → ir_in (S (4 * o + 1)) 6 ∧ ir_in (S (4 * o + 3)) 7) : pw_ok (bu_s S n f r s).1 (bu_s S n f r s).2 := by
  refine em_ok (b2_ok (iv_ok n 0 s (fun j _ hj e => ?_) h) hr) (ok_11.mpr ⟨in_6, ir_mono hf (by omega)⟩)
  have c := (ok j (by omega)).1
  rw [e] at c
  exact ok_11.mpr (ok_11w.mp c)
theorem up_ag3 {Hs : List Nat} {s t : Pr_t} {o a b c c' : Int32} (h48 : s.2 < 48) (h : ag_s Hs s t) : ag_s ((4 * s.2 + 3) :: Hs) (em_s s o a b c) (em_s t o a b c') := by
  obtain ⟨h1, h2⟩ := h
  rw [em_t h48, em_t (s := t) (by omega)]
  refine ⟨by show s.2 + 1 = t.2 + 1; omega, ?_⟩
  show ∀ m, m ∉ (4 * s.2 + 3) :: Hs → so_up s.1 s.2 o a b c m = so_up t.1 t.2 o a b c' m
  intro m hm
  rw [List.mem_cons] at hm
  rw [← h1]
  unfold so_up
  rw [pk_un (fun z => hm (Or.inl z)), pk_un (fun z => hm (Or.inl z))]
  unfold upd
  by_cases e2 : m = 4 * s.2 + 2
  · rw [if_pos e2, if_pos e2]
  · rw [if_neg e2, if_neg e2]
    by_cases e1 : m = 4 * s.2 + 1
    · rw [if_pos e1, if_pos e1]
    · rw [if_neg e1, if_neg e1]
      by_cases e0 : m = 4 * s.2
      · rw [if_pos e0, if_pos e0]
      · rw [if_neg e0, if_neg e0]; exact h2 m (fun z => hm (Or.inr z))
/-- the component's stack -/
def st_R (S : Nat → Int32) (n : Nat) (stk : List Nat) (ld : Nat) (ls lh lb : Nat → Int32) : Prop :=
  (stk = [] ∧ ld = 0) ∨ (∃ f, stk = [f] ∧ ld = 1 ∧ ls 0 = nI f ∧ lh 0 = nI (pl_s S n f + 1) ∧ lb 0 = nI (pl_s S n (f + 1) - 1))
  ∨ (∃ f o, stk = [f, o] ∧ ld = 2 ∧ (ls 0 = nI o ∧ lh 0 = nI (pl_s S n o + 1) ∧ lb 0 = nI (pl_s S n (o + 1) - 1)) ∧ ls 1 = nI f ∧ lh 1 = nI (pl_s S n f + 1) ∧ lb 1 = nI (pl_s S n (f + 1) - 1))
def tr_I (S : Nat → Int32) (n i ld : Nat) (ls lh lb : Nat → Int32) (s t : Pr_t) : Prop :=
  t.2 = pl_s S n i ∧ ag_s ((so_stk S i).map (ho_l S n)) s t ∧ pw_ok t.1 t.2 ∧ (∀ f, f ∈ so_stk S i → t.1 (ho_l S n f) = ev_s S n f) ∧ st_R S n (so_stk S i) ld ls lh lb
theorem tr_o {S : Nat → Int32} {n i ld : Nat} {ls lh lb : Nat → Int32} {s t : Pr_t} (ok : so_ok S n) (hi : i < n) (h48 : pl_s S n n + 1 ≤ 48) (I : tr_I S n i ld ls lh lb s t) (h12 : ¬ S (4 * i) = 12) (h13 : ¬ S (4 * i) = 13) :
    tr_I S n (i + 1) ld ls lh lb (em_s s (S (4 * i)) (S (4 * i + 1)) (S (4 * i + 2)) (S (4 * i + 3))) (em_s t (S (4 * i)) (S (4 * i + 1)) (S (4 * i + 2)) (S (4 * i + 3))) := by
  obtain ⟨I1, I2, I3, I4, I5⟩ := I
  have ep : pl_s S n (i + 1) = pl_s S n i + sz_s S n i := rfl
  have p1 := pl_le (S := S) (n := n) (i := i + 1) (j := n) (by omega)
  have oki : pw_okI (S (4 * i)) (S (4 * i + 1)) (S (4 * i + 2)) (S (4 * i + 3)) := (ok i hi).1.elim id (fun z => z.elim (fun z => absurd z.1 h12) (fun z => absurd z h13))
  rw [sz_o h12 h13] at ep
  unfold tr_I
  rw [so_o h12 h13]
  refine ⟨by rw [em_ln (by omega)]; omega, em_ag I2, em_ok I3 oki, fun f hf => ?_, I5⟩
  have a := sk_lt i f hf
  have b := pl_le (S := S) (n := n) (i := f + 1) (j := i) (by omega)
  have c : 1 ≤ pl_s S n (f + 1) := by
    show 1 ≤ pl_s S n f + sz_s S n f
    rw [sz_12 (sk_12 i f hf)]; omega
  rw [em_gr.2 _ (by unfold ho_l; omega)]
  exact I4 f hf
theorem tr_12 {S : Nat → Int32} {n i ld : Nat} {ls lh lb : Nat → Int32} {s t s1 s2 t1 t2 : Pr_t} (ok : so_ok S n) (hi : i < n) (h48 : pl_s S n n + 1 ≤ 48) (I : tr_I S n i ld ls lh lb s t) (h12 : S (4 * i) = 12)
    (e1 : s1 = em_s s 1 (S (4 * i + 1)) 0 (S (4 * i + 2))) (e2 : s2 = bu_s S n i (so_stk S i) s1) (f1 : t1 = em_s t 1 (S (4 * i + 1)) 0 (S (4 * i + 2))) (f2 : t2 = bu_s S n i (so_stk S i) t1) :
    tr_I S n (i + 1) (ld + 1) (upd ls ld (nI i)) (upd lh ld (nI s1.2)) (upd lb ld (nI s2.2)) (em_s s2 10 (S (4 * i + 1)) (S (4 * i + 3)) 0) (em_s t2 10 (S (4 * i + 1)) (S (4 * i + 3)) (ev_s S n i)) := by
  obtain ⟨I1, I2, I3, I4, I5⟩ := I
  have ep : pl_s S n (i + 1) = pl_s S n i + sz_s S n i := rfl
  have p1 := pl_le (S := S) (n := n) (i := i + 1) (j := n) (by omega)
  obtain ⟨hl, _, _⟩ := (ok i hi).2
  have hl := hl h12
  have wf := (ok i hi).1
  rw [h12] at wf
  obtain ⟨wx, _, wz⟩ := ok_12w.mp wf
  rw [sz_12 h12] at ep
  have lt1 : t1.2 = pl_s S n i + 1 := by rw [f1, em_ln (by omega)]; omega
  have lt2 : t2.2 = pl_s S n (i + 1) - 1 := by
    rw [f2, bu_ln (by omega)]; omega
  have ls1 : s1.2 = pl_s S n i + 1 := by rw [e1, em_ln (by rw [I2.1]; omega), I2.1]; omega
  have A1 : ag_s ((so_stk S i).map (ho_l S n)) s1 t1 := by rw [e1, f1]; exact em_ag I2
  have A2 : ag_s ((so_stk S i).map (ho_l S n)) s2 t2 := by rw [e2, f2]; exact bu_ag A1
  have ls2 : s2.2 = pl_s S n (i + 1) - 1 := by rw [A2.1]; exact lt2
  have eh : ho_l S n i = 4 * s2.2 + 3 := by unfold ho_l; rw [ls2]
  have eht : ho_l S n i = 4 * t2.2 + 3 := by unfold ho_l; rw [lt2]
  have g : gr_s t t2 := by rw [f2, f1]; exact gr_t em_gr bu_gr
  have K1 : pw_ok t1.1 t1.2 := by rw [f1]; exact em_ok I3 (ok_1.mpr wx)
  have hst : ∀ o, o ∈ so_stk S i → ir_in (S (4 * o + 1)) 6 ∧ ir_in (S (4 * o + 3)) 7 := fun o ho => (so_F ok (by omega) ho).2
  have K2 : pw_ok t2.1 t2.2 := by rw [f2]; exact bu_ok ok K1 wx hst
  have hev : ir_in (ev_s S n i) 48 := by
    unfold ev_s
    cases hc : cs_o S i (n - (i + 1)) (i + 1) with
    | none => exact ⟨2, by decide, rfl⟩
    | some j =>
      obtain ⟨a, b, c, _⟩ := cs_in _ _ _ hc
      have q := pl_le (S := S) (n := n) (i := j + 1) (j := n) (by omega)
      have q2 : pl_s S n (j + 1) = pl_s S n j + sz_s S n j := rfl
      rw [sz_13 c] at q2
      exact ⟨pl_s S n j + 2, by omega, rfl⟩
  unfold tr_I
  rw [so_12 h12]
  refine ⟨?_, ?_, em_ok K2 (ok_10.mpr ⟨ir_mono wx (by omega), wz, hev⟩), fun f hf => ?_, ?_⟩
  · rw [em_ln (by omega)]; omega
  · rw [List.map_cons, eh]
    exact up_ag3 (by omega) A2
  · rw [List.mem_cons] at hf
    rcases hf with rfl | hf
    · rw [em_t (by omega), eht]
      exact so_up_3
    · have a := sk_lt i f hf
      have b := pl_le (S := S) (n := n) (i := f + 1) (j := i) (by omega)
      have c : 1 ≤ pl_s S n (f + 1) := by
        show 1 ≤ pl_s S n f + sz_s S n f
        rw [sz_12 (sk_12 i f hf)]; omega
      rw [(gr_t g em_gr).2 _ (by unfold ho_l; omega)]
      exact I4 f hf
  · rcases I5 with ⟨es, rfl⟩ | ⟨f, es, rfl, a1, a2, a3⟩ | ⟨f, o, es, _⟩
    · refine Or.inr (Or.inl ⟨i, by rw [es], rfl, pk_us, ?_, ?_⟩)
      · rw [pk_us, ls1]
      · rw [pk_us, ls2]
    · refine Or.inr (Or.inr ⟨i, f, by rw [es], rfl, ⟨?_, ?_, ?_⟩, pk_us, ?_, ?_⟩)
      · rw [pk_un (by omega)]; exact a1
      · rw [pk_un (by omega)]; exact a2
      · rw [pk_un (by omega)]; exact a3
      · rw [pk_us, ls1]
      · rw [pk_us, ls2]
    · rw [es] at hl
      exact absurd (show 2 < 2 from hl) (by decide)
theorem tr_13 {S : Nat → Int32} {n i ld f : Nat} {r : List Nat} {ls lh lb : Nat → Int32} {s t s1 t1 : Pr_t} (ok : so_ok S n) (hn : n ≤ 24) (hi : i < n) (h48 : pl_s S n n + 1 ≤ 48) (I : tr_I S n i ld ls lh lb s t) (h13 : S (4 * i) = 13) (hs : so_stk S i = f :: r)
    (e1 : s1 = em_s (em_s s 5 (S (4 * f + 1)) (S (4 * f + 1)) 1) 9 (nI (pl_s S n f + 1)) 0 0) (f1 : t1 = em_s (em_s t 5 (S (4 * f + 1)) (S (4 * f + 1)) 1) 9 (nI (pl_s S n f + 1)) 0 0) :
    tr_I S n (i + 1) (ld - 1) ls lh lb (bu_s S n f r (upd s1.1 (4 * (pl_s S n (f + 1) - 1) + 3) (nI s1.2), s1.2)) (bu_s S n f r t1) := by
  obtain ⟨I1, I2, I3, I4, I5⟩ := I
  have ep : pl_s S n (i + 1) = pl_s S n i + sz_s S n i := rfl
  have p1 := pl_le (S := S) (n := n) (i := i + 1) (j := n) (by omega)
  rw [sz_13 h13, hs, List.tail_cons] at ep
  have hfm : f ∈ so_stk S i := by rw [hs]; exact List.mem_cons_self
  have hfi := sk_lt i f hfm
  obtain ⟨_, wx, _⟩ := so_F ok (by omega) hfm
  have q1 := pl_le (S := S) (n := n) (i := f + 1) (j := i) (by omega)
  have q2 : pl_s S n (f + 1) = pl_s S n f + sz_s S n f := rfl
  rw [sz_12 (sk_12 i f hfm)] at q2
  have lt1 : t1.2 = pl_s S n i + 2 := by rw [f1, em_ln (by rw [em_ln (by omega)]; omega), em_ln (by omega)]; omega
  have A1 : ag_s ((so_stk S i).map (ho_l S n)) s1 t1 := by rw [e1, f1]; exact em_ag (em_ag I2)
  have ls1 : s1.2 = pl_s S n i + 2 := by rw [A1.1]; exact lt1
  have g : gr_s t t1 := by rw [f1]; exact gr_t em_gr em_gr
  have eev : ev_s S n f = nI (pl_s S n i + 2) := by
    unfold ev_s
    rw [cs_eq h13 (by rw [hs]; rfl) (n - (f + 1)) (f + 1) (by omega) (by omega) (fun k a b => sk_cl hfm k a b (by omega))]
    rfl
  have hole : t1.1 (ho_l S n f) = nI (pl_s S n i + 2) := by
    rw [g.2 _ (by unfold ho_l; omega), I4 f hfm, eev]
  have A2 : ag_s (r.map (ho_l S n)) (upd s1.1 (4 * (pl_s S n (f + 1) - 1) + 3) (nI s1.2), s1.2) t1 := by
    refine ⟨A1.1, fun m hm => ?_⟩
    show upd s1.1 (4 * (pl_s S n (f + 1) - 1) + 3) (nI s1.2) m = t1.1 m
    by_cases c : m = 4 * (pl_s S n (f + 1) - 1) + 3
    · rw [c, pk_us, ls1]; exact hole.symm
    · rw [pk_un c]
      refine A1.2 m ?_
      rw [hs, List.map_cons, List.mem_cons]
      rintro (z | z)
      · exact c z
      · exact hm z
  have K1 : pw_ok t1.1 t1.2 := by
    rw [f1]
    exact em_ok (em_ok I3 (ok_5.mpr ⟨wx, ir_mono wx (by omega)⟩)) (ok_9.mpr ⟨pl_s S n f + 1, by omega, rfl⟩)
  have hst : ∀ o, o ∈ r → ir_in (S (4 * o + 1)) 6 ∧ ir_in (S (4 * o + 3)) 7 := fun o ho => (so_F ok (Nat.le_of_lt hi) (by rw [hs]; exact List.mem_cons_of_mem _ ho)).2
  unfold tr_I
  rw [so_13 h13, hs, List.tail_cons]
  refine ⟨?_, bu_ag A2, bu_ok ok K1 wx hst, fun f' hf' => ?_, ?_⟩
  · rw [bu_ln (by omega)]; omega
  · have hm' : f' ∈ so_stk S i := by rw [hs]; exact List.mem_cons_of_mem _ hf'
    have a := sk_lt i f' hm'
    have b := pl_le (S := S) (n := n) (i := f' + 1) (j := i) (by omega)
    have c : 1 ≤ pl_s S n (f' + 1) := by
      show 1 ≤ pl_s S n f' + sz_s S n f'
      rw [sz_12 (sk_12 i f' hm')]; omega
    rw [(gr_t g bu_gr).2 _ (by unfold ho_l; omega)]
    exact I4 f' hm'
  · rw [hs] at I5
    rcases I5 with ⟨es, _⟩ | ⟨f', es, rfl, _⟩ | ⟨f', o, es, rfl, a, _⟩
    · exact absurd es (by simp)
    · injection es with _ er
      exact Or.inl ⟨er, rfl⟩
    · injection es with _ er
      exact Or.inr (Or.inl ⟨o, er, rfl, a⟩)
theorem st_k {S : Nat → Int32} {n f ld : Nat} {r : List Nat} {ls lh lb : Nat → Int32} (h : st_R S n (f :: r) ld ls lh lb) (hr : ∀ o, o ∈ r → o < 24) : xk_R ls f r ld ∧ lh (ld - 1) = nI (pl_s S n f + 1) ∧ lb (ld - 1) = nI (pl_s S n (f + 1) - 1) := by
  rcases h with ⟨es, _⟩ | ⟨f', es, rfl, a1, a2, a3⟩ | ⟨f', o, es, rfl, ⟨a1, _⟩, b1, b2, b3⟩
  · exact absurd es (by simp)
  · injection es with e1 er
    subst e1 er
    exact ⟨Or.inl ⟨rfl, rfl, a1⟩, a2, a3⟩
  · injection es with e1 er
    subst e1 er
    exact ⟨Or.inr ⟨o, rfl, rfl, hr o List.mem_cons_self, a1, b1⟩, b2, b3⟩
theorem st_k2 {S : Nat → Int32} {n i ld : Nat} {r : List Nat} {ls lh lb : Nat → Int32} (h : st_R S n r ld ls lh lb) (hl : r.length < 2) (hr : ∀ o, o ∈ r → o < 24) : ld < 2 ∧ xk_R (upd ls ld (nI i)) i r (ld + 1) := by
  rcases h with ⟨rfl, rfl⟩ | ⟨f, rfl, rfl, a1, _⟩ | ⟨f, o, rfl, _⟩
  · exact ⟨by omega, Or.inl ⟨rfl, rfl, pk_us⟩⟩
  · exact ⟨by omega, Or.inr ⟨f, rfl, rfl, hr f List.mem_cons_self, by rw [pk_un (by omega)]; exact a1, pk_us⟩⟩
  · exact absurd (show 2 < 2 from hl) (by decide)
end
section
/-! compile -/
def mz_m (mu : Nat → Int32) : Nat → Int32 := fun m => if m < 240 then 0 else mu m
theorem mz_e {s mu : Nat → Int32} (I : ∀ m, s m = if m < 240 then 0 else mu m) : s = mz_m mu := funext I
section
variable {fLA fLB fSC fPL fLD fST fCC fLV fLC : Int32} {aRG aCE aSO aPR aMU aLS aLH aLB aCP aHC aKN aTR : Nat → Int32} {aHT aGT aFO aWK aLI aSU : Nat → Int64}
variable {n : Nat}
theorem xo_len {post : Int32 → Prop} (ok : so_ok aSO n) (hn : n ≤ 24) (h : post (nI (1 + pl_s aSO n n))) : wpX_sourceLength post (fLA, fLB, nI n, fPL, fLD, fST, fCC, fLV, fLC, aRG, aCE, aSO, aPR, aMU, aLS, aLH, aLB, aCP, aHC, aHT, aGT, aFO, aKN, aWK, aLI, aSU, aTR) := by
  refine loop_0 (fun m i (z : Int32 × Int32 × Int32) => wX_sourceLength_9 post fLA fLB (nI n) fPL fLD fST fCC fLV fLC aRG aCE aSO aPR aMU aLS aLH aLB aCP aHC aHT aGT aFO aKN aWK aLI aSU aTR m z.1 z.2.1 z.2.2 (nI i)) (fun i z => z = (nI (1 + pl_s aSO n i), nI (so_stk aSO i).length, nI (iv_n aSO i))) n (1, 0, 0) rfl (fun m z I => ?_) (fun m i z hi I k => ?_)
  · subst I
    exact pk_le n n (fun _ => h) (fun z => absurd z (Nat.lt_irrefl _))
  · subst I
    have hl := so_len aSO i
    have e0 : pl_s aSO n (i + 1) = pl_s aSO n i + sz_s aSO n i := rfl
    have i0 : iv_n aSO (i + 1) = iv_n aSO i + (if aSO (4 * i) = 11 then 1 else 0) := rfl
    have a0 : ∀ a b : Nat, nI a + (((3 : Int32) + nI b) + 0) = nI (a + (3 + b)) := fun a b => by
      rw [show (3 : Int32) + nI b = nI (3 + b) from nI_add 3 b, show nI (3 + b) + (0 : Int32) = nI (3 + b + 0) from nI_add _ 0, nI_add]; rfl
    have a2 : ∀ a b : Nat, nI a + (((3 : Int32) + nI b) + 2) = nI (a + (3 + b + 2)) := fun a b => by
      rw [show (3 : Int32) + nI b = nI (3 + b) from nI_add 3 b, show nI (3 + b) + (2 : Int32) = nI (3 + b + 2) from nI_add _ 2, nI_add]
    have k' : wX_sourceLength_9 post fLA fLB (nI n) fPL fLD fST fCC fLV fLC aRG aCE aSO aPR aMU aLS aLH aLB aCP aHC aHT aGT aFO aKN aWK aLI aSU aTR m (nI (1 + pl_s aSO n (i + 1))) (nI (so_stk aSO (i + 1)).length) (nI (iv_n aSO (i + 1))) (nI (i + 1)) := k _ rfl
    show wX_sourceLength_9 post fLA fLB (nI n) fPL fLD fST fCC fLV fLC aRG aCE aSO aPR aMU aLS aLH aLB aCP aHC aHT aGT aFO aKN aWK aLI aSU aTR (m + 1) (nI (1 + pl_s aSO n i)) (nI (so_stk aSO i).length) (nI (iv_n aSO i)) (nI i)
    refine br_f (nI_ge hi (by omega)) ⟨pk_in (4 * i) 96 (by omega) (ix_l0 4 i), rd_n (4 * i) (ix_l0 4 i) ?_⟩
    refine br_c (fun e => ?_) (fun e => br_c (fun e2 => ?_) (fun e2 => ?_))
    · have ei := iv_pre ok hi (by rw [e]; decide)
      have et : iv_n aSO (i + 1) = iv_n aSO i := by rw [i0, if_neg (by rw [e]; decide)]; rfl
      rw [sz_12 e, ei] at e0
      rw [so_12 e, et, e0, List.length_cons] at k'
      refine pk_le (so_stk aSO i).length 0 (fun z => ?_) (fun z => ?_)
      · have es : so_stk aSO i = [] := List.eq_nil_of_length_eq_zero (by omega)
        rw [if_pos es, show 1 + (pl_s aSO n i + (2 + (1 + iv_n aSO i + 0))) = 1 + pl_s aSO n i + (3 + iv_n aSO i) from by omega] at k'
        exact nm_r (a0 _ _) (nm_r (nI_1 _) (nm_r (nI_1 i) k'))
      · have es : ¬ so_stk aSO i = [] := fun q => by rw [q] at z; exact absurd z (by decide)
        rw [if_neg es, show 1 + (pl_s aSO n i + (2 + (1 + iv_n aSO i + 2))) = 1 + pl_s aSO n i + (3 + iv_n aSO i + 2) from by omega] at k'
        exact nm_r (a2 _ _) (nm_r (nI_1 _) (nm_r (nI_1 i) k'))
    · have ei := iv_pre ok hi (by rw [e2]; decide)
      have et : iv_n aSO (i + 1) = iv_n aSO i := by rw [i0, if_neg (by rw [e2]; decide)]; rfl
      have hp := (ok i hi).2.2.1 e2
      rw [sz_13 e2, ei] at e0
      rw [so_13 e2, et, e0, List.length_tail] at k'
      refine nm_r (ix_n hp) (pk_le ((so_stk aSO i).length - 1) 0 (fun z => ?_) (fun z => ?_))
      · have es : (so_stk aSO i).tail = [] := List.eq_nil_of_length_eq_zero (by rw [List.length_tail]; omega)
        rw [if_pos es, show 1 + (pl_s aSO n i + (2 + (1 + iv_n aSO i + 0))) = 1 + pl_s aSO n i + (3 + iv_n aSO i) from by omega] at k'
        exact nm_r (a0 _ _) (nm_r (nI_1 i) k')
      · have es : ¬ (so_stk aSO i).tail = [] := fun q => by
          have := congrArg List.length q
          rw [List.length_tail] at this
          simp only [List.length_nil] at this
          omega
        rw [if_neg es, show 1 + (pl_s aSO n i + (2 + (1 + iv_n aSO i + 2))) = 1 + pl_s aSO n i + (3 + iv_n aSO i + 2) from by omega] at k'
        exact nm_r (a2 _ _) (nm_r (nI_1 i) k')
    · rw [sz_o e e2] at e0
      rw [so_o e e2, e0, i0, show 1 + (pl_s aSO n i + 1) = 1 + pl_s aSO n i + 1 from by omega] at k'
      refine nm_r (nI_1 _) (br_c (fun e3 => ?_) (fun e3 => ?_))
      · rw [if_pos e3] at k'
        exact nm_r (nI_1 _) (nm_r (nI_1 i) k')
      · rw [if_neg e3] at k'
        exact nm_r (nI_1 i) k'
theorem xo_27 {post : Int32 → SX → Prop} (h : post fPL (fLA, fLB, fSC, fPL, fLD, 1, fCC, fLV, fLC, aRG, aCE, aSO, aPR, mz_m aMU, aLS, aLH, aLB, aCP, aHC, aHT, aGT, aFO, aKN, aWK, aLI, aSU, aTR)) : ∃ m, wX_compile_27 post fLA fLB fSC fPL fLD fST fCC fLV fLC m 0 aRG aCE aSO aPR aMU aLS aLH aLB aCP aHC aHT aGT aFO aKN aWK aLI aSU aTR := by
  refine loop_0 (fun m i s => wX_compile_27 post fLA fLB fSC fPL fLD fST fCC fLV fLC m (nI i) aRG aCE aSO aPR s aLS aLH aLB aCP aHC aHT aGT aFO aKN aWK aLI aSU aTR) (fun i s => ∀ m, s m = if m < i then 0 else aMU m) 240 aMU (fun m => by rw [if_neg (by omega)]) (fun m s I => ?_) (fun m i s hi I k => ?_)
  · rw [mz_e I]
    exact br_t (nI_le (Nat.le_refl 240) (by decide)) h
  · refine br_f (nI_ge (b := 240) hi (by decide)) ⟨pk_in i 240 hi rfl, up_I i 0 rfl rfl (nm_r (nI_1 i) (k _ (fun m => ?_)))⟩
    unfold upd
    by_cases e : m = i
    · rw [if_pos e, if_pos (by omega)]
    · rw [if_neg e, I m]
      exact ic_g (by omega)
end
section
variable {gLA gLB gN gLEN gHN gRA gWA gCP gCN : Int32} {bSR bPR bMU bRG bCE bKN bRO : Nat → Int32} {bFO bHY bD bCH bCG : Nat → Int64}
theorem yo_242 {post : Int32 → SY → Prop} (h : post gLEN (gLA, gLB, gN, gLEN, gHN, gRA, gWA, gCP, gCN, bSR, bPR, mz_m bMU, bRG, bCE, bFO, bKN, bHY, bD, bCH, bCG, bRO)) : ∃ m, wY_compile_242 post gLA gLB gN gLEN gHN gRA gWA gCP gCN m 0 bSR bPR bMU bRG bCE bFO bKN bHY bD bCH bCG bRO := by
  refine loop_0 (fun m i s => wY_compile_242 post gLA gLB gN gLEN gHN gRA gWA gCP gCN m (nI i) bSR bPR s bRG bCE bFO bKN bHY bD bCH bCG bRO) (fun i s => ∀ m, s m = if m < i then 0 else bMU m) 240 bMU (fun m => by rw [if_neg (by omega)]) (fun m s I => ?_) (fun m i s hi I k => ?_)
  · rw [mz_e I]
    exact br_t (nI_le (Nat.le_refl 240) (by decide)) h
  · refine br_f (nI_ge (b := 240) hi (by decide)) ⟨pk_in i 240 hi rfl, up_I i 0 rfl rfl (nm_r (nI_1 i) (k _ (fun m => ?_)))⟩
    unfold upd
    by_cases e : m = i
    · rw [if_pos e, if_pos (by omega)]
    · rw [if_neg e, I m]
      exact ic_g (by omega)
end
section
variable {fLA fLB fSC fPL fLD fST fCC fLV fLC : Int32} {aRG aCE aSO aPR aMU aLS aLH aLB aCP aHC aKN aTR : Nat → Int32} {aHT aGT aFO aWK aLI aSU : Nat → Int64}
variable {gLA gLB gN gLEN gHN gRA gWA gCP gCN : Int32} {bSR bPR bMU bRG bCE bKN bRO : Nat → Int32} {bFO bHY bD bCH bCG : Nat → Int64}
variable {n : Nat}
theorem tr_lock (ok : so_ok aSO n) (hn : n ≤ 24) (h48 : pl_s aSO n n + 1 ≤ 48) (bal : so_stk aSO n = []) : ∀ (d i ld : Nat) (ls lh lb : Nat → Int32) (s t : Pr_t), i + d = n → tr_I aSO n i ld ls lh lb s t →
    ∃ (s' : Pr_t) (ld' : Int32) (ls' lh' lb' : Nat → Int32), pw_ok s'.1 s'.2 ∧ s'.2 ≤ 48 ∧
    (∀ post : SX → Prop, post (fLA, fLB, nI n, nI s'.2, ld', fST, fCC, fLV, fLC, aRG, aCE, aSO, s'.1, aMU, ls', lh', lb', aCP, aHC, aHT, aGT, aFO, aKN, aWK, aLI, aSU, aTR) → wX_translate_12 post (d + 1) (nI i) fLA fLB (nI n) (nI s.2) (nI ld) fST fCC fLV fLC aRG aCE aSO s.1 aMU ls lh lb aCP aHC aHT aGT aFO aKN aWK aLI aSU aTR) ∧
    (∀ post : Int32 → SY → Prop, (∃ m, wY_compile_242 post gLA gLB (nI n) (nI s'.2) gHN gRA gWA gCP gCN m 0 aSO s'.1 bMU bRG bCE bFO bKN bHY bD bCH bCG bRO) → wY_compile_34 post (d + 1) (nI i) gLA gLB (nI n) (nI t.2) gHN gRA gWA gCP gCN aSO t.1 bMU bRG bCE bFO bKN bHY bD bCH bCG bRO) := by
  intro d
  induction d with
  | zero =>
    intro i ld ls lh lb s t hi I
    have ei : i = n := by omega
    subst ei
    obtain ⟨I1, I2, I3, I4, I5⟩ := I
    rw [bal] at I2
    have e1 : s.1 = t.1 := funext (fun m => I2.2 m (by simp))
    have e2 : s = t := Prod.ext e1 I2.1
    subst e2
    have p48 : s.2 ≤ 48 := by omega
    refine ⟨em_s s 0 0 0 0, nI ld, ls, lh, lb, em_ok I3 (ok_0.mpr trivial), em_48 p48, fun post h => ?_, fun post h => ?_⟩
    · exact pk_le i i (fun _ => xe_em p48 h) (fun z => absurd z (Nat.lt_irrefl _))
    · exact pk_le i i (fun _ => ye_em p48 h) (fun z => absurd z (Nat.lt_irrefl _))
  | succ d ih =>
    intro i ld ls lh lb s t hi I
    have hin : i < n := by omega
    have p1 := pl_le (S := aSO) (n := n) (i := i) (j := n) (by omega)
    have pt : t.2 ≤ 48 := by rw [I.1]; omega
    have ps : s.2 ≤ 48 := by rw [I.2.1.1]; exact pt
    have x4 : vp_in (nI i * nI 4) 96 := pk_in (4 * i) 96 (by omega) (ix_l0 4 i)
    have m24 : ∀ o, o ∈ so_stk aSO i → o < 24 := fun o ho => by have := sk_lt i o ho; omega
    have rdY : ∀ {A : Int32 → Int32 → Int32 → Int32 → Prop}, A (aSO (4 * i)) (aSO (4 * i + 1)) (aSO (4 * i + 2)) (aSO (4 * i + 3)) →
        (vp_in (4 * nI i) 96 ∧ ∀ x3 : Int32, x3 = aSO (4 * nI i).toNatClampNeg → (vp_in (4 * nI i + 1) 96 ∧ ∀ x4 : Int32, x4 = aSO (4 * nI i + 1).toNatClampNeg → (vp_in (4 * nI i + 2) 96 ∧ ∀ x5 : Int32, x5 = aSO (4 * nI i + 2).toNatClampNeg → (vp_in (4 * nI i + 3) 96 ∧ ∀ x6 : Int32, x6 = aSO (4 * nI i + 3).toNatClampNeg → A x3 x4 x5 x6)))) := fun h =>
      ⟨pk_in (4 * i) 96 (by omega) (ix_r0 4 i), rd_n (4 * i) (ix_r0 4 i) ⟨pk_in (4 * i + 1) 96 (by omega) (ix_r 4 i 1), rd_n (4 * i + 1) (ix_r 4 i 1) ⟨pk_in (4 * i + 2) 96 (by omega) (ix_r 4 i 2), rd_n (4 * i + 2) (ix_r 4 i 2) ⟨pk_in (4 * i + 3) 96 (by omega) (ix_r 4 i 3), rd_n (4 * i + 3) (ix_r 4 i 3) h⟩⟩⟩⟩
    by_cases h12 : aSO (4 * i) = 12
    · have hl := (ok i hin).2.1 h12
      obtain ⟨hd2, hk⟩ := st_k2 (i := i) I.2.2.2.2 hl m24
      obtain ⟨s', ld', ls', lh', lb', K, K48, hX, hY⟩ := ih (i + 1) _ _ _ _ _ _ (by omega) (tr_12 ok hin h48 I h12 rfl rfl rfl rfl)
      refine ⟨s', ld', ls', lh', lb', K, K48, fun post h => ?_, fun post h => ?_⟩
      · refine br_f (nI_ge hin (by omega)) ⟨x4, rd_n (4 * i) (ix_l0 4 i) (br_t h12 ?_)⟩
        refine xe_open rfl (by omega) ps hn hd2 hk (fun s1 s2 e1 e2 => nm_r (nI_1 i) ?_)
        subst e1
        subst e2
        exact hX post h
      · refine br_f (nI_ge hin (by omega)) (rdY (br_t h12 ?_))
        refine yo_exit rfl hin ok hn ?_
        refine ye_em pt ?_
        refine ye_bundle rfl (em_48 pt) hn (by omega) ?_
        refine ye_em (bu_48 (em_48 pt)) (nm_r (nI_1 i) ?_)
        exact hY post h
    · by_cases h13 : aSO (4 * i) = 13
      · cases hs : so_stk aSO i with
        | nil =>
          have := (ok i hin).2.2.1 h13
          rw [hs] at this
          exact absurd this (by decide)
        | cons f r =>
          have hfm : f ∈ so_stk aSO i := by rw [hs]; exact List.mem_cons_self
          have hf := sk_lt i f hfm
          have hR := I.2.2.2.2
          rw [hs] at hR
          obtain ⟨hk, eh, eb⟩ := st_k hR (fun o ho => m24 o (by rw [hs]; exact List.mem_cons_of_mem _ ho))
          have q1 := pl_le (S := aSO) (n := n) (i := f + 1) (j := n) (by omega)
          obtain ⟨sk, _⟩ := sk_f (S := aSO) (f := f) (r := r) i [] (by rw [hs]; rfl)
          obtain ⟨s', ld', ls', lh', lb', K, K48, hX, hY⟩ := ih (i + 1) _ _ _ _ _ _ (by omega) (tr_13 ok hn hin h48 I h13 hs rfl rfl)
          refine ⟨s', ld', ls', lh', lb', K, K48, fun post h => ?_, fun post h => ?_⟩
          · refine br_f (nI_ge hin (by omega)) ⟨x4, rd_n (4 * i) (ix_l0 4 i) (br_f h12 (br_t h13 ?_))⟩
            refine xe_close ps hn (by omega) hk eh eb (by omega) (fun s1 e1 => nm_r (nI_1 i) ?_)
            subst e1
            exact hX post h
          · refine br_f (nI_ge hin (by omega)) (rdY (br_f h12 (br_t h13 ?_)))
            refine yo_op rfl (by omega) ?_
            rw [hs]
            refine yo_pl (i := f) rfl (by omega) ok hn (nm_r (nI_1 _) (br_f (nI_pos (by omega)) ⟨pk_in (4 * f + 1) 96 (by omega) (ix_r 4 f 1), ?_⟩))
            have ev : aSO (4 * ho_d (f :: r) + 1).toNatClampNeg = aSO (4 * f + 1) := rd_e (ix_r 4 f 1)
            rw [ev]
            refine ye_em pt (ye_em (em_48 pt) (br_f (nI_pos (by omega)) ?_))
            refine ye_bundle (f := f) rfl (em_48 (em_48 pt)) hn (by omega) (nm_r (nI_1 i) ?_)
            rw [sk]
            exact hY post h
      · obtain ⟨s', ld', ls', lh', lb', K, K48, hX, hY⟩ := ih (i + 1) _ _ _ _ _ _ (by omega) (tr_o ok hin h48 I h12 h13)
        refine ⟨s', ld', ls', lh', lb', K, K48, fun post h => ?_, fun post h => ?_⟩
        · refine br_f (nI_ge hin (by omega)) ⟨x4, rd_n (4 * i) (ix_l0 4 i) (br_f h12 (br_f h13 ⟨pk_in (4 * i + 1) 96 (by omega) (ix_l 4 i 1), pk_in (4 * i + 2) 96 (by omega) (ix_l 4 i 2), pk_in (4 * i + 3) 96 (by omega) (ix_l 4 i 3), ?_⟩))⟩
          rw [rd_e (a := aSO) (x := nI i * 4 + 1) (ix_l 4 i 1), rd_e (a := aSO) (x := nI i * 4 + 2) (ix_l 4 i 2), rd_e (a := aSO) (x := nI i * 4 + 3) (ix_l 4 i 3)]
          exact xe_em ps (nm_r (nI_1 i) (hX post h))
        · exact br_f (nI_ge hin (by omega)) (rdY (br_f h12 (br_f h13 (ye_em pt (nm_r (nI_1 i) (hY post h))))))
end
end
section
/-! the relation -/
def rl_F (n L la lb : Nat) (S P : Nat → Int32) (st cc : Int32) (cp hc : Nat → Int32) (ht gt : Nat → Int64) : Prop :=
  n ≤ 24 ∧ L ≤ 48 ∧ la ≤ 16 ∧ lb ≤ 16 ∧ so_ok S n ∧ pw_ok P L ∧ (st = 0 → cc = nI (pw_all P L la lb).length ∧ xs_T cp hc ht gt (pw_all P L la lb))
/-- both objects hold the same source, code, multipliers, registers and cells; fresh tables show the pure walk's conditions -/
def i_Rel (_ : Nat) (u : SX) (v : SY) : Prop := ∃ (n L la lb : Nat) (fLD fST fCC fLV fLC : Int32) (aRG aCE aSO aPR aMU aLS aLH aLB aCP aHC aKN aTR : Nat → Int32) (aHT aGT aFO aWK aLI aSU : Nat → Int64) (gHN gRA gWA gCP gCN : Int32) (bFO bHY bD bCH bCG : Nat → Int64) (bKN bRO : Nat → Int32), u = (nI la, nI lb, nI n, nI L, fLD, fST, fCC, fLV, fLC, aRG, aCE, aSO, aPR, aMU, aLS, aLH, aLB, aCP, aHC, aHT, aGT, aFO, aKN, aWK, aLI, aSU, aTR) ∧ v = (nI la, nI lb, nI n, nI L, gHN, gRA, gWA, gCP, gCN, aSO, aPR, aMU, aRG, aCE, bFO, bKN, bHY, bD, bCH, bCG, bRO) ∧ rl_F n L la lb aSO aPR fST fCC aCP aHC aHT aGT
theorem i_up {k : Nat} {u : SX} {v : SY} (h : i_Rel k u v) : i_Rel (k + 5) u v := h
theorem rl_in {k : Nat} {n L la lb : Nat} {fLD fST fCC fLV fLC : Int32} {aRG aCE aSO aPR aMU aLS aLH aLB aCP aHC aKN aTR : Nat → Int32} {aHT aGT aFO aWK aLI aSU : Nat → Int64} {gHN gRA gWA gCP gCN : Int32} {bFO bHY bD bCH bCG : Nat → Int64} {bKN bRO : Nat → Int32} (F : rl_F n L la lb aSO aPR fST fCC aCP aHC aHT aGT) : i_Rel k (nI la, nI lb, nI n, nI L, fLD, fST, fCC, fLV, fLC, aRG, aCE, aSO, aPR, aMU, aLS, aLH, aLB, aCP, aHC, aHT, aGT, aFO, aKN, aWK, aLI, aSU, aTR) (nI la, nI lb, nI n, nI L, gHN, gRA, gWA, gCP, gCN, aSO, aPR, aMU, aRG, aCE, bFO, bKN, bHY, bD, bCH, bCG, bRO) :=
  ⟨n, L, la, lb, fLD, fST, fCC, fLV, fLC, aRG, aCE, aSO, aPR, aMU, aLS, aLH, aLB, aCP, aHC, aKN, aTR, aHT, aGT, aFO, aWK, aLI, aSU, gHN, gRA, gWA, gCP, gCN, bFO, bHY, bD, bCH, bCG, bKN, bRO, rfl, rfl, F⟩
theorem rl_el {k : Nat} {Q : SX → SY → Prop} {u : SX} {v : SY} (h : ∀ (n L la lb : Nat) (fLD fST fCC fLV fLC : Int32) (aRG aCE aSO aPR aMU aLS aLH aLB aCP aHC aKN aTR : Nat → Int32) (aHT aGT aFO aWK aLI aSU : Nat → Int64) (gHN gRA gWA gCP gCN : Int32) (bFO bHY bD bCH bCG : Nat → Int64) (bKN bRO : Nat → Int32), rl_F n L la lb aSO aPR fST fCC aCP aHC aHT aGT → Q (nI la, nI lb, nI n, nI L, fLD, fST, fCC, fLV, fLC, aRG, aCE, aSO, aPR, aMU, aLS, aLH, aLB, aCP, aHC, aHT, aGT, aFO, aKN, aWK, aLI, aSU, aTR) (nI la, nI lb, nI n, nI L, gHN, gRA, gWA, gCP, gCN, aSO, aPR, aMU, aRG, aCE, bFO, bKN, bHY, bD, bCH, bCG, bRO)) (I : i_Rel k u v) : Q u v := by
  exact Exists.elim I (fun n I => Exists.elim I (fun L I => Exists.elim I (fun la I => Exists.elim I (fun lb I => Exists.elim I (fun fLD I => Exists.elim I (fun fST I => Exists.elim I (fun fCC I => Exists.elim I (fun fLV I => Exists.elim I (fun fLC I => Exists.elim I (fun aRG I => Exists.elim I (fun aCE I => Exists.elim I (fun aSO I => Exists.elim I (fun aPR I => Exists.elim I (fun aMU I => Exists.elim I (fun aLS I => Exists.elim I (fun aLH I => Exists.elim I (fun aLB I => Exists.elim I (fun aCP I => Exists.elim I (fun aHC I => Exists.elim I (fun aKN I => Exists.elim I (fun aTR I => Exists.elim I (fun aHT I => Exists.elim I (fun aGT I => Exists.elim I (fun aFO I => Exists.elim I (fun aWK I => Exists.elim I (fun aLI I => Exists.elim I (fun aSU I => Exists.elim I (fun gHN I => Exists.elim I (fun gRA I => Exists.elim I (fun gWA I => Exists.elim I (fun gCP I => Exists.elim I (fun gCN I => Exists.elim I (fun bFO I => Exists.elim I (fun bHY I => Exists.elim I (fun bD I => Exists.elim I (fun bCH I => Exists.elim I (fun bCG I => Exists.elim I (fun bKN I => Exists.elim I (fun bRO I => by obtain ⟨rfl, rfl, F⟩ := I; exact h n L la lb fLD fST fCC fLV fLC aRG aCE aSO aPR aMU aLS aLH aLB aCP aHC aKN aTR aHT aGT aFO aWK aLI aSU gHN gRA gWA gCP gCN bFO bHY bD bCH bCG bKN bRO F)))))))))))))))))))))))))))))))))))))))
theorem le39 {x : Int32} : 39 < x ↔ 40 ≤ x := by
  rw [Int32.le_iff_toInt_le, Int32.lt_iff_toInt_lt, show (39 : Int32).toInt = 39 from by decide, show (40 : Int32).toInt = 40 from by decide]; omega
def cl_p (p : Int32) : Nat := if 1 ≤ p then (if p ≤ 16 then p.toNatClampNeg else 16) else 1
theorem cl_le (p : Int32) : cl_p p ≤ 16 := by
  unfold cl_p
  by_cases a : 1 ≤ p
  · rw [if_pos a]
    by_cases b : p ≤ 16
    · rw [if_pos b]
      obtain ⟨j, hj, rfl⟩ := nI_of2 (x := p) (M := 16) (n := 16) (by decide) (fun z => absurd (Int32.lt_of_lt_of_le z (by decide : (0 : Int32) ≤ 1)) (Int32.not_lt.mpr a)) b
      rw [nI_clamp (by omega)]; exact hj
    · rw [if_neg b]; omega
  · rw [if_neg a]; omega
theorem cl_el {p : Int32} {A : Int32 → Prop} (h : A (nI (cl_p p))) : ((1 ≤ p → (((p ≤ 16 → A p) ∧ (¬ p ≤ 16 → A 16)))) ∧ (¬ 1 ≤ p → A 1)) := by
  unfold cl_p at h
  refine br_c (fun a => br_c (fun b => ?_) (fun b => ?_)) (fun a => ?_)
  · rw [if_pos a, if_pos b] at h
    obtain ⟨j, hj, rfl⟩ := nI_of2 (x := p) (M := 16) (n := 16) (by decide) (fun z => absurd (Int32.lt_of_lt_of_le z (by decide : (0 : Int32) ≤ 1)) (Int32.not_lt.mpr a)) b
    rw [nI_clamp (by omega)] at h; exact h
  · rw [if_pos a, if_neg b] at h; exact h
  · rw [if_neg a] at h; exact h
section
variable {fLA fLB fSC fPL fLD fST fCC fLV fLC : Int32} {aRG aCE aSO aPR aMU aLS aLH aLB aCP aHC aKN aTR : Nat → Int32} {aHT aGT aFO aWK aLI aSU : Nat → Int64}
variable {P : Nat → Int32} {L la lb : Nat}
theorem xc_isC {post : Int32 → SX → Prop} {x : Int32} (ok : pw_ok P L) (hL : L ≤ 48) (hs : fST = 0 → fCC = nI (pw_all P L la lb).length ∧ xs_T aCP aHC aHT aGT (pw_all P L la lb))
    (h1 : ∀ k : Nat, x = nI k → k < 40 → k < (pw_all P L la lb).length → ∀ (cp hc : Nat → Int32) (ht gt fo wk li : Nat → Int64) (kn : Nat → Int32) (lc lv : Int32), xs_T cp hc ht gt (pw_all P L la lb) →
      post 1 (nI la, nI lb, fSC, nI L, fLD, 0, nI (pw_all P L la lb).length, lv, lc, aRG, aCE, aSO, P, aMU, aLS, aLH, aLB, cp, hc, ht, gt, fo, kn, wk, li, aSU, aTR))
    (h0 : (¬ ∃ k : Nat, x = nI k ∧ k < 40 ∧ k < (pw_all P L la lb).length) → ∀ (cp hc : Nat → Int32) (ht gt fo wk li : Nat → Int64) (kn : Nat → Int32) (lc lv : Int32), xs_T cp hc ht gt (pw_all P L la lb) →
      post 0 (nI la, nI lb, fSC, nI L, fLD, 0, nI (pw_all P L la lb).length, lv, lc, aRG, aCE, aSO, P, aMU, aLS, aLH, aLB, cp, hc, ht, gt, fo, kn, wk, li, aSU, aTR)) : wpX_isCondition post (nI la, nI lb, fSC, nI L, fLD, fST, fCC, fLV, fLC, aRG, aCE, aSO, P, aMU, aLS, aLH, aLB, aCP, aHC, aHT, aGT, aFO, aKN, aWK, aLI, aSU, aTR) x := by
  have hlen := pw_all_len (P := P) (la := la) (lb := lb) hL
  unfold wpX_isCondition
  refine xw_refresh ok hL hs (fun cp hc ht gt fo wk li kn lc lv T => ?_)
  refine br_c (fun z => h0 ?_ _ _ _ _ _ _ _ _ _ _ T) (fun z => br_c (fun z2 => h0 ?_ _ _ _ _ _ _ _ _ _ _ T) (fun z2 => ?_))
  · rintro ⟨k, rfl, a, b⟩
    exact nI_pos (by omega) z
  · rintro ⟨k, rfl, a, b⟩
    exact nI_ge a (by decide) z2
  · obtain ⟨k, hk, rfl⟩ := ir_y (n := 40) (by decide) z z2
    refine pk_le (pw_all P L la lb).length k (fun q => h0 ?_ _ _ _ _ _ _ _ _ _ _ T) (fun q => h1 k rfl hk q _ _ _ _ _ _ _ _ _ _ T)
    rintro ⟨k', e, a, b⟩
    have := (nI_eq (by omega) (by omega)).mp e
    omega
end
end
section
/-! the owed theorems, but for compile -/
theorem i_vc0 (k0 : Int32) (k1 : Int32) : wpX_init (fun u => wpY_init (fun v => i_Rel 2 u v) k0 k1) k0 k1 := by
  refine cl_el (A := fun c => wX_init_176 (fun u => wpY_init (fun v => i_Rel 2 u v) k0 k1) k1 c 0 0 0 0 0 1 0 0 0 (fun _ => 0) (fun _ => 0) (fun _ => 0) (fun _ => 0) (fun _ => 0) (fun _ => 0) (fun _ => 0) (fun _ => 0) (fun _ => 0) (fun _ => 0) (fun _ => 0) (fun _ => 0) (fun _ => 0) (fun _ => 0) (fun _ => 0) (fun _ => 0) (fun _ => 0) (fun _ => 0)) ?_
  unfold wX_init_176
  refine cl_el (A := fun c => wpY_init (fun v => i_Rel 2 (nI (cl_p k0), c, 0, 0, 0, 1, 0, 0, 0, fun _ => 0, fun _ => 0, fun _ => 0, fun _ => 0, fun _ => 0, fun _ => 0, fun _ => 0, fun _ => 0, fun _ => 0, fun _ => 0, fun _ => 0, fun _ => 0, fun _ => 0, fun _ => 0, fun _ => 0, fun _ => 0, fun _ => 0, fun _ => 0) v) k0 k1) ?_
  refine cl_el (A := fun c => wY_init_124 (fun v => i_Rel 2 (nI (cl_p k0), nI (cl_p k1), 0, 0, 0, 1, 0, 0, 0, fun _ => 0, fun _ => 0, fun _ => 0, fun _ => 0, fun _ => 0, fun _ => 0, fun _ => 0, fun _ => 0, fun _ => 0, fun _ => 0, fun _ => 0, fun _ => 0, fun _ => 0, fun _ => 0, fun _ => 0, fun _ => 0, fun _ => 0, fun _ => 0) v) k1 c 0 0 0 0 0 0 0 0 0 (fun _ => 0) (fun _ => 0) (fun _ => 0) (fun _ => 0) (fun _ => 0) (fun _ => 0) (fun _ => 0) (fun _ => 0) (fun _ => 0) (fun _ => 0) (fun _ => 0) (fun _ => 0)) ?_
  unfold wY_init_124
  refine cl_el (A := fun c => i_Rel 2 (nI (cl_p k0), nI (cl_p k1), 0, 0, 0, 1, 0, 0, 0, fun _ => 0, fun _ => 0, fun _ => 0, fun _ => 0, fun _ => 0, fun _ => 0, fun _ => 0, fun _ => 0, fun _ => 0, fun _ => 0, fun _ => 0, fun _ => 0, fun _ => 0, fun _ => 0, fun _ => 0, fun _ => 0, fun _ => 0, fun _ => 0) (nI (cl_p k0), c, 0, 0, 0, 0, 0, 0, 0, fun _ => 0, fun _ => 0, fun _ => 0, fun _ => 0, fun _ => 0, fun _ => 0, fun _ => 0, fun _ => 0, fun _ => 0, fun _ => 0, fun _ => 0, fun _ => 0)) ?_
  exact rl_in (n := 0) (L := 0) (la := cl_p k0) (lb := cl_p k1) ⟨by omega, by omega, cl_le k0, cl_le k1, fun i hi => absurd hi (Nat.not_lt_zero i), fun i hi => absurd hi (Nat.not_lt_zero i), fun z => absurd z (by decide)⟩
theorem i_vc_say {k : Nat} {u : SX} {v : SY} (I : i_Rel k u v) (hk : k + 5 ≤ 2562) (v1 : Int32) (v2 : Int32) (v3 : Int32) (v4 : Int32) : wpX_say (fun r u' => wpY_say (fun r' v' => r' = r ∧ i_Rel (k + 5) u' v') v v1 v2 v3 v4) u v1 v2 v3 v4 := by
  refine rl_el (Q := fun u v => wpX_say (fun r u' => wpY_say (fun r' v' => r' = r ∧ i_Rel (k + 5) u' v') v v1 v2 v3 v4) u v1 v2 v3 v4) ?_ I
  intro n L la lb fLD fST fCC fLV fLC aRG aCE aSO aPR aMU aLS aLH aLB aCP aHC aKN aTR aHT aGT aFO aWK aLI aSU gHN gRA gWA gCP gCN bFO bHY bD bCH bCG bKN bRO F
  have F0 := F
  obtain ⟨hn24, hL, hla, hlb, hs, hp, ht⟩ := F0
  exact xs_say hs hn24 (fun a A B => ys_say hs hn24 (fun _ _ _ => ⟨rfl, rl_in ⟨by omega, hL, hla, hlb, so_push hs A B, hp, ht⟩⟩) (fun w => absurd ⟨a, A, B⟩ w)) (fun w => ys_say hs hn24 (fun a A B => absurd ⟨a, A, B⟩ w) (fun _ => ⟨rfl, rl_in F⟩))
theorem i_vc_unsay {k : Nat} {u : SX} {v : SY} (I : i_Rel k u v) (hk : k + 5 ≤ 2562) : wpX_unsay (fun r u' => wpY_unsay (fun r' v' => r' = r ∧ i_Rel (k + 5) u' v') v) u := by
  refine rl_el (Q := fun u v => wpX_unsay (fun r u' => wpY_unsay (fun r' v' => r' = r ∧ i_Rel (k + 5) u' v') v) u) ?_ I
  intro n L la lb fLD fST fCC fLV fLC aRG aCE aSO aPR aMU aLS aLH aLB aCP aHC aKN aTR aHT aGT aFO aWK aLI aSU gHN gRA gWA gCP gCN bFO bHY bD bCH bCG bKN bRO F
  have F0 := F
  obtain ⟨hn24, hL, hla, hlb, hs, hp, ht⟩ := F0
  exact pk_eq n 0 (fun e => pk_eq n 0 (fun _ => ⟨rfl, rl_in F⟩) (fun z => absurd e z)) (fun e => nm_r (ix_m (by omega)) (pk_eq n 0 (fun z => absurd z e) (fun _ => nm_r (ix_m (by omega)) ⟨rfl, rl_in ⟨by omega, hL, hla, hlb, so_pre hs (by omega), hp, ht⟩⟩)))
theorem i_vc_statements {k : Nat} {u : SX} {v : SY} (I : i_Rel k u v) (hk : k + 5 ≤ 2562) : wpX_statements (fun r => wpY_statements (fun r' => r' = r ∧ i_Rel (k + 5) u v) v) u := by
  refine rl_el (Q := fun u v => wpX_statements (fun r => wpY_statements (fun r' => r' = r ∧ i_Rel (k + 5) u v) v) u) ?_ I
  intro n L la lb fLD fST fCC fLV fLC aRG aCE aSO aPR aMU aLS aLH aLB aCP aHC aKN aTR aHT aGT aFO aWK aLI aSU gHN gRA gWA gCP gCN bFO bHY bD bCH bCG bKN bRO F
  have F0 := F
  obtain ⟨hn24, hL, hla, hlb, hs, hp, ht⟩ := F0
  exact ⟨rfl, rl_in F⟩
theorem i_vc_statement {k : Nat} {u : SX} {v : SY} (I : i_Rel k u v) (hk : k + 5 ≤ 2562) (v1 : Int32) (v2 : Int32) : wpX_statement (fun r => wpY_statement (fun r' => r' = r ∧ i_Rel (k + 5) u v) v v1 v2) u v1 v2 := by
  refine rl_el (Q := fun u v => wpX_statement (fun r => wpY_statement (fun r' => r' = r ∧ i_Rel (k + 5) u v) v v1 v2) u v1 v2) ?_ I
  intro n L la lb fLD fST fCC fLV fLC aRG aCE aSO aPR aMU aLS aLH aLB aCP aHC aKN aTR aHT aGT aFO aWK aLI aSU gHN gRA gWA gCP gCN bFO bHY bD bCH bCG bKN bRO F
  have F0 := F
  obtain ⟨hn24, hL, hla, hlb, hs, hp, ht⟩ := F0
  refine br_c (fun a => br_t a ⟨rfl, rl_in F⟩) (fun a => br_c (fun b => br_f a (br_t b ⟨rfl, rl_in F⟩)) (fun b => br_c (fun c => br_f a (br_f b (br_t c ⟨rfl, rl_in F⟩))) (fun c => br_c (fun d => ?_) (fun d => br_f a (br_f b (br_f c (br_f d ⟨rfl, rl_in F⟩)))))))
  obtain ⟨i, hi, rfl⟩ := ir_y (n := n) (by omega) a b
  obtain ⟨f, hf, rfl⟩ := ir_y2 (n := 3) (by decide) c (Int32.not_lt.mpr d)
  exact ⟨pk_in (4 * i + f) 96 (by omega) (ix_l 4 i f), br_f a (br_f b (br_f c (br_t d ⟨pk_in (4 * i + f) 96 (by omega) (ix_r 4 i f), (rd_e (ix_r 4 i f)).trans (rd_e (ix_l 4 i f)).symm, rl_in F⟩)))⟩
theorem i_vc_code {k : Nat} {u : SX} {v : SY} (I : i_Rel k u v) (hk : k + 5 ≤ 2562) (v1 : Int32) (v2 : Int32) : wpX_code (fun r => wpY_code (fun r' => r' = r ∧ i_Rel (k + 5) u v) v v1 v2) u v1 v2 := by
  refine rl_el (Q := fun u v => wpX_code (fun r => wpY_code (fun r' => r' = r ∧ i_Rel (k + 5) u v) v v1 v2) u v1 v2) ?_ I
  intro n L la lb fLD fST fCC fLV fLC aRG aCE aSO aPR aMU aLS aLH aLB aCP aHC aKN aTR aHT aGT aFO aWK aLI aSU gHN gRA gWA gCP gCN bFO bHY bD bCH bCG bKN bRO F
  have F0 := F
  obtain ⟨hn24, hL, hla, hlb, hs, hp, ht⟩ := F0
  refine br_c (fun a => br_t a ⟨rfl, rl_in F⟩) (fun a => br_c (fun b => br_f a (br_t b ⟨rfl, rl_in F⟩)) (fun b => br_c (fun c => br_f a (br_f b (br_t c ⟨rfl, rl_in F⟩))) (fun c => br_c (fun d => ?_) (fun d => br_f a (br_f b (br_f c (br_f d ⟨rfl, rl_in F⟩)))))))
  obtain ⟨i, hi, rfl⟩ := ir_y (n := L) (by omega) a b
  obtain ⟨f, hf, rfl⟩ := ir_y2 (n := 3) (by decide) c (Int32.not_lt.mpr d)
  exact ⟨pk_in (4 * i + f) 192 (by omega) (ix_l 4 i f), br_f a (br_f b (br_f c (br_t d ⟨pk_in (4 * i + f) 192 (by omega) (ix_r 4 i f), (rd_e (ix_r 4 i f)).trans (rd_e (ix_l 4 i f)).symm, rl_in F⟩)))⟩
theorem i_vc_codeLength {k : Nat} {u : SX} {v : SY} (I : i_Rel k u v) (hk : k + 5 ≤ 2562) : wpX_codeLength (fun r => wpY_codeLength (fun r' => r' = r ∧ i_Rel (k + 5) u v) v) u := by
  refine rl_el (Q := fun u v => wpX_codeLength (fun r => wpY_codeLength (fun r' => r' = r ∧ i_Rel (k + 5) u v) v) u) ?_ I
  intro n L la lb fLD fST fCC fLV fLC aRG aCE aSO aPR aMU aLS aLH aLB aCP aHC aKN aTR aHT aGT aFO aWK aLI aSU gHN gRA gWA gCP gCN bFO bHY bD bCH bCG bKN bRO F
  have F0 := F
  obtain ⟨hn24, hL, hla, hlb, hs, hp, ht⟩ := F0
  exact ⟨rfl, rl_in F⟩
theorem i_vc_put {k : Nat} {u : SX} {v : SY} (I : i_Rel k u v) (hk : k + 5 ≤ 2562) (v1 : Int32) (v2 : Int32) (v3 : Int32) (v4 : Int32) : wpX_put (fun r u' => wpY_put (fun r' v' => r' = r ∧ i_Rel (k + 5) u' v') v v1 v2 v3 v4) u v1 v2 v3 v4 := by
  refine rl_el (Q := fun u v => wpX_put (fun r u' => wpY_put (fun r' v' => r' = r ∧ i_Rel (k + 5) u' v') v v1 v2 v3 v4) u v1 v2 v3 v4) ?_ I
  intro n L la lb fLD fST fCC fLV fLC aRG aCE aSO aPR aMU aLS aLH aLB aCP aHC aKN aTR aHT aGT aFO aWK aLI aSU gHN gRA gWA gCP gCN bFO bHY bD bCH bCG bKN bRO F
  have F0 := F
  obtain ⟨hn24, hL, hla, hlb, hs, hp, ht⟩ := F0
  refine br_c (fun a => br_t a ⟨rfl, rl_in F⟩) (fun a => br_c (fun b => ?_) (fun b => br_f a (br_f b ⟨rfl, rl_in F⟩)))
  obtain ⟨w, hw, rfl⟩ := nI_of2 (M := 767) (n := 767) (by decide) a b
  have e1 : nI w / 16 = nI (w / 16) := pk_div (d := 16) (by omega) (by decide) (by decide)
  have e2 : nI w - nI w / 16 * 16 = nI (w % 16) := pk_rem (d := 16) (by omega) (by decide) (by decide)
  have h16 : w % 16 < 16 := Nat.mod_lt _ (by decide)
  have yy : ∀ {post : Int32 → SY → Prop}, (L < w / 16 → post 0 (nI la, nI lb, nI n, nI L, gHN, gRA, gWA, gCP, gCN, aSO, aPR, aMU, aRG, aCE, bFO, bKN, bHY, bD, bCH, bCG, bRO)) → (¬ L < w / 16 → wpY_wellFormed (fun r_8 => (((r_8 = 0 → (post 0 (nI la, nI lb, nI n, nI L, gHN, gRA, gWA, gCP, gCN, aSO, aPR, aMU, aRG, aCE, bFO, bKN, bHY, bD, bCH, bCG, bRO))) ∧ (¬ r_8 = 0 → (vp_in (4 * nI (w / 16)) 192 ∧ ∀ p1 : Nat → Int32, p1 = upd aPR (4 * nI (w / 16)).toNatClampNeg (nI (w % 16)) → (wpY_stored (fun r_33 => (vp_in ((4 * nI (w / 16)) + 1) 192 ∧ ∀ p2 : Nat → Int32, p2 = upd p1 ((4 * nI (w / 16)) + 1).toNatClampNeg r_33 → (wpY_stored (fun r_57 => (vp_in ((4 * nI (w / 16)) + 2) 192 ∧ ∀ p3 : Nat → Int32, p3 = upd p2 ((4 * nI (w / 16)) + 2).toNatClampNeg r_57 → (wpY_stored (fun r_81 => (vp_in ((4 * nI (w / 16)) + 3) 192 ∧ ∀ p4 : Nat → Int32, p4 = upd p3 ((4 * nI (w / 16)) + 3).toNatClampNeg r_81 → (((nI (w / 16) = nI L → (∀ l1 : Int32, l1 = nI L + 1 → (post 1 (nI la, nI lb, nI n, l1, gHN, gRA, gWA, gCP, gCN, aSO, p4, aMU, aRG, aCE, bFO, bKN, bHY, bD, bCH, bCG, bRO)))) ∧ (¬ nI (w / 16) = nI L → (post 1 (nI la, nI lb, nI n, nI L, gHN, gRA, gWA, gCP, gCN, aSO, p4, aMU, aRG, aCE, bFO, bKN, bHY, bD, bCH, bCG, bRO))))))) (nI la, nI lb, nI n, nI L, gHN, gRA, gWA, gCP, gCN, aSO, p3, aMU, aRG, aCE, bFO, bKN, bHY, bD, bCH, bCG, bRO) (nI (w % 16)) 3 v4))) (nI la, nI lb, nI n, nI L, gHN, gRA, gWA, gCP, gCN, aSO, p2, aMU, aRG, aCE, bFO, bKN, bHY, bD, bCH, bCG, bRO) (nI (w % 16)) 2 v3))) (nI la, nI lb, nI n, nI L, gHN, gRA, gWA, gCP, gCN, aSO, p1, aMU, aRG, aCE, bFO, bKN, bHY, bD, bCH, bCG, bRO) (nI (w % 16)) 1 v2)))))) (nI la, nI lb, nI n, nI L, gHN, gRA, gWA, gCP, gCN, aSO, aPR, aMU, aRG, aCE, bFO, bKN, bHY, bD, bCH, bCG, bRO) (nI (w % 16)) v2 v3 v4) → wpY_put post (nI la, nI lb, nI n, nI L, gHN, gRA, gWA, gCP, gCN, aSO, aPR, aMU, aRG, aCE, bFO, bKN, bHY, bD, bCH, bCG, bRO) (nI w) v2 v3 v4 := by
    intro post h0 h1
    exact br_f a (br_t b ⟨by decide, nm_r e1 ⟨by decide, nm_r e2 (pk_lt L (w / 16) (fun z => h0 z) (fun z => h1 (by omega)))⟩⟩)
  have bad : ¬ (¬ L < w / 16 ∧ pw_okI (nI (w % 16)) v2 v3 v4) → wpY_put (fun r' v' => r' = 0 ∧ i_Rel (k + 5) (nI la, nI lb, nI n, nI L, fLD, fST, fCC, fLV, fLC, aRG, aCE, aSO, aPR, aMU, aLS, aLH, aLB, aCP, aHC, aHT, aGT, aFO, aKN, aWK, aLI, aSU, aTR) v') (nI la, nI lb, nI n, nI L, gHN, gRA, gWA, gCP, gCN, aSO, aPR, aMU, aRG, aCE, bFO, bKN, bHY, bD, bCH, bCG, bRO) (nI w) v2 v3 v4 := fun q =>
    yy (fun _ => ⟨rfl, rl_in F⟩) (fun z => yf_wf (fun B => absurd ⟨z, B⟩ q) (fun _ => br_t rfl ⟨rfl, rl_in F⟩))
  refine ⟨by decide, nm_r e1 ⟨by decide, nm_r e2 (pk_lt L (w / 16) (fun z => bad (fun q => q.1 z)) (fun z => pk_le (w % 16) 11 (fun z2 => ?_) (fun z2 => bad (fun q => ?_))))⟩⟩
  · have z' : ¬ L < w / 16 := by omega
    have ne12 : ¬ nI (w % 16) = 12 := fun e => by have := (nI_eq (b := 12) (by omega) (by decide)).mp e; omega
    have ne13 : ¬ nI (w % 16) = 13 := fun e => by have := (nI_eq (b := 13) (by omega) (by decide)).mp e; omega
    have wI : wf_ok (nI (w % 16)) v2 v3 v4 → pw_okI (nI (w % 16)) v2 v3 v4 := fun q => q.elim id (fun q => q.elim (fun y => absurd y.1 ne12) (fun y => absurd y ne13))
    refine xf_wf (fun B => br_f (by decide) ?_) (fun B => br_t rfl (bad (fun q => B (Or.inl q.2))))
    obtain ⟨r1, r2⟩ := al_rng (S := aSO) (n := n) B
    have hq : w / 16 ≤ L := by omega
    have hq48 : w / 16 < 48 := by omega
    have e : ∀ c : Nat, nI (4 * (w / 16)) + nI c = nI (4 * (w / 16) + c) := fun c => nI_add _ _
    have ok' : pw_ok (so_up aPR (w / 16) (nI (w % 16)) (wf_kp (nI (w % 16)) 1 v2) (wf_kp (nI (w % 16)) 2 v3) (wf_kp (nI (w % 16)) 3 v4)) (if w / 16 = L then L + 1 else L) := by
      intro p hpp
      by_cases ep : p = w / 16
      · subst ep
        rw [so_up_0, so_up_1, so_up_2, so_up_3]
        exact (kp_ok B).elim id (fun q => q.elim (fun y => absurd y.1 ne12) (fun y => absurd y ne13))
      · have hpL : p < L := by
          by_cases c : w / 16 = L
          · rw [if_pos c] at hpp; omega
          · rw [if_neg c] at hpp; exact hpp
        by_cases c : p < w / 16
        · rw [so_up_lt (by omega), so_up_lt (by omega), so_up_lt (by omega), so_up_lt (by omega)]; exact hp p hpL
        · rw [so_up_gt (by omega), so_up_gt (by omega), so_up_gt (by omega), so_up_gt (by omega)]; exact hp p hpL
    refine nm_r (ix_l0 4 (w / 16)) ⟨pk_in (4 * (w / 16)) 192 (by omega) rfl, up_I (4 * (w / 16)) _ rfl rfl ?_⟩
    refine xf_kept (f := 1) r1 r2 (by decide) ⟨pk_in (4 * (w / 16) + 1) 192 (by omega) (e 1), up_I (4 * (w / 16) + 1) _ (e 1) rfl ?_⟩
    refine xf_kept (f := 2) r1 r2 (by decide) ⟨pk_in (4 * (w / 16) + 2) 192 (by omega) (e 2), up_I (4 * (w / 16) + 2) _ (e 2) rfl ?_⟩
    refine xf_kept (f := 3) r1 r2 (by decide) ⟨pk_in (4 * (w / 16) + 3) 192 (by omega) (e 3), up_I (4 * (w / 16) + 3) _ (e 3) rfl ?_⟩
    have fin : ∀ {post : Int32 → SY → Prop}, (w / 16 = L → post 1 (nI la, nI lb, nI n, nI (L + 1), gHN, gRA, gWA, gCP, gCN, aSO, so_up aPR (w / 16) (nI (w % 16)) (wf_kp (nI (w % 16)) 1 v2) (wf_kp (nI (w % 16)) 2 v3) (wf_kp (nI (w % 16)) 3 v4), aMU, aRG, aCE, bFO, bKN, bHY, bD, bCH, bCG, bRO)) → (¬ w / 16 = L → post 1 (nI la, nI lb, nI n, nI L, gHN, gRA, gWA, gCP, gCN, aSO, so_up aPR (w / 16) (nI (w % 16)) (wf_kp (nI (w % 16)) 1 v2) (wf_kp (nI (w % 16)) 2 v3) (wf_kp (nI (w % 16)) 3 v4), aMU, aRG, aCE, bFO, bKN, bHY, bD, bCH, bCG, bRO)) → wpY_put post (nI la, nI lb, nI n, nI L, gHN, gRA, gWA, gCP, gCN, aSO, aPR, aMU, aRG, aCE, bFO, bKN, bHY, bD, bCH, bCG, bRO) (nI w) v2 v3 v4 := by
      intro post k1 k0
      refine yy (fun q => absurd q z') (fun _ => yf_wf (fun _ => br_f (by decide) ?_) (fun q => absurd (wI B) q))
      refine ⟨pk_in (4 * (w / 16)) 192 (by omega) (ix_r0 4 (w / 16)), up_I (4 * (w / 16)) _ (ix_r0 4 (w / 16)) rfl ?_⟩
      refine yf_stored (f := 1) r1 r2 (by decide) ⟨pk_in (4 * (w / 16) + 1) 192 (by omega) (ix_r 4 (w / 16) 1), up_I (4 * (w / 16) + 1) _ (ix_r 4 (w / 16) 1) rfl ?_⟩
      refine yf_stored (f := 2) r1 r2 (by decide) ⟨pk_in (4 * (w / 16) + 2) 192 (by omega) (ix_r 4 (w / 16) 2), up_I (4 * (w / 16) + 2) _ (ix_r 4 (w / 16) 2) rfl ?_⟩
      refine yf_stored (f := 3) r1 r2 (by decide) ⟨pk_in (4 * (w / 16) + 3) 192 (by omega) (ix_r 4 (w / 16) 3), up_I (4 * (w / 16) + 3) _ (ix_r 4 (w / 16) 3) rfl ?_⟩
      exact pk_eq (w / 16) L (fun c => nm_r (nI_1 L) (k1 c)) (fun c => k0 c)
    refine pk_eq (w / 16) L (fun c => nm_r (nI_1 L) (fin (fun _ => ⟨rfl, rl_in ⟨hn24, by omega, hla, hlb, hs, ?_, fun q => absurd q (by decide)⟩⟩) (fun q => absurd c q))) (fun c => fin (fun q => absurd q c) (fun _ => ⟨rfl, rl_in ⟨hn24, hL, hla, hlb, hs, ?_, fun q => absurd q (by decide)⟩⟩))
    · rw [if_pos c] at ok'; exact ok'
    · rw [if_neg c] at ok'; exact ok'
  · refine ok_ne (fun j hj e => ?_) q.2
    have := (nI_eq (by omega) (by omega)).mp e
    omega
theorem i_vc_conditions {k : Nat} {u : SX} {v : SY} (I : i_Rel k u v) (hk : k + 5 ≤ 2562) : wpX_conditions (fun r u' => wpY_conditions (fun r' v' => r' = r ∧ i_Rel (k + 5) u' v') v) u := by
  refine rl_el (Q := fun u v => wpX_conditions (fun r u' => wpY_conditions (fun r' v' => r' = r ∧ i_Rel (k + 5) u' v') v) u) ?_ I
  intro n L la lb fLD fST fCC fLV fLC aRG aCE aSO aPR aMU aLS aLH aLB aCP aHC aKN aTR aHT aGT aFO aWK aLI aSU gHN gRA gWA gCP gCN bFO bHY bD bCH bCG bKN bRO F
  have F0 := F
  obtain ⟨hn24, hL, hla, hlb, hs, hp, ht⟩ := F0
  unfold wpX_conditions
  refine xw_refresh hp hL ht (fun cp hc ht gt fo wk li kn lc lv T => ?_)
  unfold wpY_conditions
  exact yw_walk (la := la) (lb := lb) hp hL (fun cpc cn ch cg fo d hy kn hn' TY => ⟨rfl, rl_in ⟨hn24, hL, hla, hlb, hs, hp, fun _ => ⟨rfl, T⟩⟩⟩)
theorem i_vc_conditionPc {k : Nat} {u : SX} {v : SY} (I : i_Rel k u v) (hk : k + 5 ≤ 2562) (v1 : Int32) : wpX_conditionPc (fun r u' => wpY_conditionPc (fun r' v' => r' = r ∧ i_Rel (k + 5) u' v') v v1) u v1 := by
  refine rl_el (Q := fun u v => wpX_conditionPc (fun r u' => wpY_conditionPc (fun r' v' => r' = r ∧ i_Rel (k + 5) u' v') v v1) u v1) ?_ I
  intro n L la lb fLD fST fCC fLV fLC aRG aCE aSO aPR aMU aLS aLH aLB aCP aHC aKN aTR aHT aGT aFO aWK aLI aSU gHN gRA gWA gCP gCN bFO bHY bD bCH bCG bKN bRO F
  have F0 := F
  obtain ⟨hn24, hL, hla, hlb, hs, hp, ht⟩ := F0
  unfold wpX_conditionPc
  refine xc_isC hp hL ht (fun kk e a b cp hc ht gt fo wk li kn lc lv T => br_f (by decide) ?_) (fun q cp hc ht gt fo wk li kn lc lv T => br_t rfl ?_)
  · subst e
    obtain ⟨cd, ecd, Tc⟩ := xc_of T a b
    have yy : ∀ {post : Int32 → SY → Prop}, (∀ (cpc cn : Int32) (ch cg fo d hy : Nat → Int64) (kn : Nat → Int32) (hn ra wa : Int32), cpc = cd.1 → yc_T cn ch cg cd → post 1 (nI la, nI lb, nI n, nI L, hn, ra, wa, cpc, cn, aSO, aPR, aMU, aRG, aCE, fo, kn, hy, d, ch, cg, bRO)) → wpY_have post (nI la, nI lb, nI n, nI L, gHN, gRA, gWA, gCP, gCN, aSO, aPR, aMU, aRG, aCE, bFO, bKN, bHY, bD, bCH, bCG, bRO) (nI kk) := by
      intro post h
      refine yc_have (la := la) (lb := lb) hp hL (fun k' e' a' b' cpc cn ch cg fo d hy kn hn' TY => ?_) (fun w => absurd ⟨kk, rfl, a, b⟩ w)
      have ek := (nI_eq (by omega) (by omega)).mp e'
      subst ek
      obtain ⟨y1, y2⟩ := yc_of TY a ecd
      exact h _ _ _ _ _ _ _ _ _ _ _ y1 y2
    unfold wpY_conditionPc
    refine ⟨pk_in kk 40 a rfl, yy (fun cpc cn ch cg fo d hy kn hn' ra wa ep Ty => br_f (by decide) ⟨?_, rl_in ⟨hn24, hL, hla, hlb, hs, hp, fun _ => ⟨rfl, T⟩⟩⟩)⟩
    rw [ep, rd_e (a := cp) (x := nI kk) rfl, Tc.1]
  · unfold wpY_conditionPc
    refine yc_have (la := la) (lb := lb) hp hL (fun k' e' a' b' => absurd ⟨k', e', a', b'⟩ q) (fun _ hn ra wa cpc cn fo hy dd ch cg kn ro => br_t rfl ⟨rfl, rl_in ⟨hn24, hL, hla, hlb, hs, hp, fun _ => ⟨rfl, T⟩⟩⟩)
theorem i_vc_hypotheses {k : Nat} {u : SX} {v : SY} (I : i_Rel k u v) (hk : k + 5 ≤ 2562) (v1 : Int32) : wpX_hypotheses (fun r u' => wpY_hypotheses (fun r' v' => r' = r ∧ i_Rel (k + 5) u' v') v v1) u v1 := by
  refine rl_el (Q := fun u v => wpX_hypotheses (fun r u' => wpY_hypotheses (fun r' v' => r' = r ∧ i_Rel (k + 5) u' v') v v1) u v1) ?_ I
  intro n L la lb fLD fST fCC fLV fLC aRG aCE aSO aPR aMU aLS aLH aLB aCP aHC aKN aTR aHT aGT aFO aWK aLI aSU gHN gRA gWA gCP gCN bFO bHY bD bCH bCG bKN bRO F
  have F0 := F
  obtain ⟨hn24, hL, hla, hlb, hs, hp, ht⟩ := F0
  unfold wpX_hypotheses
  refine xc_isC hp hL ht (fun kk e a b cp hc ht gt fo wk li kn lc lv T => br_f (by decide) ?_) (fun q cp hc ht gt fo wk li kn lc lv T => br_t rfl ?_)
  · subst e
    obtain ⟨cd, ecd, Tc⟩ := xc_of T a b
    have yy : ∀ {post : Int32 → SY → Prop}, (∀ (cpc cn : Int32) (ch cg fo d hy : Nat → Int64) (kn : Nat → Int32) (hn ra wa : Int32), cpc = cd.1 → yc_T cn ch cg cd → post 1 (nI la, nI lb, nI n, nI L, hn, ra, wa, cpc, cn, aSO, aPR, aMU, aRG, aCE, fo, kn, hy, d, ch, cg, bRO)) → wpY_have post (nI la, nI lb, nI n, nI L, gHN, gRA, gWA, gCP, gCN, aSO, aPR, aMU, aRG, aCE, bFO, bKN, bHY, bD, bCH, bCG, bRO) (nI kk) := by
      intro post h
      refine yc_have (la := la) (lb := lb) hp hL (fun k' e' a' b' cpc cn ch cg fo d hy kn hn' TY => ?_) (fun w => absurd ⟨kk, rfl, a, b⟩ w)
      have ek := (nI_eq (by omega) (by omega)).mp e'
      subst ek
      obtain ⟨y1, y2⟩ := yc_of TY a ecd
      exact h _ _ _ _ _ _ _ _ _ _ _ y1 y2
    unfold wpY_hypotheses
    refine ⟨pk_in kk 40 a rfl, yy (fun cpc cn ch cg fo d hy kn hn' ra wa ep Ty => br_f (by decide) ⟨?_, rl_in ⟨hn24, hL, hla, hlb, hs, hp, fun _ => ⟨rfl, T⟩⟩⟩)⟩
    rw [Ty.1, rd_e (a := hc) (x := nI kk) rfl, Tc.2.1]
  · unfold wpY_hypotheses
    refine yc_have (la := la) (lb := lb) hp hL (fun k' e' a' b' => absurd ⟨k', e', a', b'⟩ q) (fun _ hn ra wa cpc cn fo hy dd ch cg kn ro => br_t rfl ⟨rfl, rl_in ⟨hn24, hL, hla, hlb, hs, hp, fun _ => ⟨rfl, T⟩⟩⟩)
theorem i_vc_hypothesis {k : Nat} {u : SX} {v : SY} (I : i_Rel k u v) (hk : k + 5 ≤ 2562) (v1 : Int32) (v2 : Int32) (v3 : Int32) : wpX_hypothesis (fun r u' => wpY_hypothesis (fun r' v' => r' = r ∧ i_Rel (k + 5) u' v') v v1 v2 v3) u v1 v2 v3 := by
  refine rl_el (Q := fun u v => wpX_hypothesis (fun r u' => wpY_hypothesis (fun r' v' => r' = r ∧ i_Rel (k + 5) u' v') v v1 v2 v3) u v1 v2 v3) ?_ I
  intro n L la lb fLD fST fCC fLV fLC aRG aCE aSO aPR aMU aLS aLH aLB aCP aHC aKN aTR aHT aGT aFO aWK aLI aSU gHN gRA gWA gCP gCN bFO bHY bD bCH bCG bKN bRO F
  have F0 := F
  obtain ⟨hn24, hL, hla, hlb, hs, hp, ht⟩ := F0
  unfold wpX_hypothesis
  refine xc_isC hp hL ht (fun kk e a b cp hc ht gt fo wk li kn lc lv T => br_f (by decide) ?_) (fun q cp hc ht gt fo wk li kn lc lv T => br_t rfl ?_)
  · subst e
    obtain ⟨cd, ecd, Tc⟩ := xc_of T a b
    have yy : ∀ {post : Int32 → SY → Prop}, (∀ (cpc cn : Int32) (ch cg fo d hy : Nat → Int64) (kn : Nat → Int32) (hn ra wa : Int32), cpc = cd.1 → yc_T cn ch cg cd → post 1 (nI la, nI lb, nI n, nI L, hn, ra, wa, cpc, cn, aSO, aPR, aMU, aRG, aCE, fo, kn, hy, d, ch, cg, bRO)) → wpY_have post (nI la, nI lb, nI n, nI L, gHN, gRA, gWA, gCP, gCN, aSO, aPR, aMU, aRG, aCE, bFO, bKN, bHY, bD, bCH, bCG, bRO) (nI kk) := by
      intro post h
      refine yc_have (la := la) (lb := lb) hp hL (fun k' e' a' b' cpc cn ch cg fo d hy kn hn' TY => ?_) (fun w => absurd ⟨kk, rfl, a, b⟩ w)
      have ek := (nI_eq (by omega) (by omega)).mp e'
      subst ek
      obtain ⟨y1, y2⟩ := yc_of TY a ecd
      exact h _ _ _ _ _ _ _ _ _ _ _ y1 y2
    unfold wpY_hypothesis
    have h6 := Tc.2.2.1
    have eh : hc (nI kk).toNatClampNeg = nI cd.2.1 := (rd_e rfl).trans Tc.2.1
    refine br_c (fun c => yy (fun cpc cn ch cg fo d hy kn hn' ra wa ep Ty => br_f (by decide) (br_t c ⟨rfl, rl_in ⟨hn24, hL, hla, hlb, hs, hp, fun _ => ⟨rfl, T⟩⟩⟩))) (fun c => ⟨pk_in kk 40 a rfl, ?_⟩)
    rw [eh]
    refine br_c (fun d => yy (fun cpc cn ch cg fo dd hy kn hn' ra wa ep Ty => br_f (by decide) (br_f c (br_t (by rw [Ty.1]; exact d) ⟨rfl, rl_in ⟨hn24, hL, hla, hlb, hs, hp, fun _ => ⟨rfl, T⟩⟩⟩)))) (fun d => br_c (fun e => yy (fun cpc cn ch cg fo dd hy kn hn' ra wa ep Ty => br_f (by decide) (br_f c (br_f (by rw [Ty.1]; exact d) (br_t e ⟨rfl, rl_in ⟨hn24, hL, hla, hlb, hs, hp, fun _ => ⟨rfl, T⟩⟩⟩))))) (fun e => br_c (fun f => ?_) (fun f => yy (fun cpc cn ch cg fo dd hy kn hn' ra wa ep Ty => br_f (by decide) (br_f c (br_f (by rw [Ty.1]; exact d) (br_f e (br_f f ⟨rfl, rl_in ⟨hn24, hL, hla, hlb, hs, hp, fun _ => ⟨rfl, T⟩⟩⟩))))))))
    obtain ⟨i, hi, rfl⟩ := ir_y (n := cd.2.1) (by omega) c d
    obtain ⟨j, hj, rfl⟩ := ir_y2 (n := 6) (by decide) e (Int32.not_lt.mpr f)
    have ex : nI kk * 42 + nI i * 7 + nI j = nI (42 * kk + 7 * i + j) := by
      rw [show nI kk * 42 = nI (42 * kk) from ix_l0 42 kk, show nI i * 7 = nI (7 * i) from ix_l0 7 i, nI_add, nI_add]
    refine ⟨pk_in (42 * kk + 7 * i + j) 1680 (by omega) ex, yy (fun cpc cn ch cg fo dd hy kn hn' ra wa ep Ty => br_f (by decide) (br_f c (br_f (by rw [Ty.1]; exact d) (br_f e (br_t f ⟨pk_in (7 * i + j) 42 (by omega) (ix_r 7 i j), ?_, rl_in ⟨hn24, hL, hla, hlb, hs, hp, fun _ => ⟨rfl, T⟩⟩⟩)))))⟩
    rw [rd_e (a := ht) ex, rd_e (a := ch) (x := 7 * nI i + nI j) (ix_r 7 i j), Ty.2.2.1 i j hi hj, Tc.2.2.2.1 i j hi hj]
  · unfold wpY_hypothesis
    refine yc_have (la := la) (lb := lb) hp hL (fun k' e' a' b' => absurd ⟨k', e', a', b'⟩ q) (fun _ hn ra wa cpc cn fo hy dd ch cg kn ro => br_t rfl ⟨rfl, rl_in ⟨hn24, hL, hla, hlb, hs, hp, fun _ => ⟨rfl, T⟩⟩⟩)
theorem i_vc_goal {k : Nat} {u : SX} {v : SY} (I : i_Rel k u v) (hk : k + 5 ≤ 2562) (v1 : Int32) (v2 : Int32) : wpX_goal (fun r u' => wpY_goal (fun r' v' => r' = r ∧ i_Rel (k + 5) u' v') v v1 v2) u v1 v2 := by
  refine rl_el (Q := fun u v => wpX_goal (fun r u' => wpY_goal (fun r' v' => r' = r ∧ i_Rel (k + 5) u' v') v v1 v2) u v1 v2) ?_ I
  intro n L la lb fLD fST fCC fLV fLC aRG aCE aSO aPR aMU aLS aLH aLB aCP aHC aKN aTR aHT aGT aFO aWK aLI aSU gHN gRA gWA gCP gCN bFO bHY bD bCH bCG bKN bRO F
  have F0 := F
  obtain ⟨hn24, hL, hla, hlb, hs, hp, ht⟩ := F0
  unfold wpX_goal
  refine xc_isC hp hL ht (fun kk e a b cp hc ht gt fo wk li kn lc lv T => br_f (by decide) ?_) (fun q cp hc ht gt fo wk li kn lc lv T => br_t rfl ?_)
  · subst e
    obtain ⟨cd, ecd, Tc⟩ := xc_of T a b
    have yy : ∀ {post : Int32 → SY → Prop}, (∀ (cpc cn : Int32) (ch cg fo d hy : Nat → Int64) (kn : Nat → Int32) (hn ra wa : Int32), cpc = cd.1 → yc_T cn ch cg cd → post 1 (nI la, nI lb, nI n, nI L, hn, ra, wa, cpc, cn, aSO, aPR, aMU, aRG, aCE, fo, kn, hy, d, ch, cg, bRO)) → wpY_have post (nI la, nI lb, nI n, nI L, gHN, gRA, gWA, gCP, gCN, aSO, aPR, aMU, aRG, aCE, bFO, bKN, bHY, bD, bCH, bCG, bRO) (nI kk) := by
      intro post h
      refine yc_have (la := la) (lb := lb) hp hL (fun k' e' a' b' cpc cn ch cg fo d hy kn hn' TY => ?_) (fun w => absurd ⟨kk, rfl, a, b⟩ w)
      have ek := (nI_eq (by omega) (by omega)).mp e'
      subst ek
      obtain ⟨y1, y2⟩ := yc_of TY a ecd
      exact h _ _ _ _ _ _ _ _ _ _ _ y1 y2
    unfold wpY_goal
    refine br_c (fun c => yy (fun cpc cn ch cg fo d hy kn hn' ra wa ep Ty => br_f (by decide) (br_t c ⟨rfl, rl_in ⟨hn24, hL, hla, hlb, hs, hp, fun _ => ⟨rfl, T⟩⟩⟩))) (fun c => br_c (fun d => ?_) (fun d => yy (fun cpc cn ch cg fo dd hy kn hn' ra wa ep Ty => br_f (by decide) (br_f c (br_f d ⟨rfl, rl_in ⟨hn24, hL, hla, hlb, hs, hp, fun _ => ⟨rfl, T⟩⟩⟩)))))
    obtain ⟨j, hj, rfl⟩ := ir_y2 (n := 6) (by decide) c (Int32.not_lt.mpr d)
    refine ⟨pk_in (7 * kk + j) 280 (by omega) (ix_l 7 kk j), yy (fun cpc cn ch cg fo dd hy kn hn' ra wa ep Ty => br_f (by decide) (br_f c (br_t d ⟨pk_in j 7 hj rfl, ?_, rl_in ⟨hn24, hL, hla, hlb, hs, hp, fun _ => ⟨rfl, T⟩⟩⟩)))⟩
    rw [rd_e (a := gt) (x := nI kk * 7 + nI j) (ix_l 7 kk j), rd_e (a := cg) (x := nI j) rfl, Ty.2.2.2 j hj, Tc.2.2.2.2 j hj]
  · unfold wpY_goal
    refine yc_have (la := la) (lb := lb) hp hL (fun k' e' a' b' => absurd ⟨k', e', a', b'⟩ q) (fun _ hn ra wa cpc cn fo hy dd ch cg kn ro => br_t rfl ⟨rfl, rl_in ⟨hn24, hL, hla, hlb, hs, hp, fun _ => ⟨rfl, T⟩⟩⟩)
theorem i_vc_setMultiplier {k : Nat} {u : SX} {v : SY} (I : i_Rel k u v) (hk : k + 5 ≤ 2562) (v1 : Int32) (v2 : Int32) (v3 : Int32) : wpX_setMultiplier (fun r u' => wpY_setMultiplier (fun r' v' => r' = r ∧ i_Rel (k + 5) u' v') v v1 v2 v3) u v1 v2 v3 := by
  refine rl_el (Q := fun u v => wpX_setMultiplier (fun r u' => wpY_setMultiplier (fun r' v' => r' = r ∧ i_Rel (k + 5) u' v') v v1 v2 v3) u v1 v2 v3) ?_ I
  intro n L la lb fLD fST fCC fLV fLC aRG aCE aSO aPR aMU aLS aLH aLB aCP aHC aKN aTR aHT aGT aFO aWK aLI aSU gHN gRA gWA gCP gCN bFO bHY bD bCH bCG bKN bRO F
  have F0 := F
  obtain ⟨hn24, hL, hla, hlb, hs, hp, ht⟩ := F0
  refine br_c (fun a => br_t a ⟨rfl, rl_in F⟩) (fun a => br_c (fun b => br_f a (br_t (le39.mpr b) ⟨rfl, rl_in F⟩)) (fun b => br_c (fun c => br_f a (br_f (fun q => b (le39.mp q)) (br_t c ⟨rfl, rl_in F⟩))) (fun c => br_c (fun d => ?_) (fun d => br_f a (br_f (fun q => b (le39.mp q)) (br_f c (br_f (fun q => d (le5.mp q)) ⟨rfl, rl_in F⟩)))))))
  obtain ⟨i, hi, rfl⟩ := ir_y (n := 40) (by omega) a b
  obtain ⟨j, hj, rfl⟩ := ir_y (n := 6) (by omega) c (fun q => absurd d (Int32.not_lt.mpr q))
  exact ⟨pk_in (6 * i + j) 240 (by omega) (ix_l 6 i j), up_I (6 * i + j) _ (ix_l 6 i j) rfl (br_f a (br_f (fun q => b (le39.mp q)) (br_f c (br_t (le5.mpr d) ⟨pk_in (6 * i + j) 240 (by omega) (ix_r 6 i j), up_I (6 * i + j) _ (ix_r 6 i j) rfl ⟨rfl, rl_in F⟩⟩))))⟩
theorem i_vc_multiplier {k : Nat} {u : SX} {v : SY} (I : i_Rel k u v) (hk : k + 5 ≤ 2562) (v1 : Int32) (v2 : Int32) : wpX_multiplier (fun r => wpY_multiplier (fun r' => r' = r ∧ i_Rel (k + 5) u v) v v1 v2) u v1 v2 := by
  refine rl_el (Q := fun u v => wpX_multiplier (fun r => wpY_multiplier (fun r' => r' = r ∧ i_Rel (k + 5) u v) v v1 v2) u v1 v2) ?_ I
  intro n L la lb fLD fST fCC fLV fLC aRG aCE aSO aPR aMU aLS aLH aLB aCP aHC aKN aTR aHT aGT aFO aWK aLI aSU gHN gRA gWA gCP gCN bFO bHY bD bCH bCG bKN bRO F
  have F0 := F
  obtain ⟨hn24, hL, hla, hlb, hs, hp, ht⟩ := F0
  refine br_c (fun a => br_t a ⟨rfl, rl_in F⟩) (fun a => br_c (fun b => br_f a (br_t (le39.mpr b) ⟨rfl, rl_in F⟩)) (fun b => br_c (fun c => br_f a (br_f (fun q => b (le39.mp q)) (br_t c ⟨rfl, rl_in F⟩))) (fun c => br_c (fun d => ?_) (fun d => br_f a (br_f (fun q => b (le39.mp q)) (br_f c (br_f (fun q => d (le5.mp q)) ⟨rfl, rl_in F⟩)))))))
  obtain ⟨i, hi, rfl⟩ := ir_y (n := 40) (by omega) a b
  obtain ⟨j, hj, rfl⟩ := ir_y (n := 6) (by omega) c (fun q => absurd d (Int32.not_lt.mpr q))
  exact ⟨pk_in (6 * i + j) 240 (by omega) (ix_l 6 i j), br_f a (br_f (fun q => b (le39.mp q)) (br_f c (br_t (le5.mpr d) ⟨pk_in (6 * i + j) 240 (by omega) (ix_r 6 i j), (rd_e (ix_r 6 i j)).trans (rd_e (ix_l 6 i j)).symm, rl_in F⟩)))⟩
theorem i_vc_certify {k : Nat} {u : SX} {v : SY} (I : i_Rel k u v) (hk : k + 5 ≤ 2562) (v1 : Int32) : wpX_certify (fun r u' => wpY_certify (fun r' v' => r' = r ∧ i_Rel (k + 5) u' v') v v1) u v1 := by
  refine rl_el (Q := fun u v => wpX_certify (fun r u' => wpY_certify (fun r' v' => r' = r ∧ i_Rel (k + 5) u' v') v v1) u v1) ?_ I
  intro n L la lb fLD fST fCC fLV fLC aRG aCE aSO aPR aMU aLS aLH aLB aCP aHC aKN aTR aHT aGT aFO aWK aLI aSU gHN gRA gWA gCP gCN bFO bHY bD bCH bCG bKN bRO F
  have F0 := F
  obtain ⟨hn24, hL, hla, hlb, hs, hp, ht⟩ := F0
  have e39 : ∀ x : Int32, x ≤ 39 ↔ x < 40 := fun x => by
    rw [Int32.le_iff_toInt_le, Int32.lt_iff_toInt_lt, show (39 : Int32).toInt = 39 from by decide, show (40 : Int32).toInt = 40 from by decide]; omega
  refine br_c (fun a => br_t a ⟨rfl, rl_in F⟩) (fun a => br_c (fun b => ?_) (fun b => br_f a (br_f (fun q => b ((e39 _).mp q)) ⟨rfl, rl_in F⟩)))
  obtain ⟨fr, hfr, rfl⟩ := ir_y (n := 40) (by decide) a (fun q => absurd b (Int32.not_lt.mpr q))
  refine xw_refresh hp hL ht (fun cp hc ht gt fo wk li kn lc lv T => ?_)
  obtain ⟨r, mu', hX, hY⟩ := ce_lock (fSC := nI n) (fLD := fLD) (fST := 0) (fLV := lv) (fLC := lc) (aRG := aRG) (aCE := aCE) (aSO := aSO) (aLS := aLS) (aLH := aLH) (aLB := aLB) (aFO := fo) (aKN := kn) (aWK := wk) (aLI := li)
    (gN := nI n) (bSR := aSO) (bRG := aRG) (bCE := aCE) hp hL hfr T 8 fr 0 aMU rfl
  exact ⟨9, hX _ _ _ (fun su tr => br_f a (br_t ((e39 _).mpr b) ⟨9, hY _ (fun hn ra wa cpc cn fo hy dd ch cg kn ro => ⟨rfl, rl_in ⟨hn24, hL, hla, hlb, hs, hp, fun _ => ⟨rfl, T⟩⟩⟩) _ _ _ _ _ _ _ _ _ _ _ _⟩))⟩
theorem i_vc_check {k : Nat} {u : SX} {v : SY} (I : i_Rel k u v) (hk : k + 5 ≤ 2562) : wpX_check (fun r u' => wpY_check (fun r' v' => r' = r ∧ i_Rel (k + 5) u' v') v) u := by
  refine rl_el (Q := fun u v => wpX_check (fun r u' => wpY_check (fun r' v' => r' = r ∧ i_Rel (k + 5) u' v') v) u) ?_ I
  intro n L la lb fLD fST fCC fLV fLC aRG aCE aSO aPR aMU aLS aLH aLB aCP aHC aKN aTR aHT aGT aFO aWK aLI aSU gHN gRA gWA gCP gCN bFO bHY bD bCH bCG bKN bRO F
  have F0 := F
  obtain ⟨hn24, hL, hla, hlb, hs, hp, ht⟩ := F0
  unfold wpX_check
  refine xw_refresh hp hL ht (fun cp hc ht gt fo wk li kn lc lv T => ?_)
  have hlen := pw_all_len (P := aPR) (la := la) (lb := lb) hL
  refine pk_le (pw_all aPR L la lb).length 40 (fun h40 => ?_) (fun h40 => ?_)
  · obtain ⟨r, hX, hY⟩ := ck_lock (fSC := nI n) (fLD := fLD) (fST := 0) (fLV := lv) (fLC := lc) (aRG := aRG) (aCE := aCE) (aSO := aSO) (aLS := aLS) (aLH := aLH) (aLB := aLB) (aFO := fo) (aKN := kn) (aWK := wk) (aLI := li) (aMU := aMU) (aTR := aTR)
      (gN := nI n) (bSR := aSO) (bRG := aRG) (bCE := aCE) hp hL h40 T (pw_all aPR L la lb).length 0 (by omega)
    refine ⟨_, hX _ _ (fun su => ?_)⟩
    unfold wpY_check wpY_conditions
    refine yw_walk (la := la) (lb := lb) hp hL (fun cpc cn ch cg fo d hy kn hn' TY => ?_)
    exact pk_le (pw_all aPR L la lb).length 40 (fun _ => ⟨_, hY _ (fun hn ra wa cpc cn fo hy dd ch cg kn ro => ⟨rfl, rl_in ⟨hn24, hL, hla, hlb, hs, hp, fun _ => ⟨rfl, T⟩⟩⟩) _ _ _ _ _ _ _ _ _ _ _ _⟩) (fun z => absurd z (by omega))
  · unfold wpY_check wpY_conditions
    refine yw_walk (la := la) (lb := lb) hp hL (fun cpc cn ch cg fo d hy kn hn' TY => ?_)
    exact pk_le (pw_all aPR L la lb).length 40 (fun z => absurd z (by omega)) (fun _ => ⟨rfl, rl_in ⟨hn24, hL, hla, hlb, hs, hp, fun _ => ⟨rfl, T⟩⟩⟩)
theorem i_vc_setRegister {k : Nat} {u : SX} {v : SY} (I : i_Rel k u v) (hk : k + 5 ≤ 2562) (v1 : Int32) (v2 : Int32) : wpX_setRegister (fun r u' => wpY_setRegister (fun r' v' => r' = r ∧ i_Rel (k + 5) u' v') v v1 v2) u v1 v2 := by
  refine rl_el (Q := fun u v => wpX_setRegister (fun r u' => wpY_setRegister (fun r' v' => r' = r ∧ i_Rel (k + 5) u' v') v v1 v2) u v1 v2) ?_ I
  intro n L la lb fLD fST fCC fLV fLC aRG aCE aSO aPR aMU aLS aLH aLB aCP aHC aKN aTR aHT aGT aFO aWK aLI aSU gHN gRA gWA gCP gCN bFO bHY bD bCH bCG bKN bRO F
  have F0 := F
  obtain ⟨hn24, hL, hla, hlb, hs, hp, ht⟩ := F0
  refine br_c (fun a => br_t a ⟨rfl, rl_in F⟩) (fun a => br_c (fun b => ?_) (fun b => br_f a (br_f (fun q => b (le5.mp q)) ⟨rfl, rl_in F⟩)))
  obtain ⟨j, hj, rfl⟩ := ir_y (n := 6) (by omega) a (fun q => absurd b (Int32.not_lt.mpr q))
  exact ⟨pk_in j 6 hj rfl, up_I j _ rfl rfl (br_f a (br_t (le5.mpr b) ⟨pk_in j 6 hj rfl, up_I j _ rfl rfl ⟨rfl, rl_in F⟩⟩))⟩
theorem i_vc_register {k : Nat} {u : SX} {v : SY} (I : i_Rel k u v) (hk : k + 5 ≤ 2562) (v1 : Int32) : wpX_register (fun r => wpY_register (fun r' => r' = r ∧ i_Rel (k + 5) u v) v v1) u v1 := by
  refine rl_el (Q := fun u v => wpX_register (fun r => wpY_register (fun r' => r' = r ∧ i_Rel (k + 5) u v) v v1) u v1) ?_ I
  intro n L la lb fLD fST fCC fLV fLC aRG aCE aSO aPR aMU aLS aLH aLB aCP aHC aKN aTR aHT aGT aFO aWK aLI aSU gHN gRA gWA gCP gCN bFO bHY bD bCH bCG bKN bRO F
  have F0 := F
  obtain ⟨hn24, hL, hla, hlb, hs, hp, ht⟩ := F0
  exact xr_reg (yr_reg ⟨rfl, rl_in F⟩)
theorem i_vc_setCell {k : Nat} {u : SX} {v : SY} (I : i_Rel k u v) (hk : k + 5 ≤ 2562) (v1 : Int32) (v2 : Int32) (v3 : Int32) : wpX_setCell (fun r u' => wpY_setCell (fun r' v' => r' = r ∧ i_Rel (k + 5) u' v') v v1 v2 v3) u v1 v2 v3 := by
  refine rl_el (Q := fun u v => wpX_setCell (fun r u' => wpY_setCell (fun r' v' => r' = r ∧ i_Rel (k + 5) u' v') v v1 v2 v3) u v1 v2 v3) ?_ I
  intro n L la lb fLD fST fCC fLV fLC aRG aCE aSO aPR aMU aLS aLH aLB aCP aHC aKN aTR aHT aGT aFO aWK aLI aSU gHN gRA gWA gCP gCN bFO bHY bD bCH bCG bKN bRO F
  have F0 := F
  obtain ⟨hn24, hL, hla, hlb, hs, hp, ht⟩ := F0
  exact xr_setC hla hlb (fun q => yr_setC hla hlb (fun _ => ⟨rfl, rl_in F⟩) (fun z => absurd q z)) (fun q => yr_setC hla hlb (fun z => absurd z q) (fun _ => ⟨rfl, rl_in F⟩))
theorem i_vc_cell {k : Nat} {u : SX} {v : SY} (I : i_Rel k u v) (hk : k + 5 ≤ 2562) (v1 : Int32) (v2 : Int32) : wpX_cell (fun r => wpY_cell (fun r' => r' = r ∧ i_Rel (k + 5) u v) v v1 v2) u v1 v2 := by
  refine rl_el (Q := fun u v => wpX_cell (fun r => wpY_cell (fun r' => r' = r ∧ i_Rel (k + 5) u v) v v1 v2) u v1 v2) ?_ I
  intro n L la lb fLD fST fCC fLV fLC aRG aCE aSO aPR aMU aLS aLH aLB aCP aHC aKN aTR aHT aGT aFO aWK aLI aSU gHN gRA gWA gCP gCN bFO bHY bD bCH bCG bKN bRO F
  have F0 := F
  obtain ⟨hn24, hL, hla, hlb, hs, hp, ht⟩ := F0
  exact xr_cell hla hlb (fun q => yr_cell hla hlb (fun _ => ⟨rfl, rl_in F⟩) (fun z => absurd q z)) (fun q => yr_cell hla hlb (fun z => absurd z q) (fun _ => ⟨rfl, rl_in F⟩))
theorem i_vc_run {k : Nat} {u : SX} {v : SY} (I : i_Rel k u v) (hk : k + 5 ≤ 2562) : wpX_run (fun r u' => wpY_run (fun r' v' => r' = r ∧ i_Rel (k + 5) u' v') v) u := by
  refine rl_el (Q := fun u v => wpX_run (fun r u' => wpY_run (fun r' v' => r' = r ∧ i_Rel (k + 5) u' v') v) u) ?_ I
  intro n L la lb fLD fST fCC fLV fLC aRG aCE aSO aPR aMU aLS aLH aLB aCP aHC aKN aTR aHT aGT aFO aWK aLI aSU gHN gRA gWA gCP gCN bFO bHY bD bCH bCG bKN bRO F
  have F0 := F
  obtain ⟨hn24, hL, hla, hlb, hs, hp, ht⟩ := F0
  obtain ⟨r, rg', ce', hX, hY⟩ := rn_run (fSC := nI n) (fLD := fLD) (fST := fST) (fCC := fCC) (fLV := fLV) (fLC := fLC) (aRG := aRG) (aCE := aCE) (aSO := aSO) (aMU := aMU) (aLS := aLS) (aLH := aLH) (aLB := aLB) (aCP := aCP) (aHC := aHC) (aHT := aHT) (aGT := aGT) (aFO := aFO) (aKN := aKN) (aWK := aWK) (aLI := aLI) (aSU := aSU) (aTR := aTR)
    (gN := nI n) (gHN := gHN) (gRA := gRA) (gWA := gWA) (gCP := gCP) (gCN := gCN) (bSR := aSO) (bMU := aMU) (bFO := bFO) (bKN := bKN) (bHY := bHY) (bD := bD) (bCH := bCH) (bCG := bCG) (bRO := bRO) hp hL hla hlb
  exact hX _ (hY _ ⟨rfl, rl_in F⟩)
end
section
/-! compile -/
theorem i_vc_compile {k : Nat} {u : SX} {v : SY} (I : i_Rel k u v) (hk : k + 5 ≤ 2562) : wpX_compile (fun r u' => wpY_compile (fun r' v' => r' = r ∧ i_Rel (k + 5) u' v') v) u := by
  refine rl_el (Q := fun u v => wpX_compile (fun r u' => wpY_compile (fun r' v' => r' = r ∧ i_Rel (k + 5) u' v') v) u) ?_ I
  intro n L la lb fLD fST fCC fLV fLC aRG aCE aSO aPR aMU aLS aLH aLB aCP aHC aKN aTR aHT aGT aFO aWK aLI aSU gHN gRA gWA gCP gCN bFO bHY bD bCH bCG bKN bRO F
  have F0 := F
  obtain ⟨hn24, hL, hla, hlb, hs, hp, ht⟩ := F0
  have hl := so_len aSO n
  unfold wpX_compile
  have fail1 : 0 < (so_stk aSO n).length → wpY_compile (fun r' v' => r' = -1 ∧ i_Rel (k + 5) (nI la, nI lb, nI n, nI L, fLD, fST, fCC, fLV, fLC, aRG, aCE, aSO, aPR, aMU, aLS, aLH, aLB, aCP, aHC, aHT, aGT, aFO, aKN, aWK, aLI, aSU, aTR) v') (nI la, nI lb, nI n, nI L, gHN, gRA, gWA, gCP, gCN, aSO, aPR, aMU, aRG, aCE, bFO, bKN, bHY, bD, bCH, bCG, bRO) := by
    intro h
    unfold wpY_compile
    exact ys_open hs hn24 (pk_le (so_stk aSO n).length 0 (fun z => absurd h (by omega)) (fun _ => ⟨rfl, rl_in F⟩))
  refine xs_open hs hn24 (pk_le (so_stk aSO n).length 0 (fun z => ?_) (fun z => fail1 z))
  have bal : so_stk aSO n = [] := List.eq_nil_of_length_eq_zero (by omega)
  have pb : pl_s aSO n n < 2 ^ 30 := by
    have key : ∀ j, pl_s aSO n j ≤ 40 * j := by
      intro j
      induction j with
      | zero => exact Nat.le_refl 0
      | succ j ih =>
        have e : pl_s aSO n (j + 1) = pl_s aSO n j + sz_s aSO n j := rfl
        have b : sz_s aSO n j ≤ 40 := by
          have := iv_le (S := aSO) n
          unfold sz_s
          split
          · split <;> omega
          · split
            · split <;> omega
            · omega
        omega
    have := key n
    omega
  refine xo_len hs hn24 (pk_le (1 + pl_s aSO n n) 48 (fun h48 => ?_) (fun h48 => ?_))
  · obtain ⟨s', ld', ls', lh', lb', K, K48, hX, hY⟩ := tr_lock (fLA := nI la) (fLB := nI lb) (fST := fST) (fCC := fCC) (fLV := fLV) (fLC := fLC) (aRG := aRG) (aCE := aCE) (aMU := aMU) (aCP := aCP) (aHC := aHC) (aHT := aHT) (aGT := aGT) (aFO := aFO) (aKN := aKN) (aWK := aWK) (aLI := aLI) (aSU := aSU) (aTR := aTR)
      (gLA := nI la) (gLB := nI lb) (gHN := gHN) (gRA := gRA) (gWA := gWA) (gCP := gCP) (gCN := gCN) (bMU := aMU) (bRG := aRG) (bCE := aCE) (bFO := bFO) (bKN := bKN) (bHY := bHY) (bD := bD) (bCH := bCH) (bCG := bCG) (bRO := bRO)
      hs hn24 (by omega) bal n 0 0 aLS aLH aLB (aPR, 0) (aPR, 0) (by omega) ⟨rfl, ⟨rfl, fun m _ => rfl⟩, fun p hp => absurd hp (Nat.not_lt_zero p), fun f hf => absurd hf (by simp [so_stk]), Or.inl ⟨rfl, rfl⟩⟩
    refine ⟨n + 1, hX _ ?_⟩
    refine xo_27 ?_
    unfold wpY_compile
    refine ys_open hs hn24 (br_t (by rw [bal]; decide) ?_)
    refine yo_pl (i := n) rfl (Nat.le_refl n) hs hn24 ?_
    refine pk_le (pl_s aSO n n + 1) 48 (fun _ => ⟨n + 1, hY _ (yo_242 ⟨rfl, rl_in ⟨hn24, K48, hla, hlb, hs, K, fun q => absurd q (by decide)⟩⟩)⟩) (fun q => absurd q (by omega)) (nI_1 _) rfl
  · unfold wpY_compile
    refine ys_open hs hn24 (br_t (by rw [bal]; decide) ?_)
    refine yo_pl (i := n) rfl (Nat.le_refl n) hs hn24 ?_
    exact pk_le (pl_s aSO n n + 1) 48 (fun q => absurd q (by omega)) (fun _ => ⟨rfl, rl_in F⟩) (nI_1 _) rfl
end
