section
/-! rows pasted from kit/rows (starting text) -/
def bt (x : Int32) (i : Nat) : Bool := x.toBitVec.getLsbD i
theorem b_ext {x y : Int32} (h : ∀ i, i < 32 → bt x i = bt y i) : x = y := Int32.toBitVec_inj.mp (BitVec.eq_of_getLsbD_eq (fun i hi => h i hi))
theorem b_or (x y : Int32) (i : Nat) : bt (x ||| y) i = (bt x i || bt y i) := by unfold bt; rw [Int32.toBitVec_or, BitVec.getLsbD_or]
theorem b_and (x y : Int32) (i : Nat) : bt (x &&& y) i = (bt x i && bt y i) := by unfold bt; rw [Int32.toBitVec_and, BitVec.getLsbD_and]
theorem b_xor (x y : Int32) (i : Nat) : bt (x ^^^ y) i = (bt x i ^^ bt y i) := by unfold bt; rw [Int32.toBitVec_xor, BitVec.getLsbD_xor]
theorem b_big {x : Int32} {i : Nat} (h : 32 ≤ i) : bt x i = false := BitVec.getLsbD_of_ge _ _ h
theorem b_m1 : ∀ i, i < 32 → bt (-1) i = true := by decide +kernel
theorem b_0 (i : Nat) : bt 0 i = false := BitVec.getLsbD_zero
theorem s_l : ∀ n, n < 32 → ((nI n &&& 31).toBitVec.smod 32).toNat = n := by decide +kernel
theorem s_u : ∀ n, n < 32 → (((nI n).toUInt32 &&& Int32.toUInt32 31).toBitVec % 32).toNat = n := by decide +kernel
theorem b_shl (n : Nat) (hn : n < 32) (x : Int32) {i : Nat} (hi : i < 32) : bt (x <<< (nI n &&& 31)) i = (decide (n ≤ i) && bt x (i - n)) := by
  unfold bt
  rw [Int32.toBitVec_shiftLeft]
  show (x.toBitVec <<< ((nI n &&& 31).toBitVec.smod 32).toNat).getLsbD i = _
  rw [s_l n hn, BitVec.getLsbD_shiftLeft]
  rcases Nat.lt_or_ge i n with h | h
  · simp [h, Nat.not_le.mpr h]
  · simp [hi, h, Nat.not_lt.mpr h]
theorem b_sshr (n : Nat) (hn : n < 32) (x : Int32) {i : Nat} (hi : i < 32) : bt (x >>> (nI n &&& 31)) i = if n + i < 32 then bt x (n + i) else bt x 31 := by
  unfold bt
  rw [Int32.toBitVec_shiftRight]
  show (x.toBitVec.sshiftRight ((nI n &&& 31).toBitVec.smod 32).toNat).getLsbD i = _
  rw [s_l n hn, BitVec.getLsbD_sshiftRight, BitVec.msb_eq_getLsbD_last]
  simp [hi]
theorem pk_us {f : Nat → Int32} {k : Nat} {x : Int32} : upd f k x k = x := if_pos rfl
theorem pk_un {f : Nat → Int32} {k j : Nat} {x : Int32} (h : j ≠ k) : upd f k x j = f j := if_neg h
theorem pk_sub {a b : Nat} (h : b ≤ a) : nI a - nI b = nI (a - b) := by
  obtain ⟨c, rfl⟩ : ∃ c, a = c + b := ⟨a - b, by omega⟩
  rw [← nI_add, Int32.add_sub_cancel, Nat.add_sub_cancel]
theorem pk_m1 (n : Nat) : nI (n + 1) + (-1) = nI n := by
  rw [← nI_1, Int32.add_assoc, show (1 : Int32) + (-1) = 0 from rfl, Int32.add_zero]
theorem pk_mul (a b : Nat) : nI a * nI b = nI (a * b) := (Int32.ofNat_mul a b).symm
theorem pk_ix (x : Int32) {n : Nat} (hn : n < 2 ^ 31) : x < 0 ∨ nI n ≤ x ∨ ∃ j : Nat, j < n ∧ x = nI j := by
  by_cases h : x < 0
  · exact Or.inl h
  · obtain ⟨j, hj, rfl⟩ := nI_of h
    by_cases h2 : j < n
    · exact Or.inr (Or.inr ⟨j, h2, rfl⟩)
    · exact Or.inr (Or.inl (nI_le (by omega) hj))
theorem pk_le {x y : Int32} {A B : Prop} (a b : Nat) (f : a ≤ b → A) (g : b < a → B) (hx : x = nI a := by rfl) (hy : y = nI b := by rfl) (ha : a < 2 ^ 31 := by omega) (hb : b < 2 ^ 31 := by omega) : (x ≤ y → A) ∧ (¬ x ≤ y → B) := by
  subst hx hy
  rw [nI_leI ha hb]
  exact ⟨f, fun z => g (by omega)⟩
theorem pk_lt {x y : Int32} {A B : Prop} (a b : Nat) (f : a < b → A) (g : b ≤ a → B) (hx : x = nI a := by rfl) (hy : y = nI b := by rfl) (ha : a < 2 ^ 31 := by omega) (hb : b < 2 ^ 31 := by omega) : (x < y → A) ∧ (¬ x < y → B) := by
  subst hx hy
  rw [nI_ltI ha hb]
  exact ⟨f, fun z => g (by omega)⟩
theorem pk_eq {x y : Int32} {A B : Prop} (a b : Nat) (f : a = b → A) (g : a ≠ b → B) (hx : x = nI a := by rfl) (hy : y = nI b := by rfl) (ha : a < 2 ^ 31 := by omega) (hb : b < 2 ^ 31 := by omega) : (x = y → A) ∧ (¬ x = y → B) := by
  subst hx hy
  rw [nI_eq ha hb]
  exact ⟨f, g⟩
theorem pk_in {x : Int32} (n N : Nat) (h : n < N) (hx : x = nI n := by rfl) (hN : N < 2 ^ 31 := by omega) : vp_in x N := by
  subst hx
  exact vp_in_nI h hN
theorem pk_cl {x : Int32} (n : Nat) (hx : x = nI n := by rfl) (h : n < 2 ^ 31 := by omega) : x.toNatClampNeg = n := by
  subst hx
  exact nI_clamp h
end
section
/-! the machine: an instruction is (operation, result, first, second, goal, back) -/
abbrev fo_I : Type := Int32 × Int32 × Int32 × Int32 × Int32 × Int32
abbrev fo_C : Type := Nat × (Nat → Int32) × Nat × (Nat → Int32) × Nat
abbrev fo_R : Type := Int32 × Nat × (Nat → Int32) × Nat
def fo_pr (wo wd wl wr wg bk : Nat → Int32) : Nat → fo_I := fun i => (wo i, wd i, wl i, wr i, wg i, bk i)
def fo_wk (o a b : Int32) : Int32 :=
  if o = 2 then a + b else if o = 3 then a - b else if o = 4 then a * b else if o = 5 then a &&& b else if o = 6 then a ^^^ b else if b ≤ a then 0 else 1
def fo_gt (x : fo_I) (c : fo_C) : Sum fo_R fo_C :=
  if x.2.2.2.2.2 = 0 then .inr (x.2.2.2.2.1.toNatClampNeg, c.2.1, c.2.2.1, c.2.2.2.1, c.2.2.2.2)
  else if c.2.2.2.2 = 40 then .inl (2, c.2.2.1, c.2.2.2.1, c.2.2.2.2)
  else .inr (x.2.2.2.2.1.toNatClampNeg, c.2.1, c.2.2.1, c.2.2.2.1, c.2.2.2.2 + 1)
/-- the next configuration: the place behind, with these numbers -/
def fo_nx (c : fo_C) (num : Nat → Int32) : Sum fo_R fo_C := .inr (c.1 + 1, num, c.2.2.1, c.2.2.2.1, c.2.2.2.2)
def fo_sp (x : fo_I) (c : fo_C) : Sum fo_R fo_C :=
  if x.1 = 0 then fo_nx c (upd c.2.1 x.2.1.toNatClampNeg x.2.2.1)
  else if x.1 = 1 then fo_nx c (upd c.2.1 x.2.1.toNatClampNeg (c.2.1 x.2.2.1.toNatClampNeg))
  else if x.1 = 8 then fo_gt x c
  else if x.1 = 9 then (if c.2.1 x.2.2.1.toNatClampNeg = 0 then fo_nx c c.2.1 else fo_gt x c)
  else if x.1 = 10 then (if c.2.2.1 = 24 then .inl (1, c.2.2.1, c.2.2.2.1, c.2.2.2.2) else .inr (c.1 + 1, c.2.1, c.2.2.1 + 1, upd c.2.2.2.1 c.2.2.1 (c.2.1 x.2.2.1.toNatClampNeg), c.2.2.2.2))
  else if x.1 = 11 then .inl (0, c.2.2.1, c.2.2.2.1, c.2.2.2.2)
  else if x.1 = 12 then fo_nx c c.2.1
  else fo_nx c (upd c.2.1 x.2.1.toNatClampNeg (fo_wk x.1 (c.2.1 x.2.2.1.toNatClampNeg) (c.2.1 x.2.2.2.1.toNatClampNeg)))
def fo_ev (P : Nat → fo_I) (n : Nat) : Nat → fo_C → Option fo_R
  | 0 => fun _ => none
  | f + 1 => fun c => if n ≤ c.1 then some (0, c.2.2.1, c.2.2.2.1, c.2.2.2.2) else (fo_sp (P c.1) c).elim some (fo_ev P n f)
/-- a calculation -/
def fo_sm (o : Int32) : Prop := ¬ o < 2 ∧ ¬ 7 < o
theorem fo_sm_ne {o : Int32} (h : fo_sm o) : o ≠ 0 ∧ o ≠ 1 ∧ o ≠ 8 ∧ o ≠ 9 ∧ o ≠ 10 ∧ o ≠ 11 ∧ o ≠ 12 := by
  obtain ⟨h1, h2⟩ := h
  refine ⟨?_, ?_, ?_, ?_, ?_, ?_, ?_⟩ <;> (intro e; subst e; first | exact h1 (by decide) | exact h2 (by decide))
theorem fo_ops {o : Int32} (h : vp_in o 13) : o = 0 ∨ o = 1 ∨ fo_sm o ∨ o = 8 ∨ o = 9 ∨ o = 10 ∨ o = 11 ∨ o = 12 := by
  obtain ⟨j, hj, rfl⟩ := vp_in_of h (by decide)
  have : j = 0 ∨ j = 1 ∨ j = 2 ∨ j = 3 ∨ j = 4 ∨ j = 5 ∨ j = 6 ∨ j = 7 ∨ j = 8 ∨ j = 9 ∨ j = 10 ∨ j = 11 ∨ j = 12 := by omega
  unfold fo_sm
  rcases this with rfl | rfl | rfl | rfl | rfl | rfl | rfl | rfl | rfl | rfl | rfl | rfl | rfl <;> decide
section
variable {x : fo_I} {c : fo_C}
theorem fo_sp0 (h : x.1 = 0) : fo_sp x c = fo_nx c (upd c.2.1 x.2.1.toNatClampNeg x.2.2.1) := by unfold fo_sp; rw [if_pos h]
theorem fo_sp1 (h : x.1 = 1) : fo_sp x c = fo_nx c (upd c.2.1 x.2.1.toNatClampNeg (c.2.1 x.2.2.1.toNatClampNeg)) := by
  unfold fo_sp; rw [if_neg (by rw [h]; decide), if_pos h]
theorem fo_sp8 (h : x.1 = 8) : fo_sp x c = fo_gt x c := by
  unfold fo_sp; rw [if_neg (by rw [h]; decide), if_neg (by rw [h]; decide), if_pos h]
theorem fo_sp9 (h : x.1 = 9) : fo_sp x c = if c.2.1 x.2.2.1.toNatClampNeg = 0 then fo_nx c c.2.1 else fo_gt x c := by
  unfold fo_sp; rw [if_neg (by rw [h]; decide), if_neg (by rw [h]; decide), if_neg (by rw [h]; decide), if_pos h]
theorem fo_sp10 (h : x.1 = 10) : fo_sp x c = if c.2.2.1 = 24 then .inl (1, c.2.2.1, c.2.2.2.1, c.2.2.2.2) else .inr (c.1 + 1, c.2.1, c.2.2.1 + 1, upd c.2.2.2.1 c.2.2.1 (c.2.1 x.2.2.1.toNatClampNeg), c.2.2.2.2) := by
  unfold fo_sp; rw [if_neg (by rw [h]; decide), if_neg (by rw [h]; decide), if_neg (by rw [h]; decide), if_neg (by rw [h]; decide), if_pos h]
theorem fo_sp11 (h : x.1 = 11) : fo_sp x c = .inl (0, c.2.2.1, c.2.2.2.1, c.2.2.2.2) := by
  unfold fo_sp; rw [if_neg (by rw [h]; decide), if_neg (by rw [h]; decide), if_neg (by rw [h]; decide), if_neg (by rw [h]; decide), if_neg (by rw [h]; decide), if_pos h]
theorem fo_sp12 (h : x.1 = 12) : fo_sp x c = fo_nx c c.2.1 := by
  unfold fo_sp; rw [if_neg (by rw [h]; decide), if_neg (by rw [h]; decide), if_neg (by rw [h]; decide), if_neg (by rw [h]; decide), if_neg (by rw [h]; decide), if_neg (by rw [h]; decide), if_pos h]
theorem fo_spS (h : fo_sm x.1) : fo_sp x c = fo_nx c (upd c.2.1 x.2.1.toNatClampNeg (fo_wk x.1 (c.2.1 x.2.2.1.toNatClampNeg) (c.2.1 x.2.2.2.1.toNatClampNeg))) := by
  obtain ⟨a, b, d, e, f, g, i⟩ := fo_sm_ne h
  unfold fo_sp; rw [if_neg a, if_neg b, if_neg d, if_neg e, if_neg f, if_neg g, if_neg i]
end
section
variable {P : Nat → fo_I} {n f : Nat} {c c' : fo_C} {r : fo_R}
theorem fo_evE (h : n ≤ c.1) : fo_ev P n (f + 1) c = some (0, c.2.2.1, c.2.2.2.1, c.2.2.2.2) := by
  show (if n ≤ c.1 then _ else _) = _
  rw [if_pos h]
theorem fo_evL (h : c.1 < n) (e : fo_sp (P c.1) c = .inl r) : fo_ev P n (f + 1) c = some r := by
  show (if n ≤ c.1 then _ else _) = _
  rw [if_neg (by omega), e]; rfl
theorem fo_evR (h : c.1 < n) (e : fo_sp (P c.1) c = .inr c') : fo_ev P n (f + 1) c = fo_ev P n f c' := by
  show (if n ≤ c.1 then _ else _) = _
  rw [if_neg (by omega), e]; rfl
end
theorem fo_ev_up {P : Nat → fo_I} {n : Nat} {r : fo_R} : ∀ f c, fo_ev P n f c = some r → ∀ f', f ≤ f' → fo_ev P n f' c = some r := by
  intro f
  induction f with
  | zero => intro c h; exact absurd h (by show ¬ (none = some r); intro z; cases z)
  | succ f ih =>
    intro c h f' hf
    obtain ⟨g, rfl⟩ : ∃ g, f' = g + 1 := ⟨f' - 1, by omega⟩
    by_cases hn : n ≤ c.1
    · rw [fo_evE hn] at h ⊢; exact h
    · have h' : c.1 < n := by omega
      cases e : fo_sp (P c.1) c with
      | inl q => rw [fo_evL h' e] at h ⊢; exact h
      | inr c' => rw [fo_evR h' e] at h ⊢; exact ih c' h g (by omega)
theorem fo_ev_det {P : Nat → fo_I} {n f f' : Nat} {c : fo_C} {r r' : fo_R} (h : fo_ev P n f c = some r) (h' : fo_ev P n f' c = some r') : r = r' := by
  have a := fo_ev_up f c h (f + f') (by omega)
  have b := fo_ev_up f' c h' (f + f') (by omega)
  exact Option.some.inj (a.symm.trans b)
/-- facts at each place: where they hold the two programs take the same step -/
theorem fo_facts {P P' : Nat → fo_I} {n : Nat} (F : Nat → (Nat → Int32) → Prop)
    (hs : ∀ c c' : fo_C, c.1 < n → F c.1 c.2.1 → fo_sp (P c.1) c = .inr c' → c'.1 < n → F c'.1 c'.2.1)
    (he : ∀ c : fo_C, c.1 < n → F c.1 c.2.1 → fo_sp (P' c.1) c = fo_sp (P c.1) c) :
    ∀ f c, (c.1 < n → F c.1 c.2.1) → fo_ev P' n f c = fo_ev P n f c := by
  intro f
  induction f with
  | zero => intro c _; rfl
  | succ f ih =>
    intro c hc
    by_cases h : n ≤ c.1
    · rw [fo_evE h, fo_evE h]
    · have h' : c.1 < n := by omega
      have e := he c h' (hc h')
      cases hsp : fo_sp (P c.1) c with
      | inl r => rw [fo_evL h' hsp, fo_evL h' (e.trans hsp)]
      | inr c' => rw [fo_evR h' hsp, fo_evR h' (e.trans hsp)]; exact ih c' (fun hh => hs c c' h' (hc h') hsp hh)
/-- a step on the place and the numbers -/
def fo_tr (x : fo_I) (i : Nat) (num : Nat → Int32) (i' : Nat) (num' : Nat → Int32) : Prop :=
  (x.1 = 0 ∧ i' = i + 1 ∧ num' = upd num x.2.1.toNatClampNeg x.2.2.1) ∨
  (x.1 = 1 ∧ i' = i + 1 ∧ num' = upd num x.2.1.toNatClampNeg (num x.2.2.1.toNatClampNeg)) ∨
  (fo_sm x.1 ∧ i' = i + 1 ∧ num' = upd num x.2.1.toNatClampNeg (fo_wk x.1 (num x.2.2.1.toNatClampNeg) (num x.2.2.2.1.toNatClampNeg))) ∨
  (x.1 = 8 ∧ i' = x.2.2.2.2.1.toNatClampNeg ∧ num' = num) ∨
  (x.1 = 9 ∧ num x.2.2.1.toNatClampNeg ≠ 0 ∧ i' = x.2.2.2.2.1.toNatClampNeg ∧ num' = num) ∨
  (x.1 = 9 ∧ num x.2.2.1.toNatClampNeg = 0 ∧ i' = i + 1 ∧ num' = num) ∨
  ((x.1 = 10 ∨ x.1 = 12) ∧ i' = i + 1 ∧ num' = num)
theorem fo_gt_tr {x : fo_I} {c c' : fo_C} (h : fo_gt x c = .inr c') : c'.1 = x.2.2.2.2.1.toNatClampNeg ∧ c'.2.1 = c.2.1 := by
  unfold fo_gt at h
  by_cases h1 : x.2.2.2.2.2 = 0
  · rw [if_pos h1] at h; cases h; exact ⟨rfl, rfl⟩
  · rw [if_neg h1] at h
    by_cases h2 : c.2.2.2.2 = 40
    · rw [if_pos h2] at h; cases h
    · rw [if_neg h2] at h; cases h; exact ⟨rfl, rfl⟩
theorem fo_sp_tr {x : fo_I} {c c' : fo_C} (hx : vp_in x.1 13) (h : fo_sp x c = .inr c') : fo_tr x c.1 c.2.1 c'.1 c'.2.1 := by
  unfold fo_tr
  rcases fo_ops hx with e | e | e | e | e | e | e | e
  · rw [fo_sp0 e] at h; cases h; exact Or.inl ⟨e, rfl, rfl⟩
  · rw [fo_sp1 e] at h; cases h; exact Or.inr (Or.inl ⟨e, rfl, rfl⟩)
  · rw [fo_spS e] at h; cases h; exact Or.inr (Or.inr (Or.inl ⟨e, rfl, rfl⟩))
  · rw [fo_sp8 e] at h; exact Or.inr (Or.inr (Or.inr (Or.inl ⟨e, (fo_gt_tr h).1, (fo_gt_tr h).2⟩)))
  · rw [fo_sp9 e] at h
    by_cases z : c.2.1 x.2.2.1.toNatClampNeg = 0
    · rw [if_pos z] at h; cases h; exact Or.inr (Or.inr (Or.inr (Or.inr (Or.inr (Or.inl ⟨e, z, rfl, rfl⟩)))))
    · rw [if_neg z] at h; exact Or.inr (Or.inr (Or.inr (Or.inr (Or.inl ⟨e, z, (fo_gt_tr h).1, (fo_gt_tr h).2⟩))))
  · rw [fo_sp10 e] at h
    by_cases z : c.2.2.1 = 24
    · rw [if_pos z] at h; cases h
    · rw [if_neg z] at h; cases h; exact Or.inr (Or.inr (Or.inr (Or.inr (Or.inr (Or.inr ⟨Or.inl e, rfl, rfl⟩)))))
  · rw [fo_sp11 e] at h; cases h
  · rw [fo_sp12 e] at h; cases h; exact Or.inr (Or.inr (Or.inr (Or.inr (Or.inr (Or.inr ⟨Or.inr e, rfl, rfl⟩)))))
/-- a good instruction at place i -/
def fo_ok (i : Nat) (x : fo_I) : Prop :=
  vp_in x.1 13 ∧ vp_in x.2.1 8 ∧ (x.1 ≠ 0 → vp_in x.2.2.1 8) ∧ vp_in x.2.2.2.1 8 ∧ vp_in x.2.2.2.2.1 21 ∧ (x.2.2.2.2.2 = 0 ∨ x.2.2.2.2.2 = 1) ∧ (x.2.2.2.2.2 = 0 → i < x.2.2.2.2.1.toNatClampNeg)
def fo_wf (P : Nat → fo_I) (n : Nat) : Prop := n ≤ 20 ∧ ∀ i, i < n → fo_ok i (P i)
/-- what the one gives the other gives -/
def fo_Q (P : Nat → fo_I) (n : Nat) (P' : Nat → fo_I) (n' : Nat) : Prop :=
  ∀ num out r f, fo_ev P n f (0, num, 0, out, 0) = some r → ∃ f', fo_ev P' n' f' (0, num, 0, out, 0) = some r
theorem fo_Q_rf {P : Nat → fo_I} {n : Nat} : fo_Q P n P n := fun _ _ _ f h => ⟨f, h⟩
theorem fo_Q_tr {P P' P'' : Nat → fo_I} {n n' n'' : Nat} (h : fo_Q P n P' n') (h' : fo_Q P' n' P'' n'') : fo_Q P n P'' n'' := fun num out r f e => by
  obtain ⟨f', e'⟩ := h num out r f e
  exact h' num out r f' e'
/-- equal below n: equal runs -/
theorem fo_ev_eq {P P' : Nat → fo_I} {n : Nat} (h : ∀ i, i < n → P' i = P i) (f : Nat) (c : fo_C) : fo_ev P' n f c = fo_ev P n f c :=
  fo_facts (fun _ _ => True) (fun _ _ _ _ _ _ => trivial) (fun c hc _ => by rw [h c.1 hc]) f c (fun _ => trivial)
/-- a program runs at most 41 * 21 steps -/
theorem fo_end {P : Nat → fo_I} {n : Nat} (h : fo_wf P n) (hg : ∀ i, i < n → (P i).2.2.2.2.1.toNatClampNeg ≤ 20) : ∀ f (c : fo_C), c.2.2.2.2 ≤ 40 → c.1 ≤ 20 → (40 - c.2.2.2.2) * 21 + (20 - c.1) < f → ∃ r, fo_ev P n f c = some r := by
  intro f
  induction f with
  | zero => intro c _ _ hf; omega
  | succ f ih =>
    intro c hb hp hf
    by_cases hn : n ≤ c.1
    · exact ⟨_, fo_evE hn⟩
    · have hn' : c.1 < n := by omega
      have h20 := h.1
      have ok := h.2 c.1 hn'
      have gt : ∀ z, fo_gt (P c.1) c = z → fo_sp (P c.1) c = z → ∃ r, fo_ev P n (f + 1) c = some r := by
        intro z e1 e2
        unfold fo_gt at e1
        by_cases h1 : (P c.1).2.2.2.2.2 = 0
        · rw [if_pos h1] at e1; subst e1
          rw [fo_evR hn' e2]
          have := ok.2.2.2.2.2.2 h1
          have := hg c.1 hn'
          exact ih _ hb (by dsimp only; omega) (by dsimp only; omega)
        · rw [if_neg h1] at e1
          by_cases h2 : c.2.2.2.2 = 40
          · rw [if_pos h2] at e1; subst e1; exact ⟨_, fo_evL hn' e2⟩
          · rw [if_neg h2] at e1; subst e1
            rw [fo_evR hn' e2]
            have := hg c.1 hn'
            exact ih _ (by dsimp only; omega) (by dsimp only; omega) (by dsimp only; omega)
      have nx : ∀ num, fo_sp (P c.1) c = fo_nx c num → ∃ r, fo_ev P n (f + 1) c = some r := by
        intro num e
        rw [fo_evR hn' e]
        exact ih _ hb (by dsimp only; omega) (by dsimp only; omega)
      rcases fo_ops ok.1 with e | e | e | e | e | e | e | e
      · exact nx _ (fo_sp0 e)
      · exact nx _ (fo_sp1 e)
      · exact nx _ (fo_spS e)
      · exact gt _ rfl (fo_sp8 e)
      · by_cases z : c.2.1 (P c.1).2.2.1.toNatClampNeg = 0
        · exact nx _ ((fo_sp9 e).trans (if_pos z))
        · exact gt _ rfl ((fo_sp9 e).trans (if_neg z))
      · by_cases z : c.2.2.1 = 24
        · exact ⟨_, fo_evL hn' ((fo_sp10 e).trans (if_pos z))⟩
        · rw [fo_evR hn' ((fo_sp10 e).trans (if_neg z))]
          exact ih _ hb (by dsimp only; omega) (by dsimp only; omega)
      · exact ⟨_, fo_evL hn' (fo_sp11 e)⟩
      · exact nx _ (fo_sp12 e)
end
section
/-! rounds of passes: a view that evolves by itself and a measure of it -/
section
variable {A V : Type}
def fo_it (pass : Nat → A → A) : Nat → A → A
  | 0 => fun a => a
  | i + 1 => fun a => pass i (fo_it pass i a)
def fo_rs (pass : Nat → A → A) (n : Nat) : Nat → A → A
  | 0 => fun a => a
  | r + 1 => fun a => fo_it pass n (fo_rs pass n r a)
variable {pass : Nat → A → A} {n : Nat} {Inv : A → Prop}
theorem fo_it_inv (hI : ∀ i a, i < n → Inv a → Inv (pass i a)) {a : A} (h : Inv a) : ∀ i, i ≤ n → Inv (fo_it pass i a) := by
  intro i
  induction i with
  | zero => intro _; exact h
  | succ i ih => intro hi; exact hI i _ (by omega) (ih (by omega))
theorem fo_rs_inv (hI : ∀ i a, i < n → Inv a → Inv (pass i a)) {a : A} (h : Inv a) : ∀ r, Inv (fo_rs pass n r a) := by
  intro r
  induction r with
  | zero => exact h
  | succ r ih => exact fo_it_inv hI ih n (Nat.le_refl n)
theorem fo_it_fix {a : A} {i : Nat} (h : ∀ j, j < i → pass j a = a) : fo_it pass i a = a := by
  induction i with
  | zero => rfl
  | succ i ih =>
    show pass i (fo_it pass i a) = a
    rw [ih (fun j hj => h j (by omega))]
    exact h i (by omega)
variable {v : A → V} {m : V → Nat}
theorem fo_it_dec (hI : ∀ i a, i < n → Inv a → Inv (pass i a)) (hau : ∀ i a b, i < n → Inv a → Inv b → v a = v b → v (pass i a) = v (pass i b)) (hd : ∀ i a, i < n → Inv a → v (pass i a) = v a ∨ m (v (pass i a)) < m (v a)) {a : A} (h : Inv a) :
    ∀ i, i ≤ n → (v (fo_it pass i a) = v a ∧ ∀ j, j < i → v (pass j a) = v a) ∨ m (v (fo_it pass i a)) < m (v a) := by
  intro i
  induction i with
  | zero => intro _; exact Or.inl ⟨rfl, fun j hj => by omega⟩
  | succ i ih =>
    intro hi
    have hJ := fo_it_inv hI h i (by omega)
    have K := hd i (fo_it pass i a) (by omega) hJ
    show (v (pass i (fo_it pass i a)) = v a ∧ _) ∨ m (v (pass i (fo_it pass i a))) < m (v a)
    rcases ih (by omega) with ⟨e, w⟩ | e
    · rcases K with k | k
      · refine Or.inl ⟨k.trans e, fun j hj => ?_⟩
        by_cases z : j = i
        · subst z; exact ((hau j _ _ (by omega) h hJ e.symm).trans k).trans e
        · exact w j (by omega)
      · rw [e] at k; exact Or.inr k
    · rcases K with k | k
      · rw [k]; exact Or.inr e
      · exact Or.inr (Nat.lt_trans k e)
theorem fo_fix (hI : ∀ i a, i < n → Inv a → Inv (pass i a)) (hau : ∀ i a b, i < n → Inv a → Inv b → v a = v b → v (pass i a) = v (pass i b)) (hd : ∀ i a, i < n → Inv a → v (pass i a) = v a ∨ m (v (pass i a)) < m (v a)) {a : A} (h : Inv a) :
    ∀ r, (∀ j, j < n → v (pass j (fo_rs pass n r a)) = v (fo_rs pass n r a)) ∨ m (v (fo_rs pass n r a)) + r ≤ m (v a) := by
  intro r
  induction r with
  | zero => exact Or.inr (Nat.le_refl _)
  | succ r ih =>
    have hJ := fo_rs_inv hI h r
    have K := fo_it_dec hI hau hd hJ n (Nat.le_refl n)
    have hJ' : Inv (fo_it pass n (fo_rs pass n r a)) := fo_it_inv hI hJ n (Nat.le_refl n)
    show (∀ j, j < n → v (pass j (fo_it pass n (fo_rs pass n r a))) = v (fo_it pass n (fo_rs pass n r a))) ∨ m (v (fo_it pass n (fo_rs pass n r a))) + (r + 1) ≤ m (v a)
    rcases K with ⟨e, w⟩ | k
    · exact Or.inl (fun j hj => ((hau j _ _ hj hJ' hJ e).trans (w j hj)).trans e.symm)
    · rcases ih with s | s
      · have e : v (fo_it pass n (fo_rs pass n r a)) = v (fo_rs pass n r a) := by
          have : ∀ i, i ≤ n → v (fo_it pass i (fo_rs pass n r a)) = v (fo_rs pass n r a) := by
            intro i
            induction i with
            | zero => intro _; rfl
            | succ i ih =>
              intro hi
              show v (pass i (fo_it pass i (fo_rs pass n r a))) = _
              rw [hau i _ _ (by omega) (fo_it_inv hI hJ i (by omega)) hJ (ih (by omega))]
              exact s i (by omega)
          exact this n (Nat.le_refl n)
        rw [e] at k; omega
      · exact Or.inr (by omega)
/-- with r beyond the measure, all passes keep the view -/
theorem fo_fixr (hI : ∀ i a, i < n → Inv a → Inv (pass i a)) (hau : ∀ i a b, i < n → Inv a → Inv b → v a = v b → v (pass i a) = v (pass i b)) (hd : ∀ i a, i < n → Inv a → v (pass i a) = v a ∨ m (v (pass i a)) < m (v a)) {a : A} (h : Inv a)
    {r : Nat} (hr : m (v a) < r) : ∀ j, j < n → v (pass j (fo_rs pass n r a)) = v (fo_rs pass n r a) := by
  rcases fo_fix hI hau hd h r with k | k
  · exact k
  · omega
end
/-! sums -/
def fo_sg (f : Nat → Nat) : Nat → Nat
  | 0 => 0
  | n + 1 => fo_sg f n + f n
theorem fo_sg_le {f g : Nat → Nat} : ∀ n, (∀ j, j < n → f j ≤ g j) → fo_sg f n ≤ fo_sg g n := by
  intro n
  induction n with
  | zero => intro _; exact Nat.le_refl _
  | succ n ih =>
    intro h
    have a := ih (fun j hj => h j (by omega))
    have b := h n (by omega)
    show fo_sg f n + f n ≤ fo_sg g n + g n
    omega
theorem fo_sg_lt {f g : Nat → Nat} : ∀ n, (∀ j, j < n → f j ≤ g j) → ∀ k, k < n → f k < g k → fo_sg f n < fo_sg g n := by
  intro n
  induction n with
  | zero => intro _ k hk; omega
  | succ n ih =>
    intro h k hk hlt
    show fo_sg f n + f n < fo_sg g n + g n
    have b := h n (by omega)
    by_cases e : k = n
    · subst e
      have a := fo_sg_le k (fun j hj => h j (by omega))
      omega
    · have a := ih (fun j hj => h j (by omega)) k (by omega) hlt
      omega
theorem fo_sg_b {f : Nat → Nat} {b : Nat} : ∀ n, (∀ j, j < n → f j ≤ b) → fo_sg f n ≤ n * b := by
  intro n
  induction n with
  | zero => intro _; exact Nat.zero_le _
  | succ n ih =>
    intro h
    have a := ih (fun j hj => h j (by omega))
    have c := h n (by omega)
    show fo_sg f n + f n ≤ (n + 1) * b
    rw [Nat.succ_mul]
    omega
/-! rows of eight cells, reached or not -/
def fo_c8 (al : Nat → Int32 → Bool) (kn : Nat → Int32) (j : Nat) : Nat := fo_sg (fun m => if al m (kn (8 * j + m)) = true then 1 else 0) 8
def fo_mu (al : Nat → Int32 → Bool) (n : Nat) (re kn : Nat → Int32) : Nat := fo_sg (fun j => if re j = 0 then 9 else fo_c8 al kn j) n
theorem fo_c8_le (al : Nat → Int32 → Bool) (kn : Nat → Int32) (j : Nat) : fo_c8 al kn j ≤ 8 := by
  have := fo_sg_b (f := fun m => if al m (kn (8 * j + m)) = true then 1 else 0) (b := 1) 8 (fun m _ => by (try dsimp only); split <;> omega)
  unfold fo_c8
  omega
theorem fo_mu_le (al : Nat → Int32 → Bool) {n : Nat} (re kn : Nat → Int32) (hn : n ≤ 20) : fo_mu al n re kn ≤ 180 := by
  have := fo_sg_b (f := fun j => if re j = 0 then 9 else fo_c8 al kn j) (b := 9) n (fun j _ => by
    have := fo_c8_le al kn j
    (try dsimp only); split <;> omega)
  unfold fo_mu
  omega
theorem fo_c8_eq {al : Nat → Int32 → Bool} {kn kn' : Nat → Int32} {j : Nat} (h : ∀ m, m < 8 → kn' (8 * j + m) = kn (8 * j + m)) : fo_c8 al kn' j = fo_c8 al kn j := by
  apply Nat.le_antisymm
  · exact fo_sg_le 8 (fun m hm => by (try dsimp only); rw [h m hm]; exact Nat.le_refl _)
  · exact fo_sg_le 8 (fun m hm => by (try dsimp only); rw [h m hm]; exact Nat.le_refl _)
theorem fo_dec8 {al : Nat → Int32 → Bool} {n to : Nat} {re kn kn' : Nat → Int32} (ht : to < n) (h1 : re to = 0 ∨ re to = 1)
    (ho : ∀ j m, j ≠ to → m < 8 → kn' (8 * j + m) = kn (8 * j + m))
    (hr : re to = 1 → ∀ m, m < 8 → kn' (8 * to + m) = kn (8 * to + m) ∨ (al m (kn (8 * to + m)) = true ∧ al m (kn' (8 * to + m)) = false)) :
    (re to = 1 ∧ ∀ m, m < 8 → kn' (8 * to + m) = kn (8 * to + m)) ∨ fo_mu al n (upd re to 1) kn' < fo_mu al n re kn := by
  have n10 : ¬ (1 : Int32) = 0 := by decide
  have hot : ∀ j, j ≠ to → (if upd re to 1 j = 0 then 9 else fo_c8 al kn' j) = (if re j = 0 then 9 else fo_c8 al kn j) := by
    intro j hj
    rw [pk_un hj, fo_c8_eq (fun m hm => ho j m hj hm)]
  rcases h1 with z | z
  · refine Or.inr (fo_sg_lt n (fun j hj => ?_) to ht ?_)
    · try dsimp only
      by_cases e : j = to
      · subst e
        rw [pk_us, if_neg n10, if_pos z]
        have := fo_c8_le al kn' j
        omega
      · rw [hot j e]; exact Nat.le_refl _
    · try dsimp only
      rw [pk_us, if_neg n10, if_pos z]
      have := fo_c8_le al kn' to
      omega
  · have hz : ¬ re to = 0 := by rw [z]; decide
    by_cases q : ∀ m, m < 8 → kn' (8 * to + m) = kn (8 * to + m)
    · exact Or.inl ⟨z, q⟩
    · have q' : ∃ m, m < 8 ∧ kn' (8 * to + m) ≠ kn (8 * to + m) := by
        apply Classical.byContradiction
        intro w
        exact q (fun m hm => Classical.byContradiction (fun y => w ⟨m, hm, y⟩))
      obtain ⟨m0, hm0, hne⟩ := q'
      have lt : fo_c8 al kn' to < fo_c8 al kn to := by
        refine fo_sg_lt 8 (fun m hm => ?_) m0 hm0 ?_
        · try dsimp only
          rcases hr z m hm with e | ⟨e1, e2⟩
          · rw [e]; exact Nat.le_refl _
          · rw [if_pos e1, e2]; decide
        · try dsimp only
          rcases hr z m0 hm0 with e | ⟨e1, e2⟩
          · exact absurd e hne
          · rw [if_pos e1, e2]; decide
      refine Or.inr (fo_sg_lt n (fun j hj => ?_) to ht ?_)
      · try dsimp only
        by_cases e : j = to
        · subst e
          rw [pk_us, if_neg n10, if_neg hz]
          omega
        · rw [hot j e]; exact Nat.le_refl _
      · try dsimp only
        rw [pk_us, if_neg n10, if_neg hz]
        exact lt
end
section
/-! the first pass: known values -/
def fo_nb (x : Int32) : Int32 := vp_nar .boolean x
theorem fo_nb0 : fo_nb 0 = 0 := rfl
theorem fo_nb1 : fo_nb 1 = 1 := rfl
theorem fo_nb_ne {x : Int32} (h : fo_nb x ≠ 0) : x ≠ 0 := fun e => h (by rw [e]; exact fo_nb0)
theorem fo_u_id {f : Nat → Int32} {k : Nat} {v : Int32} (h : v = f k) : upd f k v = f := by
  funext j
  by_cases e : j = k
  · subst e; rw [pk_us, h]
  · rw [pk_un e]
theorem fo_cl_inj {x y : Int32} {b : Nat} (hb : b < 2 ^ 31) (hx : vp_in x b) (hy : vp_in y b) (h : x.toNatClampNeg = y.toNatClampNeg) : x = y := by
  obtain ⟨i, hi, rfl⟩ := vp_in_of hx hb
  obtain ⟨j, hj, rfl⟩ := vp_in_of hy hb
  rw [nI_clamp (by omega), nI_clamp (by omega)] at h
  rw [h]
theorem fo_cl_lt {x : Int32} {b : Nat} (hx : vp_in x b) (hb : b < 2 ^ 31) : x.toNatClampNeg < b := by
  obtain ⟨i, hi, rfl⟩ := vp_in_of hx hb
  rw [nI_clamp (by omega)]; exact hi
abbrev fo_K : Type := (Nat → Int32) × (Nat → Int32) × (Nat → Int32)
abbrev fo_T : Type := Int32 × Int32 × Int32
/-- an instruction with another operation and other sources -/
def fo_rp (x : fo_I) (t : fo_T) : fo_I := (t.1, x.2.1, t.2.1, t.2.2, x.2.2.2.2.1, x.2.2.2.2.2)
def fo_xt (x : fo_I) : fo_T := (x.1, x.2.2.1, x.2.2.2.1)
theorem fo_rp_xt (x : fo_I) : fo_rp x (fo_xt x) = x := rfl
def fo_lK (kn : Nat → Int32) (i : Nat) : Nat → Int32 := fun m => fo_nb (kn (8 * i + m))
def fo_lV (va : Nat → Int32) (i : Nat) : Nat → Int32 := fun m => va (8 * i + m)
def fo_wK (x : fo_I) (K : Nat → Int32) : Nat → Int32 :=
  if x.1 = 0 then upd K x.2.1.toNatClampNeg 1
  else if x.1 = 1 then upd K x.2.1.toNatClampNeg (fo_nb (K x.2.2.1.toNatClampNeg))
  else if x.1 < 2 then K else if 7 < x.1 then K
  else upd K x.2.1.toNatClampNeg (if K x.2.2.1.toNatClampNeg = 0 then 0 else if K x.2.2.2.1.toNatClampNeg = 0 then 0 else 1)
def fo_wV (x : fo_I) (V : Nat → Int32) : Nat → Int32 :=
  if x.1 = 0 then upd V x.2.1.toNatClampNeg x.2.2.1
  else if x.1 = 1 then upd V x.2.1.toNatClampNeg (V x.2.2.1.toNatClampNeg)
  else if x.1 < 2 then V else if 7 < x.1 then V
  else upd V x.2.1.toNatClampNeg (fo_wk x.1 (V x.2.2.1.toNatClampNeg) (V x.2.2.2.1.toNatClampNeg))
/-- the row of place t merged, its first m cells -/
def fo_mK (t m : Nat) (re kn va K V : Nat → Int32) : Nat → Int32 := fun j =>
  if 8 * t ≤ j ∧ j < 8 * t + m then
    (if re t = 0 then fo_nb (K (j - 8 * t)) else if kn j = 0 then kn j else if K (j - 8 * t) = 0 then 0 else if V (j - 8 * t) = va j then kn j else 0)
  else kn j
def fo_mV (t m : Nat) (re va V : Nat → Int32) : Nat → Int32 := fun j =>
  if 8 * t ≤ j ∧ j < 8 * t + m then (if re t = 0 then V (j - 8 * t) else va j) else va j
def fo_gK (n t : Nat) (K V : Nat → Int32) (a : fo_K) : fo_K :=
  if n ≤ t then a else (upd a.1 t 1, fo_mK t 8 a.1 a.2.1 a.2.2 K V, fo_mV t 8 a.1 a.2.2 V)
def fo_pK (P : Nat → fo_I) (n i : Nat) (a : fo_K) : fo_K :=
  if a.1 i = 0 then a
  else if (P i).1 = 8 then fo_gK n (P i).2.2.2.2.1.toNatClampNeg (fo_wK (P i) (fo_lK a.2.1 i)) (fo_wV (P i) (fo_lV a.2.2 i)) a
  else if (P i).1 = 9 then
    (if fo_wK (P i) (fo_lK a.2.1 i) (P i).2.2.1.toNatClampNeg = 0 then fo_gK n (i + 1) (fo_wK (P i) (fo_lK a.2.1 i)) (fo_wV (P i) (fo_lV a.2.2 i)) (fo_gK n (P i).2.2.2.2.1.toNatClampNeg (fo_wK (P i) (fo_lK a.2.1 i)) (fo_wV (P i) (fo_lV a.2.2 i)) a)
     else if fo_wV (P i) (fo_lV a.2.2 i) (P i).2.2.1.toNatClampNeg = 0 then fo_gK n (i + 1) (fo_wK (P i) (fo_lK a.2.1 i)) (fo_wV (P i) (fo_lV a.2.2 i)) a
     else fo_gK n (P i).2.2.2.2.1.toNatClampNeg (fo_wK (P i) (fo_lK a.2.1 i)) (fo_wV (P i) (fo_lV a.2.2 i)) a)
  else if (P i).1 = 11 then a
  else fo_gK n (i + 1) (fo_wK (P i) (fo_lK a.2.1 i)) (fo_wV (P i) (fo_lV a.2.2 i)) a
def fo_aK : Nat → Int32 → Bool := fun _ x => !decide (x = 0)
def fo_JK (n : Nat) (a : fo_K) : Prop := (∀ j, j < n → a.1 j = 0 ∨ a.1 j = 1) ∧ (0 < n → a.1 0 = 1) ∧ ∀ m, m < 8 → a.2.1 m = 0
theorem fo_mK_o {t m j : Nat} {re kn va K V : Nat → Int32} (h : ¬ (8 * t ≤ j ∧ j < 8 * t + m)) : fo_mK t m re kn va K V j = kn j := if_neg h
theorem fo_mK_i {t m k : Nat} {re kn va K V : Nat → Int32} (h : k < m) : fo_mK t m re kn va K V (8 * t + k) = (if re t = 0 then fo_nb (K k) else if kn (8 * t + k) = 0 then kn (8 * t + k) else if K k = 0 then 0 else if V k = va (8 * t + k) then kn (8 * t + k) else 0) := by
  unfold fo_mK
  rw [if_pos (by omega), Nat.add_sub_cancel_left]
theorem fo_mV_i {t m k : Nat} {re va V : Nat → Int32} (h : k < m) : fo_mV t m re va V (8 * t + k) = (if re t = 0 then V k else va (8 * t + k)) := by
  unfold fo_mV
  rw [if_pos (by omega), Nat.add_sub_cancel_left]
theorem fo_gK_dec {n t : Nat} {K V : Nat → Int32} {a : fo_K} (hI : ∀ j, j < n → a.1 j = 0 ∨ a.1 j = 1) :
    fo_gK n t K V a = a ∨ fo_mu fo_aK n (fo_gK n t K V a).1 (fo_gK n t K V a).2.1 < fo_mu fo_aK n a.1 a.2.1 := by
  by_cases ht : n ≤ t
  · unfold fo_gK; rw [if_pos ht]; exact Or.inl rfl
  · have e : fo_gK n t K V a = (upd a.1 t 1, fo_mK t 8 a.1 a.2.1 a.2.2 K V, fo_mV t 8 a.1 a.2.2 V) := if_neg ht
    have D := fo_dec8 (al := fo_aK) (n := n) (to := t) (re := a.1) (kn := a.2.1) (kn' := fo_mK t 8 a.1 a.2.1 a.2.2 K V) (by omega) (hI t (by omega)) (fun j m hj hm => fo_mK_o (by omega)) (fun hr m hm => by
      rw [fo_mK_i hm, if_neg (by rw [hr]; decide)]
      by_cases z : a.2.1 (8 * t + m) = 0
      · rw [if_pos z]; exact Or.inl rfl
      · rw [if_neg z]
        have z1 : fo_aK m (a.2.1 (8 * t + m)) = true := by unfold fo_aK; rw [decide_eq_false z]; rfl
        by_cases y : K m = 0
        · rw [if_pos y]; exact Or.inr ⟨z1, rfl⟩
        · rw [if_neg y]
          by_cases w : V m = a.2.2 (8 * t + m)
          · rw [if_pos w]; exact Or.inl rfl
          · rw [if_neg w]; exact Or.inr ⟨z1, rfl⟩)
    rcases D with ⟨d1, d2⟩ | d
    · refine Or.inl ?_
      rw [e]
      have e1 : upd a.1 t 1 = a.1 := fo_u_id d1.symm
      have e2 : fo_mK t 8 a.1 a.2.1 a.2.2 K V = a.2.1 := by
        funext j
        by_cases w : 8 * t ≤ j ∧ j < 8 * t + 8
        · have := d2 (j - 8 * t) (by omega)
          rw [show 8 * t + (j - 8 * t) = j by omega] at this
          exact this
        · exact fo_mK_o w
      have e3 : fo_mV t 8 a.1 a.2.2 V = a.2.2 := by
        funext j
        unfold fo_mV
        rw [if_neg (c := a.1 t = 0) (by rw [d1]; decide)]
        split <;> rfl
      rw [e1, e2, e3]
    · rw [e]; exact Or.inr d
theorem fo_gK_J {n t : Nat} {K V : Nat → Int32} {a : fo_K} (h : fo_JK n a) : fo_JK n (fo_gK n t K V a) := by
  unfold fo_gK
  by_cases ht : n ≤ t
  · rw [if_pos ht]; exact h
  · rw [if_neg ht]
    obtain ⟨h1, h2, h3⟩ := h
    refine ⟨fun j hj => ?_, fun hn => ?_, fun m hm => ?_⟩
    · dsimp only
      by_cases e : j = t
      · subst e; rw [pk_us]; exact Or.inr rfl
      · rw [pk_un e]; exact h1 j hj
    · dsimp only
      by_cases e : 0 = t
      · subst e; rw [pk_us]
      · rw [pk_un e]; exact h2 hn
    · dsimp only
      by_cases e : t = 0
      · subst e
        have := fo_mK_i (t := 0) (m := 8) (re := a.1) (kn := a.2.1) (va := a.2.2) (K := K) (V := V) hm
        rw [show 8 * 0 + m = m by omega] at this
        rw [this, if_neg (by rw [h2 (by omega)]; decide), if_pos (h3 m hm)]
        exact h3 m hm
      · rw [fo_mK_o (by omega)]; exact h3 m hm
theorem fo_gK_cl {n t : Nat} {K V : Nat → Int32} {a : fo_K} (h : fo_gK n t K V a = a) (ht : t < n) : a.1 t ≠ 0 ∧ ∀ m, m < 8 → a.2.1 (8 * t + m) ≠ 0 → K m ≠ 0 ∧ V m = a.2.2 (8 * t + m) := by
  unfold fo_gK at h
  rw [if_neg (by omega)] at h
  have e1 : upd a.1 t 1 = a.1 := congrArg (fun z => z.1) h
  have e2 : fo_mK t 8 a.1 a.2.1 a.2.2 K V = a.2.1 := congrArg (fun z => z.2.1) h
  have r1 : a.1 t = 1 := by rw [← e1, pk_us]
  have r0 : ¬ a.1 t = 0 := by rw [r1]; decide
  refine ⟨r0, fun m hm hk => ?_⟩
  have e3 := congrFun e2 (8 * t + m)
  rw [fo_mK_i hm, if_neg r0, if_neg hk] at e3
  by_cases y : K m = 0
  · rw [if_pos y] at e3; exact absurd e3.symm hk
  · rw [if_neg y] at e3
    by_cases w : V m = a.2.2 (8 * t + m)
    · exact ⟨y, w⟩
    · rw [if_neg w] at e3; exact absurd e3.symm hk
/-- the ways on from place i -/
def fo_eK (x : fo_I) (i : Nat) (K V : Nat → Int32) (t : Nat) : Prop :=
  (t = x.2.2.2.2.1.toNatClampNeg ∧ (x.1 = 8 ∨ (x.1 = 9 ∧ (K x.2.2.1.toNatClampNeg = 0 ∨ V x.2.2.1.toNatClampNeg ≠ 0)))) ∨
  (t = i + 1 ∧ x.1 ≠ 8 ∧ x.1 ≠ 11 ∧ (x.1 = 9 → K x.2.2.1.toNatClampNeg = 0 ∨ V x.2.2.1.toNatClampNeg = 0))
theorem fo_pK_dec {P : Nat → fo_I} {n i : Nat} {a : fo_K} (h : fo_JK n a) :
    (fo_pK P n i a = a ∧ (a.1 i ≠ 0 → ∀ t, fo_eK (P i) i (fo_wK (P i) (fo_lK a.2.1 i)) (fo_wV (P i) (fo_lV a.2.2 i)) t → fo_gK n t (fo_wK (P i) (fo_lK a.2.1 i)) (fo_wV (P i) (fo_lV a.2.2 i)) a = a)) ∨
    fo_mu fo_aK n (fo_pK P n i a).1 (fo_pK P n i a).2.1 < fo_mu fo_aK n a.1 a.2.1 := by
  unfold fo_pK
  by_cases hr : a.1 i = 0
  · rw [if_pos hr]; exact Or.inl ⟨rfl, fun z => absurd hr z⟩
  · rw [if_neg hr]
    generalize fo_wK (P i) (fo_lK a.2.1 i) = K
    generalize fo_wV (P i) (fo_lV a.2.2 i) = V
    unfold fo_eK
    by_cases e8 : (P i).1 = 8
    · rw [if_pos e8]
      rcases fo_gK_dec (t := (P i).2.2.2.2.1.toNatClampNeg) (K := K) (V := V) h.1 with d | d
      · refine Or.inl ⟨d, fun _ t ht => ?_⟩
        rcases ht with ⟨rfl, _⟩ | ⟨_, ht, _⟩
        · exact d
        · exact absurd e8 ht
      · exact Or.inr d
    · rw [if_neg e8]
      by_cases e9 : (P i).1 = 9
      · rw [if_pos e9]
        by_cases k : K (P i).2.2.1.toNatClampNeg = 0
        · rw [if_pos k]
          have D1 := fo_gK_dec (t := (P i).2.2.2.2.1.toNatClampNeg) (K := K) (V := V) h.1
          have D2 := fo_gK_dec (t := i + 1) (K := K) (V := V) (fo_gK_J (t := (P i).2.2.2.2.1.toNatClampNeg) (K := K) (V := V) h).1
          rcases D1 with d | d
          · rw [d] at D2 ⊢
            rcases D2 with d' | d'
            · refine Or.inl ⟨d', fun _ t ht => ?_⟩
              rcases ht with ⟨rfl, _⟩ | ⟨rfl, _⟩
              · exact d
              · exact d'
            · exact Or.inr d'
          · rcases D2 with d' | d'
            · rw [d']; exact Or.inr d
            · exact Or.inr (Nat.lt_trans d' d)
        · rw [if_neg k]
          by_cases w : V (P i).2.2.1.toNatClampNeg = 0
          · rw [if_pos w]
            rcases fo_gK_dec (t := i + 1) (K := K) (V := V) h.1 with d | d
            · refine Or.inl ⟨d, fun _ t ht => ?_⟩
              rcases ht with ⟨_, ht | ⟨_, ht | ht⟩⟩ | ⟨rfl, _⟩
              · exact absurd ht e8
              · exact absurd ht k
              · exact absurd w ht
              · exact d
            · exact Or.inr d
          · rw [if_neg w]
            rcases fo_gK_dec (t := (P i).2.2.2.2.1.toNatClampNeg) (K := K) (V := V) h.1 with d | d
            · refine Or.inl ⟨d, fun _ t ht => ?_⟩
              rcases ht with ⟨rfl, _⟩ | ⟨_, _, _, ht⟩
              · exact d
              · rcases ht e9 with z | z
                · exact absurd z k
                · exact absurd z w
            · exact Or.inr d
      · rw [if_neg e9]
        by_cases e11 : (P i).1 = 11
        · rw [if_pos e11]
          refine Or.inl ⟨rfl, fun _ t ht => ?_⟩
          rcases ht with ⟨_, ht | ⟨ht, _⟩⟩ | ⟨_, _, ht, _⟩
          · exact absurd ht e8
          · exact absurd ht e9
          · exact absurd e11 ht
        · rw [if_neg e11]
          rcases fo_gK_dec (t := i + 1) (K := K) (V := V) h.1 with d | d
          · refine Or.inl ⟨d, fun _ t ht => ?_⟩
            rcases ht with ⟨_, ht | ⟨ht, _⟩⟩ | ⟨rfl, _⟩
            · exact absurd ht e8
            · exact absurd ht e9
            · exact d
          · exact Or.inr d
theorem fo_pK_J {P : Nat → fo_I} {n i : Nat} {a : fo_K} (h : fo_JK n a) : fo_JK n (fo_pK P n i a) := by
  unfold fo_pK
  split
  · exact h
  · split
    · exact fo_gK_J h
    · split
      · split
        · exact fo_gK_J (fo_gK_J h)
        · split
          · exact fo_gK_J h
          · exact fo_gK_J h
      · split
        · exact h
        · exact fo_gK_J h
/-- 200 rounds are enough -/
theorem fo_K200 {P : Nat → fo_I} {n : Nat} {a : fo_K} (hn : n ≤ 20) (h : fo_JK n a) : ∀ j, j < n → fo_pK P n j (fo_rs (fo_pK P n) n 200 a) = fo_rs (fo_pK P n) n 200 a :=
  fo_fixr (v := fun a => a) (m := fun a : fo_K => fo_mu fo_aK n a.1 a.2.1) (Inv := fo_JK n) (fun _ _ _ w => fo_pK_J w) (fun i x y _ _ _ w => congrArg (fo_pK P n i) w)
    (fun i x _ w => (fo_pK_dec (P := P) (i := i) w).elim (fun z => Or.inl z.1) (fun z => Or.inr z)) h (Nat.lt_of_le_of_lt (fo_mu_le fo_aK a.1 a.2.1 hn) (by decide))
/-- what is known where place i is come to -/
def fo_FK (a : fo_K) (i : Nat) (num : Nat → Int32) : Prop := a.1 i ≠ 0 ∧ ∀ m, m < 8 → a.2.1 (8 * i + m) ≠ 0 → num m = a.2.2 (8 * i + m)
theorem fo_K_work {x : fo_I} {i i' : Nat} {num num' K V : Nat → Int32} (hx : fo_ok i x) (h : ∀ m, m < 8 → K m ≠ 0 → num m = V m) (t : fo_tr x i num i' num') :
    ∀ m, m < 8 → fo_wK x K m ≠ 0 → num' m = fo_wV x V m := by
  obtain ⟨o1, o2, o3, o4, _⟩ := hx
  unfold fo_wK fo_wV
  have keep : x.1 ≠ 0 → x.1 ≠ 1 → (x.1 < 2 ∨ 7 < x.1) → num' = num → ∀ m, m < 8 → (if x.1 = 0 then upd K x.2.1.toNatClampNeg 1
      else if x.1 = 1 then upd K x.2.1.toNatClampNeg (fo_nb (K x.2.2.1.toNatClampNeg))
      else if x.1 < 2 then K else if 7 < x.1 then K
      else upd K x.2.1.toNatClampNeg (if K x.2.2.1.toNatClampNeg = 0 then 0 else if K x.2.2.2.1.toNatClampNeg = 0 then 0 else 1)) m ≠ 0 → num' m = (if x.1 = 0 then upd V x.2.1.toNatClampNeg x.2.2.1
      else if x.1 = 1 then upd V x.2.1.toNatClampNeg (V x.2.2.1.toNatClampNeg)
      else if x.1 < 2 then V else if 7 < x.1 then V
      else upd V x.2.1.toNatClampNeg (fo_wk x.1 (V x.2.2.1.toNatClampNeg) (V x.2.2.2.1.toNatClampNeg))) m := by
    intro e0 e1 e2 en m hm
    subst en
    rw [if_neg e0, if_neg e1, if_neg e0, if_neg e1]
    rcases e2 with e2 | e2
    · rw [if_pos e2, if_pos e2]; exact h m hm
    · by_cases e3 : x.1 < 2
      · rw [if_pos e3, if_pos e3]; exact h m hm
      · rw [if_neg e3, if_neg e3, if_pos e2, if_pos e2]; exact h m hm
  rcases t with ⟨e, _, en⟩ | ⟨e, _, en⟩ | ⟨e, _, en⟩ | ⟨e, _, en⟩ | ⟨e, _, _, en⟩ | ⟨e, _, _, en⟩ | ⟨e, _, en⟩
  · intro m hm
    rw [if_pos e, if_pos e, en]
    by_cases z : m = x.2.1.toNatClampNeg
    · subst z; intro _; rw [pk_us, pk_us]
    · rw [pk_un z, pk_un z, pk_un z]; exact h m hm
  · intro m hm
    have e0 : ¬ x.1 = 0 := by rw [e]; decide
    rw [if_neg e0, if_pos e, if_neg e0, if_pos e, en]
    by_cases z : m = x.2.1.toNatClampNeg
    · subst z; rw [pk_us, pk_us, pk_us]; intro w; exact h _ (fo_cl_lt (o3 e0) (by decide)) (fo_nb_ne w)
    · rw [pk_un z, pk_un z, pk_un z]; exact h m hm
  · intro m hm
    obtain ⟨e0, e1, _⟩ := fo_sm_ne e
    rw [if_neg e0, if_neg e1, if_neg e.1, if_neg e.2, if_neg e0, if_neg e1, if_neg e.1, if_neg e.2, en]
    by_cases z : m = x.2.1.toNatClampNeg
    · subst z; rw [pk_us, pk_us, pk_us]
      intro w
      by_cases ka : K x.2.2.1.toNatClampNeg = 0
      · rw [if_pos ka] at w; exact absurd rfl w
      · rw [if_neg ka] at w
        by_cases kb : K x.2.2.2.1.toNatClampNeg = 0
        · rw [if_pos kb] at w; exact absurd rfl w
        · rw [h _ (fo_cl_lt (o3 e0) (by decide)) ka, h _ (fo_cl_lt o4 (by decide)) kb]
    · rw [pk_un z, pk_un z, pk_un z]; exact h m hm
  · exact keep (by rw [e]; decide) (by rw [e]; decide) (Or.inr (by rw [e]; decide)) en
  · exact keep (by rw [e]; decide) (by rw [e]; decide) (Or.inr (by rw [e]; decide)) en
  · exact keep (by rw [e]; decide) (by rw [e]; decide) (Or.inr (by rw [e]; decide)) en
  · rcases e with e | e
    · exact keep (by rw [e]; decide) (by rw [e]; decide) (Or.inr (by rw [e]; decide)) en
    · exact keep (by rw [e]; decide) (by rw [e]; decide) (Or.inr (by rw [e]; decide)) en
theorem fo_K_step {P : Nat → fo_I} {n : Nat} {a : fo_K} (hP : fo_wf P n) (hJ : fo_JK n a) (hf : ∀ j, j < n → fo_pK P n j a = a) :
    ∀ c c' : fo_C, c.1 < n → fo_FK a c.1 c.2.1 → fo_sp (P c.1) c = .inr c' → c'.1 < n → fo_FK a c'.1 c'.2.1 := by
  intro c c' hc hF hs hc'
  have ok := hP.2 c.1 hc
  have t := fo_sp_tr ok.1 hs
  have hK : ∀ m, m < 8 → fo_lK a.2.1 c.1 m ≠ 0 → c.2.1 m = fo_lV a.2.2 c.1 m := fun m hm w => hF.2 m hm (fo_nb_ne w)
  have W := fo_K_work ok hK t
  rcases fo_pK_dec (P := P) (i := c.1) hJ with ⟨_, D⟩ | D
  · have C : ∀ t', fo_eK (P c.1) c.1 (fo_wK (P c.1) (fo_lK a.2.1 c.1)) (fo_wV (P c.1) (fo_lV a.2.2 c.1)) t' → t' = c'.1 → fo_FK a c'.1 c'.2.1 := by
      intro t' ht e
      subst e
      obtain ⟨g1, g2⟩ := fo_gK_cl (D hF.1 _ ht) hc'
      refine ⟨g1, fun m hm hk => ?_⟩
      obtain ⟨g3, g4⟩ := g2 m hm hk
      rw [W m hm g3, g4]
    have w9 : (P c.1).1 = 9 → fo_wK (P c.1) (fo_lK a.2.1 c.1) = fo_lK a.2.1 c.1 ∧ fo_wV (P c.1) (fo_lV a.2.2 c.1) = fo_lV a.2.2 c.1 := by
      intro e
      unfold fo_wK fo_wV
      rw [if_neg (by rw [e]; decide), if_neg (by rw [e]; decide), if_neg (by rw [e]; decide), if_pos (by rw [e]; decide), if_neg (by rw [e]; decide), if_neg (by rw [e]; decide), if_neg (by rw [e]; decide), if_pos (by rw [e]; decide)]
      exact ⟨rfl, rfl⟩
    have l8 : (P c.1).1 = 9 → (P c.1).2.2.1.toNatClampNeg < 8 := fun e => fo_cl_lt (ok.2.2.1 (by rw [e]; decide)) (by decide)
    rcases t with ⟨e, ei, _⟩ | ⟨e, ei, _⟩ | ⟨e, ei, _⟩ | ⟨e, ei, _⟩ | ⟨e, ez, ei, _⟩ | ⟨e, ez, ei, _⟩ | ⟨e, ei, _⟩
    · exact C _ (Or.inr ⟨rfl, by rw [e]; decide, by rw [e]; decide, fun z => absurd z (by rw [e]; decide)⟩) ei.symm
    · exact C _ (Or.inr ⟨rfl, by rw [e]; decide, by rw [e]; decide, fun z => absurd z (by rw [e]; decide)⟩) ei.symm
    · have q := fo_sm_ne e
      exact C _ (Or.inr ⟨rfl, q.2.2.1, q.2.2.2.2.2.1, fun z => absurd z q.2.2.2.1⟩) ei.symm
    · exact C _ (Or.inl ⟨rfl, Or.inl e⟩) ei.symm
    · refine C _ (Or.inl ⟨rfl, Or.inr ⟨e, ?_⟩⟩) ei.symm
      rw [(w9 e).1, (w9 e).2]
      by_cases z : fo_lK a.2.1 c.1 (P c.1).2.2.1.toNatClampNeg = 0
      · exact Or.inl z
      · exact Or.inr (by rw [← hK _ (l8 e) z]; exact ez)
    · refine C _ (Or.inr ⟨rfl, by rw [e]; decide, by rw [e]; decide, fun _ => ?_⟩) ei.symm
      rw [(w9 e).1, (w9 e).2]
      by_cases z : fo_lK a.2.1 c.1 (P c.1).2.2.1.toNatClampNeg = 0
      · exact Or.inl z
      · exact Or.inr (by rw [← hK _ (l8 e) z]; exact ez)
    · rcases e with e | e
      · exact C _ (Or.inr ⟨rfl, by rw [e]; decide, by rw [e]; decide, fun z => absurd z (by rw [e]; decide)⟩) ei.symm
      · exact C _ (Or.inr ⟨rfl, by rw [e]; decide, by rw [e]; decide, fun z => absurd z (by rw [e]; decide)⟩) ei.symm
  · rw [hf c.1 hc] at D; omega
end
section
/-! the use of known values -/
section
variable {o a b s zA zB oA oB z : Int32} {d : fo_T}
def fo_s326 (o a s : Int32) (d : fo_T) : fo_T := if s = 0 then d else if o = 5 then (1, a, 0) else d
def fo_s304 (o a b s oA : Int32) (d : fo_T) : fo_T := if oA = 0 then fo_s326 o a s d else if o = 4 then (1, b, 0) else fo_s326 o a s d
def fo_s288 (o a b s zA oA : Int32) (d : fo_T) : fo_T := if zA = 0 then fo_s304 o a b s oA d else if o = 2 then (1, b, 0) else if o = 6 then (1, b, 0) else fo_s304 o a b s oA d
def fo_s267 (o a b s zA oA oB : Int32) (d : fo_T) : fo_T := if oB = 0 then fo_s288 o a b s zA oA d else if o = 4 then (1, a, 0) else fo_s288 o a b s zA oA d
def fo_s246 (o a b s zA zB oA oB : Int32) (d : fo_T) : fo_T := if zB = 0 then fo_s267 o a b s zA oA oB d else if o = 2 then (1, a, 0) else if o = 3 then (1, a, 0) else if o = 6 then (1, a, 0) else fo_s267 o a b s zA oA oB d
def fo_s225 (o a b s zA zB oA oB : Int32) (d : fo_T) : fo_T := if zA = 0 then (if zB = 0 then fo_s246 o a b s zA zB oA oB d else (0, 0, 0)) else (0, 0, 0)
def fo_s208 (o a b s zA zB oA oB z : Int32) (d : fo_T) : fo_T := if z = 0 then (if o = 4 then fo_s225 o a b s zA zB oA oB d else if o = 5 then fo_s225 o a b s zA zB oA oB d else fo_s246 o a b s zA zB oA oB d) else (0, 0, 0)
def fo_s179 (o a b s zA zB oA oB : Int32) (d : fo_T) : fo_T := if s = 0 then fo_s208 o a b s zA zB oA oB 0 d else if o = 3 then fo_s208 o a b s zA zB oA oB 1 d else if o = 6 then fo_s208 o a b s zA zB oA oB 1 d else if o = 7 then fo_s208 o a b s zA zB oA oB 1 d else fo_s208 o a b s zA zB oA oB 0 d
variable {G : fo_T → Prop}
theorem fo_g326 (hd : G d) (ha : s ≠ 0 → o = 5 → G (1, a, 0)) : G (fo_s326 o a s d) := by
  unfold fo_s326
  split
  · exact hd
  · rename_i h1
    split
    · rename_i h2; exact ha h1 h2
    · exact hd
theorem fo_g304 (hd : G d) (ha : s ≠ 0 → o = 5 → G (1, a, 0)) (hb : oA ≠ 0 → o = 4 → G (1, b, 0)) : G (fo_s304 o a b s oA d) := by
  unfold fo_s304
  split
  · exact fo_g326 hd ha
  · rename_i h1
    split
    · rename_i h2; exact hb h1 h2
    · exact fo_g326 hd ha
theorem fo_g288 (hd : G d) (ha : s ≠ 0 → o = 5 → G (1, a, 0)) (hb : oA ≠ 0 → o = 4 → G (1, b, 0)) (hc : zA ≠ 0 → (o = 2 ∨ o = 6) → G (1, b, 0)) : G (fo_s288 o a b s zA oA d) := by
  unfold fo_s288
  split
  · exact fo_g304 hd ha hb
  · rename_i h1
    split
    · rename_i h2; exact hc h1 (Or.inl h2)
    · split
      · rename_i h2; exact hc h1 (Or.inr h2)
      · exact fo_g304 hd ha hb
theorem fo_g267 (hd : G d) (ha : s ≠ 0 → o = 5 → G (1, a, 0)) (hb : oA ≠ 0 → o = 4 → G (1, b, 0)) (hc : zA ≠ 0 → (o = 2 ∨ o = 6) → G (1, b, 0)) (he : oB ≠ 0 → o = 4 → G (1, a, 0)) : G (fo_s267 o a b s zA oA oB d) := by
  unfold fo_s267
  split
  · exact fo_g288 hd ha hb hc
  · rename_i h1
    split
    · rename_i h2; exact he h1 h2
    · exact fo_g288 hd ha hb hc
theorem fo_g246 (hd : G d) (ha : s ≠ 0 → o = 5 → G (1, a, 0)) (hb : oA ≠ 0 → o = 4 → G (1, b, 0)) (hc : zA ≠ 0 → (o = 2 ∨ o = 6) → G (1, b, 0)) (he : oB ≠ 0 → o = 4 → G (1, a, 0)) (hf : zB ≠ 0 → (o = 2 ∨ o = 3 ∨ o = 6) → G (1, a, 0)) : G (fo_s246 o a b s zA zB oA oB d) := by
  unfold fo_s246
  split
  · exact fo_g267 hd ha hb hc he
  · rename_i h1
    split
    · rename_i h2; exact hf h1 (Or.inl h2)
    · split
      · rename_i h2; exact hf h1 (Or.inr (Or.inl h2))
      · split
        · rename_i h2; exact hf h1 (Or.inr (Or.inr h2))
        · exact fo_g267 hd ha hb hc he
theorem fo_g225 (hd : G d) (ha : s ≠ 0 → o = 5 → G (1, a, 0)) (hb : oA ≠ 0 → o = 4 → G (1, b, 0)) (hc : zA ≠ 0 → (o = 2 ∨ o = 6) → G (1, b, 0)) (he : oB ≠ 0 → o = 4 → G (1, a, 0)) (hf : zB ≠ 0 → (o = 2 ∨ o = 3 ∨ o = 6) → G (1, a, 0)) (hg : (zA ≠ 0 ∨ zB ≠ 0) → G (0, 0, 0)) : G (fo_s225 o a b s zA zB oA oB d) := by
  unfold fo_s225
  split
  · split
    · exact fo_g246 hd ha hb hc he hf
    · rename_i h2; exact hg (Or.inr h2)
  · rename_i h2; exact hg (Or.inl h2)
theorem fo_g179 (hd : G d) (ha : s ≠ 0 → o = 5 → G (1, a, 0)) (hb : oA ≠ 0 → o = 4 → G (1, b, 0)) (hc : zA ≠ 0 → (o = 2 ∨ o = 6) → G (1, b, 0)) (he : oB ≠ 0 → o = 4 → G (1, a, 0)) (hf : zB ≠ 0 → (o = 2 ∨ o = 3 ∨ o = 6) → G (1, a, 0)) (hg : (zA ≠ 0 ∨ zB ≠ 0) → (o = 4 ∨ o = 5) → G (0, 0, 0)) (hh : s ≠ 0 → (o = 3 ∨ o = 6 ∨ o = 7) → G (0, 0, 0)) : G (fo_s179 o a b s zA zB oA oB d) := by
  have z0 : G (fo_s208 o a b s zA zB oA oB 0 d) := by
    unfold fo_s208
    rw [if_pos rfl]
    split
    · rename_i h2; exact fo_g225 hd ha hb hc he hf (fun w => hg w (Or.inl h2))
    · split
      · rename_i h2; exact fo_g225 hd ha hb hc he hf (fun w => hg w (Or.inr h2))
      · exact fo_g246 hd ha hb hc he hf
  have z1 : s ≠ 0 → (o = 3 ∨ o = 6 ∨ o = 7) → G (fo_s208 o a b s zA zB oA oB 1 d) := by
    intro h1 h2
    unfold fo_s208
    rw [if_neg (by decide)]
    exact hh h1 h2
  unfold fo_s179
  split
  · exact z0
  · rename_i h1
    split
    · rename_i h2; exact z1 h1 (Or.inl h2)
    · split
      · rename_i h2; exact z1 h1 (Or.inr (Or.inl h2))
      · split
        · rename_i h2; exact z1 h1 (Or.inr (Or.inr h2))
        · exact z0
end
def fo_fl (kn va : Nat → Int32) (v : Int32) (j : Nat) : Int32 := if kn j = 0 then 0 else if va j = v then 1 else 0
theorem fo_fl_ne {kn va : Nat → Int32} {v : Int32} {j : Nat} (h : fo_fl kn va v j ≠ 0) : kn j ≠ 0 ∧ va j = v := by
  unfold fo_fl at h
  by_cases z : kn j = 0
  · rw [if_pos z] at h; exact absurd rfl h
  · rw [if_neg z] at h
    by_cases w : va j = v
    · exact ⟨z, w⟩
    · rw [if_neg w] at h; exact absurd rfl h
def fo_si (kn va : Nat → Int32) (i : Nat) (x : fo_I) : fo_T :=
  fo_s179 x.1 x.2.2.1 x.2.2.2.1 (if x.2.2.1 = x.2.2.2.1 then 1 else 0)
    (fo_fl kn va 0 (8 * i + x.2.2.1.toNatClampNeg)) (fo_fl kn va 0 (8 * i + x.2.2.2.1.toNatClampNeg))
    (fo_fl kn va 1 (8 * i + x.2.2.1.toNatClampNeg)) (fo_fl kn va 1 (8 * i + x.2.2.2.1.toNatClampNeg)) (fo_xt x)
def fo_uK (re kn va : Nat → Int32) (i : Nat) (x : fo_I) : fo_T :=
  if re i = 0 then (12, 0, 0)
  else if x.1 = 1 then (if kn (8 * i + x.2.2.1.toNatClampNeg) = 0 then fo_xt x else (0, va (8 * i + x.2.2.1.toNatClampNeg), 0))
  else if x.1 = 9 then (if kn (8 * i + x.2.2.1.toNatClampNeg) = 0 then fo_xt x else if va (8 * i + x.2.2.1.toNatClampNeg) = 0 then (12, 0, 0) else (8, 0, 0))
  else if x.1 < 2 then fo_xt x else if 7 < x.1 then fo_xt x
  else if kn (8 * i + x.2.2.1.toNatClampNeg) = 0 then fo_si kn va i x
  else if kn (8 * i + x.2.2.2.1.toNatClampNeg) = 0 then fo_si kn va i x
  else (0, fo_wk x.1 (va (8 * i + x.2.2.1.toNatClampNeg)) (va (8 * i + x.2.2.2.1.toNatClampNeg)), 0)
/-- what may stand in place of the old triple -/
def fo_tk (x : fo_I) (t : fo_T) : Prop := vp_in t.1 13 ∧ (t.1 ≠ 0 → vp_in t.2.1 8) ∧ vp_in t.2.2 8
theorem fo_rp_ok {i : Nat} {x : fo_I} {t : fo_T} (h : fo_ok i x) (ht : fo_tk x t) : fo_ok i (fo_rp x t) := ⟨ht.1, h.2.1, ht.2.1, ht.2.2, h.2.2.2.2⟩
theorem fo_tk_xt {i : Nat} {x : fo_I} (h : fo_ok i x) : fo_tk x (fo_xt x) := ⟨h.1, h.2.2.1, h.2.2.2.1⟩
theorem fo_in0 {N : Nat} (h : 0 < N) : vp_in 0 N := by rw [vp_in_iff]; exact ⟨by decide, by show (0 : Int) < N; omega⟩
theorem fo_in1 {N : Nat} (h : 1 < N) : vp_in 1 N := by rw [vp_in_iff]; exact ⟨by decide, by show (1 : Int) < N; omega⟩
theorem fo_tk12 {x : fo_I} : fo_tk x (12, 0, 0) := ⟨vp_in_iff.mpr (by decide), fun _ => fo_in0 (by decide), fo_in0 (by decide)⟩
theorem fo_tk8 {x : fo_I} : fo_tk x (8, 0, 0) := ⟨vp_in_iff.mpr (by decide), fun _ => fo_in0 (by decide), fo_in0 (by decide)⟩
theorem fo_tk0 {x : fo_I} {v : Int32} : fo_tk x (0, v, 0) := ⟨fo_in0 (by decide), fun z => absurd rfl z, fo_in0 (by decide)⟩
theorem fo_tk1 {x : fo_I} {v : Int32} (h : vp_in v 8) : fo_tk x (1, v, 0) := ⟨fo_in1 (by decide), fun _ => h, fo_in0 (by decide)⟩
theorem fo_uK_tk {re kn va : Nat → Int32} {i : Nat} {x : fo_I} (h : fo_ok i x) : fo_tk x (fo_uK re kn va i x) := by
  have S : ¬ x.1 < 2 → fo_tk x (fo_si kn va i x) := by
    intro e
    have e0 : x.1 ≠ 0 := fun z => e (by rw [z]; decide)
    exact fo_g179 (fo_tk_xt h) (fun _ _ => fo_tk1 (h.2.2.1 e0)) (fun _ _ => fo_tk1 h.2.2.2.1) (fun _ _ => fo_tk1 h.2.2.2.1) (fun _ _ => fo_tk1 (h.2.2.1 e0)) (fun _ _ => fo_tk1 (h.2.2.1 e0)) (fun _ _ => fo_tk0) (fun _ _ => fo_tk0)
  unfold fo_uK
  split
  · exact fo_tk12
  · split
    · split
      · exact fo_tk_xt h
      · exact fo_tk0
    · split
      · split
        · exact fo_tk_xt h
        · split
          · exact fo_tk12
          · exact fo_tk8
      · split
        · exact fo_tk_xt h
        · rename_i e
          split
          · exact fo_tk_xt h
          · split
            · exact S e
            · split
              · exact S e
              · exact fo_tk0
theorem fo_wk_0 {o x y : Int32} : (o = 3 ∨ o = 6 ∨ o = 7) → x = y → fo_wk o x y = 0 := by
  intro h e
  subst e
  rcases h with rfl | rfl | rfl
  · show x - x = 0; exact Int32.sub_self x
  · show x ^^^ x = 0; exact Int32.xor_self
  · show (if x ≤ x then (0 : Int32) else 1) = 0; exact if_pos (Int32.le_refl x)
theorem fo_wk_z {o x y : Int32} : (o = 4 ∨ o = 5) → (x = 0 ∨ y = 0) → fo_wk o x y = 0 := by
  intro h e
  rcases h with rfl | rfl
  · show x * y = 0
    rcases e with rfl | rfl
    · exact Int32.zero_mul
    · exact Int32.mul_zero
  · show x &&& y = 0
    rcases e with rfl | rfl
    · exact Int32.zero_and
    · exact Int32.and_zero
theorem fo_wk_r {o x y : Int32} (h : ((o = 2 ∨ o = 3 ∨ o = 6) ∧ y = 0) ∨ (o = 4 ∧ y = 1) ∨ (o = 5 ∧ x = y)) : fo_wk o x y = x := by
  rcases h with ⟨rfl | rfl | rfl, rfl⟩ | ⟨rfl, rfl⟩ | ⟨rfl, rfl⟩
  · show x + 0 = x; exact Int32.add_zero x
  · show x - 0 = x; exact Int32.sub_zero x
  · show x ^^^ 0 = x; exact Int32.xor_zero
  · show x * 1 = x; exact Int32.mul_one x
  · show x &&& x = x; exact Int32.and_self
theorem fo_wk_l {o x y : Int32} (h : ((o = 2 ∨ o = 6) ∧ x = 0) ∨ (o = 4 ∧ x = 1)) : fo_wk o x y = y := by
  rcases h with ⟨rfl | rfl, rfl⟩ | ⟨rfl, rfl⟩
  · show 0 + y = y; exact Int32.zero_add y
  · show 0 ^^^ y = y; exact Int32.zero_xor
  · show 1 * y = y; exact Int32.one_mul y
/-- a triple that makes the same number -/
def fo_sv (x : fo_I) (num : Nat → Int32) (w : Int32) (t : fo_T) : Prop := (t.1 = 0 ∧ t.2.1 = w) ∨ (t.1 = 1 ∧ num t.2.1.toNatClampNeg = w) ∨ t = fo_xt x
theorem fo_sv_sp {x : fo_I} {t : fo_T} {c : fo_C} {w : Int32} (h : fo_sv x c.2.1 w t) (hx : fo_sp x c = fo_nx c (upd c.2.1 x.2.1.toNatClampNeg w)) : fo_sp (fo_rp x t) c = fo_sp x c := by
  rcases h with ⟨e, ew⟩ | ⟨e, ew⟩ | e
  · rw [hx, fo_sp0 (x := fo_rp x t) e]
    show fo_nx c (upd c.2.1 x.2.1.toNatClampNeg t.2.1) = _
    rw [ew]
  · rw [hx, fo_sp1 (x := fo_rp x t) e]
    show fo_nx c (upd c.2.1 x.2.1.toNatClampNeg (c.2.1 t.2.1.toNatClampNeg)) = _
    rw [ew]
  · rw [e]; rfl
theorem fo_uK_sp {a : fo_K} {x : fo_I} {c : fo_C} (hx : fo_ok c.1 x) (hF : fo_FK a c.1 c.2.1) : fo_sp (fo_rp x (fo_uK a.1 a.2.1 a.2.2 c.1 x)) c = fo_sp x c := by
  obtain ⟨f1, f2⟩ := hF
  have la : x.1 ≠ 0 → a.2.1 (8 * c.1 + x.2.2.1.toNatClampNeg) ≠ 0 → c.2.1 x.2.2.1.toNatClampNeg = a.2.2 (8 * c.1 + x.2.2.1.toNatClampNeg) := fun e w => f2 _ (fo_cl_lt (hx.2.2.1 e) (by decide)) w
  have lb : a.2.1 (8 * c.1 + x.2.2.2.1.toNatClampNeg) ≠ 0 → c.2.1 x.2.2.2.1.toNatClampNeg = a.2.2 (8 * c.1 + x.2.2.2.1.toNatClampNeg) := fun w => f2 _ (fo_cl_lt hx.2.2.2.1 (by decide)) w
  unfold fo_uK
  rw [if_neg f1]
  by_cases e1 : x.1 = 1
  · rw [if_pos e1]
    by_cases k : a.2.1 (8 * c.1 + x.2.2.1.toNatClampNeg) = 0
    · rw [if_pos k]; rfl
    · rw [if_neg k]
      exact fo_sv_sp (w := c.2.1 x.2.2.1.toNatClampNeg) (Or.inl ⟨rfl, (la (by rw [e1]; decide) k).symm⟩) (fo_sp1 e1)
  · rw [if_neg e1]
    by_cases e9 : x.1 = 9
    · rw [if_pos e9]
      by_cases k : a.2.1 (8 * c.1 + x.2.2.1.toNatClampNeg) = 0
      · rw [if_pos k]; rfl
      · rw [if_neg k, fo_sp9 e9, la (by rw [e9]; decide) k]
        by_cases z : a.2.2 (8 * c.1 + x.2.2.1.toNatClampNeg) = 0
        · rw [if_pos z, if_pos z]; exact fo_sp12 rfl
        · rw [if_neg z, if_neg z]; exact (fo_sp8 rfl).trans rfl
    · rw [if_neg e9]
      by_cases l2 : x.1 < 2
      · rw [if_pos l2]; rfl
      · rw [if_neg l2]
        by_cases l7 : 7 < x.1
        · rw [if_pos l7]; rfl
        · rw [if_neg l7]
          have sm : fo_sm x.1 := ⟨l2, l7⟩
          have e0 := (fo_sm_ne sm).1
          have S : fo_sp (fo_rp x (fo_si a.2.1 a.2.2 c.1 x)) c = fo_sp x c := by
            refine fo_sv_sp (w := fo_wk x.1 (c.2.1 x.2.2.1.toNatClampNeg) (c.2.1 x.2.2.2.1.toNatClampNeg)) ?_ (fo_spS sm)
            have sa : ∀ {v}, fo_fl a.2.1 a.2.2 v (8 * c.1 + x.2.2.1.toNatClampNeg) ≠ 0 → c.2.1 x.2.2.1.toNatClampNeg = v := fun h => (la e0 (fo_fl_ne h).1).trans (fo_fl_ne h).2
            have sb : ∀ {v}, fo_fl a.2.1 a.2.2 v (8 * c.1 + x.2.2.2.1.toNatClampNeg) ≠ 0 → c.2.1 x.2.2.2.1.toNatClampNeg = v := fun h => (lb (fo_fl_ne h).1).trans (fo_fl_ne h).2
            have ss : (if x.2.2.1 = x.2.2.2.1 then (1 : Int32) else 0) ≠ 0 → x.2.2.1 = x.2.2.2.1 := fun h => by
              by_cases q : x.2.2.1 = x.2.2.2.1
              · exact q
              · rw [if_neg q] at h; exact absurd rfl h
            refine fo_g179 (Or.inr (Or.inr rfl)) (fun h e => Or.inr (Or.inl ⟨rfl, ?_⟩)) (fun h e => Or.inr (Or.inl ⟨rfl, ?_⟩)) (fun h e => Or.inr (Or.inl ⟨rfl, ?_⟩)) (fun h e => Or.inr (Or.inl ⟨rfl, ?_⟩)) (fun h e => Or.inr (Or.inl ⟨rfl, ?_⟩)) (fun h e => Or.inl ⟨rfl, ?_⟩) (fun h e => Or.inl ⟨rfl, ?_⟩)
            · exact (fo_wk_r (Or.inr (Or.inr ⟨e, by rw [ss h]⟩))).symm
            · exact (fo_wk_l (Or.inr ⟨e, sa h⟩)).symm
            · exact (fo_wk_l (Or.inl ⟨e, sa h⟩)).symm
            · exact (fo_wk_r (Or.inr (Or.inl ⟨e, sb h⟩))).symm
            · exact (fo_wk_r (Or.inl ⟨e, sb h⟩)).symm
            · exact (fo_wk_z e (h.elim (fun q => Or.inl (sa q)) (fun q => Or.inr (sb q)))).symm
            · exact (fo_wk_0 e (by rw [ss h])).symm
          by_cases ka : a.2.1 (8 * c.1 + x.2.2.1.toNatClampNeg) = 0
          · rw [if_pos ka]; exact S
          · rw [if_neg ka]
            by_cases kb : a.2.1 (8 * c.1 + x.2.2.2.1.toNatClampNeg) = 0
            · rw [if_pos kb]; exact S
            · rw [if_neg kb]
              exact fo_sv_sp (w := fo_wk x.1 (c.2.1 x.2.2.1.toNatClampNeg) (c.2.1 x.2.2.2.1.toNatClampNeg)) (Or.inl ⟨rfl, by rw [la e0 ka, lb kb]⟩) (fo_spS sm)
/-- the first pass as a whole -/
theorem fo_K_all {P P' : Nat → fo_I} {n : Nat} {a : fo_K} (hP : fo_wf P n) (hJ : fo_JK n a) (hf : ∀ j, j < n → fo_pK P n j a = a) (hP' : ∀ i, i < n → P' i = fo_rp (P i) (fo_uK a.1 a.2.1 a.2.2 i (P i))) :
    fo_wf P' n ∧ fo_Q P n P' n := by
  refine ⟨⟨hP.1, fun i hi => by rw [hP' i hi]; exact fo_rp_ok (hP.2 i hi) (fo_uK_tk (hP.2 i hi))⟩, fun num out r f h => ⟨f, ?_⟩⟩
  rw [← h]
  refine fo_facts (fo_FK a) (fo_K_step hP hJ hf) (fun c hc hF => ?_) f _ (fun h0 => ?_)
  · rw [hP' c.1 hc]; exact fo_uK_sp (hP.2 c.1 hc) hF
  · refine ⟨by rw [hJ.2.1 h0]; decide, fun m hm hk => ?_⟩
    exact absurd (hJ.2.2 m hm) (by rw [show 8 * (0, num, 0, out, 0).1 + m = m from by show 8 * 0 + m = m; omega] at hk; exact hk)
end
section
/-! the second pass: copies -/
section
variable {A V : Type}
/-- the ways on of the later passes -/
def fo_p2 (o : Int32) (f g : A → A) (a : A) : A := if o = 8 then f a else if o = 9 then g (f a) else if o = 11 then a else g a
theorem fo_p2_dec {v : A → V} {m : V → Nat} {o : Int32} {f g : A → A} {a : A} (hf : v (f a) = v a ∨ m (v (f a)) < m (v a)) (hg : v (g a) = v a ∨ m (v (g a)) < m (v a))
    (hg' : v (g (f a)) = v (f a) ∨ m (v (g (f a))) < m (v (f a))) (hag : v (f a) = v a → v (g (f a)) = v (g a)) :
    (v (fo_p2 o f g a) = v a ∧ ((o = 8 ∨ o = 9) → v (f a) = v a) ∧ (o ≠ 8 → o ≠ 11 → v (g a) = v a)) ∨ m (v (fo_p2 o f g a)) < m (v a) := by
  unfold fo_p2
  by_cases e8 : o = 8
  · rw [if_pos e8]
    rcases hf with d | d
    · exact Or.inl ⟨d, fun _ => d, fun z => absurd e8 z⟩
    · exact Or.inr d
  · rw [if_neg e8]
    by_cases e9 : o = 9
    · rw [if_pos e9]
      rcases hf with d | d
      · rcases hg' with d' | d'
        · exact Or.inl ⟨d'.trans d, fun _ => d, fun _ _ => (hag d).symm.trans (d'.trans d)⟩
        · rw [d] at d'; exact Or.inr d'
      · rcases hg' with d' | d'
        · rw [d']; exact Or.inr d
        · exact Or.inr (Nat.lt_trans d' d)
    · rw [if_neg e9]
      by_cases e11 : o = 11
      · rw [if_pos e11]; exact Or.inl ⟨rfl, fun z => absurd z (by rw [e11]; decide), fun _ z => absurd e11 z⟩
      · rw [if_neg e11]
        rcases hg with d | d
        · exact Or.inl ⟨d, fun z => absurd z (by intro w; rcases w with w | w; exact e8 w; exact e9 w), fun _ _ => d⟩
        · exact Or.inr d
theorem fo_p2_inv {Inv : A → Prop} {o : Int32} {f g : A → A} {a : A} (h : Inv a) (hf : ∀ b, Inv b → Inv (f b)) (hg : ∀ b, Inv b → Inv (g b)) : Inv (fo_p2 o f g a) := by
  unfold fo_p2
  split
  · exact hf _ h
  · split
    · exact hg _ (hf _ h)
    · split
      · exact h
      · exact hg _ h
end
/-- where a step leads: over the goal, or behind -/
theorem fo_tr_way {x : fo_I} {i i' : Nat} {num num' : Nat → Int32} (t : fo_tr x i num i' num') : (i' = x.2.2.2.2.1.toNatClampNeg ∧ (x.1 = 8 ∨ x.1 = 9)) ∨ (i' = i + 1 ∧ x.1 ≠ 8 ∧ x.1 ≠ 11) := by
  rcases t with ⟨e, ei, _⟩ | ⟨e, ei, _⟩ | ⟨e, ei, _⟩ | ⟨e, ei, _⟩ | ⟨e, ez, ei, _⟩ | ⟨e, ez, ei, _⟩ | ⟨e | e, ei, _⟩
  · exact Or.inr ⟨ei, by rw [e]; decide, by rw [e]; decide⟩
  · exact Or.inr ⟨ei, by rw [e]; decide, by rw [e]; decide⟩
  · exact Or.inr ⟨ei, (fo_sm_ne e).2.2.1, (fo_sm_ne e).2.2.2.2.2.1⟩
  · exact Or.inl ⟨ei, Or.inl e⟩
  · exact Or.inl ⟨ei, Or.inr e⟩
  · exact Or.inr ⟨ei, by rw [e]; decide, by rw [e]; decide⟩
  · exact Or.inr ⟨ei, by rw [e]; decide, by rw [e]; decide⟩
  · exact Or.inr ⟨ei, by rw [e]; decide, by rw [e]; decide⟩
abbrev fo_S : Type := (Nat → Int32) × (Nat → Int32)
def fo_lS (so : Nat → Int32) (i : Nat) : Nat → Int32 := fun m => so (8 * i + m)
def fo_kS (d : Int32) (S : Nat → Int32) : Nat → Int32 := fun m => if S m = d then nI m else S m
def fo_wS (x : fo_I) (S : Nat → Int32) : Nat → Int32 :=
  if 7 < x.1 then S
  else if x.1 = 1 then (if S x.2.2.1.toNatClampNeg = x.2.1 then S else upd (fo_kS x.2.1 S) x.2.1.toNatClampNeg (S x.2.2.1.toNatClampNeg))
  else upd (fo_kS x.2.1 S) x.2.1.toNatClampNeg x.2.1
def fo_mS (t m : Nat) (re so S : Nat → Int32) : Nat → Int32 := fun j =>
  if 8 * t ≤ j ∧ j < 8 * t + m then
    (if re t = 0 then S (j - 8 * t) else if so j = nI (j - 8 * t) then so j else if S (j - 8 * t) = so j then so j else nI (j - 8 * t))
  else so j
def fo_gS (n t : Nat) (S : Nat → Int32) (a : fo_S) : fo_S := if n ≤ t then a else (upd a.1 t 1, fo_mS t 8 a.1 a.2 S)
def fo_pS (P : Nat → fo_I) (n i : Nat) (a : fo_S) : fo_S :=
  if a.1 i = 0 then a else fo_p2 (P i).1 (fo_gS n (P i).2.2.2.2.1.toNatClampNeg (fo_wS (P i) (fo_lS a.2 i))) (fo_gS n (i + 1) (fo_wS (P i) (fo_lS a.2 i))) a
def fo_aS : Nat → Int32 → Bool := fun m x => !decide (x = nI m)
def fo_JS (n : Nat) (a : fo_S) : Prop := (∀ j, j < n → a.1 j = 0 ∨ a.1 j = 1) ∧ (0 < n → a.1 0 = 1) ∧ (∀ m, m < 8 → a.2 m = nI m) ∧ ∀ j, j < n → a.1 j ≠ 0 → ∀ m, m < 8 → vp_in (a.2 (8 * j + m)) 8
theorem fo_mS_o {t m j : Nat} {re so S : Nat → Int32} (h : ¬ (8 * t ≤ j ∧ j < 8 * t + m)) : fo_mS t m re so S j = so j := if_neg h
theorem fo_mS_i {t m k : Nat} {re so S : Nat → Int32} (h : k < m) : fo_mS t m re so S (8 * t + k) = (if re t = 0 then S k else if so (8 * t + k) = nI k then so (8 * t + k) else if S k = so (8 * t + k) then so (8 * t + k) else nI k) := by
  unfold fo_mS
  rw [if_pos (by omega), Nat.add_sub_cancel_left]
theorem fo_gS_dec {n t : Nat} {S : Nat → Int32} {a : fo_S} (hI : ∀ j, j < n → a.1 j = 0 ∨ a.1 j = 1) :
    fo_gS n t S a = a ∨ fo_mu fo_aS n (fo_gS n t S a).1 (fo_gS n t S a).2 < fo_mu fo_aS n a.1 a.2 := by
  by_cases ht : n ≤ t
  · unfold fo_gS; rw [if_pos ht]; exact Or.inl rfl
  · have e : fo_gS n t S a = (upd a.1 t 1, fo_mS t 8 a.1 a.2 S) := if_neg ht
    have D := fo_dec8 (al := fo_aS) (n := n) (to := t) (re := a.1) (kn := a.2) (kn' := fo_mS t 8 a.1 a.2 S) (by omega) (hI t (by omega)) (fun j m hj hm => fo_mS_o (by omega)) (fun hr m hm => by
      rw [fo_mS_i hm, if_neg (by rw [hr]; decide)]
      by_cases z : a.2 (8 * t + m) = nI m
      · rw [if_pos z]; exact Or.inl rfl
      · rw [if_neg z]
        have z1 : fo_aS m (a.2 (8 * t + m)) = true := by unfold fo_aS; rw [decide_eq_false z]; rfl
        by_cases w : S m = a.2 (8 * t + m)
        · rw [if_pos w]; exact Or.inl rfl
        · rw [if_neg w]; exact Or.inr ⟨z1, by unfold fo_aS; rw [decide_eq_true rfl]; rfl⟩)
    rcases D with ⟨d1, d2⟩ | d
    · refine Or.inl ?_
      rw [e]
      have e1 : upd a.1 t 1 = a.1 := fo_u_id d1.symm
      have e2 : fo_mS t 8 a.1 a.2 S = a.2 := by
        funext j
        by_cases w : 8 * t ≤ j ∧ j < 8 * t + 8
        · have := d2 (j - 8 * t) (by omega)
          rw [show 8 * t + (j - 8 * t) = j by omega] at this
          exact this
        · exact fo_mS_o w
      rw [e1, e2]
    · rw [e]; exact Or.inr d
theorem fo_nI8 {m : Nat} (h : m < 8) : vp_in (nI m) 8 := vp_in_nI h (by decide)
theorem fo_gS_J {n t : Nat} {S : Nat → Int32} {a : fo_S} (hS : ∀ m, m < 8 → vp_in (S m) 8) (h : fo_JS n a) : fo_JS n (fo_gS n t S a) := by
  unfold fo_gS
  by_cases ht : n ≤ t
  · rw [if_pos ht]; exact h
  · rw [if_neg ht]
    obtain ⟨h1, h2, h3, h4⟩ := h
    refine ⟨fun j hj => ?_, fun hn => ?_, fun m hm => ?_, fun j hj hr m hm => ?_⟩
    · dsimp only
      by_cases e : j = t
      · subst e; rw [pk_us]; exact Or.inr rfl
      · rw [pk_un e]; exact h1 j hj
    · dsimp only
      by_cases e : 0 = t
      · subst e; rw [pk_us]
      · rw [pk_un e]; exact h2 hn
    · dsimp only
      by_cases e : t = 0
      · subst e
        have := fo_mS_i (t := 0) (m := 8) (re := a.1) (so := a.2) (S := S) hm
        rw [show 8 * 0 + m = m by omega] at this
        rw [this, if_neg (by rw [h2 (by omega)]; decide), if_pos (h3 m hm)]
        exact h3 m hm
      · rw [fo_mS_o (by omega)]; exact h3 m hm
    · dsimp only at hr ⊢
      by_cases e : j = t
      · subst e
        rw [fo_mS_i hm]
        split
        · exact hS m hm
        · rename_i q
          split
          · exact h4 j hj q m hm
          · split
            · exact h4 j hj q m hm
            · exact fo_nI8 hm
      · rw [pk_un e] at hr
        rw [fo_mS_o (by omega)]
        exact h4 j hj hr m hm
theorem fo_gS_cl {n t : Nat} {S : Nat → Int32} {a : fo_S} (h : fo_gS n t S a = a) (ht : t < n) : a.1 t ≠ 0 ∧ ∀ m, m < 8 → a.2 (8 * t + m) = nI m ∨ S m = a.2 (8 * t + m) := by
  unfold fo_gS at h
  rw [if_neg (by omega)] at h
  have e1 : upd a.1 t 1 = a.1 := congrArg (fun z => z.1) h
  have e2 : fo_mS t 8 a.1 a.2 S = a.2 := congrArg (fun z => z.2) h
  have r1 : a.1 t = 1 := by rw [← e1, pk_us]
  have r0 : ¬ a.1 t = 0 := by rw [r1]; decide
  refine ⟨r0, fun m hm => ?_⟩
  have e3 := congrFun e2 (8 * t + m)
  rw [fo_mS_i hm, if_neg r0] at e3
  by_cases z : a.2 (8 * t + m) = nI m
  · exact Or.inl z
  · rw [if_neg z] at e3
    by_cases w : S m = a.2 (8 * t + m)
    · exact Or.inr w
    · rw [if_neg w] at e3; exact Or.inl e3.symm
theorem fo_wS_in {i : Nat} {x : fo_I} {S : Nat → Int32} (hx : fo_ok i x) (hS : ∀ m, m < 8 → vp_in (S m) 8) : ∀ m, m < 8 → vp_in (fo_wS x S m) 8 := by
  intro m hm
  have kS : vp_in (fo_kS x.2.1 S m) 8 := by
    unfold fo_kS
    split
    · exact fo_nI8 hm
    · exact hS m hm
  unfold fo_wS
  split
  · exact hS m hm
  · split
    · rename_i e1
      split
      · exact hS m hm
      · by_cases e : m = x.2.1.toNatClampNeg
        · subst e; rw [pk_us]; exact hS _ (fo_cl_lt (hx.2.2.1 (by rw [e1]; decide)) (by decide))
        · rw [pk_un e]; exact kS
    · by_cases e : m = x.2.1.toNatClampNeg
      · subst e; rw [pk_us]; exact hx.2.1
      · rw [pk_un e]; exact kS
theorem fo_pS_dec {P : Nat → fo_I} {n i : Nat} {a : fo_S} (hP : fo_wf P n) (hi : i < n) (h : fo_JS n a) :
    (fo_pS P n i a = a ∧ (a.1 i ≠ 0 → (((P i).1 = 8 ∨ (P i).1 = 9) → fo_gS n (P i).2.2.2.2.1.toNatClampNeg (fo_wS (P i) (fo_lS a.2 i)) a = a) ∧ ((P i).1 ≠ 8 → (P i).1 ≠ 11 → fo_gS n (i + 1) (fo_wS (P i) (fo_lS a.2 i)) a = a))) ∨
    fo_mu fo_aS n (fo_pS P n i a).1 (fo_pS P n i a).2 < fo_mu fo_aS n a.1 a.2 := by
  unfold fo_pS
  by_cases hr : a.1 i = 0
  · rw [if_pos hr]; exact Or.inl ⟨rfl, fun z => absurd hr z⟩
  · rw [if_neg hr]
    have hS := fo_wS_in (hP.2 i hi) (S := fo_lS a.2 i) (fun m hm => h.2.2.2 i hi hr m hm)
    rcases fo_p2_dec (v := fun a : fo_S => a) (m := fun a : fo_S => fo_mu fo_aS n a.1 a.2) (o := (P i).1) (f := fo_gS n (P i).2.2.2.2.1.toNatClampNeg (fo_wS (P i) (fo_lS a.2 i))) (g := fo_gS n (i + 1) (fo_wS (P i) (fo_lS a.2 i))) (a := a)
      (fo_gS_dec h.1) (fo_gS_dec h.1) (fo_gS_dec (fo_gS_J hS h).1) (fun e => congrArg _ e) with ⟨d1, d2⟩ | d
    · exact Or.inl ⟨d1, fun _ => d2⟩
    · exact Or.inr d
theorem fo_pS_J {P : Nat → fo_I} {n i : Nat} {a : fo_S} (hP : fo_wf P n) (hi : i < n) (h : fo_JS n a) : fo_JS n (fo_pS P n i a) := by
  unfold fo_pS
  by_cases hr : a.1 i = 0
  · rw [if_pos hr]; exact h
  · rw [if_neg hr]
    have hS := fo_wS_in (hP.2 i hi) (S := fo_lS a.2 i) (fun m hm => h.2.2.2 i hi hr m hm)
    exact fo_p2_inv h (fun b hb => fo_gS_J hS hb) (fun b hb => fo_gS_J hS hb)
theorem fo_S200 {P : Nat → fo_I} {n : Nat} {a : fo_S} (hP : fo_wf P n) (h : fo_JS n a) : ∀ j, j < n → fo_pS P n j (fo_rs (fo_pS P n) n 200 a) = fo_rs (fo_pS P n) n 200 a :=
  fo_fixr (v := fun a => a) (m := fun a : fo_S => fo_mu fo_aS n a.1 a.2) (Inv := fo_JS n) (fun _ _ hi w => fo_pS_J hP hi w) (fun i x y _ _ _ w => congrArg (fo_pS P n i) w)
    (fun i x hi w => (fo_pS_dec hP hi w).elim (fun z => Or.inl z.1) (fun z => Or.inr z)) h (Nat.lt_of_le_of_lt (fo_mu_le fo_aS a.1 a.2 hP.1) (by decide))
/-- what is a copy where place i is come to -/
def fo_FS (a : fo_S) (i : Nat) (num : Nat → Int32) : Prop := a.1 i ≠ 0 ∧ ∀ m, m < 8 → num m = num (a.2 (8 * i + m)).toNatClampNeg
theorem fo_S_work {x : fo_I} {i i' : Nat} {num num' S : Nat → Int32} (hx : fo_ok i x) (hS : ∀ m, m < 8 → vp_in (S m) 8) (h : ∀ m, m < 8 → num m = num (S m).toNatClampNeg) (t : fo_tr x i num i' num') :
    ∀ m, m < 8 → num' m = num' (fo_wS x S m).toNatClampNeg := by
  have d8 := fo_cl_lt hx.2.1 (by decide)
  have kp : ∀ v m, m < 8 → m ≠ x.2.1.toNatClampNeg → upd num x.2.1.toNatClampNeg v m = upd num x.2.1.toNatClampNeg v (fo_kS x.2.1 S m).toNatClampNeg := by
    intro v m hm hd
    unfold fo_kS
    by_cases e : S m = x.2.1
    · rw [if_pos e, nI_clamp (by omega)]
    · rw [if_neg e, pk_un hd, pk_un (fun z => e (fo_cl_inj (by decide) (hS m hm) hx.2.1 z))]
      exact h m hm
  have mk : x.1 ≠ 1 → ¬ 7 < x.1 → ∀ v, num' = upd num x.2.1.toNatClampNeg v → ∀ m, m < 8 → num' m = num' (fo_wS x S m).toNatClampNeg := by
    intro e1 e7 v en m hm
    unfold fo_wS
    rw [if_neg e7, if_neg e1, en]
    by_cases e : m = x.2.1.toNatClampNeg
    · rw [e, pk_us, pk_us]; rw [pk_us]
    · rw [pk_un (f := fo_kS x.2.1 S) e]; exact kp v m hm e
  have keep : 7 < x.1 → num' = num → ∀ m, m < 8 → num' m = num' (fo_wS x S m).toNatClampNeg := by
    intro e7 en m hm
    unfold fo_wS
    rw [if_pos e7, en]; exact h m hm
  rcases t with ⟨e, ei, en⟩ | ⟨e, ei, en⟩ | ⟨e, ei, en⟩ | ⟨e, ei, en⟩ | ⟨e, ez, ei, en⟩ | ⟨e, ez, ei, en⟩ | ⟨e | e, ei, en⟩
  · exact mk (by rw [e]; decide) (by rw [e]; decide) _ en
  · intro m hm
    have l8 := fo_cl_lt (hx.2.2.1 (by rw [e]; decide)) (by decide)
    unfold fo_wS
    rw [if_neg (by rw [e]; decide), if_pos e]
    by_cases q : S x.2.2.1.toNatClampNeg = x.2.1
    · rw [if_pos q]
      have : num' = num := by
        rw [en]; apply fo_u_id; rw [h _ l8, q]
      rw [this]; exact h m hm
    · rw [if_neg q, en]
      by_cases w : m = x.2.1.toNatClampNeg
      · rw [w, pk_us, pk_us, pk_un (fun z => q (fo_cl_inj (by decide) (hS _ l8) hx.2.1 z))]
        exact h _ l8
      · rw [pk_un (f := fo_kS x.2.1 S) w]; exact kp _ m hm w
  · exact mk (fo_sm_ne e).2.1 e.2 _ en
  · exact keep (by rw [e]; decide) en
  · exact keep (by rw [e]; decide) en
  · exact keep (by rw [e]; decide) en
  · exact keep (by rw [e]; decide) en
  · exact keep (by rw [e]; decide) en
theorem fo_S_step {P : Nat → fo_I} {n : Nat} {a : fo_S} (hP : fo_wf P n) (hJ : fo_JS n a) (hf : ∀ j, j < n → fo_pS P n j a = a) :
    ∀ c c' : fo_C, c.1 < n → fo_FS a c.1 c.2.1 → fo_sp (P c.1) c = .inr c' → c'.1 < n → fo_FS a c'.1 c'.2.1 := by
  intro c c' hc hF hs hc'
  have ok := hP.2 c.1 hc
  have t := fo_sp_tr ok.1 hs
  have W := fo_S_work (S := fo_lS a.2 c.1) ok (fun m hm => hJ.2.2.2 c.1 hc hF.1 m hm) hF.2 t
  rcases fo_pS_dec hP hc hJ with ⟨_, D⟩ | D
  · have C : fo_gS n c'.1 (fo_wS (P c.1) (fo_lS a.2 c.1)) a = a → fo_FS a c'.1 c'.2.1 := by
      intro e
      obtain ⟨g1, g2⟩ := fo_gS_cl e hc'
      refine ⟨g1, fun m hm => ?_⟩
      rcases g2 m hm with z | z
      · rw [z, nI_clamp (by omega)]
      · rw [← z]; exact W m hm
    rcases fo_tr_way t with ⟨e1, e2⟩ | ⟨e1, e2, e3⟩
    · apply C; rw [e1]; exact (D hF.1).1 e2
    · apply C; rw [e1]; exact (D hF.1).2 e2 e3
  · rw [hf c.1 hc] at D; omega
def fo_u34 (so : Nat → Int32) (i : Nat) (x : fo_I) : fo_T :=
  if x.1 = 1 then (x.1, so (8 * i + x.2.2.1.toNatClampNeg), x.2.2.2.1)
  else if x.1 = 9 then (x.1, so (8 * i + x.2.2.1.toNatClampNeg), x.2.2.2.1)
  else if x.1 = 10 then (x.1, so (8 * i + x.2.2.1.toNatClampNeg), x.2.2.2.1)
  else if x.1 < 2 then fo_xt x else if 7 < x.1 then fo_xt x
  else (x.1, so (8 * i + x.2.2.1.toNatClampNeg), so (8 * i + x.2.2.2.1.toNatClampNeg))
def fo_u111 (x : fo_I) (t : fo_T) : fo_T := if t.1 = 1 then (if t.2.1 = x.2.1 then (12, 0, 0) else t) else t
def fo_uS (re so : Nat → Int32) (i : Nat) (x : fo_I) : fo_T := if re i = 0 then fo_xt x else fo_u111 x (fo_u34 so i x)
theorem fo_uS_tk {re so : Nat → Int32} {i : Nat} {x : fo_I} (h : fo_ok i x) (hs : re i ≠ 0 → ∀ m, m < 8 → vp_in (so (8 * i + m)) 8) : fo_tk x (fo_uS re so i x) := by
  unfold fo_uS
  by_cases hr : re i = 0
  · rw [if_pos hr]; exact fo_tk_xt h
  · rw [if_neg hr]
    have hl : x.1 ≠ 0 → vp_in (so (8 * i + x.2.2.1.toNatClampNeg)) 8 := fun e => hs hr _ (fo_cl_lt (h.2.2.1 e) (by decide))
    have hr' : vp_in (so (8 * i + x.2.2.2.1.toNatClampNeg)) 8 := hs hr _ (fo_cl_lt h.2.2.2.1 (by decide))
    have T : fo_tk x (fo_u34 so i x) := by
      unfold fo_u34
      split
      · exact ⟨h.1, hl, h.2.2.2.1⟩
      · split
        · exact ⟨h.1, hl, h.2.2.2.1⟩
        · split
          · exact ⟨h.1, hl, h.2.2.2.1⟩
          · split
            · exact fo_tk_xt h
            · split
              · exact fo_tk_xt h
              · exact ⟨h.1, hl, hr'⟩
    unfold fo_u111
    split
    · split
      · exact fo_tk12
      · exact T
    · exact T
theorem fo_uS_sp {a : fo_S} {x : fo_I} {c : fo_C} (hx : fo_ok c.1 x) (hF : fo_FS a c.1 c.2.1) : fo_sp (fo_rp x (fo_uS a.1 a.2 c.1 x)) c = fo_sp x c := by
  obtain ⟨f1, f2⟩ := hF
  have la : x.1 ≠ 0 → c.2.1 (a.2 (8 * c.1 + x.2.2.1.toNatClampNeg)).toNatClampNeg = c.2.1 x.2.2.1.toNatClampNeg := fun e => (f2 _ (fo_cl_lt (hx.2.2.1 e) (by decide))).symm
  have lb : c.2.1 (a.2 (8 * c.1 + x.2.2.2.1.toNatClampNeg)).toNatClampNeg = c.2.1 x.2.2.2.1.toNatClampNeg := (f2 _ (fo_cl_lt hx.2.2.2.1 (by decide))).symm
  have T : fo_sp (fo_rp x (fo_u34 a.2 c.1 x)) c = fo_sp x c := by
    unfold fo_u34
    by_cases e1 : x.1 = 1
    · rw [if_pos e1, fo_sp1 e1]
      refine (fo_sp1 (x := fo_rp x (x.1, a.2 (8 * c.1 + x.2.2.1.toNatClampNeg), x.2.2.2.1)) e1).trans ?_
      show fo_nx c (upd c.2.1 x.2.1.toNatClampNeg (c.2.1 (a.2 (8 * c.1 + x.2.2.1.toNatClampNeg)).toNatClampNeg)) = _
      rw [la (by rw [e1]; decide)]
    · rw [if_neg e1]
      by_cases e9 : x.1 = 9
      · rw [if_pos e9, fo_sp9 e9]
        refine (fo_sp9 (x := fo_rp x (x.1, a.2 (8 * c.1 + x.2.2.1.toNatClampNeg), x.2.2.2.1)) e9).trans ?_
        show (if c.2.1 (a.2 (8 * c.1 + x.2.2.1.toNatClampNeg)).toNatClampNeg = 0 then fo_nx c c.2.1 else fo_gt x c) = _
        rw [la (by rw [e9]; decide)]
      · rw [if_neg e9]
        by_cases e10 : x.1 = 10
        · rw [if_pos e10, fo_sp10 e10]
          refine (fo_sp10 (x := fo_rp x (x.1, a.2 (8 * c.1 + x.2.2.1.toNatClampNeg), x.2.2.2.1)) e10).trans ?_
          show (if c.2.2.1 = 24 then Sum.inl (1, c.2.2.1, c.2.2.2.1, c.2.2.2.2) else Sum.inr (c.1 + 1, c.2.1, c.2.2.1 + 1, upd c.2.2.2.1 c.2.2.1 (c.2.1 (a.2 (8 * c.1 + x.2.2.1.toNatClampNeg)).toNatClampNeg), c.2.2.2.2)) = _
          rw [la (by rw [e10]; decide)]
        · rw [if_neg e10]
          by_cases l2 : x.1 < 2
          · rw [if_pos l2]; rfl
          · rw [if_neg l2]
            by_cases l7 : 7 < x.1
            · rw [if_pos l7]; rfl
            · have sm : fo_sm x.1 := ⟨l2, l7⟩
              rw [if_neg l7, fo_spS sm]
              refine (fo_spS (x := fo_rp x (x.1, a.2 (8 * c.1 + x.2.2.1.toNatClampNeg), a.2 (8 * c.1 + x.2.2.2.1.toNatClampNeg))) sm).trans ?_
              show fo_nx c (upd c.2.1 x.2.1.toNatClampNeg (fo_wk x.1 (c.2.1 (a.2 (8 * c.1 + x.2.2.1.toNatClampNeg)).toNatClampNeg) (c.2.1 (a.2 (8 * c.1 + x.2.2.2.1.toNatClampNeg)).toNatClampNeg))) = _
              rw [la (fo_sm_ne sm).1, lb]
  unfold fo_uS
  rw [if_neg f1, ← T]
  generalize fo_u34 a.2 c.1 x = t
  unfold fo_u111
  by_cases e1 : t.1 = 1
  · rw [if_pos e1]
    by_cases e : t.2.1 = x.2.1
    · rw [if_pos e, fo_sp1 (x := fo_rp x t) e1, fo_sp12 (x := fo_rp x (12, 0, 0)) rfl]
      show _ = fo_nx c (upd c.2.1 x.2.1.toNatClampNeg (c.2.1 t.2.1.toNatClampNeg))
      rw [fo_u_id (by rw [e])]
    · rw [if_neg e]
  · rw [if_neg e1]
theorem fo_S_all {P P' : Nat → fo_I} {n : Nat} {a : fo_S} (hP : fo_wf P n) (hJ : fo_JS n a) (hf : ∀ j, j < n → fo_pS P n j a = a) (hP' : ∀ i, i < n → P' i = fo_rp (P i) (fo_uS a.1 a.2 i (P i))) :
    fo_wf P' n ∧ fo_Q P n P' n := by
  refine ⟨⟨hP.1, fun i hi => by rw [hP' i hi]; exact fo_rp_ok (hP.2 i hi) (fo_uS_tk (hP.2 i hi) (hJ.2.2.2 i hi))⟩, fun num out r f h => ⟨f, ?_⟩⟩
  rw [← h]
  refine fo_facts (fo_FS a) (fo_S_step hP hJ hf) (fun c hc hF => ?_) f _ (fun h0 => ?_)
  · rw [hP' c.1 hc]; exact fo_uS_sp (hP.2 c.1 hc) hF
  · refine ⟨by rw [hJ.2.1 h0]; decide, fun m hm => ?_⟩
    show num m = num (a.2 (8 * 0 + m)).toNatClampNeg
    rw [show 8 * 0 + m = m by omega, hJ.2.2.1 m hm, nI_clamp (by omega)]
end
section
/-! the third pass: results at hand -/
theorem fo_bt1 : ∀ i, i < 32 → bt 1 i = decide (i = 0) := by decide +kernel
theorem fo_b1 {k j : Nat} (hk : k < 32) (hj : j < 32) : bt ((1 : Int32) <<< (nI k &&& 31)) j = decide (j = k) := by
  rw [b_shl k hk 1 hj]
  by_cases h : k ≤ j
  · rw [decide_eq_true h, Bool.true_and, fo_bt1 _ (by omega)]
    exact decide_eq_decide.mpr ⟨fun z => by omega, fun z => by omega⟩
  · rw [decide_eq_false h, Bool.false_and, decide_eq_false (by omega)]
theorem fo_bm {k j : Nat} (hk : k < 32) (hj : j < 32) : bt (((1 : Int32) <<< (nI k &&& 31)) ^^^ (-1)) j = !decide (j = k) := by
  rw [b_xor, fo_b1 hk hj, b_m1 j hj, Bool.xor_true]
/-- instruction x lives on number d -/
def fo_hk (x : fo_I) (d : Int32) : Prop := x.2.1 = d ∨ x.2.2.1 = d ∨ x.2.2.2.1 = d
def fo_kl (P : Nat → fo_I) (d : Int32) (h : Int32) : Nat → Int32
  | 0 => h
  | k + 1 => if (P k).2.1 = d then fo_kl P d h k &&& (((1 : Int32) <<< (nI k &&& 31)) ^^^ (-1))
    else if (P k).2.2.1 = d then fo_kl P d h k &&& (((1 : Int32) <<< (nI k &&& 31)) ^^^ (-1))
    else if (P k).2.2.2.1 = d then fo_kl P d h k &&& (((1 : Int32) <<< (nI k &&& 31)) ^^^ (-1)) else fo_kl P d h k
theorem fo_kl_bt {P : Nat → fo_I} {d h : Int32} {j : Nat} (hj : j < 32) : ∀ k, k ≤ 32 → (bt (fo_kl P d h k) j = true ↔ bt h j = true ∧ ¬ (j < k ∧ fo_hk (P j) d)) := by
  intro k
  induction k with
  | zero => intro _; exact ⟨fun z => ⟨z, fun w => by omega⟩, fun z => z.1⟩
  | succ k ih =>
    intro hk
    have I := ih (by omega)
    have cut : fo_hk (P k) d → (bt (fo_kl P d h k &&& (((1 : Int32) <<< (nI k &&& 31)) ^^^ (-1))) j = true ↔ bt h j = true ∧ ¬ (j < k + 1 ∧ fo_hk (P j) d)) := by
      intro hh
      rw [b_and, fo_bm (by omega) hj, Bool.and_eq_true, I]
      by_cases e : j = k
      · subst e
        rw [decide_eq_true rfl]
        exact ⟨fun z => absurd z.2 (by decide), fun z => absurd ⟨by omega, hh⟩ z.2⟩
      · rw [decide_eq_false e]
        exact ⟨fun z => ⟨z.1.1, fun w => z.1.2 ⟨by omega, w.2⟩⟩, fun z => ⟨⟨z.1, fun w => z.2 ⟨by omega, w.2⟩⟩, rfl⟩⟩
    show bt (if (P k).2.1 = d then _ else _) j = true ↔ _
    by_cases e1 : (P k).2.1 = d
    · rw [if_pos e1]; exact cut (Or.inl e1)
    · rw [if_neg e1]
      by_cases e2 : (P k).2.2.1 = d
      · rw [if_pos e2]; exact cut (Or.inr (Or.inl e2))
      · rw [if_neg e2]
        by_cases e3 : (P k).2.2.2.1 = d
        · rw [if_pos e3]; exact cut (Or.inr (Or.inr e3))
        · rw [if_neg e3, I]
          refine ⟨fun z => ⟨z.1, fun w => ?_⟩, fun z => ⟨z.1, fun w => z.2 ⟨by omega, w.2⟩⟩⟩
          by_cases e : j = k
          · subst e
            rcases w.2 with q | q | q
            · exact e1 q
            · exact e2 q
            · exact e3 q
          · exact z.2 ⟨by omega, w.2⟩
def fo_wH (P : Nat → fo_I) (n i : Nat) (h : Int32) : Int32 :=
  if 7 < (P i).1 then h
  else if (P i).1 < 2 then fo_kl P (P i).2.1 h n
  else if (P i).2.2.1 = (P i).2.1 then fo_kl P (P i).2.1 h n
  else if (P i).2.2.2.1 = (P i).2.1 then fo_kl P (P i).2.1 h n
  else fo_kl P (P i).2.1 h n ||| ((1 : Int32) <<< (nI i &&& 31))
theorem fo_wH_bt {P : Nat → fo_I} {n i j : Nat} {h : Int32} (hn : n ≤ 20) (hi : i < n) (hj : j < 32) :
    (bt (fo_wH P n i h) j = true ↔ (bt h j = true ∧ (7 < (P i).1 ∨ ¬ (j < n ∧ fo_hk (P j) (P i).2.1))) ∨ (j = i ∧ fo_sm (P i).1 ∧ (P i).2.2.1 ≠ (P i).2.1 ∧ (P i).2.2.2.1 ≠ (P i).2.1)) := by
  have K := fo_kl_bt (P := P) (d := (P i).2.1) (h := h) hj n (by omega)
  unfold fo_wH
  by_cases e7 : 7 < (P i).1
  · rw [if_pos e7]
    exact ⟨fun z => Or.inl ⟨z, Or.inl e7⟩, fun z => z.elim (fun w => w.1) (fun w => absurd e7 w.2.1.2)⟩
  · rw [if_neg e7]
    have Z : (bt (fo_kl P (P i).2.1 h n) j = true ↔ (bt h j = true ∧ (7 < (P i).1 ∨ ¬ (j < n ∧ fo_hk (P j) (P i).2.1)))) := by
      rw [K]; exact ⟨fun z => ⟨z.1, Or.inr z.2⟩, fun z => ⟨z.1, z.2.resolve_left e7⟩⟩
    by_cases e2 : (P i).1 < 2
    · rw [if_pos e2, Z]; exact ⟨Or.inl, fun z => z.elim id (fun w => absurd e2 w.2.1.1)⟩
    · rw [if_neg e2]
      by_cases el : (P i).2.2.1 = (P i).2.1
      · rw [if_pos el, Z]; exact ⟨Or.inl, fun z => z.elim id (fun w => absurd el w.2.2.1)⟩
      · rw [if_neg el]
        by_cases er : (P i).2.2.2.1 = (P i).2.1
        · rw [if_pos er, Z]; exact ⟨Or.inl, fun z => z.elim id (fun w => absurd er w.2.2.2)⟩
        · rw [if_neg er, b_or, fo_b1 (by omega) hj, Bool.or_eq_true, Z, decide_eq_true_iff]
          exact ⟨fun z => z.elim Or.inl (fun w => Or.inr ⟨w, ⟨e2, e7⟩, el, er⟩), fun z => z.elim Or.inl (fun w => Or.inr w.1)⟩
def fo_gH (n t : Nat) (h : Int32) (a : fo_S) : fo_S := if n ≤ t then a else (upd a.1 t 1, upd a.2 t (if a.1 t = 0 then h else a.2 t &&& h))
def fo_pH (P : Nat → fo_I) (n i : Nat) (a : fo_S) : fo_S :=
  if a.1 i = 0 then a else fo_p2 (P i).1 (fo_gH n (P i).2.2.2.2.1.toNatClampNeg (fo_wH P n i (a.2 i))) (fo_gH n (i + 1) (fo_wH P n i (a.2 i))) a
def fo_JH (n : Nat) (a : fo_S) : Prop := (∀ j, j < n → a.1 j = 0 ∨ a.1 j = 1) ∧ (0 < n → a.1 0 = 1) ∧ a.2 0 = 0
/-- bit k at each place: 2 not come to, 1 at hand, 0 not -/
def fo_v1 (k : Nat) (r x : Int32) : Nat := if r = 0 then 2 else if bt x k = true then 1 else 0
def fo_vH (k : Nat) (a : fo_S) : Nat → Nat := fun j => fo_v1 k (a.1 j) (a.2 j)
def fo_b2 (b : Bool) : Nat := if b = true then 1 else 0
theorem fo_gH_v {n t k : Nat} {h : Int32} {a : fo_S} (ht : t < n) : fo_vH k (fo_gH n t h a) = fun j => if j = t then min (fo_vH k a t) (fo_b2 (bt h k)) else fo_vH k a j := by
  funext j
  unfold fo_gH
  rw [if_neg (by omega)]
  unfold fo_vH fo_b2
  by_cases e : j = t
  · subst e
    rw [if_pos rfl]
    show fo_v1 k (upd a.1 j 1 j) (upd a.2 j (if a.1 j = 0 then h else a.2 j &&& h) j) = _
    rw [pk_us, pk_us]
    unfold fo_v1
    rw [if_neg (by decide)]
    by_cases z : a.1 j = 0
    · rw [if_pos z, if_pos z]; split <;> rfl
    · rw [if_neg z, if_neg z, b_and]
      cases bt (a.2 j) k <;> cases bt h k <;> rfl
  · rw [if_neg e]
    show fo_v1 k (upd a.1 t 1 j) (upd a.2 t (if a.1 t = 0 then h else a.2 t &&& h) j) = _
    rw [pk_un e, pk_un e]
theorem fo_gH_n {n t : Nat} {h : Int32} {a : fo_S} (ht : n ≤ t) : fo_gH n t h a = a := if_pos ht
theorem fo_gH_dec {n t k : Nat} {h : Int32} {a : fo_S} : fo_vH k (fo_gH n t h a) = fo_vH k a ∨ fo_sg (fo_vH k (fo_gH n t h a)) n < fo_sg (fo_vH k a) n := by
  by_cases ht : n ≤ t
  · rw [fo_gH_n ht]; exact Or.inl rfl
  · rw [fo_gH_v (by omega)]
    by_cases e : min (fo_vH k a t) (fo_b2 (bt h k)) = fo_vH k a t
    · refine Or.inl (funext fun j => ?_)
      by_cases z : j = t
      · subst z; rw [if_pos rfl, e]
      · rw [if_neg z]
    · refine Or.inr (fo_sg_lt n (fun j _ => ?_) t (by omega) ?_)
      · by_cases z : j = t
        · subst z; rw [if_pos rfl]; exact Nat.min_le_left _ _
        · rw [if_neg z]; exact Nat.le_refl _
      · rw [if_pos rfl]
        have := Nat.min_le_left (fo_vH k a t) (fo_b2 (bt h k))
        omega
theorem fo_gH_au {n t k : Nat} {h h' : Int32} {a a' : fo_S} (e : fo_vH k a = fo_vH k a') (eh : bt h k = bt h' k) : fo_vH k (fo_gH n t h a) = fo_vH k (fo_gH n t h' a') := by
  by_cases ht : n ≤ t
  · rw [fo_gH_n ht, fo_gH_n ht, e]
  · rw [fo_gH_v (by omega), fo_gH_v (by omega), e, eh]
theorem fo_gH_J {n t : Nat} {h : Int32} {a : fo_S} (hJ : fo_JH n a) : fo_JH n (fo_gH n t h a) := by
  unfold fo_gH
  by_cases ht : n ≤ t
  · rw [if_pos ht]; exact hJ
  · rw [if_neg ht]
    obtain ⟨h1, h2, h3⟩ := hJ
    refine ⟨fun j hj => ?_, fun hn => ?_, ?_⟩
    · dsimp only
      by_cases e : j = t
      · subst e; rw [pk_us]; exact Or.inr rfl
      · rw [pk_un e]; exact h1 j hj
    · dsimp only
      by_cases e : 0 = t
      · subst e; rw [pk_us]
      · rw [pk_un e]; exact h2 hn
    · dsimp only
      by_cases e : 0 = t
      · subst e; rw [pk_us, if_neg (by rw [h2 (by omega)]; decide), h3]; exact Int32.zero_and
      · rw [pk_un e]; exact h3
theorem fo_pH_J {P : Nat → fo_I} {n i : Nat} {a : fo_S} (h : fo_JH n a) : fo_JH n (fo_pH P n i a) := by
  unfold fo_pH
  split
  · exact h
  · exact fo_p2_inv h (fun b hb => fo_gH_J hb) (fun b hb => fo_gH_J hb)
theorem fo_pH_dec {P : Nat → fo_I} {n i k : Nat} {a : fo_S} :
    (fo_vH k (fo_pH P n i a) = fo_vH k a ∧ (a.1 i ≠ 0 → (((P i).1 = 8 ∨ (P i).1 = 9) → fo_vH k (fo_gH n (P i).2.2.2.2.1.toNatClampNeg (fo_wH P n i (a.2 i)) a) = fo_vH k a) ∧ ((P i).1 ≠ 8 → (P i).1 ≠ 11 → fo_vH k (fo_gH n (i + 1) (fo_wH P n i (a.2 i)) a) = fo_vH k a))) ∨
    fo_sg (fo_vH k (fo_pH P n i a)) n < fo_sg (fo_vH k a) n := by
  unfold fo_pH
  by_cases hr : a.1 i = 0
  · rw [if_pos hr]; exact Or.inl ⟨rfl, fun z => absurd hr z⟩
  · rw [if_neg hr]
    rcases fo_p2_dec (v := fo_vH k) (m := fun w => fo_sg w n) (o := (P i).1) (f := fo_gH n (P i).2.2.2.2.1.toNatClampNeg (fo_wH P n i (a.2 i))) (g := fo_gH n (i + 1) (fo_wH P n i (a.2 i))) (a := a)
      fo_gH_dec fo_gH_dec fo_gH_dec (fun e => fo_gH_au e rfl) with ⟨d1, d2⟩ | d
    · exact Or.inl ⟨d1, fun _ => d2⟩
    · exact Or.inr d
theorem fo_wH_au {P : Nat → fo_I} {n i k : Nat} {h h' : Int32} (hn : n ≤ 20) (hi : i < n) (hk : k < 32) (e : bt h k = bt h' k) : bt (fo_wH P n i h) k = bt (fo_wH P n i h') k := by
  apply Bool.eq_iff_iff.mpr
  rw [fo_wH_bt hn hi hk, fo_wH_bt hn hi hk, e]
theorem fo_pH_au {P : Nat → fo_I} {n i k : Nat} {a a' : fo_S} (hn : n ≤ 20) (hi : i < n) (hk : k < 32) (e : fo_vH k a = fo_vH k a') : fo_vH k (fo_pH P n i a) = fo_vH k (fo_pH P n i a') := by
  have ei := congrFun e i
  unfold fo_vH fo_v1 at ei
  unfold fo_pH
  by_cases hr : a.1 i = 0
  · have hr' : a'.1 i = 0 := by
      rw [if_pos hr] at ei
      by_cases z : a'.1 i = 0
      · exact z
      · rw [if_neg z] at ei; split at ei <;> omega
    rw [if_pos hr, if_pos hr', e]
  · have hr' : ¬ a'.1 i = 0 := by
      rw [if_neg hr] at ei
      intro z
      rw [if_pos z] at ei; split at ei <;> omega
    have eb : bt (a.2 i) k = bt (a'.2 i) k := by
      rw [if_neg hr, if_neg hr'] at ei
      cases q : bt (a.2 i) k <;> cases q' : bt (a'.2 i) k
      · rfl
      · rw [q, q'] at ei; exact absurd ei (by decide)
      · rw [q, q'] at ei; exact absurd ei (by decide)
      · rfl
    rw [if_neg hr, if_neg hr']
    have ew := fo_wH_au (P := P) hn hi hk eb
    unfold fo_p2
    split
    · exact fo_gH_au e ew
    · split
      · exact fo_gH_au (fo_gH_au e ew) ew
      · split
        · exact e
        · exact fo_gH_au e ew
theorem fo_vH_le (k : Nat) (a : fo_S) (j : Nat) : fo_vH k a j ≤ 2 := by unfold fo_vH fo_v1; split; omega; split <;> omega
theorem fo_H200 {P : Nat → fo_I} {n k : Nat} {a : fo_S} (hn : n ≤ 20) (hk : k < 32) (h : fo_JH n a) : ∀ j, j < n → fo_vH k (fo_pH P n j (fo_rs (fo_pH P n) n 200 a)) = fo_vH k (fo_rs (fo_pH P n) n 200 a) :=
  fo_fixr (pass := fo_pH P n) (n := n) (v := fo_vH k) (m := fun w => fo_sg w n) (Inv := fo_JH n) (fun _ _ _ w => fo_pH_J w) (fun i x y hi _ _ w => fo_pH_au hn hi hk w)
    (fun i x hi w => (fo_pH_dec (P := P) (i := i)).elim (fun z => Or.inl z.1) (fun z => Or.inr z)) h (r := 200) (by
      have := fo_sg_b (f := fo_vH k a) (b := 2) n (fun j _ => fo_vH_le k a j)
      omega)
/-- what is at hand where place i is come to -/
def fo_FH (P : Nat → fo_I) (n : Nat) (a : fo_S) (i : Nat) (num : Nat → Int32) : Prop :=
  a.1 i ≠ 0 ∧ ∀ k, k < n → bt (a.2 i) k = true → fo_sm (P k).1 ∧ num (P k).2.1.toNatClampNeg = fo_wk (P k).1 (num (P k).2.2.1.toNatClampNeg) (num (P k).2.2.2.1.toNatClampNeg)
theorem fo_H_work {P : Nat → fo_I} {n i i' : Nat} {num num' : Nat → Int32} {h : Int32} (hP : fo_wf P n) (hi : i < n)
    (H : ∀ k, k < n → bt h k = true → fo_sm (P k).1 ∧ num (P k).2.1.toNatClampNeg = fo_wk (P k).1 (num (P k).2.2.1.toNatClampNeg) (num (P k).2.2.2.1.toNatClampNeg))
    (t : fo_tr (P i) i num i' num') : ∀ k, k < n → bt (fo_wH P n i h) k = true → fo_sm (P k).1 ∧ num' (P k).2.1.toNatClampNeg = fo_wk (P k).1 (num' (P k).2.2.1.toNatClampNeg) (num' (P k).2.2.2.1.toNatClampNeg) := by
  intro k hk hb
  have hn := hP.1
  have ok := hP.2 k hk
  have oi := hP.2 i hi
  have keep : num' = num → 7 < (P i).1 → fo_sm (P k).1 ∧ num' (P k).2.1.toNatClampNeg = fo_wk (P k).1 (num' (P k).2.2.1.toNatClampNeg) (num' (P k).2.2.2.1.toNatClampNeg) := by
    intro en e7
    rcases (fo_wH_bt hn hi (by omega)).mp hb with ⟨q, _⟩ | ⟨_, q, _⟩
    · rw [en]; exact H k hk q
    · exact absurd e7 q.2
  have mk : ∀ v, num' = upd num (P i).2.1.toNatClampNeg v → ¬ 7 < (P i).1 → (fo_sm (P i).1 → v = fo_wk (P i).1 (num (P i).2.2.1.toNatClampNeg) (num (P i).2.2.2.1.toNatClampNeg)) →
      fo_sm (P k).1 ∧ num' (P k).2.1.toNatClampNeg = fo_wk (P k).1 (num' (P k).2.2.1.toNatClampNeg) (num' (P k).2.2.2.1.toNatClampNeg) := by
    intro v en e7 ev
    rcases (fo_wH_bt hn hi (by omega)).mp hb with ⟨q, q'⟩ | ⟨q1, q2, q3, q4⟩
    · obtain ⟨s1, s2⟩ := H k hk q
      have nk : ¬ fo_hk (P k) (P i).2.1 := fun z => (q'.resolve_left e7) ⟨hk, z⟩
      have e0 := (fo_sm_ne s1).1
      refine ⟨s1, ?_⟩
      rw [en, pk_un (fun z => nk (Or.inl (fo_cl_inj (by decide) ok.2.1 oi.2.1 z))), pk_un (fun z => nk (Or.inr (Or.inl (fo_cl_inj (by decide) (ok.2.2.1 e0) oi.2.1 z)))), pk_un (fun z => nk (Or.inr (Or.inr (fo_cl_inj (by decide) ok.2.2.2.1 oi.2.1 z))))]
      exact s2
    · subst q1
      have e0 := (fo_sm_ne q2).1
      refine ⟨q2, ?_⟩
      rw [en, pk_us, pk_un (fun z => q3 (fo_cl_inj (by decide) (ok.2.2.1 e0) oi.2.1 z)), pk_un (fun z => q4 (fo_cl_inj (by decide) ok.2.2.2.1 oi.2.1 z))]
      exact ev q2
  rcases t with ⟨e, ei, en⟩ | ⟨e, ei, en⟩ | ⟨e, ei, en⟩ | ⟨e, ei, en⟩ | ⟨e, ez, ei, en⟩ | ⟨e, ez, ei, en⟩ | ⟨e | e, ei, en⟩
  · exact mk _ en (by rw [e]; decide) (fun z => absurd e (fo_sm_ne z).1)
  · exact mk _ en (by rw [e]; decide) (fun z => absurd e (fo_sm_ne z).2.1)
  · exact mk _ en e.2 (fun _ => rfl)
  · exact keep en (by rw [e]; decide)
  · exact keep en (by rw [e]; decide)
  · exact keep en (by rw [e]; decide)
  · exact keep en (by rw [e]; decide)
  · exact keep en (by rw [e]; decide)
theorem fo_gH_cl {n t k : Nat} {h : Int32} {a : fo_S} (e : fo_vH k (fo_gH n t h a) = fo_vH k a) (ht : t < n) : a.1 t ≠ 0 ∧ (bt (a.2 t) k = true → bt h k = true) := by
  have q := congrFun e t
  rw [fo_gH_v ht] at q
  dsimp only at q
  rw [if_pos rfl] at q
  have l := Nat.min_le_right (fo_vH k a t) (fo_b2 (bt h k))
  rw [q] at l
  unfold fo_vH fo_v1 fo_b2 at l
  by_cases z : a.1 t = 0
  · rw [if_pos z] at l; split at l <;> omega
  · refine ⟨z, fun w => ?_⟩
    rw [if_neg z, if_pos w] at l
    by_cases y : bt h k = true
    · exact y
    · rw [if_neg y] at l; omega
theorem fo_H_step {P : Nat → fo_I} {n : Nat} {a : fo_S} (hP : fo_wf P n) (hf : ∀ k, k < 32 → ∀ j, j < n → fo_vH k (fo_pH P n j a) = fo_vH k a) :
    ∀ c c' : fo_C, c.1 < n → fo_FH P n a c.1 c.2.1 → fo_sp (P c.1) c = .inr c' → c'.1 < n → fo_FH P n a c'.1 c'.2.1 := by
  intro c c' hc hF hs hc'
  have hn := hP.1
  have t := fo_sp_tr (hP.2 c.1 hc).1 hs
  have W := fo_H_work hP hc hF.2 t
  have G : ∀ k, k < 32 → fo_vH k (fo_gH n c'.1 (fo_wH P n c.1 (a.2 c.1)) a) = fo_vH k a := by
    intro k hk
    rcases fo_pH_dec (P := P) (n := n) (i := c.1) (k := k) (a := a) with ⟨_, D⟩ | D
    · rcases fo_tr_way t with ⟨e1, e2⟩ | ⟨e1, e2, e3⟩
      · rw [e1]; exact (D hF.1).1 e2
      · rw [e1]; exact (D hF.1).2 e2 e3
    · rw [hf k hk c.1 hc] at D; omega
  exact ⟨(fo_gH_cl (G 0 (by decide)) hc').1, fun k hk hb => W k hk ((fo_gH_cl (G k (by omega)) hc').2 hb)⟩
/-- the same calculation -/
def fo_ss (x y : fo_I) : Prop := x.1 = y.1 ∧ ((x.2.2.1 = y.2.2.1 ∧ x.2.2.2.1 = y.2.2.2.1) ∨ (x.1 ≠ 3 ∧ x.1 ≠ 7 ∧ x.2.2.1 = y.2.2.2.1 ∧ x.2.2.2.1 = y.2.2.1))
theorem fo_wk_cm {o x y : Int32} (h : fo_sm o) (h3 : o ≠ 3) (h7 : o ≠ 7) : fo_wk o x y = fo_wk o y x := by
  unfold fo_wk
  by_cases e2 : o = 2
  · rw [if_pos e2, if_pos e2, Int32.add_comm]
  · rw [if_neg e2, if_neg e2, if_neg h3, if_neg h3]
    by_cases e4 : o = 4
    · rw [if_pos e4, if_pos e4, Int32.mul_comm]
    · rw [if_neg e4, if_neg e4]
      by_cases e5 : o = 5
      · rw [if_pos e5, if_pos e5, Int32.and_comm]
      · rw [if_neg e5, if_neg e5]
        by_cases e6 : o = 6
        · rw [if_pos e6, if_pos e6, Int32.xor_comm]
        · exfalso
          have o13 : o = 2 ∨ o = 3 ∨ o = 4 ∨ o = 5 ∨ o = 6 ∨ o = 7 := by
            obtain ⟨a, b⟩ := h
            rw [Int32.lt_iff_toInt_lt] at a b
            have a' : ¬ o.toInt < 2 := a
            have b' : ¬ 7 < o.toInt := b
            have : o.toInt = 2 ∨ o.toInt = 3 ∨ o.toInt = 4 ∨ o.toInt = 5 ∨ o.toInt = 6 ∨ o.toInt = 7 := by omega
            rcases this with w | w | w | w | w | w
            · exact Or.inl (Int32.toInt_inj.mp w)
            · exact Or.inr (Or.inl (Int32.toInt_inj.mp w))
            · exact Or.inr (Or.inr (Or.inl (Int32.toInt_inj.mp w)))
            · exact Or.inr (Or.inr (Or.inr (Or.inl (Int32.toInt_inj.mp w))))
            · exact Or.inr (Or.inr (Or.inr (Or.inr (Or.inl (Int32.toInt_inj.mp w)))))
            · exact Or.inr (Or.inr (Or.inr (Or.inr (Or.inr (Int32.toInt_inj.mp w)))))
          rcases o13 with w | w | w | w | w | w
          · exact e2 w
          · exact h3 w
          · exact e4 w
          · exact e5 w
          · exact e6 w
          · exact h7 w
/-- what may stand in instead -/
def fo_Gi (P : Nat → fo_I) (n : Nat) (a : fo_S) (i : Nat) (v : Int32) : Prop := v = -1 ∨ (a.1 i ≠ 0 ∧ fo_sm (P i).1 ∧ ∃ k, k < n ∧ bt (a.2 i) k = true ∧ fo_ss (P i) (P k) ∧ v = (P k).2.1)
def fo_uH (v : Int32) (x : fo_I) : fo_T := if v < 0 then fo_xt x else if v = x.2.1 then (12, 0, 0) else (1, v, 0)
theorem fo_H_all {P P' : Nat → fo_I} {n : Nat} {a : fo_S} {it : Nat → Int32} (hP : fo_wf P n) (hJ : fo_JH n a) (hf : ∀ k, k < 32 → ∀ j, j < n → fo_vH k (fo_pH P n j a) = fo_vH k a)
    (hi : ∀ i, i < n → fo_Gi P n a i (it i)) (hP' : ∀ i, i < n → P' i = fo_rp (P i) (fo_uH (it i) (P i))) : fo_wf P' n ∧ fo_Q P n P' n := by
  refine ⟨⟨hP.1, fun i h => ?_⟩, fun num out r f h => ⟨f, ?_⟩⟩
  · rw [hP' i h]
    refine fo_rp_ok (hP.2 i h) ?_
    unfold fo_uH
    split
    · exact fo_tk_xt (hP.2 i h)
    · rename_i w
      split
      · exact fo_tk12
      · rcases hi i h with z | ⟨_, _, k, hk, _, _, z⟩
        · exact absurd (by rw [z]; decide) w
        · rw [z]; exact fo_tk1 (hP.2 k hk).2.1
  · rw [← h]
    refine fo_facts (fo_FH P n a) (fo_H_step hP hf) (fun c hc hF => ?_) f _ (fun h0 => ?_)
    · rw [hP' c.1 hc]
      unfold fo_uH
      by_cases w : it c.1 < 0
      · rw [if_pos w]; rfl
      · rw [if_neg w]
        rcases hi c.1 hc with z | ⟨_, sm, k, hk, hb, ⟨s1, s2⟩, z⟩
        · exact absurd (by rw [z]; decide) w
        · obtain ⟨sk, ek⟩ := hF.2 k hk hb
          have val : c.2.1 (it c.1).toNatClampNeg = fo_wk (P c.1).1 (c.2.1 (P c.1).2.2.1.toNatClampNeg) (c.2.1 (P c.1).2.2.2.1.toNatClampNeg) := by
            rw [z, ek, ← s1]
            rcases s2 with ⟨q1, q2⟩ | ⟨q3, q7, q1, q2⟩
            · rw [q1, q2]
            · rw [q1, q2]; exact fo_wk_cm sm q3 q7
          by_cases e : it c.1 = (P c.1).2.1
          · rw [if_pos e, fo_spS sm, ← val, e, fo_u_id rfl]
            exact fo_sp12 rfl
          · rw [if_neg e]
            exact fo_sv_sp (Or.inr (Or.inl ⟨rfl, val⟩)) (fo_spS sm)
    · refine ⟨by rw [hJ.2.1 h0]; decide, fun k hk hb => ?_⟩
      have hb' : bt (a.2 0) k = true := hb
      rw [hJ.2.2, b_0] at hb'
      exact absurd hb' (by decide)
end
section
/-! the fourth pass: results that nobody uses -/
def fo_at (n : Nat) (us : Nat → Int32) (t : Nat) : Int32 := if t < n then us t else 0
def fo_q0 (n : Nat) (us : Nat → Int32) (i : Nat) (x : fo_I) : Int32 := if x.1 = 8 then 0 else if x.1 = 11 then 0 else fo_at n us (i + 1)
def fo_q1 (n : Nat) (us : Nat → Int32) (x : fo_I) (z : Int32) : Int32 := if x.1 = 8 then z ||| fo_at n us x.2.2.2.2.1.toNatClampNeg else if x.1 = 9 then z ||| fo_at n us x.2.2.2.2.1.toNatClampNeg else z
def fo_q2 (x : fo_I) (z : Int32) : Int32 := if 7 < x.1 then z else z &&& (((1 : Int32) <<< (x.2.1 &&& 31)) ^^^ (-1))
def fo_q3 (x : fo_I) (z : Int32) : Int32 :=
  if x.1 = 1 then z ||| ((1 : Int32) <<< (x.2.2.1 &&& 31)) else if x.1 = 9 then z ||| ((1 : Int32) <<< (x.2.2.1 &&& 31)) else if x.1 = 10 then z ||| ((1 : Int32) <<< (x.2.2.1 &&& 31))
  else if x.1 < 2 then z else if 7 < x.1 then z else z ||| ((1 : Int32) <<< (x.2.2.1 &&& 31))
def fo_q4 (x : fo_I) (z : Int32) : Int32 := if x.1 < 2 then z else if 7 < x.1 then z else z ||| ((1 : Int32) <<< (x.2.2.2.1 &&& 31))
def fo_ub (P : Nat → fo_I) (n : Nat) (us : Nat → Int32) (i : Nat) : Int32 := fo_q4 (P i) (fo_q3 (P i) (fo_q2 (P i) (fo_q1 n us (P i) (fo_q0 n us i (P i)))))
/-- used behind the instruction -/
def fo_uo (n : Nat) (us : Nat → Int32) (i : Nat) (x : fo_I) (k : Nat) : Prop := (x.1 ≠ 8 ∧ x.1 ≠ 11 ∧ bt (fo_at n us (i + 1)) k = true) ∨ ((x.1 = 8 ∨ x.1 = 9) ∧ bt (fo_at n us x.2.2.2.2.1.toNatClampNeg) k = true)
def fo_uL (x : fo_I) : Prop := x.1 = 1 ∨ x.1 = 9 ∨ x.1 = 10 ∨ fo_sm x.1
theorem fo_b1' {y : Int32} {b k : Nat} (hb : b ≤ 32) (hy : vp_in y b) (hk : k < 32) : bt ((1 : Int32) <<< (y &&& 31)) k = decide (k = y.toNatClampNeg) := by
  obtain ⟨j, hj, rfl⟩ := vp_in_of hy (by omega)
  rw [nI_clamp (by omega)]
  exact fo_b1 (by omega) hk
theorem fo_ub_bt {P : Nat → fo_I} {n i k : Nat} {us : Nat → Int32} (ok : fo_ok i (P i)) (hk : k < 32) :
    (bt (fo_ub P n us i) k = true ↔ ((fo_uL (P i) ∧ k = (P i).2.2.1.toNatClampNeg) ∨ (fo_sm (P i).1 ∧ k = (P i).2.2.2.1.toNatClampNeg) ∨ (fo_uo n us i (P i) k ∧ (7 < (P i).1 ∨ k ≠ (P i).2.1.toNatClampNeg)))) := by
  unfold fo_ub
  obtain ⟨o1, o2, o3, o4, _⟩ := ok
  generalize P i = x at *
  have h1 : bt (fo_q1 n us x (fo_q0 n us i x)) k = true ↔ fo_uo n us i x k := by
    unfold fo_q1 fo_q0 fo_uo
    by_cases e8 : x.1 = 8
    · rw [if_pos e8, if_pos e8, b_or, b_0, Bool.false_or]
      exact ⟨fun z => Or.inr ⟨Or.inl e8, z⟩, fun z => z.elim (fun w => absurd e8 w.1) (fun w => w.2)⟩
    · rw [if_neg e8, if_neg e8]
      by_cases e9 : x.1 = 9
      · rw [if_pos e9, if_neg (by rw [e9]; decide), b_or, Bool.or_eq_true]
        exact ⟨fun z => z.elim (fun w => Or.inl ⟨e8, by rw [e9]; decide, w⟩) (fun w => Or.inr ⟨Or.inr e9, w⟩), fun z => z.elim (fun w => Or.inl w.2.2) (fun w => Or.inr w.2)⟩
      · rw [if_neg e9]
        by_cases e11 : x.1 = 11
        · rw [if_pos e11, b_0]
          exact ⟨fun z => absurd z (by decide), fun z => z.elim (fun w => absurd e11 w.2.1) (fun w => (w.1.elim e8 e9).elim)⟩
        · rw [if_neg e11]
          exact ⟨fun z => Or.inl ⟨e8, e11, z⟩, fun z => z.elim (fun w => w.2.2) (fun w => (w.1.elim e8 e9).elim)⟩
  generalize fo_q1 n us x (fo_q0 n us i x) = z1 at *
  have h2 : bt (fo_q2 x z1) k = true ↔ (fo_uo n us i x k ∧ (7 < x.1 ∨ k ≠ x.2.1.toNatClampNeg)) := by
    unfold fo_q2
    by_cases e7 : 7 < x.1
    · rw [if_pos e7, h1]; exact ⟨fun z => ⟨z, Or.inl e7⟩, fun z => z.1⟩
    · rw [if_neg e7, b_and, b_xor, b_m1 k hk, Bool.xor_true, fo_b1' (by decide) o2 hk, Bool.and_eq_true, h1]
      by_cases e : k = x.2.1.toNatClampNeg
      · rw [decide_eq_true e]; exact ⟨fun z => absurd z.2 (by decide), fun z => (z.2.elim e7 (fun w => w e)).elim⟩
      · rw [decide_eq_false e]; exact ⟨fun z => ⟨z.1, Or.inr e⟩, fun z => ⟨z.1, rfl⟩⟩
  generalize fo_q2 x z1 = z2 at *
  have h3 : bt (fo_q3 x z2) k = true ↔ ((fo_uL x ∧ k = x.2.2.1.toNatClampNeg) ∨ (fo_uo n us i x k ∧ (7 < x.1 ∨ k ≠ x.2.1.toNatClampNeg))) := by
    have add : fo_uL x → x.1 ≠ 0 → (bt (z2 ||| ((1 : Int32) <<< (x.2.2.1 &&& 31))) k = true ↔ ((fo_uL x ∧ k = x.2.2.1.toNatClampNeg) ∨ (fo_uo n us i x k ∧ (7 < x.1 ∨ k ≠ x.2.1.toNatClampNeg)))) := by
      intro hl e0
      rw [b_or, fo_b1' (by decide) (o3 e0) hk, Bool.or_eq_true, h2, decide_eq_true_iff]
      exact ⟨fun z => z.elim Or.inr (fun w => Or.inl ⟨hl, w⟩), fun z => z.elim (fun w => Or.inr w.2) Or.inl⟩
    have non : ¬ fo_uL x → (bt z2 k = true ↔ ((fo_uL x ∧ k = x.2.2.1.toNatClampNeg) ∨ (fo_uo n us i x k ∧ (7 < x.1 ∨ k ≠ x.2.1.toNatClampNeg)))) := by
      intro hl
      rw [h2]; exact ⟨Or.inr, fun z => z.elim (fun w => absurd w.1 hl) id⟩
    unfold fo_q3
    by_cases e1 : x.1 = 1
    · rw [if_pos e1]; exact add (Or.inl e1) (by rw [e1]; decide)
    · rw [if_neg e1]
      by_cases e9 : x.1 = 9
      · rw [if_pos e9]; exact add (Or.inr (Or.inl e9)) (by rw [e9]; decide)
      · rw [if_neg e9]
        by_cases e10 : x.1 = 10
        · rw [if_pos e10]; exact add (Or.inr (Or.inr (Or.inl e10))) (by rw [e10]; decide)
        · rw [if_neg e10]
          by_cases l2 : x.1 < 2
          · rw [if_pos l2]
            refine non (fun z => ?_)
            rcases z with z | z | z | z
            · exact e1 z
            · exact e9 z
            · exact e10 z
            · exact z.1 l2
          · rw [if_neg l2]
            by_cases l7 : 7 < x.1
            · rw [if_pos l7]
              refine non (fun z => ?_)
              rcases z with z | z | z | z
              · exact e1 z
              · exact e9 z
              · exact e10 z
              · exact z.2 l7
            · rw [if_neg l7]
              exact add (Or.inr (Or.inr (Or.inr ⟨l2, l7⟩))) (fo_sm_ne ⟨l2, l7⟩).1
  generalize fo_q3 x z2 = z3 at *
  unfold fo_q4
  by_cases l2 : x.1 < 2
  · rw [if_pos l2, h3]
    exact ⟨fun z => z.elim Or.inl (fun w => Or.inr (Or.inr w)), fun z => z.elim Or.inl (fun w => w.elim (fun v => absurd l2 v.1.1) Or.inr)⟩
  · rw [if_neg l2]
    by_cases l7 : 7 < x.1
    · rw [if_pos l7, h3]
      exact ⟨fun z => z.elim Or.inl (fun w => Or.inr (Or.inr w)), fun z => z.elim Or.inl (fun w => w.elim (fun v => absurd l7 v.1.2) Or.inr)⟩
    · rw [if_neg l7, b_or, fo_b1' (by decide) o4 hk, Bool.or_eq_true, h3, decide_eq_true_iff]
      exact ⟨fun z => z.elim (fun w => w.elim Or.inl (fun v => Or.inr (Or.inr v))) (fun w => Or.inr (Or.inl ⟨⟨l2, l7⟩, w⟩)), fun z => z.elim (fun w => Or.inl (Or.inl w)) (fun w => w.elim (fun v => Or.inr v.2) (fun v => Or.inl (Or.inr v)))⟩
theorem fo_at_mono {n t k : Nat} {us us' : Nat → Int32} (h : ∀ j, bt (us j) k = true → bt (us' j) k = true) : bt (fo_at n us t) k = true → bt (fo_at n us' t) k = true := by
  unfold fo_at
  split
  · exact h t
  · exact id
theorem fo_ub_mono {P : Nat → fo_I} {n i k : Nat} {us us' : Nat → Int32} (ok : fo_ok i (P i)) (hk : k < 32) (h : ∀ j, bt (us j) k = true → bt (us' j) k = true) : bt (fo_ub P n us i) k = true → bt (fo_ub P n us' i) k = true := by
  rw [fo_ub_bt ok hk, fo_ub_bt ok hk]
  intro z
  rcases z with z | z | ⟨z, w⟩
  · exact Or.inl z
  · exact Or.inr (Or.inl z)
  · refine Or.inr (Or.inr ⟨?_, w⟩)
    rcases z with ⟨a, b, c⟩ | ⟨a, c⟩
    · exact Or.inl ⟨a, b, fo_at_mono h c⟩
    · exact Or.inr ⟨a, fo_at_mono h c⟩
def fo_pU (P : Nat → fo_I) (n j : Nat) (us : Nat → Int32) : Nat → Int32 := upd us (n - 1 - j) (fo_ub P n us (n - 1 - j))
def fo_JU (P : Nat → fo_I) (n : Nat) (us : Nat → Int32) : Prop := ∀ i, i < n → ∀ k, k < 32 → bt (us i) k = true → bt (fo_ub P n us i) k = true
def fo_vU (k : Nat) (us : Nat → Int32) : Nat → Nat := fun j => if bt (us j) k = true then 0 else 1
theorem fo_vU_eq {k j : Nat} {us us' : Nat → Int32} (h : fo_vU k us = fo_vU k us') : bt (us j) k = bt (us' j) k := by
  have q := congrFun h j
  unfold fo_vU at q
  cases e : bt (us j) k <;> cases e' : bt (us' j) k
  · rfl
  · rw [e, e'] at q; exact absurd q (by decide)
  · rw [e, e'] at q; exact absurd q (by decide)
  · rfl
theorem fo_pU_J {P : Nat → fo_I} {n j : Nat} {us : Nat → Int32} (hP : fo_wf P n) (hj : j < n) (h : fo_JU P n us) : fo_JU P n (fo_pU P n j us) := by
  have hi : n - 1 - j < n := by omega
  unfold fo_pU
  generalize n - 1 - j = i at hi
  have up : ∀ k, k < 32 → ∀ q, bt (us q) k = true → bt (upd us i (fo_ub P n us i) q) k = true := by
    intro k hk q hq
    by_cases e : q = i
    · subst e; rw [pk_us]; exact h q hi k hk hq
    · rw [pk_un e]; exact hq
  intro q hq k hk hb
  refine fo_ub_mono (hP.2 q hq) hk (up k hk) ?_
  by_cases e : q = i
  · subst e; rw [pk_us] at hb; exact hb
  · rw [pk_un e] at hb; exact h q hq k hk hb
theorem fo_pU_dec {P : Nat → fo_I} {n j k : Nat} {us : Nat → Int32} (hj : j < n) (hk : k < 32) (h : fo_JU P n us) : fo_vU k (fo_pU P n j us) = fo_vU k us ∨ fo_sg (fo_vU k (fo_pU P n j us)) n < fo_sg (fo_vU k us) n := by
  have hi : n - 1 - j < n := by omega
  unfold fo_pU
  generalize n - 1 - j = i at hi
  by_cases e : bt (fo_ub P n us i) k = bt (us i) k
  · refine Or.inl (funext fun q => ?_)
    unfold fo_vU
    by_cases w : q = i
    · subst w; rw [pk_us, e]
    · rw [pk_un w]
  · have e1 : bt (us i) k = false := by
      cases q : bt (us i) k
      · rfl
      · rw [q, h i hi k hk q] at e; exact absurd rfl e
    have e2 : bt (fo_ub P n us i) k = true := by
      rw [e1] at e
      cases q : bt (fo_ub P n us i) k
      · rw [q] at e; exact absurd rfl e
      · rfl
    refine Or.inr (fo_sg_lt n (fun q hq => ?_) i hi ?_)
    · unfold fo_vU
      by_cases w : q = i
      · subst w; rw [pk_us, e1, e2]; decide
      · rw [pk_un w]; exact Nat.le_refl _
    · unfold fo_vU
      rw [pk_us, e1, e2]; decide
theorem fo_pU_au {P : Nat → fo_I} {n j k : Nat} {us us' : Nat → Int32} (hP : fo_wf P n) (hj : j < n) (hk : k < 32) (e : fo_vU k us = fo_vU k us') : fo_vU k (fo_pU P n j us) = fo_vU k (fo_pU P n j us') := by
  have hi : n - 1 - j < n := by omega
  unfold fo_pU
  generalize n - 1 - j = i at hi
  have eb : bt (fo_ub P n us i) k = bt (fo_ub P n us' i) k := by
    apply Bool.eq_iff_iff.mpr
    exact ⟨fo_ub_mono (hP.2 i hi) hk (fun q => by rw [fo_vU_eq e]; exact id), fo_ub_mono (hP.2 i hi) hk (fun q => by rw [fo_vU_eq e]; exact id)⟩
  funext q
  unfold fo_vU
  by_cases w : q = i
  · subst w; rw [pk_us, pk_us, eb]
  · rw [pk_un w, pk_un w, fo_vU_eq e]
theorem fo_U200 {P : Nat → fo_I} {n : Nat} {us : Nat → Int32} (hP : fo_wf P n) (h : fo_JU P n us) : ∀ i, i < n → fo_ub P n (fo_rs (fo_pU P n) n 200 us) i = fo_rs (fo_pU P n) n 200 us i := by
  intro i hi
  refine b_ext (fun k hk => ?_)
  have hn := hP.1
  have F := fo_fixr (pass := fo_pU P n) (n := n) (v := fo_vU k) (m := fun w => fo_sg w n) (Inv := fo_JU P n) (fun _ _ hi w => fo_pU_J hP hi w) (fun i x y hi _ _ w => fo_pU_au hP hi hk w)
    (fun i x hi w => fo_pU_dec hi hk w) h (r := 200) (by
      have := fo_sg_b (f := fo_vU k us) (b := 1) n (fun j _ => by unfold fo_vU; split <;> omega)
      omega) (n - 1 - i) (by omega)
  have E := fo_vU_eq (j := i) F
  unfold fo_pU at E
  rw [show n - 1 - (n - 1 - i) = i by omega, pk_us] at E
  exact E
def fo_uU (n : Nat) (us : Nat → Int32) (i : Nat) (x : fo_I) : fo_T := if 7 < x.1 then fo_xt x else if bt (fo_at n us (i + 1)) x.2.1.toNatClampNeg = false then (12, 0, 0) else fo_xt x
theorem fo_uU_tk {n i : Nat} {us : Nat → Int32} {x : fo_I} (h : fo_ok i x) : fo_tk x (fo_uU n us i x) := by
  unfold fo_uU
  split
  · exact fo_tk_xt h
  · split
    · exact fo_tk12
    · exact fo_tk_xt h
theorem fo_U_sim {P P' : Nat → fo_I} {n : Nat} {us : Nat → Int32} (hP : fo_wf P n) (hf : ∀ i, i < n → fo_ub P n us i = us i) (hP' : ∀ i, i < n → P' i = fo_rp (P i) (fo_uU n us i (P i))) :
    ∀ f (c : fo_C) (num : Nat → Int32), (∀ m, m < 8 → bt (fo_at n us c.1) m = true → num m = c.2.1 m) → fo_ev P' n f (c.1, num, c.2.2) = fo_ev P n f c := by
  intro f
  induction f with
  | zero => intro c num _; rfl
  | succ f ih =>
    intro c num hA
    by_cases hn : n ≤ c.1
    · rw [fo_evE (c := (c.1, num, c.2.2)) hn, fo_evE hn]
    · have h' : c.1 < n := by omega
      have ok := hP.2 c.1 h'
      have A : ∀ m, m < 8 → bt (fo_ub P n us c.1) m = true → num m = c.2.1 m := by
        intro m hm hb
        rw [hf c.1 h'] at hb
        exact hA m hm (by unfold fo_at; rw [if_pos h']; exact hb)
      have AL : fo_uL (P c.1) → (P c.1).1 ≠ 0 → num (P c.1).2.2.1.toNatClampNeg = c.2.1 (P c.1).2.2.1.toNatClampNeg := by
        intro hl e0
        have l8 := fo_cl_lt (ok.2.2.1 e0) (by decide)
        exact A _ l8 ((fo_ub_bt ok (by omega)).mpr (Or.inl ⟨hl, rfl⟩))
      have AR : fo_sm (P c.1).1 → num (P c.1).2.2.2.1.toNatClampNeg = c.2.1 (P c.1).2.2.2.1.toNatClampNeg := by
        intro hs
        have l8 := fo_cl_lt ok.2.2.2.1 (by decide)
        exact A _ l8 ((fo_ub_bt ok (by omega)).mpr (Or.inr (Or.inl ⟨hs, rfl⟩)))
      have AO : ∀ m, m < 8 → fo_uo n us c.1 (P c.1) m → (7 < (P c.1).1 ∨ m ≠ (P c.1).2.1.toNatClampNeg) → num m = c.2.1 m :=
        fun m hm h1 h2 => A m hm ((fo_ub_bt ok (by omega)).mpr (Or.inr (Or.inr ⟨h1, h2⟩)))
      have e' := hP' c.1 h'
      have big : 7 < (P c.1).1 → P' c.1 = P c.1 := by
        intro e7
        rw [e']; unfold fo_uU; rw [if_pos e7]; rfl
      -- a result
      have mk : ¬ 7 < (P c.1).1 → ∀ v v', fo_sp (P c.1) c = fo_nx c (upd c.2.1 (P c.1).2.1.toNatClampNeg v) → fo_sp (P c.1) (c.1, num, c.2.2) = fo_nx (c.1, num, c.2.2) (upd num (P c.1).2.1.toNatClampNeg v') → v' = v →
          fo_ev P' n (f + 1) (c.1, num, c.2.2) = fo_ev P n (f + 1) c := by
        intro e7 v v' hs hs' ev
        have e8 : (P c.1).1 ≠ 8 := fun z => e7 (by rw [z]; decide)
        have e11 : (P c.1).1 ≠ 11 := fun z => e7 (by rw [z]; decide)
        rw [fo_evR h' hs]
        by_cases dead : bt (fo_at n us (c.1 + 1)) (P c.1).2.1.toNatClampNeg = false
        · have eP : P' c.1 = fo_rp (P c.1) (12, 0, 0) := by rw [e']; unfold fo_uU; rw [if_neg e7, if_pos dead]
          rw [fo_evR (c := (c.1, num, c.2.2)) (c' := (c.1 + 1, num, c.2.2)) h' (by rw [eP]; exact fo_sp12 rfl)]
          refine ih (c.1 + 1, upd c.2.1 (P c.1).2.1.toNatClampNeg v, c.2.2) num (fun m hm hb => ?_)
          have hb' : bt (fo_at n us (c.1 + 1)) m = true := hb
          have md : m ≠ (P c.1).2.1.toNatClampNeg := fun z => by rw [z, dead] at hb'; exact absurd hb' (by decide)
          show num m = upd c.2.1 (P c.1).2.1.toNatClampNeg v m
          rw [pk_un md]
          exact AO m hm (Or.inl ⟨e8, e11, hb'⟩) (Or.inr md)
        · have eP : P' c.1 = P c.1 := by rw [e']; unfold fo_uU; rw [if_neg e7, if_neg dead]; rfl
          rw [fo_evR (c := (c.1, num, c.2.2)) (c' := (c.1 + 1, upd num (P c.1).2.1.toNatClampNeg v', c.2.2)) h' (by rw [eP]; exact hs')]
          refine ih (c.1 + 1, upd c.2.1 (P c.1).2.1.toNatClampNeg v, c.2.2) _ (fun m hm hb => ?_)
          have hb' : bt (fo_at n us (c.1 + 1)) m = true := hb
          show upd num (P c.1).2.1.toNatClampNeg v' m = upd c.2.1 (P c.1).2.1.toNatClampNeg v m
          by_cases md : m = (P c.1).2.1.toNatClampNeg
          · rw [md, pk_us, pk_us, ev]
          · rw [pk_un md, pk_un md]
            exact AO m hm (Or.inl ⟨e8, e11, hb'⟩) (Or.inr md)
      -- on to the place behind
      have nx : 7 < (P c.1).1 → (P c.1).1 ≠ 8 → (P c.1).1 ≠ 11 → fo_sp (P c.1) c = fo_nx c c.2.1 → fo_sp (P c.1) (c.1, num, c.2.2) = fo_nx (c.1, num, c.2.2) num → fo_ev P' n (f + 1) (c.1, num, c.2.2) = fo_ev P n (f + 1) c := by
        intro e7 e8 e11 hs hs'
        rw [fo_evR h' hs, fo_evR (c := (c.1, num, c.2.2)) (c' := (c.1 + 1, num, c.2.2)) h' (by rw [big e7]; exact hs')]
        exact ih (c.1 + 1, c.2.1, c.2.2) num (fun m hm hb => AO m hm (Or.inl ⟨e8, e11, hb⟩) (Or.inl e7))
      have gt : 7 < (P c.1).1 → ((P c.1).1 = 8 ∨ (P c.1).1 = 9) → fo_sp (P c.1) c = fo_gt (P c.1) c → fo_sp (P c.1) (c.1, num, c.2.2) = fo_gt (P c.1) (c.1, num, c.2.2) → fo_ev P' n (f + 1) (c.1, num, c.2.2) = fo_ev P n (f + 1) c := by
        intro e7 e89 hs hs'
        unfold fo_gt at hs hs'
        by_cases b0 : (P c.1).2.2.2.2.2 = 0
        · rw [if_pos b0] at hs hs'
          rw [fo_evR h' hs, fo_evR (c := (c.1, num, c.2.2)) h' (by rw [big e7]; exact hs')]
          exact ih ((P c.1).2.2.2.2.1.toNatClampNeg, c.2.1, c.2.2) num (fun m hm hb => AO m hm (Or.inr ⟨e89, hb⟩) (Or.inl e7))
        · rw [if_neg b0] at hs hs'
          by_cases b4 : c.2.2.2.2 = 40
          · rw [if_pos b4] at hs hs'
            rw [fo_evL h' hs, fo_evL (c := (c.1, num, c.2.2)) h' (by rw [big e7]; exact hs')]
          · rw [if_neg b4] at hs hs'
            rw [fo_evR h' hs, fo_evR (c := (c.1, num, c.2.2)) h' (by rw [big e7]; exact hs')]
            exact ih ((P c.1).2.2.2.2.1.toNatClampNeg, c.2.1, c.2.2.1, c.2.2.2.1, c.2.2.2.2 + 1) num (fun m hm hb => AO m hm (Or.inr ⟨e89, hb⟩) (Or.inl e7))
      rcases fo_ops ok.1 with e | e | e | e | e | e | e | e
      · exact mk (by rw [e]; decide) _ _ (fo_sp0 e) (fo_sp0 e) rfl
      · exact mk (by rw [e]; decide) _ _ (fo_sp1 e) (fo_sp1 e) (AL (Or.inl e) (by rw [e]; decide))
      · refine mk e.2 _ _ (fo_spS e) (fo_spS e) ?_
        show fo_wk (P c.1).1 (num (P c.1).2.2.1.toNatClampNeg) (num (P c.1).2.2.2.1.toNatClampNeg) = _
        rw [AL (Or.inr (Or.inr (Or.inr e))) (fo_sm_ne e).1, AR e]
      · exact gt (by rw [e]; decide) (Or.inl e) (fo_sp8 e) (fo_sp8 e)
      · have q := AL (Or.inr (Or.inl e)) (by rw [e]; decide)
        by_cases z : c.2.1 (P c.1).2.2.1.toNatClampNeg = 0
        · exact nx (by rw [e]; decide) (by rw [e]; decide) (by rw [e]; decide) ((fo_sp9 e).trans (if_pos z)) ((fo_sp9 e).trans (if_pos (q.trans z)))
        · exact gt (by rw [e]; decide) (Or.inr e) ((fo_sp9 e).trans (if_neg z)) ((fo_sp9 e).trans (if_neg (fun w => z (q.symm.trans w))))
      · have q := AL (Or.inr (Or.inr (Or.inl e))) (by rw [e]; decide)
        have e7 : 7 < (P c.1).1 := by rw [e]; decide
        by_cases z : c.2.2.1 = 24
        · rw [fo_evL h' ((fo_sp10 e).trans (if_pos z)), fo_evL (c := (c.1, num, c.2.2)) h' (by rw [big e7]; exact (fo_sp10 e).trans (if_pos z))]
        · rw [fo_evR h' ((fo_sp10 e).trans (if_neg z)), fo_evR (c := (c.1, num, c.2.2)) h' (by rw [big e7]; exact (fo_sp10 e).trans (if_neg z))]
          show fo_ev P' n f (c.1 + 1, num, c.2.2.1 + 1, upd c.2.2.2.1 c.2.2.1 (num (P c.1).2.2.1.toNatClampNeg), c.2.2.2.2) = _
          rw [q]
          exact ih (c.1 + 1, c.2.1, c.2.2.1 + 1, upd c.2.2.2.1 c.2.2.1 (c.2.1 (P c.1).2.2.1.toNatClampNeg), c.2.2.2.2) num (fun m hm hb => AO m hm (Or.inl ⟨by rw [e]; decide, by rw [e]; decide, hb⟩) (Or.inl e7))
      · have e7 : 7 < (P c.1).1 := by rw [e]; decide
        rw [fo_evL h' (fo_sp11 e), fo_evL (c := (c.1, num, c.2.2)) h' (by rw [big e7]; exact fo_sp11 e)]
      · exact nx (by rw [e]; decide) (by rw [e]; decide) (by rw [e]; decide) (fo_sp12 e) (fo_sp12 e)
theorem fo_U_all {P P' : Nat → fo_I} {n : Nat} {us : Nat → Int32} (hP : fo_wf P n) (hf : ∀ i, i < n → fo_ub P n us i = us i) (hP' : ∀ i, i < n → P' i = fo_rp (P i) (fo_uU n us i (P i))) :
    fo_wf P' n ∧ fo_Q P n P' n :=
  ⟨⟨hP.1, fun i hi => by rw [hP' i hi]; exact fo_rp_ok (hP.2 i hi) (fo_uU_tk (hP.2 i hi))⟩, fun num out r f h => ⟨f, (fo_U_sim hP hf hP' f (0, num, 0, out, 0) num (fun _ _ _ => rfl)).trans h⟩⟩
end
section
/-! the fifth pass: jumps to jumps; and the packing -/
section
variable {x : fo_I} {c : fo_C}
theorem fo_sp9z (h : x.1 = 9) (z : c.2.1 x.2.2.1.toNatClampNeg = 0) : fo_sp x c = fo_nx c c.2.1 := (fo_sp9 h).trans (if_pos z)
theorem fo_sp9n (h : x.1 = 9) (z : ¬ c.2.1 x.2.2.1.toNatClampNeg = 0) : fo_sp x c = fo_gt x c := (fo_sp9 h).trans (if_neg z)
theorem fo_sp10f (h : x.1 = 10) (z : c.2.2.1 = 24) : fo_sp x c = .inl (1, c.2.2.1, c.2.2.2.1, c.2.2.2.2) := (fo_sp10 h).trans (if_pos z)
theorem fo_sp10n (h : x.1 = 10) (z : ¬ c.2.2.1 = 24) : fo_sp x c = .inr (c.1 + 1, c.2.1, c.2.2.1 + 1, upd c.2.2.2.1 c.2.2.1 (c.2.1 x.2.2.1.toNatClampNeg), c.2.2.2.2) := (fo_sp10 h).trans (if_neg z)
end
def fo_on (P : Nat → fo_I) (n a b : Nat) : Prop := a < n ∧ (((P a).1 = 12 ∧ b = a + 1) ∨ ((P a).1 = 8 ∧ (P a).2.2.2.2.2 = 0 ∧ b = (P a).2.2.2.2.1.toNatClampNeg))
def fo_sl (P : Nat → fo_I) (n : Nat) : Nat → Nat → Nat → Prop
  | 0 => fun a b => a = b
  | k + 1 => fun a b => ∃ a', fo_on P n a a' ∧ fo_sl P n k a' b
theorem fo_on_lt {P : Nat → fo_I} {n a b : Nat} (hP : fo_wf P n) (h : fo_on P n a b) : a < b ∧ b ≤ 20 := by
  have hn := hP.1
  have ok := hP.2 a h.1
  have h1 := h.1
  rcases h.2 with ⟨_, e⟩ | ⟨_, e1, e⟩
  · omega
  · have := ok.2.2.2.2.2.2 e1
    have := fo_cl_lt ok.2.2.2.2.1 (by decide)
    omega
theorem fo_sl_le {P : Nat → fo_I} {n : Nat} (hP : fo_wf P n) : ∀ k a b, fo_sl P n k a b → a ≤ b ∧ (a ≤ 20 → b ≤ 20) := by
  intro k
  induction k with
  | zero => intro a b h; have h' : a = b := h; omega
  | succ k ih =>
    intro a b h
    obtain ⟨a', h1, h2⟩ := h
    have := fo_on_lt hP h1
    have := ih a' b h2
    omega
theorem fo_sl_map {P P' : Nat → fo_I} {n : Nat} (hP : fo_wf P n) : ∀ k a b, (∀ j, a ≤ j → j < n → P' j = P j) → fo_sl P n k a b → fo_sl P' n k a b := by
  intro k
  induction k with
  | zero => intro a b _ h; exact h
  | succ k ih =>
    intro a b he h
    obtain ⟨a', h1, h2⟩ := h
    have := fo_on_lt hP h1
    refine ⟨a', ?_, ih a' b (fun j h3 h4 => he j (by omega) h4) h2⟩
    unfold fo_on at h1 ⊢
    rw [he a (Nat.le_refl a) h1.1]
    exact h1
theorem fo_sl_snoc {P : Nat → fo_I} {n : Nat} : ∀ k a b c, fo_sl P n k a b → fo_on P n b c → fo_sl P n (k + 1) a c := by
  intro k
  induction k with
  | zero => intro a b c h h1; have h' : a = b := h; subst h'; exact ⟨c, h1, rfl⟩
  | succ k ih => intro a b c ⟨a', h1, h2⟩ h3; exact ⟨a', h1, ih a' b c h2 h3⟩
theorem fo_on_sp {P : Nat → fo_I} {n b : Nat} {c : fo_C} (h : fo_on P n c.1 b) : fo_sp (P c.1) c = .inr (b, c.2) := by
  rcases h.2 with ⟨e, eb⟩ | ⟨e, e1, eb⟩
  · rw [fo_sp12 e, eb]; rfl
  · rw [fo_sp8 e, eb]; unfold fo_gt; rw [if_pos e1]
theorem fo_sl_go {P : Nat → fo_I} {n : Nat} {r : fo_R} : ∀ k f (c : fo_C) b, fo_sl P n k c.1 b → fo_ev P n f c = some r → ∃ f', f' ≤ f ∧ fo_ev P n f' (b, c.2) = some r := by
  intro k
  induction k with
  | zero => intro f c b h he; have h' : c.1 = b := h; subst h'; exact ⟨f, Nat.le_refl f, he⟩
  | succ k ih =>
    intro f c b h he
    obtain ⟨a', h1, h2⟩ := h
    cases f with
    | zero => exact absurd he (by show ¬ (none = some r); intro z; cases z)
    | succ f =>
      rw [fo_evR h1.1 (fo_on_sp h1)] at he
      obtain ⟨f', h3, h4⟩ := ih f (a', c.2) b h2 he
      exact ⟨f', by omega, h4⟩
theorem fo_sl_back {P : Nat → fo_I} {n : Nat} {r : fo_R} : ∀ k f (c : fo_C) b, fo_sl P n k c.1 b → fo_ev P n f (b, c.2) = some r → ∃ f', fo_ev P n f' c = some r := by
  intro k
  induction k with
  | zero => intro f c b h he; have h' : c.1 = b := h; subst h'; exact ⟨f, he⟩
  | succ k ih =>
    intro f c b h he
    obtain ⟨a', h1, h2⟩ := h
    obtain ⟨f', h4⟩ := ih f (a', c.2) b h2 he
    exact ⟨f' + 1, by rw [fo_evR h1.1 (fo_on_sp h1)]; exact h4⟩
/-- another goal -/
def fo_rg (x : fo_I) (g : Int32) : fo_I := (x.1, x.2.1, x.2.2.1, x.2.2.2.1, g, x.2.2.2.2.2)
theorem fo_J1 {P P' : Nat → fo_I} {n i k t : Nat} (hi : i < n) (e89 : (P i).1 = 8 ∨ (P i).1 = 9) (ht : t < 2 ^ 31) (hs : fo_sl P n k (P i).2.2.2.2.1.toNatClampNeg t)
    (hP' : ∀ j, j < n → P' j = if j = i then fo_rg (P i) (nI t) else P j) :
    ∀ N f (c : fo_C) r, f ≤ N → fo_ev P n f c = some r → ∃ f', fo_ev P' n f' c = some r := by
  intro N
  induction N with
  | zero =>
    intro f c r hf he
    have : f = 0 := by omega
    subst this
    exact absurd he (by show ¬ (none = some r); intro z; cases z)
  | succ N ih =>
    intro f c r hf he
    cases f with
    | zero => exact absurd he (by show ¬ (none = some r); intro z; cases z)
    | succ f =>
      by_cases hn : n ≤ c.1
      · rw [fo_evE hn] at he; exact ⟨1, by rw [fo_evE hn]; exact he⟩
      · have h' : c.1 < n := by omega
        have same : ∀ s, fo_sp (P c.1) c = s → fo_sp (P' c.1) c = s → ∃ f', fo_ev P' n f' c = some r := by
          intro s s1 s2
          cases s with
          | inl q => rw [fo_evL h' s1] at he; exact ⟨1, by rw [fo_evL h' s2]; exact he⟩
          | inr c' =>
            rw [fo_evR h' s1] at he
            obtain ⟨f', q⟩ := ih f c' r (by omega) he
            exact ⟨f' + 1, by rw [fo_evR h' s2]; exact q⟩
        by_cases e : c.1 = i
        · have eP : P' c.1 = fo_rg (P i) (nI t) := by rw [hP' c.1 h', if_pos e]
          have gt : fo_sp (P c.1) c = fo_gt (P i) c → fo_sp (P' c.1) c = fo_gt (fo_rg (P i) (nI t)) c → ∃ f', fo_ev P' n f' c = some r := by
            intro s1 s2
            have hop : ∀ b, fo_sp (P c.1) c = .inr ((P i).2.2.2.2.1.toNatClampNeg, c.2.1, c.2.2.1, c.2.2.2.1, b) → fo_sp (P' c.1) c = .inr ((nI t).toNatClampNeg, c.2.1, c.2.2.1, c.2.2.2.1, b) → ∃ f', fo_ev P' n f' c = some r := by
              intro b q1 q2
              rw [fo_evR h' q1] at he
              obtain ⟨f1, l1, q3⟩ := fo_sl_go k f _ t hs he
              obtain ⟨f2, q4⟩ := ih f1 _ r (by omega) q3
              refine ⟨f2 + 1, ?_⟩
              rw [fo_evR h' q2, nI_clamp ht]
              exact q4
            unfold fo_gt at s1 s2
            by_cases b0 : (P i).2.2.2.2.2 = 0
            · rw [if_pos b0] at s1
              rw [if_pos (show (fo_rg (P i) (nI t)).2.2.2.2.2 = 0 from b0)] at s2
              exact hop _ s1 s2
            · rw [if_neg b0] at s1
              rw [if_neg (show ¬ (fo_rg (P i) (nI t)).2.2.2.2.2 = 0 from b0)] at s2
              by_cases b4 : c.2.2.2.2 = 40
              · rw [if_pos b4] at s1 s2; exact same _ s1 s2
              · rw [if_neg b4] at s1 s2; exact hop _ s1 s2
          rcases e89 with e8 | e9
          · exact gt (by rw [e]; exact fo_sp8 e8) (by rw [eP]; exact fo_sp8 e8)
          · by_cases z : c.2.1 (P i).2.2.1.toNatClampNeg = 0
            · exact same (fo_nx c c.2.1) (by rw [e]; exact fo_sp9z e9 z) (by rw [eP]; exact fo_sp9z e9 z)
            · exact gt (by rw [e]; exact fo_sp9n e9 z) (by rw [eP]; exact fo_sp9n e9 z)
        · exact same _ rfl (by rw [hP' c.1 h', if_neg e])
theorem fo_J1_wf {P P' : Nat → fo_I} {n i k t : Nat} (hP : fo_wf P n) (hi : i < n) (hs : fo_sl P n k (P i).2.2.2.2.1.toNatClampNeg t)
    (hP' : ∀ j, j < n → P' j = if j = i then fo_rg (P i) (nI t) else P j) : fo_wf P' n ∧ t ≤ 20 := by
  have ok := hP.2 i hi
  have g20 := fo_cl_lt ok.2.2.2.2.1 (by decide)
  have L := fo_sl_le hP k _ _ hs
  refine ⟨⟨hP.1, fun j hj => ?_⟩, by omega⟩
  rw [hP' j hj]
  by_cases e : j = i
  · rw [if_pos e, e]
    refine ⟨ok.1, ok.2.1, ok.2.2.1, ok.2.2.2.1, vp_in_nI (by omega) (by decide), ok.2.2.2.2.2.1, fun z => ?_⟩
    have := ok.2.2.2.2.2.2 z
    show i < (nI t).toNatClampNeg
    rw [nI_clamp (by omega)]
    omega
  · rw [if_neg e]; exact hP.2 j hj
theorem fo_J2 {P P' : Nat → fo_I} {n i k : Nat} (hP : fo_wf P n) (hi : i < n) (e89 : (P i).1 = 8 ∨ (P i).1 = 9) (b0 : (P i).2.2.2.2.2 = 0) (hs : fo_sl P n k (i + 1) (P i).2.2.2.2.1.toNatClampNeg)
    (hP' : ∀ j, j < n → P' j = if j = i then fo_rp (P i) (12, 0, 0) else P j) :
    ∀ f (c : fo_C) r, fo_ev P n f c = some r → ∃ f', fo_ev P' n f' c = some r := by
  have hs' : fo_sl P' n k (i + 1) (P i).2.2.2.2.1.toNatClampNeg := fo_sl_map hP k _ _ (fun j h1 h2 => by rw [hP' j h2, if_neg (by omega)]) hs
  intro f
  induction f with
  | zero => intro c r he; exact absurd he (by show ¬ (none = some r); intro z; cases z)
  | succ f ih =>
    intro c r he
    by_cases hn : n ≤ c.1
    · rw [fo_evE hn] at he; exact ⟨1, by rw [fo_evE hn]; exact he⟩
    · have h' : c.1 < n := by omega
      by_cases e : c.1 = i
      · have sp' : fo_sp (P' c.1) c = .inr (i + 1, c.2) := by
          rw [hP' c.1 h', if_pos e, ← e]; exact fo_sp12 rfl
        have gt : fo_sp (P c.1) c = fo_gt (P i) c → ∃ f', fo_ev P' n f' c = some r := by
          intro s1
          unfold fo_gt at s1
          rw [if_pos b0] at s1
          rw [fo_evR h' s1] at he
          obtain ⟨f1, q1⟩ := ih _ r he
          obtain ⟨f2, q2⟩ := fo_sl_back k f1 (i + 1, c.2) _ hs' q1
          exact ⟨f2 + 1, by rw [fo_evR h' sp']; exact q2⟩
        rcases e89 with e8 | e9
        · exact gt (by rw [e]; exact fo_sp8 e8)
        · by_cases z : c.2.1 (P i).2.2.1.toNatClampNeg = 0
          · have s1 : fo_sp (P c.1) c = .inr (i + 1, c.2) := by rw [e]; exact ((fo_sp9 e9).trans (if_pos z)).trans (by rw [← e]; rfl)
            rw [fo_evR h' s1] at he
            obtain ⟨f1, q1⟩ := ih _ r he
            exact ⟨f1 + 1, by rw [fo_evR h' sp']; exact q1⟩
          · exact gt (by rw [e]; exact (fo_sp9 e9).trans (if_neg z))
      · have eP : P' c.1 = P c.1 := by rw [hP' c.1 h', if_neg e]
        cases s : fo_sp (P c.1) c with
        | inl q => rw [fo_evL h' s] at he; exact ⟨1, by rw [fo_evL h' (by rw [eP]; exact s)]; exact he⟩
        | inr c' =>
          rw [fo_evR h' s] at he
          obtain ⟨f1, q1⟩ := ih c' r he
          exact ⟨f1 + 1, by rw [fo_evR h' (by rw [eP]; exact s)]; exact q1⟩
theorem fo_J2_wf {P P' : Nat → fo_I} {n i : Nat} (hP : fo_wf P n) (hP' : ∀ j, j < n → P' j = if j = i then fo_rp (P i) (12, 0, 0) else P j) : fo_wf P' n := by
  refine ⟨hP.1, fun j hj => ?_⟩
  rw [hP' j hj]
  by_cases e : j = i
  · rw [if_pos e, ← e]; exact fo_rp_ok (hP.2 j hj) fo_tk12
  · rw [if_neg e]; exact hP.2 j hj
/-! packing -/
def fo_pl (wo : Nat → Int32) : Nat → Nat
  | 0 => 0
  | i + 1 => if wo i = 12 then fo_pl wo i else fo_pl wo i + 1
theorem fo_pl_mono {wo : Nat → Int32} {i j : Nat} (h : i ≤ j) : fo_pl wo i ≤ fo_pl wo j := by
  induction j with
  | zero => have : i = 0 := by omega
            subst this; exact Nat.le_refl _
  | succ j ih =>
    by_cases e : i = j + 1
    · subst e; exact Nat.le_refl _
    · have := ih (by omega)
      show fo_pl wo i ≤ if wo j = 12 then fo_pl wo j else fo_pl wo j + 1
      split <;> omega
theorem fo_pl_le {wo : Nat → Int32} (i : Nat) : fo_pl wo i ≤ i := by
  induction i with
  | zero => exact Nat.le_refl _
  | succ i ih =>
    show (if wo i = 12 then fo_pl wo i else fo_pl wo i + 1) ≤ i + 1
    split <;> omega
theorem fo_pl_s {wo : Nat → Int32} {i : Nat} (h : wo i ≠ 12) : fo_pl wo (i + 1) = fo_pl wo i + 1 := if_neg h
theorem fo_pl_z {wo : Nat → Int32} {i : Nat} (h : wo i = 12) : fo_pl wo (i + 1) = fo_pl wo i := if_pos h
theorem fo_pl_at {wo : Nat → Int32} : ∀ n k, k < fo_pl wo n → ∃ i, i < n ∧ wo i ≠ 12 ∧ fo_pl wo i = k := by
  intro n
  induction n with
  | zero => intro k hk; exact absurd hk (Nat.not_lt_zero k)
  | succ n ih =>
    intro k hk
    by_cases e : wo n = 12
    · rw [fo_pl_z e] at hk
      obtain ⟨i, h1, h2⟩ := ih k hk
      exact ⟨i, by omega, h2⟩
    · rw [fo_pl_s e] at hk
      by_cases z : k = fo_pl wo n
      · exact ⟨n, by omega, e, z.symm⟩
      · obtain ⟨i, h1, h2⟩ := ih k (by omega)
        exact ⟨i, by omega, h2⟩
/-- the place of a goal -/
def fo_pg (wo : Nat → Int32) (n g : Nat) : Nat := if g < n then fo_pl wo g else fo_pl wo n
/-- R is P without its idle instructions -/
def fo_pk (P R : Nat → fo_I) (n : Nat) : Prop := ∀ i, i < n → (P i).1 ≠ 12 → R (fo_pl (fun j => (P j).1) i) = fo_rg (P i) (nI (fo_pg (fun j => (P j).1) n (P i).2.2.2.2.1.toNatClampNeg))
theorem fo_pg_le {wo : Nat → Int32} {n g : Nat} : fo_pg wo n g ≤ fo_pl wo n := by
  unfold fo_pg
  split
  · exact fo_pl_mono (by omega)
  · exact Nat.le_refl _
theorem fo_pk_wf {P R : Nat → fo_I} {n : Nat} (hP : fo_wf P n) (h : fo_pk P R n) : fo_wf R (fo_pl (fun j => (P j).1) n) ∧ ∀ k, k < fo_pl (fun j => (P j).1) n → (R k).1 ≠ 12 ∧ (R k).2.2.2.2.1.toNatClampNeg ≤ 20 := by
  have hn := hP.1
  have hs := fo_pl_le (wo := fun j => (P j).1) n
  have K : ∀ k, k < fo_pl (fun j => (P j).1) n → fo_ok k (R k) ∧ (R k).1 ≠ 12 ∧ (R k).2.2.2.2.1.toNatClampNeg ≤ 20 := by
    intro k hk
    obtain ⟨i, h1, h2, h3⟩ := fo_pl_at n k hk
    have ok := hP.2 i h1
    have e := h i h1 h2
    rw [h3] at e
    have G := fo_pg_le (wo := fun j => (P j).1) (n := n) (g := (P i).2.2.2.2.1.toNatClampNeg)
    rw [e]
    refine ⟨⟨ok.1, ok.2.1, ok.2.2.1, ok.2.2.2.1, vp_in_nI (by omega) (by decide), ok.2.2.2.2.2.1, fun z => ?_⟩, h2, ?_⟩
    · have := ok.2.2.2.2.2.2 z
      show k < (nI (fo_pg (fun j => (P j).1) n (P i).2.2.2.2.1.toNatClampNeg)).toNatClampNeg
      rw [nI_clamp (by omega), ← h3]
      have s := fo_pl_s (wo := fun j => (P j).1) h2
      unfold fo_pg
      by_cases w : (P i).2.2.2.2.1.toNatClampNeg < n
      · rw [if_pos w]
        have := fo_pl_mono (wo := fun j => (P j).1) (i := i + 1) (j := (P i).2.2.2.2.1.toNatClampNeg) (by omega)
        omega
      · rw [if_neg w]
        have := fo_pl_mono (wo := fun j => (P j).1) (i := i + 1) (j := n) (by omega)
        omega
    · show (nI (fo_pg (fun j => (P j).1) n (P i).2.2.2.2.1.toNatClampNeg)).toNatClampNeg ≤ 20
      rw [nI_clamp (by omega)]
      omega
  exact ⟨⟨by omega, fun k hk => (K k hk).1⟩, fun k hk => (K k hk).2⟩
theorem fo_pk_ev {P R : Nat → fo_I} {n : Nat} (hP : fo_wf P n) (h : fo_pk P R n) : ∀ f (c : fo_C) r, fo_ev P n f c = some r → ∃ f', fo_ev R (fo_pl (fun j => (P j).1) n) f' (fo_pg (fun j => (P j).1) n c.1, c.2) = some r := by
  have hn20 := hP.1
  intro f
  induction f with
  | zero => intro c r he; exact absurd he (by show ¬ (none = some r); intro z; cases z)
  | succ f ih =>
    intro c r he
    by_cases hn : n ≤ c.1
    · rw [fo_evE hn] at he
      refine ⟨1, ?_⟩
      rw [fo_evE (c := (fo_pg (fun j => (P j).1) n c.1, c.2)) (by show fo_pl _ n ≤ fo_pg _ n c.1; unfold fo_pg; rw [if_neg (by omega)]; exact Nat.le_refl _)]
      exact he
    · have h' : c.1 < n := by omega
      have ok := hP.2 c.1 h'
      have ep : fo_pg (fun j => (P j).1) n c.1 = fo_pl (fun j => (P j).1) c.1 := if_pos h'
      have e1 : fo_pg (fun j => (P j).1) n (c.1 + 1) = fo_pl (fun j => (P j).1) (c.1 + 1) := by
        unfold fo_pg
        by_cases z : c.1 + 1 < n
        · rw [if_pos z]
        · rw [if_neg z, show c.1 + 1 = n by omega]
      by_cases e12 : (P c.1).1 = 12
      · have s : fo_sp (P c.1) c = .inr (c.1 + 1, c.2) := fo_sp12 e12
        rw [fo_evR h' s] at he
        obtain ⟨f', q⟩ := ih _ r he
        refine ⟨f', ?_⟩
        have q' : fo_ev R _ f' (fo_pg (fun j => (P j).1) n (c.1 + 1), c.2) = some r := q
        rw [e1, fo_pl_z e12] at q'
        rw [ep]; exact q'
      · have s1 := fo_pl_s (wo := fun j => (P j).1) e12
        have hk : fo_pl (fun j => (P j).1) c.1 < fo_pl (fun j => (P j).1) n := by
          have := fo_pl_mono (wo := fun j => (P j).1) (i := c.1 + 1) (j := n) (by omega)
          omega
        have eR := h c.1 h' e12
        rw [ep]
        have nx : ∀ z : (Nat → Int32) × Nat × (Nat → Int32) × Nat, fo_sp (P c.1) c = .inr (c.1 + 1, z) → fo_sp (R (fo_pl (fun j => (P j).1) c.1)) (fo_pl (fun j => (P j).1) c.1, c.2) = .inr (fo_pl (fun j => (P j).1) c.1 + 1, z) → ∃ f', fo_ev R (fo_pl (fun j => (P j).1) n) f' (fo_pl (fun j => (P j).1) c.1, c.2) = some r := by
          intro z q1 q2
          rw [fo_evR h' q1] at he
          obtain ⟨f', q⟩ := ih _ r he
          have q' : fo_ev R _ f' (fo_pg (fun j => (P j).1) n (c.1 + 1), z) = some r := q
          rw [e1, s1] at q'
          exact ⟨f' + 1, by rw [fo_evR (c := (fo_pl (fun j => (P j).1) c.1, c.2)) hk q2]; exact q'⟩
        have nl : ∀ z, fo_sp (P c.1) c = .inl z → fo_sp (R (fo_pl (fun j => (P j).1) c.1)) (fo_pl (fun j => (P j).1) c.1, c.2) = .inl z → ∃ f', fo_ev R (fo_pl (fun j => (P j).1) n) f' (fo_pl (fun j => (P j).1) c.1, c.2) = some r := by
          intro z q1 q2
          rw [fo_evL h' q1] at he
          exact ⟨1, by rw [fo_evL (c := (fo_pl (fun j => (P j).1) c.1, c.2)) hk q2]; exact he⟩
        have gt : fo_sp (P c.1) c = fo_gt (P c.1) c → fo_sp (R (fo_pl (fun j => (P j).1) c.1)) (fo_pl (fun j => (P j).1) c.1, c.2) = fo_gt (R (fo_pl (fun j => (P j).1) c.1)) (fo_pl (fun j => (P j).1) c.1, c.2) → ∃ f', fo_ev R (fo_pl (fun j => (P j).1) n) f' (fo_pl (fun j => (P j).1) c.1, c.2) = some r := by
          intro q1 q2
          rw [eR] at q2
          have G := fo_pg_le (wo := fun j => (P j).1) (n := n) (g := (P c.1).2.2.2.2.1.toNatClampNeg)
          have S := fo_pl_le (wo := fun j => (P j).1) n
          have hop : ∀ z : (Nat → Int32) × Nat × (Nat → Int32) × Nat, fo_sp (P c.1) c = .inr ((P c.1).2.2.2.2.1.toNatClampNeg, z) → fo_sp (R (fo_pl (fun j => (P j).1) c.1)) (fo_pl (fun j => (P j).1) c.1, c.2) = .inr ((nI (fo_pg (fun j => (P j).1) n (P c.1).2.2.2.2.1.toNatClampNeg)).toNatClampNeg, z) → ∃ f', fo_ev R (fo_pl (fun j => (P j).1) n) f' (fo_pl (fun j => (P j).1) c.1, c.2) = some r := by
            intro z q1 q2
            rw [fo_evR h' q1] at he
            obtain ⟨f', q⟩ := ih _ r he
            refine ⟨f' + 1, ?_⟩
            rw [fo_evR (c := (fo_pl (fun j => (P j).1) c.1, c.2)) hk q2, nI_clamp (by omega)]
            exact q
          unfold fo_gt at q1 q2
          by_cases b0 : (P c.1).2.2.2.2.2 = 0
          · rw [if_pos b0] at q1
            rw [if_pos (show (fo_rg (P c.1) (nI (fo_pg (fun j => (P j).1) n (P c.1).2.2.2.2.1.toNatClampNeg))).2.2.2.2.2 = 0 from b0)] at q2
            exact hop _ q1 (by rw [eR]; exact q2)
          · rw [if_neg b0] at q1
            rw [if_neg (show ¬ (fo_rg (P c.1) (nI (fo_pg (fun j => (P j).1) n (P c.1).2.2.2.2.1.toNatClampNeg))).2.2.2.2.2 = 0 from b0)] at q2
            by_cases b4 : c.2.2.2.2 = 40
            · rw [if_pos b4] at q1
              rw [if_pos (show (fo_pl (fun j => (P j).1) c.1, c.2).2.2.2.2 = 40 from b4)] at q2
              exact nl _ q1 (by rw [eR]; exact q2)
            · rw [if_neg b4] at q1
              rw [if_neg (show ¬ (fo_pl (fun j => (P j).1) c.1, c.2).2.2.2.2 = 40 from b4)] at q2
              exact hop _ q1 (by rw [eR]; exact q2)
        have eo : (R (fo_pl (fun j => (P j).1) c.1)).1 = (P c.1).1 := by rw [eR]; rfl
        rcases fo_ops ok.1 with e | e | e | e | e | e | e | e
        · exact nx _ (fo_sp0 e) (by rw [eR]; exact fo_sp0 (x := fo_rg (P c.1) _) e)
        · exact nx _ (fo_sp1 e) (by rw [eR]; exact fo_sp1 (x := fo_rg (P c.1) _) e)
        · exact nx _ (fo_spS e) (by rw [eR]; exact fo_spS (x := fo_rg (P c.1) _) e)
        · exact gt (fo_sp8 e) (fo_sp8 (eo.trans e))
        · by_cases z : c.2.1 (P c.1).2.2.1.toNatClampNeg = 0
          · exact nx _ ((fo_sp9 e).trans (if_pos z)) (by rw [eR]; exact fo_sp9z e z)
          · refine gt ((fo_sp9 e).trans (if_neg z)) ((fo_sp9 (eo.trans e)).trans (if_neg ?_))
            rw [eR]; exact z
        · by_cases z : c.2.2.1 = 24
          · exact nl _ ((fo_sp10 e).trans (if_pos z)) (by rw [eR]; exact fo_sp10f e z)
          · exact nx _ ((fo_sp10 e).trans (if_neg z)) (by rw [eR]; exact fo_sp10n e z)
        · exact nl _ (fo_sp11 e) (by rw [eR]; exact fo_sp11 (x := fo_rg (P c.1) _) e)
        · exact absurd e e12
theorem fo_pk_Q {P R : Nat → fo_I} {n : Nat} (hP : fo_wf P n) (h : fo_pk P R n) : fo_Q P n R (fo_pl (fun j => (P j).1) n) := by
  intro num out r f he
  obtain ⟨f', q⟩ := fo_pk_ev hP h f _ r he
  refine ⟨f', ?_⟩
  have e0 : fo_pg (fun j => (P j).1) n 0 = 0 := by
    unfold fo_pg
    by_cases z : 0 < n
    · rw [if_pos z]; rfl
    · rw [if_neg z, show n = 0 by omega]; rfl
  have q' : fo_ev R _ f' (fo_pg (fun j => (P j).1) n 0, num, 0, out, 0) = some r := q
  rw [e0] at q'
  exact q'
end
section
/-! walks: small methods of the component -/
def fo_mx (i : Nat) (f g : Nat → Int32) : Nat → Int32 := fun j => if j < i then f j else g j
theorem fo_mx_0 {f g : Nat → Int32} : fo_mx 0 f g = g := by
  funext j; exact if_neg (by omega)
theorem fo_mx_s {i : Nat} {f g : Nat → Int32} {v : Int32} (h : v = f i) : upd (fo_mx i f g) i v = fo_mx (i + 1) f g := by
  funext j
  unfold fo_mx
  by_cases e : j = i
  · subst e; rw [pk_us, if_pos (by omega), h]
  · rw [pk_un e]
    by_cases w : j < i
    · rw [if_pos w, if_pos (by omega)]
    · rw [if_neg w, if_neg (by omega)]
theorem fo_mx_k {i : Nat} {f g : Nat → Int32} (h : g i = f i) : fo_mx i f g = fo_mx (i + 1) f g := by
  funext j
  unfold fo_mx
  by_cases e : j = i
  · subst e; rw [if_neg (by omega), if_pos (by omega), h]
  · by_cases w : j < i
    · rw [if_pos w, if_pos (by omega)]
    · rw [if_neg w, if_neg (by omega)]
theorem fo_mx_l {i j : Nat} {f g : Nat → Int32} (h : j < i) : fo_mx i f g j = f j := if_pos h
theorem fo_mx_g {i j : Nat} {f g : Nat → Int32} (h : i ≤ j) : fo_mx i f g j = g j := if_neg (by omega)
theorem fo_8 (i m : Nat) : 8 * nI i + nI m = nI (8 * i + m) := by
  show nI 8 * nI i + nI m = _
  rw [pk_mul, nI_add]
theorem fo_8v {i : Nat} {l : Int32} (hl : vp_in l 8) : 8 * nI i + l = nI (8 * i + l.toNatClampNeg) := by
  obtain ⟨j, hj, rfl⟩ := vp_in_of hl (by decide)
  rw [nI_clamp (by omega)]; exact fo_8 i j
theorem fo_in_iff {p : Int32} {b : Nat} (hb : b < 2 ^ 31) : vp_in p b ↔ ¬ p < 0 ∧ p < nI b := by
  constructor
  · intro h
    obtain ⟨j, hj, rfl⟩ := vp_in_of h hb
    exact ⟨nI_pos (by omega), nI_lt hj hb⟩
  · intro ⟨h1, h2⟩
    obtain ⟨j, hj, rfl⟩ := nI_of h1
    exact vp_in_nI ((nI_ltI hj hb).mp h2) hb
section
variable {n : Nat} {fr fg fm fs fo fb fe fn : Int32} {op de le ri go be wo wd wl wr wg bk re kn va so ah us nk nv ns ro rd rl rr rg rb pl nu ou it : Nat → Int32}
theorem fx_bad {A B : Prop} {p : Int32} (ha : vp_in p 8 → A) (hb : ¬ vp_in p 8 → B) : wpX_bad (fun r => (r = 0 → A) ∧ (¬ r = 0 → B)) ((nI n), fr, fg, fm, fs, fo, fb, fe, fn, op, de, le, ri, go, be, wo, wd, wl, wr, wg, bk, re, kn, va, so, ah, us, nk, nv, ns, ro, rd, rl, rr, rg, rb, pl, nu, ou, it) p := by
  have I := fo_in_iff (p := p) (b := 8) (by decide)
  exact br_c (fun h => br_f (by decide) (hb (fun z => (I.mp z).1 h))) (fun h => br_c (fun h2 => br_t rfl (ha (I.mpr ⟨h, h2⟩))) (fun h2 => br_f (by decide) (hb (fun z => h2 (I.mp z).2))))
theorem fx_sum {A B : Prop} {o : Int32} (hb : fo_sm o → B) (ha : ¬ fo_sm o → A) : wpX_isSum (fun r => (r = 0 → A) ∧ (¬ r = 0 → B)) ((nI n), fr, fg, fm, fs, fo, fb, fe, fn, op, de, le, ri, go, be, wo, wd, wl, wr, wg, bk, re, kn, va, so, ah, us, nk, nv, ns, ro, rd, rl, rr, rg, rb, pl, nu, ou, it) o :=
  br_c (fun h => br_t rfl (ha (fun z => z.1 h))) (fun h => br_c (fun h2 => br_t rfl (ha (fun z => z.2 h2))) (fun h2 => br_f (by decide) (hb ⟨h, h2⟩)))
theorem fx_mak {A B : Prop} {o : Int32} (hb : ¬ 7 < o → B) (ha : 7 < o → A) : wpX_makes (fun r => (r = 0 → A) ∧ (¬ r = 0 → B)) ((nI n), fr, fg, fm, fs, fo, fb, fe, fn, op, de, le, ri, go, be, wo, wd, wl, wr, wg, bk, re, kn, va, so, ah, us, nk, nv, ns, ro, rd, rl, rr, rg, rb, pl, nu, ou, it) o :=
  br_c (fun h => br_t rfl (ha h)) (fun h => br_f (by decide) (hb h))
theorem fx_wkd {post : Int32 → Prop} {o a b : Int32} (h : post (fo_wk o a b)) : wpX_worked post ((nI n), fr, fg, fm, fs, fo, fb, fe, fn, op, de, le, ri, go, be, wo, wd, wl, wr, wg, bk, re, kn, va, so, ah, us, nk, nv, ns, ro, rd, rl, rr, rg, rb, pl, nu, ou, it) o a b := by
  have k : ∀ v, v = fo_wk o a b → post v := fun v e => e ▸ h
  refine br_c (fun e => k _ ?_) (fun e2 => br_c (fun e => k _ ?_) (fun e3 => br_c (fun e => k _ ?_) (fun e4 => br_c (fun e => k _ ?_) (fun e5 => br_c (fun e => k _ ?_) (fun e6 => br_c (fun e => k _ ?_) (fun e => k _ ?_))))))
  · unfold fo_wk; rw [if_pos e]
  · unfold fo_wk; rw [if_neg e2, if_pos e]
  · unfold fo_wk; rw [if_neg e2, if_neg e3, if_pos e]
  · unfold fo_wk; rw [if_neg e2, if_neg e3, if_neg e4, if_pos e]
  · unfold fo_wk; rw [if_neg e2, if_neg e3, if_neg e4, if_neg e5, if_pos e]
  · unfold fo_wk; rw [if_neg e2, if_neg e3, if_neg e4, if_neg e5, if_neg e6, if_pos e]
  · unfold fo_wk; rw [if_neg e2, if_neg e3, if_neg e4, if_neg e5, if_neg e6, if_neg e]
theorem fx_set44 {post : SX → Prop} {i : Nat} {p1 p2 p3 z : Int32} (hi : i < 20) (hz : z = 0 ∨ z = 1) (h : post ((nI n), fr, z, fm, fs, fo, fb, fe, fn, op, de, le, ri, go, be, upd wo i p1, wd, upd wl i p2, upd wr i p3, wg, bk, re, kn, va, so, ah, us, nk, nv, ns, ro, rd, rl, rr, rg, rb, pl, nu, ou, it)) : wX_set_44 post (nI i) p1 p2 p3 z (nI n) fr fg fm fs fo fb fe fn op de le ri go be wo wd wl wr wg bk re kn va so ah us nk nv ns ro rd rl rr rg rb pl nu ou it := by
  have v : vp_in (nI i) 20 := vp_in_nI hi (by decide)
  have c : (nI i).toNatClampNeg = i := nI_clamp (by omega)
  have n1 : narrow .boolean (.int z) = .int z := by rcases hz with rfl | rfl <;> rfl
  have n2 : fits .boolean (.int z) = true := by rcases hz with rfl | rfl <;> rfl
  exact ⟨n1, n2, v, nm_r (e' := upd wo i p1) (by rw [c]) ⟨v, nm_r (e' := upd wl i p2) (by rw [c]) ⟨v, nm_r (e' := upd wr i p3) (by rw [c]) h⟩⟩⟩
theorem fx_set {post : SX → Prop} {i : Nat} {p1 p2 p3 : Int32} (hi : i < 20) (h : ∀ z, post ((nI n), fr, z, fm, fs, fo, fb, fe, fn, op, de, le, ri, go, be, upd wo i p1, wd, upd wl i p2, upd wr i p3, wg, bk, re, kn, va, so, ah, us, nk, nv, ns, ro, rd, rl, rr, rg, rb, pl, nu, ou, it)) : wpX_set post ((nI n), fr, fg, fm, fs, fo, fb, fe, fn, op, de, le, ri, go, be, wo, wd, wl, wr, wg, bk, re, kn, va, so, ah, us, nk, nv, ns, ro, rd, rl, rr, rg, rb, pl, nu, ou, it) (nI i) p1 p2 p3 := by
  have v : vp_in (nI i) 20 := vp_in_nI hi (by decide)
  have z1 : wX_set_39 post (nI i) p1 p2 p3 (nI n) fr fg fm fs fo fb fe fn op de le ri go be wo wd wl wr wg bk re kn va so ah us nk nv ns ro rd rl rr rg rb pl nu ou it := fx_set44 hi (Or.inr rfl) (h 1)
  exact br_c (fun _ => ⟨v, br_c (fun _ => ⟨v, br_c (fun _ => ⟨v, br_c (fun _ => fx_set44 hi (Or.inl rfl) (h 0)) (fun _ => z1)⟩) (fun _ => z1)⟩) (fun _ => z1)⟩) (fun _ => z1)
theorem fx_clr_l {post : SX → Prop} (hn : n ≤ 20) (h : post ((nI n), fr, fg, fm, fs, fo, fb, fe, fn, op, de, le, ri, go, be, wo, wd, wl, wr, wg, bk, fo_mx n (fun _ => 0) re, kn, va, so, ah, us, nk, nv, ns, ro, rd, rl, rr, rg, rb, pl, nu, ou, it)) : ∀ k i, i ≤ n → n - i < k → wX_clearReached_2 post (nI n) fr fg fm fs fo fb fe fn k (nI i) op de le ri go be wo wd wl wr wg bk (fo_mx i (fun _ => 0) re) kn va so ah us nk nv ns ro rd rl rr rg rb pl nu ou it := by
  intro k
  induction k with
  | zero => intro i _ hk; omega
  | succ k ih =>
    intro i hi hk
    by_cases e : i = n
    · subst e; exact br_t (nI_le (Nat.le_refl i) (by omega)) h
    · exact br_f (nI_ge (by omega) (by omega)) ⟨vp_in_nI (by omega) (by decide), nm_r (e' := fo_mx (i + 1) (fun _ => 0) re) (by rw [nI_clamp (by omega)]; exact fo_mx_s rfl) (nm_r (nI_1 i) (ih (i + 1) (by omega) (by omega)))⟩
theorem fx_clr {post : SX → Prop} (hn : n ≤ 20) (h : post ((nI n), fr, fg, fm, fs, fo, fb, fe, fn, op, de, le, ri, go, be, wo, wd, wl, wr, wg, bk, fo_mx n (fun _ => 0) re, kn, va, so, ah, us, nk, nv, ns, ro, rd, rl, rr, rg, rb, pl, nu, ou, it)) : wpX_clearReached post ((nI n), fr, fg, fm, fs, fo, fb, fe, fn, op, de, le, ri, go, be, wo, wd, wl, wr, wg, bk, re, kn, va, so, ah, us, nk, nv, ns, ro, rd, rl, rr, rg, rb, pl, nu, ou, it) := by
  have q := fx_clr_l hn h (n + 1) 0 (Nat.zero_le _) (by omega)
  rw [fo_mx_0] at q
  exact Exists.intro (n + 1) q
end
end
section
/-! walks: the first pass -/
theorem fo_mK_s {t m : Nat} {re kn va K V : Nat → Int32} {v : Int32} (h : v = (if re t = 0 then fo_nb (K m) else if kn (8 * t + m) = 0 then kn (8 * t + m) else if K m = 0 then 0 else if V m = va (8 * t + m) then kn (8 * t + m) else 0)) :
    upd (fo_mK t m re kn va K V) (8 * t + m) v = fo_mK t (m + 1) re kn va K V := by
  funext j
  by_cases e : j = 8 * t + m
  · subst e; rw [pk_us, fo_mK_i (by omega), h]
  · rw [pk_un e]
    unfold fo_mK
    by_cases w : 8 * t ≤ j ∧ j < 8 * t + m
    · rw [if_pos w, if_pos (c := 8 * t ≤ j ∧ j < 8 * t + (m + 1)) (by omega)]
    · rw [if_neg w, if_neg (c := 8 * t ≤ j ∧ j < 8 * t + (m + 1)) (by omega)]
theorem fo_mK_k {t m : Nat} {re kn va K V : Nat → Int32} (h : kn (8 * t + m) = (if re t = 0 then fo_nb (K m) else if kn (8 * t + m) = 0 then kn (8 * t + m) else if K m = 0 then 0 else if V m = va (8 * t + m) then kn (8 * t + m) else 0)) :
    fo_mK t m re kn va K V = fo_mK t (m + 1) re kn va K V := by
  rw [← fo_mK_s h]
  exact (fo_u_id (fo_mK_o (by omega)).symm).symm
theorem fo_mK_0 {t : Nat} {re kn va K V : Nat → Int32} : fo_mK t 0 re kn va K V = kn := by
  funext j; exact fo_mK_o (by omega)
theorem fo_mV_s {t m : Nat} {re va V : Nat → Int32} (h : re t = 0) : upd (fo_mV t m re va V) (8 * t + m) (V m) = fo_mV t (m + 1) re va V := by
  funext j
  by_cases e : j = 8 * t + m
  · subst e; rw [pk_us, fo_mV_i (by omega), if_pos h]
  · rw [pk_un e]
    unfold fo_mV
    by_cases w : 8 * t ≤ j ∧ j < 8 * t + m
    · rw [if_pos w, if_pos (c := 8 * t ≤ j ∧ j < 8 * t + (m + 1)) (by omega)]
    · rw [if_neg w, if_neg (c := 8 * t ≤ j ∧ j < 8 * t + (m + 1)) (by omega)]
theorem fo_mV_n {t m : Nat} {re va V : Nat → Int32} (h : ¬ re t = 0) : fo_mV t m re va V = va := by
  funext j
  unfold fo_mV
  rw [if_neg h]
  split <;> rfl
theorem fo_mV_0 {t : Nat} {re va V : Nat → Int32} : fo_mV t 0 re va V = va := by
  funext j; exact if_neg (by omega)
theorem fo_gK_e {n t : Nat} {K V K' V' : Nat → Int32} {a : fo_K} (hK : ∀ m, m < 8 → K m = K' m) (hV : ∀ m, m < 8 → V m = V' m) : fo_gK n t K V a = fo_gK n t K' V' a := by
  unfold fo_gK
  have e1 : fo_mK t 8 a.1 a.2.1 a.2.2 K V = fo_mK t 8 a.1 a.2.1 a.2.2 K' V' := by
    funext j
    by_cases w : 8 * t ≤ j ∧ j < 8 * t + 8
    · obtain ⟨m, hm, rfl⟩ : ∃ m, m < 8 ∧ j = 8 * t + m := ⟨j - 8 * t, by omega, by omega⟩
      rw [fo_mK_i hm, fo_mK_i hm, hK m hm, hV m hm]
    · rw [fo_mK_o w, fo_mK_o w]
  have e2 : fo_mV t 8 a.1 a.2.2 V = fo_mV t 8 a.1 a.2.2 V' := by
    funext j
    by_cases w : 8 * t ≤ j ∧ j < 8 * t + 8
    · obtain ⟨m, hm, rfl⟩ : ∃ m, m < 8 ∧ j = 8 * t + m := ⟨j - 8 * t, by omega, by omega⟩
      rw [fo_mV_i hm, fo_mV_i hm, hV m hm]
    · unfold fo_mV; rw [if_neg w, if_neg w]
  rw [e1, e2]
theorem fo_wK_e {i : Nat} {x : fo_I} {K K' : Nat → Int32} (hx : fo_ok i x) (hK : ∀ m, m < 8 → K m = K' m) : ∀ m, m < 8 → fo_wK x K m = fo_wK x K' m := by
  intro m hm
  have u : ∀ v v' : Int32, v = v' → upd K x.2.1.toNatClampNeg v m = upd K' x.2.1.toNatClampNeg v' m := by
    intro v v' e
    by_cases w : m = x.2.1.toNatClampNeg
    · rw [w, pk_us, pk_us, e]
    · rw [pk_un w, pk_un w, hK m hm]
  unfold fo_wK
  by_cases e0 : x.1 = 0
  · rw [if_pos e0, if_pos e0]; exact u _ _ rfl
  · have kl := hK _ (fo_cl_lt (hx.2.2.1 e0) (by decide))
    have kr := hK _ (fo_cl_lt hx.2.2.2.1 (by decide))
    rw [if_neg e0, if_neg e0]
    split
    · exact u _ _ (by rw [kl])
    · split
      · exact hK m hm
      · split
        · exact hK m hm
        · exact u _ _ (by rw [kl, kr])
theorem fo_wV_e {i : Nat} {x : fo_I} {K K' : Nat → Int32} (hx : fo_ok i x) (hK : ∀ m, m < 8 → K m = K' m) : ∀ m, m < 8 → fo_wV x K m = fo_wV x K' m := by
  intro m hm
  have u : ∀ v v' : Int32, v = v' → upd K x.2.1.toNatClampNeg v m = upd K' x.2.1.toNatClampNeg v' m := by
    intro v v' e
    by_cases w : m = x.2.1.toNatClampNeg
    · rw [w, pk_us, pk_us, e]
    · rw [pk_un w, pk_un w, hK m hm]
  unfold fo_wV
  by_cases e0 : x.1 = 0
  · rw [if_pos e0, if_pos e0]; exact u _ _ rfl
  · have kl := hK _ (fo_cl_lt (hx.2.2.1 e0) (by decide))
    have kr := hK _ (fo_cl_lt hx.2.2.2.1 (by decide))
    rw [if_neg e0, if_neg e0]
    split
    · exact u _ _ (by rw [kl])
    · split
      · exact hK m hm
      · split
        · exact hK m hm
        · exact u _ _ (by rw [kl, kr])
section
variable {n : Nat} {fr fg fm fs fo fb fe fn : Int32} {op de le ri go be wo wd wl wr wg bk re kn va so ah us nk nv ns ro rd rl rr rg rb pl nu ou it : Nat → Int32}
theorem fx_ldK_l {post : SX → Prop} {i : Nat} (hi : i < 20) (h : post ((nI n), fr, fg, fm, fs, fo, fb, fe, fn, op, de, le, ri, go, be, wo, wd, wl, wr, wg, bk, re, kn, va, so, ah, us, fo_mx 8 (fo_lK kn i) nk, fo_mx 8 (fo_lV va i) nv, ns, ro, rd, rl, rr, rg, rb, pl, nu, ou, it)) : ∀ k m, m ≤ 8 → 8 - m < k →
    wX_loadKnown_2 post (nI i) (nI n) fr fg fm fs fo fb fe fn k (nI m) op de le ri go be wo wd wl wr wg bk re kn va so ah us (fo_mx m (fo_lK kn i) nk) (fo_mx m (fo_lV va i) nv) ns ro rd rl rr rg rb pl nu ou it := by
  intro k
  induction k with
  | zero => intro m _ hk; omega
  | succ k ih =>
    intro m hm hk
    by_cases e : m = 8
    · subst e; exact br_t (nI_le (Nat.le_refl 8) (by omega)) h
    · have v1 : vp_in (8 * nI i + nI m) 160 := by rw [fo_8]; exact vp_in_nI (by omega) (by decide)
      have v2 : vp_in (nI m) 8 := vp_in_nI (by omega) (by decide)
      have c1 : (8 * nI i + nI m).toNatClampNeg = 8 * i + m := by rw [fo_8]; exact nI_clamp (by omega)
      have c2 : (nI m).toNatClampNeg = m := nI_clamp (by omega)
      exact br_f (nI_ge (b := 8) (by omega) (by omega)) ⟨v1, v2, nm_r (e' := fo_mx (m + 1) (fo_lK kn i) nk) (by rw [c1, c2]; exact fo_mx_s rfl) ⟨v1, v2, nm_r (e' := fo_mx (m + 1) (fo_lV va i) nv) (by rw [c1, c2]; exact fo_mx_s rfl) (nm_r (nI_1 m) (ih (m + 1) (by omega) (by omega)))⟩⟩
theorem fx_ldK {post : SX → Prop} {i : Nat} (hi : i < 20) (h : post ((nI n), fr, fg, fm, fs, fo, fb, fe, fn, op, de, le, ri, go, be, wo, wd, wl, wr, wg, bk, re, kn, va, so, ah, us, fo_mx 8 (fo_lK kn i) nk, fo_mx 8 (fo_lV va i) nv, ns, ro, rd, rl, rr, rg, rb, pl, nu, ou, it)) : wpX_loadKnown post ((nI n), fr, fg, fm, fs, fo, fb, fe, fn, op, de, le, ri, go, be, wo, wd, wl, wr, wg, bk, re, kn, va, so, ah, us, nk, nv, ns, ro, rd, rl, rr, rg, rb, pl, nu, ou, it) (nI i) := by
  have q := fx_ldK_l hi h 9 0 (Nat.zero_le _) (by omega)
  rw [fo_mx_0, fo_mx_0] at q
  exact Exists.intro 9 q
theorem fx_gK_l {post : SX → Prop} {t : Nat} {f0 : Int32} (ht : t < 20)
    (hp : ∀ f, (f = 0 → f0 = 0 ∧ ¬ re t = 0 ∧ fo_mK t 8 re kn va nk nv = kn) → post ((nI n), fr, fg, f, fs, fo, fb, fe, fn, op, de, le, ri, go, be, wo, wd, wl, wr, wg, bk, upd re t 1, fo_mK t 8 re kn va nk nv, fo_mV t 8 re va nv, so, ah, us, nk, nv, ns, ro, rd, rl, rr, rg, rb, pl, nu, ou, it)) : ∀ k m f, m ≤ 8 → 8 - m < k → (f = 0 → f0 = 0 ∧ (¬ re t = 0 → fo_mK t m re kn va nk nv = kn)) →
    wX_mergeKnown_11 post (nI t) (nI n) fr fg fs fo fb fe fn k (nI m) f op de le ri go be wo wd wl wr wg bk re (fo_mK t m re kn va nk nv) (fo_mV t m re va nv) so ah us nk nv ns ro rd rl rr rg rb pl nu ou it := by
  have vt : vp_in (nI t) 20 := vp_in_nI ht (by decide)
  have ct : (nI t).toNatClampNeg = t := nI_clamp (by omega)
  intro k
  induction k with
  | zero => intro m f _ hk; omega
  | succ k ih =>
    intro m f hm hk hf
    by_cases e : m = 8
    · subst e
      have z1 : ∀ g, wX_mergeKnown_128 post (nI t) (nI n) fr fg g fs fo fb fe fn op de le ri go be wo wd wl wr wg bk re (fo_mK t 8 re kn va nk nv) (fo_mV t 8 re va nv) so ah us nk nv ns ro rd rl rr rg rb pl nu ou it :=
        fun g => ⟨vt, nm_r (e' := upd re t 1) (by rw [ct]; rfl) (hp 1 (fun z => absurd z (by decide)))⟩
      exact br_t (nI_le (Nat.le_refl 8) (by omega)) (br_c (fun hz => ⟨vt, br_c (fun _ => z1 _) (fun hr => ⟨vt, nm_r (e' := upd re t 1) (by rw [ct]; rfl) (hp 0 (fun _ => by
        rw [ct] at hr
        exact ⟨(hf hz).1, hr, (hf hz).2 hr⟩))⟩)⟩) (fun _ => z1 _))
    · have v1 : vp_in (nI (8 * t + m)) 160 := vp_in_nI (by omega) (by decide)
      have v2 : vp_in (nI m) 8 := vp_in_nI (by omega) (by decide)
      have c1 : (nI (8 * t + m)).toNatClampNeg = 8 * t + m := nI_clamp (by omega)
      have c2 : (nI m).toNatClampNeg = m := nI_clamp (by omega)
      have o1 : fo_mK t m re kn va nk nv (8 * t + m) = kn (8 * t + m) := fo_mK_o (by omega)
      have o2 : fo_mV t m re va nv (8 * t + m) = va (8 * t + m) := if_neg (by omega)
      refine br_f (nI_ge (b := 8) (by omega) (by omega)) (nm_r (e' := nI (8 * t + m)) (fo_8 t m) ⟨vt, br_c (fun hr => ?_) (fun hr => ?_)⟩)
      · rw [ct] at hr
        exact ⟨v2, v1, nm_r (e' := fo_mK t (m + 1) re kn va nk nv) (by rw [c1, c2]; exact fo_mK_s (by rw [if_pos hr]; rfl)) ⟨v2, v1, nm_r (e' := fo_mV t (m + 1) re va nv) (by rw [c1, c2]; exact fo_mV_s hr) (nm_r (nI_1 m) (ih (m + 1) f (by omega) (by omega) (fun z => ⟨(hf z).1, fun w => absurd hr w⟩)))⟩⟩
      · rw [ct] at hr
        have keep : kn (8 * t + m) = (if re t = 0 then fo_nb (nk m) else if kn (8 * t + m) = 0 then kn (8 * t + m) else if nk m = 0 then 0 else if nv m = va (8 * t + m) then kn (8 * t + m) else 0) →
            wX_mergeKnown_11 post (nI t) (nI n) fr fg fs fo fb fe fn k (nI (m + 1)) f op de le ri go be wo wd wl wr wg bk re (fo_mK t m re kn va nk nv) (fo_mV t m re va nv) so ah us nk nv ns ro rd rl rr rg rb pl nu ou it := by
          intro hc
          have q := ih (m + 1) f (by omega) (by omega) (fun z => ⟨(hf z).1, fun w => by rw [← fo_mK_k hc]; exact (hf z).2 w⟩)
          rw [← fo_mK_k hc, fo_mV_n hr] at q
          rw [fo_mV_n hr]
          exact q
        have lose : ¬ kn (8 * t + m) = 0 → (nk m = 0 ∨ ¬ nv m = va (8 * t + m)) →
            wX_mergeKnown_93 post (wX_mergeKnown_11 post (nI t) (nI n) fr fg fs fo fb fe fn k) (nI t) (nI m) (nI (8 * t + m)) (nI n) fr fg f fs fo fb fe fn op de le ri go be wo wd wl wr wg bk re (fo_mK t m re kn va nk nv) (fo_mV t m re va nv) so ah us nk nv ns ro rd rl rr rg rb pl nu ou it := by
          intro h1 h2
          have hc : (0 : Int32) = (if re t = 0 then fo_nb (nk m) else if kn (8 * t + m) = 0 then kn (8 * t + m) else if nk m = 0 then 0 else if nv m = va (8 * t + m) then kn (8 * t + m) else 0) := by
            rw [if_neg hr, if_neg h1]
            by_cases h3 : nk m = 0
            · rw [if_pos h3]
            · rw [if_neg h3, if_neg (h2.resolve_left h3)]
          have q := ih (m + 1) 1 (by omega) (by omega) (fun z => absurd z (by decide))
          rw [fo_mV_n hr] at q
          rw [fo_mV_n hr]
          exact ⟨v1, nm_r (e' := fo_mK t (m + 1) re kn va nk nv) (by rw [c1]; exact fo_mK_s hc) (nm_r (nI_1 m) q)⟩
        refine ⟨v1, br_c (fun h1 => ?_) (fun h1 => ⟨v2, br_c (fun h2 => ?_) (fun h2 => ⟨v2, v1, br_c (fun h3 => ?_) (fun h3 => ?_)⟩)⟩)⟩
        · rw [c1, o1] at h1
          exact nm_r (nI_1 m) (keep (by rw [if_neg hr, if_pos h1]))
        · rw [c1, o1] at h1
          rw [c2] at h2
          exact lose h1 (Or.inl h2)
        · rw [c1, o1] at h1
          rw [c2] at h2
          rw [c2, c1, o2] at h3
          exact nm_r (nI_1 m) (keep (by rw [if_neg hr, if_neg h1, if_neg h2, if_pos h3]))
        · rw [c1, o1] at h1
          rw [c2, c1, o2] at h3
          exact lose h1 (Or.inr h3)
theorem fx_gK {post : SX → Prop} {t : Nat} {p : Int32} (ep : p = nI t) (hn : n ≤ 20) (ht : t ≤ 20) (hb : ∀ j, j < n → re j = 0 ∨ re j = 1)
    (hp : ∀ f, (f = 0 → fm = 0 ∧ fo_gK n t nk nv (re, kn, va) = (re, kn, va)) → post ((nI n), fr, fg, f, fs, fo, fb, fe, fn, op, de, le, ri, go, be, wo, wd, wl, wr, wg, bk, (fo_gK n t nk nv (re, kn, va)).1, (fo_gK n t nk nv (re, kn, va)).2.1, (fo_gK n t nk nv (re, kn, va)).2.2, so, ah, us, nk, nv, ns, ro, rd, rl, rr, rg, rb, pl, nu, ou, it)) :
    wpX_mergeKnown post ((nI n), fr, fg, fm, fs, fo, fb, fe, fn, op, de, le, ri, go, be, wo, wd, wl, wr, wg, bk, re, kn, va, so, ah, us, nk, nv, ns, ro, rd, rl, rr, rg, rb, pl, nu, ou, it) p := by
  subst ep
  by_cases h : t < n
  · have e : fo_gK n t nk nv (re, kn, va) = (upd re t 1, fo_mK t 8 re kn va nk nv, fo_mV t 8 re va nv) := if_neg (by omega)
    rw [e] at hp
    have q := fx_gK_l (f0 := fm) (by omega) (fun f hf => hp f (fun z => by
      obtain ⟨a, b, c⟩ := hf z
      refine ⟨a, ?_⟩
      rw [c, fo_mV_n b, fo_u_id (by rcases hb t h with w | w; exact absurd w b; exact w.symm)])) 9 0 fm (Nat.zero_le _) (by omega) (fun z => ⟨z, fun _ => fo_mK_0⟩)
    rw [fo_mK_0, fo_mV_0] at q
    exact br_t (nI_lt h (by omega)) (Exists.intro 9 q)
  · have e : fo_gK n t nk nv (re, kn, va) = (re, kn, va) := if_pos (by omega)
    have q := hp fm (fun z => ⟨z, e⟩)
    rw [e] at q
    exact br_f (nI_nlt (by omega) (by omega)) q
theorem fx_wK {post : SX → Prop} {i : Nat} (hi : i < 20) (ok : fo_ok i (fo_pr wo wd wl wr wg bk i)) (h : post ((nI n), fr, fg, fm, fs, fo, fb, fe, fn, op, de, le, ri, go, be, wo, wd, wl, wr, wg, bk, re, kn, va, so, ah, us, fo_wK (fo_pr wo wd wl wr wg bk i) nk, fo_wV (fo_pr wo wd wl wr wg bk i) nv, ns, ro, rd, rl, rr, rg, rb, pl, nu, ou, it)) : wpX_workKnown post ((nI n), fr, fg, fm, fs, fo, fb, fe, fn, op, de, le, ri, go, be, wo, wd, wl, wr, wg, bk, re, kn, va, so, ah, us, nk, nv, ns, ro, rd, rl, rr, rg, rb, pl, nu, ou, it) (nI i) := by
  have v : vp_in (nI i) 20 := vp_in_nI hi (by decide)
  have c : (nI i).toNatClampNeg = i := nI_clamp (by omega)
  obtain ⟨o1, o2, o3, o4, _⟩ := ok
  have k : ∀ K V, K = fo_wK (fo_pr wo wd wl wr wg bk i) nk → V = fo_wV (fo_pr wo wd wl wr wg bk i) nv → post ((nI n), fr, fg, fm, fs, fo, fb, fe, fn, op, de, le, ri, go, be, wo, wd, wl, wr, wg, bk, re, kn, va, so, ah, us, K, V, ns, ro, rd, rl, rr, rg, rb, pl, nu, ou, it) := fun K V e1 e2 => by rw [e1, e2]; exact h
  unfold fo_wK fo_wV at k
  show vp_in (nI i) 20 ∧ _
  rw [c]
  refine ⟨v, nm_e ⟨v, nm_e (br_c (fun e => ?_) (fun e0 => br_c (fun e => ?_) (fun e1 => fx_sum (fun sm => ?_) (fun sm => ?_))))⟩⟩
  · refine ⟨o2, nm_e ⟨v, o2, nm_e (k _ _ ?_ ?_)⟩⟩
    · rw [if_pos (show (fo_pr wo wd wl wr wg bk i).1 = 0 from e)]; rfl
    · rw [if_pos (show (fo_pr wo wd wl wr wg bk i).1 = 0 from e)]; rfl
  · have ol := o3 (show (fo_pr wo wd wl wr wg bk i).1 ≠ 0 from e0)
    refine ⟨v, ol, o2, nm_e ⟨v, ol, o2, nm_e (k _ _ ?_ ?_)⟩⟩
    · rw [if_neg (show ¬ (fo_pr wo wd wl wr wg bk i).1 = 0 from e0), if_pos (show (fo_pr wo wd wl wr wg bk i).1 = 1 from e)]; rfl
    · rw [if_neg (show ¬ (fo_pr wo wd wl wr wg bk i).1 = 0 from e0), if_pos (show (fo_pr wo wd wl wr wg bk i).1 = 1 from e)]; rfl
  · have ol := o3 (show (fo_pr wo wd wl wr wg bk i).1 ≠ 0 from e0)
    have W : ∀ z, z = (if nk (wl i).toNatClampNeg = 0 then 0 else if nk (wr i).toNatClampNeg = 0 then 0 else 1) → wX_workKnown_123 post (nI i) (wo i) (wd i) z (nI n) fr fg fm fs fo fb fe fn op de le ri go be wo wd wl wr wg bk re kn va so ah us nk nv ns ro rd rl rr rg rb pl nu ou it := by
      intro z ez
      unfold wX_workKnown_123
      rw [c]
      refine ⟨v, ol, v, o4, fx_wkd ⟨o2, nm_e ⟨o2, nm_e (k _ _ ?_ ?_)⟩⟩⟩
      · rw [if_neg (show ¬ (fo_pr wo wd wl wr wg bk i).1 = 0 from e0), if_neg (show ¬ (fo_pr wo wd wl wr wg bk i).1 = 1 from e1), if_neg (show ¬ (fo_pr wo wd wl wr wg bk i).1 < 2 from sm.1), if_neg (show ¬ 7 < (fo_pr wo wd wl wr wg bk i).1 from sm.2), ez]
        show upd nk (wd i).toNatClampNeg (fo_nb _) = upd nk (wd i).toNatClampNeg _
        congr 1
        show fo_nb (if nk (wl i).toNatClampNeg = 0 then 0 else if nk (wr i).toNatClampNeg = 0 then 0 else 1) = if nk (wl i).toNatClampNeg = 0 then 0 else if nk (wr i).toNatClampNeg = 0 then 0 else 1
        split
        · rfl
        · split <;> rfl
      · rw [if_neg (show ¬ (fo_pr wo wd wl wr wg bk i).1 = 0 from e0), if_neg (show ¬ (fo_pr wo wd wl wr wg bk i).1 = 1 from e1), if_neg (show ¬ (fo_pr wo wd wl wr wg bk i).1 < 2 from sm.1), if_neg (show ¬ 7 < (fo_pr wo wd wl wr wg bk i).1 from sm.2)]
        rfl
    exact ⟨v, ol, br_c (fun h1 => W 0 (by rw [if_pos h1])) (fun h1 => ⟨v, o4, br_c (fun h2 => W 0 (by rw [if_neg h1, if_pos h2])) (fun h2 => W 1 (by rw [if_neg h1, if_neg h2]))⟩)⟩
  · have q : ∀ {α : Type} {A B C D : α}, (if (fo_pr wo wd wl wr wg bk i).1 = 0 then A else if (fo_pr wo wd wl wr wg bk i).1 = 1 then B else if (fo_pr wo wd wl wr wg bk i).1 < 2 then C else if 7 < (fo_pr wo wd wl wr wg bk i).1 then C else D) = C := by
      intro α A B C D
      rw [if_neg (show ¬ (fo_pr wo wd wl wr wg bk i).1 = 0 from e0), if_neg (show ¬ (fo_pr wo wd wl wr wg bk i).1 = 1 from e1)]
      by_cases l2 : (fo_pr wo wd wl wr wg bk i).1 < 2
      · rw [if_pos l2]
      · rw [if_neg l2]
        by_cases l7 : 7 < (fo_pr wo wd wl wr wg bk i).1
        · rw [if_pos l7]
        · exact absurd ⟨l2, l7⟩ sm
    exact k _ _ q.symm q.symm
end
end
section
/-! walks: the first pass, the search -/
theorem fo_gK_b {n t : Nat} {K V : Nat → Int32} {a : fo_K} (h : ∀ j, j < n → a.1 j = 0 ∨ a.1 j = 1) : ∀ j, j < n → (fo_gK n t K V a).1 j = 0 ∨ (fo_gK n t K V a).1 j = 1 := by
  intro j hj
  unfold fo_gK
  by_cases ht : n ≤ t
  · rw [if_pos ht]; exact h j hj
  · rw [if_neg ht]
    show upd a.1 t 1 j = 0 ∨ upd a.1 t 1 j = 1
    by_cases e : j = t
    · rw [e, pk_us]; exact Or.inr rfl
    · rw [pk_un e]; exact h j hj
theorem fo_vn {x : Int32} {b : Nat} (h : vp_in x b) (hb : b < 2 ^ 31) : x = nI x.toNatClampNeg := by
  obtain ⟨j, hj, rfl⟩ := vp_in_of h hb
  rw [nI_clamp (by omega)]
section
variable {n : Nat} {fr fg fm fs fo fb fe fn : Int32} {op de le ri go be wo wd wl wr wg bk re kn va so ah us nk nv ns ro rd rl rr rg rb pl nu ou it : Nat → Int32}
theorem fx_pK {post : SX → Prop} {i : Nat} (hwf : fo_wf (fo_pr wo wd wl wr wg bk) n) (hi : i < n) (hr : ¬ re i = 0) (hb : ∀ j, j < n → re j = 0 ∨ re j = 1)
    (hp : ∀ f nk' nv', (f = 0 → fm = 0 ∧ fo_pK (fo_pr wo wd wl wr wg bk) n i (re, kn, va) = (re, kn, va)) → post ((nI n), fr, fg, f, fs, fo, fb, fe, fn, op, de, le, ri, go, be, wo, wd, wl, wr, wg, bk, (fo_pK (fo_pr wo wd wl wr wg bk) n i (re, kn, va)).1, (fo_pK (fo_pr wo wd wl wr wg bk) n i (re, kn, va)).2.1, (fo_pK (fo_pr wo wd wl wr wg bk) n i (re, kn, va)).2.2, so, ah, us, nk', nv', ns, ro, rd, rl, rr, rg, rb, pl, nu, ou, it)) :
    wpX_passKnown post ((nI n), fr, fg, fm, fs, fo, fb, fe, fn, op, de, le, ri, go, be, wo, wd, wl, wr, wg, bk, re, kn, va, so, ah, us, nk, nv, ns, ro, rd, rl, rr, rg, rb, pl, nu, ou, it) (nI i) := by
  have hn := hwf.1
  have ok := hwf.2 i hi
  have v : vp_in (nI i) 20 := vp_in_nI (by omega) (by decide)
  have c : (nI i).toNatClampNeg = i := nI_clamp (by omega)
  have k : ∀ (b : fo_K) f nk' nv', b = fo_pK (fo_pr wo wd wl wr wg bk) n i (re, kn, va) → (f = 0 → fm = 0 ∧ b = (re, kn, va)) → post ((nI n), fr, fg, f, fs, fo, fb, fe, fn, op, de, le, ri, go, be, wo, wd, wl, wr, wg, bk, b.1, b.2.1, b.2.2, so, ah, us, nk', nv', ns, ro, rd, rl, rr, rg, rb, pl, nu, ou, it) := by
    intro b f nk' nv' e h
    rw [e] at h ⊢
    exact hp f nk' nv' h
  refine fx_ldK (by omega) (fx_wK (by omega) ok ?_)
  have eK : ∀ m, m < 8 → fo_wK ((fo_pr wo wd wl wr wg bk) i) (fo_mx 8 (fo_lK kn i) nk) m = fo_wK ((fo_pr wo wd wl wr wg bk) i) (fo_lK kn i) m := fo_wK_e ok (fun m hm => fo_mx_l hm)
  have eV : ∀ m, m < 8 → fo_wV ((fo_pr wo wd wl wr wg bk) i) (fo_mx 8 (fo_lV va i) nv) m = fo_wV ((fo_pr wo wd wl wr wg bk) i) (fo_lV va i) m := fo_wV_e ok (fun m hm => fo_mx_l hm)
  generalize fo_wK ((fo_pr wo wd wl wr wg bk) i) (fo_mx 8 (fo_lK kn i) nk) = K at eK
  generalize fo_wV ((fo_pr wo wd wl wr wg bk) i) (fo_mx 8 (fo_lV va i) nv) = V at eV
  have eg : wg i = nI (wg i).toNatClampNeg := fo_vn ok.2.2.2.2.1 (by decide)
  have g20 : (wg i).toNatClampNeg ≤ 20 := by
    have := fo_cl_lt ok.2.2.2.2.1 (by decide)
    have e : ((fo_pr wo wd wl wr wg bk) i).2.2.2.2.1.toNatClampNeg = (wg i).toNatClampNeg := rfl
    omega
  have gE : ∀ t a, fo_gK n t K V a = fo_gK n t (fo_wK ((fo_pr wo wd wl wr wg bk) i) (fo_lK kn i)) (fo_wV ((fo_pr wo wd wl wr wg bk) i) (fo_lV va i)) a := fun t a => fo_gK_e eK eV
  have pE : fo_pK (fo_pr wo wd wl wr wg bk) n i (re, kn, va) = (if wo i = 8 then fo_gK n (wg i).toNatClampNeg K V (re, kn, va) else if wo i = 9 then
      (if fo_wK ((fo_pr wo wd wl wr wg bk) i) (fo_lK kn i) (wl i).toNatClampNeg = 0 then fo_gK n (i + 1) K V (fo_gK n (wg i).toNatClampNeg K V (re, kn, va)) else if fo_wV ((fo_pr wo wd wl wr wg bk) i) (fo_lV va i) (wl i).toNatClampNeg = 0 then fo_gK n (i + 1) K V (re, kn, va) else fo_gK n (wg i).toNatClampNeg K V (re, kn, va))
      else if wo i = 11 then (re, kn, va) else fo_gK n (i + 1) K V (re, kn, va)) := by
    unfold fo_pK
    rw [if_neg hr]
    rw [gE, gE, gE]
    rfl
  show vp_in (nI i) 20 ∧ _
  rw [c]
  refine ⟨v, nm_e (br_c (fun e8 => ⟨v, fx_gK eg hn g20 hb (fun f hf => ?_)⟩) (fun e8 => br_c (fun e9 => ?_) (fun e9 => br_c (fun e11 => ?_) (fun e11 => fx_gK (nI_1 i) hn (by omega) hb (fun f hf => ?_)))))⟩
  · exact k (fo_gK n (wg i).toNatClampNeg K V (re, kn, va)) f _ _ (by rw [pE, if_pos e8]) hf
  · have ol : vp_in (wl i) 8 := ok.2.2.1 (show wo i ≠ 0 by rw [e9]; decide)
    have l8 := fo_cl_lt ol (by decide)
    have pE' : fo_pK (fo_pr wo wd wl wr wg bk) n i (re, kn, va) = (if K (wl i).toNatClampNeg = 0 then fo_gK n (i + 1) K V (fo_gK n (wg i).toNatClampNeg K V (re, kn, va)) else if V (wl i).toNatClampNeg = 0 then fo_gK n (i + 1) K V (re, kn, va) else fo_gK n (wg i).toNatClampNeg K V (re, kn, va)) := by
      rw [pE, if_neg e8, if_pos e9, eK _ l8, eV _ l8]
    -- both ways
    have both : ∀ z, K (wl i).toNatClampNeg = 0 → wX_passKnown_84 post (nI i) (K (wl i).toNatClampNeg) z (nI n) fr fg fm fs fo fb fe fn op de le ri go be wo wd wl wr wg bk re kn va so ah us K V ns ro rd rl rr rg rb pl nu ou it := by
      intro z hk
      unfold wX_passKnown_84
      rw [c]
      refine ⟨v, fx_gK eg hn g20 hb (fun f hf => ?_)⟩
      refine br_t hk (fx_gK (nI_1 i) hn (by omega) (fo_gK_b hb) (fun f2 hf2 => ?_))
      refine k (fo_gK n (i + 1) K V (fo_gK n (wg i).toNatClampNeg K V (re, kn, va))) f2 _ _ (by rw [pE', if_pos hk]) (fun z => ?_)
      obtain ⟨y1, y2⟩ := hf2 z
      obtain ⟨y3, y4⟩ := hf y1
      exact ⟨y3, y2.trans y4⟩
    have goal : ¬ K (wl i).toNatClampNeg = 0 → ¬ V (wl i).toNatClampNeg = 0 → wX_passKnown_84 post (nI i) (K (wl i).toNatClampNeg) 1 (nI n) fr fg fm fs fo fb fe fn op de le ri go be wo wd wl wr wg bk re kn va so ah us K V ns ro rd rl rr rg rb pl nu ou it := by
      intro hk hv
      unfold wX_passKnown_84
      rw [c]
      refine ⟨v, fx_gK eg hn g20 hb (fun f hf => ?_)⟩
      exact br_f hk (br_f (by decide) (k (fo_gK n (wg i).toNatClampNeg K V (re, kn, va)) f _ _ (by rw [pE', if_neg hk, if_neg hv]) hf))
    have next : ¬ K (wl i).toNatClampNeg = 0 → V (wl i).toNatClampNeg = 0 → wX_passKnown_94 post (nI i) (K (wl i).toNatClampNeg) 0 (nI n) fr fg fm fs fo fb fe fn op de le ri go be wo wd wl wr wg bk re kn va so ah us K V ns ro rd rl rr rg rb pl nu ou it := by
      intro hk hv
      exact br_f hk (br_t rfl (fx_gK (nI_1 i) hn (by omega) hb (fun f hf => k (fo_gK n (i + 1) K V (re, kn, va)) f _ _ (by rw [pE', if_neg hk, if_pos hv]) hf)))
    exact ⟨v, ol, nm_e ⟨v, ol, br_c (fun hv => br_c (fun hk => both 0 hk) (fun hk => br_t rfl (next hk hv))) (fun hv => br_c (fun hk => both 1 hk) (fun hk => br_f (by decide) (goal hk hv)))⟩⟩
  · exact k (re, kn, va) fm _ _ (by rw [pE, if_neg e8, if_neg e9, if_pos e11]) (fun z => ⟨z, rfl⟩)
  · exact k (fo_gK n (i + 1) K V (re, kn, va)) f _ _ (by rw [pE, if_neg e8, if_neg e9, if_neg e11]) hf
theorem fx_K71 {post : SX → Prop} {J : Int32 → Int32 → Int32 → Int32 → Int32 → Int32 → Int32 → Int32 → Int32 → Int32 → (Nat → Int32) → (Nat → Int32) → (Nat → Int32) → (Nat → Int32) → (Nat → Int32) → (Nat → Int32) → (Nat → Int32) → (Nat → Int32) → (Nat → Int32) → (Nat → Int32) → (Nat → Int32) → (Nat → Int32) → (Nat → Int32) → (Nat → Int32) → (Nat → Int32) → (Nat → Int32) → (Nat → Int32) → (Nat → Int32) → (Nat → Int32) → (Nat → Int32) → (Nat → Int32) → (Nat → Int32) → (Nat → Int32) → (Nat → Int32) → (Nat → Int32) → (Nat → Int32) → (Nat → Int32) → (Nat → Int32) → (Nat → Int32) → (Nat → Int32) → (Nat → Int32) → Prop} {a : fo_K} {x1 : Nat} (hwf : fo_wf (fo_pr wo wd wl wr wg bk) n) (hJK : fo_JK n a)
    (hJ : ∀ f nk nv, (f = 0 → ∀ j, j < n → fo_pK (fo_pr wo wd wl wr wg bk) n j a = a) → J (nI (x1 + 1)) (nI n) fr fg f fs fo fb fe fn op de le ri go be wo wd wl wr wg bk ((fo_it (fo_pK (fo_pr wo wd wl wr wg bk) n) n a).1) ((fo_it (fo_pK (fo_pr wo wd wl wr wg bk) n) n a).2.1) ((fo_it (fo_pK (fo_pr wo wd wl wr wg bk) n) n a).2.2) so ah us nk nv ns ro rd rl rr rg rb pl nu ou it) :
    ∀ k i f nk nv, i ≤ n → n - i < k → (f = 0 → ∀ j, j < i → fo_pK (fo_pr wo wd wl wr wg bk) n j a = a) →
    wX_findKnown_71 post J (nI x1) k (nI i) (nI n) fr fg f fs fo fb fe fn op de le ri go be wo wd wl wr wg bk ((fo_it (fo_pK (fo_pr wo wd wl wr wg bk) n) i a).1) ((fo_it (fo_pK (fo_pr wo wd wl wr wg bk) n) i a).2.1) ((fo_it (fo_pK (fo_pr wo wd wl wr wg bk) n) i a).2.2) so ah us nk nv ns ro rd rl rr rg rb pl nu ou it := by
  have hn := hwf.1
  intro k
  induction k with
  | zero => intro i f nk nv _ hk; omega
  | succ k ih =>
    intro i f nk nv hi hk hf
    by_cases e : i = n
    · subst e; exact br_t (nI_le (Nat.le_refl i) (by omega)) (nm_r (nI_1 x1) (hJ f nk nv hf))
    · have v : vp_in (nI i) 20 := vp_in_nI (by omega) (by decide)
      have c : (nI i).toNatClampNeg = i := nI_clamp (by omega)
      have hJi := fo_it_inv (pass := fo_pK (fo_pr wo wd wl wr wg bk) n) (n := n) (Inv := fo_JK n) (fun _ _ _ w => fo_pK_J w) hJK i (by omega)
      have fx : f = 0 → fo_it (fo_pK (fo_pr wo wd wl wr wg bk) n) i a = a := fun z => fo_it_fix (fun j hj => hf z j hj)
      have ei : fo_it (fo_pK (fo_pr wo wd wl wr wg bk) n) (i + 1) a = fo_pK (fo_pr wo wd wl wr wg bk) n i (fo_it (fo_pK (fo_pr wo wd wl wr wg bk) n) i a) := rfl
      refine br_f (nI_ge (by omega) (by omega)) ⟨v, br_c (fun hr => ?_) (fun hr => fx_pK hwf (by omega) (by rw [c] at hr; exact hr) hJi.1 (fun f2 nk2 nv2 h2 => ?_))⟩
      · rw [c] at hr
        have e1 : fo_pK (fo_pr wo wd wl wr wg bk) n i (fo_it (fo_pK (fo_pr wo wd wl wr wg bk) n) i a) = fo_it (fo_pK (fo_pr wo wd wl wr wg bk) n) i a := if_pos hr
        have q := ih (i + 1) f nk nv (by omega) (by omega) (fun z j hj => by
          by_cases w : j = i
          · rw [w]; rw [fx z] at e1; exact e1
          · exact hf z j (by omega))
        rw [ei, e1] at q
        exact nm_r (nI_1 i) q
      · have q := ih (i + 1) f2 nk2 nv2 (by omega) (by omega) (fun z j hj => by
          obtain ⟨y1, y2⟩ := h2 z
          have y3 : fo_pK (fo_pr wo wd wl wr wg bk) n i (fo_it (fo_pK (fo_pr wo wd wl wr wg bk) n) i a) = fo_it (fo_pK (fo_pr wo wd wl wr wg bk) n) i a := y2
          by_cases w : j = i
          · rw [w]; rw [fx y1] at y3; exact y3
          · exact hf y1 j (by omega))
        exact nm_r (nI_1 i) q
theorem fx_K50 {post : SX → Prop} {a : fo_K} (hwf : fo_wf (fo_pr wo wd wl wr wg bk) n) (hJK : fo_JK n a)
    (hp : ∀ (b : fo_K) f nk nv, fo_JK n b → (∀ j, j < n → fo_pK (fo_pr wo wd wl wr wg bk) n j b = b) → post ((nI n), fr, fg, f, fs, fo, fb, fe, fn, op, de, le, ri, go, be, wo, wd, wl, wr, wg, bk, b.1, b.2.1, b.2.2, so, ah, us, nk, nv, ns, ro, rd, rl, rr, rg, rb, pl, nu, ou, it)) :
    ∀ k r f nk nv, r ≤ 200 → 200 - r < k → (f = 0 → ∀ j, j < n → fo_pK (fo_pr wo wd wl wr wg bk) n j (fo_rs (fo_pK (fo_pr wo wd wl wr wg bk) n) n r a) = fo_rs (fo_pK (fo_pr wo wd wl wr wg bk) n) n r a) →
    wX_findKnown_50 post k (nI r) (nI n) fr fg f fs fo fb fe fn op de le ri go be wo wd wl wr wg bk ((fo_rs (fo_pK (fo_pr wo wd wl wr wg bk) n) n r a).1) ((fo_rs (fo_pK (fo_pr wo wd wl wr wg bk) n) n r a).2.1) ((fo_rs (fo_pK (fo_pr wo wd wl wr wg bk) n) n r a).2.2) so ah us nk nv ns ro rd rl rr rg rb pl nu ou it := by
  have hn := hwf.1
  intro k
  induction k with
  | zero => intro r f nk nv _ hk; omega
  | succ k ih =>
    intro r f nk nv hr hk hf
    have hJr := fo_rs_inv (pass := fo_pK (fo_pr wo wd wl wr wg bk) n) (n := n) (Inv := fo_JK n) (fun _ _ _ w => fo_pK_J w) hJK r
    by_cases e : r = 200
    · subst e; exact br_t (nI_le (Nat.le_refl 200) (by omega)) (hp _ f nk nv hJr (fo_K200 hn hJK))
    · refine br_f (nI_ge (b := 200) (by omega) (by omega)) (br_c (fun hz => hp _ f nk nv hJr (hf hz)) (fun hz => Exists.intro (n + 1) ?_))
      exact fx_K71 (a := fo_rs (fo_pK (fo_pr wo wd wl wr wg bk) n) n r a) hwf hJr (fun f2 nk2 nv2 h2 => ih (r + 1) f2 nk2 nv2 (by omega) (by omega) (fun z => by
        have w := fo_it_fix (h2 z)
        show ∀ j, j < n → fo_pK (fo_pr wo wd wl wr wg bk) n j (fo_it (fo_pK (fo_pr wo wd wl wr wg bk) n) n (fo_rs (fo_pK (fo_pr wo wd wl wr wg bk) n) n r a)) = fo_it (fo_pK (fo_pr wo wd wl wr wg bk) n) n (fo_rs (fo_pK (fo_pr wo wd wl wr wg bk) n) n r a)
        rw [w]
        exact h2 z)) (n + 1) 0 0 nk nv (Nat.zero_le _) (by omega) (fun _ j hj => by omega)
theorem fx_fK {post : SX → Prop} (hwf : fo_wf (fo_pr wo wd wl wr wg bk) n)
    (hp : ∀ (b : fo_K) f nk nv, fo_JK n b → (∀ j, j < n → fo_pK (fo_pr wo wd wl wr wg bk) n j b = b) → post ((nI n), fr, fg, f, fs, fo, fb, fe, fn, op, de, le, ri, go, be, wo, wd, wl, wr, wg, bk, b.1, b.2.1, b.2.2, so, ah, us, nk, nv, ns, ro, rd, rl, rr, rg, rb, pl, nu, ou, it)) : wpX_findKnown post ((nI n), fr, fg, fm, fs, fo, fb, fe, fn, op, de, le, ri, go, be, wo, wd, wl, wr, wg, bk, re, kn, va, so, ah, us, nk, nv, ns, ro, rd, rl, rr, rg, rb, pl, nu, ou, it) := by
  have hn := hwf.1
  refine fx_clr hn ?_
  -- the start
  have st : ∀ z : Int32, (z = if n = 0 then 0 else 1) → ∃ k, wX_findKnown_50 post k 0 (nI n) fr fg 1 fs fo fb fe fn op de le ri go be wo wd wl wr wg bk (upd (fo_mx n (fun _ => 0) re) 0 z) (fo_mx 8 (fun _ => 0) kn) va so ah us nk nv ns ro rd rl rr rg rb pl nu ou it := by
    intro z hz
    refine ⟨201, fx_K50 (a := (upd (fo_mx n (fun _ => 0) re) 0 z, fo_mx 8 (fun _ => 0) kn, va)) hwf ⟨fun j hj => ?_, fun h0 => ?_, fun m hm => fo_mx_l (f := fun _ => 0) (g := kn) hm⟩ hp 201 0 1 nk nv (by omega) (by omega) (fun z => absurd z (by decide))⟩
    · show upd (fo_mx n (fun _ => 0) re) 0 z j = 0 ∨ upd (fo_mx n (fun _ => 0) re) 0 z j = 1
      by_cases e : j = 0
      · rw [e, pk_us, hz]
        split
        · exact Or.inl rfl
        · exact Or.inr rfl
      · rw [pk_un e, fo_mx_l hj]; exact Or.inl rfl
    · show upd (fo_mx n (fun _ => 0) re) 0 z 0 = 1
      rw [pk_us, hz, if_neg (by omega)]
  have L : ∀ k m, m ≤ 8 → 8 - m < k → wX_findKnown_6 post (nI n) fr fg fm fs fo fb fe fn k (nI m) op de le ri go be wo wd wl wr wg bk (fo_mx n (fun _ => 0) re) (fo_mx m (fun _ => 0) kn) va so ah us nk nv ns ro rd rl rr rg rb pl nu ou it := by
    intro k
    induction k with
    | zero => intro m _ hk; omega
    | succ k ih =>
      intro m hm hk
      by_cases e : m = 8
      · subst e
        refine br_t (nI_le (Nat.le_refl 8) (by omega)) (br_c (fun h0 => nm_r (e' := upd (fo_mx n (fun _ => 0) re) 0 0) rfl (st 0 ?_)) (fun h0 => nm_r (e' := upd (fo_mx n (fun _ => 0) re) 0 1) rfl (st 1 ?_)))
        · rw [if_pos]
          rw [← nI_0, nI_leI (by omega) (by decide)] at h0
          omega
        · rw [if_neg]
          intro z
          exact h0 (by rw [z]; exact nI_le (a := 0) (b := 0) (by omega) (by decide))
      · exact br_f (nI_ge (b := 8) (by omega) (by omega)) ⟨vp_in_nI (by omega) (by decide), nm_r (e' := fo_mx (m + 1) (fun _ => 0) kn) (by rw [nI_clamp (by omega)]; exact fo_mx_s rfl) (nm_r (nI_1 m) (ih (m + 1) (by omega) (by omega)))⟩
  have q := L 9 0 (Nat.zero_le _) (by omega)
  rw [fo_mx_0] at q
  exact Exists.intro 9 q
end
end
section
/-! walks: the use of known values -/
section
variable {n : Nat} {fr fg fm fs fo fb fe fn : Int32} {op de le ri go be wo wd wl wr wg bk re kn va so ah us nk nv ns ro rd rl rr rg rb pl nu ou it : Nat → Int32} {post : SX → Prop} {i : Nat} {d : fo_T}
theorem fx_same (hd : d = (wo i, wl i, wr i)) (h : (∀ z, post ((nI n), fr, z, fm, fs, fo, fb, fe, fn, op, de, le, ri, go, be, upd wo i (d).1, wd, upd wl i (d).2.1, upd wr i (d).2.2, wg, bk, re, kn, va, so, ah, us, nk, nv, ns, ro, rd, rl, rr, rg, rb, pl, nu, ou, it))) : post ((nI n), fr, fg, fm, fs, fo, fb, fe, fn, op, de, le, ri, go, be, wo, wd, wl, wr, wg, bk, re, kn, va, so, ah, us, nk, nv, ns, ro, rd, rl, rr, rg, rb, pl, nu, ou, it) := by
  have q := h fg
  rw [hd, fo_u_id rfl, fo_u_id rfl, fo_u_id rfl] at q
  exact q
theorem fx_flag {F : Int32 → Prop} {v l : Int32} (hl : vp_in l 8) (hi : i < 20) (h : F (fo_fl kn va v (8 * i + l.toNatClampNeg))) :
    vp_in (8 * nI i + l) 160 ∧ ((kn (8 * nI i + l).toNatClampNeg = 0 → F 0) ∧ (¬ kn (8 * nI i + l).toNatClampNeg = 0 → (vp_in (8 * nI i + l) 160 ∧ ((va (8 * nI i + l).toNatClampNeg = v → F 1) ∧ (¬ va (8 * nI i + l).toNatClampNeg = v → F 0))))) := by
  have l8 := fo_cl_lt hl (by decide)
  have vi : vp_in (8 * nI i + l) 160 := by rw [fo_8v hl]; exact vp_in_nI (by omega) (by decide)
  have ci : (8 * nI i + l).toNatClampNeg = 8 * i + l.toNatClampNeg := by rw [fo_8v hl]; exact nI_clamp (by omega)
  rw [ci]
  unfold fo_fl at h
  refine ⟨vi, br_c (fun e => ?_) (fun e => ⟨vi, br_c (fun e2 => ?_) (fun e2 => ?_)⟩)⟩
  · rw [if_pos e] at h; exact h
  · rw [if_neg e, if_pos e2] at h; exact h
  · rw [if_neg e, if_neg e2] at h; exact h
section
variable {o a b s zA zB oA oB w : Int32}
theorem fx_s326 (hi : i < 20) (hd : d = (wo i, wl i, wr i)) (h : (∀ z, post ((nI n), fr, z, fm, fs, fo, fb, fe, fn, op, de, le, ri, go, be, upd wo i (fo_s326 o a s d).1, wd, upd wl i (fo_s326 o a s d).2.1, upd wr i (fo_s326 o a s d).2.2, wg, bk, re, kn, va, so, ah, us, nk, nv, ns, ro, rd, rl, rr, rg, rb, pl, nu, ou, it))) : wX_simplify_326 post (nI i) o a s (nI n) fr fg fm fs fo fb fe fn op de le ri go be wo wd wl wr wg bk re kn va so ah us nk nv ns ro rd rl rr rg rb pl nu ou it := by
  unfold fo_s326 at h
  exact br_c (fun e => by rw [if_pos e] at h; exact fx_same hd h) (fun e => by
    rw [if_neg e] at h
    exact br_c (fun e2 => by rw [if_pos e2] at h; exact fx_set hi h) (fun e2 => by rw [if_neg e2] at h; exact fx_same hd h))
theorem fx_s304 (hi : i < 20) (hd : d = (wo i, wl i, wr i)) (h : (∀ z, post ((nI n), fr, z, fm, fs, fo, fb, fe, fn, op, de, le, ri, go, be, upd wo i (fo_s304 o a b s oA d).1, wd, upd wl i (fo_s304 o a b s oA d).2.1, upd wr i (fo_s304 o a b s oA d).2.2, wg, bk, re, kn, va, so, ah, us, nk, nv, ns, ro, rd, rl, rr, rg, rb, pl, nu, ou, it))) : wX_simplify_304 post (nI i) o a b s oA (nI n) fr fg fm fs fo fb fe fn op de le ri go be wo wd wl wr wg bk re kn va so ah us nk nv ns ro rd rl rr rg rb pl nu ou it := by
  unfold fo_s304 at h
  exact br_c (fun e => by rw [if_pos e] at h; exact fx_s326 hi hd h) (fun e => by
    rw [if_neg e] at h
    exact br_c (fun e2 => by rw [if_pos e2] at h; exact fx_set hi h) (fun e2 => by rw [if_neg e2] at h; exact fx_s326 hi hd h))
theorem fx_s288 (hi : i < 20) (hd : d = (wo i, wl i, wr i)) (h : (∀ z, post ((nI n), fr, z, fm, fs, fo, fb, fe, fn, op, de, le, ri, go, be, upd wo i (fo_s288 o a b s zA oA d).1, wd, upd wl i (fo_s288 o a b s zA oA d).2.1, upd wr i (fo_s288 o a b s zA oA d).2.2, wg, bk, re, kn, va, so, ah, us, nk, nv, ns, ro, rd, rl, rr, rg, rb, pl, nu, ou, it))) : wX_simplify_288 post (nI i) o a b s zA oA (nI n) fr fg fm fs fo fb fe fn op de le ri go be wo wd wl wr wg bk re kn va so ah us nk nv ns ro rd rl rr rg rb pl nu ou it := by
  unfold fo_s288 at h
  exact br_c (fun e => by rw [if_pos e] at h; exact fx_s304 hi hd h) (fun e => by
    rw [if_neg e] at h
    exact br_c (fun e2 => by rw [if_pos e2] at h; exact fx_set hi h) (fun e2 => by
      rw [if_neg e2] at h
      exact br_c (fun e3 => by rw [if_pos e3] at h; exact fx_set hi h) (fun e3 => by rw [if_neg e3] at h; exact fx_s304 hi hd h)))
theorem fx_s267 (hi : i < 20) (hd : d = (wo i, wl i, wr i)) (h : (∀ z, post ((nI n), fr, z, fm, fs, fo, fb, fe, fn, op, de, le, ri, go, be, upd wo i (fo_s267 o a b s zA oA oB d).1, wd, upd wl i (fo_s267 o a b s zA oA oB d).2.1, upd wr i (fo_s267 o a b s zA oA oB d).2.2, wg, bk, re, kn, va, so, ah, us, nk, nv, ns, ro, rd, rl, rr, rg, rb, pl, nu, ou, it))) : wX_simplify_267 post (nI i) o a b s zA oA oB (nI n) fr fg fm fs fo fb fe fn op de le ri go be wo wd wl wr wg bk re kn va so ah us nk nv ns ro rd rl rr rg rb pl nu ou it := by
  unfold fo_s267 at h
  exact br_c (fun e => by rw [if_pos e] at h; exact fx_s288 hi hd h) (fun e => by
    rw [if_neg e] at h
    exact br_c (fun e2 => by rw [if_pos e2] at h; exact fx_set hi h) (fun e2 => by rw [if_neg e2] at h; exact fx_s288 hi hd h))
theorem fx_s246 (hi : i < 20) (hd : d = (wo i, wl i, wr i)) (h : (∀ z, post ((nI n), fr, z, fm, fs, fo, fb, fe, fn, op, de, le, ri, go, be, upd wo i (fo_s246 o a b s zA zB oA oB d).1, wd, upd wl i (fo_s246 o a b s zA zB oA oB d).2.1, upd wr i (fo_s246 o a b s zA zB oA oB d).2.2, wg, bk, re, kn, va, so, ah, us, nk, nv, ns, ro, rd, rl, rr, rg, rb, pl, nu, ou, it))) : wX_simplify_246 post (nI i) o a b s zA zB oA oB (nI n) fr fg fm fs fo fb fe fn op de le ri go be wo wd wl wr wg bk re kn va so ah us nk nv ns ro rd rl rr rg rb pl nu ou it := by
  unfold fo_s246 at h
  exact br_c (fun e => by rw [if_pos e] at h; exact fx_s267 hi hd h) (fun e => by
    rw [if_neg e] at h
    exact br_c (fun e2 => by rw [if_pos e2] at h; exact fx_set hi h) (fun e2 => by
      rw [if_neg e2] at h
      exact br_c (fun e3 => by rw [if_pos e3] at h; exact fx_set hi h) (fun e3 => by
        rw [if_neg e3] at h
        exact br_c (fun e4 => by rw [if_pos e4] at h; exact fx_set hi h) (fun e4 => by rw [if_neg e4] at h; exact fx_s267 hi hd h))))
theorem fx_s225 (hi : i < 20) (hd : d = (wo i, wl i, wr i)) (h : (∀ z, post ((nI n), fr, z, fm, fs, fo, fb, fe, fn, op, de, le, ri, go, be, upd wo i (fo_s225 o a b s zA zB oA oB d).1, wd, upd wl i (fo_s225 o a b s zA zB oA oB d).2.1, upd wr i (fo_s225 o a b s zA zB oA oB d).2.2, wg, bk, re, kn, va, so, ah, us, nk, nv, ns, ro, rd, rl, rr, rg, rb, pl, nu, ou, it))) : wX_simplify_225 post (nI i) o a b s zA zB oA oB (nI n) fr fg fm fs fo fb fe fn op de le ri go be wo wd wl wr wg bk re kn va so ah us nk nv ns ro rd rl rr rg rb pl nu ou it := by
  unfold fo_s225 at h
  exact br_c (fun e => by
    rw [if_pos e] at h
    exact br_c (fun e2 => by rw [if_pos e2] at h; exact fx_s246 hi hd h) (fun e2 => by rw [if_neg e2] at h; exact fx_set hi h)) (fun e => by rw [if_neg e] at h; exact fx_set hi h)
theorem fx_s208 (hi : i < 20) (hd : d = (wo i, wl i, wr i)) (h : (∀ z, post ((nI n), fr, z, fm, fs, fo, fb, fe, fn, op, de, le, ri, go, be, upd wo i (fo_s208 o a b s zA zB oA oB w d).1, wd, upd wl i (fo_s208 o a b s zA zB oA oB w d).2.1, upd wr i (fo_s208 o a b s zA zB oA oB w d).2.2, wg, bk, re, kn, va, so, ah, us, nk, nv, ns, ro, rd, rl, rr, rg, rb, pl, nu, ou, it))) : wX_simplify_208 post (nI i) o a b s zA zB oA oB w (nI n) fr fg fm fs fo fb fe fn op de le ri go be wo wd wl wr wg bk re kn va so ah us nk nv ns ro rd rl rr rg rb pl nu ou it := by
  unfold fo_s208 at h
  exact br_c (fun e => by
    rw [if_pos e] at h
    exact br_c (fun e2 => by rw [if_pos e2] at h; exact fx_s225 hi hd h) (fun e2 => by
      rw [if_neg e2] at h
      exact br_c (fun e3 => by rw [if_pos e3] at h; exact fx_s225 hi hd h) (fun e3 => by rw [if_neg e3] at h; exact fx_s246 hi hd h))) (fun e => by rw [if_neg e] at h; exact fx_set hi h)
theorem fx_s179 (hi : i < 20) (hd : d = (wo i, wl i, wr i)) (h : (∀ z, post ((nI n), fr, z, fm, fs, fo, fb, fe, fn, op, de, le, ri, go, be, upd wo i (fo_s179 o a b s zA zB oA oB d).1, wd, upd wl i (fo_s179 o a b s zA zB oA oB d).2.1, upd wr i (fo_s179 o a b s zA zB oA oB d).2.2, wg, bk, re, kn, va, so, ah, us, nk, nv, ns, ro, rd, rl, rr, rg, rb, pl, nu, ou, it))) : wX_simplify_179 post (nI i) o a b s zA zB oA oB (nI n) fr fg fm fs fo fb fe fn op de le ri go be wo wd wl wr wg bk re kn va so ah us nk nv ns ro rd rl rr rg rb pl nu ou it := by
  unfold fo_s179 at h
  exact br_c (fun e => by rw [if_pos e] at h; exact fx_s208 hi hd h) (fun e => by
    rw [if_neg e] at h
    exact br_c (fun e2 => by rw [if_pos e2] at h; exact fx_s208 hi hd h) (fun e2 => by
      rw [if_neg e2] at h
      exact br_c (fun e3 => by rw [if_pos e3] at h; exact fx_s208 hi hd h) (fun e3 => by
        rw [if_neg e3] at h
        exact br_c (fun e4 => by rw [if_pos e4] at h; exact fx_s208 hi hd h) (fun e4 => by rw [if_neg e4] at h; exact fx_s208 hi hd h))))
theorem fx_s33 (hi : i < 20) (hd : d = (wo i, wl i, wr i)) (ha : vp_in a 8) (hb : vp_in b 8) (h : (∀ z, post ((nI n), fr, z, fm, fs, fo, fb, fe, fn, op, de, le, ri, go, be, upd wo i (fo_s179 o a b s (fo_fl kn va 0 (8 * i + a.toNatClampNeg)) (fo_fl kn va 0 (8 * i + b.toNatClampNeg)) (fo_fl kn va 1 (8 * i + a.toNatClampNeg)) (fo_fl kn va 1 (8 * i + b.toNatClampNeg)) d).1, wd, upd wl i (fo_s179 o a b s (fo_fl kn va 0 (8 * i + a.toNatClampNeg)) (fo_fl kn va 0 (8 * i + b.toNatClampNeg)) (fo_fl kn va 1 (8 * i + a.toNatClampNeg)) (fo_fl kn va 1 (8 * i + b.toNatClampNeg)) d).2.1, upd wr i (fo_s179 o a b s (fo_fl kn va 0 (8 * i + a.toNatClampNeg)) (fo_fl kn va 0 (8 * i + b.toNatClampNeg)) (fo_fl kn va 1 (8 * i + a.toNatClampNeg)) (fo_fl kn va 1 (8 * i + b.toNatClampNeg)) d).2.2, wg, bk, re, kn, va, so, ah, us, nk, nv, ns, ro, rd, rl, rr, rg, rb, pl, nu, ou, it))) :
    wX_simplify_33 post (nI i) o a b s (nI n) fr fg fm fs fo fb fe fn op de le ri go be wo wd wl wr wg bk re kn va so ah us nk nv ns ro rd rl rr rg rb pl nu ou it :=
  fx_flag (F := fun z => wX_simplify_68 post (nI i) o a b s z (nI n) fr fg fm fs fo fb fe fn op de le ri go be wo wd wl wr wg bk re kn va so ah us nk nv ns ro rd rl rr rg rb pl nu ou it) ha hi
    (fx_flag (F := fun z => wX_simplify_105 post (nI i) o a b s (fo_fl kn va 0 (8 * i + a.toNatClampNeg)) z (nI n) fr fg fm fs fo fb fe fn op de le ri go be wo wd wl wr wg bk re kn va so ah us nk nv ns ro rd rl rr rg rb pl nu ou it) hb hi
      (fx_flag (F := fun z => wX_simplify_141 post (nI i) o a b s (fo_fl kn va 0 (8 * i + a.toNatClampNeg)) (fo_fl kn va 0 (8 * i + b.toNatClampNeg)) z (nI n) fr fg fm fs fo fb fe fn op de le ri go be wo wd wl wr wg bk re kn va so ah us nk nv ns ro rd rl rr rg rb pl nu ou it) ha hi
        (fx_flag (F := fun z => wX_simplify_179 post (nI i) o a b s (fo_fl kn va 0 (8 * i + a.toNatClampNeg)) (fo_fl kn va 0 (8 * i + b.toNatClampNeg)) (fo_fl kn va 1 (8 * i + a.toNatClampNeg)) z (nI n) fr fg fm fs fo fb fe fn op de le ri go be wo wd wl wr wg bk re kn va so ah us nk nv ns ro rd rl rr rg rb pl nu ou it) hb hi (fx_s179 hi hd h))))
end

theorem fx_sim (hi : i < 20) (ok : fo_ok i ((fo_pr wo wd wl wr wg bk) i)) (e0 : wo i ≠ 0) (h : (∀ z, post ((nI n), fr, z, fm, fs, fo, fb, fe, fn, op, de, le, ri, go, be, upd wo i (fo_si kn va i ((fo_pr wo wd wl wr wg bk) i)).1, wd, upd wl i (fo_si kn va i ((fo_pr wo wd wl wr wg bk) i)).2.1, upd wr i (fo_si kn va i ((fo_pr wo wd wl wr wg bk) i)).2.2, wg, bk, re, kn, va, so, ah, us, nk, nv, ns, ro, rd, rl, rr, rg, rb, pl, nu, ou, it))) : wpX_simplify post ((nI n), fr, fg, fm, fs, fo, fb, fe, fn, op, de, le, ri, go, be, wo, wd, wl, wr, wg, bk, re, kn, va, so, ah, us, nk, nv, ns, ro, rd, rl, rr, rg, rb, pl, nu, ou, it) (nI i) := by
  have v : vp_in (nI i) 20 := vp_in_nI hi (by decide)
  have c : (nI i).toNatClampNeg = i := nI_clamp (by omega)
  show vp_in (nI i) 20 ∧ _
  rw [c]
  unfold fo_si at h
  refine ⟨v, nm_e ⟨v, nm_e ⟨v, nm_e (br_c (fun e => ?_) (fun e => ?_))⟩⟩⟩
  · rw [if_pos (show ((fo_pr wo wd wl wr wg bk) i).2.2.1 = ((fo_pr wo wd wl wr wg bk) i).2.2.2.1 from e)] at h
    exact fx_s33 hi rfl (ok.2.2.1 e0) ok.2.2.2.1 h
  · rw [if_neg (show ¬ ((fo_pr wo wd wl wr wg bk) i).2.2.1 = ((fo_pr wo wd wl wr wg bk) i).2.2.2.1 from e)] at h
    exact fx_s33 hi rfl (ok.2.2.1 e0) ok.2.2.2.1 h
theorem fx_uK (hi : i < 20) (ok : fo_ok i ((fo_pr wo wd wl wr wg bk) i)) (h : (∀ z, post ((nI n), fr, z, fm, fs, fo, fb, fe, fn, op, de, le, ri, go, be, upd wo i (fo_uK re kn va i ((fo_pr wo wd wl wr wg bk) i)).1, wd, upd wl i (fo_uK re kn va i ((fo_pr wo wd wl wr wg bk) i)).2.1, upd wr i (fo_uK re kn va i ((fo_pr wo wd wl wr wg bk) i)).2.2, wg, bk, re, kn, va, so, ah, us, nk, nv, ns, ro, rd, rl, rr, rg, rb, pl, nu, ou, it))) : wpX_useKnown post ((nI n), fr, fg, fm, fs, fo, fb, fe, fn, op, de, le, ri, go, be, wo, wd, wl, wr, wg, bk, re, kn, va, so, ah, us, nk, nv, ns, ro, rd, rl, rr, rg, rb, pl, nu, ou, it) (nI i) := by
  have v : vp_in (nI i) 20 := vp_in_nI hi (by decide)
  have c : (nI i).toNatClampNeg = i := nI_clamp (by omega)
  have vi : ∀ {l : Int32}, vp_in l 8 → vp_in (8 * nI i + l) 160 := fun {l} hl => by
    have l8 := fo_cl_lt hl (by decide)
    rw [fo_8v hl]; exact vp_in_nI (by omega) (by decide)
  have ci : ∀ {l : Int32}, vp_in l 8 → (8 * nI i + l).toNatClampNeg = 8 * i + l.toNatClampNeg := fun {l} hl => by
    have l8 := fo_cl_lt hl (by decide)
    rw [fo_8v hl]; exact nI_clamp (by omega)
  have k : ∀ T, T = fo_uK re kn va i ((fo_pr wo wd wl wr wg bk) i) → (∀ z, post ((nI n), fr, z, fm, fs, fo, fb, fe, fn, op, de, le, ri, go, be, upd wo i (T).1, wd, upd wl i (T).2.1, upd wr i (T).2.2, wg, bk, re, kn, va, so, ah, us, nk, nv, ns, ro, rd, rl, rr, rg, rb, pl, nu, ou, it)) := fun T e => by rw [e]; exact h
  unfold fo_uK at k
  show vp_in (nI i) 20 ∧ _
  rw [c]
  refine ⟨v, nm_e (nm_e ⟨v, br_c (fun hr => fx_set hi (k (12, 0, 0) (by rw [if_pos hr]))) (fun hr => ?_)⟩)⟩
  -- no copy, no branch
  have J132 : ¬ wo i = 1 → (wo i = 9 → kn (8 * i + (wl i).toNatClampNeg) = 0) → wX_useKnown_132 post (nI i) (wo i) (8 * nI i) (nI n) fr fg fm fs fo fb fe fn op de le ri go be wo wd wl wr wg bk re kn va so ah us nk nv ns ro rd rl rr rg rb pl nu ou it := by
    intro e1 e9
    unfold wX_useKnown_132
    rw [c]
    refine fx_sum (fun sm => ?_) (fun sm => ?_)
    · have ne := fo_sm_ne sm
      have ol : vp_in (wl i) 8 := ok.2.2.1 ne.1
      have or : vp_in (wr i) 8 := ok.2.2.2.1
      have q : ∀ T, T = (if kn (8 * i + (wl i).toNatClampNeg) = 0 then fo_si kn va i ((fo_pr wo wd wl wr wg bk) i) else if kn (8 * i + (wr i).toNatClampNeg) = 0 then fo_si kn va i ((fo_pr wo wd wl wr wg bk) i) else (0, fo_wk (wo i) (va (8 * i + (wl i).toNatClampNeg)) (va (8 * i + (wr i).toNatClampNeg)), 0)) → (∀ z, post ((nI n), fr, z, fm, fs, fo, fb, fe, fn, op, de, le, ri, go, be, upd wo i (T).1, wd, upd wl i (T).2.1, upd wr i (T).2.2, wg, bk, re, kn, va, so, ah, us, nk, nv, ns, ro, rd, rl, rr, rg, rb, pl, nu, ou, it)) := by
        intro T e
        refine k T ?_
        rw [if_neg hr, if_neg (show ¬ ((fo_pr wo wd wl wr wg bk) i).1 = 1 from e1), if_neg (show ¬ ((fo_pr wo wd wl wr wg bk) i).1 = 9 from ne.2.2.2.1), if_neg (show ¬ ((fo_pr wo wd wl wr wg bk) i).1 < 2 from sm.1), if_neg (show ¬ 7 < ((fo_pr wo wd wl wr wg bk) i).1 from sm.2)]
        exact e
      rw [ci ol, ci or]
      refine ⟨v, vi ol, br_c (fun h1 => fx_sim hi ok ne.1 (q _ (by rw [if_pos h1]))) (fun h1 => ⟨v, vi or, br_c (fun h2 => fx_sim hi ok ne.1 (q _ (by rw [if_neg h1, if_pos h2]))) (fun h2 => ⟨v, vi ol, v, vi or, fx_wkd (fx_set hi (q (0, fo_wk (wo i) (va (8 * i + (wl i).toNatClampNeg)) (va (8 * i + (wr i).toNatClampNeg)), 0) (by rw [if_neg h1, if_neg h2])))⟩)⟩)⟩
    · refine fx_same (d := (wo i, wl i, wr i)) rfl (k _ ?_)
      rw [if_neg hr, if_neg (show ¬ ((fo_pr wo wd wl wr wg bk) i).1 = 1 from e1)]
      have z : (if ((fo_pr wo wd wl wr wg bk) i).1 < 2 then fo_xt ((fo_pr wo wd wl wr wg bk) i) else if 7 < ((fo_pr wo wd wl wr wg bk) i).1 then fo_xt ((fo_pr wo wd wl wr wg bk) i) else if kn (8 * i + ((fo_pr wo wd wl wr wg bk) i).2.2.1.toNatClampNeg) = 0 then fo_si kn va i ((fo_pr wo wd wl wr wg bk) i) else if kn (8 * i + ((fo_pr wo wd wl wr wg bk) i).2.2.2.1.toNatClampNeg) = 0 then fo_si kn va i ((fo_pr wo wd wl wr wg bk) i) else (0, fo_wk ((fo_pr wo wd wl wr wg bk) i).1 (va (8 * i + ((fo_pr wo wd wl wr wg bk) i).2.2.1.toNatClampNeg)) (va (8 * i + ((fo_pr wo wd wl wr wg bk) i).2.2.2.1.toNatClampNeg)), 0)) = (wo i, wl i, wr i) := by
        by_cases l2 : ((fo_pr wo wd wl wr wg bk) i).1 < 2
        · rw [if_pos l2]; rfl
        · rw [if_neg l2]
          by_cases l7 : 7 < ((fo_pr wo wd wl wr wg bk) i).1
          · rw [if_pos l7]; rfl
          · exact absurd ⟨l2, l7⟩ sm
      by_cases e : ((fo_pr wo wd wl wr wg bk) i).1 = 9
      · rw [if_pos e, if_pos (show kn (8 * i + ((fo_pr wo wd wl wr wg bk) i).2.2.1.toNatClampNeg) = 0 from e9 e)]; rfl
      · rw [if_neg e, z]
  have J77 : ¬ wo i = 1 → wX_useKnown_77 post (nI i) (wo i) (8 * nI i) (nI n) fr fg fm fs fo fb fe fn op de le ri go be wo wd wl wr wg bk re kn va so ah us nk nv ns ro rd rl rr rg rb pl nu ou it := by
    intro e1
    unfold wX_useKnown_77
    rw [c]
    refine br_c (fun e9 => ?_) (fun e9 => J132 e1 (fun z => absurd z e9))
    have ol : vp_in (wl i) 8 := ok.2.2.1 (show wo i ≠ 0 by rw [e9]; decide)
    rw [ci ol]
    have q : ∀ T, ¬ kn (8 * i + (wl i).toNatClampNeg) = 0 → T = (if va (8 * i + (wl i).toNatClampNeg) = 0 then (12, 0, 0) else (8, 0, 0)) → (∀ z, post ((nI n), fr, z, fm, fs, fo, fb, fe, fn, op, de, le, ri, go, be, upd wo i (T).1, wd, upd wl i (T).2.1, upd wr i (T).2.2, wg, bk, re, kn, va, so, ah, us, nk, nv, ns, ro, rd, rl, rr, rg, rb, pl, nu, ou, it)) := by
      intro T h1 e
      refine k T ?_
      rw [if_neg hr, if_neg (show ¬ ((fo_pr wo wd wl wr wg bk) i).1 = 1 from e1), if_pos (show ((fo_pr wo wd wl wr wg bk) i).1 = 9 from e9), if_neg (show ¬ kn (8 * i + ((fo_pr wo wd wl wr wg bk) i).2.2.1.toNatClampNeg) = 0 from h1)]
      exact e
    exact ⟨v, vi ol, br_c (fun h1 => J132 e1 (fun _ => h1)) (fun h1 => ⟨v, vi ol, br_c (fun h2 => fx_set hi (q (12, 0, 0) h1 (by rw [if_pos h2]))) (fun h2 => fx_set hi (q (8, 0, 0) h1 (by rw [if_neg h2])))⟩)⟩
  refine br_c (fun e1 => ?_) (fun e1 => J77 e1)
  have ol : vp_in (wl i) 8 := ok.2.2.1 (show wo i ≠ 0 by rw [e1]; decide)
  rw [ci ol]
  refine ⟨v, vi ol, br_c (fun h1 => ?_) (fun h1 => ⟨v, vi ol, fx_set hi (k (0, _, 0) ?_)⟩)⟩
  · have n9 : ¬ wo i = 9 := by rw [e1]; decide
    refine br_f n9 (fx_sum (fun sm => absurd e1 (fo_sm_ne sm).2.1) (fun _ => fx_same (d := (wo i, wl i, wr i)) rfl (k _ ?_)))
    rw [if_neg hr, if_pos (show ((fo_pr wo wd wl wr wg bk) i).1 = 1 from e1), if_pos (show kn (8 * i + ((fo_pr wo wd wl wr wg bk) i).2.2.1.toNatClampNeg) = 0 from h1)]
    rfl
  · rw [if_neg hr, if_pos (show ((fo_pr wo wd wl wr wg bk) i).1 = 1 from e1), if_neg (show ¬ kn (8 * i + ((fo_pr wo wd wl wr wg bk) i).2.2.1.toNatClampNeg) = 0 from h1)]
    rfl
end
end
section
/-! walks: the second pass -/
theorem fo_mS_s {t m : Nat} {re so S : Nat → Int32} {v : Int32} (h : v = (if re t = 0 then S m else if so (8 * t + m) = nI m then so (8 * t + m) else if S m = so (8 * t + m) then so (8 * t + m) else nI m)) :
    upd (fo_mS t m re so S) (8 * t + m) v = fo_mS t (m + 1) re so S := by
  funext j
  by_cases e : j = 8 * t + m
  · subst e; rw [pk_us, fo_mS_i (by omega), h]
  · rw [pk_un e]
    unfold fo_mS
    by_cases w : 8 * t ≤ j ∧ j < 8 * t + m
    · rw [if_pos w, if_pos (c := 8 * t ≤ j ∧ j < 8 * t + (m + 1)) (by omega)]
    · rw [if_neg w, if_neg (c := 8 * t ≤ j ∧ j < 8 * t + (m + 1)) (by omega)]
theorem fo_mS_k {t m : Nat} {re so S : Nat → Int32} (h : so (8 * t + m) = (if re t = 0 then S m else if so (8 * t + m) = nI m then so (8 * t + m) else if S m = so (8 * t + m) then so (8 * t + m) else nI m)) :
    fo_mS t m re so S = fo_mS t (m + 1) re so S := by
  rw [← fo_mS_s h]
  exact (fo_u_id (fo_mS_o (by omega)).symm).symm
theorem fo_mS_0 {t : Nat} {re so S : Nat → Int32} : fo_mS t 0 re so S = so := by
  funext j; exact fo_mS_o (by omega)
theorem fo_gS_e {n t : Nat} {S S' : Nat → Int32} {a : fo_S} (hS : ∀ m, m < 8 → S m = S' m) : fo_gS n t S a = fo_gS n t S' a := by
  unfold fo_gS
  have e1 : fo_mS t 8 a.1 a.2 S = fo_mS t 8 a.1 a.2 S' := by
    funext j
    by_cases w : 8 * t ≤ j ∧ j < 8 * t + 8
    · obtain ⟨m, hm, rfl⟩ : ∃ m, m < 8 ∧ j = 8 * t + m := ⟨j - 8 * t, by omega, by omega⟩
      rw [fo_mS_i hm, fo_mS_i hm, hS m hm]
    · rw [fo_mS_o w, fo_mS_o w]
  rw [e1]
theorem fo_wS_e {i : Nat} {x : fo_I} {S S' : Nat → Int32} (hx : fo_ok i x) (hS : ∀ m, m < 8 → S m = S' m) : ∀ m, m < 8 → fo_wS x S m = fo_wS x S' m := by
  intro m hm
  have k : fo_kS x.2.1 S m = fo_kS x.2.1 S' m := by unfold fo_kS; rw [hS m hm]
  have u : ∀ v v' : Int32, v = v' → upd (fo_kS x.2.1 S) x.2.1.toNatClampNeg v m = upd (fo_kS x.2.1 S') x.2.1.toNatClampNeg v' m := by
    intro v v' e
    by_cases w : m = x.2.1.toNatClampNeg
    · rw [w, pk_us, pk_us, e]
    · rw [pk_un w, pk_un w, k]
  unfold fo_wS
  by_cases e7 : 7 < x.1
  · rw [if_pos e7, if_pos e7]; exact hS m hm
  · rw [if_neg e7, if_neg e7]
    by_cases e1 : x.1 = 1
    · have l := hS _ (fo_cl_lt (hx.2.2.1 (by rw [e1]; decide)) (by decide))
      rw [if_pos e1, if_pos e1, l]
      split
      · exact hS m hm
      · exact u _ _ rfl
    · rw [if_neg e1, if_neg e1]; exact u _ _ rfl
theorem fo_gS_b {n t : Nat} {S : Nat → Int32} {a : fo_S} (h : ∀ j, j < n → a.1 j = 0 ∨ a.1 j = 1) : ∀ j, j < n → (fo_gS n t S a).1 j = 0 ∨ (fo_gS n t S a).1 j = 1 := by
  intro j hj
  unfold fo_gS
  by_cases ht : n ≤ t
  · rw [if_pos ht]; exact h j hj
  · rw [if_neg ht]
    show upd a.1 t 1 j = 0 ∨ upd a.1 t 1 j = 1
    by_cases e : j = t
    · rw [e, pk_us]; exact Or.inr rfl
    · rw [pk_un e]; exact h j hj
section
variable {n : Nat} {fr fg fm fs fo fb fe fn : Int32} {op de le ri go be wo wd wl wr wg bk re kn va so ah us nk nv ns ro rd rl rr rg rb pl nu ou it : Nat → Int32}
theorem fx_gS_l {post : SX → Prop} {t : Nat} {f0 : Int32} (ht : t < 20)
    (hp : ∀ f, (f = 0 → f0 = 0 ∧ ¬ re t = 0 ∧ fo_mS t 8 re so ns = so) → post ((nI n), fr, fg, f, fs, fo, fb, fe, fn, op, de, le, ri, go, be, wo, wd, wl, wr, wg, bk, upd re t 1, kn, va, fo_mS t 8 re so ns, ah, us, nk, nv, ns, ro, rd, rl, rr, rg, rb, pl, nu, ou, it)) : ∀ k m f, m ≤ 8 → 8 - m < k → (f = 0 → f0 = 0 ∧ (¬ re t = 0 → fo_mS t m re so ns = so)) →
    wX_mergeSource_11 post (nI t) (nI n) fr fg fs fo fb fe fn k (nI m) f op de le ri go be wo wd wl wr wg bk re kn va (fo_mS t m re so ns) ah us nk nv ns ro rd rl rr rg rb pl nu ou it := by
  have vt : vp_in (nI t) 20 := vp_in_nI ht (by decide)
  have ct : (nI t).toNatClampNeg = t := nI_clamp (by omega)
  intro k
  induction k with
  | zero => intro m f _ hk; omega
  | succ k ih =>
    intro m f hm hk hf
    by_cases e : m = 8
    · subst e
      have z1 : ∀ g, wX_mergeSource_108 post (nI t) (nI n) fr fg g fs fo fb fe fn op de le ri go be wo wd wl wr wg bk re kn va (fo_mS t 8 re so ns) ah us nk nv ns ro rd rl rr rg rb pl nu ou it :=
        fun g => ⟨vt, nm_r (e' := upd re t 1) (by rw [ct]; rfl) (hp 1 (fun z => absurd z (by decide)))⟩
      exact br_t (nI_le (Nat.le_refl 8) (by omega)) (br_c (fun hz => ⟨vt, br_c (fun _ => z1 _) (fun hr => ⟨vt, nm_r (e' := upd re t 1) (by rw [ct]; rfl) (hp 0 (fun _ => by
        rw [ct] at hr
        exact ⟨(hf hz).1, hr, (hf hz).2 hr⟩))⟩)⟩) (fun _ => z1 _))
    · have v1 : vp_in (nI (8 * t + m)) 160 := vp_in_nI (by omega) (by decide)
      have v2 : vp_in (nI m) 8 := vp_in_nI (by omega) (by decide)
      have c1 : (nI (8 * t + m)).toNatClampNeg = 8 * t + m := nI_clamp (by omega)
      have c2 : (nI m).toNatClampNeg = m := nI_clamp (by omega)
      have o1 : fo_mS t m re so ns (8 * t + m) = so (8 * t + m) := fo_mS_o (by omega)
      refine br_f (nI_ge (b := 8) (by omega) (by omega)) (nm_r (e' := nI (8 * t + m)) (fo_8 t m) ⟨vt, br_c (fun hr => ?_) (fun hr => ?_)⟩)
      · rw [ct] at hr
        exact ⟨v2, v1, nm_r (e' := fo_mS t (m + 1) re so ns) (by rw [c1, c2]; exact fo_mS_s (by rw [if_pos hr])) (nm_r (nI_1 m) (ih (m + 1) f (by omega) (by omega) (fun z => ⟨(hf z).1, fun w => absurd hr w⟩)))⟩
      · rw [ct] at hr
        have keep : so (8 * t + m) = (if re t = 0 then ns m else if so (8 * t + m) = nI m then so (8 * t + m) else if ns m = so (8 * t + m) then so (8 * t + m) else nI m) →
            wX_mergeSource_11 post (nI t) (nI n) fr fg fs fo fb fe fn k (nI (m + 1)) f op de le ri go be wo wd wl wr wg bk re kn va (fo_mS t m re so ns) ah us nk nv ns ro rd rl rr rg rb pl nu ou it := by
          intro hc
          have q := ih (m + 1) f (by omega) (by omega) (fun z => ⟨(hf z).1, fun w => by rw [← fo_mS_k hc]; exact (hf z).2 w⟩)
          rw [← fo_mS_k hc] at q
          exact q
        refine ⟨v1, br_c (fun h1 => ?_) (fun h1 => ⟨v2, v1, br_c (fun h2 => ?_) (fun h2 => ⟨v1, nm_r (e' := fo_mS t (m + 1) re so ns) ?_ (nm_r (nI_1 m) (ih (m + 1) 1 (by omega) (by omega) (fun z => absurd z (by decide))))⟩)⟩)⟩
        · rw [c1, o1] at h1
          exact nm_r (nI_1 m) (keep (by rw [if_neg hr, if_pos h1]))
        · rw [c1, o1] at h1
          rw [c1, c2, o1] at h2
          exact nm_r (nI_1 m) (keep (by rw [if_neg hr, if_neg h1, if_pos h2]))
        · rw [c1, o1] at h1
          rw [c1, c2, o1] at h2
          rw [c1]
          exact fo_mS_s (by rw [if_neg hr, if_neg h1, if_neg h2])
theorem fx_gS {post : SX → Prop} {t : Nat} {p : Int32} (ep : p = nI t) (hn : n ≤ 20) (ht : t ≤ 20) (hb : ∀ j, j < n → re j = 0 ∨ re j = 1)
    (hp : ∀ f, (f = 0 → fm = 0 ∧ fo_gS n t ns (re, so) = (re, so)) → post ((nI n), fr, fg, f, fs, fo, fb, fe, fn, op, de, le, ri, go, be, wo, wd, wl, wr, wg, bk, (fo_gS n t ns (re, so)).1, kn, va, (fo_gS n t ns (re, so)).2, ah, us, nk, nv, ns, ro, rd, rl, rr, rg, rb, pl, nu, ou, it)) :
    wpX_mergeSource post ((nI n), fr, fg, fm, fs, fo, fb, fe, fn, op, de, le, ri, go, be, wo, wd, wl, wr, wg, bk, re, kn, va, so, ah, us, nk, nv, ns, ro, rd, rl, rr, rg, rb, pl, nu, ou, it) p := by
  subst ep
  by_cases h : t < n
  · have e : fo_gS n t ns (re, so) = (upd re t 1, fo_mS t 8 re so ns) := if_neg (by omega)
    rw [e] at hp
    have q := fx_gS_l (f0 := fm) (by omega) (fun f hf => hp f (fun z => by
      obtain ⟨a, b, c⟩ := hf z
      refine ⟨a, ?_⟩
      rw [c, fo_u_id (by rcases hb t h with w | w; exact absurd w b; exact w.symm)])) 9 0 fm (Nat.zero_le _) (by omega) (fun z => ⟨z, fun _ => fo_mS_0⟩)
    rw [fo_mS_0] at q
    exact br_t (nI_lt h (by omega)) (Exists.intro 9 q)
  · have e : fo_gS n t ns (re, so) = (re, so) := if_pos (by omega)
    have q := hp fm (fun z => ⟨z, e⟩)
    rw [e] at q
    exact br_f (nI_nlt (by omega) (by omega)) q
theorem fx_wS_l {post : SX → Prop} {d z : Int32} (hd : vp_in d 8) (h : post ((nI n), fr, fg, fm, fs, fo, fb, fe, fn, op, de, le, ri, go, be, wo, wd, wl, wr, wg, bk, re, kn, va, so, ah, us, nk, nv, upd (fo_mx 8 (fo_kS d ns) ns) d.toNatClampNeg z, ro, rd, rl, rr, rg, rb, pl, nu, ou, it)) : ∀ k m, m ≤ 8 → 8 - m < k →
    wX_workSource_66 post d z (nI n) fr fg fm fs fo fb fe fn k (nI m) op de le ri go be wo wd wl wr wg bk re kn va so ah us nk nv (fo_mx m (fo_kS d ns) ns) ro rd rl rr rg rb pl nu ou it := by
  intro k
  induction k with
  | zero => intro m _ hk; omega
  | succ k ih =>
    intro m hm hk
    by_cases e : m = 8
    · subst e; exact br_t (nI_le (Nat.le_refl 8) (by omega)) ⟨hd, nm_e h⟩
    · have v2 : vp_in (nI m) 8 := vp_in_nI (by omega) (by decide)
      have c2 : (nI m).toNatClampNeg = m := nI_clamp (by omega)
      refine br_f (nI_ge (b := 8) (by omega) (by omega)) ⟨v2, br_c (fun h1 => ⟨v2, nm_r (e' := fo_mx (m + 1) (fo_kS d ns) ns) ?_ (nm_r (nI_1 m) (ih (m + 1) (by omega) (by omega)))⟩) (fun h1 => ?_)⟩
      · rw [c2, fo_mx_g (Nat.le_refl m)] at h1
        rw [c2]
        refine fo_mx_s ?_
        unfold fo_kS; rw [if_pos h1]
      · rw [c2, fo_mx_g (Nat.le_refl m)] at h1
        have q := ih (m + 1) (by omega) (by omega)
        rw [← fo_mx_k (by unfold fo_kS; rw [if_neg h1])] at q
        exact nm_r (nI_1 m) q
theorem fx_wS {post : SX → Prop} {i : Nat} (hi : i < 20) (ok : fo_ok i ((fo_pr wo wd wl wr wg bk) i)) (h : ∀ S, (∀ m, m < 8 → S m = fo_wS ((fo_pr wo wd wl wr wg bk) i) ns m) → post ((nI n), fr, fg, fm, fs, fo, fb, fe, fn, op, de, le, ri, go, be, wo, wd, wl, wr, wg, bk, re, kn, va, so, ah, us, nk, nv, S, ro, rd, rl, rr, rg, rb, pl, nu, ou, it)) : wpX_workSource post ((nI n), fr, fg, fm, fs, fo, fb, fe, fn, op, de, le, ri, go, be, wo, wd, wl, wr, wg, bk, re, kn, va, so, ah, us, nk, nv, ns, ro, rd, rl, rr, rg, rb, pl, nu, ou, it) (nI i) := by
  have v : vp_in (nI i) 20 := vp_in_nI hi (by decide)
  have c : (nI i).toNatClampNeg = i := nI_clamp (by omega)
  have od : vp_in (wd i) 8 := ok.2.1
  show vp_in (nI i) 20 ∧ _
  rw [c]
  refine ⟨v, fx_mak (fun e7 => ⟨v, nm_e ⟨v, br_c (fun e1 => ⟨v, ?_⟩) (fun e1 => ?_)⟩⟩) (fun e7 => h ns (fun m hm => ?_))⟩
  · have ol : vp_in (wl i) 8 := ok.2.2.1 (show wo i ≠ 0 by rw [e1]; decide)
    refine ⟨ol, ?_⟩
    unfold wX_workSource_46
    rw [c]
    refine br_c (fun e => ⟨v, br_t e1 (h ns (fun m hm => ?_))⟩) (fun e => Exists.intro 9 ?_)
    · unfold fo_wS
      rw [if_neg (show ¬ 7 < ((fo_pr wo wd wl wr wg bk) i).1 from e7), if_pos (show ((fo_pr wo wd wl wr wg bk) i).1 = 1 from e1), if_pos (show ns ((fo_pr wo wd wl wr wg bk) i).2.2.1.toNatClampNeg = ((fo_pr wo wd wl wr wg bk) i).2.1 from e)]
    · have hh : ∀ m, m < 8 → upd (fo_mx 8 (fo_kS (wd i) ns) ns) (wd i).toNatClampNeg (ns (wl i).toNatClampNeg) m = fo_wS ((fo_pr wo wd wl wr wg bk) i) ns m := fun m hm => by
        unfold fo_wS
        rw [if_neg (show ¬ 7 < ((fo_pr wo wd wl wr wg bk) i).1 from e7), if_pos (show ((fo_pr wo wd wl wr wg bk) i).1 = 1 from e1), if_neg (show ¬ ns ((fo_pr wo wd wl wr wg bk) i).2.2.1.toNatClampNeg = ((fo_pr wo wd wl wr wg bk) i).2.1 from e)]
        show upd (fo_mx 8 (fo_kS (wd i) ns) ns) (wd i).toNatClampNeg (ns (wl i).toNatClampNeg) m = upd (fo_kS (wd i) ns) (wd i).toNatClampNeg (ns (wl i).toNatClampNeg) m
        by_cases w : m = (wd i).toNatClampNeg
        · rw [w, pk_us, pk_us]
        · rw [pk_un w, pk_un w, fo_mx_l hm]
      have q := fx_wS_l (post := post) (ns := ns) od (h _ hh) 9 0 (Nat.zero_le _) (by omega)
      rw [fo_mx_0] at q
      exact q
  · have hh : ∀ m, m < 8 → upd (fo_mx 8 (fo_kS (wd i) ns) ns) (wd i).toNatClampNeg (wd i) m = fo_wS ((fo_pr wo wd wl wr wg bk) i) ns m := fun m hm => by
      unfold fo_wS
      rw [if_neg (show ¬ 7 < ((fo_pr wo wd wl wr wg bk) i).1 from e7), if_neg (show ¬ ((fo_pr wo wd wl wr wg bk) i).1 = 1 from e1)]
      show upd (fo_mx 8 (fo_kS (wd i) ns) ns) (wd i).toNatClampNeg (wd i) m = upd (fo_kS (wd i) ns) (wd i).toNatClampNeg (wd i) m
      by_cases w : m = (wd i).toNatClampNeg
      · rw [w, pk_us, pk_us]
      · rw [pk_un w, pk_un w, fo_mx_l hm]
    have q := fx_wS_l (post := post) (ns := ns) od (h _ hh) 9 0 (Nat.zero_le _) (by omega)
    rw [fo_mx_0] at q
    unfold wX_workSource_46
    rw [c]
    exact br_t rfl ⟨v, br_f e1 (Exists.intro 9 q)⟩
  · unfold fo_wS; rw [if_pos (show 7 < ((fo_pr wo wd wl wr wg bk) i).1 from e7)]
theorem fx_poS {post : SX → Prop} {i : Nat} (hn : n ≤ 20) (hi : i < n) (ok : fo_ok i ((fo_pr wo wd wl wr wg bk) i)) (hb : ∀ j, j < n → re j = 0 ∨ re j = 1)
    (hp : ∀ f, (f = 0 → fm = 0 ∧ fo_p2 (wo i) (fo_gS n (wg i).toNatClampNeg ns) (fo_gS n (i + 1) ns) (re, so) = (re, so)) → post ((nI n), fr, fg, f, fs, fo, fb, fe, fn, op, de, le, ri, go, be, wo, wd, wl, wr, wg, bk, (fo_p2 (wo i) (fo_gS n (wg i).toNatClampNeg ns) (fo_gS n (i + 1) ns) (re, so)).1, kn, va, (fo_p2 (wo i) (fo_gS n (wg i).toNatClampNeg ns) (fo_gS n (i + 1) ns) (re, so)).2, ah, us, nk, nv, ns, ro, rd, rl, rr, rg, rb, pl, nu, ou, it)) :
    wpX_passOn post ((nI n), fr, fg, fm, fs, fo, fb, fe, fn, op, de, le, ri, go, be, wo, wd, wl, wr, wg, bk, re, kn, va, so, ah, us, nk, nv, ns, ro, rd, rl, rr, rg, rb, pl, nu, ou, it) (nI i) 1 := by
  have v : vp_in (nI i) 20 := vp_in_nI (by omega) (by decide)
  have c : (nI i).toNatClampNeg = i := nI_clamp (by omega)
  have eg : wg i = nI (wg i).toNatClampNeg := fo_vn ok.2.2.2.2.1 (by decide)
  have g20 : (wg i).toNatClampNeg ≤ 20 := by
    have := fo_cl_lt ok.2.2.2.2.1 (by decide)
    have e : ((fo_pr wo wd wl wr wg bk) i).2.2.2.2.1.toNatClampNeg = (wg i).toNatClampNeg := rfl
    omega
  have k : ∀ (b : fo_S) f, b = fo_p2 (wo i) (fo_gS n (wg i).toNatClampNeg ns) (fo_gS n (i + 1) ns) (re, so) → (f = 0 → fm = 0 ∧ b = (re, so)) → post ((nI n), fr, fg, f, fs, fo, fb, fe, fn, op, de, le, ri, go, be, wo, wd, wl, wr, wg, bk, b.1, kn, va, b.2, ah, us, nk, nv, ns, ro, rd, rl, rr, rg, rb, pl, nu, ou, it) := by
    intro b f e h
    rw [e] at h ⊢
    exact hp f h
  unfold fo_p2 at k
  have n10 : ¬ (1 : Int32) = 0 := by decide
  show vp_in (nI i) 20 ∧ _
  rw [c]
  refine ⟨v, nm_e (br_c (fun e8 => ?_) (fun e8 => br_c (fun e9 => ?_) (fun e9 => br_f e8 (br_c (fun e11 => ?_) (fun e11 => br_f n10 (fx_gS (nI_1 i) hn (by omega) hb (fun f hf => ?_)))))))⟩
  · unfold wX_passOn_19
    rw [c]
    refine br_f n10 ⟨v, fx_gS eg hn g20 hb (fun f hf => ?_)⟩
    exact br_t e8 (k (fo_gS n (wg i).toNatClampNeg ns (re, so)) f (by rw [if_pos e8]) hf)
  · unfold wX_passOn_19
    rw [c]
    refine br_f n10 ⟨v, fx_gS eg hn g20 hb (fun f hf => ?_)⟩
    refine br_f e8 (br_f (by rw [e9]; decide) (br_f n10 (fx_gS (nI_1 i) hn (by omega) (fo_gS_b hb) (fun f2 hf2 => ?_))))
    refine k (fo_gS n (i + 1) ns (fo_gS n (wg i).toNatClampNeg ns (re, so))) f2 (by rw [if_neg e8, if_pos e9]) (fun z => ?_)
    obtain ⟨y1, y2⟩ := hf2 z
    obtain ⟨y3, y4⟩ := hf y1
    exact ⟨y3, y2.trans y4⟩
  · exact k (re, so) fm (by rw [if_neg e8, if_neg e9, if_pos e11]) (fun z => ⟨z, rfl⟩)
  · exact k (fo_gS n (i + 1) ns (re, so)) f (by rw [if_neg e8, if_neg e9, if_neg e11]) hf
theorem fx_S90 {post : SX → Prop} {J50 J71 : Int32 → Int32 → Int32 → Int32 → Int32 → Int32 → Int32 → Int32 → Int32 → Int32 → (Nat → Int32) → (Nat → Int32) → (Nat → Int32) → (Nat → Int32) → (Nat → Int32) → (Nat → Int32) → (Nat → Int32) → (Nat → Int32) → (Nat → Int32) → (Nat → Int32) → (Nat → Int32) → (Nat → Int32) → (Nat → Int32) → (Nat → Int32) → (Nat → Int32) → (Nat → Int32) → (Nat → Int32) → (Nat → Int32) → (Nat → Int32) → (Nat → Int32) → (Nat → Int32) → (Nat → Int32) → (Nat → Int32) → (Nat → Int32) → (Nat → Int32) → (Nat → Int32) → (Nat → Int32) → (Nat → Int32) → (Nat → Int32) → (Nat → Int32) → (Nat → Int32) → Prop} {x1 : Int32} {i : Nat} (hwf : fo_wf (fo_pr wo wd wl wr wg bk) n) (hi : i < n) (hr : ¬ re i = 0) (hb : ∀ j, j < n → re j = 0 ∨ re j = 1)
    (hp : ∀ f ns', (f = 0 → fm = 0 ∧ fo_pS (fo_pr wo wd wl wr wg bk) n i (re, so) = (re, so)) → J71 (nI (i + 1)) (nI n) fr fg f fs fo fb fe fn op de le ri go be wo wd wl wr wg bk ((fo_pS (fo_pr wo wd wl wr wg bk) n i (re, so)).1) kn va ((fo_pS (fo_pr wo wd wl wr wg bk) n i (re, so)).2) ah us nk nv ns' ro rd rl rr rg rb pl nu ou it) :
    ∀ k m, m ≤ 8 → 8 - m < k → wX_findSources_90 post J50 J71 x1 (nI i) (nI n) fr fg fm fs fo fb fe fn k (nI m) op de le ri go be wo wd wl wr wg bk re kn va so ah us nk nv (fo_mx m (fo_lS so i) ns) ro rd rl rr rg rb pl nu ou it := by
  have hn := hwf.1
  have ok := hwf.2 i hi
  intro k
  induction k with
  | zero => intro m _ hk; omega
  | succ k ih =>
    intro m hm hk
    by_cases e : m = 8
    · subst e
      refine br_t (nI_le (Nat.le_refl 8) (by omega)) (fx_wS (by omega) ok (fun S hS => fx_poS hn hi ok hb (fun f hf => nm_r (nI_1 i) ?_)))
      have eS : ∀ m, m < 8 → S m = fo_wS ((fo_pr wo wd wl wr wg bk) i) (fo_lS so i) m := fun m hm => (hS m hm).trans (fo_wS_e ok (fun q hq => fo_mx_l hq) m hm)
      have E : fo_p2 (wo i) (fo_gS n (wg i).toNatClampNeg S) (fo_gS n (i + 1) S) (re, so) = fo_pS (fo_pr wo wd wl wr wg bk) n i (re, so) := by
        unfold fo_pS
        rw [if_neg hr]
        have e1 : fo_gS n (wg i).toNatClampNeg S = fo_gS n (wg i).toNatClampNeg (fo_wS ((fo_pr wo wd wl wr wg bk) i) (fo_lS so i)) := funext fun a => fo_gS_e eS
        have e2 : fo_gS n (i + 1) S = fo_gS n (i + 1) (fo_wS ((fo_pr wo wd wl wr wg bk) i) (fo_lS so i)) := funext fun a => fo_gS_e eS
        rw [e1, e2]
        rfl
      rw [E] at hf ⊢
      exact hp f S hf
    · have v1 : vp_in (8 * nI i + nI m) 160 := by rw [fo_8]; exact vp_in_nI (by omega) (by decide)
      have v2 : vp_in (nI m) 8 := vp_in_nI (by omega) (by decide)
      have c1 : (8 * nI i + nI m).toNatClampNeg = 8 * i + m := by rw [fo_8]; exact nI_clamp (by omega)
      have c2 : (nI m).toNatClampNeg = m := nI_clamp (by omega)
      exact br_f (nI_ge (b := 8) (by omega) (by omega)) ⟨v1, v2, nm_r (e' := fo_mx (m + 1) (fo_lS so i) ns) (by rw [c1, c2]; exact fo_mx_s rfl) (nm_r (nI_1 m) (ih (m + 1) (by omega) (by omega)))⟩
theorem fx_S71 {post : SX → Prop} {J : Int32 → Int32 → Int32 → Int32 → Int32 → Int32 → Int32 → Int32 → Int32 → Int32 → (Nat → Int32) → (Nat → Int32) → (Nat → Int32) → (Nat → Int32) → (Nat → Int32) → (Nat → Int32) → (Nat → Int32) → (Nat → Int32) → (Nat → Int32) → (Nat → Int32) → (Nat → Int32) → (Nat → Int32) → (Nat → Int32) → (Nat → Int32) → (Nat → Int32) → (Nat → Int32) → (Nat → Int32) → (Nat → Int32) → (Nat → Int32) → (Nat → Int32) → (Nat → Int32) → (Nat → Int32) → (Nat → Int32) → (Nat → Int32) → (Nat → Int32) → (Nat → Int32) → (Nat → Int32) → (Nat → Int32) → (Nat → Int32) → (Nat → Int32) → (Nat → Int32) → Prop} {a : fo_S} {x1 : Nat} (hwf : fo_wf (fo_pr wo wd wl wr wg bk) n) (hJS : fo_JS n a)
    (hJ : ∀ f ns, (f = 0 → ∀ j, j < n → fo_pS (fo_pr wo wd wl wr wg bk) n j a = a) → J (nI (x1 + 1)) (nI n) fr fg f fs fo fb fe fn op de le ri go be wo wd wl wr wg bk ((fo_it (fo_pS (fo_pr wo wd wl wr wg bk) n) n a).1) kn va ((fo_it (fo_pS (fo_pr wo wd wl wr wg bk) n) n a).2) ah us nk nv ns ro rd rl rr rg rb pl nu ou it) :
    ∀ k i f ns, i ≤ n → n - i < k → (f = 0 → ∀ j, j < i → fo_pS (fo_pr wo wd wl wr wg bk) n j a = a) →
    wX_findSources_71 post J (nI x1) k (nI i) (nI n) fr fg f fs fo fb fe fn op de le ri go be wo wd wl wr wg bk ((fo_it (fo_pS (fo_pr wo wd wl wr wg bk) n) i a).1) kn va ((fo_it (fo_pS (fo_pr wo wd wl wr wg bk) n) i a).2) ah us nk nv ns ro rd rl rr rg rb pl nu ou it := by
  have hn := hwf.1
  intro k
  induction k with
  | zero => intro i f ns _ hk; omega
  | succ k ih =>
    intro i f ns hi hk hf
    by_cases e : i = n
    · subst e; exact br_t (nI_le (Nat.le_refl i) (by omega)) (nm_r (nI_1 x1) (hJ f ns hf))
    · have v : vp_in (nI i) 20 := vp_in_nI (by omega) (by decide)
      have c : (nI i).toNatClampNeg = i := nI_clamp (by omega)
      have hJi := fo_it_inv (pass := fo_pS (fo_pr wo wd wl wr wg bk) n) (n := n) (Inv := fo_JS n) (fun _ _ hj w => fo_pS_J hwf hj w) hJS i (by omega)
      have fx : f = 0 → fo_it (fo_pS (fo_pr wo wd wl wr wg bk) n) i a = a := fun z => fo_it_fix (fun j hj => hf z j hj)
      have ei : fo_it (fo_pS (fo_pr wo wd wl wr wg bk) n) (i + 1) a = fo_pS (fo_pr wo wd wl wr wg bk) n i (fo_it (fo_pS (fo_pr wo wd wl wr wg bk) n) i a) := rfl
      refine br_f (nI_ge (by omega) (by omega)) ⟨v, br_c (fun hr => ?_) (fun hr => Exists.intro 9 ?_)⟩
      · rw [c] at hr
        have e1 : fo_pS (fo_pr wo wd wl wr wg bk) n i (fo_it (fo_pS (fo_pr wo wd wl wr wg bk) n) i a) = fo_it (fo_pS (fo_pr wo wd wl wr wg bk) n) i a := if_pos hr
        have q := ih (i + 1) f ns (by omega) (by omega) (fun z j hj => by
          by_cases w : j = i
          · rw [w]; rw [fx z] at e1; exact e1
          · exact hf z j (by omega))
        rw [ei, e1] at q
        exact nm_r (nI_1 i) q
      · have Q := fx_S90 (post := post) (J50 := J) (J71 := wX_findSources_71 post J (nI x1) k) (x1 := nI x1) (fm := f) (ns := ns) hwf (by omega) (by rw [c] at hr; exact hr) hJi.1 (fun f2 ns2 h2 => ih (i + 1) f2 ns2 (by omega) (by omega) (fun z j hj => by
          obtain ⟨y1, y2⟩ := h2 z
          have y3 : fo_pS (fo_pr wo wd wl wr wg bk) n i (fo_it (fo_pS (fo_pr wo wd wl wr wg bk) n) i a) = fo_it (fo_pS (fo_pr wo wd wl wr wg bk) n) i a := y2
          by_cases w : j = i
          · rw [w]; rw [fx y1] at y3; exact y3
          · exact hf y1 j (by omega))) 9 0 (Nat.zero_le _) (by omega)
        rw [fo_mx_0] at Q
        exact Q
theorem fx_S50 {post : SX → Prop} {a : fo_S} (hwf : fo_wf (fo_pr wo wd wl wr wg bk) n) (hJS : fo_JS n a)
    (hp : ∀ (b : fo_S) f ns, fo_JS n b → (∀ j, j < n → fo_pS (fo_pr wo wd wl wr wg bk) n j b = b) → post ((nI n), fr, fg, f, fs, fo, fb, fe, fn, op, de, le, ri, go, be, wo, wd, wl, wr, wg, bk, b.1, kn, va, b.2, ah, us, nk, nv, ns, ro, rd, rl, rr, rg, rb, pl, nu, ou, it)) :
    ∀ k r f ns, r ≤ 200 → 200 - r < k → (f = 0 → ∀ j, j < n → fo_pS (fo_pr wo wd wl wr wg bk) n j (fo_rs (fo_pS (fo_pr wo wd wl wr wg bk) n) n r a) = fo_rs (fo_pS (fo_pr wo wd wl wr wg bk) n) n r a) →
    wX_findSources_50 post k (nI r) (nI n) fr fg f fs fo fb fe fn op de le ri go be wo wd wl wr wg bk ((fo_rs (fo_pS (fo_pr wo wd wl wr wg bk) n) n r a).1) kn va ((fo_rs (fo_pS (fo_pr wo wd wl wr wg bk) n) n r a).2) ah us nk nv ns ro rd rl rr rg rb pl nu ou it := by
  have hn := hwf.1
  intro k
  induction k with
  | zero => intro r f ns _ hk; omega
  | succ k ih =>
    intro r f ns hr hk hf
    have hJr := fo_rs_inv (pass := fo_pS (fo_pr wo wd wl wr wg bk) n) (n := n) (Inv := fo_JS n) (fun _ _ hj w => fo_pS_J hwf hj w) hJS r
    by_cases e : r = 200
    · subst e; exact br_t (nI_le (Nat.le_refl 200) (by omega)) (hp _ f ns hJr (fo_S200 hwf hJS))
    · refine br_f (nI_ge (b := 200) (by omega) (by omega)) (br_c (fun hz => hp _ f ns hJr (hf hz)) (fun hz => Exists.intro (n + 1) ?_))
      exact fx_S71 (a := fo_rs (fo_pS (fo_pr wo wd wl wr wg bk) n) n r a) hwf hJr (fun f2 ns2 h2 => ih (r + 1) f2 ns2 (by omega) (by omega) (fun z => by
        have w := fo_it_fix (h2 z)
        show ∀ j, j < n → fo_pS (fo_pr wo wd wl wr wg bk) n j (fo_it (fo_pS (fo_pr wo wd wl wr wg bk) n) n (fo_rs (fo_pS (fo_pr wo wd wl wr wg bk) n) n r a)) = fo_it (fo_pS (fo_pr wo wd wl wr wg bk) n) n (fo_rs (fo_pS (fo_pr wo wd wl wr wg bk) n) n r a)
        rw [w]
        exact h2 z)) (n + 1) 0 0 ns (Nat.zero_le _) (by omega) (fun _ j hj => by omega)
theorem fx_fS {post : SX → Prop} (hwf : fo_wf (fo_pr wo wd wl wr wg bk) n)
    (hp : ∀ (b : fo_S) f ns, fo_JS n b → (∀ j, j < n → fo_pS (fo_pr wo wd wl wr wg bk) n j b = b) → post ((nI n), fr, fg, f, fs, fo, fb, fe, fn, op, de, le, ri, go, be, wo, wd, wl, wr, wg, bk, b.1, kn, va, b.2, ah, us, nk, nv, ns, ro, rd, rl, rr, rg, rb, pl, nu, ou, it)) : wpX_findSources post ((nI n), fr, fg, fm, fs, fo, fb, fe, fn, op, de, le, ri, go, be, wo, wd, wl, wr, wg, bk, re, kn, va, so, ah, us, nk, nv, ns, ro, rd, rl, rr, rg, rb, pl, nu, ou, it) := by
  have hn := hwf.1
  refine fx_clr hn ?_
  have st : ∀ z : Int32, (z = if n = 0 then 0 else 1) → ∃ k, wX_findSources_50 post k 0 (nI n) fr fg 1 fs fo fb fe fn op de le ri go be wo wd wl wr wg bk (upd (fo_mx n (fun _ => 0) re) 0 z) kn va (fo_mx 8 nI so) ah us nk nv ns ro rd rl rr rg rb pl nu ou it := by
    intro z hz
    refine ⟨201, fx_S50 (a := (upd (fo_mx n (fun _ => 0) re) 0 z, fo_mx 8 nI so)) hwf ⟨fun j hj => ?_, fun h0 => ?_, fun m hm => fo_mx_l (f := nI) (g := so) hm, fun j hj hr m hm => ?_⟩ hp 201 0 1 ns (by omega) (by omega) (fun z => absurd z (by decide))⟩
    · show upd (fo_mx n (fun _ => 0) re) 0 z j = 0 ∨ upd (fo_mx n (fun _ => 0) re) 0 z j = 1
      by_cases e : j = 0
      · rw [e, pk_us, hz]
        split
        · exact Or.inl rfl
        · exact Or.inr rfl
      · rw [pk_un e, fo_mx_l hj]; exact Or.inl rfl
    · show upd (fo_mx n (fun _ => 0) re) 0 z 0 = 1
      rw [pk_us, hz, if_neg (by omega)]
    · have hr' : ¬ upd (fo_mx n (fun _ => 0) re) 0 z j = 0 := hr
      by_cases e : j = 0
      · rw [e]
        show vp_in (fo_mx 8 nI so (8 * 0 + m)) 8
        rw [fo_mx_l (by omega)]
        exact fo_nI8 (by omega)
      · rw [pk_un e, fo_mx_l hj] at hr'; exact absurd rfl hr'
  have L : ∀ k m, m ≤ 8 → 8 - m < k → wX_findSources_6 post (nI n) fr fg fm fs fo fb fe fn k (nI m) op de le ri go be wo wd wl wr wg bk (fo_mx n (fun _ => 0) re) kn va (fo_mx m nI so) ah us nk nv ns ro rd rl rr rg rb pl nu ou it := by
    intro k
    induction k with
    | zero => intro m _ hk; omega
    | succ k ih =>
      intro m hm hk
      by_cases e : m = 8
      · subst e
        refine br_t (nI_le (Nat.le_refl 8) (by omega)) (br_c (fun h0 => nm_r (e' := upd (fo_mx n (fun _ => 0) re) 0 0) rfl (st 0 ?_)) (fun h0 => nm_r (e' := upd (fo_mx n (fun _ => 0) re) 0 1) rfl (st 1 ?_)))
        · rw [if_pos]
          rw [← nI_0, nI_leI (by omega) (by decide)] at h0
          omega
        · rw [if_neg]
          intro z
          exact h0 (by rw [z]; exact nI_le (a := 0) (b := 0) (by omega) (by decide))
      · exact br_f (nI_ge (b := 8) (by omega) (by omega)) ⟨vp_in_nI (by omega) (by decide), nm_r (e' := fo_mx (m + 1) nI so) (by rw [nI_clamp (by omega)]; exact fo_mx_s rfl) (nm_r (nI_1 m) (ih (m + 1) (by omega) (by omega)))⟩
  have q := L 9 0 (Nat.zero_le _) (by omega)
  rw [fo_mx_0] at q
  exact Exists.intro 9 q
end
end
section
/-! walks: the use of copies; the third pass -/
theorem fo_uu {f : Nat → Int32} {k : Nat} {x y : Int32} : upd (upd f k x) k y = upd f k y := by
  funext j
  by_cases e : j = k
  · rw [e, pk_us, pk_us]
  · rw [pk_un e, pk_un e, pk_un e]
section
variable {n : Nat} {fr fg fm fs fo fb fe fn : Int32} {op de le ri go be wo wd wl wr wg bk re kn va so ah us nk nv ns ro rd rl rr rg rb pl nu ou it : Nat → Int32} {post : SX → Prop} {i : Nat}
theorem fx_u111 {T : fo_T} {g : Int32} (hi : i < 20) (h : (∀ z, post ((nI n), fr, z, fm, fs, fo, fb, fe, fn, op, de, le, ri, go, be, upd wo i (fo_u111 ((fo_pr wo wd wl wr wg bk) i) T).1, wd, upd wl i (fo_u111 ((fo_pr wo wd wl wr wg bk) i) T).2.1, upd wr i (fo_u111 ((fo_pr wo wd wl wr wg bk) i) T).2.2, wg, bk, re, kn, va, so, ah, us, nk, nv, ns, ro, rd, rl, rr, rg, rb, pl, nu, ou, it))) : wX_useSources_111 post (nI i) (nI n) fr g fm fs fo fb fe fn op de le ri go be (upd wo i T.1) wd (upd wl i T.2.1) (upd wr i T.2.2) wg bk re kn va so ah us nk nv ns ro rd rl rr rg rb pl nu ou it := by
  have v : vp_in (nI i) 20 := vp_in_nI hi (by decide)
  have c : (nI i).toNatClampNeg = i := nI_clamp (by omega)
  unfold wX_useSources_111
  rw [c, pk_us, pk_us]
  unfold fo_u111 at h
  refine ⟨v, br_c (fun e1 => ⟨v, v, br_c (fun e => fx_set hi (fun z => ?_)) (fun e => ?_)⟩) (fun e1 => ?_)⟩
  · rw [if_pos e1, if_pos (show T.2.1 = ((fo_pr wo wd wl wr wg bk) i).2.1 from e)] at h
    rw [fo_uu, fo_uu, fo_uu]
    exact h z
  · rw [if_pos e1, if_neg (show ¬ T.2.1 = ((fo_pr wo wd wl wr wg bk) i).2.1 from e)] at h
    exact h g
  · rw [if_neg e1] at h
    exact h g
theorem fx_uS (hi : i < 20) (ok : fo_ok i ((fo_pr wo wd wl wr wg bk) i)) (h : (∀ z, post ((nI n), fr, z, fm, fs, fo, fb, fe, fn, op, de, le, ri, go, be, upd wo i (fo_uS re so i ((fo_pr wo wd wl wr wg bk) i)).1, wd, upd wl i (fo_uS re so i ((fo_pr wo wd wl wr wg bk) i)).2.1, upd wr i (fo_uS re so i ((fo_pr wo wd wl wr wg bk) i)).2.2, wg, bk, re, kn, va, so, ah, us, nk, nv, ns, ro, rd, rl, rr, rg, rb, pl, nu, ou, it))) : wpX_useSources post ((nI n), fr, fg, fm, fs, fo, fb, fe, fn, op, de, le, ri, go, be, wo, wd, wl, wr, wg, bk, re, kn, va, so, ah, us, nk, nv, ns, ro, rd, rl, rr, rg, rb, pl, nu, ou, it) (nI i) := by
  have v : vp_in (nI i) 20 := vp_in_nI hi (by decide)
  have c : (nI i).toNatClampNeg = i := nI_clamp (by omega)
  have vi : ∀ {l : Int32}, vp_in l 8 → vp_in (8 * nI i + l) 160 := fun {l} hl => by
    have l8 := fo_cl_lt hl (by decide)
    rw [fo_8v hl]; exact vp_in_nI (by omega) (by decide)
  have ci : ∀ {l : Int32}, vp_in l 8 → (8 * nI i + l).toNatClampNeg = 8 * i + l.toNatClampNeg := fun {l} hl => by
    have l8 := fo_cl_lt hl (by decide)
    rw [fo_8v hl]; exact nI_clamp (by omega)
  unfold fo_uS at h
  show vp_in (nI i) 20 ∧ _
  rw [c]
  refine ⟨v, nm_e ⟨v, br_c (fun hr => ?_) (fun hr => ?_)⟩⟩
  · rw [if_pos hr] at h
    exact fx_same (d := fo_xt ((fo_pr wo wd wl wr wg bk) i)) rfl h
  · rw [if_neg hr] at h
    have k : ∀ T, T = fo_u34 so i ((fo_pr wo wd wl wr wg bk) i) → (∀ z, post ((nI n), fr, z, fm, fs, fo, fb, fe, fn, op, de, le, ri, go, be, upd wo i (fo_u111 ((fo_pr wo wd wl wr wg bk) i) T).1, wd, upd wl i (fo_u111 ((fo_pr wo wd wl wr wg bk) i) T).2.1, upd wr i (fo_u111 ((fo_pr wo wd wl wr wg bk) i) T).2.2, wg, bk, re, kn, va, so, ah, us, nk, nv, ns, ro, rd, rl, rr, rg, rb, pl, nu, ou, it)) := fun T e => by rw [e]; exact h
    unfold fo_u34 at k
    have J34 : ∀ T, T = (wo i, so (8 * i + (wl i).toNatClampNeg), wr i) → vp_in (wl i) 8 → (∀ z, post ((nI n), fr, z, fm, fs, fo, fb, fe, fn, op, de, le, ri, go, be, upd wo i (fo_u111 ((fo_pr wo wd wl wr wg bk) i) T).1, wd, upd wl i (fo_u111 ((fo_pr wo wd wl wr wg bk) i) T).2.1, upd wr i (fo_u111 ((fo_pr wo wd wl wr wg bk) i) T).2.2, wg, bk, re, kn, va, so, ah, us, nk, nv, ns, ro, rd, rl, rr, rg, rb, pl, nu, ou, it)) → wX_useSources_34 post (nI i) (wo i) (nI n) fr fg fm fs fo fb fe fn op de le ri go be wo wd wl wr wg bk re kn va so ah us nk nv ns ro rd rl rr rg rb pl nu ou it := by
      intro T eT ol hT
      unfold wX_useSources_34
      rw [c, ci ol]
      rw [eT] at hT
      exact ⟨v, vi ol, v, fx_set hi (fun z => fx_u111 (T := (wo i, so (8 * i + (wl i).toNatClampNeg), wr i)) hi hT)⟩
    refine br_c (fun e1 => ?_) (fun e1 => br_c (fun e9 => ?_) (fun e9 => br_c (fun e10 => ?_) (fun e10 => fx_sum (fun sm => ?_) (fun sm => ?_))))
    · exact J34 _ rfl (ok.2.2.1 (show wo i ≠ 0 by rw [e1]; decide)) (k _ (by rw [if_pos (show ((fo_pr wo wd wl wr wg bk) i).1 = 1 from e1)]; rfl))
    · exact J34 _ rfl (ok.2.2.1 (show wo i ≠ 0 by rw [e9]; decide)) (k _ (by rw [if_neg (show ¬ ((fo_pr wo wd wl wr wg bk) i).1 = 1 from e1), if_pos (show ((fo_pr wo wd wl wr wg bk) i).1 = 9 from e9)]; rfl))
    · exact J34 _ rfl (ok.2.2.1 (show wo i ≠ 0 by rw [e10]; decide)) (k _ (by rw [if_neg (show ¬ ((fo_pr wo wd wl wr wg bk) i).1 = 1 from e1), if_neg (show ¬ ((fo_pr wo wd wl wr wg bk) i).1 = 9 from e9), if_pos (show ((fo_pr wo wd wl wr wg bk) i).1 = 10 from e10)]; rfl))
    · have ol : vp_in (wl i) 8 := ok.2.2.1 (fo_sm_ne sm).1
      have or : vp_in (wr i) 8 := ok.2.2.2.1
      rw [ci ol, ci or]
      have q := k (wo i, so (8 * i + (wl i).toNatClampNeg), so (8 * i + (wr i).toNatClampNeg)) (by
        rw [if_neg (show ¬ ((fo_pr wo wd wl wr wg bk) i).1 = 1 from e1), if_neg (show ¬ ((fo_pr wo wd wl wr wg bk) i).1 = 9 from e9), if_neg (show ¬ ((fo_pr wo wd wl wr wg bk) i).1 = 10 from e10), if_neg (show ¬ ((fo_pr wo wd wl wr wg bk) i).1 < 2 from sm.1), if_neg (show ¬ 7 < ((fo_pr wo wd wl wr wg bk) i).1 from sm.2)]; rfl)
      exact ⟨v, vi ol, v, vi or, fx_set hi (fun z => fx_u111 (T := (wo i, so (8 * i + (wl i).toNatClampNeg), so (8 * i + (wr i).toNatClampNeg))) hi q)⟩
    · have q := fx_u111 (T := (wo i, wl i, wr i)) (g := fg) hi (k _ (by
        rw [if_neg (show ¬ ((fo_pr wo wd wl wr wg bk) i).1 = 1 from e1), if_neg (show ¬ ((fo_pr wo wd wl wr wg bk) i).1 = 9 from e9), if_neg (show ¬ ((fo_pr wo wd wl wr wg bk) i).1 = 10 from e10)]
        by_cases l2 : ((fo_pr wo wd wl wr wg bk) i).1 < 2
        · rw [if_pos l2]; rfl
        · rw [if_neg l2]
          by_cases l7 : 7 < ((fo_pr wo wd wl wr wg bk) i).1
          · rw [if_pos l7]; rfl
          · exact absurd ⟨l2, l7⟩ sm))
      rw [fo_u_id rfl, fo_u_id rfl, fo_u_id rfl] at q
      exact q
theorem fx_gH69 {t : Nat} {h z : Int32} (ht : t < 20) (hz : z = 0 ∨ z = 1) (hp : post ((nI n), fr, fg, z, fs, fo, fb, fe, fn, op, de, le, ri, go, be, wo, wd, wl, wr, wg, bk, upd re t 1, kn, va, so, upd ah t h, us, nk, nv, ns, ro, rd, rl, rr, rg, rb, pl, nu, ou, it)) : wX_mergeAtHand_69 post (nI t) h z (nI n) fr fg fm fs fo fb fe fn op de le ri go be wo wd wl wr wg bk re kn va so ah us nk nv ns ro rd rl rr rg rb pl nu ou it := by
  have v : vp_in (nI t) 20 := vp_in_nI ht (by decide)
  have c : (nI t).toNatClampNeg = t := nI_clamp (by omega)
  have n1 : narrow .boolean (.int z) = .int z := by rcases hz with rfl | rfl <;> rfl
  have n2 : fits .boolean (.int z) = true := by rcases hz with rfl | rfl <;> rfl
  exact ⟨n1, n2, v, nm_r (e' := upd ah t h) (by rw [c]) ⟨v, nm_r (e' := upd re t 1) (by rw [c]; rfl) hp⟩⟩
theorem fx_gH {t : Nat} {p : Int32} (ep : p = nI t) (hn : n ≤ 20) (hb : ∀ j, j < n → re j = 0 ∨ re j = 1) (ht : t ≤ 20)
    (hp : ∀ f, (f = 0 → fm = 0 ∧ fo_gH n t fn (re, ah) = (re, ah)) → post ((nI n), fr, fg, f, fs, fo, fb, fe, fn, op, de, le, ri, go, be, wo, wd, wl, wr, wg, bk, (fo_gH n t fn (re, ah)).1, kn, va, so, (fo_gH n t fn (re, ah)).2, us, nk, nv, ns, ro, rd, rl, rr, rg, rb, pl, nu, ou, it)) :
    wpX_mergeAtHand post ((nI n), fr, fg, fm, fs, fo, fb, fe, fn, op, de, le, ri, go, be, wo, wd, wl, wr, wg, bk, re, kn, va, so, ah, us, nk, nv, ns, ro, rd, rl, rr, rg, rb, pl, nu, ou, it) p := by
  subst ep
  by_cases h : t < n
  · have v : vp_in (nI t) 20 := vp_in_nI (by omega) (by decide)
    have c : (nI t).toNatClampNeg = t := nI_clamp (by omega)
    have e : fo_gH n t fn (re, ah) = (upd re t 1, upd ah t (if re t = 0 then fn else ah t &&& fn)) := if_neg (by omega)
    rw [e] at hp
    have J : ∀ z, z = (if re t = 0 then fn else ah t &&& fn) → wX_mergeAtHand_36 post (nI t) z (nI n) fr fg fm fs fo fb fe fn op de le ri go be wo wd wl wr wg bk re kn va so ah us nk nv ns ro rd rl rr rg rb pl nu ou it := by
      intro z ez
      rw [← ez] at hp
      have J1 : wX_mergeAtHand_64 post (nI t) z (nI n) fr fg fm fs fo fb fe fn op de le ri go be wo wd wl wr wg bk re kn va so ah us nk nv ns ro rd rl rr rg rb pl nu ou it := fx_gH69 (by omega) (Or.inr rfl) (hp 1 (fun w => absurd w (by decide)))
      unfold wX_mergeAtHand_36
      rw [c]
      refine br_c (fun hm => ⟨v, br_c (fun _ => J1) (fun hr => ⟨v, br_c (fun ha => fx_gH69 (by omega) (Or.inl rfl) (hp 0 (fun _ => ⟨hm, ?_⟩))) (fun _ => J1)⟩)⟩) (fun _ => J1)
      rw [fo_u_id ha, fo_u_id (by rcases hb t h with w | w; exact absurd w hr; exact w.symm)]
    refine br_t (nI_lt h (by omega)) ⟨v, ?_⟩
    rw [c]
    exact br_c (fun hr => J _ (by rw [if_pos hr])) (fun hr => ⟨v, J _ (by rw [if_neg hr])⟩)
  · have e : fo_gH n t fn (re, ah) = (re, ah) := if_pos (by omega)
    have q := hp fm (fun z => ⟨z, e⟩)
    rw [e] at q
    exact br_f (nI_nlt (by omega) (by omega)) q
theorem fx_wH_l {h : Int32} (hn : n ≤ 20) (hi : i < n) (e7 : ¬ 7 < wo i) (hp : post ((nI n), fr, fg, fm, fs, fo, fb, fe, fo_wH (fo_pr wo wd wl wr wg bk) n i h, op, de, le, ri, go, be, wo, wd, wl, wr, wg, bk, re, kn, va, so, ah, us, nk, nv, ns, ro, rd, rl, rr, rg, rb, pl, nu, ou, it)) : ∀ k q, q ≤ n → n - q < k →
    wX_workAtHand_33 post (nI i) (wd i) (nI n) fr fg fm fs fo fb fe op de le ri go be wo wd wl wr wg bk re kn va so ah us nk nv ns ro rd rl rr rg rb pl nu ou it k (nI q) (fo_kl (fo_pr wo wd wl wr wg bk) (wd i) h q) := by
  have v : vp_in (nI i) 20 := vp_in_nI (by omega) (by decide)
  have c : (nI i).toNatClampNeg = i := nI_clamp (by omega)
  have K : ∀ z, z = fo_wH (fo_pr wo wd wl wr wg bk) n i h → post ((nI n), fr, fg, fm, fs, fo, fb, fe, z, op, de, le, ri, go, be, wo, wd, wl, wr, wg, bk, re, kn, va, so, ah, us, nk, nv, ns, ro, rd, rl, rr, rg, rb, pl, nu, ou, it) := fun z e => by rw [e]; exact hp
  unfold fo_wH at K
  intro k
  induction k with
  | zero => intro q _ hk; omega
  | succ k ih =>
    intro q hq hk
    by_cases e : q = n
    · subst e
      refine br_t (nI_le (Nat.le_refl q) (by omega)) ⟨v, ?_⟩
      rw [c]
      refine fx_sum (fun sm => ⟨v, br_c (fun e1 => K _ ?_) (fun e1 => ⟨v, br_c (fun e2 => K _ ?_) (fun e2 => nm_e (K _ ?_))⟩)⟩) (fun sm => K _ ?_)
      · rw [if_neg (show ¬ 7 < ((fo_pr wo wd wl wr wg bk) i).1 from e7), if_neg (show ¬ ((fo_pr wo wd wl wr wg bk) i).1 < 2 from sm.1), if_pos (show ((fo_pr wo wd wl wr wg bk) i).2.2.1 = ((fo_pr wo wd wl wr wg bk) i).2.1 from e1)]; rfl
      · rw [if_neg (show ¬ 7 < ((fo_pr wo wd wl wr wg bk) i).1 from e7), if_neg (show ¬ ((fo_pr wo wd wl wr wg bk) i).1 < 2 from sm.1), if_neg (show ¬ ((fo_pr wo wd wl wr wg bk) i).2.2.1 = ((fo_pr wo wd wl wr wg bk) i).2.1 from e1), if_pos (show ((fo_pr wo wd wl wr wg bk) i).2.2.2.1 = ((fo_pr wo wd wl wr wg bk) i).2.1 from e2)]; rfl
      · rw [if_neg (show ¬ 7 < ((fo_pr wo wd wl wr wg bk) i).1 from e7), if_neg (show ¬ ((fo_pr wo wd wl wr wg bk) i).1 < 2 from sm.1), if_neg (show ¬ ((fo_pr wo wd wl wr wg bk) i).2.2.1 = ((fo_pr wo wd wl wr wg bk) i).2.1 from e1), if_neg (show ¬ ((fo_pr wo wd wl wr wg bk) i).2.2.2.1 = ((fo_pr wo wd wl wr wg bk) i).2.1 from e2)]; rfl
      · rw [if_neg (show ¬ 7 < ((fo_pr wo wd wl wr wg bk) i).1 from e7)]
        by_cases l2 : ((fo_pr wo wd wl wr wg bk) i).1 < 2
        · rw [if_pos l2]; rfl
        · exact absurd ⟨l2, e7⟩ sm
    · have vq : vp_in (nI q) 20 := vp_in_nI (by omega) (by decide)
      have cq : (nI q).toNatClampNeg = q := nI_clamp (by omega)
      have I := ih (q + 1) (by omega) (by omega)
      have ks : fo_kl (fo_pr wo wd wl wr wg bk) (wd i) h (q + 1) = (if wd q = wd i then fo_kl (fo_pr wo wd wl wr wg bk) (wd i) h q &&& (((1 : Int32) <<< (nI q &&& 31)) ^^^ (-1)) else if wl q = wd i then fo_kl (fo_pr wo wd wl wr wg bk) (wd i) h q &&& (((1 : Int32) <<< (nI q &&& 31)) ^^^ (-1)) else if wr q = wd i then fo_kl (fo_pr wo wd wl wr wg bk) (wd i) h q &&& (((1 : Int32) <<< (nI q &&& 31)) ^^^ (-1)) else fo_kl (fo_pr wo wd wl wr wg bk) (wd i) h q) := rfl
      rw [ks] at I
      refine br_f (nI_ge (by omega) (by omega)) ⟨vq, ?_⟩
      rw [cq]
      refine br_c (fun e1 => ?_) (fun e1 => ⟨vq, br_c (fun e2 => ?_) (fun e2 => ⟨vq, br_c (fun e3 => ?_) (fun e3 => ?_)⟩)⟩)
      · rw [if_pos e1] at I
        exact nm_e (nm_r (nI_1 q) I)
      · rw [if_neg e1, if_pos e2] at I
        exact nm_e (nm_r (nI_1 q) I)
      · rw [if_neg e1, if_neg e2, if_pos e3] at I
        exact nm_e (nm_r (nI_1 q) I)
      · rw [if_neg e1, if_neg e2, if_neg e3] at I
        exact nm_r (nI_1 q) I
theorem fx_wH (hn : n ≤ 20) (hi : i < n) (hp : post ((nI n), fr, fg, fm, fs, fo, fb, fe, fo_wH (fo_pr wo wd wl wr wg bk) n i (ah i), op, de, le, ri, go, be, wo, wd, wl, wr, wg, bk, re, kn, va, so, ah, us, nk, nv, ns, ro, rd, rl, rr, rg, rb, pl, nu, ou, it)) : wpX_workAtHand post ((nI n), fr, fg, fm, fs, fo, fb, fe, fn, op, de, le, ri, go, be, wo, wd, wl, wr, wg, bk, re, kn, va, so, ah, us, nk, nv, ns, ro, rd, rl, rr, rg, rb, pl, nu, ou, it) (nI i) := by
  have v : vp_in (nI i) 20 := vp_in_nI (by omega) (by decide)
  have c : (nI i).toNatClampNeg = i := nI_clamp (by omega)
  show vp_in (nI i) 20 ∧ _
  rw [c]
  refine ⟨v, nm_e ⟨v, fx_mak (fun e7 => ⟨v, nm_e (Exists.intro (n + 1) (fx_wH_l hn hi e7 hp (n + 1) 0 (Nat.zero_le _) (by omega)))⟩) (fun e7 => ?_)⟩⟩
  have e : fo_wH (fo_pr wo wd wl wr wg bk) n i (ah i) = ah i := if_pos e7
  rw [e] at hp
  exact hp
theorem fx_poH (hn : n ≤ 20) (hi : i < n) (ok : fo_ok i ((fo_pr wo wd wl wr wg bk) i)) (hb : ∀ j, j < n → re j = 0 ∨ re j = 1)
    (hp : ∀ f, (f = 0 → fm = 0 ∧ fo_p2 (wo i) (fo_gH n (wg i).toNatClampNeg fn) (fo_gH n (i + 1) fn) (re, ah) = (re, ah)) → post ((nI n), fr, fg, f, fs, fo, fb, fe, fn, op, de, le, ri, go, be, wo, wd, wl, wr, wg, bk, (fo_p2 (wo i) (fo_gH n (wg i).toNatClampNeg fn) (fo_gH n (i + 1) fn) (re, ah)).1, kn, va, so, (fo_p2 (wo i) (fo_gH n (wg i).toNatClampNeg fn) (fo_gH n (i + 1) fn) (re, ah)).2, us, nk, nv, ns, ro, rd, rl, rr, rg, rb, pl, nu, ou, it)) :
    wpX_passOn post ((nI n), fr, fg, fm, fs, fo, fb, fe, fn, op, de, le, ri, go, be, wo, wd, wl, wr, wg, bk, re, kn, va, so, ah, us, nk, nv, ns, ro, rd, rl, rr, rg, rb, pl, nu, ou, it) (nI i) 0 := by
  have v : vp_in (nI i) 20 := vp_in_nI (by omega) (by decide)
  have c : (nI i).toNatClampNeg = i := nI_clamp (by omega)
  have eg : wg i = nI (wg i).toNatClampNeg := fo_vn ok.2.2.2.2.1 (by decide)
  have g20 : (wg i).toNatClampNeg ≤ 20 := by
    have := fo_cl_lt ok.2.2.2.2.1 (by decide)
    have e : ((fo_pr wo wd wl wr wg bk) i).2.2.2.2.1.toNatClampNeg = (wg i).toNatClampNeg := rfl
    omega
  have k : ∀ (b : fo_S) f, b = fo_p2 (wo i) (fo_gH n (wg i).toNatClampNeg fn) (fo_gH n (i + 1) fn) (re, ah) → (f = 0 → fm = 0 ∧ b = (re, ah)) → post ((nI n), fr, fg, f, fs, fo, fb, fe, fn, op, de, le, ri, go, be, wo, wd, wl, wr, wg, bk, b.1, kn, va, so, b.2, us, nk, nv, ns, ro, rd, rl, rr, rg, rb, pl, nu, ou, it) := by
    intro b f e h
    rw [e] at h ⊢
    exact hp f h
  unfold fo_p2 at k
  have gb : ∀ t, ∀ j, j < n → (fo_gH n t fn (re, ah)).1 j = 0 ∨ (fo_gH n t fn (re, ah)).1 j = 1 := by
    intro t j hj
    unfold fo_gH
    by_cases ht : n ≤ t
    · rw [if_pos ht]; exact hb j hj
    · rw [if_neg ht]
      show upd re t 1 j = 0 ∨ upd re t 1 j = 1
      by_cases e : j = t
      · rw [e, pk_us]; exact Or.inr rfl
      · rw [pk_un e]; exact hb j hj
  show vp_in (nI i) 20 ∧ _
  rw [c]
  refine ⟨v, nm_e (br_c (fun e8 => ?_) (fun e8 => br_c (fun e9 => ?_) (fun e9 => br_f e8 (br_c (fun e11 => ?_) (fun e11 => br_t rfl (fx_gH (nI_1 i) hn hb (by omega) (fun f hf => ?_)))))))⟩
  · unfold wX_passOn_19
    rw [c]
    refine br_t rfl ⟨v, fx_gH eg hn hb g20 (fun f hf => ?_)⟩
    exact br_t e8 (k (fo_gH n (wg i).toNatClampNeg fn (re, ah)) f (by rw [if_pos e8]) hf)
  · unfold wX_passOn_19
    rw [c]
    refine br_t rfl ⟨v, fx_gH eg hn hb g20 (fun f hf => ?_)⟩
    refine br_f e8 (br_f (by rw [e9]; decide) (br_t rfl (fx_gH (nI_1 i) hn (gb _) (by omega) (fun f2 hf2 => ?_))))
    refine k (fo_gH n (i + 1) fn (fo_gH n (wg i).toNatClampNeg fn (re, ah))) f2 (by rw [if_neg e8, if_pos e9]) (fun z => ?_)
    obtain ⟨y1, y2⟩ := hf2 z
    obtain ⟨y3, y4⟩ := hf y1
    exact ⟨y3, y2.trans y4⟩
  · exact k (re, ah) fm (by rw [if_neg e8, if_neg e9, if_pos e11]) (fun z => ⟨z, rfl⟩)
  · exact k (fo_gH n (i + 1) fn (re, ah)) f (by rw [if_neg e8, if_neg e9, if_neg e11]) hf
theorem fx_H57 {J : Int32 → Int32 → Int32 → Int32 → Int32 → Int32 → Int32 → Int32 → Int32 → Int32 → (Nat → Int32) → (Nat → Int32) → (Nat → Int32) → (Nat → Int32) → (Nat → Int32) → (Nat → Int32) → (Nat → Int32) → (Nat → Int32) → (Nat → Int32) → (Nat → Int32) → (Nat → Int32) → (Nat → Int32) → (Nat → Int32) → (Nat → Int32) → (Nat → Int32) → (Nat → Int32) → (Nat → Int32) → (Nat → Int32) → (Nat → Int32) → (Nat → Int32) → (Nat → Int32) → (Nat → Int32) → (Nat → Int32) → (Nat → Int32) → (Nat → Int32) → (Nat → Int32) → (Nat → Int32) → (Nat → Int32) → (Nat → Int32) → (Nat → Int32) → (Nat → Int32) → Prop} {a : fo_S} {x1 : Nat} (hwf : fo_wf (fo_pr wo wd wl wr wg bk) n) (hJH : fo_JH n a)
    (hJ : ∀ f fn, (f = 0 → ∀ j, j < n → fo_pH (fo_pr wo wd wl wr wg bk) n j a = a) → J (nI (x1 + 1)) (nI n) fr fg f fs fo fb fe fn op de le ri go be wo wd wl wr wg bk ((fo_it (fo_pH (fo_pr wo wd wl wr wg bk) n) n a).1) kn va so ((fo_it (fo_pH (fo_pr wo wd wl wr wg bk) n) n a).2) us nk nv ns ro rd rl rr rg rb pl nu ou it) :
    ∀ k i f fn, i ≤ n → n - i < k → (f = 0 → ∀ j, j < i → fo_pH (fo_pr wo wd wl wr wg bk) n j a = a) →
    wX_findAtHand_57 post J (nI x1) k (nI i) (nI n) fr fg f fs fo fb fe fn op de le ri go be wo wd wl wr wg bk ((fo_it (fo_pH (fo_pr wo wd wl wr wg bk) n) i a).1) kn va so ((fo_it (fo_pH (fo_pr wo wd wl wr wg bk) n) i a).2) us nk nv ns ro rd rl rr rg rb pl nu ou it := by
  have hn := hwf.1
  intro k
  induction k with
  | zero => intro i f fn _ hk; omega
  | succ k ih =>
    intro i f fn hi hk hf
    by_cases e : i = n
    · subst e; exact br_t (nI_le (Nat.le_refl i) (by omega)) (nm_r (nI_1 x1) (hJ f fn hf))
    · have v : vp_in (nI i) 20 := vp_in_nI (by omega) (by decide)
      have c : (nI i).toNatClampNeg = i := nI_clamp (by omega)
      have hi' : i < n := by omega
      have ok := hwf.2 i hi'
      have hJi := fo_it_inv (pass := fo_pH (fo_pr wo wd wl wr wg bk) n) (n := n) (Inv := fo_JH n) (fun _ _ _ w => fo_pH_J w) hJH i (by omega)
      have fx : f = 0 → fo_it (fo_pH (fo_pr wo wd wl wr wg bk) n) i a = a := fun z => fo_it_fix (fun j hj => hf z j hj)
      have ei : fo_it (fo_pH (fo_pr wo wd wl wr wg bk) n) (i + 1) a = fo_pH (fo_pr wo wd wl wr wg bk) n i (fo_it (fo_pH (fo_pr wo wd wl wr wg bk) n) i a) := rfl
      refine br_f (nI_ge (by omega) (by omega)) ⟨v, br_c (fun hr => ?_) (fun hr => fx_wH hn hi' (fx_poH hn hi' ok hJi.1 (fun f2 h2 => ?_)))⟩
      · rw [c] at hr
        have e1 : fo_pH (fo_pr wo wd wl wr wg bk) n i (fo_it (fo_pH (fo_pr wo wd wl wr wg bk) n) i a) = fo_it (fo_pH (fo_pr wo wd wl wr wg bk) n) i a := if_pos hr
        have q := ih (i + 1) f fn (by omega) (by omega) (fun z j hj => by
          by_cases w : j = i
          · rw [w]; rw [fx z] at e1; exact e1
          · exact hf z j (by omega))
        rw [ei, e1] at q
        exact nm_r (nI_1 i) q
      · rw [c] at hr
        have E : fo_p2 (wo i) (fo_gH n (wg i).toNatClampNeg (fo_wH (fo_pr wo wd wl wr wg bk) n i ((fo_it (fo_pH (fo_pr wo wd wl wr wg bk) n) i a).2 i))) (fo_gH n (i + 1) (fo_wH (fo_pr wo wd wl wr wg bk) n i ((fo_it (fo_pH (fo_pr wo wd wl wr wg bk) n) i a).2 i))) ((fo_it (fo_pH (fo_pr wo wd wl wr wg bk) n) i a).1, (fo_it (fo_pH (fo_pr wo wd wl wr wg bk) n) i a).2) = fo_it (fo_pH (fo_pr wo wd wl wr wg bk) n) (i + 1) a := by
          rw [ei]
          exact (if_neg hr).symm
        rw [E] at h2 ⊢
        have q := ih (i + 1) f2 (fo_wH (fo_pr wo wd wl wr wg bk) n i ((fo_it (fo_pH (fo_pr wo wd wl wr wg bk) n) i a).2 i)) (by omega) (by omega) (fun z j hj => by
          obtain ⟨y1, y2⟩ := h2 z
          have y3 : fo_pH (fo_pr wo wd wl wr wg bk) n i (fo_it (fo_pH (fo_pr wo wd wl wr wg bk) n) i a) = fo_it (fo_pH (fo_pr wo wd wl wr wg bk) n) i a := y2
          by_cases w : j = i
          · rw [w]; rw [fx y1] at y3; exact y3
          · exact hf y1 j (by omega))
        exact nm_r (nI_1 i) q
theorem fx_H36 {a : fo_S} (hwf : fo_wf (fo_pr wo wd wl wr wg bk) n) (hJH : fo_JH n a)
    (hp : ∀ (b : fo_S) f fn, fo_JH n b → (∀ k, k < 32 → ∀ j, j < n → fo_vH k (fo_pH (fo_pr wo wd wl wr wg bk) n j b) = fo_vH k b) → post ((nI n), fr, fg, f, fs, fo, fb, fe, fn, op, de, le, ri, go, be, wo, wd, wl, wr, wg, bk, b.1, kn, va, so, b.2, us, nk, nv, ns, ro, rd, rl, rr, rg, rb, pl, nu, ou, it)) :
    ∀ k r f fn, r ≤ 200 → 200 - r < k → (f = 0 → ∀ j, j < n → fo_pH (fo_pr wo wd wl wr wg bk) n j (fo_rs (fo_pH (fo_pr wo wd wl wr wg bk) n) n r a) = fo_rs (fo_pH (fo_pr wo wd wl wr wg bk) n) n r a) →
    wX_findAtHand_36 post k (nI r) (nI n) fr fg f fs fo fb fe fn op de le ri go be wo wd wl wr wg bk ((fo_rs (fo_pH (fo_pr wo wd wl wr wg bk) n) n r a).1) kn va so ((fo_rs (fo_pH (fo_pr wo wd wl wr wg bk) n) n r a).2) us nk nv ns ro rd rl rr rg rb pl nu ou it := by
  have hn := hwf.1
  intro k
  induction k with
  | zero => intro r f fn _ hk; omega
  | succ k ih =>
    intro r f fn hr hk hf
    have hJr := fo_rs_inv (pass := fo_pH (fo_pr wo wd wl wr wg bk) n) (n := n) (Inv := fo_JH n) (fun _ _ _ w => fo_pH_J w) hJH r
    by_cases e : r = 200
    · subst e; exact br_t (nI_le (Nat.le_refl 200) (by omega)) (hp _ f fn hJr (fun q hq => fo_H200 hn hq hJH))
    · refine br_f (nI_ge (b := 200) (by omega) (by omega)) (br_c (fun hz => hp _ f fn hJr (fun q _ j hj => by rw [hf hz j hj])) (fun hz => Exists.intro (n + 1) ?_))
      exact fx_H57 (a := fo_rs (fo_pH (fo_pr wo wd wl wr wg bk) n) n r a) hwf hJr (fun f2 fn2 h2 => ih (r + 1) f2 fn2 (by omega) (by omega) (fun z => by
        have w := fo_it_fix (h2 z)
        show ∀ j, j < n → fo_pH (fo_pr wo wd wl wr wg bk) n j (fo_it (fo_pH (fo_pr wo wd wl wr wg bk) n) n (fo_rs (fo_pH (fo_pr wo wd wl wr wg bk) n) n r a)) = fo_it (fo_pH (fo_pr wo wd wl wr wg bk) n) n (fo_rs (fo_pH (fo_pr wo wd wl wr wg bk) n) n r a)
        rw [w]
        exact h2 z)) (n + 1) 0 0 fn (Nat.zero_le _) (by omega) (fun _ j hj => by omega)
theorem fx_fH (hwf : fo_wf (fo_pr wo wd wl wr wg bk) n)
    (hp : ∀ (b : fo_S) f fn, fo_JH n b → (∀ k, k < 32 → ∀ j, j < n → fo_vH k (fo_pH (fo_pr wo wd wl wr wg bk) n j b) = fo_vH k b) → post ((nI n), fr, fg, f, fs, fo, fb, fe, fn, op, de, le, ri, go, be, wo, wd, wl, wr, wg, bk, b.1, kn, va, so, b.2, us, nk, nv, ns, ro, rd, rl, rr, rg, rb, pl, nu, ou, it)) : wpX_findAtHand post ((nI n), fr, fg, fm, fs, fo, fb, fe, fn, op, de, le, ri, go, be, wo, wd, wl, wr, wg, bk, re, kn, va, so, ah, us, nk, nv, ns, ro, rd, rl, rr, rg, rb, pl, nu, ou, it) := by
  have hn := hwf.1
  refine fx_clr hn ?_
  have st : ∀ z : Int32, (z = if n = 0 then 0 else 1) → fo_nb z = z → wX_findAtHand_21 post z 0 (nI n) fr fg fm fs fo fb fe fn op de le ri go be wo wd wl wr wg bk (fo_mx n (fun _ => 0) re) kn va so ah us nk nv ns ro rd rl rr rg rb pl nu ou it := by
    intro z hz hb
    refine ⟨fo_in0 (by decide), nm_r (e' := upd (fo_mx n (fun _ => 0) re) 0 z) ?_ (nm_e (Exists.intro 201 ?_))⟩
    · show upd (fo_mx n (fun _ => 0) re) 0 (fo_nb z) = _
      rw [hb]
    · refine fx_H36 (a := (upd (fo_mx n (fun _ => 0) re) 0 z, upd ah 0 0)) hwf ⟨fun j hj => ?_, fun h0 => ?_, pk_us (f := ah) (k := 0) (x := 0)⟩ hp 201 0 1 fn (by omega) (by omega) (fun z => absurd z (by decide))
      · show upd (fo_mx n (fun _ => 0) re) 0 z j = 0 ∨ upd (fo_mx n (fun _ => 0) re) 0 z j = 1
        by_cases e : j = 0
        · rw [e, pk_us, hz]
          split
          · exact Or.inl rfl
          · exact Or.inr rfl
        · rw [pk_un e, fo_mx_l hj]; exact Or.inl rfl
      · show upd (fo_mx n (fun _ => 0) re) 0 z 0 = 1
        rw [pk_us, hz, if_neg (by omega)]
  refine br_c (fun h0 => st 0 ?_ rfl) (fun h0 => st 1 ?_ rfl)
  · rw [if_pos]
    rw [← nI_0, nI_leI (by omega) (by decide)] at h0
    omega
  · rw [if_neg]
    intro z
    exact h0 (by rw [z]; exact nI_le (a := 0) (b := 0) (by omega) (by decide))
end
end
section
/-! walks: the use of results at hand -/
theorem fo_sb (x : Int32) {k : Nat} (hk : k < 32) : (x >>> (nI k &&& 31)) &&& 1 = if bt x k = true then 1 else 0 := by
  refine b_ext (fun j hj => ?_)
  rw [b_and, fo_bt1 j hj]
  by_cases e : j = 0
  · subst e
    rw [b_sshr k hk x (by decide), if_pos (by omega), Nat.add_zero]
    cases q : bt x k
    · rw [if_neg (by decide), b_0]; rfl
    · rw [if_pos rfl, fo_bt1 0 (by decide)]; rfl
  · rw [decide_eq_false e, Bool.and_false]
    split
    · rw [fo_bt1 j hj, decide_eq_false e]
    · rw [b_0]
theorem fo_sb1 {x : Int32} {k : Nat} (hk : k < 32) (h : (x >>> (nI k &&& 31)) &&& 1 = 1) : bt x k = true := by
  rw [fo_sb x hk] at h
  by_cases e : bt x k = true
  · exact e
  · rw [if_neg e] at h; exact absurd h (by decide)
def fo_n1 (U : Nat → fo_T) (i : Nat) (f : Nat → Int32) : Nat → Int32 := fo_mx i (fun j => (U j).1) f
def fo_n2 (U : Nat → fo_T) (i : Nat) (f : Nat → Int32) : Nat → Int32 := fo_mx i (fun j => (U j).2.1) f
def fo_n3 (U : Nat → fo_T) (i : Nat) (f : Nat → Int32) : Nat → Int32 := fo_mx i (fun j => (U j).2.2) f
theorem fo_n1_0 {U : Nat → fo_T} {f : Nat → Int32} : fo_n1 U 0 f = f := fo_mx_0
theorem fo_n2_0 {U : Nat → fo_T} {f : Nat → Int32} : fo_n2 U 0 f = f := fo_mx_0
theorem fo_n3_0 {U : Nat → fo_T} {f : Nat → Int32} : fo_n3 U 0 f = f := fo_mx_0
theorem fo_n1_s {U : Nat → fo_T} {f : Nat → Int32} {i : Nat} : upd (fo_n1 U i f) i (U i).1 = fo_n1 U (i + 1) f := fo_mx_s rfl
theorem fo_n2_s {U : Nat → fo_T} {f : Nat → Int32} {i : Nat} : upd (fo_n2 U i f) i (U i).2.1 = fo_n2 U (i + 1) f := fo_mx_s rfl
theorem fo_n3_s {U : Nat → fo_T} {f : Nat → Int32} {i : Nat} : upd (fo_n3 U i f) i (U i).2.2 = fo_n3 U (i + 1) f := fo_mx_s rfl
theorem fo_nP {U : Nat → fo_T} {wo wd wl wr wg bk : Nat → Int32} {i : Nat} : fo_pr (fo_n1 U i wo) wd (fo_n2 U i wl) (fo_n3 U i wr) wg bk i = fo_pr wo wd wl wr wg bk i := by
  unfold fo_pr fo_n1 fo_n2 fo_n3
  rw [fo_mx_g (Nat.le_refl i), fo_mx_g (Nat.le_refl i), fo_mx_g (Nat.le_refl i)]
theorem fo_nQ {U : Nat → fo_T} {wo wd wl wr wg bk : Nat → Int32} {n i : Nat} (h : i < n) : fo_pr (fo_n1 U n wo) wd (fo_n2 U n wl) (fo_n3 U n wr) wg bk i = fo_rp (fo_pr wo wd wl wr wg bk i) (U i) := by
  unfold fo_pr fo_n1 fo_n2 fo_n3 fo_rp
  rw [fo_mx_l h, fo_mx_l h, fo_mx_l h]
section
variable {n : Nat} {fr fg fm fs fo fb fe fn : Int32} {op de le ri go be wo wd wl wr wg bk re kn va so ah us nk nv ns ro rd rl rr rg rb pl nu ou it : Nat → Int32}
theorem fx_ss {post : Int32 → Prop} {i k : Nat} (hi : i < 20) (hk : k < 20) (h : ∀ r, (¬ r = 0 → fo_ss ((fo_pr wo wd wl wr wg bk) i) ((fo_pr wo wd wl wr wg bk) k)) → post r) : wpX_sameSum post ((nI n), fr, fg, fm, fs, fo, fb, fe, fn, op, de, le, ri, go, be, wo, wd, wl, wr, wg, bk, re, kn, va, so, ah, us, nk, nv, ns, ro, rd, rl, rr, rg, rb, pl, nu, ou, it) (nI i) (nI k) := by
  have vi : vp_in (nI i) 20 := vp_in_nI hi (by decide)
  have vk : vp_in (nI k) 20 := vp_in_nI hk (by decide)
  have ci : (nI i).toNatClampNeg = i := nI_clamp (by omega)
  have ck : (nI k).toNatClampNeg = k := nI_clamp (by omega)
  have h0 := h 0 (fun z => absurd rfl z)
  have J79 : ∀ s z, wo i = wo k → (¬ s = 0 → wl i = wl k ∧ wr i = wr k) → (¬ z = 0 → wo i ≠ 3 ∧ wo i ≠ 7) → wX_sameSum_79 post (nI i) (nI k) s z (nI n) fr fg fm fs fo fb fe fn op de le ri go be wo wd wl wr wg bk re kn va so ah us nk nv ns ro rd rl rr rg rb pl nu ou it := by
    intro s z e hs hz
    unfold wX_sameSum_79
    rw [ci, ck]
    exact br_c (fun _ => br_c (fun _ => h0) (fun z1 => ⟨vi, vk, br_c (fun e1 => ⟨vi, vk, br_c (fun e2 => h 1 (fun _ => ⟨e, Or.inr ⟨(hz z1).1, (hz z1).2, e1, e2⟩⟩)) (fun _ => h0)⟩) (fun _ => h0)⟩)) (fun s1 => h 1 (fun _ => ⟨e, Or.inl (hs s1)⟩))
  have J52 : ∀ s, wo i = wo k → (¬ s = 0 → wl i = wl k ∧ wr i = wr k) → wX_sameSum_52 post (nI i) (nI k) s (nI n) fr fg fm fs fo fb fe fn op de le ri go be wo wd wl wr wg bk re kn va so ah us nk nv ns ro rd rl rr rg rb pl nu ou it := by
    intro s e hs
    unfold wX_sameSum_52
    rw [ci]
    exact ⟨vi, br_c (fun _ => J79 s 0 e hs (fun z => absurd rfl z)) (fun e3 => ⟨vi, br_c (fun _ => J79 s 0 e hs (fun z => absurd rfl z)) (fun e7 => J79 s 1 e hs (fun _ => ⟨e3, e7⟩))⟩)⟩
  show vp_in (nI i) 20 ∧ _
  rw [ci, ck]
  exact ⟨vi, vk, br_c (fun e => ⟨vi, vk, br_c (fun e1 => ⟨vi, vk, br_c (fun e2 => J52 1 e (fun _ => ⟨e1, e2⟩)) (fun _ => J52 0 e (fun z => absurd rfl z))⟩) (fun _ => J52 0 e (fun z => absurd rfl z))⟩) (fun _ => h0)⟩
theorem fx_H19 {post : SX → Prop} {J : Int32 → (Nat → Int32) → (Nat → Int32) → (Nat → Int32) → (Nat → Int32) → (Nat → Int32) → (Nat → Int32) → (Nat → Int32) → (Nat → Int32) → (Nat → Int32) → (Nat → Int32) → (Nat → Int32) → (Nat → Int32) → (Nat → Int32) → (Nat → Int32) → (Nat → Int32) → (Nat → Int32) → (Nat → Int32) → (Nat → Int32) → (Nat → Int32) → (Nat → Int32) → (Nat → Int32) → (Nat → Int32) → (Nat → Int32) → (Nat → Int32) → (Nat → Int32) → (Nat → Int32) → (Nat → Int32) → (Nat → Int32) → (Nat → Int32) → (Nat → Int32) → (Nat → Int32) → Prop} {i : Nat} (hn : n ≤ 20) (hi : i < n)
    (hJ : ∀ it, (∀ j, j < i + 1 → fo_Gi (fo_pr wo wd wl wr wg bk) n (re, ah) j (it j)) → J (nI (i + 1)) op de le ri go be wo wd wl wr wg bk re kn va so ah us nk nv ns ro rd rl rr rg rb pl nu ou it) :
    ∀ k q it, q ≤ n → n - q < k → (∀ j, j < i + 1 → fo_Gi (fo_pr wo wd wl wr wg bk) n (re, ah) j (it j)) → wX_useAtHand_19 post J (nI i) (nI n) fr fg fm fs fo fb fe fn k (nI q) op de le ri go be wo wd wl wr wg bk re kn va so ah us nk nv ns ro rd rl rr rg rb pl nu ou it := by
  have vi : vp_in (nI i) 20 := vp_in_nI (by omega) (by decide)
  have ci : (nI i).toNatClampNeg = i := nI_clamp (by omega)
  intro k
  induction k with
  | zero => intro q it _ hk; omega
  | succ k ih =>
    intro q it hq hk hG
    have out : ∀ x, x = nI i + 1 → J x op de le ri go be wo wd wl wr wg bk re kn va so ah us nk nv ns ro rd rl rr rg rb pl nu ou it := nm_r (nI_1 i) (hJ it hG)
    by_cases e : q = n
    · subst e; exact br_t (nI_le (Nat.le_refl q) (by omega)) out
    · have vq : vp_in (nI q) 20 := vp_in_nI (by omega) (by decide)
      have cq : (nI q).toNatClampNeg = q := nI_clamp (by omega)
      have go : ∀ x, x = nI q + 1 → wX_useAtHand_19 post J (nI i) (nI n) fr fg fm fs fo fb fe fn k x op de le ri go be wo wd wl wr wg bk re kn va so ah us nk nv ns ro rd rl rr rg rb pl nu ou it := nm_r (nI_1 q) (ih (q + 1) it (by omega) (by omega) hG)
      refine br_f (nI_ge (by omega) (by omega)) ⟨vi, ?_⟩
      rw [ci]
      refine br_c (fun _ => out) (fun hr => ⟨vi, fx_sum (fun sm => ⟨vi, br_c (fun hb => fx_ss (by omega) (by omega) (fun r hs => br_c (fun _ => go) (fun r1 => ⟨vq, vi, ?_⟩))) (fun _ => go)⟩) (fun _ => out)⟩)
      rw [cq]
      refine nm_e (nm_r (nI_1 q) (ih (q + 1) (upd it i (wd q)) (by omega) (by omega) (fun j hj => ?_)))
      by_cases w : j = i
      · rw [w, pk_us]
        exact Or.inr ⟨hr, sm, q, by omega, fo_sb1 (by omega) hb, hs r1, rfl⟩
      · rw [pk_un w]; exact hG j hj
theorem fx_H98 {post : SX → Prop} (hn : n ≤ 20)
    (hp : ∀ g, post ((nI n), fr, g, fm, fs, fo, fb, fe, fn, op, de, le, ri, go, be, fo_n1 (fun j => fo_uH (it j) ((fo_pr wo wd wl wr wg bk) j)) n wo, wd, fo_n2 (fun j => fo_uH (it j) ((fo_pr wo wd wl wr wg bk) j)) n wl, fo_n3 (fun j => fo_uH (it j) ((fo_pr wo wd wl wr wg bk) j)) n wr, wg, bk, re, kn, va, so, ah, us, nk, nv, ns, ro, rd, rl, rr, rg, rb, pl, nu, ou, it)) :
    ∀ k i g, i ≤ n → n - i < k → wX_useAtHand_98 post k (nI i) (nI n) fr g fm fs fo fb fe fn op de le ri go be (fo_n1 (fun j => fo_uH (it j) ((fo_pr wo wd wl wr wg bk) j)) i wo) wd (fo_n2 (fun j => fo_uH (it j) ((fo_pr wo wd wl wr wg bk) j)) i wl) (fo_n3 (fun j => fo_uH (it j) ((fo_pr wo wd wl wr wg bk) j)) i wr) wg bk re kn va so ah us nk nv ns ro rd rl rr rg rb pl nu ou it := by
  intro k
  induction k with
  | zero => intro i g _ hk; omega
  | succ k ih =>
    intro i g hi hk
    by_cases e : i = n
    · subst e; exact br_t (nI_le (Nat.le_refl i) (by omega)) (hp g)
    · have vi : vp_in (nI i) 20 := vp_in_nI (by omega) (by decide)
      have ci : (nI i).toNatClampNeg = i := nI_clamp (by omega)
      have I := fun g => ih (i + 1) g (by omega) (by omega)
      rw [← fo_n1_s, ← fo_n2_s, ← fo_n3_s] at I
      generalize eU : fo_uH (it i) ((fo_pr wo wd wl wr wg bk) i) = T at I
      unfold fo_uH at eU
      refine br_f (nI_ge (by omega) (by omega)) ⟨vi, ?_⟩
      rw [ci]
      refine br_c (fun h0 => ?_) (fun h0 => ⟨vi, vi, br_c (fun h1 => fx_set (by omega) (fun z => nm_r (nI_1 i) ?_)) (fun h1 => ⟨vi, fx_set (by omega) (fun z => nm_r (nI_1 i) ?_)⟩)⟩)
      · rw [if_pos h0] at eU
        have q := I g
        rw [← eU, fo_u_id (show (fo_xt ((fo_pr wo wd wl wr wg bk) i)).1 = fo_n1 (fun j => fo_uH (it j) ((fo_pr wo wd wl wr wg bk) j)) i wo i from (fo_mx_g (Nat.le_refl i)).symm), fo_u_id (show (fo_xt ((fo_pr wo wd wl wr wg bk) i)).2.1 = fo_n2 (fun j => fo_uH (it j) ((fo_pr wo wd wl wr wg bk) j)) i wl i from (fo_mx_g (Nat.le_refl i)).symm), fo_u_id (show (fo_xt ((fo_pr wo wd wl wr wg bk) i)).2.2 = fo_n3 (fun j => fo_uH (it j) ((fo_pr wo wd wl wr wg bk) j)) i wr i from (fo_mx_g (Nat.le_refl i)).symm)] at q
        exact nm_r (nI_1 i) q
      · rw [if_neg h0, if_pos (show it i = ((fo_pr wo wd wl wr wg bk) i).2.1 from h1)] at eU
        have q := I z
        rw [← eU] at q
        exact q
      · rw [if_neg h0, if_neg (show ¬ it i = ((fo_pr wo wd wl wr wg bk) i).2.1 from h1)] at eU
        have q := I z
        rw [← eU] at q
        exact q
theorem fx_uH {post : SX → Prop} (hn : n ≤ 20)
    (hp : ∀ g it, (∀ i, i < n → fo_Gi (fo_pr wo wd wl wr wg bk) n (re, ah) i (it i)) → post ((nI n), fr, g, fm, fs, fo, fb, fe, fn, op, de, le, ri, go, be, fo_n1 (fun j => fo_uH (it j) ((fo_pr wo wd wl wr wg bk) j)) n wo, wd, fo_n2 (fun j => fo_uH (it j) ((fo_pr wo wd wl wr wg bk) j)) n wl, fo_n3 (fun j => fo_uH (it j) ((fo_pr wo wd wl wr wg bk) j)) n wr, wg, bk, re, kn, va, so, ah, us, nk, nv, ns, ro, rd, rl, rr, rg, rb, pl, nu, ou, it)) :
    wpX_useAtHand post ((nI n), fr, fg, fm, fs, fo, fb, fe, fn, op, de, le, ri, go, be, wo, wd, wl, wr, wg, bk, re, kn, va, so, ah, us, nk, nv, ns, ro, rd, rl, rr, rg, rb, pl, nu, ou, it) := by
  have L : ∀ k i it, i ≤ n → n - i < k → (∀ j, j < i → fo_Gi (fo_pr wo wd wl wr wg bk) n (re, ah) j (it j)) → wX_useAtHand_2 post (nI n) fr fg fm fs fo fb fe fn k (nI i) op de le ri go be wo wd wl wr wg bk re kn va so ah us nk nv ns ro rd rl rr rg rb pl nu ou it := by
    intro k
    induction k with
    | zero => intro i it _ hk; omega
    | succ k ih =>
      intro i it hi hk hG
      by_cases e : i = n
      · subst e
        refine br_t (nI_le (Nat.le_refl i) (by omega)) (Exists.intro (i + 1) ?_)
        have q := fx_H98 (post := post) (it := it) hn (fun g => hp g it hG) (i + 1) 0 fg (Nat.zero_le _) (by omega)
        rw [fo_n1_0, fo_n2_0, fo_n3_0] at q
        exact q
      · have vi : vp_in (nI i) 20 := vp_in_nI (by omega) (by decide)
        have ci : (nI i).toNatClampNeg = i := nI_clamp (by omega)
        refine br_f (nI_ge (by omega) (by omega)) ⟨vi, nm_r (e' := upd it i (-1)) (by rw [ci]) (Exists.intro (n + 1) ?_)⟩
        refine fx_H19 hn (by omega) (fun it' h' => ih (i + 1) it' (by omega) (by omega) h') (n + 1) 0 (upd it i (-1)) (Nat.zero_le _) (by omega) (fun j hj => ?_)
        by_cases w : j = i
        · rw [w, pk_us]; exact Or.inl rfl
        · rw [pk_un w]; exact hG j (by omega)
  exact Exists.intro (n + 1) (L (n + 1) 0 it (Nat.zero_le _) (by omega) (fun j hj => by omega))
end
end
section
/-! walks: the fourth pass -/
/-- the loop's counter, going down -/
def fo_dn (n j : Nat) : Int32 := if j < n then nI (n - 1 - j) else -1
theorem fo_dn_s {n j : Nat} (h : j < n) : nI (n - 1 - j) + (-1) = fo_dn n (j + 1) := by
  unfold fo_dn
  by_cases e : j + 1 < n
  · rw [if_pos e, show n - 1 - j = (n - 1 - (j + 1)) + 1 by omega]
    exact pk_m1 _
  · rw [if_neg e, show n - 1 - j = 0 by omega]
    rfl
theorem fo_dn_0 (n : Nat) : nI n - 1 = fo_dn n 0 := by
  unfold fo_dn
  by_cases e : 0 < n
  · rw [if_pos e]
    obtain ⟨m, rfl⟩ : ∃ m, n = m + 1 := ⟨n - 1, by omega⟩
    rw [nI_pred]
    exact congrArg nI (by omega)
  · rw [if_neg e, show n = 0 by omega]
    rfl
section
variable {n : Nat} {fr fg fm fs fo fb fe fn : Int32} {op de le ri go be wo wd wl wr wg bk re kn va so ah us nk nv ns ro rd rl rr rg rb pl nu ou it : Nat → Int32}
theorem fx_at {post : Int32 → Prop} {t : Nat} {p : Int32} (ep : p = nI t) (hn : n ≤ 20) (ht : t ≤ 20) (h : post (fo_at n us t)) : wpX_usedAt post ((nI n), fr, fg, fm, fs, fo, fb, fe, fn, op, de, le, ri, go, be, wo, wd, wl, wr, wg, bk, re, kn, va, so, ah, us, nk, nv, ns, ro, rd, rl, rr, rg, rb, pl, nu, ou, it) p := by
  subst ep
  unfold fo_at at h
  by_cases e : t < n
  · rw [if_pos e] at h
    refine br_t (nI_lt e (by omega)) ⟨vp_in_nI (by omega) (by decide), ?_⟩
    rw [nI_clamp (by omega)]; exact h
  · rw [if_neg e] at h
    exact br_f (nI_nlt (by omega) (by omega)) h
theorem fx_ub {post : Int32 → Prop} {i : Nat} (hn : n ≤ 20) (hi : i < n) (ok : fo_ok i ((fo_pr wo wd wl wr wg bk) i)) (h : post (fo_ub (fo_pr wo wd wl wr wg bk) n us i)) : wpX_usedBefore post ((nI n), fr, fg, fm, fs, fo, fb, fe, fn, op, de, le, ri, go, be, wo, wd, wl, wr, wg, bk, re, kn, va, so, ah, us, nk, nv, ns, ro, rd, rl, rr, rg, rb, pl, nu, ou, it) (nI i) := by
  have v : vp_in (nI i) 20 := vp_in_nI (by omega) (by decide)
  have c : (nI i).toNatClampNeg = i := nI_clamp (by omega)
  have eg : wg i = nI (wg i).toNatClampNeg := fo_vn ok.2.2.2.2.1 (by decide)
  have g20 : (wg i).toNatClampNeg ≤ 20 := by
    have := fo_cl_lt ok.2.2.2.2.1 (by decide)
    have e : ((fo_pr wo wd wl wr wg bk) i).2.2.2.2.1.toNatClampNeg = (wg i).toNatClampNeg := rfl
    omega
  unfold fo_ub at h
  have J113 : ∀ z, post (fo_q4 ((fo_pr wo wd wl wr wg bk) i) z) → wX_usedBefore_113 post (nI i) (wo i) z (nI n) fr fg fm fs fo fb fe fn op de le ri go be wo wd wl wr wg bk re kn va so ah us nk nv ns ro rd rl rr rg rb pl nu ou it := by
    intro z hz
    unfold wX_usedBefore_113
    rw [c]
    unfold fo_q4 at hz
    refine fx_sum (fun sm => ⟨v, ?_⟩) (fun sm => ?_)
    · rw [if_neg (show ¬ ((fo_pr wo wd wl wr wg bk) i).1 < 2 from sm.1), if_neg (show ¬ 7 < ((fo_pr wo wd wl wr wg bk) i).1 from sm.2)] at hz
      exact hz
    · by_cases l2 : ((fo_pr wo wd wl wr wg bk) i).1 < 2
      · rw [if_pos l2] at hz; exact hz
      · rw [if_neg l2] at hz
        by_cases l7 : 7 < ((fo_pr wo wd wl wr wg bk) i).1
        · rw [if_pos l7] at hz; exact hz
        · exact absurd ⟨l2, l7⟩ sm
  have J102 : ∀ z, post (fo_q4 ((fo_pr wo wd wl wr wg bk) i) (z ||| ((1 : Int32) <<< (wl i &&& 31)))) → wX_usedBefore_102 post (nI i) (wo i) z (nI n) fr fg fm fs fo fb fe fn op de le ri go be wo wd wl wr wg bk re kn va so ah us nk nv ns ro rd rl rr rg rb pl nu ou it := by
    intro z hz
    unfold wX_usedBefore_102
    rw [c]
    exact ⟨v, nm_e (J113 _ hz)⟩
  have J77 : ∀ z, post (fo_q4 ((fo_pr wo wd wl wr wg bk) i) (fo_q3 ((fo_pr wo wd wl wr wg bk) i) z)) → wX_usedBefore_77 post (nI i) (wo i) z (nI n) fr fg fm fs fo fb fe fn op de le ri go be wo wd wl wr wg bk re kn va so ah us nk nv ns ro rd rl rr rg rb pl nu ou it := by
    intro z hz
    unfold fo_q3 at hz
    refine br_c (fun e1 => ?_) (fun e1 => br_c (fun e9 => ?_) (fun e9 => br_c (fun e10 => ?_) (fun e10 => fx_sum (fun sm => ?_) (fun sm => ?_))))
    · rw [if_pos (show ((fo_pr wo wd wl wr wg bk) i).1 = 1 from e1)] at hz; exact J102 z hz
    · rw [if_neg (show ¬ ((fo_pr wo wd wl wr wg bk) i).1 = 1 from e1), if_pos (show ((fo_pr wo wd wl wr wg bk) i).1 = 9 from e9)] at hz; exact J102 z hz
    · rw [if_neg (show ¬ ((fo_pr wo wd wl wr wg bk) i).1 = 1 from e1), if_neg (show ¬ ((fo_pr wo wd wl wr wg bk) i).1 = 9 from e9), if_pos (show ((fo_pr wo wd wl wr wg bk) i).1 = 10 from e10)] at hz; exact J102 z hz
    · rw [if_neg (show ¬ ((fo_pr wo wd wl wr wg bk) i).1 = 1 from e1), if_neg (show ¬ ((fo_pr wo wd wl wr wg bk) i).1 = 9 from e9), if_neg (show ¬ ((fo_pr wo wd wl wr wg bk) i).1 = 10 from e10), if_neg (show ¬ ((fo_pr wo wd wl wr wg bk) i).1 < 2 from sm.1), if_neg (show ¬ 7 < ((fo_pr wo wd wl wr wg bk) i).1 from sm.2)] at hz; exact J102 z hz
    · rw [if_neg (show ¬ ((fo_pr wo wd wl wr wg bk) i).1 = 1 from e1), if_neg (show ¬ ((fo_pr wo wd wl wr wg bk) i).1 = 9 from e9), if_neg (show ¬ ((fo_pr wo wd wl wr wg bk) i).1 = 10 from e10)] at hz
      by_cases l2 : ((fo_pr wo wd wl wr wg bk) i).1 < 2
      · rw [if_pos l2] at hz; exact J113 z hz
      · rw [if_neg l2] at hz
        by_cases l7 : 7 < ((fo_pr wo wd wl wr wg bk) i).1
        · rw [if_pos l7] at hz; exact J113 z hz
        · exact absurd ⟨l2, l7⟩ sm
  have J56 : ∀ z, post (fo_q4 ((fo_pr wo wd wl wr wg bk) i) (fo_q3 ((fo_pr wo wd wl wr wg bk) i) (fo_q2 ((fo_pr wo wd wl wr wg bk) i) z))) → wX_usedBefore_56 post (nI i) (wo i) z (nI n) fr fg fm fs fo fb fe fn op de le ri go be wo wd wl wr wg bk re kn va so ah us nk nv ns ro rd rl rr rg rb pl nu ou it := by
    intro z hz
    unfold wX_usedBefore_56
    rw [c]
    unfold fo_q2 at hz
    refine fx_mak (fun e7 => ⟨v, nm_e ?_⟩) (fun e7 => ?_)
    · rw [if_neg (show ¬ 7 < ((fo_pr wo wd wl wr wg bk) i).1 from e7)] at hz; exact J77 _ hz
    · rw [if_pos (show 7 < ((fo_pr wo wd wl wr wg bk) i).1 from e7)] at hz; exact J77 z hz
  have J30 : ∀ z, post (fo_q4 ((fo_pr wo wd wl wr wg bk) i) (fo_q3 ((fo_pr wo wd wl wr wg bk) i) (fo_q2 ((fo_pr wo wd wl wr wg bk) i) (fo_q1 n us ((fo_pr wo wd wl wr wg bk) i) z)))) → wX_usedBefore_30 post (nI i) (wo i) z (nI n) fr fg fm fs fo fb fe fn op de le ri go be wo wd wl wr wg bk re kn va so ah us nk nv ns ro rd rl rr rg rb pl nu ou it := by
    intro z hz
    unfold fo_q1 at hz
    have J43 : post (fo_q4 ((fo_pr wo wd wl wr wg bk) i) (fo_q3 ((fo_pr wo wd wl wr wg bk) i) (fo_q2 ((fo_pr wo wd wl wr wg bk) i) (z ||| fo_at n us (wg i).toNatClampNeg)))) → wX_usedBefore_43 post (nI i) (wo i) z (nI n) fr fg fm fs fo fb fe fn op de le ri go be wo wd wl wr wg bk re kn va so ah us nk nv ns ro rd rl rr rg rb pl nu ou it := by
      intro hy
      unfold wX_usedBefore_43
      rw [c]
      exact ⟨v, fx_at eg hn g20 (nm_e (J56 _ hy))⟩
    refine br_c (fun e8 => J43 ?_) (fun e8 => br_c (fun e9 => J43 ?_) (fun e9 => J56 z ?_))
    · rw [if_pos (show ((fo_pr wo wd wl wr wg bk) i).1 = 8 from e8)] at hz; exact hz
    · rw [if_neg (show ¬ ((fo_pr wo wd wl wr wg bk) i).1 = 8 from e8), if_pos (show ((fo_pr wo wd wl wr wg bk) i).1 = 9 from e9)] at hz; exact hz
    · rw [if_neg (show ¬ ((fo_pr wo wd wl wr wg bk) i).1 = 8 from e8), if_neg (show ¬ ((fo_pr wo wd wl wr wg bk) i).1 = 9 from e9)] at hz; exact hz
  unfold fo_q0 at h
  show vp_in (nI i) 20 ∧ _
  rw [c]
  refine ⟨v, nm_e (br_c (fun e8 => J30 0 ?_) (fun e8 => br_c (fun e11 => J30 0 ?_) (fun e11 => fx_at (nI_1 i) hn (by omega) (J30 _ ?_))))⟩
  · rw [if_pos (show ((fo_pr wo wd wl wr wg bk) i).1 = 8 from e8)] at h; exact h
  · rw [if_neg (show ¬ ((fo_pr wo wd wl wr wg bk) i).1 = 8 from e8), if_pos (show ((fo_pr wo wd wl wr wg bk) i).1 = 11 from e11)] at h; exact h
  · rw [if_neg (show ¬ ((fo_pr wo wd wl wr wg bk) i).1 = 8 from e8), if_neg (show ¬ ((fo_pr wo wd wl wr wg bk) i).1 = 11 from e11)] at h; exact h
theorem fx_U56 {post : SX → Prop} {J : Int32 → Int32 → (Nat → Int32) → (Nat → Int32) → (Nat → Int32) → (Nat → Int32) → (Nat → Int32) → (Nat → Int32) → (Nat → Int32) → (Nat → Int32) → (Nat → Int32) → (Nat → Int32) → (Nat → Int32) → (Nat → Int32) → (Nat → Int32) → (Nat → Int32) → (Nat → Int32) → (Nat → Int32) → (Nat → Int32) → (Nat → Int32) → (Nat → Int32) → (Nat → Int32) → (Nat → Int32) → (Nat → Int32) → (Nat → Int32) → (Nat → Int32) → (Nat → Int32) → (Nat → Int32) → (Nat → Int32) → (Nat → Int32) → (Nat → Int32) → (Nat → Int32) → (Nat → Int32) → Prop} {a : Nat → Int32} {x1 : Nat} (hwf : fo_wf (fo_pr wo wd wl wr wg bk) n)
    (hJ : ∀ f, (f = 0 → ∀ q, q < n → fo_pU (fo_pr wo wd wl wr wg bk) n q a = a) → J (nI (x1 + 1)) f op de le ri go be wo wd wl wr wg bk re kn va so ah (fo_it (fo_pU (fo_pr wo wd wl wr wg bk) n) n a) nk nv ns ro rd rl rr rg rb pl nu ou it) :
    ∀ k j f, j ≤ n → n - j < k → (f = 0 → ∀ q, q < j → fo_pU (fo_pr wo wd wl wr wg bk) n q a = a) →
    wX_findUsed_56 post J (nI x1) (nI n) fr fg fs fo fb fe fn k (fo_dn n j) f op de le ri go be wo wd wl wr wg bk re kn va so ah (fo_it (fo_pU (fo_pr wo wd wl wr wg bk) n) j a) nk nv ns ro rd rl rr rg rb pl nu ou it := by
  have hn := hwf.1
  intro k
  induction k with
  | zero => intro j f _ hk; omega
  | succ k ih =>
    intro j f hj hk hf
    by_cases e : j = n
    · subst e
      have ed : fo_dn j j = -1 := if_neg (by omega)
      rw [ed]
      exact br_t (by decide) (nm_r (nI_1 x1) (hJ f hf))
    · have hj' : j < n := by omega
      have ed : fo_dn n j = nI (n - 1 - j) := if_pos hj'
      have hi : n - 1 - j < n := by omega
      have v : vp_in (nI (n - 1 - j)) 20 := vp_in_nI (by omega) (by decide)
      have c : (nI (n - 1 - j)).toNatClampNeg = n - 1 - j := nI_clamp (by omega)
      have fx : f = 0 → fo_it (fo_pU (fo_pr wo wd wl wr wg bk) n) j a = a := fun z => fo_it_fix (fun q hq => hf z q hq)
      rw [ed]
      refine br_f (nI_pos (by omega)) (fx_ub hn hi (hwf.2 _ hi) ?_)
      have J89 : ∀ z, (z = 0 ∨ z = 1) → (z = 0 → f = 0 ∧ fo_ub (fo_pr wo wd wl wr wg bk) n (fo_it (fo_pU (fo_pr wo wd wl wr wg bk) n) j a) (n - 1 - j) = fo_it (fo_pU (fo_pr wo wd wl wr wg bk) n) j a (n - 1 - j)) →
          wX_findUsed_89 post J (wX_findUsed_56 post J (nI x1) (nI n) fr fg fs fo fb fe fn k) (nI x1) (nI (n - 1 - j)) (fo_ub (fo_pr wo wd wl wr wg bk) n (fo_it (fo_pU (fo_pr wo wd wl wr wg bk) n) j a) (n - 1 - j)) z (nI n) fr fg f fs fo fb fe fn op de le ri go be wo wd wl wr wg bk re kn va so ah (fo_it (fo_pU (fo_pr wo wd wl wr wg bk) n) j a) nk nv ns ro rd rl rr rg rb pl nu ou it := by
        intro z hz hz0
        have n1 : narrow .boolean (.int z) = .int z := by rcases hz with rfl | rfl <;> rfl
        have n2 : fits .boolean (.int z) = true := by rcases hz with rfl | rfl <;> rfl
        refine ⟨n1, n2, v, nm_r (e' := fo_it (fo_pU (fo_pr wo wd wl wr wg bk) n) (j + 1) a) (by rw [c]; rfl) (nm_r (fo_dn_s hj') (ih (j + 1) z (by omega) (by omega) (fun w q hq => ?_)))⟩
        obtain ⟨y1, y2⟩ := hz0 w
        by_cases qe : q = j
        · rw [qe]
          unfold fo_pU
          rw [fx y1] at y2
          exact fo_u_id y2
        · exact hf y1 q (by omega)
      have J84 := J89 1 (Or.inr rfl) (fun z => absurd z (by decide))
      refine br_c (fun hz => ⟨v, ?_⟩) (fun _ => J84)
      rw [c]
      exact br_c (fun h1 => J89 0 (Or.inl rfl) (fun _ => ⟨hz, h1⟩)) (fun _ => J84)
theorem fx_U30 {post : SX → Prop} {a : Nat → Int32} (hwf : fo_wf (fo_pr wo wd wl wr wg bk) n) (hJU : fo_JU (fo_pr wo wd wl wr wg bk) n a)
    (hp : ∀ us f, (∀ i, i < n → fo_ub (fo_pr wo wd wl wr wg bk) n us i = us i) → post ((nI n), fr, fg, f, fs, fo, fb, fe, fn, op, de, le, ri, go, be, wo, wd, wl, wr, wg, bk, re, kn, va, so, ah, us, nk, nv, ns, ro, rd, rl, rr, rg, rb, pl, nu, ou, it)) :
    ∀ k r f, r ≤ 200 → 200 - r < k → (f = 0 → ∀ q, q < n → fo_pU (fo_pr wo wd wl wr wg bk) n q (fo_rs (fo_pU (fo_pr wo wd wl wr wg bk) n) n r a) = fo_rs (fo_pU (fo_pr wo wd wl wr wg bk) n) n r a) →
    wX_findUsed_30 post (nI n) fr fg fs fo fb fe fn k (nI r) f op de le ri go be wo wd wl wr wg bk re kn va so ah (fo_rs (fo_pU (fo_pr wo wd wl wr wg bk) n) n r a) nk nv ns ro rd rl rr rg rb pl nu ou it := by
  have hn := hwf.1
  intro k
  induction k with
  | zero => intro r f _ hk; omega
  | succ k ih =>
    intro r f hr hk hf
    by_cases e : r = 200
    · subst e; exact br_t (nI_le (Nat.le_refl 200) (by omega)) (hp _ f (fo_U200 hwf hJU))
    · refine br_f (nI_ge (b := 200) (by omega) (by omega)) (br_c (fun hz => hp _ f (fun i hi => ?_)) (fun hz => nm_r (fo_dn_0 n) (Exists.intro (n + 1) ?_)))
      · have w := congrFun (hf hz (n - 1 - i) (by omega)) i
        unfold fo_pU at w
        rw [show n - 1 - (n - 1 - i) = i by omega, pk_us] at w
        exact w
      · exact fx_U56 (a := fo_rs (fo_pU (fo_pr wo wd wl wr wg bk) n) n r a) hwf (fun f2 h2 => ih (r + 1) f2 (by omega) (by omega) (fun z => by
          have w := fo_it_fix (h2 z)
          show ∀ j, j < n → fo_pU (fo_pr wo wd wl wr wg bk) n j (fo_it (fo_pU (fo_pr wo wd wl wr wg bk) n) n (fo_rs (fo_pU (fo_pr wo wd wl wr wg bk) n) n r a)) = fo_it (fo_pU (fo_pr wo wd wl wr wg bk) n) n (fo_rs (fo_pU (fo_pr wo wd wl wr wg bk) n) n r a)
          rw [w]
          exact h2 z)) (n + 1) 0 0 (Nat.zero_le _) (by omega) (fun _ j hj => by omega)
theorem fx_fU {post : SX → Prop} (hwf : fo_wf (fo_pr wo wd wl wr wg bk) n) (hp : ∀ us f, (∀ i, i < n → fo_ub (fo_pr wo wd wl wr wg bk) n us i = us i) → post ((nI n), fr, fg, f, fs, fo, fb, fe, fn, op, de, le, ri, go, be, wo, wd, wl, wr, wg, bk, re, kn, va, so, ah, us, nk, nv, ns, ro, rd, rl, rr, rg, rb, pl, nu, ou, it)) : wpX_findUsed post ((nI n), fr, fg, fm, fs, fo, fb, fe, fn, op, de, le, ri, go, be, wo, wd, wl, wr, wg, bk, re, kn, va, so, ah, us, nk, nv, ns, ro, rd, rl, rr, rg, rb, pl, nu, ou, it) := by
  have hn := hwf.1
  have L : ∀ k i, i ≤ n → n - i < k → wX_findUsed_2 post (nI n) fr fg fm fs fo fb fe fn k (nI i) op de le ri go be wo wd wl wr wg bk re kn va so ah (fo_mx i (fun _ => 0) us) nk nv ns ro rd rl rr rg rb pl nu ou it := by
    intro k
    induction k with
    | zero => intro i _ hk; omega
    | succ k ih =>
      intro i hi hk
      by_cases e : i = n
      · subst e
        refine br_t (nI_le (Nat.le_refl i) (by omega)) (Exists.intro 201 ?_)
        refine fx_U30 (a := fo_mx i (fun _ => 0) us) hwf (fun j hj k hk hb => ?_) hp 201 0 1 (by omega) (by omega) (fun z => absurd z (by decide))
        rw [fo_mx_l hj, b_0] at hb
        exact absurd hb (by decide)
      · exact br_f (nI_ge (by omega) (by omega)) ⟨vp_in_nI (by omega) (by decide), nm_r (e' := fo_mx (i + 1) (fun _ => 0) us) (by rw [nI_clamp (by omega)]; exact fo_mx_s rfl) (nm_r (nI_1 i) (ih (i + 1) (by omega) (by omega)))⟩
  have q := L (n + 1) 0 (Nat.zero_le _) (by omega)
  rw [fo_mx_0] at q
  exact Exists.intro (n + 1) q
theorem fx_uU {post : SX → Prop} {i : Nat} (hn : n ≤ 20) (hi : i < n) (ok : fo_ok i ((fo_pr wo wd wl wr wg bk) i)) (h : (∀ z, post ((nI n), fr, z, fm, fs, fo, fb, fe, fn, op, de, le, ri, go, be, upd wo i (fo_uU n us i ((fo_pr wo wd wl wr wg bk) i)).1, wd, upd wl i (fo_uU n us i ((fo_pr wo wd wl wr wg bk) i)).2.1, upd wr i (fo_uU n us i ((fo_pr wo wd wl wr wg bk) i)).2.2, wg, bk, re, kn, va, so, ah, us, nk, nv, ns, ro, rd, rl, rr, rg, rb, pl, nu, ou, it))) : wpX_useUsed post ((nI n), fr, fg, fm, fs, fo, fb, fe, fn, op, de, le, ri, go, be, wo, wd, wl, wr, wg, bk, re, kn, va, so, ah, us, nk, nv, ns, ro, rd, rl, rr, rg, rb, pl, nu, ou, it) (nI i) := by
  have v : vp_in (nI i) 20 := vp_in_nI (by omega) (by decide)
  have c : (nI i).toNatClampNeg = i := nI_clamp (by omega)
  unfold fo_uU at h
  show vp_in (nI i) 20 ∧ _
  rw [c]
  refine ⟨v, fx_mak (fun e7 => fx_at (nI_1 i) hn (by omega) ⟨v, ?_⟩) (fun e7 => ?_)⟩
  · rw [if_neg (show ¬ 7 < ((fo_pr wo wd wl wr wg bk) i).1 from e7)] at h
    have od : vp_in (wd i) 8 := ok.2.1
    obtain ⟨d, hd, ed⟩ := vp_in_of od (by decide)
    have cd : ((fo_pr wo wd wl wr wg bk) i).2.1.toNatClampNeg = d := by
      show (wd i).toNatClampNeg = d
      rw [ed, nI_clamp (by omega)]
    rw [cd] at h
    rw [ed, fo_sb _ (by omega)]
    refine br_c (fun h0 => fx_set (by omega) (fun z => ?_)) (fun h0 => ?_)
    · have hb : bt (fo_at n us (i + 1)) d = false := by
        cases q : bt (fo_at n us (i + 1)) d
        · rfl
        · rw [q, if_pos rfl] at h0; exact absurd h0 (by decide)
      rw [if_pos hb] at h
      exact h z
    · have hb : ¬ bt (fo_at n us (i + 1)) d = false := by
        intro q
        rw [q, if_neg (by decide)] at h0
        exact h0 rfl
      rw [if_neg hb] at h
      exact fx_same (d := fo_xt ((fo_pr wo wd wl wr wg bk) i)) rfl h
  · rw [if_pos (show 7 < ((fo_pr wo wd wl wr wg bk) i).1 from e7)] at h
    exact fx_same (d := fo_xt ((fo_pr wo wd wl wr wg bk) i)) rfl h
/-! the fifth pass -/
theorem fx_th {post : Int32 → Prop} {s : Nat} {p : Int32} (ep : p = nI s) (hwf : fo_wf (fo_pr wo wd wl wr wg bk) n) (hs : s ≤ 20) (h : ∀ k t, fo_sl (fo_pr wo wd wl wr wg bk) n k s t → post (nI t)) : wpX_throughTo post ((nI n), fr, fg, fm, fs, fo, fb, fe, fn, op, de, le, ri, go, be, wo, wd, wl, wr, wg, bk, re, kn, va, so, ah, us, nk, nv, ns, ro, rd, rl, rr, rg, rb, pl, nu, ou, it) p := by
  subst ep
  have hn := hwf.1
  have L : ∀ k r a q, r ≤ 20 → 20 - r < k → fo_sl (fo_pr wo wd wl wr wg bk) n q s a → wX_throughTo_4 post (nI n) fr fg fm fs fo fb fe fn op de le ri go be wo wd wl wr wg bk re kn va so ah us nk nv ns ro rd rl rr rg rb pl nu ou it k (nI a) (nI r) := by
    intro k
    induction k with
    | zero => intro r a q _ hk; omega
    | succ k ih =>
      intro r a q hr hk hq
      have a20 := (fo_sl_le hwf q s a hq).2 hs
      by_cases e : r = 20
      · subst e; exact br_t (nI_le (Nat.le_refl 20) (by omega)) (h q a hq)
      · refine br_f (nI_ge (b := 20) (by omega) (by omega)) ?_
        by_cases e2 : n ≤ a
        · exact br_t (nI_le e2 (by omega)) (h q a hq)
        · have ha : a < n := by omega
          have v : vp_in (nI a) 20 := vp_in_nI (by omega) (by decide)
          have c : (nI a).toNatClampNeg = a := nI_clamp (by omega)
          have ok := hwf.2 a ha
          have eg : wg a = nI (wg a).toNatClampNeg := fo_vn ok.2.2.2.2.1 (by decide)
          refine br_f (nI_ge (by omega) (by omega)) ⟨v, ?_⟩
          rw [c]
          refine br_c (fun e12 => nm_r (nI_1 a) (nm_r (nI_1 r) (ih (r + 1) (a + 1) (q + 1) (by omega) (by omega) (fo_sl_snoc q s a (a + 1) hq ⟨ha, Or.inl ⟨e12, rfl⟩⟩)))) (fun _ => ⟨v, br_c (fun e8 => ⟨v, br_c (fun b0 => ⟨v, nm_r eg (nm_r (nI_1 r) (ih (r + 1) _ (q + 1) (by omega) (by omega) (fo_sl_snoc q s a _ hq ⟨ha, Or.inr ⟨e8, b0, rfl⟩⟩)))⟩) (fun _ => h q a hq)⟩) (fun _ => h q a hq)⟩)
  exact Exists.intro 21 (L 21 0 s 0 (by omega) (by omega) rfl)
/-- what a program gives, the other gives, from every place -/
def fo_E (P P' : Nat → fo_I) (n : Nat) : Prop := ∀ f (c : fo_C) r, fo_ev P n f c = some r → ∃ f', fo_ev P' n f' c = some r
theorem fx_jj {post : SX → Prop} {i : Nat} (hwf : fo_wf (fo_pr wo wd wl wr wg bk) n) (hi : i < n)
    (hp : ∀ g wo' wl' wr' wg', fo_wf (fo_pr wo' wd wl' wr' wg' bk) n → fo_E (fo_pr wo wd wl wr wg bk) (fo_pr wo' wd wl' wr' wg' bk) n → post ((nI n), fr, g, fm, fs, fo, fb, fe, fn, op, de, le, ri, go, be, wo', wd, wl', wr', wg', bk, re, kn, va, so, ah, us, nk, nv, ns, ro, rd, rl, rr, rg, rb, pl, nu, ou, it)) : wpX_joinJump post ((nI n), fr, fg, fm, fs, fo, fb, fe, fn, op, de, le, ri, go, be, wo, wd, wl, wr, wg, bk, re, kn, va, so, ah, us, nk, nv, ns, ro, rd, rl, rr, rg, rb, pl, nu, ou, it) (nI i) := by
  have hn := hwf.1
  have ok := hwf.2 i hi
  have v : vp_in (nI i) 20 := vp_in_nI (by omega) (by decide)
  have c : (nI i).toNatClampNeg = i := nI_clamp (by omega)
  have eg : wg i = nI (wg i).toNatClampNeg := fo_vn ok.2.2.2.2.1 (by decide)
  have g20 : (wg i).toNatClampNeg ≤ 20 := by
    have := fo_cl_lt ok.2.2.2.2.1 (by decide)
    have e : ((fo_pr wo wd wl wr wg bk) i).2.2.2.2.1.toNatClampNeg = (wg i).toNatClampNeg := rfl
    omega
  have J23 : (wo i = 8 ∨ wo i = 9) → wX_joinJump_23 post (nI i) (nI n) fr fg fm fs fo fb fe fn op de le ri go be wo wd wl wr wg bk re kn va so ah us nk nv ns ro rd rl rr rg rb pl nu ou it := by
    intro e89
    unfold wX_joinJump_23
    rw [c]
    refine ⟨v, fx_th eg hwf g20 (fun k t hk => ?_)⟩
    have eP1 : ∀ j, j < n → fo_pr wo wd wl wr (upd wg i (nI t)) bk j = if j = i then fo_rg ((fo_pr wo wd wl wr wg bk) i) (nI t) else (fo_pr wo wd wl wr wg bk) j := by
      intro j _
      by_cases e : j = i
      · rw [if_pos e, e]
        show (wo i, wd i, wl i, wr i, upd wg i (nI t) i, bk i) = _
        rw [pk_us]; rfl
      · rw [if_neg e]
        show (wo j, wd j, wl j, wr j, upd wg i (nI t) j, bk j) = _
        rw [pk_un e]; rfl
    obtain ⟨wf1, t20⟩ := fo_J1_wf hwf hi hk eP1
    have E1 : fo_E (fo_pr wo wd wl wr wg bk) (fo_pr wo wd wl wr (upd wg i (nI t)) bk) n := fun f c r he => fo_J1 hi e89 (by omega) hk eP1 f f c r (Nat.le_refl f) he
    have J57 : ∀ z, (z = 0 ∨ z = 1) → wX_joinJump_57 post (nI i) (nI t) z (nI n) fr fg fm fs fo fb fe fn op de le ri go be wo wd wl wr wg bk re kn va so ah us nk nv ns ro rd rl rr rg rb pl nu ou it := by
      intro z hz
      have n1 : narrow .boolean (.int z) = .int z := by rcases hz with rfl | rfl <;> rfl
      have n2 : fits .boolean (.int z) = true := by rcases hz with rfl | rfl <;> rfl
      unfold wX_joinJump_57
      rw [c]
      refine ⟨n1, n2, v, nm_e (fx_th (nI_1 i) wf1 (by omega) (fun k2 t2 hk2 => ?_))⟩
      have same : post ((nI n), fr, z, fm, fs, fo, fb, fe, fn, op, de, le, ri, go, be, wo, wd, wl, wr, upd wg i (nI t), bk, re, kn, va, so, ah, us, nk, nv, ns, ro, rd, rl, rr, rg, rb, pl, nu, ou, it) := hp z wo wl wr (upd wg i (nI t)) wf1 E1
      have L2 := (fo_sl_le wf1 k2 _ _ hk2).2 (by omega)
      refine br_c (fun et => ⟨v, br_c (fun b0 => fx_set (by omega) (fun y => ?_)) (fun _ => same)⟩) (fun _ => same)
      have et' : t2 = t := (nI_eq (by omega) (by omega)).mp et
      have eP2 : ∀ j, j < n → fo_pr (upd wo i 12) wd (upd wl i 0) (upd wr i 0) (upd wg i (nI t)) bk j = if j = i then fo_rp (fo_pr wo wd wl wr (upd wg i (nI t)) bk i) (12, 0, 0) else fo_pr wo wd wl wr (upd wg i (nI t)) bk j := by
        intro j _
        by_cases e : j = i
        · rw [if_pos e, e]
          show (upd wo i 12 i, wd i, upd wl i 0 i, upd wr i 0 i, upd wg i (nI t) i, bk i) = _
          rw [pk_us, pk_us, pk_us]; rfl
        · rw [if_neg e]
          show (upd wo i 12 j, wd j, upd wl i 0 j, upd wr i 0 j, upd wg i (nI t) j, bk j) = _
          rw [pk_un e, pk_un e, pk_un e]; rfl
      have wf2 := fo_J2_wf wf1 eP2
      have hk3 : fo_sl (fo_pr wo wd wl wr (upd wg i (nI t)) bk) n k2 (i + 1) (fo_pr wo wd wl wr (upd wg i (nI t)) bk i).2.2.2.2.1.toNatClampNeg := by
        have eq : (fo_pr wo wd wl wr (upd wg i (nI t)) bk i).2.2.2.2.1 = nI t := pk_us
        rw [eq, nI_clamp (by omega)]
        rw [et'] at hk2
        exact hk2
      refine hp y (upd wo i 12) (upd wl i 0) (upd wr i 0) (upd wg i (nI t)) wf2 (fun f c r he => ?_)
      obtain ⟨f1, q1⟩ := E1 f c r he
      exact fo_J2 wf1 hi e89 b0 hk3 eP2 f1 c r q1
    exact br_c (fun _ => ⟨v, br_c (fun _ => J57 0 (Or.inl rfl)) (fun _ => J57 1 (Or.inr rfl))⟩) (fun _ => J57 1 (Or.inr rfl))
  show vp_in (nI i) 20 ∧ _
  rw [c]
  exact ⟨v, br_c (fun e => J23 (Or.inl e)) (fun _ => ⟨v, br_c (fun e => J23 (Or.inr e)) (fun _ => hp fg wo wl wr wg hwf (fun f c r he => ⟨f, he⟩))⟩)⟩
end
end
section
/-! walks: all passes together; the packing -/
theorem fo_EQ {P P' : Nat → fo_I} {n : Nat} (h : fo_E P P' n) : fo_Q P n P' n := fun num out r f e => h f _ r e
section
variable {n : Nat} {fr fg fm fs fo fb fe fn : Int32} {op de le ri go be wo wd wl wr wg bk re kn va so ah us nk nv ns ro rd rl rr rg rb pl nu ou it : Nat → Int32} {post : SX → Prop} {P0 : Nat → fo_I} {N : Nat}
theorem fx_I85 (hp : ∀ fg fm fn wo wl wr wg re kn va so ah us nk nv ns it, fo_wf (fo_pr wo wd wl wr wg bk) n → fo_Q P0 N (fo_pr wo wd wl wr wg bk) n → post ((nI n), fr, fg, fm, fs, fo, fb, fe, fn, op, de, le, ri, go, be, wo, wd, wl, wr, wg, bk, re, kn, va, so, ah, us, nk, nv, ns, ro, rd, rl, rr, rg, rb, pl, nu, ou, it)) :
    ∀ k i fg wo wl wr wg, i ≤ n → n - i < k → fo_wf (fo_pr wo wd wl wr wg bk) n → fo_Q P0 N (fo_pr wo wd wl wr wg bk) n → wX_improveOnce_85 post k (nI i) (nI n) fr fg fm fs fo fb fe fn op de le ri go be wo wd wl wr wg bk re kn va so ah us nk nv ns ro rd rl rr rg rb pl nu ou it := by
  intro k
  induction k with
  | zero => intro i fg wo wl wr wg _ hk; omega
  | succ k ih =>
    intro i fg wo wl wr wg hi hk hwf hQ
    have hn := hwf.1
    by_cases e : i = n
    · subst e; exact br_t (nI_le (Nat.le_refl i) (by omega)) (hp fg fm fn wo wl wr wg re kn va so ah us nk nv ns it hwf hQ)
    · exact br_f (nI_ge (by omega) (by omega)) (fx_jj hwf (by omega) (fun g wo' wl' wr' wg' w E => nm_r (nI_1 i) (ih (i + 1) g wo' wl' wr' wg' (by omega) (by omega) w (fo_Q_tr hQ (fo_EQ E)))))
theorem fx_I64 (hp : ∀ fg fm fn wo wl wr wg re kn va so ah us nk nv ns it, fo_wf (fo_pr wo wd wl wr wg bk) n → fo_Q P0 N (fo_pr wo wd wl wr wg bk) n → post ((nI n), fr, fg, fm, fs, fo, fb, fe, fn, op, de, le, ri, go, be, wo, wd, wl, wr, wg, bk, re, kn, va, so, ah, us, nk, nv, ns, ro, rd, rl, rr, rg, rb, pl, nu, ou, it))
    (hwf : fo_wf (fo_pr wo wd wl wr wg bk) n) (hQ : fo_Q P0 N (fo_pr wo wd wl wr wg bk) n) (hf : ∀ i, i < n → fo_ub (fo_pr wo wd wl wr wg bk) n us i = us i) :
    ∀ k i g, i ≤ n → n - i < k → wX_improveOnce_64 post k (nI i) (nI n) fr g fm fs fo fb fe fn op de le ri go be (fo_n1 (fun j => fo_uU n us j ((fo_pr wo wd wl wr wg bk) j)) i wo) wd (fo_n2 (fun j => fo_uU n us j ((fo_pr wo wd wl wr wg bk) j)) i wl) (fo_n3 (fun j => fo_uU n us j ((fo_pr wo wd wl wr wg bk) j)) i wr) wg bk re kn va so ah us nk nv ns ro rd rl rr rg rb pl nu ou it := by
  have hn := hwf.1
  intro k
  induction k with
  | zero => intro i g _ hk; omega
  | succ k ih =>
    intro i g hi hk
    by_cases e : i = n
    · subst e
      have A := fo_U_all hwf hf (P' := fo_pr (fo_n1 (fun j => fo_uU i us j ((fo_pr wo wd wl wr wg bk) j)) i wo) wd (fo_n2 (fun j => fo_uU i us j ((fo_pr wo wd wl wr wg bk) j)) i wl) (fo_n3 (fun j => fo_uU i us j ((fo_pr wo wd wl wr wg bk) j)) i wr) wg bk) (fun j hj => fo_nQ hj)
      exact br_t (nI_le (Nat.le_refl i) (by omega)) (Exists.intro (i + 1) (fx_I85 hp (i + 1) 0 g _ _ _ wg (Nat.zero_le _) (by omega) A.1 (fo_Q_tr hQ A.2)))
    · refine br_f (nI_ge (by omega) (by omega)) (fx_uU hn (by omega) (by rw [fo_nP]; exact hwf.2 i (by omega)) (fun z => nm_r (nI_1 i) ?_))
      have q := ih (i + 1) z (by omega) (by omega)
      rw [← fo_n1_s, ← fo_n2_s, ← fo_n3_s] at q
      rw [fo_nP]
      exact q
theorem fx_I31 (hp : ∀ fg fm fn wo wl wr wg re kn va so ah us nk nv ns it, fo_wf (fo_pr wo wd wl wr wg bk) n → fo_Q P0 N (fo_pr wo wd wl wr wg bk) n → post ((nI n), fr, fg, fm, fs, fo, fb, fe, fn, op, de, le, ri, go, be, wo, wd, wl, wr, wg, bk, re, kn, va, so, ah, us, nk, nv, ns, ro, rd, rl, rr, rg, rb, pl, nu, ou, it))
    (hwf : fo_wf (fo_pr wo wd wl wr wg bk) n) (hQ : fo_Q P0 N (fo_pr wo wd wl wr wg bk) n) (hJ : fo_JS n (re, so)) (hf : ∀ j, j < n → fo_pS (fo_pr wo wd wl wr wg bk) n j (re, so) = (re, so)) :
    ∀ k i g, i ≤ n → n - i < k → wX_improveOnce_31 post k (nI i) (nI n) fr g fm fs fo fb fe fn op de le ri go be (fo_n1 (fun j => fo_uS re so j ((fo_pr wo wd wl wr wg bk) j)) i wo) wd (fo_n2 (fun j => fo_uS re so j ((fo_pr wo wd wl wr wg bk) j)) i wl) (fo_n3 (fun j => fo_uS re so j ((fo_pr wo wd wl wr wg bk) j)) i wr) wg bk re kn va so ah us nk nv ns ro rd rl rr rg rb pl nu ou it := by
  have hn := hwf.1
  intro k
  induction k with
  | zero => intro i g _ hk; omega
  | succ k ih =>
    intro i g hi hk
    by_cases e : i = n
    · subst e
      have A := fo_S_all hwf hJ hf (P' := fo_pr (fo_n1 (fun j => fo_uS re so j ((fo_pr wo wd wl wr wg bk) j)) i wo) wd (fo_n2 (fun j => fo_uS re so j ((fo_pr wo wd wl wr wg bk) j)) i wl) (fo_n3 (fun j => fo_uS re so j ((fo_pr wo wd wl wr wg bk) j)) i wr) wg bk) (fun j hj => fo_nQ hj)
      have QA := fo_Q_tr hQ A.2
      have wA := A.1
      refine br_t (nI_le (Nat.le_refl i) (by omega)) ?_
      generalize fo_n1 (fun j => fo_uS re so j ((fo_pr wo wd wl wr wg bk) j)) i wo = wo1 at wA QA
      generalize fo_n2 (fun j => fo_uS re so j ((fo_pr wo wd wl wr wg bk) j)) i wl = wl1 at wA QA
      generalize fo_n3 (fun j => fo_uS re so j ((fo_pr wo wd wl wr wg bk) j)) i wr = wr1 at wA QA
      refine fx_fH wA (fun b f fn1 hJH hfH => fx_uH hn (fun g2 it2 hG => ?_))
      have B := fo_H_all wA hJH hfH hG (P' := fo_pr (fo_n1 (fun j => fo_uH (it2 j) (fo_pr wo1 wd wl1 wr1 wg bk j)) i wo1) wd (fo_n2 (fun j => fo_uH (it2 j) (fo_pr wo1 wd wl1 wr1 wg bk j)) i wl1) (fo_n3 (fun j => fo_uH (it2 j) (fo_pr wo1 wd wl1 wr1 wg bk j)) i wr1) wg bk) (fun j hj => fo_nQ hj)
      have QB := fo_Q_tr QA B.2
      have wB := B.1
      refine fx_fU wB (fun us2 f2 hU => Exists.intro (i + 1) ?_)
      have q := fx_I64 (post := post) (fm := f2) (fn := fn1) (re := b.1) (kn := kn) (va := va) (so := so) (ah := b.2) (nk := nk) (nv := nv) (ns := ns) (it := it2) hp wB QB hU (i + 1) 0 g2 (Nat.zero_le _) (by omega)
      rw [fo_n1_0, fo_n2_0, fo_n3_0] at q
      exact q
    · refine br_f (nI_ge (by omega) (by omega)) (fx_uS (by omega) (by rw [fo_nP]; exact hwf.2 i (by omega)) (fun z => nm_r (nI_1 i) ?_))
      have q := ih (i + 1) z (by omega) (by omega)
      rw [← fo_n1_s, ← fo_n2_s, ← fo_n3_s] at q
      rw [fo_nP]
      exact q
theorem fx_I6 (hp : ∀ fg fm fn wo wl wr wg re kn va so ah us nk nv ns it, fo_wf (fo_pr wo wd wl wr wg bk) n → fo_Q P0 N (fo_pr wo wd wl wr wg bk) n → post ((nI n), fr, fg, fm, fs, fo, fb, fe, fn, op, de, le, ri, go, be, wo, wd, wl, wr, wg, bk, re, kn, va, so, ah, us, nk, nv, ns, ro, rd, rl, rr, rg, rb, pl, nu, ou, it))
    (hwf : fo_wf (fo_pr wo wd wl wr wg bk) n) (hQ : fo_Q P0 N (fo_pr wo wd wl wr wg bk) n) (hJ : fo_JK n (re, kn, va)) (hf : ∀ j, j < n → fo_pK (fo_pr wo wd wl wr wg bk) n j (re, kn, va) = (re, kn, va)) :
    ∀ k i g, i ≤ n → n - i < k → wX_improveOnce_6 post k (nI i) (nI n) fr g fm fs fo fb fe fn op de le ri go be (fo_n1 (fun j => fo_uK re kn va j ((fo_pr wo wd wl wr wg bk) j)) i wo) wd (fo_n2 (fun j => fo_uK re kn va j ((fo_pr wo wd wl wr wg bk) j)) i wl) (fo_n3 (fun j => fo_uK re kn va j ((fo_pr wo wd wl wr wg bk) j)) i wr) wg bk re kn va so ah us nk nv ns ro rd rl rr rg rb pl nu ou it := by
  have hn := hwf.1
  intro k
  induction k with
  | zero => intro i g _ hk; omega
  | succ k ih =>
    intro i g hi hk
    by_cases e : i = n
    · subst e
      have A := fo_K_all hwf hJ hf (P' := fo_pr (fo_n1 (fun j => fo_uK re kn va j ((fo_pr wo wd wl wr wg bk) j)) i wo) wd (fo_n2 (fun j => fo_uK re kn va j ((fo_pr wo wd wl wr wg bk) j)) i wl) (fo_n3 (fun j => fo_uK re kn va j ((fo_pr wo wd wl wr wg bk) j)) i wr) wg bk) (fun j hj => fo_nQ hj)
      have QA := fo_Q_tr hQ A.2
      have wA := A.1
      refine br_t (nI_le (Nat.le_refl i) (by omega)) ?_
      generalize fo_n1 (fun j => fo_uK re kn va j ((fo_pr wo wd wl wr wg bk) j)) i wo = wo1 at wA QA
      generalize fo_n2 (fun j => fo_uK re kn va j ((fo_pr wo wd wl wr wg bk) j)) i wl = wl1 at wA QA
      generalize fo_n3 (fun j => fo_uK re kn va j ((fo_pr wo wd wl wr wg bk) j)) i wr = wr1 at wA QA
      refine fx_fS wA (fun b f ns1 hJS hfS => Exists.intro (i + 1) ?_)
      have q := fx_I31 (post := post) (fm := f) (fn := fn) (re := b.1) (kn := kn) (va := va) (so := b.2) (ah := ah) (us := us) (nk := nk) (nv := nv) (ns := ns1) (it := it) hp wA QA hJS hfS (i + 1) 0 g (Nat.zero_le _) (by omega)
      rw [fo_n1_0, fo_n2_0, fo_n3_0] at q
      exact q
    · refine br_f (nI_ge (by omega) (by omega)) (fx_uK (by omega) (by rw [fo_nP]; exact hwf.2 i (by omega)) (fun z => nm_r (nI_1 i) ?_))
      have q := ih (i + 1) z (by omega) (by omega)
      rw [← fo_n1_s, ← fo_n2_s, ← fo_n3_s] at q
      rw [fo_nP]
      exact q
theorem fx_once (hp : ∀ fg fm fn wo wl wr wg re kn va so ah us nk nv ns it, fo_wf (fo_pr wo wd wl wr wg bk) n → fo_Q P0 N (fo_pr wo wd wl wr wg bk) n → post ((nI n), fr, fg, fm, fs, fo, fb, fe, fn, op, de, le, ri, go, be, wo, wd, wl, wr, wg, bk, re, kn, va, so, ah, us, nk, nv, ns, ro, rd, rl, rr, rg, rb, pl, nu, ou, it))
    (hwf : fo_wf (fo_pr wo wd wl wr wg bk) n) (hQ : fo_Q P0 N (fo_pr wo wd wl wr wg bk) n) : wpX_improveOnce post ((nI n), fr, fg, fm, fs, fo, fb, fe, fn, op, de, le, ri, go, be, wo, wd, wl, wr, wg, bk, re, kn, va, so, ah, us, nk, nv, ns, ro, rd, rl, rr, rg, rb, pl, nu, ou, it) := by
  refine fx_fK hwf (fun b f nk1 nv1 hJ hf => Exists.intro (n + 1) ?_)
  have q := fx_I6 (post := post) (fm := f) (fn := fn) (re := b.1) (kn := b.2.1) (va := b.2.2) (so := so) (ah := ah) (us := us) (nk := nk1) (nv := nv1) (ns := ns) (it := it) hp hwf hQ hJ hf (n + 1) 0 fg (Nat.zero_le _) (by omega)
  rw [fo_n1_0, fo_n2_0, fo_n3_0] at q
  exact q
/-! the packing -/
theorem fx_P74 (hwf : fo_wf (fo_pr wo wd wl wr wg bk) n) (hs : fs = nI (fo_pl wo n)) (hpl : ∀ j, j ≤ n → pl j = nI (fo_pl wo j))
    (hp : ∀ ro rd rl rr rg rb, fo_pk (fo_pr wo wd wl wr wg bk) (fo_pr ro rd rl rr rg rb) n → post ((nI n), fr, fg, fm, fs, fo, fb, fe, fn, op, de, le, ri, go, be, wo, wd, wl, wr, wg, bk, re, kn, va, so, ah, us, nk, nv, ns, ro, rd, rl, rr, rg, rb, pl, nu, ou, it)) :
    ∀ k i ro rd rl rr rg rb, i ≤ n → n - i < k → (∀ j, j < i → wo j ≠ 12 → fo_pr ro rd rl rr rg rb (fo_pl wo j) = fo_rg ((fo_pr wo wd wl wr wg bk) j) (nI (fo_pg wo n (wg j).toNatClampNeg))) →
    wX_pack_74 post (nI n) fr fg fm fs fo fb fe fn k (nI i) op de le ri go be wo wd wl wr wg bk re kn va so ah us nk nv ns ro rd rl rr rg rb pl nu ou it := by
  have hn := hwf.1
  intro k
  induction k with
  | zero => intro i ro rd rl rr rg rb _ hk; omega
  | succ k ih =>
    intro i ro rd rl rr rg rb hi hk hI
    by_cases e : i = n
    · subst e; exact br_t (nI_le (Nat.le_refl i) (by omega)) (hp ro rd rl rr rg rb (fun j hj h12 => hI j hj h12))
    · have v21 : vp_in (nI i) 21 := vp_in_nI (by omega) (by decide)
      have v : vp_in (nI i) 20 := vp_in_nI (by omega) (by decide)
      have c : (nI i).toNatClampNeg = i := nI_clamp (by omega)
      have ok := hwf.2 i (by omega)
      have eg : wg i = nI (wg i).toNatClampNeg := fo_vn ok.2.2.2.2.1 (by decide)
      have pi := fo_pl_le (wo := wo) i
      have vk : vp_in (nI (fo_pl wo i)) 20 := vp_in_nI (by omega) (by decide)
      have ck : (nI (fo_pl wo i)).toNatClampNeg = fo_pl wo i := nI_clamp (by omega)
      refine br_f (nI_ge (by omega) (by omega)) ⟨v21, ?_⟩
      rw [c, hpl i (by omega)]
      refine nm_e ⟨v, br_c (fun e12 => nm_r (nI_1 i) (ih (i + 1) ro rd rl rr rg rb (by omega) (by omega) (fun j hj h12 => ?_))) (fun e12 => ⟨v, vk, ?_⟩)⟩
      · by_cases w : j = i
        · rw [w] at h12; exact absurd e12 h12
        · exact hI j (by omega) h12
      · rw [ck]
        refine nm_e ⟨v, vk, nm_e ⟨v, vk, nm_e ⟨v, vk, nm_e ⟨v, ?_⟩⟩⟩⟩
        have J184 : ∀ g, g = nI (fo_pg wo n (wg i).toNatClampNeg) → wX_pack_184 post (wX_pack_74 post (nI n) fr fg fm fs fo fb fe fn k) (nI i) (nI (fo_pl wo i)) g (nI (fo_pl wo i)) (nI n) fr fg fm fs fo fb fe fn op de le ri go be wo wd wl wr wg bk re kn va so ah us nk nv ns (upd ro (fo_pl wo i) (wo i)) (upd rd (fo_pl wo i) (wd i)) (upd rl (fo_pl wo i) (wl i)) (upd rr (fo_pl wo i) (wr i)) rg rb pl nu ou it := by
          intro g hg
          refine ⟨vk, nm_r (e' := upd rg (fo_pl wo i) g) (by rw [ck]) ⟨v, vk, nm_r (e' := upd rb (fo_pl wo i) (bk i)) ?_ (nm_r (nI_1 i) (ih (i + 1) _ _ _ _ _ _ (by omega) (by omega) (fun j hj h12 => ?_)))⟩⟩
          · rw [ck, c]
            have hb : bk i = 0 ∨ bk i = 1 := ok.2.2.2.2.2.1
            rcases hb with z | z <;> (rw [z]; rfl)
          · show (upd ro (fo_pl wo i) (wo i) (fo_pl wo j), upd rd (fo_pl wo i) (wd i) (fo_pl wo j), upd rl (fo_pl wo i) (wl i) (fo_pl wo j), upd rr (fo_pl wo i) (wr i) (fo_pl wo j), upd rg (fo_pl wo i) g (fo_pl wo j), upd rb (fo_pl wo i) (bk i) (fo_pl wo j)) = _
            by_cases w : j = i
            · rw [w, pk_us, pk_us, pk_us, pk_us, pk_us, pk_us, hg]; rfl
            · have lt : fo_pl wo j < fo_pl wo i := by
                have a1 := fo_pl_s h12
                have a2 := fo_pl_mono (wo := wo) (i := j + 1) (j := i) (by omega)
                omega
              have ne : fo_pl wo j ≠ fo_pl wo i := by omega
              rw [pk_un ne, pk_un ne, pk_un ne, pk_un ne, pk_un ne, pk_un ne]
              exact hI j (by omega) h12
        refine br_c (fun hg => ⟨v, ok.2.2.2.2.1, J184 _ ?_⟩) (fun hg => J184 _ ?_)
        · rw [eg, nI_ltI (by have := fo_cl_lt ok.2.2.2.2.1 (by decide); have e : ((fo_pr wo wd wl wr wg bk) i).2.2.2.2.1.toNatClampNeg = (wg i).toNatClampNeg := rfl; omega) (by omega)] at hg
          unfold fo_pg
          rw [if_pos hg, hpl _ (by omega)]
        · rw [eg, nI_ltI (by have := fo_cl_lt ok.2.2.2.2.1 (by decide); have e : ((fo_pr wo wd wl wr wg bk) i).2.2.2.2.1.toNatClampNeg = (wg i).toNatClampNeg := rfl; omega) (by omega)] at hg
          unfold fo_pg
          rw [if_neg hg, hs]
theorem fx_pack (hwf : fo_wf (fo_pr wo wd wl wr wg bk) n) (hp : ∀ fs ro rd rl rr rg rb pl, fs = nI (fo_pl wo n) → fo_pk (fo_pr wo wd wl wr wg bk) (fo_pr ro rd rl rr rg rb) n → post ((nI n), fr, fg, fm, fs, fo, fb, fe, fn, op, de, le, ri, go, be, wo, wd, wl, wr, wg, bk, re, kn, va, so, ah, us, nk, nv, ns, ro, rd, rl, rr, rg, rb, pl, nu, ou, it)) : wpX_pack post ((nI n), fr, fg, fm, fs, fo, fb, fe, fn, op, de, le, ri, go, be, wo, wd, wl, wr, wg, bk, re, kn, va, so, ah, us, nk, nv, ns, ro, rd, rl, rr, rg, rb, pl, nu, ou, it) := by
  have hn := hwf.1
  have L : ∀ k i, i ≤ n → n - i < k → wX_pack_7 post (nI n) fr fg fm fo fb fe fn k (nI i) (nI (fo_pl wo i)) op de le ri go be wo wd wl wr wg bk re kn va so ah us nk nv ns ro rd rl rr rg rb (fo_mx i (fun j => nI (fo_pl wo j)) pl) nu ou it := by
    intro k
    induction k with
    | zero => intro i _ hk; omega
    | succ k ih =>
      intro i hi hk
      have v21 : vp_in (nI i) 21 := vp_in_nI (by omega) (by decide)
      have c : (nI i).toNatClampNeg = i := nI_clamp (by omega)
      by_cases e : i = n
      · subst e
        refine br_t (nI_le (Nat.le_refl i) (by omega)) ⟨v21, nm_r (e' := fo_mx (i + 1) (fun j => nI (fo_pl wo j)) pl) (by rw [c]; exact fo_mx_s rfl) (Exists.intro (i + 1) ?_)⟩
        exact fx_P74 (pl := fo_mx (i + 1) (fun j => nI (fo_pl wo j)) pl) hwf rfl (fun j hj => fo_mx_l (i := i + 1) (f := fun j => nI (fo_pl wo j)) (g := pl) (by omega)) (fun ro rd rl rr rg rb h => hp _ ro rd rl rr rg rb _ rfl h) (i + 1) 0 ro rd rl rr rg rb (Nat.zero_le _) (by omega) (fun j hj => by omega)
      · have v : vp_in (nI i) 20 := vp_in_nI (by omega) (by decide)
        refine br_f (nI_ge (by omega) (by omega)) ⟨v21, nm_r (e' := fo_mx (i + 1) (fun j => nI (fo_pl wo j)) pl) (by rw [c]; exact fo_mx_s rfl) ⟨v, ?_⟩⟩
        rw [c]
        have I := ih (i + 1) (by omega) (by omega)
        refine br_c (fun e12 => nm_r (nI_1 i) ?_) (fun e12 => nm_r (nI_1 (fo_pl wo i)) (nm_r (nI_1 i) ?_))
        · rw [fo_pl_z e12] at I; exact I
        · rw [fo_pl_s e12] at I; exact I
  have q := L (n + 1) 0 (Nat.zero_le _) (by omega)
  rw [fo_mx_0] at q
  exact Exists.intro (n + 1) q
/-! improve -/
/-- a packed program that does the same -/
def fo_gd (P0 : Nat → fo_I) (n : Nat) (R : Nat → fo_I) (s : Nat) : Prop := fo_wf R s ∧ (∀ k, k < s → (R k).1 ≠ 12 ∧ (R k).2.2.2.2.1.toNatClampNeg ≤ 20) ∧ fo_Q P0 n R s
def fo_bk (go : Nat → Int32) : Nat → Int32 := fun j => if nI j < go j then 0 else 1
theorem fx_M140 (hwf : fo_wf (fo_pr wo wd wl wr wg bk) n) (hQ : fo_Q P0 N (fo_pr wo wd wl wr wg bk) n)
    (hp : ∀ fs ro rd rl rr rg rb pl s, fs = nI s → fo_gd P0 N (fo_pr ro rd rl rr rg rb) s → post ((nI n), 1, fg, fm, fs, fo, fb, fe, fn, op, de, le, ri, go, be, wo, wd, wl, wr, wg, bk, re, kn, va, so, ah, us, nk, nv, ns, ro, rd, rl, rr, rg, rb, pl, nu, ou, it)) : wX_improve_140 post (nI n) fr fg fm fs fo fb fe fn op de le ri go be wo wd wl wr wg bk re kn va so ah us nk nv ns ro rd rl rr rg rb pl nu ou it := by
  refine fx_pack hwf (fun fs ro rd rl rr rg rb pl hs hk => hp fs ro rd rl rr rg rb pl _ hs ?_)
  have W := fo_pk_wf hwf hk
  exact ⟨W.1, W.2, fo_Q_tr hQ (fo_pk_Q hwf hk)⟩
theorem fx_M112 (hp : ∀ fg fm fs fn wo wl wr wg re kn va so ah us nk nv ns it ro rd rl rr rg rb pl s, fs = nI s → fo_gd P0 N (fo_pr ro rd rl rr rg rb) s → post ((nI n), 1, fg, fm, fs, fo, fb, fe, fn, op, de, le, ri, go, be, wo, wd, wl, wr, wg, bk, re, kn, va, so, ah, us, nk, nv, ns, ro, rd, rl, rr, rg, rb, pl, nu, ou, it)) :
    ∀ k r fg fm fn wo wl wr wg re kn va so ah us nk nv ns it, r ≤ 12 → 12 - r < k → fo_wf (fo_pr wo wd wl wr wg bk) n → fo_Q P0 N (fo_pr wo wd wl wr wg bk) n → wX_improve_112 post k (nI r) (nI n) fr fg fm fs fo fb fe fn op de le ri go be wo wd wl wr wg bk re kn va so ah us nk nv ns ro rd rl rr rg rb pl nu ou it := by
  intro k
  induction k with
  | zero => intro r fg fm fn wo wl wr wg re kn va so ah us nk nv ns it _ hk; omega
  | succ k ih =>
    intro r fg fm fn wo wl wr wg re kn va so ah us nk nv ns it hr hk hwf hQ
    have J : wX_improve_140 post (nI n) fr fg fm fs fo fb fe fn op de le ri go be wo wd wl wr wg bk re kn va so ah us nk nv ns ro rd rl rr rg rb pl nu ou it := fx_M140 hwf hQ (fun fs ro rd rl rr rg rb pl s hs hg => hp fg fm fs fn wo wl wr wg re kn va so ah us nk nv ns it ro rd rl rr rg rb pl s hs hg)
    by_cases e : r = 12
    · subst e; exact br_t (nI_le (Nat.le_refl 12) (by omega)) J
    · exact br_f (nI_ge (b := 12) (by omega) (by omega)) (br_c (fun _ => J) (fun _ => fx_once (fun fg fm fn wo wl wr wg re kn va so ah us nk nv ns it w q => nm_r (nI_1 r) (ih (r + 1) fg fm fn wo wl wr wg re kn va so ah us nk nv ns it (by omega) (by omega) w q)) hwf hQ))
theorem fx_imp (hwf : fo_wf (fo_pr op de le ri go (fo_bk go)) n) (hrd : ¬ fr = 0 → ∃ s, fs = nI s ∧ fo_gd (fo_pr op de le ri go (fo_bk go)) n (fo_pr ro rd rl rr rg rb) s)
    (hp : ∀ fr fg fm fs fn wo wd wl wr wg bk re kn va so ah us nk nv ns it ro rd rl rr rg rb pl s, fs = nI s → fo_gd (fo_pr op de le ri go (fo_bk go)) n (fo_pr ro rd rl rr rg rb) s → post ((nI n), fr, fg, fm, fs, fo, fb, fe, fn, op, de, le, ri, go, be, wo, wd, wl, wr, wg, bk, re, kn, va, so, ah, us, nk, nv, ns, ro, rd, rl, rr, rg, rb, pl, nu, ou, it)) : wpX_improve post ((nI n), fr, fg, fm, fs, fo, fb, fe, fn, op, de, le, ri, go, be, wo, wd, wl, wr, wg, bk, re, kn, va, so, ah, us, nk, nv, ns, ro, rd, rl, rr, rg, rb, pl, nu, ou, it) := by
  have hn := hwf.1
  have L : ∀ k i, i ≤ n → n - i < k → wX_improve_10 post (nI n) fr fg fm fs fo fb fe fn k (nI i) op de le ri go be (fo_mx i op wo) (fo_mx i de wd) (fo_mx i le wl) (fo_mx i ri wr) (fo_mx i go wg) (fo_mx i (fo_bk go) bk) re kn va so ah us nk nv ns ro rd rl rr rg rb pl nu ou it := by
    intro k
    induction k with
    | zero => intro i _ hk; omega
    | succ k ih =>
      intro i hi hk
      by_cases e : i = n
      · subst e
        have eP : ∀ j, j < i → fo_pr (fo_mx i op wo) (fo_mx i de wd) (fo_mx i le wl) (fo_mx i ri wr) (fo_mx i go wg) (fo_mx i (fo_bk go) bk) j = fo_pr op de le ri go (fo_bk go) j := by
          intro j hj
          unfold fo_pr
          rw [fo_mx_l hj, fo_mx_l hj, fo_mx_l hj, fo_mx_l hj, fo_mx_l hj, fo_mx_l hj]
        refine br_t (nI_le (Nat.le_refl i) (by omega)) (Exists.intro 13 ?_)
        exact fx_M112 (P0 := fo_pr op de le ri go (fo_bk go)) (N := i) (fun fg fm fs fn wo1 wl wr wg re kn va so ah us nk nv ns it ro rd rl rr rg rb pl s hs hg => hp 1 fg fm fs fn wo1 _ wl wr wg _ re kn va so ah us nk nv ns it ro rd rl rr rg rb pl s hs hg) 13 0 1 fm fn _ _ _ _ re kn va so ah us nk nv ns it (by omega) (by omega)
          ⟨hn, fun j hj => by rw [eP j hj]; exact hwf.2 j hj⟩ (fun num out r f h => ⟨f, (fo_ev_eq eP f _).trans h⟩)
      · have v : vp_in (nI i) 20 := vp_in_nI (by omega) (by decide)
        have c : (nI i).toNatClampNeg = i := nI_clamp (by omega)
        have I := ih (i + 1) (by omega) (by omega)
        refine br_f (nI_ge (by omega) (by omega)) ⟨v, v, nm_r (e' := fo_mx (i + 1) op wo) (by rw [c]; exact fo_mx_s rfl) ⟨v, v, nm_r (e' := fo_mx (i + 1) de wd) (by rw [c]; exact fo_mx_s rfl) ⟨v, v, nm_r (e' := fo_mx (i + 1) le wl) (by rw [c]; exact fo_mx_s rfl) ⟨v, v, nm_r (e' := fo_mx (i + 1) ri wr) (by rw [c]; exact fo_mx_s rfl) ⟨v, v, nm_r (e' := fo_mx (i + 1) go wg) (by rw [c]; exact fo_mx_s rfl) ⟨v, ?_⟩⟩⟩⟩⟩⟩
        rw [c]
        refine br_c (fun h1 => ⟨v, nm_r (e' := fo_mx (i + 1) (fo_bk go) bk) (fo_mx_s ?_) (nm_r (nI_1 i) I)⟩) (fun h1 => ⟨v, nm_r (e' := fo_mx (i + 1) (fo_bk go) bk) (fo_mx_s ?_) (nm_r (nI_1 i) I)⟩)
        · unfold fo_bk; rw [if_pos h1]; rfl
        · unfold fo_bk; rw [if_neg h1]; rfl
  refine br_c (fun h0 => ?_) (fun h0 => ?_)
  · have q := L (n + 1) 0 (Nat.zero_le _) (by omega)
    rw [fo_mx_0, fo_mx_0, fo_mx_0, fo_mx_0, fo_mx_0, fo_mx_0] at q
    exact Exists.intro (n + 1) q
  · obtain ⟨s, hs, hg⟩ := hrd h0
    exact hp fr fg fm fs fn wo wd wl wr wg bk re kn va so ah us nk nv ns it ro rd rl rr rg rb pl s hs hg
end
end
section
/-! walks: the run of the component -/
/-- only the eight numbers count -/
theorem fo_ev_num {P : Nat → fo_I} {n : Nat} (hP : fo_wf P n) : ∀ f (c : fo_C) (num : Nat → Int32), (∀ m, m < 8 → num m = c.2.1 m) → fo_ev P n f (c.1, num, c.2.2) = fo_ev P n f c := by
  intro f
  induction f with
  | zero => intro c num _; rfl
  | succ f ih =>
    intro c num hA
    by_cases hn : n ≤ c.1
    · rw [fo_evE (c := (c.1, num, c.2.2)) hn, fo_evE hn]
    · have h' : c.1 < n := by omega
      have ok := hP.2 c.1 h'
      have AL : (P c.1).1 ≠ 0 → num (P c.1).2.2.1.toNatClampNeg = c.2.1 (P c.1).2.2.1.toNatClampNeg := fun e0 => hA _ (fo_cl_lt (ok.2.2.1 e0) (by decide))
      have AR : num (P c.1).2.2.2.1.toNatClampNeg = c.2.1 (P c.1).2.2.2.1.toNatClampNeg := hA _ (fo_cl_lt ok.2.2.2.1 (by decide))
      have mk : ∀ v v', fo_sp (P c.1) c = fo_nx c (upd c.2.1 (P c.1).2.1.toNatClampNeg v) → fo_sp (P c.1) (c.1, num, c.2.2) = fo_nx (c.1, num, c.2.2) (upd num (P c.1).2.1.toNatClampNeg v') → v' = v →
          fo_ev P n (f + 1) (c.1, num, c.2.2) = fo_ev P n (f + 1) c := by
        intro v v' hs hs' ev
        rw [fo_evR h' hs, fo_evR (c := (c.1, num, c.2.2)) (c' := (c.1 + 1, upd num (P c.1).2.1.toNatClampNeg v', c.2.2)) h' hs']
        refine ih (c.1 + 1, upd c.2.1 (P c.1).2.1.toNatClampNeg v, c.2.2) _ (fun m hm => ?_)
        show upd num (P c.1).2.1.toNatClampNeg v' m = upd c.2.1 (P c.1).2.1.toNatClampNeg v m
        by_cases md : m = (P c.1).2.1.toNatClampNeg
        · rw [md, pk_us, pk_us, ev]
        · rw [pk_un md, pk_un md]; exact hA m hm
      have nx : fo_sp (P c.1) c = fo_nx c c.2.1 → fo_sp (P c.1) (c.1, num, c.2.2) = fo_nx (c.1, num, c.2.2) num → fo_ev P n (f + 1) (c.1, num, c.2.2) = fo_ev P n (f + 1) c := by
        intro hs hs'
        rw [fo_evR h' hs, fo_evR (c := (c.1, num, c.2.2)) (c' := (c.1 + 1, num, c.2.2)) h' hs']
        exact ih (c.1 + 1, c.2.1, c.2.2) num hA
      have gt : fo_sp (P c.1) c = fo_gt (P c.1) c → fo_sp (P c.1) (c.1, num, c.2.2) = fo_gt (P c.1) (c.1, num, c.2.2) → fo_ev P n (f + 1) (c.1, num, c.2.2) = fo_ev P n (f + 1) c := by
        intro hs hs'
        unfold fo_gt at hs hs'
        by_cases b0 : (P c.1).2.2.2.2.2 = 0
        · rw [if_pos b0] at hs hs'
          rw [fo_evR h' hs, fo_evR (c := (c.1, num, c.2.2)) h' hs']
          exact ih ((P c.1).2.2.2.2.1.toNatClampNeg, c.2.1, c.2.2) num hA
        · rw [if_neg b0] at hs hs'
          by_cases b4 : c.2.2.2.2 = 40
          · rw [if_pos b4] at hs hs'
            rw [fo_evL h' hs, fo_evL (c := (c.1, num, c.2.2)) h' hs']
          · rw [if_neg b4] at hs hs'
            rw [fo_evR h' hs, fo_evR (c := (c.1, num, c.2.2)) h' hs']
            exact ih ((P c.1).2.2.2.2.1.toNatClampNeg, c.2.1, c.2.2.1, c.2.2.2.1, c.2.2.2.2 + 1) num hA
      rcases fo_ops ok.1 with e | e | e | e | e | e | e | e
      · exact mk _ _ (fo_sp0 e) (fo_sp0 e) rfl
      · exact mk _ _ (fo_sp1 e) (fo_sp1 e) (AL (by rw [e]; decide))
      · refine mk _ _ (fo_spS e) (fo_spS e) ?_
        show fo_wk (P c.1).1 (num (P c.1).2.2.1.toNatClampNeg) (num (P c.1).2.2.2.1.toNatClampNeg) = _
        rw [AL (fo_sm_ne e).1, AR]
      · exact gt (fo_sp8 e) (fo_sp8 e)
      · have q := AL (by rw [e]; decide)
        by_cases z : c.2.1 (P c.1).2.2.1.toNatClampNeg = 0
        · exact nx (fo_sp9z e z) (fo_sp9z e (q.trans z))
        · exact gt (fo_sp9n e z) (fo_sp9n e (fun w => z (q.symm.trans w)))
      · have q := AL (by rw [e]; decide)
        by_cases z : c.2.2.1 = 24
        · rw [fo_evL h' (fo_sp10f e z), fo_evL (c := (c.1, num, c.2.2)) h' (fo_sp10f e z)]
        · rw [fo_evR h' (fo_sp10n e z), fo_evR (c := (c.1, num, c.2.2)) h' (fo_sp10n e z)]
          show fo_ev P n f (c.1 + 1, num, c.2.2.1 + 1, upd c.2.2.2.1 c.2.2.1 (num (P c.1).2.2.1.toNatClampNeg), c.2.2.2.2) = _
          rw [q]
          exact ih (c.1 + 1, c.2.1, c.2.2.1 + 1, upd c.2.2.2.1 c.2.2.1 (c.2.1 (P c.1).2.2.1.toNatClampNeg), c.2.2.2.2) num hA
      · rw [fo_evL h' (fo_sp11 e), fo_evL (c := (c.1, num, c.2.2)) h' (fo_sp11 e)]
      · exact nx (fo_sp12 e) (fo_sp12 e)
/-- the bounds of a configuration, and of a result -/
def fo_cb (c : fo_C) : Prop := c.2.2.1 ≤ 24 ∧ c.2.2.2.2 ≤ 40
def fo_rb (r : fo_R) : Prop := 0 ≤ r.1 ∧ r.2.1 ≤ 24 ∧ r.2.2.2 ≤ 40
theorem fo_gt_cb {x : fo_I} {c : fo_C} (h : fo_cb c) : (∀ c', fo_gt x c = .inr c' → fo_cb c') ∧ (∀ r, fo_gt x c = .inl r → fo_rb r) := by
  unfold fo_gt
  by_cases b0 : x.2.2.2.2.2 = 0
  · rw [if_pos b0]; exact ⟨fun c' e => by cases e; exact h, fun r e => by cases e⟩
  · rw [if_neg b0]
    by_cases b4 : c.2.2.2.2 = 40
    · rw [if_pos b4]; exact ⟨fun c' e => (by cases e), fun r e => by cases e; exact ⟨by show (0 : Int32) ≤ 2; decide, h⟩⟩
    · rw [if_neg b4]; exact ⟨fun c' e => by cases e; exact ⟨h.1, by have := h.2; show c.2.2.2.2 + 1 ≤ 40; omega⟩, fun r e => by cases e⟩
theorem fo_sp_cb {x : fo_I} {c : fo_C} (hx : vp_in x.1 13) (h : fo_cb c) : (∀ c', fo_sp x c = .inr c' → fo_cb c') ∧ (∀ r, fo_sp x c = .inl r → fo_rb r) := by
  have nx : ∀ num, (∀ c', fo_nx c num = .inr c' → fo_cb c') ∧ (∀ r, fo_nx c num = .inl r → fo_rb r) := fun num => ⟨fun c' e => by cases e; exact h, fun r e => by cases e⟩
  rcases fo_ops hx with e | e | e | e | e | e | e | e
  · rw [fo_sp0 e]; exact nx _
  · rw [fo_sp1 e]; exact nx _
  · rw [fo_spS e]; exact nx _
  · rw [fo_sp8 e]; exact fo_gt_cb h
  · by_cases z : c.2.1 x.2.2.1.toNatClampNeg = 0
    · rw [fo_sp9z e z]; exact nx _
    · rw [fo_sp9n e z]; exact fo_gt_cb h
  · by_cases z : c.2.2.1 = 24
    · rw [fo_sp10f e z]; exact ⟨fun c' e => (by cases e), fun r e => by cases e; exact ⟨by show (0 : Int32) ≤ 1; decide, h⟩⟩
    · rw [fo_sp10n e z]; exact ⟨fun c' e => by cases e; exact ⟨by have := h.1; show c.2.2.1 + 1 ≤ 24; omega, h.2⟩, fun r e => by cases e⟩
  · rw [fo_sp11 e]; exact ⟨fun c' e => (by cases e), fun r e => by cases e; exact ⟨by show (0 : Int32) ≤ 0; decide, h⟩⟩
  · rw [fo_sp12 e]; exact nx _
section
variable {n : Nat} {fr fg fm fs fo fb fe fn : Int32} {op de le ri go be wo wd wl wr wg bk re kn va so ah us nk nv ns ro rd rl rr rg rb pl nu ou it : Nat → Int32}
theorem fx_step {post : Int32 → SX → Prop} {pc o b : Nat} (ok : fo_ok pc ((fo_pr ro rd rl rr rg rb) pc)) (h12 : ro pc ≠ 12) (hpc : pc < 20) (hcb : fo_cb (pc, nu, o, ou, b))
    (hr : ∀ r, fo_sp ((fo_pr ro rd rl rr rg rb) pc) (pc, nu, o, ou, b) = .inl r → ∀ q, post q ((nI n), fr, fg, fm, fs, nI r.2.1, nI r.2.2.2, r.1, fn, op, de, le, ri, go, be, wo, wd, wl, wr, wg, bk, re, kn, va, so, ah, us, nk, nv, ns, ro, rd, rl, rr, rg, rb, pl, nu, r.2.2.1, it))
    (hc : ∀ c : fo_C, fo_sp ((fo_pr ro rd rl rr rg rb) pc) (pc, nu, o, ou, b) = .inr c → post (nI c.1) ((nI n), fr, fg, fm, fs, nI c.2.2.1, nI c.2.2.2.2, fe, fn, op, de, le, ri, go, be, wo, wd, wl, wr, wg, bk, re, kn, va, so, ah, us, nk, nv, ns, ro, rd, rl, rr, rg, rb, pl, c.2.1, c.2.2.2.1, it)) :
    wpX_step post ((nI n), fr, fg, fm, fs, nI o, nI b, fe, fn, op, de, le, ri, go, be, wo, wd, wl, wr, wg, bk, re, kn, va, so, ah, us, nk, nv, ns, ro, rd, rl, rr, rg, rb, pl, nu, ou, it) (nI pc) := by
  have v : vp_in (nI pc) 20 := vp_in_nI hpc (by decide)
  have c : (nI pc).toNatClampNeg = pc := nI_clamp (by omega)
  obtain ⟨o1, o2, o3, o4, o5, o6, o7⟩ := ok
  have od : vp_in (rd pc) 8 := o2
  have orr : vp_in (rr pc) 8 := o4
  have eg : rg pc = nI (rg pc).toNatClampNeg := fo_vn o5 (by decide)
  have o24 : o ≤ 24 := hcb.1
  have b40 : b ≤ 40 := hcb.2
  have GT : fo_sp ((fo_pr ro rd rl rr rg rb) pc) (pc, nu, o, ou, b) = fo_gt ((fo_pr ro rd rl rr rg rb) pc) (pc, nu, o, ou, b) → wpX_goTo (fun r u => match u with | (fc, fr, fg, fm, fs, fo, fb, fe, fn, op, de, le, ri, go, be, wo, wd, wl, wr, wg, bk, re, kn, va, so, ah, us, nk, nv, ns, ro, rd, rl, rr, rg, rb, pl, nu, ou, it) => post r (fc, fr, fg, fm, fs, fo, fb, fe, fn, op, de, le, ri, go, be, wo, wd, wl, wr, wg, bk, re, kn, va, so, ah, us, nk, nv, ns, ro, rd, rl, rr, rg, rb, pl, nu, ou, it)) ((nI n), fr, fg, fm, fs, nI o, nI b, fe, fn, op, de, le, ri, go, be, wo, wd, wl, wr, wg, bk, re, kn, va, so, ah, us, nk, nv, ns, ro, rd, rl, rr, rg, rb, pl, nu, ou, it) (nI pc) := by
    intro e
    unfold fo_gt at e
    show vp_in (nI pc) 20 ∧ _
    rw [c]
    refine ⟨v, br_c (fun b0 => ⟨v, ?_⟩) (fun b0 => pk_eq b 40 (fun b4 => ?_) (fun b4 => nm_r (nI_1 b) ⟨v, ?_⟩))⟩
    · rw [if_pos (show ((fo_pr ro rd rl rr rg rb) pc).2.2.2.2.2 = 0 from b0)] at e
      have q := hc _ e
      show post (rg pc) _
      rw [eg]
      exact q
    · rw [if_neg (show ¬ ((fo_pr ro rd rl rr rg rb) pc).2.2.2.2.2 = 0 from b0), if_pos (show (pc, nu, o, ou, b).2.2.2.2 = 40 from b4)] at e
      exact hr _ e _
    · rw [if_neg (show ¬ ((fo_pr ro rd rl rr rg rb) pc).2.2.2.2.2 = 0 from b0), if_neg (show ¬ (pc, nu, o, ou, b).2.2.2.2 = 40 from b4)] at e
      have q := hc _ e
      show post (rg pc) _
      rw [eg]
      exact q
  show vp_in (nI pc) 20 ∧ _
  rw [c]
  refine ⟨v, nm_e (br_c (fun e => ?_) (fun e0 => br_c (fun e => ?_) (fun e1 => br_c (fun e => ?_) (fun e8 => br_c (fun e => ?_) (fun e9 => br_c (fun e => ?_) (fun e10 => br_c (fun e => ?_) (fun e11 => ?_)))))))⟩
  · have q := hc _ (fo_sp0 (x := (fo_pr ro rd rl rr rg rb) pc) e)
    rw [nI_1]
    exact ⟨v, v, od, nm_e q⟩
  · have ol : vp_in (rl pc) 8 := o3 (show ro pc ≠ 0 from e0)
    have q := hc _ (fo_sp1 (x := (fo_pr ro rd rl rr rg rb) pc) e)
    rw [nI_1]
    exact ⟨v, v, ol, od, nm_e q⟩
  · exact GT (fo_sp8 (x := (fo_pr ro rd rl rr rg rb) pc) e)
  · have ol : vp_in (rl pc) 8 := o3 (show ro pc ≠ 0 from e0)
    refine ⟨v, ol, br_c (fun z => ?_) (fun z => GT (fo_sp9n (x := (fo_pr ro rd rl rr rg rb) pc) e z))⟩
    have q := hc _ (fo_sp9z (x := (fo_pr ro rd rl rr rg rb) pc) e z)
    rw [nI_1]
    exact q
  · have ol : vp_in (rl pc) 8 := o3 (show ro pc ≠ 0 from e0)
    refine ⟨v, ol, pk_eq o 24 (fun z => ?_) (fun z => ⟨vp_in_nI (by omega) (by decide), ?_⟩)⟩
    · exact hr _ (fo_sp10f (x := (fo_pr ro rd rl rr rg rb) pc) e z) _
    · have q := hc _ (fo_sp10n (x := (fo_pr ro rd rl rr rg rb) pc) e z)
      rw [nI_clamp (by omega), nI_1 pc]
      exact nm_e (nm_r (nI_1 o) q)
  · exact hr _ (fo_sp11 (x := (fo_pr ro rd rl rr rg rb) pc) e) _
  · have ol : vp_in (rl pc) 8 := o3 (show ro pc ≠ 0 from e0)
    have sm : fo_sm (ro pc) := by
      rcases fo_ops o1 with w | w | w | w | w | w | w | w
      · exact absurd w e0
      · exact absurd w e1
      · exact w
      · exact absurd w e8
      · exact absurd w e9
      · exact absurd w e10
      · exact absurd w e11
      · exact absurd w h12
    have q := hc _ (fo_spS (x := (fo_pr ro rd rl rr rg rb) pc) sm)
    refine ⟨v, v, ol, v, orr, fx_wkd ⟨od, ?_⟩⟩
    rw [nI_1]
    exact nm_e q
theorem fx_R49 {post : SX → Prop} {s : Nat} {r : fo_R} (hs : fs = nI s) (hwf : fo_wf (fo_pr ro rd rl rr rg rb) s) (h2 : ∀ k, k < s → ((fo_pr ro rd rl rr rg rb) k).1 ≠ 12 ∧ ((fo_pr ro rd rl rr rg rb) k).2.2.2.2.1.toNatClampNeg ≤ 20)
    (hp : fo_rb r → ∀ nu, post ((nI n), fr, fg, fm, fs, nI r.2.1, nI r.2.2.2, r.1, fn, op, de, le, ri, go, be, wo, wd, wl, wr, wg, bk, re, kn, va, so, ah, us, nk, nv, ns, ro, rd, rl, rr, rg, rb, pl, nu, r.2.2.1, it)) :
    ∀ f pc i nu o ou b, pc ≤ 20 → i + f < 1000 → fo_cb (pc, nu, o, ou, b) → fo_ev (fo_pr ro rd rl rr rg rb) s f (pc, nu, o, ou, b) = some r →
    wX_run_49 post (f + 1) (nI pc) (nI i) (nI n) fr fg fm fs (nI o) (nI b) (-1) fn op de le ri go be wo wd wl wr wg bk re kn va so ah us nk nv ns ro rd rl rr rg rb pl nu ou it := by
  have hs20 := hwf.1
  have fin : ∀ k x2 q e o ou b nu, r = (e, o, ou, b) → fo_rb r → True → wX_run_49 post (k + 1) q x2 (nI n) fr fg fm fs (nI o) (nI b) e fn op de le ri go be wo wd wl wr wg bk re kn va so ah us nk nv ns ro rd rl rr rg rb pl nu ou it := by
    intro k x2 q e o ou b nu er hb _
    have h0 : (0 : Int32) ≤ e := by have := hb.1; rw [er] at this; exact this
    have P := hp hb nu
    rw [er] at P
    exact br_c (fun _ => P) (fun _ => br_t h0 P)
  intro f
  induction f with
  | zero => intro pc i nu o ou b _ _ _ he; exact absurd he (by show ¬ (none = some r); intro z; cases z)
  | succ f ih =>
    intro pc i nu o ou b hpc hi hcb he
    refine br_f (nI_ge (b := 1000) (by omega) (by omega)) (br_f (by decide) ?_)
    by_cases hn : s ≤ pc
    · rw [hs]
      refine br_f (nI_nlt hn (by omega)) ?_
      rw [fo_evE (c := (pc, nu, o, ou, b)) hn] at he
      have er := (Option.some.inj he).symm
      rw [← hs]
      exact nm_e (fin f _ _ 0 o ou b nu er (by rw [er]; exact ⟨by show (0 : Int32) ≤ 0; decide, hcb.1, hcb.2⟩) trivial)
    · have h' : pc < s := by omega
      have ok := hwf.2 pc h'
      have CB := fo_sp_cb ok.1 hcb
      rw [hs]
      refine br_t (nI_lt h' (by omega)) ?_
      rw [← hs]
      refine fx_step ok (h2 pc h').1 (by omega) hcb (fun r' e' q => ?_) (fun c' e' => ?_)
      · rw [fo_evL (c := (pc, nu, o, ou, b)) h' e'] at he
        have er := Option.some.inj he
        exact nm_r (nI_1 i) (fin f _ _ r'.1 r'.2.1 r'.2.2.1 r'.2.2.2 nu er.symm (by rw [← er]; exact CB.2 _ e') trivial)
      · rw [fo_evR (c := (pc, nu, o, ou, b)) h' e'] at he
        have t := fo_sp_tr ok.1 e'
        have c20 : c'.1 ≤ 20 := by
          have := (h2 pc h').2
          rcases fo_tr_way t with ⟨w, _⟩ | ⟨w, _⟩
          · rw [w]; exact this
          · rw [w]; show pc + 1 ≤ 20; omega
        exact nm_r (nI_1 i) (ih c'.1 (i + 1) c'.2.1 c'.2.2.1 c'.2.2.2.1 c'.2.2.2.2 c20 (by omega) (CB.1 _ e') he)
theorem fx_run {post : SX → Prop} (hwf : fo_wf (fo_pr op de le ri go (fo_bk go)) n) (hrd : ¬ fr = 0 → ∃ s, fs = nI s ∧ fo_gd (fo_pr op de le ri go (fo_bk go)) n (fo_pr ro rd rl rr rg rb) s)
    (hp : ∀ fr fg fm fs fn wo wd wl wr wg bk re kn va so ah us nk nv ns it ro rd rl rr rg rb pl nu' s (r : fo_R) f, fs = nI s → fo_gd (fo_pr op de le ri go (fo_bk go)) n (fo_pr ro rd rl rr rg rb) s → fo_rb r → fo_ev (fo_pr op de le ri go (fo_bk go)) n f (0, fo_mx 8 be nu, 0, ou, 0) = some r →
      post ((nI n), fr, fg, fm, fs, nI r.2.1, nI r.2.2.2, r.1, fn, op, de, le, ri, go, be, wo, wd, wl, wr, wg, bk, re, kn, va, so, ah, us, nk, nv, ns, ro, rd, rl, rr, rg, rb, pl, nu', r.2.2.1, it)) : wpX_run post ((nI n), fr, fg, fm, fs, fo, fb, fe, fn, op, de, le, ri, go, be, wo, wd, wl, wr, wg, bk, re, kn, va, so, ah, us, nk, nv, ns, ro, rd, rl, rr, rg, rb, pl, nu, ou, it) := by
  refine fx_imp hwf hrd (fun fr fg fm fs fn wo wd wl wr wg bk re kn va so ah us nk nv ns it ro rd rl rr rg rb pl s hs hg => Exists.intro 9 ?_)
  have L : ∀ k m, m ≤ 8 → 8 - m < k → wX_run_6 post (nI n) fr fg fm fs fo fb fe fn k (nI m) op de le ri go be wo wd wl wr wg bk re kn va so ah us nk nv ns ro rd rl rr rg rb pl (fo_mx m be nu) ou it := by
    intro k
    induction k with
    | zero => intro m _ hk; omega
    | succ k ih =>
      intro m hm hk
      by_cases e : m = 8
      · subst e
        refine br_t (nI_le (Nat.le_refl 8) (by omega)) (Exists.intro 901 ?_)
        -- the program as written ends
        obtain ⟨r0, h0⟩ := fo_end hwf (fun i hi => by have := fo_cl_lt (hwf.2 i hi).2.2.2.2.1 (by decide); omega) 900 (0, fo_mx 8 be nu, 0, ou, 0) (Nat.zero_le _) (Nat.zero_le _) (by show (40 - 0) * 21 + (20 - 0) < 900; decide)
        obtain ⟨f1, h1⟩ := hg.2.2 _ _ _ _ h0
        obtain ⟨r2, h2⟩ := fo_end hg.1 (fun i hi => (hg.2.1 i hi).2) 900 (0, fo_mx 8 be nu, 0, ou, 0) (Nat.zero_le _) (Nat.zero_le _) (by show (40 - 0) * 21 + (20 - 0) < 900; decide)
        have er := fo_ev_det h1 h2
        rw [← er] at h2
        exact fx_R49 hs hg.1 hg.2.1 (fun hb nu' => hp fr fg fm fs fn wo wd wl wr wg bk re kn va so ah us nk nv ns it ro rd rl rr rg rb pl nu' s r0 900 hs hg hb h0) 900 0 0 (fo_mx 8 be nu) 0 ou 0 (by omega) (by omega) ⟨Nat.zero_le _, Nat.zero_le _⟩ h2
      · have v : vp_in (nI m) 8 := vp_in_nI (by omega) (by decide)
        exact br_f (nI_ge (b := 8) (by omega) (by omega)) ⟨v, v, nm_r (e' := fo_mx (m + 1) be nu) (by rw [nI_clamp (by omega)]; exact fo_mx_s rfl) (nm_r (nI_1 m) (ih (m + 1) (by omega) (by omega)))⟩
  have q := L 9 0 (Nat.zero_le _) (by omega)
  rw [fo_mx_0] at q
  exact q
end
end
section
/-! walks: the run of the reference -/
/-- how the reference writes an instruction -/
def fo_yr (x : fo_I) (o f s t : Int32) : Prop :=
  o = x.1 ∧ x.1 ≠ 12 ∧ (x.1 = 0 → f = x.2.1 ∧ s = x.2.2.1) ∧ (x.1 = 1 → f = x.2.1 ∧ s = x.2.2.1) ∧ (fo_sm x.1 → f = x.2.1 ∧ s = x.2.2.1 ∧ t = x.2.2.2.1) ∧
  (x.1 = 8 → s = x.2.2.2.2.1) ∧ (x.1 = 9 → f = x.2.2.1 ∧ s = x.2.2.2.2.1) ∧ (x.1 = 10 → f = x.2.2.1)
section
variable {n : Nat} {ym yb yp ye : Int32} {yo yf yc yt yz yn yg : Nat → Int32}
theorem fy_res {post : Int32 → Prop} {o a b : Int32} (h : post (fo_wk o a b)) : wpY_result post ((nI n), ym, yb, yp, ye, yo, yf, yc, yt, yz, yn, yg) o a b := by
  have k : ∀ v, v = fo_wk o a b → post v := fun v e => e ▸ h
  refine br_c (fun e => k _ ?_) (fun e2 => br_c (fun e => k _ ?_) (fun e3 => br_c (fun e => k _ ?_) (fun e4 => br_c (fun e => k _ ?_) (fun e5 => br_c (fun e => k _ ?_) (fun e6 => br_c (fun e => k _ ?_) (fun e => k _ ?_))))))
  · unfold fo_wk; rw [if_pos e]
  · unfold fo_wk; rw [if_neg e2, if_pos e]
  · unfold fo_wk; rw [if_neg e2, if_neg e3, if_pos e]
  · unfold fo_wk; rw [if_neg e2, if_neg e3, if_neg e4, if_pos e]
  · unfold fo_wk; rw [if_neg e2, if_neg e3, if_neg e4, if_neg e5, if_pos e]
  · unfold fo_wk; rw [if_neg e2, if_neg e3, if_neg e4, if_neg e5, if_neg e6, if_pos e]
  · unfold fo_wk; rw [if_neg e2, if_neg e3, if_neg e4, if_neg e5, if_neg e6, if_neg e]
theorem fy_num {A B : Prop} {p : Int32} (hb : vp_in p 8 → B) (ha : ¬ vp_in p 8 → A) : wpY_isNumber (fun r => (r = 0 → A) ∧ (¬ r = 0 → B)) ((nI n), ym, yb, yp, ye, yo, yf, yc, yt, yz, yn, yg) p := by
  have I : vp_in p 8 ↔ ¬ p < 0 ∧ ¬ 7 < p := by
    rw [fo_in_iff (by decide)]
    have e : (nI 8 : Int32) = 8 := rfl
    rw [e, Int32.lt_iff_toInt_lt, Int32.lt_iff_toInt_lt, Int32.lt_iff_toInt_lt]
    have e0 : (0 : Int32).toInt = 0 := by decide
    have e7 : (7 : Int32).toInt = 7 := by decide
    have e8 : (8 : Int32).toInt = 8 := by decide
    omega
  exact br_c (fun h => br_t rfl (ha (fun z => (I.mp z).1 h))) (fun h => br_c (fun h2 => br_t rfl (ha (fun z => (I.mp z).2 h2))) (fun h2 => br_f (by decide) (hb (I.mpr ⟨h, h2⟩))))
theorem fy_work {post : SY → Prop} {x : fo_I} {pc o b : Nat} (ok : fo_ok pc x) (hb0 : x.2.2.2.2.2 = 0 ↔ nI pc < x.2.2.2.2.1) (hy : fo_yr x (yo pc) (yf pc) (yc pc) (yt pc)) (hpc : pc < 20) (hcb : fo_cb (pc, yn, o, yg, b))
    (hr : ∀ r, fo_sp x (pc, yn, o, yg, b) = .inl r → ∀ q, post ((nI n), nI r.2.1, nI r.2.2.2, q, r.1, yo, yf, yc, yt, yz, yn, r.2.2.1))
    (hc : ∀ c : fo_C, fo_sp x (pc, yn, o, yg, b) = .inr c → post ((nI n), nI c.2.2.1, nI c.2.2.2.2, nI c.1, ye, yo, yf, yc, yt, yz, c.2.1, c.2.2.2.1)) :
    wpY_work post ((nI n), nI o, nI b, nI pc, ye, yo, yf, yc, yt, yz, yn, yg) := by
  have v : vp_in (nI pc) 20 := vp_in_nI hpc (by decide)
  have c : (nI pc).toNatClampNeg = pc := nI_clamp (by omega)
  obtain ⟨o1, o2, o3, o4, o5, o6, o7⟩ := ok
  obtain ⟨y0, y12, yA, yB, yS, y8, y9, y10⟩ := hy
  have eg : x.2.2.2.2.1 = nI x.2.2.2.2.1.toNatClampNeg := fo_vn o5 (by decide)
  have o24 : o ≤ 24 := hcb.1
  have b40 : b ≤ 40 := hcb.2
  have GT : fo_sp x (pc, yn, o, yg, b) = fo_gt x (pc, yn, o, yg, b) → wpY_goTo (fun u => match u with | (ys, ym, yb, yp, ye, yo, yf, yc, yt, yz, yn, yg) => post (ys, ym, yb, yp, ye, yo, yf, yc, yt, yz, yn, yg)) ((nI n), nI o, nI b, nI pc, ye, yo, yf, yc, yt, yz, yn, yg) x.2.2.2.2.1 := by
    intro e
    unfold fo_gt at e
    refine br_c (fun h1 => br_t h1 ?_) (fun h1 => pk_eq b 40 (fun b4 => ?_) (fun b4 => br_f h1 (nm_r (nI_1 b) ?_)))
    · rw [if_pos (hb0.mpr h1)] at e
      have q := hc _ e
      rw [eg]
      exact q
    · rw [if_neg (fun z => h1 (hb0.mp z)), if_pos (show (pc, yn, o, yg, b).2.2.2.2 = 40 from b4)] at e
      exact hr _ e _
    · rw [if_neg (fun z => h1 (hb0.mp z)), if_neg (show ¬ (pc, yn, o, yg, b).2.2.2.2 = 40 from b4)] at e
      have q := hc _ e
      rw [eg]
      exact q
  show vp_in (nI pc) 20 ∧ _
  rw [c, y0]
  refine ⟨v, nm_e ⟨v, nm_e ⟨v, nm_e (br_c (fun e8 => ?_) (fun e8 => br_c (fun e9 => ?_) (fun e9 => ?_)))⟩⟩⟩
  · rw [y8 e8]; exact GT (fo_sp8 e8)
  · rw [(y9 e9).1, (y9 e9).2]
    have ol := o3 (by rw [e9]; decide)
    refine ⟨ol, br_c (fun z => ?_) (fun z => GT (fo_sp9n e9 z))⟩
    have q := hc _ (fo_sp9z e9 z)
    refine br_f (by rw [e9]; decide) (br_f (by rw [e9]; decide) (br_t (by rw [e9]; decide) (br_t (by rw [e9]; decide) (nm_r (nI_1 pc) q))))
  · unfold wY_work_67
    rw [c]
    refine br_c (fun e10 => ?_) (fun e10 => br_c (fun e11 => hr _ (fo_sp11 e11) _) (fun e11 => ?_))
    · have ol := o3 (by rw [e10]; decide)
      rw [y10 e10]
      refine ⟨ol, pk_eq o 24 (fun z => hr _ (fo_sp10f e10 z) _) (fun z => ⟨vp_in_nI (by omega) (by decide), ?_⟩)⟩
      have q := hc _ (fo_sp10n e10 z)
      rw [nI_clamp (by omega)]
      exact nm_e (nm_r (nI_1 o) (nm_r (nI_1 pc) q))
    · rcases fo_ops o1 with w | w | w | w | w | w | w | w
      · have q := hc _ (fo_sp0 w)
        rw [(yA w).1, (yA w).2]
        exact br_f (by rw [w]; decide) (br_t w ⟨o2, nm_e (nm_r (nI_1 pc) q)⟩)
      · have q := hc _ (fo_sp1 w)
        rw [(yB w).1, (yB w).2]
        have ol := o3 (by rw [w]; decide)
        exact br_f (by rw [w]; decide) (br_f (by rw [w]; decide) ⟨ol, o2, nm_e (nm_r (nI_1 pc) q)⟩)
      · have q := hc _ (fo_spS w)
        rw [(yS w).1, (yS w).2.1, (yS w).2.2]
        have ol := o3 (fo_sm_ne w).1
        have l2 : (2 : Int32) ≤ x.1 := Int32.not_lt.mp w.1
        have l8 : ¬ (8 : Int32) ≤ x.1 := by
          intro z
          apply w.2
          rw [Int32.le_iff_toInt_le] at z
          rw [Int32.lt_iff_toInt_lt]
          have e7 : (7 : Int32).toInt = 7 := by decide
          have e8 : (8 : Int32).toInt = 8 := by decide
          omega
        exact br_t l2 (br_f l8 ⟨ol, v, o4, fy_res ⟨o2, nm_e (nm_r (nI_1 pc) q)⟩⟩)
      · exact absurd w e8
      · exact absurd w e9
      · exact absurd w e10
      · exact absurd w e11
      · exact absurd w y12
theorem fy_R47 {post : SY → Prop} {P : Nat → fo_I} {r : fo_R} (hwf : fo_wf P n) (hb0 : ∀ i, i < n → ((P i).2.2.2.2.2 = 0 ↔ nI i < (P i).2.2.2.2.1)) (hy : ∀ i, i < n → fo_yr (P i) (yo i) (yf i) (yc i) (yt i))
    (hp : fo_rb r → ∀ q yn, post ((nI n), nI r.2.1, nI r.2.2.2, q, r.1, yo, yf, yc, yt, yz, yn, r.2.2.1)) :
    ∀ f pc yn o yg b, pc ≤ 20 → fo_cb (pc, yn, o, yg, b) → fo_ev P n f (pc, yn, o, yg, b) = some r →
    wY_run_47 post (f + 1) (nI n) (nI o) (nI b) (nI pc) (-4) yo yf yc yt yz yn yg := by
  have hn := hwf.1
  have fin : ∀ k q e o yg b yn, r = (e, o, yg, b) → fo_rb r → wY_run_47 post (k + 1) (nI n) (nI o) (nI b) q e yo yf yc yt yz yn yg := by
    intro k q e o yg b yn er hb
    have h0 : (0 : Int32) ≤ e := by have := hb.1; rw [er] at this; exact this
    have P := hp hb q yn
    rw [er] at P
    exact br_f (fun z => by rw [z] at h0; exact absurd h0 (by decide)) P
  intro f
  induction f with
  | zero => intro pc yn o yg b _ _ he; exact absurd he (by show ¬ (none = some r); intro z; cases z)
  | succ f ih =>
    intro pc yn o yg b hpc hcb he
    refine br_t rfl ?_
    by_cases hs : n ≤ pc
    · refine br_f (nI_nlt hs (by omega)) ?_
      rw [fo_evE (c := (pc, yn, o, yg, b)) hs] at he
      have er := (Option.some.inj he).symm
      exact fin f _ 0 o yg b yn er (by rw [er]; exact ⟨by show (0 : Int32) ≤ 0; decide, hcb.1, hcb.2⟩)
    · have h' : pc < n := by omega
      have ok := hwf.2 pc h'
      have CB := fo_sp_cb ok.1 hcb
      refine br_t (nI_lt h' (by omega)) (fy_work ok (hb0 pc h') (hy pc h') (by omega) hcb (fun r' e' q => ?_) (fun c' e' => ?_))
      · rw [fo_evL (c := (pc, yn, o, yg, b)) h' e'] at he
        have er := Option.some.inj he
        exact fin f _ r'.1 r'.2.1 r'.2.2.1 r'.2.2.2 yn er.symm (by rw [← er]; exact CB.2 _ e')
      · rw [fo_evR (c := (pc, yn, o, yg, b)) h' e'] at he
        have t := fo_sp_tr ok.1 e'
        have c20 : c'.1 ≤ 20 := by
          have := fo_cl_lt ok.2.2.2.2.1 (by decide)
          rcases fo_tr_way t with ⟨w, _⟩ | ⟨w, _⟩
          · rw [w]; omega
          · rw [w]; show pc + 1 ≤ 20; omega
        exact ih c'.1 c'.2.1 c'.2.2.1 c'.2.2.2.1 c'.2.2.2.2 c20 (CB.1 _ e') he
theorem fy_run {post : SY → Prop} {P : Nat → fo_I} (hwf : fo_wf P n) (hb0 : ∀ i, i < n → ((P i).2.2.2.2.2 = 0 ↔ nI i < (P i).2.2.2.2.1)) (hy : ∀ i, i < n → fo_yr (P i) (yo i) (yf i) (yc i) (yt i))
    (hp : ∀ q yn' (r : fo_R) f, fo_rb r → fo_ev P n f (0, fo_mx 8 yz yn, 0, yg, 0) = some r → post ((nI n), nI r.2.1, nI r.2.2.2, q, r.1, yo, yf, yc, yt, yz, yn', r.2.2.1)) : wpY_run post ((nI n), ym, yb, yp, ye, yo, yf, yc, yt, yz, yn, yg) := by
  have L : ∀ k m, m ≤ 8 → 8 - m < k → wY_run_2 post (nI n) ym yb yp ye k (nI m) yo yf yc yt yz (fo_mx m yz yn) yg := by
    intro k
    induction k with
    | zero => intro m _ hk; omega
    | succ k ih =>
      intro m hm hk
      by_cases e : m = 8
      · subst e
        refine br_t (nI_le (Nat.le_refl 8) (by omega)) (Exists.intro 901 ?_)
        obtain ⟨r0, h0⟩ := fo_end hwf (fun i hi => by have := fo_cl_lt (hwf.2 i hi).2.2.2.2.1 (by decide); omega) 900 (0, fo_mx 8 yz yn, 0, yg, 0) (Nat.zero_le _) (Nat.zero_le _) (by show (40 - 0) * 21 + (20 - 0) < 900; decide)
        exact fy_R47 hwf hb0 hy (fun hb q yn' => hp q yn' r0 900 hb h0) 900 0 (fo_mx 8 yz yn) 0 yg 0 (by omega) ⟨Nat.zero_le _, Nat.zero_le _⟩ h0
      · have v : vp_in (nI m) 8 := vp_in_nI (by omega) (by decide)
        exact br_f (nI_ge (b := 8) (by omega) (by omega)) ⟨v, v, nm_r (e' := fo_mx (m + 1) yz yn) (by rw [nI_clamp (by omega)]; exact fo_mx_s rfl) (nm_r (nI_1 m) (ih (m + 1) (by omega) (by omega)))⟩
  have q := L 9 0 (Nat.zero_le _) (by omega)
  rw [fo_mx_0] at q
  exact Exists.intro 9 q
end
end
section
/-! the relation; methods that add to the program -/
def fo_Rel (n : Nat) (fr fs : Int32) (op de le ri go be ro rd rl rr rg rb ou yo yf yc yt yz yg : Nat → Int32) : Prop :=
  fo_wf (fo_pr op de le ri go (fo_bk go)) n ∧ (∀ i, i < n → fo_yr ((fo_pr op de le ri go (fo_bk go)) i) (yo i) (yf i) (yc i) (yt i)) ∧ be = yz ∧ ou = yg ∧ (¬ fr = 0 → ∃ s, fs = nI s ∧ fo_gd (fo_pr op de le ri go (fo_bk go)) n (fo_pr ro rd rl rr rg rb) s)
/-- both hold the same program and start values; what is ready does the same as the program -/
def i_Rel (_ : Nat) (u : SX) (v : SY) : Prop := ∃ n : Nat, u.1 = nI n ∧ v.1 = nI n ∧ fo_Rel n u.2.1 u.2.2.2.2.1 u.2.2.2.2.2.2.2.2.2.1 u.2.2.2.2.2.2.2.2.2.2.1 u.2.2.2.2.2.2.2.2.2.2.2.1 u.2.2.2.2.2.2.2.2.2.2.2.2.1 u.2.2.2.2.2.2.2.2.2.2.2.2.2.1 u.2.2.2.2.2.2.2.2.2.2.2.2.2.2.1 u.2.2.2.2.2.2.2.2.2.2.2.2.2.2.2.2.2.2.2.2.2.2.2.2.2.2.2.2.2.2.1 u.2.2.2.2.2.2.2.2.2.2.2.2.2.2.2.2.2.2.2.2.2.2.2.2.2.2.2.2.2.2.2.1 u.2.2.2.2.2.2.2.2.2.2.2.2.2.2.2.2.2.2.2.2.2.2.2.2.2.2.2.2.2.2.2.2.1 u.2.2.2.2.2.2.2.2.2.2.2.2.2.2.2.2.2.2.2.2.2.2.2.2.2.2.2.2.2.2.2.2.2.1 u.2.2.2.2.2.2.2.2.2.2.2.2.2.2.2.2.2.2.2.2.2.2.2.2.2.2.2.2.2.2.2.2.2.2.1 u.2.2.2.2.2.2.2.2.2.2.2.2.2.2.2.2.2.2.2.2.2.2.2.2.2.2.2.2.2.2.2.2.2.2.2.1 u.2.2.2.2.2.2.2.2.2.2.2.2.2.2.2.2.2.2.2.2.2.2.2.2.2.2.2.2.2.2.2.2.2.2.2.2.2.2.1 v.2.2.2.2.2.1 v.2.2.2.2.2.2.1 v.2.2.2.2.2.2.2.1 v.2.2.2.2.2.2.2.2.1 v.2.2.2.2.2.2.2.2.2.1 v.2.2.2.2.2.2.2.2.2.2.2
theorem i_up {k : Nat} {u : SX} {v : SY} (h : i_Rel k u v) : i_Rel (k + 5) u v := h
section
variable {n : Nat} {fr fg fm fs fo fb fe fn : Int32} {op de le ri go be wo wd wl wr wg bk re kn va so ah us nk nv ns ro rd rl rr rg rb pl nu ou it : Nat → Int32} {ym yb yp ye : Int32} {yo yf yc yt yz yn yg : Nat → Int32}
theorem fz_mk {k : Nat} (R : fo_Rel n fr fs op de le ri go be ro rd rl rr rg rb ou yo yf yc yt yz yg) : i_Rel k ((nI n), fr, fg, fm, fs, fo, fb, fe, fn, op, de, le, ri, go, be, wo, wd, wl, wr, wg, bk, re, kn, va, so, ah, us, nk, nv, ns, ro, rd, rl, rr, rg, rb, pl, nu, ou, it) ((nI n), ym, yb, yp, ye, yo, yf, yc, yt, yz, yn, yg) := ⟨n, rfl, rfl, R⟩
theorem fo_bk_n {l : Int32} : fo_bk (upd go n l) n = if nI n < l then 0 else 1 := by
  unfold fo_bk; rw [pk_us]
theorem fo_bk_o {l : Int32} {j : Nat} (h : j ≠ n) : fo_bk (upd go n l) j = fo_bk go j := by
  unfold fo_bk; rw [pk_un h]
theorem fz_new {p0 d a b l q1 q2 q3 : Int32} (R : fo_Rel n fr fs op de le ri go be ro rd rl rr rg rb ou yo yf yc yt yz yg) (hn : n < 20) (h1 : vp_in p0 13) (h2 : vp_in d 8) (h3 : p0 ≠ 0 → vp_in a 8) (h4 : vp_in b 8) (h5 : vp_in l 21)
    (hy : ∀ z, fo_yr (p0, d, a, b, l, z) p0 q1 q2 q3) :
    fo_Rel (n + 1) 0 fs (upd op n p0) (upd de n d) (upd le n a) (upd ri n b) (upd go n l) be ro rd rl rr rg rb ou (upd yo n p0) (upd yf n q1) (upd yc n q2) (upd yt n q3) yz yg := by
  obtain ⟨r1, r2, r3, r4, _⟩ := R
  have eN : fo_pr (upd op n p0) (upd de n d) (upd le n a) (upd ri n b) (upd go n l) (fo_bk (upd go n l)) n = (p0, d, a, b, l, if nI n < l then 0 else 1) := by
    unfold fo_pr
    rw [pk_us, pk_us, pk_us, pk_us, pk_us, fo_bk_n]
  have eO : ∀ j, j ≠ n → fo_pr (upd op n p0) (upd de n d) (upd le n a) (upd ri n b) (upd go n l) (fo_bk (upd go n l)) j = (fo_pr op de le ri go (fo_bk go)) j := by
    intro j hj
    unfold fo_pr
    rw [pk_un hj, pk_un hj, pk_un hj, pk_un hj, pk_un hj, fo_bk_o hj]
  refine ⟨⟨by omega, fun i hi => ?_⟩, fun i hi => ?_, r3, r4, fun z => absurd rfl z⟩
  · by_cases e : i = n
    · rw [e, eN]
      refine ⟨h1, h2, h3, h4, h5, ?_, fun z => ?_⟩
      · show (if nI n < l then (0 : Int32) else 1) = 0 ∨ (if nI n < l then (0 : Int32) else 1) = 1
        split
        · exact Or.inl rfl
        · exact Or.inr rfl
      · have z' : (if nI n < l then (0 : Int32) else 1) = 0 := z
        by_cases w : nI n < l
        · show n < l.toNatClampNeg
          have g := fo_cl_lt h5 (by decide)
          rw [fo_vn h5 (by decide), nI_ltI (by omega) (by omega)] at w
          exact w
        · rw [if_neg w] at z'; exact absurd z' (by decide)
    · rw [eO i e]; exact r1.2 i (by omega)
  · by_cases e : i = n
    · rw [e, eN, pk_us, pk_us, pk_us, pk_us]; exact hy _
    · rw [eO i e, pk_un e, pk_un e, pk_un e, pk_un e]; exact r2 i (by omega)
theorem fx_app {post : Int32 → SX → Prop} {p0 p1 p2 p3 p4 : Int32} (hn : n ≤ 20) (h1 : n = 20 → post (-2) ((nI n), fr, fg, fm, fs, fo, fb, fe, fn, op, de, le, ri, go, be, wo, wd, wl, wr, wg, bk, re, kn, va, so, ah, us, nk, nv, ns, ro, rd, rl, rr, rg, rb, pl, nu, ou, it))
    (h2 : n < 20 → post (nI n) (nI (n + 1), 0, fg, fm, fs, fo, fb, fe, fn, upd op n p0, upd de n p1, upd le n p2, upd ri n p3, upd go n p4, be, wo, wd, wl, wr, wg, bk, re, kn, va, so, ah, us, nk, nv, ns, ro, rd, rl, rr, rg, rb, pl, nu, ou, it)) : wpX_append post ((nI n), fr, fg, fm, fs, fo, fb, fe, fn, op, de, le, ri, go, be, wo, wd, wl, wr, wg, bk, re, kn, va, so, ah, us, nk, nv, ns, ro, rd, rl, rr, rg, rb, pl, nu, ou, it) p0 p1 p2 p3 p4 := by
  have c : (nI n).toNatClampNeg = n := nI_clamp (by omega)
  refine pk_eq n 20 h1 (fun e => ?_)
  have v : vp_in (nI n) 20 := vp_in_nI (by omega) (by decide)
  have q := h2 (by omega)
  rw [c]
  refine ⟨v, nm_e ⟨v, nm_e ⟨v, nm_e ⟨v, nm_e ⟨v, nm_e (nm_r (nI_1 n) ?_)⟩⟩⟩⟩⟩
  rw [nI_pred]
  exact q
theorem fy_app {post : Int32 → SY → Prop} {p0 p1 p2 p3 : Int32} (hn : n ≤ 20) (h1 : n = 20 → post (-2) ((nI n), ym, yb, yp, ye, yo, yf, yc, yt, yz, yn, yg))
    (h2 : n < 20 → post (nI n) (nI (n + 1), ym, yb, yp, ye, upd yo n p0, upd yf n p1, upd yc n p2, upd yt n p3, yz, yn, yg)) : wpY_append post ((nI n), ym, yb, yp, ye, yo, yf, yc, yt, yz, yn, yg) p0 p1 p2 p3 := by
  have c : (nI n).toNatClampNeg = n := nI_clamp (by omega)
  refine pk_eq n 20 h1 (fun e => ?_)
  have v : vp_in (nI n) 20 := vp_in_nI (by omega) (by decide)
  have q := h2 (by omega)
  rw [c]
  refine ⟨v, nm_e ⟨v, nm_e ⟨v, nm_e ⟨v, nm_e (nm_r (nI_1 n) ?_)⟩⟩⟩⟩
  rw [nI_pred]
  exact q
/-- a method that adds an instruction -/
theorem fz_add {V : Prop} {WX : (Int32 → SX → Prop) → Prop} {WY : (Int32 → SY → Prop) → Prop} {p0 d a b l q1 q2 q3 : Int32} {k : Nat}
    (hX : ∀ post : Int32 → SX → Prop, (¬ V → post (-1) ((nI n), fr, fg, fm, fs, fo, fb, fe, fn, op, de, le, ri, go, be, wo, wd, wl, wr, wg, bk, re, kn, va, so, ah, us, nk, nv, ns, ro, rd, rl, rr, rg, rb, pl, nu, ou, it)) → (V → n = 20 → post (-2) ((nI n), fr, fg, fm, fs, fo, fb, fe, fn, op, de, le, ri, go, be, wo, wd, wl, wr, wg, bk, re, kn, va, so, ah, us, nk, nv, ns, ro, rd, rl, rr, rg, rb, pl, nu, ou, it)) → (V → n < 20 → post (nI n) (nI (n + 1), 0, fg, fm, fs, fo, fb, fe, fn, upd op n p0, upd de n d, upd le n a, upd ri n b, upd go n l, be, wo, wd, wl, wr, wg, bk, re, kn, va, so, ah, us, nk, nv, ns, ro, rd, rl, rr, rg, rb, pl, nu, ou, it)) → WX post)
    (hY : ∀ post : Int32 → SY → Prop, (¬ V → post (-1) ((nI n), ym, yb, yp, ye, yo, yf, yc, yt, yz, yn, yg)) → (V → n = 20 → post (-2) ((nI n), ym, yb, yp, ye, yo, yf, yc, yt, yz, yn, yg)) → (V → n < 20 → post (nI n) (nI (n + 1), ym, yb, yp, ye, upd yo n p0, upd yf n q1, upd yc n q2, upd yt n q3, yz, yn, yg)) → WY post)
    (R : fo_Rel n fr fs op de le ri go be ro rd rl rr rg rb ou yo yf yc yt yz yg) (hv : V → (vp_in p0 13 ∧ vp_in d 8 ∧ (p0 ≠ 0 → vp_in a 8) ∧ vp_in b 8 ∧ vp_in l 21) ∧ ∀ z, fo_yr (p0, d, a, b, l, z) p0 q1 q2 q3) :
    WX (fun r u' => WY (fun r' v' => r' = r ∧ i_Rel (k + 5) u' v')) := by
  refine hX _ (fun h => hY _ (fun _ => ⟨rfl, fz_mk R⟩) (fun h' => absurd h' h) (fun h' => absurd h' h)) (fun h e => hY _ (fun h' => absurd h h') (fun _ _ => ⟨rfl, fz_mk R⟩) (fun _ e' => by omega)) (fun h e => hY _ (fun h' => absurd h h') (fun _ e' => by omega) (fun _ _ => ⟨rfl, ?_⟩))
  obtain ⟨⟨h1, h2, h3, h4, h5⟩, hy⟩ := hv h
  exact ⟨n + 1, rfl, rfl, fz_new R e h1 h2 h3 h4 h5 hy⟩
end
end
section
/-! methods that add to the program, one by one -/
def fo_V1 (p0 p1 p2 : Int32) : Prop := vp_in p1 8 ∧ ((p0 = 0 ∧ ¬ p2 < -50 ∧ ¬ 50 < p2) ∨ (p0 = 1 ∧ vp_in p2 8))
def fo_V2 (p0 p1 p2 p3 : Int32) : Prop := fo_sm p0 ∧ vp_in p1 8 ∧ vp_in p2 8 ∧ vp_in p3 8
def fo_V3 (l : Int32) : Prop := ¬ l < 0 ∧ l ≤ 20
theorem fo_V1_01 {p0 p1 p2 : Int32} (h : fo_V1 p0 p1 p2) : ¬ p0 < 0 ∧ ¬ 1 < p0 := by
  rcases h.2 with ⟨e, _⟩ | ⟨e, _⟩ <;> (rw [e]; decide)
theorem fo_is1 {p : Int32} (h1 : ¬ p < 0) (h2 : ¬ 1 < p) (h3 : ¬ p = 0) : p = 1 := by
  rw [Int32.lt_iff_toInt_lt] at h1 h2
  have e0 : (0 : Int32).toInt = 0 := by decide
  have e1 : (1 : Int32).toInt = 1 := by decide
  have : p.toInt ≠ 0 := fun z => h3 (Int32.toInt_inj.mp (z.trans e0.symm))
  apply Int32.toInt_inj.mp
  omega
theorem fo_V3_in {l : Int32} (h : fo_V3 l) : vp_in l 21 := by
  obtain ⟨j, hj, e⟩ := nI_of2 (n := 20) (by decide) h.1 h.2
  rw [e]; exact vp_in_nI (by omega) (by decide)
theorem fo_sm13 {o : Int32} (h : fo_sm o) : vp_in o 13 := by
  obtain ⟨h1, h2⟩ := h
  rw [Int32.lt_iff_toInt_lt] at h1 h2
  have e2 : (2 : Int32).toInt = 2 := by decide
  have e7 : (7 : Int32).toInt = 7 := by decide
  rw [vp_in_iff]
  omega
section
variable {n : Nat} {fr fg fm fs fo fb fe fn : Int32} {op de le ri go be wo wd wl wr wg bk re kn va so ah us nk nv ns ro rd rl rr rg rb pl nu ou it : Nat → Int32} {ym yb yp ye : Int32} {yo yf yc yt yz yn yg : Nat → Int32} {k : Nat}
section
variable {post : Int32 → SX → Prop} {p0 p1 p2 p3 : Int32}
theorem fx_simple (hn : n ≤ 20) (hb : ¬ fo_V1 p0 p1 p2 → post (-1) ((nI n), fr, fg, fm, fs, fo, fb, fe, fn, op, de, le, ri, go, be, wo, wd, wl, wr, wg, bk, re, kn, va, so, ah, us, nk, nv, ns, ro, rd, rl, rr, rg, rb, pl, nu, ou, it)) (hf : fo_V1 p0 p1 p2 → n = 20 → post (-2) ((nI n), fr, fg, fm, fs, fo, fb, fe, fn, op, de, le, ri, go, be, wo, wd, wl, wr, wg, bk, re, kn, va, so, ah, us, nk, nv, ns, ro, rd, rl, rr, rg, rb, pl, nu, ou, it))
    (hr : fo_V1 p0 p1 p2 → n < 20 → post (nI n) (nI (n + 1), 0, fg, fm, fs, fo, fb, fe, fn, upd op n p0, upd de n p1, upd le n p2, upd ri n 0, upd go n 0, be, wo, wd, wl, wr, wg, bk, re, kn, va, so, ah, us, nk, nv, ns, ro, rd, rl, rr, rg, rb, pl, nu, ou, it)) : wpX_simple post ((nI n), fr, fg, fm, fs, fo, fb, fe, fn, op, de, le, ri, go, be, wo, wd, wl, wr, wg, bk, re, kn, va, so, ah, us, nk, nv, ns, ro, rd, rl, rr, rg, rb, pl, nu, ou, it) p0 p1 p2 := by
  have J50 : fo_V1 p0 p1 p2 → wX_simple_50 post p0 p1 p2 (nI n) fr fg fm fs fo fb fe fn op de le ri go be wo wd wl wr wg bk re kn va so ah us nk nv ns ro rd rl rr rg rb pl nu ou it := fun h => fx_app hn (hf h) (hr h)
  refine br_c (fun h => hb (fun z => (fo_V1_01 z).1 h)) (fun h => br_c (fun h1 => hb (fun z => (fo_V1_01 z).2 h1)) (fun h1 => fx_bad (fun vd => br_c (fun e0 => ?_) (fun e0 => ?_)) (fun nvd => hb (fun z => nvd z.1))))
  · have n1 : ¬ p0 = 1 := by rw [e0]; decide
    refine br_c (fun l => hb (fun z => ?_)) (fun l => br_c (fun g => hb (fun z => ?_)) (fun g => br_f n1 (J50 ⟨vd, Or.inl ⟨e0, l, g⟩⟩)))
    · rcases z.2 with ⟨_, w, _⟩ | ⟨w, _⟩
      · exact w l
      · exact n1 w
    · rcases z.2 with ⟨_, _, w⟩ | ⟨w, _⟩
      · exact w g
      · exact n1 w
  · have e1 := fo_is1 h h1 e0
    refine br_t e1 (fx_bad (fun va => J50 ⟨vd, Or.inr ⟨e1, va⟩⟩) (fun nva => hb (fun z => ?_)))
    rcases z.2 with ⟨w, _⟩ | ⟨_, w⟩
    · exact e0 w
    · exact nva w
theorem fx_apply (hn : n ≤ 20) (hb : ¬ fo_V2 p0 p1 p2 p3 → post (-1) ((nI n), fr, fg, fm, fs, fo, fb, fe, fn, op, de, le, ri, go, be, wo, wd, wl, wr, wg, bk, re, kn, va, so, ah, us, nk, nv, ns, ro, rd, rl, rr, rg, rb, pl, nu, ou, it)) (hf : fo_V2 p0 p1 p2 p3 → n = 20 → post (-2) ((nI n), fr, fg, fm, fs, fo, fb, fe, fn, op, de, le, ri, go, be, wo, wd, wl, wr, wg, bk, re, kn, va, so, ah, us, nk, nv, ns, ro, rd, rl, rr, rg, rb, pl, nu, ou, it))
    (hr : fo_V2 p0 p1 p2 p3 → n < 20 → post (nI n) (nI (n + 1), 0, fg, fm, fs, fo, fb, fe, fn, upd op n p0, upd de n p1, upd le n p2, upd ri n p3, upd go n 0, be, wo, wd, wl, wr, wg, bk, re, kn, va, so, ah, us, nk, nv, ns, ro, rd, rl, rr, rg, rb, pl, nu, ou, it)) : wpX_apply post ((nI n), fr, fg, fm, fs, fo, fb, fe, fn, op, de, le, ri, go, be, wo, wd, wl, wr, wg, bk, re, kn, va, so, ah, us, nk, nv, ns, ro, rd, rl, rr, rg, rb, pl, nu, ou, it) p0 p1 p2 p3 :=
  br_c (fun h => hb (fun z => z.1.1 h)) (fun h => br_c (fun h1 => hb (fun z => z.1.2 h1)) (fun h1 => fx_bad (fun v1 => fx_bad (fun v2 => fx_bad (fun v3 => fx_app hn (hf ⟨⟨h, h1⟩, v1, v2, v3⟩) (hr ⟨⟨h, h1⟩, v1, v2, v3⟩)) (fun w => hb (fun z => w z.2.2.2))) (fun w => hb (fun z => w z.2.2.1))) (fun w => hb (fun z => w z.2.1))))
theorem fx_jump (hn : n ≤ 20) (hb : ¬ fo_V3 p0 → post (-1) ((nI n), fr, fg, fm, fs, fo, fb, fe, fn, op, de, le, ri, go, be, wo, wd, wl, wr, wg, bk, re, kn, va, so, ah, us, nk, nv, ns, ro, rd, rl, rr, rg, rb, pl, nu, ou, it)) (hf : fo_V3 p0 → n = 20 → post (-2) ((nI n), fr, fg, fm, fs, fo, fb, fe, fn, op, de, le, ri, go, be, wo, wd, wl, wr, wg, bk, re, kn, va, so, ah, us, nk, nv, ns, ro, rd, rl, rr, rg, rb, pl, nu, ou, it))
    (hr : fo_V3 p0 → n < 20 → post (nI n) (nI (n + 1), 0, fg, fm, fs, fo, fb, fe, fn, upd op n 8, upd de n 0, upd le n 0, upd ri n 0, upd go n p0, be, wo, wd, wl, wr, wg, bk, re, kn, va, so, ah, us, nk, nv, ns, ro, rd, rl, rr, rg, rb, pl, nu, ou, it)) : wpX_jump post ((nI n), fr, fg, fm, fs, fo, fb, fe, fn, op, de, le, ri, go, be, wo, wd, wl, wr, wg, bk, re, kn, va, so, ah, us, nk, nv, ns, ro, rd, rl, rr, rg, rb, pl, nu, ou, it) p0 :=
  br_c (fun h => hb (fun z => z.1 h)) (fun h => br_c (fun h1 => fx_app hn (hf ⟨h, h1⟩) (hr ⟨h, h1⟩)) (fun h1 => hb (fun z => h1 z.2)))
theorem fx_branch (hn : n ≤ 20) (hb : ¬ (vp_in p0 8 ∧ fo_V3 p1) → post (-1) ((nI n), fr, fg, fm, fs, fo, fb, fe, fn, op, de, le, ri, go, be, wo, wd, wl, wr, wg, bk, re, kn, va, so, ah, us, nk, nv, ns, ro, rd, rl, rr, rg, rb, pl, nu, ou, it)) (hf : (vp_in p0 8 ∧ fo_V3 p1) → n = 20 → post (-2) ((nI n), fr, fg, fm, fs, fo, fb, fe, fn, op, de, le, ri, go, be, wo, wd, wl, wr, wg, bk, re, kn, va, so, ah, us, nk, nv, ns, ro, rd, rl, rr, rg, rb, pl, nu, ou, it))
    (hr : (vp_in p0 8 ∧ fo_V3 p1) → n < 20 → post (nI n) (nI (n + 1), 0, fg, fm, fs, fo, fb, fe, fn, upd op n 9, upd de n 0, upd le n p0, upd ri n 0, upd go n p1, be, wo, wd, wl, wr, wg, bk, re, kn, va, so, ah, us, nk, nv, ns, ro, rd, rl, rr, rg, rb, pl, nu, ou, it)) : wpX_branch post ((nI n), fr, fg, fm, fs, fo, fb, fe, fn, op, de, le, ri, go, be, wo, wd, wl, wr, wg, bk, re, kn, va, so, ah, us, nk, nv, ns, ro, rd, rl, rr, rg, rb, pl, nu, ou, it) p0 p1 := by
  unfold wpX_branch
  exact fx_bad (fun v => br_c (fun h => hb (fun z => z.2.1 h)) (fun h => br_c (fun h1 => fx_app hn (hf ⟨v, h, h1⟩) (hr ⟨v, h, h1⟩)) (fun h1 => hb (fun z => h1 z.2.2)))) (fun w => hb (fun z => w z.1))
theorem fx_out (hn : n ≤ 20) (hb : ¬ vp_in p0 8 → post (-1) ((nI n), fr, fg, fm, fs, fo, fb, fe, fn, op, de, le, ri, go, be, wo, wd, wl, wr, wg, bk, re, kn, va, so, ah, us, nk, nv, ns, ro, rd, rl, rr, rg, rb, pl, nu, ou, it)) (hf : vp_in p0 8 → n = 20 → post (-2) ((nI n), fr, fg, fm, fs, fo, fb, fe, fn, op, de, le, ri, go, be, wo, wd, wl, wr, wg, bk, re, kn, va, so, ah, us, nk, nv, ns, ro, rd, rl, rr, rg, rb, pl, nu, ou, it))
    (hr : vp_in p0 8 → n < 20 → post (nI n) (nI (n + 1), 0, fg, fm, fs, fo, fb, fe, fn, upd op n 10, upd de n 0, upd le n p0, upd ri n 0, upd go n 0, be, wo, wd, wl, wr, wg, bk, re, kn, va, so, ah, us, nk, nv, ns, ro, rd, rl, rr, rg, rb, pl, nu, ou, it)) : wpX_out post ((nI n), fr, fg, fm, fs, fo, fb, fe, fn, op, de, le, ri, go, be, wo, wd, wl, wr, wg, bk, re, kn, va, so, ah, us, nk, nv, ns, ro, rd, rl, rr, rg, rb, pl, nu, ou, it) p0 := by
  unfold wpX_out
  exact fx_bad (fun v => fx_app hn (hf v) (hr v)) (fun w => hb w)
theorem fx_halt (hn : n ≤ 20) (hf : True → n = 20 → post (-2) ((nI n), fr, fg, fm, fs, fo, fb, fe, fn, op, de, le, ri, go, be, wo, wd, wl, wr, wg, bk, re, kn, va, so, ah, us, nk, nv, ns, ro, rd, rl, rr, rg, rb, pl, nu, ou, it))
    (hr : True → n < 20 → post (nI n) (nI (n + 1), 0, fg, fm, fs, fo, fb, fe, fn, upd op n 11, upd de n 0, upd le n 0, upd ri n 0, upd go n 0, be, wo, wd, wl, wr, wg, bk, re, kn, va, so, ah, us, nk, nv, ns, ro, rd, rl, rr, rg, rb, pl, nu, ou, it)) : wpX_halt post ((nI n), fr, fg, fm, fs, fo, fb, fe, fn, op, de, le, ri, go, be, wo, wd, wl, wr, wg, bk, re, kn, va, so, ah, us, nk, nv, ns, ro, rd, rl, rr, rg, rb, pl, nu, ou, it) := by
  unfold wpX_halt
  exact fx_app hn (hf trivial) (hr trivial)
end
section
variable {post : Int32 → SY → Prop} {p0 p1 p2 p3 : Int32}
theorem fo_20 {l : Int32} : ¬ 20 < l ↔ l ≤ 20 := Int32.not_lt
theorem fy_simple (hn : n ≤ 20) (hb : ¬ fo_V1 p0 p1 p2 → post (-1) ((nI n), ym, yb, yp, ye, yo, yf, yc, yt, yz, yn, yg)) (hf : fo_V1 p0 p1 p2 → n = 20 → post (-2) ((nI n), ym, yb, yp, ye, yo, yf, yc, yt, yz, yn, yg))
    (hr : fo_V1 p0 p1 p2 → n < 20 → post (nI n) (nI (n + 1), ym, yb, yp, ye, upd yo n p0, upd yf n p1, upd yc n p2, upd yt n 0, yz, yn, yg)) : wpY_simple post ((nI n), ym, yb, yp, ye, yo, yf, yc, yt, yz, yn, yg) p0 p1 p2 := by
  have J0 : ¬ fo_V1 p0 p1 p2 → wY_simple_42 post p0 p1 p2 0 (nI n) ym yb yp ye yo yf yc yt yz yn yg := fun h => br_t rfl (hb h)
  have J1 : ((p0 = 0 ∧ ¬ p2 < -50 ∧ ¬ 50 < p2) ∨ (p0 = 1 ∧ vp_in p2 8)) → wY_simple_42 post p0 p1 p2 1 (nI n) ym yb yp ye yo yf yc yt yz yn yg := fun h => br_f (by decide) (fy_num (fun vd => fy_app hn (hf ⟨vd, h⟩) (hr ⟨vd, h⟩)) (fun nvd => hb (fun z => nvd z.1)))
  refine br_c (fun e0 => ?_) (fun e0 => br_c (fun e1 => fy_num (fun va => J1 (Or.inr ⟨e1, va⟩)) (fun nva => J0 (fun z => ?_))) (fun e1 => J0 (fun z => ?_)))
  · have n1 : ¬ p0 = 1 := by rw [e0]; decide
    refine br_c (fun l => J0 (fun z => ?_)) (fun l => br_c (fun g => J0 (fun z => ?_)) (fun g => J1 (Or.inl ⟨e0, l, g⟩)))
    · rcases z.2 with ⟨_, w, _⟩ | ⟨w, _⟩
      · exact w l
      · exact n1 w
    · rcases z.2 with ⟨_, _, w⟩ | ⟨w, _⟩
      · exact w g
      · exact n1 w
  · rcases z.2 with ⟨w, _⟩ | ⟨_, w⟩
    · exact e0 w
    · exact nva w
  · rcases z.2 with ⟨w, _⟩ | ⟨w, _⟩
    · exact e0 w
    · exact e1 w
theorem fy_apply (hn : n ≤ 20) (hb : ¬ fo_V2 p0 p1 p2 p3 → post (-1) ((nI n), ym, yb, yp, ye, yo, yf, yc, yt, yz, yn, yg)) (hf : fo_V2 p0 p1 p2 p3 → n = 20 → post (-2) ((nI n), ym, yb, yp, ye, yo, yf, yc, yt, yz, yn, yg))
    (hr : fo_V2 p0 p1 p2 p3 → n < 20 → post (nI n) (nI (n + 1), ym, yb, yp, ye, upd yo n p0, upd yf n p1, upd yc n p2, upd yt n p3, yz, yn, yg)) : wpY_apply post ((nI n), ym, yb, yp, ye, yo, yf, yc, yt, yz, yn, yg) p0 p1 p2 p3 := by
  have J0 : ¬ fo_V2 p0 p1 p2 p3 → wY_apply_41 post p0 p1 p2 p3 0 (nI n) ym yb yp ye yo yf yc yt yz yn yg := fun h => br_t rfl (hb h)
  exact br_c (fun h => J0 (fun z => z.1.1 h)) (fun h => br_c (fun h1 => J0 (fun z => z.1.2 h1)) (fun h1 => fy_num (fun v1 => fy_num (fun v2 => fy_num (fun v3 => br_f (by decide) (fy_app hn (hf ⟨⟨h, h1⟩, v1, v2, v3⟩) (hr ⟨⟨h, h1⟩, v1, v2, v3⟩))) (fun w => J0 (fun z => w z.2.2.2))) (fun w => J0 (fun z => w z.2.2.1))) (fun w => J0 (fun z => w z.2.1))))
theorem fy_jump (hn : n ≤ 20) (hb : ¬ fo_V3 p0 → post (-1) ((nI n), ym, yb, yp, ye, yo, yf, yc, yt, yz, yn, yg)) (hf : fo_V3 p0 → n = 20 → post (-2) ((nI n), ym, yb, yp, ye, yo, yf, yc, yt, yz, yn, yg))
    (hr : fo_V3 p0 → n < 20 → post (nI n) (nI (n + 1), ym, yb, yp, ye, upd yo n 8, upd yf n 0, upd yc n p0, upd yt n 0, yz, yn, yg)) : wpY_jump post ((nI n), ym, yb, yp, ye, yo, yf, yc, yt, yz, yn, yg) p0 :=
  br_c (fun h => hb (fun z => z.1 h)) (fun h => br_c (fun h1 => hb (fun z => fo_20.mpr z.2 h1)) (fun h1 => fy_app hn (hf ⟨h, fo_20.mp h1⟩) (hr ⟨h, fo_20.mp h1⟩)))
theorem fy_branch (hn : n ≤ 20) (hb : ¬ (vp_in p0 8 ∧ fo_V3 p1) → post (-1) ((nI n), ym, yb, yp, ye, yo, yf, yc, yt, yz, yn, yg)) (hf : (vp_in p0 8 ∧ fo_V3 p1) → n = 20 → post (-2) ((nI n), ym, yb, yp, ye, yo, yf, yc, yt, yz, yn, yg))
    (hr : (vp_in p0 8 ∧ fo_V3 p1) → n < 20 → post (nI n) (nI (n + 1), ym, yb, yp, ye, upd yo n 9, upd yf n p0, upd yc n p1, upd yt n 0, yz, yn, yg)) : wpY_branch post ((nI n), ym, yb, yp, ye, yo, yf, yc, yt, yz, yn, yg) p0 p1 := by
  unfold wpY_branch
  exact fy_num (fun v => br_c (fun h => hb (fun z => z.2.1 h)) (fun h => br_c (fun h1 => hb (fun z => fo_20.mpr z.2.2 h1)) (fun h1 => fy_app hn (hf ⟨v, h, fo_20.mp h1⟩) (hr ⟨v, h, fo_20.mp h1⟩)))) (fun w => hb (fun z => w z.1))
theorem fy_out (hn : n ≤ 20) (hb : ¬ vp_in p0 8 → post (-1) ((nI n), ym, yb, yp, ye, yo, yf, yc, yt, yz, yn, yg)) (hf : vp_in p0 8 → n = 20 → post (-2) ((nI n), ym, yb, yp, ye, yo, yf, yc, yt, yz, yn, yg))
    (hr : vp_in p0 8 → n < 20 → post (nI n) (nI (n + 1), ym, yb, yp, ye, upd yo n 10, upd yf n p0, upd yc n 0, upd yt n 0, yz, yn, yg)) : wpY_out post ((nI n), ym, yb, yp, ye, yo, yf, yc, yt, yz, yn, yg) p0 := by
  unfold wpY_out
  exact fy_num (fun v => fy_app hn (hf v) (hr v)) (fun w => hb w)
theorem fy_halt (hn : n ≤ 20) (hf : True → n = 20 → post (-2) ((nI n), ym, yb, yp, ye, yo, yf, yc, yt, yz, yn, yg))
    (hr : True → n < 20 → post (nI n) (nI (n + 1), ym, yb, yp, ye, upd yo n 11, upd yf n 0, upd yc n 0, upd yt n 0, yz, yn, yg)) : wpY_halt post ((nI n), ym, yb, yp, ye, yo, yf, yc, yt, yz, yn, yg) := by
  unfold wpY_halt
  exact fy_app hn (hf trivial) (hr trivial)
end
theorem fo_sm_not {o : Int32} (h : o < 2 ∨ 7 < o) : ¬ fo_sm o := fun z => h.elim z.1 z.2
theorem fz_simple (R : fo_Rel n fr fs op de le ri go be ro rd rl rr rg rb ou yo yf yc yt yz yg) (v1 v2 v3 : Int32) : wpX_simple (fun r u' => wpY_simple (fun r' v' => r' = r ∧ i_Rel (k + 5) u' v') ((nI n), ym, yb, yp, ye, yo, yf, yc, yt, yz, yn, yg) v1 v2 v3) ((nI n), fr, fg, fm, fs, fo, fb, fe, fn, op, de, le, ri, go, be, wo, wd, wl, wr, wg, bk, re, kn, va, so, ah, us, nk, nv, ns, ro, rd, rl, rr, rg, rb, pl, nu, ou, it) v1 v2 v3 := by
  refine fz_add (V := fo_V1 v1 v2 v3) (WX := fun p => wpX_simple p ((nI n), fr, fg, fm, fs, fo, fb, fe, fn, op, de, le, ri, go, be, wo, wd, wl, wr, wg, bk, re, kn, va, so, ah, us, nk, nv, ns, ro, rd, rl, rr, rg, rb, pl, nu, ou, it) v1 v2 v3) (WY := fun p => wpY_simple p ((nI n), ym, yb, yp, ye, yo, yf, yc, yt, yz, yn, yg) v1 v2 v3) (fun _ => fx_simple R.1.1) (fun _ => fy_simple R.1.1) R (fun h => ⟨⟨?_, h.1, fun e => ?_, fo_in0 (by decide), fo_in0 (by decide)⟩, fun z => ?_⟩)
  · rcases h.2 with ⟨e, _⟩ | ⟨e, _⟩ <;> (rw [e]; exact vp_in_iff.mpr (by decide))
  · rcases h.2 with ⟨w, _⟩ | ⟨_, w⟩
    · exact absurd w e
    · exact w
  · have e01 : v1 = 0 ∨ v1 = 1 := h.2.elim (fun w => Or.inl w.1) (fun w => Or.inr w.1)
    refine ⟨rfl, ?_, fun _ => ⟨rfl, rfl⟩, fun _ => ⟨rfl, rfl⟩, fun w => ?_, fun w => ?_, fun w => ?_, fun w => ?_⟩
    · show v1 ≠ 12
      rcases e01 with e | e <;> (rw [e]; decide)
    · have w' : fo_sm v1 := w
      rcases e01 with e | e <;> (rw [e] at w'; exact absurd w' (fo_sm_not (by decide)))
    · have w' : v1 = 8 := w
      rcases e01 with e | e <;> (rw [e] at w'; exact absurd w' (by decide))
    · have w' : v1 = 9 := w
      rcases e01 with e | e <;> (rw [e] at w'; exact absurd w' (by decide))
    · have w' : v1 = 10 := w
      rcases e01 with e | e <;> (rw [e] at w'; exact absurd w' (by decide))
theorem fz_apply (R : fo_Rel n fr fs op de le ri go be ro rd rl rr rg rb ou yo yf yc yt yz yg) (v1 v2 v3 v4 : Int32) : wpX_apply (fun r u' => wpY_apply (fun r' v' => r' = r ∧ i_Rel (k + 5) u' v') ((nI n), ym, yb, yp, ye, yo, yf, yc, yt, yz, yn, yg) v1 v2 v3 v4) ((nI n), fr, fg, fm, fs, fo, fb, fe, fn, op, de, le, ri, go, be, wo, wd, wl, wr, wg, bk, re, kn, va, so, ah, us, nk, nv, ns, ro, rd, rl, rr, rg, rb, pl, nu, ou, it) v1 v2 v3 v4 := by
  refine fz_add (V := fo_V2 v1 v2 v3 v4) (WX := fun p => wpX_apply p ((nI n), fr, fg, fm, fs, fo, fb, fe, fn, op, de, le, ri, go, be, wo, wd, wl, wr, wg, bk, re, kn, va, so, ah, us, nk, nv, ns, ro, rd, rl, rr, rg, rb, pl, nu, ou, it) v1 v2 v3 v4) (WY := fun p => wpY_apply p ((nI n), ym, yb, yp, ye, yo, yf, yc, yt, yz, yn, yg) v1 v2 v3 v4) (fun _ => fx_apply R.1.1) (fun _ => fy_apply R.1.1) R (fun h => ⟨⟨fo_sm13 h.1, h.2.1, fun e => h.2.2.1, h.2.2.2, fo_in0 (by decide)⟩, fun z => ?_⟩)
  have ne := fo_sm_ne h.1
  exact ⟨rfl, ne.2.2.2.2.2.2, fun w => absurd w ne.1, fun w => absurd w ne.2.1, fun _ => ⟨rfl, rfl, rfl⟩, fun w => absurd w ne.2.2.1, fun w => absurd w ne.2.2.2.1, fun w => absurd w ne.2.2.2.2.1⟩
theorem fz_jump (R : fo_Rel n fr fs op de le ri go be ro rd rl rr rg rb ou yo yf yc yt yz yg) (v1 : Int32) : wpX_jump (fun r u' => wpY_jump (fun r' v' => r' = r ∧ i_Rel (k + 5) u' v') ((nI n), ym, yb, yp, ye, yo, yf, yc, yt, yz, yn, yg) v1) ((nI n), fr, fg, fm, fs, fo, fb, fe, fn, op, de, le, ri, go, be, wo, wd, wl, wr, wg, bk, re, kn, va, so, ah, us, nk, nv, ns, ro, rd, rl, rr, rg, rb, pl, nu, ou, it) v1 := by
  refine fz_add (V := fo_V3 v1) (WX := fun p => wpX_jump p ((nI n), fr, fg, fm, fs, fo, fb, fe, fn, op, de, le, ri, go, be, wo, wd, wl, wr, wg, bk, re, kn, va, so, ah, us, nk, nv, ns, ro, rd, rl, rr, rg, rb, pl, nu, ou, it) v1) (WY := fun p => wpY_jump p ((nI n), ym, yb, yp, ye, yo, yf, yc, yt, yz, yn, yg) v1) (fun _ => fx_jump R.1.1) (fun _ => fy_jump R.1.1) R (fun h => ⟨⟨vp_in_iff.mpr (by decide), fo_in0 (by decide), fun e => fo_in0 (by decide), fo_in0 (by decide), fo_V3_in h⟩, fun z => ?_⟩)
  exact ⟨rfl, (show (8 : Int32) ≠ 12 by decide), fun w => absurd (show (8 : Int32) = 0 from w) (by decide), fun w => absurd (show (8 : Int32) = 1 from w) (by decide), fun w => absurd (show fo_sm 8 from w) (fo_sm_not (by decide)), fun _ => rfl, fun w => absurd (show (8 : Int32) = 9 from w) (by decide), fun w => absurd (show (8 : Int32) = 10 from w) (by decide)⟩
theorem fz_branch (R : fo_Rel n fr fs op de le ri go be ro rd rl rr rg rb ou yo yf yc yt yz yg) (v1 v2 : Int32) : wpX_branch (fun r u' => wpY_branch (fun r' v' => r' = r ∧ i_Rel (k + 5) u' v') ((nI n), ym, yb, yp, ye, yo, yf, yc, yt, yz, yn, yg) v1 v2) ((nI n), fr, fg, fm, fs, fo, fb, fe, fn, op, de, le, ri, go, be, wo, wd, wl, wr, wg, bk, re, kn, va, so, ah, us, nk, nv, ns, ro, rd, rl, rr, rg, rb, pl, nu, ou, it) v1 v2 := by
  refine fz_add (V := vp_in v1 8 ∧ fo_V3 v2) (WX := fun p => wpX_branch p ((nI n), fr, fg, fm, fs, fo, fb, fe, fn, op, de, le, ri, go, be, wo, wd, wl, wr, wg, bk, re, kn, va, so, ah, us, nk, nv, ns, ro, rd, rl, rr, rg, rb, pl, nu, ou, it) v1 v2) (WY := fun p => wpY_branch p ((nI n), ym, yb, yp, ye, yo, yf, yc, yt, yz, yn, yg) v1 v2) (fun _ => fx_branch R.1.1) (fun _ => fy_branch R.1.1) R (fun h => ⟨⟨vp_in_iff.mpr (by decide), fo_in0 (by decide), fun e => h.1, fo_in0 (by decide), fo_V3_in h.2⟩, fun z => ?_⟩)
  exact ⟨rfl, (show (9 : Int32) ≠ 12 by decide), fun w => absurd (show (9 : Int32) = 0 from w) (by decide), fun w => absurd (show (9 : Int32) = 1 from w) (by decide), fun w => absurd (show fo_sm 9 from w) (fo_sm_not (by decide)), fun w => absurd (show (9 : Int32) = 8 from w) (by decide), fun _ => ⟨rfl, rfl⟩, fun w => absurd (show (9 : Int32) = 10 from w) (by decide)⟩
theorem fz_out (R : fo_Rel n fr fs op de le ri go be ro rd rl rr rg rb ou yo yf yc yt yz yg) (v1 : Int32) : wpX_out (fun r u' => wpY_out (fun r' v' => r' = r ∧ i_Rel (k + 5) u' v') ((nI n), ym, yb, yp, ye, yo, yf, yc, yt, yz, yn, yg) v1) ((nI n), fr, fg, fm, fs, fo, fb, fe, fn, op, de, le, ri, go, be, wo, wd, wl, wr, wg, bk, re, kn, va, so, ah, us, nk, nv, ns, ro, rd, rl, rr, rg, rb, pl, nu, ou, it) v1 := by
  refine fz_add (V := vp_in v1 8) (WX := fun p => wpX_out p ((nI n), fr, fg, fm, fs, fo, fb, fe, fn, op, de, le, ri, go, be, wo, wd, wl, wr, wg, bk, re, kn, va, so, ah, us, nk, nv, ns, ro, rd, rl, rr, rg, rb, pl, nu, ou, it) v1) (WY := fun p => wpY_out p ((nI n), ym, yb, yp, ye, yo, yf, yc, yt, yz, yn, yg) v1) (fun _ => fx_out R.1.1) (fun _ => fy_out R.1.1) R (fun h => ⟨⟨vp_in_iff.mpr (by decide), fo_in0 (by decide), fun e => h, fo_in0 (by decide), fo_in0 (by decide)⟩, fun z => ?_⟩)
  exact ⟨rfl, (show (10 : Int32) ≠ 12 by decide), fun w => absurd (show (10 : Int32) = 0 from w) (by decide), fun w => absurd (show (10 : Int32) = 1 from w) (by decide), fun w => absurd (show fo_sm 10 from w) (fo_sm_not (by decide)), fun w => absurd (show (10 : Int32) = 8 from w) (by decide), fun w => absurd (show (10 : Int32) = 9 from w) (by decide), fun _ => rfl⟩
theorem fz_halt (R : fo_Rel n fr fs op de le ri go be ro rd rl rr rg rb ou yo yf yc yt yz yg) : wpX_halt (fun r u' => wpY_halt (fun r' v' => r' = r ∧ i_Rel (k + 5) u' v') ((nI n), ym, yb, yp, ye, yo, yf, yc, yt, yz, yn, yg)) ((nI n), fr, fg, fm, fs, fo, fb, fe, fn, op, de, le, ri, go, be, wo, wd, wl, wr, wg, bk, re, kn, va, so, ah, us, nk, nv, ns, ro, rd, rl, rr, rg, rb, pl, nu, ou, it) := by
  refine fz_add (V := True) (WX := fun p => wpX_halt p ((nI n), fr, fg, fm, fs, fo, fb, fe, fn, op, de, le, ri, go, be, wo, wd, wl, wr, wg, bk, re, kn, va, so, ah, us, nk, nv, ns, ro, rd, rl, rr, rg, rb, pl, nu, ou, it)) (WY := fun p => wpY_halt p ((nI n), ym, yb, yp, ye, yo, yf, yc, yt, yz, yn, yg)) (fun _ _ => fx_halt R.1.1) (fun _ _ => fy_halt R.1.1) R (fun h => ⟨⟨vp_in_iff.mpr (by decide), fo_in0 (by decide), fun e => fo_in0 (by decide), fo_in0 (by decide), fo_in0 (by decide)⟩, fun z => ?_⟩)
  exact ⟨rfl, (show (11 : Int32) ≠ 12 by decide), fun w => absurd (show (11 : Int32) = 0 from w) (by decide), fun w => absurd (show (11 : Int32) = 1 from w) (by decide), fun w => absurd (show fo_sm 11 from w) (fo_sm_not (by decide)), fun w => absurd (show (11 : Int32) = 8 from w) (by decide), fun w => absurd (show (11 : Int32) = 9 from w) (by decide), fun w => absurd (show (11 : Int32) = 10 from w) (by decide)⟩
theorem fz_drop (R : fo_Rel n fr fs op de le ri go be ro rd rl rr rg rb ou yo yf yc yt yz yg) : wpX_drop (fun r u' => wpY_drop (fun r' v' => r' = r ∧ i_Rel (k + 5) u' v') ((nI n), ym, yb, yp, ye, yo, yf, yc, yt, yz, yn, yg)) ((nI n), fr, fg, fm, fs, fo, fb, fe, fn, op, de, le, ri, go, be, wo, wd, wl, wr, wg, bk, re, kn, va, so, ah, us, nk, nv, ns, ro, rd, rl, rr, rg, rb, pl, nu, ou, it) := by
  have hn := R.1.1
  by_cases e : n = 0
  · subst e
    exact br_t rfl (br_t rfl ⟨rfl, fz_mk R⟩)
  · obtain ⟨m, rfl⟩ : ∃ m, n = m + 1 := ⟨n - 1, by omega⟩
    have h0 : ¬ nI (m + 1) = 0 := nI_ne0 (by omega) (by omega)
    have v : vp_in (nI m) 20 := vp_in_nI (by omega) (by decide)
    have c : (nI m).toNatClampNeg = m := nI_clamp (by omega)
    refine br_f h0 (nm_r (nI_pred m) ⟨v, br_f h0 (nm_r (nI_pred m) ⟨v, ?_⟩)⟩)
    rw [c]
    obtain ⟨r1, r2, r3, r4, _⟩ := R
    exact ⟨(r2 m (by omega)).1, m, rfl, rfl, ⟨by omega, fun i hi => r1.2 i (by omega)⟩, fun i hi => r2 i (by omega), r3, r4, fun z => absurd rfl z⟩
theorem fz_clear (R : fo_Rel n fr fs op de le ri go be ro rd rl rr rg rb ou yo yf yc yt yz yg) : wpX_clear (fun u' => wpY_clear (fun v' => i_Rel (k + 5) u' v') ((nI n), ym, yb, yp, ye, yo, yf, yc, yt, yz, yn, yg)) ((nI n), fr, fg, fm, fs, fo, fb, fe, fn, op, de, le, ri, go, be, wo, wd, wl, wr, wg, bk, re, kn, va, so, ah, us, nk, nv, ns, ro, rd, rl, rr, rg, rb, pl, nu, ou, it) :=
  ⟨0, rfl, rfl, ⟨by omega, fun i hi => absurd hi (Nat.not_lt_zero i)⟩, fun i hi => absurd hi (Nat.not_lt_zero i), R.2.2.1, R.2.2.2.1, fun z => absurd rfl z⟩
theorem fz_size (R : fo_Rel n fr fs op de le ri go be ro rd rl rr rg rb ou yo yf yc yt yz yg) : wpX_size (fun r => wpY_size (fun r' => r' = r ∧ i_Rel (k + 5) ((nI n), fr, fg, fm, fs, fo, fb, fe, fn, op, de, le, ri, go, be, wo, wd, wl, wr, wg, bk, re, kn, va, so, ah, us, nk, nv, ns, ro, rd, rl, rr, rg, rb, pl, nu, ou, it) ((nI n), ym, yb, yp, ye, yo, yf, yc, yt, yz, yn, yg)) ((nI n), ym, yb, yp, ye, yo, yf, yc, yt, yz, yn, yg)) ((nI n), fr, fg, fm, fs, fo, fb, fe, fn, op, de, le, ri, go, be, wo, wd, wl, wr, wg, bk, re, kn, va, so, ah, us, nk, nv, ns, ro, rd, rl, rr, rg, rb, pl, nu, ou, it) := ⟨rfl, fz_mk R⟩
theorem fz_start (R : fo_Rel n fr fs op de le ri go be ro rd rl rr rg rb ou yo yf yc yt yz yg) (v1 v2 : Int32) : wpX_start (fun r u' => wpY_start (fun r' v' => r' = r ∧ i_Rel (k + 5) u' v') ((nI n), ym, yb, yp, ye, yo, yf, yc, yt, yz, yn, yg) v1 v2) ((nI n), fr, fg, fm, fs, fo, fb, fe, fn, op, de, le, ri, go, be, wo, wd, wl, wr, wg, bk, re, kn, va, so, ah, us, nk, nv, ns, ro, rd, rl, rr, rg, rb, pl, nu, ou, it) v1 v2 := by
  unfold wpX_start
  refine fx_bad (fun v => ⟨v, nm_e ?_⟩) (fun w => ?_)
  · show wpY_start _ ((nI n), ym, yb, yp, ye, yo, yf, yc, yt, yz, yn, yg) v1 v2
    unfold wpY_start
    refine fy_num (fun _ => ⟨v, nm_e ⟨rfl, ?_⟩⟩) (fun w => absurd v w)
    obtain ⟨r1, r2, r3, r4, r5⟩ := R
    exact ⟨n, rfl, rfl, r1, r2, congrArg (fun f => upd f v1.toNatClampNeg v2) r3, r4, r5⟩
  · show wpY_start _ ((nI n), ym, yb, yp, ye, yo, yf, yc, yt, yz, yn, yg) v1 v2
    unfold wpY_start
    exact fy_num (fun v => absurd v w) (fun _ => ⟨rfl, fz_mk R⟩)
end
end
section
/-! the questions -/
def fo_ds (g : Nat → Int32) : Nat → Int32
  | 0 => 0
  | k + 1 => fo_ds g k + (nI k + 1) * g k
def fo_fr (g : Nat → Int32) (k : Nat) : Nat → Int32
  | 0 => 1
  | j + 1 => if fo_fr g k j = 0 then 0 else if g j = g k then 0 else 1
def fo_kd (g : Nat → Int32) : Nat → Int32
  | 0 => 0
  | k + 1 => if fo_fr g k k = 0 then fo_kd g k else fo_kd g k + 1
section
variable {n : Nat} {fr fg fm fs fo fb fe fn : Int32} {op de le ri go be wo wd wl wr wg bk re kn va so ah us nk nv ns ro rd rl rr rg rb pl nu ou it : Nat → Int32} {ym yb yp ye : Int32} {yo yf yc yt yz yn yg : Nat → Int32} {k : Nat}
/-- both run, with one result -/
theorem fz_run {PX : SX → (SY → Prop) → Prop} {Q : SX → SY → Prop} (R : fo_Rel n fr fs op de le ri go be ro rd rl rr rg rb ou yo yf yc yt yz yg)
    (hPX : ∀ u (q : SY → Prop), wpY_run q ((nI n), ym, yb, yp, ye, yo, yf, yc, yt, yz, yn, yg) → PX u q)
    (hQ : ∀ fr fg fm fs fn wo wd wl wr wg bk re kn va so ah us nk nv ns it ro rd rl rr rg rb pl nu q yn e o ou b, o ≤ 24 → i_Rel (k + 5) ((nI n), fr, fg, fm, fs, nI o, nI b, e, fn, op, de, le, ri, go, be, wo, wd, wl, wr, wg, bk, re, kn, va, so, ah, us, nk, nv, ns, ro, rd, rl, rr, rg, rb, pl, nu, ou, it) ((nI n), nI o, nI b, q, e, yo, yf, yc, yt, yz, yn, ou) →
      Q ((nI n), fr, fg, fm, fs, nI o, nI b, e, fn, op, de, le, ri, go, be, wo, wd, wl, wr, wg, bk, re, kn, va, so, ah, us, nk, nv, ns, ro, rd, rl, rr, rg, rb, pl, nu, ou, it) ((nI n), nI o, nI b, q, e, yo, yf, yc, yt, yz, yn, ou)) :
    wpX_run (fun u => PX u (Q u)) ((nI n), fr, fg, fm, fs, fo, fb, fe, fn, op, de, le, ri, go, be, wo, wd, wl, wr, wg, bk, re, kn, va, so, ah, us, nk, nv, ns, ro, rd, rl, rr, rg, rb, pl, nu, ou, it) := by
  obtain ⟨r1, r2, r3, r4, r5⟩ := R
  refine fx_run r1 r5 (fun fr fg fm fs fn wo wd wl wr wg bk re kn va so ah us nk nv ns it ro rd rl rr rg rb pl nu' s r f hs hg hb he => hPX _ _ ?_)
  refine fy_run r1 (fun i hi => ?_) r2 (fun q yn' r' f' hb' he' => ?_)
  · show fo_bk go i = 0 ↔ nI i < go i
    unfold fo_bk
    by_cases w : nI i < go i
    · rw [if_pos w]; exact ⟨fun _ => w, fun _ => rfl⟩
    · rw [if_neg w]; exact ⟨fun z => absurd z (by decide), fun z => absurd z w⟩
  · have E : fo_ev (fo_pr op de le ri go (fo_bk go)) n f' (0, fo_mx 8 yz yn, 0, yg, 0) = fo_ev (fo_pr op de le ri go (fo_bk go)) n f' (0, fo_mx 8 be nu, 0, ou, 0) := by
      rw [r4]
      exact fo_ev_num r1 f' (0, fo_mx 8 be nu, 0, yg, 0) (fo_mx 8 yz yn) (fun m hm => by
        show fo_mx 8 yz yn m = fo_mx 8 be nu m
        rw [fo_mx_l hm, fo_mx_l hm, r3])
    rw [E] at he'
    have er := fo_ev_det he' he
    subst er
    exact hQ fr fg fm fs fn wo wd wl wr wg bk re kn va so ah us nk nv ns it ro rd rl rr rg rb pl nu' q yn' r'.1 r'.2.1 r'.2.2.1 r'.2.2.2 hb'.2.1 ⟨n, rfl, rfl, r1, r2, r3, rfl, fun _ => ⟨s, hs, hg⟩⟩
theorem fz_ending (R : fo_Rel n fr fs op de le ri go be ro rd rl rr rg rb ou yo yf yc yt yz yg) : wpX_ending (fun r u' => wpY_ending (fun r' v' => r' = r ∧ i_Rel (k + 5) u' v') ((nI n), ym, yb, yp, ye, yo, yf, yc, yt, yz, yn, yg)) ((nI n), fr, fg, fm, fs, fo, fb, fe, fn, op, de, le, ri, go, be, wo, wd, wl, wr, wg, bk, re, kn, va, so, ah, us, nk, nv, ns, ro, rd, rl, rr, rg, rb, pl, nu, ou, it) := by
  unfold wpX_ending
  exact fz_run (PX := fun u q => match u with | (fc, fr, fg, fm, fs, fo, fb, fe, fn, op, de, le, ri, go, be, wo, wd, wl, wr, wg, bk, re, kn, va, so, ah, us, nk, nv, ns, ro, rd, rl, rr, rg, rb, pl, nu, ou, it) => wpY_run q ((nI n), ym, yb, yp, ye, yo, yf, yc, yt, yz, yn, yg)) (Q := fun u v => match u with | (fc, fr, fg, fm, fs, fo, fb, fe, fn, op, de, le, ri, go, be, wo, wd, wl, wr, wg, bk, re, kn, va, so, ah, us, nk, nv, ns, ro, rd, rl, rr, rg, rb, pl, nu, ou, it) => match v with | (ys, ym, yb, yp, ye, yo, yf, yc, yt, yz, yn, yg) => ye = fe ∧ i_Rel (k + 5) (fc, fr, fg, fm, fs, fo, fb, fe, fn, op, de, le, ri, go, be, wo, wd, wl, wr, wg, bk, re, kn, va, so, ah, us, nk, nv, ns, ro, rd, rl, rr, rg, rb, pl, nu, ou, it) (ys, ym, yb, yp, ye, yo, yf, yc, yt, yz, yn, yg)) R (fun u q h => h) (fun _ _ _ _ _ _ _ _ _ _ _ _ _ _ _ _ _ _ _ _ _ _ _ _ _ _ _ _ _ _ _ _ _ _ _ _ h => ⟨rfl, h⟩)
theorem fz_outs (R : fo_Rel n fr fs op de le ri go be ro rd rl rr rg rb ou yo yf yc yt yz yg) : wpX_outs (fun r u' => wpY_outs (fun r' v' => r' = r ∧ i_Rel (k + 5) u' v') ((nI n), ym, yb, yp, ye, yo, yf, yc, yt, yz, yn, yg)) ((nI n), fr, fg, fm, fs, fo, fb, fe, fn, op, de, le, ri, go, be, wo, wd, wl, wr, wg, bk, re, kn, va, so, ah, us, nk, nv, ns, ro, rd, rl, rr, rg, rb, pl, nu, ou, it) := by
  unfold wpX_outs
  exact fz_run (PX := fun u q => match u with | (fc, fr, fg, fm, fs, fo, fb, fe, fn, op, de, le, ri, go, be, wo, wd, wl, wr, wg, bk, re, kn, va, so, ah, us, nk, nv, ns, ro, rd, rl, rr, rg, rb, pl, nu, ou, it) => wpY_run q ((nI n), ym, yb, yp, ye, yo, yf, yc, yt, yz, yn, yg)) (Q := fun u v => match u with | (fc, fr, fg, fm, fs, fo, fb, fe, fn, op, de, le, ri, go, be, wo, wd, wl, wr, wg, bk, re, kn, va, so, ah, us, nk, nv, ns, ro, rd, rl, rr, rg, rb, pl, nu, ou, it) => match v with | (ys, ym, yb, yp, ye, yo, yf, yc, yt, yz, yn, yg) => ym = fo ∧ i_Rel (k + 5) (fc, fr, fg, fm, fs, fo, fb, fe, fn, op, de, le, ri, go, be, wo, wd, wl, wr, wg, bk, re, kn, va, so, ah, us, nk, nv, ns, ro, rd, rl, rr, rg, rb, pl, nu, ou, it) (ys, ym, yb, yp, ye, yo, yf, yc, yt, yz, yn, yg)) R (fun u q h => h) (fun _ _ _ _ _ _ _ _ _ _ _ _ _ _ _ _ _ _ _ _ _ _ _ _ _ _ _ _ _ _ _ _ _ _ _ _ h => ⟨rfl, h⟩)
theorem fz_backs (R : fo_Rel n fr fs op de le ri go be ro rd rl rr rg rb ou yo yf yc yt yz yg) : wpX_backs (fun r u' => wpY_backs (fun r' v' => r' = r ∧ i_Rel (k + 5) u' v') ((nI n), ym, yb, yp, ye, yo, yf, yc, yt, yz, yn, yg)) ((nI n), fr, fg, fm, fs, fo, fb, fe, fn, op, de, le, ri, go, be, wo, wd, wl, wr, wg, bk, re, kn, va, so, ah, us, nk, nv, ns, ro, rd, rl, rr, rg, rb, pl, nu, ou, it) := by
  unfold wpX_backs
  exact fz_run (PX := fun u q => match u with | (fc, fr, fg, fm, fs, fo, fb, fe, fn, op, de, le, ri, go, be, wo, wd, wl, wr, wg, bk, re, kn, va, so, ah, us, nk, nv, ns, ro, rd, rl, rr, rg, rb, pl, nu, ou, it) => wpY_run q ((nI n), ym, yb, yp, ye, yo, yf, yc, yt, yz, yn, yg)) (Q := fun u v => match u with | (fc, fr, fg, fm, fs, fo, fb, fe, fn, op, de, le, ri, go, be, wo, wd, wl, wr, wg, bk, re, kn, va, so, ah, us, nk, nv, ns, ro, rd, rl, rr, rg, rb, pl, nu, ou, it) => match v with | (ys, ym, yb, yp, ye, yo, yf, yc, yt, yz, yn, yg) => yb = fb ∧ i_Rel (k + 5) (fc, fr, fg, fm, fs, fo, fb, fe, fn, op, de, le, ri, go, be, wo, wd, wl, wr, wg, bk, re, kn, va, so, ah, us, nk, nv, ns, ro, rd, rl, rr, rg, rb, pl, nu, ou, it) (ys, ym, yb, yp, ye, yo, yf, yc, yt, yz, yn, yg)) R (fun u q h => h) (fun _ _ _ _ _ _ _ _ _ _ _ _ _ _ _ _ _ _ _ _ _ _ _ _ _ _ _ _ _ _ _ _ _ _ _ _ h => ⟨rfl, h⟩)
/-- the component's run, and then the reference's -/
theorem fz_go {post : SX → Prop} (R : fo_Rel n fr fs op de le ri go be ro rd rl rr rg rb ou yo yf yc yt yz yg)
    (h : ∀ fr fg fm fs fn wo wd wl wr wg bk re kn va so ah us nk nv ns it ro rd rl rr rg rb pl nu e o ou b, o ≤ 24 →
      (∀ q : SY → Prop, (∀ p yn, i_Rel (k + 5) ((nI n), fr, fg, fm, fs, nI o, nI b, e, fn, op, de, le, ri, go, be, wo, wd, wl, wr, wg, bk, re, kn, va, so, ah, us, nk, nv, ns, ro, rd, rl, rr, rg, rb, pl, nu, ou, it) ((nI n), nI o, nI b, p, e, yo, yf, yc, yt, yz, yn, ou) → q ((nI n), nI o, nI b, p, e, yo, yf, yc, yt, yz, yn, ou)) → wpY_run q ((nI n), ym, yb, yp, ye, yo, yf, yc, yt, yz, yn, yg)) →
      post ((nI n), fr, fg, fm, fs, nI o, nI b, e, fn, op, de, le, ri, go, be, wo, wd, wl, wr, wg, bk, re, kn, va, so, ah, us, nk, nv, ns, ro, rd, rl, rr, rg, rb, pl, nu, ou, it)) : wpX_run post ((nI n), fr, fg, fm, fs, fo, fb, fe, fn, op, de, le, ri, go, be, wo, wd, wl, wr, wg, bk, re, kn, va, so, ah, us, nk, nv, ns, ro, rd, rl, rr, rg, rb, pl, nu, ou, it) := by
  obtain ⟨r1, r2, r3, r4, r5⟩ := R
  refine fx_run r1 r5 (fun fr fg fm fs fn wo wd wl wr wg bk re kn va so ah us nk nv ns it ro rd rl rr rg rb pl nu' s r f hs hg hb he => h fr fg fm fs fn wo wd wl wr wg bk re kn va so ah us nk nv ns it ro rd rl rr rg rb pl nu' r.1 r.2.1 r.2.2.1 r.2.2.2 hb.2.1 (fun q hq => ?_))
  refine fy_run r1 (fun i hi => ?_) r2 (fun p yn' r' f' hb' he' => ?_)
  · show fo_bk go i = 0 ↔ nI i < go i
    unfold fo_bk
    by_cases w : nI i < go i
    · rw [if_pos w]; exact ⟨fun _ => w, fun _ => rfl⟩
    · rw [if_neg w]; exact ⟨fun z => absurd z (by decide), fun z => absurd z w⟩
  · have E : fo_ev (fo_pr op de le ri go (fo_bk go)) n f' (0, fo_mx 8 yz yn, 0, yg, 0) = fo_ev (fo_pr op de le ri go (fo_bk go)) n f' (0, fo_mx 8 be nu, 0, ou, 0) := by
      rw [r4]
      exact fo_ev_num r1 f' (0, fo_mx 8 be nu, 0, yg, 0) (fo_mx 8 yz yn) (fun m hm => by
        show fo_mx 8 yz yn m = fo_mx 8 be nu m
        rw [fo_mx_l hm, fo_mx_l hm, r3])
    rw [E] at he'
    have er := fo_ev_det he' he
    subst er
    exact hq p yn' ⟨n, rfl, rfl, r1, r2, r3, rfl, fun _ => ⟨s, hs, hg⟩⟩
theorem fz_output (R : fo_Rel n fr fs op de le ri go be ro rd rl rr rg rb ou yo yf yc yt yz yg) (v1 : Int32) : wpX_output (fun r u' => wpY_output (fun r' v' => r' = r ∧ i_Rel (k + 5) u' v') ((nI n), ym, yb, yp, ye, yo, yf, yc, yt, yz, yn, yg) v1) ((nI n), fr, fg, fm, fs, fo, fb, fe, fn, op, de, le, ri, go, be, wo, wd, wl, wr, wg, bk, re, kn, va, so, ah, us, nk, nv, ns, ro, rd, rl, rr, rg, rb, pl, nu, ou, it) v1 := by
  unfold wpX_output
  refine fz_go (k := k) (ym := ym) (yb := yb) (yp := yp) (ye := ye) (yn := yn) R (fun fr fg fm fs fn wo wd wl wr wg bk re kn va so ah us nk nv ns it ro rd rl rr rg rb pl nu e o ou b h24 HY => ?_)
  refine br_c (fun h0 => ?_) (fun h0 => br_c (fun h1 => ?_) (fun h1 => ?_))
  · unfold wpY_output
    exact HY _ (fun p yn rel => br_t h0 ⟨rfl, rel⟩)
  · obtain ⟨j, hj, e⟩ := nI_of h0
    have lt : j < o := by rw [e, nI_ltI hj (by omega)] at h1; exact h1
    have v : vp_in v1 24 := by rw [e]; exact vp_in_nI (by omega) (by decide)
    refine ⟨v, ?_⟩
    unfold wpY_output
    exact HY _ (fun p yn rel => br_f h0 (br_f (by rw [e]; exact nI_ge lt (by omega)) ⟨v, rfl, rel⟩))
  · unfold wpY_output
    exact HY _ (fun p yn rel => br_f h0 (br_t (Int32.not_lt.mp h1) ⟨rfl, rel⟩))
theorem fx_dg {post : Int32 → SX → Prop} {o : Nat} (ho : o ≤ 24) (h : post (fo_ds ou o) ((nI n), fr, fg, fm, fs, nI o, fb, fe, fn, op, de, le, ri, go, be, wo, wd, wl, wr, wg, bk, re, kn, va, so, ah, us, nk, nv, ns, ro, rd, rl, rr, rg, rb, pl, nu, ou, it)) : ∀ k i, i ≤ o → o - i < k → wX_digest_8 post (nI n) fr fg fm fs (nI o) fb fe fn op de le ri go be wo wd wl wr wg bk re kn va so ah us nk nv ns ro rd rl rr rg rb pl nu ou it k (fo_ds ou i) (nI i) := by
  intro k
  induction k with
  | zero => intro i _ hk; omega
  | succ k ih =>
    intro i hi hk
    by_cases e : i = o
    · subst e; exact br_t (nI_le (Nat.le_refl i) (by omega)) h
    · exact br_f (nI_ge (by omega) (by omega)) ⟨vp_in_nI (by omega) (by decide), nm_r (e' := fo_ds ou (i + 1)) (by rw [nI_clamp (by omega)]; rfl) (nm_r (nI_1 i) (ih (i + 1) (by omega) (by omega)))⟩
theorem fy_dg {post : Int32 → SY → Prop} {o : Nat} (ho : o ≤ 24) (h : post (fo_ds yg o) ((nI n), nI o, yb, yp, ye, yo, yf, yc, yt, yz, yn, yg)) : ∀ k i, i ≤ o → o - i < k → wY_digest_8 post (nI n) (nI o) yb yp ye yo yf yc yt yz yn yg k (fo_ds yg i) (nI i) := by
  intro k
  induction k with
  | zero => intro i _ hk; omega
  | succ k ih =>
    intro i hi hk
    by_cases e : i = o
    · subst e; exact br_t (nI_le (Nat.le_refl i) (by omega)) h
    · exact br_f (nI_ge (by omega) (by omega)) ⟨vp_in_nI (by omega) (by decide), nm_r (e' := fo_ds yg (i + 1)) (by rw [nI_clamp (by omega)]; rfl) (nm_r (nI_1 i) (ih (i + 1) (by omega) (by omega)))⟩
theorem fz_digest (R : fo_Rel n fr fs op de le ri go be ro rd rl rr rg rb ou yo yf yc yt yz yg) : wpX_digest (fun r u' => wpY_digest (fun r' v' => r' = r ∧ i_Rel (k + 5) u' v') ((nI n), ym, yb, yp, ye, yo, yf, yc, yt, yz, yn, yg)) ((nI n), fr, fg, fm, fs, fo, fb, fe, fn, op, de, le, ri, go, be, wo, wd, wl, wr, wg, bk, re, kn, va, so, ah, us, nk, nv, ns, ro, rd, rl, rr, rg, rb, pl, nu, ou, it) := by
  unfold wpX_digest
  refine fz_go (k := k) (ym := ym) (yb := yb) (yp := yp) (ye := ye) (yn := yn) R (fun fr fg fm fs fn wo wd wl wr wg bk re kn va so ah us nk nv ns it ro rd rl rr rg rb pl nu e o ou b h24 HY => Exists.intro (o + 1) ?_)
  refine fx_dg h24 ?_ (o + 1) 0 (Nat.zero_le _) (by omega)
  unfold wpY_digest
  exact HY _ (fun p yn rel => Exists.intro (o + 1) (fy_dg h24 ⟨rfl, rel⟩ (o + 1) 0 (Nat.zero_le _) (by omega)))
theorem fo_fr_s0 {g : Nat → Int32} {k j : Nat} (h : fo_fr g k j = 0) : fo_fr g k (j + 1) = 0 := if_pos h
theorem fo_fr_s1 {g : Nat → Int32} {k j : Nat} (h : ¬ fo_fr g k j = 0) (e : g j = g k) : fo_fr g k (j + 1) = 0 := (if_neg h).trans (if_pos e)
theorem fo_fr_s2 {g : Nat → Int32} {k j : Nat} (h : ¬ fo_fr g k j = 0) (e : ¬ g j = g k) : fo_fr g k (j + 1) = 1 := (if_neg h).trans (if_neg e)
theorem fx_k21 {post : Int32 → SX → Prop} {J : Int32 → Int32 → Prop} {q : Nat} (hq : q < 24) (h : J (fo_kd ou (q + 1)) (nI (q + 1))) : ∀ k j, j ≤ q → q - j < k →
    wX_kinds_21 post J (fo_kd ou q) (nI q) (nI n) fr fg fm fs fo fb fe fn op de le ri go be wo wd wl wr wg bk re kn va so ah us nk nv ns ro rd rl rr rg rb pl nu ou it k (fo_fr ou q j) (nI j) := by
  have vq : vp_in (nI q) 24 := vp_in_nI hq (by decide)
  have cq : (nI q).toNatClampNeg = q := nI_clamp (by omega)
  intro k
  induction k with
  | zero => intro j _ hk; omega
  | succ k ih =>
    intro j hj hk
    by_cases e : j = q
    · subst e
      refine br_t (nI_le (Nat.le_refl j) (by omega)) (br_c (fun h0 => nm_r (nI_1 j) ?_) (fun h0 => nm_e (nm_r (nI_1 j) ?_)))
      · have w : fo_kd ou (j + 1) = fo_kd ou j := if_pos h0
        rw [w] at h; exact h
      · have w : fo_kd ou (j + 1) = fo_kd ou j + 1 := if_neg h0
        rw [w] at h; exact h
    · have vj : vp_in (nI j) 24 := vp_in_nI (by omega) (by decide)
      have cj : (nI j).toNatClampNeg = j := nI_clamp (by omega)
      have I := ih (j + 1) (by omega) (by omega)
      refine br_f (nI_ge (by omega) (by omega)) (br_c (fun h0 => nm_r (nI_1 j) ?_) (fun h0 => ⟨vj, vq, br_c (fun h1 => nm_r (nI_1 j) ?_) (fun h1 => nm_r (nI_1 j) ?_)⟩))
      · rw [fo_fr_s0 h0] at I; exact I
      · rw [cj, cq] at h1; rw [fo_fr_s1 h0 h1] at I; exact I
      · rw [cj, cq] at h1; rw [fo_fr_s2 h0 h1] at I; exact I
theorem fy_k21 {post : Int32 → SY → Prop} {J : Int32 → Int32 → Prop} {q : Nat} (hq : q < 24) (h : J (fo_kd yg (q + 1)) (nI (q + 1))) : ∀ k j, j ≤ q → q - j < k →
    wY_kinds_21 post J (fo_kd yg q) (nI q) (nI n) ym yb yp ye yo yf yc yt yz yn yg k (fo_fr yg q j) (nI j) := by
  have vq : vp_in (nI q) 24 := vp_in_nI hq (by decide)
  have cq : (nI q).toNatClampNeg = q := nI_clamp (by omega)
  intro k
  induction k with
  | zero => intro j _ hk; omega
  | succ k ih =>
    intro j hj hk
    by_cases e : j = q
    · subst e
      refine br_t (nI_le (Nat.le_refl j) (by omega)) (br_c (fun h0 => nm_r (nI_1 j) ?_) (fun h0 => nm_e (nm_r (nI_1 j) ?_)))
      · have w : fo_kd yg (j + 1) = fo_kd yg j := if_pos h0
        rw [w] at h; exact h
      · have w : fo_kd yg (j + 1) = fo_kd yg j + 1 := if_neg h0
        rw [w] at h; exact h
    · have vj : vp_in (nI j) 24 := vp_in_nI (by omega) (by decide)
      have cj : (nI j).toNatClampNeg = j := nI_clamp (by omega)
      have I := ih (j + 1) (by omega) (by omega)
      refine br_f (nI_ge (by omega) (by omega)) (br_c (fun h0 => nm_r (nI_1 j) ?_) (fun h0 => ⟨vj, vq, br_c (fun h1 => nm_r (nI_1 j) ?_) (fun h1 => nm_r (nI_1 j) ?_)⟩))
      · rw [fo_fr_s0 h0] at I; exact I
      · rw [cj, cq] at h1; rw [fo_fr_s1 h0 h1] at I; exact I
      · rw [cj, cq] at h1; rw [fo_fr_s2 h0 h1] at I; exact I
theorem fx_kd {post : Int32 → SX → Prop} {o : Nat} (ho : o ≤ 24) (h : post (fo_kd ou o) ((nI n), fr, fg, fm, fs, nI o, fb, fe, fn, op, de, le, ri, go, be, wo, wd, wl, wr, wg, bk, re, kn, va, so, ah, us, nk, nv, ns, ro, rd, rl, rr, rg, rb, pl, nu, ou, it)) : ∀ k i, i ≤ o → o - i < k → wX_kinds_8 post (nI n) fr fg fm fs (nI o) fb fe fn op de le ri go be wo wd wl wr wg bk re kn va so ah us nk nv ns ro rd rl rr rg rb pl nu ou it k (fo_kd ou i) (nI i) := by
  intro k
  induction k with
  | zero => intro i _ hk; omega
  | succ k ih =>
    intro i hi hk
    by_cases e : i = o
    · subst e; exact br_t (nI_le (Nat.le_refl i) (by omega)) h
    · exact br_f (nI_ge (by omega) (by omega)) (Exists.intro (i + 1) (fx_k21 (by omega) (ih (i + 1) (by omega) (by omega)) (i + 1) 0 (Nat.zero_le _) (by omega)))
theorem fy_kd {post : Int32 → SY → Prop} {o : Nat} (ho : o ≤ 24) (h : post (fo_kd yg o) ((nI n), nI o, yb, yp, ye, yo, yf, yc, yt, yz, yn, yg)) : ∀ k i, i ≤ o → o - i < k → wY_kinds_8 post (nI n) (nI o) yb yp ye yo yf yc yt yz yn yg k (fo_kd yg i) (nI i) := by
  intro k
  induction k with
  | zero => intro i _ hk; omega
  | succ k ih =>
    intro i hi hk
    by_cases e : i = o
    · subst e; exact br_t (nI_le (Nat.le_refl i) (by omega)) h
    · exact br_f (nI_ge (by omega) (by omega)) (Exists.intro (i + 1) (fy_k21 (by omega) (ih (i + 1) (by omega) (by omega)) (i + 1) 0 (Nat.zero_le _) (by omega)))
theorem fz_kinds (R : fo_Rel n fr fs op de le ri go be ro rd rl rr rg rb ou yo yf yc yt yz yg) : wpX_kinds (fun r u' => wpY_kinds (fun r' v' => r' = r ∧ i_Rel (k + 5) u' v') ((nI n), ym, yb, yp, ye, yo, yf, yc, yt, yz, yn, yg)) ((nI n), fr, fg, fm, fs, fo, fb, fe, fn, op, de, le, ri, go, be, wo, wd, wl, wr, wg, bk, re, kn, va, so, ah, us, nk, nv, ns, ro, rd, rl, rr, rg, rb, pl, nu, ou, it) := by
  unfold wpX_kinds
  refine fz_go (k := k) (ym := ym) (yb := yb) (yp := yp) (ye := ye) (yn := yn) R (fun fr fg fm fs fn wo wd wl wr wg bk re kn va so ah us nk nv ns it ro rd rl rr rg rb pl nu e o ou b h24 HY => Exists.intro (o + 1) ?_)
  refine fx_kd h24 ?_ (o + 1) 0 (Nat.zero_le _) (by omega)
  unfold wpY_kinds
  exact HY _ (fun p yn rel => Exists.intro (o + 1) (fy_kd h24 ⟨rfl, rel⟩ (o + 1) 0 (Nat.zero_le _) (by omega)))
end
end
section
/-! what is owed -/
theorem i_vc0 : wpX_init (fun u => wpY_init (fun v => i_Rel 0 u v)) :=
  ⟨0, rfl, rfl, ⟨by decide, fun i hi => absurd hi (Nat.not_lt_zero i)⟩, fun i hi => absurd hi (Nat.not_lt_zero i), rfl, rfl, fun z => absurd rfl z⟩
theorem i_vc_simple {k : Nat} {u : SX} {v : SY} (I : i_Rel k u v) (hk : k + 5 ≤ 2560) (v1 : Int32) (v2 : Int32) (v3 : Int32) : wpX_simple (fun r u' => wpY_simple (fun r' v' => r' = r ∧ i_Rel (k + 5) u' v') v v1 v2 v3) u v1 v2 v3 := by
  obtain ⟨fc, u⟩ := u
  obtain ⟨ys, v⟩ := v
  obtain ⟨n, e1, e2, R⟩ := I
  have e1 : fc = nI n := e1
  have e2 : ys = nI n := e2
  subst e1 e2
  exact fz_simple (fr := u.1) (fg := u.2.1) (fm := u.2.2.1) (fs := u.2.2.2.1) (fo := u.2.2.2.2.1) (fb := u.2.2.2.2.2.1) (fe := u.2.2.2.2.2.2.1) (fn := u.2.2.2.2.2.2.2.1) (op := u.2.2.2.2.2.2.2.2.1) (de := u.2.2.2.2.2.2.2.2.2.1) (le := u.2.2.2.2.2.2.2.2.2.2.1) (ri := u.2.2.2.2.2.2.2.2.2.2.2.1) (go := u.2.2.2.2.2.2.2.2.2.2.2.2.1) (be := u.2.2.2.2.2.2.2.2.2.2.2.2.2.1) (wo := u.2.2.2.2.2.2.2.2.2.2.2.2.2.2.1) (wd := u.2.2.2.2.2.2.2.2.2.2.2.2.2.2.2.1) (wl := u.2.2.2.2.2.2.2.2.2.2.2.2.2.2.2.2.1) (wr := u.2.2.2.2.2.2.2.2.2.2.2.2.2.2.2.2.2.1) (wg := u.2.2.2.2.2.2.2.2.2.2.2.2.2.2.2.2.2.2.1) (bk := u.2.2.2.2.2.2.2.2.2.2.2.2.2.2.2.2.2.2.2.1) (re := u.2.2.2.2.2.2.2.2.2.2.2.2.2.2.2.2.2.2.2.2.1) (kn := u.2.2.2.2.2.2.2.2.2.2.2.2.2.2.2.2.2.2.2.2.2.1) (va := u.2.2.2.2.2.2.2.2.2.2.2.2.2.2.2.2.2.2.2.2.2.2.1) (so := u.2.2.2.2.2.2.2.2.2.2.2.2.2.2.2.2.2.2.2.2.2.2.2.1) (ah := u.2.2.2.2.2.2.2.2.2.2.2.2.2.2.2.2.2.2.2.2.2.2.2.2.1) (us := u.2.2.2.2.2.2.2.2.2.2.2.2.2.2.2.2.2.2.2.2.2.2.2.2.2.1) (nk := u.2.2.2.2.2.2.2.2.2.2.2.2.2.2.2.2.2.2.2.2.2.2.2.2.2.2.1) (nv := u.2.2.2.2.2.2.2.2.2.2.2.2.2.2.2.2.2.2.2.2.2.2.2.2.2.2.2.1) (ns := u.2.2.2.2.2.2.2.2.2.2.2.2.2.2.2.2.2.2.2.2.2.2.2.2.2.2.2.2.1) (ro := u.2.2.2.2.2.2.2.2.2.2.2.2.2.2.2.2.2.2.2.2.2.2.2.2.2.2.2.2.2.1) (rd := u.2.2.2.2.2.2.2.2.2.2.2.2.2.2.2.2.2.2.2.2.2.2.2.2.2.2.2.2.2.2.1) (rl := u.2.2.2.2.2.2.2.2.2.2.2.2.2.2.2.2.2.2.2.2.2.2.2.2.2.2.2.2.2.2.2.1) (rr := u.2.2.2.2.2.2.2.2.2.2.2.2.2.2.2.2.2.2.2.2.2.2.2.2.2.2.2.2.2.2.2.2.1) (rg := u.2.2.2.2.2.2.2.2.2.2.2.2.2.2.2.2.2.2.2.2.2.2.2.2.2.2.2.2.2.2.2.2.2.1) (rb := u.2.2.2.2.2.2.2.2.2.2.2.2.2.2.2.2.2.2.2.2.2.2.2.2.2.2.2.2.2.2.2.2.2.2.1) (pl := u.2.2.2.2.2.2.2.2.2.2.2.2.2.2.2.2.2.2.2.2.2.2.2.2.2.2.2.2.2.2.2.2.2.2.2.1) (nu := u.2.2.2.2.2.2.2.2.2.2.2.2.2.2.2.2.2.2.2.2.2.2.2.2.2.2.2.2.2.2.2.2.2.2.2.2.1) (ou := u.2.2.2.2.2.2.2.2.2.2.2.2.2.2.2.2.2.2.2.2.2.2.2.2.2.2.2.2.2.2.2.2.2.2.2.2.2.1) (it := u.2.2.2.2.2.2.2.2.2.2.2.2.2.2.2.2.2.2.2.2.2.2.2.2.2.2.2.2.2.2.2.2.2.2.2.2.2.2) (ym := v.1) (yb := v.2.1) (yp := v.2.2.1) (ye := v.2.2.2.1) (yo := v.2.2.2.2.1) (yf := v.2.2.2.2.2.1) (yc := v.2.2.2.2.2.2.1) (yt := v.2.2.2.2.2.2.2.1) (yz := v.2.2.2.2.2.2.2.2.1) (yn := v.2.2.2.2.2.2.2.2.2.1) (yg := v.2.2.2.2.2.2.2.2.2.2) R v1 v2 v3
theorem i_vc_apply {k : Nat} {u : SX} {v : SY} (I : i_Rel k u v) (hk : k + 5 ≤ 2560) (v1 : Int32) (v2 : Int32) (v3 : Int32) (v4 : Int32) : wpX_apply (fun r u' => wpY_apply (fun r' v' => r' = r ∧ i_Rel (k + 5) u' v') v v1 v2 v3 v4) u v1 v2 v3 v4 := by
  obtain ⟨fc, u⟩ := u
  obtain ⟨ys, v⟩ := v
  obtain ⟨n, e1, e2, R⟩ := I
  have e1 : fc = nI n := e1
  have e2 : ys = nI n := e2
  subst e1 e2
  exact fz_apply (fr := u.1) (fg := u.2.1) (fm := u.2.2.1) (fs := u.2.2.2.1) (fo := u.2.2.2.2.1) (fb := u.2.2.2.2.2.1) (fe := u.2.2.2.2.2.2.1) (fn := u.2.2.2.2.2.2.2.1) (op := u.2.2.2.2.2.2.2.2.1) (de := u.2.2.2.2.2.2.2.2.2.1) (le := u.2.2.2.2.2.2.2.2.2.2.1) (ri := u.2.2.2.2.2.2.2.2.2.2.2.1) (go := u.2.2.2.2.2.2.2.2.2.2.2.2.1) (be := u.2.2.2.2.2.2.2.2.2.2.2.2.2.1) (wo := u.2.2.2.2.2.2.2.2.2.2.2.2.2.2.1) (wd := u.2.2.2.2.2.2.2.2.2.2.2.2.2.2.2.1) (wl := u.2.2.2.2.2.2.2.2.2.2.2.2.2.2.2.2.1) (wr := u.2.2.2.2.2.2.2.2.2.2.2.2.2.2.2.2.2.1) (wg := u.2.2.2.2.2.2.2.2.2.2.2.2.2.2.2.2.2.2.1) (bk := u.2.2.2.2.2.2.2.2.2.2.2.2.2.2.2.2.2.2.2.1) (re := u.2.2.2.2.2.2.2.2.2.2.2.2.2.2.2.2.2.2.2.2.1) (kn := u.2.2.2.2.2.2.2.2.2.2.2.2.2.2.2.2.2.2.2.2.2.1) (va := u.2.2.2.2.2.2.2.2.2.2.2.2.2.2.2.2.2.2.2.2.2.2.1) (so := u.2.2.2.2.2.2.2.2.2.2.2.2.2.2.2.2.2.2.2.2.2.2.2.1) (ah := u.2.2.2.2.2.2.2.2.2.2.2.2.2.2.2.2.2.2.2.2.2.2.2.2.1) (us := u.2.2.2.2.2.2.2.2.2.2.2.2.2.2.2.2.2.2.2.2.2.2.2.2.2.1) (nk := u.2.2.2.2.2.2.2.2.2.2.2.2.2.2.2.2.2.2.2.2.2.2.2.2.2.2.1) (nv := u.2.2.2.2.2.2.2.2.2.2.2.2.2.2.2.2.2.2.2.2.2.2.2.2.2.2.2.1) (ns := u.2.2.2.2.2.2.2.2.2.2.2.2.2.2.2.2.2.2.2.2.2.2.2.2.2.2.2.2.1) (ro := u.2.2.2.2.2.2.2.2.2.2.2.2.2.2.2.2.2.2.2.2.2.2.2.2.2.2.2.2.2.1) (rd := u.2.2.2.2.2.2.2.2.2.2.2.2.2.2.2.2.2.2.2.2.2.2.2.2.2.2.2.2.2.2.1) (rl := u.2.2.2.2.2.2.2.2.2.2.2.2.2.2.2.2.2.2.2.2.2.2.2.2.2.2.2.2.2.2.2.1) (rr := u.2.2.2.2.2.2.2.2.2.2.2.2.2.2.2.2.2.2.2.2.2.2.2.2.2.2.2.2.2.2.2.2.1) (rg := u.2.2.2.2.2.2.2.2.2.2.2.2.2.2.2.2.2.2.2.2.2.2.2.2.2.2.2.2.2.2.2.2.2.1) (rb := u.2.2.2.2.2.2.2.2.2.2.2.2.2.2.2.2.2.2.2.2.2.2.2.2.2.2.2.2.2.2.2.2.2.2.1) (pl := u.2.2.2.2.2.2.2.2.2.2.2.2.2.2.2.2.2.2.2.2.2.2.2.2.2.2.2.2.2.2.2.2.2.2.2.1) (nu := u.2.2.2.2.2.2.2.2.2.2.2.2.2.2.2.2.2.2.2.2.2.2.2.2.2.2.2.2.2.2.2.2.2.2.2.2.1) (ou := u.2.2.2.2.2.2.2.2.2.2.2.2.2.2.2.2.2.2.2.2.2.2.2.2.2.2.2.2.2.2.2.2.2.2.2.2.2.1) (it := u.2.2.2.2.2.2.2.2.2.2.2.2.2.2.2.2.2.2.2.2.2.2.2.2.2.2.2.2.2.2.2.2.2.2.2.2.2.2) (ym := v.1) (yb := v.2.1) (yp := v.2.2.1) (ye := v.2.2.2.1) (yo := v.2.2.2.2.1) (yf := v.2.2.2.2.2.1) (yc := v.2.2.2.2.2.2.1) (yt := v.2.2.2.2.2.2.2.1) (yz := v.2.2.2.2.2.2.2.2.1) (yn := v.2.2.2.2.2.2.2.2.2.1) (yg := v.2.2.2.2.2.2.2.2.2.2) R v1 v2 v3 v4
theorem i_vc_jump {k : Nat} {u : SX} {v : SY} (I : i_Rel k u v) (hk : k + 5 ≤ 2560) (v1 : Int32) : wpX_jump (fun r u' => wpY_jump (fun r' v' => r' = r ∧ i_Rel (k + 5) u' v') v v1) u v1 := by
  obtain ⟨fc, u⟩ := u
  obtain ⟨ys, v⟩ := v
  obtain ⟨n, e1, e2, R⟩ := I
  have e1 : fc = nI n := e1
  have e2 : ys = nI n := e2
  subst e1 e2
  exact fz_jump (fr := u.1) (fg := u.2.1) (fm := u.2.2.1) (fs := u.2.2.2.1) (fo := u.2.2.2.2.1) (fb := u.2.2.2.2.2.1) (fe := u.2.2.2.2.2.2.1) (fn := u.2.2.2.2.2.2.2.1) (op := u.2.2.2.2.2.2.2.2.1) (de := u.2.2.2.2.2.2.2.2.2.1) (le := u.2.2.2.2.2.2.2.2.2.2.1) (ri := u.2.2.2.2.2.2.2.2.2.2.2.1) (go := u.2.2.2.2.2.2.2.2.2.2.2.2.1) (be := u.2.2.2.2.2.2.2.2.2.2.2.2.2.1) (wo := u.2.2.2.2.2.2.2.2.2.2.2.2.2.2.1) (wd := u.2.2.2.2.2.2.2.2.2.2.2.2.2.2.2.1) (wl := u.2.2.2.2.2.2.2.2.2.2.2.2.2.2.2.2.1) (wr := u.2.2.2.2.2.2.2.2.2.2.2.2.2.2.2.2.2.1) (wg := u.2.2.2.2.2.2.2.2.2.2.2.2.2.2.2.2.2.2.1) (bk := u.2.2.2.2.2.2.2.2.2.2.2.2.2.2.2.2.2.2.2.1) (re := u.2.2.2.2.2.2.2.2.2.2.2.2.2.2.2.2.2.2.2.2.1) (kn := u.2.2.2.2.2.2.2.2.2.2.2.2.2.2.2.2.2.2.2.2.2.1) (va := u.2.2.2.2.2.2.2.2.2.2.2.2.2.2.2.2.2.2.2.2.2.2.1) (so := u.2.2.2.2.2.2.2.2.2.2.2.2.2.2.2.2.2.2.2.2.2.2.2.1) (ah := u.2.2.2.2.2.2.2.2.2.2.2.2.2.2.2.2.2.2.2.2.2.2.2.2.1) (us := u.2.2.2.2.2.2.2.2.2.2.2.2.2.2.2.2.2.2.2.2.2.2.2.2.2.1) (nk := u.2.2.2.2.2.2.2.2.2.2.2.2.2.2.2.2.2.2.2.2.2.2.2.2.2.2.1) (nv := u.2.2.2.2.2.2.2.2.2.2.2.2.2.2.2.2.2.2.2.2.2.2.2.2.2.2.2.1) (ns := u.2.2.2.2.2.2.2.2.2.2.2.2.2.2.2.2.2.2.2.2.2.2.2.2.2.2.2.2.1) (ro := u.2.2.2.2.2.2.2.2.2.2.2.2.2.2.2.2.2.2.2.2.2.2.2.2.2.2.2.2.2.1) (rd := u.2.2.2.2.2.2.2.2.2.2.2.2.2.2.2.2.2.2.2.2.2.2.2.2.2.2.2.2.2.2.1) (rl := u.2.2.2.2.2.2.2.2.2.2.2.2.2.2.2.2.2.2.2.2.2.2.2.2.2.2.2.2.2.2.2.1) (rr := u.2.2.2.2.2.2.2.2.2.2.2.2.2.2.2.2.2.2.2.2.2.2.2.2.2.2.2.2.2.2.2.2.1) (rg := u.2.2.2.2.2.2.2.2.2.2.2.2.2.2.2.2.2.2.2.2.2.2.2.2.2.2.2.2.2.2.2.2.2.1) (rb := u.2.2.2.2.2.2.2.2.2.2.2.2.2.2.2.2.2.2.2.2.2.2.2.2.2.2.2.2.2.2.2.2.2.2.1) (pl := u.2.2.2.2.2.2.2.2.2.2.2.2.2.2.2.2.2.2.2.2.2.2.2.2.2.2.2.2.2.2.2.2.2.2.2.1) (nu := u.2.2.2.2.2.2.2.2.2.2.2.2.2.2.2.2.2.2.2.2.2.2.2.2.2.2.2.2.2.2.2.2.2.2.2.2.1) (ou := u.2.2.2.2.2.2.2.2.2.2.2.2.2.2.2.2.2.2.2.2.2.2.2.2.2.2.2.2.2.2.2.2.2.2.2.2.2.1) (it := u.2.2.2.2.2.2.2.2.2.2.2.2.2.2.2.2.2.2.2.2.2.2.2.2.2.2.2.2.2.2.2.2.2.2.2.2.2.2) (ym := v.1) (yb := v.2.1) (yp := v.2.2.1) (ye := v.2.2.2.1) (yo := v.2.2.2.2.1) (yf := v.2.2.2.2.2.1) (yc := v.2.2.2.2.2.2.1) (yt := v.2.2.2.2.2.2.2.1) (yz := v.2.2.2.2.2.2.2.2.1) (yn := v.2.2.2.2.2.2.2.2.2.1) (yg := v.2.2.2.2.2.2.2.2.2.2) R v1
theorem i_vc_branch {k : Nat} {u : SX} {v : SY} (I : i_Rel k u v) (hk : k + 5 ≤ 2560) (v1 : Int32) (v2 : Int32) : wpX_branch (fun r u' => wpY_branch (fun r' v' => r' = r ∧ i_Rel (k + 5) u' v') v v1 v2) u v1 v2 := by
  obtain ⟨fc, u⟩ := u
  obtain ⟨ys, v⟩ := v
  obtain ⟨n, e1, e2, R⟩ := I
  have e1 : fc = nI n := e1
  have e2 : ys = nI n := e2
  subst e1 e2
  exact fz_branch (fr := u.1) (fg := u.2.1) (fm := u.2.2.1) (fs := u.2.2.2.1) (fo := u.2.2.2.2.1) (fb := u.2.2.2.2.2.1) (fe := u.2.2.2.2.2.2.1) (fn := u.2.2.2.2.2.2.2.1) (op := u.2.2.2.2.2.2.2.2.1) (de := u.2.2.2.2.2.2.2.2.2.1) (le := u.2.2.2.2.2.2.2.2.2.2.1) (ri := u.2.2.2.2.2.2.2.2.2.2.2.1) (go := u.2.2.2.2.2.2.2.2.2.2.2.2.1) (be := u.2.2.2.2.2.2.2.2.2.2.2.2.2.1) (wo := u.2.2.2.2.2.2.2.2.2.2.2.2.2.2.1) (wd := u.2.2.2.2.2.2.2.2.2.2.2.2.2.2.2.1) (wl := u.2.2.2.2.2.2.2.2.2.2.2.2.2.2.2.2.1) (wr := u.2.2.2.2.2.2.2.2.2.2.2.2.2.2.2.2.2.1) (wg := u.2.2.2.2.2.2.2.2.2.2.2.2.2.2.2.2.2.2.1) (bk := u.2.2.2.2.2.2.2.2.2.2.2.2.2.2.2.2.2.2.2.1) (re := u.2.2.2.2.2.2.2.2.2.2.2.2.2.2.2.2.2.2.2.2.1) (kn := u.2.2.2.2.2.2.2.2.2.2.2.2.2.2.2.2.2.2.2.2.2.1) (va := u.2.2.2.2.2.2.2.2.2.2.2.2.2.2.2.2.2.2.2.2.2.2.1) (so := u.2.2.2.2.2.2.2.2.2.2.2.2.2.2.2.2.2.2.2.2.2.2.2.1) (ah := u.2.2.2.2.2.2.2.2.2.2.2.2.2.2.2.2.2.2.2.2.2.2.2.2.1) (us := u.2.2.2.2.2.2.2.2.2.2.2.2.2.2.2.2.2.2.2.2.2.2.2.2.2.1) (nk := u.2.2.2.2.2.2.2.2.2.2.2.2.2.2.2.2.2.2.2.2.2.2.2.2.2.2.1) (nv := u.2.2.2.2.2.2.2.2.2.2.2.2.2.2.2.2.2.2.2.2.2.2.2.2.2.2.2.1) (ns := u.2.2.2.2.2.2.2.2.2.2.2.2.2.2.2.2.2.2.2.2.2.2.2.2.2.2.2.2.1) (ro := u.2.2.2.2.2.2.2.2.2.2.2.2.2.2.2.2.2.2.2.2.2.2.2.2.2.2.2.2.2.1) (rd := u.2.2.2.2.2.2.2.2.2.2.2.2.2.2.2.2.2.2.2.2.2.2.2.2.2.2.2.2.2.2.1) (rl := u.2.2.2.2.2.2.2.2.2.2.2.2.2.2.2.2.2.2.2.2.2.2.2.2.2.2.2.2.2.2.2.1) (rr := u.2.2.2.2.2.2.2.2.2.2.2.2.2.2.2.2.2.2.2.2.2.2.2.2.2.2.2.2.2.2.2.2.1) (rg := u.2.2.2.2.2.2.2.2.2.2.2.2.2.2.2.2.2.2.2.2.2.2.2.2.2.2.2.2.2.2.2.2.2.1) (rb := u.2.2.2.2.2.2.2.2.2.2.2.2.2.2.2.2.2.2.2.2.2.2.2.2.2.2.2.2.2.2.2.2.2.2.1) (pl := u.2.2.2.2.2.2.2.2.2.2.2.2.2.2.2.2.2.2.2.2.2.2.2.2.2.2.2.2.2.2.2.2.2.2.2.1) (nu := u.2.2.2.2.2.2.2.2.2.2.2.2.2.2.2.2.2.2.2.2.2.2.2.2.2.2.2.2.2.2.2.2.2.2.2.2.1) (ou := u.2.2.2.2.2.2.2.2.2.2.2.2.2.2.2.2.2.2.2.2.2.2.2.2.2.2.2.2.2.2.2.2.2.2.2.2.2.1) (it := u.2.2.2.2.2.2.2.2.2.2.2.2.2.2.2.2.2.2.2.2.2.2.2.2.2.2.2.2.2.2.2.2.2.2.2.2.2.2) (ym := v.1) (yb := v.2.1) (yp := v.2.2.1) (ye := v.2.2.2.1) (yo := v.2.2.2.2.1) (yf := v.2.2.2.2.2.1) (yc := v.2.2.2.2.2.2.1) (yt := v.2.2.2.2.2.2.2.1) (yz := v.2.2.2.2.2.2.2.2.1) (yn := v.2.2.2.2.2.2.2.2.2.1) (yg := v.2.2.2.2.2.2.2.2.2.2) R v1 v2
theorem i_vc_out {k : Nat} {u : SX} {v : SY} (I : i_Rel k u v) (hk : k + 5 ≤ 2560) (v1 : Int32) : wpX_out (fun r u' => wpY_out (fun r' v' => r' = r ∧ i_Rel (k + 5) u' v') v v1) u v1 := by
  obtain ⟨fc, u⟩ := u
  obtain ⟨ys, v⟩ := v
  obtain ⟨n, e1, e2, R⟩ := I
  have e1 : fc = nI n := e1
  have e2 : ys = nI n := e2
  subst e1 e2
  exact fz_out (fr := u.1) (fg := u.2.1) (fm := u.2.2.1) (fs := u.2.2.2.1) (fo := u.2.2.2.2.1) (fb := u.2.2.2.2.2.1) (fe := u.2.2.2.2.2.2.1) (fn := u.2.2.2.2.2.2.2.1) (op := u.2.2.2.2.2.2.2.2.1) (de := u.2.2.2.2.2.2.2.2.2.1) (le := u.2.2.2.2.2.2.2.2.2.2.1) (ri := u.2.2.2.2.2.2.2.2.2.2.2.1) (go := u.2.2.2.2.2.2.2.2.2.2.2.2.1) (be := u.2.2.2.2.2.2.2.2.2.2.2.2.2.1) (wo := u.2.2.2.2.2.2.2.2.2.2.2.2.2.2.1) (wd := u.2.2.2.2.2.2.2.2.2.2.2.2.2.2.2.1) (wl := u.2.2.2.2.2.2.2.2.2.2.2.2.2.2.2.2.1) (wr := u.2.2.2.2.2.2.2.2.2.2.2.2.2.2.2.2.2.1) (wg := u.2.2.2.2.2.2.2.2.2.2.2.2.2.2.2.2.2.2.1) (bk := u.2.2.2.2.2.2.2.2.2.2.2.2.2.2.2.2.2.2.2.1) (re := u.2.2.2.2.2.2.2.2.2.2.2.2.2.2.2.2.2.2.2.2.1) (kn := u.2.2.2.2.2.2.2.2.2.2.2.2.2.2.2.2.2.2.2.2.2.1) (va := u.2.2.2.2.2.2.2.2.2.2.2.2.2.2.2.2.2.2.2.2.2.2.1) (so := u.2.2.2.2.2.2.2.2.2.2.2.2.2.2.2.2.2.2.2.2.2.2.2.1) (ah := u.2.2.2.2.2.2.2.2.2.2.2.2.2.2.2.2.2.2.2.2.2.2.2.2.1) (us := u.2.2.2.2.2.2.2.2.2.2.2.2.2.2.2.2.2.2.2.2.2.2.2.2.2.1) (nk := u.2.2.2.2.2.2.2.2.2.2.2.2.2.2.2.2.2.2.2.2.2.2.2.2.2.2.1) (nv := u.2.2.2.2.2.2.2.2.2.2.2.2.2.2.2.2.2.2.2.2.2.2.2.2.2.2.2.1) (ns := u.2.2.2.2.2.2.2.2.2.2.2.2.2.2.2.2.2.2.2.2.2.2.2.2.2.2.2.2.1) (ro := u.2.2.2.2.2.2.2.2.2.2.2.2.2.2.2.2.2.2.2.2.2.2.2.2.2.2.2.2.2.1) (rd := u.2.2.2.2.2.2.2.2.2.2.2.2.2.2.2.2.2.2.2.2.2.2.2.2.2.2.2.2.2.2.1) (rl := u.2.2.2.2.2.2.2.2.2.2.2.2.2.2.2.2.2.2.2.2.2.2.2.2.2.2.2.2.2.2.2.1) (rr := u.2.2.2.2.2.2.2.2.2.2.2.2.2.2.2.2.2.2.2.2.2.2.2.2.2.2.2.2.2.2.2.2.1) (rg := u.2.2.2.2.2.2.2.2.2.2.2.2.2.2.2.2.2.2.2.2.2.2.2.2.2.2.2.2.2.2.2.2.2.1) (rb := u.2.2.2.2.2.2.2.2.2.2.2.2.2.2.2.2.2.2.2.2.2.2.2.2.2.2.2.2.2.2.2.2.2.2.1) (pl := u.2.2.2.2.2.2.2.2.2.2.2.2.2.2.2.2.2.2.2.2.2.2.2.2.2.2.2.2.2.2.2.2.2.2.2.1) (nu := u.2.2.2.2.2.2.2.2.2.2.2.2.2.2.2.2.2.2.2.2.2.2.2.2.2.2.2.2.2.2.2.2.2.2.2.2.1) (ou := u.2.2.2.2.2.2.2.2.2.2.2.2.2.2.2.2.2.2.2.2.2.2.2.2.2.2.2.2.2.2.2.2.2.2.2.2.2.1) (it := u.2.2.2.2.2.2.2.2.2.2.2.2.2.2.2.2.2.2.2.2.2.2.2.2.2.2.2.2.2.2.2.2.2.2.2.2.2.2) (ym := v.1) (yb := v.2.1) (yp := v.2.2.1) (ye := v.2.2.2.1) (yo := v.2.2.2.2.1) (yf := v.2.2.2.2.2.1) (yc := v.2.2.2.2.2.2.1) (yt := v.2.2.2.2.2.2.2.1) (yz := v.2.2.2.2.2.2.2.2.1) (yn := v.2.2.2.2.2.2.2.2.2.1) (yg := v.2.2.2.2.2.2.2.2.2.2) R v1
theorem i_vc_halt {k : Nat} {u : SX} {v : SY} (I : i_Rel k u v) (hk : k + 5 ≤ 2560) : wpX_halt (fun r u' => wpY_halt (fun r' v' => r' = r ∧ i_Rel (k + 5) u' v') v) u := by
  obtain ⟨fc, u⟩ := u
  obtain ⟨ys, v⟩ := v
  obtain ⟨n, e1, e2, R⟩ := I
  have e1 : fc = nI n := e1
  have e2 : ys = nI n := e2
  subst e1 e2
  exact fz_halt (fr := u.1) (fg := u.2.1) (fm := u.2.2.1) (fs := u.2.2.2.1) (fo := u.2.2.2.2.1) (fb := u.2.2.2.2.2.1) (fe := u.2.2.2.2.2.2.1) (fn := u.2.2.2.2.2.2.2.1) (op := u.2.2.2.2.2.2.2.2.1) (de := u.2.2.2.2.2.2.2.2.2.1) (le := u.2.2.2.2.2.2.2.2.2.2.1) (ri := u.2.2.2.2.2.2.2.2.2.2.2.1) (go := u.2.2.2.2.2.2.2.2.2.2.2.2.1) (be := u.2.2.2.2.2.2.2.2.2.2.2.2.2.1) (wo := u.2.2.2.2.2.2.2.2.2.2.2.2.2.2.1) (wd := u.2.2.2.2.2.2.2.2.2.2.2.2.2.2.2.1) (wl := u.2.2.2.2.2.2.2.2.2.2.2.2.2.2.2.2.1) (wr := u.2.2.2.2.2.2.2.2.2.2.2.2.2.2.2.2.2.1) (wg := u.2.2.2.2.2.2.2.2.2.2.2.2.2.2.2.2.2.2.1) (bk := u.2.2.2.2.2.2.2.2.2.2.2.2.2.2.2.2.2.2.2.1) (re := u.2.2.2.2.2.2.2.2.2.2.2.2.2.2.2.2.2.2.2.2.1) (kn := u.2.2.2.2.2.2.2.2.2.2.2.2.2.2.2.2.2.2.2.2.2.1) (va := u.2.2.2.2.2.2.2.2.2.2.2.2.2.2.2.2.2.2.2.2.2.2.1) (so := u.2.2.2.2.2.2.2.2.2.2.2.2.2.2.2.2.2.2.2.2.2.2.2.1) (ah := u.2.2.2.2.2.2.2.2.2.2.2.2.2.2.2.2.2.2.2.2.2.2.2.2.1) (us := u.2.2.2.2.2.2.2.2.2.2.2.2.2.2.2.2.2.2.2.2.2.2.2.2.2.1) (nk := u.2.2.2.2.2.2.2.2.2.2.2.2.2.2.2.2.2.2.2.2.2.2.2.2.2.2.1) (nv := u.2.2.2.2.2.2.2.2.2.2.2.2.2.2.2.2.2.2.2.2.2.2.2.2.2.2.2.1) (ns := u.2.2.2.2.2.2.2.2.2.2.2.2.2.2.2.2.2.2.2.2.2.2.2.2.2.2.2.2.1) (ro := u.2.2.2.2.2.2.2.2.2.2.2.2.2.2.2.2.2.2.2.2.2.2.2.2.2.2.2.2.2.1) (rd := u.2.2.2.2.2.2.2.2.2.2.2.2.2.2.2.2.2.2.2.2.2.2.2.2.2.2.2.2.2.2.1) (rl := u.2.2.2.2.2.2.2.2.2.2.2.2.2.2.2.2.2.2.2.2.2.2.2.2.2.2.2.2.2.2.2.1) (rr := u.2.2.2.2.2.2.2.2.2.2.2.2.2.2.2.2.2.2.2.2.2.2.2.2.2.2.2.2.2.2.2.2.1) (rg := u.2.2.2.2.2.2.2.2.2.2.2.2.2.2.2.2.2.2.2.2.2.2.2.2.2.2.2.2.2.2.2.2.2.1) (rb := u.2.2.2.2.2.2.2.2.2.2.2.2.2.2.2.2.2.2.2.2.2.2.2.2.2.2.2.2.2.2.2.2.2.2.1) (pl := u.2.2.2.2.2.2.2.2.2.2.2.2.2.2.2.2.2.2.2.2.2.2.2.2.2.2.2.2.2.2.2.2.2.2.2.1) (nu := u.2.2.2.2.2.2.2.2.2.2.2.2.2.2.2.2.2.2.2.2.2.2.2.2.2.2.2.2.2.2.2.2.2.2.2.2.1) (ou := u.2.2.2.2.2.2.2.2.2.2.2.2.2.2.2.2.2.2.2.2.2.2.2.2.2.2.2.2.2.2.2.2.2.2.2.2.2.1) (it := u.2.2.2.2.2.2.2.2.2.2.2.2.2.2.2.2.2.2.2.2.2.2.2.2.2.2.2.2.2.2.2.2.2.2.2.2.2.2) (ym := v.1) (yb := v.2.1) (yp := v.2.2.1) (ye := v.2.2.2.1) (yo := v.2.2.2.2.1) (yf := v.2.2.2.2.2.1) (yc := v.2.2.2.2.2.2.1) (yt := v.2.2.2.2.2.2.2.1) (yz := v.2.2.2.2.2.2.2.2.1) (yn := v.2.2.2.2.2.2.2.2.2.1) (yg := v.2.2.2.2.2.2.2.2.2.2) R
theorem i_vc_drop {k : Nat} {u : SX} {v : SY} (I : i_Rel k u v) (hk : k + 5 ≤ 2560) : wpX_drop (fun r u' => wpY_drop (fun r' v' => r' = r ∧ i_Rel (k + 5) u' v') v) u := by
  obtain ⟨fc, u⟩ := u
  obtain ⟨ys, v⟩ := v
  obtain ⟨n, e1, e2, R⟩ := I
  have e1 : fc = nI n := e1
  have e2 : ys = nI n := e2
  subst e1 e2
  exact fz_drop (fr := u.1) (fg := u.2.1) (fm := u.2.2.1) (fs := u.2.2.2.1) (fo := u.2.2.2.2.1) (fb := u.2.2.2.2.2.1) (fe := u.2.2.2.2.2.2.1) (fn := u.2.2.2.2.2.2.2.1) (op := u.2.2.2.2.2.2.2.2.1) (de := u.2.2.2.2.2.2.2.2.2.1) (le := u.2.2.2.2.2.2.2.2.2.2.1) (ri := u.2.2.2.2.2.2.2.2.2.2.2.1) (go := u.2.2.2.2.2.2.2.2.2.2.2.2.1) (be := u.2.2.2.2.2.2.2.2.2.2.2.2.2.1) (wo := u.2.2.2.2.2.2.2.2.2.2.2.2.2.2.1) (wd := u.2.2.2.2.2.2.2.2.2.2.2.2.2.2.2.1) (wl := u.2.2.2.2.2.2.2.2.2.2.2.2.2.2.2.2.1) (wr := u.2.2.2.2.2.2.2.2.2.2.2.2.2.2.2.2.2.1) (wg := u.2.2.2.2.2.2.2.2.2.2.2.2.2.2.2.2.2.2.1) (bk := u.2.2.2.2.2.2.2.2.2.2.2.2.2.2.2.2.2.2.2.1) (re := u.2.2.2.2.2.2.2.2.2.2.2.2.2.2.2.2.2.2.2.2.1) (kn := u.2.2.2.2.2.2.2.2.2.2.2.2.2.2.2.2.2.2.2.2.2.1) (va := u.2.2.2.2.2.2.2.2.2.2.2.2.2.2.2.2.2.2.2.2.2.2.1) (so := u.2.2.2.2.2.2.2.2.2.2.2.2.2.2.2.2.2.2.2.2.2.2.2.1) (ah := u.2.2.2.2.2.2.2.2.2.2.2.2.2.2.2.2.2.2.2.2.2.2.2.2.1) (us := u.2.2.2.2.2.2.2.2.2.2.2.2.2.2.2.2.2.2.2.2.2.2.2.2.2.1) (nk := u.2.2.2.2.2.2.2.2.2.2.2.2.2.2.2.2.2.2.2.2.2.2.2.2.2.2.1) (nv := u.2.2.2.2.2.2.2.2.2.2.2.2.2.2.2.2.2.2.2.2.2.2.2.2.2.2.2.1) (ns := u.2.2.2.2.2.2.2.2.2.2.2.2.2.2.2.2.2.2.2.2.2.2.2.2.2.2.2.2.1) (ro := u.2.2.2.2.2.2.2.2.2.2.2.2.2.2.2.2.2.2.2.2.2.2.2.2.2.2.2.2.2.1) (rd := u.2.2.2.2.2.2.2.2.2.2.2.2.2.2.2.2.2.2.2.2.2.2.2.2.2.2.2.2.2.2.1) (rl := u.2.2.2.2.2.2.2.2.2.2.2.2.2.2.2.2.2.2.2.2.2.2.2.2.2.2.2.2.2.2.2.1) (rr := u.2.2.2.2.2.2.2.2.2.2.2.2.2.2.2.2.2.2.2.2.2.2.2.2.2.2.2.2.2.2.2.2.1) (rg := u.2.2.2.2.2.2.2.2.2.2.2.2.2.2.2.2.2.2.2.2.2.2.2.2.2.2.2.2.2.2.2.2.2.1) (rb := u.2.2.2.2.2.2.2.2.2.2.2.2.2.2.2.2.2.2.2.2.2.2.2.2.2.2.2.2.2.2.2.2.2.2.1) (pl := u.2.2.2.2.2.2.2.2.2.2.2.2.2.2.2.2.2.2.2.2.2.2.2.2.2.2.2.2.2.2.2.2.2.2.2.1) (nu := u.2.2.2.2.2.2.2.2.2.2.2.2.2.2.2.2.2.2.2.2.2.2.2.2.2.2.2.2.2.2.2.2.2.2.2.2.1) (ou := u.2.2.2.2.2.2.2.2.2.2.2.2.2.2.2.2.2.2.2.2.2.2.2.2.2.2.2.2.2.2.2.2.2.2.2.2.2.1) (it := u.2.2.2.2.2.2.2.2.2.2.2.2.2.2.2.2.2.2.2.2.2.2.2.2.2.2.2.2.2.2.2.2.2.2.2.2.2.2) (ym := v.1) (yb := v.2.1) (yp := v.2.2.1) (ye := v.2.2.2.1) (yo := v.2.2.2.2.1) (yf := v.2.2.2.2.2.1) (yc := v.2.2.2.2.2.2.1) (yt := v.2.2.2.2.2.2.2.1) (yz := v.2.2.2.2.2.2.2.2.1) (yn := v.2.2.2.2.2.2.2.2.2.1) (yg := v.2.2.2.2.2.2.2.2.2.2) R
theorem i_vc_clear {k : Nat} {u : SX} {v : SY} (I : i_Rel k u v) (hk : k + 5 ≤ 2560) : wpX_clear (fun u' => wpY_clear (fun v' => i_Rel (k + 5) u' v') v) u := by
  obtain ⟨fc, u⟩ := u
  obtain ⟨ys, v⟩ := v
  obtain ⟨n, e1, e2, R⟩ := I
  have e1 : fc = nI n := e1
  have e2 : ys = nI n := e2
  subst e1 e2
  exact fz_clear (fr := u.1) (fg := u.2.1) (fm := u.2.2.1) (fs := u.2.2.2.1) (fo := u.2.2.2.2.1) (fb := u.2.2.2.2.2.1) (fe := u.2.2.2.2.2.2.1) (fn := u.2.2.2.2.2.2.2.1) (op := u.2.2.2.2.2.2.2.2.1) (de := u.2.2.2.2.2.2.2.2.2.1) (le := u.2.2.2.2.2.2.2.2.2.2.1) (ri := u.2.2.2.2.2.2.2.2.2.2.2.1) (go := u.2.2.2.2.2.2.2.2.2.2.2.2.1) (be := u.2.2.2.2.2.2.2.2.2.2.2.2.2.1) (wo := u.2.2.2.2.2.2.2.2.2.2.2.2.2.2.1) (wd := u.2.2.2.2.2.2.2.2.2.2.2.2.2.2.2.1) (wl := u.2.2.2.2.2.2.2.2.2.2.2.2.2.2.2.2.1) (wr := u.2.2.2.2.2.2.2.2.2.2.2.2.2.2.2.2.2.1) (wg := u.2.2.2.2.2.2.2.2.2.2.2.2.2.2.2.2.2.2.1) (bk := u.2.2.2.2.2.2.2.2.2.2.2.2.2.2.2.2.2.2.2.1) (re := u.2.2.2.2.2.2.2.2.2.2.2.2.2.2.2.2.2.2.2.2.1) (kn := u.2.2.2.2.2.2.2.2.2.2.2.2.2.2.2.2.2.2.2.2.2.1) (va := u.2.2.2.2.2.2.2.2.2.2.2.2.2.2.2.2.2.2.2.2.2.2.1) (so := u.2.2.2.2.2.2.2.2.2.2.2.2.2.2.2.2.2.2.2.2.2.2.2.1) (ah := u.2.2.2.2.2.2.2.2.2.2.2.2.2.2.2.2.2.2.2.2.2.2.2.2.1) (us := u.2.2.2.2.2.2.2.2.2.2.2.2.2.2.2.2.2.2.2.2.2.2.2.2.2.1) (nk := u.2.2.2.2.2.2.2.2.2.2.2.2.2.2.2.2.2.2.2.2.2.2.2.2.2.2.1) (nv := u.2.2.2.2.2.2.2.2.2.2.2.2.2.2.2.2.2.2.2.2.2.2.2.2.2.2.2.1) (ns := u.2.2.2.2.2.2.2.2.2.2.2.2.2.2.2.2.2.2.2.2.2.2.2.2.2.2.2.2.1) (ro := u.2.2.2.2.2.2.2.2.2.2.2.2.2.2.2.2.2.2.2.2.2.2.2.2.2.2.2.2.2.1) (rd := u.2.2.2.2.2.2.2.2.2.2.2.2.2.2.2.2.2.2.2.2.2.2.2.2.2.2.2.2.2.2.1) (rl := u.2.2.2.2.2.2.2.2.2.2.2.2.2.2.2.2.2.2.2.2.2.2.2.2.2.2.2.2.2.2.2.1) (rr := u.2.2.2.2.2.2.2.2.2.2.2.2.2.2.2.2.2.2.2.2.2.2.2.2.2.2.2.2.2.2.2.2.1) (rg := u.2.2.2.2.2.2.2.2.2.2.2.2.2.2.2.2.2.2.2.2.2.2.2.2.2.2.2.2.2.2.2.2.2.1) (rb := u.2.2.2.2.2.2.2.2.2.2.2.2.2.2.2.2.2.2.2.2.2.2.2.2.2.2.2.2.2.2.2.2.2.2.1) (pl := u.2.2.2.2.2.2.2.2.2.2.2.2.2.2.2.2.2.2.2.2.2.2.2.2.2.2.2.2.2.2.2.2.2.2.2.1) (nu := u.2.2.2.2.2.2.2.2.2.2.2.2.2.2.2.2.2.2.2.2.2.2.2.2.2.2.2.2.2.2.2.2.2.2.2.2.1) (ou := u.2.2.2.2.2.2.2.2.2.2.2.2.2.2.2.2.2.2.2.2.2.2.2.2.2.2.2.2.2.2.2.2.2.2.2.2.2.1) (it := u.2.2.2.2.2.2.2.2.2.2.2.2.2.2.2.2.2.2.2.2.2.2.2.2.2.2.2.2.2.2.2.2.2.2.2.2.2.2) (ym := v.1) (yb := v.2.1) (yp := v.2.2.1) (ye := v.2.2.2.1) (yo := v.2.2.2.2.1) (yf := v.2.2.2.2.2.1) (yc := v.2.2.2.2.2.2.1) (yt := v.2.2.2.2.2.2.2.1) (yz := v.2.2.2.2.2.2.2.2.1) (yn := v.2.2.2.2.2.2.2.2.2.1) (yg := v.2.2.2.2.2.2.2.2.2.2) R
theorem i_vc_size {k : Nat} {u : SX} {v : SY} (I : i_Rel k u v) (hk : k + 5 ≤ 2560) : wpX_size (fun r => wpY_size (fun r' => r' = r ∧ i_Rel (k + 5) u v) v) u := by
  obtain ⟨fc, u⟩ := u
  obtain ⟨ys, v⟩ := v
  obtain ⟨n, e1, e2, R⟩ := I
  have e1 : fc = nI n := e1
  have e2 : ys = nI n := e2
  subst e1 e2
  exact fz_size (fr := u.1) (fg := u.2.1) (fm := u.2.2.1) (fs := u.2.2.2.1) (fo := u.2.2.2.2.1) (fb := u.2.2.2.2.2.1) (fe := u.2.2.2.2.2.2.1) (fn := u.2.2.2.2.2.2.2.1) (op := u.2.2.2.2.2.2.2.2.1) (de := u.2.2.2.2.2.2.2.2.2.1) (le := u.2.2.2.2.2.2.2.2.2.2.1) (ri := u.2.2.2.2.2.2.2.2.2.2.2.1) (go := u.2.2.2.2.2.2.2.2.2.2.2.2.1) (be := u.2.2.2.2.2.2.2.2.2.2.2.2.2.1) (wo := u.2.2.2.2.2.2.2.2.2.2.2.2.2.2.1) (wd := u.2.2.2.2.2.2.2.2.2.2.2.2.2.2.2.1) (wl := u.2.2.2.2.2.2.2.2.2.2.2.2.2.2.2.2.1) (wr := u.2.2.2.2.2.2.2.2.2.2.2.2.2.2.2.2.2.1) (wg := u.2.2.2.2.2.2.2.2.2.2.2.2.2.2.2.2.2.2.1) (bk := u.2.2.2.2.2.2.2.2.2.2.2.2.2.2.2.2.2.2.2.1) (re := u.2.2.2.2.2.2.2.2.2.2.2.2.2.2.2.2.2.2.2.2.1) (kn := u.2.2.2.2.2.2.2.2.2.2.2.2.2.2.2.2.2.2.2.2.2.1) (va := u.2.2.2.2.2.2.2.2.2.2.2.2.2.2.2.2.2.2.2.2.2.2.1) (so := u.2.2.2.2.2.2.2.2.2.2.2.2.2.2.2.2.2.2.2.2.2.2.2.1) (ah := u.2.2.2.2.2.2.2.2.2.2.2.2.2.2.2.2.2.2.2.2.2.2.2.2.1) (us := u.2.2.2.2.2.2.2.2.2.2.2.2.2.2.2.2.2.2.2.2.2.2.2.2.2.1) (nk := u.2.2.2.2.2.2.2.2.2.2.2.2.2.2.2.2.2.2.2.2.2.2.2.2.2.2.1) (nv := u.2.2.2.2.2.2.2.2.2.2.2.2.2.2.2.2.2.2.2.2.2.2.2.2.2.2.2.1) (ns := u.2.2.2.2.2.2.2.2.2.2.2.2.2.2.2.2.2.2.2.2.2.2.2.2.2.2.2.2.1) (ro := u.2.2.2.2.2.2.2.2.2.2.2.2.2.2.2.2.2.2.2.2.2.2.2.2.2.2.2.2.2.1) (rd := u.2.2.2.2.2.2.2.2.2.2.2.2.2.2.2.2.2.2.2.2.2.2.2.2.2.2.2.2.2.2.1) (rl := u.2.2.2.2.2.2.2.2.2.2.2.2.2.2.2.2.2.2.2.2.2.2.2.2.2.2.2.2.2.2.2.1) (rr := u.2.2.2.2.2.2.2.2.2.2.2.2.2.2.2.2.2.2.2.2.2.2.2.2.2.2.2.2.2.2.2.2.1) (rg := u.2.2.2.2.2.2.2.2.2.2.2.2.2.2.2.2.2.2.2.2.2.2.2.2.2.2.2.2.2.2.2.2.2.1) (rb := u.2.2.2.2.2.2.2.2.2.2.2.2.2.2.2.2.2.2.2.2.2.2.2.2.2.2.2.2.2.2.2.2.2.2.1) (pl := u.2.2.2.2.2.2.2.2.2.2.2.2.2.2.2.2.2.2.2.2.2.2.2.2.2.2.2.2.2.2.2.2.2.2.2.1) (nu := u.2.2.2.2.2.2.2.2.2.2.2.2.2.2.2.2.2.2.2.2.2.2.2.2.2.2.2.2.2.2.2.2.2.2.2.2.1) (ou := u.2.2.2.2.2.2.2.2.2.2.2.2.2.2.2.2.2.2.2.2.2.2.2.2.2.2.2.2.2.2.2.2.2.2.2.2.2.1) (it := u.2.2.2.2.2.2.2.2.2.2.2.2.2.2.2.2.2.2.2.2.2.2.2.2.2.2.2.2.2.2.2.2.2.2.2.2.2.2) (ym := v.1) (yb := v.2.1) (yp := v.2.2.1) (ye := v.2.2.2.1) (yo := v.2.2.2.2.1) (yf := v.2.2.2.2.2.1) (yc := v.2.2.2.2.2.2.1) (yt := v.2.2.2.2.2.2.2.1) (yz := v.2.2.2.2.2.2.2.2.1) (yn := v.2.2.2.2.2.2.2.2.2.1) (yg := v.2.2.2.2.2.2.2.2.2.2) R
theorem i_vc_start {k : Nat} {u : SX} {v : SY} (I : i_Rel k u v) (hk : k + 5 ≤ 2560) (v1 : Int32) (v2 : Int32) : wpX_start (fun r u' => wpY_start (fun r' v' => r' = r ∧ i_Rel (k + 5) u' v') v v1 v2) u v1 v2 := by
  obtain ⟨fc, u⟩ := u
  obtain ⟨ys, v⟩ := v
  obtain ⟨n, e1, e2, R⟩ := I
  have e1 : fc = nI n := e1
  have e2 : ys = nI n := e2
  subst e1 e2
  exact fz_start (fr := u.1) (fg := u.2.1) (fm := u.2.2.1) (fs := u.2.2.2.1) (fo := u.2.2.2.2.1) (fb := u.2.2.2.2.2.1) (fe := u.2.2.2.2.2.2.1) (fn := u.2.2.2.2.2.2.2.1) (op := u.2.2.2.2.2.2.2.2.1) (de := u.2.2.2.2.2.2.2.2.2.1) (le := u.2.2.2.2.2.2.2.2.2.2.1) (ri := u.2.2.2.2.2.2.2.2.2.2.2.1) (go := u.2.2.2.2.2.2.2.2.2.2.2.2.1) (be := u.2.2.2.2.2.2.2.2.2.2.2.2.2.1) (wo := u.2.2.2.2.2.2.2.2.2.2.2.2.2.2.1) (wd := u.2.2.2.2.2.2.2.2.2.2.2.2.2.2.2.1) (wl := u.2.2.2.2.2.2.2.2.2.2.2.2.2.2.2.2.1) (wr := u.2.2.2.2.2.2.2.2.2.2.2.2.2.2.2.2.2.1) (wg := u.2.2.2.2.2.2.2.2.2.2.2.2.2.2.2.2.2.2.1) (bk := u.2.2.2.2.2.2.2.2.2.2.2.2.2.2.2.2.2.2.2.1) (re := u.2.2.2.2.2.2.2.2.2.2.2.2.2.2.2.2.2.2.2.2.1) (kn := u.2.2.2.2.2.2.2.2.2.2.2.2.2.2.2.2.2.2.2.2.2.1) (va := u.2.2.2.2.2.2.2.2.2.2.2.2.2.2.2.2.2.2.2.2.2.2.1) (so := u.2.2.2.2.2.2.2.2.2.2.2.2.2.2.2.2.2.2.2.2.2.2.2.1) (ah := u.2.2.2.2.2.2.2.2.2.2.2.2.2.2.2.2.2.2.2.2.2.2.2.2.1) (us := u.2.2.2.2.2.2.2.2.2.2.2.2.2.2.2.2.2.2.2.2.2.2.2.2.2.1) (nk := u.2.2.2.2.2.2.2.2.2.2.2.2.2.2.2.2.2.2.2.2.2.2.2.2.2.2.1) (nv := u.2.2.2.2.2.2.2.2.2.2.2.2.2.2.2.2.2.2.2.2.2.2.2.2.2.2.2.1) (ns := u.2.2.2.2.2.2.2.2.2.2.2.2.2.2.2.2.2.2.2.2.2.2.2.2.2.2.2.2.1) (ro := u.2.2.2.2.2.2.2.2.2.2.2.2.2.2.2.2.2.2.2.2.2.2.2.2.2.2.2.2.2.1) (rd := u.2.2.2.2.2.2.2.2.2.2.2.2.2.2.2.2.2.2.2.2.2.2.2.2.2.2.2.2.2.2.1) (rl := u.2.2.2.2.2.2.2.2.2.2.2.2.2.2.2.2.2.2.2.2.2.2.2.2.2.2.2.2.2.2.2.1) (rr := u.2.2.2.2.2.2.2.2.2.2.2.2.2.2.2.2.2.2.2.2.2.2.2.2.2.2.2.2.2.2.2.2.1) (rg := u.2.2.2.2.2.2.2.2.2.2.2.2.2.2.2.2.2.2.2.2.2.2.2.2.2.2.2.2.2.2.2.2.2.1) (rb := u.2.2.2.2.2.2.2.2.2.2.2.2.2.2.2.2.2.2.2.2.2.2.2.2.2.2.2.2.2.2.2.2.2.2.1) (pl := u.2.2.2.2.2.2.2.2.2.2.2.2.2.2.2.2.2.2.2.2.2.2.2.2.2.2.2.2.2.2.2.2.2.2.2.1) (nu := u.2.2.2.2.2.2.2.2.2.2.2.2.2.2.2.2.2.2.2.2.2.2.2.2.2.2.2.2.2.2.2.2.2.2.2.2.1) (ou := u.2.2.2.2.2.2.2.2.2.2.2.2.2.2.2.2.2.2.2.2.2.2.2.2.2.2.2.2.2.2.2.2.2.2.2.2.2.1) (it := u.2.2.2.2.2.2.2.2.2.2.2.2.2.2.2.2.2.2.2.2.2.2.2.2.2.2.2.2.2.2.2.2.2.2.2.2.2.2) (ym := v.1) (yb := v.2.1) (yp := v.2.2.1) (ye := v.2.2.2.1) (yo := v.2.2.2.2.1) (yf := v.2.2.2.2.2.1) (yc := v.2.2.2.2.2.2.1) (yt := v.2.2.2.2.2.2.2.1) (yz := v.2.2.2.2.2.2.2.2.1) (yn := v.2.2.2.2.2.2.2.2.2.1) (yg := v.2.2.2.2.2.2.2.2.2.2) R v1 v2
theorem i_vc_ending {k : Nat} {u : SX} {v : SY} (I : i_Rel k u v) (hk : k + 5 ≤ 2560) : wpX_ending (fun r u' => wpY_ending (fun r' v' => r' = r ∧ i_Rel (k + 5) u' v') v) u := by
  obtain ⟨fc, u⟩ := u
  obtain ⟨ys, v⟩ := v
  obtain ⟨n, e1, e2, R⟩ := I
  have e1 : fc = nI n := e1
  have e2 : ys = nI n := e2
  subst e1 e2
  exact fz_ending (fr := u.1) (fg := u.2.1) (fm := u.2.2.1) (fs := u.2.2.2.1) (fo := u.2.2.2.2.1) (fb := u.2.2.2.2.2.1) (fe := u.2.2.2.2.2.2.1) (fn := u.2.2.2.2.2.2.2.1) (op := u.2.2.2.2.2.2.2.2.1) (de := u.2.2.2.2.2.2.2.2.2.1) (le := u.2.2.2.2.2.2.2.2.2.2.1) (ri := u.2.2.2.2.2.2.2.2.2.2.2.1) (go := u.2.2.2.2.2.2.2.2.2.2.2.2.1) (be := u.2.2.2.2.2.2.2.2.2.2.2.2.2.1) (wo := u.2.2.2.2.2.2.2.2.2.2.2.2.2.2.1) (wd := u.2.2.2.2.2.2.2.2.2.2.2.2.2.2.2.1) (wl := u.2.2.2.2.2.2.2.2.2.2.2.2.2.2.2.2.1) (wr := u.2.2.2.2.2.2.2.2.2.2.2.2.2.2.2.2.2.1) (wg := u.2.2.2.2.2.2.2.2.2.2.2.2.2.2.2.2.2.2.1) (bk := u.2.2.2.2.2.2.2.2.2.2.2.2.2.2.2.2.2.2.2.1) (re := u.2.2.2.2.2.2.2.2.2.2.2.2.2.2.2.2.2.2.2.2.1) (kn := u.2.2.2.2.2.2.2.2.2.2.2.2.2.2.2.2.2.2.2.2.2.1) (va := u.2.2.2.2.2.2.2.2.2.2.2.2.2.2.2.2.2.2.2.2.2.2.1) (so := u.2.2.2.2.2.2.2.2.2.2.2.2.2.2.2.2.2.2.2.2.2.2.2.1) (ah := u.2.2.2.2.2.2.2.2.2.2.2.2.2.2.2.2.2.2.2.2.2.2.2.2.1) (us := u.2.2.2.2.2.2.2.2.2.2.2.2.2.2.2.2.2.2.2.2.2.2.2.2.2.1) (nk := u.2.2.2.2.2.2.2.2.2.2.2.2.2.2.2.2.2.2.2.2.2.2.2.2.2.2.1) (nv := u.2.2.2.2.2.2.2.2.2.2.2.2.2.2.2.2.2.2.2.2.2.2.2.2.2.2.2.1) (ns := u.2.2.2.2.2.2.2.2.2.2.2.2.2.2.2.2.2.2.2.2.2.2.2.2.2.2.2.2.1) (ro := u.2.2.2.2.2.2.2.2.2.2.2.2.2.2.2.2.2.2.2.2.2.2.2.2.2.2.2.2.2.1) (rd := u.2.2.2.2.2.2.2.2.2.2.2.2.2.2.2.2.2.2.2.2.2.2.2.2.2.2.2.2.2.2.1) (rl := u.2.2.2.2.2.2.2.2.2.2.2.2.2.2.2.2.2.2.2.2.2.2.2.2.2.2.2.2.2.2.2.1) (rr := u.2.2.2.2.2.2.2.2.2.2.2.2.2.2.2.2.2.2.2.2.2.2.2.2.2.2.2.2.2.2.2.2.1) (rg := u.2.2.2.2.2.2.2.2.2.2.2.2.2.2.2.2.2.2.2.2.2.2.2.2.2.2.2.2.2.2.2.2.2.1) (rb := u.2.2.2.2.2.2.2.2.2.2.2.2.2.2.2.2.2.2.2.2.2.2.2.2.2.2.2.2.2.2.2.2.2.2.1) (pl := u.2.2.2.2.2.2.2.2.2.2.2.2.2.2.2.2.2.2.2.2.2.2.2.2.2.2.2.2.2.2.2.2.2.2.2.1) (nu := u.2.2.2.2.2.2.2.2.2.2.2.2.2.2.2.2.2.2.2.2.2.2.2.2.2.2.2.2.2.2.2.2.2.2.2.2.1) (ou := u.2.2.2.2.2.2.2.2.2.2.2.2.2.2.2.2.2.2.2.2.2.2.2.2.2.2.2.2.2.2.2.2.2.2.2.2.2.1) (it := u.2.2.2.2.2.2.2.2.2.2.2.2.2.2.2.2.2.2.2.2.2.2.2.2.2.2.2.2.2.2.2.2.2.2.2.2.2.2) (ym := v.1) (yb := v.2.1) (yp := v.2.2.1) (ye := v.2.2.2.1) (yo := v.2.2.2.2.1) (yf := v.2.2.2.2.2.1) (yc := v.2.2.2.2.2.2.1) (yt := v.2.2.2.2.2.2.2.1) (yz := v.2.2.2.2.2.2.2.2.1) (yn := v.2.2.2.2.2.2.2.2.2.1) (yg := v.2.2.2.2.2.2.2.2.2.2) R
theorem i_vc_outs {k : Nat} {u : SX} {v : SY} (I : i_Rel k u v) (hk : k + 5 ≤ 2560) : wpX_outs (fun r u' => wpY_outs (fun r' v' => r' = r ∧ i_Rel (k + 5) u' v') v) u := by
  obtain ⟨fc, u⟩ := u
  obtain ⟨ys, v⟩ := v
  obtain ⟨n, e1, e2, R⟩ := I
  have e1 : fc = nI n := e1
  have e2 : ys = nI n := e2
  subst e1 e2
  exact fz_outs (fr := u.1) (fg := u.2.1) (fm := u.2.2.1) (fs := u.2.2.2.1) (fo := u.2.2.2.2.1) (fb := u.2.2.2.2.2.1) (fe := u.2.2.2.2.2.2.1) (fn := u.2.2.2.2.2.2.2.1) (op := u.2.2.2.2.2.2.2.2.1) (de := u.2.2.2.2.2.2.2.2.2.1) (le := u.2.2.2.2.2.2.2.2.2.2.1) (ri := u.2.2.2.2.2.2.2.2.2.2.2.1) (go := u.2.2.2.2.2.2.2.2.2.2.2.2.1) (be := u.2.2.2.2.2.2.2.2.2.2.2.2.2.1) (wo := u.2.2.2.2.2.2.2.2.2.2.2.2.2.2.1) (wd := u.2.2.2.2.2.2.2.2.2.2.2.2.2.2.2.1) (wl := u.2.2.2.2.2.2.2.2.2.2.2.2.2.2.2.2.1) (wr := u.2.2.2.2.2.2.2.2.2.2.2.2.2.2.2.2.2.1) (wg := u.2.2.2.2.2.2.2.2.2.2.2.2.2.2.2.2.2.2.1) (bk := u.2.2.2.2.2.2.2.2.2.2.2.2.2.2.2.2.2.2.2.1) (re := u.2.2.2.2.2.2.2.2.2.2.2.2.2.2.2.2.2.2.2.2.1) (kn := u.2.2.2.2.2.2.2.2.2.2.2.2.2.2.2.2.2.2.2.2.2.1) (va := u.2.2.2.2.2.2.2.2.2.2.2.2.2.2.2.2.2.2.2.2.2.2.1) (so := u.2.2.2.2.2.2.2.2.2.2.2.2.2.2.2.2.2.2.2.2.2.2.2.1) (ah := u.2.2.2.2.2.2.2.2.2.2.2.2.2.2.2.2.2.2.2.2.2.2.2.2.1) (us := u.2.2.2.2.2.2.2.2.2.2.2.2.2.2.2.2.2.2.2.2.2.2.2.2.2.1) (nk := u.2.2.2.2.2.2.2.2.2.2.2.2.2.2.2.2.2.2.2.2.2.2.2.2.2.2.1) (nv := u.2.2.2.2.2.2.2.2.2.2.2.2.2.2.2.2.2.2.2.2.2.2.2.2.2.2.2.1) (ns := u.2.2.2.2.2.2.2.2.2.2.2.2.2.2.2.2.2.2.2.2.2.2.2.2.2.2.2.2.1) (ro := u.2.2.2.2.2.2.2.2.2.2.2.2.2.2.2.2.2.2.2.2.2.2.2.2.2.2.2.2.2.1) (rd := u.2.2.2.2.2.2.2.2.2.2.2.2.2.2.2.2.2.2.2.2.2.2.2.2.2.2.2.2.2.2.1) (rl := u.2.2.2.2.2.2.2.2.2.2.2.2.2.2.2.2.2.2.2.2.2.2.2.2.2.2.2.2.2.2.2.1) (rr := u.2.2.2.2.2.2.2.2.2.2.2.2.2.2.2.2.2.2.2.2.2.2.2.2.2.2.2.2.2.2.2.2.1) (rg := u.2.2.2.2.2.2.2.2.2.2.2.2.2.2.2.2.2.2.2.2.2.2.2.2.2.2.2.2.2.2.2.2.2.1) (rb := u.2.2.2.2.2.2.2.2.2.2.2.2.2.2.2.2.2.2.2.2.2.2.2.2.2.2.2.2.2.2.2.2.2.2.1) (pl := u.2.2.2.2.2.2.2.2.2.2.2.2.2.2.2.2.2.2.2.2.2.2.2.2.2.2.2.2.2.2.2.2.2.2.2.1) (nu := u.2.2.2.2.2.2.2.2.2.2.2.2.2.2.2.2.2.2.2.2.2.2.2.2.2.2.2.2.2.2.2.2.2.2.2.2.1) (ou := u.2.2.2.2.2.2.2.2.2.2.2.2.2.2.2.2.2.2.2.2.2.2.2.2.2.2.2.2.2.2.2.2.2.2.2.2.2.1) (it := u.2.2.2.2.2.2.2.2.2.2.2.2.2.2.2.2.2.2.2.2.2.2.2.2.2.2.2.2.2.2.2.2.2.2.2.2.2.2) (ym := v.1) (yb := v.2.1) (yp := v.2.2.1) (ye := v.2.2.2.1) (yo := v.2.2.2.2.1) (yf := v.2.2.2.2.2.1) (yc := v.2.2.2.2.2.2.1) (yt := v.2.2.2.2.2.2.2.1) (yz := v.2.2.2.2.2.2.2.2.1) (yn := v.2.2.2.2.2.2.2.2.2.1) (yg := v.2.2.2.2.2.2.2.2.2.2) R
theorem i_vc_output {k : Nat} {u : SX} {v : SY} (I : i_Rel k u v) (hk : k + 5 ≤ 2560) (v1 : Int32) : wpX_output (fun r u' => wpY_output (fun r' v' => r' = r ∧ i_Rel (k + 5) u' v') v v1) u v1 := by
  obtain ⟨fc, u⟩ := u
  obtain ⟨ys, v⟩ := v
  obtain ⟨n, e1, e2, R⟩ := I
  have e1 : fc = nI n := e1
  have e2 : ys = nI n := e2
  subst e1 e2
  exact fz_output (fr := u.1) (fg := u.2.1) (fm := u.2.2.1) (fs := u.2.2.2.1) (fo := u.2.2.2.2.1) (fb := u.2.2.2.2.2.1) (fe := u.2.2.2.2.2.2.1) (fn := u.2.2.2.2.2.2.2.1) (op := u.2.2.2.2.2.2.2.2.1) (de := u.2.2.2.2.2.2.2.2.2.1) (le := u.2.2.2.2.2.2.2.2.2.2.1) (ri := u.2.2.2.2.2.2.2.2.2.2.2.1) (go := u.2.2.2.2.2.2.2.2.2.2.2.2.1) (be := u.2.2.2.2.2.2.2.2.2.2.2.2.2.1) (wo := u.2.2.2.2.2.2.2.2.2.2.2.2.2.2.1) (wd := u.2.2.2.2.2.2.2.2.2.2.2.2.2.2.2.1) (wl := u.2.2.2.2.2.2.2.2.2.2.2.2.2.2.2.2.1) (wr := u.2.2.2.2.2.2.2.2.2.2.2.2.2.2.2.2.2.1) (wg := u.2.2.2.2.2.2.2.2.2.2.2.2.2.2.2.2.2.2.1) (bk := u.2.2.2.2.2.2.2.2.2.2.2.2.2.2.2.2.2.2.2.1) (re := u.2.2.2.2.2.2.2.2.2.2.2.2.2.2.2.2.2.2.2.2.1) (kn := u.2.2.2.2.2.2.2.2.2.2.2.2.2.2.2.2.2.2.2.2.2.1) (va := u.2.2.2.2.2.2.2.2.2.2.2.2.2.2.2.2.2.2.2.2.2.2.1) (so := u.2.2.2.2.2.2.2.2.2.2.2.2.2.2.2.2.2.2.2.2.2.2.2.1) (ah := u.2.2.2.2.2.2.2.2.2.2.2.2.2.2.2.2.2.2.2.2.2.2.2.2.1) (us := u.2.2.2.2.2.2.2.2.2.2.2.2.2.2.2.2.2.2.2.2.2.2.2.2.2.1) (nk := u.2.2.2.2.2.2.2.2.2.2.2.2.2.2.2.2.2.2.2.2.2.2.2.2.2.2.1) (nv := u.2.2.2.2.2.2.2.2.2.2.2.2.2.2.2.2.2.2.2.2.2.2.2.2.2.2.2.1) (ns := u.2.2.2.2.2.2.2.2.2.2.2.2.2.2.2.2.2.2.2.2.2.2.2.2.2.2.2.2.1) (ro := u.2.2.2.2.2.2.2.2.2.2.2.2.2.2.2.2.2.2.2.2.2.2.2.2.2.2.2.2.2.1) (rd := u.2.2.2.2.2.2.2.2.2.2.2.2.2.2.2.2.2.2.2.2.2.2.2.2.2.2.2.2.2.2.1) (rl := u.2.2.2.2.2.2.2.2.2.2.2.2.2.2.2.2.2.2.2.2.2.2.2.2.2.2.2.2.2.2.2.1) (rr := u.2.2.2.2.2.2.2.2.2.2.2.2.2.2.2.2.2.2.2.2.2.2.2.2.2.2.2.2.2.2.2.2.1) (rg := u.2.2.2.2.2.2.2.2.2.2.2.2.2.2.2.2.2.2.2.2.2.2.2.2.2.2.2.2.2.2.2.2.2.1) (rb := u.2.2.2.2.2.2.2.2.2.2.2.2.2.2.2.2.2.2.2.2.2.2.2.2.2.2.2.2.2.2.2.2.2.2.1) (pl := u.2.2.2.2.2.2.2.2.2.2.2.2.2.2.2.2.2.2.2.2.2.2.2.2.2.2.2.2.2.2.2.2.2.2.2.1) (nu := u.2.2.2.2.2.2.2.2.2.2.2.2.2.2.2.2.2.2.2.2.2.2.2.2.2.2.2.2.2.2.2.2.2.2.2.2.1) (ou := u.2.2.2.2.2.2.2.2.2.2.2.2.2.2.2.2.2.2.2.2.2.2.2.2.2.2.2.2.2.2.2.2.2.2.2.2.2.1) (it := u.2.2.2.2.2.2.2.2.2.2.2.2.2.2.2.2.2.2.2.2.2.2.2.2.2.2.2.2.2.2.2.2.2.2.2.2.2.2) (ym := v.1) (yb := v.2.1) (yp := v.2.2.1) (ye := v.2.2.2.1) (yo := v.2.2.2.2.1) (yf := v.2.2.2.2.2.1) (yc := v.2.2.2.2.2.2.1) (yt := v.2.2.2.2.2.2.2.1) (yz := v.2.2.2.2.2.2.2.2.1) (yn := v.2.2.2.2.2.2.2.2.2.1) (yg := v.2.2.2.2.2.2.2.2.2.2) R v1
theorem i_vc_digest {k : Nat} {u : SX} {v : SY} (I : i_Rel k u v) (hk : k + 5 ≤ 2560) : wpX_digest (fun r u' => wpY_digest (fun r' v' => r' = r ∧ i_Rel (k + 5) u' v') v) u := by
  obtain ⟨fc, u⟩ := u
  obtain ⟨ys, v⟩ := v
  obtain ⟨n, e1, e2, R⟩ := I
  have e1 : fc = nI n := e1
  have e2 : ys = nI n := e2
  subst e1 e2
  exact fz_digest (fr := u.1) (fg := u.2.1) (fm := u.2.2.1) (fs := u.2.2.2.1) (fo := u.2.2.2.2.1) (fb := u.2.2.2.2.2.1) (fe := u.2.2.2.2.2.2.1) (fn := u.2.2.2.2.2.2.2.1) (op := u.2.2.2.2.2.2.2.2.1) (de := u.2.2.2.2.2.2.2.2.2.1) (le := u.2.2.2.2.2.2.2.2.2.2.1) (ri := u.2.2.2.2.2.2.2.2.2.2.2.1) (go := u.2.2.2.2.2.2.2.2.2.2.2.2.1) (be := u.2.2.2.2.2.2.2.2.2.2.2.2.2.1) (wo := u.2.2.2.2.2.2.2.2.2.2.2.2.2.2.1) (wd := u.2.2.2.2.2.2.2.2.2.2.2.2.2.2.2.1) (wl := u.2.2.2.2.2.2.2.2.2.2.2.2.2.2.2.2.1) (wr := u.2.2.2.2.2.2.2.2.2.2.2.2.2.2.2.2.2.1) (wg := u.2.2.2.2.2.2.2.2.2.2.2.2.2.2.2.2.2.2.1) (bk := u.2.2.2.2.2.2.2.2.2.2.2.2.2.2.2.2.2.2.2.1) (re := u.2.2.2.2.2.2.2.2.2.2.2.2.2.2.2.2.2.2.2.2.1) (kn := u.2.2.2.2.2.2.2.2.2.2.2.2.2.2.2.2.2.2.2.2.2.1) (va := u.2.2.2.2.2.2.2.2.2.2.2.2.2.2.2.2.2.2.2.2.2.2.1) (so := u.2.2.2.2.2.2.2.2.2.2.2.2.2.2.2.2.2.2.2.2.2.2.2.1) (ah := u.2.2.2.2.2.2.2.2.2.2.2.2.2.2.2.2.2.2.2.2.2.2.2.2.1) (us := u.2.2.2.2.2.2.2.2.2.2.2.2.2.2.2.2.2.2.2.2.2.2.2.2.2.1) (nk := u.2.2.2.2.2.2.2.2.2.2.2.2.2.2.2.2.2.2.2.2.2.2.2.2.2.2.1) (nv := u.2.2.2.2.2.2.2.2.2.2.2.2.2.2.2.2.2.2.2.2.2.2.2.2.2.2.2.1) (ns := u.2.2.2.2.2.2.2.2.2.2.2.2.2.2.2.2.2.2.2.2.2.2.2.2.2.2.2.2.1) (ro := u.2.2.2.2.2.2.2.2.2.2.2.2.2.2.2.2.2.2.2.2.2.2.2.2.2.2.2.2.2.1) (rd := u.2.2.2.2.2.2.2.2.2.2.2.2.2.2.2.2.2.2.2.2.2.2.2.2.2.2.2.2.2.2.1) (rl := u.2.2.2.2.2.2.2.2.2.2.2.2.2.2.2.2.2.2.2.2.2.2.2.2.2.2.2.2.2.2.2.1) (rr := u.2.2.2.2.2.2.2.2.2.2.2.2.2.2.2.2.2.2.2.2.2.2.2.2.2.2.2.2.2.2.2.2.1) (rg := u.2.2.2.2.2.2.2.2.2.2.2.2.2.2.2.2.2.2.2.2.2.2.2.2.2.2.2.2.2.2.2.2.2.1) (rb := u.2.2.2.2.2.2.2.2.2.2.2.2.2.2.2.2.2.2.2.2.2.2.2.2.2.2.2.2.2.2.2.2.2.2.1) (pl := u.2.2.2.2.2.2.2.2.2.2.2.2.2.2.2.2.2.2.2.2.2.2.2.2.2.2.2.2.2.2.2.2.2.2.2.1) (nu := u.2.2.2.2.2.2.2.2.2.2.2.2.2.2.2.2.2.2.2.2.2.2.2.2.2.2.2.2.2.2.2.2.2.2.2.2.1) (ou := u.2.2.2.2.2.2.2.2.2.2.2.2.2.2.2.2.2.2.2.2.2.2.2.2.2.2.2.2.2.2.2.2.2.2.2.2.2.1) (it := u.2.2.2.2.2.2.2.2.2.2.2.2.2.2.2.2.2.2.2.2.2.2.2.2.2.2.2.2.2.2.2.2.2.2.2.2.2.2) (ym := v.1) (yb := v.2.1) (yp := v.2.2.1) (ye := v.2.2.2.1) (yo := v.2.2.2.2.1) (yf := v.2.2.2.2.2.1) (yc := v.2.2.2.2.2.2.1) (yt := v.2.2.2.2.2.2.2.1) (yz := v.2.2.2.2.2.2.2.2.1) (yn := v.2.2.2.2.2.2.2.2.2.1) (yg := v.2.2.2.2.2.2.2.2.2.2) R
theorem i_vc_backs {k : Nat} {u : SX} {v : SY} (I : i_Rel k u v) (hk : k + 5 ≤ 2560) : wpX_backs (fun r u' => wpY_backs (fun r' v' => r' = r ∧ i_Rel (k + 5) u' v') v) u := by
  obtain ⟨fc, u⟩ := u
  obtain ⟨ys, v⟩ := v
  obtain ⟨n, e1, e2, R⟩ := I
  have e1 : fc = nI n := e1
  have e2 : ys = nI n := e2
  subst e1 e2
  exact fz_backs (fr := u.1) (fg := u.2.1) (fm := u.2.2.1) (fs := u.2.2.2.1) (fo := u.2.2.2.2.1) (fb := u.2.2.2.2.2.1) (fe := u.2.2.2.2.2.2.1) (fn := u.2.2.2.2.2.2.2.1) (op := u.2.2.2.2.2.2.2.2.1) (de := u.2.2.2.2.2.2.2.2.2.1) (le := u.2.2.2.2.2.2.2.2.2.2.1) (ri := u.2.2.2.2.2.2.2.2.2.2.2.1) (go := u.2.2.2.2.2.2.2.2.2.2.2.2.1) (be := u.2.2.2.2.2.2.2.2.2.2.2.2.2.1) (wo := u.2.2.2.2.2.2.2.2.2.2.2.2.2.2.1) (wd := u.2.2.2.2.2.2.2.2.2.2.2.2.2.2.2.1) (wl := u.2.2.2.2.2.2.2.2.2.2.2.2.2.2.2.2.1) (wr := u.2.2.2.2.2.2.2.2.2.2.2.2.2.2.2.2.2.1) (wg := u.2.2.2.2.2.2.2.2.2.2.2.2.2.2.2.2.2.2.1) (bk := u.2.2.2.2.2.2.2.2.2.2.2.2.2.2.2.2.2.2.2.1) (re := u.2.2.2.2.2.2.2.2.2.2.2.2.2.2.2.2.2.2.2.2.1) (kn := u.2.2.2.2.2.2.2.2.2.2.2.2.2.2.2.2.2.2.2.2.2.1) (va := u.2.2.2.2.2.2.2.2.2.2.2.2.2.2.2.2.2.2.2.2.2.2.1) (so := u.2.2.2.2.2.2.2.2.2.2.2.2.2.2.2.2.2.2.2.2.2.2.2.1) (ah := u.2.2.2.2.2.2.2.2.2.2.2.2.2.2.2.2.2.2.2.2.2.2.2.2.1) (us := u.2.2.2.2.2.2.2.2.2.2.2.2.2.2.2.2.2.2.2.2.2.2.2.2.2.1) (nk := u.2.2.2.2.2.2.2.2.2.2.2.2.2.2.2.2.2.2.2.2.2.2.2.2.2.2.1) (nv := u.2.2.2.2.2.2.2.2.2.2.2.2.2.2.2.2.2.2.2.2.2.2.2.2.2.2.2.1) (ns := u.2.2.2.2.2.2.2.2.2.2.2.2.2.2.2.2.2.2.2.2.2.2.2.2.2.2.2.2.1) (ro := u.2.2.2.2.2.2.2.2.2.2.2.2.2.2.2.2.2.2.2.2.2.2.2.2.2.2.2.2.2.1) (rd := u.2.2.2.2.2.2.2.2.2.2.2.2.2.2.2.2.2.2.2.2.2.2.2.2.2.2.2.2.2.2.1) (rl := u.2.2.2.2.2.2.2.2.2.2.2.2.2.2.2.2.2.2.2.2.2.2.2.2.2.2.2.2.2.2.2.1) (rr := u.2.2.2.2.2.2.2.2.2.2.2.2.2.2.2.2.2.2.2.2.2.2.2.2.2.2.2.2.2.2.2.2.1) (rg := u.2.2.2.2.2.2.2.2.2.2.2.2.2.2.2.2.2.2.2.2.2.2.2.2.2.2.2.2.2.2.2.2.2.1) (rb := u.2.2.2.2.2.2.2.2.2.2.2.2.2.2.2.2.2.2.2.2.2.2.2.2.2.2.2.2.2.2.2.2.2.2.1) (pl := u.2.2.2.2.2.2.2.2.2.2.2.2.2.2.2.2.2.2.2.2.2.2.2.2.2.2.2.2.2.2.2.2.2.2.2.1) (nu := u.2.2.2.2.2.2.2.2.2.2.2.2.2.2.2.2.2.2.2.2.2.2.2.2.2.2.2.2.2.2.2.2.2.2.2.2.1) (ou := u.2.2.2.2.2.2.2.2.2.2.2.2.2.2.2.2.2.2.2.2.2.2.2.2.2.2.2.2.2.2.2.2.2.2.2.2.2.1) (it := u.2.2.2.2.2.2.2.2.2.2.2.2.2.2.2.2.2.2.2.2.2.2.2.2.2.2.2.2.2.2.2.2.2.2.2.2.2.2) (ym := v.1) (yb := v.2.1) (yp := v.2.2.1) (ye := v.2.2.2.1) (yo := v.2.2.2.2.1) (yf := v.2.2.2.2.2.1) (yc := v.2.2.2.2.2.2.1) (yt := v.2.2.2.2.2.2.2.1) (yz := v.2.2.2.2.2.2.2.2.1) (yn := v.2.2.2.2.2.2.2.2.2.1) (yg := v.2.2.2.2.2.2.2.2.2.2) R
theorem i_vc_kinds {k : Nat} {u : SX} {v : SY} (I : i_Rel k u v) (hk : k + 5 ≤ 2560) : wpX_kinds (fun r u' => wpY_kinds (fun r' v' => r' = r ∧ i_Rel (k + 5) u' v') v) u := by
  obtain ⟨fc, u⟩ := u
  obtain ⟨ys, v⟩ := v
  obtain ⟨n, e1, e2, R⟩ := I
  have e1 : fc = nI n := e1
  have e2 : ys = nI n := e2
  subst e1 e2
  exact fz_kinds (fr := u.1) (fg := u.2.1) (fm := u.2.2.1) (fs := u.2.2.2.1) (fo := u.2.2.2.2.1) (fb := u.2.2.2.2.2.1) (fe := u.2.2.2.2.2.2.1) (fn := u.2.2.2.2.2.2.2.1) (op := u.2.2.2.2.2.2.2.2.1) (de := u.2.2.2.2.2.2.2.2.2.1) (le := u.2.2.2.2.2.2.2.2.2.2.1) (ri := u.2.2.2.2.2.2.2.2.2.2.2.1) (go := u.2.2.2.2.2.2.2.2.2.2.2.2.1) (be := u.2.2.2.2.2.2.2.2.2.2.2.2.2.1) (wo := u.2.2.2.2.2.2.2.2.2.2.2.2.2.2.1) (wd := u.2.2.2.2.2.2.2.2.2.2.2.2.2.2.2.1) (wl := u.2.2.2.2.2.2.2.2.2.2.2.2.2.2.2.2.1) (wr := u.2.2.2.2.2.2.2.2.2.2.2.2.2.2.2.2.2.1) (wg := u.2.2.2.2.2.2.2.2.2.2.2.2.2.2.2.2.2.2.1) (bk := u.2.2.2.2.2.2.2.2.2.2.2.2.2.2.2.2.2.2.2.1) (re := u.2.2.2.2.2.2.2.2.2.2.2.2.2.2.2.2.2.2.2.2.1) (kn := u.2.2.2.2.2.2.2.2.2.2.2.2.2.2.2.2.2.2.2.2.2.1) (va := u.2.2.2.2.2.2.2.2.2.2.2.2.2.2.2.2.2.2.2.2.2.2.1) (so := u.2.2.2.2.2.2.2.2.2.2.2.2.2.2.2.2.2.2.2.2.2.2.2.1) (ah := u.2.2.2.2.2.2.2.2.2.2.2.2.2.2.2.2.2.2.2.2.2.2.2.2.1) (us := u.2.2.2.2.2.2.2.2.2.2.2.2.2.2.2.2.2.2.2.2.2.2.2.2.2.1) (nk := u.2.2.2.2.2.2.2.2.2.2.2.2.2.2.2.2.2.2.2.2.2.2.2.2.2.2.1) (nv := u.2.2.2.2.2.2.2.2.2.2.2.2.2.2.2.2.2.2.2.2.2.2.2.2.2.2.2.1) (ns := u.2.2.2.2.2.2.2.2.2.2.2.2.2.2.2.2.2.2.2.2.2.2.2.2.2.2.2.2.1) (ro := u.2.2.2.2.2.2.2.2.2.2.2.2.2.2.2.2.2.2.2.2.2.2.2.2.2.2.2.2.2.1) (rd := u.2.2.2.2.2.2.2.2.2.2.2.2.2.2.2.2.2.2.2.2.2.2.2.2.2.2.2.2.2.2.1) (rl := u.2.2.2.2.2.2.2.2.2.2.2.2.2.2.2.2.2.2.2.2.2.2.2.2.2.2.2.2.2.2.2.1) (rr := u.2.2.2.2.2.2.2.2.2.2.2.2.2.2.2.2.2.2.2.2.2.2.2.2.2.2.2.2.2.2.2.2.1) (rg := u.2.2.2.2.2.2.2.2.2.2.2.2.2.2.2.2.2.2.2.2.2.2.2.2.2.2.2.2.2.2.2.2.2.1) (rb := u.2.2.2.2.2.2.2.2.2.2.2.2.2.2.2.2.2.2.2.2.2.2.2.2.2.2.2.2.2.2.2.2.2.2.1) (pl := u.2.2.2.2.2.2.2.2.2.2.2.2.2.2.2.2.2.2.2.2.2.2.2.2.2.2.2.2.2.2.2.2.2.2.2.1) (nu := u.2.2.2.2.2.2.2.2.2.2.2.2.2.2.2.2.2.2.2.2.2.2.2.2.2.2.2.2.2.2.2.2.2.2.2.2.1) (ou := u.2.2.2.2.2.2.2.2.2.2.2.2.2.2.2.2.2.2.2.2.2.2.2.2.2.2.2.2.2.2.2.2.2.2.2.2.2.1) (it := u.2.2.2.2.2.2.2.2.2.2.2.2.2.2.2.2.2.2.2.2.2.2.2.2.2.2.2.2.2.2.2.2.2.2.2.2.2.2) (ym := v.1) (yb := v.2.1) (yp := v.2.2.1) (ye := v.2.2.2.1) (yo := v.2.2.2.2.1) (yf := v.2.2.2.2.2.1) (yc := v.2.2.2.2.2.2.1) (yt := v.2.2.2.2.2.2.2.1) (yz := v.2.2.2.2.2.2.2.2.1) (yn := v.2.2.2.2.2.2.2.2.2.1) (yg := v.2.2.2.2.2.2.2.2.2.2) R
end
