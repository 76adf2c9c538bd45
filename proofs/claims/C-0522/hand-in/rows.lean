section
theorem pk_us {f : Nat → Int32} {k : Nat} {x : Int32} : upd f k x k = x := if_pos rfl
theorem pk_un {f : Nat → Int32} {k j : Nat} {x : Int32} (h : j ≠ k) : upd f k x j = f j := if_neg h
theorem pk_sub {a b : Nat} (h : b ≤ a) : nI a - nI b = nI (a - b) := by
  obtain ⟨c, rfl⟩ : ∃ c, a = c + b := ⟨a - b, by omega⟩
  rw [← nI_add, Int32.add_sub_cancel, Nat.add_sub_cancel]
theorem pk_m1 (n : Nat) : nI (n + 1) + (-1) = nI n := by
  rw [← nI_1, Int32.add_assoc, show (1 : Int32) + (-1) = 0 from rfl, Int32.add_zero]
theorem pk_mul (a b : Nat) : nI a * nI b = nI (a * b) := (Int32.ofNat_mul a b).symm
theorem pk_ix (x : Int32) {n : Nat} (hn : n < 2 ^ 31) : x < 0 ∨ nI n ≤ x ∨ ∃ j : Nat, j < n ∧ x = nI j := by
  by_cases h : x < 0
  · exact Or.inl h
  · obtain ⟨j, hj, rfl⟩ := nI_of h
    by_cases h2 : j < n
    · exact Or.inr (Or.inr ⟨j, h2, rfl⟩)
    · exact Or.inr (Or.inl (nI_le (by omega) hj))
theorem pk_le {x y : Int32} {A B : Prop} (a b : Nat) (f : a ≤ b → A) (g : b < a → B) (hx : x = nI a := by rfl) (hy : y = nI b := by rfl) (ha : a < 2 ^ 31 := by omega) (hb : b < 2 ^ 31 := by omega) : (x ≤ y → A) ∧ (¬ x ≤ y → B) := by
  subst hx hy
  rw [nI_leI ha hb]
  exact ⟨f, fun z => g (by omega)⟩
theorem pk_lt {x y : Int32} {A B : Prop} (a b : Nat) (f : a < b → A) (g : b ≤ a → B) (hx : x = nI a := by rfl) (hy : y = nI b := by rfl) (ha : a < 2 ^ 31 := by omega) (hb : b < 2 ^ 31 := by omega) : (x < y → A) ∧ (¬ x < y → B) := by
  subst hx hy
  rw [nI_ltI ha hb]
  exact ⟨f, fun z => g (by omega)⟩
theorem pk_eq {x y : Int32} {A B : Prop} (a b : Nat) (f : a = b → A) (g : a ≠ b → B) (hx : x = nI a := by rfl) (hy : y = nI b := by rfl) (ha : a < 2 ^ 31 := by omega) (hb : b < 2 ^ 31 := by omega) : (x = y → A) ∧ (¬ x = y → B) := by
  subst hx hy
  rw [nI_eq ha hb]
  exact ⟨f, g⟩
theorem pk_in {x : Int32} (n N : Nat) (h : n < N) (hx : x = nI n := by rfl) (hN : N < 2 ^ 31 := by omega) : vp_in x N := by
  subst hx
  exact vp_in_nI h hN
theorem pk_cl {x : Int32} (n : Nat) (hx : x = nI n := by rfl) (h : n < 2 ^ 31 := by omega) : x.toNatClampNeg = n := by
  subst hx
  exact nI_clamp h
theorem pk_tn {n : Nat} (h : n < 2 ^ 32) : (nI n).toBitVec.toNat = n := Nat.mod_eq_of_lt h
theorem pk_and (x : Int32) {m : Int32} (k : Nat) (hm : m.toBitVec.toNat = 2 ^ k - 1) : x &&& m = nI (x.toBitVec.toNat % 2 ^ k) := by
  apply Int32.toBitVec_inj.mp
  apply BitVec.eq_of_toNat_eq
  rw [Int32.toBitVec_and, BitVec.toNat_and, hm, Nat.and_two_pow_sub_one_eq_mod]
  show _ = (BitVec.ofNat 32 _).toNat
  rw [BitVec.toNat_ofNat]
  exact (Nat.mod_eq_of_lt (Nat.lt_of_le_of_lt (Nat.mod_le _ _) x.toBitVec.isLt)).symm
theorem pk_andN {n : Nat} (h : n < 2 ^ 32) {m : Int32} (k : Nat) (hm : m.toBitVec.toNat = 2 ^ k - 1) : nI n &&& m = nI (n % 2 ^ k) := by
  rw [pk_and _ k hm, pk_tn h]
theorem pk_andE (x : Int32) {m : Int32} (k : Nat) (hm : m.toBitVec.toNat = 2 ^ k - 1) : ∃ j : Nat, j < 2 ^ k ∧ x &&& m = nI j := ⟨_, Nat.mod_lt _ (Nat.two_pow_pos k), pk_and x k hm⟩
theorem pk_andIn (x : Int32) {m : Int32} (k : Nat) (hm : m.toBitVec.toNat = 2 ^ k - 1) (hk : k ≤ 30) : vp_in (x &&& m) (2 ^ k) := by
  obtain ⟨j, hj, e⟩ := pk_andE x k hm
  rw [e]
  exact vp_in_nI hj (Nat.lt_of_le_of_lt (Nat.pow_le_pow_right (by decide) hk) (by decide))
end
section
/-! memory of the groups as one tuple of six arrays; applying an entry; replaying a log -/
abbrev sm_M : Type := (Nat → Int32) × (Nat → Int32) × (Nat → Int32) × (Nat → Int32) × (Nat → Int32) × (Nat → Int32)
abbrev sm_L : Type := (Nat → Int32) × (Nat → Int32) × (Nat → Int32) × (Nat → Int32) × (Nat → Int32)
/-- zero d cells from p on, by strides of s -/
def sm_z (s : Nat) : Nat → (Nat → Int32) → Nat → (Nat → Int32)
  | 0, f, _ => f
  | d + 1, f, p => sm_z s d (upd f p 0) (p + s)
/-- copy d cells of a into f from p on -/
def sm_c (a : Nat → Int32) : Nat → (Nat → Int32) → Nat → (Nat → Int32)
  | 0, f, _ => f
  | d + 1, f, p => sm_c a d (upd f p (a p)) (p + 1)
theorem sm_c_at (a : Nat → Int32) : ∀ (d : Nat) (f : Nat → Int32) (p j : Nat), sm_c a d f p j = if p ≤ j ∧ j < p + d then a j else f j := by
  intro d
  induction d with
  | zero => intro f p j; rw [if_neg (by omega)]; rfl
  | succ d ih =>
    intro f p j
    show sm_c a d (upd f p (a p)) (p + 1) j = _
    rw [ih]
    by_cases h : p + 1 ≤ j ∧ j < p + 1 + d
    · rw [if_pos h, if_pos (by omega)]
    · rw [if_neg h]
      by_cases e : j = p
      · subst e; rw [pk_us, if_pos (by omega)]
      · rw [pk_un e, if_neg (by omega)]
theorem sm_c_in {a f : Nat → Int32} {d p j : Nat} (h : p ≤ j) (h2 : j < p + d) : sm_c a d f p j = a j := by rw [sm_c_at, if_pos ⟨h, h2⟩]
theorem sm_c_out {a f : Nat → Int32} {d p j : Nat} (h : ¬ (p ≤ j ∧ j < p + d)) : sm_c a d f p j = f j := by rw [sm_c_at, if_neg h]
theorem sm_z_out {s : Nat} : ∀ (d : Nat) (f : Nat → Int32) (p j : Nat), (∀ t, t < d → j ≠ p + s * t) → sm_z s d f p j = f j := by
  intro d
  induction d with
  | zero => intro f p j _; rfl
  | succ d ih =>
    intro f p j h
    show sm_z s d (upd f p 0) (p + s) j = _
    rw [ih]
    · exact pk_un (h 0 (by omega))
    · intro t ht e
      refine h (t + 1) (by omega) ?_
      rw [e, Nat.mul_succ]; omega
theorem sm_z_z {s : Nat} : ∀ (d : Nat) (f : Nat → Int32) (p j : Nat), f j = 0 → sm_z s d f p j = 0 := by
  intro d
  induction d with
  | zero => intro f p j h; exact h
  | succ d ih =>
    intro f p j h
    refine ih _ _ _ ?_
    by_cases e : j = p
    · subst e; exact pk_us
    · rw [pk_un e]; exact h
theorem sm_z_in {s : Nat} : ∀ (d : Nat) (f : Nat → Int32) (p t : Nat), t < d → sm_z s d f p (p + s * t) = 0 := by
  intro d
  induction d with
  | zero => intro f p t h; exact absurd h (by omega)
  | succ d ih =>
    intro f p t h
    show sm_z s d (upd f p 0) (p + s) _ = _
    cases t with
    | zero => exact sm_z_z _ _ _ _ pk_us
    | succ t =>
      have e : p + s * (t + 1) = (p + s) + s * t := by rw [Nat.mul_succ]; omega
      rw [e]; exact ih _ _ _ (by omega)
theorem sm_z_cg {s : Nat} : ∀ (d : Nat) (f f' : Nat → Int32) (p j : Nat), f j = f' j → sm_z s d f p j = sm_z s d f' p j := by
  intro d
  induction d with
  | zero => intro f f' p j h; exact h
  | succ d ih =>
    intro f f' p j h
    refine ih _ _ _ _ ?_
    by_cases e : j = p
    · subst e; rw [pk_us, pk_us]
    · rw [pk_un e, pk_un e]; exact h
theorem sm_z_01 {s : Nat} {d : Nat} {f : Nat → Int32} {p j : Nat} (h : f j = 0 ∨ f j = 1) : sm_z s d f p j = 0 ∨ sm_z s d f p j = 1 := by
  by_cases e : ∀ t, t < d → j ≠ p + s * t
  · rw [sm_z_out _ _ _ _ e]; exact h
  · left
    have ⟨t, ht⟩ := Classical.not_forall.mp e
    have ⟨h1, h2⟩ := Classical.not_imp.mp ht
    have h3 : j = p + s * t := Classical.not_not.mp h2
    rw [h3]; exact sm_z_in _ _ _ _ h1
theorem sm_u_cg {f f' : Nat → Int32} {p j : Nat} {x : Int32} (h : f j = f' j) : upd f p x j = upd f' p x j := by
  by_cases e : j = p
  · subst e; rw [pk_us, pk_us]
  · rw [pk_un e, pk_un e]; exact h
theorem sm_u_01 {f : Nat → Int32} {p j : Nat} {x : Int32} (h : f j = 0 ∨ f j = 1) (hx : x = 0 ∨ x = 1) : upd f p x j = 0 ∨ upd f p x j = 1 := by
  by_cases e : j = p
  · subst e; rw [pk_us]; exact hx
  · rw [pk_un e]; exact h
theorem sm_c_01 {a f : Nat → Int32} {d p j : Nat} (ha : a j = 0 ∨ a j = 1) (h : f j = 0 ∨ f j = 1) : sm_c a d f p j = 0 ∨ sm_c a d f p j = 1 := by
  rw [sm_c_at]
  by_cases e : p ≤ j ∧ j < p + d
  · rw [if_pos e]; exact ha
  · rw [if_neg e]; exact h
/-- the entries' effects -/
def sm_k0 (p : Nat) (b c : Int32) (m : sm_M) : sm_M := (upd m.1 p b, upd m.2.1 p (if c = 1 then 1 else 0), m.2.2.1, m.2.2.2.1, m.2.2.2.2.1, m.2.2.2.2.2)
def sm_k1 (p : Nat) (b c : Int32) (m : sm_M) : sm_M := (m.1, m.2.1, upd m.2.2.1 p 1, upd m.2.2.2.1 p b, upd m.2.2.2.2.1 p c, m.2.2.2.2.2)
def sm_k2 (p : Nat) (b : Int32) (m : sm_M) : sm_M := (m.1, m.2.1, m.2.2.1, m.2.2.2.1, m.2.2.2.2.1, upd m.2.2.2.2.2 p b)
def sm_k3 (g a : Nat) (m : sm_M) : sm_M := (sm_z 8 4 m.1 (32 * g + a), sm_z 8 4 m.2.1 (32 * g + a), sm_z 1 4 m.2.2.1 (32 * g + 4 * a), m.2.2.2.1, m.2.2.2.2.1, upd m.2.2.2.2.2 (8 * g + a) 0)
def sm_ap (g k a : Nat) (b c : Int32) (m : sm_M) : sm_M := if k = 0 then sm_k0 (32 * g + a) b c m else if k = 1 then sm_k1 (32 * g + a) b c m else if k = 2 then sm_k2 (8 * g + a) b m else sm_k3 g a m
def sm_ok (k a : Nat) : Prop := (k = 0 ∧ a < 32) ∨ (k = 1 ∧ a < 32) ∨ (k = 2 ∧ a < 8) ∨ (k = 3 ∧ a < 8)
theorem sm_ap0 (g a : Nat) (b c : Int32) (m : sm_M) : sm_ap g 0 a b c m = sm_k0 (32 * g + a) b c m := if_pos rfl
theorem sm_ap1 (g a : Nat) (b c : Int32) (m : sm_M) : sm_ap g 1 a b c m = sm_k1 (32 * g + a) b c m := by
  unfold sm_ap; rw [if_neg (by decide), if_pos rfl]
theorem sm_ap2 (g a : Nat) (b c : Int32) (m : sm_M) : sm_ap g 2 a b c m = sm_k2 (8 * g + a) b m := by
  unfold sm_ap; rw [if_neg (by decide), if_neg (by decide), if_pos rfl]
theorem sm_ap3 (g a : Nat) (b c : Int32) (m : sm_M) : sm_ap g 3 a b c m = sm_k3 g a m := by
  unfold sm_ap; rw [if_neg (by decide), if_neg (by decide), if_neg (by decide)]
/-- two memories agree on the cells P (of the five arrays) and Q (of the states) -/
def sm_on (P Q : Nat → Prop) (m m' : sm_M) : Prop := (∀ j, P j → m.1 j = m'.1 j ∧ m.2.1 j = m'.2.1 j ∧ m.2.2.1 j = m'.2.2.1 j ∧ m.2.2.2.1 j = m'.2.2.2.1 j ∧ m.2.2.2.2.1 j = m'.2.2.2.2.1 j) ∧ (∀ j, Q j → m.2.2.2.2.2 j = m'.2.2.2.2.2 j)
theorem sm_on_rf {P Q : Nat → Prop} (m : sm_M) : sm_on P Q m m := ⟨fun _ _ => ⟨rfl, rfl, rfl, rfl, rfl⟩, fun _ _ => rfl⟩
theorem sm_on_sy {P Q : Nat → Prop} {m m' : sm_M} (h : sm_on P Q m m') : sm_on P Q m' m := ⟨fun j hj => have ⟨a, b, c, d, e⟩ := h.1 j hj; ⟨a.symm, b.symm, c.symm, d.symm, e.symm⟩, fun j hj => (h.2 j hj).symm⟩
theorem sm_on_tr {P Q : Nat → Prop} {m m' n : sm_M} (h : sm_on P Q m m') (h' : sm_on P Q m' n) : sm_on P Q m n :=
  ⟨fun j hj => have ⟨a, b, c, d, e⟩ := h.1 j hj; have ⟨a', b', c', d', e'⟩ := h'.1 j hj; ⟨a.trans a', b.trans b', c.trans c', d.trans d', e.trans e'⟩, fun j hj => (h.2 j hj).trans (h'.2 j hj)⟩
theorem sm_on_mo {P Q P' Q' : Nat → Prop} {m m' : sm_M} (h : sm_on P Q m m') (hP : ∀ j, P' j → P j) (hQ : ∀ j, Q' j → Q j) : sm_on P' Q' m m' :=
  ⟨fun j hj => h.1 j (hP j hj), fun j hj => h.2 j (hQ j hj)⟩
theorem sm_on_k0 {P Q : Nat → Prop} {m m' : sm_M} {p : Nat} {b c : Int32} (h : sm_on P Q m m') : sm_on P Q (sm_k0 p b c m) (sm_k0 p b c m') :=
  ⟨fun j hj => have ⟨x1, x2, x3, x4, x5⟩ := h.1 j hj; ⟨sm_u_cg x1, sm_u_cg x2, x3, x4, x5⟩, h.2⟩
theorem sm_on_k1 {P Q : Nat → Prop} {m m' : sm_M} {p : Nat} {b c : Int32} (h : sm_on P Q m m') : sm_on P Q (sm_k1 p b c m) (sm_k1 p b c m') :=
  ⟨fun j hj => have ⟨x1, x2, x3, x4, x5⟩ := h.1 j hj; ⟨x1, x2, sm_u_cg x3, sm_u_cg x4, sm_u_cg x5⟩, h.2⟩
theorem sm_on_k2 {P Q : Nat → Prop} {m m' : sm_M} {p : Nat} {b : Int32} (h : sm_on P Q m m') : sm_on P Q (sm_k2 p b m) (sm_k2 p b m') :=
  ⟨h.1, fun j hj => sm_u_cg (h.2 j hj)⟩
theorem sm_on_k3 {P Q : Nat → Prop} {m m' : sm_M} {g a : Nat} (h : sm_on P Q m m') : sm_on P Q (sm_k3 g a m) (sm_k3 g a m') :=
  ⟨fun j hj => have ⟨x1, x2, x3, x4, x5⟩ := h.1 j hj; ⟨sm_z_cg _ _ _ _ _ x1, sm_z_cg _ _ _ _ _ x2, sm_z_cg _ _ _ _ _ x3, x4, x5⟩, fun j hj => sm_u_cg (h.2 j hj)⟩
theorem sm_on_ap {P Q : Nat → Prop} {m m' : sm_M} {g k a : Nat} {b c : Int32} (h : sm_on P Q m m') : sm_on P Q (sm_ap g k a b c m) (sm_ap g k a b c m') := by
  unfold sm_ap
  by_cases h0 : k = 0
  · rw [if_pos h0, if_pos h0]; exact sm_on_k0 h
  · rw [if_neg h0, if_neg h0]
    by_cases h1 : k = 1
    · rw [if_pos h1, if_pos h1]; exact sm_on_k1 h
    · rw [if_neg h1, if_neg h1]
      by_cases h2 : k = 2
      · rw [if_pos h2, if_pos h2]; exact sm_on_k2 h
      · rw [if_neg h2, if_neg h2]; exact sm_on_k3 h
/-- the cells of group g -/
def sm_P (g : Nat) (j : Nat) : Prop := 32 * g ≤ j ∧ j < 32 * g + 32
def sm_Q (g : Nat) (j : Nat) : Prop := 8 * g ≤ j ∧ j < 8 * g + 8
/-- an entry of group g leaves all else alone -/
theorem sm_off_ap {m : sm_M} {g k a : Nat} {b c : Int32} (h : sm_ok k a) : sm_on (fun j => ¬ sm_P g j) (fun j => ¬ sm_Q g j) (sm_ap g k a b c m) m := by
  unfold sm_P sm_Q
  rcases h with ⟨rfl, ha⟩ | ⟨rfl, ha⟩ | ⟨rfl, ha⟩ | ⟨rfl, ha⟩
  · rw [sm_ap0]
    exact ⟨fun j hj => ⟨pk_un (by omega), pk_un (by omega), rfl, rfl, rfl⟩, fun j hj => rfl⟩
  · rw [sm_ap1]
    exact ⟨fun j hj => ⟨rfl, rfl, pk_un (by omega), pk_un (by omega), pk_un (by omega)⟩, fun j hj => rfl⟩
  · rw [sm_ap2]
    exact ⟨fun j hj => ⟨rfl, rfl, rfl, rfl, rfl⟩, fun j hj => pk_un (by omega)⟩
  · rw [sm_ap3]
    exact ⟨fun j hj => ⟨sm_z_out _ _ _ _ (fun t ht => by omega), sm_z_out _ _ _ _ (fun t ht => by omega), sm_z_out _ _ _ _ (fun t ht => by omega), rfl, rfl⟩, fun j hj => pk_un (by omega)⟩
theorem sm_off_on {m m' : sm_M} {g g' : Nat} (h : sm_on (fun j => ¬ sm_P g j) (fun j => ¬ sm_Q g j) m m') (hg : g' ≠ g) : sm_on (sm_P g') (sm_Q g') m m' := by
  refine sm_on_mo h ?_ ?_
  · intro j hj; unfold sm_P at *; omega
  · intro j hj; unfold sm_Q at *; omega
theorem sm_all {m m' : sm_M} {g : Nat} (h : sm_on (sm_P g) (sm_Q g) m m') (h' : sm_on (fun j => ¬ sm_P g j) (fun j => ¬ sm_Q g j) m m') : m = m' := by
  have hP : ∀ j, m.1 j = m'.1 j ∧ m.2.1 j = m'.2.1 j ∧ m.2.2.1 j = m'.2.2.1 j ∧ m.2.2.2.1 j = m'.2.2.2.1 j ∧ m.2.2.2.2.1 j = m'.2.2.2.2.1 j := fun j => Classical.byCases (fun z : sm_P g j => h.1 j z) (fun z => h'.1 j z)
  have hQ : ∀ j, m.2.2.2.2.2 j = m'.2.2.2.2.2 j := fun j => Classical.byCases (fun z : sm_Q g j => h.2 j z) (fun z => h'.2 j z)
  have e1 : m.1 = m'.1 := funext fun j => (hP j).1
  have e2 : m.2.1 = m'.2.1 := funext fun j => (hP j).2.1
  have e3 : m.2.2.1 = m'.2.2.1 := funext fun j => (hP j).2.2.1
  have e4 : m.2.2.2.1 = m'.2.2.2.1 := funext fun j => (hP j).2.2.2.1
  have e5 : m.2.2.2.2.1 = m'.2.2.2.2.1 := funext fun j => (hP j).2.2.2.2
  have e6 : m.2.2.2.2.2 = m'.2.2.2.2.2 := funext hQ
  exact Prod.ext e1 (Prod.ext e2 (Prod.ext e3 (Prod.ext e4 (Prod.ext e5 e6))))
/-- booleans hold 0 or 1 -/
def sm_b (m : sm_M) : Prop := (∀ j, m.2.1 j = 0 ∨ m.2.1 j = 1) ∧ (∀ j, m.2.2.1 j = 0 ∨ m.2.2.1 j = 1)
theorem sm_b_ap {m : sm_M} {g k a : Nat} {b c : Int32} (h : sm_b m) : sm_b (sm_ap g k a b c m) := by
  unfold sm_ap
  by_cases h0 : k = 0
  · rw [if_pos h0]
    refine ⟨fun j => sm_u_01 (h.1 j) ?_, h.2⟩
    by_cases e : c = 1
    · rw [if_pos e]; exact Or.inr rfl
    · rw [if_neg e]; exact Or.inl rfl
  · rw [if_neg h0]
    by_cases h1 : k = 1
    · rw [if_pos h1]; exact ⟨h.1, fun j => sm_u_01 (h.2 j) (Or.inr rfl)⟩
    · rw [if_neg h1]
      by_cases h2 : k = 2
      · rw [if_pos h2]; exact h
      · rw [if_neg h2]; exact ⟨fun j => sm_z_01 (h.1 j), fun j => sm_z_01 (h.2 j)⟩
/-- the first n entries of g's log over the image i -/
def sm_rp (g : Nat) (l : sm_L) (i : sm_M) : Nat → sm_M
  | 0 => i
  | n + 1 => sm_ap g (l.2.1 (8 * g + n)).toNatClampNeg (l.2.2.1 (8 * g + n)).toNatClampNeg (l.2.2.2.1 (8 * g + n)) (l.2.2.2.2 (8 * g + n)) (sm_rp g l i n)
theorem sm_rp_on {P Q : Nat → Prop} {g : Nat} {l : sm_L} {i i' : sm_M} (h : sm_on P Q i i') : ∀ n, sm_on P Q (sm_rp g l i n) (sm_rp g l i' n) := by
  intro n
  induction n with
  | zero => exact h
  | succ n ih => exact sm_on_ap ih
theorem sm_rp_lg {g : Nat} {l l' : sm_L} {i : sm_M} : ∀ n, (∀ t, t < n → l.2.1 (8 * g + t) = l'.2.1 (8 * g + t) ∧ l.2.2.1 (8 * g + t) = l'.2.2.1 (8 * g + t) ∧ l.2.2.2.1 (8 * g + t) = l'.2.2.2.1 (8 * g + t) ∧ l.2.2.2.2 (8 * g + t) = l'.2.2.2.2 (8 * g + t)) → sm_rp g l i n = sm_rp g l' i n := by
  intro n
  induction n with
  | zero => intro _; rfl
  | succ n ih =>
    intro h
    have ⟨e1, e2, e3, e4⟩ := h n (by omega)
    show sm_ap g _ _ _ _ (sm_rp g l i n) = sm_ap g _ _ _ _ (sm_rp g l' i n)
    rw [e1, e2, e3, e4, ih (fun t ht => h t (by omega))]
/-- what group g has written down gives its memory -/
def sm_D1 (g : Nat) (m i : sm_M) (l : sm_L) : Prop := ∃ n : Nat, n ≤ 8 ∧ l.1 g = nI n ∧ (∀ t, t < n → ∃ k a : Nat, sm_ok k a ∧ l.2.1 (8 * g + t) = nI k ∧ l.2.2.1 (8 * g + t) = nI a) ∧ sm_on (sm_P g) (sm_Q g) m (sm_rp g l i n)
def sm_D (m i : sm_M) (l : sm_L) : Prop := sm_b m ∧ sm_b i ∧ ∀ g, g < 4 → sm_D1 g m i l
/-- the image of g written anew -/
def sm_sv (g : Nat) (m i : sm_M) : sm_M := (sm_c m.1 32 i.1 (32 * g), sm_c m.2.1 32 i.2.1 (32 * g), sm_c m.2.2.1 32 i.2.2.1 (32 * g), sm_c m.2.2.2.1 32 i.2.2.2.1 (32 * g), sm_c m.2.2.2.2.1 32 i.2.2.2.2.1 (32 * g), sm_c m.2.2.2.2.2 8 i.2.2.2.2.2 (8 * g))
theorem sm_sv_on {g : Nat} {m i : sm_M} : sm_on (sm_P g) (sm_Q g) m (sm_sv g m i) := by
  unfold sm_P sm_Q
  exact ⟨fun j ⟨h1, h2⟩ => ⟨(sm_c_in h1 h2).symm, (sm_c_in h1 h2).symm, (sm_c_in h1 h2).symm, (sm_c_in h1 h2).symm, (sm_c_in h1 h2).symm⟩, fun j ⟨h1, h2⟩ => (sm_c_in h1 h2).symm⟩
theorem sm_sv_off {g : Nat} {m i : sm_M} : sm_on (fun j => ¬ sm_P g j) (fun j => ¬ sm_Q g j) (sm_sv g m i) i := by
  unfold sm_P sm_Q
  exact ⟨fun j h => ⟨sm_c_out h, sm_c_out h, sm_c_out h, sm_c_out h, sm_c_out h⟩, fun j h => sm_c_out h⟩
theorem sm_sv_b {g : Nat} {m i : sm_M} (h : sm_b m) (hi : sm_b i) : sm_b (sm_sv g m i) :=
  ⟨fun j => sm_c_01 (h.1 j) (hi.1 j), fun j => sm_c_01 (h.2 j) (hi.2 j)⟩
/-- saving the image of g and emptying its log keeps the durability -/
theorem sm_D_sv {g : Nat} {m i : sm_M} {l : sm_L} (h : sm_D m i l) : sm_D m (sm_sv g m i) (upd l.1 g 0, l.2.1, l.2.2.1, l.2.2.2.1, l.2.2.2.2) := by
  refine ⟨h.1, sm_sv_b h.1 h.2.1, fun g' hg' => ?_⟩
  by_cases e : g' = g
  · subst e
    exact ⟨0, by omega, pk_us.trans nI_0.symm, fun t ht => absurd ht (by omega), sm_sv_on⟩
  · obtain ⟨n, hn, hc, hv, ho⟩ := h.2.2 g' hg'
    refine ⟨n, hn, (pk_un e).trans hc, hv, ?_⟩
    have e1 : sm_rp g' (upd l.1 g 0, l.2.1, l.2.2.1, l.2.2.2.1, l.2.2.2.2) (sm_sv g m i) n = sm_rp g' l (sm_sv g m i) n := sm_rp_lg n (fun t ht => ⟨rfl, rfl, rfl, rfl⟩)
    rw [e1]
    exact sm_on_tr ho (sm_on_sy (sm_rp_on (sm_off_on sm_sv_off e) n))
/-- the log with one entry more -/
def sm_la (g n k a : Nat) (b c : Int32) (l : sm_L) : sm_L := (upd l.1 g (nI (n + 1)), upd l.2.1 (8 * g + n) (nI k), upd l.2.2.1 (8 * g + n) (nI a), upd l.2.2.2.1 (8 * g + n) b, upd l.2.2.2.2 (8 * g + n) c)
theorem sm_D_wr {g n k a : Nat} {b c : Int32} {m i : sm_M} {l : sm_L} (h : sm_D m i l) (hc : l.1 g = nI n) (hn : n < 8) (hg : g < 4) (ho : sm_ok k a) : sm_D (sm_ap g k a b c m) i (sm_la g n k a b c l) := by
  refine ⟨sm_b_ap h.1, h.2.1, fun g' hg' => ?_⟩
  obtain ⟨n', hn', hc', hv, hr⟩ := h.2.2 g' hg'
  by_cases e : g' = g
  · subst e
    have hnn : n' = n := (nI_eq (by omega) (by omega)).mp (hc'.symm.trans hc)
    subst hnn
    refine ⟨n' + 1, by omega, pk_us, ?_, ?_⟩
    · intro t ht
      by_cases e2 : t = n'
      · subst e2
        exact ⟨k, a, ho, pk_us, pk_us⟩
      · obtain ⟨k1, a1, h1, h2, h3⟩ := hv t (by omega)
        exact ⟨k1, a1, h1, (pk_un (by omega)).trans h2, (pk_un (by omega)).trans h3⟩
    · have ka : k < 2 ^ 31 ∧ a < 2 ^ 31 := by
        rcases ho with ho | ho | ho | ho <;> omega
      have e3 : sm_rp g' (sm_la g' n' k a b c l) i (n' + 1) = sm_ap g' k a b c (sm_rp g' l i n') := by
        show sm_ap g' (upd l.2.1 (8 * g' + n') (nI k) (8 * g' + n')).toNatClampNeg (upd l.2.2.1 (8 * g' + n') (nI a) (8 * g' + n')).toNatClampNeg (upd l.2.2.2.1 (8 * g' + n') b (8 * g' + n')) (upd l.2.2.2.2 (8 * g' + n') c (8 * g' + n')) (sm_rp g' (sm_la g' n' k a b c l) i n') = _
        rw [pk_us, pk_us, pk_us, pk_us, nI_clamp ka.1, nI_clamp ka.2]
        rw [sm_rp_lg (l' := l) n' (fun t ht => ⟨pk_un (by omega), pk_un (by omega), pk_un (by omega), pk_un (by omega)⟩)]
      rw [e3]
      exact sm_on_ap hr
  · refine ⟨n', hn', (pk_un e).trans hc', ?_, ?_⟩
    · intro t ht
      obtain ⟨k1, a1, h1, h2, h3⟩ := hv t ht
      exact ⟨k1, a1, h1, (pk_un (by omega)).trans h2, (pk_un (by omega)).trans h3⟩
    · rw [sm_rp_lg (l' := l) n' (fun t ht => ⟨pk_un (by omega), pk_un (by omega), pk_un (by omega), pk_un (by omega)⟩)]
      exact sm_on_tr (sm_off_on (sm_off_ap ho) e) hr
end
section
/-! the walks of forget, apply, saveImage, write -/
abbrev sm_x (nc : Int32) (m i : sm_M) (l : sm_L) (ho pu ro : Nat → Int32) : SX := (nc, m.1, m.2.1, m.2.2.1, m.2.2.2.1, m.2.2.2.2.1, m.2.2.2.2.2, i.1, i.2.1, i.2.2.1, i.2.2.2.1, i.2.2.2.2.1, i.2.2.2.2.2, l.1, l.2.1, l.2.2.1, l.2.2.2.1, l.2.2.2.2, ho, pu, ro)
theorem sm_i32 (g a : Nat) : (32 : Int32) * nI g + nI a = nI (32 * g + a) := by
  have e : (32 : Int32) = nI 32 := rfl
  rw [e, pk_mul, nI_add]
theorem sm_i8 (g a : Nat) : (8 : Int32) * nI g + nI a = nI (8 * g + a) := by
  have e : (8 : Int32) = nI 8 := rfl
  rw [e, pk_mul, nI_add]
theorem sm_i4 (g a : Nat) : (4 : Int32) * nI g + nI a = nI (4 * g + a) := by
  have e : (4 : Int32) = nI 4 := rfl
  rw [e, pk_mul, nI_add]
theorem sm_m32 (g : Nat) : (32 : Int32) * nI g = nI (32 * g) := pk_mul 32 g
theorem sm_m8 (g : Nat) : (8 : Int32) * nI g = nI (8 * g) := pk_mul 8 g
theorem sm_m4 (g : Nat) : (4 : Int32) * nI g = nI (4 * g) := pk_mul 4 g
theorem sm_i324 (g c t : Nat) : (32 : Int32) * nI g + 4 * nI c + nI t = nI (32 * g + 4 * c + t) := by
  rw [sm_m32, sm_m4, nI_add, nI_add]
theorem sm_a32 (g : Nat) : nI g + 32 = nI (g + 32) := nI_add g 32
theorem sm_a8 (g : Nat) : nI g + 8 = nI (g + 8) := nI_add g 8
theorem sm_n0 : vp_nar .boolean 0 = 0 := rfl
theorem sm_n1 : vp_nar .boolean 1 = 1 := rfl
theorem sm_nar {x : Int32} (h : x = 0 ∨ x = 1) : vp_nar .boolean x = x := by
  rcases h with rfl | rfl
  · rfl
  · rfl
section
variable {post : SX → Prop} {nc : Int32} {va th kn nu an st iv it ik iu ia ig lc lk la lb ld ho pu ro : Nat → Int32}
theorem sm_fg52 {g c : Nat} (hg : g < 4) (hc : c < 8) : ∀ (d t : Nat) (kn : Nat → Int32), t + d = 4 → post (nc, va, th, sm_z 1 d kn (32 * g + 4 * c + t), nu, an, st, iv, it, ik, iu, ia, ig, lc, lk, la, lb, ld, ho, pu, ro) → wX_forget_52 post (nI g) (nI c) nc (d + 1) (nI t) va th kn nu an st iv it ik iu ia ig lc lk la lb ld ho pu ro := by
  intro d
  induction d with
  | zero =>
    intro t kn h hp
    exact br_t (nI_le (a := 4) (by omega) (by omega)) hp
  | succ d ih =>
    intro t kn h hp
    have hcl : (nI (32 * g + 4 * c + t)).toNatClampNeg = 32 * g + 4 * c + t := nI_clamp (by omega)
    rw [wX_forget_52]
    dsimp only
    rw [sm_i324, hcl, sm_n0]
    exact br_f (nI_ge (b := 4) (by omega) (by decide)) ⟨vp_in_nI (by omega) (by decide), nm_e (nm_r (nI_1 t) (ih (t + 1) _ (by omega) hp))⟩
theorem sm_fg14 {g c : Nat} (hg : g < 4) (hc : c < 8) : ∀ (d t : Nat) (va th : Nat → Int32), t + d = 4 → post (nc, sm_z 8 d va (32 * g + (c + 8 * t)), sm_z 8 d th (32 * g + (c + 8 * t)), sm_z 1 4 kn (32 * g + 4 * c), nu, an, st, iv, it, ik, iu, ia, ig, lc, lk, la, lb, ld, ho, pu, ro) → wX_forget_14 post (nI g) (nI c) nc (d + 1) (nI (c + 8 * t)) va th kn nu an st iv it ik iu ia ig lc lk la lb ld ho pu ro := by
  intro d
  induction d with
  | zero =>
    intro t va th h hp
    exact br_t (nI_le (a := 32) (by omega) (by omega)) ⟨5, sm_fg52 hg hc 4 0 kn rfl hp⟩
  | succ d ih =>
    intro t va th h hp
    have hcl : (nI (32 * g + (c + 8 * t))).toNatClampNeg = 32 * g + (c + 8 * t) := nI_clamp (by omega)
    have e8 : nI (c + 8 * t) + 8 = nI (c + 8 * (t + 1)) := sm_a8 _
    have e9 : 32 * g + (c + 8 * (t + 1)) = 32 * g + (c + 8 * t) + 8 := by omega
    have hv : vp_in (nI (32 * g + (c + 8 * t))) 128 := vp_in_nI (by omega) (by decide)
    rw [wX_forget_14]
    dsimp only
    rw [sm_i32, hcl, sm_n0]
    refine br_f (nI_ge (b := 32) (by omega) (by decide)) ⟨hv, nm_e ⟨hv, nm_e (nm_r e8 (ih (t + 1) _ _ (by omega) ?_))⟩⟩
    rw [e9]
    exact hp
theorem sm_fg {g c : Nat} (hg : g < 4) (hc : c < 8) (hp : post (nc, sm_z 8 4 va (32 * g + c), sm_z 8 4 th (32 * g + c), sm_z 1 4 kn (32 * g + 4 * c), nu, an, upd st (8 * g + c) 0, iv, it, ik, iu, ia, ig, lc, lk, la, lb, ld, ho, pu, ro)) : wpX_forget post (nc, va, th, kn, nu, an, st, iv, it, ik, iu, ia, ig, lc, lk, la, lb, ld, ho, pu, ro) (nI g) (nI c) := by
  have hcl : (nI (8 * g + c)).toNatClampNeg = 8 * g + c := nI_clamp (by omega)
  unfold wpX_forget
  dsimp only
  rw [sm_i8, hcl]
  exact ⟨vp_in_nI (by omega) (by decide), nm_e ⟨5, sm_fg14 hg hc 4 0 va th rfl hp⟩⟩
theorem sm_si84 {g : Nat} (hg : g < 4) : ∀ (d t : Nat) (ig : Nat → Int32), t + d = 8 → post (nc, va, th, kn, nu, an, st, iv, it, ik, iu, ia, sm_c st d ig (8 * g + t), upd lc g 0, lk, la, lb, ld, ho, pu, ro) → wX_saveImage_84 post (nI g) nc (d + 1) (nI t) va th kn nu an st iv it ik iu ia ig lc lk la lb ld ho pu ro := by
  intro d
  induction d with
  | zero =>
    intro t ig h hp
    have hcl : (nI g).toNatClampNeg = g := nI_clamp (by omega)
    rw [wX_saveImage_84]
    dsimp only
    rw [hcl]
    exact br_t (nI_le (a := 8) (by omega) (by omega)) ⟨vp_in_nI (by omega) (by decide), nm_e hp⟩
  | succ d ih =>
    intro t ig h hp
    have hcl : (nI (8 * g + t)).toNatClampNeg = 8 * g + t := nI_clamp (by omega)
    have hv : vp_in (nI (8 * g + t)) 32 := vp_in_nI (by omega) (by decide)
    rw [wX_saveImage_84]
    dsimp only
    rw [sm_i8, hcl]
    exact br_f (nI_ge (b := 8) (by omega) (by decide)) ⟨hv, hv, nm_e (nm_r (nI_1 t) (ih (t + 1) _ (by omega) hp))⟩
theorem sm_si5 {g : Nat} (hg : g < 4) (h1 : ∀ j, th j = 0 ∨ th j = 1) (h2 : ∀ j, kn j = 0 ∨ kn j = 1) : ∀ (d p : Nat) (iv it ik iu ia : Nat → Int32), p + d = 32 * g + 32 → post (nc, va, th, kn, nu, an, st, sm_c va d iv p, sm_c th d it p, sm_c kn d ik p, sm_c nu d iu p, sm_c an d ia p, sm_c st 8 ig (8 * g), upd lc g 0, lk, la, lb, ld, ho, pu, ro) → wX_saveImage_5 post (nI g) nc (d + 1) (nI p) va th kn nu an st iv it ik iu ia ig lc lk la lb ld ho pu ro := by
  intro d
  induction d with
  | zero =>
    intro p iv it ik iu ia h hp
    rw [wX_saveImage_5]
    dsimp only
    rw [sm_m32, sm_a32]
    exact br_t (nI_le (by omega) (by omega)) ⟨9, sm_si84 hg 8 0 ig rfl hp⟩
  | succ d ih =>
    intro p iv it ik iu ia h hp
    have hcl : (nI p).toNatClampNeg = p := nI_clamp (by omega)
    have hv : vp_in (nI p) 128 := vp_in_nI (by omega) (by decide)
    rw [wX_saveImage_5]
    dsimp only
    rw [sm_m32, sm_a32, hcl, sm_nar (h1 p), sm_nar (h2 p)]
    exact br_f (nI_ge (by omega) (by omega)) ⟨hv, hv, nm_e ⟨hv, hv, nm_e ⟨hv, hv, nm_e ⟨hv, hv, nm_e ⟨hv, hv, nm_e (nm_r (nI_1 p) (ih (p + 1) _ _ _ _ _ (by omega) hp))⟩⟩⟩⟩⟩
theorem sm_si {g : Nat} (hg : g < 4) (h1 : ∀ j, th j = 0 ∨ th j = 1) (h2 : ∀ j, kn j = 0 ∨ kn j = 1) (hp : post (nc, va, th, kn, nu, an, st, sm_c va 32 iv (32 * g), sm_c th 32 it (32 * g), sm_c kn 32 ik (32 * g), sm_c nu 32 iu (32 * g), sm_c an 32 ia (32 * g), sm_c st 8 ig (8 * g), upd lc g 0, lk, la, lb, ld, ho, pu, ro)) : wpX_saveImage post (nc, va, th, kn, nu, an, st, iv, it, ik, iu, ia, ig, lc, lk, la, lb, ld, ho, pu, ro) (nI g) := by
  unfold wpX_saveImage
  dsimp only
  exact nm_r (sm_m32 g) ⟨33, sm_si5 hg h1 h2 32 (32 * g) iv it ik iu ia rfl hp⟩
end
section
variable {post : SX → Prop} {nc : Int32} {m i : sm_M} {l : sm_L} {ho pu ro : Nat → Int32}
theorem sm_apX {g k a : Nat} {b c : Int32} (hg : g < 4) (hk : sm_ok k a) (hp : post (sm_x nc (sm_ap g k a b c m) i l ho pu ro)) : wpX_apply post (sm_x nc m i l ho pu ro) (nI g) (nI k) (nI a) b c := by
  unfold wpX_apply
  dsimp only
  rcases hk with ⟨rfl, ha⟩ | ⟨rfl, ha⟩ | ⟨rfl, ha⟩ | ⟨rfl, ha⟩
  · have hcl : (nI (32 * g + a)).toNatClampNeg = 32 * g + a := nI_clamp (by omega)
    have hv : vp_in (nI (32 * g + a)) 128 := vp_in_nI (by omega) (by decide)
    rw [sm_ap0] at hp
    rw [sm_i32, hcl]
    by_cases h1 : c = 1
    · unfold sm_k0 at hp
      rw [if_pos h1] at hp
      exact br_t nI_0 ⟨hv, nm_e (br_t h1 ⟨hv, nm_e hp⟩)⟩
    · unfold sm_k0 at hp
      rw [if_neg h1] at hp
      exact br_t nI_0 ⟨hv, nm_e (br_f h1 ⟨hv, nm_e hp⟩)⟩
  · have hcl : (nI (32 * g + a)).toNatClampNeg = 32 * g + a := nI_clamp (by omega)
    have hv : vp_in (nI (32 * g + a)) 128 := vp_in_nI (by omega) (by decide)
    rw [sm_ap1] at hp
    rw [sm_i32, hcl]
    exact br_f (nI_ne0 (by decide) (by decide)) (br_t rfl ⟨hv, nm_e ⟨hv, nm_e ⟨hv, nm_e hp⟩⟩⟩)
  · have hcl : (nI (8 * g + a)).toNatClampNeg = 8 * g + a := nI_clamp (by omega)
    have hv : vp_in (nI (8 * g + a)) 32 := vp_in_nI (by omega) (by decide)
    rw [sm_ap2] at hp
    rw [sm_i8, hcl]
    exact br_f (nI_ne0 (by decide) (by decide)) (br_f (by decide) (br_t rfl ⟨hv, nm_e hp⟩))
  · rw [sm_ap3] at hp
    exact br_f (nI_ne0 (by decide) (by decide)) (br_f (by decide) (br_f (by decide) (sm_fg hg ha hp)))
theorem sm_w16 {g n k a : Nat} {b c : Int32} (hg : g < 4) (hn : n < 8) (hc : l.1 g = nI n) (hk : sm_ok k a) (hp : post (sm_x nc (sm_ap g k a b c m) i (sm_la g n k a b c l) ho pu ro)) : wX_write_16 post (nI g) (nI k) (nI a) b c nc m.1 m.2.1 m.2.2.1 m.2.2.2.1 m.2.2.2.2.1 m.2.2.2.2.2 i.1 i.2.1 i.2.2.1 i.2.2.2.1 i.2.2.2.2.1 i.2.2.2.2.2 l.1 l.2.1 l.2.2.1 l.2.2.2.1 l.2.2.2.2 ho pu ro := by
  have hcl : (nI g).toNatClampNeg = g := nI_clamp (by omega)
  have hce : (nI (8 * g + n)).toNatClampNeg = 8 * g + n := nI_clamp (by omega)
  have hv : vp_in (nI g) 4 := vp_in_nI (by omega) (by decide)
  have hw : vp_in (nI (8 * g + n)) 32 := vp_in_nI (by omega) (by decide)
  unfold wX_write_16
  rw [hcl, hc, sm_i8, nI_1]
  refine ⟨hv, nm_e ?_⟩
  rw [hce]
  exact ⟨hw, nm_e ⟨hw, nm_e ⟨hw, nm_e ⟨hw, nm_e ⟨hv, hv, nm_e (sm_apX (l := sm_la g n k a b c l) hg hk hp)⟩⟩⟩⟩⟩
theorem sm_wr {g k a : Nat} {b c : Int32} (hD : sm_D m i l) (hg : g < 4) (hk : sm_ok k a) (hp : ∀ (i' : sm_M) (l' : sm_L), sm_D (sm_ap g k a b c m) i' l' → post (sm_x nc (sm_ap g k a b c m) i' l' ho pu ro)) : wpX_write post (sm_x nc m i l ho pu ro) (nI g) (nI k) (nI a) b c := by
  obtain ⟨n, hn, hc, hv, hr⟩ := hD.2.2 g hg
  have hcl : (nI g).toNatClampNeg = g := nI_clamp (by omega)
  have hi : vp_in (nI g) 4 := vp_in_nI (by omega) (by decide)
  unfold wpX_write
  dsimp only
  rw [hcl, hc]
  by_cases h8 : n < 8
  · exact ⟨hi, br_t (nI_lt (b := 8) h8 (by decide)) (sm_w16 hg h8 hc hk (hp _ _ (sm_D_wr hD hc h8 hg hk)))⟩
  · refine ⟨hi, br_f (nI_nlt (b := 8) (by omega) (by omega)) (sm_si hg hD.1.1 hD.1.2 ?_)⟩
    have hD' := sm_D_sv (g := g) hD
    have hc' : upd l.1 g 0 g = nI 0 := pk_us.trans nI_0.symm
    exact sm_w16 (i := sm_sv g m i) (l := (upd l.1 g 0, l.2.1, l.2.2.1, l.2.2.2.1, l.2.2.2.2)) hg (by omega) hc' hk (hp _ _ (sm_D_wr hD' hc' (by omega) hg hk))
end
end
section
/-! the walk of lose: copy the image, replay the log, mark the pulls as not begun -/
def sm_pz (st : Nat → Int32) (g : Nat) : Nat → (Nat → Int32) → Nat → (Nat → Int32)
  | 0, pu, _ => pu
  | d + 1, pu, t => sm_pz st g d (if st (8 * g + t) = 3 then upd pu t 0 else pu) (t + 1)
theorem sm_pz_at (st : Nat → Int32) (g : Nat) : ∀ (d : Nat) (pu : Nat → Int32) (t j : Nat), (sm_pz st g d pu t j = pu j) ∨ (st (8 * g + j) = 3 ∧ sm_pz st g d pu t j = 0) := by
  intro d
  induction d with
  | zero => intro pu t j; exact Or.inl rfl
  | succ d ih =>
    intro pu t j
    rcases ih (if st (8 * g + t) = 3 then upd pu t 0 else pu) (t + 1) j with h | h
    · by_cases e : st (8 * g + t) = 3
      · by_cases ej : j = t
        · refine Or.inr ⟨by rw [ej]; exact e, ?_⟩
          refine h.trans ?_
          rw [if_pos e, ej]; exact pk_us
        · refine Or.inl (h.trans ?_)
          rw [if_pos e]; exact pk_un ej
      · refine Or.inl (h.trans ?_)
        rw [if_neg e]
    · exact Or.inr h
section
variable {post : SX → Prop} {nc : Int32} {va th kn nu an st iv it ik iu ia ig lc lk la lb ld ho pu ro : Nat → Int32}
theorem sm_lo179 {g : Nat} (hg : g < 4) : ∀ (d t : Nat) (pu : Nat → Int32), t + d = 8 → post (nc, va, th, kn, nu, an, st, iv, it, ik, iu, ia, ig, lc, lk, la, lb, ld, ho, sm_pz st g d pu t, ro) → wX_lose_179 post (nI g) nc (d + 1) (nI t) va th kn nu an st iv it ik iu ia ig lc lk la lb ld ho pu ro := by
  intro d
  induction d with
  | zero =>
    intro t pu h hp
    exact br_t (nI_le (a := 8) (by omega) (by omega)) hp
  | succ d ih =>
    intro t pu h hp
    have hcl : (nI (8 * g + t)).toNatClampNeg = 8 * g + t := nI_clamp (by omega)
    have hct : (nI t).toNatClampNeg = t := nI_clamp (by omega)
    have hv : vp_in (nI (8 * g + t)) 32 := vp_in_nI (by omega) (by decide)
    have hw : vp_in (nI t) 8 := vp_in_nI (by omega) (by decide)
    rw [wX_lose_179]
    dsimp only
    rw [sm_i8, hcl, hct]
    refine br_f (nI_ge (b := 8) (by omega) (by decide)) ⟨hv, ?_⟩
    by_cases e : st (8 * g + t) = 3
    · refine br_t e ⟨hw, nm_e (nm_r (nI_1 t) (ih (t + 1) _ (by omega) ?_))⟩
      have hp' := hp
      unfold sm_pz at hp'
      rw [if_pos e] at hp'
      exact hp'
    · refine br_f e (nm_r (nI_1 t) (ih (t + 1) _ (by omega) ?_))
      have hp' := hp
      unfold sm_pz at hp'
      rw [if_neg e] at hp'
      exact hp'
theorem sm_lo88 {g : Nat} (hg : g < 4) : ∀ (d t : Nat) (st : Nat → Int32), t + d = 8 → (∃ n, wX_lose_127 post (nI g) n (nI (8 * g)) nc va th kn nu an (sm_c ig d st (8 * g + t)) iv it ik iu ia ig lc lk la lb ld ho pu ro) → wX_lose_88 post (nI g) nc (d + 1) (nI t) va th kn nu an st iv it ik iu ia ig lc lk la lb ld ho pu ro := by
  intro d
  induction d with
  | zero =>
    intro t st h hp
    exact br_t (nI_le (a := 8) (by omega) (by omega)) (nm_r (sm_m8 g) hp)
  | succ d ih =>
    intro t st h hp
    have hcl : (nI (8 * g + t)).toNatClampNeg = 8 * g + t := nI_clamp (by omega)
    have hv : vp_in (nI (8 * g + t)) 32 := vp_in_nI (by omega) (by decide)
    rw [wX_lose_88]
    dsimp only
    rw [sm_i8, hcl]
    exact br_f (nI_ge (b := 8) (by omega) (by decide)) ⟨hv, hv, nm_e (nm_r (nI_1 t) (ih (t + 1) _ (by omega) hp))⟩
theorem sm_lo9 {g : Nat} (hg : g < 4) (h1 : ∀ j, it j = 0 ∨ it j = 1) (h2 : ∀ j, ik j = 0 ∨ ik j = 1) : ∀ (d p : Nat) (va th kn nu an : Nat → Int32), p + d = 32 * g + 32 → (∃ n, wX_lose_127 post (nI g) n (nI (8 * g)) nc (sm_c iv d va p) (sm_c it d th p) (sm_c ik d kn p) (sm_c iu d nu p) (sm_c ia d an p) (sm_c ig 8 st (8 * g)) iv it ik iu ia ig lc lk la lb ld ho pu ro) → wX_lose_9 post (nI g) nc (d + 1) (nI p) va th kn nu an st iv it ik iu ia ig lc lk la lb ld ho pu ro := by
  intro d
  induction d with
  | zero =>
    intro p va th kn nu an h hp
    rw [wX_lose_9]
    dsimp only
    rw [sm_m32, sm_a32]
    exact br_t (nI_le (by omega) (by omega)) ⟨9, sm_lo88 hg 8 0 st rfl hp⟩
  | succ d ih =>
    intro p va th kn nu an h hp
    have hcl : (nI p).toNatClampNeg = p := nI_clamp (by omega)
    have hv : vp_in (nI p) 128 := vp_in_nI (by omega) (by decide)
    rw [wX_lose_9]
    dsimp only
    rw [sm_m32, sm_a32, hcl, sm_nar (h1 p), sm_nar (h2 p)]
    exact br_f (nI_ge (by omega) (by omega)) ⟨hv, hv, nm_e ⟨hv, hv, nm_e ⟨hv, hv, nm_e ⟨hv, hv, nm_e ⟨hv, hv, nm_e (nm_r (nI_1 p) (ih (p + 1) _ _ _ _ _ (by omega) hp))⟩⟩⟩⟩⟩
end
section
variable {post : SX → Prop} {nc : Int32} {m0 i : sm_M} {l : sm_L} {ho pu ro : Nat → Int32}
theorem sm_lo127 {g n : Nat} (hg : g < 4) (hn : n ≤ 8) (hc : l.1 g = nI n) (hv : ∀ t, t < n → ∃ k a : Nat, sm_ok k a ∧ l.2.1 (8 * g + t) = nI k ∧ l.2.2.1 (8 * g + t) = nI a) (hr : sm_on (sm_P g) (sm_Q g) m0 (sm_rp g l i n)) (hp : ∃ n, wX_lose_179 post (nI g) nc n 0 m0.1 m0.2.1 m0.2.2.1 m0.2.2.2.1 m0.2.2.2.2.1 m0.2.2.2.2.2 i.1 i.2.1 i.2.2.1 i.2.2.2.1 i.2.2.2.2.1 i.2.2.2.2.2 l.1 l.2.1 l.2.2.1 l.2.2.2.1 l.2.2.2.2 ho pu ro) :
    ∀ (d t : Nat) (m : sm_M), t + d = n → sm_on (sm_P g) (sm_Q g) m (sm_rp g l i t) → sm_on (fun j => ¬ sm_P g j) (fun j => ¬ sm_Q g j) m m0 → wX_lose_127 post (nI g) (d + 1) (nI (8 * g + t)) nc m.1 m.2.1 m.2.2.1 m.2.2.2.1 m.2.2.2.2.1 m.2.2.2.2.2 i.1 i.2.1 i.2.2.1 i.2.2.2.1 i.2.2.2.2.1 i.2.2.2.2.2 l.1 l.2.1 l.2.2.1 l.2.2.2.1 l.2.2.2.2 ho pu ro := by
  have hcl : (nI g).toNatClampNeg = g := nI_clamp (by omega)
  have hvg : vp_in (nI g) 4 := vp_in_nI (by omega) (by decide)
  intro d
  induction d with
  | zero =>
    intro t m h h1 h2
    have ht : t = n := by omega
    subst ht
    have hm : m = m0 := sm_all (sm_on_tr h1 (sm_on_sy hr)) h2
    subst hm
    rw [wX_lose_127]
    dsimp only
    rw [hcl, hc, sm_i8]
    exact ⟨hvg, br_t (nI_le (by omega) (by omega)) hp⟩
  | succ d ih =>
    intro t m h h1 h2
    have hce : (nI (8 * g + t)).toNatClampNeg = 8 * g + t := nI_clamp (by omega)
    have hw : vp_in (nI (8 * g + t)) 32 := vp_in_nI (by omega) (by decide)
    obtain ⟨k, a, ok, e1, e2⟩ := hv t (by omega)
    have ka : k < 2 ^ 31 ∧ a < 2 ^ 31 := by
      rcases ok with ok | ok | ok | ok <;> omega
    have h1' : sm_on (sm_P g) (sm_Q g) (sm_ap g k a (l.2.2.2.1 (8 * g + t)) (l.2.2.2.2 (8 * g + t)) m) (sm_rp g l i (t + 1)) := by
      show sm_on (sm_P g) (sm_Q g) _ (sm_ap g (l.2.1 (8 * g + t)).toNatClampNeg (l.2.2.1 (8 * g + t)).toNatClampNeg (l.2.2.2.1 (8 * g + t)) (l.2.2.2.2 (8 * g + t)) (sm_rp g l i t))
      rw [e1, e2, nI_clamp ka.1, nI_clamp ka.2]
      exact sm_on_ap h1
    have h2' := sm_on_tr (sm_off_ap (m := m) (g := g) (b := l.2.2.2.1 (8 * g + t)) (c := l.2.2.2.2 (8 * g + t)) ok) h2
    rw [wX_lose_127]
    dsimp only
    rw [hcl, hc, sm_i8, hce, e1, e2]
    refine ⟨hvg, br_f (nI_ge (by omega) (by omega)) ⟨hw, hw, hw, hw, sm_apX hg ok ?_⟩⟩
    exact nm_r (nI_1 _) (ih (t + 1) _ (by omega) h1' h2')
theorem sm_lo {m : sm_M} (hD : sm_D m i l) (p : Int32) (hp : ∀ g, g < 4 → post (sm_x nc m i l ho (sm_pz m.2.2.2.2.2 g 8 pu 0) ro)) : wpX_lose post (sm_x nc m i l ho pu ro) p := by
  obtain ⟨g, hg, e⟩ := pk_andE p (m := 3) 2 rfl
  have hg : g < 4 := hg
  obtain ⟨n, hn, hc, hv, hr⟩ := hD.2.2 g hg
  unfold wpX_lose
  dsimp only
  refine nm_r e (nm_r (sm_m32 g) ⟨33, sm_lo9 hg hD.2.1.1 hD.2.1.2 32 (32 * g) _ _ _ _ _ rfl ?_⟩)
  exact ⟨n + 1, sm_lo127 (m0 := m) hg hn hc hv hr ⟨9, sm_lo179 hg 8 0 pu rfl (hp g hg)⟩ n 0 (sm_sv g i m) (by omega) (sm_on_sy sm_sv_on) sm_sv_off⟩
end
end
section
/-! what holds of one shard c: a holder with the reference's content, and the phase of its move -/
def sm_H (c h : Nat) (m : sm_M) (y : SY) : Prop :=
  (∀ q, q < 4 → m.2.1 (32 * h + (c + 8 * q)) = y.1 (c + 8 * q) ∧ (¬ y.1 (c + 8 * q) = 0 → m.1 (32 * h + (c + 8 * q)) = y.2.1 (c + 8 * q)))
  ∧ (∀ q, q < 4 → m.2.2.1 (32 * h + (4 * c + q)) = y.2.2.1 (4 * c + q) ∧ (¬ y.2.2.1 (4 * c + q) = 0 → m.2.2.2.1 (32 * h + (4 * c + q)) = y.2.2.2.1 (4 * c + q) ∧ m.2.2.2.2.1 (32 * h + (4 * c + q)) = y.2.2.2.2.1 (4 * c + q)))
def sm_Z (c : Nat) (m : sm_M) : Prop := ∀ g, g < 4 → m.2.2.2.2.2 (8 * g + c) = 0 → ∀ q, q < 4 → m.2.2.1 (32 * g + (4 * c + q)) = 0
def sm_U (c h o p : Nat) (m : sm_M) : Prop :=
  (∀ q, q < 4 → q < p → m.2.1 (32 * o + (c + 8 * q)) = m.2.1 (32 * h + (c + 8 * q)) ∧ m.1 (32 * o + (c + 8 * q)) = m.1 (32 * h + (c + 8 * q)))
  ∧ (∀ q, q < 4 → m.2.2.1 (32 * h + (4 * c + q)) = 0 → m.2.2.1 (32 * o + (4 * c + q)) = 0)
  ∧ (∀ q, q < 4 → q + 4 < p → ¬ m.2.2.1 (32 * h + (4 * c + q)) = 0 → m.2.2.1 (32 * o + (4 * c + q)) = m.2.2.1 (32 * h + (4 * c + q)) ∧ m.2.2.2.1 (32 * o + (4 * c + q)) = m.2.2.2.1 (32 * h + (4 * c + q)) ∧ m.2.2.2.2.1 (32 * o + (4 * c + q)) = m.2.2.2.2.1 (32 * h + (4 * c + q)))
def sm_PA (c h : Nat) (m : sm_M) : Prop := m.2.2.2.2.2 (8 * h + c) = 1 ∧ ∀ g, g < 4 → g ≠ h → m.2.2.2.2.2 (8 * g + c) = 0
def sm_PB (c h o : Nat) (m : sm_M) : Prop := m.2.2.2.2.2 (8 * h + c) = 1 ∧ o < 4 ∧ o ≠ h ∧ m.2.2.2.2.2 (8 * o + c) = 2 ∧ ∀ g, g < 4 → g ≠ h → g ≠ o → m.2.2.2.2.2 (8 * g + c) = 0
def sm_PC (c h : Nat) (m : sm_M) : Prop := m.2.2.2.2.2 (8 * h + c) = 2 ∧ ∀ g, g < 4 → g ≠ h → m.2.2.2.2.2 (8 * g + c) = 0
def sm_PD (c h o p : Nat) (m : sm_M) (pu : Nat → Int32) : Prop := m.2.2.2.2.2 (8 * h + c) = 2 ∧ o < 4 ∧ o ≠ h ∧ m.2.2.2.2.2 (8 * o + c) = 3 ∧ (∀ g, g < 4 → g ≠ h → g ≠ o → m.2.2.2.2.2 (8 * g + c) = 0) ∧ p ≤ 8 ∧ pu c = nI p ∧ sm_U c h o p m
def sm_ph (c h tgt k : Nat) (m : sm_M) (pu : Nat → Int32) : Prop :=
  (sm_PA c h m ∧ (h = tgt ∨ 11 ≤ k)) ∨ (∃ o, sm_PB c h o m ∧ (h = tgt ∨ 12 ≤ k)) ∨ (sm_PC c h m ∧ 10 ≤ k) ∨ (∃ o p, sm_PD c h o p m pu ∧ ((o = tgt ∧ 9 ≤ k + p) ∨ 21 ≤ k + p))
def sm_C (c tgt k : Nat) (m : sm_M) (pu : Nat → Int32) (y : SY) : Prop := ∃ h, h < 4 ∧ sm_H c h m y ∧ sm_Z c m ∧ sm_ph c h tgt k m pu
/-- memories that agree on shard c -/
def sm_A (c : Nat) (m m' : sm_M) : Prop := (∀ g, g < 4 → m'.2.2.2.2.2 (8 * g + c) = m.2.2.2.2.2 (8 * g + c)) ∧ (∀ g q, g < 4 → q < 4 → m'.2.1 (32 * g + (c + 8 * q)) = m.2.1 (32 * g + (c + 8 * q)) ∧ m'.1 (32 * g + (c + 8 * q)) = m.1 (32 * g + (c + 8 * q))) ∧ (∀ g q, g < 4 → q < 4 → m'.2.2.1 (32 * g + (4 * c + q)) = m.2.2.1 (32 * g + (4 * c + q)) ∧ m'.2.2.2.1 (32 * g + (4 * c + q)) = m.2.2.2.1 (32 * g + (4 * c + q)) ∧ m'.2.2.2.2.1 (32 * g + (4 * c + q)) = m.2.2.2.2.1 (32 * g + (4 * c + q)))
def sm_Y (c : Nat) (y y' : SY) : Prop := (∀ q, q < 4 → y'.1 (c + 8 * q) = y.1 (c + 8 * q) ∧ y'.2.1 (c + 8 * q) = y.2.1 (c + 8 * q)) ∧ (∀ q, q < 4 → y'.2.2.1 (4 * c + q) = y.2.2.1 (4 * c + q) ∧ y'.2.2.2.1 (4 * c + q) = y.2.2.2.1 (4 * c + q) ∧ y'.2.2.2.2.1 (4 * c + q) = y.2.2.2.2.1 (4 * c + q))
theorem sm_A_tr {c : Nat} {m m' n : sm_M} (h : sm_A c m m') (h' : sm_A c m' n) : sm_A c m n :=
  ⟨fun g hg => (h'.1 g hg).trans (h.1 g hg), fun g q hg hq => ⟨(h'.2.1 g q hg hq).1.trans (h.2.1 g q hg hq).1, (h'.2.1 g q hg hq).2.trans (h.2.1 g q hg hq).2⟩,
   fun g q hg hq => ⟨(h'.2.2 g q hg hq).1.trans (h.2.2 g q hg hq).1, (h'.2.2 g q hg hq).2.1.trans (h.2.2 g q hg hq).2.1, (h'.2.2 g q hg hq).2.2.trans (h.2.2 g q hg hq).2.2⟩⟩
theorem sm_A_rf {c : Nat} {m : sm_M} : sm_A c m m := ⟨fun _ _ => rfl, fun _ _ _ _ => ⟨rfl, rfl⟩, fun _ _ _ _ => ⟨rfl, rfl, rfl⟩⟩
theorem sm_Y_rf {c : Nat} {y : SY} : sm_Y c y y := ⟨fun _ _ => ⟨rfl, rfl⟩, fun _ _ => ⟨rfl, rfl, rfl⟩⟩
theorem sm_H_cg {c h : Nat} {m m' : sm_M} {y y' : SY} (hh : h < 4) (a : sm_A c m m') (b : sm_Y c y y') (H : sm_H c h m y) : sm_H c h m' y' := by
  refine ⟨fun q hq => ?_, fun q hq => ?_⟩
  · rw [(a.2.1 h q hh hq).1, (a.2.1 h q hh hq).2, (b.1 q hq).1, (b.1 q hq).2]; exact H.1 q hq
  · rw [(a.2.2 h q hh hq).1, (a.2.2 h q hh hq).2.1, (a.2.2 h q hh hq).2.2, (b.2 q hq).1, (b.2 q hq).2.1, (b.2 q hq).2.2]; exact H.2 q hq
theorem sm_Z_cg {c : Nat} {m m' : sm_M} (a : sm_A c m m') (H : sm_Z c m) : sm_Z c m' := by
  intro g hg h0 q hq
  rw [a.1 g hg] at h0
  rw [(a.2.2 g q hg hq).1]; exact H g hg h0 q hq
theorem sm_U_cg {c h o p : Nat} {m m' : sm_M} (hh : h < 4) (ho : o < 4) (a : sm_A c m m') (H : sm_U c h o p m) : sm_U c h o p m' := by
  refine ⟨fun q hq => ?_, fun q hq => ?_, fun q hq => ?_⟩
  · rw [(a.2.1 h q hh hq).1, (a.2.1 h q hh hq).2, (a.2.1 o q ho hq).1, (a.2.1 o q ho hq).2]; exact H.1 q hq
  · rw [(a.2.2 h q hh hq).1, (a.2.2 o q ho hq).1]; exact H.2.1 q hq
  · rw [(a.2.2 h q hh hq).1, (a.2.2 o q ho hq).1, (a.2.2 h q hh hq).2.1, (a.2.2 o q ho hq).2.1, (a.2.2 h q hh hq).2.2, (a.2.2 o q ho hq).2.2]; exact H.2.2 q hq
theorem sm_ph_cg {c h tgt k : Nat} {m m' : sm_M} {pu pu' : Nat → Int32} (hh : h < 4) (a : sm_A c m m') (hp : pu' c = pu c) (H : sm_ph c h tgt k m pu) : sm_ph c h tgt k m' pu' := by
  rcases H with ⟨H, hk⟩ | ⟨o, H, hk⟩ | ⟨H, hk⟩ | ⟨o, p, H, hk⟩
  · exact Or.inl ⟨⟨(a.1 h hh).trans H.1, fun g hg hn => (a.1 g hg).trans (H.2 g hg hn)⟩, hk⟩
  · exact Or.inr (Or.inl ⟨o, ⟨(a.1 h hh).trans H.1, H.2.1, H.2.2.1, (a.1 o H.2.1).trans H.2.2.2.1, fun g hg hn hn' => (a.1 g hg).trans (H.2.2.2.2 g hg hn hn')⟩, hk⟩)
  · exact Or.inr (Or.inr (Or.inl ⟨⟨(a.1 h hh).trans H.1, fun g hg hn => (a.1 g hg).trans (H.2 g hg hn)⟩, hk⟩))
  · obtain ⟨h1, h2, h3, h4, h5, h6, h7, h8⟩ := H
    exact Or.inr (Or.inr (Or.inr ⟨o, p, ⟨(a.1 h hh).trans h1, h2, h3, (a.1 o h2).trans h4, fun g hg hn hn' => (a.1 g hg).trans (h5 g hg hn hn'), h6, hp.trans h7, sm_U_cg hh h2 a h8⟩, hk⟩))
theorem sm_C_cg {c tgt k : Nat} {m m' : sm_M} {pu pu' : Nat → Int32} {y y' : SY} (a : sm_A c m m') (b : sm_Y c y y') (hp : pu' c = pu c) (H : sm_C c tgt k m pu y) : sm_C c tgt k m' pu' y' := by
  obtain ⟨h, hh, h1, h2, h3⟩ := H
  exact ⟨h, hh, sm_H_cg hh a b h1, sm_Z_cg a h2, sm_ph_cg hh a hp h3⟩
/-- any count up to 21 does at first, whatever the target -/
theorem sm_C_up {c tgt k tgt' : Nat} {m : sm_M} {pu : Nat → Int32} {y : SY} (H : sm_C c tgt k m pu y) : sm_C c tgt' 21 m pu y := by
  obtain ⟨h, hh, h1, h2, h3⟩ := H
  refine ⟨h, hh, h1, h2, ?_⟩
  rcases h3 with ⟨H, hk⟩ | ⟨o, H, hk⟩ | ⟨H, hk⟩ | ⟨o, p, H, hk⟩
  · exact Or.inl ⟨H, Or.inr (by omega)⟩
  · exact Or.inr (Or.inl ⟨o, H, Or.inr (by omega)⟩)
  · exact Or.inr (Or.inr (Or.inl ⟨H, by omega⟩))
  · exact Or.inr (Or.inr (Or.inr ⟨o, p, H, Or.inr (by omega)⟩))
/-- no step left: the target serves -/
theorem sm_C_0 {c tgt : Nat} {m : sm_M} {pu : Nat → Int32} {y : SY} (H : sm_C c tgt 0 m pu y) : m.2.2.2.2.2 (8 * tgt + c) = 1 := by
  obtain ⟨h, hh, h1, h2, h3⟩ := H
  rcases h3 with ⟨H, hk⟩ | ⟨o, H, hk⟩ | ⟨H, hk⟩ | ⟨o, p, H, hk⟩
  · have e : h = tgt := by omega
    subst e; exact H.1
  · have e : h = tgt := by omega
    subst e; exact H.1
  · exact absurd hk (by omega)
  · have := H.2.2.2.2.2.1
    exact absurd hk (by omega)
/-- who serves holds the content -/
theorem sm_C_s {c tgt k g : Nat} {m : sm_M} {pu : Nat → Int32} {y : SY} (H : sm_C c tgt k m pu y) (hg : g < 4) (hs : m.2.2.2.2.2 (8 * g + c) = 1) : sm_H c g m y ∧ sm_Z c m ∧ (sm_PA c g m ∨ ∃ o, sm_PB c g o m) := by
  obtain ⟨h, hh, h1, h2, h3⟩ := H
  have key : g ≠ h → (m.2.2.2.2.2 (8 * g + c) = 0 ∨ m.2.2.2.2.2 (8 * g + c) = 2 ∨ m.2.2.2.2.2 (8 * g + c) = 3) → False := by
    intro _ hz
    rw [hs] at hz
    rcases hz with z | z | z
    · exact absurd z (by decide)
    · exact absurd z (by decide)
    · exact absurd z (by decide)
  rcases h3 with ⟨H, hk⟩ | ⟨o, H, hk⟩ | ⟨H, hk⟩ | ⟨o, p, H, hk⟩
  · by_cases e : g = h
    · subst e; exact ⟨h1, h2, Or.inl H⟩
    · exact (key e (Or.inl (H.2 g hg e))).elim
  · by_cases e : g = h
    · subst e; exact ⟨h1, h2, Or.inr ⟨o, H⟩⟩
    · by_cases e2 : g = o
      · subst e2; exact (key e (Or.inr (Or.inl H.2.2.2.1))).elim
      · exact (key e (Or.inl (H.2.2.2.2 g hg e e2))).elim
  · by_cases e : g = h
    · subst e; rw [H.1] at hs; exact absurd hs (by decide)
    · exact (key e (Or.inl (H.2 g hg e))).elim
  · by_cases e : g = h
    · subst e; rw [H.1] at hs; exact absurd hs (by decide)
    · by_cases e2 : g = o
      · subst e2; exact (key e (Or.inr (Or.inr H.2.2.2.1))).elim
      · exact (key e (Or.inl (H.2.2.2.2.1 g hg e e2))).elim
/-- entries of shard c leave the others alone -/
theorem sm_A_k0 {c c' g q : Nat} {b d : Int32} {m : sm_M} (hc : c < 8) (hc' : c' < 8) (hn : c' ≠ c) (hq : q < 4) : sm_A c' m (sm_k0 (32 * g + (c + 8 * q)) b d m) :=
  ⟨fun _ _ => rfl, fun g' q' hg' hq' => ⟨pk_un (by omega), pk_un (by omega)⟩, fun _ _ _ _ => ⟨rfl, rfl, rfl⟩⟩
theorem sm_A_k1 {c c' g q : Nat} {b d : Int32} {m : sm_M} (hc : c < 8) (hc' : c' < 8) (hn : c' ≠ c) (hq : q < 4) : sm_A c' m (sm_k1 (32 * g + (4 * c + q)) b d m) :=
  ⟨fun _ _ => rfl, fun _ _ _ _ => ⟨rfl, rfl⟩, fun g' q' hg' hq' => ⟨pk_un (by omega), pk_un (by omega), pk_un (by omega)⟩⟩
theorem sm_A_k2 {c c' g : Nat} {b : Int32} {m : sm_M} (hc : c < 8) (hc' : c' < 8) (hn : c' ≠ c) : sm_A c' m (sm_k2 (8 * g + c) b m) :=
  ⟨fun g' _ => pk_un (by omega), fun _ _ _ _ => ⟨rfl, rfl⟩, fun _ _ _ _ => ⟨rfl, rfl, rfl⟩⟩
theorem sm_A_k3 {c c' g : Nat} {m : sm_M} (hc : c < 8) (hc' : c' < 8) (hn : c' ≠ c) : sm_A c' m (sm_k3 g c m) :=
  ⟨fun g' _ => pk_un (by omega), fun g' q' _ _ => ⟨sm_z_out _ _ _ _ (fun t ht => by omega), sm_z_out _ _ _ _ (fun t ht => by omega)⟩, fun g' q' _ _ => ⟨sm_z_out _ _ _ _ (fun t ht => by omega), rfl, rfl⟩⟩
end
section
/-! the steps of a move, one by one -/
/-- the frozen copy is forgotten -/
theorem sm_s_forget {c h o tgt k : Nat} {m : sm_M} {pu : Nat → Int32} {y : SY} (hc : c < 8) (hh : h < 4) (H : sm_H c h m y) (Z : sm_Z c m) (B : sm_PB c h o m) (hk : h = tgt ∨ 12 ≤ k) : sm_C c tgt (k - 1) (sm_k3 o c m) pu y := by
  obtain ⟨b1, b2, b3, b4, b5⟩ := B
  have hso : ∀ g, g ≠ o → (sm_k3 o c m).2.2.2.2.2 (8 * g + c) = m.2.2.2.2.2 (8 * g + c) := fun g hg => pk_un (by omega)
  have hs0 : (sm_k3 o c m).2.2.2.2.2 (8 * o + c) = 0 := pk_us
  refine ⟨h, hh, ⟨fun q hq => ?_, fun q hq => ?_⟩, ?_, Or.inl ⟨⟨(hso h (by omega)).trans b1, ?_⟩, ?_⟩⟩
  · have e1 : (sm_k3 o c m).2.1 (32 * h + (c + 8 * q)) = m.2.1 (32 * h + (c + 8 * q)) := sm_z_out _ _ _ _ (fun t ht => by omega)
    have e2 : (sm_k3 o c m).1 (32 * h + (c + 8 * q)) = m.1 (32 * h + (c + 8 * q)) := sm_z_out _ _ _ _ (fun t ht => by omega)
    rw [e1, e2]; exact H.1 q hq
  · have e1 : (sm_k3 o c m).2.2.1 (32 * h + (4 * c + q)) = m.2.2.1 (32 * h + (4 * c + q)) := sm_z_out _ _ _ _ (fun t ht => by omega)
    rw [e1]; exact H.2 q hq
  · intro g hg h0 q hq
    by_cases e : g = o
    · subst e
      have e2 : 32 * g + (4 * c + q) = 32 * g + 4 * c + 1 * q := by omega
      rw [e2]
      exact sm_z_in _ _ _ _ hq
    · rw [hso g e] at h0
      have e1 : (sm_k3 o c m).2.2.1 (32 * g + (4 * c + q)) = m.2.2.1 (32 * g + (4 * c + q)) := sm_z_out _ _ _ _ (fun t ht => by omega)
      rw [e1]; exact Z g hg h0 q hq
  · intro g hg hn
    by_cases e : g = o
    · subst e; exact hs0
    · rw [hso g e]; exact b5 g hg hn e
  · omega
/-- a state entry keeps content -/
theorem sm_H_k2 {c h p : Nat} {b : Int32} {m : sm_M} {y : SY} (H : sm_H c h m y) : sm_H c h (sm_k2 p b m) y := H
theorem sm_Z_k2 {c g : Nat} {b : Int32} {m : sm_M} (hb : ¬ b = 0) (Z : sm_Z c m) : sm_Z c (sm_k2 (8 * g + c) b m) := by
  intro g' hg' h0 q hq
  by_cases e : g' = g
  · subst e
    have e2 : (sm_k2 (8 * g' + c) b m).2.2.2.2.2 (8 * g' + c) = b := pk_us
    rw [e2] at h0
    exact absurd h0 hb
  · have e2 : (sm_k2 (8 * g + c) b m).2.2.2.2.2 (8 * g' + c) = m.2.2.2.2.2 (8 * g' + c) := pk_un (by omega)
    rw [e2] at h0
    exact Z g' hg' h0 q hq
theorem sm_st_s {c g : Nat} {b : Int32} {m : sm_M} : (sm_k2 (8 * g + c) b m).2.2.2.2.2 (8 * g + c) = b := pk_us
theorem sm_st_n {c g g' : Nat} {b : Int32} {m : sm_M} (h : g' ≠ g) : (sm_k2 (8 * g + c) b m).2.2.2.2.2 (8 * g' + c) = m.2.2.2.2.2 (8 * g' + c) := pk_un (by omega)
/-- the serving group freezes -/
theorem sm_s_freeze {c h tgt k : Nat} {m : sm_M} {pu : Nat → Int32} {y : SY} (hh : h < 4) (H : sm_H c h m y) (Z : sm_Z c m) (A : sm_PA c h m) (hk : h = tgt ∨ 11 ≤ k) (hn : h ≠ tgt) : sm_C c tgt (k - 1) (sm_k2 (8 * h + c) 2 m) pu y := by
  refine ⟨h, hh, sm_H_k2 H, sm_Z_k2 (by decide) Z, Or.inr (Or.inr (Or.inl ⟨⟨sm_st_s, fun g hg hn => ?_⟩, by omega⟩))⟩
  rw [sm_st_n hn]; exact A.2 g hg hn
/-- the frozen group serves again -/
theorem sm_s_back {c h k : Nat} {m : sm_M} {pu : Nat → Int32} {y : SY} (hh : h < 4) (H : sm_H c h m y) (Z : sm_Z c m) (A : sm_PC c h m) : sm_C c h (k - 1) (sm_k2 (8 * h + c) 1 m) pu y := by
  refine ⟨h, hh, sm_H_k2 H, sm_Z_k2 (by decide) Z, Or.inl ⟨⟨sm_st_s, fun g hg hn => ?_⟩, Or.inl rfl⟩⟩
  rw [sm_st_n hn]; exact A.2 g hg hn
/-- the target begins to pull -/
theorem sm_s_start {c h tgt k : Nat} {m : sm_M} {pu : Nat → Int32} {y : SY} (hh : h < 4) (ht : tgt < 4) (H : sm_H c h m y) (Z : sm_Z c m) (A : sm_PC c h m) (hk : 10 ≤ k) (hn : h ≠ tgt) : sm_C c tgt (k - 1) (sm_k2 (8 * tgt + c) 3 m) (upd pu c 0) y := by
  refine ⟨h, hh, sm_H_k2 H, sm_Z_k2 (by decide) Z, Or.inr (Or.inr (Or.inr ⟨tgt, 0, ⟨?_, ht, fun e => hn e.symm, sm_st_s, fun g hg hn hn' => ?_, by omega, pk_us.trans nI_0.symm, fun q hq h0 => absurd h0 (by omega), fun q hq _ => ?_, fun q hq h0 => absurd h0 (by omega)⟩, Or.inl ⟨rfl, by omega⟩⟩))⟩
  · rw [sm_st_n hn]; exact A.1
  · rw [sm_st_n hn']; exact A.2 g hg hn
  · exact Z tgt ht (A.2 tgt ht (fun e => hn e.symm)) q hq
/-- all is pulled: the incoming group serves -/
theorem sm_s_serve {c h o tgt k : Nat} {m : sm_M} {pu pu' : Nat → Int32} {y : SY} (hc : c < 8) (hh : h < 4) (H : sm_H c h m y) (Z : sm_Z c m) (D : sm_PD c h o 8 m pu) (hk : (o = tgt ∧ 9 ≤ k + 8) ∨ 21 ≤ k + 8) : sm_C c tgt (k - 1) (sm_k2 (8 * o + c) 1 m) pu' y := by
  obtain ⟨d1, d2, d3, d4, d5, d6, d7, u1, u2, u3⟩ := D
  refine ⟨o, d2, sm_H_k2 ⟨fun q hq => ?_, fun q hq => ?_⟩, sm_Z_k2 (by decide) Z, Or.inr (Or.inl ⟨h, ⟨sm_st_s, hh, fun e => d3 e.symm, ?_, fun g hg hn hn' => ?_⟩, by omega⟩)⟩
  · rw [(u1 q hq (by omega)).1, (u1 q hq (by omega)).2]; exact H.1 q hq
  · by_cases e : m.2.2.1 (32 * h + (4 * c + q)) = 0
    · have e1 := (H.2 q hq).1
      rw [u2 q hq e, ← e1, e]
      exact ⟨rfl, fun z => absurd rfl z⟩
    · have ⟨a1, a2, a3⟩ := u3 q hq (by omega) e
      rw [a1, a2, a3]; exact H.2 q hq
  · rw [sm_st_n (fun e => d3 e.symm)]; exact d1
  · rw [sm_st_n hn]; exact d5 g hg hn' hn
/-- one key is pulled -/
theorem sm_s_key {c h o p tgt k : Nat} {m : sm_M} {pu : Nat → Int32} {y : SY} {f : Int32} (hb : sm_b m) (hc : c < 8) (hh : h < 4) (H : sm_H c h m y) (Z : sm_Z c m) (D : sm_PD c h o p m pu) (hk : (o = tgt ∧ 9 ≤ k + p) ∨ 21 ≤ k + p) (hp : p < 4)
    (hf : (if f = 1 then 1 else 0) = m.2.1 (32 * h + (c + 8 * p))) : sm_C c tgt (k - 1) (sm_k0 (32 * o + (c + 8 * p)) (m.1 (32 * h + (c + 8 * p))) f m) (upd pu c (nI (p + 1))) y := by
  obtain ⟨d1, d2, d3, d4, d5, d6, d7, u1, u2, u3⟩ := D
  have eh : ∀ q, q < 4 → (sm_k0 (32 * o + (c + 8 * p)) (m.1 (32 * h + (c + 8 * p))) f m).2.1 (32 * h + (c + 8 * q)) = m.2.1 (32 * h + (c + 8 * q)) ∧ (sm_k0 (32 * o + (c + 8 * p)) (m.1 (32 * h + (c + 8 * p))) f m).1 (32 * h + (c + 8 * q)) = m.1 (32 * h + (c + 8 * q)) := fun q hq => ⟨pk_un (by omega), pk_un (by omega)⟩
  refine ⟨h, hh, ⟨fun q hq => ?_, H.2⟩, Z, Or.inr (Or.inr (Or.inr ⟨o, p + 1, ⟨d1, d2, d3, d4, d5, by omega, pk_us, fun q hq hqp => ?_, u2, fun q hq h0 => absurd h0 (by omega)⟩, by omega⟩))⟩
  · rw [(eh q hq).1, (eh q hq).2]; exact H.1 q hq
  · rw [(eh q hq).1, (eh q hq).2]
    by_cases e : q = p
    · subst e
      exact ⟨pk_us.trans hf, pk_us⟩
    · have ⟨a1, a2⟩ := u1 q hq (by omega)
      exact ⟨(pk_un (by omega)).trans a1, (pk_un (by omega)).trans a2⟩
/-- one remembered request is pulled -/
theorem sm_s_seen {c h o q tgt k : Nat} {m : sm_M} {pu : Nat → Int32} {y : SY} (hb : sm_b m) (hc : c < 8) (hh : h < 4) (H : sm_H c h m y) (Z : sm_Z c m) (D : sm_PD c h o (q + 4) m pu) (hk : (o = tgt ∧ 9 ≤ k + (q + 4)) ∨ 21 ≤ k + (q + 4)) (hq : q < 4)
    (hn : ¬ m.2.2.1 (32 * h + (4 * c + q)) = 0) : sm_C c tgt (k - 1) (sm_k1 (32 * o + (4 * c + q)) (m.2.2.2.1 (32 * h + (4 * c + q))) (m.2.2.2.2.1 (32 * h + (4 * c + q))) m) (upd pu c (nI (q + 4 + 1))) y := by
  obtain ⟨d1, d2, d3, d4, d5, d6, d7, u1, u2, u3⟩ := D
  have eh : ∀ g r, g ≠ o → r < 4 → (sm_k1 (32 * o + (4 * c + q)) (m.2.2.2.1 (32 * h + (4 * c + q))) (m.2.2.2.2.1 (32 * h + (4 * c + q))) m).2.2.1 (32 * g + (4 * c + r)) = m.2.2.1 (32 * g + (4 * c + r)) ∧ (sm_k1 (32 * o + (4 * c + q)) (m.2.2.2.1 (32 * h + (4 * c + q))) (m.2.2.2.2.1 (32 * h + (4 * c + q))) m).2.2.2.1 (32 * g + (4 * c + r)) = m.2.2.2.1 (32 * g + (4 * c + r)) ∧ (sm_k1 (32 * o + (4 * c + q)) (m.2.2.2.1 (32 * h + (4 * c + q))) (m.2.2.2.2.1 (32 * h + (4 * c + q))) m).2.2.2.2.1 (32 * g + (4 * c + r)) = m.2.2.2.2.1 (32 * g + (4 * c + r)) := fun g r hg hr => ⟨pk_un (by omega), pk_un (by omega), pk_un (by omega)⟩
  have h1 : m.2.2.1 (32 * h + (4 * c + q)) = 1 := (hb.2 _).resolve_left hn
  have hho : h ≠ o := fun e => d3 e.symm
  refine ⟨h, hh, ⟨H.1, fun r hr => ?_⟩, ?_, Or.inr (Or.inr (Or.inr ⟨o, q + 4 + 1, ⟨d1, d2, d3, d4, d5, by omega, pk_us, fun r hr _ => u1 r hr (by omega), fun r hr h0 => ?_, fun r hr hrp h0 => ?_⟩, by omega⟩))⟩
  · rw [(eh h r hho hr).1, (eh h r hho hr).2.1, (eh h r hho hr).2.2]; exact H.2 r hr
  · intro g hg h0 r hr
    have hgo : g ≠ o := by
      intro e
      subst e
      have h0' : m.2.2.2.2.2 (8 * g + c) = 0 := h0
      rw [d4] at h0'
      exact absurd h0' (by decide)
    rw [(eh g r hgo hr).1]
    exact Z g hg h0 r hr
  · rw [(eh h r hho hr).1] at h0
    by_cases e : r = q
    · subst e; exact absurd h0 hn
    · exact (pk_un (by omega)).trans (u2 r hr h0)
  · rw [(eh h r hho hr).1] at h0
    rw [(eh h r hho hr).1, (eh h r hho hr).2.1, (eh h r hho hr).2.2]
    by_cases e : r = q
    · subst e
      exact ⟨pk_us.trans h1.symm, pk_us, pk_us⟩
    · have ⟨a1, a2, a3⟩ := u3 r hr (by omega) h0
      exact ⟨(pk_un (by omega)).trans a1, (pk_un (by omega)).trans a2, (pk_un (by omega)).trans a3⟩
/-- nothing remembered there -/
theorem sm_s_skip {c h o q tgt k : Nat} {m : sm_M} {pu : Nat → Int32} {y : SY} (hh : h < 4) (H : sm_H c h m y) (Z : sm_Z c m) (D : sm_PD c h o (q + 4) m pu) (hk : (o = tgt ∧ 9 ≤ k + (q + 4)) ∨ 21 ≤ k + (q + 4)) (hq : q < 4)
    (hn : m.2.2.1 (32 * h + (4 * c + q)) = 0) : sm_C c tgt (k - 1) m (upd pu c (nI (q + 4 + 1))) y := by
  obtain ⟨d1, d2, d3, d4, d5, d6, d7, u1, u2, u3⟩ := D
  refine ⟨h, hh, H, Z, Or.inr (Or.inr (Or.inr ⟨o, q + 4 + 1, ⟨d1, d2, d3, d4, d5, by omega, pk_us, fun r hr _ => u1 r hr (by omega), u2, fun r hr hrp h0 => ?_⟩, by omega⟩))⟩
  by_cases e : r = q
  · subst e; exact absurd hn h0
  · exact u3 r hr (by omega) h0
/-- a request is carried out at the serving group -/
theorem sm_s_req {c g q r tgt k : Nat} {m : sm_M} {pu : Nat → Int32} {y y' : SY} {xv f num ans : Int32} (hc : c < 8) (hg : g < 4) (hq : q < 4) (hr : r < 4) (H : sm_C c tgt k m pu y) (hs : m.2.2.2.2.2 (8 * g + c) = 1)
    (e1 : y'.1 = upd y.1 (c + 8 * q) (if f = 1 then 1 else 0)) (e2 : ∀ j, j ≠ c + 8 * q → y'.2.1 j = y.2.1 j) (e3 : f = 1 → y'.2.1 (c + 8 * q) = xv) (e4 : y'.2.2.1 = upd y.2.2.1 (4 * c + r) 1) (e5 : y'.2.2.2.1 = upd y.2.2.2.1 (4 * c + r) num) (e6 : y'.2.2.2.2.1 = upd y.2.2.2.2.1 (4 * c + r) ans) :
    sm_C c tgt 21 (sm_k1 (32 * g + (4 * c + r)) num ans (sm_k0 (32 * g + (c + 8 * q)) xv f m)) pu y' := by
  obtain ⟨h1, h2, h3⟩ := sm_C_s H hg hs
  refine ⟨g, hg, ⟨fun t ht => ?_, fun t ht => ?_⟩, ?_, ?_⟩
  · show upd m.2.1 (32 * g + (c + 8 * q)) (if f = 1 then 1 else 0) (32 * g + (c + 8 * t)) = y'.1 (c + 8 * t) ∧ (¬ y'.1 (c + 8 * t) = 0 → upd m.1 (32 * g + (c + 8 * q)) xv (32 * g + (c + 8 * t)) = y'.2.1 (c + 8 * t))
    by_cases e : t = q
    · subst e
      rw [e1, pk_us, pk_us, pk_us]
      refine ⟨rfl, fun hz => ?_⟩
      by_cases ef : f = 1
      · exact (e3 ef).symm
      · rw [if_neg ef] at hz; exact absurd rfl hz
    · rw [e1, pk_un (by omega), pk_un (by omega), pk_un (by omega), e2 _ (by omega)]
      exact h1.1 t ht
  · show upd m.2.2.1 (32 * g + (4 * c + r)) 1 (32 * g + (4 * c + t)) = y'.2.2.1 (4 * c + t) ∧ (¬ y'.2.2.1 (4 * c + t) = 0 → upd m.2.2.2.1 (32 * g + (4 * c + r)) num (32 * g + (4 * c + t)) = y'.2.2.2.1 (4 * c + t) ∧ upd m.2.2.2.2.1 (32 * g + (4 * c + r)) ans (32 * g + (4 * c + t)) = y'.2.2.2.2.1 (4 * c + t))
    rw [e4, e5, e6]
    by_cases e : t = r
    · subst e
      rw [pk_us, pk_us, pk_us, pk_us, pk_us, pk_us]
      exact ⟨rfl, fun _ => ⟨rfl, rfl⟩⟩
    · rw [pk_un (by omega), pk_un (by omega), pk_un (by omega), pk_un (by omega), pk_un (by omega), pk_un (by omega)]
      exact h1.2 t ht
  · intro g' hg' h0 t ht
    have hn : g' ≠ g := by
      intro e
      subst e
      have h0' : m.2.2.2.2.2 (8 * g' + c) = 0 := h0
      rw [hs] at h0'
      exact absurd h0' (by decide)
    refine Eq.trans (pk_un (by omega)) (h2 g' hg' h0 t ht)
  · rcases h3 with h3 | ⟨o, h3⟩
    · exact Or.inl ⟨h3, Or.inr (by omega)⟩
    · exact Or.inr (Or.inl ⟨o, h3, Or.inr (by omega)⟩)
end
section
/-! the walks of groupIn, holder, pull, moveOn -/
section
variable {post : SX → Prop} {nc : Int32} {m i : sm_M} {l : sm_L} {ho pu ro : Nat → Int32}
theorem sm_wr0 {g a : Nat} {b c : Int32} (hD : sm_D m i l) (hg : g < 4) (ha : a < 32) (hp : ∀ (i' : sm_M) (l' : sm_L), sm_D (sm_k0 (32 * g + a) b c m) i' l' → post (sm_x nc (sm_k0 (32 * g + a) b c m) i' l' ho pu ro)) : wpX_write post (sm_x nc m i l ho pu ro) (nI g) 0 (nI a) b c := by
  refine sm_wr (k := 0) hD hg (Or.inl ⟨rfl, ha⟩) ?_
  rw [sm_ap0]; exact hp
theorem sm_wr1 {g a : Nat} {b c : Int32} (hD : sm_D m i l) (hg : g < 4) (ha : a < 32) (hp : ∀ (i' : sm_M) (l' : sm_L), sm_D (sm_k1 (32 * g + a) b c m) i' l' → post (sm_x nc (sm_k1 (32 * g + a) b c m) i' l' ho pu ro)) : wpX_write post (sm_x nc m i l ho pu ro) (nI g) 1 (nI a) b c := by
  refine sm_wr (k := 1) hD hg (Or.inr (Or.inl ⟨rfl, ha⟩)) ?_
  rw [sm_ap1]; exact hp
theorem sm_wr2 {g a : Nat} {b c : Int32} (hD : sm_D m i l) (hg : g < 4) (ha : a < 8) (hp : ∀ (i' : sm_M) (l' : sm_L), sm_D (sm_k2 (8 * g + a) b m) i' l' → post (sm_x nc (sm_k2 (8 * g + a) b m) i' l' ho pu ro)) : wpX_write post (sm_x nc m i l ho pu ro) (nI g) 2 (nI a) b c := by
  refine sm_wr (k := 2) hD hg (Or.inr (Or.inr (Or.inl ⟨rfl, ha⟩))) ?_
  rw [sm_ap2]; exact hp
theorem sm_wr3 {g a : Nat} {b c : Int32} (hD : sm_D m i l) (hg : g < 4) (ha : a < 8) (hp : ∀ (i' : sm_M) (l' : sm_L), sm_D (sm_k3 g a m) i' l' → post (sm_x nc (sm_k3 g a m) i' l' ho pu ro)) : wpX_write post (sm_x nc m i l ho pu ro) (nI g) 3 (nI a) b c := by
  refine sm_wr (k := 3) hD hg (Or.inr (Or.inr (Or.inr ⟨rfl, ha⟩))) ?_
  rw [sm_ap3]; exact hp
end
section
variable {post : Int32 → Prop} {nc : Int32} {va th kn nu an st iv it ik iu ia ig lc lk la lb ld ho pu ro : Nat → Int32}
theorem sm_gi2 {c : Nat} {s : Int32} (hc : c < 8) : ∀ (d t : Nat), t + d = 4 → (∀ g, g < 4 → st (8 * g + c) = s → post (nI g)) → ((∀ g, g < 4 → t ≤ g → ¬ st (8 * g + c) = s) → post (-1)) → wX_groupIn_2 post (nI c) s nc va th kn nu an st iv it ik iu ia ig lc lk la lb ld ho pu ro (d + 1) (nI t) := by
  intro d
  induction d with
  | zero =>
    intro t h h1 h2
    exact br_t (nI_le (a := 4) (by omega) (by omega)) (h2 (fun g hg hl => absurd hl (by omega)))
  | succ d ih =>
    intro t h h1 h2
    have hcl : (nI (8 * t + c)).toNatClampNeg = 8 * t + c := nI_clamp (by omega)
    rw [wX_groupIn_2]
    dsimp only
    rw [sm_i8, hcl]
    refine br_f (nI_ge (b := 4) (by omega) (by decide)) ⟨vp_in_nI (by omega) (by decide), br_c (fun e => h1 t (by omega) e) (fun ne => nm_r (nI_1 t) (ih (t + 1) (by omega) h1 (fun hh => h2 (fun g hg hl => ?_))))⟩
    by_cases e : g = t
    · subst e; exact ne
    · exact hh g hg (by omega)
end
section
variable {post : Int32 → Prop} {nc : Int32} {m i : sm_M} {l : sm_L} {ho pu ro : Nat → Int32}
theorem sm_gI {c : Nat} {s : Int32} (hc : c < 8) (h1 : ∀ g, g < 4 → m.2.2.2.2.2 (8 * g + c) = s → post (nI g)) (h2 : (∀ g, g < 4 → ¬ m.2.2.2.2.2 (8 * g + c) = s) → post (-1)) : wpX_groupIn post (sm_x nc m i l ho pu ro) (nI c) s := by
  unfold wpX_groupIn
  dsimp only
  exact ⟨5, sm_gi2 hc 4 0 rfl h1 (fun hh => h2 (fun g hg => hh g hg (by omega)))⟩
/-- just one group in the state -/
theorem sm_g1 {c h : Nat} {s : Int32} (hc : c < 8) (hh : h < 4) (hs : m.2.2.2.2.2 (8 * h + c) = s) (ho' : ∀ g, g < 4 → g ≠ h → ¬ m.2.2.2.2.2 (8 * g + c) = s) (hp : post (nI h)) : wpX_groupIn post (sm_x nc m i l ho pu ro) (nI c) s := by
  refine sm_gI hc (fun g hg e => ?_) (fun hn => absurd hs (hn h hh))
  by_cases eg : g = h
  · subst eg; exact hp
  · exact absurd e (ho' g hg eg)
theorem sm_gn {c : Nat} {s : Int32} (hc : c < 8) (ho' : ∀ g, g < 4 → ¬ m.2.2.2.2.2 (8 * g + c) = s) (hp : post (-1)) : wpX_groupIn post (sm_x nc m i l ho pu ro) (nI c) s :=
  sm_gI hc (fun g hg e => absurd e (ho' g hg)) (fun _ => hp)
/-- what the three questions answer: a frame for every phase -/
def sm_fr (c h o : Nat) (a b : Int32) (m : sm_M) : Prop := m.2.2.2.2.2 (8 * h + c) = a ∧ m.2.2.2.2.2 (8 * o + c) = b ∧ ∀ g, g < 4 → g ≠ h → g ≠ o → m.2.2.2.2.2 (8 * g + c) = 0
theorem sm_f1 {c h o : Nat} {a b s : Int32} (hc : c < 8) (hh : h < 4) (F : sm_fr c h o a b m) (ha : a = s) (hb : h = o ∨ ¬ b = s) (h0 : ¬ 0 = s) (hp : post (nI h)) : wpX_groupIn post (sm_x nc m i l ho pu ro) (nI c) s := by
  obtain ⟨f1, f2, f3⟩ := F
  refine sm_g1 hc hh (f1.trans ha) (fun g hg hn => ?_) hp
  by_cases e : g = o
  · subst e
    rcases hb with hb | hb
    · exact absurd hb.symm hn
    · rw [f2]; exact hb
  · rw [f3 g hg hn e]; exact h0
theorem sm_f2 {c h o : Nat} {a b s : Int32} (hc : c < 8) (hh : o < 4) (F : sm_fr c h o a b m) (ha : ¬ a = s) (hb : b = s) (h0 : ¬ 0 = s) (hp : post (nI o)) : wpX_groupIn post (sm_x nc m i l ho pu ro) (nI c) s := by
  obtain ⟨f1, f2, f3⟩ := F
  refine sm_g1 hc hh (f2.trans hb) (fun g hg hn => ?_) hp
  by_cases e : g = h
  · subst e
    rw [f1]; exact ha
  · rw [f3 g hg e hn]; exact h0
theorem sm_f0 {c h o : Nat} {a b s : Int32} (hc : c < 8) (F : sm_fr c h o a b m) (ha : ¬ a = s) (hb : ¬ b = s) (h0 : ¬ 0 = s) (hp : post (-1)) : wpX_groupIn post (sm_x nc m i l ho pu ro) (nI c) s := by
  obtain ⟨f1, f2, f3⟩ := F
  refine sm_gn hc (fun g hg => ?_) hp
  by_cases e : g = h
  · subst e; rw [f1]; exact ha
  · by_cases e2 : g = o
    · subst e2; rw [f2]; exact hb
    · rw [f3 g hg e e2]; exact h0
theorem sm_FA {c h : Nat} (A : sm_PA c h m) : sm_fr c h h 1 1 m := ⟨A.1, A.1, fun g hg hn _ => A.2 g hg hn⟩
theorem sm_FB {c h o : Nat} (A : sm_PB c h o m) : sm_fr c h o 1 2 m := ⟨A.1, A.2.2.2.1, A.2.2.2.2⟩
theorem sm_FC {c h : Nat} (A : sm_PC c h m) : sm_fr c h h 2 2 m := ⟨A.1, A.1, fun g hg hn _ => A.2 g hg hn⟩
theorem sm_FD {c h o p : Nat} (A : sm_PD c h o p m pu) : sm_fr c h o 2 3 m := ⟨A.1, A.2.2.2.1, A.2.2.2.2.1⟩
theorem sm_m1 : (-1 : Int32) < 0 := by decide
theorem sm_m1' : ¬ (0 : Int32) ≤ -1 := by decide
/-- the holder -/
theorem sm_hd {c tgt k : Nat} {y : SY} (hc : c < 8) (H : sm_C c tgt k m pu y) : ∃ h, h < 4 ∧ sm_H c h m y ∧ ∀ post : Int32 → Prop, post (nI h) → wpX_holder post (sm_x nc m i l ho pu ro) (nI c) := by
  obtain ⟨h, hh, h1, h2, h3⟩ := H
  have hp : (0 : Int32) ≤ nI h := nI_pos' (by omega)
  refine ⟨h, hh, h1, fun post k => ?_⟩
  unfold wpX_holder
  dsimp only
  rcases h3 with ⟨H, hk⟩ | ⟨o, H, hk⟩ | ⟨H, hk⟩ | ⟨o, p, H, hk⟩
  · exact sm_f1 hc hh (sm_FA H) rfl (Or.inl rfl) (by decide) (br_t hp (br_t hp k))
  · exact sm_f1 hc hh (sm_FB H) rfl (Or.inr (by decide)) (by decide) (br_t hp (br_t hp k))
  · exact sm_f0 hc (sm_FC H) (by decide) (by decide) (by decide) (br_f sm_m1' (sm_f1 hc hh (sm_FC H) rfl (Or.inl rfl) (by decide) (br_t hp k)))
  · exact sm_f0 hc (sm_FD H) (by decide) (by decide) (by decide) (br_f sm_m1' (sm_f1 hc hh (sm_FD H) rfl (Or.inr (by decide)) (by decide) (br_t hp k)))
end
section
variable {nc : Int32} {m i : sm_M} {l : sm_L} {ho pu ro : Nat → Int32} {y : SY}
/-- after a step on shard c: the others as they were, c nearer by one -/
def sm_af (c tgt k : Nat) (m : sm_M) (pu : Nat → Int32) (y : SY) (m' : sm_M) (pu' : Nat → Int32) : Prop := sm_C c tgt (k - 1) m' pu' y ∧ ∀ c', c' < 8 → c' ≠ c → sm_A c' m m' ∧ pu' c' = pu c'
theorem sm_pl {post : SX → Prop} {c h o p tgt k : Nat} (hD : sm_D m i l) (hc : c < 8) (hh : h < 4) (H : sm_H c h m y) (Z : sm_Z c m) (D : sm_PD c h o p m pu) (hk : (o = tgt ∧ 9 ≤ k + p) ∨ 21 ≤ k + p) (h8 : p < 8)
    (hp : ∀ (m' i' : sm_M) (l' : sm_L), sm_D m' i' l' → sm_af c tgt k m pu y m' (upd pu c (nI (p + 1))) → post (sm_x nc m' i' l' ho pu ro)) : wpX_pull post (sm_x nc m i l ho pu ro) (nI c) (nI h) (nI o) := by
  have ho4 : o < 4 := D.2.1
  have hpu : pu c = nI p := D.2.2.2.2.2.2.1
  have hcl : (nI c).toNatClampNeg = c := nI_clamp (by omega)
  have hup : ∀ x c', c' ≠ c → upd pu c x c' = pu c' := fun x c' hn => pk_un hn
  unfold wpX_pull
  dsimp only
  rw [hcl, hpu]
  refine ⟨vp_in_nI hc (by decide), nm_e ?_⟩
  by_cases h4 : p < 4
  · have hcv : (nI (32 * h + (c + 8 * p))).toNatClampNeg = 32 * h + (c + 8 * p) := nI_clamp (by omega)
    have hv : vp_in (nI (32 * h + (c + 8 * p))) 128 := vp_in_nI (by omega) (by decide)
    have e8 : nI c + 8 * nI p = nI (c + 8 * p) := by rw [sm_m8, nI_add]
    refine br_f (nI_ge (b := 4) h4 (by omega)) (nm_r e8 (nm_r (sm_i32 h (c + 8 * p)) ?_))
    rw [hcv]
    refine ⟨hv, hv, br_c (fun e => ?_) (fun e => ?_)⟩
    · unfold wX_pull_59
      refine sm_wr0 (m := m) (i := i) (l := l) hD ho4 (by omega) (fun i' l' hD' => hp _ _ _ hD' ⟨sm_s_key hD.1 hc hh H Z D hk h4 ?_, fun c' hc' hn => ⟨sm_A_k0 hc hc' hn h4, hup _ c' hn⟩⟩)
      rw [e]; rfl
    · unfold wX_pull_59
      refine sm_wr0 (m := m) (i := i) (l := l) hD ho4 (by omega) (fun i' l' hD' => hp _ _ _ hD' ⟨sm_s_key hD.1 hc hh H Z D hk h4 ?_, fun c' hc' hn => ⟨sm_A_k0 hc hc' hn h4, hup _ c' hn⟩⟩)
      rw [(hD.1.1 _).resolve_left e]; rfl
  · obtain ⟨q, rfl⟩ : ∃ q, p = q + 4 := ⟨p - 4, by omega⟩
    have hcv : (nI (32 * h + (4 * c + q))).toNatClampNeg = 32 * h + (4 * c + q) := nI_clamp (by omega)
    have hv : vp_in (nI (32 * h + (4 * c + q))) 128 := vp_in_nI (by omega) (by decide)
    have e4 : 4 * nI c + nI (q + 4) - 4 = nI (4 * c + q) := by
      rw [sm_i4]
      exact pk_sub (a := 4 * c + (q + 4)) (b := 4) (by omega)
    refine br_t (nI_le (a := 4) (by omega) (by omega)) (nm_r e4 (nm_r (sm_i32 h (4 * c + q)) ?_))
    rw [hcv]
    refine ⟨hv, br_c (fun e => ?_) (fun e => ?_)⟩
    · exact hp _ _ _ hD ⟨sm_s_skip hh H Z D hk (by omega) e, fun c' hc' hn => ⟨sm_A_rf, hup _ c' hn⟩⟩
    · exact ⟨hv, hv, sm_wr1 (m := m) (i := i) (l := l) hD ho4 (by omega) (fun i' l' hD' => hp _ _ _ hD' ⟨sm_s_seen hD.1 hc hh H Z D hk (by omega) e, fun c' hc' hn => ⟨sm_A_k1 hc hc' hn (by omega), hup _ c' hn⟩⟩)⟩
theorem sm_mv {post : Int32 → SX → Prop} {c tgt k : Nat} (hD : sm_D m i l) (hc : c < 8) (ht : tgt < 4) (hho : ho c = nI tgt) (H : sm_C c tgt k m pu y)
    (hp : ∀ (r : Int32) (m' i' : sm_M) (l' : sm_L) (pu' : Nat → Int32), sm_D m' i' l' → sm_af c tgt k m pu y m' pu' → post r (sm_x nc m' i' l' ho pu' ro)) : wpX_moveOn post (sm_x nc m i l ho pu ro) (nI c) := by
  obtain ⟨h, hh, h1, h2, h3⟩ := H
  have hcl : (nI c).toNatClampNeg = c := nI_clamp (by omega)
  have hvc : vp_in (nI c) 8 := vp_in_nI hc (by decide)
  have hn0 : ¬ nI h < 0 := nI_pos (by omega)
  have hup : ∀ x c', c' ≠ c → upd pu c x c' = pu c' := fun x c' hn => pk_un hn
  unfold wpX_moveOn
  dsimp only
  rw [hcl, hho]
  rcases h3 with ⟨A, hk⟩ | ⟨o, A, hk⟩ | ⟨A, hk⟩ | ⟨o, p, A, hk⟩
  · refine sm_f1 hc hh (sm_FA A) rfl (Or.inl rfl) (by decide) (sm_f0 hc (sm_FA A) (by decide) (by decide) (by decide) (sm_f0 hc (sm_FA A) (by decide) (by decide) (by decide) ⟨hvc, nm_e (br_f hn0 (br_t sm_m1 ?_))⟩))
    unfold wX_moveOn_49
    refine br_f hn0 (pk_eq h tgt (fun e => ?_) (fun e => ?_))
    · exact hp 0 m i l pu hD ⟨⟨h, hh, h1, h2, Or.inl ⟨A, Or.inl e⟩⟩, fun c' hc' hn => ⟨sm_A_rf, rfl⟩⟩
    · exact sm_wr2 (m := m) (i := i) (l := l) hD hh hc (fun i' l' hD' => hp 1 _ _ _ _ hD' ⟨sm_s_freeze hh h1 h2 A hk e, fun c' hc' hn => ⟨sm_A_k2 hc hc' hn, rfl⟩⟩)
  · have ho4 : o < 4 := A.2.1
    refine sm_f1 hc hh (sm_FB A) rfl (Or.inr (by decide)) (by decide) (sm_f2 hc ho4 (sm_FB A) (by decide) rfl (by decide) (sm_f0 hc (sm_FB A) (by decide) (by decide) (by decide) ⟨hvc, nm_e (br_f hn0 (br_f (nI_pos (by omega)) ?_))⟩))
    exact sm_wr3 (m := m) (i := i) (l := l) hD ho4 hc (fun i' l' hD' => hp 1 _ _ _ _ hD' ⟨sm_s_forget hc hh h1 h2 A hk, fun c' hc' hn => ⟨sm_A_k3 hc hc' hn, rfl⟩⟩)
  · refine sm_f0 hc (sm_FC A) (by decide) (by decide) (by decide) (sm_f1 hc hh (sm_FC A) rfl (Or.inl rfl) (by decide) (sm_f0 hc (sm_FC A) (by decide) (by decide) (by decide) ⟨hvc, nm_e (br_t sm_m1 ?_)⟩))
    unfold wX_moveOn_49
    rw [hcl]
    refine br_t sm_m1 (br_f sm_m1' ⟨hvc, nm_e (pk_eq tgt h (fun e => ?_) (fun e => ?_))⟩)
    · subst e
      unfold wX_moveOn_100
      exact sm_wr2 (m := m) (i := i) (l := l) hD ht hc (fun i' l' hD' => hp 1 _ _ _ _ hD' ⟨sm_s_back hh h1 h2 A, fun c' hc' hn => ⟨sm_A_k2 hc hc' hn, hup _ c' hn⟩⟩)
    · unfold wX_moveOn_100
      exact sm_wr2 (m := m) (i := i) (l := l) hD ht hc (fun i' l' hD' => hp 1 _ _ _ _ hD' ⟨sm_s_start hh ht h1 h2 A hk (fun z => e z.symm), fun c' hc' hn => ⟨sm_A_k2 hc hc' hn, hup _ c' hn⟩⟩)
  · have ho4 : o < 4 := A.2.1
    have hpu : pu c = nI p := A.2.2.2.2.2.2.1
    have hp8 : p ≤ 8 := A.2.2.2.2.2.1
    refine sm_f0 hc (sm_FD A) (by decide) (by decide) (by decide) (sm_f1 hc hh (sm_FD A) rfl (Or.inr (by decide)) (by decide) (sm_f2 hc ho4 (sm_FD A) (by decide) rfl (by decide) ⟨hvc, nm_e (br_t sm_m1 ?_)⟩))
    unfold wX_moveOn_49
    rw [hcl, hpu]
    refine br_t sm_m1 (br_t (nI_pos' (by omega)) ⟨hvc, pk_le 8 p (fun e => ?_) (fun e => ?_)⟩)
    · have e8 : p = 8 := by omega
      subst e8
      exact sm_wr2 (m := m) (i := i) (l := l) hD ho4 hc (fun i' l' hD' => hp 1 _ _ _ _ hD' ⟨sm_s_serve hc hh h1 h2 A hk, fun c' hc' hn => ⟨sm_A_k2 hc hc' hn, rfl⟩⟩)
    · refine sm_pl (m := m) (i := i) (l := l) (y := y) (tgt := tgt) (k := k) hD hc hh h1 h2 A hk e (fun m' i' l' hD' haf => ?_)
      refine ⟨hvc, hvc, nm_r (e' := upd pu c (nI (p + 1))) ?_ (hp 1 m' i' l' _ hD' haf)⟩
      show upd pu c (pu c + 1) = _
      rw [hpu, nI_1]
end
end
section
/-! the walks of groupFor and work -/
def sm_I (m : sm_M) (pu ho ro : Nat → Int32) (y : SY) : Prop := (∀ c, c < 8 → sm_C c 4 21 m pu y) ∧ (∀ c, c < 8 → ∃ t, t < 4 ∧ ho c = nI t ∧ y.2.2.2.2.2 c = nI t) ∧ (∀ j, j < 32 → ∃ t, t < 4 ∧ ro j = nI t)
theorem sm_af_all {c tgt k : Nat} {m m' : sm_M} {pu pu' : Nat → Int32} {y : SY} (h : ∀ c, c < 8 → sm_C c 4 21 m pu y) (af : sm_af c tgt k m pu y m' pu') : ∀ c', c' < 8 → sm_C c' 4 21 m' pu' y := by
  intro c' hc'
  by_cases e : c' = c
  · subst e; exact sm_C_up af.1
  · exact sm_C_cg (af.2 c' hc' e).1 sm_Y_rf (af.2 c' hc' e).2 (h c' hc')
section
variable {post : Int32 → SX → Prop} {nc : Int32} {ho ro : Nat → Int32} {y : SY}
theorem sm_gf40 {c tgt cl : Nat} (hc : c < 8) (ht : tgt < 4) (hl : cl < 4) (hho : ho c = nI tgt) (hp : ∀ (m i : sm_M) (l : sm_L) (pu : Nat → Int32), sm_D m i l → (∀ c, c < 8 → sm_C c 4 21 m pu y) → m.2.2.2.2.2 (8 * tgt + c) = 1 → post (nI tgt) (sm_x nc m i l ho pu (upd ro (8 * cl + c) (nI tgt)))) :
    ∀ (k j : Nat) (m i : sm_M) (l : sm_L) (pu : Nat → Int32), j + k ≤ 39 → sm_D m i l → (∀ c, c < 8 → sm_C c 4 21 m pu y) → sm_C c tgt k m pu y → wX_groupFor_40 post (nI cl) (nI c) (nI tgt) (k + 1) (nI j) nc m.1 m.2.1 m.2.2.1 m.2.2.2.1 m.2.2.2.2.1 m.2.2.2.2.2 i.1 i.2.1 i.2.2.1 i.2.2.2.1 i.2.2.2.2.1 i.2.2.2.2.2 l.1 l.2.1 l.2.2.1 l.2.2.2.1 l.2.2.2.2 ho pu ro := by
  have hcs : (nI (8 * tgt + c)).toNatClampNeg = 8 * tgt + c := nI_clamp (by omega)
  have hvs : vp_in (nI (8 * tgt + c)) 32 := vp_in_nI (by omega) (by decide)
  have hcr : (nI (8 * cl + c)).toNatClampNeg = 8 * cl + c := nI_clamp (by omega)
  have hvr : vp_in (nI (8 * cl + c)) 32 := vp_in_nI (by omega) (by decide)
  have hend : ∀ (m i : sm_M) (l : sm_L) (pu : Nat → Int32), sm_D m i l → (∀ c, c < 8 → sm_C c 4 21 m pu y) → m.2.2.2.2.2 (8 * tgt + c) = 1 → wX_groupFor_75 post (nI cl) (nI c) (nI tgt) nc m.1 m.2.1 m.2.2.1 m.2.2.2.1 m.2.2.2.2.1 m.2.2.2.2.2 i.1 i.2.1 i.2.2.1 i.2.2.2.1 i.2.2.2.2.1 i.2.2.2.2.2 l.1 l.2.1 l.2.2.1 l.2.2.2.1 l.2.2.2.2 ho pu ro := by
    intro m i l pu hD hA hs
    unfold wX_groupFor_75
    rw [sm_i8, hcr]
    exact ⟨hvr, nm_e (hp m i l pu hD hA hs)⟩
  intro k
  induction k with
  | zero =>
    intro j m i l pu hj hD hA hC
    have hs : m.2.2.2.2.2 (8 * tgt + c) = 1 := sm_C_0 hC
    rw [wX_groupFor_40]
    dsimp only
    rw [sm_i8, hcs]
    exact br_f (nI_ge (b := 40) (by omega) (by decide)) ⟨hvs, br_t hs (hend m i l pu hD hA hs)⟩
  | succ k ih =>
    intro j m i l pu hj hD hA hC
    rw [wX_groupFor_40]
    dsimp only
    rw [sm_i8, hcs]
    refine br_f (nI_ge (b := 40) (by omega) (by decide)) ⟨hvs, br_c (fun hs => hend m i l pu hD hA hs) (fun hs => ?_)⟩
    refine sm_mv (m := m) (i := i) (l := l) (y := y) hD hc ht hho hC (fun r m' i' l' pu' hD' haf => ?_)
    exact nm_r (nI_1 j) (ih (j + 1) m' i' l' pu' (by omega) hD' (sm_af_all hA haf) haf.1)
theorem sm_gf {m i : sm_M} {l : sm_L} {pu : Nat → Int32} {c cl : Nat} (hD : sm_D m i l) (hI : sm_I m pu ho ro y) (hc : c < 8) (hl : cl < 4)
    (hp : ∀ (g : Nat) (m i : sm_M) (l : sm_L) (pu ro : Nat → Int32), g < 4 → sm_D m i l → sm_I m pu ho ro y → m.2.2.2.2.2 (8 * g + c) = 1 → post (nI g) (sm_x nc m i l ho pu ro)) : wpX_groupFor post (sm_x nc m i l ho pu ro) (nI cl) (nI c) := by
  obtain ⟨iA, iH, iR⟩ := hI
  obtain ⟨t, ht, er⟩ := iR (8 * cl + c) (by omega)
  obtain ⟨g, hg, eh, ey⟩ := iH c hc
  have hcr : (nI (8 * cl + c)).toNatClampNeg = 8 * cl + c := nI_clamp (by omega)
  have hcs : (nI (8 * t + c)).toNatClampNeg = 8 * t + c := nI_clamp (by omega)
  have hcc : (nI c).toNatClampNeg = c := nI_clamp (by omega)
  unfold wpX_groupFor
  dsimp only
  rw [sm_i8, hcr, er, hcc, eh]
  refine ⟨vp_in_nI (by omega) (by decide), nm_e ?_⟩
  rw [sm_i8, hcs]
  refine ⟨vp_in_nI (by omega) (by decide), br_c (fun hs => ?_) (fun hs => ?_)⟩
  · exact hp t m i l pu ro ht hD ⟨iA, iH, iR⟩ hs
  · refine ⟨vp_in_nI (by omega) (by decide), nm_e ⟨22, sm_gf40 (y := y) hc hg hl eh (fun m' i' l' pu' hD' hA' hs' => hp g m' i' l' pu' _ hg hD' ⟨hA', iH, ?_⟩ hs') 21 0 m i l pu (by omega) hD iA (sm_C_up (iA c hc))⟩⟩
    intro j hj
    by_cases e : j = 8 * cl + c
    · subst e; exact ⟨g, hg, pk_us⟩
    · obtain ⟨s, hs, es⟩ := iR j hj
      exact ⟨s, hs, (pk_un e).trans es⟩
end
theorem sm_nx {t : Nat} (h : t < 8) : (nI t + 1) &&& 7 = nI ((t + 1) % 8) := by
  rw [nI_1]; exact pk_andN (by omega) 3 rfl
section
variable {post : SX → Prop} {ho ro : Nat → Int32} {y : SY}
theorem sm_wk4 {x1 : Int32} (hho : ∀ c, c < 8 → ∃ t, t < 4 ∧ ho c = nI t ∧ y.2.2.2.2.2 c = nI t) (hp : ∀ (t : Nat) (m i : sm_M) (l : sm_L) (pu : Nat → Int32), t < 8 → sm_D m i l → (∀ c, c < 8 → sm_C c 4 21 m pu y) → post (sm_x (nI t) m i l ho pu ro)) :
    ∀ (d j : Nat) (x2 : Int32) (t : Nat) (m i : sm_M) (l : sm_L) (pu : Nat → Int32), j + d = 100 → t < 8 → sm_D m i l → (∀ c, c < 8 → sm_C c 4 21 m pu y) → wX_work_4 post x1 (d + 1) x2 (nI j) (nI t) m.1 m.2.1 m.2.2.1 m.2.2.2.1 m.2.2.2.2.1 m.2.2.2.2.2 i.1 i.2.1 i.2.2.1 i.2.2.2.1 i.2.2.2.2.1 i.2.2.2.2.2 l.1 l.2.1 l.2.2.1 l.2.2.2.1 l.2.2.2.2 ho pu ro := by
  intro d
  induction d with
  | zero =>
    intro j x2 t m i l pu hj ht hD hA
    exact br_c (fun _ => hp t m i l pu ht hD hA) (fun _ => br_t (nI_le (a := 100) (by omega) (by omega)) (hp t m i l pu ht hD hA))
  | succ d ih =>
    intro j x2 t m i l pu hj ht hD hA
    obtain ⟨g, hg, eh, ey⟩ := hho t ht
    rw [wX_work_4]
    dsimp only
    refine br_c (fun _ => hp t m i l pu ht hD hA) (fun _ => br_f (nI_ge (b := 100) (by omega) (by decide)) (br_c (fun _ => hp t m i l pu ht hD hA) (fun _ => ?_)))
    refine sm_mv (m := m) (i := i) (l := l) (y := y) hD ht hg eh (sm_C_up (hA t ht)) (fun r m' i' l' pu' hD' haf => ?_)
    have hA' := sm_af_all hA haf
    refine br_c (fun _ => ?_) (fun _ => ?_)
    · unfold wX_work_43
      exact nm_r (sm_nx ht) (nm_r (nI_1 j) (ih (j + 1) _ _ m' i' l' pu' (by omega) (Nat.mod_lt _ (by decide)) hD' hA'))
    · unfold wX_work_43
      exact nm_r (sm_nx ht) (nm_r (nI_1 j) (ih (j + 1) _ _ m' i' l' pu' (by omega) (Nat.mod_lt _ (by decide)) hD' hA'))
theorem sm_wk {x1 : Int32} {t : Nat} {m i : sm_M} {l : sm_L} {pu : Nat → Int32} (ht : t < 8) (hD : sm_D m i l) (hI : sm_I m pu ho ro y) (hp : ∀ (t : Nat) (m i : sm_M) (l : sm_L) (pu : Nat → Int32), t < 8 → sm_D m i l → sm_I m pu ho ro y → post (sm_x (nI t) m i l ho pu ro)) : wpX_work post (sm_x (nI t) m i l ho pu ro) x1 := by
  unfold wpX_work
  dsimp only
  exact ⟨101, sm_wk4 (y := y) hI.2.1 (fun t m i l pu ht hD hA => hp t m i l pu ht hD ⟨hA, hI.2.1, hI.2.2⟩) 100 0 0 t m i l pu rfl ht hD hI.1⟩
end
end
section
/-! requests: the two sides' carrying out, and what they answer again -/
def sm_old (y : SY) (key : Nat) : Int32 := if y.1 key = 0 then 0 else y.2.1 key
theorem sm_rng (p0 p2 : Int32) : (∃ cl c q : Nat, cl < 4 ∧ c < 8 ∧ q < 4 ∧ p0 = nI cl ∧ p2 = nI (c + 8 * q)) ∨ (p0 < 0 ∨ 3 < p0 ∨ p2 < 0 ∨ 31 < p2) := by
  by_cases h1 : p0 < 0
  · exact Or.inr (Or.inl h1)
  · by_cases h2 : 3 < p0
    · exact Or.inr (Or.inr (Or.inl h2))
    · by_cases h3 : p2 < 0
      · exact Or.inr (Or.inr (Or.inr (Or.inl h3)))
      · by_cases h4 : 31 < p2
        · exact Or.inr (Or.inr (Or.inr (Or.inr h4)))
        · obtain ⟨cl, hl, e1⟩ := nI_of2 (n := 3) (M := 3) (by decide) h1 (Int32.not_lt.mp h2)
          obtain ⟨ky, hy, e2⟩ := nI_of2 (n := 31) (M := 31) (by decide) h3 (Int32.not_lt.mp h4)
          refine Or.inl ⟨cl, ky % 8, ky / 8, by omega, by omega, by omega, e1, ?_⟩
          rw [e2]
          exact congrArg nI (by omega)
theorem sm_ft {post : Int32 → Prop} {cl ky : Nat} (hl : cl < 4) (hk : ky < 32) (hp : post 1) : wpX_fits post (nI cl) (nI ky) :=
  br_f (nI_pos (by omega)) (br_f (nI_nlt (b := cl) (a := 3) (by omega) (by decide)) (br_f (nI_pos (by omega)) (br_f (nI_nlt (b := ky) (a := 31) (by omega) (by decide)) hp)))
theorem sm_fb {post : Int32 → Prop} {p0 p2 : Int32} (hb : p0 < 0 ∨ 3 < p0 ∨ p2 < 0 ∨ 31 < p2) (hp : post 0) : wpX_fits post p0 p2 :=
  br_c (fun _ => hp) (fun h1 => br_c (fun _ => hp) (fun h2 => br_c (fun _ => hp) (fun h3 => br_c (fun _ => hp) (fun h4 => by
    rcases hb with z | z | z | z
    · exact absurd z h1
    · exact absurd z h2
    · exact absurd z h3
    · exact absurd z h4))))
theorem sm_yft {post : Int32 → Prop} {cl ky : Nat} (hl : cl < 4) (hk : ky < 32) (hp : post 0) : wpY_bad post (nI cl) (nI ky) :=
  br_f (nI_pos (by omega)) (br_f (nI_nlt (b := cl) (a := 3) (by omega) (by decide)) (br_f (nI_pos (by omega)) (br_t (nI_le (a := ky) (b := 31) (by omega) (by decide)) hp)))
theorem sm_yfb {post : Int32 → Prop} {p0 p2 : Int32} (hb : p0 < 0 ∨ 3 < p0 ∨ p2 < 0 ∨ 31 < p2) (hp : post 1) : wpY_bad post p0 p2 :=
  br_c (fun _ => hp) (fun h1 => br_c (fun _ => hp) (fun h2 => br_c (fun _ => hp) (fun h3 => br_c (fun h4 => by
    rcases hb with z | z | z | z
    · exact absurd z h1
    · exact absurd z h2
    · exact absurd z h3
    · exact absurd h4 (Int32.not_le.mpr z)) (fun _ => hp))))
theorem sm_a7 {c q : Nat} (hc : c < 8) (hq : q < 4) : nI (c + 8 * q) &&& 7 = nI c := by
  rw [pk_andN (by omega) 3 rfl]
  exact congrArg nI (by omega)
theorem sm_vA {post : Int32 → Prop} {nc : Int32} {m i : sm_M} {l : sm_L} {ho pu ro : Nat → Int32} {y : SY} {c q g : Nat} (hc : c < 8) (hq : q < 4) (hg : g < 4) (H : sm_H c g m y) (hp : post (sm_old y (c + 8 * q))) : wpX_valueAt post (sm_x nc m i l ho pu ro) (nI g) (nI (c + 8 * q)) := by
  have hcl : (nI (32 * g + (c + 8 * q))).toNatClampNeg = 32 * g + (c + 8 * q) := nI_clamp (by omega)
  have hv : vp_in (nI (32 * g + (c + 8 * q))) 128 := vp_in_nI (by omega) (by decide)
  have ⟨h1, h2⟩ := H.1 q hq
  unfold wpX_valueAt
  dsimp only
  rw [sm_i32, hcl, h1]
  unfold sm_old at hp
  by_cases e : y.1 (c + 8 * q) = 0
  · rw [if_pos e] at hp
    exact ⟨hv, br_t e hp⟩
  · rw [if_neg e] at hp
    rw [h2 e]
    exact ⟨hv, br_f e ⟨hv, hp⟩⟩
theorem sm_yhas {post : Int32 → Prop} {y : SY} {ky : Nat} (hk : ky < 32) (h0 : y.1 ky = 0 → post 0) (h1 : ¬ y.1 ky = 0 → post 1) : wpY_has post y (nI ky) := by
  have hcl : (nI ky).toNatClampNeg = ky := nI_clamp (by omega)
  have hv : vp_in (nI ky) 32 := vp_in_nI hk (by decide)
  unfold wpY_has
  dsimp only
  rw [hcl]
  exact br_f (nI_pos (by omega)) (br_f (nI_ge (b := 32) hk (by decide)) ⟨hv, br_c h0 h1⟩)
theorem sm_yget {post : Int32 → Prop} {y : SY} {ky : Nat} (hk : ky < 32) (hp : post (sm_old y ky)) : wpY_get post y (nI ky) := by
  have hcl : (nI ky).toNatClampNeg = ky := nI_clamp (by omega)
  have hv : vp_in (nI ky) 32 := vp_in_nI hk (by decide)
  unfold wpY_get
  dsimp only
  rw [hcl]
  unfold sm_old at hp
  refine sm_yhas hk (fun e => ?_) (fun e => ?_)
  · rw [if_pos e] at hp
    exact br_t rfl hp
  · rw [if_neg e] at hp
    exact br_f (by decide) ⟨hv, hp⟩
/-- the reference after a request: its new tables -/
def sm_ny (y : SY) (ky s : Nat) (f : Int32) (yv : Nat → Int32) (num ans : Int32) : SY := (upd y.1 ky (if f = 1 then 1 else 0), yv, upd y.2.2.1 s 1, upd y.2.2.2.1 s num, upd y.2.2.2.2.1 s ans, y.2.2.2.2.2)
theorem sm_I_req {c g q r : Nat} {m : sm_M} {pu ho ro : Nat → Int32} {y : SY} {yv : Nat → Int32} {xv f num ans : Int32} (hc : c < 8) (hg : g < 4) (hq : q < 4) (hr : r < 4) (hI : sm_I m pu ho ro y) (hs : m.2.2.2.2.2 (8 * g + c) = 1)
    (e2 : ∀ j, j ≠ c + 8 * q → yv j = y.2.1 j) (e3 : f = 1 → yv (c + 8 * q) = xv) :
    sm_I (sm_k1 (32 * g + (4 * c + r)) num ans (sm_k0 (32 * g + (c + 8 * q)) xv f m)) pu ho ro (sm_ny y (c + 8 * q) (4 * c + r) f yv num ans) := by
  obtain ⟨iA, iH, iR⟩ := hI
  refine ⟨fun c' hc' => ?_, iH, iR⟩
  by_cases e : c' = c
  · subst e
    exact sm_s_req hc hg hq hr (iA c' hc) hs rfl e2 e3 rfl rfl rfl
  · refine sm_C_cg (sm_A_tr (sm_A_k0 hc hc' e hq) (sm_A_k1 hc hc' e hr)) ?_ rfl (iA c' hc')
    exact ⟨fun t ht => ⟨pk_un (by omega), e2 _ (by omega)⟩, fun t ht => ⟨pk_un (by omega), pk_un (by omega), pk_un (by omega)⟩⟩
/-- the relation -/
def i_Rel (_ : Nat) (u : SX) (v : SY) : Prop := ∃ (t : Nat) (m i : sm_M) (l : sm_L) (ho pu ro : Nat → Int32), u = sm_x (nI t) m i l ho pu ro ∧ t < 8 ∧ sm_D m i l ∧ sm_I m pu ho ro v
section
variable {y : SY}
theorem sm_yfr {post : Int32 → Prop} {c q r : Nat} {num : Int32} (hc : c < 8) (hq : q < 4) (hr : r < 4) (h1 : (y.2.2.1 (4 * c + r) = 0 ∨ y.2.2.2.1 (4 * c + r) < num) → post 1) (h0 : ¬ y.2.2.1 (4 * c + r) = 0 → ¬ y.2.2.2.1 (4 * c + r) < num → post 0) : wpY_fresh post y (nI r) num (nI (c + 8 * q)) := by
  have hcl : (nI (4 * c + r)).toNatClampNeg = 4 * c + r := nI_clamp (by omega)
  have hv : vp_in (nI (4 * c + r)) 32 := vp_in_nI (by omega) (by decide)
  unfold wpY_fresh
  dsimp only
  rw [sm_a7 hc hq, sm_i4]
  refine nm_e ?_
  rw [hcl]
  refine ⟨hv, br_c (fun e => h1 (Or.inl e)) (fun e => ⟨hv, br_c (fun e2 => h0 e (Int32.not_lt.mpr e2)) (fun e2 => h1 (Or.inr (Int32.not_le.mp e2)))⟩)⟩
def sm_ag (y : SY) (s : Nat) (num : Int32) : Int32 := if y.2.2.2.1 s = num then y.2.2.2.2.1 s else -1
theorem sm_yag {post : Int32 → Prop} {c q r : Nat} {num : Int32} (hc : c < 8) (hq : q < 4) (hr : r < 4) (hp : post (sm_ag y (4 * c + r) num)) : wpY_again post y (nI r) num (nI (c + 8 * q)) := by
  have hcl : (nI (4 * c + r)).toNatClampNeg = 4 * c + r := nI_clamp (by omega)
  have hv : vp_in (nI (4 * c + r)) 32 := vp_in_nI (by omega) (by decide)
  unfold wpY_again
  dsimp only
  rw [sm_a7 hc hq, sm_i4]
  refine nm_e ?_
  rw [hcl]
  unfold sm_ag at hp
  refine ⟨hv, br_c (fun e => ?_) (fun e => ?_)⟩
  · rw [if_pos e] at hp; exact ⟨hv, hp⟩
  · rw [if_neg e] at hp; exact hp
theorem sm_ydn {post : Int32 → SY → Prop} {yt yv yr yn ya yh : Nat → Int32} {c q r : Nat} {num ans : Int32} (hc : c < 8) (hq : q < 4) (hr : r < 4) (hp : post ans (yt, yv, upd yr (4 * c + r) 1, upd yn (4 * c + r) num, upd ya (4 * c + r) ans, yh)) : wpY_done post (yt, yv, yr, yn, ya, yh) (nI r) num (nI (c + 8 * q)) ans := by
  have hcl : (nI (4 * c + r)).toNatClampNeg = 4 * c + r := nI_clamp (by omega)
  have hv : vp_in (nI (4 * c + r)) 32 := vp_in_nI (by omega) (by decide)
  unfold wpY_done
  dsimp only
  rw [sm_a7 hc hq, sm_i4, sm_n1]
  refine nm_e ?_
  rw [hcl]
  exact ⟨hv, nm_e ⟨hv, nm_e ⟨hv, nm_e hp⟩⟩⟩
end
end
section
/-! the requests -/
theorem sm_xput {post : Int32 → SX → Prop} {nc : Int32} {m i : sm_M} {l : sm_L} {ho pu ro : Nat → Int32} {y : SY} {c q r g : Nat} {num x : Int32} (hc : c < 8) (hq : q < 4) (hr : r < 4) (hg : g < 4) (hD : sm_D m i l) (H : sm_H c g m y)
    (hp : ∀ (i' : sm_M) (l' : sm_L), sm_D (sm_k1 (32 * g + (4 * c + r)) num (sm_old y (c + 8 * q)) (sm_k0 (32 * g + (c + 8 * q)) (x) 1 m)) i' l' → post (sm_old y (c + 8 * q)) (sm_x nc (sm_k1 (32 * g + (4 * c + r)) num (sm_old y (c + 8 * q)) (sm_k0 (32 * g + (c + 8 * q)) (x) 1 m)) i' l' ho pu ro)) : wX_put_82 post (nI r) num (nI (c + 8 * q)) x (nI g) nc m.1 m.2.1 m.2.2.1 m.2.2.2.1 m.2.2.2.2.1 m.2.2.2.2.2 i.1 i.2.1 i.2.2.1 i.2.2.2.1 i.2.2.2.2.1 i.2.2.2.2.2 l.1 l.2.1 l.2.2.1 l.2.2.2.1 l.2.2.2.2 ho pu ro := by
  unfold wX_put_82
  rw [sm_a7 hc hq, sm_i4]
  refine sm_vA (m := m) (i := i) (l := l) hc hq hg H ((sm_wr0 (m := m) (i := i) (l := l) hD hg (by omega) (fun i1 l1 hD1 => ?_)))
  exact sm_wr1 (m := sm_k0 (32 * g + (c + 8 * q)) (x) 1 m) (i := i1) (l := l1) hD1 hg (by omega) (fun i2 l2 hD2 => hp i2 l2 hD2)
theorem sm_yput {post : Int32 → SY → Prop} {y : SY} {c q r : Nat} {num x : Int32} (hc : c < 8) (hq : q < 4) (hr : r < 4)
    (h1 : (y.2.2.1 (4 * c + r) = 0 ∨ y.2.2.2.1 (4 * c + r) < num) → post (sm_old y (c + 8 * q)) (sm_ny y (c + 8 * q) (4 * c + r) 1 (upd y.2.1 (c + 8 * q) x) num (sm_old y (c + 8 * q)))) (h0 : ¬ y.2.2.1 (4 * c + r) = 0 → ¬ y.2.2.2.1 (4 * c + r) < num → post (sm_ag y (4 * c + r) num) y) : wpY_put post y (nI r) num (nI (c + 8 * q)) x := by
  have hcl : (nI (c + 8 * q)).toNatClampNeg = c + 8 * q := nI_clamp (by omega)
  have hv : vp_in (nI (c + 8 * q)) 32 := vp_in_nI (by omega) (by decide)
  unfold wpY_put
  dsimp only
  rw [hcl, sm_n1]
  refine sm_yft hr (by omega) (br_t rfl (sm_yfr hc hq hr (fun e => ?_) (fun e1 e2 => ?_)))
  · refine br_f (by decide) (sm_yget (by omega) ?_)
    exact ⟨hv, nm_e ⟨hv, nm_e (sm_ydn hc hq hr (h1 e))⟩⟩
  · exact br_t rfl (sm_yag hc hq hr (h0 e1 e2))
theorem i_vc_put {k : Nat} {u : SX} {v : SY} (I : i_Rel k u v) (hk : k + 5 ≤ 2560) (v1 : Int32) (v2 : Int32) (v3 : Int32) (v4 : Int32) : wpX_put (fun r u' => wpY_put (fun r' v' => r' = r ∧ i_Rel (k + 5) u' v') v v1 v2 v3 v4) u v1 v2 v3 v4 := by
  obtain ⟨t, m, i, l, ho, pu, ro, rfl, ht, hD, hI⟩ := I
  unfold wpX_put
  dsimp only
  rcases sm_rng v1 v3 with ⟨r, c, q, hr, hc, hq, rfl, rfl⟩ | hb
  · refine sm_ft hr (by omega) (br_f (by decide) ?_)
    rw [sm_a7 hc hq]
    refine sm_gf (y := v) hD hI hc hr (fun g m' i' l' pu' ro' hg hD' hI' hs => ?_)
    have hH := (sm_C_s (hI'.1 c hc) hg hs).1
    have ⟨k1, k2⟩ := hH.2 r hr
    have e3 : (32 : Int32) * nI g + 4 * nI c + nI r = nI (32 * g + (4 * c + r)) := by rw [sm_i324, Nat.add_assoc]
    have hcl : (nI (32 * g + (4 * c + r))).toNatClampNeg = 32 * g + (4 * c + r) := nI_clamp (by omega)
    have hv : vp_in (nI (32 * g + (4 * c + r))) 128 := vp_in_nI (by omega) (by decide)
    have hnew : (v.2.2.1 (4 * c + r) = 0 ∨ v.2.2.2.1 (4 * c + r) < v2) → wX_put_82 (fun r0 u' => wpY_put (fun r' v' => r' = r0 ∧ i_Rel (k + 5) u' v') v (nI r) v2 (nI (c + 8 * q)) v4) (nI r) v2 (nI (c + 8 * q)) v4 (nI g) (nI t) m'.1 m'.2.1 m'.2.2.1 m'.2.2.2.1 m'.2.2.2.2.1 m'.2.2.2.2.2 i'.1 i'.2.1 i'.2.2.1 i'.2.2.2.1 i'.2.2.2.2.1 i'.2.2.2.2.2 l'.1 l'.2.1 l'.2.2.1 l'.2.2.2.1 l'.2.2.2.2 ho pu' ro' := by
      intro hf
      refine sm_xput (y := v) hc hq hr hg hD' hH (fun i2 l2 hD2 => ?_)
      refine sm_yput hc hq hr (fun _ => ⟨rfl, t, _, i2, l2, ho, pu', ro', rfl, ht, hD2, sm_I_req hc hg hq hr hI' hs (fun j hj => pk_un hj) (fun _ => pk_us)⟩) (fun e1 e2 => ?_)
      rcases hf with z | z
      · exact absurd z e1
      · exact absurd z e2
    refine nm_r e3 ?_
    rw [hcl, k1]
    refine ⟨hv, br_c (fun e => hnew (Or.inl e)) (fun e => ?_)⟩
    obtain ⟨k3, k4⟩ := k2 e
    rw [k3, k4]
    refine ⟨hv, br_c (fun e1 => hnew (Or.inr e1)) (fun e1 => ?_)⟩
    have hrel : i_Rel (k + 5) (sm_x (nI t) m' i' l' ho pu' ro') v := ⟨t, m', i', l', ho, pu', ro', rfl, ht, hD', hI'⟩
    have hold : ∀ x, sm_ag v (4 * c + r) v2 = x → wpY_put (fun r' v' => r' = x ∧ i_Rel (k + 5) (sm_x (nI t) m' i' l' ho pu' ro') v') v (nI r) v2 (nI (c + 8 * q)) v4 := by
      intro x hx
      refine sm_yput hc hq hr (fun hf => ?_) (fun _ _ => ⟨hx, hrel⟩)
      rcases hf with z | z
      · exact absurd z e
      · exact absurd z e1
    refine ⟨hv, br_c (fun e2 => ⟨hv, hold _ (if_pos e2.symm)⟩) (fun e2 => hold _ (if_neg (fun z => e2 z.symm)))⟩
  · refine sm_fb hb (br_t rfl ?_)
    unfold wpY_put
    dsimp only
    exact sm_yfb hb (br_f (by decide) ⟨rfl, t, m, i, l, ho, pu, ro, rfl, ht, hD, hI⟩)

theorem sm_xaddTo {post : Int32 → SX → Prop} {nc : Int32} {m i : sm_M} {l : sm_L} {ho pu ro : Nat → Int32} {y : SY} {c q r g : Nat} {num x : Int32} (hc : c < 8) (hq : q < 4) (hr : r < 4) (hg : g < 4) (hD : sm_D m i l) (H : sm_H c g m y)
    (hp : ∀ (i' : sm_M) (l' : sm_L), sm_D (sm_k1 (32 * g + (4 * c + r)) num (sm_old y (c + 8 * q) + x) (sm_k0 (32 * g + (c + 8 * q)) (sm_old y (c + 8 * q) + x) 1 m)) i' l' → post (sm_old y (c + 8 * q) + x) (sm_x nc (sm_k1 (32 * g + (4 * c + r)) num (sm_old y (c + 8 * q) + x) (sm_k0 (32 * g + (c + 8 * q)) (sm_old y (c + 8 * q) + x) 1 m)) i' l' ho pu ro)) : wX_addTo_82 post (nI r) num (nI (c + 8 * q)) x (nI g) nc m.1 m.2.1 m.2.2.1 m.2.2.2.1 m.2.2.2.2.1 m.2.2.2.2.2 i.1 i.2.1 i.2.2.1 i.2.2.2.1 i.2.2.2.2.1 i.2.2.2.2.2 l.1 l.2.1 l.2.2.1 l.2.2.2.1 l.2.2.2.2 ho pu ro := by
  unfold wX_addTo_82
  rw [sm_a7 hc hq, sm_i4]
  refine sm_vA (m := m) (i := i) (l := l) hc hq hg H (nm_e (sm_wr0 (m := m) (i := i) (l := l) hD hg (by omega) (fun i1 l1 hD1 => ?_)))
  exact sm_wr1 (m := sm_k0 (32 * g + (c + 8 * q)) (sm_old y (c + 8 * q) + x) 1 m) (i := i1) (l := l1) hD1 hg (by omega) (fun i2 l2 hD2 => hp i2 l2 hD2)
theorem sm_yaddTo {post : Int32 → SY → Prop} {y : SY} {c q r : Nat} {num x : Int32} (hc : c < 8) (hq : q < 4) (hr : r < 4)
    (h1 : (y.2.2.1 (4 * c + r) = 0 ∨ y.2.2.2.1 (4 * c + r) < num) → post (sm_old y (c + 8 * q) + x) (sm_ny y (c + 8 * q) (4 * c + r) 1 (upd y.2.1 (c + 8 * q) (sm_old y (c + 8 * q) + x)) num (sm_old y (c + 8 * q) + x))) (h0 : ¬ y.2.2.1 (4 * c + r) = 0 → ¬ y.2.2.2.1 (4 * c + r) < num → post (sm_ag y (4 * c + r) num) y) : wpY_addTo post y (nI r) num (nI (c + 8 * q)) x := by
  have hcl : (nI (c + 8 * q)).toNatClampNeg = c + 8 * q := nI_clamp (by omega)
  have hv : vp_in (nI (c + 8 * q)) 32 := vp_in_nI (by omega) (by decide)
  unfold wpY_addTo
  dsimp only
  rw [hcl, sm_n1]
  refine sm_yft hr (by omega) (br_t rfl (sm_yfr hc hq hr (fun e => ?_) (fun e1 e2 => ?_)))
  · refine br_f (by decide) (sm_yget (by omega) ?_)
    exact nm_e ⟨hv, nm_e ⟨hv, nm_e (sm_ydn hc hq hr (h1 e))⟩⟩
  · exact br_t rfl (sm_yag hc hq hr (h0 e1 e2))
theorem i_vc_addTo {k : Nat} {u : SX} {v : SY} (I : i_Rel k u v) (hk : k + 5 ≤ 2560) (v1 : Int32) (v2 : Int32) (v3 : Int32) (v4 : Int32) : wpX_addTo (fun r u' => wpY_addTo (fun r' v' => r' = r ∧ i_Rel (k + 5) u' v') v v1 v2 v3 v4) u v1 v2 v3 v4 := by
  obtain ⟨t, m, i, l, ho, pu, ro, rfl, ht, hD, hI⟩ := I
  unfold wpX_addTo
  dsimp only
  rcases sm_rng v1 v3 with ⟨r, c, q, hr, hc, hq, rfl, rfl⟩ | hb
  · refine sm_ft hr (by omega) (br_f (by decide) ?_)
    rw [sm_a7 hc hq]
    refine sm_gf (y := v) hD hI hc hr (fun g m' i' l' pu' ro' hg hD' hI' hs => ?_)
    have hH := (sm_C_s (hI'.1 c hc) hg hs).1
    have ⟨k1, k2⟩ := hH.2 r hr
    have e3 : (32 : Int32) * nI g + 4 * nI c + nI r = nI (32 * g + (4 * c + r)) := by rw [sm_i324, Nat.add_assoc]
    have hcl : (nI (32 * g + (4 * c + r))).toNatClampNeg = 32 * g + (4 * c + r) := nI_clamp (by omega)
    have hv : vp_in (nI (32 * g + (4 * c + r))) 128 := vp_in_nI (by omega) (by decide)
    have hnew : (v.2.2.1 (4 * c + r) = 0 ∨ v.2.2.2.1 (4 * c + r) < v2) → wX_addTo_82 (fun r0 u' => wpY_addTo (fun r' v' => r' = r0 ∧ i_Rel (k + 5) u' v') v (nI r) v2 (nI (c + 8 * q)) v4) (nI r) v2 (nI (c + 8 * q)) v4 (nI g) (nI t) m'.1 m'.2.1 m'.2.2.1 m'.2.2.2.1 m'.2.2.2.2.1 m'.2.2.2.2.2 i'.1 i'.2.1 i'.2.2.1 i'.2.2.2.1 i'.2.2.2.2.1 i'.2.2.2.2.2 l'.1 l'.2.1 l'.2.2.1 l'.2.2.2.1 l'.2.2.2.2 ho pu' ro' := by
      intro hf
      refine sm_xaddTo (y := v) hc hq hr hg hD' hH (fun i2 l2 hD2 => ?_)
      refine sm_yaddTo hc hq hr (fun _ => ⟨rfl, t, _, i2, l2, ho, pu', ro', rfl, ht, hD2, sm_I_req hc hg hq hr hI' hs (fun j hj => pk_un hj) (fun _ => pk_us)⟩) (fun e1 e2 => ?_)
      rcases hf with z | z
      · exact absurd z e1
      · exact absurd z e2
    refine nm_r e3 ?_
    rw [hcl, k1]
    refine ⟨hv, br_c (fun e => hnew (Or.inl e)) (fun e => ?_)⟩
    obtain ⟨k3, k4⟩ := k2 e
    rw [k3, k4]
    refine ⟨hv, br_c (fun e1 => hnew (Or.inr e1)) (fun e1 => ?_)⟩
    have hrel : i_Rel (k + 5) (sm_x (nI t) m' i' l' ho pu' ro') v := ⟨t, m', i', l', ho, pu', ro', rfl, ht, hD', hI'⟩
    have hold : ∀ x, sm_ag v (4 * c + r) v2 = x → wpY_addTo (fun r' v' => r' = x ∧ i_Rel (k + 5) (sm_x (nI t) m' i' l' ho pu' ro') v') v (nI r) v2 (nI (c + 8 * q)) v4 := by
      intro x hx
      refine sm_yaddTo hc hq hr (fun hf => ?_) (fun _ _ => ⟨hx, hrel⟩)
      rcases hf with z | z
      · exact absurd z e
      · exact absurd z e1
    refine ⟨hv, br_c (fun e2 => ⟨hv, hold _ (if_pos e2.symm)⟩) (fun e2 => hold _ (if_neg (fun z => e2 z.symm)))⟩
  · refine sm_fb hb (br_t rfl ?_)
    unfold wpY_addTo
    dsimp only
    exact sm_yfb hb (br_f (by decide) ⟨rfl, t, m, i, l, ho, pu, ro, rfl, ht, hD, hI⟩)

theorem sm_xremove {post : Int32 → SX → Prop} {nc : Int32} {m i : sm_M} {l : sm_L} {ho pu ro : Nat → Int32} {y : SY} {c q r g : Nat} {num : Int32} (hc : c < 8) (hq : q < 4) (hr : r < 4) (hg : g < 4) (hD : sm_D m i l) (H : sm_H c g m y)
    (hp : ∀ (i' : sm_M) (l' : sm_L), sm_D (sm_k1 (32 * g + (4 * c + r)) num (sm_old y (c + 8 * q)) (sm_k0 (32 * g + (c + 8 * q)) (0) 0 m)) i' l' → post (sm_old y (c + 8 * q)) (sm_x nc (sm_k1 (32 * g + (4 * c + r)) num (sm_old y (c + 8 * q)) (sm_k0 (32 * g + (c + 8 * q)) (0) 0 m)) i' l' ho pu ro)) : wX_remove_82 post (nI r) num (nI (c + 8 * q)) (nI g) nc m.1 m.2.1 m.2.2.1 m.2.2.2.1 m.2.2.2.2.1 m.2.2.2.2.2 i.1 i.2.1 i.2.2.1 i.2.2.2.1 i.2.2.2.2.1 i.2.2.2.2.2 l.1 l.2.1 l.2.2.1 l.2.2.2.1 l.2.2.2.2 ho pu ro := by
  unfold wX_remove_82
  rw [sm_a7 hc hq, sm_i4]
  refine sm_vA (m := m) (i := i) (l := l) hc hq hg H ((sm_wr0 (m := m) (i := i) (l := l) hD hg (by omega) (fun i1 l1 hD1 => ?_)))
  exact sm_wr1 (m := sm_k0 (32 * g + (c + 8 * q)) (0) 0 m) (i := i1) (l := l1) hD1 hg (by omega) (fun i2 l2 hD2 => hp i2 l2 hD2)
theorem sm_yremove {post : Int32 → SY → Prop} {y : SY} {c q r : Nat} {num : Int32} (hc : c < 8) (hq : q < 4) (hr : r < 4)
    (h1 : (y.2.2.1 (4 * c + r) = 0 ∨ y.2.2.2.1 (4 * c + r) < num) → post (sm_old y (c + 8 * q)) (sm_ny y (c + 8 * q) (4 * c + r) 0 (y.2.1) num (sm_old y (c + 8 * q)))) (h0 : ¬ y.2.2.1 (4 * c + r) = 0 → ¬ y.2.2.2.1 (4 * c + r) < num → post (sm_ag y (4 * c + r) num) y) : wpY_remove post y (nI r) num (nI (c + 8 * q)) := by
  have hcl : (nI (c + 8 * q)).toNatClampNeg = c + 8 * q := nI_clamp (by omega)
  have hv : vp_in (nI (c + 8 * q)) 32 := vp_in_nI (by omega) (by decide)
  unfold wpY_remove
  dsimp only
  rw [hcl, sm_n0]
  refine sm_yft hr (by omega) (br_t rfl (sm_yfr hc hq hr (fun e => ?_) (fun e1 e2 => ?_)))
  · refine br_f (by decide) (sm_yget (by omega) ?_)
    exact ⟨hv, nm_e (sm_ydn hc hq hr (h1 e))⟩
  · exact br_t rfl (sm_yag hc hq hr (h0 e1 e2))
theorem i_vc_remove {k : Nat} {u : SX} {v : SY} (I : i_Rel k u v) (hk : k + 5 ≤ 2560) (v1 : Int32) (v2 : Int32) (v3 : Int32) : wpX_remove (fun r u' => wpY_remove (fun r' v' => r' = r ∧ i_Rel (k + 5) u' v') v v1 v2 v3) u v1 v2 v3 := by
  obtain ⟨t, m, i, l, ho, pu, ro, rfl, ht, hD, hI⟩ := I
  unfold wpX_remove
  dsimp only
  rcases sm_rng v1 v3 with ⟨r, c, q, hr, hc, hq, rfl, rfl⟩ | hb
  · refine sm_ft hr (by omega) (br_f (by decide) ?_)
    rw [sm_a7 hc hq]
    refine sm_gf (y := v) hD hI hc hr (fun g m' i' l' pu' ro' hg hD' hI' hs => ?_)
    have hH := (sm_C_s (hI'.1 c hc) hg hs).1
    have ⟨k1, k2⟩ := hH.2 r hr
    have e3 : (32 : Int32) * nI g + 4 * nI c + nI r = nI (32 * g + (4 * c + r)) := by rw [sm_i324, Nat.add_assoc]
    have hcl : (nI (32 * g + (4 * c + r))).toNatClampNeg = 32 * g + (4 * c + r) := nI_clamp (by omega)
    have hv : vp_in (nI (32 * g + (4 * c + r))) 128 := vp_in_nI (by omega) (by decide)
    have hnew : (v.2.2.1 (4 * c + r) = 0 ∨ v.2.2.2.1 (4 * c + r) < v2) → wX_remove_82 (fun r0 u' => wpY_remove (fun r' v' => r' = r0 ∧ i_Rel (k + 5) u' v') v (nI r) v2 (nI (c + 8 * q))) (nI r) v2 (nI (c + 8 * q)) (nI g) (nI t) m'.1 m'.2.1 m'.2.2.1 m'.2.2.2.1 m'.2.2.2.2.1 m'.2.2.2.2.2 i'.1 i'.2.1 i'.2.2.1 i'.2.2.2.1 i'.2.2.2.2.1 i'.2.2.2.2.2 l'.1 l'.2.1 l'.2.2.1 l'.2.2.2.1 l'.2.2.2.2 ho pu' ro' := by
      intro hf
      refine sm_xremove (y := v) hc hq hr hg hD' hH (fun i2 l2 hD2 => ?_)
      refine sm_yremove hc hq hr (fun _ => ⟨rfl, t, _, i2, l2, ho, pu', ro', rfl, ht, hD2, sm_I_req hc hg hq hr hI' hs (fun j _ => rfl) (fun z => absurd z (by decide))⟩) (fun e1 e2 => ?_)
      rcases hf with z | z
      · exact absurd z e1
      · exact absurd z e2
    refine nm_r e3 ?_
    rw [hcl, k1]
    refine ⟨hv, br_c (fun e => hnew (Or.inl e)) (fun e => ?_)⟩
    obtain ⟨k3, k4⟩ := k2 e
    rw [k3, k4]
    refine ⟨hv, br_c (fun e1 => hnew (Or.inr e1)) (fun e1 => ?_)⟩
    have hrel : i_Rel (k + 5) (sm_x (nI t) m' i' l' ho pu' ro') v := ⟨t, m', i', l', ho, pu', ro', rfl, ht, hD', hI'⟩
    have hold : ∀ x, sm_ag v (4 * c + r) v2 = x → wpY_remove (fun r' v' => r' = x ∧ i_Rel (k + 5) (sm_x (nI t) m' i' l' ho pu' ro') v') v (nI r) v2 (nI (c + 8 * q)) := by
      intro x hx
      refine sm_yremove hc hq hr (fun hf => ?_) (fun _ _ => ⟨hx, hrel⟩)
      rcases hf with z | z
      · exact absurd z e
      · exact absurd z e1
    refine ⟨hv, br_c (fun e2 => ⟨hv, hold _ (if_pos e2.symm)⟩) (fun e2 => hold _ (if_neg (fun z => e2 z.symm)))⟩
  · refine sm_fb hb (br_t rfl ?_)
    unfold wpY_remove
    dsimp only
    exact sm_yfb hb (br_f (by decide) ⟨rfl, t, m, i, l, ho, pu, ro, rfl, ht, hD, hI⟩)
end
section
/-! looking: get, has, size, lastFrom; assign, home, work, lose -/
theorem i_up {k : Nat} {u : SX} {v : SY} (h : i_Rel k u v) : i_Rel (k + 5) u v := h
theorem sm_key (p : Int32) (h0 : ¬ p < 0) (h1 : p ≤ 31) : ∃ c q : Nat, c < 8 ∧ q < 4 ∧ p = nI (c + 8 * q) := by
  obtain ⟨ky, hy, e2⟩ := nI_of2 (n := 31) (M := 31) (by decide) h0 h1
  refine ⟨ky % 8, ky / 8, by omega, by omega, ?_⟩
  rw [e2]
  exact congrArg nI (by omega)
theorem sm_31 {p : Int32} (h : ¬ p ≤ 31) : (32 : Int32) ≤ p := by
  have h2 : (31 : Int32) < p := Int32.not_le.mp h
  rw [Int32.lt_iff_toInt_lt] at h2
  rw [Int32.le_iff_toInt_le]
  have e1 : (31 : Int32).toInt = 31 := by decide
  have e2 : (32 : Int32).toInt = 32 := by decide
  omega
theorem i_vc_get {k : Nat} {u : SX} {v : SY} (I : i_Rel k u v) (hk : k + 5 ≤ 2560) (v1 : Int32) : wpX_get (fun r => wpY_get (fun r' => r' = r ∧ i_Rel (k + 5) u v) v v1) u v1 := by
  have hR := I
  obtain ⟨t, m, i, l, ho, pu, ro, rfl, ht, hD, hI⟩ := I
  unfold wpX_get
  dsimp only
  refine br_c (fun h0 => ?_) (fun h0 => br_c (fun h1 => ?_) (fun h1 => ?_))
  · unfold wpY_get wpY_has
    dsimp only
    exact br_t h0 (br_t rfl ⟨rfl, hR⟩)
  · obtain ⟨c, q, hc, hq, rfl⟩ := sm_key v1 h0 h1
    rw [sm_a7 hc hq]
    obtain ⟨h, hh, H, hw⟩ := sm_hd (nc := nI t) (m := m) (i := i) (l := l) (ho := ho) (pu := pu) (ro := ro) hc (hI.1 c hc)
    refine hw _ (sm_vA (m := m) (i := i) (l := l) hc hq hh H (sm_yget (by omega) ⟨rfl, hR⟩))
  · unfold wpY_get wpY_has
    dsimp only
    exact br_f h0 (br_t (sm_31 h1) (br_t rfl ⟨rfl, hR⟩))
theorem i_vc_has {k : Nat} {u : SX} {v : SY} (I : i_Rel k u v) (hk : k + 5 ≤ 2560) (v1 : Int32) : wpX_has (fun r => wpY_has (fun r' => r' = r ∧ i_Rel (k + 5) u v) v v1) u v1 := by
  have hR := I
  obtain ⟨t, m, i, l, ho, pu, ro, rfl, ht, hD, hI⟩ := I
  unfold wpX_has
  dsimp only
  refine br_c (fun h0 => ?_) (fun h0 => br_c (fun h1 => ?_) (fun h1 => ?_))
  · unfold wpY_has
    dsimp only
    exact br_t h0 ⟨rfl, hR⟩
  · obtain ⟨c, q, hc, hq, rfl⟩ := sm_key v1 h0 h1
    rw [sm_a7 hc hq]
    obtain ⟨h, hh, H, hw⟩ := sm_hd (nc := nI t) (m := m) (i := i) (l := l) (ho := ho) (pu := pu) (ro := ro) hc (hI.1 c hc)
    have hcl : (nI (32 * h + (c + 8 * q))).toNatClampNeg = 32 * h + (c + 8 * q) := nI_clamp (by omega)
    have hv : vp_in (nI (32 * h + (c + 8 * q))) 128 := vp_in_nI (by omega) (by decide)
    have h01 := hD.1.1 (32 * h + (c + 8 * q))
    have e := (H.1 q hq).1
    refine hw _ ?_
    rw [sm_i32, hcl]
    rcases h01 with z | z
    · rw [z]
      rw [z] at e
      exact ⟨hv, narrow_b0, sm_yhas (by omega) (fun _ => ⟨rfl, hR⟩) (fun n => absurd e.symm n)⟩
    · rw [z]
      rw [z] at e
      refine ⟨hv, narrow_b1, sm_yhas (by omega) (fun n => ?_) (fun _ => ⟨rfl, hR⟩)⟩
      rw [← e] at n
      exact absurd n (by decide)
  · unfold wpY_has
    dsimp only
    exact br_f h0 (br_t (sm_31 h1) ⟨rfl, hR⟩)
/-- how many of the first n keys of shard c are there -/
def sm_ct (yt : Nat → Int32) (c : Nat) : Nat → Nat
  | 0 => 0
  | n + 1 => if yt (c + 8 * n) = 0 then sm_ct yt c n else sm_ct yt c n + 1
section
variable {post : Int32 → Prop} {nc : Int32} {va th kn nu an st iv it ik iu ia ig lc lk la lb ld ho pu ro : Nat → Int32} {yt yv yr yn ya yh : Nat → Int32}
theorem sm_sz17 {c h : Nat} (hc : c < 8) (hh : h < 4) (H : ∀ q, q < 4 → th (32 * h + (c + 8 * q)) = yt (c + 8 * q)) (hp : post (nI (sm_ct yt c 4))) : ∀ (d t : Nat), t + d = 4 → wX_size_17 post (nI h) nc va th kn nu an st iv it ik iu ia ig lc lk la lb ld ho pu ro (d + 1) (nI (sm_ct yt c t)) (nI (c + 8 * t)) := by
  intro d
  induction d with
  | zero =>
    intro t ht
    have e : t = 4 := by omega
    subst e
    exact br_t (nI_le (a := 32) (by omega) (by omega)) hp
  | succ d ih =>
    intro t ht
    have hcl : (nI (32 * h + (c + 8 * t))).toNatClampNeg = 32 * h + (c + 8 * t) := nI_clamp (by omega)
    have hv : vp_in (nI (32 * h + (c + 8 * t))) 128 := vp_in_nI (by omega) (by decide)
    have e8 : nI (c + 8 * t) + 8 = nI (c + 8 * (t + 1)) := sm_a8 _
    have hi := ih (t + 1) (by omega)
    rw [wX_size_17]
    dsimp only
    rw [sm_i32, hcl, H t (by omega)]
    refine br_f (nI_ge (b := 32) (by omega) (by decide)) ⟨hv, br_c (fun e => ?_) (fun e => ?_)⟩
    · have ec : sm_ct yt c (t + 1) = sm_ct yt c t := if_pos e
      rw [ec] at hi
      exact nm_r e8 hi
    · have ec : sm_ct yt c (t + 1) = sm_ct yt c t + 1 := if_neg e
      rw [ec] at hi
      exact nm_r (nI_1 _) (nm_r e8 hi)
theorem sm_ysz4 {c : Nat} {x1 : Int32} (hc : c < 8) (hx : x1 &&& 7 = nI c) (hp : post (nI (sm_ct yt c 4))) : ∀ (d k : Nat), k + d = 32 → wY_size_4 post x1 yt yv yr yn ya yh (d + 1) (nI (sm_ct yt c ((k + 7 - c) / 8))) (nI k) := by
  intro d
  induction d with
  | zero =>
    intro k hk
    have e : (k + 7 - c) / 8 = 4 := by omega
    rw [e]
    exact br_t (nI_le (a := 32) (by omega) (by omega)) hp
  | succ d ih =>
    intro k hk
    have hcl : (nI k).toNatClampNeg = k := nI_clamp (by omega)
    have hv : vp_in (nI k) 32 := vp_in_nI (by omega) (by decide)
    have hi := ih (k + 1) (by omega)
    have ek : nI k &&& 7 = nI (k % 8) := pk_andN (by omega) 3 rfl
    rw [wY_size_4]
    dsimp only
    rw [hcl, hx, ek]
    by_cases em : k % 8 = c
    · have e1 : (k + 1 + 7 - c) / 8 = (k + 7 - c) / 8 + 1 := by omega
      have e2 : c + 8 * ((k + 7 - c) / 8) = k := by omega
      rw [e1] at hi
      refine br_f (nI_ge (b := 32) (by omega) (by decide)) ⟨hv, br_c (fun e => ?_) (fun e => br_t (congrArg nI em) ?_)⟩
      · have ec : sm_ct yt c ((k + 7 - c) / 8 + 1) = sm_ct yt c ((k + 7 - c) / 8) := if_pos (by rw [e2]; exact e)
        rw [ec] at hi
        exact nm_r (nI_1 k) hi
      · have ec : sm_ct yt c ((k + 7 - c) / 8 + 1) = sm_ct yt c ((k + 7 - c) / 8) + 1 := if_neg (by rw [e2]; exact e)
        rw [ec] at hi
        exact nm_r (nI_1 _) (nm_r (nI_1 k) hi)
    · have e1 : (k + 1 + 7 - c) / 8 = (k + 7 - c) / 8 := by omega
      rw [e1] at hi
      refine br_f (nI_ge (b := 32) (by omega) (by decide)) ⟨hv, br_c (fun e => nm_r (nI_1 k) hi) (fun e => br_f (fun z => em ((nI_eq (by omega) (by omega)).mp z)) (nm_r (nI_1 k) hi))⟩
end
theorem i_vc_size {k : Nat} {u : SX} {v : SY} (I : i_Rel k u v) (hk : k + 5 ≤ 2560) (v1 : Int32) : wpX_size (fun r => wpY_size (fun r' => r' = r ∧ i_Rel (k + 5) u v) v v1) u v1 := by
  have hR := I
  obtain ⟨t, m, i, l, ho, pu, ro, rfl, ht, hD, hI⟩ := I
  obtain ⟨c, hc, e⟩ := pk_andE v1 (m := 7) 3 rfl
  have hc : c < 8 := hc
  obtain ⟨h, hh, H, hw⟩ := sm_hd (nc := nI t) (m := m) (i := i) (l := l) (ho := ho) (pu := pu) (ro := ro) hc (hI.1 c hc)
  unfold wpX_size
  dsimp only
  refine nm_r e (hw _ ⟨5, sm_sz17 hc hh (yt := v.1) (fun q hq => (H.1 q hq).1) ?_ 4 0 rfl⟩)
  unfold wpY_size
  dsimp only
  have e0 : (0 + 7 - c) / 8 = 0 := by omega
  have hy := sm_ysz4 (post := fun r' => r' = nI (sm_ct v.1 c 4) ∧ i_Rel (k + 5) (sm_x (nI t) m i l ho pu ro) v) (yt := v.1) (yv := v.2.1) (yr := v.2.2.1) (yn := v.2.2.2.1) (ya := v.2.2.2.2.1) (yh := v.2.2.2.2.2) hc e ⟨rfl, hR⟩ 32 0 rfl
  rw [e0] at hy
  exact ⟨33, hy⟩
theorem sm_lf {t : Nat} {m i : sm_M} {l : sm_L} {ho pu ro : Nat → Int32} {v : SY} (hI : ∀ c, c < 8 → sm_C c 4 21 m pu v) (x1 : Int32) : ∀ d, d ≤ 32 → ∃ r : Int32, (∀ post : Int32 → Prop, post r → wX_lastFrom_3 post x1 (nI t) m.1 m.2.1 m.2.2.1 m.2.2.2.1 m.2.2.2.2.1 m.2.2.2.2.2 i.1 i.2.1 i.2.2.1 i.2.2.2.1 i.2.2.2.2.1 i.2.2.2.2.2 l.1 l.2.1 l.2.2.1 l.2.2.2.1 l.2.2.2.2 ho pu ro (d + 1) (nI d + (-1))) ∧ (∀ post : Int32 → Prop, post r → wY_lastFrom_3 post x1 v.1 v.2.1 v.2.2.1 v.2.2.2.1 v.2.2.2.2.1 v.2.2.2.2.2 (d + 1) (nI d + (-1))) := by
  intro d
  induction d with
  | zero =>
    intro _
    have h0 : nI 0 + (-1) < 0 := by decide
    exact ⟨-1, fun post hp => br_t h0 hp, fun post hp => br_t h0 hp⟩
  | succ d ih =>
    intro hd
    obtain ⟨r, hX, hY⟩ := ih (by omega)
    obtain ⟨c, q, hc, hq, ed⟩ : ∃ c q, c < 8 ∧ q < 4 ∧ d = c + 8 * q := ⟨d % 8, d / 8, by omega, by omega, by omega⟩
    obtain ⟨h, hh, H, hw⟩ := sm_hd (nc := nI t) (m := m) (i := i) (l := l) (ho := ho) (pu := pu) (ro := ro) hc (hI c hc)
    have hcd : (nI d).toNatClampNeg = d := nI_clamp (by omega)
    have hcl : (nI (32 * h + d)).toNatClampNeg = 32 * h + d := nI_clamp (by omega)
    have hv : vp_in (nI (32 * h + d)) 128 := vp_in_nI (by omega) (by decide)
    have hvd : vp_in (nI d) 32 := vp_in_nI (by omega) (by decide)
    have hn : ¬ nI d < 0 := nI_pos (by omega)
    have e7 : nI d &&& 7 = nI c := by rw [ed]; exact sm_a7 hc hq
    have e1 : m.2.1 (32 * h + d) = v.1 d := by rw [ed]; exact (H.1 q hq).1
    have e2 : ¬ v.1 d = 0 → m.1 (32 * h + d) = v.2.1 d := by rw [ed]; exact (H.1 q hq).2
    have hx3 : ∀ post : Int32 → Prop, ((v.1 d = 0 → wX_lastFrom_3 post x1 (nI t) m.1 m.2.1 m.2.2.1 m.2.2.2.1 m.2.2.2.2.1 m.2.2.2.2.2 i.1 i.2.1 i.2.2.1 i.2.2.2.1 i.2.2.2.2.1 i.2.2.2.2.2 l.1 l.2.1 l.2.2.1 l.2.2.2.1 l.2.2.2.2 ho pu ro (d + 1) (nI d + (-1))) ∧ (¬ v.1 d = 0 → ((v.2.1 d < x1 → wX_lastFrom_3 post x1 (nI t) m.1 m.2.1 m.2.2.1 m.2.2.2.1 m.2.2.2.2.1 m.2.2.2.2.2 i.1 i.2.1 i.2.2.1 i.2.2.2.1 i.2.2.2.2.1 i.2.2.2.2.2 l.1 l.2.1 l.2.2.1 l.2.2.2.1 l.2.2.2.2 ho pu ro (d + 1) (nI d + (-1))) ∧ (¬ v.2.1 d < x1 → post (nI d))))) → wX_lastFrom_3 post x1 (nI t) m.1 m.2.1 m.2.2.1 m.2.2.2.1 m.2.2.2.2.1 m.2.2.2.2.2 i.1 i.2.1 i.2.2.1 i.2.2.2.1 i.2.2.2.2.1 i.2.2.2.2.2 l.1 l.2.1 l.2.2.1 l.2.2.2.1 l.2.2.2.2 ho pu ro (d + 1 + 1) (nI d) := by
      intro post hp
      rw [wX_lastFrom_3]
      dsimp only
      rw [e7]
      refine br_f hn (hw _ ?_)
      rw [sm_i32, hcl, e1]
      refine ⟨hv, br_c (fun z => nm_e (hp.1 z)) (fun z => ⟨hv, ?_⟩)⟩
      rw [e2 z]
      exact br_c (fun w => nm_e ((hp.2 z).1 w)) (fun w => (hp.2 z).2 w)
    have hy3 : ∀ post : Int32 → Prop, ((v.1 d = 0 → wY_lastFrom_3 post x1 v.1 v.2.1 v.2.2.1 v.2.2.2.1 v.2.2.2.2.1 v.2.2.2.2.2 (d + 1) (nI d + (-1))) ∧ (¬ v.1 d = 0 → ((v.2.1 d < x1 → wY_lastFrom_3 post x1 v.1 v.2.1 v.2.2.1 v.2.2.2.1 v.2.2.2.2.1 v.2.2.2.2.2 (d + 1) (nI d + (-1))) ∧ (¬ v.2.1 d < x1 → post (nI d))))) → wY_lastFrom_3 post x1 v.1 v.2.1 v.2.2.1 v.2.2.2.1 v.2.2.2.2.1 v.2.2.2.2.2 (d + 1 + 1) (nI d) := by
      intro post hp
      rw [wY_lastFrom_3]
      dsimp only
      rw [hcd]
      exact br_f hn ⟨hvd, br_c (fun z => nm_e (hp.1 z)) (fun z => ⟨hvd, br_c (fun w => nm_e ((hp.2 z).1 w)) (fun w => (hp.2 z).2 w)⟩)⟩
    rw [pk_m1]
    by_cases z : v.1 d = 0
    · exact ⟨r, fun post hp => hx3 post (br_t z (hX post hp)), fun post hp => hy3 post (br_t z (hY post hp))⟩
    · by_cases w : v.2.1 d < x1
      · exact ⟨r, fun post hp => hx3 post (br_f z (br_t w (hX post hp))), fun post hp => hy3 post (br_f z (br_t w (hY post hp)))⟩
      · exact ⟨nI d, fun post hp => hx3 post (br_f z (br_f w hp)), fun post hp => hy3 post (br_f z (br_f w hp))⟩
theorem sm_32m1 : nI 32 + (-1) = 31 := by decide
theorem i_vc_lastFrom {k : Nat} {u : SX} {v : SY} (I : i_Rel k u v) (hk : k + 5 ≤ 2560) (v1 : Int32) : wpX_lastFrom (fun r => wpY_lastFrom (fun r' => r' = r ∧ i_Rel (k + 5) u v) v v1) u v1 := by
  have hR := I
  obtain ⟨t, m, i, l, ho, pu, ro, rfl, ht, hD, hI⟩ := I
  obtain ⟨r, hX, hY⟩ := sm_lf (t := t) (m := m) (i := i) (l := l) (ho := ho) (pu := pu) (ro := ro) (v := v) hI.1 v1 32 (by omega)
  rw [sm_32m1] at hX hY
  unfold wpX_lastFrom
  dsimp only
  refine ⟨33, hX _ ?_⟩
  unfold wpY_lastFrom
  dsimp only
  exact ⟨33, hY _ ⟨rfl, hR⟩⟩
theorem i_vc_assign {k : Nat} {u : SX} {v : SY} (I : i_Rel k u v) (hk : k + 5 ≤ 2560) (v1 : Int32) (v2 : Int32) : wpX_assign (fun r u' => wpY_assign (fun r' v' => r' = r ∧ i_Rel (k + 5) u' v') v v1 v2) u v1 v2 := by
  obtain ⟨t, m, i, l, ho, pu, ro, rfl, ht, hD, iA, iH, iR⟩ := I
  obtain ⟨c, hc, e⟩ := pk_andE v1 (m := 7) 3 rfl
  have hc : c < 8 := hc
  obtain ⟨g, hg, e3⟩ := pk_andE v2 (m := 3) 2 rfl
  have hg : g < 4 := hg
  have hcl : (nI c).toNatClampNeg = c := nI_clamp (by omega)
  have hv : vp_in (nI c) 8 := vp_in_nI hc (by decide)
  obtain ⟨s, hs, eh, ey⟩ := iH c hc
  unfold wpX_assign
  dsimp only
  rw [e, hcl, e3]
  refine ⟨hv, nm_e ⟨hv, nm_e ?_⟩⟩
  unfold wpY_assign
  dsimp only
  rw [e, hcl, e3]
  refine ⟨hv, nm_e ⟨hv, nm_e ⟨ey.trans eh.symm, t, m, i, l, _, pu, ro, rfl, ht, hD, ?_, ?_, iR⟩⟩⟩
  · exact iA
  · intro c' hc'
    by_cases z : c' = c
    · subst z
      exact ⟨g, hg, pk_us, pk_us⟩
    · obtain ⟨s', hs', eh', ey'⟩ := iH c' hc'
      exact ⟨s', hs', (pk_un z).trans eh', (pk_un z).trans ey'⟩
theorem i_vc_home {k : Nat} {u : SX} {v : SY} (I : i_Rel k u v) (hk : k + 5 ≤ 2560) (v1 : Int32) : wpX_home (fun r => wpY_home (fun r' => r' = r ∧ i_Rel (k + 5) u v) v v1) u v1 := by
  have hR := I
  obtain ⟨t, m, i, l, ho, pu, ro, rfl, ht, hD, iA, iH, iR⟩ := I
  obtain ⟨c, hc, e⟩ := pk_andE v1 (m := 7) 3 rfl
  have hc : c < 8 := hc
  have hcl : (nI c).toNatClampNeg = c := nI_clamp (by omega)
  have hv : vp_in (nI c) 8 := vp_in_nI hc (by decide)
  obtain ⟨s, hs, eh, ey⟩ := iH c hc
  unfold wpX_home
  dsimp only
  rw [e, hcl]
  refine ⟨hv, ?_⟩
  unfold wpY_home
  dsimp only
  rw [e, hcl]
  exact ⟨hv, ey.trans eh.symm, hR⟩
theorem i_vc_work {k : Nat} {u : SX} {v : SY} (I : i_Rel k u v) (hk : k + 5 ≤ 2560) (v1 : Int32) : wpX_work (fun u' => wpY_work (fun v' => i_Rel (k + 5) u' v') v v1) u v1 := by
  obtain ⟨t, m, i, l, ho, pu, ro, rfl, ht, hD, hI⟩ := I
  refine sm_wk (y := v) ht hD hI (fun t' m' i' l' pu' ht' hD' hI' => ?_)
  exact ⟨t', m', i', l', ho, pu', ro, rfl, ht', hD', hI'⟩
theorem i_vc_lose {k : Nat} {u : SX} {v : SY} (I : i_Rel k u v) (hk : k + 5 ≤ 2560) (v1 : Int32) : wpX_lose (fun u' => wpY_lose (fun v' => i_Rel (k + 5) u' v') v v1) u v1 := by
  obtain ⟨t, m, i, l, ho, pu, ro, rfl, ht, hD, iA, iH, iR⟩ := I
  refine sm_lo hD v1 (fun g hg => ?_)
  refine ⟨t, m, i, l, ho, _, ro, rfl, ht, hD, fun c hc => ?_, iH, iR⟩
  rcases sm_pz_at m.2.2.2.2.2 g 8 pu 0 c with e | ⟨e1, e2⟩
  · exact sm_C_cg sm_A_rf sm_Y_rf e (iA c hc)
  · obtain ⟨h, hh, h1, h2, h3⟩ := iA c hc
    refine ⟨h, hh, h1, h2, ?_⟩
    rcases h3 with ⟨H, hk⟩ | ⟨o, H, hk⟩ | ⟨H, hk⟩ | ⟨o, p, H, hk⟩
    · exact Or.inl ⟨H, hk⟩
    · exact Or.inr (Or.inl ⟨o, H, hk⟩)
    · exact Or.inr (Or.inr (Or.inl ⟨H, hk⟩))
    · obtain ⟨d1, d2, d3, d4, d5, d6, d7, u1, u2, u3⟩ := H
      exact Or.inr (Or.inr (Or.inr ⟨o, 0, ⟨d1, d2, d3, d4, d5, by omega, e2.trans nI_0.symm, fun q hq h0 => absurd h0 (by omega), u2, fun q hq h0 => absurd h0 (by omega)⟩, Or.inr (by omega)⟩))
end
section
/-! the constructors -/
theorem sm_a3 {c : Nat} (hc : c < 8) : nI c &&& 3 = nI (c % 4) := pk_andN (by omega) 2 rfl
section
variable {post : SX → Prop} {nc : Int32} {va th kn nu an st iv it ik iu ia ig lc lk la lb ld ho pu ro : Nat → Int32}
theorem sm_in220 {J : Int32 → (Nat → Int32) → (Nat → Int32) → (Nat → Int32) → (Nat → Int32) → (Nat → Int32) → (Nat → Int32) → (Nat → Int32) → (Nat → Int32) → (Nat → Int32) → (Nat → Int32) → (Nat → Int32) → (Nat → Int32) → (Nat → Int32) → (Nat → Int32) → (Nat → Int32) → (Nat → Int32) → (Nat → Int32) → (Nat → Int32) → (Nat → Int32) → (Nat → Int32) → Prop} {c : Nat} (hc : c < 8)
    (hJ : ∀ ro : Nat → Int32, (∀ j, ∃ s, s < 4 ∧ ro j = nI s) → J (nI (c + 1)) va th kn nu an st iv it ik iu ia ig lc lk la lb ld ho pu ro) : ∀ (d t : Nat) (ro : Nat → Int32), t + d = 4 → (∀ j, ∃ s, s < 4 ∧ ro j = nI s) → wX_init_220 post J (nI c) nc (d + 1) (nI t) va th kn nu an st iv it ik iu ia ig lc lk la lb ld ho pu ro := by
  intro d
  induction d with
  | zero =>
    intro t ro h hr
    exact br_t (nI_le (a := 4) (by omega) (by omega)) (nm_r (nI_1 c) (hJ ro hr))
  | succ d ih =>
    intro t ro h hr
    have hcl : (nI (8 * t + c)).toNatClampNeg = 8 * t + c := nI_clamp (by omega)
    rw [wX_init_220]
    dsimp only
    rw [sm_i8, hcl, sm_a3 hc]
    refine br_f (nI_ge (b := 4) (by omega) (by decide)) ⟨vp_in_nI (by omega) (by decide), nm_e (nm_r (nI_1 t) (ih (t + 1) _ (by omega) (fun j => ?_)))⟩
    by_cases e : j = 8 * t + c
    · subst e; exact ⟨c % 4, by omega, pk_us⟩
    · obtain ⟨s, hs, es⟩ := hr j
      exact ⟨s, hs, (pk_un e).trans es⟩
theorem sm_in175 (hp : ∀ st ho ro : Nat → Int32, (∀ c, c < 8 → ∀ g, g < 4 → st (8 * g + c) = if g = c % 4 then 1 else 0) → (∀ j, j < 8 → ho j = nI (j % 4)) → (∀ j, ∃ s, s < 4 ∧ ro j = nI s) → post (nc, va, th, kn, nu, an, st, iv, it, ik, iu, ia, st, lc, lk, la, lb, ld, ho, pu, ro)) :
    ∀ (d c : Nat) (st ho ro : Nat → Int32), c + d = 8 → (∀ c', c' < 8 → ∀ g, g < 4 → st (8 * g + c') = if c' < c ∧ g = c' % 4 then 1 else 0) → (∀ j, j < c → ho j = nI (j % 4)) → (∀ j, ∃ s, s < 4 ∧ ro j = nI s) → wX_init_175 post nc (d + 1) (nI c) va th kn nu an st iv it ik iu ia st lc lk la lb ld ho pu ro := by
  intro d
  induction d with
  | zero =>
    intro c st ho ro h h1 h2 h3
    have e : c = 8 := by omega
    subst e
    refine br_t (nI_le (a := 8) (by omega) (by omega)) (hp st ho ro (fun c' hc' g hg => ?_) h2 h3)
    rw [h1 c' hc' g hg]
    by_cases e : g = c' % 4
    · rw [if_pos ⟨hc', e⟩, if_pos e]
    · rw [if_neg (fun z => e z.2), if_neg e]
  | succ d ih =>
    intro c st ho ro h h1 h2 h3
    have hc : c < 8 := by omega
    have hcc : (nI c).toNatClampNeg = c := nI_clamp (by omega)
    have hcs : (nI (8 * (c % 4) + c)).toNatClampNeg = 8 * (c % 4) + c := nI_clamp (by omega)
    have hv : vp_in (nI (8 * (c % 4) + c)) 32 := vp_in_nI (by omega) (by decide)
    rw [wX_init_175]
    dsimp only
    rw [sm_a3 hc, sm_i8, hcs, hcc]
    refine br_f (nI_ge (b := 8) (by omega) (by decide)) ⟨vp_in_nI hc (by decide), nm_e ⟨hv, nm_e ⟨hv, nm_e ⟨5, ?_⟩⟩⟩⟩
    refine sm_in220 hc (fun ro' hr' => ih (c + 1) _ _ ro' (by omega) (fun c' hc' g hg => ?_) (fun j hj => ?_) hr') 4 0 ro rfl h3
    · by_cases e : c' = c
      · subst e
        by_cases eg : g = c' % 4
        · rw [if_pos ⟨by omega, eg⟩, eg]; exact pk_us
        · rw [if_neg (fun z => eg z.2), pk_un (by omega), h1 c' hc' g hg, if_neg (fun z => eg z.2)]
      · rw [pk_un (by omega), h1 c' hc' g hg]
        by_cases eg : c' < c ∧ g = c' % 4
        · rw [if_pos eg, if_pos ⟨by omega, eg.2⟩]
        · rw [if_neg eg, if_neg (fun z => eg ⟨by omega, z.2⟩)]
    · by_cases e : j = c
      · subst e; exact pk_us
      · rw [pk_un e]; exact h2 j (by omega)
end
theorem sm_yin54 {post : SY → Prop} {yt yv yr yn ya : Nat → Int32} (hp : ∀ yh : Nat → Int32, (∀ j, j < 8 → yh j = nI (j % 4)) → post (yt, yv, yr, yn, ya, yh)) : ∀ (d c : Nat) (yh : Nat → Int32), c + d = 8 → (∀ j, j < c → yh j = nI (j % 4)) → wY_init_54 post (d + 1) (nI c) yt yv yr yn ya yh := by
  intro d
  induction d with
  | zero =>
    intro c yh h h1
    have e : c = 8 := by omega
    subst e
    exact br_t (nI_le (a := 8) (by omega) (by omega)) (hp yh h1)
  | succ d ih =>
    intro c yh h h1
    have hc : c < 8 := by omega
    have hcc : (nI c).toNatClampNeg = c := nI_clamp (by omega)
    rw [wY_init_54]
    dsimp only
    rw [sm_a3 hc, hcc]
    refine br_f (nI_ge (b := 8) (by omega) (by decide)) ⟨vp_in_nI hc (by decide), nm_e (nm_r (nI_1 c) (ih (c + 1) _ (by omega) (fun j hj => ?_)))⟩
    by_cases e : j = c
    · subst e; exact pk_us
    · rw [pk_un e]; exact h1 j (by omega)
def sm_0 : Nat → Int32 := fun _ => 0
theorem sm_D_0 (st : Nat → Int32) : sm_D (sm_0, sm_0, sm_0, sm_0, sm_0, st) (sm_0, sm_0, sm_0, sm_0, sm_0, st) (sm_0, sm_0, sm_0, sm_0, sm_0) :=
  ⟨⟨fun _ => Or.inl rfl, fun _ => Or.inl rfl⟩, ⟨fun _ => Or.inl rfl, fun _ => Or.inl rfl⟩, fun g _ => ⟨0, by omega, nI_0.symm, fun t ht => absurd ht (by omega), sm_on_rf _⟩⟩
theorem sm_C_init {st pu yh : Nat → Int32} (h1 : ∀ c, c < 8 → ∀ g, g < 4 → st (8 * g + c) = if g = c % 4 then 1 else 0) {c : Nat} (hc : c < 8) : sm_C c 4 21 (sm_0, sm_0, sm_0, sm_0, sm_0, st) pu (sm_0, sm_0, sm_0, sm_0, sm_0, yh) := by
  refine ⟨c % 4, by omega, ⟨fun q hq => ⟨rfl, fun z => absurd rfl z⟩, fun q hq => ⟨rfl, fun z => absurd rfl z⟩⟩, fun g hg _ q hq => rfl, Or.inl ⟨⟨?_, fun g hg hn => ?_⟩, Or.inr (by omega)⟩⟩
  · exact (h1 c hc (c % 4) (by omega)).trans (if_pos rfl)
  · exact (h1 c hc g hg).trans (if_neg hn)
theorem i_vc0 : wpX_init (fun u => wpY_init (fun v => i_Rel 0 u v)) := by
  unfold wpX_init
  refine ⟨9, sm_in175 (fun st ho ro h1 h2 h3 => ?_) 8 0 (fun _ => 0) (fun _ => 0) (fun _ => 0) rfl (fun c hc g hg => (if_neg (fun z => absurd z.1 (by omega))).symm) (fun j hj => absurd hj (by omega)) (fun j => ⟨0, by omega, nI_0.symm⟩)⟩
  unfold wpY_init
  refine ⟨9, sm_yin54 (fun yh h4 => ?_) 8 0 (fun _ => 0) rfl (fun j hj => absurd hj (by omega))⟩
  refine ⟨0, (sm_0, sm_0, sm_0, sm_0, sm_0, st), (sm_0, sm_0, sm_0, sm_0, sm_0, st), (sm_0, sm_0, sm_0, sm_0, sm_0), ho, sm_0, ro, rfl, by omega, sm_D_0 st, fun c hc => sm_C_init h1 hc, fun c hc => ⟨c % 4, by omega, h2 c hc, h4 c hc⟩, fun j _ => h3 j⟩
end
