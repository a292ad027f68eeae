section
/-! numbers; the pk_ rows are pasted from the kit's PURE-ROWS -/
theorem pk_us {f : Nat → Int32} {k : Nat} {x : Int32} : upd f k x k = x := if_pos rfl
theorem pk_un {f : Nat → Int32} {k j : Nat} {x : Int32} (h : j ≠ k) : upd f k x j = f j := if_neg h
theorem pk_sub {a b : Nat} (h : b ≤ a) : nI a - nI b = nI (a - b) := by
  obtain ⟨c, rfl⟩ : ∃ c, a = c + b := ⟨a - b, by omega⟩
  rw [← nI_add, Int32.add_sub_cancel, Nat.add_sub_cancel]
theorem pk_m1 (n : Nat) : nI (n + 1) + (-1) = nI n := by
  rw [← nI_1, Int32.add_assoc, show (1 : Int32) + (-1) = 0 from rfl, Int32.add_zero]
theorem pk_mul (a b : Nat) : nI a * nI b = nI (a * b) := (Int32.ofNat_mul a b).symm
theorem pk_div {a d : Nat} (ha : a < 2 ^ 31) (h0 : 0 < d) (hd : d < 2 ^ 31) : nI a / nI d = nI (a / d) := by
  apply Int32.toInt_inj.mp
  rw [lg_idiv_nonneg (by rw [nI_toInt ha]; omega) (by rw [nI_toInt hd]; omega), nI_toInt ha, nI_toInt hd, nI_toInt (Nat.lt_of_le_of_lt (Nat.div_le_self a d) ha)]
  first | rfl | exact (Int.natCast_ediv _ _).symm
theorem pk_rem {a d : Nat} (ha : a < 2 ^ 31) (h0 : 0 < d) (hd : d < 2 ^ 31) : nI a - nI a / nI d * nI d = nI (a % d) := by
  rw [pk_div ha h0 hd, pk_mul, pk_sub (Nat.div_mul_le_self a d)]
  exact congrArg nI (by have := Nat.div_add_mod' a d; omega)
theorem pk_ix (x : Int32) {n : Nat} (hn : n < 2 ^ 31) : x < 0 ∨ nI n ≤ x ∨ ∃ j : Nat, j < n ∧ x = nI j := by
  by_cases h : x < 0
  · exact Or.inl h
  · obtain ⟨j, hj, rfl⟩ := nI_of h
    by_cases h2 : j < n
    · exact Or.inr (Or.inr ⟨j, h2, rfl⟩)
    · exact Or.inr (Or.inl (nI_le (by omega) hj))
theorem pk_le {x y : Int32} {A B : Prop} (a b : Nat) (f : a ≤ b → A) (g : b < a → B) (hx : x = nI a := by rfl) (hy : y = nI b := by rfl) (ha : a < 2 ^ 31 := by omega) (hb : b < 2 ^ 31 := by omega) : (x ≤ y → A) ∧ (¬ x ≤ y → B) := by
  subst hx hy
  rw [nI_leI ha hb]
  exact ⟨f, fun z => g (by omega)⟩
theorem pk_lt {x y : Int32} {A B : Prop} (a b : Nat) (f : a < b → A) (g : b ≤ a → B) (hx : x = nI a := by rfl) (hy : y = nI b := by rfl) (ha : a < 2 ^ 31 := by omega) (hb : b < 2 ^ 31 := by omega) : (x < y → A) ∧ (¬ x < y → B) := by
  subst hx hy
  rw [nI_ltI ha hb]
  exact ⟨f, fun z => g (by omega)⟩
theorem pk_eq {x y : Int32} {A B : Prop} (a b : Nat) (f : a = b → A) (g : a ≠ b → B) (hx : x = nI a := by rfl) (hy : y = nI b := by rfl) (ha : a < 2 ^ 31 := by omega) (hb : b < 2 ^ 31 := by omega) : (x = y → A) ∧ (¬ x = y → B) := by
  subst hx hy
  rw [nI_eq ha hb]
  exact ⟨f, g⟩
theorem pk_in {x : Int32} (n N : Nat) (h : n < N) (hx : x = nI n := by rfl) (hN : N < 2 ^ 31 := by omega) : vp_in x N := by
  subst hx
  exact vp_in_nI h hN
theorem pk_cl {x : Int32} (n : Nat) (hx : x = nI n := by rfl) (h : n < 2 ^ 31 := by omega) : x.toNatClampNeg = n := by
  subst hx
  exact nI_clamp h
theorem qn_lin {C : Int32} (c a b : Nat) (h : C = nI c) : C * nI a + nI b = nI (c * a + b) := by
  rw [h, pk_mul, nI_add]
theorem qn_20 (a b : Nat) : 20 * nI a + nI b = nI (20 * a + b) := qn_lin 20 a b rfl
theorem qn_8 (a b : Nat) : 8 * nI a + nI b = nI (8 * a + b) := qn_lin 8 a b rfl
theorem qn_12 (a b : Nat) : 12 * nI a + nI b = nI (12 * a + b) := qn_lin 12 a b rfl
theorem qn_6 (a b : Nat) : 6 * nI a + nI b = nI (6 * a + b) := qn_lin 6 a b rfl
theorem qn_8m (a : Nat) : 8 * nI a = nI (8 * a) := pk_mul 8 a
theorem qn_6m (a : Nat) : 6 * nI a = nI (6 * a) := pk_mul 6 a
theorem qn_12m (a : Nat) : 12 * nI a = nI (12 * a) := pk_mul 12 a
theorem qn_2m (a : Nat) : 2 * nI a = nI (2 * a) := pk_mul 2 a
theorem qn_s1 {a : Nat} (h : 0 < a) : nI a - 1 = nI (a - 1) := by
  obtain ⟨m, rfl⟩ : ∃ m, a = m + 1 := ⟨a - 1, by omega⟩
  exact nI_pred m
theorem qn_m1 {a : Nat} (h : 0 < a) : nI a + (-1) = nI (a - 1) := by
  obtain ⟨m, rfl⟩ : ∃ m, a = m + 1 := ⟨a - 1, by omega⟩
  exact pk_m1 m
theorem qn_00 : nI 0 + (-1) = -1 := by decide
theorem qn_n1 : (-1 : Int32) < 0 := by decide
theorem qn_n0 : ¬ (0 : Int32) ≤ -1 := by decide
theorem qn_ne1 {a : Nat} (h : a < 2 ^ 31) : ¬ nI a = -1 := by
  intro e
  have := nI_pos (n := a) h
  rw [e] at this
  exact this qn_n1
theorem qn_inj {a b : Nat} (ha : a < 2 ^ 31) (hb : b < 2 ^ 31) (h : nI a = nI b) : a = b := (nI_eq ha hb).mp h
theorem qn_ne {a b : Nat} (ha : a < 2 ^ 31) (hb : b < 2 ^ 31) (h : a ≠ b) : ¬ nI a = nI b := fun e => h (qn_inj ha hb e)
theorem qn_ne0 {a : Nat} (h : a < 2 ^ 31) (h0 : a ≠ 0) : ¬ nI a = 0 := qn_ne (b := 0) h (by decide) h0
/-- a whole number as an int, wrapped: a ring map -/
def qz (z : Int) : Int32 := Int32.ofInt z
theorem qz_nat (n : Nat) : qz (n : Int) = nI n := Int32.ofInt_eq_ofNat
theorem qz_add (a b : Int) : qz a + qz b = qz (a + b) := (Int32.ofInt_add a b).symm
theorem qz_neg (a : Int) : -qz a = qz (-a) := (Int32.ofInt_neg a).symm
theorem qz_addN (a : Int) (n : Nat) : qz a + nI n = qz (a + n) := by rw [← qz_nat, qz_add]
theorem qz_subN (a : Int) (n : Nat) : qz a + -nI n = qz (a - n) := by rw [← qz_nat, qz_neg, qz_add]; rfl
theorem qz_0 : qz 0 = 0 := rfl
/-- an array with the first n cells of another, from o on -/
def qc (d s : Nat → Int32) (o n : Nat) : Nat → Int32 := fun j => if j < n then s (o + j) else d j
theorem qc_0 (d s : Nat → Int32) (o : Nat) : qc d s o 0 = d := by
  funext j; simp [qc]
theorem qc_s (d s : Nat → Int32) (o n : Nat) : upd (qc d s o n) n (s (o + n)) = qc d s o (n + 1) := by
  funext j
  simp only [upd, qc]
  by_cases h : j = n
  · subst h; simp
  · by_cases h2 : j < n
    · rw [if_neg h, if_pos h2, if_pos (by omega)]
    · rw [if_neg h, if_neg h2, if_neg (by omega)]
theorem qc_lt {d s : Nat → Int32} {o n j : Nat} (h : j < n) : qc d s o n j = s (o + j) := if_pos h
/-- a list laid out in an array from o on -/
def ly (a : Nat → Int32) (o : Nat) (l : List Nat) : Prop := ∀ i, i < l.length → a (o + i) = nI (l.getD i 0)
theorem ly_nil {a : Nat → Int32} {o : Nat} : ly a o [] := fun i h => absurd h (Nat.not_lt_zero i)
theorem ly_cons {a : Nat → Int32} {o x : Nat} {l : List Nat} : ly a o (x :: l) ↔ a o = nI x ∧ ly a (o + 1) l := by
  constructor
  · intro h
    refine ⟨h 0 (Nat.succ_pos _), fun i hi => ?_⟩
    have := h (i + 1) (Nat.succ_lt_succ hi)
    rw [List.getD_cons_succ] at this
    rw [← this]
    exact congrArg a (by omega)
  · rintro ⟨h0, h⟩ i hi
    cases i with
    | zero => exact h0
    | succ i =>
      have := h i (Nat.lt_of_succ_lt_succ hi)
      rw [List.getD_cons_succ, ← this]
      exact congrArg a (by omega)
theorem ly_app {a : Nat → Int32} {l m : List Nat} : ∀ {o : Nat}, ly a o (l ++ m) ↔ ly a o l ∧ ly a (o + l.length) m := by
  induction l with
  | nil => intro o; exact ⟨fun h => ⟨ly_nil, h⟩, fun h => h.2⟩
  | cons x l ih =>
    intro o
    rw [List.cons_append, ly_cons, ly_cons, ih, and_assoc, List.length_cons, show o + 1 + l.length = o + (l.length + 1) from by omega]
theorem ly_fr {a b : Nat → Int32} {o : Nat} {l : List Nat} (h : ly a o l) (e : ∀ j, o ≤ j → j < o + l.length → b j = a j) : ly b o l :=
  fun i hi => (e (o + i) (by omega) (by omega)).trans (h i hi)
theorem ly_up {a : Nat → Int32} {o k : Nat} {l : List Nat} {v : Int32} (h : ly a o l) (e : k < o ∨ o + l.length ≤ k) : ly (upd a k v) o l :=
  ly_fr h fun j _ _ => pk_un (by omega)
theorem ly_1 {a : Nat → Int32} {o x : Nat} (h : a o = nI x) : ly a o [x] := ly_cons.mpr ⟨h, ly_nil⟩
theorem ly_sn {a : Nat → Int32} {o x : Nat} {l : List Nat} (h : ly a o l) (e : a (o + l.length) = nI x) : ly a o (l ++ [x]) := ly_app.mpr ⟨h, ly_1 e⟩
theorem ly_qc {d s : Nat → Int32} {o n : Nat} {l : List Nat} (h : ly s o l) (hn : n = l.length) : ly (qc d s o n) 0 l := fun i hi => by
  rw [Nat.zero_add, qc_lt (by omega)]; exact h i hi
theorem ly_at {a : Nat → Int32} {o k : Nat} {l : List Nat} (h : ly a o l) (hk : k < l.length) : a (o + k) = nI (l.getD k 0) := h k hk
theorem ly_at0 {a : Nat → Int32} {k : Nat} {l : List Nat} (h : ly a 0 l) (hk : k < l.length) : a k = nI (l.getD k 0) := by
  have := h k hk; rwa [Nat.zero_add] at this
theorem ly_mem {l : List Nat} {k : Nat} (h : k < l.length) : l.getD k 0 ∈ l := by
  rw [List.getD_eq_getElem?_getD, List.getElem?_eq_getElem h]; exact List.getElem_mem h
end
section
/-! merging, pure: passes over rows of tokens -/
def mg_ps (l r t : Nat) : List Nat → List Nat
  | [] => []
  | [a] => [a]
  | a :: b :: xs => if a = l ∧ b = r then t :: mg_ps l r t xs else a :: mg_ps l r t (b :: xs)
def mg_pc (x y : Nat) : List Nat → Nat
  | [] => 0
  | [_] => 0
  | a :: b :: xs => (if a = x ∧ b = y then 1 else 0) + mg_pc x y (b :: xs)
def mg_all (L R : Nat → Nat) : Nat → Nat → List Nat → List Nat
  | 0, _, xs => xs
  | k + 1, t, xs => mg_all L R k (t + 1) (mg_ps (L t) (R t) t xs)
theorem mg_ind {P : List Nat → Prop} (h0 : P []) (h1 : ∀ a, P [a]) (h2 : ∀ a b xs, P xs → P (b :: xs) → P (a :: b :: xs)) : ∀ xs, P xs := by
  have key : ∀ xs, P xs ∧ ∀ a, P (a :: xs) := by
    intro xs
    induction xs with
    | nil => exact ⟨h0, h1⟩
    | cons b xs ih => exact ⟨ih.2 b, fun a => h2 a b xs ih.1 (ih.2 b)⟩
  exact fun xs => (key xs).1
theorem mg_ps_y {l r t a b : Nat} {xs : List Nat} (h : a = l ∧ b = r) : mg_ps l r t (a :: b :: xs) = t :: mg_ps l r t xs := by
  rw [mg_ps]; exact if_pos h
theorem mg_ps_n {l r t a b : Nat} {xs : List Nat} (h : ¬ (a = l ∧ b = r)) : mg_ps l r t (a :: b :: xs) = a :: mg_ps l r t (b :: xs) := by
  rw [mg_ps]; exact if_neg h
theorem mg_ps_1 {l r t a : Nat} : mg_ps l r t [a] = [a] := by rw [mg_ps]
theorem mg_ps_0 {l r t : Nat} : mg_ps l r t [] = [] := by rw [mg_ps]
theorem mg_pc_0 {x y : Nat} : mg_pc x y [] = 0 := by rw [mg_pc]
theorem mg_pc_1 {x y a : Nat} : mg_pc x y [a] = 0 := by rw [mg_pc]
theorem mg_pc_c {x y a b : Nat} {xs : List Nat} : mg_pc x y (a :: b :: xs) = (if a = x ∧ b = y then 1 else 0) + mg_pc x y (b :: xs) := by rw [mg_pc]
theorem mg_pc_y {x y a b : Nat} {xs : List Nat} (h : a = x ∧ b = y) : mg_pc x y (a :: b :: xs) = 1 + mg_pc x y (b :: xs) := by rw [mg_pc_c, if_pos h]
theorem mg_pc_n {x y a b : Nat} {xs : List Nat} (h : ¬ (a = x ∧ b = y)) : mg_pc x y (a :: b :: xs) = mg_pc x y (b :: xs) := by rw [mg_pc_c, if_neg h, Nat.zero_add]
theorem mg_pc_ne {x y a : Nat} {xs : List Nat} (h : a ≠ x) : mg_pc x y (a :: xs) = mg_pc x y xs := by
  cases xs with
  | nil => rw [mg_pc_1, mg_pc_0]
  | cons b xs => exact mg_pc_n fun z => h z.1
theorem mg_pc_le {x y a : Nat} {xs : List Nat} : mg_pc x y xs ≤ mg_pc x y (a :: xs) := by
  cases xs with
  | nil => rw [mg_pc_0]; exact Nat.zero_le _
  | cons b xs => rw [mg_pc_c]; exact Nat.le_add_left _ _
/-- pairs in a row that is put behind another -/
theorem mg_pc_app {x y c : Nat} {ys : List Nat} : ∀ pre : List Nat, mg_pc x y (pre ++ c :: ys) = mg_pc x y (pre ++ [c]) + mg_pc x y (c :: ys)
  | [] => by rw [List.nil_append, List.nil_append, mg_pc_1, Nat.zero_add]
  | [a] => by
    show mg_pc x y (a :: c :: ys) = mg_pc x y (a :: c :: []) + _
    rw [mg_pc_c, mg_pc_c, mg_pc_1, Nat.add_zero]
  | a :: b :: pre => by
    have ih := mg_pc_app (x := x) (y := y) (c := c) (ys := ys) (b :: pre)
    show mg_pc x y (a :: b :: (pre ++ c :: ys)) = mg_pc x y (a :: b :: (pre ++ [c])) + _
    rw [mg_pc_c, mg_pc_c]
    have ih' : mg_pc x y (b :: (pre ++ c :: ys)) = mg_pc x y (b :: (pre ++ [c])) + mg_pc x y (c :: ys) := ih
    omega
theorem mg_pc_pre {x y : Nat} {ys : List Nat} : ∀ pre : List Nat, mg_pc x y pre ≤ mg_pc x y (pre ++ ys)
  | [] => by rw [mg_pc_0]; exact Nat.zero_le _
  | [a] => by rw [mg_pc_1]; exact Nat.zero_le _
  | a :: b :: pre => by
    have ih := mg_pc_pre (x := x) (y := y) (ys := ys) (b :: pre)
    show mg_pc x y (a :: b :: pre) ≤ mg_pc x y (a :: b :: (pre ++ ys))
    rw [mg_pc_c, mg_pc_c]
    have ih' : mg_pc x y (b :: pre) ≤ mg_pc x y (b :: (pre ++ ys)) := ih
    omega
theorem mg_pc_suf {x y : Nat} {ys : List Nat} : ∀ pre : List Nat, mg_pc x y ys ≤ mg_pc x y (pre ++ ys)
  | [] => Nat.le_refl _
  | _ :: pre => Nat.le_trans (mg_pc_suf pre) mg_pc_le
/-- the row's end that is neither of a pair -/
theorem mg_pc_sn {x y c : Nat} (h : c ≠ y) : ∀ pre : List Nat, mg_pc x y (pre ++ [c]) = mg_pc x y pre
  | [] => by rw [List.nil_append, mg_pc_1, mg_pc_0]
  | [a] => by
    show mg_pc x y (a :: c :: []) = _
    rw [mg_pc_n (fun z => h z.2), mg_pc_1, mg_pc_1]
  | a :: b :: pre => by
    have ih := mg_pc_sn (x := x) h (b :: pre)
    show mg_pc x y (a :: b :: (pre ++ [c])) = mg_pc x y (a :: b :: pre)
    rw [mg_pc_c, mg_pc_c]
    have ih' : mg_pc x y (b :: (pre ++ [c])) = mg_pc x y (b :: pre) := ih
    omega
theorem mg_ps_id {l r t : Nat} : ∀ xs : List Nat, mg_pc l r xs = 0 → mg_ps l r t xs = xs := by
  refine mg_ind (fun _ => mg_ps_0) (fun _ _ => mg_ps_1) fun a b xs _ ih h => ?_
  by_cases e : a = l ∧ b = r
  · rw [mg_pc_y e] at h; omega
  · rw [mg_pc_n e] at h; rw [mg_ps_n e, ih h]
theorem mg_ps_skip {l r t c : Nat} {zs : List Nat} : ∀ pre : List Nat, mg_pc l r (pre ++ [c]) = 0 → mg_ps l r t (pre ++ c :: zs) = pre ++ mg_ps l r t (c :: zs)
  | [], _ => rfl
  | [a], h => by
    have h' : mg_pc l r (a :: c :: []) = 0 := h
    by_cases e : a = l ∧ c = r
    · rw [mg_pc_y e] at h'; omega
    · exact mg_ps_n e
  | a :: b :: pre, h => by
    have h' : mg_pc l r (a :: b :: (pre ++ [c])) = 0 := h
    by_cases e : a = l ∧ b = r
    · rw [mg_pc_y e] at h'; omega
    · rw [mg_pc_n e] at h'
      have ih := mg_ps_skip (t := t) (zs := zs) (b :: pre) h'
      show mg_ps l r t (a :: b :: (pre ++ c :: zs)) = _
      rw [mg_ps_n e]
      exact congrArg (a :: ·) ih
theorem mg_ps_ne {l r t a : Nat} {xs : List Nat} (h : a ≠ l) : mg_ps l r t (a :: xs) = a :: mg_ps l r t xs := by
  cases xs with
  | nil => rw [mg_ps_1, mg_ps_0]
  | cons b xs => exact mg_ps_n fun z => h z.1
theorem mg_ps_hd {l r t b : Nat} {xs : List Nat} : ∃ ys, mg_ps l r t (b :: xs) = b :: ys ∨ mg_ps l r t (b :: xs) = t :: ys := by
  cases xs with
  | nil => exact ⟨[], Or.inl mg_ps_1⟩
  | cons c xs =>
    by_cases e : b = l ∧ c = r
    · exact ⟨_, Or.inr (mg_ps_y e)⟩
    · exact ⟨_, Or.inl (mg_ps_n e)⟩
theorem mg_ps_pc {l r t x y : Nat} (hx : x ≠ t) (hy : y ≠ t) : ∀ xs : List Nat, mg_pc x y xs = 0 → mg_pc x y (mg_ps l r t xs) = 0 := by
  refine mg_ind (fun _ => by rw [mg_ps_0, mg_pc_0]) (fun _ _ => by rw [mg_ps_1, mg_pc_1]) fun a b xs i1 i2 h => ?_
  have hn : ¬ (a = x ∧ b = y) := fun e => by rw [mg_pc_y e] at h; omega
  rw [mg_pc_n hn] at h
  by_cases e : a = l ∧ b = r
  · rw [mg_ps_y e, mg_pc_ne (Ne.symm hx)]
    exact i1 (Nat.le_zero.mp (h ▸ mg_pc_le))
  · rw [mg_ps_n e]
    have := i2 h
    obtain ⟨ys, e2 | e2⟩ := mg_ps_hd (l := l) (r := r) (t := t) (b := b) (xs := xs)
    · rw [e2] at this ⊢; rw [mg_pc_n hn]; exact this
    · rw [e2] at this ⊢; rw [mg_pc_n (fun z => hy z.2.symm)]; exact this
theorem mg_ps_self {l r t : Nat} (hl : l ≠ t) (hr : r ≠ t) : ∀ xs : List Nat, mg_pc l r (mg_ps l r t xs) = 0 := by
  refine mg_ind (by rw [mg_ps_0, mg_pc_0]) (fun _ => by rw [mg_ps_1, mg_pc_1]) fun a b xs i1 i2 => ?_
  by_cases e : a = l ∧ b = r
  · rw [mg_ps_y e, mg_pc_ne (Ne.symm hl)]; exact i1
  · rw [mg_ps_n e]
    obtain ⟨ys, e2 | e2⟩ := mg_ps_hd (l := l) (r := r) (t := t) (b := b) (xs := xs)
    · rw [e2] at i2 ⊢; rw [mg_pc_n e]; exact i2
    · rw [e2] at i2 ⊢; rw [mg_pc_n (fun z => hr z.2.symm)]; exact i2
theorem mg_ps_fm {l r t : Nat} {sp : Nat → List Nat} (h : sp t = sp l ++ sp r) : ∀ xs : List Nat, (mg_ps l r t xs).flatMap sp = xs.flatMap sp := by
  refine mg_ind (by rw [mg_ps_0]) (fun _ => by rw [mg_ps_1]) fun a b xs i1 i2 => ?_
  by_cases e : a = l ∧ b = r
  · rw [mg_ps_y e, List.flatMap_cons, List.flatMap_cons, List.flatMap_cons, i1, h, e.1, e.2, List.append_assoc]
  · rw [mg_ps_n e, List.flatMap_cons, i2, ← List.flatMap_cons]
theorem mg_ps_lt {l r t B : Nat} (ht : t < B) : ∀ xs : List Nat, (∀ x ∈ xs, x < B) → ∀ x ∈ mg_ps l r t xs, x < B := by
  refine mg_ind (fun _ => by rw [mg_ps_0]; exact fun x h => absurd h List.not_mem_nil) (fun _ h => by rw [mg_ps_1]; exact h) fun a b xs i1 i2 h => ?_
  by_cases e : a = l ∧ b = r
  · rw [mg_ps_y e]
    intro x hx
    rcases List.mem_cons.mp hx with rfl | hx
    · exact ht
    · exact i1 (fun z hz => h z (List.mem_cons_of_mem _ (List.mem_cons_of_mem _ hz))) x hx
  · rw [mg_ps_n e]
    intro x hx
    rcases List.mem_cons.mp hx with rfl | hx
    · exact h _ List.mem_cons_self
    · exact i2 (fun z hz => h z (List.mem_cons_of_mem _ hz)) x hx
theorem mg_ps_len {l r t : Nat} : ∀ xs : List Nat, (mg_ps l r t xs).length ≤ xs.length := by
  refine mg_ind (by rw [mg_ps_0]; exact Nat.le_refl _) (fun _ => by rw [mg_ps_1]; exact Nat.le_refl _) fun a b xs i1 i2 => ?_
  by_cases e : a = l ∧ b = r
  · rw [mg_ps_y e]; simp only [List.length_cons]; omega
  · rw [mg_ps_n e]; simp only [List.length_cons] at i2 ⊢; omega
theorem mg_all_split {L R : Nat → Nat} {k : Nat} : ∀ (j t : Nat) (xs : List Nat), mg_all L R (j + k) t xs = mg_all L R k (t + j) (mg_all L R j t xs)
  | 0, t, xs => by rw [Nat.zero_add]; rfl
  | j + 1, t, xs => by
    rw [show j + 1 + k = (j + k) + 1 from by omega]
    show mg_all L R (j + k) (t + 1) _ = mg_all L R k (t + (j + 1)) (mg_all L R j (t + 1) _)
    rw [mg_all_split j (t + 1), show t + 1 + j = t + (j + 1) from by omega]
theorem mg_all_s {L R : Nat → Nat} (k t : Nat) (xs : List Nat) : mg_all L R (k + 1) t xs = mg_ps (L (t + k)) (R (t + k)) (t + k) (mg_all L R k t xs) := by
  rw [mg_all_split k t xs]; rfl
theorem mg_all_id {L R : Nat → Nat} : ∀ (k t : Nat) (xs : List Nat), (∀ s, t ≤ s → s < t + k → mg_pc (L s) (R s) xs = 0) → mg_all L R k t xs = xs
  | 0, _, _, _ => rfl
  | k + 1, t, xs, h => by
    show mg_all L R k (t + 1) _ = _
    rw [mg_ps_id xs (h t (Nat.le_refl _) (by omega))]
    exact mg_all_id k (t + 1) xs fun s h1 h2 => h s (by omega) (by omega)
/-- no pair is left of which a token is made -/
theorem mg_all_no {L R : Nat → Nat} {T : Nat} (hLR : ∀ s, 6 ≤ s → s < T → L s < s ∧ R s < s) (xs : List Nat) : ∀ k, 6 + k ≤ T → ∀ s, 6 ≤ s → s < 6 + k → mg_pc (L s) (R s) (mg_all L R k 6 xs) = 0
  | 0, _, _, h1, h2 => by omega
  | k + 1, hk, s, h1, h2 => by
    rw [mg_all_s]
    have hs := hLR s h1 (by omega)
    by_cases e : s = 6 + k
    · subst e; exact mg_ps_self (by omega) (by omega) _
    · exact mg_ps_pc (by omega) (by omega) _ (mg_all_no hLR xs k (by omega) s h1 (by omega))
theorem mg_all_fm {L R : Nat → Nat} {sp : Nat → List Nat} : ∀ (k t : Nat) (xs : List Nat), (∀ s, t ≤ s → s < t + k → sp s = sp (L s) ++ sp (R s)) → (mg_all L R k t xs).flatMap sp = xs.flatMap sp
  | 0, _, _, _ => rfl
  | k + 1, t, xs, h => by
    show (mg_all L R k (t + 1) _).flatMap sp = _
    rw [mg_all_fm k (t + 1) _ fun s h1 h2 => h s (by omega) (by omega)]
    exact mg_ps_fm (h t (Nat.le_refl _) (by omega)) xs
theorem mg_all_lt {L R : Nat → Nat} {B : Nat} : ∀ (k t : Nat) (xs : List Nat), t + k ≤ B → (∀ x ∈ xs, x < B) → ∀ x ∈ mg_all L R k t xs, x < B
  | 0, _, _, _, h => h
  | k + 1, t, xs, hB, h => mg_all_lt k (t + 1) _ (by omega) (mg_ps_lt (by omega) xs h)
theorem mg_all_len {L R : Nat → Nat} : ∀ (k t : Nat) (xs : List Nat), (mg_all L R k t xs).length ≤ xs.length
  | 0, _, _ => Nat.le_refl _
  | k + 1, t, xs => Nat.le_trans (mg_all_len k (t + 1) _) (mg_ps_len xs)
/-- joining the first pair of the least token changes nothing of the result -/
theorem mg_min {L R : Nat → Nat} {T t : Nat} (hLR : ∀ s, 6 ≤ s → s < T → L s < s ∧ R s < s) (h6 : 6 ≤ t) (hT : t < T) (pre post : List Nat)
    (h1 : ∀ s, 6 ≤ s → s < t → mg_pc (L s) (R s) (pre ++ L t :: R t :: post) = 0) (h2 : mg_pc (L t) (R t) (pre ++ [L t]) = 0) :
    mg_all L R (T - 6) 6 (pre ++ t :: post) = mg_all L R (T - 6) 6 (pre ++ L t :: R t :: post) := by
  have ht := hLR t h6 hT
  have hy : ∀ s, 6 ≤ s → s < 6 + (t - 6) → mg_pc (L s) (R s) (pre ++ t :: post) = 0 := by
    intro s a b
    have hs := hLR s a (by omega)
    have z := h1 s a (by omega)
    rw [mg_pc_app, mg_pc_sn (by omega), mg_pc_ne (by omega)]
    have z1 := mg_pc_pre (x := L s) (y := R s) (ys := L t :: R t :: post) pre
    have z2 := mg_pc_suf (x := L s) (y := R s) (ys := post) (pre ++ [L t, R t])
    rw [List.append_assoc] at z2
    have z3 : mg_pc (L s) (R s) post ≤ mg_pc (L s) (R s) (pre ++ L t :: R t :: post) := z2
    omega
  rw [show T - 6 = (t - 6) + ((T - 1 - t) + 1) from by omega, mg_all_split (t - 6), mg_all_split (t - 6), mg_all_id (t - 6) 6 _ hy,
    mg_all_id (t - 6) 6 _ (fun s a b => h1 s a (by omega)), show 6 + (t - 6) = t from by omega]
  show mg_all L R (T - 1 - t) (t + 1) (mg_ps (L t) (R t) t _) = mg_all L R (T - 1 - t) (t + 1) (mg_ps (L t) (R t) t _)
  have h3 : mg_pc (L t) (R t) (pre ++ [t]) = 0 := by
    rw [mg_pc_sn (by omega)]
    exact Nat.le_zero.mp (h2 ▸ mg_pc_pre pre)
  rw [mg_ps_skip pre h2, mg_ps_skip pre h3, mg_ps_y ⟨rfl, rfl⟩, mg_ps_ne (by omega)]
theorem mg_pc_mem {x y : Nat} : ∀ xs : List Nat, mg_pc x y xs ≠ 0 → x ∈ xs ∧ y ∈ xs := by
  refine mg_ind (fun h => absurd mg_pc_0 h) (fun _ h => absurd mg_pc_1 h) fun a b xs _ ih h => ?_
  by_cases e : a = x ∧ b = y
  · exact ⟨e.1 ▸ List.mem_cons_self, e.2 ▸ List.mem_cons_of_mem _ List.mem_cons_self⟩
  · rw [mg_pc_n e] at h
    exact ⟨List.mem_cons_of_mem _ (ih h).1, List.mem_cons_of_mem _ (ih h).2⟩
theorem mg_pc_sp {x y : Nat} {sp : Nat → List Nat} : ∀ xs : List Nat, mg_pc x y xs ≠ 0 → (sp x).length + (sp y).length ≤ (xs.flatMap sp).length := by
  refine mg_ind (fun h => absurd mg_pc_0 h) (fun _ h => absurd mg_pc_1 h) fun a b xs _ ih h => ?_
  by_cases e : a = x ∧ b = y
  · rw [List.flatMap_cons, List.flatMap_cons, List.length_append, List.length_append, e.1, e.2]; omega
  · rw [mg_pc_n e] at h
    have := ih h
    rw [List.flatMap_cons, List.length_append]; omega
theorem mg_pc_len {x y : Nat} : ∀ xs : List Nat, mg_pc x y xs ≤ xs.length := by
  refine mg_ind (by rw [mg_pc_0]; exact Nat.zero_le _) (fun _ => by rw [mg_pc_1]; exact Nat.zero_le _) fun a b xs _ ih => ?_
  rw [mg_pc_c]
  simp only [List.length_cons] at ih ⊢
  split <;> omega
end
section
/-! chains of places that are linked: (place, token) from left to right -/
def ch_hd : List (Nat × Nat) → Int32
  | [] => -1
  | q :: _ => nI q.1
def ch_C (tk nx bf : Nat → Int32) (hi : Nat) : Int32 → Nat → List (Nat × Nat) → Prop
  | _, _, [] => True
  | b, lo, q :: xs => lo ≤ q.1 ∧ q.1 < hi ∧ tk q.1 = nI q.2 ∧ bf q.1 = b ∧ nx q.1 = ch_hd xs ∧ ch_C tk nx bf hi (nI q.1) (q.1 + 1) xs
theorem ch_fr {tk nx bf tk' nx' bf' : Nat → Int32} {hi : Nat} : ∀ (xs : List (Nat × Nat)) (b : Int32) (lo : Nat), (∀ j, lo ≤ j → j < hi → tk' j = tk j ∧ nx' j = nx j ∧ bf' j = bf j) → ch_C tk nx bf hi b lo xs → ch_C tk' nx' bf' hi b lo xs
  | [], _, _, _, _ => trivial
  | q :: xs, b, lo, e, h => by
    obtain ⟨h1, h2, h3, h4, h5, h6⟩ := h
    obtain ⟨e1, e2, e3⟩ := e q.1 h1 h2
    exact ⟨h1, h2, e1.trans h3, e3.trans h4, e2.trans h5, ch_fr xs _ _ (fun j a b => e j (by omega) b) h6⟩
theorem ch_lo {tk nx bf : Nat → Int32} {hi : Nat} {b : Int32} {lo lo' : Nat} (hl : lo' ≤ lo) : ∀ {xs : List (Nat × Nat)}, ch_C tk nx bf hi b lo xs → ch_C tk nx bf hi b lo' xs
  | [], _ => trivial
  | _ :: _, ⟨h1, h⟩ => ⟨by omega, h⟩
/-- the head's link back is set anew -/
theorem ch_bf {tk nx bf : Nat → Int32} {hi : Nat} {b b' : Int32} {lo s : Nat} {y : Nat} {zs : List (Nat × Nat)} (h : ch_C tk nx bf hi b lo ((s, y) :: zs)) : ch_C tk nx (upd bf s b') hi b' lo ((s, y) :: zs) := by
  obtain ⟨h1, h2, h3, h4, h5, h6⟩ := h
  exact ⟨h1, h2, h3, pk_us, h5, ch_fr zs _ _ (fun j a _ => ⟨rfl, rfl, pk_un (by have : s + 1 ≤ j := a; omega)⟩) h6⟩
/-- a chain behind another piece: what is before stays if nothing before the place changes and the head's place stays -/
theorem ch_app {tk nx bf : Nat → Int32} {hi : Nat} : ∀ (pre : List (Nat × Nat)) (b : Int32) (lo : Nat) (xs : List (Nat × Nat)), ch_C tk nx bf hi b lo (pre ++ xs) →
    ∃ (b' : Int32) (lo' : Nat), lo ≤ lo' ∧ (pre = [] → b' = b) ∧ (∀ q, pre.getLast? = some q → b' = nI q.1 ∧ tk q.1 = nI q.2 ∧ q.1 < lo' ∧ q.1 < hi) ∧ (∀ q ∈ pre, q.1 < lo') ∧ ch_C tk nx bf hi b' lo' xs ∧
      ∀ (tk' nx' bf' : Nat → Int32) (xs' : List (Nat × Nat)), ch_hd xs' = ch_hd xs → (∀ j, j < lo' → tk' j = tk j ∧ nx' j = nx j ∧ bf' j = bf j) → ch_C tk' nx' bf' hi b' lo' xs' → ch_C tk' nx' bf' hi b lo (pre ++ xs')
  | [], b, lo, xs, h => ⟨b, lo, Nat.le_refl _, fun _ => rfl, fun q hq => by simp at hq, fun q hq => absurd hq List.not_mem_nil, h, fun _ _ _ _ _ _ h' => h'⟩
  | p :: pre, b, lo, xs, h => by
    obtain ⟨h1, h2, h3, h4, h5, h6⟩ := h
    obtain ⟨b', lo', i1, i2, i3, i4, i5, i6⟩ := ch_app pre _ _ xs h6
    refine ⟨b', lo', by omega, (fun z => nomatch z), ?_, ?_, i5, ?_⟩
    · intro q hq
      cases pre with
      | nil =>
        have e : p = q := by simpa using hq
        subst e
        exact ⟨i2 rfl, h3, by omega, h2⟩
      | cons p' pre' =>
        rw [List.getLast?_cons_cons] at hq
        exact i3 q hq
    · intro q hq
      rcases List.mem_cons.mp hq with rfl | hq
      · omega
      · exact i4 q hq
    · intro tk' nx' bf' xs' e1 e2 hC
      obtain ⟨a1, a2, a3⟩ := e2 p.1 (by omega)
      refine ⟨h1, h2, a1.trans h3, a3.trans h4, ?_, i6 tk' nx' bf' xs' e1 e2 hC⟩
      rw [a2, h5]
      cases pre with
      | nil => exact e1.symm
      | cons p' pre' => rfl
theorem ch_hi {tk nx bf : Nat → Int32} {hi : Nat} : ∀ (xs : List (Nat × Nat)) {b : Int32} {lo : Nat}, ch_C tk nx bf hi b lo xs → ∀ q ∈ xs, lo ≤ q.1 ∧ q.1 < hi ∧ tk q.1 = nI q.2
  | [], _, _, _, q, hq => absurd hq List.not_mem_nil
  | p :: xs, b, lo, h, q, hq => by
    obtain ⟨h1, h2, h3, h4, h5, h6⟩ := h
    rcases List.mem_cons.mp hq with rfl | hq
    · exact ⟨h1, h2, h3⟩
    · have := ch_hi xs h6 q hq
      exact ⟨by omega, this.2⟩
theorem ch_len {tk nx bf : Nat → Int32} {hi : Nat} : ∀ (xs : List (Nat × Nat)) {b : Int32} {lo : Nat}, lo ≤ hi → ch_C tk nx bf hi b lo xs → lo + xs.length ≤ hi
  | [], _, lo, hl, _ => hl
  | p :: xs, b, lo, hl, h => by
    obtain ⟨h1, h2, h3, h4, h5, h6⟩ := h
    have := ch_len xs (by omega) h6
    simp only [List.length_cons]; omega
/-- the places of a chain differ: a place is there once -/
theorem ch_cut {tk nx bf : Nat → Int32} {hi : Nat} {p t s : Nat} : ∀ (xs : List (Nat × Nat)) {b : Int32} {lo : Nat}, ch_C tk nx bf hi b lo xs → (p, t) ∈ xs → (p, s) ∈ xs → t = s
  | [], _, _, _, h, _ => absurd h List.not_mem_nil
  | q :: xs, b, lo, h, h1, h2 => by
    obtain ⟨_, _, _, _, _, h6⟩ := h
    rcases List.mem_cons.mp h1 with e1 | h1
    · rcases List.mem_cons.mp h2 with e2 | h2
      · exact congrArg Prod.snd (e1.trans e2.symm)
      · have z := (ch_hi xs h6 _ h2).1
        have : q.1 = p := (congrArg Prod.fst e1).symm
        have z' : q.1 + 1 ≤ p := z
        omega
    · rcases List.mem_cons.mp h2 with e2 | h2
      · have z := (ch_hi xs h6 _ h1).1
        have : q.1 = p := (congrArg Prod.fst e2).symm
        have z' : q.1 + 1 ≤ p := z
        omega
      · exact ch_cut xs h6 h1 h2
def ch_tk (xs : List (Nat × Nat)) : List Nat := xs.map Prod.snd
/-- joining two neighbours of a chain -/
theorem ch_join {tk nx bf : Nat → Int32} {hi : Nat} {b : Int32} {lo p q a c t : Nat} {zs : List (Nat × Nat)} {bf' : Nat → Int32}
    (h : ch_C tk nx bf hi b lo ((p, a) :: (q, c) :: zs)) (h0 : zs = [] → bf' = bf) (h1 : ∀ s y ys, zs = (s, y) :: ys → bf' = upd bf s (nI p)) :
    ch_C (upd tk p (nI t)) (upd nx p (ch_hd zs)) bf' hi b lo ((p, t) :: zs) ∧ (∀ j, j < lo → upd tk p (nI t) j = tk j ∧ upd nx p (ch_hd zs) j = nx j ∧ bf' j = bf j) ∧ p < q ∧ q < hi ∧ lo ≤ p ∧ (∀ z ∈ zs, q < z.1) ∧
      ch_C (upd (upd tk p (nI t)) q (-1)) (upd nx p (ch_hd zs)) bf' hi b lo ((p, t) :: zs) := by
  obtain ⟨a1, a2, a3, a4, a5, b1, b2, b3, b4, b5, b6⟩ := h
  have a1 : lo ≤ p := a1
  have a2 : p < hi := a2
  have a4 : bf p = b := a4
  have b1 : p + 1 ≤ q := b1
  have b2 : q < hi := b2
  have b6 : ch_C tk nx bf hi (nI q) (q + 1) zs := b6
  have hz : ∀ z ∈ zs, q < z.1 := fun z hz => (ch_hi zs b6 z hz).1
  cases zs with
  | nil =>
    have e := h0 rfl
    subst e
    exact ⟨⟨a1, a2, pk_us, a4, pk_us, trivial⟩, fun j hj => ⟨pk_un (by omega), pk_un (by omega), rfl⟩, by omega, b2, a1, hz, a1, a2, (pk_un (by omega)).trans pk_us, a4, pk_us, trivial⟩
  | cons z zs =>
    obtain ⟨s, y⟩ := z
    have e := h1 s y zs rfl
    subst e
    have hs : q < s := hz (s, y) List.mem_cons_self
    have w := ch_lo (lo' := p + 1) (by omega) (ch_bf (b' := nI p) b6)
    have key : ∀ tk' : Nat → Int32, (∀ j, p + 1 ≤ j → j ≠ q → tk' j = tk j) → ch_C tk' (upd nx p (ch_hd ((s, y) :: zs))) (upd bf s (nI p)) hi (nI p) (p + 1) ((s, y) :: zs) := by
      intro tk' he
      have w' := ch_bf (b' := nI p) b6
      refine ch_lo (lo := q + 1) (by omega) (ch_fr _ _ _ (fun j j1 j2 => ⟨he j (by omega) (by omega), pk_un (by omega), rfl⟩) w')
    refine ⟨⟨a1, a2, pk_us, (pk_un (by show p ≠ s; omega)).trans a4, pk_us, key _ (fun j j1 _ => pk_un (by omega))⟩, fun j hj => ⟨pk_un (by omega), pk_un (by omega), pk_un (by omega)⟩, by omega, b2, a1, hz, a1, a2, (pk_un (by show p ≠ q; omega)).trans pk_us, (pk_un (by show p ≠ s; omega)).trans a4, pk_us, key _ (fun j j1 j2 => (pk_un j2).trans (pk_un (by omega)))⟩
end
section
/-! heaps of numbers, pure -/
def hp_H (K : Nat → Nat) (n : Nat) : Prop := ∀ i, 0 < i → i < n → K ((i - 1) / 2) ≤ K i
def hp_sw (K : Nat → Nat) (a b : Nat) : Nat → Nat := fun j => if j = b then K a else if j = a then K b else K j
def hp_in (K : Nat → Nat) (n v : Nat) : Prop := ∃ i, i < n ∧ K i = v
def hp_U (K : Nat → Nat) (n k : Nat) : Prop := (∀ i, 0 < i → i < n → i ≠ k → K ((i - 1) / 2) ≤ K i) ∧ (∀ i, 0 < i → i < n → (i - 1) / 2 = k → 0 < k → K ((k - 1) / 2) ≤ K i)
def hp_D (K : Nat → Nat) (n k : Nat) : Prop := (∀ i, 0 < i → i < n → (i - 1) / 2 ≠ k → K ((i - 1) / 2) ≤ K i) ∧ (∀ i, 0 < i → i < n → (i - 1) / 2 = k → 0 < k → K ((k - 1) / 2) ≤ K i)
theorem hp_sw1 {K : Nat → Nat} {a b : Nat} : hp_sw K a b b = K a := if_pos rfl
theorem hp_sw2 {K : Nat → Nat} {a b : Nat} : hp_sw K a b a = K b := by
  unfold hp_sw
  by_cases h : a = b
  · rw [if_pos h, h]
  · rw [if_neg h, if_pos rfl]
theorem hp_sw3 {K : Nat → Nat} {a b j : Nat} (h1 : j ≠ a) (h2 : j ≠ b) : hp_sw K a b j = K j := by
  unfold hp_sw; rw [if_neg h2, if_neg h1]
theorem hp_min {K : Nat → Nat} {n : Nat} (h : hp_H K n) : ∀ m i, i ≤ m → i < n → K 0 ≤ K i := by
  intro m
  induction m with
  | zero => intro i hi _; rw [show i = 0 from by omega]; exact Nat.le_refl _
  | succ m ih =>
    intro i hi hn
    by_cases z : i = 0
    · rw [z]; exact Nat.le_refl _
    · exact Nat.le_trans (ih ((i - 1) / 2) (by omega) (by omega)) (h i (by omega) hn)
theorem hp_sw_in {K : Nat → Nat} {n a b v : Nat} (ha : a < n) (hb : b < n) : hp_in (hp_sw K a b) n v ↔ hp_in K n v := by
  constructor
  · rintro ⟨i, hi, e⟩
    by_cases h1 : i = a
    · subst h1; rw [hp_sw2] at e; exact ⟨b, hb, e⟩
    · by_cases h2 : i = b
      · subst h2; rw [hp_sw1] at e; exact ⟨a, ha, e⟩
      · rw [hp_sw3 h1 h2] at e; exact ⟨i, hi, e⟩
  · rintro ⟨i, hi, e⟩
    by_cases h1 : i = a
    · subst h1; exact ⟨b, hb, by rw [hp_sw1]; exact e⟩
    · by_cases h2 : i = b
      · subst h2; exact ⟨a, ha, by rw [hp_sw2]; exact e⟩
      · exact ⟨i, hi, by rw [hp_sw3 h1 h2]; exact e⟩
theorem hp_U0 {K K' : Nat → Nat} {n : Nat} (h : hp_H K n) (e : ∀ j, j < n → K' j = K j) : hp_U K' (n + 1) n := by
  refine ⟨fun i h0 hi hk => ?_, fun i h0 hi hk _ => ?_⟩
  · rw [e _ (by omega), e _ (by omega)]; exact h i h0 (by omega)
  · omega
theorem hp_Us {K : Nat → Nat} {n k : Nat} (h : hp_U K n k) (h0 : 0 < k) (hk : k < n) (hl : K k < K ((k - 1) / 2)) : hp_U (hp_sw K k ((k - 1) / 2)) n ((k - 1) / 2) := by
  obtain ⟨h1, h2⟩ := h
  have hp : (k - 1) / 2 < k := by omega
  generalize hpe : (k - 1) / 2 = p at *
  refine ⟨fun i a b c => ?_, fun i a b c d => ?_⟩
  · by_cases e : i = k
    · subst e
      rw [hpe, hp_sw1, hp_sw2]; omega
    · rw [hp_sw3 (j := i) e c]
      by_cases e1 : (i - 1) / 2 = p
      · rw [e1, hp_sw1]
        have := h1 i a b e
        rw [e1] at this; omega
      · by_cases e2 : (i - 1) / 2 = k
        · rw [e2, hp_sw2]; exact h2 i a b e2 h0
        · rw [hp_sw3 e2 e1]; exact h1 i a b e
  · have hg : (p - 1) / 2 < p := by omega
    rw [hp_sw3 (j := (p - 1) / 2) (by omega) (by omega)]
    have hgp := h1 p d (by omega) (by omega)
    by_cases e : i = k
    · subst e; rw [hp_sw2]; exact hgp
    · rw [hp_sw3 e (by omega)]
      have := h1 i a b e
      rw [c] at this; omega
theorem hp_Ue {K : Nat → Nat} {n k : Nat} (h : hp_U K n k) (hl : k = 0 ∨ K ((k - 1) / 2) ≤ K k) : hp_H K n := by
  intro i a b
  by_cases e : i = k
  · subst e
    rcases hl with z | z
    · omega
    · exact z
  · exact h.1 i a b e
theorem hp_D0 {K : Nat → Nat} {m : Nat} (h : hp_H K (m + 1)) : hp_D (hp_sw K 0 m) m 0 := by
  refine ⟨fun i a b c => ?_, fun i a b c d => ?_⟩
  · rw [hp_sw3 (by omega) (by omega), hp_sw3 (by omega) (by omega)]; exact h i a (by omega)
  · omega
theorem hp_De {K : Nat → Nat} {n k : Nat} (h : hp_D K n k) (hl : ∀ i, 0 < i → i < n → (i - 1) / 2 = k → K k ≤ K i) : hp_H K n := by
  intro i a b
  by_cases e : (i - 1) / 2 = k
  · rw [e]; exact hl i a b e
  · exact h.1 i a b e
theorem hp_Ds {K : Nat → Nat} {n k f : Nat} (h : hp_D K n k) (hf0 : 0 < f) (hfn : f < n) (hf : (f - 1) / 2 = k) (hl : ∀ i, 0 < i → i < n → (i - 1) / 2 = k → K f ≤ K i) (hk : K f ≤ K k) : hp_D (hp_sw K k f) n f := by
  obtain ⟨h1, h2⟩ := h
  have hkf : k < f := by omega
  refine ⟨fun i a b c => ?_, fun i a b c d => ?_⟩
  · by_cases e : i = f
    · subst e; rw [hf, hp_sw1, hp_sw2]; exact hk
    · by_cases e1 : i = k
      · subst e1
        rw [hp_sw2, hp_sw3 (by omega) (by omega)]
        exact h2 f hf0 hfn hf a
      · rw [hp_sw3 (j := i) e1 e]
        by_cases e2 : (i - 1) / 2 = k
        · rw [e2, hp_sw2]; exact hl i a b e2
        · rw [hp_sw3 e2 c]; exact h1 i a b e2
  · have hif : f < i := by omega
    rw [hf, hp_sw2, hp_sw3 (by omega) (by omega)]
    have := h1 i a b (by omega)
    rw [c] at this; exact this
end
section
/-! rows in a strict order, pure: insertion, the first ones -/
section SO
variable {α : Type} {lt : α → α → Bool}
def so_O (lt : α → α → Bool) : Prop := (∀ a, lt a a = false) ∧ (∀ a b c, lt a b = true → lt b c = true → lt a c = true) ∧ (∀ a b, a ≠ b → lt a b = true ∨ lt b a = true)
def so_ins (lt : α → α → Bool) (x : α) : List α → List α
  | [] => [x]
  | a :: l => if lt x a = true then x :: a :: l else a :: so_ins lt x l
theorem so_asym (h : so_O lt) {a b : α} (hl : lt a b = true) : ¬ lt b a = true := fun h2 => by
  have := h.2.1 a b a hl h2
  rw [h.1 a] at this; exact nomatch this
theorem so_ins_y {x a : α} {l : List α} (h : lt x a = true) : so_ins lt x (a :: l) = x :: a :: l := if_pos h
theorem so_ins_n {x a : α} {l : List α} (h : ¬ lt x a = true) : so_ins lt x (a :: l) = a :: so_ins lt x l := if_neg h
theorem so_ins_mem {x y : α} : ∀ {l : List α}, y ∈ so_ins lt x l ↔ y = x ∨ y ∈ l
  | [] => by simp [so_ins]
  | a :: l => by
    by_cases h : lt x a = true
    · rw [so_ins_y h, List.mem_cons]
    · rw [so_ins_n h, List.mem_cons, so_ins_mem, List.mem_cons]
      constructor
      · rintro (h | h | h)
        · exact Or.inr (Or.inl h)
        · exact Or.inl h
        · exact Or.inr (Or.inr h)
      · rintro (h | h | h)
        · exact Or.inr (Or.inl h)
        · exact Or.inl h
        · exact Or.inr (Or.inr h)
theorem so_ins_len {x : α} : ∀ {l : List α}, (so_ins lt x l).length = l.length + 1
  | [] => rfl
  | a :: l => by
    by_cases h : lt x a = true
    · rw [so_ins_y h]; rfl
    · rw [so_ins_n h, List.length_cons, so_ins_len]; rfl
def so_P (lt : α → α → Bool) (l : List α) : Prop := l.Pairwise (fun a b => lt a b = true)
theorem so_P_cons {a : α} {l : List α} : so_P lt (a :: l) ↔ (∀ b ∈ l, lt a b = true) ∧ so_P lt l := List.pairwise_cons
theorem so_P_nil : so_P lt ([] : List α) := List.Pairwise.nil
theorem so_ins_P (h : so_O lt) {x : α} : ∀ {l : List α}, so_P lt l → x ∉ l → so_P lt (so_ins lt x l)
  | [], _, _ => so_P_cons.mpr ⟨fun b hb => absurd hb List.not_mem_nil, so_P_nil⟩
  | a :: l, hp, hx => by
    obtain ⟨h1, h2⟩ := so_P_cons.mp hp
    by_cases e : lt x a = true
    · rw [so_ins_y e]
      refine so_P_cons.mpr ⟨fun b hb => ?_, hp⟩
      rcases List.mem_cons.mp hb with rfl | hb
      · exact e
      · exact h.2.1 _ _ _ e (h1 b hb)
    · rw [so_ins_n e]
      refine so_P_cons.mpr ⟨fun b hb => ?_, so_ins_P h h2 (fun z => hx (List.mem_cons_of_mem _ z))⟩
      rcases so_ins_mem.mp hb with rfl | hb
      · rcases h.2.2 a b (fun z => hx (z ▸ List.mem_cons_self)) with z | z
        · exact z
        · exact absurd z e
      · exact h1 b hb
theorem so_uniq (h : so_O lt) : ∀ {l m : List α}, so_P lt l → so_P lt m → (∀ x, x ∈ l ↔ x ∈ m) → l = m
  | [], [], _, _, _ => rfl
  | [], b :: m, _, _, e => absurd ((e b).mpr List.mem_cons_self) List.not_mem_nil
  | a :: l, [], _, _, e => absurd ((e a).mp List.mem_cons_self) List.not_mem_nil
  | a :: l, b :: m, hl, hm, e => by
    obtain ⟨l1, l2⟩ := so_P_cons.mp hl
    obtain ⟨m1, m2⟩ := so_P_cons.mp hm
    have hab : a = b := by
      rcases List.mem_cons.mp ((e a).mp List.mem_cons_self) with z | z
      · exact z
      · rcases List.mem_cons.mp ((e b).mpr List.mem_cons_self) with w | w
        · exact w.symm
        · exact absurd (m1 a z) (so_asym h (l1 b w))
    subst hab
    have : l = m := so_uniq h l2 m2 fun x => by
      constructor
      · intro hx
        rcases List.mem_cons.mp ((e x).mp (List.mem_cons_of_mem _ hx)) with z | z
        · have := l1 x hx
          rw [z, h.1] at this; exact nomatch this
        · exact z
      · intro hx
        rcases List.mem_cons.mp ((e x).mpr (List.mem_cons_of_mem _ hx)) with z | z
        · have := m1 x hx
          rw [z, h.1] at this; exact nomatch this
        · exact z
    rw [this]
theorem so_ins_app {x : α} {D : List α} : ∀ {B : List α}, (∀ a ∈ B, ¬ lt x a = true) → so_ins lt x (B ++ D) = B ++ so_ins lt x D
  | [], _ => rfl
  | a :: B, h => by
    rw [List.cons_append, so_ins_n (h a List.mem_cons_self), so_ins_app fun b hb => h b (List.mem_cons_of_mem _ hb)]; rfl
theorem so_ins_at {x : α} {B D : List α} (h1 : ∀ a ∈ B, ¬ lt x a = true) (h2 : ∀ a ∈ D, lt x a = true) : so_ins lt x (B ++ D) = B ++ x :: D := by
  rw [so_ins_app h1]
  cases D with
  | nil => rfl
  | cons d D => rw [so_ins_y (h2 d List.mem_cons_self)]
theorem so_take {x : α} : ∀ (n : Nat) (l : List α), (so_ins lt x l).take n = (so_ins lt x (l.take n)).take n
  | 0, _ => by rw [List.take_zero, List.take_zero]
  | n + 1, [] => by rw [List.take_nil]
  | n + 1, a :: l => by
    rw [List.take_succ_cons]
    by_cases h : lt x a = true
    · rw [so_ins_y h, so_ins_y h, List.take_succ_cons, List.take_succ_cons]
      cases n with
      | zero => rw [List.take_zero, List.take_zero]
      | succ n => rw [List.take_succ_cons, List.take_succ_cons, List.take_take, Nat.min_eq_left (by omega)]
    · rw [so_ins_n h, so_ins_n h, List.take_succ_cons, List.take_succ_cons, so_take n l]
def so_cn (lt : α → α → Bool) (z : α) (l : List α) : Nat := l.countP (fun a => lt a z)
theorem so_cn_c {z a : α} {l : List α} : so_cn lt z (a :: l) = so_cn lt z l + (if lt a z = true then 1 else 0) := List.countP_cons
theorem so_cn_ins {x z : α} : ∀ {l : List α}, so_cn lt z (so_ins lt x l) = so_cn lt z l + (if lt x z = true then 1 else 0)
  | [] => by
    show so_cn lt z (x :: []) = _
    rw [so_cn_c]
  | a :: l => by
    by_cases h : lt x a = true
    · rw [so_ins_y h, so_cn_c]
    · rw [so_ins_n h, so_cn_c, so_cn_ins, so_cn_c]; omega
theorem so_far (h : so_O lt) {z : α} : ∀ (n : Nat) {l : List α}, so_P lt l → n ≤ so_cn lt z l → (so_ins lt z l).take n = l.take n
  | 0, _, _, _ => by rw [List.take_zero, List.take_zero]
  | n + 1, [], _, hn => by
    have : so_cn lt z ([] : List α) = 0 := rfl
    omega
  | n + 1, a :: l, hp, hn => by
    obtain ⟨h1, h2⟩ := so_P_cons.mp hp
    by_cases e : lt z a = true
    · exfalso
      have z0 : so_cn lt z (a :: l) = 0 := by
        refine List.countP_eq_zero.mpr fun b hb => ?_
        rcases List.mem_cons.mp hb with rfl | hb
        · exact so_asym h e
        · exact so_asym h (h.2.1 _ _ _ e (h1 b hb))
      omega
    · rw [so_ins_n e, List.take_succ_cons, List.take_succ_cons]
      rw [so_cn_c] at hn
      rw [so_far h n h2 (by split at hn <;> omega)]
/-- all of a row put in, one behind the other -/
def so_fold (lt : α → α → Bool) (f : α → α) : List α → List α → List α
  | [], l => l
  | y :: ys, l => so_fold lt f ys (so_ins lt (f y) l)
theorem so_fold_mem {f : α → α} {x : α} : ∀ {ys l : List α}, x ∈ so_fold lt f ys l ↔ (∃ y ∈ ys, x = f y) ∨ x ∈ l
  | [], l => by simp [so_fold]
  | y :: ys, l => by
    show x ∈ so_fold lt f ys (so_ins lt (f y) l) ↔ _
    rw [so_fold_mem, so_ins_mem]
    constructor
    · rintro (⟨w, h1, h2⟩ | h | h)
      · exact Or.inl ⟨w, List.mem_cons_of_mem _ h1, h2⟩
      · exact Or.inl ⟨y, List.mem_cons_self, h⟩
      · exact Or.inr h
    · rintro (⟨w, h1, h2⟩ | h)
      · rcases List.mem_cons.mp h1 with rfl | h1
        · exact Or.inr (Or.inl h2)
        · exact Or.inl ⟨w, h1, h2⟩
      · exact Or.inr (Or.inr h)
theorem so_fold_len {f : α → α} : ∀ {ys l : List α}, (so_fold lt f ys l).length = l.length + ys.length
  | [], l => rfl
  | y :: ys, l => by
    show (so_fold lt f ys (so_ins lt (f y) l)).length = _
    rw [so_fold_len, so_ins_len, List.length_cons]; omega
theorem so_fold_app {f : α → α} {zs : List α} : ∀ {ys l : List α}, so_fold lt f (ys ++ zs) l = so_fold lt f zs (so_fold lt f ys l)
  | [], l => rfl
  | y :: ys, l => by
    show so_fold lt f (ys ++ zs) (so_ins lt (f y) l) = _
    rw [so_fold_app]; rfl
theorem so_fold_P (h : so_O lt) {f : α → α} (hf : ∀ a b, lt a b = true → lt (f a) (f b) = true) : ∀ {ys l : List α}, so_P lt ys → so_P lt l → (∀ y ∈ ys, f y ∉ l) → so_P lt (so_fold lt f ys l)
  | [], l, _, hl, _ => hl
  | y :: ys, l, hy, hl, hn => by
    obtain ⟨y1, y2⟩ := so_P_cons.mp hy
    refine so_fold_P h hf (ys := ys) y2 (so_ins_P h hl (hn y List.mem_cons_self)) fun w hw hm => ?_
    rcases so_ins_mem.mp hm with e | e
    · have := hf _ _ (y1 w hw)
      rw [e, h.1] at this; exact nomatch this
    · exact hn w (List.mem_cons_of_mem _ hw) e
theorem so_fold_cn {f : α → α} {z : α} : ∀ {ys l : List α}, (∀ y ∈ ys, lt (f y) z = true) → ys.length ≤ so_cn lt z (so_fold lt f ys l)
  | [], l, _ => Nat.zero_le _
  | y :: ys, l, h => by
    have key : ∀ (ys : List α) (l : List α), (∀ y ∈ ys, lt (f y) z = true) → so_cn lt z (so_fold lt f ys l) = so_cn lt z l + ys.length := by
      intro ys
      induction ys with
      | nil => intro l _; rfl
      | cons y ys ih =>
        intro l h
        show so_cn lt z (so_fold lt f ys (so_ins lt (f y) l)) = _
        rw [ih _ (fun w hw => h w (List.mem_cons_of_mem _ hw)), so_cn_ins, if_pos (h y List.mem_cons_self), List.length_cons]; omega
    rw [key _ _ h]; omega
theorem so_fold_far (h : so_O lt) {f : α → α} (hf : ∀ a b, lt a b = true → lt (f a) (f b) = true) {n : Nat} : ∀ {ys l : List α}, so_P lt ys → so_P lt l → (∀ y ∈ ys, f y ∉ l) → (∀ y ∈ ys, n ≤ so_cn lt (f y) l) → (so_fold lt f ys l).take n = l.take n
  | [], l, _, _, _, _ => rfl
  | y :: ys, l, hy, hl, hn, hc => by
    obtain ⟨y1, y2⟩ := so_P_cons.mp hy
    have e := so_far h n hl (hc y List.mem_cons_self)
    rw [← e]
    refine so_fold_far h hf (ys := ys) y2 (so_ins_P h hl (hn y List.mem_cons_self)) (fun w hw hm => ?_) (fun w hw => ?_)
    · rcases so_ins_mem.mp hm with e | e
      · have := hf _ _ (y1 w hw)
        rw [e, h.1] at this; exact nomatch this
      · exact hn w (List.mem_cons_of_mem _ hw) e
    · rw [so_cn_ins]; exact Nat.le_trans (hc w (List.mem_cons_of_mem _ hw)) (Nat.le_add_right _ _)
/-- of a row in order the first six suffice -/
theorem so_fold_6 (h : so_O lt) {f : α → α} (hf : ∀ a b, lt a b = true → lt (f a) (f b) = true) {n : Nat} {ys l : List α} (hy : so_P lt ys) (hl : so_P lt l) (hn : ∀ y ∈ ys, f y ∉ l) :
    (so_fold lt f ys l).take n = (so_fold lt f (ys.take n) l).take n := by
  have e : so_fold lt f ys l = so_fold lt f (ys.drop n) (so_fold lt f (ys.take n) l) := by
    rw [← so_fold_app, List.take_append_drop]
  have hy' : so_P lt (ys.take n ++ ys.drop n) := by rw [List.take_append_drop]; exact hy
  obtain ⟨p1, p2, p3⟩ := List.pairwise_append.mp hy'
  rw [e]
  refine so_fold_far h hf p2 (so_fold_P h hf p1 hl fun y hy => hn y (List.mem_of_mem_take hy)) (fun y hy hm => ?_) (fun y hy => ?_)
  · rcases so_fold_mem.mp hm with ⟨w, w1, w2⟩ | hm
    · have := hf _ _ (p3 w w1 y hy)
      rw [w2, h.1] at this; exact nomatch this
    · exact hn y (List.mem_of_mem_drop hy) hm
  · refine Nat.le_trans ?_ (so_fold_cn (ys := ys.take n) fun w hw => hf _ _ (p3 w hw y hy))
    rw [List.length_take]
    have : 0 < (ys.drop n).length := List.length_pos_of_mem hy
    rw [List.length_drop] at this
    omega
end SO
end
section
/-! splits of a row and their order, pure -/
def sq_lx : List Nat → List Nat → Bool
  | _, [] => false
  | [], _ :: _ => true
  | a :: as, b :: bs => decide (a < b) || (decide (a = b) && sq_lx as bs)
theorem sq_lx_c {a b : Nat} {as bs : List Nat} : sq_lx (a :: as) (b :: bs) = true ↔ a < b ∨ (a = b ∧ sq_lx as bs = true) := by
  simp [sq_lx]
theorem sq_lx_r : ∀ a : List Nat, sq_lx a a = false
  | [] => rfl
  | a :: as => by
    have ih := sq_lx_r as
    cases h : sq_lx (a :: as) (a :: as) with
    | false => rfl
    | true =>
      rcases sq_lx_c.mp h with z | z
      · omega
      · rw [ih] at z; exact nomatch z.2
theorem sq_lx_0 {a : List Nat} : ¬ sq_lx a [] = true := by cases a <;> exact fun h => nomatch h
theorem sq_lx_t : ∀ a b c : List Nat, sq_lx a b = true → sq_lx b c = true → sq_lx a c = true
  | _, [], _, h, _ => absurd h sq_lx_0
  | _, _ :: _, [], _, h => absurd h sq_lx_0
  | [], _ :: _, _ :: _, _, _ => rfl
  | a :: as, b :: bs, c :: cs, h1, h2 => by
    rcases sq_lx_c.mp h1 with x | ⟨x, x'⟩ <;> rcases sq_lx_c.mp h2 with y | ⟨y, y'⟩
    · exact sq_lx_c.mpr (Or.inl (by omega))
    · exact sq_lx_c.mpr (Or.inl (by omega))
    · exact sq_lx_c.mpr (Or.inl (by omega))
    · exact sq_lx_c.mpr (Or.inr ⟨by omega, sq_lx_t as bs cs x' y'⟩)
theorem sq_lx_o : ∀ a b : List Nat, a ≠ b → sq_lx a b = true ∨ sq_lx b a = true
  | [], [], h => absurd rfl h
  | [], _ :: _, _ => Or.inl rfl
  | _ :: _, [], _ => Or.inr rfl
  | a :: as, b :: bs, h => by
    rcases Nat.lt_trichotomy a b with z | z | z
    · exact Or.inl (sq_lx_c.mpr (Or.inl z))
    · subst z
      rcases sq_lx_o as bs (fun e => h (by rw [e])) with w | w
      · exact Or.inl (sq_lx_c.mpr (Or.inr ⟨rfl, w⟩))
      · exact Or.inr (sq_lx_c.mpr (Or.inr ⟨rfl, w⟩))
    · exact Or.inr (sq_lx_c.mpr (Or.inl z))
theorem sq_lx_sn {t : Nat} : ∀ a b : List Nat, a.length = b.length → sq_lx a b = true → sq_lx (a ++ [t]) (b ++ [t]) = true
  | _, [], _, h => absurd h sq_lx_0
  | [], _ :: _, h, _ => nomatch h
  | a :: as, b :: bs, e, h => by
    rw [List.cons_append, List.cons_append]
    rcases sq_lx_c.mp h with x | ⟨x, x'⟩
    · exact sq_lx_c.mpr (Or.inl x)
    · exact sq_lx_c.mpr (Or.inr ⟨x, sq_lx_sn as bs (by simpa using e) x'⟩)
def sq_pz (pr : Nat → Nat) : List Nat → Nat
  | [] => 0
  | t :: s => pr t + sq_pz pr s
theorem sq_pz_app {pr : Nat → Nat} {b : List Nat} : ∀ a : List Nat, sq_pz pr (a ++ b) = sq_pz pr a + sq_pz pr b
  | [] => by rw [List.nil_append]; show _ = 0 + _; omega
  | t :: a => by
    have := sq_pz_app (pr := pr) (b := b) a
    show pr t + sq_pz pr (a ++ b) = pr t + sq_pz pr a + _
    omega
theorem sq_pz_sn {pr : Nat → Nat} {a : List Nat} {t : Nat} : sq_pz pr (a ++ [t]) = sq_pz pr a + pr t := sq_pz_app a
theorem sq_pz_le {pr : Nat → Nat} {m : Nat} : ∀ a : List Nat, (∀ t ∈ a, pr t ≤ m) → sq_pz pr a ≤ m * a.length
  | [], _ => Nat.zero_le _
  | t :: a, h => by
    have := sq_pz_le a fun x hx => h x (List.mem_cons_of_mem _ hx)
    have := h t List.mem_cons_self
    show pr t + sq_pz pr a ≤ m * (a.length + 1)
    rw [Nat.mul_add]; omega
/-- the order: price, number of tokens, tokens from the left -/
def sq_lt (pr : Nat → Nat) (a b : List Nat) : Bool :=
  decide (sq_pz pr a < sq_pz pr b) || (decide (sq_pz pr a = sq_pz pr b) && (decide (a.length < b.length) || (decide (a.length = b.length) && sq_lx a b)))
theorem sq_lt_i {pr : Nat → Nat} {a b : List Nat} : sq_lt pr a b = true ↔ sq_pz pr a < sq_pz pr b ∨ (sq_pz pr a = sq_pz pr b ∧ (a.length < b.length ∨ (a.length = b.length ∧ sq_lx a b = true))) := by
  simp [sq_lt]
theorem sq_O (pr : Nat → Nat) : so_O (sq_lt pr) := by
  refine ⟨fun a => ?_, fun a b c h1 h2 => ?_, fun a b h => ?_⟩
  · cases h : sq_lt pr a a with
    | false => rfl
    | true =>
      rcases sq_lt_i.mp h with z | ⟨_, z | ⟨_, z⟩⟩
      · omega
      · omega
      · rw [sq_lx_r] at z; exact nomatch z
  · rw [sq_lt_i] at h1 h2 ⊢
    rcases h1 with x | ⟨x, x1 | ⟨x1, x2⟩⟩ <;> rcases h2 with y | ⟨y, y1 | ⟨y1, y2⟩⟩
    · exact Or.inl (by omega)
    · exact Or.inl (by omega)
    · exact Or.inl (by omega)
    · exact Or.inl (by omega)
    · exact Or.inr ⟨by omega, Or.inl (by omega)⟩
    · exact Or.inr ⟨by omega, Or.inl (by omega)⟩
    · exact Or.inl (by omega)
    · exact Or.inr ⟨by omega, Or.inl (by omega)⟩
    · exact Or.inr ⟨by omega, Or.inr ⟨by omega, sq_lx_t a b c x2 y2⟩⟩
  · rw [sq_lt_i, sq_lt_i]
    rcases Nat.lt_trichotomy (sq_pz pr a) (sq_pz pr b) with z | z | z
    · exact Or.inl (Or.inl z)
    · rcases Nat.lt_trichotomy a.length b.length with w | w | w
      · exact Or.inl (Or.inr ⟨z, Or.inl w⟩)
      · rcases sq_lx_o a b h with v | v
        · exact Or.inl (Or.inr ⟨z, Or.inr ⟨w, v⟩⟩)
        · exact Or.inr (Or.inr ⟨z.symm, Or.inr ⟨w.symm, v⟩⟩)
      · exact Or.inr (Or.inr ⟨z.symm, Or.inl w⟩)
    · exact Or.inr (Or.inl z)
theorem sq_lt_sn {pr : Nat → Nat} {t : Nat} (a b : List Nat) (h : sq_lt pr a b = true) : sq_lt pr (a ++ [t]) (b ++ [t]) = true := by
  rw [sq_lt_i] at h ⊢
  rw [sq_pz_sn, sq_pz_sn, List.length_append, List.length_append]
  rcases h with x | ⟨x, x1 | ⟨x1, x2⟩⟩
  · exact Or.inl (by omega)
  · exact Or.inr ⟨by omega, Or.inl (by simp; omega)⟩
  · exact Or.inr ⟨by omega, Or.inr ⟨by simp; omega, sq_lx_sn a b x1 x2⟩⟩
/-- a split of a row: tokens that may be used and that spell it -/
def sq_S (ok : Nat → Prop) (sp : Nat → List Nat) (row s : List Nat) : Prop := (∀ t ∈ s, ok t) ∧ s.flatMap sp = row
theorem sq_S_len {ok : Nat → Prop} {sp : Nat → List Nat} (h1 : ∀ t, ok t → 1 ≤ (sp t).length) : ∀ (s : List Nat) {row : List Nat}, sq_S ok sp row s → s.length ≤ row.length
  | [], _, _ => Nat.zero_le _
  | t :: s, row, ⟨h, e⟩ => by
    subst e
    have ih := sq_S_len h1 s ⟨fun x hx => h x (List.mem_cons_of_mem _ hx), rfl⟩
    have := h1 t (h t List.mem_cons_self)
    rw [List.flatMap_cons, List.length_append, List.length_cons]; omega
end
section
/-! the reference: rows, merging, what fits -/
section YB
variable {f_words f_tokens f_textSize f_resultSize f_rowSize f_barred f_made f_kept : Int32} {a_counts a_sizes a_spelled a_lefts a_rights a_prices a_lengths a_letters a_text a_result a_row a_parts a_sums a_numbers a_splits a_tried a_begins : Nat → Int32} {post : SY → Prop}
theorem yy_tw12 {w n : Nat} (hw : w < 12) (hn : n ≤ 8) : ∀ d i : Nat, i + d = n → post (f_words, f_tokens, f_textSize, f_resultSize, nI n, f_barred, f_made, f_kept, a_counts, a_sizes, a_spelled, a_lefts, a_rights, a_prices, a_lengths, a_letters, a_text, a_result, qc a_row a_spelled (8 * w) n, a_parts, a_sums, a_numbers, a_splits, a_tried, a_begins) → wY_takeWord_12 post (nI w) f_words f_tokens f_textSize f_resultSize (nI n) f_barred f_made f_kept (d + 1) (nI i) a_counts a_sizes a_spelled a_lefts a_rights a_prices a_lengths a_letters a_text a_result (qc a_row a_spelled (8 * w) i) a_parts a_sums a_numbers a_splits a_tried a_begins := by
  intro d
  induction d with
  | zero =>
    intro i hi hp
    have e : i = n := by omega
    subst e
    exact br_t (nI_le (Nat.le_refl _) (by omega)) hp
  | succ d ih =>
    intro i hi hp
    have e8 := qn_8 w i
    refine br_f (nI_ge (by omega) (by omega)) ⟨pk_in (8 * w + i) 96 (by omega) e8, vp_in_nI (by omega) (by omega), nm_r (e' := qc a_row a_spelled (8 * w) (i + 1)) ?_ (nm_r (nI_1 i) (ih (i + 1) (by omega) hp))⟩
    rw [e8, nI_clamp (by omega), nI_clamp (by omega)]; exact qc_s _ _ _ _
theorem yy_tw {w n : Nat} {p0 : Int32} (hp0 : p0 = nI w) (hw : w < 12) (hn : n ≤ 8) (hs : a_sizes w = nI n) (K : post (f_words, f_tokens, f_textSize, f_resultSize, nI n, f_barred, f_made, f_kept, a_counts, a_sizes, a_spelled, a_lefts, a_rights, a_prices, a_lengths, a_letters, a_text, a_result, qc a_row a_spelled (8 * w) n, a_parts, a_sums, a_numbers, a_splits, a_tried, a_begins)) : wpY_takeWord post (f_words, f_tokens, f_textSize, f_resultSize, f_rowSize, f_barred, f_made, f_kept, a_counts, a_sizes, a_spelled, a_lefts, a_rights, a_prices, a_lengths, a_letters, a_text, a_result, a_row, a_parts, a_sums, a_numbers, a_splits, a_tried, a_begins) p0 := by
  subst hp0
  refine And.intro (vp_in_nI hw (by omega)) (nm_r (e' := nI n) (by rw [nI_clamp (by omega)]; exact hs) ⟨n + 1, ?_⟩)
  have := yy_tw12 hw hn n 0 (by omega) K
  rw [qc_0] at this
  exact this
theorem yy_tt10 {n : Nat} (hn : n ≤ 12) : ∀ d i : Nat, i + d = n → post (f_words, f_tokens, f_textSize, f_resultSize, nI n, f_barred, f_made, f_kept, a_counts, a_sizes, a_spelled, a_lefts, a_rights, a_prices, a_lengths, a_letters, a_text, a_result, qc a_row a_text 0 n, a_parts, a_sums, a_numbers, a_splits, a_tried, a_begins) → wY_takeText_10 post f_words f_tokens f_textSize f_resultSize (nI n) f_barred f_made f_kept (d + 1) (nI i) a_counts a_sizes a_spelled a_lefts a_rights a_prices a_lengths a_letters a_text a_result (qc a_row a_text 0 i) a_parts a_sums a_numbers a_splits a_tried a_begins := by
  intro d
  induction d with
  | zero =>
    intro i hi hp
    have e : i = n := by omega
    subst e
    exact br_t (nI_le (Nat.le_refl _) (by omega)) hp
  | succ d ih =>
    intro i hi hp
    refine br_f (nI_ge (by omega) (by omega)) ⟨vp_in_nI (by omega) (by omega), vp_in_nI (by omega) (by omega), nm_r (e' := qc a_row a_text 0 (i + 1)) ?_ (nm_r (nI_1 i) (ih (i + 1) (by omega) hp))⟩
    rw [nI_clamp (by omega), ← qc_s, Nat.zero_add]
theorem yy_tt {n : Nat} (hn : n ≤ 12) (hs : f_textSize = nI n) (K : post (f_words, f_tokens, f_textSize, f_resultSize, nI n, f_barred, f_made, f_kept, a_counts, a_sizes, a_spelled, a_lefts, a_rights, a_prices, a_lengths, a_letters, a_text, a_result, qc a_row a_text 0 n, a_parts, a_sums, a_numbers, a_splits, a_tried, a_begins)) : wpY_takeText post (f_words, f_tokens, f_textSize, f_resultSize, f_rowSize, f_barred, f_made, f_kept, a_counts, a_sizes, a_spelled, a_lefts, a_rights, a_prices, a_lengths, a_letters, a_text, a_result, a_row, a_parts, a_sums, a_numbers, a_splits, a_tried, a_begins) := by
  subst hs
  have := yy_tt10 hn n 0 (by omega) K
  rw [qc_0] at this
  exact Exists.intro (n + 1) this
/-! merging in place -/
theorem yy_m106n {J39 J51 : Int32 → Int32 → (Nat → Int32) → (Nat → Int32) → (Nat → Int32) → (Nat → Int32) → (Nat → Int32) → (Nat → Int32) → (Nat → Int32) → (Nat → Int32) → (Nat → Int32) → (Nat → Int32) → (Nat → Int32) → (Nat → Int32) → (Nat → Int32) → (Nat → Int32) → (Nat → Int32) → (Nat → Int32) → (Nat → Int32) →  Prop} {t o i : Nat} (ho : o < 12) (hi : i < 12) (K : J51 (nI (o + 1)) (nI (i + 1)) a_counts a_sizes a_spelled a_lefts a_rights a_prices a_lengths a_letters a_text a_result a_row (upd a_parts o (a_parts i)) a_sums a_numbers a_splits a_tried a_begins) : wY_merge_106 post J39 J51 (nI t) (nI o) (nI i) 0 f_words f_tokens f_textSize f_resultSize f_rowSize f_barred f_made f_kept a_counts a_sizes a_spelled a_lefts a_rights a_prices a_lengths a_letters a_text a_result a_row a_parts a_sums a_numbers a_splits a_tried a_begins :=
  br_t rfl ⟨vp_in_nI hi (by omega), And.intro (vp_in_nI ho (by omega)) (nm_r (e' := upd a_parts o (a_parts i)) (by rw [nI_clamp (by omega), nI_clamp (by omega)]) (nm_r (nI_1 o) (br_t rfl (nm_r (nI_1 i) K))))⟩
theorem yy_m106y {J39 J51 : Int32 → Int32 → (Nat → Int32) → (Nat → Int32) → (Nat → Int32) → (Nat → Int32) → (Nat → Int32) → (Nat → Int32) → (Nat → Int32) → (Nat → Int32) → (Nat → Int32) → (Nat → Int32) → (Nat → Int32) → (Nat → Int32) → (Nat → Int32) → (Nat → Int32) → (Nat → Int32) → (Nat → Int32) → (Nat → Int32) →  Prop} {t o i : Nat} (ho : o < 12) (K : J51 (nI (o + 1)) (nI (i + 2)) a_counts a_sizes a_spelled a_lefts a_rights a_prices a_lengths a_letters a_text a_result a_row (upd a_parts o (nI t)) a_sums a_numbers a_splits a_tried a_begins) : wY_merge_106 post J39 J51 (nI t) (nI o) (nI i) 1 f_words f_tokens f_textSize f_resultSize f_rowSize f_barred f_made f_kept a_counts a_sizes a_spelled a_lefts a_rights a_prices a_lengths a_letters a_text a_result a_row a_parts a_sums a_numbers a_splits a_tried a_begins :=
  br_f (by decide) (And.intro (vp_in_nI ho (by omega)) (nm_r (e' := upd a_parts o (nI t)) (by rw [nI_clamp (by omega)]) (nm_r (nI_1 o) (br_f (by decide) (nm_r (nI_add i 2) K)))))
theorem yy_m51 {J39 : Int32 → Int32 → (Nat → Int32) → (Nat → Int32) → (Nat → Int32) → (Nat → Int32) → (Nat → Int32) → (Nat → Int32) → (Nat → Int32) → (Nat → Int32) → (Nat → Int32) → (Nat → Int32) → (Nat → Int32) → (Nat → Int32) → (Nat → Int32) → (Nat → Int32) → (Nat → Int32) → (Nat → Int32) → (Nat → Int32) →  Prop} {t l r m : Nat} (ht : t < 20) (hl : a_lefts t = nI l) (hr : a_rights t = nI r) (hl2 : l < 20) (hr2 : r < 20) (hm : m ≤ 12) : ∀ (n : Nat) (rest o : List Nat) (i : Nat) (a_parts : Nat → Int32), rest.length < n → o.length ≤ i → i + rest.length = m → ly a_parts 0 o → ly a_parts i rest → (∀ x ∈ rest, x < 20) → (∀ b_parts, ly b_parts 0 (o ++ mg_ps l r t rest) → J39 (nI (t + 1)) (nI (o ++ mg_ps l r t rest).length) a_counts a_sizes a_spelled a_lefts a_rights a_prices a_lengths a_letters a_text a_result a_row b_parts a_sums a_numbers a_splits a_tried a_begins) → wY_merge_51 post J39 (nI t) f_words f_tokens f_textSize f_resultSize f_rowSize f_barred (nI m) f_kept n (nI o.length) (nI i) a_counts a_sizes a_spelled a_lefts a_rights a_prices a_lengths a_letters a_text a_result a_row a_parts a_sums a_numbers a_splits a_tried a_begins := by
  intro n
  induction n with
  | zero => intro rest o i a_parts h; omega
  | succ n ih =>
    intro rest o i a_parts hn ho hi h1 h2 hB K
    cases rest with
    | nil =>
      have e : o ++ mg_ps l r t [] = o := by rw [mg_ps_0, List.append_nil]
      rw [e] at K
      exact br_t (nI_le (by simp at hi; omega) (by omega)) (nm_r (nI_1 t) (K _ h1))
    | cons a rs =>
      have hi' : i + (rs.length + 1) = m := hi
      have hn' : rs.length + 1 < n + 1 := hn
      obtain ⟨ha, h2'⟩ := ly_cons.mp h2
      have hB1 := hB a List.mem_cons_self
      have step : ∀ (e : mg_ps l r t (a :: rs) = a :: mg_ps l r t rs), wY_merge_106 post J39 (wY_merge_51 post J39 (nI t) f_words f_tokens f_textSize f_resultSize f_rowSize f_barred (nI m) f_kept n) (nI t) (nI o.length) (nI i) 0 f_words f_tokens f_textSize f_resultSize f_rowSize f_barred (nI m) f_kept a_counts a_sizes a_spelled a_lefts a_rights a_prices a_lengths a_letters a_text a_result a_row a_parts a_sums a_numbers a_splits a_tried a_begins := by
        intro e
        refine yy_m106n (by omega) (by omega) ?_
        have q := ih rs (o ++ [a]) (i + 1) (upd a_parts o.length (a_parts i)) (by omega) (by simp; omega) (by omega)
          (ly_sn (ly_up h1 (by omega)) (by rw [Nat.zero_add, pk_us]; exact ha)) (ly_up h2' (by omega)) (fun x hx => hB x (List.mem_cons_of_mem _ hx))
        rw [List.append_assoc] at q
        rw [e] at K
        have q2 := q K
        rw [List.length_append] at q2
        exact q2
      refine br_f (nI_ge (by omega) (by omega)) ?_
      rw [nI_1]
      cases rs with
      | nil => exact br_t (nI_le (by simp at hi'; omega) (by omega)) (step (by rw [mg_ps_1, mg_ps_0]))
      | cons b rs =>
        have hi'' : i + (rs.length + 1 + 1) = m := hi'
        obtain ⟨hb, h2''⟩ := ly_cons.mp h2'
        have hB2 := hB b (List.mem_cons_of_mem _ List.mem_cons_self)
        refine br_f (nI_ge (by omega) (by omega)) ⟨vp_in_nI (by omega) (by omega), vp_in_nI (by omega) (by omega), ?_⟩
        rw [nI_clamp (n := i) (by omega), nI_clamp (n := t) (by omega), nI_clamp (n := i + 1) (by omega), hl, ha, hr, hb]
        refine pk_eq a l (fun ea => ⟨vp_in_nI (by omega) (by omega), vp_in_nI (by omega) (by omega), ?_⟩) (fun ea => step (mg_ps_n fun z => ea z.1))
        refine pk_eq b r (fun eb => ?_) (fun eb => step (mg_ps_n fun z => eb z.2))
        refine yy_m106y (by omega) ?_
        have q := ih rs (o ++ [t]) (i + 2) (upd a_parts o.length (nI t)) (by simp at hn'; omega) (by simp; omega) (by omega)
          (ly_sn (ly_up h1 (by omega)) (by rw [Nat.zero_add, pk_us])) (ly_up h2'' (by omega)) (fun x hx => hB x (List.mem_cons_of_mem _ (List.mem_cons_of_mem _ hx)))
        rw [List.append_assoc] at q
        rw [mg_ps_y ⟨ea, eb⟩] at K
        have q2 := q K
        rw [List.length_append] at q2
        exact q2
end YB
end
section
/-! the reference: all passes; what fits; the next that fits -/
section YM
variable {f_words f_tokens f_textSize f_resultSize f_rowSize f_barred f_made f_kept : Int32} {a_counts a_sizes a_spelled a_lefts a_rights a_prices a_lengths a_letters a_text a_result a_row a_parts a_sums a_numbers a_splits a_tried a_begins : Nat → Int32} {post : SY → Prop}
/-- what the passes need of the tokens -/
def yt_L (T : Nat) (L R : Nat → Nat) (a_lefts a_rights : Nat → Int32) : Prop := ∀ t, 6 ≤ t → t < T → a_lefts t = nI (L t) ∧ a_rights t = nI (R t) ∧ L t < t ∧ R t < t
theorem yy_m39 {T : Nat} {L R : Nat → Nat} (hL : yt_L T L R a_lefts a_rights) (hT : T ≤ 20) : ∀ (k t : Nat) (xs : List Nat) (a_parts : Nat → Int32), t + k = T → 6 ≤ t → xs.length ≤ 12 → ly a_parts 0 xs → (∀ x ∈ xs, x < 20) → (∀ b_parts, ly b_parts 0 (mg_all L R k t xs) → post (f_words, nI T, f_textSize, f_resultSize, f_rowSize, f_barred, nI (mg_all L R k t xs).length, f_kept, a_counts, a_sizes, a_spelled, a_lefts, a_rights, a_prices, a_lengths, a_letters, a_text, a_result, a_row, b_parts, a_sums, a_numbers, a_splits, a_tried, a_begins)) → wY_merge_39 post f_words (nI T) f_textSize f_resultSize f_rowSize f_barred f_kept (k + 1) (nI t) (nI xs.length) a_counts a_sizes a_spelled a_lefts a_rights a_prices a_lengths a_letters a_text a_result a_row a_parts a_sums a_numbers a_splits a_tried a_begins := by
  intro k
  induction k with
  | zero =>
    intro t xs a_parts ht h6 hx h1 hB K
    exact br_t (nI_le (by omega) (by omega)) (K _ h1)
  | succ k ih =>
    intro t xs a_parts ht h6 hx h1 hB K
    obtain ⟨e1, e2, e3, e4⟩ := hL t h6 (by omega)
    have hlen := mg_ps_len (l := L t) (r := R t) (t := t) xs
    refine br_f (nI_ge (by omega) (by omega)) ⟨xs.length + 1, ?_⟩
    refine yy_m51 (by omega) e1 e2 (by omega) (by omega) hx (xs.length + 1) xs [] 0 a_parts (by omega) (Nat.le_refl _) (by omega) ly_nil h1 hB fun b_parts hb => ?_
    exact ih (t + 1) (mg_ps (L t) (R t) t xs) b_parts (by omega) (by omega) (by omega) hb (mg_ps_lt (by omega) xs hB) K
theorem yy_m10 {T m : Nat} {L R : Nat → Nat} {row : List Nat} (hL : yt_L T L R a_lefts a_rights) (h6 : 6 ≤ T) (hT : T ≤ 20) (hm : row.length = m) (hm2 : m ≤ 12) (hr : ly a_row 0 row) (hB : ∀ x ∈ row, x < 20) (K : ∀ b_parts, ly b_parts 0 (mg_all L R (T - 6) 6 row) → post (f_words, nI T, f_textSize, f_resultSize, f_rowSize, f_barred, nI (mg_all L R (T - 6) 6 row).length, f_kept, a_counts, a_sizes, a_spelled, a_lefts, a_rights, a_prices, a_lengths, a_letters, a_text, a_result, a_row, b_parts, a_sums, a_numbers, a_splits, a_tried, a_begins)) : ∀ d i : Nat, i + d = m → wY_merge_10 post f_words (nI T) f_textSize f_resultSize f_rowSize f_barred (nI m) f_kept (d + 1) (nI i) a_counts a_sizes a_spelled a_lefts a_rights a_prices a_lengths a_letters a_text a_result a_row (qc a_parts a_row 0 i) a_sums a_numbers a_splits a_tried a_begins := by
  intro d
  induction d with
  | zero =>
    intro i hi
    have e : i = m := by omega
    subst e
    refine br_t (nI_le (Nat.le_refl _) (by omega)) ⟨T - 6 + 1, ?_⟩
    have q := yy_m39 (post := post) hL hT (T - 6) 6 row (qc a_parts a_row 0 row.length) (by omega) (Nat.le_refl _) (by omega) (ly_qc hr rfl) hB K
    subst hm
    exact q
  | succ d ih =>
    intro i hi
    refine br_f (nI_ge (by omega) (by omega)) ⟨vp_in_nI (by omega) (by omega), vp_in_nI (by omega) (by omega), nm_r (e' := qc a_parts a_row 0 (i + 1)) ?_ (nm_r (nI_1 i) (ih (i + 1) (by omega)))⟩
    rw [nI_clamp (by omega), ← qc_s, Nat.zero_add]
theorem yy_merge {T : Nat} {L R : Nat → Nat} {row : List Nat} (hL : yt_L T L R a_lefts a_rights) (ht : f_tokens = nI T) (h6 : 6 ≤ T) (hT : T ≤ 20) (hs : f_rowSize = nI row.length) (hm2 : row.length ≤ 12) (hr : ly a_row 0 row) (hB : ∀ x ∈ row, x < 20) (K : ∀ b_parts, ly b_parts 0 (mg_all L R (T - 6) 6 row) → post (f_words, f_tokens, f_textSize, f_resultSize, f_rowSize, f_barred, nI (mg_all L R (T - 6) 6 row).length, f_kept, a_counts, a_sizes, a_spelled, a_lefts, a_rights, a_prices, a_lengths, a_letters, a_text, a_result, a_row, b_parts, a_sums, a_numbers, a_splits, a_tried, a_begins)) : wpY_merge post (f_words, f_tokens, f_textSize, f_resultSize, f_rowSize, f_barred, f_made, f_kept, a_counts, a_sizes, a_spelled, a_lefts, a_rights, a_prices, a_lengths, a_letters, a_text, a_result, a_row, a_parts, a_sums, a_numbers, a_splits, a_tried, a_begins) := by
  subst hs ht
  have q := yy_m10 (post := post) (a_parts := a_parts) hL h6 hT rfl hm2 hr hB K row.length 0 (by omega)
  rw [qc_0] at q
  exact Exists.intro (row.length + 1) q
/-! what fits -/
def yt_S (T : Nat) (sp : Nat → List Nat) (a_lengths a_letters : Nat → Int32) : Prop := ∀ t, t < T → a_lengths t = nI (sp t).length ∧ 1 ≤ (sp t).length ∧ (sp t).length ≤ 8 ∧ (∀ c ∈ sp t, c < 6) ∧ ly a_letters (12 * t) (sp t)
def qb (b : Bool) : Int32 := if b = true then 1 else 0
def sp_fit (sp : Nat → List Nat) (row : List Nat) (bn : Int32) (t p : Nat) : Bool := decide (¬ nI t = bn) && (sp t).isPrefixOf (row.drop p)
theorem yy_f27 {t p len : Nat} {pst : Int32 → Prop} (ht : t < 20) (hp : p + len ≤ 12) (hl : a_lengths t = nI len) (hl8 : len ≤ 8) : ∀ (n i : Nat) (suf rr : List Nat), suf.length < n → i + suf.length = len → suf.length ≤ rr.length → ly a_letters (12 * t + i) suf → ly a_row (p + i) rr → (∀ c ∈ suf, c < 6) → (∀ c ∈ rr, c < 6) → pst (qb (suf.isPrefixOf rr)) → wY_fits_27 pst (nI t) (nI p) f_words f_tokens f_textSize f_resultSize f_rowSize f_barred f_made f_kept a_counts a_sizes a_spelled a_lefts a_rights a_prices a_lengths a_letters a_text a_result a_row a_parts a_sums a_numbers a_splits a_tried a_begins n (nI i) := by
  intro n
  induction n with
  | zero => intro i suf rr h; omega
  | succ n ih =>
    intro i suf rr hn hi hlen h1 h2 b1 b2 K
    refine And.intro (vp_in_nI ht (by omega)) ?_
    rw [nI_clamp (n := t) (by omega), hl]
    cases suf with
    | nil =>
      exact br_t (nI_le (by simp at hi; omega) (by omega)) K
    | cons a suf =>
      cases rr with
      | nil => simp at hlen
      | cons b rr =>
        have hi' : i + (suf.length + 1) = len := hi
        obtain ⟨ha, h1'⟩ := ly_cons.mp h1
        obtain ⟨hb, h2'⟩ := ly_cons.mp h2
        have ba := b1 a List.mem_cons_self
        have bb := b2 b List.mem_cons_self
        refine br_f (nI_ge (by omega) (by omega)) ?_
        rw [nI_add, qn_12]
        refine ⟨vp_in_nI (by omega) (by omega), vp_in_nI (by omega) (by omega), ?_⟩
        rw [nI_clamp (n := p + i) (by omega), nI_clamp (n := 12 * t + i) (by omega), ha, hb]
        refine pk_eq b a (fun e => nm_r (nI_1 i) ?_) (fun e => ?_)
        · subst e
          refine ih (i + 1) suf rr (by simp at hn; omega) (by omega) (by simp at hlen; omega) h1' h2' (fun c hc => b1 c (List.mem_cons_of_mem _ hc)) (fun c hc => b2 c (List.mem_cons_of_mem _ hc)) ?_
          rw [List.isPrefixOf_cons_cons_self] at K
          exact K
        · rw [List.isPrefixOf_cons_cons, show (a == b) = false from beq_false_of_ne (Ne.symm e), Bool.false_and] at K
          exact K
theorem yy_fits {T t p : Nat} {sp : Nat → List Nat} {row : List Nat} {pst : Int32 → Prop} {p0 p1 : Int32} (e0 : p0 = nI t) (e1 : p1 = nI p) (hS : yt_S T sp a_lengths a_letters) (hT : T ≤ 20) (ht : t < T) (hs : f_rowSize = nI row.length) (hm : row.length ≤ 12) (hp : p ≤ row.length) (hr : ly a_row 0 row) (hB : ∀ c ∈ row, c < 6) (K : pst (qb (sp_fit sp row f_barred t p))) : wpY_fits pst (f_words, f_tokens, f_textSize, f_resultSize, f_rowSize, f_barred, f_made, f_kept, a_counts, a_sizes, a_spelled, a_lefts, a_rights, a_prices, a_lengths, a_letters, a_text, a_result, a_row, a_parts, a_sums, a_numbers, a_splits, a_tried, a_begins) p0 p1 := by
  subst e0 e1
  obtain ⟨s1, s2, s3, s4, s5⟩ := hS t ht
  by_cases hb : nI t = f_barred
  · refine br_t hb ?_
    have e : sp_fit sp row f_barred t p = false := by unfold sp_fit; rw [decide_eq_false (not_not_intro hb), Bool.false_and]
    rw [e] at K; exact K
  · have e : sp_fit sp row f_barred t p = (sp t).isPrefixOf (row.drop p) := by unfold sp_fit; rw [decide_eq_true hb, Bool.true_and]
    rw [e] at K
    refine br_f hb ⟨vp_in_nI (by omega) (by omega), ?_⟩
    rw [nI_clamp (n := t) (by omega), s1, nI_add, hs]
    refine pk_le (p + (sp t).length) row.length (fun h => ⟨(sp t).length + 1, ?_⟩) (fun h => ?_)
    · refine yy_f27 (by omega) (by omega) s1 s3 ((sp t).length + 1) 0 (sp t) (row.drop p) (by omega) (by omega) (by rw [List.length_drop]; omega) s5 ?_ s4 (fun c hc => hB c (List.mem_of_mem_drop hc)) K
      rw [← List.take_append_drop p row, ly_app] at hr
      have := hr.2
      rw [List.length_take, Nat.min_eq_left hp, Nat.zero_add] at this
      exact this
    · have e2 : (sp t).isPrefixOf (row.drop p) = false := by
        cases h2 : (sp t).isPrefixOf (row.drop p) with
        | false => rfl
        | true =>
          have := (List.isPrefixOf_iff_prefix.mp h2).length_le
          rw [List.length_drop] at this; omega
      rw [e2] at K; exact K
theorem yy_next2 {T p : Nat} {sp : Nat → List Nat} {row : List Nat} (hS : yt_S T sp a_lengths a_letters) (ht : f_tokens = nI T) (hT : T ≤ 20) (hs : f_rowSize = nI row.length) (hm : row.length ≤ 12) (hp : p ≤ row.length) (hr : ly a_row 0 row) (hB : ∀ c ∈ row, c < 6) : ∀ (k f : Nat), f + k = T →
    ∃ r : Int32, ((∃ t, f ≤ t ∧ t < T ∧ r = nI t ∧ sp_fit sp row f_barred t p = true ∧ ∀ s, f ≤ s → s < t → sp_fit sp row f_barred s p = false) ∨ (r = -1 ∧ ∀ s, f ≤ s → s < T → sp_fit sp row f_barred s p = false)) ∧ ∀ pst : Int32 → Prop, pst r → wY_next_2 pst (nI p) f_words f_tokens f_textSize f_resultSize f_rowSize f_barred f_made f_kept a_counts a_sizes a_spelled a_lefts a_rights a_prices a_lengths a_letters a_text a_result a_row a_parts a_sums a_numbers a_splits a_tried a_begins (k + 1) (nI f) := by
  intro k
  induction k with
  | zero =>
    intro f hf
    refine ⟨-1, Or.inr ⟨rfl, fun s h1 h2 => by omega⟩, fun pst hq => ?_⟩
    subst ht
    exact br_t (nI_le (by omega) (by omega)) hq
  | succ k ih =>
    intro f hf
    obtain ⟨r, h1, h2⟩ := ih (f + 1) (by omega)
    cases hfit : sp_fit sp row f_barred f p with
    | true =>
      refine ⟨nI f, Or.inl ⟨f, Nat.le_refl _, by omega, rfl, hfit, fun s a b => by omega⟩, fun pst hq => ?_⟩
      refine br_f (by rw [ht]; exact nI_ge (by omega) (by omega)) ?_
      refine yy_fits rfl rfl hS hT (by omega) hs hm hp hr hB ?_
      rw [hfit]
      exact br_f (by decide) hq
    | false =>
      refine ⟨r, ?_, fun pst hq => ?_⟩
      · rcases h1 with ⟨t, a, b, c, d, e⟩ | ⟨a, b⟩
        · refine Or.inl ⟨t, by omega, b, c, d, fun s s1 s2 => ?_⟩
          by_cases z : s = f
          · subst z; exact hfit
          · exact e s (by omega) s2
        · refine Or.inr ⟨a, fun s s1 s2 => ?_⟩
          by_cases z : s = f
          · subst z; exact hfit
          · exact b s (by omega) s2
      · refine br_f (by rw [ht]; exact nI_ge (by omega) (by omega)) ?_
        refine yy_fits rfl rfl hS hT (by omega) hs hm hp hr hB ?_
        rw [hfit]
        exact br_t rfl (nm_r (nI_1 f) (h2 pst hq))
theorem yy_next {T p f : Nat} {sp : Nat → List Nat} {row : List Nat} (hS : yt_S T sp a_lengths a_letters) (ht : f_tokens = nI T) (hT : T ≤ 20) (hs : f_rowSize = nI row.length) (hm : row.length ≤ 12) (hp : p ≤ row.length) (hr : ly a_row 0 row) (hB : ∀ c ∈ row, c < 6) (hf : f ≤ T) :
    ∃ r : Int32, ((∃ t, f ≤ t ∧ t < T ∧ r = nI t ∧ sp_fit sp row f_barred t p = true ∧ ∀ s, f ≤ s → s < t → sp_fit sp row f_barred s p = false) ∨ (r = -1 ∧ ∀ s, f ≤ s → s < T → sp_fit sp row f_barred s p = false)) ∧ ∀ pst : Int32 → Prop, pst r → wpY_next pst (f_words, f_tokens, f_textSize, f_resultSize, f_rowSize, f_barred, f_made, f_kept, a_counts, a_sizes, a_spelled, a_lefts, a_rights, a_prices, a_lengths, a_letters, a_text, a_result, a_row, a_parts, a_sums, a_numbers, a_splits, a_tried, a_begins) (nI f) (nI p) := by
  obtain ⟨r, h1, h2⟩ := yy_next2 (f_words := f_words) (f_tokens := f_tokens) (f_textSize := f_textSize) (f_resultSize := f_resultSize) (f_rowSize := f_rowSize) (f_barred := f_barred) (f_made := f_made) (f_kept := f_kept) (a_counts := a_counts) (a_sizes := a_sizes) (a_spelled := a_spelled) (a_lefts := a_lefts) (a_rights := a_rights) (a_prices := a_prices) (a_lengths := a_lengths) (a_letters := a_letters) (a_text := a_text) (a_result := a_result) (a_row := a_row) (a_parts := a_parts) (a_sums := a_sums) (a_numbers := a_numbers) (a_splits := a_splits) (a_tried := a_tried) (a_begins := a_begins) hS ht hT hs hm hp hr hB (T - f) f (by omega)
  exact ⟨r, h1, fun pst hq => Exists.intro (T - f + 1) (h2 pst hq)⟩
end YM
end
section
/-! the longest first: what it is, and the reference's way -/
section YL
variable {f_words f_tokens f_textSize f_resultSize f_rowSize f_barred f_made f_kept : Int32} {a_counts a_sizes a_spelled a_lefts a_rights a_prices a_lengths a_letters a_text a_result a_row a_parts a_sums a_numbers a_splits a_tried a_begins : Nat → Int32} {post : SY → Prop}
def lf_L (T : Nat) (sp : Nat → List Nat) (row : List Nat) (bn : Int32) (p b : Nat) : Prop :=
  b < T ∧ sp_fit sp row bn b p = true ∧ ∀ t, t < T → sp_fit sp row bn t p = true → (sp t).length < (sp b).length ∨ ((sp t).length = (sp b).length ∧ b ≤ t)
theorem lf_L_u {T : Nat} {sp : Nat → List Nat} {row : List Nat} {bn : Int32} {p b c : Nat} (hb : lf_L T sp row bn p b) (hc : lf_L T sp row bn p c) : b = c := by
  obtain ⟨b1, b2, b3⟩ := hb
  obtain ⟨c1, c2, c3⟩ := hc
  have x := b3 c c1 c2
  have y := c3 b b1 b2
  omega
def lf_R (T : Nat) (sp : Nat → List Nat) (row : List Nat) (bn : Int32) : Nat → List Nat → Prop
  | p, [] => row.length ≤ p
  | p, b :: bs => p < row.length ∧ lf_L T sp row bn p b ∧ lf_R T sp row bn (p + (sp b).length) bs
theorem lf_R_u {T : Nat} {sp : Nat → List Nat} {row : List Nat} {bn : Int32} : ∀ (bs cs : List Nat) (p : Nat), lf_R T sp row bn p bs → lf_R T sp row bn p cs → bs = cs
  | [], [], _, _, _ => rfl
  | [], _ :: _, _, h1, h2 => by
    have h1 : row.length ≤ _ := h1
    have := h2.1; omega
  | _ :: _, [], _, h1, h2 => by
    have h2 : row.length ≤ _ := h2
    have := h1.1; omega
  | b :: bs, c :: cs, p, ⟨_, h2, h3⟩, ⟨_, k2, k3⟩ => by
    have e := lf_L_u h2 k2
    subst e
    rw [lf_R_u bs cs _ h3 k3]
theorem yy_l24 {T m p c : Nat} {sp : Nat → List Nat} {row : List Nat} {J7 : Int32 → Int32 → (Nat → Int32) → (Nat → Int32) → (Nat → Int32) → (Nat → Int32) → (Nat → Int32) → (Nat → Int32) → (Nat → Int32) → (Nat → Int32) → (Nat → Int32) → (Nat → Int32) → (Nat → Int32) → (Nat → Int32) → (Nat → Int32) → (Nat → Int32) → (Nat → Int32) → (Nat → Int32) → (Nat → Int32) →  Prop} (hS : yt_S T sp a_lengths a_letters) (ht : f_tokens = nI T) (hT : T ≤ 20) (hs : f_rowSize = nI row.length) (hrl : row.length ≤ 12) (hp : p < row.length) (hr : ly a_row 0 row) (hB : ∀ c ∈ row, c < 6)
    (hm : f_made = nI m) (hm12 : m < 12) (hc0 : (sp c).length = 1) (hc1 : ∀ t, t < T → sp_fit sp row f_barred t p = true → (sp t).length = 1 → t = c)
    (K : ∀ b, lf_L T sp row f_barred p b → J7 (nI (p + (sp b).length)) (nI (m + 1)) a_counts a_sizes a_spelled a_lefts a_rights a_prices a_lengths a_letters a_text a_result a_row (upd a_parts m (nI b)) a_sums a_numbers a_splits a_tried a_begins) :
    ∀ (k t b : Nat), t + k = T → b < T → sp_fit sp row f_barred b p = true → (b < t ∨ b = c) → (∀ s, s < t → sp_fit sp row f_barred s p = true → (sp s).length < (sp b).length ∨ ((sp s).length = (sp b).length ∧ b ≤ s)) → wY_takeLongest_24 post J7 (nI p) f_words f_tokens f_textSize f_resultSize f_rowSize f_barred f_made f_kept a_counts a_sizes a_spelled a_lefts a_rights a_prices a_lengths a_letters a_text a_result a_row a_parts a_sums a_numbers a_splits a_tried a_begins (k + 1) (nI b) (nI t) := by
  intro k
  induction k with
  | zero =>
    intro t b htk hb hf hbt hi
    have e : t = T := by omega
    subst e
    obtain ⟨s1, s2, s3, -⟩ := hS b hb
    exact br_t (by rw [ht]; exact nI_le (Nat.le_refl _) (by omega)) ⟨by rw [hm]; exact vp_in_nI hm12 (by omega), nm_r (e' := upd a_parts m (nI b)) (by rw [hm, nI_clamp (by omega)]) (nm_r (e' := nI (m + 1)) (by rw [hm, nI_1]) ⟨vp_in_nI (by omega) (by omega), nm_r (e' := nI (p + (sp b).length)) (by rw [nI_clamp (by omega), s1, nI_add]) (K b ⟨hb, hf, hi⟩)⟩)⟩
  | succ k ih =>
    intro t b htk hb hf hbt hi
    have ht' : t < T := by omega
    obtain ⟨s1, s2, s3, -⟩ := hS b hb
    obtain ⟨r1, r2, r3, -⟩ := hS t ht'
    refine br_f (by rw [ht]; exact nI_ge (by omega) (by omega)) ?_
    refine yy_fits rfl rfl hS hT ht' hs hrl (by omega) hr hB ?_
    cases hfit : sp_fit sp row f_barred t p with
    | false =>
      refine br_t rfl (nm_r (nI_1 t) (ih (t + 1) b (by omega) hb hf (by omega) fun s h1 h2 => ?_))
      by_cases e : s = t
      · subst e; rw [hfit] at h2; exact nomatch h2
      · exact hi s (by omega) h2
    | true =>
      refine br_f (by decide) ⟨vp_in_nI (by omega) (by omega), vp_in_nI (by omega) (by omega), ?_⟩
      rw [nI_clamp (n := t) (by omega), nI_clamp (n := b) (by omega), s1, r1]
      refine pk_le (sp t).length (sp b).length (fun hle => nm_r (nI_1 t) (ih (t + 1) b (by omega) hb hf (by omega) fun s h1 h2 => ?_)) (fun hgt => nm_r (nI_1 t) (ih (t + 1) t (by omega) ht' hfit (by omega) fun s h1 h2 => ?_))
      · by_cases e : s = t
        · subst e
          rcases Nat.lt_or_ge (sp s).length (sp b).length with z | z
          · exact Or.inl z
          · refine Or.inr ⟨by omega, ?_⟩
            rcases hbt with y | y
            · omega
            · subst y
              have := hc1 s ht' hfit (by omega)
              omega
        · exact hi s (by omega) h2
      · by_cases e : s = t
        · subst e; exact Or.inr ⟨rfl, Nat.le_refl _⟩
        · have := hi s (by omega) h2; omega
/-- letters: a token each, the only ones of one letter -/
def yt_1 (T : Nat) (sp : Nat → List Nat) : Prop := 6 ≤ T ∧ (∀ t, t < 6 → sp t = [t]) ∧ ∀ t, 6 ≤ t → t < T → 2 ≤ (sp t).length
theorem sp_fit_1 {T p c : Nat} {sp : Nat → List Nat} {row rr : List Nat} {bn : Int32} (h1 : yt_1 T sp) (hbn : ∀ t, t < 6 → ¬ nI t = bn) (hd : row.drop p = c :: rr) (hc : c < 6) : sp_fit sp row bn c p = true ∧ ∀ t, t < T → sp_fit sp row bn t p = true → (sp t).length = 1 → t = c := by
  constructor
  · unfold sp_fit
    rw [decide_eq_true (hbn c hc), Bool.true_and, h1.2.1 c hc, hd, List.isPrefixOf_cons_cons_self, List.isPrefixOf_nil_left]
  · intro t ht hf hl
    by_cases h6 : t < 6
    · unfold sp_fit at hf
      rw [h1.2.1 t h6, hd, Bool.and_eq_true, List.isPrefixOf_cons_cons, Bool.and_eq_true] at hf
      exact eq_of_beq hf.2.1
    · have := h1.2.2 t (by omega) ht; omega
theorem sp_drop {row : List Nat} {p : Nat} (hp : p < row.length) : row.drop p = row.getD p 0 :: row.drop (p + 1) := by
  rw [List.drop_eq_getElem_cons hp, List.getD_eq_getElem?_getD, List.getElem?_eq_getElem hp]; rfl
theorem yy_l7 {T : Nat} {sp : Nat → List Nat} {row : List Nat} (hS : yt_S T sp a_lengths a_letters) (h1 : yt_1 T sp) (hbn : ∀ t, t < 6 → ¬ nI t = f_barred) (ht : f_tokens = nI T) (hT : T ≤ 20) (hs : f_rowSize = nI row.length) (hrl : row.length ≤ 12) (hr : ly a_row 0 row) (hB : ∀ c ∈ row, c < 6) :
    ∀ (n p : Nat) (o : List Nat) (a_parts : Nat → Int32), row.length - p < n → o.length ≤ p → p ≤ row.length → ly a_parts 0 o → (∀ bs b_parts, lf_R T sp row f_barred p bs → ly b_parts 0 (o ++ bs) → post (f_words, f_tokens, f_textSize, f_resultSize, f_rowSize, f_barred, nI (o ++ bs).length, f_kept, a_counts, a_sizes, a_spelled, a_lefts, a_rights, a_prices, a_lengths, a_letters, a_text, a_result, a_row, b_parts, a_sums, a_numbers, a_splits, a_tried, a_begins)) → wY_takeLongest_7 post f_words f_tokens f_textSize f_resultSize f_rowSize f_barred f_kept n (nI p) (nI o.length) a_counts a_sizes a_spelled a_lefts a_rights a_prices a_lengths a_letters a_text a_result a_row a_parts a_sums a_numbers a_splits a_tried a_begins := by
  intro n
  induction n with
  | zero => intro p o a_parts h; omega
  | succ n ih =>
    intro p o a_parts hn ho hp hl K
    by_cases e : p = row.length
    · have := K [] a_parts (by show row.length ≤ p; omega) (by rw [List.append_nil]; exact hl)
      rw [List.append_nil] at this
      exact br_t (by rw [hs]; exact nI_le (by omega) (by omega)) this
    · have hp' : p < row.length := by omega
      have ec := sp_drop hp'
      have hc6 : row.getD p 0 < 6 := hB _ (ly_mem hp')
      obtain ⟨f1, f2⟩ := sp_fit_1 h1 hbn ec hc6
      have e1 : (sp (row.getD p 0)).length = 1 := by rw [h1.2.1 _ hc6]; rfl
      refine br_f (by rw [hs]; exact nI_ge (by omega) (by omega)) ⟨vp_in_nI (by omega) (by omega), nm_r (e' := nI (row.getD p 0)) (by rw [nI_clamp (by omega)]; exact ly_at0 hr hp') ⟨T + 1, ?_⟩⟩
      refine yy_l24 (m := o.length) (c := row.getD p 0) hS ht hT hs hrl hp' hr hB rfl (by omega) e1 f2 (fun b hb => ?_) T 0 (row.getD p 0) (by omega) (by have := h1.1; omega) f1 (Or.inr rfl) (fun s h => by omega)
      obtain ⟨s1, s2, s3, -⟩ := hS b hb.1
      have hfl : p + (sp b).length ≤ row.length := by
        have := hb.2.1
        unfold sp_fit at this
        rw [Bool.and_eq_true] at this
        have := (List.isPrefixOf_iff_prefix.mp this.2).length_le
        rw [List.length_drop] at this; omega
      have q := ih (p + (sp b).length) (o ++ [b]) (upd a_parts o.length (nI b)) (by omega) (by simp; omega) hfl (ly_sn (ly_up hl (by omega)) (by rw [Nat.zero_add, pk_us])) (fun bs b_parts g1 g2 => by
        have := K (b :: bs) b_parts ⟨hp', hb, g1⟩ (by rw [List.append_assoc] at g2; exact g2)
        rw [List.append_assoc]; exact this)
      rw [List.length_append] at q
      exact q
theorem yy_long {T : Nat} {sp : Nat → List Nat} {row : List Nat} (hS : yt_S T sp a_lengths a_letters) (h1 : yt_1 T sp) (hbn : ∀ t, t < 6 → ¬ nI t = f_barred) (ht : f_tokens = nI T) (hT : T ≤ 20) (hs : f_rowSize = nI row.length) (hrl : row.length ≤ 12) (hr : ly a_row 0 row) (hB : ∀ c ∈ row, c < 6)
    (K : ∀ bs b_parts, lf_R T sp row f_barred 0 bs → ly b_parts 0 bs → post (f_words, f_tokens, f_textSize, f_resultSize, f_rowSize, f_barred, nI bs.length, f_kept, a_counts, a_sizes, a_spelled, a_lefts, a_rights, a_prices, a_lengths, a_letters, a_text, a_result, a_row, b_parts, a_sums, a_numbers, a_splits, a_tried, a_begins)) : wpY_takeLongest post (f_words, f_tokens, f_textSize, f_resultSize, f_rowSize, f_barred, f_made, f_kept, a_counts, a_sizes, a_spelled, a_lefts, a_rights, a_prices, a_lengths, a_letters, a_text, a_result, a_row, a_parts, a_sums, a_numbers, a_splits, a_tried, a_begins) :=
  Exists.intro (row.length + 1) (yy_l7 hS h1 hbn ht hT hs hrl hr hB (row.length + 1) 0 [] a_parts (by omega) (Nat.le_refl _) (by omega) ly_nil K)
end YL
end
section
/-! the reference: a split is kept among the first six -/
section LA
variable {α : Type}
def la (P : Nat → α → Prop) : Nat → List α → Prop
  | _, [] => True
  | o, a :: l => P o a ∧ la P (o + 1) l
theorem la_app {P : Nat → α → Prop} {m : List α} : ∀ {l : List α} {o : Nat}, la P o (l ++ m) ↔ la P o l ∧ la P (o + l.length) m
  | [], o => ⟨fun h => ⟨trivial, h⟩, fun h => h.2⟩
  | a :: l, o => by
    show P o a ∧ la P (o + 1) (l ++ m) ↔ (P o a ∧ la P (o + 1) l) ∧ _
    rw [la_app, and_assoc, List.length_cons, show o + 1 + l.length = o + (l.length + 1) from by omega]
theorem la_fr {P Q : Nat → α → Prop} : ∀ {l : List α} {o : Nat}, (∀ k a, o ≤ k → k < o + l.length → a ∈ l → P k a → Q k a) → la P o l → la Q o l
  | [], _, _, _ => trivial
  | a :: l, o, h, ⟨h1, h2⟩ => ⟨h o a (Nat.le_refl _) (by simp) List.mem_cons_self h1, la_fr (fun k b x y z => h k b (by omega) (by simp at y ⊢; omega) (List.mem_cons_of_mem _ z)) h2⟩
theorem la_at {P : Nat → α → Prop} {d : α} : ∀ {l : List α} {o i : Nat}, la P o l → i < l.length → P (o + i) (l.getD i d)
  | [], _, _, _, h => by simp at h
  | a :: l, o, 0, h, _ => h.1
  | a :: l, o, i + 1, h, hi => by
    have := la_at (d := d) (i := i) h.2 (by simpa using hi)
    rw [List.getD_cons_succ, show o + (i + 1) = o + 1 + i from by omega]
    exact this
theorem la_take {P : Nat → α → Prop} {l : List α} {o n : Nat} (h : la P o l) : la P o (l.take n) := by
  rw [← List.take_append_drop n l, la_app] at h
  exact h.1
theorem la_sn_ex {l : List α} {k : Nat} (h : l.length = k + 1) : ∃ l' b, l = l' ++ [b] ∧ l'.length = k := by
  have hn : l ≠ [] := fun e => by rw [e] at h; simp at h
  exact ⟨l.dropLast, l.getLast hn, (List.dropLast_concat_getLast hn).symm, by rw [List.length_dropLast]; omega⟩
end LA
/-- an array with n cells of another from o on -/
def qw (d s : Nat → Int32) (o n : Nat) : Nat → Int32 := fun j => if o ≤ j ∧ j < o + n then s (j - o) else d j
theorem qw_0 (d s : Nat → Int32) (o : Nat) : qw d s o 0 = d := by
  funext j; unfold qw; rw [if_neg (by omega)]
theorem qw_s (d s : Nat → Int32) (o n : Nat) : upd (qw d s o n) (o + n) (s n) = qw d s o (n + 1) := by
  funext j
  unfold upd qw
  by_cases h : j = o + n
  · subst h; rw [if_pos rfl, if_pos (by omega)]; exact congrArg s (by omega)
  · rw [if_neg h]
    by_cases h2 : o ≤ j ∧ j < o + n
    · rw [if_pos h2, if_pos (by omega)]
    · rw [if_neg h2, if_neg (by omega)]
theorem qw_out {d s : Nat → Int32} {o n j : Nat} (h : j < o ∨ o + n ≤ j) : qw d s o n j = d j := if_neg (by omega)
theorem qw_ly {d s : Nat → Int32} {o n : Nat} {l : List Nat} (h : ly s 0 l) (hn : l.length ≤ n) : ly (qw d s o n) o l := fun i hi => by
  unfold qw
  rw [if_pos (by omega), Nat.add_sub_cancel_left]
  exact ly_at0 h hi
theorem qw_fr {d s : Nat → Int32} {o n p : Nat} {l : List Nat} (h : ly d p l) (hn : p + l.length ≤ o ∨ o + n ≤ p) : ly (qw d s o n) p l :=
  ly_fr h fun j _ _ => qw_out (by omega)
section YK
variable {f_words f_tokens f_textSize f_resultSize f_rowSize f_barred f_made f_kept : Int32} {a_counts a_sizes a_spelled a_lefts a_rights a_prices a_lengths a_letters a_text a_result a_row a_parts a_sums a_numbers a_splits a_tried a_begins : Nat → Int32}
def yk_P (pr : Nat → Nat) (a_sums a_numbers a_splits : Nat → Int32) (k : Nat) (s : List Nat) : Prop := a_sums k = nI (sq_pz pr s) ∧ a_numbers k = nI s.length ∧ ly a_splits (12 * k) s ∧ s.length ≤ 12 ∧ sq_pz pr s < 100000
theorem yk_168 {post : SY → Prop} {m k q : Nat} (hm : m ≤ 12) (hk : k ≤ 6) (hq : q ≤ 6) (K : post (f_words, f_tokens, f_textSize, f_resultSize, f_rowSize, f_barred, f_made, nI (min 6 (q + 1)), a_counts, a_sizes, a_spelled, a_lefts, a_rights, a_prices, a_lengths, a_letters, a_text, a_result, a_row, a_parts, a_sums, a_numbers, qw a_splits a_tried (12 * k) m, a_tried, a_begins)) : ∀ d i : Nat, i + d = m → wY_keep_168 post (nI m) (nI k) f_words f_tokens f_textSize f_resultSize f_rowSize f_barred f_made (nI q) (d + 1) (nI i) a_counts a_sizes a_spelled a_lefts a_rights a_prices a_lengths a_letters a_text a_result a_row a_parts a_sums a_numbers (qw a_splits a_tried (12 * k) i) a_tried a_begins := by
  intro d
  induction d with
  | zero =>
    intro i hi
    have e : i = m := by omega
    subst e
    refine br_t (nI_le (Nat.le_refl _) (by omega)) ?_
    refine pk_le 6 q (fun h => ?_) (fun h => nm_r (nI_1 q) ?_)
    · rw [show min 6 (q + 1) = q from by omega] at K; exact K
    · rw [show min 6 (q + 1) = q + 1 from by omega] at K; exact K
  | succ d ih =>
    intro i hi
    have e := qn_12 k i
    refine br_f (nI_ge (by omega) (by omega)) ⟨vp_in_nI (by omega) (by omega), pk_in (12 * k + i) 84 (by omega) e, nm_r (e' := qw a_splits a_tried (12 * k) (i + 1)) ?_ (nm_r (nI_1 i) (ih (i + 1) (by omega)))⟩
    rw [e, nI_clamp (by omega), nI_clamp (by omega)]; exact qw_s _ _ _ _
theorem yk_151 {post : SY → Prop} {m k q v : Nat} (hm : m ≤ 12) (hk : k ≤ 6) (hq : q ≤ 6) (K : post (f_words, f_tokens, f_textSize, f_resultSize, f_rowSize, f_barred, f_made, nI (min 6 (q + 1)), a_counts, a_sizes, a_spelled, a_lefts, a_rights, a_prices, a_lengths, a_letters, a_text, a_result, a_row, a_parts, upd a_sums k (nI v), upd a_numbers k (nI m), qw a_splits a_tried (12 * k) m, a_tried, a_begins)) : wY_keep_151 post (nI m) (nI v) (nI k) f_words f_tokens f_textSize f_resultSize f_rowSize f_barred f_made (nI q) a_counts a_sizes a_spelled a_lefts a_rights a_prices a_lengths a_letters a_text a_result a_row a_parts a_sums a_numbers a_splits a_tried a_begins := by
  refine And.intro (vp_in_nI (by omega) (by omega)) (nm_r (e' := upd a_sums k (nI v)) (by rw [nI_clamp (by omega)]) ⟨vp_in_nI (by omega) (by omega), nm_r (e' := upd a_numbers k (nI m)) (by rw [nI_clamp (by omega)]) ⟨m + 1, ?_⟩⟩)
  have := yk_168 (a_sums := upd a_sums k (nI v)) (a_numbers := upd a_numbers k (nI m)) hm hk hq K m 0 (by omega)
  rw [qw_0] at this
  exact this
theorem yk_105 {post : SY → Prop} {J34 : Int32 → (Nat → Int32) → (Nat → Int32) → (Nat → Int32) → (Nat → Int32) → (Nat → Int32) → (Nat → Int32) → (Nat → Int32) → (Nat → Int32) → (Nat → Int32) → (Nat → Int32) → (Nat → Int32) → (Nat → Int32) → (Nat → Int32) → (Nat → Int32) → (Nat → Int32) → (Nat → Int32) → (Nat → Int32) →  Prop} {x1 x2 : Int32} {k : Nat} (h0 : 0 < k) (hk : k ≤ 6) (K : J34 (nI (k - 1)) a_counts a_sizes a_spelled a_lefts a_rights a_prices a_lengths a_letters a_text a_result a_row a_parts a_sums a_numbers (qw a_splits (fun i => a_splits (12 * k - 12 + i)) (12 * k) 12) a_tried a_begins) : ∀ d i : Nat, i + d = 12 → wY_keep_105 post J34 x1 x2 (nI k) f_words f_tokens f_textSize f_resultSize f_rowSize f_barred f_made f_kept (d + 1) (nI i) a_counts a_sizes a_spelled a_lefts a_rights a_prices a_lengths a_letters a_text a_result a_row a_parts a_sums a_numbers (qw a_splits (fun i => a_splits (12 * k - 12 + i)) (12 * k) i) a_tried a_begins := by
  intro d
  induction d with
  | zero =>
    intro i hi
    have e : i = 12 := by omega
    subst e
    exact br_t (nI_le (a := 12) (b := 12) (by omega) (by omega)) (nm_r (qn_m1 h0) K)
  | succ d ih =>
    intro i hi
    have e := qn_12 k i
    have e2 : 12 * nI k - 12 + nI i = nI (12 * k - 12 + i) := by
      rw [qn_12m]
      show nI (12 * k) - nI 12 + nI i = _
      rw [pk_sub (by omega), nI_add]
    refine br_f (nI_ge (a := i) (b := 12) (by omega) (by omega)) ⟨pk_in (12 * k - 12 + i) 84 (by omega) e2, pk_in (12 * k + i) 84 (by omega) e, nm_r (e' := qw a_splits (fun i => a_splits (12 * k - 12 + i)) (12 * k) (i + 1)) ?_ (nm_r (nI_1 i) (ih (i + 1) (by omega)))⟩
    rw [e, e2, nI_clamp (by omega), nI_clamp (by omega), ← qw_s, qw_out (j := 12 * k - 12 + i) (by omega)]
theorem yk_74 {post : SY → Prop} {J34 : Int32 → (Nat → Int32) → (Nat → Int32) → (Nat → Int32) → (Nat → Int32) → (Nat → Int32) → (Nat → Int32) → (Nat → Int32) → (Nat → Int32) → (Nat → Int32) → (Nat → Int32) → (Nat → Int32) → (Nat → Int32) → (Nat → Int32) → (Nat → Int32) → (Nat → Int32) → (Nat → Int32) → (Nat → Int32) →  Prop} {x1 x2 : Int32} {k : Nat} (h0 : 0 < k) (hk : k ≤ 6) (K : J34 (nI (k - 1)) a_counts a_sizes a_spelled a_lefts a_rights a_prices a_lengths a_letters a_text a_result a_row a_parts (upd a_sums k (a_sums (k - 1))) (upd a_numbers k (a_numbers (k - 1))) (qw a_splits (fun i => a_splits (12 * k - 12 + i)) (12 * k) 12) a_tried a_begins) : wY_keep_74 post J34 x1 x2 (nI k) f_words f_tokens f_textSize f_resultSize f_rowSize f_barred f_made f_kept a_counts a_sizes a_spelled a_lefts a_rights a_prices a_lengths a_letters a_text a_result a_row a_parts a_sums a_numbers a_splits a_tried a_begins := by
  have e := qn_s1 h0
  refine And.intro (pk_in (k - 1) 7 (by omega) e) ⟨vp_in_nI (by omega) (by omega), nm_r (e' := upd a_sums k (a_sums (k - 1))) (by rw [e, nI_clamp (by omega), nI_clamp (by omega)]) ⟨pk_in (k - 1) 7 (by omega) e, vp_in_nI (by omega) (by omega), nm_r (e' := upd a_numbers k (a_numbers (k - 1))) (by rw [e, nI_clamp (by omega), nI_clamp (by omega)]) ⟨13, ?_⟩⟩⟩
  have := yk_105 (post := post) (x1 := x1) (x2 := x2) (f_words := f_words) (f_tokens := f_tokens) (f_textSize := f_textSize) (f_resultSize := f_resultSize) (f_rowSize := f_rowSize) (f_barred := f_barred) (f_made := f_made) (f_kept := f_kept) (a_counts := a_counts) (a_sizes := a_sizes) (a_spelled := a_spelled) (a_lefts := a_lefts) (a_rights := a_rights) (a_prices := a_prices) (a_lengths := a_lengths) (a_letters := a_letters) (a_text := a_text) (a_result := a_result) (a_row := a_row) (a_parts := a_parts) (a_sums := upd a_sums k (a_sums (k - 1))) (a_numbers := upd a_numbers k (a_numbers (k - 1))) (a_splits := a_splits) (a_tried := a_tried) (a_begins := a_begins) h0 hk K 12 0 (by omega)
  rw [qw_0] at this
  exact this
theorem yk_34 {pr : Nat → Nat} {c : List Nat} {q : Nat} (hq : q ≤ 6) (hc : c.length ≤ 12) (hv : sq_pz pr c < 100000) (ht : ly a_tried 0 c) : ∀ (k : Nat) (B D : List (List Nat)) (a_sums a_numbers a_splits : Nat → Int32), B.length = k → k + D.length ≤ 6 → so_P (sq_lt pr) B → (∀ b ∈ B, ¬ sq_lx c b = true) → (∀ d ∈ D, sq_lt pr c d = true) →
    la (yk_P pr a_sums a_numbers a_splits) 0 B → la (yk_P pr a_sums a_numbers a_splits) (k + 1) D →
    ∃ b_sums b_numbers b_splits, la (yk_P pr b_sums b_numbers b_splits) 0 (so_ins (sq_lt pr) c (B ++ D)) ∧ ∀ post : SY → Prop, post (f_words, f_tokens, f_textSize, f_resultSize, f_rowSize, f_barred, f_made, nI (min 6 (q + 1)), a_counts, a_sizes, a_spelled, a_lefts, a_rights, a_prices, a_lengths, a_letters, a_text, a_result, a_row, a_parts, b_sums, b_numbers, b_splits, a_tried, a_begins) → wY_keep_34 post (nI c.length) (nI (sq_pz pr c)) f_words f_tokens f_textSize f_resultSize f_rowSize f_barred f_made (nI q) (k + 1) (nI k) a_counts a_sizes a_spelled a_lefts a_rights a_prices a_lengths a_letters a_text a_result a_row a_parts a_sums a_numbers a_splits a_tried a_begins := by
  intro k
  -- the end: the split is written at its place
  have fin : ∀ (k : Nat) (B D : List (List Nat)) (a_sums a_numbers a_splits : Nat → Int32), B.length = k → k + D.length ≤ 6 → (∀ b ∈ B, ¬ sq_lt pr c b = true) → (∀ d ∈ D, sq_lt pr c d = true) → la (yk_P pr a_sums a_numbers a_splits) 0 B → la (yk_P pr a_sums a_numbers a_splits) (k + 1) D →
      la (yk_P pr (upd a_sums k (nI (sq_pz pr c))) (upd a_numbers k (nI c.length)) (qw a_splits a_tried (12 * k) c.length)) 0 (so_ins (sq_lt pr) c (B ++ D)) := by
    intro k B D a_sums a_numbers a_splits hB hk h1 h2 l1 l2
    rw [so_ins_at h1 h2, la_app]
    refine ⟨la_fr (fun j s j1 j2 _ hP => ?_) l1, ⟨by rw [hB, Nat.zero_add]; exact pk_us, by rw [hB, Nat.zero_add]; exact pk_us, by rw [hB, Nat.zero_add]; exact qw_ly ht (Nat.le_refl _), hc, hv⟩, ?_⟩
    · obtain ⟨p1, p2, p3, p4, p5⟩ := hP
      exact ⟨(pk_un (by omega)).trans p1, (pk_un (by omega)).trans p2, qw_fr p3 (by omega), p4, p5⟩
    · rw [hB, Nat.zero_add]
      refine la_fr (fun j s j1 j2 _ hP => ?_) l2
      obtain ⟨p1, p2, p3, p4, p5⟩ := hP
      exact ⟨(pk_un (by omega)).trans p1, (pk_un (by omega)).trans p2, qw_fr p3 (by omega), p4, p5⟩
  induction k with
  | zero =>
    intro B D a_sums a_numbers a_splits hB hD hs hx hd l1 l2
    have e : B = [] := List.eq_nil_of_length_eq_zero hB
    subst e
    exact ⟨_, _, _, fin 0 [] D a_sums a_numbers a_splits rfl hD (fun b hb => absurd hb List.not_mem_nil) hd l1 l2, fun post hp => br_t (by decide) (yk_151 hc (by omega) hq hp)⟩
  | succ k ih =>
    intro B D a_sums a_numbers a_splits hB hD hs hx hd l1 l2
    obtain ⟨B', b, rfl, hB'⟩ := la_sn_ex hB
    obtain ⟨s1, -, s3⟩ := List.pairwise_append.mp hs
    obtain ⟨m1, m2, -⟩ := la_app.mp l1
    rw [hB', Nat.zero_add] at m2
    obtain ⟨p1, p2, p3, p4, p5⟩ := m2
    have hxb := hx b (List.mem_append_right _ List.mem_cons_self)
    have hlt : sq_lt pr c b = true ↔ sq_pz pr c < sq_pz pr b ∨ (sq_pz pr c = sq_pz pr b ∧ c.length < b.length) := by
      rw [sq_lt_i]
      constructor
      · rintro (z | ⟨z, w | ⟨_, w⟩⟩)
        · exact Or.inl z
        · exact Or.inr ⟨z, w⟩
        · exact absurd w hxb
      · rintro (z | ⟨z, w⟩)
        · exact Or.inl z
        · exact Or.inr ⟨z, Or.inl w⟩
    have e1 := qn_s1 (a := k + 1) (by omega)
    by_cases hcb : sq_lt pr c b = true
    · obtain ⟨b_sums, b_numbers, b_splits, i1, i2⟩ := ih B' (b :: D) (upd a_sums (k + 1) (a_sums k)) (upd a_numbers (k + 1) (a_numbers k)) (qw a_splits (fun i => a_splits (12 * (k + 1) - 12 + i)) (12 * (k + 1)) 12) hB' (by simp; omega) s1 (fun x hx' => hx x (List.mem_append_left _ hx')) (fun x hx' => by
          rcases List.mem_cons.mp hx' with rfl | h
          · exact hcb
          · exact hd x h)
        (la_fr (fun j s j1 j2 _ hP => by
          obtain ⟨q1, q2, q3, q4, q5⟩ := hP
          exact ⟨(pk_un (by omega)).trans q1, (pk_un (by omega)).trans q2, qw_fr q3 (by omega), q4, q5⟩) m1)
        ⟨⟨pk_us.trans p1, pk_us.trans p2, qw_ly (fun i hi => by
            have := p3 i hi
            rw [Nat.zero_add]
            show a_splits (12 * (k + 1) - 12 + i) = _
            rw [show 12 * (k + 1) - 12 + i = 12 * k + i from by omega]; exact this) p4, p4, p5⟩, la_fr (fun j s j1 j2 _ hP => by
          obtain ⟨q1, q2, q3, q4, q5⟩ := hP
          exact ⟨(pk_un (by omega)).trans q1, (pk_un (by omega)).trans q2, qw_fr q3 (by omega), q4, q5⟩) l2⟩
      refine ⟨b_sums, b_numbers, b_splits, by rw [List.append_assoc]; exact i1, fun post hp => ?_⟩
      have W := yk_74 (f_words := f_words) (f_tokens := f_tokens) (f_textSize := f_textSize) (f_resultSize := f_resultSize) (f_rowSize := f_rowSize) (f_barred := f_barred) (f_made := f_made) (f_kept := nI q) (a_counts := a_counts) (a_sizes := a_sizes) (a_spelled := a_spelled) (a_lefts := a_lefts) (a_rights := a_rights) (a_prices := a_prices) (a_lengths := a_lengths) (a_letters := a_letters) (a_text := a_text) (a_result := a_result) (a_row := a_row) (a_parts := a_parts) (a_sums := a_sums) (a_numbers := a_numbers) (a_splits := a_splits) (a_tried := a_tried) (a_begins := a_begins) (post := post) (J34 := wY_keep_34 post (nI c.length) (nI (sq_pz pr c)) f_words f_tokens f_textSize f_resultSize f_rowSize f_barred f_made (nI q) (k + 1)) (x1 := nI c.length) (x2 := nI (sq_pz pr c)) (k := k + 1) (by omega) (by omega) (i2 post hp)
      refine br_f (nI_nle (n := k + 1) (by omega) (by omega)) ⟨pk_in k 7 (by omega) e1, ?_⟩
      rw [e1, nI_clamp (n := k + 1 - 1) (by omega), Nat.add_sub_cancel, p1, p2]
      refine pk_lt (sq_pz pr c) (sq_pz pr b) (fun _ => W) (fun h => ⟨vp_in_nI (by omega) (by omega), ?_⟩)
      refine pk_eq (sq_pz pr b) (sq_pz pr c) (fun h2 => ⟨vp_in_nI (by omega) (by omega), ?_⟩) (fun h2 => ?_)
      · refine pk_le b.length c.length (fun h3 => ?_) (fun _ => W)
        have := hlt.mp hcb; omega
      · have := hlt.mp hcb; omega
    · have hall : ∀ x ∈ B' ++ [b], ¬ sq_lt pr c x = true := by
        intro x hx' hl
        rcases List.mem_append.mp hx' with h | h
        · exact hcb ((sq_O pr).2.1 _ _ _ hl (s3 x h b List.mem_cons_self))
        · rw [List.mem_singleton.mp h] at hl; exact hcb hl
      refine ⟨_, _, _, fin (k + 1) (B' ++ [b]) D a_sums a_numbers a_splits hB hD hall hd l1 l2, fun post hp => ?_⟩
      have W := yk_151 (post := post) (v := sq_pz pr c) (k := k + 1) hc (by omega) hq hp
      have hn : ¬ (sq_pz pr c < sq_pz pr b ∨ (sq_pz pr c = sq_pz pr b ∧ c.length < b.length)) := fun z => hcb (hlt.mpr z)
      refine br_f (nI_nle (n := k + 1) (by omega) (by omega)) ⟨pk_in k 7 (by omega) e1, ?_⟩
      rw [e1, nI_clamp (n := k + 1 - 1) (by omega), Nat.add_sub_cancel, p1, p2]
      refine pk_lt (sq_pz pr c) (sq_pz pr b) (fun h => by omega) (fun h => ⟨vp_in_nI (by omega) (by omega), ?_⟩)
      refine pk_eq (sq_pz pr b) (sq_pz pr c) (fun h2 => ⟨vp_in_nI (by omega) (by omega), ?_⟩) (fun h2 => W)
      exact pk_le b.length c.length (fun h3 => W) (fun h3 => by omega)
theorem yk_4 {T m : Nat} {pr : Nat → Nat} {post : SY → Prop} {c : List Nat} (hT : T ≤ 20) (hP : ∀ t, t < T → a_prices t = nI (pr t)) (hc : c.length = m) (hm : m ≤ 12) (hcT : ∀ t ∈ c, t < T) (ht : ly a_tried 0 c)
    (K : ∃ n34, wY_keep_34 post (nI m) (nI (sq_pz pr c)) f_words f_tokens f_textSize f_resultSize f_rowSize f_barred f_made f_kept n34 f_kept a_counts a_sizes a_spelled a_lefts a_rights a_prices a_lengths a_letters a_text a_result a_row a_parts a_sums a_numbers a_splits a_tried a_begins) : ∀ (suf pre : List Nat), pre ++ suf = c → wY_keep_4 post (nI m) f_words f_tokens f_textSize f_resultSize f_rowSize f_barred f_made f_kept a_counts a_sizes a_spelled a_lefts a_rights a_prices a_lengths a_letters a_text a_result a_row a_parts a_sums a_numbers a_splits a_tried a_begins (suf.length + 1) (nI (sq_pz pr pre)) (nI pre.length)
  | [], pre, e => by
    rw [List.append_nil] at e
    subst e
    exact br_t (by rw [hc]; exact nI_le (Nat.le_refl _) (by omega)) K
  | t :: suf, pre, e => by
    have ih := yk_4 hT hP hc hm hcT ht K suf (pre ++ [t]) (by rw [List.append_assoc]; exact e)
    have hl : pre.length + (suf.length + 1) = m := by rw [← hc, ← e, List.length_append]; rfl
    have h1 : a_tried pre.length = nI t := by
      rw [← e, ly_app, ly_cons, Nat.zero_add] at ht
      exact ht.2.1
    have h2 : t < T := hcT t (e ▸ List.mem_append_right _ List.mem_cons_self)
    rw [sq_pz_sn, List.length_append] at ih
    refine br_f (nI_ge (by omega) (by omega)) ⟨vp_in_nI (by omega) (by omega), ?_⟩
    rw [nI_clamp (n := pre.length) (by omega), h1, nI_clamp (n := t) (by omega), hP t h2, nI_add]
    exact ⟨vp_in_nI (by omega) (by omega), nm_e (nm_r (nI_1 pre.length) ih)⟩
theorem yk_keep {T : Nat} {pr : Nat → Nat} {c : List Nat} {A : List (List Nat)} (hT : T ≤ 20) (hP : ∀ t, t < T → a_prices t = nI (pr t)) (hm : c.length ≤ 12) (hcT : ∀ t ∈ c, t < T) (ht : ly a_tried 0 c) (hv : sq_pz pr c < 100000) (hA : A.length ≤ 6) (hk : f_kept = nI A.length) (hs : so_P (sq_lt pr) A) (hx : ∀ b ∈ A, ¬ sq_lx c b = true) (hl : la (yk_P pr a_sums a_numbers a_splits) 0 A) :
    ∃ b_sums b_numbers b_splits, la (yk_P pr b_sums b_numbers b_splits) 0 ((so_ins (sq_lt pr) c A).take 6) ∧ ∀ post : SY → Prop, post (f_words, f_tokens, f_textSize, f_resultSize, f_rowSize, f_barred, f_made, nI ((so_ins (sq_lt pr) c A).take 6).length, a_counts, a_sizes, a_spelled, a_lefts, a_rights, a_prices, a_lengths, a_letters, a_text, a_result, a_row, a_parts, b_sums, b_numbers, b_splits, a_tried, a_begins) → wpY_keep post (f_words, f_tokens, f_textSize, f_resultSize, f_rowSize, f_barred, f_made, f_kept, a_counts, a_sizes, a_spelled, a_lefts, a_rights, a_prices, a_lengths, a_letters, a_text, a_result, a_row, a_parts, a_sums, a_numbers, a_splits, a_tried, a_begins) (nI c.length) := by
  obtain ⟨b_sums, b_numbers, b_splits, h1, h2⟩ := yk_34 (f_words := f_words) (f_tokens := f_tokens) (f_textSize := f_textSize) (f_resultSize := f_resultSize) (f_rowSize := f_rowSize) (f_barred := f_barred) (f_made := f_made) (a_counts := a_counts) (a_sizes := a_sizes) (a_spelled := a_spelled) (a_lefts := a_lefts) (a_rights := a_rights) (a_prices := a_prices) (a_lengths := a_lengths) (a_letters := a_letters) (a_text := a_text) (a_result := a_result) (a_row := a_row) (a_parts := a_parts) (a_tried := a_tried) (a_begins := a_begins) (pr := pr) hA hm hv ht A.length A [] a_sums a_numbers a_splits rfl hA hs hx (fun d hd => absurd hd List.not_mem_nil) hl trivial
  rw [List.append_nil] at h1
  refine ⟨b_sums, b_numbers, b_splits, la_take h1, fun post hp => ?_⟩
  rw [List.length_take, so_ins_len] at hp
  subst hk
  exact Exists.intro (c.length + 1) (yk_4 (pr := pr) hT hP rfl hm hcT ht ⟨A.length + 1, h2 post hp⟩ c [] rfl)
end YK
end
section
/-! the reference: all splits, one behind the other in the order of their tokens -/
def sb_b : List Nat → List Nat → Nat → Prop
  | [], _, _ => False
  | x :: _, [], f => x < f
  | x :: xs, a :: as, f => x < a ∨ (x = a ∧ sb_b xs as f)
def sb_a : List Nat → List Nat → Prop
  | _, [] => True
  | [], _ :: _ => False
  | x :: xs, a :: as => x < a ∨ (x = a ∧ sb_a xs as)
theorem sb_a_sn {t : Nat} : ∀ x s : List Nat, sb_a x (s ++ [t]) ↔ sb_b x s (t + 1)
  | [], [] => Iff.rfl
  | [], _ :: _ => Iff.rfl
  | x :: xs, [] => by
    have h : sb_a xs [] := by cases xs <;> trivial
    show x < t ∨ (x = t ∧ sb_a xs []) ↔ x < t + 1
    constructor
    · rintro (z | z)
      · omega
      · omega
    · intro z
      rcases Nat.lt_or_ge x t with w | w
      · exact Or.inl w
      · exact Or.inr ⟨by omega, h⟩
  | x :: xs, a :: as => by
    show x < a ∨ (x = a ∧ sb_a xs (as ++ [t])) ↔ x < a ∨ (x = a ∧ sb_b xs as (t + 1))
    rw [sb_a_sn xs as]
theorem sb_b_sn {t : Nat} : ∀ x s : List Nat, sb_b x (s ++ [t]) 0 ↔ sb_b x s t
  | [], [] => Iff.rfl
  | [], _ :: _ => Iff.rfl
  | [x], [] => by
    show x < t ∨ (x = t ∧ False) ↔ x < t
    simp
  | x :: y :: xs, [] => by
    show x < t ∨ (x = t ∧ y < 0) ↔ x < t
    omega
  | x :: xs, a :: as => by
    show x < a ∨ (x = a ∧ sb_b xs (as ++ [t]) 0) ↔ x < a ∨ (x = a ∧ sb_b xs as t)
    rw [sb_b_sn xs as]
theorem sb_b_lx : ∀ x s : List Nat, sb_b x s 0 → sq_lx x s = true
  | [], _, h => absurd h id
  | x :: xs, [], h => absurd (show x < 0 from h) (Nat.not_lt_zero _)
  | x :: xs, a :: as, h => by
    rcases h with h | ⟨h1, h2⟩
    · exact sq_lx_c.mpr (Or.inl h)
    · exact sq_lx_c.mpr (Or.inr ⟨h1, sb_b_lx xs as h2⟩)
theorem sb_full {sp : Nat → List Nat} : ∀ (x s : List Nat), (∀ t ∈ x, 1 ≤ (sp t).length) → x.flatMap sp = s.flatMap sp → (∀ t ∈ s, 1 ≤ (sp t).length) → (sb_a x s ↔ sb_b x s 0 ∨ x = s)
  | [], [], _, _, _ => ⟨fun _ => Or.inr rfl, fun _ => trivial⟩
  | [], a :: as, _, _, _ => ⟨fun h => absurd h id, fun h => by rcases h with h | h; exact absurd h id; exact nomatch h⟩
  | x :: xs, [], h, e, _ => by
    have := h x List.mem_cons_self
    have e2 := congrArg List.length e
    rw [List.flatMap_cons, List.length_append, List.flatMap_nil, List.length_nil] at e2
    omega
  | x :: xs, a :: as, h, e, h2 => by
    show x < a ∨ (x = a ∧ sb_a xs as) ↔ (x < a ∨ (x = a ∧ sb_b xs as 0)) ∨ x :: xs = a :: as
    by_cases hx : x = a
    · subst hx
      rw [List.flatMap_cons, List.flatMap_cons] at e
      rw [sb_full xs as (fun t ht => h t (List.mem_cons_of_mem _ ht)) (List.append_cancel_left e) (fun t ht => h2 t (List.mem_cons_of_mem _ ht))]
      constructor
      · rintro (z | ⟨_, z | z⟩)
        · exact Or.inl (Or.inl z)
        · exact Or.inl (Or.inr ⟨rfl, z⟩)
        · exact Or.inr (by rw [z])
      · rintro ((z | ⟨_, z⟩) | z)
        · exact Or.inl z
        · exact Or.inr ⟨rfl, Or.inl z⟩
        · exact Or.inr ⟨rfl, Or.inr (List.cons.inj z).2⟩
    · constructor
      · rintro (z | ⟨z, _⟩)
        · exact Or.inl (Or.inl z)
        · exact absurd z hx
      · rintro ((z | ⟨z, _⟩) | z)
        · exact Or.inl z
        · exact absurd z hx
        · exact absurd (List.cons.inj z).1 hx
theorem sb_step {sp : Nat → List Nat} {rest : List Nat} {f g : Nat} (hfg : f ≤ g) : ∀ (x s : List Nat), x.flatMap sp = s.flatMap sp ++ rest → (∀ t ∈ x, f ≤ t → t < g → ¬ sp t <+: rest) → (sb_b x s f ↔ sb_b x s g)
  | [], _, _, _ => ⟨fun h => absurd h id, fun h => absurd h id⟩
  | x :: xs, [], e, h => by
    show x < f ↔ x < g
    constructor
    · omega
    · intro hg
      rcases Nat.lt_or_ge x f with z | z
      · exact z
      · exact absurd ⟨xs.flatMap sp, by rw [List.flatMap_cons] at e; exact e⟩ (h x List.mem_cons_self z hg)
  | x :: xs, a :: as, e, h => by
    show x < a ∨ (x = a ∧ sb_b xs as f) ↔ x < a ∨ (x = a ∧ sb_b xs as g)
    by_cases hx : x = a
    · subst hx
      rw [List.flatMap_cons, List.flatMap_cons, List.append_assoc] at e
      rw [sb_step hfg xs as (List.append_cancel_left e) (fun t ht => h t (List.mem_cons_of_mem _ ht))]
    · constructor
      · rintro (z | ⟨z, _⟩)
        · exact Or.inl z
        · exact absurd z hx
      · rintro (z | ⟨z, _⟩)
        · exact Or.inl z
        · exact absurd z hx
theorem sb_part {sp : Nat → List Nat} {rest : List Nat} {T : Nat} (hr : rest ≠ []) : ∀ (x s : List Nat), x.flatMap sp = s.flatMap sp ++ rest → (∀ t ∈ x, t < T) → (sb_a x s ↔ sb_b x s T)
  | [], [], e, _ => absurd e.symm hr
  | [], _ :: _, _, _ => Iff.rfl
  | x :: xs, [], _, h => ⟨fun _ => h x List.mem_cons_self, fun _ => trivial⟩
  | x :: xs, a :: as, e, h => by
    show x < a ∨ (x = a ∧ sb_a xs as) ↔ x < a ∨ (x = a ∧ sb_b xs as T)
    by_cases hx : x = a
    · subst hx
      rw [List.flatMap_cons, List.flatMap_cons, List.append_assoc] at e
      rw [sb_part hr xs as (List.append_cancel_left e) (fun t ht => h t (List.mem_cons_of_mem _ ht))]
    · constructor
      · rintro (z | ⟨z, _⟩)
        · exact Or.inl z
        · exact absurd z hx
      · rintro (z | ⟨z, _⟩)
        · exact Or.inl z
        · exact absurd z hx
section YD
variable {f_words f_tokens f_textSize f_resultSize f_rowSize f_barred f_made f_kept : Int32} {a_counts a_sizes a_spelled a_lefts a_rights a_prices a_lengths a_letters a_text a_result a_row a_parts a_sums a_numbers a_splits a_tried a_begins : Nat → Int32}
def yd_f (s : List Nat) : Int32 := match s.getLast? with
  | none => 0
  | some x => nI (x + 1)
theorem yd_f0 : yd_f [] = 0 := rfl
theorem yd_fs {s : List Nat} {t : Nat} : yd_f (s ++ [t]) = nI (t + 1) := by
  unfold yd_f; rw [List.getLast?_append]; rfl
def yd_B (sp : Nat → List Nat) (s : List Nat) (a_begins : Nat → Int32) : Prop := ∀ j, j ≤ s.length → a_begins j = nI ((s.take j).flatMap sp).length
theorem yd_73n {post : Int32 → SY → Prop} {J18 : Int32 → Int32 → Int32 → Int32 → Int32 → Int32 → Int32 → Int32 → Int32 → Int32 → Int32 →  (Nat → Int32) → (Nat → Int32) → (Nat → Int32) → (Nat → Int32) → (Nat → Int32) → (Nat → Int32) → (Nat → Int32) → (Nat → Int32) → (Nat → Int32) → (Nat → Int32) → (Nat → Int32) → (Nat → Int32) → (Nat → Int32) → (Nat → Int32) → (Nat → Int32) → (Nat → Int32) → (Nat → Int32) →  Prop} {x1 : Int32} {s : List Nat} (hs : s.length ≤ 12) (ht : ly a_tried 0 s) (hB : ∀ t ∈ s, t < 20) (K : J18 x1 (nI s.length + (-1)) (yd_f s) f_words f_tokens f_textSize f_resultSize f_rowSize f_barred f_made f_kept a_counts a_sizes a_spelled a_lefts a_rights a_prices a_lengths a_letters a_text a_result a_row a_parts a_sums a_numbers a_splits a_tried a_begins) : wY_lookAtAll_73 post J18 x1 (nI s.length) (-1) f_words f_tokens f_textSize f_resultSize f_rowSize f_barred f_made f_kept a_counts a_sizes a_spelled a_lefts a_rights a_prices a_lengths a_letters a_text a_result a_row a_parts a_sums a_numbers a_splits a_tried a_begins := by
  refine br_t qn_n1 (nm_e ?_)
  rcases List.eq_nil_or_concat s with rfl | ⟨s1, x, rfl⟩
  · exact br_f (by decide) K
  · rw [List.concat_eq_append] at hs ht hB K ⊢
    have hl : (s1 ++ [x]).length = s1.length + 1 := by simp
    rw [yd_fs] at K
    rw [hl] at hs K ⊢
    rw [pk_m1] at K ⊢
    have hx : a_tried s1.length = nI x := by
      have := (ly_app.mp ht).2 0 (by simp)
      simpa using this
    refine br_t (nI_pos' (by omega)) ⟨vp_in_nI (by omega) (by omega), nm_r (e' := nI (x + 1)) (by rw [nI_clamp (by omega), hx, nI_1]) K⟩
theorem yd_73p {post : Int32 → SY → Prop} {J18 : Int32 → Int32 → Int32 → Int32 → Int32 → Int32 → Int32 → Int32 → Int32 → Int32 → Int32 →  (Nat → Int32) → (Nat → Int32) → (Nat → Int32) → (Nat → Int32) → (Nat → Int32) → (Nat → Int32) → (Nat → Int32) → (Nat → Int32) → (Nat → Int32) → (Nat → Int32) → (Nat → Int32) → (Nat → Int32) → (Nat → Int32) → (Nat → Int32) → (Nat → Int32) → (Nat → Int32) → (Nat → Int32) →  Prop} {x1 : Int32} {d t p len : Nat} (hd : d < 12) (ht : t < 20) (hb : a_begins d = nI p) (hl : a_lengths t = nI len) (K : J18 x1 (nI (d + 1)) 0 f_words f_tokens f_textSize f_resultSize f_rowSize f_barred f_made f_kept a_counts a_sizes a_spelled a_lefts a_rights a_prices a_lengths a_letters a_text a_result a_row a_parts a_sums a_numbers a_splits (upd a_tried d (nI t)) (upd a_begins (d + 1) (nI (p + len)))) : wY_lookAtAll_73 post J18 x1 (nI d) (nI t) f_words f_tokens f_textSize f_resultSize f_rowSize f_barred f_made f_kept a_counts a_sizes a_spelled a_lefts a_rights a_prices a_lengths a_letters a_text a_result a_row a_parts a_sums a_numbers a_splits a_tried a_begins :=
  br_f (nI_pos (by omega)) ⟨vp_in_nI (by omega) (by omega), nm_r (e' := upd a_tried d (nI t)) (by rw [nI_clamp (by omega)]) ⟨vp_in_nI (by omega) (by omega), vp_in_nI (by omega) (by omega), pk_in (d + 1) 13 (by omega) (nI_1 d), nm_r (e' := upd a_begins (d + 1) (nI (p + len))) (by rw [nI_1, nI_clamp (by omega), nI_clamp (by omega), nI_clamp (by omega), hb, hl, nI_add]) (nm_r (nI_1 d) K)⟩⟩
def yd_I (sp : Nat → List Nat) (pr : Nat → Nat) (ok : Nat → Prop) (row : List Nat) (s : List Nat) (mem : List Nat → Prop) (l : List (List Nat)) (f_kept : Int32) (a_sums a_numbers a_splits a_tried a_begins : Nat → Int32) : Prop :=
  so_P (sq_lt pr) l ∧ (∀ x, x ∈ l ↔ sq_S ok sp row x ∧ mem x) ∧ f_kept = nI (l.take 6).length ∧ la (yk_P pr a_sums a_numbers a_splits) 0 (l.take 6) ∧ ly a_tried 0 s ∧ yd_B sp s a_begins
theorem yd_main {T : Nat} {sp : Nat → List Nat} {pr : Nat → Nat} {row : List Nat} {post : Int32 → SY → Prop} (hS : yt_S T sp a_lengths a_letters) (hP : ∀ t, t < T → a_prices t = nI (pr t) ∧ pr t ≤ 99) (ht : f_tokens = nI T) (hT : T ≤ 20) (hs : f_rowSize = nI row.length) (hrl : row.length ≤ 12) (hr : ly a_row 0 row) (hB : ∀ c ∈ row, c < 6) :
    ∀ (N : Nat) (s : List Nat) (f : Nat) (rest : List Nat) (l : List (List Nat)) (f_kept : Int32) (a_sums a_numbers a_splits a_tried a_begins : Nat → Int32),
      21 * rest.length + (T - f) < N → f ≤ T → (∀ t ∈ s, t < T ∧ ¬ nI t = f_barred) → s.flatMap sp ++ rest = row →
      yd_I sp pr (fun t => t < T ∧ ¬ nI t = f_barred) row s (fun x => sb_b x s f) l f_kept a_sums a_numbers a_splits a_tried a_begins →
      (∀ (l : List (List Nat)) (f_kept : Int32) (a_sums a_numbers a_splits a_tried a_begins : Nat → Int32), yd_I sp pr (fun t => t < T ∧ ¬ nI t = f_barred) row s (fun x => sb_a x s) l f_kept a_sums a_numbers a_splits a_tried a_begins → ∃ n, wY_lookAtAll_18 post n (nI l.length) (nI s.length + (-1)) (yd_f s) f_words f_tokens f_textSize f_resultSize f_rowSize f_barred f_made f_kept a_counts a_sizes a_spelled a_lefts a_rights a_prices a_lengths a_letters a_text a_result a_row a_parts a_sums a_numbers a_splits a_tried a_begins) →
      ∃ n, wY_lookAtAll_18 post n (nI l.length) (nI s.length) (nI f) f_words f_tokens f_textSize f_resultSize f_rowSize f_barred f_made f_kept a_counts a_sizes a_spelled a_lefts a_rights a_prices a_lengths a_letters a_text a_result a_row a_parts a_sums a_numbers a_splits a_tried a_begins := by
  intro N
  induction N with
  | zero => intro s f rest l f_kept a_sums a_numbers a_splits a_tried a_begins h; omega
  | succ N ih =>
    intro s f rest l f_kept a_sums a_numbers a_splits a_tried a_begins hN hf hok hrow hI K
    obtain ⟨i1, i2, i3, i4, i5, i6⟩ := hI
    have hpos : ∀ t, t < T → 1 ≤ (sp t).length := fun t h => (hS t h).2.1
    have hlen : s.length ≤ (s.flatMap sp).length := sq_S_len (ok := fun t => t < T ∧ ¬ nI t = f_barred) (fun t h => hpos t h.1) s ⟨hok, rfl⟩
    have hrowl : (s.flatMap sp).length + rest.length = row.length := by rw [← hrow, List.length_append]
    have hb : a_begins s.length = nI (s.flatMap sp).length := by
      have := i6 s.length (Nat.le_refl _)
      rw [List.take_length] at this; exact this
    have hB20 : ∀ t ∈ s, t < 20 := fun t h => by have := (hok t h).1; omega
    have hdrop : row.drop (s.flatMap sp).length = rest := by rw [← hrow, List.drop_left]
    have hb' : a_begins (nI s.length).toNatClampNeg = nI (s.flatMap sp).length := by rw [nI_clamp (by omega)]; exact hb
    have hfit : ∀ t, sp_fit sp row f_barred t (s.flatMap sp).length = true ↔ ¬ nI t = f_barred ∧ sp t <+: rest := by
      intro t
      unfold sp_fit
      rw [hdrop, Bool.and_eq_true, decide_eq_true_iff, List.isPrefixOf_iff_prefix]
    by_cases hre : rest = []
    · -- a whole split
      subst hre
      rw [List.append_nil] at hrow
      have hSs : sq_S (fun t => t < T ∧ ¬ nI t = f_barred) sp row s := ⟨hok, hrow⟩
      have hmem : ∀ x, sq_S (fun t => t < T ∧ ¬ nI t = f_barred) sp row x → (sb_a x s ↔ sb_b x s 0 ∨ x = s) := fun x hx => sb_full x s (fun t h => hpos t (hx.1 t h).1) (hx.2.trans hrow.symm) (fun t h => hpos t (hok t h).1)
      have h0 : ∀ x, sq_S (fun t => t < T ∧ ¬ nI t = f_barred) sp row x → (sb_b x s 0 ↔ sb_b x s f) := fun x hx => sb_step (rest := []) (Nat.zero_le f) x s (by rw [List.append_nil]; exact hx.2.trans hrow.symm) (fun t h1 _ _ hp => by
        have h3 := hpos t (hx.1 t h1).1
        rw [List.prefix_nil.mp hp] at h3; simp at h3)
      have hnl : s ∉ l := fun h => by
        have := sb_b_lx s s ((h0 s hSs).mpr ((i2 s).mp h).2)
        rw [sq_lx_r] at this; exact nomatch this
      have hv : sq_pz pr s < 100000 := by
        have := sq_pz_le (pr := pr) (m := 99) s (fun t h => (hP t (hok t h).1).2)
        omega
      obtain ⟨b_sums, b_numbers, b_splits, k1, k2⟩ := yk_keep (f_words := f_words) (f_tokens := f_tokens) (f_textSize := f_textSize) (f_resultSize := f_resultSize) (f_rowSize := f_rowSize) (f_barred := f_barred) (f_made := f_made) (f_kept := f_kept) (a_counts := a_counts) (a_sizes := a_sizes) (a_spelled := a_spelled) (a_lefts := a_lefts) (a_rights := a_rights) (a_prices := a_prices) (a_lengths := a_lengths) (a_letters := a_letters) (a_text := a_text) (a_result := a_result) (a_row := a_row) (a_parts := a_parts) (a_sums := a_sums) (a_numbers := a_numbers) (a_splits := a_splits) (a_tried := a_tried) (a_begins := a_begins) (T := T) (pr := pr) (c := s) (A := l.take 6) hT (fun t h => (hP t h).1) (by omega) (fun t h => (hok t h).1) i5 hv (by rw [List.length_take]; omega) i3 (by have h := i1; rw [so_P, ← List.take_append_drop 6 l] at h; exact (List.pairwise_append.mp h).1) (fun b hb hx => by
          have hm := (i2 b).mp (List.mem_of_mem_take hb)
          have := sq_lx_t _ _ _ hx (sb_b_lx b s ((h0 b hm.1).mpr hm.2))
          rw [sq_lx_r] at this; exact nomatch this) i4
      rw [← so_take] at k1 k2
      obtain ⟨n, hn⟩ := K (so_ins (sq_lt pr) s l) (nI ((so_ins (sq_lt pr) s l).take 6).length) b_sums b_numbers b_splits a_tried a_begins ⟨so_ins_P (sq_O pr) i1 hnl, fun x => by
          rw [so_ins_mem, i2]
          constructor
          · rintro (rfl | ⟨h1, h2⟩)
            · exact ⟨hSs, (hmem _ hSs).mpr (Or.inr rfl)⟩
            · exact ⟨h1, (hmem _ h1).mpr (Or.inl ((h0 x h1).mpr h2))⟩
          · rintro ⟨h1, h2⟩
            rcases (hmem _ h1).mp h2 with h | h
            · exact Or.inr ⟨h1, (h0 x h1).mp h⟩
            · exact Or.inl h, rfl, k1, i5, i6⟩
      have hbe : a_begins (nI s.length).toNatClampNeg = f_rowSize := by rw [hb', hs, hrow]
      have hv13 : vp_in (nI s.length) 13 := vp_in_nI (by omega) (by omega)
      rw [so_ins_len] at hn
      exact ⟨n + 1, br_f (nI_pos (by omega)) ⟨hv13, br_t hbe (And.intro hv13 (br_t hbe (nm_r (nI_1 l.length) (k2 _ (yd_73n (by omega) i5 hB20 hn)))))⟩⟩
    · have hrp : 0 < rest.length := List.length_pos_iff.mpr hre
      have hbe : ¬ a_begins (nI s.length).toNatClampNeg = f_rowSize := by
        rw [hb', hs]; exact qn_ne (by omega) (by omega) (by omega)
      have hv13 : vp_in (nI s.length) 13 := vp_in_nI (by omega) (by omega)
      have hfl : ∀ x, sq_S (fun t => t < T ∧ ¬ nI t = f_barred) sp row x → x.flatMap sp = s.flatMap sp ++ rest := fun x hx => hx.2.trans hrow.symm
      obtain ⟨r, h1, h2⟩ := yy_next (f_words := f_words) (f_tokens := f_tokens) (f_textSize := f_textSize) (f_resultSize := f_resultSize) (f_rowSize := f_rowSize) (f_barred := f_barred) (f_made := f_made) (f_kept := f_kept) (a_counts := a_counts) (a_sizes := a_sizes) (a_spelled := a_spelled) (a_lefts := a_lefts) (a_rights := a_rights) (a_prices := a_prices) (a_lengths := a_lengths) (a_letters := a_letters) (a_text := a_text) (a_result := a_result) (a_row := a_row) (a_parts := a_parts) (a_sums := a_sums) (a_numbers := a_numbers) (a_splits := a_splits) (a_tried := a_tried) (a_begins := a_begins) (T := T) (p := (s.flatMap sp).length) (f := f) hS ht hT hs hrl (by omega) hr hB hf
      rcases h1 with ⟨t, t1, t2, t3, t4, t5⟩ | ⟨t3, t5⟩
      · -- one more token
        obtain ⟨hto, rest', hre'⟩ := (hfit t).mp t4
        obtain ⟨s1, s2, s3, -⟩ := hS t t2
        have hrl' : (sp t).length + rest'.length = rest.length := by rw [← hre', List.length_append]
        have hbelow : ∀ x, sq_S (fun t => t < T ∧ ¬ nI t = f_barred) sp row x → (sb_b x s f ↔ sb_b x s t) := fun x hx => sb_step t1 x s (hfl x hx) (fun u h1 h2 h3 h4 => by
          have := t5 u h2 h3
          rw [(hfit u).mpr ⟨(hx.1 u h1).2, h4⟩] at this; exact nomatch this)
        have hfm : (s ++ [t]).flatMap sp = s.flatMap sp ++ sp t := by rw [List.flatMap_append]; simp
        obtain ⟨n, hn⟩ := ih (s ++ [t]) 0 rest' l f_kept a_sums a_numbers a_splits (upd a_tried s.length (nI t)) (upd a_begins (s.length + 1) (nI ((s.flatMap sp).length + (sp t).length))) (by omega) (by omega)
          (fun u hu => by
            rcases List.mem_append.mp hu with h | h
            · exact hok u h
            · rw [List.mem_singleton.mp h]; exact ⟨t2, hto⟩)
          (by rw [hfm, List.append_assoc, hre']; exact hrow)
          ⟨i1, fun x => by
            rw [i2]
            constructor
            · rintro ⟨h1, h2⟩; exact ⟨h1, (sb_b_sn x s).mpr ((hbelow x h1).mp h2)⟩
            · rintro ⟨h1, h2⟩; exact ⟨h1, (hbelow x h1).mpr ((sb_b_sn x s).mp h2)⟩, i3, i4, ly_sn (ly_up i5 (by omega)) (by rw [Nat.zero_add, pk_us]), fun j hj => by
            have hj' : j ≤ s.length + 1 := by simpa using hj
            by_cases e : j = s.length + 1
            · subst e
              rw [pk_us, show s.length + 1 = (s ++ [t]).length from by simp, List.take_length, hfm, List.length_append]
            · rw [pk_un e, List.take_append_of_le_length (by omega)]; exact i6 j (by omega)⟩
          (fun l f_kept a_sums a_numbers a_splits a_tried a_begins hI' => by
            obtain ⟨j1, j2, j3, j4, j5, j6⟩ := hI'
            have hl1 : (s ++ [t]).length = s.length + 1 := by simp
            rw [hl1, pk_m1, yd_fs]
            refine ih s (t + 1) rest l f_kept a_sums a_numbers a_splits a_tried a_begins (by omega) (by omega) hok hrow ⟨j1, fun x => (j2 x).trans ⟨fun h => ⟨h.1, (sb_a_sn x s).mp h.2⟩, fun h => ⟨h.1, (sb_a_sn x s).mpr h.2⟩⟩, j3, j4, (ly_app.mp j5).1, fun j hj => ?_⟩ K
            have := j6 j (by rw [hl1]; omega)
            rw [List.take_append_of_le_length hj] at this; exact this)
        have hl1 : (s ++ [t]).length = s.length + 1 := by simp
        rw [hl1] at hn
        refine ⟨n + 1, br_f (nI_pos (by omega)) ⟨hv13, br_f hbe ⟨hv13, ?_⟩⟩⟩
        rw [hb']
        refine h2 _ (And.intro hv13 (br_f hbe ?_))
        rw [t3]
        exact yd_73p (by omega) (by omega) hb s1 hn
      · -- none: back
        have hall : ∀ x, sq_S (fun t => t < T ∧ ¬ nI t = f_barred) sp row x → (sb_b x s f ↔ sb_a x s) := fun x hx => by
          rw [sb_part hre x s (hfl x hx) (fun t h => (hx.1 t h).1)]
          exact sb_step hf x s (hfl x hx) (fun u h1 h2 h3 h4 => by
            have := t5 u h2 h3
            rw [(hfit u).mpr ⟨(hx.1 u h1).2, h4⟩] at this; exact nomatch this)
        obtain ⟨n, hn⟩ := K l f_kept a_sums a_numbers a_splits a_tried a_begins ⟨i1, fun x => by
          rw [i2]
          constructor
          · rintro ⟨h1, h2⟩; exact ⟨h1, (hall x h1).mp h2⟩
          · rintro ⟨h1, h2⟩; exact ⟨h1, (hall x h1).mpr h2⟩, i3, i4, i5, i6⟩
        refine ⟨n + 1, br_f (nI_pos (by omega)) ⟨hv13, br_f hbe ⟨hv13, ?_⟩⟩⟩
        rw [hb']
        refine h2 _ (And.intro hv13 (br_f hbe ?_))
        rw [t3]
        exact yd_73n (by omega) i5 hB20 hn
theorem yd_look {T : Nat} {sp : Nat → List Nat} {pr : Nat → Nat} {row : List Nat} {post : Int32 → SY → Prop} (hS : yt_S T sp a_lengths a_letters) (hP : ∀ t, t < T → a_prices t = nI (pr t) ∧ pr t ≤ 99) (ht : f_tokens = nI T) (hT : T ≤ 20) (hs : f_rowSize = nI row.length) (hrl : row.length ≤ 12) (hr : ly a_row 0 row) (hB : ∀ c ∈ row, c < 6)
    (K : ∀ (l : List (List Nat)) (f_kept : Int32) (a_sums a_numbers a_splits a_tried a_begins : Nat → Int32), so_P (sq_lt pr) l → (∀ x, x ∈ l ↔ sq_S (fun t => t < T ∧ ¬ nI t = f_barred) sp row x) → f_kept = nI (l.take 6).length → la (yk_P pr a_sums a_numbers a_splits) 0 (l.take 6) → post (nI l.length) (f_words, f_tokens, f_textSize, f_resultSize, f_rowSize, f_barred, f_made, f_kept, a_counts, a_sizes, a_spelled, a_lefts, a_rights, a_prices, a_lengths, a_letters, a_text, a_result, a_row, a_parts, a_sums, a_numbers, a_splits, a_tried, a_begins)) : wpY_lookAtAll post (f_words, f_tokens, f_textSize, f_resultSize, f_rowSize, f_barred, f_made, f_kept, a_counts, a_sizes, a_spelled, a_lefts, a_rights, a_prices, a_lengths, a_letters, a_text, a_result, a_row, a_parts, a_sums, a_numbers, a_splits, a_tried, a_begins) := by
  refine nm_e ?_
  refine yd_main hS hP ht hT hs hrl hr hB (21 * row.length + T + 1) [] 0 row [] 0 a_sums a_numbers a_splits a_tried (upd a_begins 0 0) (by omega) (by omega) (fun t h => absurd h List.not_mem_nil) rfl ⟨so_P_nil, fun x => ⟨fun h => absurd h List.not_mem_nil, fun h => ?_⟩, rfl, trivial, ly_nil, fun j hj => ?_⟩ ?_
  · cases x with
    | nil => exact absurd h.2 id
    | cons y ys => exact absurd (show y < 0 from h.2) (Nat.not_lt_zero _)
  · have e : j = 0 := Nat.le_zero.mp hj
    subst e; exact pk_us
  · intro l f_kept a_sums a_numbers a_splits a_tried a_begins hI
    obtain ⟨i1, i2, i3, i4, i5, i6⟩ := hI
    exact ⟨1, br_t (by decide) (K l f_kept a_sums a_numbers a_splits a_tried a_begins i1 (fun x => by rw [i2]; exact ⟨fun h => h.1, fun h => ⟨h, by cases x <;> trivial⟩⟩) i3 i4)⟩
end YD
end
section
/-! the reference: the ways of splitting, frequencies -/
def sq_ok (T : Nat) (bn : Int32) (t : Nat) : Prop := t < T ∧ ¬ nI t = bn
theorem sq_row {T : Nat} {sp : Nat → List Nat} {bn : Int32} {row : List Nat} (h1 : yt_1 T sp) (hbn : ∀ t, t < 6 → ¬ nI t = bn) (hB : ∀ c ∈ row, c < 6) : sq_S (sq_ok T bn) sp row row := by
  refine ⟨fun t h => ⟨by have := hB t h; have := h1.1; omega, hbn t (hB t h)⟩, ?_⟩
  induction row with
  | nil => rfl
  | cons c row ih =>
    rw [List.flatMap_cons, h1.2.1 c (hB c List.mem_cons_self), ih fun x hx => hB x (List.mem_cons_of_mem _ hx)]; rfl
/-- the row in order of all splits -/
def sq_A (T : Nat) (sp : Nat → List Nat) (pr : Nat → Nat) (bn : Int32) (row : List Nat) (l : List (List Nat)) : Prop := so_P (sq_lt pr) l ∧ ∀ x, x ∈ l ↔ sq_S (sq_ok T bn) sp row x
theorem sq_A_u {T : Nat} {sp : Nat → List Nat} {pr : Nat → Nat} {bn : Int32} {row : List Nat} {l m : List (List Nat)} (h : sq_A T sp pr bn row l) (k : sq_A T sp pr bn row m) : l = m := so_uniq (sq_O pr) h.1 k.1 fun x => by rw [h.2, k.2]
/-- what a way of splitting gives -/
def pw (T : Nat) (L R : Nat → Nat) (sp : Nat → List Nat) (pr : Nat → Nat) (bn : Int32) (v : Nat) (row ps : List Nat) : Prop :=
  (v = 0 → ps = mg_all L R (T - 6) 6 row) ∧ (v = 1 → lf_R T sp row bn 0 ps) ∧ (v = 2 → ∃ l, sq_A T sp pr bn row (ps :: l)) ∧ ps.length ≤ 12 ∧ ∀ t ∈ ps, t < T
theorem pw_u {T : Nat} {L R : Nat → Nat} {sp : Nat → List Nat} {pr : Nat → Nat} {bn : Int32} {v : Nat} {row ps qs : List Nat} (hv : v ≤ 2) (h : pw T L R sp pr bn v row ps) (k : pw T L R sp pr bn v row qs) : ps = qs := by
  have : v = 0 ∨ v = 1 ∨ v = 2 := by omega
  rcases this with e | e | e
  · rw [h.1 e, k.1 e]
  · exact lf_R_u _ _ _ (h.2.1 e) (k.2.1 e)
  · obtain ⟨l, hl⟩ := h.2.2.1 e
    obtain ⟨m, hm⟩ := k.2.2.1 e
    exact (List.cons.inj (sq_A_u hl hm)).1
theorem lf_R_b {T : Nat} {sp : Nat → List Nat} {row : List Nat} {bn : Int32} (hp : ∀ t, t < T → 1 ≤ (sp t).length) : ∀ (bs : List Nat) (p : Nat), p ≤ row.length → lf_R T sp row bn p bs → p + bs.length ≤ row.length ∧ ∀ t ∈ bs, t < T
  | [], p, hp, _ => ⟨by simpa using hp, fun t h => absurd h List.not_mem_nil⟩
  | b :: bs, p, hpl, ⟨h1, h2, h3⟩ => by
    have hb := hp b h2.1
    have hf := h2.2.1
    unfold sp_fit at hf
    rw [Bool.and_eq_true] at hf
    have hf := (List.isPrefixOf_iff_prefix.mp hf.2).length_le
    rw [List.length_drop] at hf
    obtain ⟨i1, i2⟩ := lf_R_b hp bs _ (by omega) h3
    refine ⟨by simp; omega, fun t ht => ?_⟩
    rcases List.mem_cons.mp ht with rfl | ht
    · exact h2.1
    · exact i2 t ht
section YP
variable {f_words f_tokens f_textSize f_resultSize f_rowSize f_barred f_made f_kept : Int32} {a_counts a_sizes a_spelled a_lefts a_rights a_prices a_lengths a_letters a_text a_result a_row a_parts a_sums a_numbers a_splits a_tried a_begins : Nat → Int32} {post : SY → Prop}
theorem yp_17 {m : Nat} (hm : m ≤ 12) (K : post (f_words, f_tokens, f_textSize, f_resultSize, f_rowSize, f_barred, nI m, f_kept, a_counts, a_sizes, a_spelled, a_lefts, a_rights, a_prices, a_lengths, a_letters, a_text, a_result, a_row, qc a_parts a_splits 0 m, a_sums, a_numbers, a_splits, a_tried, a_begins)) : ∀ d i : Nat, i + d = m → wY_cheapest_17 post f_words f_tokens f_textSize f_resultSize f_rowSize f_barred (nI m) f_kept (d + 1) (nI i) a_counts a_sizes a_spelled a_lefts a_rights a_prices a_lengths a_letters a_text a_result a_row (qc a_parts a_splits 0 i) a_sums a_numbers a_splits a_tried a_begins := by
  intro d
  induction d with
  | zero =>
    intro i hi
    have e : i = m := by omega
    subst e
    exact br_t (nI_le (Nat.le_refl _) (by omega)) K
  | succ d ih =>
    intro i hi
    refine br_f (nI_ge (by omega) (by omega)) ⟨vp_in_nI (by omega) (by omega), vp_in_nI (by omega) (by omega), nm_r (e' := qc a_parts a_splits 0 (i + 1)) ?_ (nm_r (nI_1 i) (ih (i + 1) (by omega)))⟩
    rw [nI_clamp (by omega), ← qc_s, Nat.zero_add]
/-- what all ways of splitting need -/
def yt_A (T : Nat) (L R : Nat → Nat) (sp : Nat → List Nat) (pr : Nat → Nat) (f_tokens f_barred : Int32) (a_lefts a_rights a_prices a_lengths a_letters : Nat → Int32) : Prop :=
  f_tokens = nI T ∧ T ≤ 20 ∧ yt_1 T sp ∧ yt_L T L R a_lefts a_rights ∧ yt_S T sp a_lengths a_letters ∧ (∀ t, t < T → a_prices t = nI (pr t) ∧ pr t ≤ 99) ∧ ∀ t, t < 6 → ¬ nI t = f_barred
theorem yp_cheap {T : Nat} {L R : Nat → Nat} {sp : Nat → List Nat} {pr : Nat → Nat} {row : List Nat} (hA : yt_A T L R sp pr f_tokens f_barred a_lefts a_rights a_prices a_lengths a_letters) (hs : f_rowSize = nI row.length) (hrl : row.length ≤ 12) (hr : ly a_row 0 row) (hB : ∀ c ∈ row, c < 6)
    (K : ∀ (ps : List Nat) (f_kept : Int32) (a_parts a_sums a_numbers a_splits a_tried a_begins : Nat → Int32), pw T L R sp pr f_barred 2 row ps → ly a_parts 0 ps → post (f_words, f_tokens, f_textSize, f_resultSize, f_rowSize, f_barred, nI ps.length, f_kept, a_counts, a_sizes, a_spelled, a_lefts, a_rights, a_prices, a_lengths, a_letters, a_text, a_result, a_row, a_parts, a_sums, a_numbers, a_splits, a_tried, a_begins)) : wpY_cheapest post (f_words, f_tokens, f_textSize, f_resultSize, f_rowSize, f_barred, f_made, f_kept, a_counts, a_sizes, a_spelled, a_lefts, a_rights, a_prices, a_lengths, a_letters, a_text, a_result, a_row, a_parts, a_sums, a_numbers, a_splits, a_tried, a_begins) := by
  obtain ⟨h1, h2, h3, h4, h5, h6, h7⟩ := hA
  refine yd_look (f_words := f_words) (f_tokens := f_tokens) (f_textSize := f_textSize) (f_resultSize := f_resultSize) (f_rowSize := f_rowSize) (f_barred := f_barred) (f_made := f_made) (f_kept := f_kept) (a_counts := a_counts) (a_sizes := a_sizes) (a_spelled := a_spelled) (a_lefts := a_lefts) (a_rights := a_rights) (a_prices := a_prices) (a_lengths := a_lengths) (a_letters := a_letters) (a_text := a_text) (a_result := a_result) (a_row := a_row) (a_parts := a_parts) (a_sums := a_sums) (a_numbers := a_numbers) (a_splits := a_splits) (a_tried := a_tried) (a_begins := a_begins) h5 h6 h1 h2 hs hrl hr hB fun l f_kept a_sums a_numbers a_splits a_tried a_begins k1 k2 k3 k4 => ?_
  have hrow := (k2 row).mpr (sq_row h3 h7 hB)
  cases l with
  | nil => exact absurd hrow List.not_mem_nil
  | cons ps l =>
    have hps := (k2 ps).mp List.mem_cons_self
    have hl : ps.length ≤ row.length := sq_S_len (fun t h => (h5 t h.1).2.1) ps hps
    obtain ⟨⟨p1, p2, p3, p4, p5⟩, -⟩ : la (yk_P pr a_sums a_numbers a_splits) 0 (ps :: l.take 5) := k4
    refine nm_r (e' := nI ps.length) p2 ⟨ps.length + 1, ?_⟩
    have hpw : pw T L R sp pr f_barred 2 row ps := ⟨(fun h => nomatch h), (fun h => nomatch h), fun _ => ⟨l, k1, k2⟩, by omega, fun t h => (hps.1 t h).1⟩
    have q := yp_17 (post := post) (f_words := f_words) (f_tokens := f_tokens) (f_textSize := f_textSize) (f_resultSize := f_resultSize) (f_rowSize := f_rowSize) (f_barred := f_barred) (f_kept := f_kept) (a_counts := a_counts) (a_sizes := a_sizes) (a_spelled := a_spelled) (a_lefts := a_lefts) (a_rights := a_rights) (a_prices := a_prices) (a_lengths := a_lengths) (a_letters := a_letters) (a_text := a_text) (a_result := a_result) (a_row := a_row) (a_parts := a_parts) (a_sums := a_sums) (a_numbers := a_numbers) (a_splits := a_splits) (a_tried := a_tried) (a_begins := a_begins) (by omega) (K ps f_kept (qc a_parts a_splits 0 ps.length) a_sums a_numbers a_splits a_tried a_begins hpw (ly_qc p3 rfl)) ps.length 0 (by omega)
    rw [qc_0] at q
    exact q
theorem yp_parts {T v : Nat} {L R : Nat → Nat} {sp : Nat → List Nat} {pr : Nat → Nat} {row : List Nat} {p0 : Int32} (hp0 : p0 = nI v) (hv : v ≤ 2) (hA : yt_A T L R sp pr f_tokens f_barred a_lefts a_rights a_prices a_lengths a_letters) (hs : f_rowSize = nI row.length) (hrl : row.length ≤ 12) (hr : ly a_row 0 row) (hB : ∀ c ∈ row, c < 6)
    (K : ∀ (ps : List Nat) (f_kept : Int32) (a_parts a_sums a_numbers a_splits a_tried a_begins : Nat → Int32), pw T L R sp pr f_barred v row ps → ly a_parts 0 ps → post (f_words, f_tokens, f_textSize, f_resultSize, f_rowSize, f_barred, nI ps.length, f_kept, a_counts, a_sizes, a_spelled, a_lefts, a_rights, a_prices, a_lengths, a_letters, a_text, a_result, a_row, a_parts, a_sums, a_numbers, a_splits, a_tried, a_begins)) : wpY_makeParts post (f_words, f_tokens, f_textSize, f_resultSize, f_rowSize, f_barred, f_made, f_kept, a_counts, a_sizes, a_spelled, a_lefts, a_rights, a_prices, a_lengths, a_letters, a_text, a_result, a_row, a_parts, a_sums, a_numbers, a_splits, a_tried, a_begins) p0 := by
  subst hp0
  have hA' := hA
  obtain ⟨h1, h2, h3, h4, h5, h6, h7⟩ := hA'
  have hB20 : ∀ c ∈ row, c < 20 := fun c h => by have := hB c h; omega
  have hBT : ∀ c ∈ row, c < T := fun c h => by have := hB c h; have := h3.1; omega
  have : v = 0 ∨ v = 1 ∨ v = 2 := by omega
  rcases this with e | e | e
  · subst e
    refine br_t rfl (yy_merge h4 h1 h3.1 h2 hs hrl hr hB20 fun b_parts hb => ?_)
    refine br_f (by decide) (br_f (by decide) ?_)
    exact K _ _ b_parts _ _ _ _ _ ⟨fun _ => rfl, (fun h => nomatch h), (fun h => nomatch h), Nat.le_trans (mg_all_len _ _ _) hrl, mg_all_lt _ _ _ (by have := h3.1; omega) hBT⟩ hb
  · subst e
    refine br_f (by decide) (br_t rfl (yy_long h5 h3 h7 h1 h2 hs hrl hr hB fun bs b_parts g1 g2 => ?_))
    refine br_f (by decide) ?_
    obtain ⟨z1, z2⟩ := lf_R_b (fun t h => (h5 t h).2.1) bs 0 (by omega) g1
    exact K bs _ b_parts _ _ _ _ _ ⟨(fun h => nomatch h), fun _ => g1, (fun h => nomatch h), by omega, z2⟩ g2
  · subst e
    exact br_f (by decide) (br_f (by decide) (br_t rfl (yp_cheap hA hs hrl hr hB fun ps f_kept a_parts a_sums a_numbers a_splits a_tried a_begins g1 g2 => K ps f_kept a_parts a_sums a_numbers a_splits a_tried a_begins g1 g2)))
end YP
/-! frequencies -/
def fr_s (cn : Nat → Nat) (ml : Nat → List Nat) (x y : Nat) : Nat → Nat
  | 0 => 0
  | w + 1 => fr_s cn ml x y w + cn w * mg_pc x y (ml w)
section YF
variable {f_words f_tokens f_textSize f_resultSize f_rowSize f_barred f_made f_kept : Int32} {a_counts a_sizes a_spelled a_lefts a_rights a_prices a_lengths a_letters a_text a_result a_row a_parts a_sums a_numbers a_splits a_tried a_begins : Nat → Int32} {post : Int32 → SY → Prop}
theorem yf_27 {J5 : Int32 → Int32 → Int32 → Int32 → Int32 → Int32 → Int32 → Int32 → Int32 → Int32 →  (Nat → Int32) → (Nat → Int32) → (Nat → Int32) → (Nat → Int32) → (Nat → Int32) → (Nat → Int32) → (Nat → Int32) → (Nat → Int32) → (Nat → Int32) → (Nat → Int32) → (Nat → Int32) → (Nat → Int32) → (Nat → Int32) → (Nat → Int32) → (Nat → Int32) → (Nat → Int32) → (Nat → Int32) →  Prop} {x y w c m : Nat} (hw : w < 12) (hc : a_counts w = nI c) (hx : x < 20) (hy : y < 20) (hm : m ≤ 12) (hmd : f_made = nI m) : ∀ (n : Nat) (ys : List Nat) (i v : Nat), ys.length < n → i + ys.length = m → ly a_parts i ys → (∀ t ∈ ys, t < 20) → J5 (nI (v + c * mg_pc x y ys)) (nI (w + 1)) f_words f_tokens f_textSize f_resultSize f_rowSize f_barred f_made f_kept a_counts a_sizes a_spelled a_lefts a_rights a_prices a_lengths a_letters a_text a_result a_row a_parts a_sums a_numbers a_splits a_tried a_begins → wY_frequencyOf_27 post J5 (nI x) (nI y) (nI w) f_words f_tokens f_textSize f_resultSize f_rowSize f_barred f_made f_kept a_counts a_sizes a_spelled a_lefts a_rights a_prices a_lengths a_letters a_text a_result a_row a_parts a_sums a_numbers a_splits a_tried a_begins n (nI v) (nI i) := by
  subst hmd
  intro n
  induction n with
  | zero => intro ys i v h; omega
  | succ n ih =>
    intro ys i v hn hi hl hB K
    match ys, hn, hi, hl, hB, K with
    | [], hn, hi, hl, hB, K =>
      simp at hi
      rw [mg_pc_0, Nat.mul_zero, Nat.add_zero] at K
      exact br_t (by rw [nI_1]; exact nI_le (by omega) (by omega)) (nm_r (nI_1 w) K)
    | [a], hn, hi, hl, hB, K =>
      simp at hi
      rw [mg_pc_1, Nat.mul_zero, Nat.add_zero] at K
      exact br_t (by rw [nI_1]; exact nI_le (by omega) (by omega)) (nm_r (nI_1 w) K)
    | a :: b :: ys, hn, hi, hl, hB, K =>
      have hi' : i + (ys.length + 1 + 1) = m := hi
      have hn' : ys.length + 1 + 1 < n + 1 := hn
      obtain ⟨ha, hl'⟩ := ly_cons.mp hl
      obtain ⟨hb, -⟩ := ly_cons.mp hl'
      have ba := hB a List.mem_cons_self
      have bb := hB b (List.mem_cons_of_mem _ List.mem_cons_self)
      have hB' : ∀ t ∈ b :: ys, t < 20 := fun t h => hB t (List.mem_cons_of_mem _ h)
      rw [mg_pc_c] at K
      refine br_f (by rw [nI_1]; exact nI_ge (by omega) (by omega)) ⟨vp_in_nI (by omega) (by omega), ?_⟩
      rw [nI_1, nI_clamp (n := i) (by omega), nI_clamp (n := i + 1) (by omega), nI_clamp (n := w) (by omega), ha, hb, hc]
      refine pk_eq a x (fun e1 => ⟨vp_in_nI (by omega) (by omega), ?_⟩) (fun e1 => nm_e (ih (b :: ys) (i + 1) v (by simp; omega) (by simp; omega) hl' hB' ?_))
      · refine pk_eq b y (fun e2 => ⟨vp_in_nI (by omega) (by omega), nm_r (nI_add v c) (nm_e (ih (b :: ys) (i + 1) (v + c) (by simp; omega) (by simp; omega) hl' hB' ?_))⟩) (fun e2 => nm_e (ih (b :: ys) (i + 1) v (by simp; omega) (by simp; omega) hl' hB' ?_))
        · rw [if_pos ⟨e1, e2⟩, Nat.mul_add, Nat.mul_one, ← Nat.add_assoc] at K; exact K
        · rw [if_neg (fun z => e2 z.2), Nat.zero_add] at K; exact K
      · rw [if_neg (fun z => e1 z.1), Nat.zero_add] at K; exact K
theorem yf_5 {T x y : Nat} {L R : Nat → Nat} {W : Nat} {cn : Nat → Nat} {wd : Nat → List Nat} (hL : yt_L T L R a_lefts a_rights) (ht : f_tokens = nI T) (h6 : 6 ≤ T) (hT : T ≤ 20) (hW : f_words = nI W) (hW12 : W ≤ 12) (hwd : ∀ w, w < W → a_counts w = nI (cn w) ∧ a_sizes w = nI (wd w).length ∧ (wd w).length ≤ 8 ∧ ly a_spelled (8 * w) (wd w) ∧ ∀ c ∈ wd w, c < 6) (hx : x < 20) (hy : y < 20)
    (K : ∀ (f_rowSize f_made : Int32) (a_row a_parts : Nat → Int32), post (nI (fr_s cn (fun w => mg_all L R (T - 6) 6 (wd w)) x y W)) (f_words, f_tokens, f_textSize, f_resultSize, f_rowSize, f_barred, f_made, f_kept, a_counts, a_sizes, a_spelled, a_lefts, a_rights, a_prices, a_lengths, a_letters, a_text, a_result, a_row, a_parts, a_sums, a_numbers, a_splits, a_tried, a_begins)) : ∀ (d w : Nat) (f_rowSize f_made : Int32) (a_row a_parts : Nat → Int32), w + d = W → wY_frequencyOf_5 post (nI x) (nI y) (d + 1) (nI (fr_s cn (fun w => mg_all L R (T - 6) 6 (wd w)) x y w)) (nI w) f_words f_tokens f_textSize f_resultSize f_rowSize f_barred f_made f_kept a_counts a_sizes a_spelled a_lefts a_rights a_prices a_lengths a_letters a_text a_result a_row a_parts a_sums a_numbers a_splits a_tried a_begins := by
  intro d
  induction d with
  | zero =>
    intro w f_rowSize f_made a_row a_parts hd
    have e : w = W := by omega
    subst e
    exact br_t (by rw [hW]; exact nI_le (Nat.le_refl _) (by omega)) (K f_rowSize f_made a_row a_parts)
  | succ d ih =>
    intro w f_rowSize f_made a_row a_parts hd
    obtain ⟨w1, w2, w3, w4, w5⟩ := hwd w (by omega)
    refine br_f (by rw [hW]; exact nI_ge (by omega) (by omega)) ?_
    refine yy_tw rfl (by omega) w3 w2 ?_
    refine yy_merge hL ht h6 hT rfl (by omega) (ly_qc w4 rfl) (fun c h => by have := w5 c h; omega) fun b_parts hb => ?_
    have hlen := mg_all_len (L := L) (R := R) (T - 6) 6 (wd w)
    refine ⟨(mg_all L R (T - 6) 6 (wd w)).length + 1, ?_⟩
    exact yf_27 (by omega) w1 hx hy (by omega) rfl _ (mg_all L R (T - 6) 6 (wd w)) 0 _ (by omega) (by omega) hb (mg_all_lt _ _ _ (by omega) fun c h => by have := w5 c h; omega) (ih (w + 1) _ _ _ _ (by omega))
theorem yf_freq {T x y : Nat} {L R : Nat → Nat} {W : Nat} {cn : Nat → Nat} {wd : Nat → List Nat} {p0 p1 : Int32} (e0 : p0 = nI x) (e1 : p1 = nI y) (hL : yt_L T L R a_lefts a_rights) (ht : f_tokens = nI T) (h6 : 6 ≤ T) (hT : T ≤ 20) (hW : f_words = nI W) (hW12 : W ≤ 12) (hwd : ∀ w, w < W → a_counts w = nI (cn w) ∧ a_sizes w = nI (wd w).length ∧ (wd w).length ≤ 8 ∧ ly a_spelled (8 * w) (wd w) ∧ ∀ c ∈ wd w, c < 6) (hx : x < 20) (hy : y < 20)
    (K : ∀ (f_rowSize f_made : Int32) (a_row a_parts : Nat → Int32), post (nI (fr_s cn (fun w => mg_all L R (T - 6) 6 (wd w)) x y W)) (f_words, f_tokens, f_textSize, f_resultSize, f_rowSize, f_barred, f_made, f_kept, a_counts, a_sizes, a_spelled, a_lefts, a_rights, a_prices, a_lengths, a_letters, a_text, a_result, a_row, a_parts, a_sums, a_numbers, a_splits, a_tried, a_begins)) : wpY_frequencyOf post (f_words, f_tokens, f_textSize, f_resultSize, f_rowSize, f_barred, f_made, f_kept, a_counts, a_sizes, a_spelled, a_lefts, a_rights, a_prices, a_lengths, a_letters, a_text, a_result, a_row, a_parts, a_sums, a_numbers, a_splits, a_tried, a_begins) p0 p1 := by
  subst e0 e1
  exact Exists.intro (W + 1) (yf_5 hL ht h6 hT hW hW12 hwd hx hy K W 0 f_rowSize f_made a_row a_parts (by omega))
theorem fr_le {cn : Nat → Nat} {ml : Nat → List Nat} {x y : Nat} : ∀ W, (∀ w, w < W → cn w ≤ 50 ∧ (ml w).length ≤ 8) → fr_s cn ml x y W ≤ 400 * W
  | 0, _ => Nat.le_refl _
  | W + 1, h => by
    have ih := fr_le (x := x) (y := y) W fun w hw => h w (by omega)
    obtain ⟨h1, h2⟩ := h W (by omega)
    have h3 := mg_pc_len (x := x) (y := y) (ml W)
    have h4 : cn W * mg_pc x y (ml W) ≤ 50 * 8 := Nat.mul_le_mul h1 (by omega)
    show fr_s cn ml x y W + cn W * mg_pc x y (ml W) ≤ _
    omega
theorem fr_0 {cn : Nat → Nat} {ml : Nat → List Nat} {x y : Nat} : ∀ W, fr_s cn ml x y W ≠ 0 → ∃ w, w < W ∧ mg_pc x y (ml w) ≠ 0
  | 0, h => absurd rfl h
  | W + 1, h => by
    by_cases e : mg_pc x y (ml W) = 0
    · have h' : fr_s cn ml x y W + cn W * mg_pc x y (ml W) ≠ 0 := h
      rw [e, Nat.mul_zero, Nat.add_zero] at h'
      obtain ⟨w, h1, h2⟩ := fr_0 W h'
      exact ⟨w, by omega, h2⟩
    · exact ⟨W, by omega, e⟩
end YF
end
section
/-! learning: the first of the most frequent pairs; the reference's way -/
def lr_0 (T : Nat) (f : Nat → Nat → Nat) : Prop := ∀ x y, x < T → y < T → f x y ≤ 1
def lr_1 (T : Nat) (f : Nat → Nat → Nat) (x y : Nat) : Prop := x < T ∧ y < T ∧ 2 ≤ f x y ∧ ∀ u v, u < T → v < T → f u v ≤ f x y ∧ ((u < x ∨ (u = x ∧ v < y)) → f u v < f x y)
theorem lr_1_u {T : Nat} {f : Nat → Nat → Nat} {x y u v : Nat} (h : lr_1 T f x y) (k : lr_1 T f u v) : x = u ∧ y = v := by
  obtain ⟨h1, h2, h3, h4⟩ := h
  obtain ⟨k1, k2, k3, k4⟩ := k
  obtain ⟨a1, a2⟩ := h4 u v k1 k2
  obtain ⟨b1, b2⟩ := k4 x y h1 h2
  refine Decidable.byContradiction fun hn => ?_
  by_cases c : u < x ∨ (u = x ∧ v < y)
  · have := a2 c; omega
  · have := b2 (by omega); omega
theorem lr_01 {T : Nat} {f : Nat → Nat → Nat} {x y : Nat} (h : lr_1 T f x y) (k : lr_0 T f) : False := by
  have := k x y h.1 h.2.1
  have := h.2.2.1
  omega
theorem lr_qd {T x y : Nat} (hy : y < T) : (T * x + y) / T = x ∧ (T * x + y) % T = y := by
  constructor
  · rw [Nat.mul_add_div (by omega), Nat.div_eq_of_lt hy, Nat.add_zero]
  · rw [Nat.mul_add_mod, Nat.mod_eq_of_lt hy]
theorem lr_ql {T x y u v : Nat} (hv : v < T) (h : u < x ∨ (u = x ∧ v < y)) : T * u + v < T * x + y := by
  rcases h with h | ⟨rfl, h⟩
  · have : T * (u + 1) ≤ T * x := Nat.mul_le_mul_left T h
    rw [Nat.mul_add] at this; omega
  · omega
theorem lr_qT {T x y : Nat} (hx : x < T) (hy : y < T) : T * x + y < T * T := by
  have : T * (x + 1) ≤ T * T := Nat.mul_le_mul_left T hx
  rw [Nat.mul_add] at this; omega
section YLR
variable {f_words f_tokens f_textSize f_resultSize f_rowSize f_barred f_made f_kept : Int32} {a_counts a_sizes a_spelled a_lefts a_rights a_prices a_lengths a_letters a_text a_result a_row a_parts a_sums a_numbers a_splits a_tried a_begins : Nat → Int32} {post : Int32 → SY → Prop}
theorem yl_193 {T x y lx l2 : Nat} (hT : T < 20) (hx : x < T) (hy : y < T) (h1 : a_lengths x = nI lx) (h2 : a_lengths y = nI l2) (hl : lx + l2 ≤ 8) (K : post (nI T) (f_words, nI (T + 1), f_textSize, f_resultSize, f_rowSize, f_barred, f_made, f_kept, a_counts, a_sizes, a_spelled, a_lefts, a_rights, a_prices, a_lengths, qw a_letters (fun i => a_letters (12 * y + i)) (12 * T + lx) l2, a_text, a_result, a_row, a_parts, a_sums, a_numbers, a_splits, a_tried, a_begins)) : ∀ d i : Nat, i + d = l2 → wY_learn_193 post (nI x) (nI y) f_words (nI T) f_textSize f_resultSize f_rowSize f_barred f_made f_kept (d + 1) (nI i) a_counts a_sizes a_spelled a_lefts a_rights a_prices a_lengths (qw a_letters (fun i => a_letters (12 * y + i)) (12 * T + lx) i) a_text a_result a_row a_parts a_sums a_numbers a_splits a_tried a_begins := by
  intro d
  induction d with
  | zero =>
    intro i hi
    have e : i = l2 := by omega
    subst e
    refine And.intro (vp_in_nI (by omega) (by omega)) ?_
    rw [nI_clamp (n := y) (by omega), h2]
    refine br_t (nI_le (Nat.le_refl _) (by omega)) (nm_r (nI_1 T) ?_)
    rw [nI_pred]; exact K
  | succ d ih =>
    intro i hi
    refine And.intro (vp_in_nI (by omega) (by omega)) ?_
    rw [nI_clamp (n := y) (by omega), nI_clamp (n := x) (by omega), h2, h1, qn_12, qn_12, nI_add]
    refine br_f (nI_ge (by omega) (by omega)) ⟨vp_in_nI (by omega) (by omega), vp_in_nI (by omega) (by omega), vp_in_nI (by omega) (by omega), nm_r (e' := qw a_letters (fun i => a_letters (12 * y + i)) (12 * T + lx) (i + 1)) ?_ (nm_r (nI_1 i) (ih (i + 1) (by omega)))⟩
    rw [nI_clamp (by omega), nI_clamp (by omega), ← qw_s, qw_out (j := 12 * y + i) (by omega)]
theorem yl_146 {T x y lx l2 : Nat} (hT : T < 20) (hx : x < T) (hy : y < T) (h1 : a_lengths x = nI lx) (h2 : a_lengths y = nI l2) (hl : lx + l2 ≤ 8) (hl2 : l2 ≤ 8) (K : post (nI T) (f_words, nI (T + 1), f_textSize, f_resultSize, f_rowSize, f_barred, f_made, f_kept, a_counts, a_sizes, a_spelled, a_lefts, a_rights, a_prices, a_lengths, qw (qw a_letters (fun i => a_letters (12 * x + i)) (12 * T) lx) (fun i => qw a_letters (fun i => a_letters (12 * x + i)) (12 * T) lx (12 * y + i)) (12 * T + lx) l2, a_text, a_result, a_row, a_parts, a_sums, a_numbers, a_splits, a_tried, a_begins)) : ∀ d i : Nat, i + d = lx → wY_learn_146 post (nI x) (nI y) f_words (nI T) f_textSize f_resultSize f_rowSize f_barred f_made f_kept (d + 1) (nI i) a_counts a_sizes a_spelled a_lefts a_rights a_prices a_lengths (qw a_letters (fun i => a_letters (12 * x + i)) (12 * T) i) a_text a_result a_row a_parts a_sums a_numbers a_splits a_tried a_begins := by
  intro d
  induction d with
  | zero =>
    intro i hi
    have e : i = lx := by omega
    subst e
    refine And.intro (vp_in_nI (by omega) (by omega)) ?_
    rw [nI_clamp (n := x) (by omega), h1]
    refine br_t (nI_le (Nat.le_refl _) (by omega)) ⟨l2 + 1, ?_⟩
    have q := yl_193 hT hx hy h1 h2 hl K l2 0 (by omega)
    rw [qw_0] at q
    exact q
  | succ d ih =>
    intro i hi
    refine And.intro (vp_in_nI (by omega) (by omega)) ?_
    rw [nI_clamp (n := x) (by omega), h1, qn_12, qn_12]
    refine br_f (nI_ge (by omega) (by omega)) ⟨vp_in_nI (by omega) (by omega), vp_in_nI (by omega) (by omega), nm_r (e' := qw a_letters (fun i => a_letters (12 * x + i)) (12 * T) (i + 1)) ?_ (nm_r (nI_1 i) (ih (i + 1) (by omega)))⟩
    rw [nI_clamp (by omega), nI_clamp (by omega), ← qw_s, qw_out (j := 12 * x + i) (by omega)]
/-- the letters of the new token -/
def yl_N (a_letters : Nat → Int32) (T x y lx l2 : Nat) : Nat → Int32 := qw (qw a_letters (fun i => a_letters (12 * x + i)) (12 * T) lx) (fun i => qw a_letters (fun i => a_letters (12 * x + i)) (12 * T) lx (12 * y + i)) (12 * T + lx) l2
theorem yl_6 {T W : Nat} {L R cn : Nat → Nat} {sp : Nat → List Nat} {wd : Nat → List Nat} {f : Nat → Nat → Nat} (hf : f = fun x y => fr_s cn (fun w => mg_all L R (T - 6) 6 (wd w)) x y W) (hS : yt_S T sp a_lengths a_letters) (hL : yt_L T L R a_lefts a_rights) (ht : f_tokens = nI T) (h6 : 6 ≤ T) (hT : T ≤ 20) (hW : f_words = nI W) (hW12 : W ≤ 12) (hwd : ∀ w, w < W → a_counts w = nI (cn w) ∧ a_sizes w = nI (wd w).length ∧ (wd w).length ≤ 8 ∧ ly a_spelled (8 * w) (wd w) ∧ ∀ c ∈ wd w, c < 6) (hF : ∀ x y, f x y ≤ 5000)
    (K0 : lr_0 T f → ∀ (f_rowSize f_made : Int32) (a_row a_parts : Nat → Int32), post (-2) (f_words, f_tokens, f_textSize, f_resultSize, f_rowSize, f_barred, f_made, f_kept, a_counts, a_sizes, a_spelled, a_lefts, a_rights, a_prices, a_lengths, a_letters, a_text, a_result, a_row, a_parts, a_sums, a_numbers, a_splits, a_tried, a_begins))
    (K1 : ∀ x y, lr_1 T f x y → T = 20 → ∀ (f_rowSize f_made : Int32) (a_row a_parts : Nat → Int32), post (-3) (f_words, f_tokens, f_textSize, f_resultSize, f_rowSize, f_barred, f_made, f_kept, a_counts, a_sizes, a_spelled, a_lefts, a_rights, a_prices, a_lengths, a_letters, a_text, a_result, a_row, a_parts, a_sums, a_numbers, a_splits, a_tried, a_begins))
    (K2 : ∀ x y, lr_1 T f x y → T < 20 → (sp x).length + (sp y).length ≤ 8 ∧ ∀ (f_rowSize f_made : Int32) (a_row a_parts : Nat → Int32), post (nI T) (f_words, nI (T + 1), f_textSize, f_resultSize, f_rowSize, f_barred, f_made, f_kept, a_counts, a_sizes, a_spelled, upd a_lefts T (nI x), upd a_rights T (nI y), upd a_prices T 25, upd a_lengths T (nI ((sp x).length + (sp y).length)), yl_N a_letters T x y (sp x).length (sp y).length, a_text, a_result, a_row, a_parts, a_sums, a_numbers, a_splits, a_tried, a_begins)) :
    ∀ (d q : Nat) (x1 x2 f_rowSize f_made : Int32) (a_row a_parts : Nat → Int32), q + d = T * T →
      ((x1 = -1 ∧ x2 = 1 ∧ ∀ j, j < q → f (j / T) (j % T) ≤ 1) ∨ (∃ b, b < q ∧ x1 = nI b ∧ x2 = nI (f (b / T) (b % T)) ∧ 2 ≤ f (b / T) (b % T) ∧ ∀ j, j < q → f (j / T) (j % T) ≤ f (b / T) (b % T) ∧ (j < b → f (j / T) (j % T) < f (b / T) (b % T)))) →
      wY_learn_6 post (d + 1) x1 x2 (nI q) f_words f_tokens f_textSize f_resultSize f_rowSize f_barred f_made f_kept a_counts a_sizes a_spelled a_lefts a_rights a_prices a_lengths a_letters a_text a_result a_row a_parts a_sums a_numbers a_splits a_tried a_begins := by
  have hTT : T * T ≤ 20 * 20 := Nat.mul_le_mul hT hT
  have hft : f_tokens * f_tokens = nI (T * T) := by rw [ht, pk_mul]
  have hT0 : ¬ f_tokens = 0 := by rw [ht]; exact qn_ne0 (by omega) (by omega)
  intro d
  induction d with
  | zero =>
    intro q x1 x2 f_rowSize f_made a_row a_parts hq hI
    have e : q = T * T := by omega
    subst e
    refine br_t (by rw [hft]; exact nI_le (Nat.le_refl _) (by omega)) ?_
    rcases hI with ⟨e1, e2, e3⟩ | ⟨b, hb, e1, e2, e3, e4⟩
    · rw [e1]
      refine br_f (by decide) (K0 (fun x y hx hy => ?_) _ _ _ _)
      have := e3 (T * x + y) (lr_qT hx hy)
      rw [(lr_qd hy).1, (lr_qd hy).2] at this; exact this
    · have hbT : b / T < T := Nat.div_lt_of_lt_mul hb
      have hmT : b % T < T := Nat.mod_lt _ (by omega)
      have hb2 : b = T * (b / T) + b % T := (Nat.div_add_mod b T).symm
      have h1 : lr_1 T f (b / T) (b % T) := ⟨hbT, hmT, e3, fun u v hu hv => by
        have := e4 (T * u + v) (lr_qT hu hv)
        rw [(lr_qd hv).1, (lr_qd hv).2] at this
        exact ⟨this.1, fun h => this.2 (by have := lr_ql (T := T) (y := b % T) hv h; omega)⟩⟩
      rw [e1]
      refine br_t (nI_pos' (by omega)) ?_
      by_cases hT20 : T = 20
      · exact br_t (by rw [ht, hT20]; rfl) (K1 _ _ h1 hT20 _ _ _ _)
      · have hTl : T < 20 := by omega
        obtain ⟨k1, k2⟩ := K2 _ _ h1 hTl
        obtain ⟨s1, s2, s3, -⟩ := hS _ hbT
        obtain ⟨r1, r2, r3, -⟩ := hS _ hmT
        have hv : vp_in f_tokens 20 := by rw [ht]; exact vp_in_nI hTl (by omega)
        have hcl : f_tokens.toNatClampNeg = T := by rw [ht]; exact nI_clamp (by omega)
        refine br_f (by rw [ht]; exact qn_ne (b := 20) (by omega) (by omega) hT20) ⟨hT0, nm_r (e' := nI (b / T)) (by rw [ht]; exact pk_div (by omega) (by omega) (by omega)) ⟨hT0, nm_r (e' := nI (b % T)) (by rw [ht]; exact pk_rem (by omega) (by omega) (by omega)) ⟨hv, ?_⟩⟩⟩
        rw [hcl]
        refine nm_e ⟨hv, nm_e ⟨hv, nm_e ⟨vp_in_nI (by omega) (by omega), vp_in_nI (by omega) (by omega), hv, ?_⟩⟩⟩
        rw [nI_clamp (n := b / T) (by omega), nI_clamp (n := b % T) (by omega), s1, r1, nI_add]
        refine nm_e ⟨(sp (b / T)).length + 1, ?_⟩
        subst ht
        have q := yl_146 (post := post) (f_words := f_words) (f_textSize := f_textSize) (f_resultSize := f_resultSize) (f_rowSize := f_rowSize) (f_barred := f_barred) (f_made := f_made) (f_kept := f_kept) (a_counts := a_counts) (a_sizes := a_sizes) (a_spelled := a_spelled) (a_lefts := upd a_lefts T (nI (b / T))) (a_rights := upd a_rights T (nI (b % T))) (a_prices := upd a_prices T 25) (a_lengths := upd a_lengths T (nI ((sp (b / T)).length + (sp (b % T)).length))) (a_letters := a_letters) (a_text := a_text) (a_result := a_result) (a_row := a_row) (a_parts := a_parts) (a_sums := a_sums) (a_numbers := a_numbers) (a_splits := a_splits) (a_tried := a_tried) (a_begins := a_begins) hTl hbT hmT ((pk_un (by omega)).trans s1) ((pk_un (by omega)).trans r1) k1 r3 (k2 _ _ _ _) (sp (b / T)).length 0 (by omega)
        rw [qw_0] at q
        exact q
  | succ d ih =>
    intro q x1 x2 f_rowSize f_made a_row a_parts hq hI
    have hqT : q / T < T := Nat.div_lt_of_lt_mul (by omega)
    have hqm : q % T < T := Nat.mod_lt _ (by omega)
    refine br_f (by rw [hft]; exact nI_ge (by omega) (by omega)) ⟨hT0, hT0, ?_⟩
    refine yf_freq (T := T) (x := q / T) (y := q % T) (by rw [ht]; exact pk_div (by omega) (by omega) (by omega)) (by rw [ht]; exact pk_rem (by omega) (by omega) (by omega)) hL ht h6 hT hW hW12 hwd (by omega) (by omega) fun f_rowSize f_made a_row a_parts => ?_
    have hfe : fr_s cn (fun w => mg_all L R (T - 6) 6 (wd w)) (q / T) (q % T) W = f (q / T) (q % T) := by rw [hf]
    have hb1 := hF (q / T) (q % T)
    rw [hfe]
    rcases hI with ⟨e1, e2, e3⟩ | ⟨b, hb, e1, e2, e3, e4⟩
    · rw [e2]
      refine pk_le (f (q / T) (q % T)) 1 (fun h => nm_r (nI_1 q) (ih (q + 1) _ _ _ _ _ _ (by omega) (Or.inl ⟨e1, rfl, fun j hj => ?_⟩))) (fun h => nm_r (nI_1 q) (ih (q + 1) _ _ _ _ _ _ (by omega) (Or.inr ⟨q, by omega, rfl, rfl, by omega, fun j hj => ?_⟩)))
      · by_cases e : j = q
        · subst e; exact h
        · exact e3 j (by omega)
      · by_cases e : j = q
        · subst e; exact ⟨Nat.le_refl _, fun z => by omega⟩
        · have := e3 j (by omega); exact ⟨by omega, fun _ => by omega⟩
    · rw [e2]
      have hb2 := hF (b / T) (b % T)
      refine pk_le (f (q / T) (q % T)) (f (b / T) (b % T)) (fun h => nm_r (nI_1 q) (ih (q + 1) _ _ _ _ _ _ (by omega) (Or.inr ⟨b, by omega, e1, rfl, e3, fun j hj => ?_⟩))) (fun h => nm_r (nI_1 q) (ih (q + 1) _ _ _ _ _ _ (by omega) (Or.inr ⟨q, by omega, rfl, rfl, by omega, fun j hj => ?_⟩)))
      · by_cases e : j = q
        · subst e; exact ⟨h, fun z => by omega⟩
        · exact e4 j (by omega)
      · by_cases e : j = q
        · subst e; exact ⟨Nat.le_refl _, fun z => by omega⟩
        · have := (e4 j (by omega)).1; exact ⟨by omega, fun _ => by omega⟩
theorem yl_learn {T W : Nat} {L R cn : Nat → Nat} {sp : Nat → List Nat} {wd : Nat → List Nat} {f : Nat → Nat → Nat} (hf : f = fun x y => fr_s cn (fun w => mg_all L R (T - 6) 6 (wd w)) x y W) (hS : yt_S T sp a_lengths a_letters) (hL : yt_L T L R a_lefts a_rights) (ht : f_tokens = nI T) (h6 : 6 ≤ T) (hT : T ≤ 20) (hW : f_words = nI W) (hW12 : W ≤ 12) (hwd : ∀ w, w < W → a_counts w = nI (cn w) ∧ a_sizes w = nI (wd w).length ∧ (wd w).length ≤ 8 ∧ ly a_spelled (8 * w) (wd w) ∧ ∀ c ∈ wd w, c < 6) (hF : ∀ x y, f x y ≤ 5000)
    (K0 : lr_0 T f → ∀ (f_rowSize f_made : Int32) (a_row a_parts : Nat → Int32), post (-2) (f_words, f_tokens, f_textSize, f_resultSize, f_rowSize, f_barred, f_made, f_kept, a_counts, a_sizes, a_spelled, a_lefts, a_rights, a_prices, a_lengths, a_letters, a_text, a_result, a_row, a_parts, a_sums, a_numbers, a_splits, a_tried, a_begins))
    (K1 : ∀ x y, lr_1 T f x y → T = 20 → ∀ (f_rowSize f_made : Int32) (a_row a_parts : Nat → Int32), post (-3) (f_words, f_tokens, f_textSize, f_resultSize, f_rowSize, f_barred, f_made, f_kept, a_counts, a_sizes, a_spelled, a_lefts, a_rights, a_prices, a_lengths, a_letters, a_text, a_result, a_row, a_parts, a_sums, a_numbers, a_splits, a_tried, a_begins))
    (K2 : ∀ x y, lr_1 T f x y → T < 20 → (sp x).length + (sp y).length ≤ 8 ∧ ∀ (f_rowSize f_made : Int32) (a_row a_parts : Nat → Int32), post (nI T) (f_words, nI (T + 1), f_textSize, f_resultSize, f_rowSize, f_barred, f_made, f_kept, a_counts, a_sizes, a_spelled, upd a_lefts T (nI x), upd a_rights T (nI y), upd a_prices T 25, upd a_lengths T (nI ((sp x).length + (sp y).length)), yl_N a_letters T x y (sp x).length (sp y).length, a_text, a_result, a_row, a_parts, a_sums, a_numbers, a_splits, a_tried, a_begins)) : wpY_learn post (f_words, f_tokens, f_textSize, f_resultSize, f_rowSize, f_barred, f_made, f_kept, a_counts, a_sizes, a_spelled, a_lefts, a_rights, a_prices, a_lengths, a_letters, a_text, a_result, a_row, a_parts, a_sums, a_numbers, a_splits, a_tried, a_begins) :=
  Exists.intro (T * T + 1) (yl_6 hf hS hL ht h6 hT hW hW12 hwd hF K0 K1 K2 (T * T) 0 (-1) 1 f_rowSize f_made a_row a_parts (by omega) (Or.inl ⟨rfl, rfl, fun j h => by omega⟩))
end YLR
end
section
/-! the component: rows; frequencies; joining two places of a word -/
def fq_I (fq : Nat → Int32) (F : Nat → Nat → Int) : Prop := ∀ x y, x < 20 → y < 20 → fq (20 * x + y) = qz (F x y)
def fq_f (fq : Nat → Int32) (x y : Nat) (v : Int32) : Nat → Int32 := upd fq (20 * x + y) (fq (20 * x + y) + v)
def fq_d (c a b x y : Nat) : Int := if a = x ∧ b = y then (c : Int) else 0
theorem fq_p {fq : Nat → Int32} {F : Nat → Nat → Int} {a b c : Nat} (h : fq_I fq F) (ha : a < 20) (hb : b < 20) : fq_I (fq_f fq a b (nI c)) (fun x y => F x y + fq_d c a b x y) := by
  intro x y hx hy
  unfold fq_f fq_d
  dsimp only
  by_cases e : a = x ∧ b = y
  · obtain ⟨rfl, rfl⟩ := e
    rw [pk_us, if_pos (And.intro rfl rfl), h a b ha hb, qz_addN]
  · rw [pk_un (by omega), if_neg e, Int.add_zero]; exact h x y hx hy
theorem fq_m {fq : Nat → Int32} {F : Nat → Nat → Int} {a b c : Nat} (h : fq_I fq F) (ha : a < 20) (hb : b < 20) : fq_I (fq_f fq a b (-nI c)) (fun x y => F x y - fq_d c a b x y) := by
  intro x y hx hy
  unfold fq_f fq_d
  dsimp only
  by_cases e : a = x ∧ b = y
  · obtain ⟨rfl, rfl⟩ := e
    rw [pk_us, if_pos (And.intro rfl rfl), h a b ha hb, qz_subN]
  · rw [pk_un (by omega), if_neg e, Int.sub_zero]; exact h x y hx hy
theorem fq_e {fq : Nat → Int32} {F G : Nat → Nat → Int} (h : fq_I fq F) (e : ∀ x y, F x y = G x y) : fq_I fq G := fun x y hx hy => by rw [← e]; exact h x y hx hy
/-- c times the number of pairs -/
def fq_c (c x y : Nat) (xs : List Nat) : Int := (c : Int) * (mg_pc x y xs : Int)
theorem fq_c0 {c x y : Nat} : fq_c c x y [] = 0 := by unfold fq_c; rw [mg_pc_0]; exact Int.mul_zero _
theorem fq_c1 {c x y a : Nat} : fq_c c x y [a] = 0 := by unfold fq_c; rw [mg_pc_1]; exact Int.mul_zero _
theorem fq_cc {c x y a b : Nat} {xs : List Nat} : fq_c c x y (a :: b :: xs) = fq_d c a b x y + fq_c c x y (b :: xs) := by
  unfold fq_c fq_d
  by_cases e : a = x ∧ b = y
  · rw [mg_pc_y e, if_pos e, Int.natCast_add, Int.mul_add]; simp
  · rw [mg_pc_n e, if_neg e, Int.zero_add]
theorem fq_ca {c x y a : Nat} {xs pre : List Nat} : fq_c c x y (pre ++ a :: xs) = fq_c c x y (pre ++ [a]) + fq_c c x y (a :: xs) := by
  unfold fq_c
  rw [mg_pc_app, Int.natCast_add, Int.mul_add]
section XJ
variable {f_words f_isMerged f_tokens f_hasTree f_nodes f_textLength f_resultSize f_rowLength f_partCount f_queued f_banned : Int32} {a_counts a_lengths a_letters a_tokenAt a_nextAt a_beforeAt a_frequencies a_lefts a_rights a_prices a_spellLength a_spelling a_made a_below a_endsHere a_nextSame a_text a_result a_row a_part a_queueToken a_queuePlace a_linkedToken a_linkedNext a_linkedBefore a_bestCount a_bestPrice a_bestTokens a_bestLast a_bestFrom a_ways a_one a_two : Nat → Int32} {post : SX → Prop}
theorem xn_note {p0 p1 p2 : Int32} {x y : Nat} (e0 : p0 = nI x) (e1 : p1 = nI y) (hx : x < 20) (hy : y < 20) (K : post (f_words, f_isMerged, f_tokens, f_hasTree, f_nodes, f_textLength, f_resultSize, f_rowLength, f_partCount, f_queued, f_banned, a_counts, a_lengths, a_letters, a_tokenAt, a_nextAt, a_beforeAt, fq_f a_frequencies x y p2, a_lefts, a_rights, a_prices, a_spellLength, a_spelling, a_made, a_below, a_endsHere, a_nextSame, a_text, a_result, a_row, a_part, a_queueToken, a_queuePlace, a_linkedToken, a_linkedNext, a_linkedBefore, a_bestCount, a_bestPrice, a_bestTokens, a_bestLast, a_bestFrom, a_ways, a_one, a_two)) : wpX_note post (f_words, f_isMerged, f_tokens, f_hasTree, f_nodes, f_textLength, f_resultSize, f_rowLength, f_partCount, f_queued, f_banned, a_counts, a_lengths, a_letters, a_tokenAt, a_nextAt, a_beforeAt, a_frequencies, a_lefts, a_rights, a_prices, a_spellLength, a_spelling, a_made, a_below, a_endsHere, a_nextSame, a_text, a_result, a_row, a_part, a_queueToken, a_queuePlace, a_linkedToken, a_linkedNext, a_linkedBefore, a_bestCount, a_bestPrice, a_bestTokens, a_bestLast, a_bestFrom, a_ways, a_one, a_two) p0 p1 p2 := by
  subst e0 e1
  have e := qn_20 x y
  exact And.intro (pk_in (20 * x + y) 400 (by omega) e) ⟨pk_in (20 * x + y) 400 (by omega) e, nm_r (e' := fq_f a_frequencies x y p2) (by rw [e, nI_clamp (by omega)]; rfl) K⟩
theorem xj_121 {p t : Nat} {x6 : Int32} (hp : p < 96) (K : post (f_words, f_isMerged, f_tokens, f_hasTree, f_nodes, f_textLength, f_resultSize, f_rowLength, f_partCount, f_queued, f_banned, a_counts, a_lengths, a_letters, upd a_tokenAt p (nI t), upd a_nextAt p x6, a_beforeAt, a_frequencies, a_lefts, a_rights, a_prices, a_spellLength, a_spelling, a_made, a_below, a_endsHere, a_nextSame, a_text, a_result, a_row, a_part, a_queueToken, a_queuePlace, a_linkedToken, a_linkedNext, a_linkedBefore, a_bestCount, a_bestPrice, a_bestTokens, a_bestLast, a_bestFrom, a_ways, a_one, a_two)) : wX_joinAt_121 post (nI p) (nI t) x6 f_words f_isMerged f_tokens f_hasTree f_nodes f_textLength f_resultSize f_rowLength f_partCount f_queued f_banned a_counts a_lengths a_letters a_tokenAt a_nextAt a_beforeAt a_frequencies a_lefts a_rights a_prices a_spellLength a_spelling a_made a_below a_endsHere a_nextSame a_text a_result a_row a_part a_queueToken a_queuePlace a_linkedToken a_linkedNext a_linkedBefore a_bestCount a_bestPrice a_bestTokens a_bestLast a_bestFrom a_ways a_one a_two :=
  And.intro (vp_in_nI hp (by omega)) (nm_r (e' := upd a_tokenAt p (nI t)) (by rw [nI_clamp (by omega)]) ⟨vp_in_nI hp (by omega), nm_r (e' := upd a_nextAt p x6) (by rw [nI_clamp (by omega)]) K⟩)
theorem xj_74n {p q t c : Nat} (hp : p < 96) (K : post (f_words, f_isMerged, f_tokens, f_hasTree, f_nodes, f_textLength, f_resultSize, f_rowLength, f_partCount, f_queued, f_banned, a_counts, a_lengths, a_letters, upd a_tokenAt p (nI t), upd a_nextAt p (-1), a_beforeAt, a_frequencies, a_lefts, a_rights, a_prices, a_spellLength, a_spelling, a_made, a_below, a_endsHere, a_nextSame, a_text, a_result, a_row, a_part, a_queueToken, a_queuePlace, a_linkedToken, a_linkedNext, a_linkedBefore, a_bestCount, a_bestPrice, a_bestTokens, a_bestLast, a_bestFrom, a_ways, a_one, a_two)) : wX_joinAt_74 post (nI p) (nI q) (nI t) (nI c) (-1) f_words f_isMerged f_tokens f_hasTree f_nodes f_textLength f_resultSize f_rowLength f_partCount f_queued f_banned a_counts a_lengths a_letters a_tokenAt a_nextAt a_beforeAt a_frequencies a_lefts a_rights a_prices a_spellLength a_spelling a_made a_below a_endsHere a_nextSame a_text a_result a_row a_part a_queueToken a_queuePlace a_linkedToken a_linkedNext a_linkedBefore a_bestCount a_bestPrice a_bestTokens a_bestLast a_bestFrom a_ways a_one a_two := br_t qn_n1 (xj_121 hp K)
theorem xj_74y {p q t c s d z : Nat} (hp : p < 96) (hq : q < 96) (hs : s < 96) (hd : a_tokenAt q = nI d) (hz : a_tokenAt s = nI z) (hd2 : d < 20) (hz2 : z < 20) (ht : t < 20) (K : post (f_words, f_isMerged, f_tokens, f_hasTree, f_nodes, f_textLength, f_resultSize, f_rowLength, f_partCount, f_queued, f_banned, a_counts, a_lengths, a_letters, upd a_tokenAt p (nI t), upd a_nextAt p (nI s), upd a_beforeAt s (nI p), fq_f (fq_f a_frequencies d z (-nI c)) t z (nI c), a_lefts, a_rights, a_prices, a_spellLength, a_spelling, a_made, a_below, a_endsHere, a_nextSame, a_text, a_result, a_row, a_part, a_queueToken, a_queuePlace, a_linkedToken, a_linkedNext, a_linkedBefore, a_bestCount, a_bestPrice, a_bestTokens, a_bestLast, a_bestFrom, a_ways, a_one, a_two)) : wX_joinAt_74 post (nI p) (nI q) (nI t) (nI c) (nI s) f_words f_isMerged f_tokens f_hasTree f_nodes f_textLength f_resultSize f_rowLength f_partCount f_queued f_banned a_counts a_lengths a_letters a_tokenAt a_nextAt a_beforeAt a_frequencies a_lefts a_rights a_prices a_spellLength a_spelling a_made a_below a_endsHere a_nextSame a_text a_result a_row a_part a_queueToken a_queuePlace a_linkedToken a_linkedNext a_linkedBefore a_bestCount a_bestPrice a_bestTokens a_bestLast a_bestFrom a_ways a_one a_two := by
  refine br_f (nI_pos (by omega)) ⟨vp_in_nI hq (by omega), vp_in_nI hs (by omega), ?_⟩
  refine xn_note (x := d) (y := z) (by rw [nI_clamp (by omega)]; exact hd) (by rw [nI_clamp (by omega)]; exact hz) hd2 hz2 ?_
  refine And.intro (vp_in_nI hs (by omega)) (xn_note (x := t) (y := z) rfl (by rw [nI_clamp (by omega)]; exact hz) ht hz2 ?_)
  exact And.intro (vp_in_nI hs (by omega)) (nm_r (e' := upd a_beforeAt s (nI p)) (by rw [nI_clamp (by omega)]) (xj_121 hp K))
theorem xj_atn {p q t c a d : Nat} {x6 : Int32} (hp : p < 96) (hq : q < 96) (ha : a_tokenAt p = nI a) (hd : a_tokenAt q = nI d) (ha2 : a < 20) (hd2 : d < 20) (hb : a_beforeAt p = -1) (hn : a_nextAt q = x6) (K : wX_joinAt_74 post (nI p) (nI q) (nI t) (nI c) x6 f_words f_isMerged f_tokens f_hasTree f_nodes f_textLength f_resultSize f_rowLength f_partCount f_queued f_banned a_counts a_lengths a_letters a_tokenAt a_nextAt a_beforeAt (fq_f a_frequencies a d (-nI c)) a_lefts a_rights a_prices a_spellLength a_spelling a_made a_below a_endsHere a_nextSame a_text a_result a_row a_part a_queueToken a_queuePlace a_linkedToken a_linkedNext a_linkedBefore a_bestCount a_bestPrice a_bestTokens a_bestLast a_bestFrom a_ways a_one a_two) : wpX_joinAt post (f_words, f_isMerged, f_tokens, f_hasTree, f_nodes, f_textLength, f_resultSize, f_rowLength, f_partCount, f_queued, f_banned, a_counts, a_lengths, a_letters, a_tokenAt, a_nextAt, a_beforeAt, a_frequencies, a_lefts, a_rights, a_prices, a_spellLength, a_spelling, a_made, a_below, a_endsHere, a_nextSame, a_text, a_result, a_row, a_part, a_queueToken, a_queuePlace, a_linkedToken, a_linkedNext, a_linkedBefore, a_bestCount, a_bestPrice, a_bestTokens, a_bestLast, a_bestFrom, a_ways, a_one, a_two) (nI p) (nI q) (nI t) (nI c) := by
  refine And.intro (vp_in_nI hp (by omega)) (nm_r (e' := -1) (by rw [nI_clamp (by omega)]; exact hb) ⟨vp_in_nI hq (by omega), nm_r (e' := x6) (by rw [nI_clamp (by omega)]; exact hn) ⟨vp_in_nI hp (by omega), vp_in_nI hq (by omega), ?_⟩⟩)
  exact xn_note (x := a) (y := d) (by rw [nI_clamp (by omega)]; exact ha) (by rw [nI_clamp (by omega)]; exact hd) ha2 hd2 (br_t qn_n1 K)
theorem xj_aty {p q t c a d s b : Nat} {x6 : Int32} (hp : p < 96) (hq : q < 96) (hs : s < 96) (ha : a_tokenAt p = nI a) (hd : a_tokenAt q = nI d) (hsb : a_tokenAt s = nI b) (ha2 : a < 20) (hd2 : d < 20) (hb2 : b < 20) (ht : t < 20) (hb : a_beforeAt p = nI s) (hn : a_nextAt q = x6) (K : wX_joinAt_74 post (nI p) (nI q) (nI t) (nI c) x6 f_words f_isMerged f_tokens f_hasTree f_nodes f_textLength f_resultSize f_rowLength f_partCount f_queued f_banned a_counts a_lengths a_letters a_tokenAt a_nextAt a_beforeAt (fq_f (fq_f (fq_f a_frequencies a d (-nI c)) b a (-nI c)) b t (nI c)) a_lefts a_rights a_prices a_spellLength a_spelling a_made a_below a_endsHere a_nextSame a_text a_result a_row a_part a_queueToken a_queuePlace a_linkedToken a_linkedNext a_linkedBefore a_bestCount a_bestPrice a_bestTokens a_bestLast a_bestFrom a_ways a_one a_two) : wpX_joinAt post (f_words, f_isMerged, f_tokens, f_hasTree, f_nodes, f_textLength, f_resultSize, f_rowLength, f_partCount, f_queued, f_banned, a_counts, a_lengths, a_letters, a_tokenAt, a_nextAt, a_beforeAt, a_frequencies, a_lefts, a_rights, a_prices, a_spellLength, a_spelling, a_made, a_below, a_endsHere, a_nextSame, a_text, a_result, a_row, a_part, a_queueToken, a_queuePlace, a_linkedToken, a_linkedNext, a_linkedBefore, a_bestCount, a_bestPrice, a_bestTokens, a_bestLast, a_bestFrom, a_ways, a_one, a_two) (nI p) (nI q) (nI t) (nI c) := by
  refine And.intro (vp_in_nI hp (by omega)) (nm_r (e' := nI s) (by rw [nI_clamp (by omega)]; exact hb) ⟨vp_in_nI hq (by omega), nm_r (e' := x6) (by rw [nI_clamp (by omega)]; exact hn) ⟨vp_in_nI hp (by omega), vp_in_nI hq (by omega), ?_⟩⟩)
  refine xn_note (x := a) (y := d) (by rw [nI_clamp (by omega)]; exact ha) (by rw [nI_clamp (by omega)]; exact hd) ha2 hd2 (br_f (nI_pos (by omega)) ⟨vp_in_nI hs (by omega), vp_in_nI hp (by omega), ?_⟩)
  refine xn_note (x := b) (y := a) (by rw [nI_clamp (by omega)]; exact hsb) (by rw [nI_clamp (by omega)]; exact ha) hb2 ha2 (And.intro (vp_in_nI hs (by omega)) ?_)
  exact xn_note (x := b) (y := t) (by rw [nI_clamp (by omega)]; exact hsb) rfl hb2 ht K
/-- joining in a chain: the chain, the frequencies -/
theorem xj_at {p q t c a d lo hi : Nat} {pre zs : List (Nat × Nat)} {B : Nat → Nat → Int} (hhi : hi ≤ 96) (ht : t < 20) (hC : ch_C a_tokenAt a_nextAt a_beforeAt hi (-1) lo (pre ++ (p, a) :: (q, d) :: zs)) (hB : ∀ z ∈ pre ++ (p, a) :: (q, d) :: zs, z.2 < 20)
    (hF : fq_I a_frequencies (fun x y => B x y + fq_c c x y (ch_tk (pre ++ (p, a) :: (q, d) :: zs))))
    (K : ∀ (b_tokenAt b_nextAt b_beforeAt b_frequencies : Nat → Int32), ch_C b_tokenAt b_nextAt b_beforeAt hi (-1) lo (pre ++ (p, t) :: zs) → fq_I b_frequencies (fun x y => B x y + fq_c c x y (ch_tk (pre ++ (p, t) :: zs))) → (∀ j, j < lo ∨ hi ≤ j → b_tokenAt j = a_tokenAt j ∧ b_nextAt j = a_nextAt j ∧ b_beforeAt j = a_beforeAt j) → b_nextAt p = ch_hd zs → post (f_words, f_isMerged, f_tokens, f_hasTree, f_nodes, f_textLength, f_resultSize, f_rowLength, f_partCount, f_queued, f_banned, a_counts, a_lengths, a_letters, b_tokenAt, b_nextAt, b_beforeAt, b_frequencies, a_lefts, a_rights, a_prices, a_spellLength, a_spelling, a_made, a_below, a_endsHere, a_nextSame, a_text, a_result, a_row, a_part, a_queueToken, a_queuePlace, a_linkedToken, a_linkedNext, a_linkedBefore, a_bestCount, a_bestPrice, a_bestTokens, a_bestLast, a_bestFrom, a_ways, a_one, a_two)) : wpX_joinAt post (f_words, f_isMerged, f_tokens, f_hasTree, f_nodes, f_textLength, f_resultSize, f_rowLength, f_partCount, f_queued, f_banned, a_counts, a_lengths, a_letters, a_tokenAt, a_nextAt, a_beforeAt, a_frequencies, a_lefts, a_rights, a_prices, a_spellLength, a_spelling, a_made, a_below, a_endsHere, a_nextSame, a_text, a_result, a_row, a_part, a_queueToken, a_queuePlace, a_linkedToken, a_linkedNext, a_linkedBefore, a_bestCount, a_bestPrice, a_bestTokens, a_bestLast, a_bestFrom, a_ways, a_one, a_two) (nI p) (nI q) (nI t) (nI c) := by
  obtain ⟨b', lo', l1, l2, l3, l4, l5, l6⟩ := ch_app pre _ _ _ hC
  have hh := ch_hi _ hC
  have hC2 := l5
  obtain ⟨c1, c2, c3, c4, c5, d1, d2, d3, d4, d5, d6⟩ := l5
  have c1 : lo' ≤ p := c1
  have c2 : p < hi := c2
  have c3 : a_tokenAt p = nI a := c3
  have c4 : a_beforeAt p = b' := c4
  have d1 : p + 1 ≤ q := d1
  have d2 : q < hi := d2
  have d3 : a_tokenAt q = nI d := d3
  have d5 : a_nextAt q = ch_hd zs := d5
  have ha2 : a < 20 := hB (p, a) (by simp)
  have hd2 : d < 20 := hB (q, d) (by simp)
  have htk : ∀ v : Nat, ∀ ys : List (Nat × Nat), ch_tk (pre ++ (p, v) :: ys) = ch_tk pre ++ v :: ch_tk ys := fun v ys => by simp [ch_tk]
  have htk0 : ch_tk ((q, d) :: zs) = d :: ch_tk zs := rfl
  rw [htk, htk0] at hF
  -- the end of either half: the new chain
  have fin : ∀ bf' fq', (zs = [] → bf' = a_beforeAt) → (∀ s y ys, zs = (s, y) :: ys → bf' = upd a_beforeAt s (nI p)) → fq_I fq' (fun x y => B x y + fq_c c x y (ch_tk (pre ++ (p, t) :: zs))) → post (f_words, f_isMerged, f_tokens, f_hasTree, f_nodes, f_textLength, f_resultSize, f_rowLength, f_partCount, f_queued, f_banned, a_counts, a_lengths, a_letters, upd a_tokenAt p (nI t), upd a_nextAt p (ch_hd zs), bf', fq', a_lefts, a_rights, a_prices, a_spellLength, a_spelling, a_made, a_below, a_endsHere, a_nextSame, a_text, a_result, a_row, a_part, a_queueToken, a_queuePlace, a_linkedToken, a_linkedNext, a_linkedBefore, a_bestCount, a_bestPrice, a_bestTokens, a_bestLast, a_bestFrom, a_ways, a_one, a_two) := by
    intro bf' fq' z0 z1 hq'
    obtain ⟨j1, j2, j3, j4, j5, j6, -⟩ := ch_join (t := t) hC2 z0 z1
    refine K _ _ _ _ (l6 _ _ _ ((p, t) :: zs) rfl j2 j1) hq' (fun j hj => ⟨pk_un (by omega), pk_un (by omega), ?_⟩) pk_us
    cases zs with
    | nil => rw [z0 rfl]
    | cons z zs =>
      obtain ⟨s, y⟩ := z
      have := ch_hi _ d6 (s, y) List.mem_cons_self
      have e1 : q + 1 ≤ s := this.1
      have e2 : s < hi := this.2.1
      rw [z1 s y zs rfl]
      exact pk_un (by omega)
  -- behind
  have beh : ∀ fq F, fq_I fq F → (zs = [] → ∀ x y, F x y = B x y + fq_c c x y (ch_tk (pre ++ (p, t) :: zs))) → (∀ s z ys, zs = (s, z) :: ys → ∀ x y, F x y - fq_d c d z x y + fq_d c t z x y = B x y + fq_c c x y (ch_tk (pre ++ (p, t) :: zs))) → wX_joinAt_74 post (nI p) (nI q) (nI t) (nI c) (ch_hd zs) f_words f_isMerged f_tokens f_hasTree f_nodes f_textLength f_resultSize f_rowLength f_partCount f_queued f_banned a_counts a_lengths a_letters a_tokenAt a_nextAt a_beforeAt fq a_lefts a_rights a_prices a_spellLength a_spelling a_made a_below a_endsHere a_nextSame a_text a_result a_row a_part a_queueToken a_queuePlace a_linkedToken a_linkedNext a_linkedBefore a_bestCount a_bestPrice a_bestTokens a_bestLast a_bestFrom a_ways a_one a_two := by
    intro fq F hFq e0 e1
    cases hz : zs with
    | nil =>
      subst hz
      exact xj_74n (by omega) (fin a_beforeAt fq (fun _ => rfl) (fun s y ys e => nomatch e) (fq_e hFq (e0 rfl)))
    | cons z ys =>
      obtain ⟨s, z⟩ := z
      subst hz
      have := ch_hi _ d6 (s, z) List.mem_cons_self
      have k1 : q + 1 ≤ s := this.1
      have k2 : s < hi := this.2.1
      have hz2 : z < 20 := hB (s, z) (by simp)
      refine xj_74y (d := d) (z := z) (by omega) (by omega) (by omega) d3 this.2.2 hd2 hz2 ht ?_
      exact fin _ _ (fun e => nomatch e) (fun s' y' ys' e => by cases e; rfl) (fq_e (fq_p (fq_m hFq hd2 hz2) ht hz2) (e1 s z ys rfl))
  rcases List.eq_nil_or_concat pre with rfl | ⟨pr, ⟨s, b⟩, rfl⟩
  · refine xj_atn (a := a) (d := d) (by omega) (by omega) c3 d3 ha2 hd2 (c4.trans (l2 rfl)) d5 (beh _ _ (fq_m hF ha2 hd2) ?_ ?_)
    · rintro rfl x y
      rw [htk]
      show B x y + fq_c c x y (a :: d :: []) - fq_d c a d x y = B x y + fq_c c x y (t :: [])
      rw [fq_cc, fq_c1, fq_c1]; omega
    · rintro u z ys rfl x y
      rw [htk]
      show B x y + fq_c c x y (a :: d :: z :: ch_tk ys) - fq_d c a d x y - fq_d c d z x y + fq_d c t z x y = B x y + fq_c c x y (t :: z :: ch_tk ys)
      rw [fq_cc, fq_cc, fq_cc]; omega
  · rw [List.concat_eq_append] at *
    obtain ⟨g1, g2, g3, g4⟩ := l3 (s, b) (by rw [List.getLast?_append]; rfl)
    have g1 : b' = nI s := g1
    have g2 : a_tokenAt s = nI b := g2
    have g4 : s < hi := g4
    have hb2 : b < 20 := hB (s, b) (by simp)
    have hpt : ch_tk (pr ++ [(s, b)]) = ch_tk pr ++ [b] := by simp [ch_tk]
    rw [hpt] at hF
    refine xj_aty (a := a) (d := d) (s := s) (b := b) (by omega) (by omega) (by omega) c3 d3 g2 ha2 hd2 hb2 ht (c4.trans g1) d5 (beh _ _ (fq_p (fq_m (fq_m hF ha2 hd2) hb2 ha2) hb2 ht) ?_ ?_)
    · rintro rfl x y
      rw [htk, hpt]
      show B x y + fq_c c x y (ch_tk pr ++ [b] ++ a :: d :: []) - fq_d c a d x y - fq_d c b a x y + fq_d c b t x y = B x y + fq_c c x y (ch_tk pr ++ [b] ++ t :: [])
      rw [List.append_assoc, List.append_assoc]
      show B x y + fq_c c x y (ch_tk pr ++ b :: a :: d :: []) - fq_d c a d x y - fq_d c b a x y + fq_d c b t x y = B x y + fq_c c x y (ch_tk pr ++ b :: t :: [])
      rw [fq_ca, fq_ca (xs := [t]), fq_cc, fq_cc, fq_cc, fq_c1, fq_c1]; omega
    · rintro u z ys rfl x y
      rw [htk, hpt]
      show B x y + fq_c c x y (ch_tk pr ++ [b] ++ a :: d :: z :: ch_tk ys) - fq_d c a d x y - fq_d c b a x y + fq_d c b t x y - fq_d c d z x y + fq_d c t z x y = B x y + fq_c c x y (ch_tk pr ++ [b] ++ t :: z :: ch_tk ys)
      rw [List.append_assoc, List.append_assoc]
      show B x y + fq_c c x y (ch_tk pr ++ b :: a :: d :: z :: ch_tk ys) - fq_d c a d x y - fq_d c b a x y + fq_d c b t x y - fq_d c d z x y + fq_d c t z x y = B x y + fq_c c x y (ch_tk pr ++ b :: t :: z :: ch_tk ys)
      rw [fq_ca, fq_ca (xs := t :: z :: ch_tk ys), fq_cc, fq_cc, fq_cc, fq_cc, fq_cc]; omega
end XJ
end
section
/-! the component: all words merged, frequencies kept up -/
theorem ch_tk_app {xs ys : List (Nat × Nat)} : ch_tk (xs ++ ys) = ch_tk xs ++ ch_tk ys := by simp [ch_tk]
theorem fr_up {cn : Nat → Nat} {ml ml' : Nat → List Nat} {x y w : Nat} (h : ∀ j, j ≠ w → ml' j = ml j) : ∀ W, w < W → fr_s cn ml' x y W + cn w * mg_pc x y (ml w) = fr_s cn ml x y W + cn w * mg_pc x y (ml' w)
  | 0, hw => by omega
  | W + 1, hw => by
    show fr_s cn ml' x y W + cn W * mg_pc x y (ml' W) + _ = fr_s cn ml x y W + cn W * mg_pc x y (ml W) + _
    by_cases e : w = W
    · subst e
      have same : ∀ V, V ≤ w → fr_s cn ml' x y V = fr_s cn ml x y V := by
        intro V
        induction V with
        | zero => intro _; rfl
        | succ V ih =>
          intro hV
          show fr_s cn ml' x y V + cn V * mg_pc x y (ml' V) = fr_s cn ml x y V + cn V * mg_pc x y (ml V)
          rw [ih (by omega), h V (by omega)]
      rw [same w (Nat.le_refl _)]; omega
    · have := fr_up (cn := cn) (x := x) (y := y) h W (by omega)
      rw [h W (by omega)]; omega
theorem fr_eq {cn : Nat → Nat} {ml ml' : Nat → List Nat} {x y : Nat} : ∀ W, (∀ w, w < W → ml' w = ml w) → fr_s cn ml' x y W = fr_s cn ml x y W
  | 0, _ => rfl
  | W + 1, h => by
    show fr_s cn ml' x y W + cn W * mg_pc x y (ml' W) = fr_s cn ml x y W + cn W * mg_pc x y (ml W)
    rw [fr_eq W fun w hw => h w (by omega), h W (by omega)]
/-- the chains of all words -/
def xm_C (W : Nat) (cs : Nat → List (Nat × Nat)) (tk nx bf : Nat → Int32) : Prop := ∀ w, w < W → ch_C tk nx bf (8 * w + 8) (-1) (8 * w) (cs w) ∧ ∀ q ∈ cs w, q.2 < 20
section XM
variable {f_words f_isMerged f_tokens f_hasTree f_nodes f_textLength f_resultSize f_rowLength f_partCount f_queued f_banned : Int32} {a_counts a_lengths a_letters a_lefts a_rights a_prices a_spellLength a_spelling a_made a_below a_endsHere a_nextSame a_text a_result a_row a_part a_queueToken a_queuePlace a_linkedToken a_linkedNext a_linkedBefore a_bestCount a_bestPrice a_bestTokens a_bestLast a_bestFrom a_ways a_one a_two : Nat → Int32} {post : SX → Prop}
theorem xa_31 {J2 : Int32 → Int32 → Int32 → Int32 → Int32 → Int32 → Int32 → Int32 → Int32 → Int32 → Int32 → Int32 →  (Nat → Int32) → (Nat → Int32) → (Nat → Int32) → (Nat → Int32) → (Nat → Int32) → (Nat → Int32) → (Nat → Int32) → (Nat → Int32) → (Nat → Int32) → (Nat → Int32) → (Nat → Int32) → (Nat → Int32) → (Nat → Int32) → (Nat → Int32) → (Nat → Int32) → (Nat → Int32) → (Nat → Int32) → (Nat → Int32) → (Nat → Int32) → (Nat → Int32) → (Nat → Int32) → (Nat → Int32) → (Nat → Int32) → (Nat → Int32) → (Nat → Int32) → (Nat → Int32) → (Nat → Int32) → (Nat → Int32) → (Nat → Int32) → (Nat → Int32) → (Nat → Int32) → (Nat → Int32) → (Nat → Int32) →  Prop} {t l r w c : Nat} {B : Nat → Nat → Int} (ht : t < 20) (hl : a_lefts t = nI l) (hr : a_rights t = nI r) (hl2 : l < 20) (hr2 : r < 20) (hw : w < 12) (hc : a_counts w = nI c) :
    ∀ (n : Nat) (xs pre : List (Nat × Nat)) (i : Nat) (a_tokenAt a_nextAt a_beforeAt a_frequencies : Nat → Int32), xs.length < n → i + xs.length ≤ 8 → ch_C a_tokenAt a_nextAt a_beforeAt (8 * w + 8) (-1) (8 * w) (pre ++ xs) → (∀ q ∈ pre ++ xs, q.2 < 20) → fq_I a_frequencies (fun x y => B x y + fq_c c x y (ch_tk (pre ++ xs))) →
      (∀ (zs : List (Nat × Nat)) (b_tokenAt b_nextAt b_beforeAt b_frequencies : Nat → Int32), ch_C b_tokenAt b_nextAt b_beforeAt (8 * w + 8) (-1) (8 * w) (pre ++ zs) → ch_tk zs = mg_ps l r t (ch_tk xs) → ch_hd zs = ch_hd xs → (∀ q ∈ pre ++ zs, q.2 < 20) → fq_I b_frequencies (fun x y => B x y + fq_c c x y (ch_tk (pre ++ zs))) → (∀ j, j < 8 * w ∨ 8 * w + 8 ≤ j → b_tokenAt j = a_tokenAt j ∧ b_nextAt j = a_nextAt j ∧ b_beforeAt j = a_beforeAt j) → J2 (nI (w + 1)) f_words f_isMerged f_tokens f_hasTree f_nodes f_textLength f_resultSize f_rowLength f_partCount f_queued f_banned a_counts a_lengths a_letters b_tokenAt b_nextAt b_beforeAt b_frequencies a_lefts a_rights a_prices a_spellLength a_spelling a_made a_below a_endsHere a_nextSame a_text a_result a_row a_part a_queueToken a_queuePlace a_linkedToken a_linkedNext a_linkedBefore a_bestCount a_bestPrice a_bestTokens a_bestLast a_bestFrom a_ways a_one a_two) →
      wX_joinAll_31 post J2 (nI t) (nI w) n (ch_hd xs) (nI i) f_words f_isMerged f_tokens f_hasTree f_nodes f_textLength f_resultSize f_rowLength f_partCount f_queued f_banned a_counts a_lengths a_letters a_tokenAt a_nextAt a_beforeAt a_frequencies a_lefts a_rights a_prices a_spellLength a_spelling a_made a_below a_endsHere a_nextSame a_text a_result a_row a_part a_queueToken a_queuePlace a_linkedToken a_linkedNext a_linkedBefore a_bestCount a_bestPrice a_bestTokens a_bestLast a_bestFrom a_ways a_one a_two := by
  intro n
  induction n with
  | zero => intro xs pre i tk nx bf fq h; omega
  | succ n ih =>
    intro xs pre i tk nx bf fq hn hi hC hB hF K
    by_cases h8 : 8 ≤ i
    · have e : xs = [] := List.eq_nil_of_length_eq_zero (by omega)
      subst e
      exact br_t (nI_le (a := 8) h8 (by omega)) (nm_r (nI_1 w) (K [] tk nx bf fq hC mg_ps_0.symm rfl hB hF (fun j _ => ⟨rfl, rfl, rfl⟩)))
    · refine br_f (nI_ge (b := 8) (by omega) (by omega)) ?_
      cases xs with
      | nil => exact br_t qn_n1 (nm_r (nI_1 w) (K [] tk nx bf fq hC mg_ps_0.symm rfl hB hF (fun j _ => ⟨rfl, rfl, rfl⟩)))
      | cons z ys =>
        obtain ⟨p, a⟩ := z
        have hi' : i + (ys.length + 1) ≤ 8 := hi
        have hn' : ys.length + 1 < n + 1 := hn
        obtain ⟨b', lo', l1, l2, l3, l4, l5, l6⟩ := ch_app pre _ _ _ hC
        obtain ⟨c1, c2, c3, c4, c5, c6⟩ := l5
        have c1 : lo' ≤ p := c1
        have c2 : p < 8 * w + 8 := c2
        have c3 : tk p = nI a := c3
        have c5 : nx p = ch_hd ys := c5
        have ha2 : a < 20 := hB (p, a) (by simp)
        have hvp : vp_in (nI p) 96 := vp_in_nI (by omega) (by omega)
        -- no joining: go on behind the place
        have step : ∀ (e : mg_ps l r t (ch_tk ((p, a) :: ys)) = a :: mg_ps l r t (ch_tk ys)), wX_joinAll_31 post J2 (nI t) (nI w) n (ch_hd ys) (nI i + 1) f_words f_isMerged f_tokens f_hasTree f_nodes f_textLength f_resultSize f_rowLength f_partCount f_queued f_banned a_counts a_lengths a_letters tk nx bf fq a_lefts a_rights a_prices a_spellLength a_spelling a_made a_below a_endsHere a_nextSame a_text a_result a_row a_part a_queueToken a_queuePlace a_linkedToken a_linkedNext a_linkedBefore a_bestCount a_bestPrice a_bestTokens a_bestLast a_bestFrom a_ways a_one a_two := by
          intro e
          rw [nI_1]
          have ea : ∀ vs : List (Nat × Nat), pre ++ (p, a) :: vs = (pre ++ [(p, a)]) ++ vs := fun vs => by simp
          refine ih ys (pre ++ [(p, a)]) (i + 1) tk nx bf fq (by omega) (by omega) (by rw [← ea]; exact hC) (by rw [← ea]; exact hB) (by rw [← ea]; exact hF) fun zs b_tk b_nx b_bf b_fq k1 k2 k3 k4 k5 k6 => ?_
          rw [← ea] at k1 k4 k5
          refine K ((p, a) :: zs) b_tk b_nx b_bf b_fq k1 ?_ rfl k4 k5 k6
          show a :: ch_tk zs = _
          rw [k2, e]
        rw [show ch_hd ((p, a) :: ys) = nI p from rfl]
        refine br_f (nI_pos (by omega)) ⟨hvp, ?_⟩
        rw [nI_clamp (n := p) (by omega), c5]
        refine nm_e ?_
        cases ys with
        | nil =>
          exact br_t qn_n1 ⟨hvp, nm_e (nm_e (step (by
            show mg_ps l r t (a :: []) = a :: mg_ps l r t []
            rw [mg_ps_1, mg_ps_0])))⟩
        | cons z zs =>
          obtain ⟨q, d⟩ := z
          obtain ⟨d1, d2, d3, d4, d5, d6⟩ := c6
          have d1 : p + 1 ≤ q := d1
          have d2 : q < 8 * w + 8 := d2
          have d3 : tk q = nI d := d3
          have hd2 : d < 20 := hB (q, d) (by simp)
          rw [show ch_hd ((q, d) :: zs) = nI q from rfl]
          refine br_f (nI_pos (n := q) (by omega)) ⟨hvp, vp_in_nI ht (by omega), ?_⟩
          rw [nI_clamp (n := t) (by omega), nI_clamp (n := q) (by omega), hl, hr, c3, d3]
          refine pk_eq a l (fun e1 => ⟨vp_in_nI (by omega) (by omega), vp_in_nI ht (by omega), ?_⟩) (fun e1 => ⟨hvp, nm_e (nm_e (step (mg_ps_n fun z => e1 z.1)))⟩)
          refine pk_eq d r (fun e2 => ⟨vp_in_nI hw (by omega), ?_⟩) (fun e2 => ⟨hvp, nm_e (nm_e (step (mg_ps_n fun z => e2 z.2)))⟩)
          rw [nI_clamp (n := w) (by omega), hc]
          refine xj_at (lo := 8 * w) (hi := 8 * w + 8) (by omega) ht hC hB hF fun b_tk b_nx b_bf b_fq j1 j2 j3 j4 => And.intro hvp ?_
          have ea : ∀ vs : List (Nat × Nat), pre ++ (p, t) :: vs = (pre ++ [(p, t)]) ++ vs := fun vs => by simp
          have hB' : ∀ z ∈ pre ++ (p, t) :: zs, z.2 < 20 := by
            intro z hz
            rcases List.mem_append.mp hz with h | h
            · exact hB z (List.mem_append_left _ h)
            · rcases List.mem_cons.mp h with h | h
              · rw [h]; exact ht
              · exact hB z (List.mem_append_right _ (List.mem_cons_of_mem _ (List.mem_cons_of_mem _ h)))
          refine nm_r (e' := ch_hd zs) j4 (nm_r (nI_1 i) ?_)
          refine ih zs (pre ++ [(p, t)]) (i + 1) b_tk b_nx b_bf b_fq (by simp at hn'; omega) (by simp at hi'; omega) (by rw [← ea]; exact j1) (by rw [← ea]; exact hB') (by rw [← ea]; exact j2) fun vs u_tk u_nx u_bf u_fq k1 k2 k3 k4 k5 k6 => ?_
          rw [← ea] at k1 k4 k5
          refine K ((p, t) :: vs) u_tk u_nx u_bf u_fq k1 ?_ rfl k4 k5 (fun j hj => ?_)
          · show t :: ch_tk vs = mg_ps l r t (a :: d :: ch_tk zs)
            rw [k2, mg_ps_y ⟨e1, e2⟩]
          · obtain ⟨x1, x2, x3⟩ := k6 j hj
            obtain ⟨y1, y2, y3⟩ := j3 j hj
            exact ⟨x1.trans y1, x2.trans y2, x3.trans y3⟩
theorem xm_C_up {W w : Nat} {cs : Nat → List (Nat × Nat)} {zs : List (Nat × Nat)} {tk nx bf tk' nx' bf' : Nat → Int32} (hC : xm_C W cs tk nx bf) (hz : ch_C tk' nx' bf' (8 * w + 8) (-1) (8 * w) zs) (hz2 : ∀ q ∈ zs, q.2 < 20) (hf : ∀ j, j < 8 * w ∨ 8 * w + 8 ≤ j → tk' j = tk j ∧ nx' j = nx j ∧ bf' j = bf j) : xm_C W (fun j => if j = w then zs else cs j) tk' nx' bf' := by
  intro j hj
  by_cases e : j = w
  · subst e; dsimp only; rw [if_pos rfl]; exact ⟨hz, hz2⟩
  · dsimp only; rw [if_neg e]
    obtain ⟨h1, h2⟩ := hC j hj
    exact ⟨ch_fr _ _ _ (fun i a b => hf i (by omega)) h1, h2⟩
theorem xa_2 {t l r W : Nat} {cn : Nat → Nat} {wd : Nat → List Nat} {cs0 : Nat → List (Nat × Nat)} (ht : t < 20) (hl : a_lefts t = nI l) (hr : a_rights t = nI r) (hl2 : l < 20) (hr2 : r < 20) (hW : f_words = nI W) (hW12 : W ≤ 12) (hwd : ∀ w, w < W → a_counts w = nI (cn w) ∧ a_lengths w = nI (wd w).length ∧ (wd w).length ≤ 8)
    (hd0 : ∀ w, w < W → ch_hd (cs0 w) = if (wd w).length = 0 then -1 else nI (8 * w))
    (K : ∀ (cs : Nat → List (Nat × Nat)) (b_tokenAt b_nextAt b_beforeAt b_frequencies : Nat → Int32), xm_C W cs b_tokenAt b_nextAt b_beforeAt → (∀ w, w < W → ch_tk (cs w) = mg_ps l r t (ch_tk (cs0 w)) ∧ ch_hd (cs w) = ch_hd (cs0 w)) → fq_I b_frequencies (fun x y => (fr_s cn (fun w => ch_tk (cs w)) x y W : Int)) → post (f_words, f_isMerged, f_tokens, f_hasTree, f_nodes, f_textLength, f_resultSize, f_rowLength, f_partCount, f_queued, f_banned, a_counts, a_lengths, a_letters, b_tokenAt, b_nextAt, b_beforeAt, b_frequencies, a_lefts, a_rights, a_prices, a_spellLength, a_spelling, a_made, a_below, a_endsHere, a_nextSame, a_text, a_result, a_row, a_part, a_queueToken, a_queuePlace, a_linkedToken, a_linkedNext, a_linkedBefore, a_bestCount, a_bestPrice, a_bestTokens, a_bestLast, a_bestFrom, a_ways, a_one, a_two)) :
    ∀ (d w : Nat) (cs : Nat → List (Nat × Nat)) (a_tokenAt a_nextAt a_beforeAt a_frequencies : Nat → Int32), w + d = W → xm_C W cs a_tokenAt a_nextAt a_beforeAt → (∀ j, j < W → ch_hd (cs j) = ch_hd (cs0 j) ∧ (j < w → ch_tk (cs j) = mg_ps l r t (ch_tk (cs0 j))) ∧ (w ≤ j → ch_tk (cs j) = ch_tk (cs0 j))) → fq_I a_frequencies (fun x y => (fr_s cn (fun w => ch_tk (cs w)) x y W : Int)) → wX_joinAll_2 post (nI t) (d + 1) (nI w) f_words f_isMerged f_tokens f_hasTree f_nodes f_textLength f_resultSize f_rowLength f_partCount f_queued f_banned a_counts a_lengths a_letters a_tokenAt a_nextAt a_beforeAt a_frequencies a_lefts a_rights a_prices a_spellLength a_spelling a_made a_below a_endsHere a_nextSame a_text a_result a_row a_part a_queueToken a_queuePlace a_linkedToken a_linkedNext a_linkedBefore a_bestCount a_bestPrice a_bestTokens a_bestLast a_bestFrom a_ways a_one a_two := by
  intro d
  induction d with
  | zero =>
    intro w cs tk nx bf fq hd hC hs hF
    have e : w = W := by omega
    subst e
    exact br_t (by rw [hW]; exact nI_le (Nat.le_refl _) (by omega)) (K cs tk nx bf fq hC (fun j hj => ⟨(hs j hj).2.1 hj, (hs j hj).1⟩) hF)
  | succ d ih =>
    intro w cs tk nx bf fq hd hC hs hF
    have hwW : w < W := by omega
    obtain ⟨w1, w2, w3⟩ := hwd w hwW
    obtain ⟨s1, s2, s3⟩ := hs w hwW
    obtain ⟨c1, c2⟩ := hC w hwW
    have hlen := ch_len (cs w) (by omega) c1
    have main : ∃ n31, wX_joinAll_31 post (wX_joinAll_2 post (nI t) (d + 1)) (nI t) (nI w) n31 (ch_hd (cs w)) (nI 0) f_words f_isMerged f_tokens f_hasTree f_nodes f_textLength f_resultSize f_rowLength f_partCount f_queued f_banned a_counts a_lengths a_letters tk nx bf fq a_lefts a_rights a_prices a_spellLength a_spelling a_made a_below a_endsHere a_nextSame a_text a_result a_row a_part a_queueToken a_queuePlace a_linkedToken a_linkedNext a_linkedBefore a_bestCount a_bestPrice a_bestTokens a_bestLast a_bestFrom a_ways a_one a_two := by
      refine ⟨(cs w).length + 1, xa_31 (B := fun x y => (fr_s cn (fun w => ch_tk (cs w)) x y W : Int) - fq_c (cn w) x y (ch_tk (cs w))) ht hl hr hl2 hr2 (by omega) w1 _ (cs w) [] 0 tk nx bf fq (by omega) (by omega) c1 c2 (fq_e hF fun x y => ?_) fun zs b_tk b_nx b_bf b_fq k1 k2 k3 k4 k5 k6 => ?_⟩
      · show _ = _ - _ + fq_c (cn w) x y (ch_tk (cs w)); omega
      · refine ih (w + 1) (fun j => if j = w then zs else cs j) b_tk b_nx b_bf b_fq (by omega) (xm_C_up hC k1 k4 k6) (fun j hj => ?_) (fq_e k5 fun x y => ?_)
        · by_cases e : j = w
          · subst e
            rw [if_pos rfl]
            exact ⟨k3.trans s1, fun _ => by rw [k2, s3 (Nat.le_refl _)], fun h => by omega⟩
          · rw [if_neg e]
            obtain ⟨u1, u2, u3⟩ := hs j hj
            exact ⟨u1, fun h => u2 (by omega), fun h => u3 (by omega)⟩
        · have := fr_up (cn := cn) (ml := fun w => ch_tk (cs w)) (ml' := fun j => ch_tk (if j = w then zs else cs j)) (x := x) (y := y) (w := w) (fun j hj => by rw [if_neg hj]) W hwW
          rw [if_pos rfl] at this
          unfold fq_c
          have e1 : ((cn w * mg_pc x y (ch_tk (cs w)) : Nat) : Int) = (cn w : Int) * (mg_pc x y (ch_tk (cs w)) : Int) := Int.natCast_mul _ _
          have e2 : ((cn w * mg_pc x y (ch_tk zs) : Nat) : Int) = (cn w : Int) * (mg_pc x y (ch_tk zs) : Int) := Int.natCast_mul _ _
          show _ - _ + (cn w : Int) * (mg_pc x y (ch_tk zs) : Int) = _
          rw [← e1, ← e2]
          omega
    rw [s1, hd0 w hwW] at main
    refine br_f (by rw [hW]; exact nI_ge (by omega) (by omega)) ⟨vp_in_nI (by omega) (by omega), ?_⟩
    rw [nI_clamp (n := w) (by omega), w2]
    refine pk_le (wd w).length 0 (fun h => ?_) (fun h => nm_r (qn_8m w) ?_)
    · rw [if_pos (by omega)] at main; exact main
    · rw [if_neg (by omega)] at main; exact main
/-- joining all of a token in all words -/
theorem xa_all {t l r W : Nat} {cn : Nat → Nat} {wd : Nat → List Nat} {cs0 : Nat → List (Nat × Nat)} {p0 : Int32} {a_tokenAt a_nextAt a_beforeAt a_frequencies : Nat → Int32} (e0 : p0 = nI t) (ht : t < 20) (hl : a_lefts t = nI l) (hr : a_rights t = nI r) (hl2 : l < 20) (hr2 : r < 20) (hW : f_words = nI W) (hW12 : W ≤ 12) (hwd : ∀ w, w < W → a_counts w = nI (cn w) ∧ a_lengths w = nI (wd w).length ∧ (wd w).length ≤ 8)
    (hd0 : ∀ w, w < W → ch_hd (cs0 w) = if (wd w).length = 0 then -1 else nI (8 * w)) (hC : xm_C W cs0 a_tokenAt a_nextAt a_beforeAt) (hF : fq_I a_frequencies (fun x y => (fr_s cn (fun w => ch_tk (cs0 w)) x y W : Int)))
    (K : ∀ (cs : Nat → List (Nat × Nat)) (b_tokenAt b_nextAt b_beforeAt b_frequencies : Nat → Int32), xm_C W cs b_tokenAt b_nextAt b_beforeAt → (∀ w, w < W → ch_tk (cs w) = mg_ps l r t (ch_tk (cs0 w)) ∧ ch_hd (cs w) = ch_hd (cs0 w)) → fq_I b_frequencies (fun x y => (fr_s cn (fun w => ch_tk (cs w)) x y W : Int)) → post (f_words, f_isMerged, f_tokens, f_hasTree, f_nodes, f_textLength, f_resultSize, f_rowLength, f_partCount, f_queued, f_banned, a_counts, a_lengths, a_letters, b_tokenAt, b_nextAt, b_beforeAt, b_frequencies, a_lefts, a_rights, a_prices, a_spellLength, a_spelling, a_made, a_below, a_endsHere, a_nextSame, a_text, a_result, a_row, a_part, a_queueToken, a_queuePlace, a_linkedToken, a_linkedNext, a_linkedBefore, a_bestCount, a_bestPrice, a_bestTokens, a_bestLast, a_bestFrom, a_ways, a_one, a_two)) : wpX_joinAll post (f_words, f_isMerged, f_tokens, f_hasTree, f_nodes, f_textLength, f_resultSize, f_rowLength, f_partCount, f_queued, f_banned, a_counts, a_lengths, a_letters, a_tokenAt, a_nextAt, a_beforeAt, a_frequencies, a_lefts, a_rights, a_prices, a_spellLength, a_spelling, a_made, a_below, a_endsHere, a_nextSame, a_text, a_result, a_row, a_part, a_queueToken, a_queuePlace, a_linkedToken, a_linkedNext, a_linkedBefore, a_bestCount, a_bestPrice, a_bestTokens, a_bestLast, a_bestFrom, a_ways, a_one, a_two) p0 := by
  subst e0
  exact Exists.intro (W + 1) (xa_2 ht hl hr hl2 hr2 hW hW12 hwd hd0 K W 0 cs0 a_tokenAt a_nextAt a_beforeAt a_frequencies (by omega) hC (fun j hj => ⟨rfl, fun h => by omega, fun _ => rfl⟩) hF)
end XM
end
section
/-! the component: laying the words out; mergeWords -/
def ch_mk : Nat → List Nat → List (Nat × Nat)
  | _, [] => []
  | p, a :: l => (p, a) :: ch_mk (p + 1) l
theorem ch_mk_tk : ∀ (l : List Nat) (p : Nat), ch_tk (ch_mk p l) = l
  | [], _ => rfl
  | a :: l, p => by
    show a :: ch_tk (ch_mk (p + 1) l) = _
    rw [ch_mk_tk l (p + 1)]
theorem ch_mk_hd {l : List Nat} {p : Nat} : ch_hd (ch_mk p l) = if l.length = 0 then -1 else nI p := by
  cases l with
  | nil => rfl
  | cons a l => rfl
theorem ch_mk_C {tk nx bf : Nat → Int32} {hi : Nat} : ∀ (l : List Nat) (p : Nat) (b : Int32), p + l.length ≤ hi → (∀ j, j < l.length → tk (p + j) = nI (l.getD j 0) ∧ nx (p + j) = (if j + 1 < l.length then nI (p + j + 1) else -1) ∧ bf (p + j) = (if j = 0 then b else nI (p + j - 1))) → ch_C tk nx bf hi b p (ch_mk p l)
  | [], _, _, _, _ => trivial
  | a :: l, p, b, hl, h => by
    have hl' : p + (l.length + 1) ≤ hi := hl
    obtain ⟨h1, h2, h3⟩ := h 0 (by simp)
    refine ⟨Nat.le_refl _, by show p < hi; omega, h1, h3, ?_, ch_mk_C l (p + 1) (nI p) (by omega) fun j hj => ?_⟩
    · show nx p = _
      rw [ch_mk_hd]
      have h2 : nx p = if 0 + 1 < l.length + 1 then nI (p + 1) else -1 := h2
      rw [h2]
      by_cases e : l.length = 0
      · rw [if_pos e, if_neg (by omega)]
      · rw [if_neg e, if_pos (by omega)]
    · obtain ⟨k1, k2, k3⟩ := h (j + 1) (by simp; omega)
      rw [List.getD_cons_succ] at k1
      have k2 : nx (p + (j + 1)) = if j + 1 + 1 < l.length + 1 then nI (p + (j + 1) + 1) else -1 := k2
      rw [show p + (j + 1) = p + 1 + j from by omega] at k1 k2 k3
      rw [if_neg (by omega)] at k3
      refine ⟨k1, ?_, ?_⟩
      · rw [k2]
        by_cases e : j + 1 < l.length
        · rw [if_pos e, if_pos (by omega)]
        · rw [if_neg e, if_neg (by omega)]
      · rw [k3]
        by_cases e : j = 0
        · subst e; rw [if_pos rfl]; exact congrArg nI (by omega)
        · rw [if_neg e]
theorem ch_mk_lt {l : List Nat} {B : Nat} : ∀ {p : Nat}, (∀ c ∈ l, c < B) → ∀ q ∈ ch_mk p l, q.2 < B := by
  induction l with
  | nil => intro p _ q hq; exact absurd hq List.not_mem_nil
  | cons a l ih =>
    intro p h q hq
    rcases List.mem_cons.mp hq with rfl | hq
    · exact h a List.mem_cons_self
    · exact ih (fun c hc => h c (List.mem_cons_of_mem _ hc)) q hq
section XL
variable {f_words f_isMerged f_tokens f_hasTree f_nodes f_textLength f_resultSize f_rowLength f_partCount f_queued f_banned : Int32} {a_counts a_lengths a_letters a_lefts a_rights a_prices a_spellLength a_spelling a_made a_below a_endsHere a_nextSame a_text a_result a_row a_part a_queueToken a_queuePlace a_linkedToken a_linkedNext a_linkedBefore a_bestCount a_bestPrice a_bestTokens a_bestLast a_bestFrom a_ways a_one a_two : Nat → Int32} {post : SX → Prop}
theorem xl_72z {J2 : Int32 → Int32 → Int32 → Int32 → Int32 → Int32 → Int32 → Int32 → Int32 → Int32 → Int32 → Int32 →  (Nat → Int32) → (Nat → Int32) → (Nat → Int32) → (Nat → Int32) → (Nat → Int32) → (Nat → Int32) → (Nat → Int32) → (Nat → Int32) → (Nat → Int32) → (Nat → Int32) → (Nat → Int32) → (Nat → Int32) → (Nat → Int32) → (Nat → Int32) → (Nat → Int32) → (Nat → Int32) → (Nat → Int32) → (Nat → Int32) → (Nat → Int32) → (Nat → Int32) → (Nat → Int32) → (Nat → Int32) → (Nat → Int32) → (Nat → Int32) → (Nat → Int32) → (Nat → Int32) → (Nat → Int32) → (Nat → Int32) → (Nat → Int32) → (Nat → Int32) → (Nat → Int32) → (Nat → Int32) → (Nat → Int32) →  Prop} {w p : Nat} {z0 : Int32} {a_tokenAt a_nextAt a_beforeAt a_frequencies : Nat → Int32} (hp : p < 96) (K : J2 (nI (0 + 1)) f_words f_isMerged f_tokens f_hasTree f_nodes f_textLength f_resultSize f_rowLength f_partCount f_queued f_banned a_counts a_lengths a_letters a_tokenAt a_nextAt (upd a_beforeAt p z0) a_frequencies a_lefts a_rights a_prices a_spellLength a_spelling a_made a_below a_endsHere a_nextSame a_text a_result a_row a_part a_queueToken a_queuePlace a_linkedToken a_linkedNext a_linkedBefore a_bestCount a_bestPrice a_bestTokens a_bestLast a_bestFrom a_ways a_one a_two) : wX_layWord_72 post J2 (nI w) (nI 0) (nI p) z0 (nI p) f_words f_isMerged f_tokens f_hasTree f_nodes f_textLength f_resultSize f_rowLength f_partCount f_queued f_banned a_counts a_lengths a_letters a_tokenAt a_nextAt a_beforeAt a_frequencies a_lefts a_rights a_prices a_spellLength a_spelling a_made a_below a_endsHere a_nextSame a_text a_result a_row a_part a_queueToken a_queuePlace a_linkedToken a_linkedNext a_linkedBefore a_bestCount a_bestPrice a_bestTokens a_bestLast a_bestFrom a_ways a_one a_two :=
  And.intro (vp_in_nI hp (by omega)) (nm_r (e' := upd a_beforeAt p z0) (by rw [nI_clamp (by omega)]) (br_t (by decide) (nm_r (nI_1 0) K)))
theorem xl_72s {J2 : Int32 → Int32 → Int32 → Int32 → Int32 → Int32 → Int32 → Int32 → Int32 → Int32 → Int32 → Int32 →  (Nat → Int32) → (Nat → Int32) → (Nat → Int32) → (Nat → Int32) → (Nat → Int32) → (Nat → Int32) → (Nat → Int32) → (Nat → Int32) → (Nat → Int32) → (Nat → Int32) → (Nat → Int32) → (Nat → Int32) → (Nat → Int32) → (Nat → Int32) → (Nat → Int32) → (Nat → Int32) → (Nat → Int32) → (Nat → Int32) → (Nat → Int32) → (Nat → Int32) → (Nat → Int32) → (Nat → Int32) → (Nat → Int32) → (Nat → Int32) → (Nat → Int32) → (Nat → Int32) → (Nat → Int32) → (Nat → Int32) → (Nat → Int32) → (Nat → Int32) → (Nat → Int32) → (Nat → Int32) → (Nat → Int32) →  Prop} {w p i a b : Nat} {z0 : Int32} {a_tokenAt a_nextAt a_beforeAt a_frequencies : Nat → Int32} (hp : p < 96) (hp0 : 0 < p) (hi : 0 < i) (hi2 : i < 96) (hw : w < 12) (ha : a_letters p = nI a) (hb : a_letters (p - 1) = nI b) (ha2 : a < 20) (hb2 : b < 20) (K : J2 (nI (i + 1)) f_words f_isMerged f_tokens f_hasTree f_nodes f_textLength f_resultSize f_rowLength f_partCount f_queued f_banned a_counts a_lengths a_letters a_tokenAt a_nextAt (upd a_beforeAt p z0) (fq_f a_frequencies b a (a_counts w)) a_lefts a_rights a_prices a_spellLength a_spelling a_made a_below a_endsHere a_nextSame a_text a_result a_row a_part a_queueToken a_queuePlace a_linkedToken a_linkedNext a_linkedBefore a_bestCount a_bestPrice a_bestTokens a_bestLast a_bestFrom a_ways a_one a_two) : wX_layWord_72 post J2 (nI w) (nI i) (nI p) z0 (nI p) f_words f_isMerged f_tokens f_hasTree f_nodes f_textLength f_resultSize f_rowLength f_partCount f_queued f_banned a_counts a_lengths a_letters a_tokenAt a_nextAt a_beforeAt a_frequencies a_lefts a_rights a_prices a_spellLength a_spelling a_made a_below a_endsHere a_nextSame a_text a_result a_row a_part a_queueToken a_queuePlace a_linkedToken a_linkedNext a_linkedBefore a_bestCount a_bestPrice a_bestTokens a_bestLast a_bestFrom a_ways a_one a_two := by
  refine And.intro (vp_in_nI hp (by omega)) (nm_r (e' := upd a_beforeAt p z0) (by rw [nI_clamp (by omega)]) (br_f (nI_nle hi (by omega)) ?_))
  rw [qn_s1 hp0]
  refine ⟨vp_in_nI (by omega) (by omega), vp_in_nI hp (by omega), vp_in_nI hw (by omega), ?_⟩
  rw [nI_clamp (n := w) (by omega)]
  exact xn_note (x := b) (y := a) (by rw [nI_clamp (by omega)]; exact hb) (by rw [nI_clamp (by omega)]; exact ha) hb2 ha2 (nm_r (nI_1 i) K)
theorem xl_55 {J2 : Int32 → Int32 → Int32 → Int32 → Int32 → Int32 → Int32 → Int32 → Int32 → Int32 → Int32 → Int32 →  (Nat → Int32) → (Nat → Int32) → (Nat → Int32) → (Nat → Int32) → (Nat → Int32) → (Nat → Int32) → (Nat → Int32) → (Nat → Int32) → (Nat → Int32) → (Nat → Int32) → (Nat → Int32) → (Nat → Int32) → (Nat → Int32) → (Nat → Int32) → (Nat → Int32) → (Nat → Int32) → (Nat → Int32) → (Nat → Int32) → (Nat → Int32) → (Nat → Int32) → (Nat → Int32) → (Nat → Int32) → (Nat → Int32) → (Nat → Int32) → (Nat → Int32) → (Nat → Int32) → (Nat → Int32) → (Nat → Int32) → (Nat → Int32) → (Nat → Int32) → (Nat → Int32) → (Nat → Int32) → (Nat → Int32) →  Prop} {w p i a b : Nat} {z0 : Int32} {a_tokenAt a_nextAt a_beforeAt a_frequencies : Nat → Int32} (hp : p < 96) (hip : i ≤ p) (hi2 : i < 96) (hw : w < 12) (ha : a_letters p = nI a) (hb : 0 < i → a_letters (p - 1) = nI b) (ha2 : a < 20) (hb2 : b < 20) (K : J2 (nI (i + 1)) f_words f_isMerged f_tokens f_hasTree f_nodes f_textLength f_resultSize f_rowLength f_partCount f_queued f_banned a_counts a_lengths a_letters a_tokenAt (upd a_nextAt p z0) (upd a_beforeAt p (if i = 0 then -1 else nI (p - 1))) (if i = 0 then a_frequencies else fq_f a_frequencies b a (a_counts w)) a_lefts a_rights a_prices a_spellLength a_spelling a_made a_below a_endsHere a_nextSame a_text a_result a_row a_part a_queueToken a_queuePlace a_linkedToken a_linkedNext a_linkedBefore a_bestCount a_bestPrice a_bestTokens a_bestLast a_bestFrom a_ways a_one a_two) : wX_layWord_55 post J2 (nI w) (nI i) (nI p) z0 (nI p) f_words f_isMerged f_tokens f_hasTree f_nodes f_textLength f_resultSize f_rowLength f_partCount f_queued f_banned a_counts a_lengths a_letters a_tokenAt a_nextAt a_beforeAt a_frequencies a_lefts a_rights a_prices a_spellLength a_spelling a_made a_below a_endsHere a_nextSame a_text a_result a_row a_part a_queueToken a_queuePlace a_linkedToken a_linkedNext a_linkedBefore a_bestCount a_bestPrice a_bestTokens a_bestLast a_bestFrom a_ways a_one a_two := by
  refine And.intro (vp_in_nI hp (by omega)) (nm_r (e' := upd a_nextAt p z0) (by rw [nI_clamp (by omega)]) ?_)
  by_cases e : i = 0
  · subst e
    rw [if_pos rfl, if_pos rfl] at K
    exact br_t (by decide) (xl_72z hp K)
  · rw [if_neg e, if_neg e] at K
    refine br_f (nI_nle (by omega) (by omega)) ?_
    rw [qn_s1 (a := p) (by omega)]
    exact xl_72s hp (by omega) (by omega) hi2 hw ha (hb (by omega)) ha2 hb2 K
theorem xl_2 {w c : Nat} {l : List Nat} {B : Nat → Nat → Int} {tk0 nx0 bf0 : Nat → Int32} (hw : w < 12) (hc : a_counts w = nI c) (hlen : a_lengths w = nI l.length) (hl8 : l.length ≤ 8) (hlt : ly a_letters (8 * w) l) (hB : ∀ c ∈ l, c < 6)
    (K : ∀ (b_tokenAt b_nextAt b_beforeAt b_frequencies : Nat → Int32), ch_C b_tokenAt b_nextAt b_beforeAt (8 * w + 8) (-1) (8 * w) (ch_mk (8 * w) l) → (∀ j, j < 8 * w ∨ 8 * w + 8 ≤ j → b_tokenAt j = tk0 j ∧ b_nextAt j = nx0 j ∧ b_beforeAt j = bf0 j) → fq_I b_frequencies (fun x y => B x y + fq_c c x y l) → post (f_words, f_isMerged, f_tokens, f_hasTree, f_nodes, f_textLength, f_resultSize, f_rowLength, f_partCount, f_queued, f_banned, a_counts, a_lengths, a_letters, b_tokenAt, b_nextAt, b_beforeAt, b_frequencies, a_lefts, a_rights, a_prices, a_spellLength, a_spelling, a_made, a_below, a_endsHere, a_nextSame, a_text, a_result, a_row, a_part, a_queueToken, a_queuePlace, a_linkedToken, a_linkedNext, a_linkedBefore, a_bestCount, a_bestPrice, a_bestTokens, a_bestLast, a_bestFrom, a_ways, a_one, a_two)) :
    ∀ (suf pre : List Nat) (a_tokenAt a_nextAt a_beforeAt a_frequencies : Nat → Int32), pre ++ suf = l → (∀ j, j < 8 * w ∨ 8 * w + 8 ≤ j → a_tokenAt j = tk0 j ∧ a_nextAt j = nx0 j ∧ a_beforeAt j = bf0 j) →
      (∀ j, j < pre.length → a_tokenAt (8 * w + j) = nI (l.getD j 0) ∧ a_nextAt (8 * w + j) = (if j + 1 < l.length then nI (8 * w + j + 1) else -1) ∧ a_beforeAt (8 * w + j) = (if j = 0 then -1 else nI (8 * w + j - 1))) → fq_I a_frequencies (fun x y => B x y + fq_c c x y pre) → wX_layWord_2 post (nI w) (suf.length + 1) (nI pre.length) f_words f_isMerged f_tokens f_hasTree f_nodes f_textLength f_resultSize f_rowLength f_partCount f_queued f_banned a_counts a_lengths a_letters a_tokenAt a_nextAt a_beforeAt a_frequencies a_lefts a_rights a_prices a_spellLength a_spelling a_made a_below a_endsHere a_nextSame a_text a_result a_row a_part a_queueToken a_queuePlace a_linkedToken a_linkedNext a_linkedBefore a_bestCount a_bestPrice a_bestTokens a_bestLast a_bestFrom a_ways a_one a_two := by
  intro suf
  induction suf with
  | nil =>
    intro pre tk nx bf fq e h1 h2 h3
    rw [List.append_nil] at e
    subst e
    refine And.intro (vp_in_nI hw (by omega)) ?_
    rw [nI_clamp (n := w) (by omega), hlen]
    exact br_t (nI_le (Nat.le_refl _) (by omega)) (K tk nx bf fq (ch_mk_C _ _ _ (by omega) h2) h1 h3)
  | cons a suf ih =>
    intro pre tk nx bf fq e h1 h2 h3
    have hpl : pre.length + (suf.length + 1) = l.length := by rw [← e, List.length_append]; rfl
    have ha : l.getD pre.length 0 = a := by rw [← e, List.getD_eq_getElem?_getD]; simp
    have hla := ly_at hlt (k := pre.length) (by omega)
    rw [ha] at hla
    have ha6 : a < 6 := hB a (e ▸ List.mem_append_right _ List.mem_cons_self)
    refine And.intro (vp_in_nI hw (by omega)) ?_
    rw [nI_clamp (n := w) (by omega), hlen, qn_8]
    refine br_f (nI_ge (by omega) (by omega)) (nm_e ⟨vp_in_nI (by omega) (by omega), vp_in_nI (by omega) (by omega), nm_r (e' := upd tk (8 * w + pre.length) (nI a)) (by rw [nI_clamp (by omega), hla]) ⟨vp_in_nI hw (by omega), ?_⟩⟩)
    rw [nI_1 pre.length, nI_1 (8 * w + pre.length)]
    -- the letter before
    obtain ⟨b, hb, hb2, hbF⟩ : ∃ b, (0 < pre.length → a_letters (8 * w + pre.length - 1) = nI b) ∧ b < 20 ∧ ∀ x y, (fun x y => B x y + fq_c c x y (pre ++ [a])) x y = B x y + fq_c c x y pre + (if pre.length = 0 then 0 else fq_d c b a x y) := by
      rcases List.eq_nil_or_concat pre with rfl | ⟨pr, b, rfl⟩
      · refine ⟨0, fun h => by simp at h, by omega, fun x y => ?_⟩
        show B x y + fq_c c x y [a] = B x y + fq_c c x y [] + 0
        rw [fq_c1, fq_c0]; omega
      · rw [List.concat_eq_append] at *
        have hlb := ly_at hlt (k := pr.length) (by simp at hpl; omega)
        have eb : l.getD pr.length 0 = b := by rw [← e, List.getD_eq_getElem?_getD]; simp
        rw [eb] at hlb
        refine ⟨b, fun _ => ?_, by have := hB b (e ▸ List.mem_append_left _ (List.mem_append_right _ List.mem_cons_self)); omega, fun x y => ?_⟩
        · rw [← hlb]; exact congrArg a_letters (by simp)
        · rw [if_neg (by simp)]
          show B x y + fq_c c x y (pr ++ [b] ++ [a]) = _
          rw [List.append_assoc]
          show B x y + fq_c c x y (pr ++ b :: [a]) = _
          rw [fq_ca, fq_cc, fq_c1]; omega
    have main : ∀ z0 : Int32, z0 = (if pre.length + 1 < l.length then nI (8 * w + pre.length + 1) else -1) → wX_layWord_55 post (wX_layWord_2 post (nI w) (suf.length + 1)) (nI w) (nI pre.length) (nI (8 * w + pre.length)) z0 (nI (8 * w + pre.length)) f_words f_isMerged f_tokens f_hasTree f_nodes f_textLength f_resultSize f_rowLength f_partCount f_queued f_banned a_counts a_lengths a_letters (upd tk (8 * w + pre.length) (nI a)) nx bf fq a_lefts a_rights a_prices a_spellLength a_spelling a_made a_below a_endsHere a_nextSame a_text a_result a_row a_part a_queueToken a_queuePlace a_linkedToken a_linkedNext a_linkedBefore a_bestCount a_bestPrice a_bestTokens a_bestLast a_bestFrom a_ways a_one a_two := by
      intro z0 hz0
      refine xl_55 (a := a) (b := b) (by omega) (by omega) (by omega) hw hla hb (by omega) hb2 ?_
      have q := ih (pre ++ [a]) (upd tk (8 * w + pre.length) (nI a)) (upd nx (8 * w + pre.length) z0) (upd bf (8 * w + pre.length) (if pre.length = 0 then -1 else nI (8 * w + pre.length - 1))) (if pre.length = 0 then fq else fq_f fq b a (a_counts w)) (by rw [List.append_assoc]; exact e) (fun j hj => by
          obtain ⟨y1, y2, y3⟩ := h1 j hj
          exact ⟨(pk_un (by omega)).trans y1, (pk_un (by omega)).trans y2, (pk_un (by omega)).trans y3⟩) (fun j hj => by
          have hj' : j < pre.length + 1 := by simpa using hj
          by_cases ej : j = pre.length
          · subst ej
            rw [pk_us, pk_us, pk_us, ha]
            exact ⟨rfl, hz0, rfl⟩
          · rw [pk_un (by omega), pk_un (by omega), pk_un (by omega)]
            exact h2 j (by omega)) (by
          refine fq_e (F := fun x y => B x y + fq_c c x y pre + (if pre.length = 0 then 0 else fq_d c b a x y)) ?_ (fun x y => (hbF x y).symm)
          by_cases ez : pre.length = 0
          · rw [if_pos ez]
            exact fq_e h3 fun x y => by rw [if_pos ez, Int.add_zero]
          · rw [if_neg ez, hc]
            exact fq_e (fq_p h3 hb2 (by omega)) fun x y => by rw [if_neg ez])
      rw [List.length_append] at q
      exact q
    exact pk_le l.length (pre.length + 1) (fun h => main _ (by rw [if_neg (by omega)])) (fun h => main _ (by rw [if_pos (by omega)]))
theorem xl_lay {w c : Nat} {l : List Nat} {B : Nat → Nat → Int} {p0 : Int32} {a_tokenAt a_nextAt a_beforeAt a_frequencies : Nat → Int32} (e0 : p0 = nI w) (hw : w < 12) (hc : a_counts w = nI c) (hlen : a_lengths w = nI l.length) (hl8 : l.length ≤ 8) (hlt : ly a_letters (8 * w) l) (hB : ∀ c ∈ l, c < 6) (hF : fq_I a_frequencies B)
    (K : ∀ (b_tokenAt b_nextAt b_beforeAt b_frequencies : Nat → Int32), ch_C b_tokenAt b_nextAt b_beforeAt (8 * w + 8) (-1) (8 * w) (ch_mk (8 * w) l) → (∀ j, j < 8 * w ∨ 8 * w + 8 ≤ j → b_tokenAt j = a_tokenAt j ∧ b_nextAt j = a_nextAt j ∧ b_beforeAt j = a_beforeAt j) → fq_I b_frequencies (fun x y => B x y + fq_c c x y l) → post (f_words, f_isMerged, f_tokens, f_hasTree, f_nodes, f_textLength, f_resultSize, f_rowLength, f_partCount, f_queued, f_banned, a_counts, a_lengths, a_letters, b_tokenAt, b_nextAt, b_beforeAt, b_frequencies, a_lefts, a_rights, a_prices, a_spellLength, a_spelling, a_made, a_below, a_endsHere, a_nextSame, a_text, a_result, a_row, a_part, a_queueToken, a_queuePlace, a_linkedToken, a_linkedNext, a_linkedBefore, a_bestCount, a_bestPrice, a_bestTokens, a_bestLast, a_bestFrom, a_ways, a_one, a_two)) : wpX_layWord post (f_words, f_isMerged, f_tokens, f_hasTree, f_nodes, f_textLength, f_resultSize, f_rowLength, f_partCount, f_queued, f_banned, a_counts, a_lengths, a_letters, a_tokenAt, a_nextAt, a_beforeAt, a_frequencies, a_lefts, a_rights, a_prices, a_spellLength, a_spelling, a_made, a_below, a_endsHere, a_nextSame, a_text, a_result, a_row, a_part, a_queueToken, a_queuePlace, a_linkedToken, a_linkedNext, a_linkedBefore, a_bestCount, a_bestPrice, a_bestTokens, a_bestLast, a_bestFrom, a_ways, a_one, a_two) p0 := by
  subst e0
  exact Exists.intro (l.length + 1) (xl_2 hw hc hlen hl8 hlt hB K l [] a_tokenAt a_nextAt a_beforeAt a_frequencies rfl (fun j _ => ⟨rfl, rfl, rfl⟩) (fun j h => by simp at h) (fq_e hF fun x y => by rw [fq_c0, Int.add_zero]))
/-- what merged words are -/
def xm_M (T W : Nat) (L R cn : Nat → Nat) (wd : Nat → List Nat) (tk nx bf fq : Nat → Int32) : Prop := ∃ cs : Nat → List (Nat × Nat), xm_C W cs tk nx bf ∧ (∀ w, w < W → ch_tk (cs w) = mg_all L R (T - 6) 6 (wd w) ∧ ch_hd (cs w) = if (wd w).length = 0 then -1 else nI (8 * w)) ∧ fq_I fq (fun x y => (fr_s cn (fun w => ch_tk (cs w)) x y W : Int))
def xw_W (W : Nat) (cn : Nat → Nat) (wd : Nat → List Nat) (f_words : Int32) (a_counts a_lengths a_letters : Nat → Int32) : Prop := f_words = nI W ∧ W ≤ 12 ∧ ∀ w, w < W → a_counts w = nI (cn w) ∧ a_lengths w = nI (wd w).length ∧ (wd w).length ≤ 8 ∧ ly a_letters (8 * w) (wd w) ∧ (∀ c ∈ wd w, c < 6) ∧ cn w ≤ 50
theorem xm_59 {T W : Nat} {L R cn : Nat → Nat} {wd : Nat → List Nat} (hW : xw_W W cn wd f_words a_counts a_lengths a_letters) (ht : f_tokens = nI T) (h6 : 6 ≤ T) (hT : T ≤ 20) (hL : yt_L T L R a_lefts a_rights)
    (K : ∀ (b_tokenAt b_nextAt b_beforeAt b_frequencies : Nat → Int32), xm_M T W L R cn wd b_tokenAt b_nextAt b_beforeAt b_frequencies → post (f_words, f_isMerged, f_tokens, f_hasTree, f_nodes, f_textLength, f_resultSize, f_rowLength, f_partCount, f_queued, f_banned, a_counts, a_lengths, a_letters, b_tokenAt, b_nextAt, b_beforeAt, b_frequencies, a_lefts, a_rights, a_prices, a_spellLength, a_spelling, a_made, a_below, a_endsHere, a_nextSame, a_text, a_result, a_row, a_part, a_queueToken, a_queuePlace, a_linkedToken, a_linkedNext, a_linkedBefore, a_bestCount, a_bestPrice, a_bestTokens, a_bestLast, a_bestFrom, a_ways, a_one, a_two)) :
    ∀ (d t : Nat) (a_tokenAt a_nextAt a_beforeAt a_frequencies : Nat → Int32), t + d = T → 6 ≤ t → (∃ cs : Nat → List (Nat × Nat), xm_C W cs a_tokenAt a_nextAt a_beforeAt ∧ (∀ w, w < W → ch_tk (cs w) = mg_all L R (t - 6) 6 (wd w) ∧ ch_hd (cs w) = if (wd w).length = 0 then -1 else nI (8 * w)) ∧ fq_I a_frequencies (fun x y => (fr_s cn (fun w => ch_tk (cs w)) x y W : Int))) → wX_mergeWords_59 post (d + 1) (nI t) f_words f_isMerged f_tokens f_hasTree f_nodes f_textLength f_resultSize f_rowLength f_partCount f_queued f_banned a_counts a_lengths a_letters a_tokenAt a_nextAt a_beforeAt a_frequencies a_lefts a_rights a_prices a_spellLength a_spelling a_made a_below a_endsHere a_nextSame a_text a_result a_row a_part a_queueToken a_queuePlace a_linkedToken a_linkedNext a_linkedBefore a_bestCount a_bestPrice a_bestTokens a_bestLast a_bestFrom a_ways a_one a_two := by
  intro d
  induction d with
  | zero =>
    intro t tk nx bf fq hd h6t hcs
    have e : t = T := by omega
    subst e
    exact br_t (by rw [ht]; exact nI_le (Nat.le_refl _) (by omega)) (K tk nx bf fq hcs)
  | succ d ih =>
    intro t tk nx bf fq hd h6t hcs
    obtain ⟨cs, c1, c2, c3⟩ := hcs
    obtain ⟨l1, l2, l3, l4⟩ := hL t h6t (by omega)
    obtain ⟨w1, w2, w3⟩ := hW
    refine br_f (by rw [ht]; exact nI_ge (by omega) (by omega)) ?_
    refine xa_all (t := t) (l := L t) (r := R t) (cn := cn) (wd := wd) rfl (by omega) l1 l2 (by omega) (by omega) w1 w2 (fun w hw => ⟨(w3 w hw).1, (w3 w hw).2.1, (w3 w hw).2.2.1⟩) (fun w hw => (c2 w hw).2) c1 c3 fun cs' b_tk b_nx b_bf b_fq k1 k2 k3 => nm_r (nI_1 t) ?_
    refine ih (t + 1) b_tk b_nx b_bf b_fq (by omega) (by omega) ⟨cs', k1, fun w hw => ⟨?_, (k2 w hw).2.trans (c2 w hw).2⟩, k3⟩
    rw [(k2 w hw).1, (c2 w hw).1, show t + 1 - 6 = (t - 6) + 1 from by omega, mg_all_s, show 6 + (t - 6) = t from by omega]
theorem xm_37 {T W : Nat} {L R cn : Nat → Nat} {wd : Nat → List Nat} (hW : xw_W W cn wd f_words a_counts a_lengths a_letters) (ht : f_tokens = nI T) (h6 : 6 ≤ T) (hT : T ≤ 20) (hL : yt_L T L R a_lefts a_rights)
    (K : ∀ (b_tokenAt b_nextAt b_beforeAt b_frequencies : Nat → Int32), xm_M T W L R cn wd b_tokenAt b_nextAt b_beforeAt b_frequencies → post (f_words, f_isMerged, f_tokens, f_hasTree, f_nodes, f_textLength, f_resultSize, f_rowLength, f_partCount, f_queued, f_banned, a_counts, a_lengths, a_letters, b_tokenAt, b_nextAt, b_beforeAt, b_frequencies, a_lefts, a_rights, a_prices, a_spellLength, a_spelling, a_made, a_below, a_endsHere, a_nextSame, a_text, a_result, a_row, a_part, a_queueToken, a_queuePlace, a_linkedToken, a_linkedNext, a_linkedBefore, a_bestCount, a_bestPrice, a_bestTokens, a_bestLast, a_bestFrom, a_ways, a_one, a_two)) :
    ∀ (d w : Nat) (a_tokenAt a_nextAt a_beforeAt a_frequencies : Nat → Int32), w + d = W → xm_C w (fun j => ch_mk (8 * j) (wd j)) a_tokenAt a_nextAt a_beforeAt → fq_I a_frequencies (fun x y => (fr_s cn wd x y w : Int)) → wX_mergeWords_37 post (d + 1) (nI w) f_words f_isMerged f_tokens f_hasTree f_nodes f_textLength f_resultSize f_rowLength f_partCount f_queued f_banned a_counts a_lengths a_letters a_tokenAt a_nextAt a_beforeAt a_frequencies a_lefts a_rights a_prices a_spellLength a_spelling a_made a_below a_endsHere a_nextSame a_text a_result a_row a_part a_queueToken a_queuePlace a_linkedToken a_linkedNext a_linkedBefore a_bestCount a_bestPrice a_bestTokens a_bestLast a_bestFrom a_ways a_one a_two := by
  intro d
  induction d with
  | zero =>
    intro w tk nx bf fq hd hC hF
    have e : w = W := by omega
    subst e
    refine br_t (by rw [hW.1]; exact nI_le (Nat.le_refl _) (by have := hW.2.1; omega)) ⟨T - 6 + 1, ?_⟩
    refine xm_59 hW ht h6 hT hL K (T - 6) 6 tk nx bf fq (by omega) (Nat.le_refl _) ⟨fun j => ch_mk (8 * j) (wd j), hC, fun j hj => ⟨ch_mk_tk _ _, ch_mk_hd⟩, fq_e hF fun x y => ?_⟩
    rw [fr_eq (ml := wd) w fun j _ => ch_mk_tk _ _]
  | succ d ih =>
    intro w tk nx bf fq hd hC hF
    obtain ⟨w1, w2, w3⟩ := hW
    obtain ⟨v1, v2, v3, v4, v5, v6⟩ := w3 w (by omega)
    refine br_f (by rw [w1]; exact nI_ge (by omega) (by omega)) ?_
    refine xl_lay (c := cn w) (l := wd w) rfl (by omega) v1 v2 v3 v4 v5 hF fun b_tk b_nx b_bf b_fq k1 k2 k3 => nm_r (nI_1 w) ?_
    refine ih (w + 1) b_tk b_nx b_bf b_fq (by omega) (fun j hj => ?_) (fq_e k3 fun x y => ?_)
    · by_cases e : j = w
      · subst e; exact ⟨k1, ch_mk_lt fun c hc => by have := v5 c hc; omega⟩
      · obtain ⟨h1, h2⟩ := hC j (by omega)
        exact ⟨ch_fr _ _ _ (fun i a b => k2 i (by omega)) h1, h2⟩
    · show (fr_s cn wd x y w : Int) + (cn w : Int) * (mg_pc x y (wd w) : Int) = ((fr_s cn wd x y w + cn w * mg_pc x y (wd w) : Nat) : Int)
      rw [Int.natCast_add, Int.natCast_mul]
theorem xm_15 {T W : Nat} {L R cn : Nat → Nat} {wd : Nat → List Nat} {a_tokenAt a_nextAt a_beforeAt : Nat → Int32} (hW : xw_W W cn wd f_words a_counts a_lengths a_letters) (ht : f_tokens = nI T) (h6 : 6 ≤ T) (hT : T ≤ 20) (hL : yt_L T L R a_lefts a_rights)
    (K : ∀ (b_tokenAt b_nextAt b_beforeAt b_frequencies : Nat → Int32), xm_M T W L R cn wd b_tokenAt b_nextAt b_beforeAt b_frequencies → post (f_words, f_isMerged, f_tokens, f_hasTree, f_nodes, f_textLength, f_resultSize, f_rowLength, f_partCount, f_queued, f_banned, a_counts, a_lengths, a_letters, b_tokenAt, b_nextAt, b_beforeAt, b_frequencies, a_lefts, a_rights, a_prices, a_spellLength, a_spelling, a_made, a_below, a_endsHere, a_nextSame, a_text, a_result, a_row, a_part, a_queueToken, a_queuePlace, a_linkedToken, a_linkedNext, a_linkedBefore, a_bestCount, a_bestPrice, a_bestTokens, a_bestLast, a_bestFrom, a_ways, a_one, a_two)) :
    ∀ (d k : Nat) (a_frequencies : Nat → Int32), k + d = 400 → (∀ j, j < k → a_frequencies j = 0) → wX_mergeWords_15 post f_words f_isMerged f_tokens f_hasTree f_nodes f_textLength f_resultSize f_rowLength f_partCount f_queued f_banned (d + 1) (nI k) a_counts a_lengths a_letters a_tokenAt a_nextAt a_beforeAt a_frequencies a_lefts a_rights a_prices a_spellLength a_spelling a_made a_below a_endsHere a_nextSame a_text a_result a_row a_part a_queueToken a_queuePlace a_linkedToken a_linkedNext a_linkedBefore a_bestCount a_bestPrice a_bestTokens a_bestLast a_bestFrom a_ways a_one a_two := by
  intro d
  induction d with
  | zero =>
    intro k fq hd h0
    have e : k = 400 := by omega
    subst e
    refine br_t (by decide) ⟨W + 1, ?_⟩
    exact xm_37 hW ht h6 hT hL K W 0 a_tokenAt a_nextAt a_beforeAt fq (by omega) (fun j hj => by omega) (fun x y hx hy => h0 _ (by omega))
  | succ d ih =>
    intro k fq hd h0
    refine br_f (nI_ge (b := 400) (by omega) (by omega)) ⟨vp_in_nI (by omega) (by omega), nm_r (e' := upd fq k 0) (by rw [nI_clamp (by omega)]) (nm_r (nI_1 k) (ih (k + 1) (upd fq k 0) (by omega) fun j hj => ?_))⟩
    by_cases e : j = k
    · subst e; exact pk_us
    · rw [pk_un e]; exact h0 j (by omega)
theorem xm_merge {T W : Nat} {L R cn : Nat → Nat} {wd : Nat → List Nat} {a_tokenAt a_nextAt a_beforeAt a_frequencies : Nat → Int32} (hW : xw_W W cn wd f_words a_counts a_lengths a_letters) (ht : f_tokens = nI T) (h6 : 6 ≤ T) (hT : T ≤ 20) (hL : yt_L T L R a_lefts a_rights) (hM : f_isMerged = 0 ∨ (f_isMerged = 1 ∧ xm_M T W L R cn wd a_tokenAt a_nextAt a_beforeAt a_frequencies))
    (K : ∀ (b_tokenAt b_nextAt b_beforeAt b_frequencies : Nat → Int32), xm_M T W L R cn wd b_tokenAt b_nextAt b_beforeAt b_frequencies → post (f_words, 1, f_tokens, f_hasTree, f_nodes, f_textLength, f_resultSize, f_rowLength, f_partCount, f_queued, f_banned, a_counts, a_lengths, a_letters, b_tokenAt, b_nextAt, b_beforeAt, b_frequencies, a_lefts, a_rights, a_prices, a_spellLength, a_spelling, a_made, a_below, a_endsHere, a_nextSame, a_text, a_result, a_row, a_part, a_queueToken, a_queuePlace, a_linkedToken, a_linkedNext, a_linkedBefore, a_bestCount, a_bestPrice, a_bestTokens, a_bestLast, a_bestFrom, a_ways, a_one, a_two)) : wpX_mergeWords post (f_words, f_isMerged, f_tokens, f_hasTree, f_nodes, f_textLength, f_resultSize, f_rowLength, f_partCount, f_queued, f_banned, a_counts, a_lengths, a_letters, a_tokenAt, a_nextAt, a_beforeAt, a_frequencies, a_lefts, a_rights, a_prices, a_spellLength, a_spelling, a_made, a_below, a_endsHere, a_nextSame, a_text, a_result, a_row, a_part, a_queueToken, a_queuePlace, a_linkedToken, a_linkedNext, a_linkedBefore, a_bestCount, a_bestPrice, a_bestTokens, a_bestLast, a_bestFrom, a_ways, a_one, a_two) := by
  rcases hM with e | ⟨e, hM⟩
  · subst e
    exact br_t rfl ⟨401, xm_15 hW ht h6 hT hL K 400 0 a_frequencies (by omega) (fun j h => by omega)⟩
  · subst e
    exact br_f (by decide) (K _ _ _ _ hM)
end XL
end
section
/-! learning: what a frequent pair is; the component's way -/
theorem mg_all_eq {L R L' R' : Nat → Nat} : ∀ (k t : Nat) (xs : List Nat), (∀ s, t ≤ s → s < t + k → L' s = L s ∧ R' s = R s) → mg_all L' R' k t xs = mg_all L R k t xs
  | 0, _, _, _ => rfl
  | k + 1, t, xs, h => by
    obtain ⟨h1, h2⟩ := h t (Nat.le_refl _) (by omega)
    show mg_all L' R' k (t + 1) (mg_ps (L' t) (R' t) t xs) = mg_all L R k (t + 1) (mg_ps (L t) (R t) t xs)
    rw [h1, h2]
    exact mg_all_eq k (t + 1) _ fun s a b => h s (by omega) (by omega)
theorem mg_all_new {L R : Nat → Nat} {T x y : Nat} (h6 : 6 ≤ T) (xs : List Nat) : mg_all (fun j => if j = T then x else L j) (fun j => if j = T then y else R j) (T + 1 - 6) 6 xs = mg_ps x y T (mg_all L R (T - 6) 6 xs) := by
  rw [show T + 1 - 6 = (T - 6) + 1 from by omega, mg_all_s, show 6 + (T - 6) = T from by omega, if_pos rfl, if_pos rfl, mg_all_eq (L := L) (R := R) (T - 6) 6 xs fun s a b => ⟨if_neg (by omega), if_neg (by omega)⟩]
theorem lr_ok {T W x y : Nat} {L R cn : Nat → Nat} {sp wd : Nat → List Nat} (h6 : 6 ≤ T) (hLR : ∀ s, 6 ≤ s → s < T → L s < s ∧ R s < s ∧ sp s = sp (L s) ++ sp (R s)) (h1 : ∀ c, c < 6 → sp c = [c]) (hwd : ∀ w, w < W → (wd w).length ≤ 8 ∧ ∀ c ∈ wd w, c < 6) (hf : fr_s cn (fun w => mg_all L R (T - 6) 6 (wd w)) x y W ≠ 0) :
    x < T ∧ y < T ∧ (sp x).length + (sp y).length ≤ 8 ∧ ∀ s, 6 ≤ s → s < T → ¬ (L s = x ∧ R s = y) := by
  obtain ⟨w, hw, hp⟩ := fr_0 W hf
  obtain ⟨l8, l6⟩ := hwd w hw
  have hm := mg_pc_mem _ hp
  have hlt := mg_all_lt (L := L) (R := R) (B := T) (T - 6) 6 (wd w) (by omega) (fun c hc => by have := l6 c hc; omega)
  have hsp := mg_pc_sp (sp := sp) _ hp
  rw [mg_all_fm (T - 6) 6 (wd w) fun s a b => (hLR s a (by omega)).2.2] at hsp
  have hfl : ∀ l : List Nat, (∀ c ∈ l, c < 6) → l.flatMap sp = l := by
    intro l
    induction l with
    | nil => intro _; rfl
    | cons c l ih =>
      intro h
      rw [List.flatMap_cons, h1 c (h c List.mem_cons_self), ih fun x hx => h x (List.mem_cons_of_mem _ hx)]; rfl
  rw [hfl _ l6] at hsp
  refine ⟨hlt x hm.1, hlt y hm.2, by omega, fun s a b e => hp ?_⟩
  have := mg_all_no (L := L) (R := R) (T := T) (fun s a b => ⟨(hLR s a b).1, (hLR s a b).2.1⟩) (wd w) (T - 6) (by omega) s a (by omega)
  rw [e.1, e.2] at this
  exact this
/-- a new token's spelling: two pieces one behind the other -/
def qw_2 (d : Nat → Int32) (o ox oy lx l2 : Nat) : Nat → Int32 := qw (qw d (fun i => d (ox + i)) o lx) (fun i => qw d (fun i => d (ox + i)) o lx (oy + i)) (o + lx) l2
theorem qw_2_new {d : Nat → Int32} {o ox oy : Nat} {sx sy : List Nat} (hx : ly d ox sx) (hy : ly d oy sy) (h2 : oy + sy.length ≤ o) : ly (qw_2 d o ox oy sx.length sy.length) o (sx ++ sy) := by
  refine ly_app.mpr ⟨qw_fr (qw_ly (fun i hi => by rw [Nat.zero_add]; exact hx i hi) (Nat.le_refl _)) (by omega), qw_ly (fun i hi => ?_) (Nat.le_refl _)⟩
  rw [Nat.zero_add]
  show qw d _ o sx.length (oy + i) = _
  rw [qw_out (by omega)]
  exact hy i hi
theorem qw_2_fr {d : Nat → Int32} {o ox oy lx l2 p : Nat} {l : List Nat} (h : ly d p l) (hn : p + l.length ≤ o ∨ o + lx + l2 ≤ p) : ly (qw_2 d o ox oy lx l2) p l := qw_fr (qw_fr h (by omega)) (by omega)
section XLR
variable {f_words f_isMerged f_tokens f_hasTree f_nodes f_textLength f_resultSize f_rowLength f_partCount f_queued f_banned : Int32} {a_counts a_lengths a_letters a_tokenAt a_nextAt a_beforeAt a_frequencies a_lefts a_rights a_prices a_spellLength a_spelling a_made a_below a_endsHere a_nextSame a_text a_result a_row a_part a_queueToken a_queuePlace a_linkedToken a_linkedNext a_linkedBefore a_bestCount a_bestPrice a_bestTokens a_bestLast a_bestFrom a_ways a_one a_two : Nat → Int32}
theorem xs_63 {post : SX → Prop} {t x y lx l2 : Nat} (ht : t < 20) (hy : y < t) (hr : a_rights t = nI y) (h2 : a_spellLength y = nI l2) (hl : lx + l2 ≤ 8) (K : post (f_words, f_isMerged, f_tokens, f_hasTree, f_nodes, f_textLength, f_resultSize, f_rowLength, f_partCount, f_queued, f_banned, a_counts, a_lengths, a_letters, a_tokenAt, a_nextAt, a_beforeAt, a_frequencies, a_lefts, a_rights, a_prices, upd a_spellLength t (nI (lx + l2)), qw a_spelling (fun i => a_spelling (8 * y + i)) (8 * t + lx) l2, a_made, a_below, a_endsHere, a_nextSame, a_text, a_result, a_row, a_part, a_queueToken, a_queuePlace, a_linkedToken, a_linkedNext, a_linkedBefore, a_bestCount, a_bestPrice, a_bestTokens, a_bestLast, a_bestFrom, a_ways, a_one, a_two)) : ∀ d i : Nat, i + d = l2 → wX_spellOut_63 post (nI t) f_words f_isMerged f_tokens f_hasTree f_nodes f_textLength f_resultSize f_rowLength f_partCount f_queued f_banned (d + 1) (nI (lx + i)) (nI i) a_counts a_lengths a_letters a_tokenAt a_nextAt a_beforeAt a_frequencies a_lefts a_rights a_prices a_spellLength (qw a_spelling (fun i => a_spelling (8 * y + i)) (8 * t + lx) i) a_made a_below a_endsHere a_nextSame a_text a_result a_row a_part a_queueToken a_queuePlace a_linkedToken a_linkedNext a_linkedBefore a_bestCount a_bestPrice a_bestTokens a_bestLast a_bestFrom a_ways a_one a_two := by
  intro d
  induction d with
  | zero =>
    intro i hi
    have e : i = l2 := by omega
    subst e
    refine And.intro (vp_in_nI ht (by omega)) ?_
    rw [nI_clamp (n := t) (by omega), hr, nI_clamp (n := y) (by omega), h2]
    exact ⟨vp_in_nI (by omega) (by omega), br_t (nI_le (Nat.le_refl _) (by omega)) ⟨vp_in_nI ht (by omega), nm_e K⟩⟩
  | succ d ih =>
    intro i hi
    refine And.intro (vp_in_nI ht (by omega)) ?_
    rw [nI_clamp (n := t) (by omega), hr, nI_clamp (n := y) (by omega), h2, qn_8, qn_8]
    refine ⟨vp_in_nI (by omega) (by omega), br_f (nI_ge (by omega) (by omega)) (br_f (nI_ge (b := 8) (by omega) (by omega)) ⟨vp_in_nI ht (by omega), vp_in_nI (by omega) (by omega), vp_in_nI (by omega) (by omega), nm_r (e' := qw a_spelling (fun i => a_spelling (8 * y + i)) (8 * t + lx) (i + 1)) ?_ (nm_r (nI_1 (lx + i)) (nm_r (nI_1 i) (ih (i + 1) (by omega))))⟩)⟩
    rw [nI_clamp (by omega), nI_clamp (by omega), ← qw_s, qw_out (j := 8 * y + i) (by omega), show 8 * t + (lx + i) = 8 * t + lx + i from by omega]
theorem xs_4 {post : SX → Prop} {t x y lx l2 : Nat} (ht : t < 20) (hx : x < t) (hy : y < t) (hL : a_lefts t = nI x) (hr : a_rights t = nI y) (h1 : a_spellLength x = nI lx) (h2 : a_spellLength y = nI l2) (hl : lx + l2 ≤ 8) (K : post (f_words, f_isMerged, f_tokens, f_hasTree, f_nodes, f_textLength, f_resultSize, f_rowLength, f_partCount, f_queued, f_banned, a_counts, a_lengths, a_letters, a_tokenAt, a_nextAt, a_beforeAt, a_frequencies, a_lefts, a_rights, a_prices, upd a_spellLength t (nI (lx + l2)), qw_2 a_spelling (8 * t) (8 * x) (8 * y) lx l2, a_made, a_below, a_endsHere, a_nextSame, a_text, a_result, a_row, a_part, a_queueToken, a_queuePlace, a_linkedToken, a_linkedNext, a_linkedBefore, a_bestCount, a_bestPrice, a_bestTokens, a_bestLast, a_bestFrom, a_ways, a_one, a_two)) : ∀ d i : Nat, i + d = lx → wX_spellOut_4 post (nI t) f_words f_isMerged f_tokens f_hasTree f_nodes f_textLength f_resultSize f_rowLength f_partCount f_queued f_banned (d + 1) (nI i) (nI i) a_counts a_lengths a_letters a_tokenAt a_nextAt a_beforeAt a_frequencies a_lefts a_rights a_prices a_spellLength (qw a_spelling (fun i => a_spelling (8 * x + i)) (8 * t) i) a_made a_below a_endsHere a_nextSame a_text a_result a_row a_part a_queueToken a_queuePlace a_linkedToken a_linkedNext a_linkedBefore a_bestCount a_bestPrice a_bestTokens a_bestLast a_bestFrom a_ways a_one a_two := by
  intro d
  induction d with
  | zero =>
    intro i hi
    have e : i = lx := by omega
    subst e
    refine And.intro (vp_in_nI ht (by omega)) ?_
    rw [nI_clamp (n := t) (by omega), hL, nI_clamp (n := x) (by omega), h1]
    refine ⟨vp_in_nI (by omega) (by omega), br_t (nI_le (Nat.le_refl _) (by omega)) ⟨l2 + 1, ?_⟩⟩
    have q := xs_63 (post := post) (t := t) (x := x) (y := y) (lx := i) (f_words := f_words) (f_isMerged := f_isMerged) (f_tokens := f_tokens) (f_hasTree := f_hasTree) (f_nodes := f_nodes) (f_textLength := f_textLength) (f_resultSize := f_resultSize) (f_rowLength := f_rowLength) (f_partCount := f_partCount) (f_queued := f_queued) (f_banned := f_banned) (a_counts := a_counts) (a_lengths := a_lengths) (a_letters := a_letters) (a_tokenAt := a_tokenAt) (a_nextAt := a_nextAt) (a_beforeAt := a_beforeAt) (a_frequencies := a_frequencies) (a_lefts := a_lefts) (a_rights := a_rights) (a_prices := a_prices) (a_spellLength := a_spellLength) (a_spelling := qw a_spelling (fun i => a_spelling (8 * x + i)) (8 * t) i) (a_made := a_made) (a_below := a_below) (a_endsHere := a_endsHere) (a_nextSame := a_nextSame) (a_text := a_text) (a_result := a_result) (a_row := a_row) (a_part := a_part) (a_queueToken := a_queueToken) (a_queuePlace := a_queuePlace) (a_linkedToken := a_linkedToken) (a_linkedNext := a_linkedNext) (a_linkedBefore := a_linkedBefore) (a_bestCount := a_bestCount) (a_bestPrice := a_bestPrice) (a_bestTokens := a_bestTokens) (a_bestLast := a_bestLast) (a_bestFrom := a_bestFrom) (a_ways := a_ways) (a_one := a_one) (a_two := a_two) ht hy hr h2 hl K l2 0 (by omega)
    rw [qw_0] at q
    exact q
  | succ d ih =>
    intro i hi
    refine And.intro (vp_in_nI ht (by omega)) ?_
    rw [nI_clamp (n := t) (by omega), hL, nI_clamp (n := x) (by omega), h1, qn_8, qn_8]
    refine ⟨vp_in_nI (by omega) (by omega), br_f (nI_ge (by omega) (by omega)) (br_f (nI_ge (b := 8) (by omega) (by omega)) ⟨vp_in_nI ht (by omega), vp_in_nI (by omega) (by omega), vp_in_nI (by omega) (by omega), nm_r (e' := qw a_spelling (fun i => a_spelling (8 * x + i)) (8 * t) (i + 1)) ?_ (nm_r (nI_1 i) (nm_r (nI_1 i) (ih (i + 1) (by omega))))⟩)⟩
    rw [nI_clamp (by omega), nI_clamp (by omega), ← qw_s, qw_out (j := 8 * x + i) (by omega)]
theorem xs_spell {post : SX → Prop} {t x y lx l2 : Nat} {p0 : Int32} (e0 : p0 = nI t) (ht : t < 20) (hx : x < t) (hy : y < t) (hL : a_lefts t = nI x) (hr : a_rights t = nI y) (h1 : a_spellLength x = nI lx) (h2 : a_spellLength y = nI l2) (hl : lx + l2 ≤ 8) (K : post (f_words, f_isMerged, f_tokens, f_hasTree, f_nodes, f_textLength, f_resultSize, f_rowLength, f_partCount, f_queued, f_banned, a_counts, a_lengths, a_letters, a_tokenAt, a_nextAt, a_beforeAt, a_frequencies, a_lefts, a_rights, a_prices, upd a_spellLength t (nI (lx + l2)), qw_2 a_spelling (8 * t) (8 * x) (8 * y) lx l2, a_made, a_below, a_endsHere, a_nextSame, a_text, a_result, a_row, a_part, a_queueToken, a_queuePlace, a_linkedToken, a_linkedNext, a_linkedBefore, a_bestCount, a_bestPrice, a_bestTokens, a_bestLast, a_bestFrom, a_ways, a_one, a_two)) : wpX_spellOut post (f_words, f_isMerged, f_tokens, f_hasTree, f_nodes, f_textLength, f_resultSize, f_rowLength, f_partCount, f_queued, f_banned, a_counts, a_lengths, a_letters, a_tokenAt, a_nextAt, a_beforeAt, a_frequencies, a_lefts, a_rights, a_prices, a_spellLength, a_spelling, a_made, a_below, a_endsHere, a_nextSame, a_text, a_result, a_row, a_part, a_queueToken, a_queuePlace, a_linkedToken, a_linkedNext, a_linkedBefore, a_bestCount, a_bestPrice, a_bestTokens, a_bestLast, a_bestFrom, a_ways, a_one, a_two) p0 := by
  subst e0
  have q := xs_4 ht hx hy hL hr h1 h2 hl K lx 0 (by omega)
  rw [qw_0] at q
  exact Exists.intro (lx + 1) q
end XLR
section XLS
variable {f_words f_isMerged f_tokens f_hasTree f_nodes f_textLength f_resultSize f_rowLength f_partCount f_queued f_banned : Int32} {a_counts a_lengths a_letters a_lefts a_rights a_prices a_spellLength a_spelling a_made a_below a_endsHere a_nextSame a_text a_result a_row a_part a_queueToken a_queuePlace a_linkedToken a_linkedNext a_linkedBefore a_bestCount a_bestPrice a_bestTokens a_bestLast a_bestFrom a_ways a_one a_two : Nat → Int32} {post : Int32 → SX → Prop}
theorem xr_8 {T W : Nat} {L R cn : Nat → Nat} {sp wd : Nat → List Nat} {f : Nat → Nat → Nat} {a_tokenAt a_nextAt a_beforeAt a_frequencies : Nat → Int32} (hf : f = fun x y => fr_s cn (fun w => mg_all L R (T - 6) 6 (wd w)) x y W) (hW : xw_W W cn wd f_words a_counts a_lengths a_letters) (ht : f_tokens = nI T) (h6 : 6 ≤ T) (hT : T ≤ 20) (hF : ∀ x y, f x y ≤ 5000) (hM : xm_M T W L R cn wd a_tokenAt a_nextAt a_beforeAt a_frequencies)
    (hok : ∀ x y, f x y ≠ 0 → x < T ∧ y < T ∧ (sp x).length + (sp y).length ≤ 8) (hS : ∀ t, t < T → a_spellLength t = nI (sp t).length)
    (K0 : lr_0 T f → post (-2) (f_words, f_isMerged, f_tokens, f_hasTree, f_nodes, f_textLength, f_resultSize, f_rowLength, f_partCount, f_queued, f_banned, a_counts, a_lengths, a_letters, a_tokenAt, a_nextAt, a_beforeAt, a_frequencies, a_lefts, a_rights, a_prices, a_spellLength, a_spelling, a_made, a_below, a_endsHere, a_nextSame, a_text, a_result, a_row, a_part, a_queueToken, a_queuePlace, a_linkedToken, a_linkedNext, a_linkedBefore, a_bestCount, a_bestPrice, a_bestTokens, a_bestLast, a_bestFrom, a_ways, a_one, a_two)) (K1 : ∀ x y, lr_1 T f x y → T = 20 → post (-3) (f_words, f_isMerged, f_tokens, f_hasTree, f_nodes, f_textLength, f_resultSize, f_rowLength, f_partCount, f_queued, f_banned, a_counts, a_lengths, a_letters, a_tokenAt, a_nextAt, a_beforeAt, a_frequencies, a_lefts, a_rights, a_prices, a_spellLength, a_spelling, a_made, a_below, a_endsHere, a_nextSame, a_text, a_result, a_row, a_part, a_queueToken, a_queuePlace, a_linkedToken, a_linkedNext, a_linkedBefore, a_bestCount, a_bestPrice, a_bestTokens, a_bestLast, a_bestFrom, a_ways, a_one, a_two))
    (K2 : ∀ x y, lr_1 T f x y → T < 20 → ∀ (b_tokenAt b_nextAt b_beforeAt b_frequencies : Nat → Int32), xm_M (T + 1) W (fun j => if j = T then x else L j) (fun j => if j = T then y else R j) cn wd b_tokenAt b_nextAt b_beforeAt b_frequencies → post (nI T) (f_words, f_isMerged, nI (T + 1), 0, f_nodes, f_textLength, f_resultSize, f_rowLength, f_partCount, f_queued, f_banned, a_counts, a_lengths, a_letters, b_tokenAt, b_nextAt, b_beforeAt, b_frequencies, upd a_lefts T (nI x), upd a_rights T (nI y), upd a_prices T 25, upd a_spellLength T (nI ((sp x).length + (sp y).length)), qw_2 a_spelling (8 * T) (8 * x) (8 * y) (sp x).length (sp y).length, upd a_made (20 * x + y) (nI T), a_below, a_endsHere, a_nextSame, a_text, a_result, a_row, a_part, a_queueToken, a_queuePlace, a_linkedToken, a_linkedNext, a_linkedBefore, a_bestCount, a_bestPrice, a_bestTokens, a_bestLast, a_bestFrom, a_ways, a_one, a_two)) :
    ∀ (d k b : Nat), k + d = 400 → b < k → (∀ j, j < k → f (j / 20) (j % 20) ≤ f (b / 20) (b % 20) ∧ (j < b → f (j / 20) (j % 20) < f (b / 20) (b % 20))) → wX_learn_8 post f_words f_isMerged f_tokens f_hasTree f_nodes f_textLength f_resultSize f_rowLength f_partCount f_queued f_banned a_counts a_lengths a_letters a_tokenAt a_nextAt a_beforeAt a_frequencies a_lefts a_rights a_prices a_spellLength a_spelling a_made a_below a_endsHere a_nextSame a_text a_result a_row a_part a_queueToken a_queuePlace a_linkedToken a_linkedNext a_linkedBefore a_bestCount a_bestPrice a_bestTokens a_bestLast a_bestFrom a_ways a_one a_two (d + 1) (nI b) (nI k) := by
  obtain ⟨cs, m1, m2, m3⟩ := hM
  have hfq : ∀ j, j < 400 → a_frequencies j = nI (f (j / 20) (j % 20)) := by
    intro j hj
    have := m3 (j / 20) (j % 20) (by omega) (by omega)
    rw [show 20 * (j / 20) + j % 20 = j from by omega] at this
    rw [this, qz_nat, hf]
    exact congrArg nI (fr_eq W fun w hw => (m2 w hw).1)
  intro d
  induction d with
  | zero =>
    intro k b hd hb hI
    have e : k = 400 := by omega
    subst e
    have hb1 := hF (b / 20) (b % 20)
    refine br_t (by decide) ⟨vp_in_nI hb (by omega), ?_⟩
    rw [nI_clamp (n := b) (by omega), hfq b hb]
    refine pk_le 2 (f (b / 20) (b % 20)) (fun h2 => ?_) (fun h2 => K0 fun x y hx hy => ?_)
    · obtain ⟨o1, o2, o3⟩ := hok (b / 20) (b % 20) (by omega)
      have h1 : lr_1 T f (b / 20) (b % 20) := ⟨o1, o2, h2, fun u v hu hv => by
        have := hI (20 * u + v) (by omega)
        rw [show (20 * u + v) / 20 = u from by omega, show (20 * u + v) % 20 = v from by omega] at this
        exact ⟨this.1, fun h => this.2 (by omega)⟩⟩
      by_cases hT20 : T = 20
      · exact br_f (by rw [ht, hT20]; decide) (K1 _ _ h1 hT20)
      · have hTl : T < 20 := by omega
        have hv : vp_in f_tokens 20 := by rw [ht]; exact vp_in_nI hTl (by omega)
        have hcl : f_tokens.toNatClampNeg = T := by rw [ht]; exact nI_clamp (by omega)
        have hdv : nI b / 20 = nI (b / 20) := pk_div (d := 20) (by omega) (by omega) (by omega)
        have hrm : nI b - nI b / 20 * 20 = nI (b % 20) := pk_rem (d := 20) (by omega) (by omega) (by omega)
        have hb2 : 20 * (b / 20) + b % 20 = b := by omega
        refine br_t (by rw [ht]; exact nI_lt (b := 20) hTl (by omega)) (nm_r (e' := nI (T + 1)) (by rw [ht, nI_1]) ⟨by decide, hv, ?_⟩)
        rw [hcl, hdv]
        refine nm_e ⟨by decide, hv, ?_⟩
        rw [← hdv, hrm]
        refine nm_e ⟨hv, nm_e ⟨vp_in_nI hb (by omega), nm_r (e' := upd a_made (20 * (b / 20) + b % 20) (nI T)) (by rw [hb2, ht]) ?_⟩⟩
        rw [hdv]
        refine xs_spell (t := T) (x := b / 20) (y := b % 20) ht hTl o1 o2 pk_us pk_us (hS _ o1) (hS _ o2) o3 ?_
        refine xa_all (t := T) (l := b / 20) (r := b % 20) (cn := cn) (wd := wd) (cs0 := cs) ht hTl pk_us pk_us (by omega) (by omega) hW.1 hW.2.1 (fun w hw => ⟨(hW.2.2 w hw).1, (hW.2.2 w hw).2.1, (hW.2.2 w hw).2.2.1⟩) (fun w hw => (m2 w hw).2) m1 m3 fun cs' b_tk b_nx b_bf b_fq k1 k2 k3 => ?_
        have q := K2 _ _ h1 hTl b_tk b_nx b_bf b_fq ⟨cs', k1, fun w hw => ⟨?_, (k2 w hw).2.trans (m2 w hw).2⟩, k3⟩
        · subst ht; exact q
        · rw [mg_all_new h6, (k2 w hw).1, (m2 w hw).1]
    · have := (hI (20 * x + y) (by omega)).1
      rw [show (20 * x + y) / 20 = x from by omega, show (20 * x + y) % 20 = y from by omega] at this
      omega
  | succ d ih =>
    intro k b hd hb hI
    have hb1 := hF (b / 20) (b % 20)
    have hk1 := hF (k / 20) (k % 20)
    refine br_f (nI_ge (b := 400) (by omega) (by omega)) ⟨vp_in_nI (by omega) (by omega), vp_in_nI (by omega) (by omega), ?_⟩
    rw [nI_clamp (n := k) (by omega), nI_clamp (n := b) (by omega), hfq b (by omega), hfq k (by omega)]
    refine pk_le (f (k / 20) (k % 20)) (f (b / 20) (b % 20)) (fun h => nm_r (nI_1 k) (ih (k + 1) b (by omega) (by omega) fun j hj => ?_)) (fun h => nm_r (nI_1 k) (ih (k + 1) k (by omega) (by omega) fun j hj => ?_))
    · by_cases e : j = k
      · subst e; exact ⟨h, fun z => by omega⟩
      · exact hI j (by omega)
    · by_cases e : j = k
      · subst e; exact ⟨Nat.le_refl _, fun z => by omega⟩
      · have := (hI j (by omega)).1; exact ⟨by omega, fun _ => by omega⟩
end XLS
end
section
/-! the component: the tree of spellings -/
def tr_F (T : Nat) (sp : Nat → List Nat) (s : List Nat) (a : Nat) (v : Int32) : Prop :=
  (∃ t, a ≤ t ∧ t < T ∧ sp t = s ∧ v = nI t ∧ ∀ u, a ≤ u → u < t → sp u ≠ s) ∨ (v = -1 ∧ ∀ u, a ≤ u → u < T → sp u ≠ s)
def tr_S (N : Nat) (pa : Nat → List Nat) (a_below : Nat → Int32) : Prop :=
  1 ≤ N ∧ N ≤ 128 ∧ pa 0 = [] ∧ (∀ j k, j < N → k < N → pa j = pa k → j = k) ∧ (∀ k, 0 < k → k < N → ∃ j d, j < N ∧ pa k = pa j ++ [d]) ∧
  ∀ m c, m < N → c < 6 → (∃ k, 0 < k ∧ k < N ∧ pa k = pa m ++ [c] ∧ a_below (6 * m + c) = nI k) ∨ (a_below (6 * m + c) = 0 ∧ ∀ k, k < N → pa k ≠ pa m ++ [c])
def tr_E (N : Nat) (pa : Nat → List Nat) (T : Nat) (sp : Nat → List Nat) (x : Nat) (a_endsHere : Nat → Int32) : Prop := ∀ m, m < N → tr_F T sp (pa m) x (a_endsHere m)
def tr_X (T : Nat) (sp : Nat → List Nat) (x : Nat) (a_nextSame : Nat → Int32) : Prop := ∀ t, x ≤ t → t < T → tr_F T sp (sp t) (t + 1) (a_nextSame t)
def tr_P (N : Nat) (pa : Nat → List Nat) (T : Nat) (sp : Nat → List Nat) (x : Nat) : Prop := ∀ t, x ≤ t → t < T → ∀ i, i ≤ (sp t).length → ∃ m, m < N ∧ pa m = (sp t).take i
section XT
variable {f_words f_isMerged f_tokens f_hasTree f_textLength f_resultSize f_rowLength f_partCount f_queued f_banned : Int32} {a_counts a_lengths a_letters a_tokenAt a_nextAt a_beforeAt a_frequencies a_lefts a_rights a_prices a_spellLength a_spelling a_made a_text a_result a_row a_part a_queueToken a_queuePlace a_linkedToken a_linkedNext a_linkedBefore a_bestCount a_bestPrice a_bestTokens a_bestLast a_bestFrom a_ways a_one a_two : Nat → Int32}
theorem xt_new2 {post : Int32 → SX → Prop} {N : Nat} {a_below a_endsHere a_nextSame : Nat → Int32} (hN : N < 128) (K : post (nI N) (f_words, f_isMerged, f_tokens, f_hasTree, nI (N + 1), f_textLength, f_resultSize, f_rowLength, f_partCount, f_queued, f_banned, a_counts, a_lengths, a_letters, a_tokenAt, a_nextAt, a_beforeAt, a_frequencies, a_lefts, a_rights, a_prices, a_spellLength, a_spelling, a_made, qw a_below (fun _ => 0) (6 * N) 6, upd a_endsHere N (-1), a_nextSame, a_text, a_result, a_row, a_part, a_queueToken, a_queuePlace, a_linkedToken, a_linkedNext, a_linkedBefore, a_bestCount, a_bestPrice, a_bestTokens, a_bestLast, a_bestFrom, a_ways, a_one, a_two)) : ∀ d i : Nat, i + d = 6 → wX_newNode_2 post f_words f_isMerged f_tokens f_hasTree (nI N) f_textLength f_resultSize f_rowLength f_partCount f_queued f_banned (d + 1) (nI i) a_counts a_lengths a_letters a_tokenAt a_nextAt a_beforeAt a_frequencies a_lefts a_rights a_prices a_spellLength a_spelling a_made (qw a_below (fun _ => 0) (6 * N) i) a_endsHere a_nextSame a_text a_result a_row a_part a_queueToken a_queuePlace a_linkedToken a_linkedNext a_linkedBefore a_bestCount a_bestPrice a_bestTokens a_bestLast a_bestFrom a_ways a_one a_two := by
  intro d
  induction d with
  | zero =>
    intro i hi
    have e : i = 6 := by omega
    subst e
    refine br_t (by decide) ⟨vp_in_nI hN (by omega), nm_r (e' := upd a_endsHere N (-1)) (by rw [nI_clamp (by omega)]) (nm_r (nI_1 N) ?_)⟩
    rw [nI_pred]; exact K
  | succ d ih =>
    intro i hi
    have e := qn_6 N i
    refine br_f (nI_ge (b := 6) (by omega) (by omega)) ⟨pk_in (6 * N + i) 768 (by omega) e, nm_r (e' := qw a_below (fun _ => 0) (6 * N) (i + 1)) ?_ (nm_r (nI_1 i) (ih (i + 1) (by omega)))⟩
    rw [e, nI_clamp (by omega)]; exact qw_s _ _ _ _
theorem xt_new {post : Int32 → SX → Prop} {N : Nat} {f_nodes : Int32} {a_below a_endsHere a_nextSame : Nat → Int32} (hf : f_nodes = nI N) (hN : N < 128) (K : post (nI N) (f_words, f_isMerged, f_tokens, f_hasTree, nI (N + 1), f_textLength, f_resultSize, f_rowLength, f_partCount, f_queued, f_banned, a_counts, a_lengths, a_letters, a_tokenAt, a_nextAt, a_beforeAt, a_frequencies, a_lefts, a_rights, a_prices, a_spellLength, a_spelling, a_made, qw a_below (fun _ => 0) (6 * N) 6, upd a_endsHere N (-1), a_nextSame, a_text, a_result, a_row, a_part, a_queueToken, a_queuePlace, a_linkedToken, a_linkedNext, a_linkedBefore, a_bestCount, a_bestPrice, a_bestTokens, a_bestLast, a_bestFrom, a_ways, a_one, a_two)) : wpX_newNode post (f_words, f_isMerged, f_tokens, f_hasTree, f_nodes, f_textLength, f_resultSize, f_rowLength, f_partCount, f_queued, f_banned, a_counts, a_lengths, a_letters, a_tokenAt, a_nextAt, a_beforeAt, a_frequencies, a_lefts, a_rights, a_prices, a_spellLength, a_spelling, a_made, a_below, a_endsHere, a_nextSame, a_text, a_result, a_row, a_part, a_queueToken, a_queuePlace, a_linkedToken, a_linkedNext, a_linkedBefore, a_bestCount, a_bestPrice, a_bestTokens, a_bestLast, a_bestFrom, a_ways, a_one, a_two) := by
  subst hf
  have q := xt_new2 hN K 6 0 (by omega)
  rw [qw_0] at q
  exact Exists.intro 7 q
/-- a new node below another -/
def tr_pa (pa : Nat → List Nat) (N : Nat) (q : List Nat) : Nat → List Nat := fun j => if j = N then q else pa j
theorem tr_pas {pa : Nat → List Nat} {N j : Nat} {q : List Nat} (h : j = N) : tr_pa pa N q j = q := if_pos h
theorem tr_pan {pa : Nat → List Nat} {N j : Nat} {q : List Nat} (h : j ≠ N) : tr_pa pa N q j = pa j := if_neg h
theorem tr_add {N m c : Nat} {pa : Nat → List Nat} {a_below : Nat → Int32} (h : tr_S N pa a_below) (hN : N < 128) (hm : m < N) (hc : c < 6) (hno : ∀ k, k < N → pa k ≠ pa m ++ [c]) : tr_S (N + 1) (tr_pa pa N (pa m ++ [c])) (upd (qw a_below (fun _ => 0) (6 * N) 6) (6 * m + c) (nI N)) := by
  obtain ⟨h1, h2, h3, h4, h6, h5⟩ := h
  refine ⟨by omega, by omega, by rw [tr_pan (by omega)]; exact h3, fun j k hj hk e => ?_, fun k hk hk2 => ?_, fun j d hj hd => ?_⟩
  · by_cases ej : j = N
    · by_cases ek : k = N
      · omega
      · rw [tr_pas ej, tr_pan ek] at e; exact absurd e.symm (hno k (by omega))
    · by_cases ek : k = N
      · rw [tr_pan ej, tr_pas ek] at e; exact absurd e (hno j (by omega))
      · rw [tr_pan ej, tr_pan ek] at e; exact h4 j k (by omega) (by omega) e
  · by_cases ek : k = N
    · refine ⟨m, c, by omega, ?_⟩
      rw [tr_pas ek, tr_pan (by omega)]
    · obtain ⟨j, d, j1, j2⟩ := h6 k hk (by omega)
      refine ⟨j, d, by omega, ?_⟩
      rw [tr_pan ek, tr_pan (by omega)]; exact j2
  · by_cases ej : j = N
    · subst ej
      refine Or.inr ⟨?_, fun k hk e => ?_⟩
      · rw [pk_un (by omega)]
        show (if 6 * j ≤ 6 * j + d ∧ 6 * j + d < 6 * j + 6 then (0 : Int32) else _) = 0
        rw [if_pos (by omega)]
      · rw [tr_pas (j := j) rfl] at e
        by_cases ek : k = j
        · rw [tr_pas ek] at e
          have := congrArg List.length e
          simp at this
        · rw [tr_pan ek] at e
          by_cases k0 : k = 0
          · rw [k0, h3] at e
            have := congrArg List.length e
            simp at this
          · obtain ⟨i, d', i1, i2⟩ := h6 k (by omega) (by omega)
            rw [i2] at e
            exact hno i i1 (List.append_inj_left' e rfl)
    · have hj' : j < N := by omega
      rw [tr_pan ej]
      by_cases e : j = m ∧ d = c
      · obtain ⟨rfl, rfl⟩ := e
        exact Or.inl ⟨N, by omega, by omega, tr_pas rfl, pk_us⟩
      · rw [pk_un (by omega), qw_out (by omega)]
        rcases h5 j d hj' hd with ⟨k, k1, k2, k3, k4⟩ | ⟨k1, k2⟩
        · exact Or.inl ⟨k, k1, by omega, by rw [tr_pan (by omega)]; exact k3, k4⟩
        · refine Or.inr ⟨k1, fun k hk ek => ?_⟩
          by_cases e2 : k = N
          · rw [tr_pas e2] at ek
            have x1 : pa m = pa j := List.append_inj_left' ek rfl
            have x2 : [c] = [d] := List.append_inj_right' ek rfl
            have x3 := h4 m j hm hj' x1
            have x4 : c = d := by simpa using x2
            omega
          · rw [tr_pan e2] at ek
            exact k2 k (by omega) ek
theorem xt_step {post : Int32 → SX → Prop} {N m c x T : Nat} {sp pa : Nat → List Nat} {p0 p1 f_nodes : Int32} {a_below a_endsHere a_nextSame : Nat → Int32} (e0 : p0 = nI m) (e1 : p1 = nI c) (hf : f_nodes = nI N) (hS : tr_S N pa a_below) (hE : tr_E N pa T sp x a_endsHere) (hP : tr_P N pa T sp x) (hm : m < N) (hc : c < 6) (hN : N < 128)
    (K : ∀ (M k : Nat) (qa : Nat → List Nat) (b_below b_endsHere : Nat → Int32), N ≤ M → M ≤ N + 1 → tr_S M qa b_below → tr_E M qa T sp x b_endsHere → tr_P M qa T sp x → (∀ j, j < N → qa j = pa j) → k < M → qa k = pa m ++ [c] → post (nI k) (f_words, f_isMerged, f_tokens, f_hasTree, nI M, f_textLength, f_resultSize, f_rowLength, f_partCount, f_queued, f_banned, a_counts, a_lengths, a_letters, a_tokenAt, a_nextAt, a_beforeAt, a_frequencies, a_lefts, a_rights, a_prices, a_spellLength, a_spelling, a_made, b_below, b_endsHere, a_nextSame, a_text, a_result, a_row, a_part, a_queueToken, a_queuePlace, a_linkedToken, a_linkedNext, a_linkedBefore, a_bestCount, a_bestPrice, a_bestTokens, a_bestLast, a_bestFrom, a_ways, a_one, a_two)) : wpX_step post (f_words, f_isMerged, f_tokens, f_hasTree, f_nodes, f_textLength, f_resultSize, f_rowLength, f_partCount, f_queued, f_banned, a_counts, a_lengths, a_letters, a_tokenAt, a_nextAt, a_beforeAt, a_frequencies, a_lefts, a_rights, a_prices, a_spellLength, a_spelling, a_made, a_below, a_endsHere, a_nextSame, a_text, a_result, a_row, a_part, a_queueToken, a_queuePlace, a_linkedToken, a_linkedNext, a_linkedBefore, a_bestCount, a_bestPrice, a_bestTokens, a_bestLast, a_bestFrom, a_ways, a_one, a_two) p0 p1 := by
  subst e0 e1 hf
  have e := qn_6 m c
  have hv : vp_in (6 * nI m + nI c) 768 := pk_in (6 * m + c) 768 (by omega) e
  refine nm_e (And.intro hv ?_)
  rw [e, nI_clamp (n := 6 * m + c) (by omega)]
  rw [e] at hv
  have hS' := hS
  obtain ⟨h1, h2, h3, h4, h6, h5⟩ := hS'
  rcases h5 m c hm hc with ⟨k, k1, k2, k3, k4⟩ | ⟨k1, k2⟩
  · rw [k4]
    exact br_f (qn_ne0 (by omega) (by omega)) ⟨hv, K N k pa a_below a_endsHere (Nat.le_refl _) (by omega) hS hE hP (fun _ _ => rfl) k2 k3⟩
  · rw [k1]
    refine br_t rfl (br_f (nI_ge (b := 128) hN (by omega)) ?_)
    refine xt_new rfl hN (And.intro hv (nm_r (e' := upd (qw a_below (fun _ => 0) (6 * N) 6) (6 * m + c) (nI N)) rfl ⟨hv, ?_⟩))
    rw [pk_us]
    have hS2 := tr_add hS hN hm hc k2
    refine K (N + 1) N (tr_pa pa N (pa m ++ [c])) _ (upd a_endsHere N (-1)) (by omega) (Nat.le_refl _) hS2 (fun j hj => ?_) (fun t t1 t2 i hi => ?_) (fun j hj => tr_pan (by omega)) (by omega) (tr_pas rfl)
    · by_cases ej : j = N
      · subst ej
        rw [tr_pas rfl, pk_us]
        refine Or.inr ⟨rfl, fun u u1 u2 eu => ?_⟩
        obtain ⟨k, g1, g2⟩ := hP u u1 u2 (sp u).length (Nat.le_refl _)
        rw [List.take_length, eu] at g2
        exact k2 k g1 g2
      · rw [tr_pan ej, pk_un ej]; exact hE j (by omega)
    · obtain ⟨k, g1, g2⟩ := hP t t1 t2 i hi
      exact ⟨k, by omega, by rw [tr_pan (by omega)]; exact g2⟩
/-- one token's spelling goes into the tree -/
def tr_nb (T t : Nat) : Nat := 1 + (if 6 ≤ t then 8 * (T - t) else 8 * (T - 6) + (6 - t))
theorem xt_38 {post : SX → Prop} {J30 : Int32 → Int32 → Int32 → Int32 → Int32 → Int32 → Int32 → Int32 → Int32 → Int32 → Int32 → Int32 →  (Nat → Int32) → (Nat → Int32) → (Nat → Int32) → (Nat → Int32) → (Nat → Int32) → (Nat → Int32) → (Nat → Int32) → (Nat → Int32) → (Nat → Int32) → (Nat → Int32) → (Nat → Int32) → (Nat → Int32) → (Nat → Int32) → (Nat → Int32) → (Nat → Int32) → (Nat → Int32) → (Nat → Int32) → (Nat → Int32) → (Nat → Int32) → (Nat → Int32) → (Nat → Int32) → (Nat → Int32) → (Nat → Int32) → (Nat → Int32) → (Nat → Int32) → (Nat → Int32) → (Nat → Int32) → (Nat → Int32) → (Nat → Int32) → (Nat → Int32) → (Nat → Int32) → (Nat → Int32) → (Nat → Int32) →  Prop} {x T : Nat} {sp : Nat → List Nat} {a_nextSame : Nat → Int32} (hT : T ≤ 20) (hx : x < T) (hlen : a_spellLength x = nI (sp x).length) (hl8 : (sp x).length ≤ 8) (hly : ly a_spelling (8 * x) (sp x)) (hB : ∀ c ∈ sp x, c < 6) (hX : tr_X T sp (x + 1) a_nextSame)
    (K : ∀ (N : Nat) (pa : Nat → List Nat) (b_below b_endsHere b_nextSame : Nat → Int32), tr_S N pa b_below → tr_E N pa T sp x b_endsHere → tr_P N pa T sp x → tr_X T sp x b_nextSame → N ≤ tr_nb T (x + 1) + (sp x).length → J30 (nI x + (-1)) f_words f_isMerged f_tokens f_hasTree (nI N) f_textLength f_resultSize f_rowLength f_partCount f_queued f_banned a_counts a_lengths a_letters a_tokenAt a_nextAt a_beforeAt a_frequencies a_lefts a_rights a_prices a_spellLength a_spelling a_made b_below b_endsHere b_nextSame a_text a_result a_row a_part a_queueToken a_queuePlace a_linkedToken a_linkedNext a_linkedBefore a_bestCount a_bestPrice a_bestTokens a_bestLast a_bestFrom a_ways a_one a_two) :
    ∀ (suf pre : List Nat) (N m : Nat) (pa : Nat → List Nat) (a_below a_endsHere : Nat → Int32), pre ++ suf = sp x → tr_S N pa a_below → tr_E N pa T sp (x + 1) a_endsHere → tr_P N pa T sp (x + 1) → (∀ i, i ≤ pre.length → ∃ k, k < N ∧ pa k = (sp x).take i) → m < N → pa m = pre → N ≤ tr_nb T (x + 1) + pre.length → wX_makeTree_38 post J30 (nI x) (suf.length + 1) (nI m) (nI pre.length) f_words f_isMerged f_tokens f_hasTree (nI N) f_textLength f_resultSize f_rowLength f_partCount f_queued f_banned a_counts a_lengths a_letters a_tokenAt a_nextAt a_beforeAt a_frequencies a_lefts a_rights a_prices a_spellLength a_spelling a_made a_below a_endsHere a_nextSame a_text a_result a_row a_part a_queueToken a_queuePlace a_linkedToken a_linkedNext a_linkedBefore a_bestCount a_bestPrice a_bestTokens a_bestLast a_bestFrom a_ways a_one a_two := by
  have hnb : tr_nb T (x + 1) ≤ 118 := by unfold tr_nb; split <;> omega
  intro suf
  induction suf with
  | nil =>
    intro pre N m pa a_below a_endsHere e hS hE hP hpre hm hpm hN
    rw [List.append_nil] at e
    subst e
    have hN128 := hS.2.1
    refine And.intro (vp_in_nI (by omega) (by omega)) ?_
    rw [nI_clamp (n := x) (by omega), hlen, nI_clamp (n := m) (by omega)]
    refine br_t (nI_le (Nat.le_refl _) (by omega)) ⟨vp_in_nI (by omega) (by omega), vp_in_nI (by omega) (by omega), nm_e ⟨vp_in_nI (by omega) (by omega), nm_e (nm_e ?_)⟩⟩
    refine K N pa a_below (upd a_endsHere m (nI x)) (upd a_nextSame x (a_endsHere m)) hS (fun j hj => ?_) (fun t t1 t2 i hi => ?_) (fun t t1 t2 => ?_) hN
    · by_cases ej : j = m
      · subst ej
        rw [pk_us]
        exact Or.inl ⟨x, Nat.le_refl _, hx, hpm.symm, rfl, fun u u1 u2 => by omega⟩
      · rw [pk_un ej]
        have hne : sp x ≠ pa j := fun h => ej (hS.2.2.2.1 j m hj hm (by rw [hpm, h]))
        rcases hE j hj with ⟨t, t1, t2, t3, t4, t5⟩ | ⟨t1, t2⟩
        · refine Or.inl ⟨t, by omega, t2, t3, t4, fun u u1 u2 => ?_⟩
          by_cases eu : u = x
          · subst eu; exact hne
          · exact t5 u (by omega) u2
        · refine Or.inr ⟨t1, fun u u1 u2 => ?_⟩
          by_cases eu : u = x
          · subst eu; exact hne
          · exact t2 u (by omega) u2
    · by_cases et : t = x
      · subst et; exact hpre i hi
      · exact hP t (by omega) t2 i hi
    · by_cases et : t = x
      · subst et
        rw [pk_us]
        have := hE m hm
        rw [hpm] at this; exact this
      · rw [pk_un et]; exact hX t (by omega) t2
  | cons c suf ih =>
    intro pre N m pa a_below a_endsHere e hS hE hP hpre hm hpm hN
    have hpl : pre.length + (suf.length + 1) = (sp x).length := by rw [← e, List.length_append]; rfl
    have hN128 := hS.2.1
    have hca : (sp x).getD pre.length 0 = c := by rw [← e, List.getD_eq_getElem?_getD]; simp
    have hla := ly_at hly (k := pre.length) (by omega)
    rw [hca] at hla
    have hc6 : c < 6 := hB c (e ▸ List.mem_append_right _ List.mem_cons_self)
    refine And.intro (vp_in_nI (by omega) (by omega)) ?_
    rw [nI_clamp (n := x) (by omega), hlen, qn_8]
    refine br_f (nI_ge (by omega) (by omega)) ⟨vp_in_nI (by omega) (by omega), ?_⟩
    rw [nI_clamp (n := 8 * x + pre.length) (by omega), hla]
    refine xt_step (x := x + 1) (T := T) (sp := sp) (pa := pa) rfl rfl rfl hS hE hP hm hc6 (by omega) fun M k qa b_below b_endsHere g1 g2 g3 g4 g5 g6 g7 g8 => nm_r (nI_1 pre.length) ?_
    have q := ih (pre ++ [c]) M k qa b_below b_endsHere (by rw [List.append_assoc]; exact e) g3 g4 g5 (fun i hi => by
        have hi' : i ≤ pre.length + 1 := by simpa using hi
        by_cases ei : i = pre.length + 1
        · refine ⟨k, g7, ?_⟩
          rw [g8, hpm, ← e, ei, show pre.length + 1 = (pre ++ [c]).length from by simp, show pre ++ c :: suf = (pre ++ [c]) ++ suf from by simp, List.take_left]
        · obtain ⟨j, j1, j2⟩ := hpre i (by omega)
          exact ⟨j, by omega, (g6 j j1).trans j2⟩) g7 (by rw [g8, hpm]) (by simp; omega)
    rw [List.length_append] at q
    exact q
/-- a whole tree -/
def tr_T (T : Nat) (sp : Nat → List Nat) (a_below a_endsHere a_nextSame : Nat → Int32) : Prop := ∃ (N : Nat) (pa : Nat → List Nat), tr_S N pa a_below ∧ tr_E N pa T sp 0 a_endsHere ∧ tr_P N pa T sp 0 ∧ tr_X T sp 0 a_nextSame
theorem xt_30 {post : SX → Prop} {T : Nat} {sp : Nat → List Nat} (h6 : 6 ≤ T) (hT : T ≤ 20) (hsp : ∀ t, t < T → a_spellLength t = nI (sp t).length ∧ (sp t).length ≤ 8 ∧ (∀ c ∈ sp t, c < 6) ∧ ly a_spelling (8 * t) (sp t)) (h1 : ∀ t, t < 6 → sp t = [t])
    (K : ∀ (f_nodes : Int32) (b_below b_endsHere b_nextSame : Nat → Int32), tr_T T sp b_below b_endsHere b_nextSame → post (f_words, f_isMerged, f_tokens, f_hasTree, f_nodes, f_textLength, f_resultSize, f_rowLength, f_partCount, f_queued, f_banned, a_counts, a_lengths, a_letters, a_tokenAt, a_nextAt, a_beforeAt, a_frequencies, a_lefts, a_rights, a_prices, a_spellLength, a_spelling, a_made, b_below, b_endsHere, b_nextSame, a_text, a_result, a_row, a_part, a_queueToken, a_queuePlace, a_linkedToken, a_linkedNext, a_linkedBefore, a_bestCount, a_bestPrice, a_bestTokens, a_bestLast, a_bestFrom, a_ways, a_one, a_two)) :
    ∀ (x N : Nat) (pa : Nat → List Nat) (x1 : Int32) (a_below a_endsHere a_nextSame : Nat → Int32), x1 = nI x + (-1) → x ≤ T → tr_S N pa a_below → tr_E N pa T sp x a_endsHere → tr_P N pa T sp x → tr_X T sp x a_nextSame → N ≤ tr_nb T x → wX_makeTree_30 post (x + 1) x1 f_words f_isMerged f_tokens f_hasTree (nI N) f_textLength f_resultSize f_rowLength f_partCount f_queued f_banned a_counts a_lengths a_letters a_tokenAt a_nextAt a_beforeAt a_frequencies a_lefts a_rights a_prices a_spellLength a_spelling a_made a_below a_endsHere a_nextSame a_text a_result a_row a_part a_queueToken a_queuePlace a_linkedToken a_linkedNext a_linkedBefore a_bestCount a_bestPrice a_bestTokens a_bestLast a_bestFrom a_ways a_one a_two := by
  intro x
  induction x with
  | zero =>
    intro N pa x1 a_below a_endsHere a_nextSame hx1 hx hS hE hP hX hN
    subst hx1
    exact br_t (by decide) (K _ _ _ _ ⟨N, pa, hS, hE, hP, hX⟩)
  | succ x ih =>
    intro N pa x1 a_below a_endsHere a_nextSame hx1 hx hS hE hP hX hN
    rw [pk_m1] at hx1
    subst hx1
    obtain ⟨s1, s2, s3, s4⟩ := hsp x (by omega)
    refine br_f (nI_pos (by omega)) ⟨(sp x).length + 1, ?_⟩
    refine xt_38 hT (by omega) s1 s2 s4 s3 hX (fun M qa b_below b_endsHere b_nextSame g1 g2 g3 g4 g5 => ?_) (sp x) [] N 0 pa a_below a_endsHere rfl hS hE hP (fun i hi => ⟨0, by have := hS.1; omega, ?_⟩) (by have := hS.1; omega) hS.2.2.1 (by simpa using hN)
    · refine ih M qa _ b_below b_endsHere b_nextSame rfl (by omega) g1 g2 g3 g4 (Nat.le_trans g5 ?_)
      unfold tr_nb
      by_cases h : 6 ≤ x
      · rw [if_pos h, if_pos (by omega)]; omega
      · rw [h1 x (by omega), if_neg h]
        by_cases h' : 6 ≤ x + 1
        · rw [if_pos h']; simp; omega
        · rw [if_neg h']; simp; omega
    · have : i = 0 := by simpa using hi
      rw [this, List.take_zero]; exact hS.2.2.1
theorem xt_make {post : SX → Prop} {T : Nat} {sp : Nat → List Nat} {f_nodes : Int32} {a_below a_endsHere a_nextSame : Nat → Int32} (ht : f_tokens = nI T) (h6 : 6 ≤ T) (hT : T ≤ 20) (hsp : ∀ t, t < T → a_spellLength t = nI (sp t).length ∧ (sp t).length ≤ 8 ∧ (∀ c ∈ sp t, c < 6) ∧ ly a_spelling (8 * t) (sp t)) (h1 : ∀ t, t < 6 → sp t = [t]) (hM : f_hasTree = 0 ∨ (f_hasTree = 1 ∧ tr_T T sp a_below a_endsHere a_nextSame))
    (K : ∀ (f_nodes : Int32) (b_below b_endsHere b_nextSame : Nat → Int32), tr_T T sp b_below b_endsHere b_nextSame → post (f_words, f_isMerged, f_tokens, 1, f_nodes, f_textLength, f_resultSize, f_rowLength, f_partCount, f_queued, f_banned, a_counts, a_lengths, a_letters, a_tokenAt, a_nextAt, a_beforeAt, a_frequencies, a_lefts, a_rights, a_prices, a_spellLength, a_spelling, a_made, b_below, b_endsHere, b_nextSame, a_text, a_result, a_row, a_part, a_queueToken, a_queuePlace, a_linkedToken, a_linkedNext, a_linkedBefore, a_bestCount, a_bestPrice, a_bestTokens, a_bestLast, a_bestFrom, a_ways, a_one, a_two)) : wpX_makeTree post (f_words, f_isMerged, f_tokens, f_hasTree, f_nodes, f_textLength, f_resultSize, f_rowLength, f_partCount, f_queued, f_banned, a_counts, a_lengths, a_letters, a_tokenAt, a_nextAt, a_beforeAt, a_frequencies, a_lefts, a_rights, a_prices, a_spellLength, a_spelling, a_made, a_below, a_endsHere, a_nextSame, a_text, a_result, a_row, a_part, a_queueToken, a_queuePlace, a_linkedToken, a_linkedNext, a_linkedBefore, a_bestCount, a_bestPrice, a_bestTokens, a_bestLast, a_bestFrom, a_ways, a_one, a_two) := by
  rcases hM with e | ⟨e, hM⟩
  · subst e
    refine br_t rfl (xt_new (N := 0) rfl (by omega) ?_)
    refine nm_r (e' := nI T + (-1)) (by rw [ht, qn_s1 (by omega), qn_m1 (by omega)]) ⟨T + 1, ?_⟩
    refine xt_30 h6 hT hsp h1 K T 1 (fun _ => []) _ _ _ _ rfl (Nat.le_refl _) ⟨Nat.le_refl _, by omega, rfl, fun j k hj hk _ => by omega, fun k h1 h2 => by omega, fun m c hm hc => Or.inr ⟨?_, fun k _ h => by simp at h⟩⟩ (fun m hm => Or.inr ⟨?_, fun u u1 u2 => by omega⟩) (fun t t1 t2 => by omega) (fun t t1 t2 => by omega) (by unfold tr_nb; split <;> omega)
    · rw [show m = 0 from by omega]
      show (if 6 * 0 ≤ 6 * 0 + c ∧ 6 * 0 + c < 6 * 0 + 6 then (0 : Int32) else _) = 0
      rw [if_pos (by omega)]
    · rw [show m = 0 from by omega]; exact pk_us
  · subst e
    exact br_f (by decide) (K _ _ _ _ hM)
/-- the first token that may be used -/
def tr_U (T : Nat) (sp : Nat → List Nat) (bn : Int32) (s : List Nat) (a : Nat) (v : Int32) : Prop :=
  (∃ t, a ≤ t ∧ t < T ∧ sp t = s ∧ ¬ nI t = bn ∧ v = nI t ∧ ∀ u, a ≤ u → u < t → sp u = s → nI u = bn) ∨ (v = -1 ∧ ∀ u, a ≤ u → u < T → sp u = s → nI u = bn)
theorem xt_us2 {T : Nat} {sp : Nat → List Nat} {s : List Nat} {f_nodes : Int32} {a_below a_endsHere a_nextSame : Nat → Int32} (hT : T ≤ 20) (hX : tr_X T sp 0 a_nextSame) : ∀ (k a : Nat) (x : Int32), T ≤ a + k → tr_F T sp s a x → ∃ r, tr_U T sp f_banned s a r ∧ ∀ pst : Int32 → Prop, pst r → wX_usable_2 pst f_words f_isMerged f_tokens f_hasTree f_nodes f_textLength f_resultSize f_rowLength f_partCount f_queued f_banned a_counts a_lengths a_letters a_tokenAt a_nextAt a_beforeAt a_frequencies a_lefts a_rights a_prices a_spellLength a_spelling a_made a_below a_endsHere a_nextSame a_text a_result a_row a_part a_queueToken a_queuePlace a_linkedToken a_linkedNext a_linkedBefore a_bestCount a_bestPrice a_bestTokens a_bestLast a_bestFrom a_ways a_one a_two (k + 1) x := by
  intro k
  induction k with
  | zero =>
    intro a x hk hF
    rcases hF with ⟨t, t1, t2, -⟩ | ⟨t1, t2⟩
    · omega
    · subst t1
      exact ⟨-1, Or.inr ⟨rfl, fun u u1 u2 _ => by omega⟩, fun pst hp => br_t qn_n1 hp⟩
  | succ k ih =>
    intro a x hk hF
    rcases hF with ⟨t, t1, t2, t3, t4, t5⟩ | ⟨t1, t2⟩
    · subst t4
      by_cases hb : nI t = f_banned
      · have hx := hX t (by omega) t2
        rw [t3] at hx
        obtain ⟨r, r1, r2⟩ := ih (t + 1) _ (by omega) hx
        refine ⟨r, ?_, fun pst hp => br_f (nI_pos (by omega)) (br_t hb ⟨vp_in_nI (by omega) (by omega), nm_r (e' := a_nextSame t) (by rw [nI_clamp (by omega)]) (r2 pst hp)⟩)⟩
        have low : ∀ u, a ≤ u → u < t + 1 → sp u = s → nI u = f_banned := fun u u1 u2 u3 => by
          by_cases e : u = t
          · subst e; exact hb
          · exact absurd u3 (t5 u u1 (by omega))
        rcases r1 with ⟨v, v1, v2, v3, v4, v5, v6⟩ | ⟨v1, v2⟩
        · refine Or.inl ⟨v, by omega, v2, v3, v4, v5, fun u u1 u2 u3 => ?_⟩
          by_cases e : u < t + 1
          · exact low u u1 e u3
          · exact v6 u (by omega) u2 u3
        · refine Or.inr ⟨v1, fun u u1 u2 u3 => ?_⟩
          by_cases e : u < t + 1
          · exact low u u1 e u3
          · exact v2 u (by omega) u2 u3
      · exact ⟨nI t, Or.inl ⟨t, t1, t2, t3, hb, rfl, fun u u1 u2 u3 => absurd u3 (t5 u u1 u2)⟩, fun pst hp => br_f (nI_pos (by omega)) (br_f hb hp)⟩
    · subst t1
      exact ⟨-1, Or.inr ⟨rfl, fun u u1 u2 h => absurd h (t2 u u1 u2)⟩, fun pst hp => br_t qn_n1 hp⟩
theorem xt_us {T a : Nat} {sp : Nat → List Nat} {s : List Nat} {x f_nodes : Int32} {a_below a_endsHere a_nextSame : Nat → Int32} (hT : T ≤ 20) (hX : tr_X T sp 0 a_nextSame) (hF : tr_F T sp s a x) : ∃ r, tr_U T sp f_banned s a r ∧ ∀ pst : Int32 → Prop, pst r → wpX_usable pst (f_words, f_isMerged, f_tokens, f_hasTree, f_nodes, f_textLength, f_resultSize, f_rowLength, f_partCount, f_queued, f_banned, a_counts, a_lengths, a_letters, a_tokenAt, a_nextAt, a_beforeAt, a_frequencies, a_lefts, a_rights, a_prices, a_spellLength, a_spelling, a_made, a_below, a_endsHere, a_nextSame, a_text, a_result, a_row, a_part, a_queueToken, a_queuePlace, a_linkedToken, a_linkedNext, a_linkedBefore, a_bestCount, a_bestPrice, a_bestTokens, a_bestLast, a_bestFrom, a_ways, a_one, a_two) x := by
  obtain ⟨r, r1, r2⟩ := xt_us2 (f_words := f_words) (f_isMerged := f_isMerged) (f_tokens := f_tokens) (f_hasTree := f_hasTree) (f_nodes := f_nodes) (f_textLength := f_textLength) (f_resultSize := f_resultSize) (f_rowLength := f_rowLength) (f_partCount := f_partCount) (f_queued := f_queued) (f_banned := f_banned) (a_counts := a_counts) (a_lengths := a_lengths) (a_letters := a_letters) (a_tokenAt := a_tokenAt) (a_nextAt := a_nextAt) (a_beforeAt := a_beforeAt) (a_frequencies := a_frequencies) (a_lefts := a_lefts) (a_rights := a_rights) (a_prices := a_prices) (a_spellLength := a_spellLength) (a_spelling := a_spelling) (a_made := a_made) (a_below := a_below) (a_endsHere := a_endsHere) (a_nextSame := a_nextSame) (a_text := a_text) (a_result := a_result) (a_row := a_row) (a_part := a_part) (a_queueToken := a_queueToken) (a_queuePlace := a_queuePlace) (a_linkedToken := a_linkedToken) (a_linkedNext := a_linkedNext) (a_linkedBefore := a_linkedBefore) (a_bestCount := a_bestCount) (a_bestPrice := a_bestPrice) (a_bestTokens := a_bestTokens) (a_bestLast := a_bestLast) (a_bestFrom := a_bestFrom) (a_ways := a_ways) (a_one := a_one) (a_two := a_two) (s := s) hT hX T a x (by omega) hF
  exact ⟨r, r1, fun pst hp => Exists.intro (T + 1) (r2 pst hp)⟩
end XT
end
section
/-! the component: the longest first -/
theorem sp_fit_m {sp : Nat → List Nat} {row : List Nat} {t p : Nat} (ht : t < 20) : sp_fit sp row (-1) t p = true ↔ sp t <+: row.drop p := by
  unfold sp_fit
  rw [decide_eq_true (qn_ne1 (by omega)), Bool.true_and, List.isPrefixOf_iff_prefix]
theorem sp_take1 {row : List Nat} {p i : Nat} (hp : p ≤ i) (hi : i < row.length) : (row.drop p).take (i + 1 - p) = (row.drop p).take (i - p) ++ [row.getD i 0] := by
  rw [show i + 1 - p = (i - p) + 1 from by omega, List.take_add_one, List.getElem?_drop, show p + (i - p) = i from by omega, List.getD_eq_getElem?_getD, List.getElem?_eq_getElem hi]
  rfl
/-- the best one among those of at most j letters -/
def lb_B (T : Nat) (sp : Nat → List Nat) (r : List Nat) (j : Nat) (v : Int32) : Prop :=
  (v = -1 ∧ ∀ t, t < T → sp t <+: r → ¬ (sp t).length ≤ j) ∨ (∃ b, b < T ∧ v = nI b ∧ sp b <+: r ∧ (sp b).length ≤ j ∧ ∀ t, t < T → sp t <+: r → (sp t).length ≤ j → (sp t).length < (sp b).length ∨ ((sp t).length = (sp b).length ∧ b ≤ t))
theorem lb_up {T j : Nat} {sp : Nat → List Nat} {r : List Nat} {v : Int32} (h : lb_B T sp r j v) (hn : ∀ t, t < T → sp t <+: r → (sp t).length ≠ j + 1) : lb_B T sp r (j + 1) v := by
  rcases h with ⟨h1, h2⟩ | ⟨b, b1, b2, b3, b4, b5⟩
  · exact Or.inl ⟨h1, fun t t1 t2 t3 => h2 t t1 t2 (by have := hn t t1 t2; omega)⟩
  · exact Or.inr ⟨b, b1, b2, b3, by omega, fun t t1 t2 t3 => b5 t t1 t2 (by have := hn t t1 t2; omega)⟩
theorem lb_new {T j b : Nat} {sp : Nat → List Nat} {r : List Nat} (hb : b < T) (e : sp b = r.take (j + 1)) (hj : j + 1 ≤ r.length) (hf : ∀ u, u < b → sp u ≠ r.take (j + 1)) : lb_B T sp r (j + 1) (nI b) := by
  have hl : (sp b).length = j + 1 := by rw [e, List.length_take]; omega
  refine Or.inr ⟨b, hb, rfl, e ▸ List.take_prefix _ _, by omega, fun t t1 t2 t3 => ?_⟩
  by_cases h : (sp t).length = j + 1
  · refine Or.inr ⟨by omega, Nat.le_of_not_lt fun hlt => hf t hlt ?_⟩
    have := List.prefix_iff_eq_take.mp t2
    rw [h] at this; exact this
  · exact Or.inl (by omega)
section XG
variable {f_words f_isMerged f_tokens f_hasTree f_nodes f_textLength f_resultSize f_rowLength f_queued f_banned : Int32} {a_counts a_lengths a_letters a_tokenAt a_nextAt a_beforeAt a_frequencies a_lefts a_rights a_prices a_spellLength a_spelling a_made a_below a_endsHere a_nextSame a_text a_result a_row a_queueToken a_queuePlace a_linkedToken a_linkedNext a_linkedBefore a_bestCount a_bestPrice a_bestTokens a_bestLast a_bestFrom a_ways a_one a_two : Nat → Int32}
theorem xg_add {post : SX → Prop} {p0 f_partCount : Int32} {m : Nat} {a_part : Nat → Int32} (hm : f_partCount = nI m) (hm12 : m < 12) (K : post (f_words, f_isMerged, f_tokens, f_hasTree, f_nodes, f_textLength, f_resultSize, f_rowLength, nI (m + 1), f_queued, f_banned, a_counts, a_lengths, a_letters, a_tokenAt, a_nextAt, a_beforeAt, a_frequencies, a_lefts, a_rights, a_prices, a_spellLength, a_spelling, a_made, a_below, a_endsHere, a_nextSame, a_text, a_result, a_row, upd a_part m p0, a_queueToken, a_queuePlace, a_linkedToken, a_linkedNext, a_linkedBefore, a_bestCount, a_bestPrice, a_bestTokens, a_bestLast, a_bestFrom, a_ways, a_one, a_two)) : wpX_addPart post (f_words, f_isMerged, f_tokens, f_hasTree, f_nodes, f_textLength, f_resultSize, f_rowLength, f_partCount, f_queued, f_banned, a_counts, a_lengths, a_letters, a_tokenAt, a_nextAt, a_beforeAt, a_frequencies, a_lefts, a_rights, a_prices, a_spellLength, a_spelling, a_made, a_below, a_endsHere, a_nextSame, a_text, a_result, a_row, a_part, a_queueToken, a_queuePlace, a_linkedToken, a_linkedNext, a_linkedBefore, a_bestCount, a_bestPrice, a_bestTokens, a_bestLast, a_bestFrom, a_ways, a_one, a_two) p0 := by
  subst hm
  exact And.intro (vp_in_nI hm12 (by omega)) (nm_r (e' := upd a_part m p0) (by rw [nI_clamp (by omega)]) (nm_r (nI_1 m) K))
theorem xg_26 {post : SX → Prop} {J11 : Int32 → Int32 → Int32 → Int32 → Int32 → Int32 → Int32 → Int32 → Int32 → Int32 → Int32 → Int32 →  (Nat → Int32) → (Nat → Int32) → (Nat → Int32) → (Nat → Int32) → (Nat → Int32) → (Nat → Int32) → (Nat → Int32) → (Nat → Int32) → (Nat → Int32) → (Nat → Int32) → (Nat → Int32) → (Nat → Int32) → (Nat → Int32) → (Nat → Int32) → (Nat → Int32) → (Nat → Int32) → (Nat → Int32) → (Nat → Int32) → (Nat → Int32) → (Nat → Int32) → (Nat → Int32) → (Nat → Int32) → (Nat → Int32) → (Nat → Int32) → (Nat → Int32) → (Nat → Int32) → (Nat → Int32) → (Nat → Int32) → (Nat → Int32) → (Nat → Int32) → (Nat → Int32) → (Nat → Int32) → (Nat → Int32) →  Prop} {T N p : Nat} {sp pa : Nat → List Nat} {row : List Nat} {f_partCount : Int32} {a_part : Nat → Int32} (hT : T ≤ 20) (hpos : ∀ t, t < T → 1 ≤ (sp t).length) (hS : tr_S N pa a_below) (hE : tr_E N pa T sp 0 a_endsHere) (hP : tr_P N pa T sp 0) (hs : f_rowLength = nI row.length) (hrl : row.length ≤ 12) (hp : p < row.length) (hr : ly a_row 0 row) (hB : ∀ c ∈ row, c < 6) (hex : ∃ b, b < T ∧ sp b <+: row.drop p)
    (K : ∀ b, lf_L T sp row (-1) p b → wX_longestFirst_93 post J11 (nI p) (nI b) f_words f_isMerged f_tokens f_hasTree f_nodes f_textLength f_resultSize f_rowLength f_partCount f_queued f_banned a_counts a_lengths a_letters a_tokenAt a_nextAt a_beforeAt a_frequencies a_lefts a_rights a_prices a_spellLength a_spelling a_made a_below a_endsHere a_nextSame a_text a_result a_row a_part a_queueToken a_queuePlace a_linkedToken a_linkedNext a_linkedBefore a_bestCount a_bestPrice a_bestTokens a_bestLast a_bestFrom a_ways a_one a_two) :
    ∀ (n i m : Nat) (v : Int32), row.length - i < n → p ≤ i → i ≤ row.length → ((m < N ∧ pa m = (row.drop p).take (i - p) ∧ (m ≠ 0 ∨ i = p)) ∨ (p < i ∧ m = 0 ∧ ∀ t, t < T → sp t <+: row.drop p → (sp t).length < i - p)) → lb_B T sp (row.drop p) (i - p) v → wX_longestFirst_26 post J11 (nI p) f_words f_isMerged f_tokens f_hasTree f_nodes f_textLength f_resultSize f_rowLength f_partCount f_queued f_banned a_counts a_lengths a_letters a_tokenAt a_nextAt a_beforeAt a_frequencies a_lefts a_rights a_prices a_spellLength a_spelling a_made a_below a_endsHere a_nextSame a_text a_result a_row a_part a_queueToken a_queuePlace a_linkedToken a_linkedNext a_linkedBefore a_bestCount a_bestPrice a_bestTokens a_bestLast a_bestFrom a_ways a_one a_two n (nI m) v (nI i) := by
  have hdl : (row.drop p).length = row.length - p := List.length_drop
  -- all are looked at
  have fin : ∀ (j : Nat) (v : Int32), lb_B T sp (row.drop p) j v → (∀ t, t < T → sp t <+: row.drop p → (sp t).length ≤ j) → wX_longestFirst_93 post J11 (nI p) v f_words f_isMerged f_tokens f_hasTree f_nodes f_textLength f_resultSize f_rowLength f_partCount f_queued f_banned a_counts a_lengths a_letters a_tokenAt a_nextAt a_beforeAt a_frequencies a_lefts a_rights a_prices a_spellLength a_spelling a_made a_below a_endsHere a_nextSame a_text a_result a_row a_part a_queueToken a_queuePlace a_linkedToken a_linkedNext a_linkedBefore a_bestCount a_bestPrice a_bestTokens a_bestLast a_bestFrom a_ways a_one a_two := by
    intro j v hv hall
    obtain ⟨b0, g1, g2⟩ := hex
    rcases hv with ⟨h1, h2⟩ | ⟨b, b1, b2, b3, b4, b5⟩
    · exact absurd (hall b0 g1 g2) (h2 b0 g1 g2)
    · subst b2
      refine K b ⟨b1, (sp_fit_m (by omega)).mpr b3, fun t t1 t2 => ?_⟩
      have t2 := (sp_fit_m (by omega)).mp t2
      exact b5 t t1 t2 (hall t t1 t2)
  intro n
  induction n with
  | zero => intro i m v h; omega
  | succ n ih =>
    intro i m v hn hpi hi hst hv
    by_cases ei : i = row.length
    · refine br_t (by rw [hs]; exact nI_le (by omega) (by omega)) (fin _ v hv fun t t1 t2 => ?_)
      have := t2.length_le
      omega
    · have hi' : i < row.length := by omega
      refine br_f (by rw [hs]; exact nI_ge (by omega) (by omega)) ?_
      have go : ∀ (hm : m < N) (hpm : pa m = (row.drop p).take (i - p)), wX_longestFirst_45 post J11 (wX_longestFirst_26 post J11 (nI p) f_words f_isMerged f_tokens f_hasTree f_nodes f_textLength f_resultSize f_rowLength f_partCount f_queued f_banned a_counts a_lengths a_letters a_tokenAt a_nextAt a_beforeAt a_frequencies a_lefts a_rights a_prices a_spellLength a_spelling a_made a_below a_endsHere a_nextSame a_text a_result a_row a_part a_queueToken a_queuePlace a_linkedToken a_linkedNext a_linkedBefore a_bestCount a_bestPrice a_bestTokens a_bestLast a_bestFrom a_ways a_one a_two n) (nI p) (nI m) v (nI i) f_words f_isMerged f_tokens f_hasTree f_nodes f_textLength f_resultSize f_rowLength f_partCount f_queued f_banned a_counts a_lengths a_letters a_tokenAt a_nextAt a_beforeAt a_frequencies a_lefts a_rights a_prices a_spellLength a_spelling a_made a_below a_endsHere a_nextSame a_text a_result a_row a_part a_queueToken a_queuePlace a_linkedToken a_linkedNext a_linkedBefore a_bestCount a_bestPrice a_bestTokens a_bestLast a_bestFrom a_ways a_one a_two := by
        intro hm hpm
        have hN := hS.2.1
        have hc : a_row i = nI (row.getD i 0) := ly_at0 hr hi'
        have hc6 : row.getD i 0 < 6 := hB _ (ly_mem hi')
        refine And.intro (vp_in_nI (by omega) (by omega)) ?_
        rw [nI_clamp (n := i) (by omega), hc, qn_6]
        refine ⟨vp_in_nI (by omega) (by omega), ?_⟩
        rw [nI_clamp (n := 6 * m + row.getD i 0) (by omega)]
        have htk := sp_take1 hpi hi'
        have hej : i + 1 - p = (i - p) + 1 := by omega
        rcases hS.2.2.2.2.2 m (row.getD i 0) hm hc6 with ⟨k, k1, k2, k3, k4⟩ | ⟨k1, k2⟩
        · rw [k4]
          rw [hpm, ← htk] at k3
          refine nm_e (br_f (qn_ne0 (by omega) (by omega)) ⟨vp_in_nI (by omega) (by omega), ?_⟩)
          rw [nI_clamp (n := k) (by omega)]
          have hk := hE k k2
          rw [k3] at hk
          rcases hk with ⟨t, t1, t2, t3, t4, t5⟩ | ⟨t1, t2⟩
          · rw [t4]
            refine br_f (nI_pos (by omega)) ⟨vp_in_nI (by omega) (by omega), nm_e (nm_r (nI_1 i) (ih (i + 1) k (nI t) (by omega) (by omega) (by omega) (Or.inl ⟨k2, k3, Or.inl (by omega)⟩) ?_))⟩
            rw [hej] at t3 t5 ⊢
            exact lb_new t2 t3 (by omega) fun u hu => t5 u (by omega) hu
          · rw [t1]
            refine br_t qn_n1 (nm_r (nI_1 i) (ih (i + 1) k v (by omega) (by omega) (by omega) (Or.inl ⟨k2, k3, Or.inl (by omega)⟩) ?_))
            rw [hej] at t2 ⊢
            refine lb_up hv fun t u1 u2 u3 => t2 t (by omega) u1 ?_
            have := List.prefix_iff_eq_take.mp u2
            rw [u3] at this; exact this
        · rw [k1]
          rw [hpm, ← htk] at k2
          have hno : ∀ t, t < T → sp t <+: row.drop p → ¬ i + 1 - p ≤ (sp t).length := by
            intro t u1 u2 u3
            obtain ⟨j, j1, j2⟩ := hP t (by omega) u1 (i + 1 - p) u3
            refine k2 j j1 (j2.trans ?_)
            have := List.prefix_iff_eq_take.mp u2
            rw [this, List.take_take, Nat.min_eq_left u3]
          refine nm_e (br_t rfl (nm_r (nI_1 i) (ih (i + 1) 0 v (by omega) (by omega) (by omega) (Or.inr ⟨by omega, rfl, fun t u1 u2 => by have := hno t u1 u2; omega⟩) ?_)))
          rw [hej]
          exact lb_up hv fun t u1 u2 u3 => hno t u1 u2 (by omega)
      rcases hst with ⟨m1, m2, m3⟩ | ⟨m1, m2, m3⟩
      · by_cases e : i = p
        · exact br_t (by rw [e]) (go m1 m2)
        · refine br_f (qn_ne (by omega) (by omega) e) (br_f (qn_ne0 (by have := hS.2.1; omega) (by omega)) (go m1 m2))
      · subst m2
        exact br_f (qn_ne (by omega) (by omega) (by omega)) (br_t rfl (fin _ v hv fun t t1 t2 => by have := m3 t t1 t2; omega))
theorem xg_11 {post : SX → Prop} {T N : Nat} {sp pa : Nat → List Nat} {row : List Nat} (h6 : 6 ≤ T) (hT : T ≤ 20) (hsl : ∀ t, t < T → a_spellLength t = nI (sp t).length ∧ 1 ≤ (sp t).length ∧ (sp t).length ≤ 8) (h1 : ∀ t, t < 6 → sp t = [t]) (hS : tr_S N pa a_below) (hE : tr_E N pa T sp 0 a_endsHere) (hP : tr_P N pa T sp 0) (hs : f_rowLength = nI row.length) (hrl : row.length ≤ 12) (hr : ly a_row 0 row) (hB : ∀ c ∈ row, c < 6) :
    ∀ (n p : Nat) (o : List Nat) (f_partCount : Int32) (a_part : Nat → Int32), row.length - p < n → o.length ≤ p → p ≤ row.length → f_partCount = nI o.length → ly a_part 0 o → (∀ bs b_part, lf_R T sp row (-1) p bs → ly b_part 0 (o ++ bs) → post (f_words, f_isMerged, f_tokens, f_hasTree, f_nodes, f_textLength, f_resultSize, f_rowLength, nI (o ++ bs).length, f_queued, f_banned, a_counts, a_lengths, a_letters, a_tokenAt, a_nextAt, a_beforeAt, a_frequencies, a_lefts, a_rights, a_prices, a_spellLength, a_spelling, a_made, a_below, a_endsHere, a_nextSame, a_text, a_result, a_row, b_part, a_queueToken, a_queuePlace, a_linkedToken, a_linkedNext, a_linkedBefore, a_bestCount, a_bestPrice, a_bestTokens, a_bestLast, a_bestFrom, a_ways, a_one, a_two)) → wX_longestFirst_11 post n (nI p) f_words f_isMerged f_tokens f_hasTree f_nodes f_textLength f_resultSize f_rowLength f_partCount f_queued f_banned a_counts a_lengths a_letters a_tokenAt a_nextAt a_beforeAt a_frequencies a_lefts a_rights a_prices a_spellLength a_spelling a_made a_below a_endsHere a_nextSame a_text a_result a_row a_part a_queueToken a_queuePlace a_linkedToken a_linkedNext a_linkedBefore a_bestCount a_bestPrice a_bestTokens a_bestLast a_bestFrom a_ways a_one a_two := by
  intro n
  induction n with
  | zero => intro p o f_partCount a_part h; omega
  | succ n ih =>
    intro p o f_partCount a_part hn ho hp hpc hl K
    by_cases e : p = row.length
    · have := K [] a_part (by show row.length ≤ p; omega) (by rw [List.append_nil]; exact hl)
      rw [List.append_nil, ← hpc] at this
      exact br_t (by rw [hs]; exact nI_le (by omega) (by omega)) this
    · have hp' : p < row.length := by omega
      have hc6 : row.getD p 0 < 6 := hB _ (ly_mem hp')
      refine br_f (by rw [hs]; exact nI_ge (by omega) (by omega)) ⟨row.length + 1, ?_⟩
      refine xg_26 hT (fun t h => (hsl t h).2.1) hS hE hP hs hrl hp' hr hB ⟨row.getD p 0, by omega, ?_⟩ (fun b hb => ?_) (row.length + 1) p 0 (-1) (by omega) (Nat.le_refl _) (by omega) (Or.inl ⟨by have := hS.1; omega, ?_, Or.inr rfl⟩) (Or.inl ⟨rfl, fun t t1 t2 t3 => ?_⟩)
      · rw [h1 _ hc6, sp_drop hp']; exact ⟨_, rfl⟩
      · obtain ⟨s1, s2, s3⟩ := hsl b hb.1
        have hfl := ((sp_fit_m (by have := hb.1; omega)).mp hb.2.1).length_le
        rw [List.length_drop] at hfl
        refine xg_add hpc (by omega) (And.intro (vp_in_nI (by have := hb.1; omega) (by omega)) (nm_r (e' := nI (p + (sp b).length)) (by rw [nI_clamp (by have := hb.1; omega), s1, nI_add]) ?_))
        refine ih (p + (sp b).length) (o ++ [b]) (nI (o.length + 1)) (upd a_part o.length (nI b)) (by omega) (by simp; omega) (by omega) (by simp) (ly_sn (ly_up hl (by omega)) (by rw [Nat.zero_add, pk_us])) (fun bs b_part g1 g2 => ?_)
        have := K (b :: bs) b_part ⟨hp', hb, g1⟩ (by rw [List.append_assoc] at g2; exact g2)
        rw [List.append_assoc]; exact this
      · rw [Nat.sub_self, List.take_zero]; exact hS.2.2.1
      · have := (hsl t t1).2.1; omega
end XG
section XGL
variable {f_words f_isMerged f_tokens f_hasTree f_nodes f_textLength f_resultSize f_rowLength f_partCount f_queued f_banned : Int32} {a_counts a_lengths a_letters a_tokenAt a_nextAt a_beforeAt a_frequencies a_lefts a_rights a_prices a_spellLength a_spelling a_made a_below a_endsHere a_nextSame a_text a_result a_row a_part a_queueToken a_queuePlace a_linkedToken a_linkedNext a_linkedBefore a_bestCount a_bestPrice a_bestTokens a_bestLast a_bestFrom a_ways a_one a_two : Nat → Int32}
theorem xg_long {post : SX → Prop} {T : Nat} {sp : Nat → List Nat} {row : List Nat} (ht : f_tokens = nI T) (h6 : 6 ≤ T) (hT : T ≤ 20) (hsp : ∀ t, t < T → a_spellLength t = nI (sp t).length ∧ (sp t).length ≤ 8 ∧ (∀ c ∈ sp t, c < 6) ∧ ly a_spelling (8 * t) (sp t)) (hsp1 : ∀ t, t < T → 1 ≤ (sp t).length) (h1 : ∀ t, t < 6 → sp t = [t]) (hM : f_hasTree = 0 ∨ (f_hasTree = 1 ∧ tr_T T sp a_below a_endsHere a_nextSame)) (hs : f_rowLength = nI row.length) (hrl : row.length ≤ 12) (hr : ly a_row 0 row) (hB : ∀ c ∈ row, c < 6)
    (K : ∀ (f_nodes : Int32) (b_below b_endsHere b_nextSame : Nat → Int32) (bs : List Nat) (b_part : Nat → Int32), tr_T T sp b_below b_endsHere b_nextSame → lf_R T sp row (-1) 0 bs → ly b_part 0 bs → post (f_words, f_isMerged, f_tokens, 1, f_nodes, f_textLength, f_resultSize, f_rowLength, nI bs.length, f_queued, f_banned, a_counts, a_lengths, a_letters, a_tokenAt, a_nextAt, a_beforeAt, a_frequencies, a_lefts, a_rights, a_prices, a_spellLength, a_spelling, a_made, b_below, b_endsHere, b_nextSame, a_text, a_result, a_row, b_part, a_queueToken, a_queuePlace, a_linkedToken, a_linkedNext, a_linkedBefore, a_bestCount, a_bestPrice, a_bestTokens, a_bestLast, a_bestFrom, a_ways, a_one, a_two)) : wpX_longestFirst post (f_words, f_isMerged, f_tokens, f_hasTree, f_nodes, f_textLength, f_resultSize, f_rowLength, f_partCount, f_queued, f_banned, a_counts, a_lengths, a_letters, a_tokenAt, a_nextAt, a_beforeAt, a_frequencies, a_lefts, a_rights, a_prices, a_spellLength, a_spelling, a_made, a_below, a_endsHere, a_nextSame, a_text, a_result, a_row, a_part, a_queueToken, a_queuePlace, a_linkedToken, a_linkedNext, a_linkedBefore, a_bestCount, a_bestPrice, a_bestTokens, a_bestLast, a_bestFrom, a_ways, a_one, a_two) := by
  refine xt_make ht h6 hT hsp h1 hM fun f_nodes b_below b_endsHere b_nextSame hT' => ?_
  have hT2 := hT'
  obtain ⟨N, pa, t1, t2, t3, t4⟩ := hT2
  exact ⟨row.length + 1, xg_11 h6 hT (fun t h => ⟨(hsp t h).1, hsp1 t h, (hsp t h).2.1⟩) h1 t1 t2 t3 hs hrl hr hB (row.length + 1) 0 [] 0 a_part (by omega) (Nat.le_refl _) (by omega) rfl ly_nil fun bs b_part g1 g2 => K _ _ _ _ bs b_part hT' g1 g2⟩
end XGL
end
section
/-! the component: the queue of joinings -/
def hq_R (K : Nat → Nat) (n : Nat) (qt qp : Nat → Int32) : Prop := ∀ j, j < n → qt j = nI (K j / 16) ∧ qp j = nI (K j % 16) ∧ K j < 320
def xq_s (q : Nat → Int32) (a b : Nat) : Nat → Int32 := upd (upd q a (q b)) b (q a)
theorem hq_le {K : Nat → Nat} {m n : Nat} {qt qp : Nat → Int32} (h : hq_R K n qt qp) (hm : m ≤ n) : hq_R K m qt qp := fun j hj => h j (by omega)
theorem hq_sw {K : Nat → Nat} {n a b : Nat} {qt qp : Nat → Int32} (h : hq_R K n qt qp) (ha : a < n) (hb : b < n) : hq_R (hp_sw K a b) n (xq_s qt a b) (xq_s qp a b) := by
  intro j hj
  unfold xq_s
  by_cases e1 : j = b
  · subst e1; rw [pk_us, pk_us, hp_sw1]; exact h a ha
  · by_cases e2 : j = a
    · subst e2; rw [pk_un e1, pk_us, pk_un e1, pk_us, hp_sw2]; exact h b hb
    · rw [pk_un e1, pk_un e2, pk_un e1, pk_un e2, hp_sw3 e2 e1]; exact h j hj
section XQ
variable {f_words f_isMerged f_tokens f_hasTree f_nodes f_textLength f_resultSize f_rowLength f_partCount f_banned : Int32} {a_counts a_lengths a_letters a_tokenAt a_nextAt a_beforeAt a_frequencies a_lefts a_rights a_prices a_spellLength a_spelling a_made a_below a_endsHere a_nextSame a_text a_result a_row a_part a_linkedToken a_linkedNext a_linkedBefore a_bestCount a_bestPrice a_bestTokens a_bestLast a_bestFrom a_ways a_one a_two : Nat → Int32}
theorem xq_sn {pst : Int32 → Prop} {p0 p1 f_queued : Int32} {a b n : Nat} {K : Nat → Nat} {a_queueToken a_queuePlace : Nat → Int32} (e0 : p0 = nI a) (e1 : p1 = nI b) (hn : n ≤ 40) (hR : hq_R K n a_queueToken a_queuePlace) (ha : a < n) (hb : b < n) (H : pst (qb (decide (K a < K b)))) : wpX_isSooner pst (f_words, f_isMerged, f_tokens, f_hasTree, f_nodes, f_textLength, f_resultSize, f_rowLength, f_partCount, f_queued, f_banned, a_counts, a_lengths, a_letters, a_tokenAt, a_nextAt, a_beforeAt, a_frequencies, a_lefts, a_rights, a_prices, a_spellLength, a_spelling, a_made, a_below, a_endsHere, a_nextSame, a_text, a_result, a_row, a_part, a_queueToken, a_queuePlace, a_linkedToken, a_linkedNext, a_linkedBefore, a_bestCount, a_bestPrice, a_bestTokens, a_bestLast, a_bestFrom, a_ways, a_one, a_two) p0 p1 := by
  subst e0 e1
  obtain ⟨a1, a2, a3⟩ := hR a ha
  obtain ⟨b1, b2, b3⟩ := hR b hb
  have va : vp_in (nI a) 40 := vp_in_nI (by omega) (by omega)
  have vb : vp_in (nI b) 40 := vp_in_nI (by omega) (by omega)
  refine And.intro va ⟨vb, ?_⟩
  rw [nI_clamp (n := a) (by omega), nI_clamp (n := b) (by omega), a1, a2, b1, b2]
  refine pk_lt (K a / 16) (K b / 16) (fun h => ?_) (fun h => ⟨va, vb, ?_⟩)
  · rw [decide_eq_true (show K a < K b by omega)] at H; exact H
  · refine pk_eq (K a / 16) (K b / 16) (fun h2 => ⟨va, vb, ?_⟩) (fun h2 => ?_)
    · refine pk_le (K b % 16) (K a % 16) (fun h3 => ?_) (fun h3 => ?_)
      · rw [decide_eq_false (show ¬ K a < K b by omega)] at H; exact H
      · rw [decide_eq_true (show K a < K b by omega)] at H; exact H
    · rw [decide_eq_false (show ¬ K a < K b by omega)] at H; exact H
theorem xq_sw {post : SX → Prop} {p0 p1 f_queued : Int32} {a b : Nat} {a_queueToken a_queuePlace : Nat → Int32} (e0 : p0 = nI a) (e1 : p1 = nI b) (ha : a < 40) (hb : b < 40) (H : post (f_words, f_isMerged, f_tokens, f_hasTree, f_nodes, f_textLength, f_resultSize, f_rowLength, f_partCount, f_queued, f_banned, a_counts, a_lengths, a_letters, a_tokenAt, a_nextAt, a_beforeAt, a_frequencies, a_lefts, a_rights, a_prices, a_spellLength, a_spelling, a_made, a_below, a_endsHere, a_nextSame, a_text, a_result, a_row, a_part, xq_s a_queueToken a b, xq_s a_queuePlace a b, a_linkedToken, a_linkedNext, a_linkedBefore, a_bestCount, a_bestPrice, a_bestTokens, a_bestLast, a_bestFrom, a_ways, a_one, a_two)) : wpX_swap post (f_words, f_isMerged, f_tokens, f_hasTree, f_nodes, f_textLength, f_resultSize, f_rowLength, f_partCount, f_queued, f_banned, a_counts, a_lengths, a_letters, a_tokenAt, a_nextAt, a_beforeAt, a_frequencies, a_lefts, a_rights, a_prices, a_spellLength, a_spelling, a_made, a_below, a_endsHere, a_nextSame, a_text, a_result, a_row, a_part, a_queueToken, a_queuePlace, a_linkedToken, a_linkedNext, a_linkedBefore, a_bestCount, a_bestPrice, a_bestTokens, a_bestLast, a_bestFrom, a_ways, a_one, a_two) p0 p1 := by
  subst e0 e1
  have va : vp_in (nI a) 40 := vp_in_nI (by omega) (by omega)
  have vb : vp_in (nI b) 40 := vp_in_nI (by omega) (by omega)
  refine And.intro va ?_
  rw [nI_clamp (n := a) (by omega), nI_clamp (n := b) (by omega)]
  exact nm_e ⟨va, nm_e ⟨vb, va, nm_e ⟨vb, va, nm_e ⟨vb, nm_e ⟨vb, nm_e H⟩⟩⟩⟩⟩
theorem xq_75 {post : SX → Prop} {n : Nat} {f_queued : Int32} (hn : n ≤ 40) : ∀ (fu k : Nat) (K : Nat → Nat) (a_queueToken a_queuePlace : Nat → Int32), k < fu → k < n → hp_U K n k → hq_R K n a_queueToken a_queuePlace →
    (∀ (K' : Nat → Nat) (b_queueToken b_queuePlace : Nat → Int32), hp_H K' n → hq_R K' n b_queueToken b_queuePlace → (∀ v, hp_in K' n v ↔ hp_in K n v) → post (f_words, f_isMerged, f_tokens, f_hasTree, f_nodes, f_textLength, f_resultSize, f_rowLength, f_partCount, f_queued, f_banned, a_counts, a_lengths, a_letters, a_tokenAt, a_nextAt, a_beforeAt, a_frequencies, a_lefts, a_rights, a_prices, a_spellLength, a_spelling, a_made, a_below, a_endsHere, a_nextSame, a_text, a_result, a_row, a_part, b_queueToken, b_queuePlace, a_linkedToken, a_linkedNext, a_linkedBefore, a_bestCount, a_bestPrice, a_bestTokens, a_bestLast, a_bestFrom, a_ways, a_one, a_two)) → wX_enqueue_75 post fu (nI k) f_words f_isMerged f_tokens f_hasTree f_nodes f_textLength f_resultSize f_rowLength f_partCount f_queued f_banned a_counts a_lengths a_letters a_tokenAt a_nextAt a_beforeAt a_frequencies a_lefts a_rights a_prices a_spellLength a_spelling a_made a_below a_endsHere a_nextSame a_text a_result a_row a_part a_queueToken a_queuePlace a_linkedToken a_linkedNext a_linkedBefore a_bestCount a_bestPrice a_bestTokens a_bestLast a_bestFrom a_ways a_one a_two := by
  intro fu
  induction fu with
  | zero => intro k K qt qp h; omega
  | succ fu ih =>
    intro k K qt qp hf hk hU hR H
    by_cases e : k = 0
    · subst e
      exact br_t (by decide) (H K qt qp (hp_Ue hU (Or.inl rfl)) hR (fun v => Iff.rfl))
    · have hd : (nI k - 1) / 2 = nI ((k - 1) / 2) := by
        rw [qn_s1 (by omega)]
        exact pk_div (d := 2) (by omega) (by omega) (by omega)
      refine br_f (nI_nle (by omega) (by omega)) ⟨by decide, ?_⟩
      refine xq_sn (K := K) rfl hd hn hR hk (by omega) ?_
      cases hc : decide (K k < K ((k - 1) / 2)) with
      | false =>
        have := of_decide_eq_false hc
        exact br_t rfl (H K qt qp (hp_Ue hU (Or.inr (by omega))) hR (fun v => Iff.rfl))
      | true =>
        have hl := of_decide_eq_true hc
        refine br_f (by decide) ⟨by decide, ?_⟩
        refine xq_sw rfl hd (by omega) (by omega) (And.intro (by decide) (nm_r hd ?_))
        refine ih ((k - 1) / 2) (hp_sw K k ((k - 1) / 2)) _ _ (by omega) (by omega) (hp_Us hU (by omega) hk hl) (hq_sw hR hk (by omega)) fun K' bt bp g1 g2 g3 => H K' bt bp g1 g2 fun v => ?_
        rw [g3, hp_sw_in hk (by omega)]
/-- putting in -/
theorem xq_put {post : SX → Prop} {n t p : Nat} {K : Nat → Nat} {a_queueToken a_queuePlace : Nat → Int32} (hn : n < 40) (ht : t < 20) (hp : p < 12) (hH : hp_H K n) (hR : hq_R K n a_queueToken a_queuePlace)
    (H : ∀ (K' : Nat → Nat) (b_queueToken b_queuePlace : Nat → Int32), hp_H K' (n + 1) → hq_R K' (n + 1) b_queueToken b_queuePlace → (∀ v, hp_in K' (n + 1) v ↔ hp_in K n v ∨ v = 16 * t + p) → post (f_words, f_isMerged, f_tokens, f_hasTree, f_nodes, f_textLength, f_resultSize, f_rowLength, f_partCount, nI (n + 1), f_banned, a_counts, a_lengths, a_letters, a_tokenAt, a_nextAt, a_beforeAt, a_frequencies, a_lefts, a_rights, a_prices, a_spellLength, a_spelling, a_made, a_below, a_endsHere, a_nextSame, a_text, a_result, a_row, a_part, b_queueToken, b_queuePlace, a_linkedToken, a_linkedNext, a_linkedBefore, a_bestCount, a_bestPrice, a_bestTokens, a_bestLast, a_bestFrom, a_ways, a_one, a_two)) : ∃ n75, wX_enqueue_75 post n75 (nI n) f_words f_isMerged f_tokens f_hasTree f_nodes f_textLength f_resultSize f_rowLength f_partCount (nI (n + 1)) f_banned a_counts a_lengths a_letters a_tokenAt a_nextAt a_beforeAt a_frequencies a_lefts a_rights a_prices a_spellLength a_spelling a_made a_below a_endsHere a_nextSame a_text a_result a_row a_part (upd a_queueToken n (nI t)) (upd a_queuePlace n (nI p)) a_linkedToken a_linkedNext a_linkedBefore a_bestCount a_bestPrice a_bestTokens a_bestLast a_bestFrom a_ways a_one a_two := by
  refine ⟨n + 1, xq_75 (n := n + 1) (by omega) (n + 1) n (fun j => if j = n then 16 * t + p else K j) _ _ (by omega) (by omega) (hp_U0 hH fun j hj => if_neg (by omega)) (fun j hj => ?_) fun K' bt bp g1 g2 g3 => H K' bt bp g1 g2 fun v => ?_⟩
  · by_cases e : j = n
    · subst e
      dsimp only
      rw [if_pos rfl, pk_us, pk_us, show (16 * t + p) / 16 = t from by omega, show (16 * t + p) % 16 = p from by omega]
      exact ⟨rfl, rfl, by omega⟩
    · dsimp only
      rw [if_neg e, pk_un e, pk_un e]; exact hR j (by omega)
  · rw [g3]
    constructor
    · rintro ⟨i, i1, i2⟩
      by_cases e : i = n
      · dsimp only at i2
        rw [if_pos e] at i2; exact Or.inr i2.symm
      · dsimp only at i2
        rw [if_neg e] at i2; exact Or.inl ⟨i, by omega, i2⟩
    · rintro (⟨i, i1, i2⟩ | h)
      · exact ⟨i, by omega, by dsimp only; rw [if_neg (by omega)]; exact i2⟩
      · exact ⟨n, by omega, by dsimp only; rw [if_pos rfl]; exact h.symm⟩
/-- taking the first one out: down from the top -/
theorem xq_23 {post : SX → Prop} {n : Nat} (hn : n < 40) : ∀ (d i k : Nat) (K : Nat → Nat) (a_queueToken a_queuePlace : Nat → Int32), i + d = 6 → (k < n ∨ (k = 0 ∧ n = 0)) → hq_R K (n + 1) a_queueToken a_queuePlace → hp_D K n k → (hp_H K n ∨ 2 ^ i ≤ k + 1) →
    (∀ (K' : Nat → Nat) (b_queueToken b_queuePlace : Nat → Int32), hp_H K' n → hq_R K' n b_queueToken b_queuePlace → (∀ v, hp_in K' n v ↔ hp_in K n v) → post (f_words, f_isMerged, f_tokens, f_hasTree, f_nodes, f_textLength, f_resultSize, f_rowLength, f_partCount, nI n, f_banned, a_counts, a_lengths, a_letters, a_tokenAt, a_nextAt, a_beforeAt, a_frequencies, a_lefts, a_rights, a_prices, a_spellLength, a_spelling, a_made, a_below, a_endsHere, a_nextSame, a_text, a_result, a_row, a_part, b_queueToken, b_queuePlace, a_linkedToken, a_linkedNext, a_linkedBefore, a_bestCount, a_bestPrice, a_bestTokens, a_bestLast, a_bestFrom, a_ways, a_one, a_two)) → wX_dequeue_23 post (d + 1) (nI k) (nI i) f_words f_isMerged f_tokens f_hasTree f_nodes f_textLength f_resultSize f_rowLength f_partCount (nI n) f_banned a_counts a_lengths a_letters a_tokenAt a_nextAt a_beforeAt a_frequencies a_lefts a_rights a_prices a_spellLength a_spelling a_made a_below a_endsHere a_nextSame a_text a_result a_row a_part a_queueToken a_queuePlace a_linkedToken a_linkedNext a_linkedBefore a_bestCount a_bestPrice a_bestTokens a_bestLast a_bestFrom a_ways a_one a_two := by
  intro d
  induction d with
  | zero =>
    intro i k K qt qp hd hk hR hD hh H
    have e : i = 6 := by omega
    subst e
    refine br_t (by decide) (H K qt qp ?_ (hq_le hR (by omega)) fun v => Iff.rfl)
    rcases hh with h | h
    · exact h
    · omega
  | succ d ih =>
    intro i k K qt qp hd hk hR hD hh H
    have e1 : 2 * nI k + 1 = nI (2 * k + 1) := by rw [qn_2m, nI_1]
    have e2 : 2 * nI k + 2 = nI (2 * k + 2) := by rw [qn_2m]; exact nI_add (2 * k) 2
    -- the last step: exchange with the least of the three
    have step : ∀ f, (f = k ∨ (f < n ∧ (f - 1) / 2 = k ∧ 0 < f ∧ K f < K k)) → (∀ j, 0 < j → j < n → (j - 1) / 2 = k → K f ≤ K j) → wX_dequeue_93 post (wX_dequeue_23 post (d + 1)) (nI k) (nI i) (nI f) f_words f_isMerged f_tokens f_hasTree f_nodes f_textLength f_resultSize f_rowLength f_partCount (nI n) f_banned a_counts a_lengths a_letters a_tokenAt a_nextAt a_beforeAt a_frequencies a_lefts a_rights a_prices a_spellLength a_spelling a_made a_below a_endsHere a_nextSame a_text a_result a_row a_part qt qp a_linkedToken a_linkedNext a_linkedBefore a_bestCount a_bestPrice a_bestTokens a_bestLast a_bestFrom a_ways a_one a_two := by
      intro f hf hmin
      rcases hf with rfl | ⟨f1, f2, f3, f4⟩
      · have hHH : hp_H K n := hp_De hD hmin
        refine xq_sw rfl rfl (by omega) (by omega) (nm_r (nI_1 i) (ih (i + 1) f K _ _ (by omega) hk (fun j hj => ?_) hD (Or.inl hHH) H))
        unfold xq_s
        by_cases ej : j = f
        · subst ej; rw [pk_us, pk_us]; exact hR j hj
        · rw [pk_un ej, pk_un ej, pk_un ej, pk_un ej]; exact hR j hj
      · refine xq_sw rfl rfl (by omega) (by omega) (nm_r (nI_1 i) (ih (i + 1) f (hp_sw K k f) _ _ (by omega) (Or.inl f1) (hq_sw hR (by omega) (by omega)) (hp_Ds hD f3 f1 f2 hmin (by omega)) (Or.inr ?_) fun K' bt bp g1 g2 g3 => H K' bt bp g1 g2 fun v => ?_))
        · rcases hh with h | h
          · have := h f f3 f1
            rw [f2] at this; omega
          · rw [Nat.pow_succ]; omega
        · rw [g3, hp_sw_in (by omega) f1]
    -- the second child
    have snd : ∀ f, (f = k ∨ (f = 2 * k + 1 ∧ f < n ∧ K f < K k)) → (2 * k + 1 < n → K f ≤ K (2 * k + 1)) → K f ≤ K k → wX_dequeue_62 post (wX_dequeue_23 post (d + 1)) (nI k) (nI i) (nI f) f_words f_isMerged f_tokens f_hasTree f_nodes f_textLength f_resultSize f_rowLength f_partCount (nI n) f_banned a_counts a_lengths a_letters a_tokenAt a_nextAt a_beforeAt a_frequencies a_lefts a_rights a_prices a_spellLength a_spelling a_made a_below a_endsHere a_nextSame a_text a_result a_row a_part qt qp a_linkedToken a_linkedNext a_linkedBefore a_bestCount a_bestPrice a_bestTokens a_bestLast a_bestFrom a_ways a_one a_two := by
      intro f hf h1 h0
      have hf' : f = k ∨ (f < n ∧ (f - 1) / 2 = k ∧ 0 < f ∧ K f < K k) := by
        rcases hf with h | ⟨h, h', h''⟩
        · exact Or.inl h
        · exact Or.inr ⟨h', by omega, by omega, h''⟩
      have hfn : f < n + 1 := by omega
      refine pk_le n (2 * k + 2) (fun hle => step f hf' fun j j1 j2 j3 => ?_) (fun hgt => ?_) (by rfl) e2
      · have : j = 2 * k + 1 := by omega
        subst this; exact h1 j2
      · refine xq_sn (K := K) e2 rfl (n := n + 1) (by omega) hR (by omega) hfn ?_
        cases hc : decide (K (2 * k + 2) < K f) with
        | false =>
          have := of_decide_eq_false hc
          refine br_t rfl (step f hf' fun j j1 j2 j3 => ?_)
          have hj : j = 2 * k + 1 ∨ j = 2 * k + 2 := by omega
          rcases hj with hj | hj
          · subst hj; exact h1 j2
          · subst hj; omega
        | true =>
          have := of_decide_eq_true hc
          refine br_f (by decide) (nm_r e2 (step (2 * k + 2) (Or.inr ⟨by omega, by omega, by omega, by omega⟩) fun j j1 j2 j3 => ?_))
          have hj : j = 2 * k + 1 ∨ j = 2 * k + 2 := by omega
          rcases hj with hj | hj
          · subst hj; have := h1 j2; omega
          · subst hj; omega
    refine br_f (nI_ge (b := 6) (by omega) (by omega)) ?_
    refine pk_le n (2 * k + 1) (fun hle => snd k (Or.inl rfl) (fun h => by omega) (Nat.le_refl _)) (fun hgt => ?_) (by rfl) e1
    refine xq_sn (K := K) e1 rfl (n := n + 1) (by omega) hR (by omega) (by omega) ?_
    cases hc : decide (K (2 * k + 1) < K k) with
    | false =>
      have := of_decide_eq_false hc
      exact br_t rfl (snd k (Or.inl rfl) (fun h => by omega) (Nat.le_refl _))
    | true =>
      have := of_decide_eq_true hc
      exact br_f (by decide) (nm_r e1 (snd (2 * k + 1) (Or.inr ⟨rfl, by omega, this⟩) (fun _ => Nat.le_refl _) (by omega)))
theorem xq_take {post : SX → Prop} {n : Nat} {K : Nat → Nat} {f_queued : Int32} {a_queueToken a_queuePlace : Nat → Int32} (hf : f_queued = nI (n + 1)) (hn : n < 40) (hH : hp_H K (n + 1)) (hR : hq_R K (n + 1) a_queueToken a_queuePlace)
    (H : ∀ (K' : Nat → Nat) (b_queueToken b_queuePlace : Nat → Int32), hp_H K' n → hq_R K' n b_queueToken b_queuePlace → (∀ v, hp_in K (n + 1) v → v = K 0 ∨ hp_in K' n v) → (∀ v, hp_in K' n v → hp_in K (n + 1) v) → post (f_words, f_isMerged, f_tokens, f_hasTree, f_nodes, f_textLength, f_resultSize, f_rowLength, f_partCount, nI n, f_banned, a_counts, a_lengths, a_letters, a_tokenAt, a_nextAt, a_beforeAt, a_frequencies, a_lefts, a_rights, a_prices, a_spellLength, a_spelling, a_made, a_below, a_endsHere, a_nextSame, a_text, a_result, a_row, a_part, b_queueToken, b_queuePlace, a_linkedToken, a_linkedNext, a_linkedBefore, a_bestCount, a_bestPrice, a_bestTokens, a_bestLast, a_bestFrom, a_ways, a_one, a_two)) : wpX_dequeue post (f_words, f_isMerged, f_tokens, f_hasTree, f_nodes, f_textLength, f_resultSize, f_rowLength, f_partCount, f_queued, f_banned, a_counts, a_lengths, a_letters, a_tokenAt, a_nextAt, a_beforeAt, a_frequencies, a_lefts, a_rights, a_prices, a_spellLength, a_spelling, a_made, a_below, a_endsHere, a_nextSame, a_text, a_result, a_row, a_part, a_queueToken, a_queuePlace, a_linkedToken, a_linkedNext, a_linkedBefore, a_bestCount, a_bestPrice, a_bestTokens, a_bestLast, a_bestFrom, a_ways, a_one, a_two) := by
  subst hf
  refine nm_r (nI_pred n) ?_
  refine xq_sw (a := 0) (b := n) rfl rfl (by omega) (by omega) ⟨7, ?_⟩
  refine xq_23 hn 6 0 0 (hp_sw K 0 n) _ _ (by omega) (by omega) (hq_sw hR (by omega) (by omega)) (hp_D0 hH) (Or.inr (by decide)) fun K' bt bp g1 g2 g3 => H K' bt bp g1 g2 (fun v hv => ?_) (fun v hv => ?_)
  · obtain ⟨i, i1, i2⟩ := hv
    by_cases e : i = 0
    · subst e; exact Or.inl i2.symm
    · refine Or.inr ((g3 v).mpr ?_)
      by_cases e2 : i = n
      · subst e2; exact ⟨0, by omega, by rw [hp_sw2]; exact i2⟩
      · exact ⟨i, by omega, by rw [hp_sw3 e e2]; exact i2⟩
  · obtain ⟨i, i1, i2⟩ := (g3 v).mp hv
    have : hp_in (hp_sw K 0 n) (n + 1) v := ⟨i, by omega, i2⟩
    exact (hp_sw_in (by omega) (by omega)).mp this
end XQ
end
section
/-! the component: merging a row by the queue -/
def ch_ad : List (Nat × Nat) → Nat × Nat → Nat × Nat → Prop
  | [], _, _ => False
  | [_], _, _ => False
  | x :: y :: l, u, v => (x = u ∧ y = v) ∨ ch_ad (y :: l) u v
theorem ad_cons {x u v : Nat × Nat} {l : List (Nat × Nat)} (h : ch_ad l u v) : ch_ad (x :: l) u v := by
  cases l with
  | nil => exact absurd h id
  | cons y l => exact Or.inr h
theorem ad_suf {u v : Nat × Nat} {B : List (Nat × Nat)} (h : ch_ad B u v) : ∀ A : List (Nat × Nat), ch_ad (A ++ B) u v
  | [] => h
  | _ :: A => ad_cons (ad_suf h A)
theorem ad_pre {u v : Nat × Nat} {B : List (Nat × Nat)} : ∀ A : List (Nat × Nat), ch_ad A u v → ch_ad (A ++ B) u v
  | [], h => absurd h id
  | [_], h => absurd h id
  | x :: y :: A, h => by
    rcases h with h | h
    · exact Or.inl h
    · exact Or.inr (ad_pre (y :: A) h)
theorem ad_app {u v z : Nat × Nat} {B : List (Nat × Nat)} : ∀ A : List (Nat × Nat), ch_ad (A ++ z :: B) u v → ch_ad (A ++ [z]) u v ∨ ch_ad (z :: B) u v
  | [], h => Or.inr h
  | [x], h => by
    have h : (x = u ∧ z = v) ∨ ch_ad (z :: B) u v := h
    rcases h with h | h
    · exact Or.inl (Or.inl h)
    · exact Or.inr h
  | x :: y :: A, h => by
    have h : (x = u ∧ y = v) ∨ ch_ad (y :: (A ++ z :: B)) u v := h
    rcases h with h | h
    · exact Or.inl (Or.inl h)
    · rcases ad_app (y :: A) h with h | h
      · exact Or.inl (Or.inr h)
      · exact Or.inr h
theorem ad_mem {u v : Nat × Nat} : ∀ l : List (Nat × Nat), ch_ad l u v → u ∈ l ∧ v ∈ l
  | [], h => absurd h id
  | [_], h => absurd h id
  | x :: y :: l, h => by
    rcases h with ⟨rfl, rfl⟩ | h
    · exact ⟨List.mem_cons_self, List.mem_cons_of_mem _ List.mem_cons_self⟩
    · have := ad_mem (y :: l) h
      exact ⟨List.mem_cons_of_mem _ this.1, List.mem_cons_of_mem _ this.2⟩
theorem ad_C {tk nx bf : Nat → Int32} {hi : Nat} {u v : Nat × Nat} : ∀ (xs : List (Nat × Nat)) {b : Int32} {lo : Nat}, ch_C tk nx bf hi b lo xs → ch_ad xs u v → nx u.1 = nI v.1 ∧ u.1 < v.1
  | [], _, _, _, h => absurd h id
  | [_], _, _, _, h => absurd h id
  | x :: y :: l, b, lo, ⟨c1, c2, c3, c4, c5, c6⟩, h => by
    rcases h with ⟨rfl, rfl⟩ | h
    · exact ⟨c5, c6.1⟩
    · exact ad_C (y :: l) c6 h
theorem ad_pc {x y : Nat} : ∀ xs : List (Nat × Nat), mg_pc x y (ch_tk xs) ≠ 0 → ∃ u v, ch_ad xs u v ∧ u.2 = x ∧ v.2 = y
  | [], h => absurd mg_pc_0 h
  | [a], h => absurd mg_pc_1 h
  | a :: b :: l, h => by
    have h : mg_pc x y (a.2 :: b.2 :: ch_tk l) ≠ 0 := h
    by_cases e : a.2 = x ∧ b.2 = y
    · exact ⟨a, b, Or.inl ⟨rfl, rfl⟩, e.1, e.2⟩
    · rw [mg_pc_n e] at h
      obtain ⟨u, v, h1, h2⟩ := ad_pc (b :: l) h
      exact ⟨u, v, Or.inr h1, h2⟩
/-- where neighbours of a joined chain come from -/
theorem ad_new {u v z : Nat × Nat} {pre suf : List (Nat × Nat)} (h : ch_ad (pre ++ z :: suf) u v) : (∃ A, pre = A ++ [u]) ∨ u = z ∨ ch_ad pre u v ∨ ch_ad suf u v := by
  rcases ad_app pre h with h | h
  · rcases List.eq_nil_or_concat pre with rfl | ⟨A, w, rfl⟩
    · exact absurd h id
    · rw [List.concat_eq_append] at *
      rw [List.append_assoc] at h
      rcases ad_app A h with h | h
      · exact Or.inr (Or.inr (Or.inl h))
      · have h : (w = u ∧ z = v) ∨ False := h
        rcases h with ⟨rfl, rfl⟩ | h
        · exact Or.inl ⟨A, rfl⟩
        · exact absurd h id
  · cases suf with
    | nil => exact absurd h id
    | cons y suf =>
      rcases h with ⟨rfl, rfl⟩ | h
      · exact Or.inr (Or.inl rfl)
      · exact Or.inr (Or.inr (Or.inr h))
/-- for a pair the token made of it -/
def md_M (T : Nat) (L R : Nat → Nat) (mk : Nat → Nat → Nat) (a_made : Nat → Int32) : Prop :=
  (∀ a b, a < 20 → b < 20 → a_made (20 * a + b) = nI (mk a b)) ∧ (∀ a b, mk a b ≠ 0 → 6 ≤ mk a b ∧ mk a b < T ∧ L (mk a b) = a ∧ R (mk a b) = b) ∧ ∀ t, 6 ≤ t → t < T → mk (L t) (R t) = t
section XR
variable {f_words f_isMerged f_tokens f_hasTree f_nodes f_textLength f_resultSize f_rowLength f_partCount f_banned : Int32} {a_counts a_lengths a_letters a_tokenAt a_nextAt a_beforeAt a_frequencies a_lefts a_rights a_prices a_spellLength a_spelling a_made a_below a_endsHere a_nextSame a_text a_result a_row a_part a_bestCount a_bestPrice a_bestTokens a_bestLast a_bestFrom a_ways a_one a_two : Nat → Int32}
theorem xe_any {post : SX → Prop} {p a n T lo : Nat} {b p0 f_queued : Int32} {L R : Nat → Nat} {mk : Nat → Nat → Nat} {K : Nat → Nat} {xs : List (Nat × Nat)} {a_queueToken a_queuePlace a_linkedToken a_linkedNext a_linkedBefore : Nat → Int32} (e0 : p0 = nI p) (hT : T ≤ 20) (hmk : md_M T L R mk a_made) (hC : ch_C a_linkedToken a_linkedNext a_linkedBefore 12 b lo xs) (hB : ∀ q ∈ xs, q.2 < 20) (hm : (p, a) ∈ xs) (hq : f_queued = nI n) (hn : n < 40) (hH : hp_H K n) (hR : hq_R K n a_queueToken a_queuePlace)
    (H : ∀ (n' : Nat) (K' : Nat → Nat) (b_queueToken b_queuePlace : Nat → Int32), n ≤ n' → n' ≤ n + 1 → hp_H K' n' → hq_R K' n' b_queueToken b_queuePlace → (∀ v, hp_in K n v → hp_in K' n' v) → (∀ v, hp_in K' n' v → hp_in K n v ∨ (6 ≤ v / 16 ∧ v / 16 < T ∧ v % 16 = p)) → (∀ u v, ch_ad xs u v → u.1 = p → mk u.2 v.2 ≠ 0 → hp_in K' n' (16 * mk u.2 v.2 + p)) → post (f_words, f_isMerged, f_tokens, f_hasTree, f_nodes, f_textLength, f_resultSize, f_rowLength, f_partCount, nI n', f_banned, a_counts, a_lengths, a_letters, a_tokenAt, a_nextAt, a_beforeAt, a_frequencies, a_lefts, a_rights, a_prices, a_spellLength, a_spelling, a_made, a_below, a_endsHere, a_nextSame, a_text, a_result, a_row, a_part, b_queueToken, b_queuePlace, a_linkedToken, a_linkedNext, a_linkedBefore, a_bestCount, a_bestPrice, a_bestTokens, a_bestLast, a_bestFrom, a_ways, a_one, a_two)) : wpX_enqueue post (f_words, f_isMerged, f_tokens, f_hasTree, f_nodes, f_textLength, f_resultSize, f_rowLength, f_partCount, f_queued, f_banned, a_counts, a_lengths, a_letters, a_tokenAt, a_nextAt, a_beforeAt, a_frequencies, a_lefts, a_rights, a_prices, a_spellLength, a_spelling, a_made, a_below, a_endsHere, a_nextSame, a_text, a_result, a_row, a_part, a_queueToken, a_queuePlace, a_linkedToken, a_linkedNext, a_linkedBefore, a_bestCount, a_bestPrice, a_bestTokens, a_bestLast, a_bestFrom, a_ways, a_one, a_two) p0 := by
  subst e0 hq
  have hh := ch_hi _ hC
  obtain ⟨pre, ys, rfl⟩ := List.append_of_mem hm
  obtain ⟨b', lo', l1, l2, l3, l4, l5, l6⟩ := ch_app pre _ _ _ hC
  obtain ⟨c1, c2, c3, c4, c5, c6⟩ := l5
  have c2 : p < 12 := c2
  have c3 : a_linkedToken p = nI a := c3
  have c5 : a_linkedNext p = ch_hd ys := c5
  have ha2 := hB (p, a) hm
  have ha2 : a < 20 := ha2
  have hv : vp_in (nI p) 12 := vp_in_nI c2 (by omega)
  refine br_f (nI_pos (by omega)) ⟨hv, ?_⟩
  rw [nI_clamp (n := p) (by omega), c5, c3]
  cases ys with
  | nil =>
    refine br_f qn_n0 (H n K _ _ (Nat.le_refl _) (by omega) hH hR (fun v h => h) (fun v h => Or.inl h) fun u v huv hu _ => ?_)
    have := (ad_C _ hC huv).1
    rw [hu, c5] at this
    exact absurd this.symm (qn_ne1 (by have := hh v (ad_mem _ huv).2; omega))
  | cons z suf =>
    obtain ⟨q, d⟩ := z
    have hqm : (q, d) ∈ pre ++ (p, a) :: (q, d) :: suf := by simp
    have hqd := hh (q, d) hqm
    have hq12 : q < 12 := hqd.2.1
    have hqt : a_linkedToken q = nI d := hqd.2.2
    have hd2 : d < 20 := hB (q, d) hqm
    rw [show ch_hd ((q, d) :: suf) = nI q from rfl, nI_clamp (n := q) (by omega), hqt, qn_20]
    refine br_t (nI_pos' (by omega)) ⟨hv, hv, vp_in_nI hq12 (by omega), vp_in_nI (by omega) (by omega), ?_⟩
    rw [nI_clamp (n := 20 * a + d) (by omega), hmk.1 a d ha2 hd2]
    have huniq : ∀ u v, ch_ad (pre ++ (p, a) :: (q, d) :: suf) u v → u.1 = p → u.2 = a ∧ v.2 = d := by
      intro u v huv hu
      have hmem := ad_mem _ huv
      have e1 : u = (p, u.2) := by rw [← hu]
      have e2 := (ad_C _ hC huv).1
      rw [hu, c5] at e2
      have e3 : q = v.1 := qn_inj (by omega) (by have := hh v hmem.2; omega) e2
      have e4 : v = (q, v.2) := by rw [e3]
      exact ⟨ch_cut _ hC (e1 ▸ hmem.1) hm, ch_cut _ hC (e4 ▸ hmem.2) hqm⟩
    by_cases hz : mk a d = 0
    · rw [hz]
      refine nm_e (br_t rfl (H n K _ _ (Nat.le_refl _) (by omega) hH hR (fun v h => h) (fun v h => Or.inl h) fun u v huv hu hne => ?_))
      obtain ⟨g1, g2⟩ := huniq u v huv hu
      rw [g1, g2] at hne; exact absurd hz hne
    · obtain ⟨k1, k2, k3, k4⟩ := hmk.2.1 a d hz
      refine nm_e (br_f (qn_ne0 (by omega) hz) ⟨vp_in_nI hn (by omega), ?_⟩)
      rw [nI_clamp (n := n) (by omega), nI_1]
      refine nm_e ⟨vp_in_nI hn (by omega), nm_e (nm_e ?_)⟩
      refine xq_put (K := K) hn (by omega) c2 hH hR fun K' bt bp g1 g2 g3 => H (n + 1) K' bt bp (by omega) (Nat.le_refl _) g1 g2 (fun v h => (g3 v).mpr (Or.inl h)) (fun v h => ?_) fun u v huv hu _ => ?_
      · rcases (g3 v).mp h with h | h
        · exact Or.inl h
        · exact Or.inr ⟨by omega, by omega, by omega⟩
      · obtain ⟨x1, x2⟩ := huniq u v huv hu
        rw [x1, x2]
        exact (g3 _).mpr (Or.inr rfl)
/-- what holds while the queue is worked off -/
def mr_I (T : Nat) (L R : Nat → Nat) (mk : Nat → Nat → Nat) (n0 : Nat) (goal : List Nat) (h0 : Int32) (xs : List (Nat × Nat)) (K : Nat → Nat) (n : Nat) (lt ln lb qt qp : Nat → Int32) : Prop :=
  ch_C lt ln lb 12 (-1) 0 xs ∧ (∀ q ∈ xs, q.2 < 20 ∧ q.1 < n0) ∧ (∀ p, p < n0 → (∀ a, (p, a) ∉ xs) → lt p = -1) ∧ hp_H K n ∧ hq_R K n qt qp ∧ (∀ v, hp_in K n v → 6 ≤ v / 16 ∧ v / 16 < T ∧ v % 16 < n0) ∧
  (∀ u v, ch_ad xs u v → mk u.2 v.2 ≠ 0 → hp_in K n (16 * mk u.2 v.2 + u.1)) ∧ mg_all L R (T - 6) 6 (ch_tk xs) = goal ∧ n + 2 * xs.length ≤ 36 ∧ ch_hd xs = h0
theorem xe_join {post : SX → Prop} {T n0 n t p : Nat} {L R : Nat → Nat} {mk : Nat → Nat → Nat} {goal : List Nat} {h0 f_queued : Int32} {K : Nat → Nat} {xs : List (Nat × Nat)} {a_queueToken a_queuePlace a_linkedToken a_linkedNext a_linkedBefore : Nat → Int32} (hT : T ≤ 20) (hn0 : n0 ≤ 12) (hL : yt_L T L R a_lefts a_rights) (hmk : md_M T L R mk a_made) (ht6 : 6 ≤ t) (htT : t < T) (hp : p < n0) (hq : f_queued = nI n)
    (hC : ch_C a_linkedToken a_linkedNext a_linkedBefore 12 (-1) 0 xs) (hB : ∀ q ∈ xs, q.2 < 20 ∧ q.1 < n0) (hdead : ∀ p, p < n0 → (∀ a, (p, a) ∉ xs) → a_linkedToken p = -1) (hH : hp_H K n) (hR : hq_R K n a_queueToken a_queuePlace) (h2 : ∀ v, hp_in K n v → 6 ≤ v / 16 ∧ v / 16 < T ∧ v % 16 < n0)
    (h1 : ∀ u v, ch_ad xs u v → mk u.2 v.2 ≠ 0 → 16 * mk u.2 v.2 + u.1 = 16 * t + p ∨ hp_in K n (16 * mk u.2 v.2 + u.1)) (hmin : ∀ u v, ch_ad xs u v → mk u.2 v.2 ≠ 0 → 16 * t + p ≤ 16 * mk u.2 v.2 + u.1) (hgoal : mg_all L R (T - 6) 6 (ch_tk xs) = goal) (hcnt : n + 1 + 2 * xs.length ≤ 36) (hhd : ch_hd xs = h0)
    (H : ∀ (n' : Nat) (K' : Nat → Nat) (ys : List (Nat × Nat)) (b_queueToken b_queuePlace b_linkedToken b_linkedNext b_linkedBefore : Nat → Int32), mr_I T L R mk n0 goal h0 ys K' n' b_linkedToken b_linkedNext b_linkedBefore b_queueToken b_queuePlace → n' + 3 * ys.length ≤ n + 3 * xs.length → post (f_words, f_isMerged, f_tokens, f_hasTree, f_nodes, f_textLength, f_resultSize, f_rowLength, f_partCount, nI n', f_banned, a_counts, a_lengths, a_letters, a_tokenAt, a_nextAt, a_beforeAt, a_frequencies, a_lefts, a_rights, a_prices, a_spellLength, a_spelling, a_made, a_below, a_endsHere, a_nextSame, a_text, a_result, a_row, a_part, b_queueToken, b_queuePlace, b_linkedToken, b_linkedNext, b_linkedBefore, a_bestCount, a_bestPrice, a_bestTokens, a_bestLast, a_bestFrom, a_ways, a_one, a_two)) : wpX_joinLinked post (f_words, f_isMerged, f_tokens, f_hasTree, f_nodes, f_textLength, f_resultSize, f_rowLength, f_partCount, f_queued, f_banned, a_counts, a_lengths, a_letters, a_tokenAt, a_nextAt, a_beforeAt, a_frequencies, a_lefts, a_rights, a_prices, a_spellLength, a_spelling, a_made, a_below, a_endsHere, a_nextSame, a_text, a_result, a_row, a_part, a_queueToken, a_queuePlace, a_linkedToken, a_linkedNext, a_linkedBefore, a_bestCount, a_bestPrice, a_bestTokens, a_bestLast, a_bestFrom, a_ways, a_one, a_two) (nI t) (nI p) := by
  subst hq
  obtain ⟨q1, q2, q3, q4⟩ := hL t ht6 htT
  have hh := ch_hi _ hC
  have hv : vp_in (nI p) 12 := vp_in_nI (by omega) (by omega)
  have hvt : vp_in (nI t) 20 := vp_in_nI (by omega) (by omega)
  -- passed over
  have stale : (∀ u v, ch_ad xs u v → u.1 = p → mk u.2 v.2 = t → False) → post (f_words, f_isMerged, f_tokens, f_hasTree, f_nodes, f_textLength, f_resultSize, f_rowLength, f_partCount, nI n, f_banned, a_counts, a_lengths, a_letters, a_tokenAt, a_nextAt, a_beforeAt, a_frequencies, a_lefts, a_rights, a_prices, a_spellLength, a_spelling, a_made, a_below, a_endsHere, a_nextSame, a_text, a_result, a_row, a_part, a_queueToken, a_queuePlace, a_linkedToken, a_linkedNext, a_linkedBefore, a_bestCount, a_bestPrice, a_bestTokens, a_bestLast, a_bestFrom, a_ways, a_one, a_two) := by
    intro hs
    refine H n K xs _ _ _ _ _ ⟨hC, hB, hdead, hH, hR, h2, fun u v huv hne => ?_, hgoal, by omega, hhd⟩ (Nat.le_refl _)
    rcases h1 u v huv hne with h | h
    · have hu := hh u (ad_mem _ huv).1
      exact False.elim (hs u v huv (by omega) (by omega))
    · exact h
  refine And.intro hv ?_
  rw [nI_clamp (n := p) (by omega)]
  by_cases hex : ∃ a, (p, a) ∈ xs
  · obtain ⟨a, hm⟩ := hex
    have hpa := hh _ hm
    have hlt : a_linkedToken p = nI a := hpa.2.2
    have ha2 := (hB _ hm).1
    have ha2 : a < 20 := ha2
    have hmem := hm
    obtain ⟨pre, ys, rfl⟩ := List.append_of_mem hm
    obtain ⟨b', lo', l1, l2, l3, l4, l5, l6⟩ := ch_app pre _ _ _ hC
    have l5' := l5
    obtain ⟨c1, c2, c3, c4, c5, c6⟩ := l5
    have c1 : lo' ≤ p := c1
    have c5 : a_linkedNext p = ch_hd ys := c5
    rw [hlt, c5]
    refine br_t (nI_pos' (by omega)) ⟨hv, ?_⟩
    cases ys with
    | nil =>
      refine br_t qn_n1 (stale fun u v huv hu _ => ?_)
      have := (ad_C _ hC huv).1
      rw [hu, c5] at this
      exact absurd this.symm (qn_ne1 (by have := hh v (ad_mem _ huv).2; omega))
    | cons z suf =>
      obtain ⟨q, d⟩ := z
      have hqm : (q, d) ∈ pre ++ (p, a) :: (q, d) :: suf := by simp
      have hqd := hh (q, d) hqm
      have hq12 : q < 12 := hqd.2.1
      have hqt : a_linkedToken q = nI d := hqd.2.2
      have hd2 := (hB (q, d) hqm).1
      have hd2 : d < 20 := hd2
      have huniq : ∀ u v, ch_ad (pre ++ (p, a) :: (q, d) :: suf) u v → u.1 = p → u.2 = a ∧ v.2 = d := by
        intro u v huv hu
        have hmem := ad_mem _ huv
        have e1 : u = (p, u.2) := by rw [← hu]
        have e2 := (ad_C _ hC huv).1
        rw [hu, c5] at e2
        have e3 : q = v.1 := qn_inj (by omega) (by have := hh v hmem.2; omega) e2
        have e4 : v = (q, v.2) := by rw [e3]
        exact ⟨ch_cut _ hC (e1 ▸ hmem.1) hm, ch_cut _ hC (e4 ▸ hmem.2) hqm⟩
      rw [show ch_hd ((q, d) :: suf) = nI q from rfl]
      refine br_f (nI_pos (by omega)) ⟨hv, hvt, ?_⟩
      rw [nI_clamp (n := p) (by omega), nI_clamp (n := t) (by omega), nI_clamp (n := q) (by omega), hlt, hqt, q1, q2]
      refine pk_eq a (L t) (fun ea => ⟨vp_in_nI hq12 (by omega), hvt, ?_⟩) (fun ea => stale fun u v huv hu hk => ?_)
      rotate_left
      · obtain ⟨x1, x2⟩ := huniq u v huv hu
        have := (hmk.2.1 u.2 v.2 (by omega)).2.2.1
        rw [hk, x1] at this; exact ea this.symm
      refine pk_eq d (R t) (fun ed => ⟨vp_in_nI hq12 (by omega), ?_⟩) (fun ed => stale fun u v huv hu hk => ?_)
      rotate_left
      · obtain ⟨x1, x2⟩ := huniq u v huv hu
        have := (hmk.2.1 u.2 v.2 (by omega)).2.2.2
        rw [hk, x2] at this; exact ed this.symm
      obtain ⟨d1, d2, d3, d4, d5, d6⟩ := c6
      have d1 : p + 1 ≤ q := d1
      have d5 : a_linkedNext q = ch_hd suf := d5
      have d6 : ch_C a_linkedToken a_linkedNext a_linkedBefore 12 (nI q) (q + 1) suf := d6
      rw [d5]
      refine nm_e ⟨hv, nm_e ⟨vp_in_nI hq12 (by omega), nm_e ⟨hv, nm_e ?_⟩⟩⟩
      -- the joined chain
      have main : ∀ lb', (suf = [] → lb' = a_linkedBefore) → (∀ s y ys, suf = (s, y) :: ys → lb' = upd a_linkedBefore s (nI p)) → wX_joinLinked_98 post (nI p) f_words f_isMerged f_tokens f_hasTree f_nodes f_textLength f_resultSize f_rowLength f_partCount (nI n) f_banned a_counts a_lengths a_letters a_tokenAt a_nextAt a_beforeAt a_frequencies a_lefts a_rights a_prices a_spellLength a_spelling a_made a_below a_endsHere a_nextSame a_text a_result a_row a_part a_queueToken a_queuePlace (upd (upd a_linkedToken p (nI t)) q (-1)) (upd a_linkedNext p (ch_hd suf)) lb' a_bestCount a_bestPrice a_bestTokens a_bestLast a_bestFrom a_ways a_one a_two := by
        intro lb' z0 z1
        obtain ⟨j1, j2, j3, j4, j5, j6, j7⟩ := ch_join (t := t) l5' z0 z1
        have hC' := l6 _ _ _ ((p, t) :: suf) rfl (fun j hj => ⟨(pk_un (by omega)).trans (j2 j hj).1, (j2 j hj).2.1, (j2 j hj).2.2⟩) j7
        have hb : lb' p = b' := j7.2.2.2.1
        have hB' : ∀ z ∈ pre ++ (p, t) :: suf, z.2 < 20 ∧ z.1 < n0 := by
          intro z hz
          rcases List.mem_append.mp hz with h | h
          · exact hB z (List.mem_append_left _ h)
          · rcases List.mem_cons.mp h with h | h
            · rw [h]; exact ⟨by show t < 20; omega, hp⟩
            · exact hB z (List.mem_append_right _ (List.mem_cons_of_mem _ (List.mem_cons_of_mem _ h)))
        have hdead' : ∀ p', p' < n0 → (∀ a, (p', a) ∉ pre ++ (p, t) :: suf) → upd (upd a_linkedToken p (nI t)) q (-1) p' = -1 := by
          intro p' hp' hno
          by_cases e1 : p' = q
          · rw [e1]; exact pk_us
          · have e2 : p' ≠ p := fun e => hno t (by rw [e]; simp)
            rw [pk_un e1, pk_un e2]
            refine hdead p' hp' fun a' ha' => ?_
            rcases List.mem_append.mp ha' with h | h
            · exact hno a' (List.mem_append_left _ h)
            · rcases List.mem_cons.mp h with h | h
              · exact e2 (congrArg Prod.fst h)
              · rcases List.mem_cons.mp h with h | h
                · exact e1 (congrArg Prod.fst h)
                · exact hno a' (List.mem_append_right _ (List.mem_cons_of_mem _ h))
        have hgoal' : mg_all L R (T - 6) 6 (ch_tk (pre ++ (p, t) :: suf)) = goal := by
          rw [← hgoal, ch_tk_app, ch_tk_app]
          show mg_all L R (T - 6) 6 (ch_tk pre ++ t :: ch_tk suf) = mg_all L R (T - 6) 6 (ch_tk pre ++ a :: d :: ch_tk suf)
          rw [ea, ed]
          have hin : ∀ u v, ch_ad (pre ++ (p, a) :: (q, d) :: suf) u v → ∀ s, 6 ≤ s → s < T → u.2 = L s → v.2 = R s → 16 * t + p ≤ 16 * s + u.1 := by
            intro u v huv s s1 s2 x1 x2
            have e := hmk.2.2 s s1 s2
            rw [← x1, ← x2] at e
            have := hmin u v huv (by omega)
            rw [e] at this; exact this
          refine mg_min (T := T) (fun s a b => ⟨(hL s a b).2.2.1, (hL s a b).2.2.2⟩) ht6 htT (ch_tk pre) (ch_tk suf) (fun s s1 s2 => ?_) ?_
          · refine Decidable.byContradiction fun hne => ?_
            have e : ch_tk pre ++ L t :: R t :: ch_tk suf = ch_tk (pre ++ (p, a) :: (q, d) :: suf) := by
              rw [ch_tk_app, ← ea, ← ed]; rfl
            rw [e] at hne
            obtain ⟨u, v, g1, g2, g3⟩ := ad_pc _ hne
            have := hin u v g1 s s1 (by omega) g2 g3
            have := (hh u (ad_mem _ g1).1).2.1
            omega
          · refine Decidable.byContradiction fun hne => ?_
            have e : ch_tk pre ++ [L t] = ch_tk (pre ++ [(p, a)]) := by
              rw [ch_tk_app, ← ea]; rfl
            rw [e] at hne
            obtain ⟨u, v, g1, g2, g3⟩ := ad_pc _ hne
            have g1' : ch_ad (pre ++ (p, a) :: (q, d) :: suf) u v := by
              have := ad_pre (B := (q, d) :: suf) _ g1
              rw [List.append_assoc] at this; exact this
            have y1 := hin u v g1' t ht6 htT g2 g3
            have y2 := (ad_C _ hC g1').2
            have y3 : v.1 ≤ p := by
              rcases List.mem_append.mp (ad_mem _ g1).2 with h | h
              · have := l4 v h; omega
              · rw [List.mem_singleton.mp h]; exact Nat.le_refl _
            omega
        have hhd' : ch_hd (pre ++ (p, t) :: suf) = h0 := by
          rw [← hhd]
          cases pre <;> rfl
        have hlen : (pre ++ (p, t) :: suf).length + 1 = (pre ++ (p, a) :: (q, d) :: suf).length := by simp; omega
        have hmt : (p, t) ∈ pre ++ (p, t) :: suf := by simp
        -- pairs of the joined chain: old ones are queued still
        have hold : ∀ u v, ch_ad (pre ++ (p, t) :: suf) u v → (∃ A, pre = A ++ [u]) ∨ u.1 = p ∨ (mk u.2 v.2 ≠ 0 → hp_in K n (16 * mk u.2 v.2 + u.1)) := by
          intro u v huv
          rcases ad_new huv with h | h | h | h
          · exact Or.inl h
          · exact Or.inr (Or.inl (by rw [h]))
          · refine Or.inr (Or.inr fun hne => ?_)
            rcases h1 u v (ad_pre _ h) hne with g | g
            · have k1 := l4 u (ad_mem _ h).1
              have k2 := (hh u (List.mem_append_left _ (ad_mem _ h).1)).2.1
              omega
            · exact g
          · refine Or.inr (Or.inr fun hne => ?_)
            rcases h1 u v (by
              have := ad_suf h (pre ++ [(p, a), (q, d)])
              rw [List.append_assoc] at this; exact this) hne with g | g
            · have k1 := j6 u (ad_mem _ h).1
              have k2 := (ch_hi _ d6 u (ad_mem _ h).1).2.1
              omega
            · exact g
        refine And.intro hv ?_
        rw [nI_clamp (n := p) (by omega), hb]
        -- the second enqueueing, behind whatever the first one did
        have second : ∀ (n1 : Nat) (K1 : Nat → Nat) (qt1 qp1 : Nat → Int32), n ≤ n1 → n1 ≤ n + 1 → hp_H K1 n1 → hq_R K1 n1 qt1 qp1 → (∀ v, hp_in K1 n1 v → 6 ≤ v / 16 ∧ v / 16 < T ∧ v % 16 < n0) → (∀ u v, ch_ad (pre ++ (p, t) :: suf) u v → u.1 ≠ p → mk u.2 v.2 ≠ 0 → hp_in K1 n1 (16 * mk u.2 v.2 + u.1)) →
            wpX_enqueue (fun u => post u) (f_words, f_isMerged, f_tokens, f_hasTree, f_nodes, f_textLength, f_resultSize, f_rowLength, f_partCount, nI n1, f_banned, a_counts, a_lengths, a_letters, a_tokenAt, a_nextAt, a_beforeAt, a_frequencies, a_lefts, a_rights, a_prices, a_spellLength, a_spelling, a_made, a_below, a_endsHere, a_nextSame, a_text, a_result, a_row, a_part, qt1, qp1, upd (upd a_linkedToken p (nI t)) q (-1), upd a_linkedNext p (ch_hd suf), lb', a_bestCount, a_bestPrice, a_bestTokens, a_bestLast, a_bestFrom, a_ways, a_one, a_two) (nI p) := by
          intro n1 K1 qt1 qp1 m1 m2 m3 m4 m5 m6
          refine xe_any rfl hT hmk hC' (fun z hz => (hB' z hz).1) hmt rfl (by omega) m3 m4 fun n2 K2 qt2 qp2 r1 r2 r3 r4 r5 r6 r7 => ?_
          refine H n2 K2 (pre ++ (p, t) :: suf) _ _ _ _ _ ⟨hC', hB', hdead', r3, r4, fun v hv' => ?_, fun u v huv hne => ?_, hgoal', by omega, hhd'⟩ (by omega)
          · rcases r6 v hv' with h | h
            · exact m5 v h
            · exact ⟨h.1, h.2.1, by omega⟩
          · by_cases e : u.1 = p
            · have := r7 u v huv e hne
              rw [e]; exact this
            · exact r5 _ (m6 u v huv e hne)
        rcases List.eq_nil_or_concat pre with e | ⟨A, ⟨s0, b0⟩, e⟩
        · rw [l2 e]
          refine br_t qn_n1 (second n K _ _ (Nat.le_refl _) (by omega) hH hR h2 fun u v huv hu hne => ?_)
          rcases hold u v huv with ⟨A, h⟩ | h | h
          · rw [e] at h; simp at h
          · exact absurd h hu
          · exact h hne
        · rw [List.concat_eq_append] at e
          obtain ⟨g1, g2, g3, g4⟩ := l3 (s0, b0) (by rw [e, List.getLast?_append]; rfl)
          have g1 : b' = nI s0 := g1
          have hms : (s0, b0) ∈ pre ++ (p, t) :: suf := by rw [e]; simp
          refine xe_any (K := K) g1 hT hmk hC' (fun z hz => (hB' z hz).1) hms rfl (by omega) hH hR fun n1 K1 qt1 qp1 r1 r2 r3 r4 r5 r6 r7 => ?_
          refine second n1 K1 qt1 qp1 r1 r2 r3 r4 (fun v hv' => ?_) fun u v huv hu hne => ?_
          · rcases r6 v hv' with h | h
            · exact h2 v h
            · have h9 := (hB' _ hms).2
              have h9 : s0 < n0 := h9
              exact ⟨h.1, h.2.1, by omega⟩
          · rcases hold u v huv with ⟨A', h⟩ | h | h
            · have : u = (s0, b0) := by
                rw [e] at h
                have := (List.append_inj' h rfl).2
                simpa using this.symm
              have hus : u.1 = s0 := by rw [this]
              have := r7 u v huv hus hne
              rw [hus]; exact this
            · exact absurd h hu
            · exact r5 _ (h hne)
      cases hsuf : suf with
      | nil =>
        subst hsuf
        exact br_t qn_n1 (main a_linkedBefore (fun _ => rfl) (fun s y ys e => nomatch e))
      | cons z ys =>
        obtain ⟨s, y⟩ := z
        subst hsuf
        have hs12 := (ch_hi _ d6 (s, y) List.mem_cons_self).2.1
        have hs12 : s < 12 := hs12
        have hM := main (upd a_linkedBefore s (nI p)) (fun e => nomatch e) (fun s' y' ys' e => by cases e; rfl)
        rw [show ch_hd ((s, y) :: ys) = nI s from rfl] at hM ⊢
        exact br_f (nI_pos (by omega)) ⟨vp_in_nI hs12 (by omega), nm_r (e' := upd a_linkedBefore s (nI p)) (by rw [nI_clamp (by omega)]) hM⟩
  · have hd : a_linkedToken p = -1 := hdead p hp fun a ha => hex ⟨a, ha⟩
    rw [hd]
    refine br_f qn_n0 (br_t qn_n1 (stale fun u v huv hu _ => ?_))
    refine hex ⟨u.2, ?_⟩
    have : u = (p, u.2) := by rw [← hu]
    rw [← this]; exact (ad_mem _ huv).1
end XR
end
section
/-! the component: merging a row, all of it -/
section XMR
variable {f_words f_isMerged f_tokens f_hasTree f_nodes f_textLength f_resultSize f_rowLength f_banned : Int32} {a_counts a_lengths a_letters a_tokenAt a_nextAt a_beforeAt a_frequencies a_lefts a_rights a_prices a_spellLength a_spelling a_made a_below a_endsHere a_nextSame a_text a_result a_row a_bestCount a_bestPrice a_bestTokens a_bestLast a_bestFrom a_ways a_one a_two : Nat → Int32} {post : SX → Prop}
theorem xr_138 {f_queued : Int32} {a_queueToken a_queuePlace a_linkedToken a_linkedNext a_linkedBefore : Nat → Int32} : ∀ (n : Nat) (xs : List (Nat × Nat)) (b : Int32) (lo : Nat) (o : List Nat) (f_partCount : Int32) (a_part : Nat → Int32), xs.length < n → ch_C a_linkedToken a_linkedNext a_linkedBefore 12 b lo xs → o.length + xs.length ≤ 12 → f_partCount = nI o.length → ly a_part 0 o → (∀ b_part, ly b_part 0 (o ++ ch_tk xs) → post (f_words, f_isMerged, f_tokens, f_hasTree, f_nodes, f_textLength, f_resultSize, f_rowLength, nI (o ++ ch_tk xs).length, f_queued, f_banned, a_counts, a_lengths, a_letters, a_tokenAt, a_nextAt, a_beforeAt, a_frequencies, a_lefts, a_rights, a_prices, a_spellLength, a_spelling, a_made, a_below, a_endsHere, a_nextSame, a_text, a_result, a_row, b_part, a_queueToken, a_queuePlace, a_linkedToken, a_linkedNext, a_linkedBefore, a_bestCount, a_bestPrice, a_bestTokens, a_bestLast, a_bestFrom, a_ways, a_one, a_two)) → wX_mergeRow_138 post n (ch_hd xs) f_words f_isMerged f_tokens f_hasTree f_nodes f_textLength f_resultSize f_rowLength f_partCount f_queued f_banned a_counts a_lengths a_letters a_tokenAt a_nextAt a_beforeAt a_frequencies a_lefts a_rights a_prices a_spellLength a_spelling a_made a_below a_endsHere a_nextSame a_text a_result a_row a_part a_queueToken a_queuePlace a_linkedToken a_linkedNext a_linkedBefore a_bestCount a_bestPrice a_bestTokens a_bestLast a_bestFrom a_ways a_one a_two := by
  intro n
  induction n with
  | zero => intro xs b lo o f_partCount a_part h; omega
  | succ n ih =>
    intro xs b lo o f_partCount a_part hn hC hl hpc hly H
    cases xs with
    | nil =>
      have e : o ++ ch_tk [] = o := List.append_nil o
      rw [e] at H
      have := H a_part hly
      rw [← hpc] at this
      exact br_t qn_n1 this
    | cons z xs =>
      obtain ⟨p, a⟩ := z
      obtain ⟨c1, c2, c3, c4, c5, c6⟩ := hC
      have c2 : p < 12 := c2
      have c3 : a_linkedToken p = nI a := c3
      have c5 : a_linkedNext p = ch_hd xs := c5
      have hl' : o.length + (xs.length + 1) ≤ 12 := hl
      rw [show ch_hd ((p, a) :: xs) = nI p from rfl]
      refine br_f (nI_pos (by omega)) ⟨vp_in_nI c2 (by omega), ?_⟩
      rw [nI_clamp (n := p) (by omega), c3]
      refine xg_add hpc (by omega) (And.intro (vp_in_nI c2 (by omega)) (nm_r (e' := ch_hd xs) c5 ?_))
      refine ih xs _ _ (o ++ [a]) (nI (o.length + 1)) (upd a_part o.length (nI a)) (by simp at hn; omega) c6 (by simp; omega) (by simp) (ly_sn (ly_up hly (by omega)) (by rw [Nat.zero_add, pk_us])) fun b_part hb => ?_
      have e : o ++ [a] ++ ch_tk xs = o ++ ch_tk ((p, a) :: xs) := by rw [List.append_assoc]; rfl
      rw [e] at hb ⊢
      exact H b_part hb
theorem xr_86 {T n0 : Nat} {L R : Nat → Nat} {mk : Nat → Nat → Nat} {goal : List Nat} {f_partCount : Int32} {a_part : Nat → Int32} (hT : T ≤ 20) (hn0 : n0 ≤ 12) (hL : yt_L T L R a_lefts a_rights) (hmk : md_M T L R mk a_made) (hs : f_rowLength = nI n0)
    (H : ∀ (f_queued : Int32) (a_queueToken a_queuePlace a_linkedToken a_linkedNext a_linkedBefore b_part : Nat → Int32), ly b_part 0 goal → goal.length ≤ 12 → post (f_words, f_isMerged, f_tokens, f_hasTree, f_nodes, f_textLength, f_resultSize, f_rowLength, nI goal.length, f_queued, f_banned, a_counts, a_lengths, a_letters, a_tokenAt, a_nextAt, a_beforeAt, a_frequencies, a_lefts, a_rights, a_prices, a_spellLength, a_spelling, a_made, a_below, a_endsHere, a_nextSame, a_text, a_result, a_row, b_part, a_queueToken, a_queuePlace, a_linkedToken, a_linkedNext, a_linkedBefore, a_bestCount, a_bestPrice, a_bestTokens, a_bestLast, a_bestFrom, a_ways, a_one, a_two)) :
    ∀ (fu n : Nat) (K : Nat → Nat) (xs : List (Nat × Nat)) (a_queueToken a_queuePlace a_linkedToken a_linkedNext a_linkedBefore : Nat → Int32), n + 3 * xs.length < fu → mr_I T L R mk n0 goal (if n0 = 0 then -1 else nI 0) xs K n a_linkedToken a_linkedNext a_linkedBefore a_queueToken a_queuePlace → wX_mergeRow_86 post fu f_words f_isMerged f_tokens f_hasTree f_nodes f_textLength f_resultSize f_rowLength f_partCount (nI n) f_banned a_counts a_lengths a_letters a_tokenAt a_nextAt a_beforeAt a_frequencies a_lefts a_rights a_prices a_spellLength a_spelling a_made a_below a_endsHere a_nextSame a_text a_result a_row a_part a_queueToken a_queuePlace a_linkedToken a_linkedNext a_linkedBefore a_bestCount a_bestPrice a_bestTokens a_bestLast a_bestFrom a_ways a_one a_two := by
  intro fu
  induction fu with
  | zero => intro n K xs qt qp lt ln lb h; omega
  | succ fu ih =>
    intro n K xs qt qp lt ln lb hf hI
    obtain ⟨i1, i2, i3, i4, i5, i6, i7, i8, i9, i10⟩ := hI
    cases n with
    | zero =>
      have hno : ∀ u v, ch_ad xs u v → mk u.2 v.2 = 0 := fun u v huv => Decidable.byContradiction fun hne => by
        obtain ⟨j, j1, -⟩ := i7 u v huv hne
        omega
      have e : ch_tk xs = goal := by
        rw [← i8]
        refine (mg_all_id (T - 6) 6 _ fun s s1 s2 => Decidable.byContradiction fun hne => ?_).symm
        obtain ⟨u, v, g1, g2, g3⟩ := ad_pc _ hne
        have h0 := hno u v g1
        rw [g2, g3, hmk.2.2 s s1 (by omega)] at h0
        omega
      have hlen := ch_len _ (by omega) i1
      have hel : goal.length = xs.length := by rw [← e]; simp [ch_tk]
      have q : ∃ n138, wX_mergeRow_138 post n138 (ch_hd xs) f_words f_isMerged f_tokens f_hasTree f_nodes f_textLength f_resultSize f_rowLength 0 (nI 0) f_banned a_counts a_lengths a_letters a_tokenAt a_nextAt a_beforeAt a_frequencies a_lefts a_rights a_prices a_spellLength a_spelling a_made a_below a_endsHere a_nextSame a_text a_result a_row a_part qt qp lt ln lb a_bestCount a_bestPrice a_bestTokens a_bestLast a_bestFrom a_ways a_one a_two := ⟨xs.length + 1, xr_138 (xs.length + 1) xs (-1) 0 [] 0 a_part (by omega) i1 (by simp; omega) rfl ly_nil fun b_part hb => by
        rw [List.nil_append, e] at hb ⊢
        exact H _ _ _ _ _ _ b_part hb (by omega)⟩
      rw [i10] at q
      refine br_t (by decide) ?_
      refine pk_le n0 0 (fun h => ?_) (fun h => ?_) hs
      · rw [if_pos (by omega)] at q; exact q
      · rw [if_neg (by omega)] at q; exact q
    | succ m =>
      obtain ⟨r1, r2, r3⟩ := i5 0 (by omega)
      obtain ⟨v1, v2, v3⟩ := i6 (K 0) ⟨0, by omega, rfl⟩
      refine br_f (nI_nle (by omega) (by omega)) (nm_r r1 (nm_r r2 ?_))
      refine xq_take rfl (by omega) i4 i5 fun K' bt bp g1 g2 g3 g4 => ?_
      have hk0 : 16 * (K 0 / 16) + K 0 % 16 = K 0 := by omega
      refine xe_join (K := K') (t := K 0 / 16) (p := K 0 % 16) (xs := xs) hT hn0 hL hmk v1 v2 v3 rfl i1 i2 i3 g1 g2 (fun v h => i6 v (g4 v h)) (fun u v huv hne => ?_) (fun u v huv hne => ?_) i8 i9 i10 fun n' K'' ys bt' bp' lt' ln' lb' j1 j2 => ih n' K'' ys bt' bp' lt' ln' lb' (by omega) j1
      · rw [hk0]; exact g3 _ (i7 u v huv hne)
      · rw [hk0]
        obtain ⟨j, j1, j2⟩ := i7 u v huv hne
        rw [← j2]; exact hp_min i4 j j (Nat.le_refl _) j1
theorem ad_mk {u v : Nat × Nat} : ∀ (l : List Nat) (p : Nat), ch_ad (ch_mk p l) u v → u.1 + 1 < p + l.length
  | [], _, h => absurd h id
  | [_], _, h => absurd h id
  | a :: b :: l, p, h => by
    have h : ((p, a) = u ∧ (p + 1, b) = v) ∨ ch_ad (ch_mk (p + 1) (b :: l)) u v := h
    rcases h with ⟨rfl, rfl⟩ | h
    · simp <;> omega
    · have := ad_mk (b :: l) (p + 1) h
      simp at this ⊢; omega
theorem mk_mem : ∀ (l : List Nat) (p i : Nat), i < l.length → (p + i, l.getD i 0) ∈ ch_mk p l
  | [], _, _, h => by simp at h
  | a :: l, p, 0, _ => List.mem_cons_self
  | a :: l, p, i + 1, h => by
    have := mk_mem l (p + 1) i (by simpa using h)
    rw [show p + 1 + i = p + (i + 1) from by omega] at this
    rw [List.getD_cons_succ]
    exact List.mem_cons_of_mem _ this
theorem mk_fst : ∀ (l : List Nat) (p : Nat), ∀ q ∈ ch_mk p l, q.1 < p + l.length ∧ q.2 ∈ l
  | [], _, q, h => absurd h List.not_mem_nil
  | a :: l, p, q, h => by
    rcases List.mem_cons.mp h with rfl | h
    · exact ⟨by simp, List.mem_cons_self⟩
    · have := mk_fst l (p + 1) q h
      exact ⟨by simp; omega, List.mem_cons_of_mem _ this.2⟩
theorem mk_len : ∀ (l : List Nat) (p : Nat), (ch_mk p l).length = l.length
  | [], _ => rfl
  | a :: l, p => by
    show (ch_mk (p + 1) l).length + 1 = l.length + 1
    rw [mk_len l (p + 1)]
theorem xr_67 {T : Nat} {L R : Nat → Nat} {mk : Nat → Nat → Nat} {row : List Nat} {f_partCount : Int32} {a_part a_linkedToken a_linkedNext a_linkedBefore : Nat → Int32} (h6 : 6 ≤ T) (hT : T ≤ 20) (hrl : row.length ≤ 12) (hB : ∀ c ∈ row, c < 6) (hL : yt_L T L R a_lefts a_rights) (hmk : md_M T L R mk a_made) (hs : f_rowLength = nI row.length) (hC : ch_C a_linkedToken a_linkedNext a_linkedBefore 12 (-1) 0 (ch_mk 0 row))
    (H : ∀ (f_queued : Int32) (a_queueToken a_queuePlace a_linkedToken a_linkedNext a_linkedBefore b_part : Nat → Int32), ly b_part 0 (mg_all L R (T - 6) 6 row) → (mg_all L R (T - 6) 6 row).length ≤ 12 → post (f_words, f_isMerged, f_tokens, f_hasTree, f_nodes, f_textLength, f_resultSize, f_rowLength, nI (mg_all L R (T - 6) 6 row).length, f_queued, f_banned, a_counts, a_lengths, a_letters, a_tokenAt, a_nextAt, a_beforeAt, a_frequencies, a_lefts, a_rights, a_prices, a_spellLength, a_spelling, a_made, a_below, a_endsHere, a_nextSame, a_text, a_result, a_row, b_part, a_queueToken, a_queuePlace, a_linkedToken, a_linkedNext, a_linkedBefore, a_bestCount, a_bestPrice, a_bestTokens, a_bestLast, a_bestFrom, a_ways, a_one, a_two)) :
    ∀ (d i n : Nat) (K : Nat → Nat) (a_queueToken a_queuePlace : Nat → Int32), i + d = row.length → n ≤ i → hp_H K n → hq_R K n a_queueToken a_queuePlace → (∀ v, hp_in K n v → 6 ≤ v / 16 ∧ v / 16 < T ∧ v % 16 < row.length) → (∀ u v, ch_ad (ch_mk 0 row) u v → u.1 < i → mk u.2 v.2 ≠ 0 → hp_in K n (16 * mk u.2 v.2 + u.1)) → wX_mergeRow_67 post (d + 1) (nI i) f_words f_isMerged f_tokens f_hasTree f_nodes f_textLength f_resultSize f_rowLength f_partCount (nI n) f_banned a_counts a_lengths a_letters a_tokenAt a_nextAt a_beforeAt a_frequencies a_lefts a_rights a_prices a_spellLength a_spelling a_made a_below a_endsHere a_nextSame a_text a_result a_row a_part a_queueToken a_queuePlace a_linkedToken a_linkedNext a_linkedBefore a_bestCount a_bestPrice a_bestTokens a_bestLast a_bestFrom a_ways a_one a_two := by
  have hB20 : ∀ q ∈ ch_mk 0 row, q.2 < 20 := fun q hq => by have := hB _ (mk_fst row 0 q hq).2; omega
  intro d
  induction d with
  | zero =>
    intro i n K qt qp hd hn g1 g2 g3 g4
    have e : i = row.length := by omega
    subst e
    refine br_t (by rw [hs]; exact nI_le (Nat.le_refl _) (by omega)) ⟨n + 3 * row.length + 1, ?_⟩
    refine xr_86 hT hrl hL hmk hs H _ n K (ch_mk 0 row) qt qp _ _ _ (by rw [mk_len]; omega) ⟨hC, fun q hq => ⟨hB20 q hq, by have := (mk_fst row 0 q hq).1; omega⟩, fun p hp hno => ?_, g1, g2, g3, fun u v huv hne => g4 u v huv ?_ hne, by rw [ch_mk_tk], by rw [mk_len]; omega, ch_mk_hd⟩
    · have := mk_mem row 0 p hp
      rw [Nat.zero_add] at this
      exact absurd this (hno _)
    · have := ad_mk row 0 huv; omega
  | succ d ih =>
    intro i n K qt qp hd hn g1 g2 g3 g4
    have hm := mk_mem row 0 i (by omega)
    rw [Nat.zero_add] at hm
    refine br_f (by rw [hs]; exact nI_ge (by omega) (by omega)) ?_
    refine xe_any (K := K) rfl hT hmk hC hB20 hm rfl (by omega) g1 g2 fun n' K' bt bp r1 r2 r3 r4 r5 r6 r7 => nm_r (nI_1 i) ?_
    refine ih (i + 1) n' K' bt bp (by omega) (by omega) r3 r4 (fun v hv => ?_) (fun u v huv hu hne => ?_)
    · rcases r6 v hv with h | h
      · exact g3 v h
      · exact ⟨h.1, h.2.1, by omega⟩
    · by_cases e : u.1 = i
      · have := r7 u v huv e hne
        rw [e]; exact this
      · exact r5 _ (g4 u v huv (by omega) hne)
theorem xr_7 {T : Nat} {L R : Nat → Nat} {mk : Nat → Nat → Nat} {row : List Nat} {f_partCount : Int32} {a_part a_queueToken a_queuePlace : Nat → Int32} (h6 : 6 ≤ T) (hT : T ≤ 20) (hrl : row.length ≤ 12) (hr : ly a_row 0 row) (hB : ∀ c ∈ row, c < 6) (hL : yt_L T L R a_lefts a_rights) (hmk : md_M T L R mk a_made) (hs : f_rowLength = nI row.length)
    (H : ∀ (f_queued : Int32) (a_queueToken a_queuePlace a_linkedToken a_linkedNext a_linkedBefore b_part : Nat → Int32), ly b_part 0 (mg_all L R (T - 6) 6 row) → (mg_all L R (T - 6) 6 row).length ≤ 12 → post (f_words, f_isMerged, f_tokens, f_hasTree, f_nodes, f_textLength, f_resultSize, f_rowLength, nI (mg_all L R (T - 6) 6 row).length, f_queued, f_banned, a_counts, a_lengths, a_letters, a_tokenAt, a_nextAt, a_beforeAt, a_frequencies, a_lefts, a_rights, a_prices, a_spellLength, a_spelling, a_made, a_below, a_endsHere, a_nextSame, a_text, a_result, a_row, b_part, a_queueToken, a_queuePlace, a_linkedToken, a_linkedNext, a_linkedBefore, a_bestCount, a_bestPrice, a_bestTokens, a_bestLast, a_bestFrom, a_ways, a_one, a_two)) :
    ∀ (d i : Nat) (a_linkedToken a_linkedNext a_linkedBefore : Nat → Int32), i + d = row.length → (∀ j, j < i → a_linkedToken (0 + j) = nI (row.getD j 0) ∧ a_linkedNext (0 + j) = (if j + 1 < row.length then nI (0 + j + 1) else -1) ∧ a_linkedBefore (0 + j) = (if j = 0 then -1 else nI (0 + j - 1))) → wX_mergeRow_7 post f_words f_isMerged f_tokens f_hasTree f_nodes f_textLength f_resultSize f_rowLength f_partCount 0 f_banned (d + 1) (nI i) a_counts a_lengths a_letters a_tokenAt a_nextAt a_beforeAt a_frequencies a_lefts a_rights a_prices a_spellLength a_spelling a_made a_below a_endsHere a_nextSame a_text a_result a_row a_part a_queueToken a_queuePlace a_linkedToken a_linkedNext a_linkedBefore a_bestCount a_bestPrice a_bestTokens a_bestLast a_bestFrom a_ways a_one a_two := by
  intro d
  induction d with
  | zero =>
    intro i lt ln lb hd hI
    have e : i = row.length := by omega
    subst e
    refine br_t (by rw [hs]; exact nI_le (Nat.le_refl _) (by omega)) ⟨row.length + 1, ?_⟩
    exact xr_67 h6 hT hrl hB hL hmk hs (ch_mk_C row 0 (-1) (by omega) hI) H row.length 0 0 (fun _ => 0) _ _ (by omega) (Nat.le_refl _) (fun j j1 j2 => by omega) (fun j hj => by omega) (fun v hv => by obtain ⟨j, j1, -⟩ := hv; omega) (fun u v _ hu => by omega)
  | succ d ih =>
    intro i lt ln lb hd hI
    have hri := ly_at0 hr (k := i) (by omega)
    have hv : vp_in (nI i) 12 := vp_in_nI (by omega) (by omega)
    have go : ∀ z0 : Int32, z0 = (if i + 1 < row.length then nI (0 + i + 1) else -1) → wX_mergeRow_49 post (wX_mergeRow_7 post f_words f_isMerged f_tokens f_hasTree f_nodes f_textLength f_resultSize f_rowLength f_partCount 0 f_banned (d + 1)) (nI i) z0 (nI i) f_words f_isMerged f_tokens f_hasTree f_nodes f_textLength f_resultSize f_rowLength f_partCount 0 f_banned a_counts a_lengths a_letters a_tokenAt a_nextAt a_beforeAt a_frequencies a_lefts a_rights a_prices a_spellLength a_spelling a_made a_below a_endsHere a_nextSame a_text a_result a_row a_part a_queueToken a_queuePlace (upd lt i (nI (row.getD i 0))) ln lb a_bestCount a_bestPrice a_bestTokens a_bestLast a_bestFrom a_ways a_one a_two := by
      intro z0 hz
      refine And.intro hv (nm_r (e' := upd ln i z0) (by rw [nI_clamp (by omega)]) ⟨hv, nm_r (e' := upd lb i (if i = 0 then -1 else nI (0 + i - 1))) ?_ (nm_r (nI_1 i) (ih (i + 1) _ _ _ (by omega) fun j hj => ?_))⟩)
      · rw [nI_clamp (by omega)]
        by_cases e : i = 0
        · subst e; rw [if_pos rfl]; rfl
        · rw [if_neg e, qn_s1 (by omega), Nat.zero_add]
      · by_cases e : j = i
        · subst e
          rw [Nat.zero_add, pk_us, pk_us, pk_us]
          rw [Nat.zero_add] at hz
          exact ⟨rfl, hz, rfl⟩
        · rw [pk_un (by omega), pk_un (by omega), pk_un (by omega)]
          exact hI j (by omega)
    refine br_f (by rw [hs]; exact nI_ge (by omega) (by omega)) ⟨hv, hv, nm_r (e' := upd lt i (nI (row.getD i 0))) (by rw [nI_clamp (by omega), hri]) ?_⟩
    rw [nI_1]
    exact pk_le row.length (i + 1) (fun h => go _ (by rw [if_neg (by omega)])) (fun h => go _ (by rw [if_pos (by omega), Nat.zero_add])) hs
theorem xr_merge {T : Nat} {L R : Nat → Nat} {mk : Nat → Nat → Nat} {row : List Nat} {f_partCount f_queued : Int32} {a_part a_queueToken a_queuePlace a_linkedToken a_linkedNext a_linkedBefore : Nat → Int32} (h6 : 6 ≤ T) (hT : T ≤ 20) (hrl : row.length ≤ 12) (hr : ly a_row 0 row) (hB : ∀ c ∈ row, c < 6) (hL : yt_L T L R a_lefts a_rights) (hmk : md_M T L R mk a_made) (hs : f_rowLength = nI row.length)
    (H : ∀ (f_queued : Int32) (a_queueToken a_queuePlace a_linkedToken a_linkedNext a_linkedBefore b_part : Nat → Int32), ly b_part 0 (mg_all L R (T - 6) 6 row) → (mg_all L R (T - 6) 6 row).length ≤ 12 → post (f_words, f_isMerged, f_tokens, f_hasTree, f_nodes, f_textLength, f_resultSize, f_rowLength, nI (mg_all L R (T - 6) 6 row).length, f_queued, f_banned, a_counts, a_lengths, a_letters, a_tokenAt, a_nextAt, a_beforeAt, a_frequencies, a_lefts, a_rights, a_prices, a_spellLength, a_spelling, a_made, a_below, a_endsHere, a_nextSame, a_text, a_result, a_row, b_part, a_queueToken, a_queuePlace, a_linkedToken, a_linkedNext, a_linkedBefore, a_bestCount, a_bestPrice, a_bestTokens, a_bestLast, a_bestFrom, a_ways, a_one, a_two)) : wpX_mergeRow post (f_words, f_isMerged, f_tokens, f_hasTree, f_nodes, f_textLength, f_resultSize, f_rowLength, f_partCount, f_queued, f_banned, a_counts, a_lengths, a_letters, a_tokenAt, a_nextAt, a_beforeAt, a_frequencies, a_lefts, a_rights, a_prices, a_spellLength, a_spelling, a_made, a_below, a_endsHere, a_nextSame, a_text, a_result, a_row, a_part, a_queueToken, a_queuePlace, a_linkedToken, a_linkedNext, a_linkedBefore, a_bestCount, a_bestPrice, a_bestTokens, a_bestLast, a_bestFrom, a_ways, a_one, a_two) :=
  Exists.intro (row.length + 1) (xr_7 h6 hT hrl hr hB hL hmk hs H row.length 0 a_linkedToken a_linkedNext a_linkedBefore (by omega) (fun j h => by omega))
end XMR
end
section
/-! the component: comparing splits that are kept as chains -/
def bd_D (bl bf : Nat → Int32) (bnd : Nat) : Nat → List Nat → Prop
  | _, [] => True
  | s, t :: rs => s < 78 ∧ bl s = nI t ∧ ∃ s', bf s = nI s' ∧ s' < bnd ∧ bd_D bl bf bnd s' rs
theorem bd_D_fr {bl bf bl' bf' : Nat → Int32} {bnd : Nat} (h : ∀ j, j < bnd → bl' j = bl j ∧ bf' j = bf j) : ∀ (rs : List Nat) (s : Nat), bl' s = bl s ∧ bf' s = bf s → bd_D bl bf bnd s rs → bd_D bl' bf' bnd s rs
  | [], _, _, _ => trivial
  | t :: rs, s, hs, ⟨h1, h2, s', h3, h4, h5⟩ => ⟨h1, hs.1.trans h2, s', hs.2.trans h3, h4, bd_D_fr h rs s' (h s' h4) h5⟩
theorem bd_D_up {bl bf : Nat → Int32} {b c : Nat} (h : b ≤ c) : ∀ (rs : List Nat) (s : Nat), bd_D bl bf b s rs → bd_D bl bf c s rs
  | [], _, _ => trivial
  | _ :: rs, _, ⟨h1, h2, s', h3, h4, h5⟩ => ⟨h1, h2, s', h3, by omega, bd_D_up h rs s' h5⟩
def bd_P (pr : Nat → Nat) (bnd : Nat) (bp bt bl bf : Nat → Int32) (s : Nat) (q : List Nat) : Prop :=
  bp s = nI (sq_pz pr q) ∧ bt s = nI q.length ∧ bd_D bl bf bnd s q.reverse ∧ q.length ≤ 12 ∧ sq_pz pr q < 100000 ∧ ∀ t ∈ q, t < 20
theorem qb_t : qb true = 1 := rfl
theorem qb_f : qb false = 0 := rfl
section XC
variable {f_words f_isMerged f_tokens f_hasTree f_nodes f_textLength f_resultSize f_rowLength f_partCount f_queued f_banned : Int32} {a_counts a_lengths a_letters a_tokenAt a_nextAt a_beforeAt a_frequencies a_lefts a_rights a_prices a_spellLength a_spelling a_made a_below a_endsHere a_nextSame a_text a_result a_row a_part a_queueToken a_queuePlace a_linkedToken a_linkedNext a_linkedBefore a_bestCount a_bestPrice a_bestTokens a_bestLast a_bestFrom a_ways : Nat → Int32} {post : Int32 → SX → Prop}
theorem xc_146 {m : Nat} {a_one a_two : Nat → Int32} (hm : m ≤ 12) : ∀ (cs ds : List Nat) (j : Nat), ly a_one j cs → ly a_two j ds → cs.length = ds.length → j + cs.length = m → (∀ t ∈ cs, t < 20) → (∀ t ∈ ds, t < 20) → post (qb (sq_lx cs ds)) (f_words, f_isMerged, f_tokens, f_hasTree, f_nodes, f_textLength, f_resultSize, f_rowLength, f_partCount, f_queued, f_banned, a_counts, a_lengths, a_letters, a_tokenAt, a_nextAt, a_beforeAt, a_frequencies, a_lefts, a_rights, a_prices, a_spellLength, a_spelling, a_made, a_below, a_endsHere, a_nextSame, a_text, a_result, a_row, a_part, a_queueToken, a_queuePlace, a_linkedToken, a_linkedNext, a_linkedBefore, a_bestCount, a_bestPrice, a_bestTokens, a_bestLast, a_bestFrom, a_ways, a_one, a_two) → wX_comesBefore_146 post (nI m) f_words f_isMerged f_tokens f_hasTree f_nodes f_textLength f_resultSize f_rowLength f_partCount f_queued f_banned a_counts a_lengths a_letters a_tokenAt a_nextAt a_beforeAt a_frequencies a_lefts a_rights a_prices a_spellLength a_spelling a_made a_below a_endsHere a_nextSame a_text a_result a_row a_part a_queueToken a_queuePlace a_linkedToken a_linkedNext a_linkedBefore a_bestCount a_bestPrice a_bestTokens a_bestLast a_bestFrom a_ways a_one a_two (cs.length + 1) (nI j)
  | [], [], j, _, _, _, hj, _, _, H => br_t (nI_le (by simp at hj; omega) (by simp at hj; omega)) H
  | [], _ :: _, _, _, _, h, _, _, _, _ => nomatch h
  | _ :: _, [], _, _, _, h, _, _, _, _ => nomatch h
  | a :: cs, b :: ds, j, h1, h2, hl, hj, b1, b2, H => by
    have hj' : j + (cs.length + 1) = m := hj
    obtain ⟨ha, h1'⟩ := ly_cons.mp h1
    obtain ⟨hb, h2'⟩ := ly_cons.mp h2
    have ba := b1 a List.mem_cons_self
    have bb := b2 b List.mem_cons_self
    have hv : vp_in (nI j) 13 := vp_in_nI (by omega) (by omega)
    refine br_f (nI_ge (by omega) (by omega)) ⟨hv, hv, ?_⟩
    rw [nI_clamp (n := j) (by omega), ha, hb]
    refine pk_eq a b (fun e => nm_r (nI_1 j) ?_) (fun e => ⟨hv, hv, ?_⟩)
    · subst e
      refine xc_146 hm cs ds (j + 1) h1' h2' (by simpa using hl) (by omega) (fun t h => b1 t (List.mem_cons_of_mem _ h)) (fun t h => b2 t (List.mem_cons_of_mem _ h)) ?_
      rw [sq_lx, decide_eq_false (Nat.lt_irrefl a), Bool.false_or, decide_eq_true rfl, Bool.true_and] at H
      exact H
    · rw [sq_lx, decide_eq_false e, Bool.false_and, Bool.or_false] at H
      refine pk_le b a (fun h => ?_) (fun h => ?_)
      · rw [decide_eq_false (by omega)] at H; exact H
      · rw [decide_eq_true h] at H; exact H
theorem xc_78 {m bnd : Nat} {c d : List Nat} (hm : m ≤ 12) (hbnd : bnd ≤ 78) (hc : c.length = m) (hd : d.length = m) (hc2 : ∀ t ∈ c, t < 20) (hd2 : ∀ t ∈ d, t < 20)
    (H : ∀ (a_one a_two : Nat → Int32), post (qb (sq_lx c d)) (f_words, f_isMerged, f_tokens, f_hasTree, f_nodes, f_textLength, f_resultSize, f_rowLength, f_partCount, f_queued, f_banned, a_counts, a_lengths, a_letters, a_tokenAt, a_nextAt, a_beforeAt, a_frequencies, a_lefts, a_rights, a_prices, a_spellLength, a_spelling, a_made, a_below, a_endsHere, a_nextSame, a_text, a_result, a_row, a_part, a_queueToken, a_queuePlace, a_linkedToken, a_linkedNext, a_linkedBefore, a_bestCount, a_bestPrice, a_bestTokens, a_bestLast, a_bestFrom, a_ways, a_one, a_two)) :
    ∀ (k : Nat) (ra rb ca cb : List Nat) (sa sb : Nat) (a_one a_two : Nat → Int32), ra.length = k → rb.length = k → k < m → ra.reverse ++ ca = c → rb.reverse ++ cb = d → ly a_one k ca → ly a_two k cb → bd_D a_bestLast a_bestFrom bnd sa ra → bd_D a_bestLast a_bestFrom bnd sb rb → wX_comesBefore_78 post (nI m) f_words f_isMerged f_tokens f_hasTree f_nodes f_textLength f_resultSize f_rowLength f_partCount f_queued f_banned (k + 1) (nI sa) (nI sb) (nI k + (-1)) a_counts a_lengths a_letters a_tokenAt a_nextAt a_beforeAt a_frequencies a_lefts a_rights a_prices a_spellLength a_spelling a_made a_below a_endsHere a_nextSame a_text a_result a_row a_part a_queueToken a_queuePlace a_linkedToken a_linkedNext a_linkedBefore a_bestCount a_bestPrice a_bestTokens a_bestLast a_bestFrom a_ways a_one a_two := by
  intro k
  induction k with
  | zero =>
    intro ra rb ca cb sa sb a_one a_two h1 h2 hk e1 e2 l1 l2 g1 g2
    have x1 : ra = [] := List.eq_nil_of_length_eq_zero h1
    have x2 : rb = [] := List.eq_nil_of_length_eq_zero h2
    subst x1 x2
    have e1 : ca = c := e1
    have e2 : cb = d := e2
    subst e1 e2
    refine br_t (by decide) ⟨ca.length + 1, ?_⟩
    subst hc
    exact xc_146 hm ca cb 0 l1 l2 hd.symm (by omega) hc2 hd2 (H _ _)
  | succ k ih =>
    intro ra rb ca cb sa sb a_one a_two h1 h2 hk e1 e2 l1 l2 g1 g2
    cases ra with
    | nil => simp at h1
    | cons a ra =>
      cases rb with
      | nil => simp at h2
      | cons b rb =>
        obtain ⟨p1, p2, s1, p3, p4, p5⟩ := g1
        obtain ⟨q1, q2, s2, q3, q4, q5⟩ := g2
        rw [pk_m1]
        have hv : vp_in (nI k) 13 := vp_in_nI (by omega) (by omega)
        have hva : vp_in (nI sa) 78 := vp_in_nI p1 (by omega)
        have hvb : vp_in (nI sb) 78 := vp_in_nI q1 (by omega)
        refine br_f (nI_pos (by omega)) ⟨hvb, hv, ?_⟩
        rw [nI_clamp (n := k) (by omega), nI_clamp (n := sa) (by omega), nI_clamp (n := sb) (by omega), p2, p3, q2, q3, qn_s1 (a := m) (by omega)]
        refine nm_e ⟨hvb, nm_e (br_f (nI_ge (by omega) (by omega)) ⟨hva, hv, nm_e ⟨hva, nm_e (nm_e ?_)⟩⟩)⟩
        refine ih ra rb (a :: ca) (b :: cb) s1 s2 (upd a_one k (nI a)) (upd a_two k (nI b)) (by simpa using h1) (by simpa using h2) (by omega) (by rw [← e1]; simp) (by rw [← e2]; simp) (ly_cons.mpr ⟨pk_us, ly_up l1 (by omega)⟩) (ly_cons.mpr ⟨pk_us, ly_up l2 (by omega)⟩) p5 q5
theorem xc_cmp {t a o bnd : Nat} {pr : Nat → Nat} {s d : List Nat} {p0 p1 p2 p3 p4 : Int32} {a_one a_two : Nat → Int32} (e0 : p0 = nI (sq_pz pr (s ++ [t]))) (e1 : p1 = nI (s.length + 1)) (e2 : p2 = nI a) (e3 : p3 = nI t) (e4 : p4 = nI o) (hbnd : bnd ≤ 78) (hs : bd_D a_bestLast a_bestFrom bnd a s.reverse) (ho : o < 78) (hd : bd_P pr bnd a_bestPrice a_bestTokens a_bestLast a_bestFrom o d) (hsl : s.length < 12) (hpz : sq_pz pr (s ++ [t]) < 100000) (hs2 : ∀ u ∈ s ++ [t], u < 20)
    (H : ∀ (a_one a_two : Nat → Int32), post (qb (sq_lt pr (s ++ [t]) d)) (f_words, f_isMerged, f_tokens, f_hasTree, f_nodes, f_textLength, f_resultSize, f_rowLength, f_partCount, f_queued, f_banned, a_counts, a_lengths, a_letters, a_tokenAt, a_nextAt, a_beforeAt, a_frequencies, a_lefts, a_rights, a_prices, a_spellLength, a_spelling, a_made, a_below, a_endsHere, a_nextSame, a_text, a_result, a_row, a_part, a_queueToken, a_queuePlace, a_linkedToken, a_linkedNext, a_linkedBefore, a_bestCount, a_bestPrice, a_bestTokens, a_bestLast, a_bestFrom, a_ways, a_one, a_two)) : wpX_comesBefore post (f_words, f_isMerged, f_tokens, f_hasTree, f_nodes, f_textLength, f_resultSize, f_rowLength, f_partCount, f_queued, f_banned, a_counts, a_lengths, a_letters, a_tokenAt, a_nextAt, a_beforeAt, a_frequencies, a_lefts, a_rights, a_prices, a_spellLength, a_spelling, a_made, a_below, a_endsHere, a_nextSame, a_text, a_result, a_row, a_part, a_queueToken, a_queuePlace, a_linkedToken, a_linkedNext, a_linkedBefore, a_bestCount, a_bestPrice, a_bestTokens, a_bestLast, a_bestFrom, a_ways, a_one, a_two) p0 p1 p2 p3 p4 := by
  subst e0 e1 e2 e3 e4
  obtain ⟨d1, d2, d3, d4, d5, d6⟩ := hd
  have hv : vp_in (nI o) 78 := vp_in_nI ho (by omega)
  have hlen : (s ++ [t]).length = s.length + 1 := by simp
  refine And.intro hv ?_
  rw [nI_clamp (n := o) (by omega), d1, d2]
  refine pk_eq (sq_pz pr (s ++ [t])) (sq_pz pr d) (fun ep => ⟨hv, ?_⟩) (fun ep => ⟨hv, ?_⟩)
  · refine pk_eq (s.length + 1) d.length (fun el => ?_) (fun el => ⟨hv, ?_⟩)
    · have hlx : sq_lt pr (s ++ [t]) d = sq_lx (s ++ [t]) d := by
        unfold sq_lt
        rw [decide_eq_false (by omega), Bool.false_or, decide_eq_true ep, Bool.true_and, decide_eq_false (by omega), Bool.false_or, decide_eq_true (by omega), Bool.true_and]
      rw [hlx] at H
      obtain ⟨d', b, ed, hdl⟩ := la_sn_ex (l := d) (k := s.length) (by omega)
      subst ed
      rw [List.reverse_append] at d3
      obtain ⟨q1, q2, s2, q3, q4, q5⟩ : bd_D a_bestLast a_bestFrom bnd o (b :: d'.reverse) := d3
      have hv12 : vp_in (nI s.length) 13 := vp_in_nI (by omega) (by omega)
      rw [nI_pred]
      refine ⟨hv12, ?_⟩
      rw [nI_clamp (n := s.length) (by omega)]
      refine nm_e (nm_e ⟨s.length + 2, ?_⟩)
      refine br_f (nI_pos (by omega)) ⟨hv, hv12, ?_⟩
      rw [nI_pred, nI_clamp (n := s.length) (by omega), nI_clamp (n := o) (by omega), q2, q3]
      refine nm_e ⟨hv, nm_e (br_t (nI_le (Nat.le_refl _) (by omega)) (nm_e ?_))⟩
      exact xc_78 (m := s.length + 1) (bnd := bnd) (c := s ++ [t]) (d := d' ++ [b]) (by omega) hbnd hlen (by simp; omega) hs2 d6 H s.length s.reverse d'.reverse [t] [b] a s2 _ _ (by simp) (by simp; omega) (by omega) (by simp) (by simp) (ly_1 pk_us) (ly_1 pk_us) hs q5
    · refine pk_le d.length (s.length + 1) (fun h => ?_) (fun h => ?_)
      · have : sq_lt pr (s ++ [t]) d = false := by
          unfold sq_lt
          rw [decide_eq_false (by omega), Bool.false_or, decide_eq_true ep, Bool.true_and, decide_eq_false (by omega), Bool.false_or, decide_eq_false (by omega), Bool.false_and]
        rw [this] at H; exact H _ _
      · have : sq_lt pr (s ++ [t]) d = true := by
          rw [sq_lt_i]; exact Or.inr ⟨ep, Or.inl (by omega)⟩
        rw [this] at H; exact H _ _
  · refine pk_le (sq_pz pr d) (sq_pz pr (s ++ [t])) (fun h => ?_) (fun h => ?_)
    · have : sq_lt pr (s ++ [t]) d = false := by
        unfold sq_lt
        rw [decide_eq_false (by omega), Bool.false_or, decide_eq_false ep, Bool.false_and]
      rw [this] at H; exact H _ _
    · have : sq_lt pr (s ++ [t]) d = true := by
        rw [sq_lt_i]; exact Or.inl h
      rw [this] at H; exact H _ _
end XC
end
section
/-! the component: a split is offered to the list of a place -/
theorem bd_P_fr {pr : Nat → Nat} {bnd s : Nat} {bp bt bl bf bp' bt' bl' bf' : Nat → Int32} {q : List Nat} (h : ∀ j, j < bnd → bl' j = bl j ∧ bf' j = bf j) (hs : bp' s = bp s ∧ bt' s = bt s ∧ bl' s = bl s ∧ bf' s = bf s) (hP : bd_P pr bnd bp bt bl bf s q) : bd_P pr bnd bp' bt' bl' bf' s q := by
  obtain ⟨p1, p2, p3, p4⟩ := hP
  exact ⟨hs.1.trans p1, hs.2.1.trans p2, bd_D_fr h _ _ hs.2.2 p3, p4⟩
theorem bd_P_cp {pr : Nat → Nat} {bnd s z : Nat} {bp bt bl bf bp' bt' bl' bf' : Nat → Int32} {q : List Nat} (hz : z < 78) (h : ∀ j, j < bnd → bl' j = bl j ∧ bf' j = bf j) (hs : bp' z = bp s ∧ bt' z = bt s ∧ bl' z = bl s ∧ bf' z = bf s) (hP : bd_P pr bnd bp bt bl bf s q) : bd_P pr bnd bp' bt' bl' bf' z q := by
  obtain ⟨p1, p2, p3, p4⟩ := hP
  refine ⟨hs.1.trans p1, hs.2.1.trans p2, ?_, p4⟩
  cases hq : q.reverse with
  | nil => trivial
  | cons t rs =>
    rw [hq] at p3
    obtain ⟨h1, h2, s', h3, h4, h5⟩ := p3
    exact ⟨hz, hs.2.2.1.trans h2, s', hs.2.2.2.trans h3, h4, bd_D_fr h rs s' (h s' h4) h5⟩
section XO
variable {f_words f_isMerged f_tokens f_hasTree f_nodes f_textLength f_resultSize f_rowLength f_partCount f_queued f_banned : Int32} {a_counts a_lengths a_letters a_tokenAt a_nextAt a_beforeAt a_frequencies a_lefts a_rights a_prices a_spellLength a_spelling a_made a_below a_endsHere a_nextSame a_text a_result a_row a_part a_queueToken a_queuePlace a_linkedToken a_linkedNext a_linkedBefore a_ways : Nat → Int32} {post : SX → Prop}
theorem xo_copy {a b : Nat} {p0 p1 : Int32} {a_bestCount a_bestPrice a_bestTokens a_bestLast a_bestFrom a_one a_two : Nat → Int32} (e0 : p0 = nI a) (e1 : p1 = nI b) (ha : a < 78) (hb : b < 78) (H : post (f_words, f_isMerged, f_tokens, f_hasTree, f_nodes, f_textLength, f_resultSize, f_rowLength, f_partCount, f_queued, f_banned, a_counts, a_lengths, a_letters, a_tokenAt, a_nextAt, a_beforeAt, a_frequencies, a_lefts, a_rights, a_prices, a_spellLength, a_spelling, a_made, a_below, a_endsHere, a_nextSame, a_text, a_result, a_row, a_part, a_queueToken, a_queuePlace, a_linkedToken, a_linkedNext, a_linkedBefore, a_bestCount, upd a_bestPrice b (a_bestPrice a), upd a_bestTokens b (a_bestTokens a), upd a_bestLast b (a_bestLast a), upd a_bestFrom b (a_bestFrom a), a_ways, a_one, a_two)) : wpX_copyBest post (f_words, f_isMerged, f_tokens, f_hasTree, f_nodes, f_textLength, f_resultSize, f_rowLength, f_partCount, f_queued, f_banned, a_counts, a_lengths, a_letters, a_tokenAt, a_nextAt, a_beforeAt, a_frequencies, a_lefts, a_rights, a_prices, a_spellLength, a_spelling, a_made, a_below, a_endsHere, a_nextSame, a_text, a_result, a_row, a_part, a_queueToken, a_queuePlace, a_linkedToken, a_linkedNext, a_linkedBefore, a_bestCount, a_bestPrice, a_bestTokens, a_bestLast, a_bestFrom, a_ways, a_one, a_two) p0 p1 := by
  subst e0 e1
  have va : vp_in (nI a) 78 := vp_in_nI ha (by omega)
  have vb : vp_in (nI b) 78 := vp_in_nI hb (by omega)
  refine And.intro va ?_
  rw [nI_clamp (n := a) (by omega), nI_clamp (n := b) (by omega)]
  exact ⟨vb, nm_e ⟨va, vb, nm_e ⟨va, vb, nm_e ⟨va, vb, nm_e H⟩⟩⟩⟩
theorem xo_109 {to a k t bnd : Nat} {pr : Nat → Nat} {s : List Nat} {B : List (List Nat)} {bp0 bt0 bl0 bf0 : Nat → Int32} {a_bestCount a_one a_two : Nat → Int32} (hto : to < 13) (hbnd : bnd ≤ 6 * to) (ha : a < bnd) (ht : t < 20) (hB : B.length = k)
    (hs : bd_D bl0 bf0 bnd a s.reverse) (hsl : s.length < 12) (hpz : sq_pz pr (s ++ [t]) < 100000) (hs2 : ∀ u ∈ s ++ [t], u < 20) :
    ∀ (e : Nat) (D1 D2 : List (List Nat)) (a_bestPrice a_bestTokens a_bestLast a_bestFrom : Nat → Int32), D1.length = e → k + e + D2.length ≤ 5 →
      (∀ j, j < 6 * to ∨ 6 * to + 6 ≤ j → a_bestPrice j = bp0 j ∧ a_bestTokens j = bt0 j ∧ a_bestLast j = bl0 j ∧ a_bestFrom j = bf0 j) →
      la (bd_P pr bnd a_bestPrice a_bestTokens a_bestLast a_bestFrom) (6 * to) B → la (bd_P pr bnd a_bestPrice a_bestTokens a_bestLast a_bestFrom) (6 * to + k) D1 → la (bd_P pr bnd a_bestPrice a_bestTokens a_bestLast a_bestFrom) (6 * to + k + e + 1) D2 →
      (∀ (a_bestPrice a_bestTokens a_bestLast a_bestFrom : Nat → Int32), (∀ j, j < 6 * to ∨ 6 * to + 6 ≤ j → a_bestPrice j = bp0 j ∧ a_bestTokens j = bt0 j ∧ a_bestLast j = bl0 j ∧ a_bestFrom j = bf0 j) → la (bd_P pr bnd a_bestPrice a_bestTokens a_bestLast a_bestFrom) (6 * to) (B ++ (s ++ [t]) :: (D1 ++ D2)) → post (f_words, f_isMerged, f_tokens, f_hasTree, f_nodes, f_textLength, f_resultSize, f_rowLength, f_partCount, f_queued, f_banned, a_counts, a_lengths, a_letters, a_tokenAt, a_nextAt, a_beforeAt, a_frequencies, a_lefts, a_rights, a_prices, a_spellLength, a_spelling, a_made, a_below, a_endsHere, a_nextSame, a_text, a_result, a_row, a_part, a_queueToken, a_queuePlace, a_linkedToken, a_linkedNext, a_linkedBefore, a_bestCount, a_bestPrice, a_bestTokens, a_bestLast, a_bestFrom, a_ways, a_one, a_two)) →
      wX_offer_109 post (nI to) (nI a) (nI t) (nI (sq_pz pr (s ++ [t]))) (nI (s.length + 1)) (nI k) (e + 1) (nI (k + e)) f_words f_isMerged f_tokens f_hasTree f_nodes f_textLength f_resultSize f_rowLength f_partCount f_queued f_banned a_counts a_lengths a_letters a_tokenAt a_nextAt a_beforeAt a_frequencies a_lefts a_rights a_prices a_spellLength a_spelling a_made a_below a_endsHere a_nextSame a_text a_result a_row a_part a_queueToken a_queuePlace a_linkedToken a_linkedNext a_linkedBefore a_bestCount a_bestPrice a_bestTokens a_bestLast a_bestFrom a_ways a_one a_two := by
  intro e
  induction e with
  | zero =>
    intro D1 D2 bp bt bl bf h1 h2 hfr l1 l2 l3 H
    have e1 : D1 = [] := List.eq_nil_of_length_eq_zero h1
    subst e1
    have hv : vp_in (nI (6 * to + k)) 78 := vp_in_nI (by omega) (by omega)
    refine br_t (nI_le (Nat.le_refl _) (by omega)) (nm_r (qn_6 to k) ⟨hv, ?_⟩)
    rw [nI_clamp (n := 6 * to + k) (by omega)]
    refine nm_e ⟨hv, nm_e ⟨hv, nm_e ⟨hv, nm_e (H _ _ _ _ (fun j hj => ?_) ?_)⟩⟩⟩
    · obtain ⟨y1, y2, y3, y4⟩ := hfr j hj
      exact ⟨(pk_un (by omega)).trans y1, (pk_un (by omega)).trans y2, (pk_un (by omega)).trans y3, (pk_un (by omega)).trans y4⟩
    · have agree : ∀ j, j < bnd → upd bl (6 * to + k) (nI t) j = bl j ∧ upd bf (6 * to + k) (nI a) j = bf j := fun j hj => ⟨pk_un (by omega), pk_un (by omega)⟩
      refine la_app.mpr ⟨la_fr (fun i q i1 i2 _ hP => bd_P_fr agree ⟨pk_un (by omega), pk_un (by omega), pk_un (by omega), pk_un (by omega)⟩ hP) l1, ?_, ?_⟩
      · rw [hB]
        refine ⟨pk_us, by rw [pk_us]; simp, ?_, by simp; omega, hpz, hs2⟩
        rw [List.reverse_append]
        refine ⟨by omega, pk_us, a, pk_us, ha, bd_D_fr (fun j hj => ?_) _ _ ?_ hs⟩
        · rw [pk_un (by omega), pk_un (by omega)]; exact ⟨(hfr j (by omega)).2.2.1, (hfr j (by omega)).2.2.2⟩
        · rw [pk_un (by omega), pk_un (by omega)]; exact ⟨(hfr a (by omega)).2.2.1, (hfr a (by omega)).2.2.2⟩
      · rw [hB]
        exact la_fr (fun i q i1 i2 _ hP => bd_P_fr agree ⟨pk_un (by omega), pk_un (by omega), pk_un (by omega), pk_un (by omega)⟩ hP) l3
  | succ e ih =>
    intro D1 D2 bp bt bl bf h1 h2 hfr l1 l2 l3 H
    obtain ⟨E, d, rfl, hE⟩ := la_sn_ex h1
    obtain ⟨m1, m2, -⟩ := la_app.mp l2
    rw [hE] at m2
    have e6 : 6 * nI to + nI (k + (e + 1)) = nI (6 * to + k + e + 1) := by rw [qn_6]; exact congrArg nI (by omega)
    have e7 : 6 * nI to + nI (k + (e + 1)) - 1 = nI (6 * to + k + e) := by rw [e6]; exact nI_pred _
    refine br_f (nI_ge (by omega) (by omega)) ?_
    refine xo_copy e7 e6 (by omega) (by omega) (nm_r (e' := nI (k + e)) (by rw [← Nat.add_assoc]; exact pk_m1 _) ?_)
    have agree : ∀ j, j < bnd → upd bl (6 * to + k + e + 1) (bl (6 * to + k + e)) j = bl j ∧ upd bf (6 * to + k + e + 1) (bf (6 * to + k + e)) j = bf j := fun j hj => ⟨pk_un (by omega), pk_un (by omega)⟩
    refine ih E (d :: D2) _ _ _ _ hE (by simp; omega) (fun j hj => ?_) (la_fr (fun i q i1 i2 _ hP => bd_P_fr agree ⟨pk_un (by omega), pk_un (by omega), pk_un (by omega), pk_un (by omega)⟩ hP) l1) (la_fr (fun i q i1 i2 _ hP => bd_P_fr agree ⟨pk_un (by omega), pk_un (by omega), pk_un (by omega), pk_un (by omega)⟩ hP) m1) ⟨bd_P_cp (s := 6 * to + k + e) (by omega) agree ⟨pk_us, pk_us, pk_us, pk_us⟩ m2, ?_⟩ (fun bp' bt' bl' bf' g1 g2 => H bp' bt' bl' bf' g1 (by rw [List.append_assoc]; exact g2))
    · obtain ⟨y1, y2, y3, y4⟩ := hfr j hj
      exact ⟨(pk_un (by omega)).trans y1, (pk_un (by omega)).trans y2, (pk_un (by omega)).trans y3, (pk_un (by omega)).trans y4⟩
    · exact la_fr (fun i q i1 i2 _ hP => bd_P_fr agree ⟨pk_un (by omega), pk_un (by omega), pk_un (by omega), pk_un (by omega)⟩ hP) l3
/-- what an offer leaves behind -/
def xo_Q (pr : Nat → Nat) (bnd to : Nat) (A : List (List Nat)) (a_bestCount a_bestPrice a_bestTokens a_bestLast a_bestFrom b_bestCount b_bestPrice b_bestTokens b_bestLast b_bestFrom : Nat → Int32) : Prop :=
  b_bestCount to = nI A.length ∧ (∀ q, q ≠ to → b_bestCount q = a_bestCount q) ∧ (∀ j, j < 6 * to ∨ 6 * to + 6 ≤ j → b_bestPrice j = a_bestPrice j ∧ b_bestTokens j = a_bestTokens j ∧ b_bestLast j = a_bestLast j ∧ b_bestFrom j = a_bestFrom j) ∧ la (bd_P pr bnd b_bestPrice b_bestTokens b_bestLast b_bestFrom) (6 * to) A
theorem xo_66 {to a k t bnd : Nat} {pr : Nat → Nat} {s : List Nat} {B D : List (List Nat)} {a_bestCount a_bestPrice a_bestTokens a_bestLast a_bestFrom a_one a_two : Nat → Int32} (hto : to < 13) (hbnd : bnd ≤ 6 * to) (ha : a < bnd) (ht : t < 20) (hB : B.length = k) (hA6 : k + D.length ≤ 6) (hcnt : a_bestCount to = nI (k + D.length))
    (hs : bd_D a_bestLast a_bestFrom bnd a s.reverse) (hsl : s.length < 12) (hpz : sq_pz pr (s ++ [t]) < 100000) (hs2 : ∀ u ∈ s ++ [t], u < 20) (h1 : ∀ b ∈ B, ¬ sq_lt pr (s ++ [t]) b = true) (h2 : ∀ d ∈ D, sq_lt pr (s ++ [t]) d = true) (hl : la (bd_P pr bnd a_bestPrice a_bestTokens a_bestLast a_bestFrom) (6 * to) (B ++ D))
    (H : ∀ (b_bestCount b_bestPrice b_bestTokens b_bestLast b_bestFrom : Nat → Int32), xo_Q pr bnd to ((so_ins (sq_lt pr) (s ++ [t]) (B ++ D)).take 6) a_bestCount a_bestPrice a_bestTokens a_bestLast a_bestFrom b_bestCount b_bestPrice b_bestTokens b_bestLast b_bestFrom → post (f_words, f_isMerged, f_tokens, f_hasTree, f_nodes, f_textLength, f_resultSize, f_rowLength, f_partCount, f_queued, f_banned, a_counts, a_lengths, a_letters, a_tokenAt, a_nextAt, a_beforeAt, a_frequencies, a_lefts, a_rights, a_prices, a_spellLength, a_spelling, a_made, a_below, a_endsHere, a_nextSame, a_text, a_result, a_row, a_part, a_queueToken, a_queuePlace, a_linkedToken, a_linkedNext, a_linkedBefore, b_bestCount, b_bestPrice, b_bestTokens, b_bestLast, b_bestFrom, a_ways, a_one, a_two)) :
    wX_offer_66 post (nI to) (nI a) (nI t) (nI (sq_pz pr (s ++ [t]))) (nI (s.length + 1)) (nI k) f_words f_isMerged f_tokens f_hasTree f_nodes f_textLength f_resultSize f_rowLength f_partCount f_queued f_banned a_counts a_lengths a_letters a_tokenAt a_nextAt a_beforeAt a_frequencies a_lefts a_rights a_prices a_spellLength a_spelling a_made a_below a_endsHere a_nextSame a_text a_result a_row a_part a_queueToken a_queuePlace a_linkedToken a_linkedNext a_linkedBefore a_bestCount a_bestPrice a_bestTokens a_bestLast a_bestFrom a_ways a_one a_two := by
  rw [so_ins_at h1 h2] at H
  have hvt : vp_in (nI to) 13 := vp_in_nI hto (by omega)
  refine pk_lt k 6 (fun hk => ⟨hvt, hvt, ?_⟩) (fun hk => ?_)
  · have eA : (B ++ (s ++ [t]) :: D).take 6 = B ++ (s ++ [t]) :: D.take (5 - k) := by
      rw [List.take_append, List.take_of_length_le (by omega), hB, show 6 - k = (5 - k) + 1 from by omega, List.take_succ_cons]
    rw [eA] at H
    have hDl : (D.take (5 - k)).length = min (5 - k) D.length := List.length_take
    have hAl : (B ++ (s ++ [t]) :: D.take (5 - k)).length = k + (D.take (5 - k)).length + 1 := by simp; omega
    obtain ⟨l1, l2⟩ := la_app.mp hl
    rw [hB] at l2
    -- the number, then the shift
    have go : ∀ z0 : Int32, nI (k + D.length) + z0 = nI (k + (D.take (5 - k)).length + 1) → wX_offer_97 post (nI to) (nI a) (nI t) (nI (sq_pz pr (s ++ [t]))) (nI (s.length + 1)) (nI k) z0 (nI (k + D.length)) (nI to) f_words f_isMerged f_tokens f_hasTree f_nodes f_textLength f_resultSize f_rowLength f_partCount f_queued f_banned a_counts a_lengths a_letters a_tokenAt a_nextAt a_beforeAt a_frequencies a_lefts a_rights a_prices a_spellLength a_spelling a_made a_below a_endsHere a_nextSame a_text a_result a_row a_part a_queueToken a_queuePlace a_linkedToken a_linkedNext a_linkedBefore a_bestCount a_bestPrice a_bestTokens a_bestLast a_bestFrom a_ways a_one a_two := by
      intro z0 hz
      refine And.intro hvt (nm_r (e' := upd a_bestCount to (nI (k + (D.take (5 - k)).length + 1))) (by rw [nI_clamp (by omega), hz]) ⟨hvt, nm_r (e' := nI (k + (D.take (5 - k)).length)) (by rw [nI_clamp (by omega), pk_us, nI_pred]) ⟨(D.take (5 - k)).length + 1, ?_⟩⟩)
      refine xo_109 (bp0 := a_bestPrice) (bt0 := a_bestTokens) (bl0 := a_bestLast) (bf0 := a_bestFrom) hto hbnd ha ht hB hs hsl hpz hs2 _ (D.take (5 - k)) [] _ _ _ _ rfl (by simp; omega) (fun j _ => ⟨rfl, rfl, rfl, rfl⟩) l1 (la_take l2) trivial fun bp bt bl bf g1 g2 => ?_
      rw [List.append_nil] at g2
      exact H _ bp bt bl bf ⟨by rw [pk_us, hAl], fun q hq => pk_un hq, g1, g2⟩
    rw [nI_clamp (n := to) (by omega), hcnt]
    refine pk_le 6 (k + D.length) (fun h6 => go 0 ?_) (fun h6 => go 1 ?_)
    · rw [Int32.add_zero]; exact congrArg nI (by omega)
    · rw [nI_1]; exact congrArg nI (by omega)
  · have eD : D = [] := List.eq_nil_of_length_eq_zero (by omega)
    subst eD
    have eA : (B ++ [s ++ [t]]).take 6 = B := by
      rw [List.take_append, List.take_of_length_le (by omega), hB, show 6 - k = 0 from by omega, List.take_zero, List.append_nil]
    rw [eA] at H
    rw [List.append_nil] at hl
    exact H _ _ _ _ _ ⟨by rw [hcnt, hB]; rfl, fun _ _ => rfl, fun j _ => ⟨rfl, rfl, rfl, rfl⟩, hl⟩
theorem xo_33 {to a t bnd : Nat} {pr : Nat → Nat} {s : List Nat} {A : List (List Nat)} {a_bestCount a_bestPrice a_bestTokens a_bestLast a_bestFrom : Nat → Int32} (hto : to < 13) (hbnd : bnd ≤ 6 * to) (ha : a < bnd) (ht : t < 20) (hA6 : A.length ≤ 6) (hcnt : a_bestCount to = nI A.length) (hsrt : so_P (sq_lt pr) A)
    (hs : bd_D a_bestLast a_bestFrom bnd a s.reverse) (hsl : s.length < 12) (hpz : sq_pz pr (s ++ [t]) < 100000) (hs2 : ∀ u ∈ s ++ [t], u < 20) (hl : la (bd_P pr bnd a_bestPrice a_bestTokens a_bestLast a_bestFrom) (6 * to) A)
    (H : ∀ (b_bestCount b_bestPrice b_bestTokens b_bestLast b_bestFrom a_one a_two : Nat → Int32), xo_Q pr bnd to ((so_ins (sq_lt pr) (s ++ [t]) A).take 6) a_bestCount a_bestPrice a_bestTokens a_bestLast a_bestFrom b_bestCount b_bestPrice b_bestTokens b_bestLast b_bestFrom → post (f_words, f_isMerged, f_tokens, f_hasTree, f_nodes, f_textLength, f_resultSize, f_rowLength, f_partCount, f_queued, f_banned, a_counts, a_lengths, a_letters, a_tokenAt, a_nextAt, a_beforeAt, a_frequencies, a_lefts, a_rights, a_prices, a_spellLength, a_spelling, a_made, a_below, a_endsHere, a_nextSame, a_text, a_result, a_row, a_part, a_queueToken, a_queuePlace, a_linkedToken, a_linkedNext, a_linkedBefore, b_bestCount, b_bestPrice, b_bestTokens, b_bestLast, b_bestFrom, a_ways, a_one, a_two)) :
    ∀ (k : Nat) (B D : List (List Nat)) (a_one a_two : Nat → Int32), B.length = k → B ++ D = A → (∀ d ∈ D, sq_lt pr (s ++ [t]) d = true) → wX_offer_33 post (nI to) (nI a) (nI t) (nI (sq_pz pr (s ++ [t]))) (nI (s.length + 1)) (k + 1) (nI k) f_words f_isMerged f_tokens f_hasTree f_nodes f_textLength f_resultSize f_rowLength f_partCount f_queued f_banned a_counts a_lengths a_letters a_tokenAt a_nextAt a_beforeAt a_frequencies a_lefts a_rights a_prices a_spellLength a_spelling a_made a_below a_endsHere a_nextSame a_text a_result a_row a_part a_queueToken a_queuePlace a_linkedToken a_linkedNext a_linkedBefore a_bestCount a_bestPrice a_bestTokens a_bestLast a_bestFrom a_ways a_one a_two := by
  have fin : ∀ (k : Nat) (B D : List (List Nat)) (a_one a_two : Nat → Int32), B.length = k → B ++ D = A → (∀ b ∈ B, ¬ sq_lt pr (s ++ [t]) b = true) → (∀ d ∈ D, sq_lt pr (s ++ [t]) d = true) → wX_offer_66 post (nI to) (nI a) (nI t) (nI (sq_pz pr (s ++ [t]))) (nI (s.length + 1)) (nI k) f_words f_isMerged f_tokens f_hasTree f_nodes f_textLength f_resultSize f_rowLength f_partCount f_queued f_banned a_counts a_lengths a_letters a_tokenAt a_nextAt a_beforeAt a_frequencies a_lefts a_rights a_prices a_spellLength a_spelling a_made a_below a_endsHere a_nextSame a_text a_result a_row a_part a_queueToken a_queuePlace a_linkedToken a_linkedNext a_linkedBefore a_bestCount a_bestPrice a_bestTokens a_bestLast a_bestFrom a_ways a_one a_two := by
    intro k B D a_one a_two hB hBD h1 h2
    subst hBD
    have hlen : (B ++ D).length = k + D.length := by rw [List.length_append, hB]
    exact xo_66 hto hbnd ha ht hB (by omega) (by rw [hcnt, hlen]) hs hsl hpz hs2 h1 h2 hl fun b1 b2 b3 b4 b5 g => H b1 b2 b3 b4 b5 _ _ g
  intro k
  induction k with
  | zero =>
    intro B D a_one a_two hB hBD h2
    have e : B = [] := List.eq_nil_of_length_eq_zero hB
    subst e
    exact br_t (by decide) (fin 0 [] D a_one a_two rfl hBD (fun b hb => absurd hb List.not_mem_nil) h2)
  | succ k ih =>
    intro B D a_one a_two hB hBD h2
    have hBD' := hBD
    obtain ⟨B', b, rfl, hB'⟩ := la_sn_ex hB
    subst hBD
    have hlen : (B' ++ [b] ++ D).length = k + 1 + D.length := by rw [List.length_append, hB]
    obtain ⟨s1, -, -⟩ := List.pairwise_append.mp hsrt
    obtain ⟨-, -, s3⟩ := List.pairwise_append.mp s1
    obtain ⟨m1, -⟩ := la_app.mp hl
    obtain ⟨-, m2, -⟩ := la_app.mp m1
    rw [hB'] at m2
    have e1 : 6 * nI to + nI (k + 1) - 1 = nI (6 * to + k) := by rw [qn_6]; exact nI_pred _
    refine br_f (nI_nle (by omega) (by omega)) ?_
    refine xc_cmp (bnd := bnd) (t := t) (a := a) (s := s) (pr := pr) rfl rfl rfl rfl e1 (by omega) hs (by omega) m2 hsl hpz hs2 fun a_one a_two => ?_
    cases hc : sq_lt pr (s ++ [t]) b with
    | false =>
      have hcb : ¬ sq_lt pr (s ++ [t]) b = true := by rw [hc]; exact fun h => nomatch h
      refine br_t rfl (fin (k + 1) (B' ++ [b]) D a_one a_two hB rfl (fun x hx hlx => ?_) h2)
      rcases List.mem_append.mp hx with h | h
      · exact hcb ((sq_O pr).2.1 _ _ _ hlx (s3 x h b List.mem_cons_self))
      · rw [List.mem_singleton.mp h] at hlx; exact hcb hlx
    | true =>
      refine br_f (by decide) (nm_r (pk_m1 k) (ih B' (b :: D) a_one a_two hB' (by simp) fun x hx => ?_))
      rcases List.mem_cons.mp hx with rfl | h
      · exact hc
      · exact h2 x h
theorem xo_offer {to a t bnd : Nat} {pr : Nat → Nat} {s : List Nat} {A : List (List Nat)} {p0 p1 p2 : Int32} {a_bestCount a_bestPrice a_bestTokens a_bestLast a_bestFrom a_one a_two : Nat → Int32} (e0 : p0 = nI to) (e1 : p1 = nI a) (e2 : p2 = nI t) (hto : to < 13) (hbnd : bnd ≤ 6 * to) (ha : a < bnd) (ht : t < 20) (hprt : a_prices t = nI (pr t)) (hA6 : A.length ≤ 6) (hcnt : a_bestCount to = nI A.length) (hsrt : so_P (sq_lt pr) A)
    (hs : bd_P pr bnd a_bestPrice a_bestTokens a_bestLast a_bestFrom a s) (hsl : s.length < 12) (hpz : sq_pz pr (s ++ [t]) < 100000) (hl : la (bd_P pr bnd a_bestPrice a_bestTokens a_bestLast a_bestFrom) (6 * to) A)
    (H : ∀ (b_bestCount b_bestPrice b_bestTokens b_bestLast b_bestFrom a_one a_two : Nat → Int32), xo_Q pr bnd to ((so_ins (sq_lt pr) (s ++ [t]) A).take 6) a_bestCount a_bestPrice a_bestTokens a_bestLast a_bestFrom b_bestCount b_bestPrice b_bestTokens b_bestLast b_bestFrom → post (f_words, f_isMerged, f_tokens, f_hasTree, f_nodes, f_textLength, f_resultSize, f_rowLength, f_partCount, f_queued, f_banned, a_counts, a_lengths, a_letters, a_tokenAt, a_nextAt, a_beforeAt, a_frequencies, a_lefts, a_rights, a_prices, a_spellLength, a_spelling, a_made, a_below, a_endsHere, a_nextSame, a_text, a_result, a_row, a_part, a_queueToken, a_queuePlace, a_linkedToken, a_linkedNext, a_linkedBefore, b_bestCount, b_bestPrice, b_bestTokens, b_bestLast, b_bestFrom, a_ways, a_one, a_two)) : wpX_offer post (f_words, f_isMerged, f_tokens, f_hasTree, f_nodes, f_textLength, f_resultSize, f_rowLength, f_partCount, f_queued, f_banned, a_counts, a_lengths, a_letters, a_tokenAt, a_nextAt, a_beforeAt, a_frequencies, a_lefts, a_rights, a_prices, a_spellLength, a_spelling, a_made, a_below, a_endsHere, a_nextSame, a_text, a_result, a_row, a_part, a_queueToken, a_queuePlace, a_linkedToken, a_linkedNext, a_linkedBefore, a_bestCount, a_bestPrice, a_bestTokens, a_bestLast, a_bestFrom, a_ways, a_one, a_two) p0 p1 p2 := by
  subst e0 e1 e2
  obtain ⟨d1, d2, d3, d4, d5, d6⟩ := hs
  have va : vp_in (nI a) 78 := vp_in_nI (by omega) (by omega)
  refine And.intro va ⟨vp_in_nI ht (by omega), nm_r (e' := nI (sq_pz pr (s ++ [t]))) ?_ ⟨va, nm_r (e' := nI (s.length + 1)) ?_ ⟨vp_in_nI hto (by omega), nm_r (e' := nI A.length) ?_ ⟨A.length + 1, ?_⟩⟩⟩⟩
  · rw [nI_clamp (by omega), nI_clamp (by omega), d1, hprt, nI_add, sq_pz_sn]
  · rw [nI_clamp (by omega), d2, nI_1]
  · rw [nI_clamp (by omega)]; exact hcnt
  · refine xo_33 hto hbnd ha ht hA6 hcnt hsrt d3 hsl hpz (fun u hu => ?_) hl H A.length A [] _ _ rfl (List.append_nil A) (fun d hd => absurd hd List.not_mem_nil)
    rcases List.mem_append.mp hu with h | h
    · exact d6 u h
    · rw [List.mem_singleton.mp h]; exact ht
end XO
end
section
/-! the best splits, place by place: pure -/
def bs_c (sp : Nat → List Nat) (p i x q : Nat) (s : List Nat) : Prop := ∀ s' t, s = s' ++ [t] → (s'.flatMap sp).length < p ∨ ((s'.flatMap sp).length = p ∧ (q ≤ i ∨ (q = i + 1 ∧ t < x)))
def bs_G (T : Nat) (sp : Nat → List Nat) (pr : Nat → Nat) (bn : Int32) (row : List Nat) (p i x : Nat) (Fl : Nat → List (List Nat)) : Prop := ∀ q, q ≤ row.length → so_P (sq_lt pr) (Fl q) ∧ ∀ s, s ∈ Fl q ↔ sq_S (sq_ok T bn) sp (row.take q) s ∧ bs_c sp p i x q s
theorem bs_dec {ok : Nat → Prop} {sp : Nat → List Nat} {row s' : List Nat} {q u : Nat} (hq : q ≤ row.length) (h : sq_S ok sp (row.take q) (s' ++ [u])) : (s'.flatMap sp).length + (sp u).length = q ∧ sq_S ok sp (row.take (s'.flatMap sp).length) s' ∧ sp u = (row.drop (s'.flatMap sp).length).take (q - (s'.flatMap sp).length) ∧ ok u := by
  obtain ⟨h1, h2⟩ := h
  have e : s'.flatMap sp ++ sp u = row.take q := by rw [← h2, List.flatMap_append]; simp
  have hl : (s'.flatMap sp).length + (sp u).length = q := by
    have := congrArg List.length e
    rw [List.length_append, List.length_take] at this; omega
  refine ⟨hl, ⟨fun t ht => h1 t (List.mem_append_left _ ht), ?_⟩, ?_, h1 u (List.mem_append_right _ List.mem_cons_self)⟩
  · have := congrArg (List.take (s'.flatMap sp).length) e
    rw [List.take_left, List.take_take, Nat.min_eq_left (by omega)] at this
    exact this
  · have := congrArg (List.drop (s'.flatMap sp).length) e
    rw [List.drop_left, List.drop_take] at this
    exact this
theorem bs_sn {a b : List Nat} {t u : Nat} (h : a ++ [t] = b ++ [u]) : a = b ∧ t = u := by
  have := List.append_inj' h rfl
  exact ⟨this.1, by simpa using this.2⟩
theorem bs_start {T : Nat} {sp : Nat → List Nat} {pr : Nat → Nat} {bn : Int32} {row : List Nat} {p i x : Nat} {Fl : Nat → List (List Nat)} (hpos : ∀ t, t < T → 1 ≤ (sp t).length) (h : bs_G T sp pr bn row p i x Fl) (hp : p ≤ row.length) {s : List Nat} : s ∈ Fl p ↔ sq_S (sq_ok T bn) sp (row.take p) s := by
  rw [(h p hp).2]
  refine ⟨fun h => h.1, fun hs => ⟨hs, fun s' t e => Or.inl ?_⟩⟩
  subst e
  have d := bs_dec hp hs
  have := hpos t d.2.2.2.1
  omega
def bs_F (pr : Nat → Nat) (Fl : Nat → List (List Nat)) (p to t : Nat) : Nat → List (List Nat) := fun q => if q = to then so_fold (sq_lt pr) (fun s => s ++ [t]) (Fl p) (Fl to) else Fl q
/-- all splits of one place lead on by a token -/
theorem bs_lead {T : Nat} {sp : Nat → List Nat} {pr : Nat → Nat} {bn : Int32} {row : List Nat} {p i x t : Nat} {Fl : Nat → List (List Nat)} (hpos : ∀ t, t < T → 1 ≤ (sp t).length) (h : bs_G T sp pr bn row p i x Fl) (hp : p ≤ i) (hi : i < row.length) (htT : t < T) (hxt : x ≤ t) (hok : ¬ nI t = bn) (hsp : sp t = (row.drop p).take (i + 1 - p)) (hf : ∀ u, x ≤ u → u < t → sp u = (row.drop p).take (i + 1 - p) → nI u = bn) :
    (∀ y ∈ Fl p, y ++ [t] ∉ Fl (i + 1)) ∧ bs_G T sp pr bn row p i (t + 1) (bs_F pr Fl p (i + 1) t) := by
  have hmemp : ∀ y, y ∈ Fl p → (y.flatMap sp).length = p := fun y hy => by
    rw [((bs_start hpos h (by omega)).mp hy).2, List.length_take]; omega
  have hno : ∀ y ∈ Fl p, y ++ [t] ∉ Fl (i + 1) := by
    intro y hy hm
    have := (((h (i + 1) (by omega)).2 _).mp hm).2 y t rfl
    have := hmemp y hy
    omega
  refine ⟨hno, fun q hq => ?_⟩
  by_cases e : q = i + 1
  · have e2 : bs_F pr Fl p (i + 1) t q = so_fold (sq_lt pr) (fun s => s ++ [t]) (Fl p) (Fl (i + 1)) := if_pos e
    rw [e2]
    refine ⟨so_fold_P (sq_O pr) (fun a b => sq_lt_sn a b) (h p (by omega)).1 (h (i + 1) (by omega)).1 hno, fun s => ?_⟩
    subst e
    rw [so_fold_mem, (h (i + 1) (by omega)).2]
    constructor
    · rintro (⟨y, hy, rfl⟩ | ⟨h1, h2⟩)
      · have hy' := (bs_start hpos h (by omega)).mp hy
        refine ⟨⟨fun u hu => ?_, ?_⟩, fun s' u e => ?_⟩
        · rcases List.mem_append.mp hu with h | h
          · exact hy'.1 u h
          · rw [List.mem_singleton.mp h]; exact ⟨htT, hok⟩
        · rw [List.flatMap_append, hy'.2]
          show row.take p ++ (sp t ++ []) = _
          rw [List.append_nil, hsp, show i + 1 = p + (i + 1 - p) from by omega, List.take_add, show p + (i + 1 - p) - p = i + 1 - p from by omega]
        · obtain ⟨e1, e2⟩ := bs_sn e
          subst e1 e2
          exact Or.inr ⟨hmemp y hy, Or.inr ⟨rfl, by omega⟩⟩
      · exact ⟨h1, fun s' u e => (h2 s' u e).imp id fun z => ⟨z.1, z.2.imp id fun w => ⟨w.1, by omega⟩⟩⟩
    · rintro ⟨h1, h2⟩
      rcases List.eq_nil_or_concat s with rfl | ⟨s', u, rfl⟩
      · exact Or.inr ⟨h1, fun s' t e => by simp at e⟩
      · rw [List.concat_eq_append] at *
        obtain ⟨d1, d2, d3, d4⟩ := bs_dec (by omega) h1
        rcases h2 s' u rfl with z | ⟨z1, z2 | ⟨z2, z3⟩⟩
        · exact Or.inr ⟨h1, fun a b e => by obtain ⟨e1, e2⟩ := bs_sn e; subst e1 e2; exact Or.inl z⟩
        · omega
        · by_cases hu : u = t
          · subst hu
            refine Or.inl ⟨s', (bs_start hpos h (by omega)).mpr ?_, rfl⟩
            rw [z1] at d2; exact d2
          · by_cases hx : u < x
            · exact Or.inr ⟨h1, fun a b e => by obtain ⟨e1, e2⟩ := bs_sn e; subst e1 e2; exact Or.inr ⟨z1, Or.inr ⟨rfl, hx⟩⟩⟩
            · rw [z1] at d3
              exact absurd (hf u (by omega) (by omega) d3) d4.2
  · have e2 : bs_F pr Fl p (i + 1) t q = Fl q := if_neg e
    rw [e2]
    refine ⟨(h q hq).1, fun s => ?_⟩
    rw [(h q hq).2]
    constructor
    · rintro ⟨h1, h2⟩
      exact ⟨h1, fun s' u eu => (h2 s' u eu).imp id fun z => ⟨z.1, z.2.imp id fun w => absurd w.1 e⟩⟩
    · rintro ⟨h1, h2⟩
      exact ⟨h1, fun s' u eu => (h2 s' u eu).imp id fun z => ⟨z.1, z.2.imp id fun w => absurd w.1 e⟩⟩
theorem bs_next {T : Nat} {sp : Nat → List Nat} {pr : Nat → Nat} {bn : Int32} {row : List Nat} {p i x : Nat} {Fl : Nat → List (List Nat)} (h : bs_G T sp pr bn row p i x Fl) (hf : ∀ u, x ≤ u → u < T → sp u = (row.drop p).take (i + 1 - p) → nI u = bn) : bs_G T sp pr bn row p (i + 1) 0 Fl := by
  intro q hq
  refine ⟨(h q hq).1, fun s => ?_⟩
  rw [(h q hq).2]
  constructor
  · rintro ⟨h1, h2⟩
    exact ⟨h1, fun s' u e => (h2 s' u e).imp id fun z => ⟨z.1, Or.inl (by omega)⟩⟩
  · rintro ⟨h1, h2⟩
    refine ⟨h1, fun s' u e => ?_⟩
    subst e
    obtain ⟨d1, d2, d3, d4⟩ := bs_dec hq h1
    rcases h2 s' u rfl with z | ⟨z1, z2 | ⟨z2, z3⟩⟩
    · exact Or.inl z
    · refine Or.inr ⟨z1, ?_⟩
      by_cases e : q = i + 1
      · refine Or.inr ⟨e, Nat.lt_of_not_le fun hx => ?_⟩
        rw [z1, e] at d3
        exact d4.2 (hf u hx d4.1 d3)
      · exact Or.inl (by omega)
    · omega
theorem bs_done {T : Nat} {sp : Nat → List Nat} {pr : Nat → Nat} {bn : Int32} {row : List Nat} {p i : Nat} {Fl : Nat → List (List Nat)} (hpos : ∀ t, t < T → 1 ≤ (sp t).length) (h : bs_G T sp pr bn row p i 0 Fl) (hf : ∀ u, u < T → sp u <+: row.drop p → p + (sp u).length ≤ row.length → p + (sp u).length ≤ i) : bs_G T sp pr bn row (p + 1) (p + 1) 0 Fl := by
  intro q hq
  refine ⟨(h q hq).1, fun s => ?_⟩
  rw [(h q hq).2]
  constructor
  · rintro ⟨h1, h2⟩
    exact ⟨h1, fun s' u e => Or.inl (by have := h2 s' u e; omega)⟩
  · rintro ⟨h1, h2⟩
    refine ⟨h1, fun s' u e => ?_⟩
    subst e
    obtain ⟨d1, d2, d3, d4⟩ := bs_dec hq h1
    have := hpos u d4.1
    rcases h2 s' u rfl with z | ⟨z1, z2 | ⟨z2, z3⟩⟩
    · by_cases e : (s'.flatMap sp).length < p
      · exact Or.inl e
      · have e2 : (s'.flatMap sp).length = p := by omega
        rw [e2] at d3
        have := hf u d4.1 (d3 ▸ List.take_prefix _ _) (by omega)
        exact Or.inr ⟨e2, Or.inl (by omega)⟩
    · omega
    · omega
theorem bs_init {T : Nat} {sp : Nat → List Nat} {pr : Nat → Nat} {bn : Int32} {row : List Nat} (hpos : ∀ t, t < T → 1 ≤ (sp t).length) : bs_G T sp pr bn row 0 0 0 (fun q => if q = 0 then [[]] else []) := by
  intro q hq
  by_cases e : q = 0
  · subst e
    refine ⟨so_P_cons.mpr ⟨fun b hb => absurd hb List.not_mem_nil, so_P_nil⟩, fun s => ?_⟩
    show s ∈ [[]] ↔ _
    rw [List.mem_singleton]
    constructor
    · rintro rfl
      exact ⟨⟨fun t h => absurd h List.not_mem_nil, rfl⟩, fun s' t e => by simp at e⟩
    · rintro ⟨h1, -⟩
      cases s with
      | nil => rfl
      | cons a s =>
        have h3 := hpos a (h1.1 a List.mem_cons_self).1
        have h4 := congrArg List.length h1.2
        rw [List.flatMap_cons, List.length_append, List.take_zero, List.length_nil] at h4
        omega
  · dsimp only
    rw [if_neg e]
    refine ⟨so_P_nil, fun s => ⟨fun h => absurd h List.not_mem_nil, ?_⟩⟩
    rintro ⟨h1, h2⟩
    rcases List.eq_nil_or_concat s with rfl | ⟨s', u, rfl⟩
    · have := congrArg List.length h1.2
      rw [List.length_take] at this
      simp at this
      omega
    · rw [List.concat_eq_append] at *
      have := h2 s' u rfl
      omega
theorem bs_end {T : Nat} {sp : Nat → List Nat} {pr : Nat → Nat} {bn : Int32} {row : List Nat} {Fl : Nat → List (List Nat)} (hpos : ∀ t, t < T → 1 ≤ (sp t).length) (h : bs_G T sp pr bn row row.length row.length 0 Fl) : sq_A T sp pr bn row (Fl row.length) := by
  refine ⟨(h _ (Nat.le_refl _)).1, fun s => ?_⟩
  rw [bs_start hpos h (Nat.le_refl _), List.take_length]
end
section
/-! the component: the best splits, place by place -/
def bs_S (pr : Nat → Nat) (bnd n : Nat) (Fl : Nat → List (List Nat)) (bc bp bt bl bf wy : Nat → Int32) : Prop := ∀ q, q ≤ n → bc q = nI ((Fl q).take 6).length ∧ wy q = nI (Fl q).length ∧ la (bd_P pr bnd bp bt bl bf) (6 * q) ((Fl q).take 6)
theorem bs_S_up {pr : Nat → Nat} {b c n : Nat} {Fl : Nat → List (List Nat)} {bc bp bt bl bf wy : Nat → Int32} (h : bs_S pr b n Fl bc bp bt bl bf wy) (hbc : b ≤ c) : bs_S pr c n Fl bc bp bt bl bf wy := fun q hq => by
  obtain ⟨h1, h2, h3⟩ := h q hq
  exact ⟨h1, h2, la_fr (fun k a _ _ _ hP => ⟨hP.1, hP.2.1, bd_D_up hbc _ _ hP.2.2.1, hP.2.2.2⟩) h3⟩
section XB
variable {f_words f_isMerged f_tokens f_hasTree f_nodes f_textLength f_resultSize f_rowLength f_partCount f_queued f_banned : Int32} {a_counts a_lengths a_letters a_tokenAt a_nextAt a_beforeAt a_frequencies a_lefts a_rights a_prices a_spellLength a_spelling a_made a_below a_endsHere a_nextSame a_text a_result a_row a_part a_queueToken a_queuePlace a_linkedToken a_linkedNext a_linkedBefore : Nat → Int32} {post : SX → Prop}
theorem xb_18 {n p to t : Nat} {pr : Nat → Nat} {Fl : Nat → List (List Nat)} {wy : Nat → Int32} (hn : n ≤ 12) (hpt : p < to) (hto : to ≤ n) (ht : t < 20) (hprt : a_prices t = nI (pr t)) (hpt2 : pr t ≤ 99) (hsp : so_P (sq_lt pr) (Fl p)) (hst : so_P (sq_lt pr) (Fl to)) (hno : ∀ y ∈ Fl p, y ++ [t] ∉ Fl to) (hlen : ∀ y ∈ Fl p, y.length < 12 ∧ sq_pz pr y ≤ 5000)
    (H : ∀ (b_bestCount b_bestPrice b_bestTokens b_bestLast b_bestFrom a_one a_two : Nat → Int32), (∀ q, q ≤ n → b_bestCount q = nI ((bs_F pr Fl p to t q).take 6).length ∧ la (bd_P pr (6 * (p + 1)) b_bestPrice b_bestTokens b_bestLast b_bestFrom) (6 * q) ((bs_F pr Fl p to t q).take 6)) → post (f_words, f_isMerged, f_tokens, f_hasTree, f_nodes, f_textLength, f_resultSize, f_rowLength, f_partCount, f_queued, f_banned, a_counts, a_lengths, a_letters, a_tokenAt, a_nextAt, a_beforeAt, a_frequencies, a_lefts, a_rights, a_prices, a_spellLength, a_spelling, a_made, a_below, a_endsHere, a_nextSame, a_text, a_result, a_row, a_part, a_queueToken, a_queuePlace, a_linkedToken, a_linkedNext, a_linkedBefore, b_bestCount, b_bestPrice, b_bestTokens, b_bestLast, b_bestFrom, wy, a_one, a_two)) :
    ∀ (d k : Nat) (a_bestCount a_bestPrice a_bestTokens a_bestLast a_bestFrom a_one a_two : Nat → Int32), k + d = ((Fl p).take 6).length →
      (∀ q, q ≤ n → q ≠ to → a_bestCount q = nI ((Fl q).take 6).length ∧ la (bd_P pr (6 * (p + 1)) a_bestPrice a_bestTokens a_bestLast a_bestFrom) (6 * q) ((Fl q).take 6)) →
      a_bestCount to = nI ((so_fold (sq_lt pr) (fun s => s ++ [t]) ((Fl p).take k) (Fl to)).take 6).length → la (bd_P pr (6 * (p + 1)) a_bestPrice a_bestTokens a_bestLast a_bestFrom) (6 * to) ((so_fold (sq_lt pr) (fun s => s ++ [t]) ((Fl p).take k) (Fl to)).take 6) →
      wX_lead_18 post (nI p) (nI to) (nI t) (d + 1) (nI k) f_words f_isMerged f_tokens f_hasTree f_nodes f_textLength f_resultSize f_rowLength f_partCount f_queued f_banned a_counts a_lengths a_letters a_tokenAt a_nextAt a_beforeAt a_frequencies a_lefts a_rights a_prices a_spellLength a_spelling a_made a_below a_endsHere a_nextSame a_text a_result a_row a_part a_queueToken a_queuePlace a_linkedToken a_linkedNext a_linkedBefore a_bestCount a_bestPrice a_bestTokens a_bestLast a_bestFrom wy a_one a_two := by
  intro d
  induction d with
  | zero =>
    intro k bc bp bt bl bf a_one a_two hk h1 h2 h3
    have hv : vp_in (nI p) 13 := vp_in_nI (by omega) (by omega)
    refine And.intro hv ?_
    rw [nI_clamp (n := p) (by omega), (h1 p (by omega) (by omega)).1]
    have hl6 : ((Fl p).take 6).length ≤ 6 := by rw [List.length_take]; omega
    refine br_t (nI_le (by omega) (by omega)) (H bc bp bt bl bf a_one a_two fun q hq => ?_)
    have eF : (so_fold (sq_lt pr) (fun s => s ++ [t]) ((Fl p).take k) (Fl to)).take 6 = (so_fold (sq_lt pr) (fun s => s ++ [t]) (Fl p) (Fl to)).take 6 := by
      rw [so_fold_6 (sq_O pr) (fun a b => sq_lt_sn a b) hsp hst hno]
      have : (Fl p).take k = (Fl p).take 6 := by
        rw [List.length_take] at hk
        rcases Nat.lt_or_ge (Fl p).length 6 with z | z
        · rw [List.take_of_length_le (by omega), List.take_of_length_le (by omega)]
        · rw [show k = 6 from by omega]
      rw [this]
    by_cases e : q = to
    · subst e
      have eq : bs_F pr Fl p q t q = so_fold (sq_lt pr) (fun s => s ++ [t]) (Fl p) (Fl q) := if_pos rfl
      rw [eq, ← eF]; exact ⟨h2, h3⟩
    · have eq : bs_F pr Fl p to t q = Fl q := if_neg e
      rw [eq]; exact h1 q hq e
  | succ d ih =>
    intro k bc bp bt bl bf a_one a_two hk h1 h2 h3
    have hv : vp_in (nI p) 13 := vp_in_nI (by omega) (by omega)
    have hl6 : ((Fl p).take 6).length ≤ 6 := by rw [List.length_take]; omega
    have hkl : k < (Fl p).length := by rw [List.length_take] at hk; omega
    obtain ⟨c1, c2⟩ := h1 p (by omega) (by omega)
    refine And.intro hv ?_
    rw [nI_clamp (n := p) (by omega), c1]
    refine br_f (nI_ge (by omega) (by omega)) ?_
    have hx := la_at (d := []) (i := k) c2 (by omega)
    have hg : ((Fl p).take 6).getD k [] = (Fl p).getD k [] := by
      rw [List.getD_eq_getElem?_getD, List.getD_eq_getElem?_getD, List.getElem?_take, if_pos (by omega)]
    rw [hg] at hx
    have hmem : (Fl p).getD k [] ∈ Fl p := by
      rw [List.getD_eq_getElem?_getD, List.getElem?_eq_getElem hkl]; exact List.getElem_mem hkl
    have htk : (Fl p).take (k + 1) = (Fl p).take k ++ [(Fl p).getD k []] := by
      rw [List.take_add_one, List.getD_eq_getElem?_getD, List.getElem?_eq_getElem hkl]; rfl
    have hspk : so_P (sq_lt pr) ((Fl p).take k) := by
      have h := hsp
      rw [so_P, ← List.take_append_drop k (Fl p)] at h
      exact (List.pairwise_append.mp h).1
    have hFk : so_P (sq_lt pr) (so_fold (sq_lt pr) (fun s => s ++ [t]) ((Fl p).take k) (Fl to)) := so_fold_P (sq_O pr) (fun a b => sq_lt_sn a b) hspk hst fun y hy => hno y (List.mem_of_mem_take hy)
    have hA : so_P (sq_lt pr) ((so_fold (sq_lt pr) (fun s => s ++ [t]) ((Fl p).take k) (Fl to)).take 6) := by
      have h := hFk
      rw [so_P, ← List.take_append_drop 6 (so_fold _ _ _ _)] at h
      exact (List.pairwise_append.mp h).1
    have hxl := hlen _ hmem
    refine xo_offer (A := (so_fold (sq_lt pr) (fun s => s ++ [t]) ((Fl p).take k) (Fl to)).take 6) (s := (Fl p).getD k []) (bnd := 6 * (p + 1)) rfl (qn_6 p k) rfl (by omega) (by omega) (by omega) ht hprt (by rw [List.length_take]; omega) h2 hA hx hxl.1 ?_ h3 fun b_bc b_bp b_bt b_bl b_bf a_one a_two hQ => nm_r (nI_1 k) ?_
    · rw [sq_pz_sn]
      have := hxl.2
      omega
    · obtain ⟨q1, q2, q3, q4⟩ := hQ
      rw [← so_take] at q1 q4
      have eF : so_ins (sq_lt pr) ((Fl p).getD k [] ++ [t]) (so_fold (sq_lt pr) (fun s => s ++ [t]) ((Fl p).take k) (Fl to)) = so_fold (sq_lt pr) (fun s => s ++ [t]) ((Fl p).take (k + 1)) (Fl to) := by
        rw [htk, so_fold_app]; rfl
      rw [eF] at q1 q4
      refine ih (k + 1) b_bc b_bp b_bt b_bl b_bf a_one a_two (by omega) (fun q hq hne => ?_) q1 q4
      obtain ⟨g1, g2⟩ := h1 q hq hne
      refine ⟨(q2 q hne).trans g1, la_fr (fun j a j1 j2 _ hP => bd_P_fr (fun i hi => ⟨(q3 i (by omega)).2.2.1, (q3 i (by omega)).2.2.2⟩) (q3 j ?_) hP) g2⟩
      have : ((Fl q).take 6).length ≤ 6 := by rw [List.length_take]; omega
      omega
theorem xb_lead {n p to t : Nat} {pr : Nat → Nat} {Fl : Nat → List (List Nat)} {p0 p1 p2 : Int32} {a_bestCount a_bestPrice a_bestTokens a_bestLast a_bestFrom a_ways a_one a_two : Nat → Int32} (e0 : p0 = nI p) (e1 : p1 = nI to) (e2 : p2 = nI t) (hn : n ≤ 12) (hpt : p < to) (hto : to ≤ n) (ht : t < 20) (hprt : a_prices t = nI (pr t)) (hpt2 : pr t ≤ 99) (hsp : so_P (sq_lt pr) (Fl p)) (hst : so_P (sq_lt pr) (Fl to)) (hno : ∀ y ∈ Fl p, y ++ [t] ∉ Fl to) (hlen : ∀ y ∈ Fl p, y.length < 12 ∧ sq_pz pr y ≤ 5000)
    (hS : bs_S pr (6 * (p + 1)) n Fl a_bestCount a_bestPrice a_bestTokens a_bestLast a_bestFrom a_ways)
    (H : ∀ (b_bestCount b_bestPrice b_bestTokens b_bestLast b_bestFrom b_ways a_one a_two : Nat → Int32), bs_S pr (6 * (p + 1)) n (bs_F pr Fl p to t) b_bestCount b_bestPrice b_bestTokens b_bestLast b_bestFrom b_ways → post (f_words, f_isMerged, f_tokens, f_hasTree, f_nodes, f_textLength, f_resultSize, f_rowLength, f_partCount, f_queued, f_banned, a_counts, a_lengths, a_letters, a_tokenAt, a_nextAt, a_beforeAt, a_frequencies, a_lefts, a_rights, a_prices, a_spellLength, a_spelling, a_made, a_below, a_endsHere, a_nextSame, a_text, a_result, a_row, a_part, a_queueToken, a_queuePlace, a_linkedToken, a_linkedNext, a_linkedBefore, b_bestCount, b_bestPrice, b_bestTokens, b_bestLast, b_bestFrom, b_ways, a_one, a_two)) : wpX_lead post (f_words, f_isMerged, f_tokens, f_hasTree, f_nodes, f_textLength, f_resultSize, f_rowLength, f_partCount, f_queued, f_banned, a_counts, a_lengths, a_letters, a_tokenAt, a_nextAt, a_beforeAt, a_frequencies, a_lefts, a_rights, a_prices, a_spellLength, a_spelling, a_made, a_below, a_endsHere, a_nextSame, a_text, a_result, a_row, a_part, a_queueToken, a_queuePlace, a_linkedToken, a_linkedNext, a_linkedBefore, a_bestCount, a_bestPrice, a_bestTokens, a_bestLast, a_bestFrom, a_ways, a_one, a_two) p0 p1 p2 := by
  subst e0 e1 e2
  have hvp : vp_in (nI p) 13 := vp_in_nI (by omega) (by omega)
  have hvt : vp_in (nI to) 13 := vp_in_nI (by omega) (by omega)
  obtain ⟨s1, s2, s3⟩ := hS to hto
  obtain ⟨r1, r2, r3⟩ := hS p (by omega)
  refine And.intro hvt ⟨hvp, hvt, nm_r (e' := upd a_ways to (nI ((Fl to).length + (Fl p).length))) (by rw [nI_clamp (by omega), nI_clamp (by omega), s2, r2, nI_add]) ⟨((Fl p).take 6).length + 1, ?_⟩⟩
  refine xb_18 hn hpt hto ht hprt hpt2 hsp hst hno hlen (fun bc bp bt bl bf a_one a_two g => H bc bp bt bl bf _ a_one a_two fun q hq => ⟨(g q hq).1, ?_, (g q hq).2⟩) ((Fl p).take 6).length 0 _ _ _ _ _ _ _ (by omega) (fun q hq _ => ⟨(hS q hq).1, (hS q hq).2.2⟩) s1 s3
  by_cases e : q = to
  · subst e
    have eq : bs_F pr Fl p q t q = so_fold (sq_lt pr) (fun s => s ++ [t]) (Fl p) (Fl q) := if_pos rfl
    rw [eq, pk_us, so_fold_len]
  · have eq : bs_F pr Fl p to t q = Fl q := if_neg e
    rw [eq, pk_un e]; exact (hS q hq).2.1
/-- what all of the search needs: tokens, prices, the tree, the row -/
def xb_A (T N : Nat) (sp pa : Nat → List Nat) (pr : Nat → Nat) (row : List Nat) (f_rowLength : Int32) (a_prices a_below a_endsHere a_nextSame a_row : Nat → Int32) : Prop :=
  T ≤ 20 ∧ (∀ t, t < T → 1 ≤ (sp t).length) ∧ (∀ t, t < T → a_prices t = nI (pr t) ∧ pr t ≤ 99) ∧ tr_S N pa a_below ∧ tr_E N pa T sp 0 a_endsHere ∧ tr_P N pa T sp 0 ∧ tr_X T sp 0 a_nextSame ∧ f_rowLength = nI row.length ∧ row.length ≤ 12 ∧ ly a_row 0 row ∧ ∀ c ∈ row, c < 6
theorem xb_61 {J4 : Int32 → Int32 → Int32 → Int32 → Int32 → Int32 → Int32 → Int32 → Int32 → Int32 → Int32 → Int32 → Int32 →  (Nat → Int32) → (Nat → Int32) → (Nat → Int32) → (Nat → Int32) → (Nat → Int32) → (Nat → Int32) → (Nat → Int32) → (Nat → Int32) → (Nat → Int32) → (Nat → Int32) → (Nat → Int32) → (Nat → Int32) → (Nat → Int32) → (Nat → Int32) → (Nat → Int32) → (Nat → Int32) → (Nat → Int32) → (Nat → Int32) → (Nat → Int32) → (Nat → Int32) → (Nat → Int32) → (Nat → Int32) → (Nat → Int32) → (Nat → Int32) → (Nat → Int32) → (Nat → Int32) → (Nat → Int32) → (Nat → Int32) → (Nat → Int32) → (Nat → Int32) → (Nat → Int32) → (Nat → Int32) → (Nat → Int32) →  Prop} {T N p m i : Nat} {sp pa : Nat → List Nat} {pr : Nat → Nat} {row : List Nat} (hA : xb_A T N sp pa pr row f_rowLength a_prices a_below a_endsHere a_nextSame a_row) (hpi : p ≤ i) (hi : i < row.length)
    (H : ∀ (Fl : Nat → List (List Nat)) (a_bestCount a_bestPrice a_bestTokens a_bestLast a_bestFrom a_ways a_one a_two : Nat → Int32), bs_G T sp pr f_banned row p (i + 1) 0 Fl → bs_S pr (6 * (p + 1)) row.length Fl a_bestCount a_bestPrice a_bestTokens a_bestLast a_bestFrom a_ways → J4 (nI m) (nI (i + 1)) f_words f_isMerged f_tokens f_hasTree f_nodes f_textLength f_resultSize f_rowLength f_partCount f_queued f_banned a_counts a_lengths a_letters a_tokenAt a_nextAt a_beforeAt a_frequencies a_lefts a_rights a_prices a_spellLength a_spelling a_made a_below a_endsHere a_nextSame a_text a_result a_row a_part a_queueToken a_queuePlace a_linkedToken a_linkedNext a_linkedBefore a_bestCount a_bestPrice a_bestTokens a_bestLast a_bestFrom a_ways a_one a_two) :
    ∀ (fu x x5 : Nat) (r : Int32) (Fl : Nat → List (List Nat)) (a_bestCount a_bestPrice a_bestTokens a_bestLast a_bestFrom a_ways a_one a_two : Nat → Int32), T - x < fu → x5 ≤ x → x5 ≤ 20 → tr_U T sp f_banned ((row.drop p).take (i + 1 - p)) x r → bs_G T sp pr f_banned row p i x Fl → bs_S pr (6 * (p + 1)) row.length Fl a_bestCount a_bestPrice a_bestTokens a_bestLast a_bestFrom a_ways → wX_goFrom_61 post J4 (nI p) (nI m) (nI i) fu r (nI x5) f_words f_isMerged f_tokens f_hasTree f_nodes f_textLength f_resultSize f_rowLength f_partCount f_queued f_banned a_counts a_lengths a_letters a_tokenAt a_nextAt a_beforeAt a_frequencies a_lefts a_rights a_prices a_spellLength a_spelling a_made a_below a_endsHere a_nextSame a_text a_result a_row a_part a_queueToken a_queuePlace a_linkedToken a_linkedNext a_linkedBefore a_bestCount a_bestPrice a_bestTokens a_bestLast a_bestFrom a_ways a_one a_two := by
  obtain ⟨a1, a2, a3, a4, a5, a6, a7, a8, a9, a10, a11⟩ := hA
  intro fu
  induction fu with
  | zero => intro x x5 r Fl bc bp bt bl bf wy a_one a_two h; omega
  | succ fu ih =>
    intro x x5 r Fl bc bp bt bl bf wy a_one a_two hfu h5 h20 hU hG hS
    rcases hU with ⟨t, t1, t2, t3, t4, t5, t6⟩ | ⟨t1, t2⟩
    · subst t5
      obtain ⟨g1, g2⟩ := bs_lead a2 hG hpi hi t2 t1 t4 t3 t6
      refine br_f (nI_ge (b := 20) (by omega) (by omega)) (br_f (nI_pos (by omega)) ?_)
      refine xb_lead (n := row.length) rfl (nI_1 i) rfl a9 (by omega) (by omega) (by omega) (a3 t t2).1 (a3 t t2).2 (hG p (by omega)).1 (hG (i + 1) (by omega)).1 g1 (fun y hy => ?_) hS fun bc bp bt bl bf wy a_one a_two gS => And.intro (vp_in_nI (by omega) (by omega)) ?_
      · have hy' := (bs_start a2 hG (by omega)).mp hy
        have hl := sq_S_len (fun t h => a2 t h.1) y hy'
        rw [List.length_take] at hl
        have hz := sq_pz_le (pr := pr) (m := 99) y fun u hu => (a3 u (hy'.1 u hu).1).2
        exact ⟨by omega, by omega⟩
      · rw [nI_clamp (n := t) (by omega)]
        have hF := a7 t (by omega) t2
        rw [t3] at hF
        obtain ⟨r', r1, r2⟩ := xt_us (f_words := f_words) (f_isMerged := f_isMerged) (f_tokens := f_tokens) (f_hasTree := f_hasTree) (f_nodes := f_nodes) (f_textLength := f_textLength) (f_resultSize := f_resultSize) (f_rowLength := f_rowLength) (f_partCount := f_partCount) (f_queued := f_queued) (f_banned := f_banned) (a_counts := a_counts) (a_lengths := a_lengths) (a_letters := a_letters) (a_tokenAt := a_tokenAt) (a_nextAt := a_nextAt) (a_beforeAt := a_beforeAt) (a_frequencies := a_frequencies) (a_lefts := a_lefts) (a_rights := a_rights) (a_prices := a_prices) (a_spellLength := a_spellLength) (a_spelling := a_spelling) (a_made := a_made) (a_below := a_below) (a_endsHere := a_endsHere) (a_nextSame := a_nextSame) (a_text := a_text) (a_result := a_result) (a_row := a_row) (a_part := a_part) (a_queueToken := a_queueToken) (a_queuePlace := a_queuePlace) (a_linkedToken := a_linkedToken) (a_linkedNext := a_linkedNext) (a_linkedBefore := a_linkedBefore) (a_bestCount := bc) (a_bestPrice := bp) (a_bestTokens := bt) (a_bestLast := bl) (a_bestFrom := bf) (a_ways := wy) (a_one := a_one) (a_two := a_two) a1 a7 hF
        exact r2 _ (nm_r (nI_1 x5) (ih (t + 1) (x5 + 1) r' _ bc bp bt bl bf wy a_one a_two (by omega) (by omega) (by omega) r1 g2 gS))
    · subst t1
      have hn := bs_next hG t2
      have hJ := H Fl bc bp bt bl bf wy a_one a_two hn hS
      by_cases e : 20 ≤ x5
      · exact br_t (nI_le (a := 20) e (by omega)) (nm_r (nI_1 i) hJ)
      · exact br_f (nI_ge (b := 20) (by omega) (by omega)) (br_t qn_n1 (nm_r (nI_1 i) hJ))
theorem xb_4 {T N p : Nat} {sp pa : Nat → List Nat} {pr : Nat → Nat} {row : List Nat} (hA : xb_A T N sp pa pr row f_rowLength a_prices a_below a_endsHere a_nextSame a_row) (hp : p < row.length)
    (H : ∀ (Fl : Nat → List (List Nat)) (a_bestCount a_bestPrice a_bestTokens a_bestLast a_bestFrom a_ways a_one a_two : Nat → Int32), bs_G T sp pr f_banned row (p + 1) (p + 1) 0 Fl → bs_S pr (6 * (p + 1)) row.length Fl a_bestCount a_bestPrice a_bestTokens a_bestLast a_bestFrom a_ways → post (f_words, f_isMerged, f_tokens, f_hasTree, f_nodes, f_textLength, f_resultSize, f_rowLength, f_partCount, f_queued, f_banned, a_counts, a_lengths, a_letters, a_tokenAt, a_nextAt, a_beforeAt, a_frequencies, a_lefts, a_rights, a_prices, a_spellLength, a_spelling, a_made, a_below, a_endsHere, a_nextSame, a_text, a_result, a_row, a_part, a_queueToken, a_queuePlace, a_linkedToken, a_linkedNext, a_linkedBefore, a_bestCount, a_bestPrice, a_bestTokens, a_bestLast, a_bestFrom, a_ways, a_one, a_two)) :
    ∀ (fu i m : Nat) (Fl : Nat → List (List Nat)) (a_bestCount a_bestPrice a_bestTokens a_bestLast a_bestFrom a_ways a_one a_two : Nat → Int32), row.length - i < fu → p ≤ i → i ≤ row.length → ((m < N ∧ pa m = (row.drop p).take (i - p) ∧ (m ≠ 0 ∨ i = p)) ∨ (p < i ∧ m = 0 ∧ ∀ t, t < T → sp t <+: row.drop p → (sp t).length < i - p)) → bs_G T sp pr f_banned row p i 0 Fl → bs_S pr (6 * (p + 1)) row.length Fl a_bestCount a_bestPrice a_bestTokens a_bestLast a_bestFrom a_ways → wX_goFrom_4 post (nI p) fu (nI m) (nI i) f_words f_isMerged f_tokens f_hasTree f_nodes f_textLength f_resultSize f_rowLength f_partCount f_queued f_banned a_counts a_lengths a_letters a_tokenAt a_nextAt a_beforeAt a_frequencies a_lefts a_rights a_prices a_spellLength a_spelling a_made a_below a_endsHere a_nextSame a_text a_result a_row a_part a_queueToken a_queuePlace a_linkedToken a_linkedNext a_linkedBefore a_bestCount a_bestPrice a_bestTokens a_bestLast a_bestFrom a_ways a_one a_two := by
  have hA' := hA
  obtain ⟨a1, a2, a3, a4, a5, a6, a7, a8, a9, a10, a11⟩ := hA'
  intro fu
  induction fu with
  | zero => intro i m Fl bc bp bt bl bf wy a_one a_two h; omega
  | succ fu ih =>
    intro i m Fl bc bp bt bl bf wy a_one a_two hfu hpi hi hst hG hS
    by_cases ei : i = row.length
    · exact br_t (by rw [a8]; exact nI_le (by omega) (by omega)) (H Fl bc bp bt bl bf wy a_one a_two (bs_done a2 hG fun u _ _ h => by omega) hS)
    · have hi' : i < row.length := by omega
      refine br_f (by rw [a8]; exact nI_ge (by omega) (by omega)) ?_
      have go : ∀ (hm : m < N) (hpm : pa m = (row.drop p).take (i - p)), wX_goFrom_21 post (wX_goFrom_4 post (nI p) fu) (nI p) (nI m) (nI i) f_words f_isMerged f_tokens f_hasTree f_nodes f_textLength f_resultSize f_rowLength f_partCount f_queued f_banned a_counts a_lengths a_letters a_tokenAt a_nextAt a_beforeAt a_frequencies a_lefts a_rights a_prices a_spellLength a_spelling a_made a_below a_endsHere a_nextSame a_text a_result a_row a_part a_queueToken a_queuePlace a_linkedToken a_linkedNext a_linkedBefore bc bp bt bl bf wy a_one a_two := by
        intro hm hpm
        have hN := a4.2.1
        have hc : a_row i = nI (row.getD i 0) := ly_at0 a10 hi'
        have hc6 : row.getD i 0 < 6 := a11 _ (ly_mem hi')
        refine And.intro (vp_in_nI (by omega) (by omega)) ?_
        rw [nI_clamp (n := i) (by omega), hc, qn_6]
        refine ⟨vp_in_nI (by omega) (by omega), ?_⟩
        rw [nI_clamp (n := 6 * m + row.getD i 0) (by omega)]
        have htk := sp_take1 hpi hi'
        rcases a4.2.2.2.2.2 m (row.getD i 0) hm hc6 with ⟨k, k1, k2, k3, k4⟩ | ⟨k1, k2⟩
        · rw [k4]
          rw [hpm, ← htk] at k3
          refine nm_e (br_f (qn_ne0 (by omega) (by omega)) ⟨vp_in_nI (by omega) (by omega), ?_⟩)
          rw [nI_clamp (n := k) (by omega)]
          have hF := a5 k k2
          rw [k3] at hF
          obtain ⟨r', r1, r2⟩ := xt_us (f_words := f_words) (f_isMerged := f_isMerged) (f_tokens := f_tokens) (f_hasTree := f_hasTree) (f_nodes := f_nodes) (f_textLength := f_textLength) (f_resultSize := f_resultSize) (f_rowLength := f_rowLength) (f_partCount := f_partCount) (f_queued := f_queued) (f_banned := f_banned) (a_counts := a_counts) (a_lengths := a_lengths) (a_letters := a_letters) (a_tokenAt := a_tokenAt) (a_nextAt := a_nextAt) (a_beforeAt := a_beforeAt) (a_frequencies := a_frequencies) (a_lefts := a_lefts) (a_rights := a_rights) (a_prices := a_prices) (a_spellLength := a_spellLength) (a_spelling := a_spelling) (a_made := a_made) (a_below := a_below) (a_endsHere := a_endsHere) (a_nextSame := a_nextSame) (a_text := a_text) (a_result := a_result) (a_row := a_row) (a_part := a_part) (a_queueToken := a_queueToken) (a_queuePlace := a_queuePlace) (a_linkedToken := a_linkedToken) (a_linkedNext := a_linkedNext) (a_linkedBefore := a_linkedBefore) (a_bestCount := bc) (a_bestPrice := bp) (a_bestTokens := bt) (a_bestLast := bl) (a_bestFrom := bf) (a_ways := wy) (a_one := a_one) (a_two := a_two) a1 a7 hF
          refine r2 _ ⟨T + 1, ?_⟩
          exact xb_61 hA hpi hi' (fun Fl bc bp bt bl bf wy a_one a_two g1 g2 => ih (i + 1) k Fl bc bp bt bl bf wy a_one a_two (by omega) (by omega) (by omega) (Or.inl ⟨k2, k3, Or.inl (by omega)⟩) g1 g2) (T + 1) 0 0 r' Fl bc bp bt bl bf wy a_one a_two (by omega) (Nat.le_refl _) (by omega) r1 hG hS
        · rw [k1]
          rw [hpm, ← htk] at k2
          have hno : ∀ t, t < T → sp t <+: row.drop p → ¬ i + 1 - p ≤ (sp t).length := by
            intro t u1 u2 u3
            obtain ⟨j, j1, j2⟩ := a6 t (by omega) u1 (i + 1 - p) u3
            refine k2 j j1 (j2.trans ?_)
            have := List.prefix_iff_eq_take.mp u2
            rw [this, List.take_take, Nat.min_eq_left u3]
          have hU : tr_U T sp f_banned ((row.drop p).take (i + 1 - p)) 0 (-1) := Or.inr ⟨rfl, fun u _ u2 u3 => by
            have hpre : sp u <+: row.drop p := u3 ▸ List.take_prefix _ _
            have hul : (sp u).length = i + 1 - p := by rw [u3, List.length_take, List.length_drop]; omega
            exact absurd (by omega) (hno u u2 hpre)⟩
          refine nm_e (br_t rfl ⟨T + 1, ?_⟩)
          exact xb_61 (m := 0) hA hpi hi' (fun Fl bc bp bt bl bf wy a_one a_two g1 g2 => ih (i + 1) 0 Fl bc bp bt bl bf wy a_one a_two (by omega) (by omega) (by omega) (Or.inr ⟨by omega, rfl, fun t u1 u2 => by have := hno t u1 u2; omega⟩) g1 g2) (T + 1) 0 0 (-1) Fl bc bp bt bl bf wy a_one a_two (by omega) (Nat.le_refl _) (by omega) hU hG hS
      rcases hst with ⟨m1, m2, m3⟩ | ⟨m1, m2, m3⟩
      · by_cases e : i = p
        · exact br_t (by rw [e]) (go m1 m2)
        · exact br_f (qn_ne (by omega) (by omega) e) (br_f (qn_ne0 (by have := a4.2.1; omega) (by omega)) (go m1 m2))
      · subst m2
        refine br_f (qn_ne (by omega) (by omega) (by omega)) (br_t rfl (H Fl bc bp bt bl bf wy a_one a_two (bs_done a2 hG fun u u1 u2 _ => ?_) hS))
        have := m3 u u1 u2; omega
theorem xb_78 {T N : Nat} {sp pa : Nat → List Nat} {pr : Nat → Nat} {row : List Nat} (hA : xb_A T N sp pa pr row f_rowLength a_prices a_below a_endsHere a_nextSame a_row)
    (H : ∀ (Fl : Nat → List (List Nat)) (a_bestCount a_bestPrice a_bestTokens a_bestLast a_bestFrom a_ways a_one a_two : Nat → Int32), sq_A T sp pr f_banned row (Fl row.length) → bs_S pr 78 row.length Fl a_bestCount a_bestPrice a_bestTokens a_bestLast a_bestFrom a_ways → post (f_words, f_isMerged, f_tokens, f_hasTree, f_nodes, f_textLength, f_resultSize, f_rowLength, f_partCount, f_queued, f_banned, a_counts, a_lengths, a_letters, a_tokenAt, a_nextAt, a_beforeAt, a_frequencies, a_lefts, a_rights, a_prices, a_spellLength, a_spelling, a_made, a_below, a_endsHere, a_nextSame, a_text, a_result, a_row, a_part, a_queueToken, a_queuePlace, a_linkedToken, a_linkedNext, a_linkedBefore, a_bestCount, a_bestPrice, a_bestTokens, a_bestLast, a_bestFrom, a_ways, a_one, a_two)) :
    ∀ (d p : Nat) (Fl : Nat → List (List Nat)) (a_bestCount a_bestPrice a_bestTokens a_bestLast a_bestFrom a_ways a_one a_two : Nat → Int32), p + d = row.length → bs_G T sp pr f_banned row p p 0 Fl → bs_S pr (6 * (p + 1)) row.length Fl a_bestCount a_bestPrice a_bestTokens a_bestLast a_bestFrom a_ways → wX_findBest_78 post (d + 1) (nI p) f_words f_isMerged f_tokens f_hasTree f_nodes f_textLength f_resultSize f_rowLength f_partCount f_queued f_banned a_counts a_lengths a_letters a_tokenAt a_nextAt a_beforeAt a_frequencies a_lefts a_rights a_prices a_spellLength a_spelling a_made a_below a_endsHere a_nextSame a_text a_result a_row a_part a_queueToken a_queuePlace a_linkedToken a_linkedNext a_linkedBefore a_bestCount a_bestPrice a_bestTokens a_bestLast a_bestFrom a_ways a_one a_two := by
  have hA' := hA
  obtain ⟨a1, a2, a3, a4, a5, a6, a7, a8, a9, a10, a11⟩ := hA'
  intro d
  induction d with
  | zero =>
    intro p Fl bc bp bt bl bf wy a_one a_two hd hG hS
    have e : p = row.length := by omega
    subst e
    exact br_t (by rw [a8]; exact nI_le (Nat.le_refl _) (by omega)) (H Fl bc bp bt bl bf wy a_one a_two (bs_end a2 hG) (bs_S_up hS (by omega)))
  | succ d ih =>
    intro p Fl bc bp bt bl bf wy a_one a_two hd hG hS
    refine br_f (by rw [a8]; exact nI_ge (by omega) (by omega)) (Exists.intro (row.length + 1) ?_)
    refine xb_4 hA (by omega) (fun Fl bc bp bt bl bf wy a_one a_two g1 g2 => nm_r (nI_1 p) (ih (p + 1) Fl bc bp bt bl bf wy a_one a_two (by omega) g1 (bs_S_up g2 (by omega)))) (row.length + 1) p 0 Fl bc bp bt bl bf wy a_one a_two (by omega) (Nat.le_refl _) (by omega) (Or.inl ⟨by have := a4.1; omega, ?_, Or.inr rfl⟩) hG hS
    rw [Nat.sub_self, List.take_zero]; exact a4.2.2.1
theorem xb_6 {T N : Nat} {sp pa : Nat → List Nat} {pr : Nat → Nat} {row : List Nat} {a_bestPrice a_bestTokens a_bestLast a_bestFrom a_one a_two : Nat → Int32} (hA : xb_A T N sp pa pr row f_rowLength a_prices a_below a_endsHere a_nextSame a_row)
    (H : ∀ (Fl : Nat → List (List Nat)) (a_bestCount a_bestPrice a_bestTokens a_bestLast a_bestFrom a_ways a_one a_two : Nat → Int32), sq_A T sp pr f_banned row (Fl row.length) → bs_S pr 78 row.length Fl a_bestCount a_bestPrice a_bestTokens a_bestLast a_bestFrom a_ways → post (f_words, f_isMerged, f_tokens, f_hasTree, f_nodes, f_textLength, f_resultSize, f_rowLength, f_partCount, f_queued, f_banned, a_counts, a_lengths, a_letters, a_tokenAt, a_nextAt, a_beforeAt, a_frequencies, a_lefts, a_rights, a_prices, a_spellLength, a_spelling, a_made, a_below, a_endsHere, a_nextSame, a_text, a_result, a_row, a_part, a_queueToken, a_queuePlace, a_linkedToken, a_linkedNext, a_linkedBefore, a_bestCount, a_bestPrice, a_bestTokens, a_bestLast, a_bestFrom, a_ways, a_one, a_two)) :
    ∀ (d p : Nat) (a_bestCount a_ways : Nat → Int32), p + d = row.length + 1 → (∀ q, q < p → a_bestCount q = 0 ∧ a_ways q = 0) → wX_findBest_6 post f_words f_isMerged f_tokens f_hasTree f_nodes f_textLength f_resultSize f_rowLength f_partCount f_queued f_banned (d + 1) (nI p) a_counts a_lengths a_letters a_tokenAt a_nextAt a_beforeAt a_frequencies a_lefts a_rights a_prices a_spellLength a_spelling a_made a_below a_endsHere a_nextSame a_text a_result a_row a_part a_queueToken a_queuePlace a_linkedToken a_linkedNext a_linkedBefore a_bestCount a_bestPrice a_bestTokens a_bestLast a_bestFrom a_ways a_one a_two := by
  have hA' := hA
  obtain ⟨a1, a2, a3, a4, a5, a6, a7, a8, a9, a10, a11⟩ := hA'
  intro d
  induction d with
  | zero =>
    intro p bc wy hd h0
    refine br_t (by rw [a8]; exact nI_lt (by omega) (by omega)) (nm_e (nm_e (nm_e (nm_e (nm_e (nm_e ⟨row.length + 1, ?_⟩))))))
    refine xb_78 hA H row.length 0 (fun q => if q = 0 then [[]] else []) _ _ _ _ _ _ _ _ (by omega) (bs_init a2) fun q hq => ?_
    by_cases e : q = 0
    · subst e
      exact ⟨pk_us, pk_us, ⟨pk_us, pk_us, trivial, by simp, (by show (0 : Nat) < 100000; decide), fun t h => absurd h List.not_mem_nil⟩, trivial⟩
    · dsimp only
      rw [if_neg e, pk_un e, pk_un e]
      exact ⟨(h0 q (by omega)).1, (h0 q (by omega)).2, trivial⟩
  | succ d ih =>
    intro p bc wy hd h0
    have hv : vp_in (nI p) 13 := vp_in_nI (by omega) (by omega)
    refine br_f (by rw [a8]; exact nI_nlt (by omega) (by omega)) ⟨hv, nm_r (e' := upd bc p 0) (by rw [nI_clamp (by omega)]) ⟨hv, nm_r (e' := upd wy p 0) (by rw [nI_clamp (by omega)]) (nm_r (nI_1 p) (ih (p + 1) _ _ (by omega) fun q hq => ?_))⟩⟩
    by_cases e : q = p
    · subst e; exact ⟨pk_us, pk_us⟩
    · rw [pk_un e, pk_un e]; exact h0 q (by omega)
end XB
section XBT
variable {f_words f_isMerged f_tokens f_hasTree f_nodes f_textLength f_resultSize f_rowLength f_partCount f_queued f_banned : Int32} {a_counts a_lengths a_letters a_tokenAt a_nextAt a_beforeAt a_frequencies a_lefts a_rights a_prices a_spellLength a_spelling a_made a_below a_endsHere a_nextSame a_text a_result a_row a_part a_queueToken a_queuePlace a_linkedToken a_linkedNext a_linkedBefore a_bestCount a_bestPrice a_bestTokens a_bestLast a_bestFrom a_ways a_one a_two : Nat → Int32}
theorem xb_best {post : SX → Prop} {T : Nat} {sp : Nat → List Nat} {pr : Nat → Nat} {row : List Nat} (ht : f_tokens = nI T) (h6 : 6 ≤ T) (hT : T ≤ 20) (hsp : ∀ t, t < T → a_spellLength t = nI (sp t).length ∧ (sp t).length ≤ 8 ∧ (∀ c ∈ sp t, c < 6) ∧ ly a_spelling (8 * t) (sp t)) (hsp1 : ∀ t, t < T → 1 ≤ (sp t).length) (h1 : ∀ t, t < 6 → sp t = [t]) (hM : f_hasTree = 0 ∨ (f_hasTree = 1 ∧ tr_T T sp a_below a_endsHere a_nextSame)) (hP : ∀ t, t < T → a_prices t = nI (pr t) ∧ pr t ≤ 99) (hs : f_rowLength = nI row.length) (hrl : row.length ≤ 12) (hr : ly a_row 0 row) (hB : ∀ c ∈ row, c < 6)
    (H : ∀ (f_nodes : Int32) (a_below a_endsHere a_nextSame a_bestCount a_bestPrice a_bestTokens a_bestLast a_bestFrom a_ways a_one a_two : Nat → Int32) (Fl : Nat → List (List Nat)), tr_T T sp a_below a_endsHere a_nextSame → sq_A T sp pr f_banned row (Fl row.length) → bs_S pr 78 row.length Fl a_bestCount a_bestPrice a_bestTokens a_bestLast a_bestFrom a_ways → post (f_words, f_isMerged, f_tokens, 1, f_nodes, f_textLength, f_resultSize, f_rowLength, f_partCount, f_queued, f_banned, a_counts, a_lengths, a_letters, a_tokenAt, a_nextAt, a_beforeAt, a_frequencies, a_lefts, a_rights, a_prices, a_spellLength, a_spelling, a_made, a_below, a_endsHere, a_nextSame, a_text, a_result, a_row, a_part, a_queueToken, a_queuePlace, a_linkedToken, a_linkedNext, a_linkedBefore, a_bestCount, a_bestPrice, a_bestTokens, a_bestLast, a_bestFrom, a_ways, a_one, a_two)) : wpX_findBest post (f_words, f_isMerged, f_tokens, f_hasTree, f_nodes, f_textLength, f_resultSize, f_rowLength, f_partCount, f_queued, f_banned, a_counts, a_lengths, a_letters, a_tokenAt, a_nextAt, a_beforeAt, a_frequencies, a_lefts, a_rights, a_prices, a_spellLength, a_spelling, a_made, a_below, a_endsHere, a_nextSame, a_text, a_result, a_row, a_part, a_queueToken, a_queuePlace, a_linkedToken, a_linkedNext, a_linkedBefore, a_bestCount, a_bestPrice, a_bestTokens, a_bestLast, a_bestFrom, a_ways, a_one, a_two) := by
  refine xt_make ht h6 hT hsp h1 hM fun f_nodes a_below a_endsHere a_nextSame hT' => ?_
  have hT2 := hT'
  obtain ⟨N, pa, t1, t2, t3, t4⟩ := hT2
  exact ⟨row.length + 2, xb_6 (N := N) (pa := pa) ⟨hT, hsp1, hP, t1, t2, t3, t4, hs, hrl, hr, hB⟩ (fun Fl b1 b2 b3 b4 b5 b6 b7 b8 g1 g2 => H f_nodes a_below a_endsHere a_nextSame b1 b2 b3 b4 b5 b6 b7 b8 Fl hT' g1 g2) (row.length + 1) 0 _ _ (by omega) (fun q h => by omega)⟩
theorem xb_27 {post : SX → Prop} {bnd : Nat} {s : List Nat} (hbnd : bnd ≤ 78) (H : ∀ b_part, ly b_part 0 s → post (f_words, f_isMerged, f_tokens, f_hasTree, f_nodes, f_textLength, f_resultSize, f_rowLength, f_partCount, f_queued, f_banned, a_counts, a_lengths, a_letters, a_tokenAt, a_nextAt, a_beforeAt, a_frequencies, a_lefts, a_rights, a_prices, a_spellLength, a_spelling, a_made, a_below, a_endsHere, a_nextSame, a_text, a_result, a_row, b_part, a_queueToken, a_queuePlace, a_linkedToken, a_linkedNext, a_linkedBefore, a_bestCount, a_bestPrice, a_bestTokens, a_bestLast, a_bestFrom, a_ways, a_one, a_two)) :
    ∀ (k : Nat) (ra ca : List Nat) (sa : Nat) (a_part : Nat → Int32), ra.length = k → k ≤ 12 → ra.reverse ++ ca = s → ly a_part k ca → bd_D a_bestLast a_bestFrom bnd sa ra → wX_takeBest_27 post f_words f_isMerged f_tokens f_hasTree f_nodes f_textLength f_resultSize f_rowLength f_partCount f_queued f_banned (k + 1) (nI sa) (nI k + (-1)) a_counts a_lengths a_letters a_tokenAt a_nextAt a_beforeAt a_frequencies a_lefts a_rights a_prices a_spellLength a_spelling a_made a_below a_endsHere a_nextSame a_text a_result a_row a_part a_queueToken a_queuePlace a_linkedToken a_linkedNext a_linkedBefore a_bestCount a_bestPrice a_bestTokens a_bestLast a_bestFrom a_ways a_one a_two := by
  intro k
  induction k with
  | zero =>
    intro ra ca sa a_part h1 hk e1 l1 g1
    have x1 : ra = [] := List.eq_nil_of_length_eq_zero h1
    subst x1
    have e1 : ca = s := e1
    subst e1
    exact br_t (by decide) (H a_part l1)
  | succ k ih =>
    intro ra ca sa a_part h1 hk e1 l1 g1
    cases ra with
    | nil => simp at h1
    | cons a ra =>
      obtain ⟨p1, p2, s1, p3, p4, p5⟩ := g1
      have hva : vp_in (nI sa) 78 := vp_in_nI p1 (by omega)
      rw [pk_m1]
      refine br_f (nI_pos (by omega)) ⟨hva, vp_in_nI (by omega) (by omega), ?_⟩
      rw [nI_clamp (n := k) (by omega), nI_clamp (n := sa) (by omega), p2, p3]
      refine nm_e ⟨hva, nm_e (nm_e (ih ra (a :: ca) s1 (upd a_part k (nI a)) (by simpa using h1) (by omega) (by rw [← e1]; simp) (ly_cons.mpr ⟨pk_us, ly_up l1 (by omega)⟩) p5))⟩
theorem xb_take {post : SX → Prop} {k n : Nat} {pr : Nat → Nat} {s : List Nat} {p0 : Int32} (e0 : p0 = nI k) (hs : f_rowLength = nI n) (hk : 6 * n + k < 78) (hP : bd_P pr 78 a_bestPrice a_bestTokens a_bestLast a_bestFrom (6 * n + k) s) (H : ∀ b_part, ly b_part 0 s → post (f_words, f_isMerged, f_tokens, f_hasTree, f_nodes, f_textLength, f_resultSize, f_rowLength, nI s.length, f_queued, f_banned, a_counts, a_lengths, a_letters, a_tokenAt, a_nextAt, a_beforeAt, a_frequencies, a_lefts, a_rights, a_prices, a_spellLength, a_spelling, a_made, a_below, a_endsHere, a_nextSame, a_text, a_result, a_row, b_part, a_queueToken, a_queuePlace, a_linkedToken, a_linkedNext, a_linkedBefore, a_bestCount, a_bestPrice, a_bestTokens, a_bestLast, a_bestFrom, a_ways, a_one, a_two)) : wpX_takeBest post (f_words, f_isMerged, f_tokens, f_hasTree, f_nodes, f_textLength, f_resultSize, f_rowLength, f_partCount, f_queued, f_banned, a_counts, a_lengths, a_letters, a_tokenAt, a_nextAt, a_beforeAt, a_frequencies, a_lefts, a_rights, a_prices, a_spellLength, a_spelling, a_made, a_below, a_endsHere, a_nextSame, a_text, a_result, a_row, a_part, a_queueToken, a_queuePlace, a_linkedToken, a_linkedNext, a_linkedBefore, a_bestCount, a_bestPrice, a_bestTokens, a_bestLast, a_bestFrom, a_ways, a_one, a_two) p0 := by
  subst e0 hs
  obtain ⟨d1, d2, d3, d4, d5, d6⟩ := hP
  refine nm_r (qn_6 n k) ⟨vp_in_nI hk (by omega), nm_r (e' := nI s.length) (by rw [nI_clamp (by omega)]; exact d2) (nm_r (e' := nI s.length + (-1)) (Int32.sub_eq_add_neg _ _) ⟨s.length + 1, ?_⟩)⟩
  exact xb_27 (Nat.le_refl _) H s.length s.reverse [] (6 * n + k) a_part (by simp) d4 (by simp) ly_nil d3
end XBT
end
section
/-! the component: rows, and the three ways of splitting -/
section XSP
variable {f_words f_isMerged f_tokens f_hasTree f_nodes f_textLength f_resultSize f_rowLength f_partCount f_queued f_banned : Int32} {a_counts a_lengths a_letters a_tokenAt a_nextAt a_beforeAt a_frequencies a_lefts a_rights a_prices a_spellLength a_spelling a_made a_below a_endsHere a_nextSame a_text a_result a_row a_part a_queueToken a_queuePlace a_linkedToken a_linkedNext a_linkedBefore a_bestCount a_bestPrice a_bestTokens a_bestLast a_bestFrom a_ways a_one a_two : Nat → Int32}
theorem xx_tw12 {post : SX → Prop} {w n : Nat} (hw : w < 12) (hn : n ≤ 8) (hs : a_lengths w = nI n) : ∀ d i : Nat, i + d = n → post (f_words, f_isMerged, f_tokens, f_hasTree, f_nodes, f_textLength, f_resultSize, f_rowLength, f_partCount, f_queued, f_banned, a_counts, a_lengths, a_letters, a_tokenAt, a_nextAt, a_beforeAt, a_frequencies, a_lefts, a_rights, a_prices, a_spellLength, a_spelling, a_made, a_below, a_endsHere, a_nextSame, a_text, a_result, qc a_row a_letters (8 * w) n, a_part, a_queueToken, a_queuePlace, a_linkedToken, a_linkedNext, a_linkedBefore, a_bestCount, a_bestPrice, a_bestTokens, a_bestLast, a_bestFrom, a_ways, a_one, a_two) → wX_takeWord_12 post (nI w) f_words f_isMerged f_tokens f_hasTree f_nodes f_textLength f_resultSize f_rowLength f_partCount f_queued f_banned (d + 1) (nI i) a_counts a_lengths a_letters a_tokenAt a_nextAt a_beforeAt a_frequencies a_lefts a_rights a_prices a_spellLength a_spelling a_made a_below a_endsHere a_nextSame a_text a_result (qc a_row a_letters (8 * w) i) a_part a_queueToken a_queuePlace a_linkedToken a_linkedNext a_linkedBefore a_bestCount a_bestPrice a_bestTokens a_bestLast a_bestFrom a_ways a_one a_two := by
  intro d
  induction d with
  | zero =>
    intro i hi hp
    have e : i = n := by omega
    subst e
    refine And.intro (vp_in_nI hw (by omega)) ?_
    rw [nI_clamp (n := w) (by omega), hs]
    exact br_t (nI_le (Nat.le_refl _) (by omega)) hp
  | succ d ih =>
    intro i hi hp
    refine And.intro (vp_in_nI hw (by omega)) ?_
    rw [nI_clamp (n := w) (by omega), hs, qn_8]
    refine br_f (nI_ge (by omega) (by omega)) ⟨vp_in_nI (by omega) (by omega), vp_in_nI (by omega) (by omega), nm_r (e' := qc a_row a_letters (8 * w) (i + 1)) ?_ (nm_r (nI_1 i) (ih (i + 1) (by omega) hp))⟩
    rw [nI_clamp (by omega), nI_clamp (by omega)]; exact qc_s _ _ _ _
theorem xx_tw {post : SX → Prop} {w n : Nat} {p0 : Int32} (e0 : p0 = nI w) (hw : w < 12) (hn : n ≤ 8) (hs : a_lengths w = nI n) (K : post (f_words, f_isMerged, f_tokens, f_hasTree, f_nodes, f_textLength, f_resultSize, nI n, f_partCount, f_queued, f_banned, a_counts, a_lengths, a_letters, a_tokenAt, a_nextAt, a_beforeAt, a_frequencies, a_lefts, a_rights, a_prices, a_spellLength, a_spelling, a_made, a_below, a_endsHere, a_nextSame, a_text, a_result, qc a_row a_letters (8 * w) n, a_part, a_queueToken, a_queuePlace, a_linkedToken, a_linkedNext, a_linkedBefore, a_bestCount, a_bestPrice, a_bestTokens, a_bestLast, a_bestFrom, a_ways, a_one, a_two)) : wpX_takeWord post (f_words, f_isMerged, f_tokens, f_hasTree, f_nodes, f_textLength, f_resultSize, f_rowLength, f_partCount, f_queued, f_banned, a_counts, a_lengths, a_letters, a_tokenAt, a_nextAt, a_beforeAt, a_frequencies, a_lefts, a_rights, a_prices, a_spellLength, a_spelling, a_made, a_below, a_endsHere, a_nextSame, a_text, a_result, a_row, a_part, a_queueToken, a_queuePlace, a_linkedToken, a_linkedNext, a_linkedBefore, a_bestCount, a_bestPrice, a_bestTokens, a_bestLast, a_bestFrom, a_ways, a_one, a_two) p0 := by
  subst e0
  refine And.intro (vp_in_nI hw (by omega)) (nm_r (e' := nI n) (by rw [nI_clamp (by omega)]; exact hs) ⟨n + 1, ?_⟩)
  have q := xx_tw12 hw hn hs n 0 (by omega) K
  rw [qc_0] at q
  exact q
theorem xx_tt10 {post : SX → Prop} {n : Nat} (hn : n ≤ 12) : ∀ d i : Nat, i + d = n → post (f_words, f_isMerged, f_tokens, f_hasTree, f_nodes, nI n, f_resultSize, f_rowLength, f_partCount, f_queued, f_banned, a_counts, a_lengths, a_letters, a_tokenAt, a_nextAt, a_beforeAt, a_frequencies, a_lefts, a_rights, a_prices, a_spellLength, a_spelling, a_made, a_below, a_endsHere, a_nextSame, a_text, a_result, qc a_row a_text 0 n, a_part, a_queueToken, a_queuePlace, a_linkedToken, a_linkedNext, a_linkedBefore, a_bestCount, a_bestPrice, a_bestTokens, a_bestLast, a_bestFrom, a_ways, a_one, a_two) → wX_takeText_10 post f_words f_isMerged f_tokens f_hasTree f_nodes (nI n) f_resultSize f_rowLength f_partCount f_queued f_banned (d + 1) (nI i) a_counts a_lengths a_letters a_tokenAt a_nextAt a_beforeAt a_frequencies a_lefts a_rights a_prices a_spellLength a_spelling a_made a_below a_endsHere a_nextSame a_text a_result (qc a_row a_text 0 i) a_part a_queueToken a_queuePlace a_linkedToken a_linkedNext a_linkedBefore a_bestCount a_bestPrice a_bestTokens a_bestLast a_bestFrom a_ways a_one a_two := by
  intro d
  induction d with
  | zero =>
    intro i hi hp
    have e : i = n := by omega
    subst e
    exact br_t (nI_le (Nat.le_refl _) (by omega)) hp
  | succ d ih =>
    intro i hi hp
    refine br_f (nI_ge (by omega) (by omega)) ⟨vp_in_nI (by omega) (by omega), vp_in_nI (by omega) (by omega), nm_r (e' := qc a_row a_text 0 (i + 1)) ?_ (nm_r (nI_1 i) (ih (i + 1) (by omega) hp))⟩
    rw [nI_clamp (by omega), ← qc_s, Nat.zero_add]
theorem xx_tt {post : SX → Prop} {n : Nat} (hn : n ≤ 12) (hs : f_textLength = nI n) (K : post (f_words, f_isMerged, f_tokens, f_hasTree, f_nodes, f_textLength, f_resultSize, nI n, f_partCount, f_queued, f_banned, a_counts, a_lengths, a_letters, a_tokenAt, a_nextAt, a_beforeAt, a_frequencies, a_lefts, a_rights, a_prices, a_spellLength, a_spelling, a_made, a_below, a_endsHere, a_nextSame, a_text, a_result, qc a_row a_text 0 n, a_part, a_queueToken, a_queuePlace, a_linkedToken, a_linkedNext, a_linkedBefore, a_bestCount, a_bestPrice, a_bestTokens, a_bestLast, a_bestFrom, a_ways, a_one, a_two)) : wpX_takeText post (f_words, f_isMerged, f_tokens, f_hasTree, f_nodes, f_textLength, f_resultSize, f_rowLength, f_partCount, f_queued, f_banned, a_counts, a_lengths, a_letters, a_tokenAt, a_nextAt, a_beforeAt, a_frequencies, a_lefts, a_rights, a_prices, a_spellLength, a_spelling, a_made, a_below, a_endsHere, a_nextSame, a_text, a_result, a_row, a_part, a_queueToken, a_queuePlace, a_linkedToken, a_linkedNext, a_linkedBefore, a_bestCount, a_bestPrice, a_bestTokens, a_bestLast, a_bestFrom, a_ways, a_one, a_two) := by
  subst hs
  have q := xx_tt10 hn n 0 (by omega) K
  rw [qc_0] at q
  exact Exists.intro (n + 1) q
/-- what all ways of splitting need of the component -/
def xt_A (T : Nat) (L R : Nat → Nat) (sp : Nat → List Nat) (pr : Nat → Nat) (mk : Nat → Nat → Nat) (f_tokens : Int32) (a_lefts a_rights a_prices a_spellLength a_spelling a_made : Nat → Int32) : Prop :=
  f_tokens = nI T ∧ T ≤ 20 ∧ yt_1 T sp ∧ yt_L T L R a_lefts a_rights ∧ (∀ t, t < T → a_spellLength t = nI (sp t).length ∧ (sp t).length ≤ 8 ∧ (∀ c ∈ sp t, c < 6) ∧ ly a_spelling (8 * t) (sp t)) ∧ (∀ t, t < T → 1 ≤ (sp t).length) ∧ (∀ t, t < T → a_prices t = nI (pr t) ∧ pr t ≤ 99) ∧ md_M T L R mk a_made
def xt_H (T : Nat) (sp : Nat → List Nat) (f_hasTree : Int32) (a_below a_endsHere a_nextSame : Nat → Int32) : Prop := f_hasTree = 0 ∨ (f_hasTree = 1 ∧ tr_T T sp a_below a_endsHere a_nextSame)
theorem xs_best {post : SX → Prop} {T : Nat} {L R pr : Nat → Nat} {sp : Nat → List Nat} {mk : Nat → Nat → Nat} {row : List Nat} (hA : xt_A T L R sp pr mk f_tokens a_lefts a_rights a_prices a_spellLength a_spelling a_made) (hH : xt_H T sp f_hasTree a_below a_endsHere a_nextSame) (hbn : ∀ t, t < 6 → ¬ nI t = f_banned) (hs : f_rowLength = nI row.length) (hrl : row.length ≤ 12) (hr : ly a_row 0 row) (hB : ∀ c ∈ row, c < 6)
    (K : ∀ (f_hasTree f_nodes : Int32) (a_below a_endsHere a_nextSame a_bestCount a_bestPrice a_bestTokens a_bestLast a_bestFrom a_ways a_one a_two : Nat → Int32) (l : List (List Nat)), xt_H T sp f_hasTree a_below a_endsHere a_nextSame → sq_A T sp pr f_banned row l → l ≠ [] → a_bestCount row.length = nI (l.take 6).length → a_ways row.length = nI l.length → la (bd_P pr 78 a_bestPrice a_bestTokens a_bestLast a_bestFrom) (6 * row.length) (l.take 6) → post (f_words, f_isMerged, f_tokens, f_hasTree, f_nodes, f_textLength, f_resultSize, f_rowLength, f_partCount, f_queued, f_banned, a_counts, a_lengths, a_letters, a_tokenAt, a_nextAt, a_beforeAt, a_frequencies, a_lefts, a_rights, a_prices, a_spellLength, a_spelling, a_made, a_below, a_endsHere, a_nextSame, a_text, a_result, a_row, a_part, a_queueToken, a_queuePlace, a_linkedToken, a_linkedNext, a_linkedBefore, a_bestCount, a_bestPrice, a_bestTokens, a_bestLast, a_bestFrom, a_ways, a_one, a_two)) : wpX_findBest post (f_words, f_isMerged, f_tokens, f_hasTree, f_nodes, f_textLength, f_resultSize, f_rowLength, f_partCount, f_queued, f_banned, a_counts, a_lengths, a_letters, a_tokenAt, a_nextAt, a_beforeAt, a_frequencies, a_lefts, a_rights, a_prices, a_spellLength, a_spelling, a_made, a_below, a_endsHere, a_nextSame, a_text, a_result, a_row, a_part, a_queueToken, a_queuePlace, a_linkedToken, a_linkedNext, a_linkedBefore, a_bestCount, a_bestPrice, a_bestTokens, a_bestLast, a_bestFrom, a_ways, a_one, a_two) := by
  obtain ⟨h1, h2, h3, h4, h5, h6, h7, h8⟩ := hA
  refine xb_best h1 h3.1 h2 h5 h6 h3.2.1 hH h7 hs hrl hr hB fun f_nodes a_below a_endsHere a_nextSame a_bestCount a_bestPrice a_bestTokens a_bestLast a_bestFrom a_ways a_one a_two Fl g1 g2 g3 => ?_
  obtain ⟨k1, k2, k3⟩ := g3 row.length (Nat.le_refl _)
  refine K 1 f_nodes a_below a_endsHere a_nextSame a_bestCount a_bestPrice a_bestTokens a_bestLast a_bestFrom a_ways a_one a_two (Fl row.length) (Or.inr ⟨rfl, g1⟩) g2 (fun e => ?_) k1 k2 k3
  have := (g2.2 row).mpr (sq_row h3 hbn hB)
  rw [e] at this; exact absurd this List.not_mem_nil
theorem xs_split {post : SX → Prop} {T v : Nat} {L R pr : Nat → Nat} {sp : Nat → List Nat} {mk : Nat → Nat → Nat} {row : List Nat} {p0 : Int32} (e0 : p0 = nI v) (hv : v ≤ 2) (hA : xt_A T L R sp pr mk f_tokens a_lefts a_rights a_prices a_spellLength a_spelling a_made) (hH : xt_H T sp f_hasTree a_below a_endsHere a_nextSame) (hbn : f_banned = -1) (hs : f_rowLength = nI row.length) (hrl : row.length ≤ 12) (hr : ly a_row 0 row) (hB : ∀ c ∈ row, c < 6)
    (K : ∀ (f_hasTree f_nodes f_queued : Int32) (a_below a_endsHere a_nextSame a_part a_queueToken a_queuePlace a_linkedToken a_linkedNext a_linkedBefore a_bestCount a_bestPrice a_bestTokens a_bestLast a_bestFrom a_ways a_one a_two : Nat → Int32) (ps : List Nat), xt_H T sp f_hasTree a_below a_endsHere a_nextSame → pw T L R sp pr f_banned v row ps → ly a_part 0 ps → post (f_words, f_isMerged, f_tokens, f_hasTree, f_nodes, f_textLength, f_resultSize, f_rowLength, nI ps.length, f_queued, f_banned, a_counts, a_lengths, a_letters, a_tokenAt, a_nextAt, a_beforeAt, a_frequencies, a_lefts, a_rights, a_prices, a_spellLength, a_spelling, a_made, a_below, a_endsHere, a_nextSame, a_text, a_result, a_row, a_part, a_queueToken, a_queuePlace, a_linkedToken, a_linkedNext, a_linkedBefore, a_bestCount, a_bestPrice, a_bestTokens, a_bestLast, a_bestFrom, a_ways, a_one, a_two)) : wpX_splitRow post (f_words, f_isMerged, f_tokens, f_hasTree, f_nodes, f_textLength, f_resultSize, f_rowLength, f_partCount, f_queued, f_banned, a_counts, a_lengths, a_letters, a_tokenAt, a_nextAt, a_beforeAt, a_frequencies, a_lefts, a_rights, a_prices, a_spellLength, a_spelling, a_made, a_below, a_endsHere, a_nextSame, a_text, a_result, a_row, a_part, a_queueToken, a_queuePlace, a_linkedToken, a_linkedNext, a_linkedBefore, a_bestCount, a_bestPrice, a_bestTokens, a_bestLast, a_bestFrom, a_ways, a_one, a_two) p0 := by
  subst e0
  have hA' := hA
  obtain ⟨h1, h2, h3, h4, h5, h6, h7, h8⟩ := hA'
  have hbt : ∀ t, t < 6 → ¬ nI t = f_banned := fun t h => by rw [hbn]; exact qn_ne1 (by omega)
  have hBT : ∀ c ∈ row, c < T := fun c h => by have := hB c h; have := h3.1; omega
  have hc : v = 0 ∨ v = 1 ∨ v = 2 := by omega
  rcases hc with e | e | e
  · subst e
    refine br_t rfl (xr_merge h3.1 h2 hrl hr hB h4 h8 hs fun f_queued b1 b2 b3 b4 b5 b_part g1 g2 => ?_)
    exact K _ _ f_queued _ _ _ b_part b1 b2 b3 b4 b5 _ _ _ _ _ _ _ _ _ hH ⟨fun _ => rfl, (fun h => nomatch h), (fun h => nomatch h), g2, mg_all_lt _ _ _ (by have := h3.1; omega) hBT⟩ g1
  · subst e
    refine br_f (by decide) (br_t rfl (xg_long h1 h3.1 h2 h5 h6 h3.2.1 hH hs hrl hr hB fun f_nodes b1 b2 b3 bs b_part g1 g2 g3 => ?_))
    obtain ⟨z1, z2⟩ := lf_R_b h6 bs 0 (by omega) g2
    exact K _ f_nodes _ b1 b2 b3 b_part _ _ _ _ _ _ _ _ _ _ _ _ _ bs (Or.inr ⟨rfl, g1⟩) ⟨(fun h => nomatch h), fun _ => by rw [hbn]; exact g2, (fun h => nomatch h), by omega, z2⟩ g3
  · subst e
    refine br_f (by decide) (br_f (by decide) (xs_best hA hH hbt hs hrl hr hB fun f_hasTree f_nodes a_below a_endsHere a_nextSame a_bestCount a_bestPrice a_bestTokens a_bestLast a_bestFrom a_ways a_one a_two l g1 g2 g3 g4 g5 g6 => ?_))
    cases l with
    | nil => exact absurd rfl g3
    | cons ps l =>
      have hps := (g2.2 ps).mp List.mem_cons_self
      have hpl : ps.length ≤ row.length := sq_S_len (fun t h => h6 t h.1) ps hps
      obtain ⟨p1, -⟩ : la (bd_P pr 78 a_bestPrice a_bestTokens a_bestLast a_bestFrom) (6 * row.length) (ps :: l.take 5) := g6
      refine xb_take (k := 0) (n := row.length) (s := ps) (pr := pr) rfl hs (by omega) p1 fun b_part hb => ?_
      exact K f_hasTree f_nodes _ a_below a_endsHere a_nextSame b_part _ _ _ _ _ a_bestCount a_bestPrice a_bestTokens a_bestLast a_bestFrom a_ways a_one a_two ps g1 ⟨(fun h => nomatch h), (fun h => nomatch h), fun _ => ⟨l, g2⟩, by omega, fun t h => (hps.1 t h).1⟩ hb
end XSP
end
section
/-! the relation between the two states -/
def rl_T (T : Nat) (L R pr : Nat → Nat) (mk : Nat → Nat → Nat) (sp : Nat → List Nat) (f_tokens : Int32) (a_lefts a_rights a_prices a_spellLength a_spelling a_made b_letters : Nat → Int32) : Prop :=
  f_tokens = nI T ∧ 6 ≤ T ∧ T ≤ 20 ∧ (∀ t, 6 ≤ t → t < T → a_lefts t = nI (L t) ∧ a_rights t = nI (R t) ∧ L t < t ∧ R t < t ∧ sp t = sp (L t) ++ sp (R t)) ∧ (∀ t, t < 6 → sp t = [t]) ∧
  (∀ t, t < T → a_spellLength t = nI (sp t).length ∧ 1 ≤ (sp t).length ∧ (sp t).length ≤ 8 ∧ (∀ c ∈ sp t, c < 6) ∧ ly a_spelling (8 * t) (sp t) ∧ ly b_letters (12 * t) (sp t)) ∧ (∀ t, t < T → a_prices t = nI (pr t) ∧ pr t ≤ 99) ∧ md_M T L R mk a_made
def rl_M (T W : Nat) (L R cn : Nat → Nat) (wd : Nat → List Nat) (f_isMerged : Int32) (tk nx bf fq : Nat → Int32) : Prop := f_isMerged = 0 ∨ (f_isMerged = 1 ∧ xm_M T W L R cn wd tk nx bf fq)
def rl_X (tx : List Nat) (f_textLength : Int32) (a_text : Nat → Int32) : Prop := f_textLength = nI tx.length ∧ tx.length ≤ 12 ∧ ly a_text 0 tx ∧ ∀ c ∈ tx, c < 6
def rl_R (rs : List Nat) (f_resultSize : Int32) (a_result b_result : Nat → Int32) : Prop := f_resultSize = nI rs.length ∧ rs.length ≤ 12 ∧ ly a_result 0 rs ∧ ly b_result 0 rs ∧ ∀ t ∈ rs, t < 20
def rl_G (f_words f_isMerged f_tokens f_hasTree f_textLength f_resultSize : Int32) (a_counts a_lengths a_letters a_tokenAt a_nextAt a_beforeAt a_frequencies a_lefts a_rights a_prices a_spellLength a_spelling a_made a_below a_endsHere a_nextSame a_text a_result b_letters b_result : Nat → Int32) : Prop :=
  ∃ (T W : Nat) (L R pr cn : Nat → Nat) (mk : Nat → Nat → Nat) (sp wd : Nat → List Nat) (tx rs : List Nat), xw_W W cn wd f_words a_counts a_lengths a_letters ∧ rl_T T L R pr mk sp f_tokens a_lefts a_rights a_prices a_spellLength a_spelling a_made b_letters ∧ rl_M T W L R cn wd f_isMerged a_tokenAt a_nextAt a_beforeAt a_frequencies ∧ xt_H T sp f_hasTree a_below a_endsHere a_nextSame ∧ rl_X tx f_textLength a_text ∧ rl_R rs f_resultSize a_result b_result
/-- the relation: what both keep alike is the same; the component's own tables hold what they should -/
def i_Rel (_ : Nat) (u : SX) (v : SY) : Prop := ∃ (f_words f_isMerged f_tokens f_hasTree f_nodes f_textLength f_resultSize f_rowLength f_partCount f_queued g_rowSize g_made g_kept : Int32) (a_counts a_lengths a_letters a_tokenAt a_nextAt a_beforeAt a_frequencies a_lefts a_rights a_prices a_spellLength a_spelling a_made a_below a_endsHere a_nextSame a_text a_result a_row a_part a_queueToken a_queuePlace a_linkedToken a_linkedNext a_linkedBefore a_bestCount a_bestPrice a_bestTokens a_bestLast a_bestFrom a_ways a_one a_two b_letters b_result b_row b_parts b_sums b_numbers b_splits b_tried b_begins : Nat → Int32), u = (f_words, f_isMerged, f_tokens, f_hasTree, f_nodes, f_textLength, f_resultSize, f_rowLength, f_partCount, f_queued, -1, a_counts, a_lengths, a_letters, a_tokenAt, a_nextAt, a_beforeAt, a_frequencies, a_lefts, a_rights, a_prices, a_spellLength, a_spelling, a_made, a_below, a_endsHere, a_nextSame, a_text, a_result, a_row, a_part, a_queueToken, a_queuePlace, a_linkedToken, a_linkedNext, a_linkedBefore, a_bestCount, a_bestPrice, a_bestTokens, a_bestLast, a_bestFrom, a_ways, a_one, a_two) ∧ v = (f_words, f_tokens, f_textLength, f_resultSize, g_rowSize, -1, g_made, g_kept, a_counts, a_lengths, a_letters, a_lefts, a_rights, a_prices, a_spellLength, b_letters, a_text, b_result, b_row, b_parts, b_sums, b_numbers, b_splits, b_tried, b_begins) ∧ rl_G f_words f_isMerged f_tokens f_hasTree f_textLength f_resultSize a_counts a_lengths a_letters a_tokenAt a_nextAt a_beforeAt a_frequencies a_lefts a_rights a_prices a_spellLength a_spelling a_made a_below a_endsHere a_nextSame a_text a_result b_letters b_result
theorem i_up {k : Nat} {u : SX} {v : SY} (h : i_Rel k u v) : i_Rel (k + 3) u v := h
section REL
variable {f_words f_isMerged f_tokens f_hasTree f_nodes f_textLength f_resultSize f_rowLength f_partCount f_queued g_rowSize g_made g_kept : Int32} {a_counts a_lengths a_letters a_tokenAt a_nextAt a_beforeAt a_frequencies a_lefts a_rights a_prices a_spellLength a_spelling a_made a_below a_endsHere a_nextSame a_text a_result a_row a_part a_queueToken a_queuePlace a_linkedToken a_linkedNext a_linkedBefore a_bestCount a_bestPrice a_bestTokens a_bestLast a_bestFrom a_ways a_one a_two b_letters b_result b_row b_parts b_sums b_numbers b_splits b_tried b_begins : Nat → Int32}
theorem rl_mk {k : Nat} (h : rl_G f_words f_isMerged f_tokens f_hasTree f_textLength f_resultSize a_counts a_lengths a_letters a_tokenAt a_nextAt a_beforeAt a_frequencies a_lefts a_rights a_prices a_spellLength a_spelling a_made a_below a_endsHere a_nextSame a_text a_result b_letters b_result) : i_Rel k (f_words, f_isMerged, f_tokens, f_hasTree, f_nodes, f_textLength, f_resultSize, f_rowLength, f_partCount, f_queued, -1, a_counts, a_lengths, a_letters, a_tokenAt, a_nextAt, a_beforeAt, a_frequencies, a_lefts, a_rights, a_prices, a_spellLength, a_spelling, a_made, a_below, a_endsHere, a_nextSame, a_text, a_result, a_row, a_part, a_queueToken, a_queuePlace, a_linkedToken, a_linkedNext, a_linkedBefore, a_bestCount, a_bestPrice, a_bestTokens, a_bestLast, a_bestFrom, a_ways, a_one, a_two) (f_words, f_tokens, f_textLength, f_resultSize, g_rowSize, -1, g_made, g_kept, a_counts, a_lengths, a_letters, a_lefts, a_rights, a_prices, a_spellLength, b_letters, a_text, b_result, b_row, b_parts, b_sums, b_numbers, b_splits, b_tried, b_begins) := ⟨f_words, f_isMerged, f_tokens, f_hasTree, f_nodes, f_textLength, f_resultSize, f_rowLength, f_partCount, f_queued, g_rowSize, g_made, g_kept, a_counts, a_lengths, a_letters, a_tokenAt, a_nextAt, a_beforeAt, a_frequencies, a_lefts, a_rights, a_prices, a_spellLength, a_spelling, a_made, a_below, a_endsHere, a_nextSame, a_text, a_result, a_row, a_part, a_queueToken, a_queuePlace, a_linkedToken, a_linkedNext, a_linkedBefore, a_bestCount, a_bestPrice, a_bestTokens, a_bestLast, a_bestFrom, a_ways, a_one, a_two, b_letters, b_result, b_row, b_parts, b_sums, b_numbers, b_splits, b_tried, b_begins, rfl, rfl, h⟩
end REL
theorem zz_el {k : Nat} {P : SX → SY → Prop} (h : ∀ (f_words f_isMerged f_tokens f_hasTree f_nodes f_textLength f_resultSize f_rowLength f_partCount f_queued g_rowSize g_made g_kept : Int32) (a_counts a_lengths a_letters a_tokenAt a_nextAt a_beforeAt a_frequencies a_lefts a_rights a_prices a_spellLength a_spelling a_made a_below a_endsHere a_nextSame a_text a_result a_row a_part a_queueToken a_queuePlace a_linkedToken a_linkedNext a_linkedBefore a_bestCount a_bestPrice a_bestTokens a_bestLast a_bestFrom a_ways a_one a_two b_letters b_result b_row b_parts b_sums b_numbers b_splits b_tried b_begins : Nat → Int32), rl_G f_words f_isMerged f_tokens f_hasTree f_textLength f_resultSize a_counts a_lengths a_letters a_tokenAt a_nextAt a_beforeAt a_frequencies a_lefts a_rights a_prices a_spellLength a_spelling a_made a_below a_endsHere a_nextSame a_text a_result b_letters b_result → P (f_words, f_isMerged, f_tokens, f_hasTree, f_nodes, f_textLength, f_resultSize, f_rowLength, f_partCount, f_queued, -1, a_counts, a_lengths, a_letters, a_tokenAt, a_nextAt, a_beforeAt, a_frequencies, a_lefts, a_rights, a_prices, a_spellLength, a_spelling, a_made, a_below, a_endsHere, a_nextSame, a_text, a_result, a_row, a_part, a_queueToken, a_queuePlace, a_linkedToken, a_linkedNext, a_linkedBefore, a_bestCount, a_bestPrice, a_bestTokens, a_bestLast, a_bestFrom, a_ways, a_one, a_two) (f_words, f_tokens, f_textLength, f_resultSize, g_rowSize, -1, g_made, g_kept, a_counts, a_lengths, a_letters, a_lefts, a_rights, a_prices, a_spellLength, b_letters, a_text, b_result, b_row, b_parts, b_sums, b_numbers, b_splits, b_tried, b_begins)) {u : SX} {v : SY} (I : i_Rel k u v) : P u v :=
  Exists.elim I fun f_words z0 => Exists.elim z0 fun f_isMerged z1 => Exists.elim z1 fun f_tokens z2 => Exists.elim z2 fun f_hasTree z3 => Exists.elim z3 fun f_nodes z4 => Exists.elim z4 fun f_textLength z5 => Exists.elim z5 fun f_resultSize z6 => Exists.elim z6 fun f_rowLength z7 => Exists.elim z7 fun f_partCount z8 => Exists.elim z8 fun f_queued z9 => Exists.elim z9 fun g_rowSize z10 => Exists.elim z10 fun g_made z11 => Exists.elim z11 fun g_kept z12 => Exists.elim z12 fun a_counts z13 => Exists.elim z13 fun a_lengths z14 => Exists.elim z14 fun a_letters z15 => Exists.elim z15 fun a_tokenAt z16 => Exists.elim z16 fun a_nextAt z17 => Exists.elim z17 fun a_beforeAt z18 => Exists.elim z18 fun a_frequencies z19 => Exists.elim z19 fun a_lefts z20 => Exists.elim z20 fun a_rights z21 => Exists.elim z21 fun a_prices z22 => Exists.elim z22 fun a_spellLength z23 => Exists.elim z23 fun a_spelling z24 => Exists.elim z24 fun a_made z25 => Exists.elim z25 fun a_below z26 => Exists.elim z26 fun a_endsHere z27 => Exists.elim z27 fun a_nextSame z28 => Exists.elim z28 fun a_text z29 => Exists.elim z29 fun a_result z30 => Exists.elim z30 fun a_row z31 => Exists.elim z31 fun a_part z32 => Exists.elim z32 fun a_queueToken z33 => Exists.elim z33 fun a_queuePlace z34 => Exists.elim z34 fun a_linkedToken z35 => Exists.elim z35 fun a_linkedNext z36 => Exists.elim z36 fun a_linkedBefore z37 => Exists.elim z37 fun a_bestCount z38 => Exists.elim z38 fun a_bestPrice z39 => Exists.elim z39 fun a_bestTokens z40 => Exists.elim z40 fun a_bestLast z41 => Exists.elim z41 fun a_bestFrom z42 => Exists.elim z42 fun a_ways z43 => Exists.elim z43 fun a_one z44 => Exists.elim z44 fun a_two z45 => Exists.elim z45 fun b_letters z46 => Exists.elim z46 fun b_result z47 => Exists.elim z47 fun b_row z48 => Exists.elim z48 fun b_parts z49 => Exists.elim z49 fun b_sums z50 => Exists.elim z50 fun b_numbers z51 => Exists.elim z51 fun b_splits z52 => Exists.elim z52 fun b_tried z53 => Exists.elim z53 fun b_begins z54 => (by obtain ⟨eu, ev, g⟩ := z54; subst eu; subst ev; exact h f_words f_isMerged f_tokens f_hasTree f_nodes f_textLength f_resultSize f_rowLength f_partCount f_queued g_rowSize g_made g_kept a_counts a_lengths a_letters a_tokenAt a_nextAt a_beforeAt a_frequencies a_lefts a_rights a_prices a_spellLength a_spelling a_made a_below a_endsHere a_nextSame a_text a_result a_row a_part a_queueToken a_queuePlace a_linkedToken a_linkedNext a_linkedBefore a_bestCount a_bestPrice a_bestTokens a_bestLast a_bestFrom a_ways a_one a_two b_letters b_result b_row b_parts b_sums b_numbers b_splits b_tried b_begins g)
end
section
/-! the owed: words, tokens that are looked at, the text -/
section SM
variable {f_words f_isMerged f_tokens f_hasTree f_nodes f_textLength f_resultSize f_rowLength f_partCount f_queued f_banned : Int32} {a_counts a_lengths a_letters a_tokenAt a_nextAt a_beforeAt a_frequencies a_lefts a_rights a_prices a_spellLength a_spelling a_made a_below a_endsHere a_nextSame a_text a_result a_row a_part a_queueToken a_queuePlace a_linkedToken a_linkedNext a_linkedBefore a_bestCount a_bestPrice a_bestTokens a_bestLast a_bestFrom a_ways a_one a_two : Nat → Int32}
theorem xk_no {pst : Int32 → Prop} {v1 : Int32} (h : v1 < 0 ∨ f_tokens ≤ v1) (H : pst 0) : wpX_isToken pst (f_words, f_isMerged, f_tokens, f_hasTree, f_nodes, f_textLength, f_resultSize, f_rowLength, f_partCount, f_queued, f_banned, a_counts, a_lengths, a_letters, a_tokenAt, a_nextAt, a_beforeAt, a_frequencies, a_lefts, a_rights, a_prices, a_spellLength, a_spelling, a_made, a_below, a_endsHere, a_nextSame, a_text, a_result, a_row, a_part, a_queueToken, a_queuePlace, a_linkedToken, a_linkedNext, a_linkedBefore, a_bestCount, a_bestPrice, a_bestTokens, a_bestLast, a_bestFrom, a_ways, a_one, a_two) v1 := by
  by_cases h0 : v1 < 0
  · exact br_t h0 H
  · exact br_f h0 (br_t (h.resolve_left h0) H)
theorem xk_yes {pst : Int32 → Prop} {T x : Nat} (ht : f_tokens = nI T) (hT : T ≤ 20) (hx : x < T) (H : pst 1) : wpX_isToken pst (f_words, f_isMerged, f_tokens, f_hasTree, f_nodes, f_textLength, f_resultSize, f_rowLength, f_partCount, f_queued, f_banned, a_counts, a_lengths, a_letters, a_tokenAt, a_nextAt, a_beforeAt, a_frequencies, a_lefts, a_rights, a_prices, a_spellLength, a_spelling, a_made, a_below, a_endsHere, a_nextSame, a_text, a_result, a_row, a_part, a_queueToken, a_queuePlace, a_linkedToken, a_linkedNext, a_linkedBefore, a_bestCount, a_bestPrice, a_bestTokens, a_bestLast, a_bestFrom, a_ways, a_one, a_two) (nI x) :=
  br_f (nI_pos (by omega)) (br_f (by rw [ht]; exact nI_ge hx (by omega)) H)
end SM
section SMY
variable {f_words f_tokens f_textSize f_resultSize f_rowSize f_barred f_made f_kept : Int32} {a_counts a_sizes a_spelled a_lefts a_rights a_prices a_lengths a_letters a_text a_result a_row a_parts a_sums a_numbers a_splits a_tried a_begins : Nat → Int32}
theorem yk_no {pst : Int32 → Prop} {v1 : Int32} (h : v1 < 0 ∨ f_tokens ≤ v1) (H : pst 1) : wpY_badToken pst (f_words, f_tokens, f_textSize, f_resultSize, f_rowSize, f_barred, f_made, f_kept, a_counts, a_sizes, a_spelled, a_lefts, a_rights, a_prices, a_lengths, a_letters, a_text, a_result, a_row, a_parts, a_sums, a_numbers, a_splits, a_tried, a_begins) v1 := by
  by_cases h0 : v1 < 0
  · exact br_t h0 H
  · exact br_f h0 (br_f (Int32.not_lt.mpr (h.resolve_left h0)) H)
theorem yk_yes {pst : Int32 → Prop} {T x : Nat} (ht : f_tokens = nI T) (hT : T ≤ 20) (hx : x < T) (H : pst 0) : wpY_badToken pst (f_words, f_tokens, f_textSize, f_resultSize, f_rowSize, f_barred, f_made, f_kept, a_counts, a_sizes, a_spelled, a_lefts, a_rights, a_prices, a_lengths, a_letters, a_text, a_result, a_row, a_parts, a_sums, a_numbers, a_splits, a_tried, a_begins) (nI x) :=
  br_f (nI_pos (by omega)) (br_t (by rw [ht]; exact nI_lt hx (by omega)) H)
theorem yk_lno {pst : Int32 → Prop} {v1 : Int32} (h : v1 < 0 ∨ (6 : Int32) ≤ v1) (H : pst 1) : wpY_badLetter pst (f_words, f_tokens, f_textSize, f_resultSize, f_rowSize, f_barred, f_made, f_kept, a_counts, a_sizes, a_spelled, a_lefts, a_rights, a_prices, a_lengths, a_letters, a_text, a_result, a_row, a_parts, a_sums, a_numbers, a_splits, a_tried, a_begins) v1 := by
  by_cases h0 : v1 < 0
  · exact br_t h0 H
  · refine br_f h0 (br_f (fun h5 => ?_) H)
    have h6 := h.resolve_left h0
    rw [Int32.le_iff_toInt_le] at h5 h6
    have e5 : (5 : Int32).toInt = 5 := by decide
    have e6 : (6 : Int32).toInt = 6 := by decide
    omega
theorem yk_lyes {pst : Int32 → Prop} {c : Nat} (hc : c < 6) (H : pst 0) : wpY_badLetter pst (f_words, f_tokens, f_textSize, f_resultSize, f_rowSize, f_barred, f_made, f_kept, a_counts, a_sizes, a_spelled, a_lefts, a_rights, a_prices, a_lengths, a_letters, a_text, a_result, a_row, a_parts, a_sums, a_numbers, a_splits, a_tried, a_begins) (nI c) :=
  br_f (nI_pos (by omega)) (br_t (nI_le (b := 5) (by omega) (by omega)) H)
end SMY
theorem xk_lno {pst : Int32 → Prop} {v1 : Int32} (h : v1 < 0 ∨ (6 : Int32) ≤ v1) (H : pst 0) : wpX_isLetter pst v1 := by
  by_cases h0 : v1 < 0
  · exact br_t h0 H
  · exact br_f h0 (br_t (h.resolve_left h0) H)
theorem xk_lyes {pst : Int32 → Prop} {c : Nat} (hc : c < 6) (H : pst 1) : wpX_isLetter pst (nI c) :=
  br_f (nI_pos (by omega)) (br_f (nI_ge (b := 6) hc (by omega)) H)
theorem pk_ix6 (x : Int32) : (x < 0 ∨ (6 : Int32) ≤ x) ∨ ∃ j : Nat, j < 6 ∧ x = nI j := by
  rcases pk_ix x (n := 6) (by decide) with h | h | h
  · exact Or.inl (Or.inl h)
  · exact Or.inl (Or.inr h)
  · exact Or.inr h
theorem pk_ixT (x : Int32) {T : Nat} {f : Int32} (hf : f = nI T) (hT : T ≤ 20) : (x < 0 ∨ f ≤ x) ∨ ∃ j : Nat, j < T ∧ x = nI j := by
  rcases pk_ix x (n := T) (by omega) with h | h | h
  · exact Or.inl (Or.inl h)
  · exact Or.inl (Or.inr (by rw [hf]; exact h))
  · exact Or.inr h
theorem i_vc_word {k : Nat} {u : SX} {v : SY} (I : i_Rel k u v) (hk : k + 3 ≤ 1536) (v1 : Int32) : wpX_word (fun r u' => wpY_word (fun r' v' => r' = r ∧ i_Rel (k + 3) u' v') v v1) u v1 := by
  refine zz_el (P := fun u v => wpX_word (fun r u' => wpY_word (fun r' v' => r' = r ∧ i_Rel (k + 3) u' v') v v1) u v1) ?_ I
  intro f_words f_isMerged f_tokens f_hasTree f_nodes f_textLength f_resultSize f_rowLength f_partCount f_queued g_rowSize g_made g_kept a_counts a_lengths a_letters a_tokenAt a_nextAt a_beforeAt a_frequencies a_lefts a_rights a_prices a_spellLength a_spelling a_made a_below a_endsHere a_nextSame a_text a_result a_row a_part a_queueToken a_queuePlace a_linkedToken a_linkedNext a_linkedBefore a_bestCount a_bestPrice a_bestTokens a_bestLast a_bestFrom a_ways a_one a_two b_letters b_result b_row b_parts b_sums b_numbers b_splits b_tried b_begins G
  have G' := G
  obtain ⟨T, W, L, R, pr, cn, mk, sp, wd, tx, rs, g1, g2, g3, g4, g5, g6⟩ := G'
  by_cases h1 : v1 < 1
  · exact br_t h1 (br_t h1 ⟨rfl, rl_mk G⟩)
  by_cases h50 : v1 ≤ 50
  · obtain ⟨w1, w2, w3⟩ := g1
    subst w1
    have h0 : ¬ v1 < 0 := fun h => h1 (Int32.lt_trans h (by decide))
    obtain ⟨c, hc, rfl⟩ := nI_of2 (M := 50) (n := 50) (by decide) h0 h50
    by_cases hW : W = 12
    · subst hW
      exact br_f h1 (br_t h50 (br_f (by decide) (br_f h1 (br_t h50 (br_t rfl ⟨rfl, rl_mk G⟩)))))
    · have hv : vp_in (nI W) 12 := vp_in_nI (by omega) (by omega)
      refine br_f h1 (br_t h50 (br_t (nI_lt (b := 12) (by omega) (by omega)) ⟨hv, ?_⟩))
      rw [nI_clamp (n := W) (by omega), nI_1]
      refine nm_e ⟨hv, nm_e (nm_e (br_f h1 (br_t h50 (br_f (qn_ne (b := 12) (by omega) (by omega) hW) ⟨hv, ?_⟩))))⟩
      rw [nI_clamp (n := W) (by omega), nI_1]
      refine nm_e ⟨hv, nm_e (nm_e ⟨rfl, rl_mk ⟨T, W + 1, L, R, pr, fun j => if j = W then c else cn j, mk, sp, fun j => if j = W then [] else wd j, tx, rs, ⟨rfl, by omega, fun j hj => ?_⟩, g2, Or.inl rfl, g4, g5, g6⟩⟩)⟩
      by_cases e : j = W
      · subst e
        dsimp only
        rw [if_pos rfl, if_pos rfl, pk_us, pk_us]
        exact ⟨rfl, rfl, by simp, ly_nil, fun c h => absurd h List.not_mem_nil, hc⟩
      · dsimp only
        rw [if_neg e, if_neg e, pk_un e, pk_un e]
        exact w3 j (by omega)
  · exact br_f h1 (br_f h50 (br_f h1 (br_f h50 ⟨rfl, rl_mk G⟩)))
theorem i_vc_spell {k : Nat} {u : SX} {v : SY} (I : i_Rel k u v) (hk : k + 3 ≤ 1536) (v1 : Int32) : wpX_spell (fun r u' => wpY_spell (fun r' v' => r' = r ∧ i_Rel (k + 3) u' v') v v1) u v1 := by
  refine zz_el (P := fun u v => wpX_spell (fun r u' => wpY_spell (fun r' v' => r' = r ∧ i_Rel (k + 3) u' v') v v1) u v1) ?_ I
  intro f_words f_isMerged f_tokens f_hasTree f_nodes f_textLength f_resultSize f_rowLength f_partCount f_queued g_rowSize g_made g_kept a_counts a_lengths a_letters a_tokenAt a_nextAt a_beforeAt a_frequencies a_lefts a_rights a_prices a_spellLength a_spelling a_made a_below a_endsHere a_nextSame a_text a_result a_row a_part a_queueToken a_queuePlace a_linkedToken a_linkedNext a_linkedBefore a_bestCount a_bestPrice a_bestTokens a_bestLast a_bestFrom a_ways a_one a_two b_letters b_result b_row b_parts b_sums b_numbers b_splits b_tried b_begins G
  have G' := G
  obtain ⟨T, W, L, R, pr, cn, mk, sp, wd, tx, rs, g1, g2, g3, g4, g5, g6⟩ := G'
  unfold wpX_spell wpY_spell
  dsimp only
  rcases pk_ix6 v1 with hb | ⟨c, hc, rfl⟩
  · refine xk_lno hb (br_t rfl ?_)
    exact yk_lno hb (br_f (by decide) ⟨rfl, rl_mk G⟩)
  · obtain ⟨w1, w2, w3⟩ := g1
    subst w1
    by_cases hW : W = 0
    · subst hW
      refine xk_lyes hc (br_f (by decide) (br_t rfl ?_))
      exact yk_lyes hc (br_t rfl (br_t rfl ⟨rfl, rl_mk G⟩))
    · obtain ⟨w, rfl⟩ : ∃ w, W = w + 1 := ⟨W - 1, by omega⟩
      obtain ⟨v1, v2, v3, v4, v5, v6⟩ := w3 w (by omega)
      have hv : vp_in (nI w) 12 := vp_in_nI (by omega) (by omega)
      have hn0 : ¬ nI (w + 1) = 0 := qn_ne0 (by omega) (by omega)
      refine xk_lyes hc (br_f (by decide) (br_f hn0 (nm_r (nI_pred w) ⟨hv, ?_⟩)))
      rw [nI_clamp (n := w) (by omega), v2]
      by_cases h8 : (wd w).length = 8
      · refine br_f (by rw [h8]; decide) (yk_lyes hc (br_t rfl (br_f hn0 (nm_r (nI_pred w) ⟨hv, ?_⟩))))
        rw [nI_clamp (n := w) (by omega), v2, h8]
        exact br_t rfl ⟨rfl, rl_mk G⟩
      · refine br_t (nI_lt (b := 8) (by omega) (by omega)) ⟨hv, ?_⟩
        rw [qn_8, nI_1, nI_clamp (n := 8 * w + (wd w).length) (by omega)]
        have hv2 : vp_in (nI (8 * w + (wd w).length)) 96 := vp_in_nI (by omega) (by omega)
        refine ⟨hv2, nm_e ⟨hv, hv, nm_e ⟨hv, ?_⟩⟩⟩
        rw [pk_us]
        refine yk_lyes hc (br_t rfl (br_f hn0 (nm_r (nI_pred w) ⟨hv, ?_⟩)))
        rw [nI_clamp (n := w) (by omega), v2]
        refine br_f (qn_ne (b := 8) (by omega) (by omega) h8) ⟨hv, ?_⟩
        rw [qn_8, nI_1, nI_clamp (n := 8 * w + (wd w).length) (by omega)]
        refine ⟨hv2, nm_e ⟨hv, hv, nm_e ⟨hv, ?_⟩⟩⟩
        rw [pk_us]
        refine ⟨rfl, rl_mk ⟨T, w + 1, L, R, pr, cn, mk, sp, fun j => if j = w then wd w ++ [c] else wd j, tx, rs, ⟨rfl, w2, fun j hj => ?_⟩, g2, Or.inl rfl, g4, g5, g6⟩⟩
        by_cases e : j = w
        · subst e
          dsimp only
          rw [if_pos rfl, pk_us]
          refine ⟨v1, by simp, by simp; omega, ly_sn (ly_up v4 (by omega)) pk_us, fun d hd => ?_, v6⟩
          rcases List.mem_append.mp hd with h | h
          · exact v5 d h
          · rw [List.mem_singleton.mp h]; exact hc
        · dsimp only
          rw [if_neg e, pk_un e]
          obtain ⟨y1, y2, y3, y4, y5, y6⟩ := w3 j hj
          exact ⟨y1, y2, y3, ly_up y4 (by omega), y5, y6⟩
theorem i_vc_dropWord {k : Nat} {u : SX} {v : SY} (I : i_Rel k u v) (hk : k + 3 ≤ 1536) : wpX_dropWord (fun r u' => wpY_dropWord (fun r' v' => r' = r ∧ i_Rel (k + 3) u' v') v) u := by
  refine zz_el (P := fun u v => wpX_dropWord (fun r u' => wpY_dropWord (fun r' v' => r' = r ∧ i_Rel (k + 3) u' v') v) u) ?_ I
  intro f_words f_isMerged f_tokens f_hasTree f_nodes f_textLength f_resultSize f_rowLength f_partCount f_queued g_rowSize g_made g_kept a_counts a_lengths a_letters a_tokenAt a_nextAt a_beforeAt a_frequencies a_lefts a_rights a_prices a_spellLength a_spelling a_made a_below a_endsHere a_nextSame a_text a_result a_row a_part a_queueToken a_queuePlace a_linkedToken a_linkedNext a_linkedBefore a_bestCount a_bestPrice a_bestTokens a_bestLast a_bestFrom a_ways a_one a_two b_letters b_result b_row b_parts b_sums b_numbers b_splits b_tried b_begins G
  have G' := G
  obtain ⟨T, W, L, R, pr, cn, mk, sp, wd, tx, rs, g1, g2, g3, g4, g5, g6⟩ := G'
  obtain ⟨w1, w2, w3⟩ := g1
  subst w1
  by_cases hW : W = 0
  · subst hW
    exact br_t rfl (br_t rfl ⟨rfl, rl_mk G⟩)
  · obtain ⟨w, rfl⟩ : ∃ w, W = w + 1 := ⟨W - 1, by omega⟩
    have hn0 : ¬ nI (w + 1) = 0 := qn_ne0 (by omega) (by omega)
    exact br_f hn0 (nm_r (nI_pred w) (br_f hn0 (nm_r (nI_pred w) ⟨rfl, rl_mk ⟨T, w, L, R, pr, cn, mk, sp, wd, tx, rs, ⟨rfl, by omega, fun j hj => w3 j (by omega)⟩, g2, Or.inl rfl, g4, g5, g6⟩⟩)))
theorem i_vc_unlearn {k : Nat} {u : SX} {v : SY} (I : i_Rel k u v) (hk : k + 3 ≤ 1536) : wpX_unlearn (fun r u' => wpY_unlearn (fun r' v' => r' = r ∧ i_Rel (k + 3) u' v') v) u := by
  refine zz_el (P := fun u v => wpX_unlearn (fun r u' => wpY_unlearn (fun r' v' => r' = r ∧ i_Rel (k + 3) u' v') v) u) ?_ I
  intro f_words f_isMerged f_tokens f_hasTree f_nodes f_textLength f_resultSize f_rowLength f_partCount f_queued g_rowSize g_made g_kept a_counts a_lengths a_letters a_tokenAt a_nextAt a_beforeAt a_frequencies a_lefts a_rights a_prices a_spellLength a_spelling a_made a_below a_endsHere a_nextSame a_text a_result a_row a_part a_queueToken a_queuePlace a_linkedToken a_linkedNext a_linkedBefore a_bestCount a_bestPrice a_bestTokens a_bestLast a_bestFrom a_ways a_one a_two b_letters b_result b_row b_parts b_sums b_numbers b_splits b_tried b_begins G
  have G' := G
  obtain ⟨T, W, L, R, pr, cn, mk, sp, wd, tx, rs, g1, g2, g3, g4, g5, g6⟩ := G'
  obtain ⟨t1, t2, t3, t4, t5, t6, t7, t8⟩ := g2
  subst t1
  by_cases h6 : T = 6
  · subst h6
    exact br_t rfl (br_t rfl ⟨rfl, rl_mk G⟩)
  · obtain ⟨t, rfl⟩ : ∃ t, T = t + 1 := ⟨T - 1, by omega⟩
    obtain ⟨l1, l2, l3, l4, l5⟩ := t4 t (by omega) (by omega)
    have hne : ¬ nI (t + 1) = 6 := qn_ne (b := 6) (by omega) (by omega) h6
    have hv : vp_in (nI t) 20 := vp_in_nI (by omega) (by omega)
    refine br_f hne (nm_r (nI_pred t) ⟨hv, hv, ?_⟩)
    rw [nI_clamp (n := t) (by omega), l1, l2, qn_20]
    refine ⟨vp_in_nI (by omega) (by omega), ?_⟩
    rw [nI_clamp (n := 20 * L t + R t) (by omega)]
    refine nm_e (br_f hne (nm_r (nI_pred t) ⟨rfl, rl_mk ⟨t, W, L, R, pr, cn, fun a b => if a = L t ∧ b = R t then 0 else mk a b, sp, wd, tx, rs, g1, ⟨rfl, by omega, by omega, fun s a b => t4 s a (by omega), t5, fun s a => t6 s (by omega), fun s a => t7 s (by omega), ?_, ?_, ?_⟩, Or.inl rfl, Or.inl rfl, g5, g6⟩⟩))
    · intro a b ha hb
      dsimp only
      by_cases e : a = L t ∧ b = R t
      · obtain ⟨rfl, rfl⟩ := e
        rw [if_pos ⟨rfl, rfl⟩, pk_us]; rfl
      · rw [if_neg e, pk_un (by omega)]; exact t8.1 a b ha hb
    · intro a b hab
      dsimp only at hab ⊢
      by_cases e : a = L t ∧ b = R t
      · rw [if_pos e] at hab; exact absurd rfl hab
      · rw [if_neg e] at hab ⊢
        obtain ⟨m1, m2, m3, m4⟩ := t8.2.1 a b hab
        refine ⟨m1, ?_, m3, m4⟩
        have : mk a b ≠ t := fun h => e (by rw [h] at m3 m4; exact ⟨m3.symm, m4.symm⟩)
        omega
    · intro s s1 s2
      dsimp only
      have hs := t8.2.2 s s1 (by omega)
      by_cases e : L s = L t ∧ R s = R t
      · have ht := t8.2.2 t (by omega) (by omega)
        rw [e.1, e.2, ht] at hs
        omega
      · rw [if_neg e]; exact hs
end
section
/-! the owed: what is only looked at; prices; the text -/
theorem i_vc_tokens {k : Nat} {u : SX} {v : SY} (I : i_Rel k u v) (hk : k + 3 ≤ 1536) : wpX_tokens (fun r => wpY_tokens (fun r' => r' = r ∧ i_Rel (k + 3) u v) v) u := by
  refine zz_el (P := fun u v => wpX_tokens (fun r => wpY_tokens (fun r' => r' = r ∧ i_Rel (k + 3) u v) v) u) ?_ I
  intro f_words f_isMerged f_tokens f_hasTree f_nodes f_textLength f_resultSize f_rowLength f_partCount f_queued g_rowSize g_made g_kept a_counts a_lengths a_letters a_tokenAt a_nextAt a_beforeAt a_frequencies a_lefts a_rights a_prices a_spellLength a_spelling a_made a_below a_endsHere a_nextSame a_text a_result a_row a_part a_queueToken a_queuePlace a_linkedToken a_linkedNext a_linkedBefore a_bestCount a_bestPrice a_bestTokens a_bestLast a_bestFrom a_ways a_one a_two b_letters b_result b_row b_parts b_sums b_numbers b_splits b_tried b_begins G
  exact ⟨rfl, rl_mk G⟩
theorem i_vc_left {k : Nat} {u : SX} {v : SY} (I : i_Rel k u v) (hk : k + 3 ≤ 1536) (v1 : Int32) : wpX_left (fun r => wpY_left (fun r' => r' = r ∧ i_Rel (k + 3) u v) v v1) u v1 := by
  refine zz_el (P := fun u v => wpX_left (fun r => wpY_left (fun r' => r' = r ∧ i_Rel (k + 3) u v) v v1) u v1) ?_ I
  intro f_words f_isMerged f_tokens f_hasTree f_nodes f_textLength f_resultSize f_rowLength f_partCount f_queued g_rowSize g_made g_kept a_counts a_lengths a_letters a_tokenAt a_nextAt a_beforeAt a_frequencies a_lefts a_rights a_prices a_spellLength a_spelling a_made a_below a_endsHere a_nextSame a_text a_result a_row a_part a_queueToken a_queuePlace a_linkedToken a_linkedNext a_linkedBefore a_bestCount a_bestPrice a_bestTokens a_bestLast a_bestFrom a_ways a_one a_two b_letters b_result b_row b_parts b_sums b_numbers b_splits b_tried b_begins G
  have G' := G
  obtain ⟨T, W, L, R, pr, cn, mk, sp, wd, tx, rs, g1, g2, g3, g4, g5, g6⟩ := G'
  unfold wpX_left wpY_left
  dsimp only
  rcases pk_ixT v1 g2.1 g2.2.2.1 with hb | ⟨x, hx, rfl⟩
  · refine xk_no hb (br_t rfl ?_)
    exact yk_no hb (br_f (by decide) ⟨rfl, rl_mk G⟩)
  · refine xk_yes g2.1 g2.2.2.1 hx (br_f (by decide) ?_)
    have hv : vp_in (nI x) 20 := vp_in_nI (by have := g2.2.2.1; omega) (by omega)
    by_cases h6 : (6 : Int32) ≤ nI x
    · refine br_t h6 ⟨hv, ?_⟩
      exact yk_yes g2.1 g2.2.2.1 hx (br_t rfl (br_t h6 ⟨hv, rfl, rl_mk G⟩))
    · refine br_f h6 ?_
      exact yk_yes g2.1 g2.2.2.1 hx (br_t rfl (br_f h6 ⟨rfl, rl_mk G⟩))
theorem i_vc_right {k : Nat} {u : SX} {v : SY} (I : i_Rel k u v) (hk : k + 3 ≤ 1536) (v1 : Int32) : wpX_right (fun r => wpY_right (fun r' => r' = r ∧ i_Rel (k + 3) u v) v v1) u v1 := by
  refine zz_el (P := fun u v => wpX_right (fun r => wpY_right (fun r' => r' = r ∧ i_Rel (k + 3) u v) v v1) u v1) ?_ I
  intro f_words f_isMerged f_tokens f_hasTree f_nodes f_textLength f_resultSize f_rowLength f_partCount f_queued g_rowSize g_made g_kept a_counts a_lengths a_letters a_tokenAt a_nextAt a_beforeAt a_frequencies a_lefts a_rights a_prices a_spellLength a_spelling a_made a_below a_endsHere a_nextSame a_text a_result a_row a_part a_queueToken a_queuePlace a_linkedToken a_linkedNext a_linkedBefore a_bestCount a_bestPrice a_bestTokens a_bestLast a_bestFrom a_ways a_one a_two b_letters b_result b_row b_parts b_sums b_numbers b_splits b_tried b_begins G
  have G' := G
  obtain ⟨T, W, L, R, pr, cn, mk, sp, wd, tx, rs, g1, g2, g3, g4, g5, g6⟩ := G'
  unfold wpX_right wpY_right
  dsimp only
  rcases pk_ixT v1 g2.1 g2.2.2.1 with hb | ⟨x, hx, rfl⟩
  · refine xk_no hb (br_t rfl ?_)
    exact yk_no hb (br_f (by decide) ⟨rfl, rl_mk G⟩)
  · refine xk_yes g2.1 g2.2.2.1 hx (br_f (by decide) ?_)
    have hv : vp_in (nI x) 20 := vp_in_nI (by have := g2.2.2.1; omega) (by omega)
    by_cases h6 : (6 : Int32) ≤ nI x
    · refine br_t h6 ⟨hv, ?_⟩
      exact yk_yes g2.1 g2.2.2.1 hx (br_t rfl (br_t h6 ⟨hv, rfl, rl_mk G⟩))
    · refine br_f h6 ?_
      exact yk_yes g2.1 g2.2.2.1 hx (br_t rfl (br_f h6 ⟨rfl, rl_mk G⟩))
theorem i_vc_length {k : Nat} {u : SX} {v : SY} (I : i_Rel k u v) (hk : k + 3 ≤ 1536) (v1 : Int32) : wpX_length (fun r => wpY_length (fun r' => r' = r ∧ i_Rel (k + 3) u v) v v1) u v1 := by
  refine zz_el (P := fun u v => wpX_length (fun r => wpY_length (fun r' => r' = r ∧ i_Rel (k + 3) u v) v v1) u v1) ?_ I
  intro f_words f_isMerged f_tokens f_hasTree f_nodes f_textLength f_resultSize f_rowLength f_partCount f_queued g_rowSize g_made g_kept a_counts a_lengths a_letters a_tokenAt a_nextAt a_beforeAt a_frequencies a_lefts a_rights a_prices a_spellLength a_spelling a_made a_below a_endsHere a_nextSame a_text a_result a_row a_part a_queueToken a_queuePlace a_linkedToken a_linkedNext a_linkedBefore a_bestCount a_bestPrice a_bestTokens a_bestLast a_bestFrom a_ways a_one a_two b_letters b_result b_row b_parts b_sums b_numbers b_splits b_tried b_begins G
  have G' := G
  obtain ⟨T, W, L, R, pr, cn, mk, sp, wd, tx, rs, g1, g2, g3, g4, g5, g6⟩ := G'
  unfold wpX_length wpY_length
  dsimp only
  rcases pk_ixT v1 g2.1 g2.2.2.1 with hb | ⟨x, hx, rfl⟩
  · refine xk_no hb (br_t rfl ?_)
    exact yk_no hb (br_f (by decide) ⟨rfl, rl_mk G⟩)
  · have hv : vp_in (nI x) 20 := vp_in_nI (by have := g2.2.2.1; omega) (by omega)
    refine xk_yes g2.1 g2.2.2.1 hx (br_f (by decide) ⟨hv, ?_⟩)
    exact yk_yes g2.1 g2.2.2.1 hx (br_t rfl ⟨hv, rfl, rl_mk G⟩)
theorem i_vc_letter {k : Nat} {u : SX} {v : SY} (I : i_Rel k u v) (hk : k + 3 ≤ 1536) (v1 : Int32) (v2 : Int32) : wpX_letter (fun r => wpY_letter (fun r' => r' = r ∧ i_Rel (k + 3) u v) v v1 v2) u v1 v2 := by
  refine zz_el (P := fun u v => wpX_letter (fun r => wpY_letter (fun r' => r' = r ∧ i_Rel (k + 3) u v) v v1 v2) u v1 v2) ?_ I
  intro f_words f_isMerged f_tokens f_hasTree f_nodes f_textLength f_resultSize f_rowLength f_partCount f_queued g_rowSize g_made g_kept a_counts a_lengths a_letters a_tokenAt a_nextAt a_beforeAt a_frequencies a_lefts a_rights a_prices a_spellLength a_spelling a_made a_below a_endsHere a_nextSame a_text a_result a_row a_part a_queueToken a_queuePlace a_linkedToken a_linkedNext a_linkedBefore a_bestCount a_bestPrice a_bestTokens a_bestLast a_bestFrom a_ways a_one a_two b_letters b_result b_row b_parts b_sums b_numbers b_splits b_tried b_begins G
  have G' := G
  obtain ⟨T, W, L, R, pr, cn, mk, sp, wd, tx, rs, g1, g2, g3, g4, g5, g6⟩ := G'
  unfold wpX_letter wpY_letter
  dsimp only
  rcases pk_ixT v1 g2.1 g2.2.2.1 with hb | ⟨x, hx, rfl⟩
  · refine xk_no hb (br_t rfl ?_)
    exact yk_no hb (br_f (by decide) ⟨rfl, rl_mk G⟩)
  · have hT := g2.2.2.1
    have hv : vp_in (nI x) 20 := vp_in_nI (by omega) (by omega)
    obtain ⟨s1, s2, s3, s4, s5, s6⟩ := g2.2.2.2.2.2.1 x hx
    refine xk_yes g2.1 g2.2.2.1 hx (br_f (by decide) ?_)
    by_cases h0 : v2 < 0
    · refine br_t h0 ?_
      exact yk_yes g2.1 g2.2.2.1 hx (br_t rfl (br_t h0 ⟨rfl, rl_mk G⟩))
    · refine br_f h0 ⟨hv, ?_⟩
      rw [nI_clamp (n := x) (by omega), s1]
      obtain ⟨j, hj, rfl⟩ := nI_of h0
      by_cases hl : j < (sp x).length
      · have hjl : nI j < nI (sp x).length := nI_lt hl (by omega)
        refine br_t hjl ?_
        rw [qn_8, nI_clamp (n := 8 * x + j) (by omega), s5 j hl]
        refine ⟨vp_in_nI (by omega) (by omega), ?_⟩
        refine yk_yes g2.1 g2.2.2.1 hx (br_t rfl (br_f h0 ⟨hv, ?_⟩))
        refine br_t hjl ?_
        rw [qn_12, nI_clamp (n := 12 * x + j) (by omega), s6 j hl]
        exact ⟨vp_in_nI (by omega) (by omega), rfl, rl_mk G⟩
      · have hjl : ¬ nI j < nI (sp x).length := nI_nlt (by omega) hj
        refine br_f hjl ?_
        exact yk_yes g2.1 g2.2.2.1 hx (br_t rfl (br_f h0 ⟨hv, br_f hjl ⟨rfl, rl_mk G⟩⟩))
theorem i_vc_price {k : Nat} {u : SX} {v : SY} (I : i_Rel k u v) (hk : k + 3 ≤ 1536) (v1 : Int32) (v2 : Int32) : wpX_price (fun r u' => wpY_price (fun r' v' => r' = r ∧ i_Rel (k + 3) u' v') v v1 v2) u v1 v2 := by
  refine zz_el (P := fun u v => wpX_price (fun r u' => wpY_price (fun r' v' => r' = r ∧ i_Rel (k + 3) u' v') v v1 v2) u v1 v2) ?_ I
  intro f_words f_isMerged f_tokens f_hasTree f_nodes f_textLength f_resultSize f_rowLength f_partCount f_queued g_rowSize g_made g_kept a_counts a_lengths a_letters a_tokenAt a_nextAt a_beforeAt a_frequencies a_lefts a_rights a_prices a_spellLength a_spelling a_made a_below a_endsHere a_nextSame a_text a_result a_row a_part a_queueToken a_queuePlace a_linkedToken a_linkedNext a_linkedBefore a_bestCount a_bestPrice a_bestTokens a_bestLast a_bestFrom a_ways a_one a_two b_letters b_result b_row b_parts b_sums b_numbers b_splits b_tried b_begins G
  have G' := G
  obtain ⟨T, W, L, R, pr, cn, mk, sp, wd, tx, rs, g1, g2, g3, g4, g5, g6⟩ := G'
  unfold wpX_price wpY_price
  dsimp only
  rcases pk_ixT v1 g2.1 g2.2.2.1 with hb | ⟨x, hx, rfl⟩
  · refine xk_no hb (br_t rfl ?_)
    exact yk_no hb (br_f (by decide) ⟨rfl, rl_mk G⟩)
  · have hT := g2.2.2.1
    have hv : vp_in (nI x) 20 := vp_in_nI (by omega) (by omega)
    refine xk_yes g2.1 g2.2.2.1 hx (br_f (by decide) ?_)
    by_cases h1 : v2 < 1
    · refine br_t h1 ?_
      exact yk_yes g2.1 g2.2.2.1 hx (br_t rfl (br_t h1 ⟨rfl, rl_mk G⟩))
    · by_cases h99 : v2 ≤ 99
      · refine br_f h1 (br_t h99 ⟨hv, nm_e ⟨hv, nm_e ?_⟩⟩)
        refine yk_yes g2.1 g2.2.2.1 hx (br_t rfl (br_f h1 (br_t h99 ⟨hv, nm_e ⟨hv, nm_e ⟨rfl, rl_mk ?_⟩⟩⟩)))
        have h0 : ¬ v2 < 0 := fun h => h1 (Int32.lt_trans h (by decide))
        obtain ⟨c, hc, rfl⟩ := nI_of2 (M := 99) (n := 99) (by decide) h0 h99
        obtain ⟨t1, t2, t3, t4, t5, t6, t7, t8⟩ := g2
        refine ⟨T, W, L, R, fun j => if j = x then c else pr j, cn, mk, sp, wd, tx, rs, g1, ⟨t1, t2, t3, t4, t5, t6, fun t ht => ?_, t8⟩, g3, g4, g5, g6⟩
        rw [nI_clamp (n := x) (by omega)]
        dsimp only
        by_cases e : t = x
        · subst e; rw [if_pos rfl, pk_us]; exact ⟨rfl, hc⟩
        · rw [if_neg e, pk_un e]; exact t7 t ht
      · refine br_f h1 (br_f h99 ?_)
        exact yk_yes g2.1 g2.2.2.1 hx (br_t rfl (br_f h1 (br_f h99 ⟨rfl, rl_mk G⟩)))
theorem i_vc_type {k : Nat} {u : SX} {v : SY} (I : i_Rel k u v) (hk : k + 3 ≤ 1536) (v1 : Int32) : wpX_type (fun r u' => wpY_type (fun r' v' => r' = r ∧ i_Rel (k + 3) u' v') v v1) u v1 := by
  refine zz_el (P := fun u v => wpX_type (fun r u' => wpY_type (fun r' v' => r' = r ∧ i_Rel (k + 3) u' v') v v1) u v1) ?_ I
  intro f_words f_isMerged f_tokens f_hasTree f_nodes f_textLength f_resultSize f_rowLength f_partCount f_queued g_rowSize g_made g_kept a_counts a_lengths a_letters a_tokenAt a_nextAt a_beforeAt a_frequencies a_lefts a_rights a_prices a_spellLength a_spelling a_made a_below a_endsHere a_nextSame a_text a_result a_row a_part a_queueToken a_queuePlace a_linkedToken a_linkedNext a_linkedBefore a_bestCount a_bestPrice a_bestTokens a_bestLast a_bestFrom a_ways a_one a_two b_letters b_result b_row b_parts b_sums b_numbers b_splits b_tried b_begins G
  have G' := G
  obtain ⟨T, W, L, R, pr, cn, mk, sp, wd, tx, rs, g1, g2, g3, g4, g5, g6⟩ := G'
  unfold wpX_type wpY_type
  dsimp only
  rcases pk_ix6 v1 with hb | ⟨c, hc, rfl⟩
  · refine xk_lno hb (br_t rfl ?_)
    exact yk_lno hb (br_f (by decide) ⟨rfl, rl_mk G⟩)
  · obtain ⟨x1, x2, x3, x4⟩ := g5
    subst x1
    by_cases h12 : tx.length = 12
    · refine xk_lyes hc (br_f (by decide) (br_f (by rw [h12]; decide) ?_))
      exact yk_lyes hc (br_t rfl (br_t (by rw [h12]; rfl) ⟨rfl, rl_mk G⟩))
    · have hv : vp_in (nI tx.length) 12 := vp_in_nI (by omega) (by omega)
      refine xk_lyes hc (br_f (by decide) (br_t (nI_lt (b := 12) (by omega) (by omega)) ⟨hv, ?_⟩))
      rw [nI_clamp (n := tx.length) (by omega), nI_1]
      refine nm_e (nm_e ?_)
      refine yk_lyes hc (br_t rfl (br_f (qn_ne (b := 12) (by omega) (by omega) h12) ⟨hv, ?_⟩))
      refine nm_e (nm_e ⟨rfl, rl_mk ⟨T, W, L, R, pr, cn, mk, sp, wd, tx ++ [c], rs, g1, g2, g3, g4, ⟨by simp, by simp; omega, ly_sn (ly_up x3 (by omega)) (by rw [Nat.zero_add, pk_us]), fun d hd => ?_⟩, g6⟩⟩)
      rcases List.mem_append.mp hd with h | h
      · exact x4 d h
      · rw [List.mem_singleton.mp h]; exact hc
theorem i_vc_wipe {k : Nat} {u : SX} {v : SY} (I : i_Rel k u v) (hk : k + 3 ≤ 1536) : wpX_wipe (fun r u' => wpY_wipe (fun r' v' => r' = r ∧ i_Rel (k + 3) u' v') v) u := by
  refine zz_el (P := fun u v => wpX_wipe (fun r u' => wpY_wipe (fun r' v' => r' = r ∧ i_Rel (k + 3) u' v') v) u) ?_ I
  intro f_words f_isMerged f_tokens f_hasTree f_nodes f_textLength f_resultSize f_rowLength f_partCount f_queued g_rowSize g_made g_kept a_counts a_lengths a_letters a_tokenAt a_nextAt a_beforeAt a_frequencies a_lefts a_rights a_prices a_spellLength a_spelling a_made a_below a_endsHere a_nextSame a_text a_result a_row a_part a_queueToken a_queuePlace a_linkedToken a_linkedNext a_linkedBefore a_bestCount a_bestPrice a_bestTokens a_bestLast a_bestFrom a_ways a_one a_two b_letters b_result b_row b_parts b_sums b_numbers b_splits b_tried b_begins G
  obtain ⟨T, W, L, R, pr, cn, mk, sp, wd, tx, rs, g1, g2, g3, g4, g5, g6⟩ := G
  exact ⟨rfl, rl_mk ⟨T, W, L, R, pr, cn, mk, sp, wd, [], rs, g1, g2, g3, g4, ⟨rfl, by simp, ly_nil, fun c h => absurd h List.not_mem_nil⟩, g6⟩⟩
theorem i_vc_size {k : Nat} {u : SX} {v : SY} (I : i_Rel k u v) (hk : k + 3 ≤ 1536) : wpX_size (fun r => wpY_size (fun r' => r' = r ∧ i_Rel (k + 3) u v) v) u := by
  refine zz_el (P := fun u v => wpX_size (fun r => wpY_size (fun r' => r' = r ∧ i_Rel (k + 3) u v) v) u) ?_ I
  intro f_words f_isMerged f_tokens f_hasTree f_nodes f_textLength f_resultSize f_rowLength f_partCount f_queued g_rowSize g_made g_kept a_counts a_lengths a_letters a_tokenAt a_nextAt a_beforeAt a_frequencies a_lefts a_rights a_prices a_spellLength a_spelling a_made a_below a_endsHere a_nextSame a_text a_result a_row a_part a_queueToken a_queuePlace a_linkedToken a_linkedNext a_linkedBefore a_bestCount a_bestPrice a_bestTokens a_bestLast a_bestFrom a_ways a_one a_two b_letters b_result b_row b_parts b_sums b_numbers b_splits b_tried b_begins G
  exact ⟨rfl, rl_mk G⟩
theorem i_vc_at {k : Nat} {u : SX} {v : SY} (I : i_Rel k u v) (hk : k + 3 ≤ 1536) (v1 : Int32) : wpX_at (fun r => wpY_at (fun r' => r' = r ∧ i_Rel (k + 3) u v) v v1) u v1 := by
  refine zz_el (P := fun u v => wpX_at (fun r => wpY_at (fun r' => r' = r ∧ i_Rel (k + 3) u v) v v1) u v1) ?_ I
  intro f_words f_isMerged f_tokens f_hasTree f_nodes f_textLength f_resultSize f_rowLength f_partCount f_queued g_rowSize g_made g_kept a_counts a_lengths a_letters a_tokenAt a_nextAt a_beforeAt a_frequencies a_lefts a_rights a_prices a_spellLength a_spelling a_made a_below a_endsHere a_nextSame a_text a_result a_row a_part a_queueToken a_queuePlace a_linkedToken a_linkedNext a_linkedBefore a_bestCount a_bestPrice a_bestTokens a_bestLast a_bestFrom a_ways a_one a_two b_letters b_result b_row b_parts b_sums b_numbers b_splits b_tried b_begins G
  have G' := G
  obtain ⟨T, W, L, R, pr, cn, mk, sp, wd, tx, rs, g1, g2, g3, g4, g5, g6⟩ := G'
  obtain ⟨r1, r2, r3, r4, r5⟩ := g6
  by_cases h0 : v1 < 0
  · exact br_t h0 (br_t h0 ⟨rfl, rl_mk G⟩)
  · obtain ⟨j, hj, rfl⟩ := nI_of h0
    by_cases hl : j < rs.length
    · have hjl : nI j < f_resultSize := by rw [r1]; exact nI_lt hl (by omega)
      have hv : vp_in (nI j) 12 := vp_in_nI (by omega) (by omega)
      refine br_f h0 (br_t hjl ⟨hv, br_f h0 (br_t hjl ⟨hv, ?_, rl_mk G⟩)⟩)
      rw [nI_clamp (n := j) (by omega), ly_at0 r3 hl, ly_at0 r4 hl]
    · have hjl : ¬ nI j < f_resultSize := by rw [r1]; exact nI_nlt (by omega) hj
      exact br_f h0 (br_f hjl (br_f h0 (br_f hjl ⟨rfl, rl_mk G⟩)))
/-- the prices of those that are tokens still -/
def co_s (T : Nat) (pr : Nat → Nat) : List Nat → Nat
  | [] => 0
  | t :: l => (if t < T then pr t else 0) + co_s T pr l
section COX
variable {f_words f_isMerged f_tokens f_hasTree f_nodes f_textLength f_resultSize f_rowLength f_partCount f_queued f_banned : Int32} {a_counts a_lengths a_letters a_tokenAt a_nextAt a_beforeAt a_frequencies a_lefts a_rights a_prices a_spellLength a_spelling a_made a_below a_endsHere a_nextSame a_text a_result a_row a_part a_queueToken a_queuePlace a_linkedToken a_linkedNext a_linkedBefore a_bestCount a_bestPrice a_bestTokens a_bestLast a_bestFrom a_ways a_one a_two : Nat → Int32}
theorem xco_4 {pst : Int32 → Prop} {T n : Nat} {pr : Nat → Nat} (ht : f_tokens = nI T) (hT : T ≤ 20) (hP : ∀ t, t < T → a_prices t = nI (pr t)) (hs : f_resultSize = nI n) (hn : n ≤ 12) : ∀ (l : List Nat) (i a : Nat), i + l.length = n → ly a_result i l → (∀ t ∈ l, t < 20) → pst (nI (a + co_s T pr l)) → wX_cost_4 pst f_words f_isMerged f_tokens f_hasTree f_nodes f_textLength f_resultSize f_rowLength f_partCount f_queued f_banned a_counts a_lengths a_letters a_tokenAt a_nextAt a_beforeAt a_frequencies a_lefts a_rights a_prices a_spellLength a_spelling a_made a_below a_endsHere a_nextSame a_text a_result a_row a_part a_queueToken a_queuePlace a_linkedToken a_linkedNext a_linkedBefore a_bestCount a_bestPrice a_bestTokens a_bestLast a_bestFrom a_ways a_one a_two (l.length + 1) (nI a) (nI i)
  | [], i, a, hi, _, _, H => br_t (by rw [hs]; exact nI_le (by simp at hi; omega) (by simp at hi; omega)) H
  | t :: l, i, a, hi, hl, hB, H => by
    have hi' : i + (l.length + 1) = n := hi
    obtain ⟨l1, l2⟩ := ly_cons.mp hl
    have bt := hB t List.mem_cons_self
    have hv : vp_in (nI i) 12 := vp_in_nI (by omega) (by omega)
    have ih := fun b (hb : pst (nI (b + co_s T pr l))) => xco_4 ht hT hP hs hn l (i + 1) b (by omega) l2 (fun x hx => hB x (List.mem_cons_of_mem _ hx)) hb
    refine br_f (by rw [hs]; exact nI_ge (by omega) (by omega)) ⟨hv, ?_⟩
    rw [nI_clamp (n := i) (by omega), l1]
    by_cases h : t < T
    · refine xk_yes ht hT h (br_f (by decide) ⟨hv, vp_in_nI bt (by omega), ?_⟩)
      rw [nI_clamp (n := t) (by omega), hP t h]
      refine nm_r (nI_add _ _) (nm_r (nI_1 i) (ih _ ?_))
      have e : a + co_s T pr (t :: l) = a + pr t + co_s T pr l := by
        show a + ((if t < T then pr t else 0) + co_s T pr l) = _
        rw [if_pos h]; omega
      rw [← e]; exact H
    · refine xk_no (Or.inr (by rw [ht]; exact nI_le (by omega) (by omega))) (br_t rfl (nm_r (Int32.add_zero _) (nm_r (nI_1 i) (ih _ ?_))))
      have e : a + co_s T pr (t :: l) = a + co_s T pr l := by
        show a + ((if t < T then pr t else 0) + co_s T pr l) = _
        rw [if_neg h]; omega
      rw [← e]; exact H
end COX
section COY
variable {f_words f_tokens f_textSize f_resultSize f_rowSize f_barred f_made f_kept : Int32} {a_counts a_sizes a_spelled a_lefts a_rights a_prices a_lengths a_letters a_text a_result a_row a_parts a_sums a_numbers a_splits a_tried a_begins : Nat → Int32}
theorem yco_4 {pst : Int32 → Prop} {T n : Nat} {pr : Nat → Nat} (ht : f_tokens = nI T) (hT : T ≤ 20) (hP : ∀ t, t < T → a_prices t = nI (pr t)) (hs : f_resultSize = nI n) (hn : n ≤ 12) : ∀ (l : List Nat) (i a : Nat), i + l.length = n → ly a_result i l → (∀ t ∈ l, t < 20) → pst (nI (a + co_s T pr l)) → wY_cost_4 pst f_words f_tokens f_textSize f_resultSize f_rowSize f_barred f_made f_kept a_counts a_sizes a_spelled a_lefts a_rights a_prices a_lengths a_letters a_text a_result a_row a_parts a_sums a_numbers a_splits a_tried a_begins (l.length + 1) (nI a) (nI i)
  | [], i, a, hi, _, _, H => br_t (by rw [hs]; exact nI_le (by simp at hi; omega) (by simp at hi; omega)) H
  | t :: l, i, a, hi, hl, hB, H => by
    have hi' : i + (l.length + 1) = n := hi
    obtain ⟨l1, l2⟩ := ly_cons.mp hl
    have bt := hB t List.mem_cons_self
    have hv : vp_in (nI i) 12 := vp_in_nI (by omega) (by omega)
    have ih := fun b (hb : pst (nI (b + co_s T pr l))) => yco_4 ht hT hP hs hn l (i + 1) b (by omega) l2 (fun x hx => hB x (List.mem_cons_of_mem _ hx)) hb
    refine br_f (by rw [hs]; exact nI_ge (by omega) (by omega)) ⟨hv, ?_⟩
    rw [nI_clamp (n := i) (by omega), l1]
    by_cases h : t < T
    · refine br_f (by rw [ht]; exact nI_ge h (by omega)) ⟨hv, vp_in_nI bt (by omega), ?_⟩
      rw [nI_clamp (n := t) (by omega), hP t h]
      refine nm_r (nI_add _ _) (nm_r (nI_1 i) (ih _ ?_))
      have e : a + co_s T pr (t :: l) = a + pr t + co_s T pr l := by
        show a + ((if t < T then pr t else 0) + co_s T pr l) = _
        rw [if_pos h]; omega
      rw [← e]; exact H
    · refine br_t (by rw [ht]; exact nI_le (by omega) (by omega)) (nm_r (nI_1 i) (ih _ ?_))
      have e : a + co_s T pr (t :: l) = a + co_s T pr l := by
        show a + ((if t < T then pr t else 0) + co_s T pr l) = _
        rw [if_neg h]; omega
      rw [← e]; exact H
end COY
theorem i_vc_cost {k : Nat} {u : SX} {v : SY} (I : i_Rel k u v) (hk : k + 3 ≤ 1536) : wpX_cost (fun r => wpY_cost (fun r' => r' = r ∧ i_Rel (k + 3) u v) v) u := by
  refine zz_el (P := fun u v => wpX_cost (fun r => wpY_cost (fun r' => r' = r ∧ i_Rel (k + 3) u v) v) u) ?_ I
  intro f_words f_isMerged f_tokens f_hasTree f_nodes f_textLength f_resultSize f_rowLength f_partCount f_queued g_rowSize g_made g_kept a_counts a_lengths a_letters a_tokenAt a_nextAt a_beforeAt a_frequencies a_lefts a_rights a_prices a_spellLength a_spelling a_made a_below a_endsHere a_nextSame a_text a_result a_row a_part a_queueToken a_queuePlace a_linkedToken a_linkedNext a_linkedBefore a_bestCount a_bestPrice a_bestTokens a_bestLast a_bestFrom a_ways a_one a_two b_letters b_result b_row b_parts b_sums b_numbers b_splits b_tried b_begins G
  have G' := G
  obtain ⟨T, W, L, R, pr, cn, mk, sp, wd, tx, rs, g1, g2, g3, g4, g5, g6⟩ := G'
  obtain ⟨r1, r2, r3, r4, r5⟩ := g6
  refine Exists.intro (rs.length + 1) (xco_4 (pr := pr) g2.1 g2.2.2.1 (fun t h => (g2.2.2.2.2.2.2.1 t h).1) r1 r2 rs 0 0 (by omega) r3 r5 ?_)
  exact Exists.intro (rs.length + 1) (yco_4 (pr := pr) g2.1 g2.2.2.1 (fun t h => (g2.2.2.2.2.2.2.1 t h).1) r1 r2 rs 0 0 (by omega) r4 r5 ⟨rfl, rl_mk G⟩)
end
section
/-! the owed: frequencies, learning -/
section RLF
variable {T W : Nat} {L R pr cn : Nat → Nat} {mk : Nat → Nat → Nat} {sp wd : Nat → List Nat} {f_tokens f_words : Int32} {a_lefts a_rights a_prices a_spellLength a_spelling a_made b_letters a_counts a_lengths a_letters : Nat → Int32}
theorem rl_L (h : rl_T T L R pr mk sp f_tokens a_lefts a_rights a_prices a_spellLength a_spelling a_made b_letters) : yt_L T L R a_lefts a_rights := fun t a b => by
  obtain ⟨x1, x2, x3, x4, -⟩ := h.2.2.2.1 t a b
  exact ⟨x1, x2, x3, x4⟩
theorem rl_1 (h : rl_T T L R pr mk sp f_tokens a_lefts a_rights a_prices a_spellLength a_spelling a_made b_letters) : yt_1 T sp := by
  refine ⟨h.2.1, h.2.2.2.2.1, fun t a b => ?_⟩
  obtain ⟨x1, x2, x3, x4, x5⟩ := h.2.2.2.1 t a b
  have y1 := (h.2.2.2.2.2.1 (L t) (by omega)).2.1
  have y2 := (h.2.2.2.2.2.1 (R t) (by omega)).2.1
  rw [x5, List.length_append]; omega
theorem rl_yS (h : rl_T T L R pr mk sp f_tokens a_lefts a_rights a_prices a_spellLength a_spelling a_made b_letters) : yt_S T sp a_spellLength b_letters := fun t a => by
  obtain ⟨s1, s2, s3, s4, s5, s6⟩ := h.2.2.2.2.2.1 t a
  exact ⟨s1, s2, s3, s4, s6⟩
theorem rl_xA (h : rl_T T L R pr mk sp f_tokens a_lefts a_rights a_prices a_spellLength a_spelling a_made b_letters) : xt_A T L R sp pr mk f_tokens a_lefts a_rights a_prices a_spellLength a_spelling a_made :=
  ⟨h.1, h.2.2.1, rl_1 h, rl_L h, fun t a => by
    obtain ⟨s1, s2, s3, s4, s5, s6⟩ := h.2.2.2.2.2.1 t a
    exact ⟨s1, s3, s4, s5⟩, fun t a => (h.2.2.2.2.2.1 t a).2.1, h.2.2.2.2.2.2.1, h.2.2.2.2.2.2.2⟩
theorem rl_yA {f_barred : Int32} (h : rl_T T L R pr mk sp f_tokens a_lefts a_rights a_prices a_spellLength a_spelling a_made b_letters) (hb : ∀ t, t < 6 → ¬ nI t = f_barred) : yt_A T L R sp pr f_tokens f_barred a_lefts a_rights a_prices a_spellLength b_letters :=
  ⟨h.1, h.2.2.1, rl_1 h, rl_L h, rl_yS h, h.2.2.2.2.2.2.1, hb⟩
theorem rl_m1 : ∀ t, t < 6 → ¬ nI t = -1 := fun t h => qn_ne1 (by omega)
theorem rl_yW (h : xw_W W cn wd f_words a_counts a_lengths a_letters) : ∀ w, w < W → a_counts w = nI (cn w) ∧ a_lengths w = nI (wd w).length ∧ (wd w).length ≤ 8 ∧ ly a_letters (8 * w) (wd w) ∧ ∀ c ∈ wd w, c < 6 := fun w hw => by
  obtain ⟨x1, x2, x3, x4, x5, x6⟩ := h.2.2 w hw
  exact ⟨x1, x2, x3, x4, x5⟩
theorem rl_F (h : xw_W W cn wd f_words a_counts a_lengths a_letters) (x y : Nat) : fr_s cn (fun w => mg_all L R (T - 6) 6 (wd w)) x y W ≤ 5000 := by
  have h1 := fr_le (cn := cn) (ml := fun w => mg_all L R (T - 6) 6 (wd w)) (x := x) (y := y) W fun w hw => ⟨(h.2.2 w hw).2.2.2.2.2, Nat.le_trans (mg_all_len _ _ _) (h.2.2 w hw).2.2.1⟩
  have := h.2.1
  omega
theorem rl_ok (h : xw_W W cn wd f_words a_counts a_lengths a_letters) (h2 : rl_T T L R pr mk sp f_tokens a_lefts a_rights a_prices a_spellLength a_spelling a_made b_letters) {x y : Nat} (hf : fr_s cn (fun w => mg_all L R (T - 6) 6 (wd w)) x y W ≠ 0) : x < T ∧ y < T ∧ (sp x).length + (sp y).length ≤ 8 ∧ ∀ s, 6 ≤ s → s < T → ¬ (L s = x ∧ R s = y) :=
  lr_ok h2.2.1 (fun s a b => by
    obtain ⟨x1, x2, x3, x4, x5⟩ := h2.2.2.2.1 s a b
    exact ⟨x3, x4, x5⟩) h2.2.2.2.2.1 (fun w hw => ⟨(h.2.2 w hw).2.2.1, (h.2.2 w hw).2.2.2.2.1⟩) hf
/-- a new token keeps all that holds of tokens -/
theorem rl_new {x y : Nat} (h : rl_T T L R pr mk sp f_tokens a_lefts a_rights a_prices a_spellLength a_spelling a_made b_letters) (hT : T < 20) (hx : x < T) (hy : y < T) (h8 : (sp x).length + (sp y).length ≤ 8) (hno : ∀ s, 6 ≤ s → s < T → ¬ (L s = x ∧ R s = y)) :
    rl_T (T + 1) (fun j => if j = T then x else L j) (fun j => if j = T then y else R j) (fun j => if j = T then 25 else pr j) (fun a b => if a = x ∧ b = y then T else mk a b) (fun j => if j = T then sp x ++ sp y else sp j) (nI (T + 1)) (upd a_lefts T (nI x)) (upd a_rights T (nI y)) (upd a_prices T 25) (upd a_spellLength T (nI ((sp x).length + (sp y).length))) (qw_2 a_spelling (8 * T) (8 * x) (8 * y) (sp x).length (sp y).length) (upd a_made (20 * x + y) (nI T)) (yl_N b_letters T x y (sp x).length (sp y).length) := by
  obtain ⟨t1, t2, t3, t4, t5, t6, t7, t8⟩ := h
  refine ⟨rfl, by omega, by omega, fun t a b => ?_, fun t a => ?_, fun t a => ?_, fun t a => ?_, fun a b ha hb => ?_, fun a b hab => ?_, fun s s1 s2 => ?_⟩
  · by_cases e : t = T
    · subst e
      dsimp only
      rw [if_pos rfl, if_pos rfl, if_pos rfl, if_neg (by omega), if_neg (by omega), pk_us, pk_us]
      exact ⟨rfl, rfl, hx, hy, rfl⟩
    · obtain ⟨x1, x2, x3, x4, x5⟩ := t4 t a (by omega)
      dsimp only
      rw [if_neg e, if_neg e, if_neg e, if_neg (by omega), if_neg (by omega), pk_un e, pk_un e]
      exact ⟨x1, x2, x3, x4, x5⟩
  · dsimp only
    rw [if_neg (by omega)]; exact t5 t a
  · obtain ⟨x1, x2, x3, x4, x5, x6⟩ := t6 x hx
    obtain ⟨y1, y2, y3, y4, y5, y6⟩ := t6 y hy
    by_cases e : t = T
    · subst e
      dsimp only
      rw [if_pos rfl, pk_us]
      refine ⟨by rw [List.length_append], by rw [List.length_append]; omega, by rw [List.length_append]; omega, fun c hc => ?_, qw_2_new x5 y5 (by omega), ?_⟩
      · rcases List.mem_append.mp hc with hc | hc
        · exact x4 c hc
        · exact y4 c hc
      · exact qw_2_new (d := b_letters) (o := 12 * t) x6 y6 (by omega)
    · obtain ⟨s1, s2, s3, s4, s5, s6⟩ := t6 t (by omega)
      dsimp only
      rw [if_neg e, pk_un e]
      exact ⟨s1, s2, s3, s4, qw_2_fr s5 (by omega), qw_2_fr (d := b_letters) (o := 12 * T) s6 (by omega)⟩
  · by_cases e : t = T
    · subst e
      dsimp only
      rw [if_pos rfl, pk_us]; exact ⟨rfl, by omega⟩
    · dsimp only
      rw [if_neg e, pk_un e]; exact t7 t (by omega)
  · dsimp only
    by_cases e : a = x ∧ b = y
    · obtain ⟨rfl, rfl⟩ := e
      rw [if_pos ⟨rfl, rfl⟩, pk_us]
    · rw [if_neg e, pk_un (by omega)]; exact t8.1 a b ha hb
  · dsimp only at hab ⊢
    by_cases e : a = x ∧ b = y
    · rw [if_pos e, if_pos rfl, if_pos rfl]
      exact ⟨by omega, by omega, e.1.symm, e.2.symm⟩
    · rw [if_neg e] at hab ⊢
      obtain ⟨m1, m2, m3, m4⟩ := t8.2.1 a b hab
      rw [if_neg (by omega), if_neg (by omega)]
      exact ⟨m1, by omega, m3, m4⟩
  · dsimp only
    by_cases e : s = T
    · rw [if_pos e, if_pos e, if_pos ⟨rfl, rfl⟩]; exact e.symm
    · rw [if_neg e, if_neg e, if_neg (hno s s1 (by omega))]
      exact t8.2.2 s s1 (by omega)
end RLF
theorem i_vc_frequency {k : Nat} {u : SX} {v : SY} (I : i_Rel k u v) (hk : k + 3 ≤ 1536) (v1 : Int32) (v2 : Int32) : wpX_frequency (fun r u' => wpY_frequency (fun r' v' => r' = r ∧ i_Rel (k + 3) u' v') v v1 v2) u v1 v2 := by
  refine zz_el (P := fun u v => wpX_frequency (fun r u' => wpY_frequency (fun r' v' => r' = r ∧ i_Rel (k + 3) u' v') v v1 v2) u v1 v2) ?_ I
  intro f_words f_isMerged f_tokens f_hasTree f_nodes f_textLength f_resultSize f_rowLength f_partCount f_queued g_rowSize g_made g_kept a_counts a_lengths a_letters a_tokenAt a_nextAt a_beforeAt a_frequencies a_lefts a_rights a_prices a_spellLength a_spelling a_made a_below a_endsHere a_nextSame a_text a_result a_row a_part a_queueToken a_queuePlace a_linkedToken a_linkedNext a_linkedBefore a_bestCount a_bestPrice a_bestTokens a_bestLast a_bestFrom a_ways a_one a_two b_letters b_result b_row b_parts b_sums b_numbers b_splits b_tried b_begins G
  have G' := G
  obtain ⟨T, W, L, R, pr, cn, mk, sp, wd, tx, rs, g1, g2, g3, g4, g5, g6⟩ := G'
  unfold wpX_frequency wpY_frequency
  dsimp only
  have hT := g2.2.2.1
  rcases pk_ixT v1 g2.1 g2.2.2.1 with hb | ⟨x, hx, rfl⟩
  · refine xk_no hb (br_t rfl ?_)
    exact yk_no hb (br_f (by decide) ⟨rfl, rl_mk G⟩)
  rcases pk_ixT v2 g2.1 g2.2.2.1 with hb | ⟨y, hy, rfl⟩
  · refine xk_yes g2.1 g2.2.2.1 hx (br_f (by decide) ?_)
    refine xk_no hb (br_t rfl ?_)
    refine yk_yes g2.1 g2.2.2.1 hx (br_t rfl ?_)
    exact yk_no hb (br_f (by decide) ⟨rfl, rl_mk G⟩)
  · refine xk_yes g2.1 g2.2.2.1 hx (br_f (by decide) ?_)
    refine xk_yes g2.1 g2.2.2.1 hy (br_f (by decide) ?_)
    refine xm_merge g1 g2.1 g2.2.1 hT (rl_L g2) g3 fun b_tokenAt b_nextAt b_beforeAt b_frequencies hM => ?_
    have hM' := hM
    obtain ⟨cs, m1, m2, m3⟩ := hM'
    have hfq : b_frequencies (20 * x + y) = nI (fr_s cn (fun w => mg_all L R (T - 6) 6 (wd w)) x y W) := by
      rw [m3 x y (by omega) (by omega), qz_nat]
      exact congrArg nI (fr_eq W fun w hw => (m2 w hw).1)
    dsimp only
    rw [qn_20, nI_clamp (n := 20 * x + y) (by omega), hfq]
    refine ⟨vp_in_nI (by omega) (by omega), ?_⟩
    refine yk_yes g2.1 g2.2.2.1 hx (br_t rfl ?_)
    refine yk_yes g2.1 g2.2.2.1 hy (br_t rfl ?_)
    exact yf_freq (x := x) (y := y) rfl rfl (rl_L g2) g2.1 g2.2.1 hT g1.1 g1.2.1 (rl_yW g1) (by omega) (by omega) fun f1 f2 f3 f4 => ⟨rfl, rl_mk ⟨T, W, L, R, pr, cn, mk, sp, wd, tx, rs, g1, g2, Or.inr ⟨rfl, hM⟩, g4, g5, g6⟩⟩
theorem i_vc_learn {k : Nat} {u : SX} {v : SY} (I : i_Rel k u v) (hk : k + 3 ≤ 1536) : wpX_learn (fun r u' => wpY_learn (fun r' v' => r' = r ∧ i_Rel (k + 3) u' v') v) u := by
  refine zz_el (P := fun u v => wpX_learn (fun r u' => wpY_learn (fun r' v' => r' = r ∧ i_Rel (k + 3) u' v') v) u) ?_ I
  intro f_words f_isMerged f_tokens f_hasTree f_nodes f_textLength f_resultSize f_rowLength f_partCount f_queued g_rowSize g_made g_kept a_counts a_lengths a_letters a_tokenAt a_nextAt a_beforeAt a_frequencies a_lefts a_rights a_prices a_spellLength a_spelling a_made a_below a_endsHere a_nextSame a_text a_result a_row a_part a_queueToken a_queuePlace a_linkedToken a_linkedNext a_linkedBefore a_bestCount a_bestPrice a_bestTokens a_bestLast a_bestFrom a_ways a_one a_two b_letters b_result b_row b_parts b_sums b_numbers b_splits b_tried b_begins G
  obtain ⟨T, W, L, R, pr, cn, mk, sp, wd, tx, rs, g1, g2, g3, g4, g5, g6⟩ := G
  have hT := g2.2.2.1
  refine xm_merge g1 g2.1 g2.2.1 hT (rl_L g2) g3 fun b_tokenAt b_nextAt b_beforeAt b_frequencies hM => ?_
  have hF := rl_F (T := T) (L := L) (R := R) g1
  have hrel : rl_G f_words 1 f_tokens f_hasTree f_textLength f_resultSize a_counts a_lengths a_letters b_tokenAt b_nextAt b_beforeAt b_frequencies a_lefts a_rights a_prices a_spellLength a_spelling a_made a_below a_endsHere a_nextSame a_text a_result b_letters b_result := ⟨T, W, L, R, pr, cn, mk, sp, wd, tx, rs, g1, g2, Or.inr ⟨rfl, hM⟩, g4, g5, g6⟩
  refine ⟨400, ?_⟩
  refine xr_8 (f := fun x y => fr_s cn (fun w => mg_all L R (T - 6) 6 (wd w)) x y W) rfl g1 g2.1 g2.2.1 hT hF hM (fun x y h => ?_) (fun t ht => (g2.2.2.2.2.2.1 t ht).1) (fun h0 => ?_) (fun x y h1 hT20 => ?_) (fun x y h1 hTl b_tk b_nx b_bf b_fq hM' => ?_) 399 1 0 (by omega) (by omega) (fun j hj => ?_)
  · have := rl_ok g1 g2 h
    exact ⟨this.1, this.2.1, this.2.2.1⟩
  · exact yl_learn (f := fun x y => fr_s cn (fun w => mg_all L R (T - 6) 6 (wd w)) x y W) rfl (rl_yS g2) (rl_L g2) g2.1 g2.2.1 hT g1.1 g1.2.1 (rl_yW g1) hF (fun _ f1 f2 f3 f4 => ⟨rfl, rl_mk hrel⟩) (fun x y h1 => absurd h0 (fun h => lr_01 h1 h)) (fun x y h1 => absurd h0 (fun h => lr_01 h1 h))
  · exact yl_learn (f := fun x y => fr_s cn (fun w => mg_all L R (T - 6) 6 (wd w)) x y W) rfl (rl_yS g2) (rl_L g2) g2.1 g2.2.1 hT g1.1 g1.2.1 (rl_yW g1) hF (fun h0 => absurd h0 (fun h => lr_01 h1 h)) (fun x y _ _ f1 f2 f3 f4 => ⟨rfl, rl_mk hrel⟩) (fun x y _ h => by omega)
  · obtain ⟨o1, o2, o3, o4⟩ := rl_ok g1 g2 (x := x) (y := y) (by have h9 : 2 ≤ fr_s cn (fun w => mg_all L R (T - 6) 6 (wd w)) x y W := h1.2.2.1; omega)
    refine yl_learn (f := fun x y => fr_s cn (fun w => mg_all L R (T - 6) 6 (wd w)) x y W) rfl (rl_yS g2) (rl_L g2) g2.1 g2.2.1 hT g1.1 g1.2.1 (rl_yW g1) hF (fun h0 => absurd h0 (fun h => lr_01 h1 h)) (fun x y _ h => by omega) (fun x' y' h1' _ => ?_)
    obtain ⟨rfl, rfl⟩ := lr_1_u h1 h1'
    exact ⟨o3, fun f1 f2 f3 f4 => ⟨rfl, rl_mk ⟨T + 1, W, _, _, _, cn, _, _, wd, tx, rs, g1, rl_new g2 hTl o1 o2 o3 o4, Or.inr ⟨rfl, hM'⟩, Or.inl rfl, g5, g6⟩⟩⟩
  · rw [show j = 0 from by omega]
    exact ⟨Nat.le_refl _, fun h => by omega⟩
end
section
/-! the owed: splits of the text -/
section RUX
variable {f_words f_isMerged f_tokens f_hasTree f_nodes f_textLength f_resultSize f_rowLength f_partCount f_queued f_banned : Int32} {a_counts a_lengths a_letters a_tokenAt a_nextAt a_beforeAt a_frequencies a_lefts a_rights a_prices a_spellLength a_spelling a_made a_below a_endsHere a_nextSame a_text a_result a_row a_part a_queueToken a_queuePlace a_linkedToken a_linkedNext a_linkedBefore a_bestCount a_bestPrice a_bestTokens a_bestLast a_bestFrom a_ways a_one a_two : Nat → Int32}
theorem xu_30 {post : Int32 → SX → Prop} {m : Nat} (hm : m ≤ 12) (H : post (nI m) (f_words, f_isMerged, f_tokens, f_hasTree, f_nodes, f_textLength, nI m, f_rowLength, nI m, f_queued, f_banned, a_counts, a_lengths, a_letters, a_tokenAt, a_nextAt, a_beforeAt, a_frequencies, a_lefts, a_rights, a_prices, a_spellLength, a_spelling, a_made, a_below, a_endsHere, a_nextSame, a_text, qc a_result a_part 0 m, a_row, a_part, a_queueToken, a_queuePlace, a_linkedToken, a_linkedNext, a_linkedBefore, a_bestCount, a_bestPrice, a_bestTokens, a_bestLast, a_bestFrom, a_ways, a_one, a_two)) : ∀ d i : Nat, i + d = m → wX_split_30 post f_words f_isMerged f_tokens f_hasTree f_nodes f_textLength (nI m) f_rowLength (nI m) f_queued f_banned (d + 1) (nI i) a_counts a_lengths a_letters a_tokenAt a_nextAt a_beforeAt a_frequencies a_lefts a_rights a_prices a_spellLength a_spelling a_made a_below a_endsHere a_nextSame a_text (qc a_result a_part 0 i) a_row a_part a_queueToken a_queuePlace a_linkedToken a_linkedNext a_linkedBefore a_bestCount a_bestPrice a_bestTokens a_bestLast a_bestFrom a_ways a_one a_two := by
  intro d
  induction d with
  | zero =>
    intro i hi
    have e : i = m := by omega
    subst e
    exact br_t (nI_le (Nat.le_refl _) (by omega)) H
  | succ d ih =>
    intro i hi
    refine br_f (nI_ge (by omega) (by omega)) ⟨vp_in_nI (by omega) (by omega), vp_in_nI (by omega) (by omega), nm_r (e' := qc a_result a_part 0 (i + 1)) ?_ (nm_r (nI_1 i) (ih (i + 1) (by omega)))⟩
    rw [nI_clamp (by omega), ← qc_s, Nat.zero_add]
end RUX
section RUY
variable {f_words f_tokens f_textSize f_resultSize f_rowSize f_barred f_made f_kept : Int32} {a_counts a_sizes a_spelled a_lefts a_rights a_prices a_lengths a_letters a_text a_result a_row a_parts a_sums a_numbers a_splits a_tried a_begins : Nat → Int32}
theorem yu_30 {post : Int32 → SY → Prop} {m : Nat} (hm : m ≤ 12) (H : post (nI m) (f_words, f_tokens, f_textSize, nI m, f_rowSize, f_barred, nI m, f_kept, a_counts, a_sizes, a_spelled, a_lefts, a_rights, a_prices, a_lengths, a_letters, a_text, qc a_result a_parts 0 m, a_row, a_parts, a_sums, a_numbers, a_splits, a_tried, a_begins)) : ∀ d i : Nat, i + d = m → wY_split_30 post f_words f_tokens f_textSize (nI m) f_rowSize f_barred (nI m) f_kept (d + 1) (nI i) a_counts a_sizes a_spelled a_lefts a_rights a_prices a_lengths a_letters a_text (qc a_result a_parts 0 i) a_row a_parts a_sums a_numbers a_splits a_tried a_begins := by
  intro d
  induction d with
  | zero =>
    intro i hi
    have e : i = m := by omega
    subst e
    exact br_t (nI_le (Nat.le_refl _) (by omega)) H
  | succ d ih =>
    intro i hi
    refine br_f (nI_ge (by omega) (by omega)) ⟨vp_in_nI (by omega) (by omega), vp_in_nI (by omega) (by omega), nm_r (e' := qc a_result a_parts 0 (i + 1)) ?_ (nm_r (nI_1 i) (ih (i + 1) (by omega)))⟩
    rw [nI_clamp (by omega), ← qc_s, Nat.zero_add]
end RUY
theorem i_vc_split {k : Nat} {u : SX} {v : SY} (I : i_Rel k u v) (hk : k + 3 ≤ 1536) (v1 : Int32) : wpX_split (fun r u' => wpY_split (fun r' v' => r' = r ∧ i_Rel (k + 3) u' v') v v1) u v1 := by
  refine zz_el (P := fun u v => wpX_split (fun r u' => wpY_split (fun r' v' => r' = r ∧ i_Rel (k + 3) u' v') v v1) u v1) ?_ I
  intro f_words f_isMerged f_tokens f_hasTree f_nodes f_textLength f_resultSize f_rowLength f_partCount f_queued g_rowSize g_made g_kept a_counts a_lengths a_letters a_tokenAt a_nextAt a_beforeAt a_frequencies a_lefts a_rights a_prices a_spellLength a_spelling a_made a_below a_endsHere a_nextSame a_text a_result a_row a_part a_queueToken a_queuePlace a_linkedToken a_linkedNext a_linkedBefore a_bestCount a_bestPrice a_bestTokens a_bestLast a_bestFrom a_ways a_one a_two b_letters b_result b_row b_parts b_sums b_numbers b_splits b_tried b_begins G
  have G' := G
  obtain ⟨T, W, L, R, pr, cn, mk, sp, wd, tx, rs, g1, g2, g3, g4, g5, g6⟩ := G'
  obtain ⟨x1, x2, x3, x4⟩ := g5
  by_cases h0 : v1 < 0
  · exact br_t h0 (br_t h0 ⟨rfl, rl_mk G⟩)
  by_cases h2 : v1 ≤ 2
  · obtain ⟨c, hc, rfl⟩ := nI_of2 (M := 2) (n := 2) (by decide) h0 h2
    refine br_f h0 (br_t h2 ?_)
    refine xx_tt x2 x1 ?_
    refine xs_split (v := c) (row := tx) (pr := pr) (mk := mk) rfl hc (rl_xA g2) g4 rfl rfl x2 (ly_qc x3 rfl) x4 fun f_hasTree f_nodes f_queued a_below a_endsHere a_nextSame a_part a_queueToken a_queuePlace a_linkedToken a_linkedNext a_linkedBefore a_bestCount a_bestPrice a_bestTokens a_bestLast a_bestFrom a_ways a_one a_two ps q1 q2 q3 => ?_
    have hps := q2.2.2.2.1
    refine ⟨ps.length + 1, ?_⟩
    have Z : wpY_split (fun r' v' => r' = nI ps.length ∧ i_Rel (k + 3) (f_words, f_isMerged, f_tokens, f_hasTree, f_nodes, f_textLength, nI ps.length, nI tx.length, nI ps.length, f_queued, -1, a_counts, a_lengths, a_letters, a_tokenAt, a_nextAt, a_beforeAt, a_frequencies, a_lefts, a_rights, a_prices, a_spellLength, a_spelling, a_made, a_below, a_endsHere, a_nextSame, a_text, qc a_result a_part 0 ps.length, qc a_row a_text 0 tx.length, a_part, a_queueToken, a_queuePlace, a_linkedToken, a_linkedNext, a_linkedBefore, a_bestCount, a_bestPrice, a_bestTokens, a_bestLast, a_bestFrom, a_ways, a_one, a_two) v') (f_words, f_tokens, f_textLength, f_resultSize, g_rowSize, -1, g_made, g_kept, a_counts, a_lengths, a_letters, a_lefts, a_rights, a_prices, a_spellLength, b_letters, a_text, b_result, b_row, b_parts, b_sums, b_numbers, b_splits, b_tried, b_begins) (nI c) := by
      refine br_f h0 (br_t h2 ?_)
      refine yy_tt x2 x1 ?_
      refine yp_parts (v := c) (row := tx) (L := L) (R := R) (sp := sp) (pr := pr) rfl hc (rl_yA g2 rl_m1) rfl x2 (ly_qc x3 rfl) x4 fun ps' g_kept b_parts b_sums b_numbers b_splits b_tried b_begins r2 r3 => ?_
      have e := pw_u hc r2 q2
      subst e
      refine ⟨ps'.length + 1, ?_⟩
      have Q := yu_30 (post := fun r' v' => r' = nI ps'.length ∧ i_Rel (k + 3) (f_words, f_isMerged, f_tokens, f_hasTree, f_nodes, f_textLength, nI ps'.length, nI tx.length, nI ps'.length, f_queued, -1, a_counts, a_lengths, a_letters, a_tokenAt, a_nextAt, a_beforeAt, a_frequencies, a_lefts, a_rights, a_prices, a_spellLength, a_spelling, a_made, a_below, a_endsHere, a_nextSame, a_text, qc a_result a_part 0 ps'.length, qc a_row a_text 0 tx.length, a_part, a_queueToken, a_queuePlace, a_linkedToken, a_linkedNext, a_linkedBefore, a_bestCount, a_bestPrice, a_bestTokens, a_bestLast, a_bestFrom, a_ways, a_one, a_two) v') (f_words := f_words) (f_tokens := f_tokens) (f_textSize := f_textLength) (f_rowSize := nI tx.length) (f_barred := -1) (f_kept := g_kept) (a_counts := a_counts) (a_sizes := a_lengths) (a_spelled := a_letters) (a_lefts := a_lefts) (a_rights := a_rights) (a_prices := a_prices) (a_lengths := a_spellLength) (a_letters := b_letters) (a_text := a_text) (a_result := b_result) (a_row := qc b_row a_text 0 tx.length) (a_parts := b_parts) (a_sums := b_sums) (a_numbers := b_numbers) (a_splits := b_splits) (a_tried := b_tried) (a_begins := b_begins) hps ⟨rfl, rl_mk ⟨T, W, L, R, pr, cn, mk, sp, wd, tx, ps', g1, g2, g3, q1, ⟨x1, x2, x3, x4⟩, rfl, hps, ly_qc q3 rfl, ly_qc r3 rfl, fun t ht => by have := q2.2.2.2.2 t ht; have := g2.2.2.1; omega⟩⟩ ps'.length 0 (by omega)
      rw [qc_0] at Q
      exact Q
    have Q := xu_30 (post := fun r u' => wpY_split (fun r' v' => r' = r ∧ i_Rel (k + 3) u' v') (f_words, f_tokens, f_textLength, f_resultSize, g_rowSize, -1, g_made, g_kept, a_counts, a_lengths, a_letters, a_lefts, a_rights, a_prices, a_spellLength, b_letters, a_text, b_result, b_row, b_parts, b_sums, b_numbers, b_splits, b_tried, b_begins) (nI c)) (f_words := f_words) (f_isMerged := f_isMerged) (f_tokens := f_tokens) (f_hasTree := f_hasTree) (f_nodes := f_nodes) (f_textLength := f_textLength) (f_rowLength := nI tx.length) (f_queued := f_queued) (f_banned := -1) (a_counts := a_counts) (a_lengths := a_lengths) (a_letters := a_letters) (a_tokenAt := a_tokenAt) (a_nextAt := a_nextAt) (a_beforeAt := a_beforeAt) (a_frequencies := a_frequencies) (a_lefts := a_lefts) (a_rights := a_rights) (a_prices := a_prices) (a_spellLength := a_spellLength) (a_spelling := a_spelling) (a_made := a_made) (a_below := a_below) (a_endsHere := a_endsHere) (a_nextSame := a_nextSame) (a_text := a_text) (a_result := a_result) (a_row := qc a_row a_text 0 tx.length) (a_part := a_part) (a_queueToken := a_queueToken) (a_queuePlace := a_queuePlace) (a_linkedToken := a_linkedToken) (a_linkedNext := a_linkedNext) (a_linkedBefore := a_linkedBefore) (a_bestCount := a_bestCount) (a_bestPrice := a_bestPrice) (a_bestTokens := a_bestTokens) (a_bestLast := a_bestLast) (a_bestFrom := a_bestFrom) (a_ways := a_ways) (a_one := a_one) (a_two := a_two) hps Z ps.length 0 (by omega)
    rw [qc_0] at Q
    exact Q
  · exact br_f h0 (br_f h2 (br_f h0 (br_f h2 ⟨rfl, rl_mk G⟩)))
theorem i_vc_ways {k : Nat} {u : SX} {v : SY} (I : i_Rel k u v) (hk : k + 3 ≤ 1536) : wpX_ways (fun r u' => wpY_ways (fun r' v' => r' = r ∧ i_Rel (k + 3) u' v') v) u := by
  refine zz_el (P := fun u v => wpX_ways (fun r u' => wpY_ways (fun r' v' => r' = r ∧ i_Rel (k + 3) u' v') v) u) ?_ I
  intro f_words f_isMerged f_tokens f_hasTree f_nodes f_textLength f_resultSize f_rowLength f_partCount f_queued g_rowSize g_made g_kept a_counts a_lengths a_letters a_tokenAt a_nextAt a_beforeAt a_frequencies a_lefts a_rights a_prices a_spellLength a_spelling a_made a_below a_endsHere a_nextSame a_text a_result a_row a_part a_queueToken a_queuePlace a_linkedToken a_linkedNext a_linkedBefore a_bestCount a_bestPrice a_bestTokens a_bestLast a_bestFrom a_ways a_one a_two b_letters b_result b_row b_parts b_sums b_numbers b_splits b_tried b_begins G
  obtain ⟨T, W, L, R, pr, cn, mk, sp, wd, tx, rs, g1, g2, g3, g4, g5, g6⟩ := G
  have g5' := g5
  obtain ⟨x1, x2, x3, x4⟩ := g5'
  refine xx_tt (f_rowLength := f_rowLength) x2 x1 ?_
  refine xs_best (row := tx) (pr := pr) (mk := mk) (rl_xA g2) g4 rl_m1 rfl x2 (ly_qc x3 rfl) x4 fun f_hasTree f_nodes a_below a_endsHere a_nextSame a_bestCount a_bestPrice a_bestTokens a_bestLast a_bestFrom a_ways a_one a_two l q1 q2 q3 q4 q5 q6 => ?_
  refine And.intro (vp_in_nI (by omega) (by omega)) ?_
  rw [nI_clamp (n := tx.length) (by omega), q5]
  refine yy_tt (f_rowSize := g_rowSize) x2 x1 ?_
  refine yd_look (f_words := f_words) (f_tokens := f_tokens) (f_textSize := f_textLength) (f_resultSize := f_resultSize) (f_rowSize := nI tx.length) (f_barred := -1) (f_made := g_made) (f_kept := g_kept) (a_counts := a_counts) (a_sizes := a_lengths) (a_spelled := a_letters) (a_lefts := a_lefts) (a_rights := a_rights) (a_prices := a_prices) (a_lengths := a_spellLength) (a_letters := b_letters) (a_text := a_text) (a_result := b_result) (a_row := qc b_row a_text 0 tx.length) (a_parts := b_parts) (a_sums := b_sums) (a_numbers := b_numbers) (a_splits := b_splits) (a_tried := b_tried) (a_begins := b_begins) (row := tx) (rl_yS g2) g2.2.2.2.2.2.2.1 g2.1 g2.2.2.1 rfl x2 (ly_qc x3 rfl) x4 fun m g_kept b_sums b_numbers b_splits b_tried b_begins k1 k2 k3 k4 => ?_
  have e : m = l := sq_A_u ⟨k1, k2⟩ q2
  subst e
  exact ⟨rfl, rl_mk ⟨T, W, L, R, pr, cn, mk, sp, wd, tx, rs, g1, g2, g3, q1, g5, g6⟩⟩
theorem i_vc_ranked {k : Nat} {u : SX} {v : SY} (I : i_Rel k u v) (hk : k + 3 ≤ 1536) (v1 : Int32) : wpX_ranked (fun r u' => wpY_ranked (fun r' v' => r' = r ∧ i_Rel (k + 3) u' v') v v1) u v1 := by
  refine zz_el (P := fun u v => wpX_ranked (fun r u' => wpY_ranked (fun r' v' => r' = r ∧ i_Rel (k + 3) u' v') v v1) u v1) ?_ I
  intro f_words f_isMerged f_tokens f_hasTree f_nodes f_textLength f_resultSize f_rowLength f_partCount f_queued g_rowSize g_made g_kept a_counts a_lengths a_letters a_tokenAt a_nextAt a_beforeAt a_frequencies a_lefts a_rights a_prices a_spellLength a_spelling a_made a_below a_endsHere a_nextSame a_text a_result a_row a_part a_queueToken a_queuePlace a_linkedToken a_linkedNext a_linkedBefore a_bestCount a_bestPrice a_bestTokens a_bestLast a_bestFrom a_ways a_one a_two b_letters b_result b_row b_parts b_sums b_numbers b_splits b_tried b_begins G
  have G' := G
  obtain ⟨T, W, L, R, pr, cn, mk, sp, wd, tx, rs, g1, g2, g3, g4, g5, g6⟩ := G'
  have g5' := g5
  obtain ⟨x1, x2, x3, x4⟩ := g5'
  by_cases h0 : v1 < 0
  · exact br_t h0 (br_t h0 ⟨rfl, rl_mk G⟩)
  obtain ⟨j, hj, rfl⟩ := nI_of h0
  by_cases h6 : j < 6
  · have h6a : nI j < 6 := nI_lt (b := 6) h6 (by omega)
    have h6b : nI j ≤ 5 := nI_le (b := 5) (by omega) (by omega)
    refine br_f h0 (br_t h6a ?_)
    refine xx_tt x2 x1 ?_
    refine xs_best (row := tx) (pr := pr) (mk := mk) (rl_xA g2) g4 rl_m1 rfl x2 (ly_qc x3 rfl) x4 fun f_hasTree f_nodes a_below a_endsHere a_nextSame a_bestCount a_bestPrice a_bestTokens a_bestLast a_bestFrom a_ways a_one a_two l q1 q2 q3 q4 q5 q6 => ?_
    refine And.intro (vp_in_nI (by omega) (by omega)) ?_
    rw [nI_clamp (n := tx.length) (by omega), q4]
    have hl6 : (l.take 6).length ≤ 6 := by rw [List.length_take]; omega
    -- the reference's answer
    have Y : ∀ (r : Int32), ((l.take 6).length ≤ j → r = -2) → (j < (l.take 6).length → r = nI (sq_pz pr ((l.take 6).getD j []))) → wpY_ranked (fun r' v' => r' = r ∧ i_Rel (k + 3) (f_words, f_isMerged, f_tokens, f_hasTree, f_nodes, f_textLength, f_resultSize, nI tx.length, f_partCount, f_queued, -1, a_counts, a_lengths, a_letters, a_tokenAt, a_nextAt, a_beforeAt, a_frequencies, a_lefts, a_rights, a_prices, a_spellLength, a_spelling, a_made, a_below, a_endsHere, a_nextSame, a_text, a_result, qc a_row a_text 0 tx.length, a_part, a_queueToken, a_queuePlace, a_linkedToken, a_linkedNext, a_linkedBefore, a_bestCount, a_bestPrice, a_bestTokens, a_bestLast, a_bestFrom, a_ways, a_one, a_two) v') (f_words, f_tokens, f_textLength, f_resultSize, g_rowSize, -1, g_made, g_kept, a_counts, a_lengths, a_letters, a_lefts, a_rights, a_prices, a_spellLength, b_letters, a_text, b_result, b_row, b_parts, b_sums, b_numbers, b_splits, b_tried, b_begins) (nI j) := by
      intro r e1 e2
      refine br_f h0 (br_t h6b ?_)
      refine yy_tt x2 x1 ?_
      refine yd_look (f_words := f_words) (f_tokens := f_tokens) (f_textSize := f_textLength) (f_resultSize := f_resultSize) (f_rowSize := nI tx.length) (f_barred := -1) (f_made := g_made) (f_kept := g_kept) (a_counts := a_counts) (a_sizes := a_lengths) (a_spelled := a_letters) (a_lefts := a_lefts) (a_rights := a_rights) (a_prices := a_prices) (a_lengths := a_spellLength) (a_letters := b_letters) (a_text := a_text) (a_result := b_result) (a_row := qc b_row a_text 0 tx.length) (a_parts := b_parts) (a_sums := b_sums) (a_numbers := b_numbers) (a_splits := b_splits) (a_tried := b_tried) (a_begins := b_begins) (row := tx) (rl_yS g2) g2.2.2.2.2.2.2.1 g2.1 g2.2.2.1 rfl x2 (ly_qc x3 rfl) x4 fun m g_kept b_sums b_numbers b_splits b_tried b_begins k1 k2 k3 k4 => ?_
      have e : m = l := sq_A_u ⟨k1, k2⟩ q2
      subst e k3
      have fin : i_Rel (k + 3) (f_words, f_isMerged, f_tokens, f_hasTree, f_nodes, f_textLength, f_resultSize, nI tx.length, f_partCount, f_queued, -1, a_counts, a_lengths, a_letters, a_tokenAt, a_nextAt, a_beforeAt, a_frequencies, a_lefts, a_rights, a_prices, a_spellLength, a_spelling, a_made, a_below, a_endsHere, a_nextSame, a_text, a_result, qc a_row a_text 0 tx.length, a_part, a_queueToken, a_queuePlace, a_linkedToken, a_linkedNext, a_linkedBefore, a_bestCount, a_bestPrice, a_bestTokens, a_bestLast, a_bestFrom, a_ways, a_one, a_two) (f_words, f_tokens, f_textLength, f_resultSize, nI tx.length, -1, g_made, nI (m.take 6).length, a_counts, a_lengths, a_letters, a_lefts, a_rights, a_prices, a_spellLength, b_letters, a_text, b_result, qc b_row a_text 0 tx.length, b_parts, b_sums, b_numbers, b_splits, b_tried, b_begins) := rl_mk ⟨T, W, L, R, pr, cn, mk, sp, wd, tx, rs, g1, g2, g3, q1, g5, g6⟩
      refine pk_le (m.take 6).length j (fun h => ⟨(e1 h).symm, fin⟩) (fun h => ⟨vp_in_nI (by omega) (by omega), ?_, fin⟩)
      have := la_at (d := []) (i := j) k4 h
      rw [Nat.zero_add] at this
      rw [nI_clamp (n := j) (by omega), this.1, e2 h]
    refine pk_le (l.take 6).length j (fun h => Y (-2) (fun _ => rfl) (fun h' => by omega)) (fun h => ?_)
    have hP := la_at (d := []) (i := j) q6 h
    rw [qn_6, nI_clamp (n := 6 * tx.length + j) (by omega), hP.1]
    exact ⟨vp_in_nI (by omega) (by omega), Y _ (fun h' => by omega) (fun _ => rfl)⟩
  · have h6a : ¬ nI j < 6 := nI_nlt (b := 6) (by omega) hj
    have h6b : ¬ nI j ≤ 5 := nI_ge (a := 5) (by omega) hj
    exact br_f h0 (br_f h6a (br_f h0 (br_f h6b ⟨rfl, rl_mk G⟩)))
theorem i_vc_rankedAt {k : Nat} {u : SX} {v : SY} (I : i_Rel k u v) (hk : k + 3 ≤ 1536) (v1 : Int32) (v2 : Int32) : wpX_rankedAt (fun r u' => wpY_rankedAt (fun r' v' => r' = r ∧ i_Rel (k + 3) u' v') v v1 v2) u v1 v2 := by
  refine zz_el (P := fun u v => wpX_rankedAt (fun r u' => wpY_rankedAt (fun r' v' => r' = r ∧ i_Rel (k + 3) u' v') v v1 v2) u v1 v2) ?_ I
  intro f_words f_isMerged f_tokens f_hasTree f_nodes f_textLength f_resultSize f_rowLength f_partCount f_queued g_rowSize g_made g_kept a_counts a_lengths a_letters a_tokenAt a_nextAt a_beforeAt a_frequencies a_lefts a_rights a_prices a_spellLength a_spelling a_made a_below a_endsHere a_nextSame a_text a_result a_row a_part a_queueToken a_queuePlace a_linkedToken a_linkedNext a_linkedBefore a_bestCount a_bestPrice a_bestTokens a_bestLast a_bestFrom a_ways a_one a_two b_letters b_result b_row b_parts b_sums b_numbers b_splits b_tried b_begins G
  have G' := G
  obtain ⟨T, W, L, R, pr, cn, mk, sp, wd, tx, rs, g1, g2, g3, g4, g5, g6⟩ := G'
  have g5' := g5
  obtain ⟨x1, x2, x3, x4⟩ := g5'
  by_cases h0 : v1 < 0
  · exact br_t h0 (br_t h0 ⟨rfl, rl_mk G⟩)
  obtain ⟨j, hj, rfl⟩ := nI_of h0
  by_cases h6 : j < 6
  · have h6a : nI j < 6 := nI_lt (b := 6) h6 (by omega)
    have h6b : nI j ≤ 5 := nI_le (b := 5) (by omega) (by omega)
    refine br_f h0 (br_t h6a ?_)
    refine xx_tt x2 x1 ?_
    refine xs_best (row := tx) (pr := pr) (mk := mk) (rl_xA g2) g4 rl_m1 rfl x2 (ly_qc x3 rfl) x4 fun f_hasTree f_nodes a_below a_endsHere a_nextSame a_bestCount a_bestPrice a_bestTokens a_bestLast a_bestFrom a_ways a_one a_two l q1 q2 q3 q4 q5 q6 => ?_
    refine And.intro (vp_in_nI (by omega) (by omega)) ?_
    rw [nI_clamp (n := tx.length) (by omega), q4]
    have hl6 : (l.take 6).length ≤ 6 := by rw [List.length_take]; omega
    -- the reference's answer
    have Y : ∀ (r f_partCount : Int32) (a_part : Nat → Int32), ((l.take 6).length ≤ j → r = -2) → (j < (l.take 6).length → v2 < 0 → r = -2) → (∀ i, j < (l.take 6).length → v2 = nI i → i < 2 ^ 31 → ((l.take 6).getD j []).length ≤ i → r = -2) → (∀ i, j < (l.take 6).length → v2 = nI i → i < ((l.take 6).getD j []).length → r = nI (((l.take 6).getD j []).getD i 0)) → wpY_rankedAt (fun r' v' => r' = r ∧ i_Rel (k + 3) (f_words, f_isMerged, f_tokens, f_hasTree, f_nodes, f_textLength, f_resultSize, nI tx.length, f_partCount, f_queued, -1, a_counts, a_lengths, a_letters, a_tokenAt, a_nextAt, a_beforeAt, a_frequencies, a_lefts, a_rights, a_prices, a_spellLength, a_spelling, a_made, a_below, a_endsHere, a_nextSame, a_text, a_result, qc a_row a_text 0 tx.length, a_part, a_queueToken, a_queuePlace, a_linkedToken, a_linkedNext, a_linkedBefore, a_bestCount, a_bestPrice, a_bestTokens, a_bestLast, a_bestFrom, a_ways, a_one, a_two) v') (f_words, f_tokens, f_textLength, f_resultSize, g_rowSize, -1, g_made, g_kept, a_counts, a_lengths, a_letters, a_lefts, a_rights, a_prices, a_spellLength, b_letters, a_text, b_result, b_row, b_parts, b_sums, b_numbers, b_splits, b_tried, b_begins) (nI j) v2 := by
      intro r f_partCount a_part e1 e2 e3 e4
      refine br_f h0 (br_t h6b ?_)
      refine yy_tt x2 x1 ?_
      refine yd_look (f_words := f_words) (f_tokens := f_tokens) (f_textSize := f_textLength) (f_resultSize := f_resultSize) (f_rowSize := nI tx.length) (f_barred := -1) (f_made := g_made) (f_kept := g_kept) (a_counts := a_counts) (a_sizes := a_lengths) (a_spelled := a_letters) (a_lefts := a_lefts) (a_rights := a_rights) (a_prices := a_prices) (a_lengths := a_spellLength) (a_letters := b_letters) (a_text := a_text) (a_result := b_result) (a_row := qc b_row a_text 0 tx.length) (a_parts := b_parts) (a_sums := b_sums) (a_numbers := b_numbers) (a_splits := b_splits) (a_tried := b_tried) (a_begins := b_begins) (row := tx) (rl_yS g2) g2.2.2.2.2.2.2.1 g2.1 g2.2.2.1 rfl x2 (ly_qc x3 rfl) x4 fun m g_kept b_sums b_numbers b_splits b_tried b_begins k1 k2 k3 k4 => ?_
      have e : m = l := sq_A_u ⟨k1, k2⟩ q2
      subst e k3
      have fin : i_Rel (k + 3) (f_words, f_isMerged, f_tokens, f_hasTree, f_nodes, f_textLength, f_resultSize, nI tx.length, f_partCount, f_queued, -1, a_counts, a_lengths, a_letters, a_tokenAt, a_nextAt, a_beforeAt, a_frequencies, a_lefts, a_rights, a_prices, a_spellLength, a_spelling, a_made, a_below, a_endsHere, a_nextSame, a_text, a_result, qc a_row a_text 0 tx.length, a_part, a_queueToken, a_queuePlace, a_linkedToken, a_linkedNext, a_linkedBefore, a_bestCount, a_bestPrice, a_bestTokens, a_bestLast, a_bestFrom, a_ways, a_one, a_two) (f_words, f_tokens, f_textLength, f_resultSize, nI tx.length, -1, g_made, nI (m.take 6).length, a_counts, a_lengths, a_letters, a_lefts, a_rights, a_prices, a_spellLength, b_letters, a_text, b_result, qc b_row a_text 0 tx.length, b_parts, b_sums, b_numbers, b_splits, b_tried, b_begins) := rl_mk ⟨T, W, L, R, pr, cn, mk, sp, wd, tx, rs, g1, g2, g3, q1, g5, g6⟩
      refine pk_le (m.take 6).length j (fun h => ⟨(e1 h).symm, fin⟩) (fun h => ?_)
      by_cases hn : v2 < 0
      · exact br_t hn ⟨(e2 h hn).symm, fin⟩
      obtain ⟨i, hi, rfl⟩ := nI_of hn
      obtain ⟨p1, p2, p3, p4, p5⟩ := la_at (d := []) (i := j) k4 h
      rw [Nat.zero_add] at p1 p2 p3
      refine br_f hn ⟨vp_in_nI (by omega) (by omega), ?_⟩
      rw [nI_clamp (n := j) (by omega), p2]
      by_cases hil : i < ((m.take 6).getD j []).length
      · refine br_t (nI_lt hil (by omega)) ?_
        rw [qn_12, nI_clamp (n := 12 * j + i) (by omega), p3 i hil]
        exact ⟨vp_in_nI (by omega) (by omega), (e4 i h rfl hil).symm, fin⟩
      · exact br_f (nI_nlt (by omega) hi) ⟨(e3 i h rfl hi (by omega)).symm, fin⟩
    by_cases h : j < (l.take 6).length
    · refine br_t (nI_lt h (by omega)) ?_
      have hP := la_at (d := []) (i := j) q6 h
      refine xb_take (k := j) (n := tx.length) (pr := pr) rfl rfl (by omega) hP fun b_part hb => ?_
      have hlen := hP.2.2.2.1
      by_cases hn : v2 < 0
      · exact br_t hn (Y (-2) _ b_part (fun h' => by omega) (fun _ _ => rfl) (fun i _ e _ _ => rfl) (fun i _ e _ => absurd hn (by rw [e]; exact nI_pos (by omega))))
      obtain ⟨i, hi, rfl⟩ := nI_of hn
      by_cases hil : i < ((l.take 6).getD j []).length
      · refine br_f hn (br_t (nI_lt hil (by omega)) ⟨vp_in_nI (by omega) (by omega), ?_⟩)
        rw [nI_clamp (n := i) (by omega), ly_at0 hb hil]
        exact Y _ _ b_part (fun h' => by omega) (fun _ h' => absurd h' hn) (fun i' _ e hi' h' => by have := qn_inj hi hi' e; omega) (fun i' _ e h' => by have := qn_inj hi (by omega) e; rw [this])
      · refine br_f hn (br_f (nI_nlt (by omega) hi) ?_)
        exact Y (-2) _ b_part (fun h' => by omega) (fun _ _ => rfl) (fun i _ e _ _ => rfl) (fun i' _ e h' => by have := qn_inj hi (by omega) e; omega)
    · refine br_f (nI_nlt (by omega) (by omega)) ?_
      exact Y (-2) _ _ (fun _ => rfl) (fun _ _ => rfl) (fun i _ e _ _ => rfl) (fun i h' => absurd h' h)
  · have h6a : ¬ nI j < 6 := nI_nlt (b := 6) (by omega) hj
    have h6b : ¬ nI j ≤ 5 := nI_ge (a := 5) (by omega) hj
    exact br_f h0 (br_f h6a (br_f h0 (br_f h6b ⟨rfl, rl_mk G⟩)))
end
section
/-! the owed: all words -/
def sm_s (g : Nat → Nat) : Nat → Nat
  | 0 => 0
  | w + 1 => sm_s g w + g w
theorem sm_eq {g h : Nat → Nat} : ∀ W, (∀ w, w < W → g w = h w) → sm_s g W = sm_s h W
  | 0, _ => rfl
  | W + 1, e => by
    show sm_s g W + g W = sm_s h W + h W
    rw [sm_eq W fun w hw => e w (by omega), e W (by omega)]
def sm_u {α : Type} (s : Nat → α) (w : Nat) (x : α) : Nat → α := fun j => if j = w then x else s j
theorem sm_us {α : Type} {s : Nat → α} {w : Nat} {x : α} : sm_u s w x w = x := if_pos rfl
theorem sm_un {α : Type} {s : Nat → α} {w j : Nat} {x : α} (h : j ≠ w) : sm_u s w x j = s j := if_neg h
theorem sm_next {α : Type} {s : Nat → α} {w : Nat} {x : α} {f : Nat → α → Nat} : sm_s (fun j => f j (sm_u s w x j)) (w + 1) = sm_s (fun j => f j (s j)) w + f w x := by
  show sm_s (fun j => f j (sm_u s w x j)) w + f w (sm_u s w x w) = _
  rw [sm_us, sm_eq (h := fun j => f j (s j)) w fun j hj => by rw [sm_un (by omega)]]
section ALX
variable {f_words f_isMerged f_tokens f_textLength f_resultSize f_banned : Int32} {a_counts a_lengths a_letters a_tokenAt a_nextAt a_beforeAt a_frequencies a_lefts a_rights a_prices a_spellLength a_spelling a_made a_text a_result : Nat → Int32} {post : Int32 → SX → Prop}
theorem xal_15 {T W v : Nat} {L R pr cn : Nat → Nat} {mk : Nat → Nat → Nat} {sp wd : Nat → List Nat} (hv : v ≤ 2) (hW : xw_W W cn wd f_words a_counts a_lengths a_letters) (hA : xt_A T L R sp pr mk f_tokens a_lefts a_rights a_prices a_spellLength a_spelling a_made) (hbn : f_banned = -1)
    (H : ∀ (f_hasTree f_nodes f_rowLength f_partCount f_queued : Int32) (a_below a_endsHere a_nextSame a_row a_part a_queueToken a_queuePlace a_linkedToken a_linkedNext a_linkedBefore a_bestCount a_bestPrice a_bestTokens a_bestLast a_bestFrom a_ways a_one a_two : Nat → Int32) (s : Nat → List Nat), xt_H T sp f_hasTree a_below a_endsHere a_nextSame → (∀ w, w < W → pw T L R sp pr f_banned v (wd w) (s w)) → post (nI (sm_s (fun w => cn w * (s w).length) W)) (f_words, f_isMerged, f_tokens, f_hasTree, f_nodes, f_textLength, f_resultSize, f_rowLength, f_partCount, f_queued, f_banned, a_counts, a_lengths, a_letters, a_tokenAt, a_nextAt, a_beforeAt, a_frequencies, a_lefts, a_rights, a_prices, a_spellLength, a_spelling, a_made, a_below, a_endsHere, a_nextSame, a_text, a_result, a_row, a_part, a_queueToken, a_queuePlace, a_linkedToken, a_linkedNext, a_linkedBefore, a_bestCount, a_bestPrice, a_bestTokens, a_bestLast, a_bestFrom, a_ways, a_one, a_two)) :
    ∀ (d w : Nat) (s : Nat → List Nat) (f_hasTree f_nodes f_rowLength f_partCount f_queued : Int32) (a_below a_endsHere a_nextSame a_row a_part a_queueToken a_queuePlace a_linkedToken a_linkedNext a_linkedBefore a_bestCount a_bestPrice a_bestTokens a_bestLast a_bestFrom a_ways a_one a_two : Nat → Int32), w + d = W → xt_H T sp f_hasTree a_below a_endsHere a_nextSame → (∀ j, j < w → pw T L R sp pr f_banned v (wd j) (s j)) → wX_load_15 post (nI v) (d + 1) (nI (sm_s (fun w => cn w * (s w).length) w)) (nI w) f_words f_isMerged f_tokens f_hasTree f_nodes f_textLength f_resultSize f_rowLength f_partCount f_queued f_banned a_counts a_lengths a_letters a_tokenAt a_nextAt a_beforeAt a_frequencies a_lefts a_rights a_prices a_spellLength a_spelling a_made a_below a_endsHere a_nextSame a_text a_result a_row a_part a_queueToken a_queuePlace a_linkedToken a_linkedNext a_linkedBefore a_bestCount a_bestPrice a_bestTokens a_bestLast a_bestFrom a_ways a_one a_two := by
  intro d
  induction d with
  | zero =>
    intro w s f_hasTree f_nodes f_rowLength f_partCount f_queued a_below a_endsHere a_nextSame a_row a_part a_queueToken a_queuePlace a_linkedToken a_linkedNext a_linkedBefore a_bestCount a_bestPrice a_bestTokens a_bestLast a_bestFrom a_ways a_one a_two hd hH hs
    have e : w = W := by omega
    subst e
    exact br_t (by rw [hW.1]; exact nI_le (Nat.le_refl _) (by have := hW.2.1; omega)) (H _ _ _ _ _ _ _ _ _ _ _ _ _ _ _ _ _ _ _ _ _ _ _ s hH hs)
  | succ d ih =>
    intro w s f_hasTree f_nodes f_rowLength f_partCount f_queued a_below a_endsHere a_nextSame a_row a_part a_queueToken a_queuePlace a_linkedToken a_linkedNext a_linkedBefore a_bestCount a_bestPrice a_bestTokens a_bestLast a_bestFrom a_ways a_one a_two hd hH hs
    obtain ⟨w1, w2, w3⟩ := hW
    obtain ⟨y1, y2, y3, y4, y5, y6⟩ := w3 w (by omega)
    refine br_f (by rw [w1]; exact nI_ge (by omega) (by omega)) ?_
    refine xx_tw rfl (by omega) y3 y2 ?_
    refine xs_split (v := v) (row := wd w) rfl hv hA hH hbn rfl (by omega) (ly_qc y4 rfl) y5 fun f_hasTree f_nodes f_queued a_below a_endsHere a_nextSame a_part a_queueToken a_queuePlace a_linkedToken a_linkedNext a_linkedBefore a_bestCount a_bestPrice a_bestTokens a_bestLast a_bestFrom a_ways a_one a_two ps q1 q2 q3 => ?_
    have q := ih (w + 1) (sm_u s w ps) f_hasTree f_nodes (nI (wd w).length) (nI ps.length) f_queued a_below a_endsHere a_nextSame (qc a_row a_letters (8 * w) (wd w).length) a_part a_queueToken a_queuePlace a_linkedToken a_linkedNext a_linkedBefore a_bestCount a_bestPrice a_bestTokens a_bestLast a_bestFrom a_ways a_one a_two (by omega) q1 (fun j hj => by
      by_cases e : j = w
      · subst e; rw [sm_us]; exact q2
      · rw [sm_un e]; exact hs j (by omega))
    rw [sm_next (f := fun j (x : List Nat) => cn j * x.length)] at q
    refine And.intro (vp_in_nI (by omega) (by omega)) (nm_r (e' := nI (sm_s (fun w => cn w * (s w).length) w + cn w * ps.length)) ?_ (nm_r (nI_1 w) q))
    rw [nI_clamp (by omega), y1, pk_mul, nI_add]
theorem xal_4 {T W : Nat} {L R pr cn : Nat → Nat} {mk : Nat → Nat → Nat} {sp wd : Nat → List Nat} {f_partCount f_queued : Int32} {a_part a_queueToken a_queuePlace a_linkedToken a_linkedNext a_linkedBefore : Nat → Int32} (hW : xw_W W cn wd f_words a_counts a_lengths a_letters) (hA : xt_A T L R sp pr mk f_tokens a_lefts a_rights a_prices a_spellLength a_spelling a_made) (hbn : ∀ t, t < 6 → ¬ nI t = f_banned)
    (H : ∀ (f_hasTree f_nodes f_rowLength : Int32) (a_below a_endsHere a_nextSame a_row a_bestCount a_bestPrice a_bestTokens a_bestLast a_bestFrom a_ways a_one a_two : Nat → Int32) (s : Nat → List Nat), xt_H T sp f_hasTree a_below a_endsHere a_nextSame → (∀ w, w < W → ∃ l, sq_A T sp pr f_banned (wd w) (s w :: l)) → post (nI (sm_s (fun w => cn w * sq_pz pr (s w)) W)) (f_words, f_isMerged, f_tokens, f_hasTree, f_nodes, f_textLength, f_resultSize, f_rowLength, f_partCount, f_queued, f_banned, a_counts, a_lengths, a_letters, a_tokenAt, a_nextAt, a_beforeAt, a_frequencies, a_lefts, a_rights, a_prices, a_spellLength, a_spelling, a_made, a_below, a_endsHere, a_nextSame, a_text, a_result, a_row, a_part, a_queueToken, a_queuePlace, a_linkedToken, a_linkedNext, a_linkedBefore, a_bestCount, a_bestPrice, a_bestTokens, a_bestLast, a_bestFrom, a_ways, a_one, a_two)) :
    ∀ (d w : Nat) (s : Nat → List Nat) (f_hasTree f_nodes f_rowLength : Int32) (a_below a_endsHere a_nextSame a_row a_bestCount a_bestPrice a_bestTokens a_bestLast a_bestFrom a_ways a_one a_two : Nat → Int32), w + d = W → xt_H T sp f_hasTree a_below a_endsHere a_nextSame → (∀ j, j < w → ∃ l, sq_A T sp pr f_banned (wd j) (s j :: l)) → wX_expense_4 post (d + 1) (nI (sm_s (fun w => cn w * sq_pz pr (s w)) w)) (nI w) f_words f_isMerged f_tokens f_hasTree f_nodes f_textLength f_resultSize f_rowLength f_partCount f_queued f_banned a_counts a_lengths a_letters a_tokenAt a_nextAt a_beforeAt a_frequencies a_lefts a_rights a_prices a_spellLength a_spelling a_made a_below a_endsHere a_nextSame a_text a_result a_row a_part a_queueToken a_queuePlace a_linkedToken a_linkedNext a_linkedBefore a_bestCount a_bestPrice a_bestTokens a_bestLast a_bestFrom a_ways a_one a_two := by
  intro d
  induction d with
  | zero =>
    intro w s f_hasTree f_nodes f_rowLength a_below a_endsHere a_nextSame a_row a_bestCount a_bestPrice a_bestTokens a_bestLast a_bestFrom a_ways a_one a_two hd hH hs
    have e : w = W := by omega
    subst e
    exact br_t (by rw [hW.1]; exact nI_le (Nat.le_refl _) (by have := hW.2.1; omega)) (H _ _ _ _ _ _ _ _ _ _ _ _ _ _ _ s hH hs)
  | succ d ih =>
    intro w s f_hasTree f_nodes f_rowLength a_below a_endsHere a_nextSame a_row a_bestCount a_bestPrice a_bestTokens a_bestLast a_bestFrom a_ways a_one a_two hd hH hs
    obtain ⟨w1, w2, w3⟩ := hW
    obtain ⟨y1, y2, y3, y4, y5, y6⟩ := w3 w (by omega)
    refine br_f (by rw [w1]; exact nI_ge (by omega) (by omega)) ?_
    refine xx_tw rfl (by omega) y3 y2 ?_
    refine xs_best (row := wd w) hA hH hbn rfl (by omega) (ly_qc y4 rfl) y5 fun f_hasTree f_nodes a_below a_endsHere a_nextSame a_bestCount a_bestPrice a_bestTokens a_bestLast a_bestFrom a_ways a_one a_two l q1 q2 q3 q4 q5 q6 => ?_
    cases l with
    | nil => exact absurd rfl q3
    | cons ps l =>
      obtain ⟨p1, -⟩ : la (bd_P pr 78 a_bestPrice a_bestTokens a_bestLast a_bestFrom) (6 * (wd w).length) (ps :: l.take 5) := q6
      have q := ih (w + 1) (sm_u s w ps) f_hasTree f_nodes (nI (wd w).length) a_below a_endsHere a_nextSame (qc a_row a_letters (8 * w) (wd w).length) a_bestCount a_bestPrice a_bestTokens a_bestLast a_bestFrom a_ways a_one a_two (by omega) q1 (fun j hj => by
        by_cases e : j = w
        · subst e; rw [sm_us]; exact ⟨l, q2⟩
        · rw [sm_un e]; exact hs j (by omega))
      rw [sm_next (f := fun j (x : List Nat) => cn j * sq_pz pr x)] at q
      refine And.intro (vp_in_nI (by omega) (by omega)) ?_
      rw [qn_6m, nI_clamp (n := 6 * (wd w).length) (by omega), nI_clamp (n := w) (by omega), p1.1, y1]
      refine ⟨vp_in_nI (by omega) (by omega), nm_r (e' := nI (sm_s (fun w => cn w * sq_pz pr (s w)) w + cn w * sq_pz pr ps)) (by rw [pk_mul, nI_add]) (nm_r (nI_1 w) q)⟩
end ALX
section ALY
variable {f_words f_tokens f_textSize f_resultSize f_barred : Int32} {a_counts a_sizes a_spelled a_lefts a_rights a_prices a_lengths a_letters a_text a_result : Nat → Int32} {post : Int32 → SY → Prop}
theorem yal_15 {T W v : Nat} {L R pr cn : Nat → Nat} {sp wd : Nat → List Nat} (hv : v ≤ 2) (hW : xw_W W cn wd f_words a_counts a_sizes a_spelled) (hA : yt_A T L R sp pr f_tokens f_barred a_lefts a_rights a_prices a_lengths a_letters)
    (H : ∀ (f_rowSize f_made f_kept : Int32) (a_row a_parts a_sums a_numbers a_splits a_tried a_begins : Nat → Int32) (s : Nat → List Nat), (∀ w, w < W → pw T L R sp pr f_barred v (wd w) (s w)) → post (nI (sm_s (fun w => cn w * (s w).length) W)) (f_words, f_tokens, f_textSize, f_resultSize, f_rowSize, f_barred, f_made, f_kept, a_counts, a_sizes, a_spelled, a_lefts, a_rights, a_prices, a_lengths, a_letters, a_text, a_result, a_row, a_parts, a_sums, a_numbers, a_splits, a_tried, a_begins)) :
    ∀ (d w : Nat) (s : Nat → List Nat) (f_rowSize f_made f_kept : Int32) (a_row a_parts a_sums a_numbers a_splits a_tried a_begins : Nat → Int32), w + d = W → (∀ j, j < w → pw T L R sp pr f_barred v (wd j) (s j)) → wY_load_15 post (nI v) (d + 1) (nI (sm_s (fun w => cn w * (s w).length) w)) (nI w) f_words f_tokens f_textSize f_resultSize f_rowSize f_barred f_made f_kept a_counts a_sizes a_spelled a_lefts a_rights a_prices a_lengths a_letters a_text a_result a_row a_parts a_sums a_numbers a_splits a_tried a_begins := by
  intro d
  induction d with
  | zero =>
    intro w s f_rowSize f_made f_kept a_row a_parts a_sums a_numbers a_splits a_tried a_begins hd hs
    have e : w = W := by omega
    subst e
    exact br_t (by rw [hW.1]; exact nI_le (Nat.le_refl _) (by have := hW.2.1; omega)) (H _ _ _ _ _ _ _ _ _ _ s hs)
  | succ d ih =>
    intro w s f_rowSize f_made f_kept a_row a_parts a_sums a_numbers a_splits a_tried a_begins hd hs
    obtain ⟨w1, w2, w3⟩ := hW
    obtain ⟨y1, y2, y3, y4, y5, y6⟩ := w3 w (by omega)
    refine br_f (by rw [w1]; exact nI_ge (by omega) (by omega)) ?_
    refine yy_tw rfl (by omega) y3 y2 ?_
    refine yp_parts (v := v) (row := wd w) rfl hv hA rfl (by omega) (ly_qc y4 rfl) y5 fun ps f_kept a_parts a_sums a_numbers a_splits a_tried a_begins q2 q3 => ?_
    have q := ih (w + 1) (sm_u s w ps) (nI (wd w).length) (nI ps.length) f_kept (qc a_row a_spelled (8 * w) (wd w).length) a_parts a_sums a_numbers a_splits a_tried a_begins (by omega) (fun j hj => by
      by_cases e : j = w
      · subst e; rw [sm_us]; exact q2
      · rw [sm_un e]; exact hs j (by omega))
    rw [sm_next (f := fun j (x : List Nat) => cn j * x.length)] at q
    refine And.intro (vp_in_nI (by omega) (by omega)) (nm_r (e' := nI (sm_s (fun w => cn w * (s w).length) w + cn w * ps.length)) ?_ (nm_r (nI_1 w) q))
    rw [nI_clamp (by omega), y1, pk_mul, nI_add]
theorem yal_4 {T W : Nat} {L R pr cn : Nat → Nat} {sp wd : Nat → List Nat} {f_made : Int32} {a_parts : Nat → Int32} (hW : xw_W W cn wd f_words a_counts a_sizes a_spelled) (hA : yt_A T L R sp pr f_tokens f_barred a_lefts a_rights a_prices a_lengths a_letters)
    (H : ∀ (f_rowSize f_kept : Int32) (a_row a_sums a_numbers a_splits a_tried a_begins : Nat → Int32) (s : Nat → List Nat), (∀ w, w < W → ∃ l, sq_A T sp pr f_barred (wd w) (s w :: l)) → post (nI (sm_s (fun w => cn w * sq_pz pr (s w)) W)) (f_words, f_tokens, f_textSize, f_resultSize, f_rowSize, f_barred, f_made, f_kept, a_counts, a_sizes, a_spelled, a_lefts, a_rights, a_prices, a_lengths, a_letters, a_text, a_result, a_row, a_parts, a_sums, a_numbers, a_splits, a_tried, a_begins)) :
    ∀ (d w : Nat) (s : Nat → List Nat) (f_rowSize f_kept : Int32) (a_row a_sums a_numbers a_splits a_tried a_begins : Nat → Int32), w + d = W → (∀ j, j < w → ∃ l, sq_A T sp pr f_barred (wd j) (s j :: l)) → wY_expense_4 post (d + 1) (nI (sm_s (fun w => cn w * sq_pz pr (s w)) w)) (nI w) f_words f_tokens f_textSize f_resultSize f_rowSize f_barred f_made f_kept a_counts a_sizes a_spelled a_lefts a_rights a_prices a_lengths a_letters a_text a_result a_row a_parts a_sums a_numbers a_splits a_tried a_begins := by
  intro d
  induction d with
  | zero =>
    intro w s f_rowSize f_kept a_row a_sums a_numbers a_splits a_tried a_begins hd hs
    have e : w = W := by omega
    subst e
    exact br_t (by rw [hW.1]; exact nI_le (Nat.le_refl _) (by have := hW.2.1; omega)) (H _ _ _ _ _ _ _ _ s hs)
  | succ d ih =>
    intro w s f_rowSize f_kept a_row a_sums a_numbers a_splits a_tried a_begins hd hs
    obtain ⟨w1, w2, w3⟩ := hW
    obtain ⟨y1, y2, y3, y4, y5, y6⟩ := w3 w (by omega)
    obtain ⟨h1, h2, h3, h4, h5, h6, h7⟩ := hA
    refine br_f (by rw [w1]; exact nI_ge (by omega) (by omega)) ?_
    refine yy_tw rfl (by omega) y3 y2 ?_
    refine yd_look (f_words := f_words) (f_tokens := f_tokens) (f_textSize := f_textSize) (f_resultSize := f_resultSize) (f_rowSize := nI (wd w).length) (f_barred := f_barred) (f_made := f_made) (f_kept := f_kept) (a_counts := a_counts) (a_sizes := a_sizes) (a_spelled := a_spelled) (a_lefts := a_lefts) (a_rights := a_rights) (a_prices := a_prices) (a_lengths := a_lengths) (a_letters := a_letters) (a_text := a_text) (a_result := a_result) (a_row := qc a_row a_spelled (8 * w) (wd w).length) (a_parts := a_parts) (a_sums := a_sums) (a_numbers := a_numbers) (a_splits := a_splits) (a_tried := a_tried) (a_begins := a_begins) (row := wd w) h5 h6 h1 h2 rfl (by omega) (ly_qc y4 rfl) y5 fun l f_kept a_sums a_numbers a_splits a_tried a_begins k1 k2 k3 k4 => ?_
    have hrow := (k2 (wd w)).mpr (sq_row h3 h7 y5)
    cases l with
    | nil => exact absurd hrow List.not_mem_nil
    | cons ps l =>
      obtain ⟨p1, -⟩ : la (yk_P pr a_sums a_numbers a_splits) 0 (ps :: l.take 5) := k4
      have q := ih (w + 1) (sm_u s w ps) (nI (wd w).length) f_kept (qc a_row a_spelled (8 * w) (wd w).length) a_sums a_numbers a_splits a_tried a_begins (by omega) (fun j hj => by
        by_cases e : j = w
        · subst e; rw [sm_us]; exact ⟨l, k1, k2⟩
        · rw [sm_un e]; exact hs j (by omega))
      rw [sm_next (f := fun j (x : List Nat) => cn j * sq_pz pr x)] at q
      refine And.intro (vp_in_nI (by omega) (by omega)) (nm_r (e' := nI (sm_s (fun w => cn w * sq_pz pr (s w)) w + cn w * sq_pz pr ps)) ?_ (nm_r (nI_1 w) q))
      rw [nI_clamp (by omega), y1, p1.1, pk_mul, nI_add]
end ALY
section ALE
variable {f_words f_isMerged f_tokens f_hasTree f_nodes f_textLength f_resultSize f_rowLength f_partCount f_queued f_banned : Int32} {a_counts a_lengths a_letters a_tokenAt a_nextAt a_beforeAt a_frequencies a_lefts a_rights a_prices a_spellLength a_spelling a_made a_below a_endsHere a_nextSame a_text a_result a_row a_part a_queueToken a_queuePlace a_linkedToken a_linkedNext a_linkedBefore a_bestCount a_bestPrice a_bestTokens a_bestLast a_bestFrom a_ways a_one a_two : Nat → Int32}
theorem xal_exp {post : Int32 → SX → Prop} {T W : Nat} {L R pr cn : Nat → Nat} {mk : Nat → Nat → Nat} {sp wd : Nat → List Nat} (hW : xw_W W cn wd f_words a_counts a_lengths a_letters) (hA : xt_A T L R sp pr mk f_tokens a_lefts a_rights a_prices a_spellLength a_spelling a_made) (hH : xt_H T sp f_hasTree a_below a_endsHere a_nextSame) (hbn : ∀ t, t < 6 → ¬ nI t = f_banned)
    (H : ∀ (f_hasTree f_nodes f_rowLength : Int32) (a_below a_endsHere a_nextSame a_row a_bestCount a_bestPrice a_bestTokens a_bestLast a_bestFrom a_ways a_one a_two : Nat → Int32) (s : Nat → List Nat), xt_H T sp f_hasTree a_below a_endsHere a_nextSame → (∀ w, w < W → ∃ l, sq_A T sp pr f_banned (wd w) (s w :: l)) → post (nI (sm_s (fun w => cn w * sq_pz pr (s w)) W)) (f_words, f_isMerged, f_tokens, f_hasTree, f_nodes, f_textLength, f_resultSize, f_rowLength, f_partCount, f_queued, f_banned, a_counts, a_lengths, a_letters, a_tokenAt, a_nextAt, a_beforeAt, a_frequencies, a_lefts, a_rights, a_prices, a_spellLength, a_spelling, a_made, a_below, a_endsHere, a_nextSame, a_text, a_result, a_row, a_part, a_queueToken, a_queuePlace, a_linkedToken, a_linkedNext, a_linkedBefore, a_bestCount, a_bestPrice, a_bestTokens, a_bestLast, a_bestFrom, a_ways, a_one, a_two)) : wpX_expense post (f_words, f_isMerged, f_tokens, f_hasTree, f_nodes, f_textLength, f_resultSize, f_rowLength, f_partCount, f_queued, f_banned, a_counts, a_lengths, a_letters, a_tokenAt, a_nextAt, a_beforeAt, a_frequencies, a_lefts, a_rights, a_prices, a_spellLength, a_spelling, a_made, a_below, a_endsHere, a_nextSame, a_text, a_result, a_row, a_part, a_queueToken, a_queuePlace, a_linkedToken, a_linkedNext, a_linkedBefore, a_bestCount, a_bestPrice, a_bestTokens, a_bestLast, a_bestFrom, a_ways, a_one, a_two) :=
  Exists.intro (W + 1) (xal_4 hW hA hbn H W 0 (fun _ => []) _ _ _ _ _ _ _ _ _ _ _ _ _ _ _ (by omega) hH (fun j h => by omega))
end ALE
section ALF
variable {f_words f_tokens f_textSize f_resultSize f_rowSize f_barred f_made f_kept : Int32} {a_counts a_sizes a_spelled a_lefts a_rights a_prices a_lengths a_letters a_text a_result a_row a_parts a_sums a_numbers a_splits a_tried a_begins : Nat → Int32}
theorem yal_exp {post : Int32 → SY → Prop} {T W : Nat} {L R pr cn : Nat → Nat} {sp wd : Nat → List Nat} (hW : xw_W W cn wd f_words a_counts a_sizes a_spelled) (hA : yt_A T L R sp pr f_tokens f_barred a_lefts a_rights a_prices a_lengths a_letters)
    (H : ∀ (f_rowSize f_kept : Int32) (a_row a_sums a_numbers a_splits a_tried a_begins : Nat → Int32) (s : Nat → List Nat), (∀ w, w < W → ∃ l, sq_A T sp pr f_barred (wd w) (s w :: l)) → post (nI (sm_s (fun w => cn w * sq_pz pr (s w)) W)) (f_words, f_tokens, f_textSize, f_resultSize, f_rowSize, f_barred, f_made, f_kept, a_counts, a_sizes, a_spelled, a_lefts, a_rights, a_prices, a_lengths, a_letters, a_text, a_result, a_row, a_parts, a_sums, a_numbers, a_splits, a_tried, a_begins)) : wpY_expense post (f_words, f_tokens, f_textSize, f_resultSize, f_rowSize, f_barred, f_made, f_kept, a_counts, a_sizes, a_spelled, a_lefts, a_rights, a_prices, a_lengths, a_letters, a_text, a_result, a_row, a_parts, a_sums, a_numbers, a_splits, a_tried, a_begins) :=
  Exists.intro (W + 1) (yal_4 hW hA H W 0 (fun _ => []) _ _ _ _ _ _ _ _ (by omega) (fun j h => by omega))
end ALF
theorem sm_same {T W : Nat} {pr cn : Nat → Nat} {sp wd : Nat → List Nat} {bn : Int32} {s r : Nat → List Nat} (hs : ∀ w, w < W → ∃ l, sq_A T sp pr bn (wd w) (s w :: l)) (hr : ∀ w, w < W → ∃ l, sq_A T sp pr bn (wd w) (r w :: l)) : sm_s (fun w => cn w * sq_pz pr (s w)) W = sm_s (fun w => cn w * sq_pz pr (r w)) W := by
  refine sm_eq W fun w hw => ?_
  obtain ⟨l, hl⟩ := hs w hw
  obtain ⟨m, hm⟩ := hr w hw
  rw [(List.cons.inj (sq_A_u hl hm)).1]
theorem i_vc_load {k : Nat} {u : SX} {v : SY} (I : i_Rel k u v) (hk : k + 3 ≤ 1536) (v1 : Int32) : wpX_load (fun r u' => wpY_load (fun r' v' => r' = r ∧ i_Rel (k + 3) u' v') v v1) u v1 := by
  refine zz_el (P := fun u v => wpX_load (fun r u' => wpY_load (fun r' v' => r' = r ∧ i_Rel (k + 3) u' v') v v1) u v1) ?_ I
  intro f_words f_isMerged f_tokens f_hasTree f_nodes f_textLength f_resultSize f_rowLength f_partCount f_queued g_rowSize g_made g_kept a_counts a_lengths a_letters a_tokenAt a_nextAt a_beforeAt a_frequencies a_lefts a_rights a_prices a_spellLength a_spelling a_made a_below a_endsHere a_nextSame a_text a_result a_row a_part a_queueToken a_queuePlace a_linkedToken a_linkedNext a_linkedBefore a_bestCount a_bestPrice a_bestTokens a_bestLast a_bestFrom a_ways a_one a_two b_letters b_result b_row b_parts b_sums b_numbers b_splits b_tried b_begins G
  have G' := G
  obtain ⟨T, W, L, R, pr, cn, mk, sp, wd, tx, rs, g1, g2, g3, g4, g5, g6⟩ := G'
  by_cases h0 : v1 < 0
  · exact br_t h0 (br_t h0 ⟨rfl, rl_mk G⟩)
  by_cases h2 : v1 ≤ 2
  · obtain ⟨c, hc, rfl⟩ := nI_of2 (M := 2) (n := 2) (by decide) h0 h2
    refine br_f h0 (br_t h2 ⟨W + 1, ?_⟩)
    refine xal_15 (v := c) hc g1 (rl_xA g2) rfl (fun f_hasTree f_nodes f_rowLength f_partCount f_queued a_below a_endsHere a_nextSame a_row a_part a_queueToken a_queuePlace a_linkedToken a_linkedNext a_linkedBefore a_bestCount a_bestPrice a_bestTokens a_bestLast a_bestFrom a_ways a_one a_two s q1 q2 => ?_) W 0 (fun _ => []) _ _ _ _ _ _ _ _ _ _ _ _ _ _ _ _ _ _ _ _ _ _ _ (by omega) g4 (fun j h => by omega)
    refine br_f h0 (br_t h2 ⟨W + 1, ?_⟩)
    refine yal_15 (v := c) hc g1 (rl_yA g2 rl_m1) (fun g_rowSize g_made g_kept b_row b_parts b_sums b_numbers b_splits b_tried b_begins r q3 => ⟨?_, rl_mk ⟨T, W, L, R, pr, cn, mk, sp, wd, tx, rs, g1, g2, g3, q1, g5, g6⟩⟩) W 0 (fun _ => []) _ _ _ _ _ _ _ _ _ _ (by omega) (fun j h => by omega)
    refine congrArg nI (sm_eq W fun w hw => ?_)
    rw [pw_u hc (q3 w hw) (q2 w hw)]
  · exact br_f h0 (br_f h2 (br_f h0 (br_f h2 ⟨rfl, rl_mk G⟩)))
theorem i_vc_expense {k : Nat} {u : SX} {v : SY} (I : i_Rel k u v) (hk : k + 3 ≤ 1536) : wpX_expense (fun r u' => wpY_expense (fun r' v' => r' = r ∧ i_Rel (k + 3) u' v') v) u := by
  refine zz_el (P := fun u v => wpX_expense (fun r u' => wpY_expense (fun r' v' => r' = r ∧ i_Rel (k + 3) u' v') v) u) ?_ I
  intro f_words f_isMerged f_tokens f_hasTree f_nodes f_textLength f_resultSize f_rowLength f_partCount f_queued g_rowSize g_made g_kept a_counts a_lengths a_letters a_tokenAt a_nextAt a_beforeAt a_frequencies a_lefts a_rights a_prices a_spellLength a_spelling a_made a_below a_endsHere a_nextSame a_text a_result a_row a_part a_queueToken a_queuePlace a_linkedToken a_linkedNext a_linkedBefore a_bestCount a_bestPrice a_bestTokens a_bestLast a_bestFrom a_ways a_one a_two b_letters b_result b_row b_parts b_sums b_numbers b_splits b_tried b_begins G
  obtain ⟨T, W, L, R, pr, cn, mk, sp, wd, tx, rs, g1, g2, g3, g4, g5, g6⟩ := G
  refine xal_exp g1 (rl_xA g2) g4 rl_m1 fun f_hasTree f_nodes f_rowLength a_below a_endsHere a_nextSame a_row a_bestCount a_bestPrice a_bestTokens a_bestLast a_bestFrom a_ways a_one a_two s q1 q2 => ?_
  refine yal_exp g1 (rl_yA g2 rl_m1) fun g_rowSize g_kept b_row b_sums b_numbers b_splits b_tried b_begins r q3 => ⟨congrArg nI (sm_same q3 q2), rl_mk ⟨T, W, L, R, pr, cn, mk, sp, wd, tx, rs, g1, g2, g3, q1, g5, g6⟩⟩
theorem i_vc_worth {k : Nat} {u : SX} {v : SY} (I : i_Rel k u v) (hk : k + 3 ≤ 1536) (v1 : Int32) : wpX_worth (fun r u' => wpY_worth (fun r' v' => r' = r ∧ i_Rel (k + 3) u' v') v v1) u v1 := by
  refine zz_el (P := fun u v => wpX_worth (fun r u' => wpY_worth (fun r' v' => r' = r ∧ i_Rel (k + 3) u' v') v v1) u v1) ?_ I
  intro f_words f_isMerged f_tokens f_hasTree f_nodes f_textLength f_resultSize f_rowLength f_partCount f_queued g_rowSize g_made g_kept a_counts a_lengths a_letters a_tokenAt a_nextAt a_beforeAt a_frequencies a_lefts a_rights a_prices a_spellLength a_spelling a_made a_below a_endsHere a_nextSame a_text a_result a_row a_part a_queueToken a_queuePlace a_linkedToken a_linkedNext a_linkedBefore a_bestCount a_bestPrice a_bestTokens a_bestLast a_bestFrom a_ways a_one a_two b_letters b_result b_row b_parts b_sums b_numbers b_splits b_tried b_begins G
  have G' := G
  obtain ⟨T, W, L, R, pr, cn, mk, sp, wd, tx, rs, g1, g2, g3, g4, g5, g6⟩ := G'
  unfold wpX_worth wpY_worth
  dsimp only
  have hT := g2.2.2.1
  rcases pk_ixT v1 g2.1 g2.2.2.1 with hb | ⟨x, hx, rfl⟩
  · refine xk_no hb (br_t rfl ?_)
    exact yk_no hb (br_f (by decide) ⟨rfl, rl_mk G⟩)
  · refine xk_yes g2.1 g2.2.2.1 hx (br_f (by decide) ?_)
    by_cases h6 : (6 : Int32) ≤ nI x
    · have h6n : 6 ≤ x := (nI_leI (a := 6) (by omega) (by omega)).mp h6
      have hbx : ∀ t, t < 6 → ¬ nI t = nI x := fun t ht => qn_ne (by omega) (by omega) (by omega)
      refine br_t h6 ?_
      refine xal_exp g1 (rl_xA g2) g4 rl_m1 fun f_hasTree f_nodes f_rowLength a_below a_endsHere a_nextSame a_row a_bestCount a_bestPrice a_bestTokens a_bestLast a_bestFrom a_ways a_one a_two s q1 q2 => ?_
      refine xal_exp g1 (rl_xA g2) q1 hbx fun f_hasTree f_nodes f_rowLength a_below a_endsHere a_nextSame a_row a_bestCount a_bestPrice a_bestTokens a_bestLast a_bestFrom a_ways a_one a_two s' q1' q2' => ?_
      refine yk_yes g2.1 g2.2.2.1 hx (br_t rfl (br_t h6 ?_))
      refine yal_exp g1 (rl_yA g2 rl_m1) fun g_rowSize g_kept b_row b_sums b_numbers b_splits b_tried b_begins r q3 => ?_
      refine yal_exp g1 (rl_yA g2 hbx) fun g_rowSize g_kept b_row b_sums b_numbers b_splits b_tried b_begins r' q3' => ⟨?_, rl_mk ⟨T, W, L, R, pr, cn, mk, sp, wd, tx, rs, g1, g2, g3, q1', g5, g6⟩⟩
      rw [sm_same q3 q2, sm_same q3' q2']
    · refine br_f h6 ?_
      exact yk_yes g2.1 g2.2.2.1 hx (br_t rfl (br_f h6 ⟨rfl, rl_mk G⟩))
end
section
/-! the owed: the two objects at first -/
/-- an array with x at step * x for the first n numbers -/
def in_c (d : Nat → Int32) (v : Int32) (n : Nat) : Nat → Int32 := fun j => if j < n then v else d j
theorem in_c0 {d : Nat → Int32} {v : Int32} : in_c d v 0 = d := by funext j; unfold in_c; rw [if_neg (by omega)]
theorem in_cs {d : Nat → Int32} {v : Int32} {n : Nat} : upd (in_c d v n) n v = in_c d v (n + 1) := by
  funext j
  unfold upd in_c
  by_cases e : j = n
  · rw [if_pos e, if_pos (by omega)]
  · rw [if_neg e]
    by_cases h : j < n
    · rw [if_pos h, if_pos (by omega)]
    · rw [if_neg h, if_neg (by omega)]
section INX
variable {post : SX → Prop}
theorem xi_286 (H : ∀ (a_spelling : Nat → Int32), (∀ t, t < 6 → a_spelling (8 * t) = nI t) → post (0, 0, 6, 0, 0, 0, 0, 0, 0, 0, -1, (fun _ => 0), (fun _ => 0), (fun _ => 0), (fun _ => 0), (fun _ => 0), (fun _ => 0), (fun _ => 0), (fun _ => 0), (fun _ => 0), in_c (fun _ => 0) 20 6, in_c (fun _ => 0) 1 6, a_spelling, (fun _ => 0), (fun _ => 0), (fun _ => 0), (fun _ => 0), (fun _ => 0), (fun _ => 0), (fun _ => 0), (fun _ => 0), (fun _ => 0), (fun _ => 0), (fun _ => 0), (fun _ => 0), (fun _ => 0), (fun _ => 0), (fun _ => 0), (fun _ => 0), (fun _ => 0), (fun _ => 0), (fun _ => 0), (fun _ => 0), (fun _ => 0))) :
    ∀ (d x : Nat) (a_spelling : Nat → Int32), x + d = 6 → (∀ t, t < x → a_spelling (8 * t) = nI t) → wX_init_286 post 0 0 6 0 0 0 0 0 0 0 (-1) (d + 1) (nI x) (fun _ => 0) (fun _ => 0) (fun _ => 0) (fun _ => 0) (fun _ => 0) (fun _ => 0) (fun _ => 0) (fun _ => 0) (fun _ => 0) (in_c (fun _ => 0) 20 x) (in_c (fun _ => 0) 1 x) a_spelling (fun _ => 0) (fun _ => 0) (fun _ => 0) (fun _ => 0) (fun _ => 0) (fun _ => 0) (fun _ => 0) (fun _ => 0) (fun _ => 0) (fun _ => 0) (fun _ => 0) (fun _ => 0) (fun _ => 0) (fun _ => 0) (fun _ => 0) (fun _ => 0) (fun _ => 0) (fun _ => 0) (fun _ => 0) (fun _ => 0) (fun _ => 0) := by
  intro d
  induction d with
  | zero =>
    intro x a_spelling hd hs
    have e : x = 6 := by omega
    subst e
    exact br_t (by decide) (H a_spelling hs)
  | succ d ih =>
    intro x a_spelling hd hs
    have hv : vp_in (nI x) 20 := vp_in_nI (by omega) (by omega)
    refine br_f (nI_ge (b := 6) (by omega) (by omega)) ⟨hv, nm_r (e' := in_c (fun _ => 0) 20 (x + 1)) (by rw [nI_clamp (by omega)]; exact in_cs) ⟨hv, nm_r (e' := in_c (fun _ => 0) 1 (x + 1)) (by rw [nI_clamp (by omega)]; exact in_cs) ⟨pk_in (8 * x) 160 (by omega) (qn_8m x), nm_r (e' := upd a_spelling (8 * x) (nI x)) (by rw [qn_8m, nI_clamp (by omega)]) (nm_r (nI_1 x) (ih (x + 1) _ (by omega) fun t ht => ?_))⟩⟩⟩
    by_cases e : t = x
    · subst e; exact pk_us
    · rw [pk_un (by omega)]; exact hs t (by omega)
end INX
section INY
variable {post : SY → Prop}
theorem yi_154 (H : ∀ (a_letters : Nat → Int32), (∀ t, t < 6 → a_letters (12 * t) = nI t) → post (0, 6, 0, 0, 0, -1, 0, 0, (fun _ => 0), (fun _ => 0), (fun _ => 0), (fun _ => 0), (fun _ => 0), in_c (fun _ => 0) 20 6, in_c (fun _ => 0) 1 6, a_letters, (fun _ => 0), (fun _ => 0), (fun _ => 0), (fun _ => 0), (fun _ => 0), (fun _ => 0), (fun _ => 0), (fun _ => 0), (fun _ => 0))) :
    ∀ (d x : Nat) (a_letters : Nat → Int32), x + d = 6 → (∀ t, t < x → a_letters (12 * t) = nI t) → wY_init_154 post 0 6 0 0 0 (-1) 0 0 (d + 1) (nI x) (fun _ => 0) (fun _ => 0) (fun _ => 0) (fun _ => 0) (fun _ => 0) (in_c (fun _ => 0) 20 x) (in_c (fun _ => 0) 1 x) a_letters (fun _ => 0) (fun _ => 0) (fun _ => 0) (fun _ => 0) (fun _ => 0) (fun _ => 0) (fun _ => 0) (fun _ => 0) (fun _ => 0) := by
  intro d
  induction d with
  | zero =>
    intro x a_letters hd hs
    have e : x = 6 := by omega
    subst e
    exact br_t (by decide) (H a_letters hs)
  | succ d ih =>
    intro x a_letters hd hs
    have hv : vp_in (nI x) 20 := vp_in_nI (by omega) (by omega)
    refine br_f (nI_ge (b := 6) (by omega) (by omega)) ⟨hv, nm_r (e' := in_c (fun _ => 0) 20 (x + 1)) (by rw [nI_clamp (by omega)]; exact in_cs) ⟨hv, nm_r (e' := in_c (fun _ => 0) 1 (x + 1)) (by rw [nI_clamp (by omega)]; exact in_cs) ⟨pk_in (12 * x) 240 (by omega) (qn_12m x), nm_r (e' := upd a_letters (12 * x) (nI x)) (by rw [qn_12m, nI_clamp (by omega)]) (nm_r (nI_1 x) (ih (x + 1) _ (by omega) fun t ht => ?_))⟩⟩⟩
    by_cases e : t = x
    · subst e; exact pk_us
    · rw [pk_un (by omega)]; exact hs t (by omega)
end INY
theorem in_G {a_spelling b_letters : Nat → Int32} (h1 : ∀ t, t < 6 → a_spelling (8 * t) = nI t) (h2 : ∀ t, t < 6 → b_letters (12 * t) = nI t) : rl_G 0 0 6 0 0 0 (fun _ => 0) (fun _ => 0) (fun _ => 0) (fun _ => 0) (fun _ => 0) (fun _ => 0) (fun _ => 0) (fun _ => 0) (fun _ => 0) (in_c (fun _ => 0) 20 6) (in_c (fun _ => 0) 1 6) a_spelling (fun _ => 0) (fun _ => 0) (fun _ => 0) (fun _ => 0) (fun _ => 0) (fun _ => 0) b_letters (fun _ => 0) := by
  refine ⟨6, 0, fun _ => 0, fun _ => 0, fun _ => 20, fun _ => 0, fun _ _ => 0, fun t => [t], fun _ => [], [], [], ⟨rfl, by omega, fun w hw => by omega⟩, ⟨rfl, by omega, by omega, fun t a b => by omega, fun t _ => rfl, fun t ht => ?_, fun t ht => ?_, fun a b _ _ => rfl, fun a b h => absurd rfl h, fun t a b => by omega⟩, Or.inl rfl, Or.inl rfl, ⟨rfl, by simp, ly_nil, fun c h => absurd h List.not_mem_nil⟩, ⟨rfl, by simp, ly_nil, ly_nil, fun c h => absurd h List.not_mem_nil⟩⟩
  · refine ⟨?_, by simp, by simp, fun c hc => ?_, ly_1 (h1 t ht), ly_1 (h2 t ht)⟩
    · show (if t < 6 then (1 : Int32) else _) = _
      rw [if_pos ht]; rfl
    · rw [List.mem_singleton.mp hc]; exact ht
  · refine ⟨?_, by show 20 ≤ 99; omega⟩
    show (if t < 6 then (20 : Int32) else _) = _
    rw [if_pos ht]; rfl
theorem i_vc0 : wpX_init (fun u => wpY_init (fun v => i_Rel 0 u v)) := by
  have QX := xi_286 (post := fun u => wpY_init (fun v => i_Rel 0 u v)) (fun a_spelling hs => by
    have QY := yi_154 (post := fun v => i_Rel 0 (0, 0, 6, 0, 0, 0, 0, 0, 0, 0, -1, (fun _ => 0), (fun _ => 0), (fun _ => 0), (fun _ => 0), (fun _ => 0), (fun _ => 0), (fun _ => 0), (fun _ => 0), (fun _ => 0), in_c (fun _ => 0) 20 6, in_c (fun _ => 0) 1 6, a_spelling, (fun _ => 0), (fun _ => 0), (fun _ => 0), (fun _ => 0), (fun _ => 0), (fun _ => 0), (fun _ => 0), (fun _ => 0), (fun _ => 0), (fun _ => 0), (fun _ => 0), (fun _ => 0), (fun _ => 0), (fun _ => 0), (fun _ => 0), (fun _ => 0), (fun _ => 0), (fun _ => 0), (fun _ => 0), (fun _ => 0), (fun _ => 0)) v) (fun a_letters hl => rl_mk (in_G hs hl)) 6 0 (fun _ => 0) (by omega) (fun t h => by omega)
    rw [in_c0, in_c0] at QY
    exact Exists.intro 7 QY) 6 0 (fun _ => 0) (by omega) (fun t h => by omega)
  rw [in_c0, in_c0] at QX
  exact Exists.intro 7 QX
end
