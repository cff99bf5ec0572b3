section
/-! rows of the kit's rows to paste (PURE-ROWS, BITS): a starting text -/
theorem pk_us {f : Nat → Int32} {k : Nat} {x : Int32} : upd f k x k = x := if_pos rfl
theorem pk_un {f : Nat → Int32} {k j : Nat} {x : Int32} (h : j ≠ k) : upd f k x j = f j := if_neg h
theorem pk_sub {a b : Nat} (h : b ≤ a) : nI a - nI b = nI (a - b) := by
  obtain ⟨c, rfl⟩ : ∃ c, a = c + b := ⟨a - b, by omega⟩
  rw [← nI_add, Int32.add_sub_cancel, Nat.add_sub_cancel]
theorem pk_m1 (n : Nat) : nI (n + 1) + (-1) = nI n := by
  rw [← nI_1, Int32.add_assoc, show (1 : Int32) + (-1) = 0 from rfl, Int32.add_zero]
theorem pk_mul (a b : Nat) : nI a * nI b = nI (a * b) := (Int32.ofNat_mul a b).symm
theorem pk_ix (x : Int32) {n : Nat} (hn : n < 2 ^ 31) : x < 0 ∨ nI n ≤ x ∨ ∃ j : Nat, j < n ∧ x = nI j := by
  by_cases h : x < 0
  · exact Or.inl h
  · obtain ⟨j, hj, rfl⟩ := nI_of h
    by_cases h2 : j < n
    · exact Or.inr (Or.inr ⟨j, h2, rfl⟩)
    · exact Or.inr (Or.inl (nI_le (by omega) hj))
theorem pk_le {x y : Int32} {A B : Prop} (a b : Nat) (f : a ≤ b → A) (g : b < a → B) (hx : x = nI a := by rfl) (hy : y = nI b := by rfl) (ha : a < 2 ^ 31 := by omega) (hb : b < 2 ^ 31 := by omega) : (x ≤ y → A) ∧ (¬ x ≤ y → B) := by
  subst hx hy
  rw [nI_leI ha hb]
  exact ⟨f, fun z => g (by omega)⟩
theorem pk_lt {x y : Int32} {A B : Prop} (a b : Nat) (f : a < b → A) (g : b ≤ a → B) (hx : x = nI a := by rfl) (hy : y = nI b := by rfl) (ha : a < 2 ^ 31 := by omega) (hb : b < 2 ^ 31 := by omega) : (x < y → A) ∧ (¬ x < y → B) := by
  subst hx hy
  rw [nI_ltI ha hb]
  exact ⟨f, fun z => g (by omega)⟩
theorem pk_eq {x y : Int32} {A B : Prop} (a b : Nat) (f : a = b → A) (g : a ≠ b → B) (hx : x = nI a := by rfl) (hy : y = nI b := by rfl) (ha : a < 2 ^ 31 := by omega) (hb : b < 2 ^ 31 := by omega) : (x = y → A) ∧ (¬ x = y → B) := by
  subst hx hy
  rw [nI_eq ha hb]
  exact ⟨f, g⟩
theorem pk_in {x : Int32} (n N : Nat) (h : n < N) (hx : x = nI n := by rfl) (hN : N < 2 ^ 31 := by omega) : vp_in x N := by
  subst hx
  exact vp_in_nI h hN
theorem pk_cl {x : Int32} (n : Nat) (hx : x = nI n := by rfl) (h : n < 2 ^ 31 := by omega) : x.toNatClampNeg = n := by
  subst hx
  exact nI_clamp h
theorem pk_vb (z : Int32) : vp_nar .byte z.toInt8.toInt32 = z.toInt8.toInt32 := by rw [vp_nar_byte]; simp
theorem pk_vs (z : Int32) : vp_nar .short z.toInt16.toInt32 = z.toInt16.toInt32 := by rw [vp_nar_short]; simp
def bt (x : Int32) (i : Nat) : Bool := x.toBitVec.getLsbD i
theorem b_ext {x y : Int32} (h : ∀ i, i < 32 → bt x i = bt y i) : x = y := Int32.toBitVec_inj.mp (BitVec.eq_of_getLsbD_eq (fun i hi => h i hi))
theorem b_or (x y : Int32) (i : Nat) : bt (x ||| y) i = (bt x i || bt y i) := by unfold bt; rw [Int32.toBitVec_or, BitVec.getLsbD_or]
theorem b_and (x y : Int32) (i : Nat) : bt (x &&& y) i = (bt x i && bt y i) := by unfold bt; rw [Int32.toBitVec_and, BitVec.getLsbD_and]
theorem b_big {x : Int32} {i : Nat} (h : 32 ≤ i) : bt x i = false := BitVec.getLsbD_of_ge _ _ h
theorem b_0 (i : Nat) : bt 0 i = false := BitVec.getLsbD_zero
theorem s_l : ∀ n, n < 32 → ((nI n &&& 31).toBitVec.smod 32).toNat = n := by decide +kernel
theorem b_shl (n : Nat) (hn : n < 32) (x : Int32) {i : Nat} (hi : i < 32) : bt (x <<< (nI n &&& 31)) i = (decide (n ≤ i) && bt x (i - n)) := by
  unfold bt
  rw [Int32.toBitVec_shiftLeft]
  show (x.toBitVec <<< ((nI n &&& 31).toBitVec.smod 32).toNat).getLsbD i = _
  rw [s_l n hn, BitVec.getLsbD_shiftLeft]
  rcases Nat.lt_or_ge i n with h | h
  · simp [h, Nat.not_le.mpr h]
  · simp [hi, h, Nat.not_lt.mpr h]
theorem b_sshr (n : Nat) (hn : n < 32) (x : Int32) {i : Nat} (hi : i < 32) : bt (x >>> (nI n &&& 31)) i = if n + i < 32 then bt x (n + i) else bt x 31 := by
  unfold bt
  rw [Int32.toBitVec_shiftRight]
  show (x.toBitVec.sshiftRight ((nI n &&& 31).toBitVec.smod 32).toNat).getLsbD i = _
  rw [s_l n hn, BitVec.getLsbD_sshiftRight, BitVec.msb_eq_getLsbD_last]
  simp [hi]
end
section
/-! ===== numbers ===== -/
theorem fs_s1 {d : Nat} (h : 1 ≤ d) : nI d - 1 = nI (d - 1) := pk_sub (a := d) (b := 1) h
theorem fs_s2 {d A : Nat} (h : A + 1 ≤ d) : nI d - 1 - nI A = nI (d - 1 - A) := by
  rw [fs_s1 (by omega), pk_sub (by omega)]
theorem fs_b8 : ∀ n, n < 128 → (nI n).toInt8.toInt32 = nI n := by decide +kernel
theorem fs_b16 : ∀ n, n < 1024 → (nI n).toInt16.toInt32 = nI n := by decide +kernel
theorem fs_nb {n : Nat} (h : n < 128) : vp_nar .byte (nI n).toInt8.toInt32 = nI n := by rw [pk_vb, fs_b8 n h]
theorem fs_ns {n : Nat} (h : n < 1024) : vp_nar .short (nI n).toInt16.toInt32 = nI n := by rw [pk_vs, fs_b16 n h]
theorem fs_cl {n : Nat} (h : n < 1000000) : (nI n).toNatClampNeg = n := nI_clamp (by omega)
theorem fs_nm1 : ∀ n, n < 64 → ¬ nI n < 0 := by decide +kernel
theorem fs_up {f : Nat → Int32} {n : Nat} {x y : Int32} (h : n < 1000000) (e : x = y) : upd f (nI n).toNatClampNeg x = upd f n y := by rw [fs_cl h, e]
theorem fs_ue (f : Nat → Int32) (k : Nat) (x : Int32) (j : Nat) : upd f k x j = if j = k then x else f j := rfl
theorem fs_in {n N : Nat} (h : n < N) (hN : N < 1000000) : vp_in (nI n) N := vp_in_nI h (by omega)
theorem fs_at0 {P : Int32 → Prop} {f : Nat → Int32} {n : Nat} (hn : n < 1000000) (h : P (f n)) : P (f (nI n).toNatClampNeg) := by rw [fs_cl hn]; exact h
/-! ===== the pigeonhole ===== -/
theorem fs_pig : ∀ (n : Nat) (g : Nat → Nat), (∀ r, r < n + 1 → ∃ h, h < n ∧ g h = r) → False := by
  intro n
  induction n with
  | zero => intro g H; obtain ⟨h, hh, _⟩ := H 0 (by omega); omega
  | succ n ih =>
    intro g H
    refine ih (fun h => if g h = n + 1 then g n else g h) ?_
    intro r hr
    obtain ⟨h, hh, e⟩ := H r (by omega)
    by_cases hn : h = n
    · subst hn
      obtain ⟨h', hh', e'⟩ := H (h + 1) (by omega)
      have : h' ≠ h := by intro q; subst q; omega
      exact ⟨h', by omega, (if_pos e').trans e⟩
    · exact ⟨h, by omega, (if_neg (by omega)).trans e⟩
/-! ===== the machine ===== -/
def fs_fb (o A d : Nat) : Bool := match o with
  | 0 => decide (8 ≤ d)
  | 1 => decide (8 ≤ d ∨ d ≤ A)
  | 2 => decide (8 ≤ d)
  | 3 => decide (d < 1)
  | 10 => decide (d < 1)
  | 11 => decide (d < 1)
  | 12 => false
  | 13 => false
  | _ => decide (d ≤ A)
abbrev fs_M : Type := Nat × Nat × Int32 × Int32 × (Nat → Int32) × (Nat → Int32)
def fs_ms (o : Nat) (a : Int32) (A d p : Nat) (c : Int32) (s m : Nat → Int32) : fs_M := match o with
  | 0 => (d + 1, p + 1, 0, c + 1, upd s d a, m)
  | 1 => (d + 1, p + 1, 0, c + 1, upd s d (s (d - 1 - A)), m)
  | 2 => (d + 1, p + 1, 0, c + 1, upd s d (m A), m)
  | 3 => (d - 1, p + 1, 0, c + 1, s, upd m A (s (d - 1)))
  | 4 => (d, p + 1, 0, c + 1, upd (upd s (d - 1) (s (d - 1 - A))) (d - 1 - A) (s (d - 1)), m)
  | 5 => (d, p + 1, 0, c + 1, upd s (d - 1) (s (d - 1) + s (d - 1 - A)), m)
  | 6 => (d, p + 1, 0, c + 1, upd s (d - 1) (s (d - 1) - s (d - 1 - A)), m)
  | 7 => (d, p + 1, 0, c + 1, upd s (d - 1) (s (d - 1) * s (d - 1 - A)), m)
  | 8 => (d - 1, p + 1, 0, c + 1, upd s (d - 1 - A) (s (d - 1 - A) + s (d - 1)), m)
  | 9 => (d - 1, p + 1, 0, c + 1, upd s (d - 1 - A) (s (d - 1 - A) - s (d - 1)), m)
  | 10 => (d - 1, (if s (d - 1) = 0 then A else p + 1), 0, c + 1, s, m)
  | 11 => (d - 1, (if 0 ≤ s (d - 1) then p + 1 else A), 0, c + 1, s, m)
  | 12 => (d, A, 0, c + 1, s, m)
  | _ => (d, p, 1, c + 1, s, m)
def fs_at (L : Nat) (op ag : Nat → Int32) (M : fs_M) : fs_M := match M with
  | (d, p, st, c, s, m) => if st = 0 then (if L ≤ p ∨ fs_fb (op p).toNatClampNeg (ag p).toNatClampNeg d = true then (d, p, 2, c, s, m) else fs_ms (op p).toNatClampNeg (ag p) (ag p).toNatClampNeg d p c s m) else (d, p, st, c, s, m)
theorem fs_at_stop {L : Nat} {op ag : Nat → Int32} {d p : Nat} {st c : Int32} {s m : Nat → Int32} (h : st ≠ 0) : fs_at L op ag (d, p, st, c, s, m) = (d, p, st, c, s, m) := if_neg h
theorem fs_at_trap {L : Nat} {op ag : Nat → Int32} {d p : Nat} {c : Int32} {s m : Nat → Int32} (h : L ≤ p ∨ fs_fb (op p).toNatClampNeg (ag p).toNatClampNeg d = true) : fs_at L op ag (d, p, 0, c, s, m) = (d, p, 2, c, s, m) := by
  unfold fs_at; dsimp only; rw [if_pos rfl, if_pos h]
theorem fs_at_ok {L : Nat} {op ag : Nat → Int32} {d p : Nat} {c : Int32} {s m : Nat → Int32} (o : Nat) (a : Int32) (ho : o ≤ 13) (h : p < L) (eo : op p = nI o) (ea : ag p = a) (hf : fs_fb o a.toNatClampNeg d = false) : fs_at L op ag (d, p, 0, c, s, m) = fs_ms o a a.toNatClampNeg d p c s m := by
  have e : (nI o).toNatClampNeg = o := fs_cl (by omega)
  unfold fs_at
  dsimp only
  rw [if_pos rfl, eo, ea, e]
  exact if_neg (by rw [hf]; intro q; rcases q with q | q; omega; exact Bool.noConfusion q)
def fs_itr (L : Nat) (op ag : Nat → Int32) : Nat → fs_M → fs_M
  | 0, M => M
  | n + 1, M => fs_at L op ag (fs_itr L op ag n M)
theorem fs_itr_add {L : Nat} {op ag : Nat → Int32} (a b : Nat) (M : fs_M) : fs_itr L op ag (a + b) M = fs_itr L op ag a (fs_itr L op ag b M) := by
  induction a with
  | zero => rw [Nat.zero_add]; rfl
  | succ a ih => rw [Nat.succ_add]; show fs_at L op ag _ = fs_at L op ag _; rw [ih]
theorem fs_itr_stop {L : Nat} {op ag : Nat → Int32} {d p : Nat} {st c : Int32} {s m : Nat → Int32} (h : st ≠ 0) (n : Nat) : fs_itr L op ag n (d, p, st, c, s, m) = (d, p, st, c, s, m) := by
  induction n with
  | zero => rfl
  | succ n ih => show fs_at L op ag _ = _; rw [ih, fs_at_stop h]
/-! ===== valid instructions ===== -/
def fs_VI (x a : Int32) : Prop := 0 ≤ x.toInt ∧ x.toInt ≤ 13 ∧ (1 ≤ x.toInt → x.toInt ≤ 9 → 0 ≤ a.toInt ∧ a.toInt ≤ 7 ∧ (8 ≤ x.toInt → 1 ≤ a.toInt)) ∧ (10 ≤ x.toInt → x.toInt ≤ 12 → 0 ≤ a.toInt ∧ a.toInt ≤ 31)
theorem fs_int {x : Int32} {n : Nat} (h0 : 0 ≤ x.toInt) (h1 : x.toInt ≤ n) : ∃ j : Nat, j ≤ n ∧ x = nI j ∧ x.toInt = j := by
  have h : ¬ x < 0 := by rw [Int32.lt_iff_toInt_lt, Int32.toInt_zero]; omega
  obtain ⟨j, hj, rfl⟩ := nI_of h
  have e := nI_toInt hj
  exact ⟨j, by omega, rfl, e⟩
def fs_D (x a : Int32) : Prop := x = nI 0 ∨ (∃ A, A ≤ 7 ∧ x = nI 1 ∧ a = nI A) ∨ (∃ A, A ≤ 7 ∧ x = nI 2 ∧ a = nI A) ∨ (∃ A, A ≤ 7 ∧ x = nI 3 ∧ a = nI A) ∨ (∃ A, A ≤ 7 ∧ x = nI 4 ∧ a = nI A) ∨ (∃ A, A ≤ 7 ∧ x = nI 5 ∧ a = nI A) ∨ (∃ A, A ≤ 7 ∧ x = nI 6 ∧ a = nI A) ∨ (∃ A, A ≤ 7 ∧ x = nI 7 ∧ a = nI A) ∨ (∃ A, 1 ≤ A ∧ A ≤ 7 ∧ x = nI 8 ∧ a = nI A) ∨ (∃ A, 1 ≤ A ∧ A ≤ 7 ∧ x = nI 9 ∧ a = nI A) ∨ (∃ A, A ≤ 31 ∧ x = nI 10 ∧ a = nI A) ∨ (∃ A, A ≤ 31 ∧ x = nI 11 ∧ a = nI A) ∨ (∃ A, A ≤ 31 ∧ x = nI 12 ∧ a = nI A) ∨ x = nI 13
theorem fs_VD {x a : Int32} (h : fs_VI x a) : fs_D x a := by
  obtain ⟨ha, hb, hc, hd⟩ := h
  obtain ⟨o, ho, rfl, eo⟩ := fs_int (n := 13) ha hb
  rw [eo] at hc hd
  have c7 : 1 ≤ o → o ≤ 9 → ∃ A : Nat, A ≤ 7 ∧ a = nI A ∧ (8 ≤ o → 1 ≤ A) := by
    intro q1 q2
    obtain ⟨z1, z2, z3⟩ := hc (by omega) (by omega)
    obtain ⟨A, hA, e, eA⟩ := fs_int (n := 7) z1 z2
    exact ⟨A, hA, e, fun q => by have := z3 (by omega); omega⟩
  have c31 : 10 ≤ o → o ≤ 12 → ∃ A : Nat, A ≤ 31 ∧ a = nI A := by
    intro q1 q2
    obtain ⟨z1, z2⟩ := hd (by omega) (by omega)
    obtain ⟨A, hA, e, eA⟩ := fs_int (n := 31) z1 z2
    exact ⟨A, hA, e⟩
  clear hc hd eo ha hb
  have K : o = 0 ∨ o = 1 ∨ o = 2 ∨ o = 3 ∨ o = 4 ∨ o = 5 ∨ o = 6 ∨ o = 7 ∨ o = 8 ∨ o = 9 ∨ o = 10 ∨ o = 11 ∨ o = 12 ∨ o = 13 := by
    clear c7 c31; omega
  unfold fs_D
  rcases K with rfl | rfl | rfl | rfl | rfl | rfl | rfl | rfl | rfl | rfl | rfl | rfl | rfl | rfl
  · exact Or.inl rfl
  · obtain ⟨A, hA, e, _⟩ := c7 (by decide) (by decide); exact Or.inr (Or.inl ⟨A, hA, rfl, e⟩)
  · obtain ⟨A, hA, e, _⟩ := c7 (by decide) (by decide); exact Or.inr (Or.inr (Or.inl ⟨A, hA, rfl, e⟩))
  · obtain ⟨A, hA, e, _⟩ := c7 (by decide) (by decide); exact Or.inr (Or.inr (Or.inr (Or.inl ⟨A, hA, rfl, e⟩)))
  · obtain ⟨A, hA, e, _⟩ := c7 (by decide) (by decide); exact Or.inr (Or.inr (Or.inr (Or.inr (Or.inl ⟨A, hA, rfl, e⟩))))
  · obtain ⟨A, hA, e, _⟩ := c7 (by decide) (by decide); exact Or.inr (Or.inr (Or.inr (Or.inr (Or.inr (Or.inl ⟨A, hA, rfl, e⟩)))))
  · obtain ⟨A, hA, e, _⟩ := c7 (by decide) (by decide); exact Or.inr (Or.inr (Or.inr (Or.inr (Or.inr (Or.inr (Or.inl ⟨A, hA, rfl, e⟩))))))
  · obtain ⟨A, hA, e, _⟩ := c7 (by decide) (by decide); exact Or.inr (Or.inr (Or.inr (Or.inr (Or.inr (Or.inr (Or.inr (Or.inl ⟨A, hA, rfl, e⟩)))))))
  · obtain ⟨A, hA, e, q⟩ := c7 (by decide) (by decide); exact Or.inr (Or.inr (Or.inr (Or.inr (Or.inr (Or.inr (Or.inr (Or.inr (Or.inl ⟨A, q (by decide), hA, rfl, e⟩))))))))
  · obtain ⟨A, hA, e, q⟩ := c7 (by decide) (by decide); exact Or.inr (Or.inr (Or.inr (Or.inr (Or.inr (Or.inr (Or.inr (Or.inr (Or.inr (Or.inl ⟨A, q (by decide), hA, rfl, e⟩)))))))))
  · obtain ⟨A, hA, e⟩ := c31 (by decide) (by decide); exact Or.inr (Or.inr (Or.inr (Or.inr (Or.inr (Or.inr (Or.inr (Or.inr (Or.inr (Or.inr (Or.inl ⟨A, hA, rfl, e⟩))))))))))
  · obtain ⟨A, hA, e⟩ := c31 (by decide) (by decide); exact Or.inr (Or.inr (Or.inr (Or.inr (Or.inr (Or.inr (Or.inr (Or.inr (Or.inr (Or.inr (Or.inr (Or.inl ⟨A, hA, rfl, e⟩)))))))))))
  · obtain ⟨A, hA, e⟩ := c31 (by decide) (by decide); exact Or.inr (Or.inr (Or.inr (Or.inr (Or.inr (Or.inr (Or.inr (Or.inr (Or.inr (Or.inr (Or.inr (Or.inr (Or.inl ⟨A, hA, rfl, e⟩))))))))))))
  · exact Or.inr (Or.inr (Or.inr (Or.inr (Or.inr (Or.inr (Or.inr (Or.inr (Or.inr (Or.inr (Or.inr (Or.inr (Or.inr (rfl)))))))))))))
theorem fs_at_okN {L : Nat} {op ag : Nat → Int32} {d p : Nat} {c : Int32} {s m : Nat → Int32} (o A : Nat) (ho : o ≤ 13) (hA : A ≤ 31) (h : p < L) (eo : op p = nI o) (ea : ag p = nI A) (hf : fs_fb o A d = false) : fs_at L op ag (d, p, 0, c, s, m) = fs_ms o (nI A) A d p c s m := by
  have e : (nI A).toNatClampNeg = A := fs_cl (by omega)
  have q := fs_at_ok (L := L) (op := op) (ag := ag) (d := d) (p := p) (c := c) (s := s) (m := m) o (nI A) ho h eo ea (by rw [e]; exact hf)
  rw [e] at q
  exact q
theorem fs_fbN {x a : Int32} {o A d : Nat} {b : Bool} (ho : o ≤ 13) (hA : A ≤ 31) (eo : x = nI o) (ea : a = nI A) (h : fs_fb x.toNatClampNeg a.toNatClampNeg d = b) : fs_fb o A d = b := by
  rw [eo, ea, fs_cl (by omega), fs_cl (by omega)] at h; exact h
theorem fs_fb0 {x a : Int32} {o d : Nat} {b : Bool} (ho : o ≤ 13) (eo : x = nI o) (h : fs_fb x.toNatClampNeg a.toNatClampNeg d = b) : fs_fb o a.toNatClampNeg d = b := by
  rw [eo, fs_cl (by omega)] at h; exact h
end
section
/-! ===== the flat code ===== -/
abbrev fs_F : Type := (Nat → Int32) × (Nat → Int32)
abbrev fs_K : Type := (Nat → Int32) × (Nat → Int32) × (Nat → Int32) × (Nat → Int32)
def fs_wk (o x y z : Int32) (F : fs_F) : fs_F :=
  if o = 0 then (upd F.1 x.toNatClampNeg z, F.2)
  else if o = 1 then (upd F.1 x.toNatClampNeg (F.1 y.toNatClampNeg), F.2)
  else if o = 2 then (upd F.1 x.toNatClampNeg (F.1 y.toNatClampNeg + F.1 z.toNatClampNeg), F.2)
  else if o = 3 then (upd F.1 x.toNatClampNeg (F.1 y.toNatClampNeg - F.1 z.toNatClampNeg), F.2)
  else if o = 4 then (upd F.1 x.toNatClampNeg (F.1 y.toNatClampNeg * F.1 z.toNatClampNeg), F.2)
  else if o = 5 then (upd F.1 x.toNatClampNeg (F.2 y.toNatClampNeg), F.2)
  else (F.1, upd F.2 x.toNatClampNeg (F.1 y.toNatClampNeg))
/-- a legal one of the flat instructions that don't leave the block -/
def fs_WK (o x y z : Int32) : Prop := ∃ o' x' y' z' : Nat, o' ≤ 6 ∧ x' < 10 ∧ y' < 10 ∧ z' < 10 ∧ o = nI o' ∧ x = nI x' ∧ y = nI y' ∧ (2 ≤ o' → o' ≤ 4 → z = nI z') ∧ (o' = 5 → y' < 8) ∧ (o' = 6 → x' < 8)
theorem fs_wk0 {x : Nat} {y z : Int32} {F : fs_F} (hx : x < 10) : fs_wk (nI 0) (nI x) y z F = (upd F.1 x z, F.2) := by
  unfold fs_wk; rw [fs_cl (n := x) (by omega), if_pos (by decide)]
theorem fs_wk1 {x y : Nat} {z : Int32} {F : fs_F} (hx : x < 10) (hy : y < 10) : fs_wk (nI 1) (nI x) (nI y) z F = (upd F.1 x (F.1 y), F.2) := by
  unfold fs_wk; rw [fs_cl (n := x) (by omega), fs_cl (n := y) (by omega), if_neg (by decide), if_pos (by decide)]
theorem fs_wk2 {x y z : Nat} {F : fs_F} (hx : x < 10) (hy : y < 10) (hz : z < 10) : fs_wk (nI 2) (nI x) (nI y) (nI z) F = (upd F.1 x (F.1 y + F.1 z), F.2) := by
  unfold fs_wk; rw [fs_cl (n := x) (by omega), fs_cl (n := y) (by omega), fs_cl (n := z) (by omega), if_neg (by decide), if_neg (by decide), if_pos (by decide)]
theorem fs_wk3 {x y z : Nat} {F : fs_F} (hx : x < 10) (hy : y < 10) (hz : z < 10) : fs_wk (nI 3) (nI x) (nI y) (nI z) F = (upd F.1 x (F.1 y - F.1 z), F.2) := by
  unfold fs_wk; rw [fs_cl (n := x) (by omega), fs_cl (n := y) (by omega), fs_cl (n := z) (by omega), if_neg (by decide), if_neg (by decide), if_neg (by decide), if_pos (by decide)]
theorem fs_wk4 {x y z : Nat} {F : fs_F} (hx : x < 10) (hy : y < 10) (hz : z < 10) : fs_wk (nI 4) (nI x) (nI y) (nI z) F = (upd F.1 x (F.1 y * F.1 z), F.2) := by
  unfold fs_wk; rw [fs_cl (n := x) (by omega), fs_cl (n := y) (by omega), fs_cl (n := z) (by omega), if_neg (by decide), if_neg (by decide), if_neg (by decide), if_neg (by decide), if_pos (by decide)]
theorem fs_wk5 {x y : Nat} {z : Int32} {F : fs_F} (hx : x < 10) (hy : y < 10) : fs_wk (nI 5) (nI x) (nI y) z F = (upd F.1 x (F.2 y), F.2) := by
  unfold fs_wk; rw [fs_cl (n := x) (by omega), fs_cl (n := y) (by omega), if_neg (by decide), if_neg (by decide), if_neg (by decide), if_neg (by decide), if_neg (by decide), if_pos (by decide)]
theorem fs_wk6 {x y : Nat} {z : Int32} {F : fs_F} (hx : x < 10) (hy : y < 10) : fs_wk (nI 6) (nI x) (nI y) z F = (F.1, upd F.2 x (F.1 y)) := by
  unfold fs_wk; rw [fs_cl (n := x) (by omega), fs_cl (n := y) (by omega), if_neg (by decide), if_neg (by decide), if_neg (by decide), if_neg (by decide), if_neg (by decide), if_neg (by decide)]
def fs_sg (K : fs_K) (S : Nat) : Nat → fs_F → fs_F
  | 0, F => F
  | n + 1, F => fs_wk (K.1 (S + n)) (K.2.1 (S + n)) (K.2.2.1 (S + n)) (K.2.2.2 (S + n)) (fs_sg K S n F)
/-- two codes agree at a place -/
def fs_Eq (K K' : fs_K) (j : Nat) : Prop := K'.1 j = K.1 j ∧ K'.2.1 j = K.2.1 j ∧ K'.2.2.1 j = K.2.2.1 j ∧ K'.2.2.2 j = K.2.2.2 j
def fs_Wj (K : fs_K) (j : Nat) : Prop := fs_WK (K.1 j) (K.2.1 j) (K.2.2.1 j) (K.2.2.2 j)
theorem fs_Wj_eq {K K' : fs_K} {j : Nat} (e : fs_Eq K K' j) (h : fs_Wj K j) : fs_Wj K' j := by
  unfold fs_Wj; rw [e.1, e.2.1, e.2.2.1, e.2.2.2]; exact h
theorem fs_sg_eq {K K' : fs_K} {S : Nat} (n : Nat) (F : fs_F) (h : ∀ j, S ≤ j → j < S + n → fs_Eq K K' j) : fs_sg K' S n F = fs_sg K S n F := by
  induction n with
  | zero => rfl
  | succ n ih =>
    have e := h (S + n) (by omega) (by omega)
    show fs_wk (K'.1 (S + n)) (K'.2.1 (S + n)) (K'.2.2.1 (S + n)) (K'.2.2.2 (S + n)) (fs_sg K' S n F) = fs_wk (K.1 (S + n)) (K.2.1 (S + n)) (K.2.2.1 (S + n)) (K.2.2.2 (S + n)) (fs_sg K S n F)
    rw [ih (fun j a b => h j a (by omega)), e.1, e.2.1, e.2.2.1, e.2.2.2]
theorem fs_sg_add {K : fs_K} {S : Nat} (a b : Nat) (F : fs_F) : fs_sg K S (a + b) F = fs_sg K (S + a) b (fs_sg K S a F) := by
  induction b with
  | zero => rfl
  | succ b ih =>
    show fs_wk (K.1 (S + (a + b))) (K.2.1 (S + (a + b))) (K.2.2.1 (S + (a + b))) (K.2.2.2 (S + (a + b))) (fs_sg K S (a + b) F) = fs_wk (K.1 (S + a + b)) (K.2.1 (S + a + b)) (K.2.2.1 (S + a + b)) (K.2.2.2 (S + a + b)) (fs_sg K (S + a) b (fs_sg K S a F))
    rw [ih, Nat.add_assoc]
/-- K' goes on from K at ce up to ce', by legal instructions which do Q -/
def fs_EX (ce : Nat) (K : fs_K) (ce' : Nat) (K' : fs_K) (Q : fs_F → fs_F → Prop) : Prop :=
  ce ≤ ce' ∧ (∀ j, j < ce → fs_Eq K K' j) ∧ (∀ j, ce ≤ j → j < ce' → fs_Wj K' j) ∧ ∀ F, Q F (fs_sg K' ce (ce' - ce) F)
theorem fs_EX_rf {ce : Nat} {K : fs_K} {Q : fs_F → fs_F → Prop} (h : ∀ F, Q F F) : fs_EX ce K ce K Q :=
  ⟨Nat.le_refl _, fun _ _ => ⟨rfl, rfl, rfl, rfl⟩, fun j a b => absurd b (by omega), fun F => by rw [Nat.sub_self]; exact h F⟩
theorem fs_EX_mono {ce ce' : Nat} {K K' : fs_K} {Q Q' : fs_F → fs_F → Prop} (E : fs_EX ce K ce' K' Q) (h : ∀ F F', Q F F' → Q' F F') : fs_EX ce K ce' K' Q' :=
  ⟨E.1, E.2.1, E.2.2.1, fun F => h _ _ (E.2.2.2 F)⟩
theorem fs_EX_tr {c0 c1 c2 : Nat} {K0 K1 K2 : fs_K} {Q R T : fs_F → fs_F → Prop} (E : fs_EX c0 K0 c1 K1 Q) (G : fs_EX c1 K1 c2 K2 R) (h : ∀ F F' F'', Q F F' → R F' F'' → T F F'') : fs_EX c0 K0 c2 K2 T := by
  obtain ⟨l1, a1, w1, q1⟩ := E
  obtain ⟨l2, a2, w2, q2⟩ := G
  refine ⟨Nat.le_trans l1 l2, fun j hj => ?_, fun j a b => ?_, fun F => ?_⟩
  · have x := a1 j hj
    have y := a2 j (by omega)
    exact ⟨y.1.trans x.1, y.2.1.trans x.2.1, y.2.2.1.trans x.2.2.1, y.2.2.2.trans x.2.2.2⟩
  · by_cases z : j < c1
    · exact fs_Wj_eq (a2 j z) (w1 j a z)
    · exact w2 j (by omega) b
  · have e : c2 - c0 = (c1 - c0) + (c2 - c1) := by omega
    have e2 : c0 + (c1 - c0) = c1 := by omega
    rw [e, fs_sg_add, e2, fs_sg_eq (K := K1) (K' := K2) (S := c0) (c1 - c0) F (fun j _ b => a2 j (by omega))]
    exact h _ _ _ (q1 F) (q2 _)
def fs_ku (K : fs_K) (ce : Nat) (a b c e : Int32) : fs_K := (upd K.1 ce a, upd K.2.1 ce b, upd K.2.2.1 ce c, upd K.2.2.2 ce e)
theorem fs_ku_eq {K : fs_K} {ce : Nat} {a b c e : Int32} {j : Nat} (h : j < ce) : fs_Eq K (fs_ku K ce a b c e) j :=
  ⟨pk_un (by omega), pk_un (by omega), pk_un (by omega), pk_un (by omega)⟩
theorem fs_EX_w {ce : Nat} {K : fs_K} {a b c e : Int32} (h : fs_WK a b c e) : fs_EX ce K (ce + 1) (fs_ku K ce a b c e) (fun F F' => F' = fs_wk a b c e F) := by
  have e1 : (fs_ku K ce a b c e).1 ce = a := pk_us
  have e2 : (fs_ku K ce a b c e).2.1 ce = b := pk_us
  have e3 : (fs_ku K ce a b c e).2.2.1 ce = c := pk_us
  have e4 : (fs_ku K ce a b c e).2.2.2 ce = e := pk_us
  refine ⟨by omega, fun j hj => fs_ku_eq hj, fun j x y => ?_, fun F => ?_⟩
  · have : j = ce := by omega
    subst this
    unfold fs_Wj; rw [e1, e2, e3, e4]; exact h
  · have : ce + 1 - ce = 0 + 1 := by omega
    rw [this]
    show fs_wk ((fs_ku K ce a b c e).1 ce) ((fs_ku K ce a b c e).2.1 ce) ((fs_ku K ce a b c e).2.2.1 ce) ((fs_ku K ce a b c e).2.2.2 ce) F = _
    rw [e1, e2, e3, e4]
/-- what the leaving instruction o x y z does: the height, the place, the status; M is the machine then -/
def fs_TM (o x y z : Int32) (F : fs_F) (c : Int32) (M : fs_M) : Prop :=
  ∃ (d p : Nat) (st : Int32) (s : Nat → Int32), M = (d, p, st, c, s, F.2) ∧ d ≤ 8 ∧ p ≤ 32 ∧ y = nI d ∧ (∀ h, h < d → F.1 h = s h) ∧
    ((o = nI 7 ∧ x = nI p ∧ st = 0) ∨ (o = nI 8 ∧ (if F.1 8 = 0 then z else x) = nI p ∧ st = 0) ∨ (o = nI 9 ∧ (if 0 ≤ F.1 8 then x else z) = nI p ∧ st = 0) ∨ (o = nI 10 ∧ x = nI p ∧ st = 1) ∨ (o = nI 11 ∧ x = nI p ∧ st = 2))
/-- a finished block for (p, d), from S on, below ce: T tries, D done -/
def fs_BK (L : Nat) (op ag : Nat → Int32) (p d S T : Nat) (D : Int32) (ce : Nat) (K : fs_K) : Prop :=
  ∃ e, S ≤ e ∧ e < ce ∧ (∀ j, S ≤ j → j < e → fs_Wj K j) ∧ ∀ (f m s : Nat → Int32) (c : Int32), (∀ h, h < d → f h = s h) →
    fs_TM (K.1 e) (K.2.1 e) (K.2.2.1 e) (K.2.2.2 e) (fs_sg K S (e - S) (f, m)) (c + D) (fs_itr L op ag T (d, p, 0, c, s, m))
theorem fs_BK_keep {L : Nat} {op ag : Nat → Int32} {p d S T : Nat} {D : Int32} {ce ce' : Nat} {K K' : fs_K} (h : fs_BK L op ag p d S T D ce K) (hc : ce ≤ ce') (hK : ∀ j, j < ce → fs_Eq K K' j) : fs_BK L op ag p d S T D ce' K' := by
  obtain ⟨e, h1, h2, h3, h4⟩ := h
  refine ⟨e, h1, by omega, fun j a b => fs_Wj_eq (hK j (by omega)) (h3 j a b), fun f m s c hf => ?_⟩
  have q := hK e h2
  rw [q.1, q.2.1, q.2.2.1, q.2.2.2, fs_sg_eq (K := K) (K' := K') (S := S) (e - S) (f, m) (fun j _ b => hK j (by omega))]
  exact h4 f m s c hf
theorem fs_BK_mk {L : Nat} {op ag : Nat → Int32} {p d S T : Nat} {D : Int32} {e : Nat} {K0 K : fs_K} {Q : fs_F → fs_F → Prop} {a b y z : Int32} (E : fs_EX S K0 e K Q)
    (h : ∀ F F' s c, Q F F' → (∀ h, h < d → F.1 h = s h) → fs_TM a b y z F' (c + D) (fs_itr L op ag T (d, p, 0, c, s, F.2))) : fs_BK L op ag p d S T D (e + 1) (fs_ku K e a b y z) := by
  obtain ⟨l1, a1, w1, q1⟩ := E
  have e1 : (fs_ku K e a b y z).1 e = a := pk_us
  have e2 : (fs_ku K e a b y z).2.1 e = b := pk_us
  have e3 : (fs_ku K e a b y z).2.2.1 e = y := pk_us
  have e4 : (fs_ku K e a b y z).2.2.2 e = z := pk_us
  refine ⟨e, l1, by omega, fun j x y => fs_Wj_eq (fs_ku_eq (by omega)) (w1 j x y), fun f m s c hf => ?_⟩
  rw [e1, e2, e3, e4, fs_sg_eq (K := K) (K' := fs_ku K e a b y z) (S := S) (e - S) (f, m) (fun j _ b => fs_ku_eq (by omega))]
  exact h (f, m) _ s c (q1 (f, m)) hf
/-- what the code of k instructions does: the machine is then at p with height d, the value at height h in register g h -/
def fs_TQ (L : Nat) (op ag : Nat → Int32) (p0 d0 k d p : Nat) (g : Nat → Nat) (F F' : fs_F) : Prop :=
  ∀ (s : Nat → Int32) (c : Int32), (∀ h, h < d0 → F.1 h = s h) → ∃ s' : Nat → Int32, fs_itr L op ag k (d0, p0, 0, c, s, F.2) = (d, p, 0, c + nI k, s', F'.2) ∧ ∀ h, h < d → F'.1 (g h) = s' h
/-- while a block is translated: k instructions done, now at p with height d, the value at height h in register g h -/
def fs_TI (L : Nat) (op ag : Nat → Int32) (p0 d0 S : Nat) (K0 : fs_K) (k ce : Nat) (K : fs_K) (d p : Nat) (hm : Nat → Int32) : Prop :=
  ∃ g : Nat → Nat, d ≤ 8 ∧ p ≤ 32 ∧ (∀ h, h < d → hm h = nI (g h) ∧ g h < 8) ∧ (∀ i j, i < d → j < d → g i = g j → i = j) ∧ fs_EX S K0 ce K (fs_TQ L op ag p0 d0 k d p g)
theorem fs_TI_step {L : Nat} {op ag : Nat → Int32} {p0 d0 S : Nat} {K0 : fs_K} {k ce : Nat} {K : fs_K} {d p : Nat} {hm' : Nat → Int32} {g : Nat → Nat} (g' : Nat → Nat) {ce' d' : Nat} {K' : fs_K} {Q : fs_F → fs_F → Prop} {o A : Nat} {a : Int32}
    (E : fs_EX S K0 ce K (fs_TQ L op ag p0 d0 k d p g)) (G : fs_EX ce K ce' K' Q) (hd : d' ≤ 8) (hp : p + 1 ≤ 32) (hg : ∀ h, h < d' → hm' h = nI (g' h) ∧ g' h < 8) (hi : ∀ i j, i < d' → j < d' → g' i = g' j → i = j)
    (hst : ∀ (c : Int32) (s m : Nat → Int32), fs_at L op ag (d, p, 0, c, s, m) = fs_ms o a A d p c s m)
    (hq : ∀ (F F' : fs_F) (c : Int32) (s : Nat → Int32), Q F F' → (∀ h, h < d → F.1 (g h) = s h) → ∃ s' : Nat → Int32, fs_ms o a A d p c s F.2 = (d', p + 1, 0, c + 1, s', F'.2) ∧ ∀ h, h < d' → F'.1 (g' h) = s' h) :
    fs_TI L op ag p0 d0 S K0 (k + 1) ce' K' d' (p + 1) hm' := by
  refine ⟨g', hd, hp, hg, hi, fs_EX_tr E G ?_⟩
  intro F F' F'' q1 q2 s c hs
  obtain ⟨s', e1, h1⟩ := q1 s c hs
  obtain ⟨s'', e2, h2⟩ := hq F' F'' (c + nI k) s' q2 h1
  refine ⟨s'', ?_, h2⟩
  show fs_at L op ag (fs_itr L op ag k (d0, p0, 0, c, s, F.2)) = _
  rw [e1, hst, e2, Int32.add_assoc, nI_1]
/-- the table of blocks -/
def fs_BT (L : Nat) (op ag : Nat → Int32) (bc ce : Nat) (bo bs bu bd : Nat → Int32) (K : fs_K) : Prop :=
  bc ≤ 48 ∧ ce ≤ 640 ∧ ∀ p d, p ≤ 32 → d ≤ 8 → bo (9 * p + d) = -1 ∨ ∃ b S T : Nat, b < bc ∧ bo (9 * p + d) = nI b ∧ bs b = nI S ∧ bu b = nI T ∧ 1 ≤ T ∧ T ≤ 13 ∧ fs_BK L op ag p d S T (bd b) ce K
end
section
/-! ===== the reference: push, pop, faulty, attempt, run ===== -/
section
variable {len hgt pc ct st : Int32} {op ag sk m : Nat → Int32}
theorem fs_push_l {post : SY → Prop} {v : Int32} {d : Nat} {sk0 : Nat → Int32} (H : ∀ sk' : Nat → Int32, sk' 0 = v → (∀ i, i < 7 → sk' (i + 1) = sk0 i) → post (len, nI (d + 1), pc, ct, st, op, ag, sk', m)) :
    ∀ (j : Nat) (sk : Nat → Int32), j ≤ 7 → (∀ i, i ≤ j → sk i = sk0 i) → (∀ i, j < i → i < 8 → sk i = sk0 (i - 1)) → wY_push_3 post v len (nI d) pc ct st (j + 1) (nI j) op ag sk m := by
  intro j
  induction j with
  | zero =>
    intro sk hj h1 h2
    refine br_t (by decide) (nm_e (nm_r (nI_1 d) (H _ pk_us (fun i hi => ?_))))
    exact (pk_un (by omega)).trans (h2 (i + 1) (by omega) (by omega))
  | succ j ih =>
    intro sk hj h1 h2
    refine br_f (nI_nle (by omega) (by omega)) ⟨by rw [nI_pred]; exact fs_in (by omega) (by decide), fs_in (by omega) (by decide), ?_⟩
    refine nm_r (e' := upd sk (j + 1) (sk j)) (by rw [nI_pred, fs_cl (by omega), fs_cl (by omega)]) (nm_r (pk_m1 j) ?_)
    refine ih (upd sk (j + 1) (sk j)) (by omega) (fun i hi => ?_) (fun i hi hi' => ?_)
    · rw [pk_un (by omega)]; exact h1 i (by omega)
    · by_cases q : i = j + 1
      · subst q; rw [pk_us]; exact h1 j (by omega)
      · rw [pk_un q]; exact h2 i (by omega) hi'
theorem fs_push {post : SY → Prop} {v : Int32} {d : Nat} (H : ∀ sk' : Nat → Int32, sk' 0 = v → (∀ i, i < 7 → sk' (i + 1) = sk i) → post (len, nI (d + 1), pc, ct, st, op, ag, sk', m)) : wpY_push post (len, nI d, pc, ct, st, op, ag, sk, m) v :=
  ⟨8, fs_push_l H 7 sk (by omega) (fun _ _ => rfl) (fun i a b => absurd b (by omega))⟩
theorem fs_pop_l {post : Int32 → SY → Prop} {v : Int32} {d : Nat} {sk0 : Nat → Int32} (hd : 1 ≤ d) (H : ∀ sk' : Nat → Int32, (∀ i, i < 7 → sk' i = sk0 (i + 1)) → post v (len, nI (d - 1), pc, ct, st, op, ag, sk', m)) :
    ∀ (r j : Nat) (sk : Nat → Int32), j + r = 7 → (∀ i, i < j → sk i = sk0 (i + 1)) → (∀ i, j ≤ i → sk i = sk0 i) → wY_pop_9 post v len (nI d) pc ct st (r + 1) (nI j) op ag sk m := by
  intro r
  induction r with
  | zero =>
    intro j sk hj h1 h2
    have : j = 7 := by omega
    subst this
    exact br_t (by decide) (nm_r (fs_s1 hd) (H _ h1))
  | succ r ih =>
    intro j sk hj h1 h2
    refine br_f (nI_ge (b := 7) (by omega) (by decide)) ⟨by rw [nI_1]; exact fs_in (by omega) (by decide), fs_in (by omega) (by decide), ?_⟩
    refine nm_r (e' := upd sk j (sk (j + 1))) (by rw [nI_1, fs_cl (by omega), fs_cl (by omega)]) (nm_r (nI_1 j) ?_)
    refine ih (j + 1) (upd sk j (sk (j + 1))) (by omega) (fun i hi => ?_) (fun i hi => ?_)
    · by_cases q : i = j
      · subst q; rw [pk_us]; exact h2 (i + 1) (by omega)
      · rw [pk_un q]; exact h1 i (by omega)
    · rw [pk_un (by omega)]; exact h2 i (by omega)
theorem fs_pop {post : Int32 → SY → Prop} {d : Nat} (hd : 1 ≤ d) (H : ∀ sk' : Nat → Int32, (∀ i, i < 7 → sk' i = sk (i + 1)) → post (sk 0) (len, nI (d - 1), pc, ct, st, op, ag, sk', m)) : wpY_pop post (len, nI d, pc, ct, st, op, ag, sk, m) :=
  nm_e ⟨8, fs_pop_l hd H 7 0 sk rfl (fun i a => absurd a (by omega)) (fun _ _ => rfl)⟩
theorem fs_Yfl {post : Int32 → Prop} {x a : Int32} {d : Nat} (hv : fs_VI x a) (hd : d ≤ 8) (H1 : fs_fb x.toNatClampNeg a.toNatClampNeg d = true → post 1) (H0 : fs_fb x.toNatClampNeg a.toNatClampNeg d = false → post 0) : wpY_faulty post (len, nI d, pc, ct, st, op, ag, sk, m) x a := by
  have z8 : nI 8 = 8 := rfl
  have e0 : ∀ o, o ≤ 13 → (nI o).toNatClampNeg = o := fun o h => fs_cl (by omega)
  have eA : ∀ A, A ≤ 31 → (nI A).toNatClampNeg = A := fun o h => fs_cl (by omega)
  rcases fs_VD hv with eo | ⟨A, hA, eo, ea⟩ | ⟨A, hA, eo, ea⟩ | ⟨A, hA, eo, ea⟩ | ⟨A, hA, eo, ea⟩ | ⟨A, hA, eo, ea⟩ | ⟨A, hA, eo, ea⟩ | ⟨A, hA, eo, ea⟩ | ⟨A, hA1, hA, eo, ea⟩ | ⟨A, hA1, hA, eo, ea⟩ | ⟨A, hA, eo, ea⟩ | ⟨A, hA, eo, ea⟩ | ⟨A, hA, eo, ea⟩ | eo
  · subst eo; rw [e0 _ (by decide)] at H1 H0
    exact br_t (by decide) (br_f (nI_pos (by omega)) (br_f (by decide) (pk_eq d 8 (fun q => H1 (by simp only [fs_fb, decide_eq_true_eq]; omega)) (fun q => H0 (by simp only [fs_fb, decide_eq_false_iff_not]; omega)))))
  · subst eo ea; rw [e0 _ (by decide), eA _ (by omega)] at H1 H0
    refine br_f (by decide) (br_f (by decide) (br_f (by decide) (br_f (by decide) (br_f (by decide) (br_f (by decide) (br_f (by decide) ?_))))))
    exact pk_lt d (A + 1) (fun q => H1 (by simp only [fs_fb, decide_eq_true_eq]; omega)) (fun q => br_f (by decide) (pk_eq d 8 (fun q => H1 (by simp only [fs_fb, decide_eq_true_eq]; omega)) (fun q => H0 (by simp only [fs_fb, decide_eq_false_iff_not]; omega)))) rfl (nI_1 A)
  · subst eo ea; rw [e0 _ (by decide), eA _ (by omega)] at H1 H0
    exact br_f (by decide) (br_t (by decide) (br_f (nI_pos (by omega)) (br_f (by decide) (pk_eq d 8 (fun q => H1 (by simp only [fs_fb, decide_eq_true_eq]; omega)) (fun q => H0 (by simp only [fs_fb, decide_eq_false_iff_not]; omega))))))
  · subst eo ea; rw [e0 _ (by decide), eA _ (by omega)] at H1 H0
    refine br_f (by decide) (br_f (by decide) (br_f (by decide) (br_f (by decide) (br_t (by decide) ?_))))
    exact pk_lt d 1 (fun q => H1 (by simp only [fs_fb, decide_eq_true_eq]; omega)) (fun q => br_t (by decide) (H0 (by simp only [fs_fb, decide_eq_false_iff_not]; omega)))
  · subst eo ea; rw [e0 _ (by decide), eA _ (by omega)] at H1 H0
    refine br_f (by decide) (br_f (by decide) (br_f (by decide) (br_f (by decide) (br_f (by decide) (br_f (by decide) (br_f (by decide) ?_))))))
    exact pk_lt d (A + 1) (fun q => H1 (by simp only [fs_fb, decide_eq_true_eq]; omega)) (fun q => br_t (by decide) (H0 (by simp only [fs_fb, decide_eq_false_iff_not]; omega))) rfl (nI_1 A)
  · subst eo ea; rw [e0 _ (by decide), eA _ (by omega)] at H1 H0
    refine br_f (by decide) (br_f (by decide) (br_f (by decide) (br_f (by decide) (br_f (by decide) (br_f (by decide) (br_f (by decide) ?_))))))
    exact pk_lt d (A + 1) (fun q => H1 (by simp only [fs_fb, decide_eq_true_eq]; omega)) (fun q => br_t (by decide) (H0 (by simp only [fs_fb, decide_eq_false_iff_not]; omega))) rfl (nI_1 A)
  · subst eo ea; rw [e0 _ (by decide), eA _ (by omega)] at H1 H0
    refine br_f (by decide) (br_f (by decide) (br_f (by decide) (br_f (by decide) (br_f (by decide) (br_f (by decide) (br_f (by decide) ?_))))))
    exact pk_lt d (A + 1) (fun q => H1 (by simp only [fs_fb, decide_eq_true_eq]; omega)) (fun q => br_t (by decide) (H0 (by simp only [fs_fb, decide_eq_false_iff_not]; omega))) rfl (nI_1 A)
  · subst eo ea; rw [e0 _ (by decide), eA _ (by omega)] at H1 H0
    refine br_f (by decide) (br_f (by decide) (br_f (by decide) (br_f (by decide) (br_f (by decide) (br_f (by decide) (br_f (by decide) ?_))))))
    exact pk_lt d (A + 1) (fun q => H1 (by simp only [fs_fb, decide_eq_true_eq]; omega)) (fun q => br_t (by decide) (H0 (by simp only [fs_fb, decide_eq_false_iff_not]; omega))) rfl (nI_1 A)
  · subst eo ea; rw [e0 _ (by decide), eA _ (by omega)] at H1 H0
    refine br_f (by decide) (br_f (by decide) (br_f (by decide) (br_f (by decide) (br_f (by decide) (br_f (by decide) (br_f (by decide) ?_))))))
    exact pk_lt d (A + 1) (fun q => H1 (by simp only [fs_fb, decide_eq_true_eq]; omega)) (fun q => br_t (by decide) (H0 (by simp only [fs_fb, decide_eq_false_iff_not]; omega))) rfl (nI_1 A)
  · subst eo ea; rw [e0 _ (by decide), eA _ (by omega)] at H1 H0
    refine br_f (by decide) (br_f (by decide) (br_f (by decide) (br_f (by decide) (br_f (by decide) (br_f (by decide) (br_f (by decide) ?_))))))
    exact pk_lt d (A + 1) (fun q => H1 (by simp only [fs_fb, decide_eq_true_eq]; omega)) (fun q => br_t (by decide) (H0 (by simp only [fs_fb, decide_eq_false_iff_not]; omega))) rfl (nI_1 A)
  · subst eo ea; rw [e0 _ (by decide), eA _ (by omega)] at H1 H0
    refine br_f (by decide) (br_f (by decide) (br_f (by decide) (br_f (by decide) (br_f (by decide) (br_t (by decide) ?_)))))
    exact pk_lt d 1 (fun q => H1 (by simp only [fs_fb, decide_eq_true_eq]; omega)) (fun q => br_t (by decide) (H0 (by simp only [fs_fb, decide_eq_false_iff_not]; omega)))
  · subst eo ea; rw [e0 _ (by decide), eA _ (by omega)] at H1 H0
    refine br_f (by decide) (br_f (by decide) (br_f (by decide) (br_f (by decide) (br_f (by decide) (br_f (by decide) (br_t (by decide) ?_))))))
    exact pk_lt d 1 (fun q => H1 (by simp only [fs_fb, decide_eq_true_eq]; omega)) (fun q => br_t (by decide) (H0 (by simp only [fs_fb, decide_eq_false_iff_not]; omega)))
  · subst eo ea; rw [e0 _ (by decide), eA _ (by omega)] at H1 H0
    exact br_f (by decide) (br_f (by decide) (br_t (by decide) (br_f (nI_pos (by omega)) (br_t (by decide) (H0 rfl)))))
  · subst eo; rw [e0 _ (by decide)] at H1 H0
    exact br_f (by decide) (br_f (by decide) (br_f (by decide) (br_t (by decide) (br_f (nI_pos (by omega)) (br_t (by decide) (H0 rfl))))))
theorem fs_Yset {d B : Nat} {s : Nat → Int32} {v w : Int32} (hs : ∀ i, i < d → sk i = s (d - 1 - i)) (hB : B < d) (e : v = w) : ∀ i, i < d → upd sk B v i = upd s (d - 1 - B) w (d - 1 - i) := by
  intro i hi
  subst e
  by_cases q : i = B
  · subst q; rw [pk_us, pk_us]
  · rw [pk_un q, pk_un (by omega)]; exact hs i hi
theorem fs_Ypsh {d : Nat} {s sk' : Nat → Int32} {v w : Int32} (hs : ∀ i, i < d → sk i = s (d - 1 - i)) (hd : d < 8) (h0 : sk' 0 = v) (h1 : ∀ i, i < 7 → sk' (i + 1) = sk i) (e : v = w) : ∀ i, i < d + 1 → sk' i = upd s d w (d + 1 - 1 - i) := by
  intro i hi
  subst e
  rcases Nat.eq_zero_or_pos i with q | q
  · subst q; rw [h0]; exact pk_us.symm
  · obtain ⟨j, rfl⟩ : ∃ j, i = j + 1 := ⟨i - 1, by omega⟩
    rw [h1 j (by omega), pk_un (by omega), hs j (by omega)]
    exact congrArg s (by omega)
theorem fs_Ypp {d : Nat} {s sk' : Nat → Int32} (hs : ∀ i, i < d → sk i = s (d - 1 - i)) (hd : d ≤ 8) (h1 : ∀ i, i < 7 → sk' i = sk (i + 1)) : ∀ i, i < d - 1 → sk' i = s (d - 1 - 1 - i) := by
  intro i hi
  rw [h1 i (by omega), hs (i + 1) (by omega)]
  exact congrArg s (by omega)
end
end
section
/-! ===== the reference: attempt, run ===== -/
section
variable {len hgt pc ct st : Int32} {op ag sk m : Nat → Int32}
theorem fs_Yat {post : SY → Prop} {L d p : Nat} {c : Int32} {s : Nat → Int32} (hv : ∀ i, i < L → fs_VI (op i) (ag i)) (hL : L ≤ 32) (hd : d ≤ 8) (hp : p ≤ 32) (hs : ∀ i, i < d → sk i = s (d - 1 - i))
    (H : ∀ (d' p' : Nat) (st' c' : Int32) (s' m' sk' : Nat → Int32), fs_at L op ag (d, p, 0, c, s, m) = (d', p', st', c', s', m') → d' ≤ 8 → p' ≤ 32 → (∀ i, i < d' → sk' i = s' (d' - 1 - i)) → post (nI L, nI d', nI p', c', st', op, ag, sk', m')) :
    wpY_attempt post (nI L, nI d, nI p, c, 0, op, ag, sk, m) := by
  by_cases hq : L ≤ p
  · exact br_t (nI_le hq (by omega)) (H _ _ _ _ _ _ _ (fs_at_trap (Or.inl hq)) hd hp hs)
  · have hpL : p < L := by omega
    have hin : vp_in (nI p) 32 := fs_in (by omega) (by decide)
    refine br_f (nI_ge (by omega) (by omega)) ⟨hin, hin, ?_⟩
    rw [fs_cl (n := p) (by omega)]
    refine fs_Yfl (hv p hpL) hd (fun q => br_f (by decide) (H _ _ _ _ _ _ _ (fs_at_trap (Or.inr q)) hd hp hs)) (fun q => ?_)
    refine br_t rfl ⟨hin, ?_⟩
    rcases fs_VD (hv p hpL) with eo | ⟨A, hA, eo, ea⟩ | ⟨A, hA, eo, ea⟩ | ⟨A, hA, eo, ea⟩ | ⟨A, hA, eo, ea⟩ | ⟨A, hA, eo, ea⟩ | ⟨A, hA, eo, ea⟩ | ⟨A, hA, eo, ea⟩ | ⟨A, hA1, hA, eo, ea⟩ | ⟨A, hA1, hA, eo, ea⟩ | ⟨A, hA, eo, ea⟩ | ⟨A, hA, eo, ea⟩ | ⟨A, hA, eo, ea⟩ | eo
    · have hf := fs_fb0 (by decide) eo q
      simp only [fs_fb, decide_eq_false_iff_not] at hf
      have hM := fs_at_ok (L := L) (op := op) (ag := ag) (d := d) (p := p) (c := c) (s := s) (m := m) 0 (ag p) (by decide) hpL eo rfl (fs_fb0 (by decide) eo q)
      refine nm_r eo ⟨hin, nm_e (nm_e ?_)⟩
      repeat (first | refine br_t (by decide) ?_ | refine br_f (by decide) ?_ | refine nm_r (nI_1 p) ?_)
      exact fs_push (fun sk' h0 h1 => H _ _ _ _ _ _ sk' hM (by omega) (by omega) (fs_Ypsh hs (by omega) h0 h1 rfl))
    · have hf := fs_fbN (by decide) (by omega) eo ea q
      simp only [fs_fb, decide_eq_false_iff_not] at hf
      have hM := fs_at_okN (L := L) (op := op) (ag := ag) (d := d) (p := p) (c := c) (s := s) (m := m) 1 A (by decide) (by omega) hpL eo ea (fs_fbN (by decide) (by omega) eo ea q)
      have eA : (nI A).toNatClampNeg = A := fs_cl (by omega)
      refine nm_r eo ⟨hin, nm_r ea (nm_e ?_)⟩
      repeat (first | refine br_t (by decide) ?_ | refine br_f (by decide) ?_ | refine nm_r (nI_1 p) ?_)
      refine ⟨fs_in (by omega) (by decide), ?_⟩
      rw [eA]
      exact fs_push (fun sk' h0 h1 => H _ _ _ _ _ _ sk' hM (by omega) (by omega) (fs_Ypsh hs (by omega) h0 h1 (hs A (by omega))))
    · have hf := fs_fbN (by decide) (by omega) eo ea q
      simp only [fs_fb, decide_eq_false_iff_not] at hf
      have hM := fs_at_okN (L := L) (op := op) (ag := ag) (d := d) (p := p) (c := c) (s := s) (m := m) 2 A (by decide) (by omega) hpL eo ea (fs_fbN (by decide) (by omega) eo ea q)
      have eA : (nI A).toNatClampNeg = A := fs_cl (by omega)
      refine nm_r eo ⟨hin, nm_r ea (nm_e ?_)⟩
      repeat (first | refine br_t (by decide) ?_ | refine br_f (by decide) ?_ | refine nm_r (nI_1 p) ?_)
      refine ⟨fs_in (by omega) (by decide), ?_⟩
      rw [eA]
      exact fs_push (fun sk' h0 h1 => H _ _ _ _ _ _ sk' hM (by omega) (by omega) (fs_Ypsh hs (by omega) h0 h1 rfl))
    · have hf := fs_fbN (by decide) (by omega) eo ea q
      simp only [fs_fb, decide_eq_false_iff_not] at hf
      have hM := fs_at_okN (L := L) (op := op) (ag := ag) (d := d) (p := p) (c := c) (s := s) (m := m) 3 A (by decide) (by omega) hpL eo ea (fs_fbN (by decide) (by omega) eo ea q)
      have eA : (nI A).toNatClampNeg = A := fs_cl (by omega)
      refine nm_r eo ⟨hin, nm_r ea (nm_e ?_)⟩
      repeat (first | refine br_t (by decide) ?_ | refine br_f (by decide) ?_ | refine nm_r (nI_1 p) ?_)
      exact fs_pop (by omega) (fun sk' h1 => ⟨fs_in (by omega) (by decide), nm_r (e' := upd m A (s (d - 1))) (by rw [eA, hs 0 (by omega)]; rfl) (H _ _ _ _ _ _ sk' hM (by omega) (by omega) (fs_Ypp hs hd h1))⟩)
    · have hf := fs_fbN (by decide) (by omega) eo ea q
      simp only [fs_fb, decide_eq_false_iff_not] at hf
      have hM := fs_at_okN (L := L) (op := op) (ag := ag) (d := d) (p := p) (c := c) (s := s) (m := m) 4 A (by decide) (by omega) hpL eo ea (fs_fbN (by decide) (by omega) eo ea q)
      have eA : (nI A).toNatClampNeg = A := fs_cl (by omega)
      refine nm_r eo ⟨hin, nm_r ea (nm_e ?_)⟩
      repeat (first | refine br_t (by decide) ?_ | refine br_f (by decide) ?_ | refine nm_r (nI_1 p) ?_)
      refine nm_e ⟨fs_in (by omega) (by decide), nm_e ⟨fs_in (by omega) (by decide), nm_r (e' := upd (upd sk 0 (sk A)) A (sk 0)) (by rw [eA]) ?_⟩⟩
      repeat (first | refine br_t (by decide) ?_ | refine br_f (by decide) ?_ | refine nm_r (nI_1 p) ?_)
      exact H _ _ _ _ _ _ _ hM hd (by omega) (fs_Yset (fs_Yset hs (by omega) (hs A (by omega))) (by omega) (hs 0 (by omega)))
    · have hf := fs_fbN (by decide) (by omega) eo ea q
      simp only [fs_fb, decide_eq_false_iff_not] at hf
      have hM := fs_at_okN (L := L) (op := op) (ag := ag) (d := d) (p := p) (c := c) (s := s) (m := m) 5 A (by decide) (by omega) hpL eo ea (fs_fbN (by decide) (by omega) eo ea q)
      have eA : (nI A).toNatClampNeg = A := fs_cl (by omega)
      refine nm_r eo ⟨hin, nm_r ea (nm_e ?_)⟩
      repeat (first | refine br_t (by decide) ?_ | refine br_f (by decide) ?_ | refine nm_r (nI_1 p) ?_)
      refine ⟨fs_in (by omega) (by decide), nm_r (e' := upd sk 0 (sk 0 + sk A)) (by rw [eA]) ?_⟩
      repeat (first | refine br_t (by decide) ?_ | refine br_f (by decide) ?_ | refine nm_r (nI_1 p) ?_)
      exact H _ _ _ _ _ _ _ hM hd (by omega) (fs_Yset hs (by omega) (by rw [hs 0 (by omega), hs A (by omega)]; rfl))
    · have hf := fs_fbN (by decide) (by omega) eo ea q
      simp only [fs_fb, decide_eq_false_iff_not] at hf
      have hM := fs_at_okN (L := L) (op := op) (ag := ag) (d := d) (p := p) (c := c) (s := s) (m := m) 6 A (by decide) (by omega) hpL eo ea (fs_fbN (by decide) (by omega) eo ea q)
      have eA : (nI A).toNatClampNeg = A := fs_cl (by omega)
      refine nm_r eo ⟨hin, nm_r ea (nm_e ?_)⟩
      repeat (first | refine br_t (by decide) ?_ | refine br_f (by decide) ?_ | refine nm_r (nI_1 p) ?_)
      refine ⟨fs_in (by omega) (by decide), nm_r (e' := upd sk 0 (sk 0 - sk A)) (by rw [eA]) ?_⟩
      repeat (first | refine br_t (by decide) ?_ | refine br_f (by decide) ?_ | refine nm_r (nI_1 p) ?_)
      exact H _ _ _ _ _ _ _ hM hd (by omega) (fs_Yset hs (by omega) (by rw [hs 0 (by omega), hs A (by omega)]; rfl))
    · have hf := fs_fbN (by decide) (by omega) eo ea q
      simp only [fs_fb, decide_eq_false_iff_not] at hf
      have hM := fs_at_okN (L := L) (op := op) (ag := ag) (d := d) (p := p) (c := c) (s := s) (m := m) 7 A (by decide) (by omega) hpL eo ea (fs_fbN (by decide) (by omega) eo ea q)
      have eA : (nI A).toNatClampNeg = A := fs_cl (by omega)
      refine nm_r eo ⟨hin, nm_r ea (nm_e ?_)⟩
      repeat (first | refine br_t (by decide) ?_ | refine br_f (by decide) ?_ | refine nm_r (nI_1 p) ?_)
      refine ⟨fs_in (by omega) (by decide), nm_r (e' := upd sk 0 (sk 0 * sk A)) (by rw [eA]) ?_⟩
      repeat (first | refine br_t (by decide) ?_ | refine br_f (by decide) ?_ | refine nm_r (nI_1 p) ?_)
      exact H _ _ _ _ _ _ _ hM hd (by omega) (fs_Yset hs (by omega) (by rw [hs 0 (by omega), hs A (by omega)]; rfl))
    · have hf := fs_fbN (by decide) (by omega) eo ea q
      simp only [fs_fb, decide_eq_false_iff_not] at hf
      have hM := fs_at_okN (L := L) (op := op) (ag := ag) (d := d) (p := p) (c := c) (s := s) (m := m) 8 A (by decide) (by omega) hpL eo ea (fs_fbN (by decide) (by omega) eo ea q)
      have eA : (nI A).toNatClampNeg = A := fs_cl (by omega)
      refine nm_r eo ⟨hin, nm_r ea (nm_e ?_)⟩
      repeat (first | refine br_t (by decide) ?_ | refine br_f (by decide) ?_ | refine nm_r (nI_1 p) ?_)
      refine ⟨fs_in (by omega) (by decide), fs_in (by omega) (by decide), nm_r (e' := upd sk A (sk A + sk 0)) (by rw [eA]) ?_⟩
      repeat (first | refine br_t (by decide) ?_ | refine br_f (by decide) ?_ | refine nm_r (nI_1 p) ?_)
      exact fs_pop (by omega) (fun sk' h1 => H _ _ _ _ _ _ sk' hM (by omega) (by omega) (fs_Ypp (fs_Yset hs (by omega) (by rw [hs 0 (by omega), hs A (by omega)]; rfl)) hd h1))
    · have hf := fs_fbN (by decide) (by omega) eo ea q
      simp only [fs_fb, decide_eq_false_iff_not] at hf
      have hM := fs_at_okN (L := L) (op := op) (ag := ag) (d := d) (p := p) (c := c) (s := s) (m := m) 9 A (by decide) (by omega) hpL eo ea (fs_fbN (by decide) (by omega) eo ea q)
      have eA : (nI A).toNatClampNeg = A := fs_cl (by omega)
      refine nm_r eo ⟨hin, nm_r ea (nm_e ?_)⟩
      repeat (first | refine br_t (by decide) ?_ | refine br_f (by decide) ?_ | refine nm_r (nI_1 p) ?_)
      refine ⟨fs_in (by omega) (by decide), fs_in (by omega) (by decide), nm_r (e' := upd sk A (sk A - sk 0)) (by rw [eA]) ?_⟩
      repeat (first | refine br_t (by decide) ?_ | refine br_f (by decide) ?_ | refine nm_r (nI_1 p) ?_)
      exact fs_pop (by omega) (fun sk' h1 => H _ _ _ _ _ _ sk' hM (by omega) (by omega) (fs_Ypp (fs_Yset hs (by omega) (by rw [hs 0 (by omega), hs A (by omega)]; rfl)) hd h1))
    · have hf := fs_fbN (by decide) (by omega) eo ea q
      simp only [fs_fb, decide_eq_false_iff_not] at hf
      have hM := fs_at_okN (L := L) (op := op) (ag := ag) (d := d) (p := p) (c := c) (s := s) (m := m) 10 A (by decide) (by omega) hpL eo ea (fs_fbN (by decide) (by omega) eo ea q)
      have eA : (nI A).toNatClampNeg = A := fs_cl (by omega)
      refine nm_r eo ⟨hin, nm_r ea (nm_e ?_)⟩
      repeat (first | refine br_t (by decide) ?_ | refine br_f (by decide) ?_ | refine nm_r (nI_1 p) ?_)
      refine fs_pop (by omega) (fun sk' h1 => ?_)
      have e0 : sk 0 = s (d - 1) := hs 0 (by omega)
      refine br_t (by decide) ?_
      rw [e0]
      refine br_c (fun z => ?_) (fun z => ?_)
      · exact H _ _ _ _ _ _ sk' (hM.trans (by show (d - 1, (if s (d - 1) = 0 then A else p + 1), (0 : Int32), c + 1, s, m) = _; rw [if_pos z])) (by omega) (by omega) (fs_Ypp hs hd h1)
      · exact H _ _ _ _ _ _ sk' (hM.trans (by show (d - 1, (if s (d - 1) = 0 then A else p + 1), (0 : Int32), c + 1, s, m) = _; rw [if_neg z])) (by omega) (by omega) (fs_Ypp hs hd h1)
    · have hf := fs_fbN (by decide) (by omega) eo ea q
      simp only [fs_fb, decide_eq_false_iff_not] at hf
      have hM := fs_at_okN (L := L) (op := op) (ag := ag) (d := d) (p := p) (c := c) (s := s) (m := m) 11 A (by decide) (by omega) hpL eo ea (fs_fbN (by decide) (by omega) eo ea q)
      have eA : (nI A).toNatClampNeg = A := fs_cl (by omega)
      refine nm_r eo ⟨hin, nm_r ea (nm_e ?_)⟩
      repeat (first | refine br_t (by decide) ?_ | refine br_f (by decide) ?_ | refine nm_r (nI_1 p) ?_)
      refine fs_pop (by omega) (fun sk' h1 => ?_)
      have e0 : sk 0 = s (d - 1) := hs 0 (by omega)
      refine br_f (by decide) ?_
      rw [e0]
      refine br_c (fun z => ?_) (fun z => ?_)
      · exact H _ _ _ _ _ _ sk' (hM.trans (by show (d - 1, (if 0 ≤ s (d - 1) then p + 1 else A), (0 : Int32), c + 1, s, m) = _; rw [if_pos z])) (by omega) (by omega) (fs_Ypp hs hd h1)
      · exact H _ _ _ _ _ _ sk' (hM.trans (by show (d - 1, (if 0 ≤ s (d - 1) then p + 1 else A), (0 : Int32), c + 1, s, m) = _; rw [if_neg z])) (by omega) (by omega) (fs_Ypp hs hd h1)
    · have hf := fs_fbN (by decide) (by omega) eo ea q
      have hM := fs_at_okN (L := L) (op := op) (ag := ag) (d := d) (p := p) (c := c) (s := s) (m := m) 12 A (by decide) (by omega) hpL eo ea (fs_fbN (by decide) (by omega) eo ea q)
      have eA : (nI A).toNatClampNeg = A := fs_cl (by omega)
      refine nm_r eo ⟨hin, nm_r ea (nm_e ?_)⟩
      repeat (first | refine br_t (by decide) ?_ | refine br_f (by decide) ?_ | refine nm_r (nI_1 p) ?_)
      exact H _ _ _ _ _ _ _ hM hd (by omega) hs
    · have hf := fs_fb0 (by decide) eo q
      have hM := fs_at_ok (L := L) (op := op) (ag := ag) (d := d) (p := p) (c := c) (s := s) (m := m) 13 (ag p) (by decide) hpL eo rfl (fs_fb0 (by decide) eo q)
      refine nm_r eo ⟨hin, nm_e (nm_e ?_)⟩
      repeat (first | refine br_t (by decide) ?_ | refine br_f (by decide) ?_ | refine nm_r (nI_1 p) ?_)
      exact H _ _ _ _ _ _ _ hM hd hp hs
theorem fs_Yrun {post : Int32 → SY → Prop} {L n : Nat} (hv : ∀ i, i < L → fs_VI (op i) (ag i)) (hL : L ≤ 32) (hn : n ≤ 200) :
    ∀ (r k : Nat), k + r = n → ∀ (d p : Nat) (st c : Int32) (s m sk : Nat → Int32), d ≤ 8 → p ≤ 32 → (∀ i, i < d → sk i = s (d - 1 - i)) →
    (∀ (d' p' : Nat) (st' c' : Int32) (s' m' sk' : Nat → Int32), fs_itr L op ag r (d, p, st, c, s, m) = (d', p', st', c', s', m') → d' ≤ 8 → p' ≤ 32 → (∀ i, i < d' → sk' i = s' (d' - 1 - i)) → post st' (nI L, nI d', nI p', c', st', op, ag, sk', m')) →
    wY_run_25 post (nI n) (r + 1) (nI k) (nI L) (nI d) (nI p) c st op ag sk m := by
  intro r
  induction r with
  | zero =>
    intro k hk d p st c s m sk hd hp hs H
    exact br_t (nI_le (by omega) (by omega)) (H d p st c s m sk rfl hd hp hs)
  | succ r ih =>
    intro k hk d p st c s m sk hd hp hs H
    refine br_f (nI_ge (by omega) (by omega)) ?_
    by_cases z : st = 0
    · subst z
      refine br_t rfl (fs_Yat hv hL hd hp hs (fun d' p' st' c' s' m' sk' e hd' hp' hs' => nm_r (nI_1 k) ?_))
      refine ih (k + 1) (by omega) d' p' st' c' s' m' sk' hd' hp' hs' ?_
      intro d2 p2 st2 c2 s2 m2 sk2 e2 g1 g2 g3
      refine H d2 p2 st2 c2 s2 m2 sk2 ?_ g1 g2 g3
      rw [fs_itr_add r 1]
      show fs_itr L op ag r (fs_at L op ag (d, p, 0, c, s, m)) = _
      rw [e, e2]
    · exact br_f z (H d p st c s m sk (fs_itr_stop z _) hd hp hs)
end
end
section
/-! ===== the component: forgetBlocks, faults, tryOne ===== -/
section
variable {len hgt pc st ct bcn cen dpn : Int32} {op ag m fl bo bs bu bd cd tg lf rt hm : Nat → Int32}
theorem fs_m1s : vp_nar .short (-1) = -1 := by rw [vp_nar_short]; decide
theorem fs_fg_l {post : SX → Prop} (H : ∀ bo' : Nat → Int32, (∀ i, i < 297 → bo' i = -1) → post (len, hgt, pc, st, ct, 0, 0, dpn, op, ag, m, fl, bo', bs, bu, bd, cd, tg, lf, rt, hm)) :
    ∀ (r j : Nat) (bo : Nat → Int32), j + r = 297 → (∀ i, i < j → bo i = -1) → wX_forgetBlocks_2 post len hgt pc st ct bcn cen dpn (r + 1) (nI j) op ag m fl bo bs bu bd cd tg lf rt hm := by
  intro r
  induction r with
  | zero =>
    intro j bo hj h1
    have : j = 297 := by omega
    subst this
    exact br_t (nI_le (a := 297) (Nat.le_refl _) (by decide)) (H _ h1)
  | succ r ih =>
    intro j bo hj h1
    refine br_f (nI_ge (b := 297) (by omega) (by decide)) ⟨fs_in (by omega) (by decide), nm_r (fs_up (by omega) fs_m1s) (nm_r (nI_1 j) ?_)⟩
    refine ih (j + 1) (upd bo j (-1)) (by omega) (fun i hi => ?_)
    by_cases q : i = j
    · subst q; exact pk_us
    · rw [pk_un q]; exact h1 i (by omega)
theorem fs_fg {post : SX → Prop} (H : ∀ bo' : Nat → Int32, (∀ i, i < 297 → bo' i = -1) → post (len, hgt, pc, st, ct, 0, 0, dpn, op, ag, m, fl, bo', bs, bu, bd, cd, tg, lf, rt, hm)) : wpX_forgetBlocks post (len, hgt, pc, st, ct, bcn, cen, dpn, op, ag, m, fl, bo, bs, bu, bd, cd, tg, lf, rt, hm) :=
  ⟨298, fs_fg_l H 297 0 bo rfl (fun i a => absurd a (by omega))⟩
theorem fs_Xfl {post : Int32 → Prop} {x a : Int32} {d : Nat} (hv : fs_VI x a) (hd : d ≤ 8) (H1 : fs_fb x.toNatClampNeg a.toNatClampNeg d = true → post 1) (H0 : fs_fb x.toNatClampNeg a.toNatClampNeg d = false → post 0) : wpX_faults post (len, hgt, pc, st, ct, bcn, cen, dpn, op, ag, m, fl, bo, bs, bu, bd, cd, tg, lf, rt, hm) x a (nI d) := by
  have e0 : ∀ o, o ≤ 13 → (nI o).toNatClampNeg = o := fun o h => fs_cl (by omega)
  have eA : ∀ A, A ≤ 31 → (nI A).toNatClampNeg = A := fun o h => fs_cl (by omega)
  rcases fs_VD hv with eo | ⟨A, hA, eo, ea⟩ | ⟨A, hA, eo, ea⟩ | ⟨A, hA, eo, ea⟩ | ⟨A, hA, eo, ea⟩ | ⟨A, hA, eo, ea⟩ | ⟨A, hA, eo, ea⟩ | ⟨A, hA, eo, ea⟩ | ⟨A, hA1, hA, eo, ea⟩ | ⟨A, hA1, hA, eo, ea⟩ | ⟨A, hA, eo, ea⟩ | ⟨A, hA, eo, ea⟩ | ⟨A, hA, eo, ea⟩ | eo
  · subst eo; rw [e0 _ (by decide)] at H1 H0
    repeat (first | refine br_t (by decide) ?_ | refine br_f (by decide) ?_)
    exact pk_lt d 8 (fun q => H0 (by simp only [fs_fb, decide_eq_false_iff_not]; omega)) (fun q => H1 (by simp only [fs_fb, decide_eq_true_eq]; omega))
  · subst eo ea; rw [e0 _ (by decide), eA _ (by omega)] at H1 H0
    repeat (first | refine br_t (by decide) ?_ | refine br_f (by decide) ?_)
    exact pk_le 8 d (fun q => H1 (by simp only [fs_fb, decide_eq_true_eq]; omega)) (fun q => pk_lt A d (fun q => H0 (by simp only [fs_fb, decide_eq_false_iff_not]; omega)) (fun q => H1 (by simp only [fs_fb, decide_eq_true_eq]; omega)))
  · subst eo ea; rw [e0 _ (by decide), eA _ (by omega)] at H1 H0
    repeat (first | refine br_t (by decide) ?_ | refine br_f (by decide) ?_)
    exact pk_lt d 8 (fun q => H0 (by simp only [fs_fb, decide_eq_false_iff_not]; omega)) (fun q => H1 (by simp only [fs_fb, decide_eq_true_eq]; omega))
  · subst eo ea; rw [e0 _ (by decide), eA _ (by omega)] at H1 H0
    repeat (first | refine br_t (by decide) ?_ | refine br_f (by decide) ?_)
    exact pk_le 1 d (fun q => H0 (by simp only [fs_fb, decide_eq_false_iff_not]; omega)) (fun q => H1 (by simp only [fs_fb, decide_eq_true_eq]; omega))
  · subst eo ea; rw [e0 _ (by decide), eA _ (by omega)] at H1 H0
    repeat (first | refine br_t (by decide) ?_ | refine br_f (by decide) ?_)
    exact pk_lt A d (fun q => H0 (by simp only [fs_fb, decide_eq_false_iff_not]; omega)) (fun q => H1 (by simp only [fs_fb, decide_eq_true_eq]; omega))
  · subst eo ea; rw [e0 _ (by decide), eA _ (by omega)] at H1 H0
    repeat (first | refine br_t (by decide) ?_ | refine br_f (by decide) ?_)
    exact pk_lt A d (fun q => H0 (by simp only [fs_fb, decide_eq_false_iff_not]; omega)) (fun q => H1 (by simp only [fs_fb, decide_eq_true_eq]; omega))
  · subst eo ea; rw [e0 _ (by decide), eA _ (by omega)] at H1 H0
    repeat (first | refine br_t (by decide) ?_ | refine br_f (by decide) ?_)
    exact pk_lt A d (fun q => H0 (by simp only [fs_fb, decide_eq_false_iff_not]; omega)) (fun q => H1 (by simp only [fs_fb, decide_eq_true_eq]; omega))
  · subst eo ea; rw [e0 _ (by decide), eA _ (by omega)] at H1 H0
    repeat (first | refine br_t (by decide) ?_ | refine br_f (by decide) ?_)
    exact pk_lt A d (fun q => H0 (by simp only [fs_fb, decide_eq_false_iff_not]; omega)) (fun q => H1 (by simp only [fs_fb, decide_eq_true_eq]; omega))
  · subst eo ea; rw [e0 _ (by decide), eA _ (by omega)] at H1 H0
    repeat (first | refine br_t (by decide) ?_ | refine br_f (by decide) ?_)
    exact pk_lt A d (fun q => H0 (by simp only [fs_fb, decide_eq_false_iff_not]; omega)) (fun q => H1 (by simp only [fs_fb, decide_eq_true_eq]; omega))
  · subst eo ea; rw [e0 _ (by decide), eA _ (by omega)] at H1 H0
    repeat (first | refine br_t (by decide) ?_ | refine br_f (by decide) ?_)
    exact pk_lt A d (fun q => H0 (by simp only [fs_fb, decide_eq_false_iff_not]; omega)) (fun q => H1 (by simp only [fs_fb, decide_eq_true_eq]; omega))
  · subst eo ea; rw [e0 _ (by decide), eA _ (by omega)] at H1 H0
    repeat (first | refine br_t (by decide) ?_ | refine br_f (by decide) ?_)
    exact pk_le 1 d (fun q => H0 (by simp only [fs_fb, decide_eq_false_iff_not]; omega)) (fun q => H1 (by simp only [fs_fb, decide_eq_true_eq]; omega))
  · subst eo ea; rw [e0 _ (by decide), eA _ (by omega)] at H1 H0
    repeat (first | refine br_t (by decide) ?_ | refine br_f (by decide) ?_)
    exact pk_le 1 d (fun q => H0 (by simp only [fs_fb, decide_eq_false_iff_not]; omega)) (fun q => H1 (by simp only [fs_fb, decide_eq_true_eq]; omega))
  · subst eo ea; rw [e0 _ (by decide), eA _ (by omega)] at H1 H0
    repeat (first | refine br_t (by decide) ?_ | refine br_f (by decide) ?_)
    exact H0 rfl
  · subst eo; rw [e0 _ (by decide)] at H1 H0
    repeat (first | refine br_t (by decide) ?_ | refine br_f (by decide) ?_)
    exact H0 rfl
theorem fs_Xset {d d' B : Nat} {s : Nat → Int32} {v w : Int32} (hs : ∀ h, h < d → fl h = s h) (e : v = w) (hd : ∀ h, h < d' → h ≠ B → h < d) : ∀ h, h < d' → upd fl B v h = upd s B w h := by
  intro h hh
  subst e
  by_cases q : h = B
  · subst q; rw [pk_us, pk_us]
  · rw [pk_un q, pk_un q]; exact hs h (hd h hh q)
theorem fs_Xat {post : SX → Prop} {L d p : Nat} {c : Int32} {s : Nat → Int32} (hv : ∀ i, i < L → fs_VI (op i) (ag i)) (hL : L ≤ 32) (hd : d ≤ 8) (hp : p ≤ 32) (hs : ∀ h, h < d → fl h = s h)
    (H : ∀ (d' p' : Nat) (st' c' : Int32) (s' m' fl' : Nat → Int32), fs_at L op ag (d, p, 0, c, s, m) = (d', p', st', c', s', m') → d' ≤ 8 → p' ≤ 32 → (∀ h, h < d' → fl' h = s' h) → post (nI L, nI d', nI p', st', c', bcn, cen, dpn, op, ag, m', fl', bo, bs, bu, bd, cd, tg, lf, rt, hm)) :
    wpX_tryOne post (nI L, nI d, nI p, 0, c, bcn, cen, dpn, op, ag, m, fl, bo, bs, bu, bd, cd, tg, lf, rt, hm) := by
  by_cases hq : L ≤ p
  · exact br_t (nI_le hq (by omega)) (H _ _ _ _ _ _ _ (fs_at_trap (Or.inl hq)) hd hp hs)
  · have hpL : p < L := by omega
    have hin : vp_in (nI p) 32 := fs_in (by omega) (by decide)
    refine br_f (nI_ge (by omega) (by omega)) ⟨hin, hin, ?_⟩
    rw [fs_cl (n := p) (by omega)]
    refine fs_Xfl (hv p hpL) hd (fun q => br_f (by decide) (H _ _ _ _ _ _ _ (fs_at_trap (Or.inr q)) hd hp hs)) (fun q => ?_)
    refine br_t rfl ⟨hin, ?_⟩
    rcases fs_VD (hv p hpL) with eo | ⟨A, hA, eo, ea⟩ | ⟨A, hA, eo, ea⟩ | ⟨A, hA, eo, ea⟩ | ⟨A, hA, eo, ea⟩ | ⟨A, hA, eo, ea⟩ | ⟨A, hA, eo, ea⟩ | ⟨A, hA, eo, ea⟩ | ⟨A, hA1, hA, eo, ea⟩ | ⟨A, hA1, hA, eo, ea⟩ | ⟨A, hA, eo, ea⟩ | ⟨A, hA, eo, ea⟩ | ⟨A, hA, eo, ea⟩ | eo
    · have hf := fs_fb0 (by decide) eo q
      simp only [fs_fb, decide_eq_false_iff_not] at hf
      have hM := fs_at_ok (L := L) (op := op) (ag := ag) (d := d) (p := p) (c := c) (s := s) (m := m) 0 (ag p) (by decide) hpL eo rfl (fs_fb0 (by decide) eo q)
      refine nm_r eo ⟨hin, nm_e (nm_e ?_)⟩
      repeat (first | refine br_t (by decide) ?_ | refine br_f (by decide) ?_ | refine nm_r (nI_1 p) ?_)
      exact ⟨fs_in (by omega) (by decide), nm_r (fs_up (by omega) rfl) (nm_r (nI_1 d) (H _ _ _ _ _ _ _ hM (by omega) (by omega) (fs_Xset hs rfl (by omega))))⟩
    · have hf := fs_fbN (by decide) (by omega) eo ea q
      simp only [fs_fb, decide_eq_false_iff_not] at hf
      have hM := fs_at_okN (L := L) (op := op) (ag := ag) (d := d) (p := p) (c := c) (s := s) (m := m) 1 A (by decide) (by omega) hpL eo ea (fs_fbN (by decide) (by omega) eo ea q)
      have eA : (nI A).toNatClampNeg = A := fs_cl (by omega)
      refine nm_r eo ⟨hin, nm_r ea (nm_e ?_)⟩
      repeat (first | refine br_t (by decide) ?_ | refine br_f (by decide) ?_ | refine nm_r (nI_1 p) ?_)
      rw [fs_s2 (by omega), fs_cl (n := d - 1 - A) (by omega)]
      exact ⟨fs_in (by omega) (by decide), fs_in (by omega) (by decide), nm_r (fs_up (by omega) rfl) (nm_r (nI_1 d) (H _ _ _ _ _ _ _ hM (by omega) (by omega) (fs_Xset hs (hs (d - 1 - A) (by omega)) (by omega))))⟩
    · have hf := fs_fbN (by decide) (by omega) eo ea q
      simp only [fs_fb, decide_eq_false_iff_not] at hf
      have hM := fs_at_okN (L := L) (op := op) (ag := ag) (d := d) (p := p) (c := c) (s := s) (m := m) 2 A (by decide) (by omega) hpL eo ea (fs_fbN (by decide) (by omega) eo ea q)
      have eA : (nI A).toNatClampNeg = A := fs_cl (by omega)
      refine nm_r eo ⟨hin, nm_r ea (nm_e ?_)⟩
      repeat (first | refine br_t (by decide) ?_ | refine br_f (by decide) ?_ | refine nm_r (nI_1 p) ?_)
      rw [eA]
      exact ⟨fs_in (by omega) (by decide), fs_in (by omega) (by decide), nm_r (fs_up (by omega) rfl) (nm_r (nI_1 d) (H _ _ _ _ _ _ _ hM (by omega) (by omega) (fs_Xset hs rfl (by omega))))⟩
    · have hf := fs_fbN (by decide) (by omega) eo ea q
      simp only [fs_fb, decide_eq_false_iff_not] at hf
      have hM := fs_at_okN (L := L) (op := op) (ag := ag) (d := d) (p := p) (c := c) (s := s) (m := m) 3 A (by decide) (by omega) hpL eo ea (fs_fbN (by decide) (by omega) eo ea q)
      have eA : (nI A).toNatClampNeg = A := fs_cl (by omega)
      refine nm_r eo ⟨hin, nm_r ea (nm_e ?_)⟩
      repeat (first | refine br_t (by decide) ?_ | refine br_f (by decide) ?_ | refine nm_r (nI_1 p) ?_)
      refine nm_r (fs_s1 (by omega)) ⟨fs_in (by omega) (by decide), fs_in (by omega) (by decide), nm_r (e' := upd m A (s (d - 1))) (by rw [eA, fs_cl (by omega), hs (d - 1) (by omega)]) ?_⟩
      exact H _ _ _ _ _ _ _ hM (by omega) (by omega) (fun h hh => hs h (by omega))
    · have hf := fs_fbN (by decide) (by omega) eo ea q
      simp only [fs_fb, decide_eq_false_iff_not] at hf
      have hM := fs_at_okN (L := L) (op := op) (ag := ag) (d := d) (p := p) (c := c) (s := s) (m := m) 4 A (by decide) (by omega) hpL eo ea (fs_fbN (by decide) (by omega) eo ea q)
      have eA : (nI A).toNatClampNeg = A := fs_cl (by omega)
      refine nm_r eo ⟨hin, nm_r ea (nm_e ?_)⟩
      repeat (first | refine br_t (by decide) ?_ | refine br_f (by decide) ?_ | refine nm_r (nI_1 p) ?_)
      refine nm_r (fs_s1 (by omega)) (nm_r (pk_sub (by omega)) ⟨fs_in (by omega) (by decide), nm_r (e' := s (d - 1)) (by rw [fs_cl (by omega)]; exact hs _ (by omega)) ⟨fs_in (by omega) (by decide), nm_r (e' := s (d - 1 - A)) (by rw [fs_cl (by omega)]; exact hs _ (by omega)) ?_⟩⟩)
      repeat (first | refine br_t (by decide) ?_ | refine br_f (by decide) ?_ | refine nm_r (nI_1 p) ?_)
      refine ⟨fs_in (by omega) (by decide), nm_r (fs_up (by omega) rfl) ⟨fs_in (by omega) (by decide), nm_r (fs_up (by omega) rfl) ?_⟩⟩
      exact H _ _ _ _ _ _ _ hM (by omega) (by omega) (fs_Xset (fs_Xset (d' := d) hs rfl (by omega)) rfl (by omega))
    · have hf := fs_fbN (by decide) (by omega) eo ea q
      simp only [fs_fb, decide_eq_false_iff_not] at hf
      have hM := fs_at_okN (L := L) (op := op) (ag := ag) (d := d) (p := p) (c := c) (s := s) (m := m) 5 A (by decide) (by omega) hpL eo ea (fs_fbN (by decide) (by omega) eo ea q)
      have eA : (nI A).toNatClampNeg = A := fs_cl (by omega)
      refine nm_r eo ⟨hin, nm_r ea (nm_e ?_)⟩
      repeat (first | refine br_t (by decide) ?_ | refine br_f (by decide) ?_ | refine nm_r (nI_1 p) ?_)
      refine nm_r (fs_s1 (by omega)) (nm_r (pk_sub (by omega)) ⟨fs_in (by omega) (by decide), nm_r (e' := s (d - 1)) (by rw [fs_cl (by omega)]; exact hs _ (by omega)) ⟨fs_in (by omega) (by decide), nm_r (e' := s (d - 1 - A)) (by rw [fs_cl (by omega)]; exact hs _ (by omega)) ?_⟩⟩)
      repeat (first | refine br_t (by decide) ?_ | refine br_f (by decide) ?_ | refine nm_r (nI_1 p) ?_)
      exact ⟨fs_in (by omega) (by decide), nm_r (fs_up (by omega) rfl) (H _ _ _ _ _ _ _ hM (by omega) (by omega) (fs_Xset hs rfl (by omega)))⟩
    · have hf := fs_fbN (by decide) (by omega) eo ea q
      simp only [fs_fb, decide_eq_false_iff_not] at hf
      have hM := fs_at_okN (L := L) (op := op) (ag := ag) (d := d) (p := p) (c := c) (s := s) (m := m) 6 A (by decide) (by omega) hpL eo ea (fs_fbN (by decide) (by omega) eo ea q)
      have eA : (nI A).toNatClampNeg = A := fs_cl (by omega)
      refine nm_r eo ⟨hin, nm_r ea (nm_e ?_)⟩
      repeat (first | refine br_t (by decide) ?_ | refine br_f (by decide) ?_ | refine nm_r (nI_1 p) ?_)
      refine nm_r (fs_s1 (by omega)) (nm_r (pk_sub (by omega)) ⟨fs_in (by omega) (by decide), nm_r (e' := s (d - 1)) (by rw [fs_cl (by omega)]; exact hs _ (by omega)) ⟨fs_in (by omega) (by decide), nm_r (e' := s (d - 1 - A)) (by rw [fs_cl (by omega)]; exact hs _ (by omega)) ?_⟩⟩)
      repeat (first | refine br_t (by decide) ?_ | refine br_f (by decide) ?_ | refine nm_r (nI_1 p) ?_)
      exact ⟨fs_in (by omega) (by decide), nm_r (fs_up (by omega) rfl) (H _ _ _ _ _ _ _ hM (by omega) (by omega) (fs_Xset hs rfl (by omega)))⟩
    · have hf := fs_fbN (by decide) (by omega) eo ea q
      simp only [fs_fb, decide_eq_false_iff_not] at hf
      have hM := fs_at_okN (L := L) (op := op) (ag := ag) (d := d) (p := p) (c := c) (s := s) (m := m) 7 A (by decide) (by omega) hpL eo ea (fs_fbN (by decide) (by omega) eo ea q)
      have eA : (nI A).toNatClampNeg = A := fs_cl (by omega)
      refine nm_r eo ⟨hin, nm_r ea (nm_e ?_)⟩
      repeat (first | refine br_t (by decide) ?_ | refine br_f (by decide) ?_ | refine nm_r (nI_1 p) ?_)
      refine nm_r (fs_s1 (by omega)) (nm_r (pk_sub (by omega)) ⟨fs_in (by omega) (by decide), nm_r (e' := s (d - 1)) (by rw [fs_cl (by omega)]; exact hs _ (by omega)) ⟨fs_in (by omega) (by decide), nm_r (e' := s (d - 1 - A)) (by rw [fs_cl (by omega)]; exact hs _ (by omega)) ?_⟩⟩)
      repeat (first | refine br_t (by decide) ?_ | refine br_f (by decide) ?_ | refine nm_r (nI_1 p) ?_)
      exact ⟨fs_in (by omega) (by decide), nm_r (fs_up (by omega) rfl) (H _ _ _ _ _ _ _ hM (by omega) (by omega) (fs_Xset hs rfl (by omega)))⟩
    · have hf := fs_fbN (by decide) (by omega) eo ea q
      simp only [fs_fb, decide_eq_false_iff_not] at hf
      have hM := fs_at_okN (L := L) (op := op) (ag := ag) (d := d) (p := p) (c := c) (s := s) (m := m) 8 A (by decide) (by omega) hpL eo ea (fs_fbN (by decide) (by omega) eo ea q)
      have eA : (nI A).toNatClampNeg = A := fs_cl (by omega)
      refine nm_r eo ⟨hin, nm_r ea (nm_e ?_)⟩
      repeat (first | refine br_t (by decide) ?_ | refine br_f (by decide) ?_ | refine nm_r (nI_1 p) ?_)
      refine nm_r (fs_s1 (by omega)) (nm_r (pk_sub (by omega)) ⟨fs_in (by omega) (by decide), nm_r (e' := s (d - 1)) (by rw [fs_cl (by omega)]; exact hs _ (by omega)) ⟨fs_in (by omega) (by decide), nm_r (e' := s (d - 1 - A)) (by rw [fs_cl (by omega)]; exact hs _ (by omega)) ?_⟩⟩)
      repeat (first | refine br_t (by decide) ?_ | refine br_f (by decide) ?_ | refine nm_r (nI_1 p) ?_)
      exact ⟨fs_in (by omega) (by decide), nm_r (fs_up (by omega) rfl) (nm_r (fs_s1 (by omega)) (H _ _ _ _ _ _ _ hM (by omega) (by omega) (fs_Xset hs rfl (by omega))))⟩
    · have hf := fs_fbN (by decide) (by omega) eo ea q
      simp only [fs_fb, decide_eq_false_iff_not] at hf
      have hM := fs_at_okN (L := L) (op := op) (ag := ag) (d := d) (p := p) (c := c) (s := s) (m := m) 9 A (by decide) (by omega) hpL eo ea (fs_fbN (by decide) (by omega) eo ea q)
      have eA : (nI A).toNatClampNeg = A := fs_cl (by omega)
      refine nm_r eo ⟨hin, nm_r ea (nm_e ?_)⟩
      repeat (first | refine br_t (by decide) ?_ | refine br_f (by decide) ?_ | refine nm_r (nI_1 p) ?_)
      refine nm_r (fs_s1 (by omega)) (nm_r (pk_sub (by omega)) ⟨fs_in (by omega) (by decide), nm_r (e' := s (d - 1)) (by rw [fs_cl (by omega)]; exact hs _ (by omega)) ⟨fs_in (by omega) (by decide), nm_r (e' := s (d - 1 - A)) (by rw [fs_cl (by omega)]; exact hs _ (by omega)) ?_⟩⟩)
      repeat (first | refine br_t (by decide) ?_ | refine br_f (by decide) ?_ | refine nm_r (nI_1 p) ?_)
      exact ⟨fs_in (by omega) (by decide), nm_r (fs_up (by omega) rfl) (nm_r (fs_s1 (by omega)) (H _ _ _ _ _ _ _ hM (by omega) (by omega) (fs_Xset hs rfl (by omega))))⟩
    · have hf := fs_fbN (by decide) (by omega) eo ea q
      simp only [fs_fb, decide_eq_false_iff_not] at hf
      have hM := fs_at_okN (L := L) (op := op) (ag := ag) (d := d) (p := p) (c := c) (s := s) (m := m) 10 A (by decide) (by omega) hpL eo ea (fs_fbN (by decide) (by omega) eo ea q)
      have eA : (nI A).toNatClampNeg = A := fs_cl (by omega)
      refine nm_r eo ⟨hin, nm_r ea (nm_e ?_)⟩
      repeat (first | refine br_t (by decide) ?_ | refine br_f (by decide) ?_ | refine nm_r (nI_1 p) ?_)
      refine nm_r (fs_s1 (by omega)) ⟨fs_in (by omega) (by decide), nm_r (e' := s (d - 1)) (by rw [fs_cl (by omega)]; exact hs _ (by omega)) ?_⟩
      refine br_t (by decide) (br_c (fun z => ?_) (fun z => ?_))
      · exact br_f (by decide) (H _ _ _ _ _ _ _ (hM.trans (by show (d - 1, (if s (d - 1) = 0 then A else p + 1), (0 : Int32), c + 1, s, m) = _; rw [if_pos z])) (by omega) (by omega) (fun h hh => hs h (by omega)))
      · refine br_t (by decide) ?_
        rw [nI_1 p]
        exact H _ _ _ _ _ _ _ (hM.trans (by show (d - 1, (if s (d - 1) = 0 then A else p + 1), (0 : Int32), c + 1, s, m) = _; rw [if_neg z])) (by omega) (by omega) (fun h hh => hs h (by omega))
    · have hf := fs_fbN (by decide) (by omega) eo ea q
      simp only [fs_fb, decide_eq_false_iff_not] at hf
      have hM := fs_at_okN (L := L) (op := op) (ag := ag) (d := d) (p := p) (c := c) (s := s) (m := m) 11 A (by decide) (by omega) hpL eo ea (fs_fbN (by decide) (by omega) eo ea q)
      have eA : (nI A).toNatClampNeg = A := fs_cl (by omega)
      refine nm_r eo ⟨hin, nm_r ea (nm_e ?_)⟩
      repeat (first | refine br_t (by decide) ?_ | refine br_f (by decide) ?_ | refine nm_r (nI_1 p) ?_)
      refine nm_r (fs_s1 (by omega)) ⟨fs_in (by omega) (by decide), nm_r (e' := s (d - 1)) (by rw [fs_cl (by omega)]; exact hs _ (by omega)) ?_⟩
      refine br_f (by decide) (br_c (fun z => ?_) (fun z => ?_))
      · refine br_t (by decide) ?_
        rw [nI_1 p]
        exact H _ _ _ _ _ _ _ (hM.trans (by show (d - 1, (if 0 ≤ s (d - 1) then p + 1 else A), (0 : Int32), c + 1, s, m) = _; rw [if_pos z])) (by omega) (by omega) (fun h hh => hs h (by omega))
      · exact br_f (by decide) (H _ _ _ _ _ _ _ (hM.trans (by show (d - 1, (if 0 ≤ s (d - 1) then p + 1 else A), (0 : Int32), c + 1, s, m) = _; rw [if_neg z])) (by omega) (by omega) (fun h hh => hs h (by omega)))
    · have hf := fs_fbN (by decide) (by omega) eo ea q
      have hM := fs_at_okN (L := L) (op := op) (ag := ag) (d := d) (p := p) (c := c) (s := s) (m := m) 12 A (by decide) (by omega) hpL eo ea (fs_fbN (by decide) (by omega) eo ea q)
      have eA : (nI A).toNatClampNeg = A := fs_cl (by omega)
      refine nm_r eo ⟨hin, nm_r ea (nm_e ?_)⟩
      repeat (first | refine br_t (by decide) ?_ | refine br_f (by decide) ?_ | refine nm_r (nI_1 p) ?_)
      exact H _ _ _ _ _ _ _ hM hd (by omega) hs
    · have hf := fs_fb0 (by decide) eo q
      have hM := fs_at_ok (L := L) (op := op) (ag := ag) (d := d) (p := p) (c := c) (s := s) (m := m) 13 (ag p) (by decide) hpL eo rfl (fs_fb0 (by decide) eo q)
      refine nm_r eo ⟨hin, nm_e (nm_e ?_)⟩
      repeat (first | refine br_t (by decide) ?_ | refine br_f (by decide) ?_ | refine nm_r (nI_1 p) ?_)
      exact H _ _ _ _ _ _ _ hM hd hp hs
end
end
section
/-! ===== the component: write, freeRegister, straighten ===== -/
section
variable {len hgt pc st ct bcn cen dpn : Int32} {op ag m fl bo bs bu bd cd tg lf rt hm : Nat → Int32}
theorem fs_w {post : SX → Prop} {o x y ce : Nat} {z : Int32} (ho : o < 128) (hx : x < 128) (hy : y < 128) (hc : ce < 640)
    (H : post (len, hgt, pc, st, ct, bcn, nI (ce + 1), dpn, op, ag, m, fl, bo, bs, bu, bd, upd cd ce (nI o), upd tg ce (nI x), upd lf ce (nI y), upd rt ce z, hm)) : wpX_write post (len, hgt, pc, st, ct, bcn, nI ce, dpn, op, ag, m, fl, bo, bs, bu, bd, cd, tg, lf, rt, hm) (nI o) (nI x) (nI y) z :=
  have i : vp_in (nI ce) 640 := fs_in hc (by decide)
  And.intro i (nm_r (fs_up (by omega) (fs_nb ho)) (And.intro i (nm_r (fs_up (by omega) (fs_nb hx)) (And.intro i (nm_r (fs_up (by omega) (fs_nb hy)) (And.intro i (nm_r (fs_up (by omega) rfl) (nm_r (nI_1 ce) H))))))))
/-! freeRegister -/
theorem fs_b1 : ∀ i, i < 32 → bt 1 i = decide (i = 0) := by decide +kernel
theorem fs_and1 (x : Int32) : x &&& 1 = 0 ↔ bt x 0 = false := by
  constructor
  · intro h
    have e := b_and x 1 0
    rw [h, b_0, fs_b1 0 (by decide)] at e
    simpa using e.symm
  · intro h
    apply b_ext
    intro i hi
    rw [b_and, b_0, fs_b1 i hi]
    by_cases q : i = 0
    · subst q; rw [h]; rfl
    · rw [decide_eq_false q, Bool.and_false]
theorem fs_bit (U : Int32) {r : Nat} (hr : r < 32) : ((U >>> (nI r &&& 31)) &&& 1) = 0 ↔ bt U r = false := by
  rw [fs_and1, b_sshr r hr U (by decide), if_pos (by omega), Nat.add_zero]
theorem fs_fr31 {post : Int32 → Prop} {U : Int32} {d : Nat} {g : Nat → Nat} (hd : d ≤ 7) (hU : ∀ r, r < 8 → (bt U r = true ↔ ∃ h, h < d ∧ g h = r)) (H : ∀ r, r < 8 → (∀ h, h < d → g h ≠ r) → post (nI r)) :
    ∀ (k r : Nat), r + k = 7 → (∀ i, i < r → bt U i = true) → wX_freeRegister_31 post U len hgt pc st ct bcn cen dpn op ag m fl bo bs bu bd cd tg lf rt hm (k + 1) (nI r) := by
  intro k
  induction k with
  | zero =>
    intro r hr h1
    have : r = 7 := by omega
    subst this
    refine br_t (by decide) (H 7 (by decide) (fun h hh e => ?_))
    refine fs_pig 7 g (fun r hr => ?_)
    by_cases q : r = 7
    · subst q; exact ⟨h, by omega, e⟩
    · obtain ⟨j, hj, ej⟩ := (hU r hr).mp (h1 r (by omega))
      exact ⟨j, by omega, ej⟩
  | succ k ih =>
    intro r hr h1
    refine br_f (nI_ge (b := 7) (by omega) (by decide)) (br_c (fun z => ?_) (fun z => ?_))
    · refine H r (by omega) (fun h hh e => ?_)
      have a := (hU r (by omega)).mpr ⟨h, hh, e⟩
      rw [(fs_bit U (by omega)).mp z] at a
      exact Bool.noConfusion a
    · refine nm_r (nI_1 r) (ih (r + 1) (by omega) (fun i hi => ?_))
      by_cases q : i = r
      · subst q
        cases w : bt U i with
        | false => exact absurd ((fs_bit U (by omega)).mpr w) z
        | true => rfl
      · exact h1 i (by omega)
theorem fs_fr4 {post : Int32 → Prop} {d : Nat} {g : Nat → Nat} (hd : d ≤ 7) (hg : ∀ h, h < d → hm h = nI (g h) ∧ g h < 8) (H : ∀ r, r < 8 → (∀ h, h < d → g h ≠ r) → post (nI r)) :
    ∀ (k i : Nat) (U : Int32), i + k = d → (∀ r, r < 8 → (bt U r = true ↔ ∃ h, h < i ∧ g h = r)) → wX_freeRegister_4 post len hgt pc st ct bcn cen (nI d) op ag m fl bo bs bu bd cd tg lf rt hm (k + 1) U (nI i) := by
  intro k
  induction k with
  | zero =>
    intro i U hi hU
    have : i = d := by omega
    subst this
    exact br_t (nI_le (Nat.le_refl _) (by omega)) ⟨8, fs_fr31 hd hU H 7 0 rfl (fun i a => absurd a (by omega))⟩
  | succ k ih =>
    intro i U hi hU
    obtain ⟨e1, e2⟩ := hg i (by omega)
    refine br_f (nI_ge (by omega) (by omega)) (And.intro (fs_in (by omega) (by decide)) ?_)
    rw [fs_cl (n := i) (by omega), e1]
    refine nm_e (nm_r (nI_1 i) (ih (i + 1) _ (by omega) (fun r hr => ?_)))
    rw [b_or, b_shl (g i) (by omega) 1 (by omega), fs_b1 (r - g i) (by omega), Bool.or_eq_true, hU r hr, Bool.and_eq_true, decide_eq_true_eq, decide_eq_true_eq]
    constructor
    · rintro (⟨h, hh, e⟩ | ⟨a, b⟩)
      · exact ⟨h, by omega, e⟩
      · exact ⟨i, by omega, by omega⟩
    · rintro ⟨h, hh, e⟩
      by_cases q : h = i
      · subst q; exact Or.inr ⟨by omega, by omega⟩
      · exact Or.inl ⟨h, by omega, e⟩
theorem fs_free {post : Int32 → Prop} {d : Nat} {g : Nat → Nat} (hd : d ≤ 7) (hg : ∀ h, h < d → hm h = nI (g h) ∧ g h < 8) (H : ∀ r, r < 8 → (∀ h, h < d → g h ≠ r) → post (nI r)) : wpX_freeRegister post (len, hgt, pc, st, ct, bcn, cen, nI d, op, ag, m, fl, bo, bs, bu, bd, cd, tg, lf, rt, hm) :=
  ⟨d + 1, fs_fr4 hd hg H d 0 0 (by omega) (fun r hr => ⟨fun q => by rw [b_0] at q; exact Bool.noConfusion q, fun ⟨h, hh, _⟩ => absurd hh (by omega)⟩)⟩
/-! straighten -/
theorem fs_110 {post : SX → Prop} {J2 : _} {h : Nat} (hh : h < 8) (H : J2 (nI (h + 1)) len hgt pc st ct bcn cen dpn op ag m fl bo bs bu bd cd tg lf rt (upd hm h (nI h))) : wX_straighten_110 post J2 (nI h) len hgt pc st ct bcn cen dpn op ag m fl bo bs bu bd cd tg lf rt hm :=
  And.intro (fs_in hh (by decide)) (nm_r (fs_up (by omega) (fs_nb (by omega))) (nm_r (nI_1 h) H))
theorem fs_st32 {post : SX → Prop} {J2 : _} {h fr ce d : Nat} {g : Nat → Nat} (hh : h < d) (hd : d ≤ 8) (hfr : fr < 8) (hc : ce + 3 ≤ 640) (hg : ∀ k, k < d → hm k = nI (g k) ∧ g k < 8)
    (E0 : (∀ k, h < k → k < d → g k ≠ h) → J2 (nI (h + 1)) len hgt pc st ct bcn (nI (ce + 1)) (nI d) op ag m fl bo bs bu bd (upd cd ce (nI 1)) (upd tg ce (nI h)) (upd lf ce (nI fr)) (upd rt ce 0) (upd hm h (nI h)))
    (E1 : ∀ q, h < q → q < d → g q = h → J2 (nI (h + 1)) len hgt pc st ct bcn (nI (ce + 1 + 1 + 1)) (nI d) op ag m fl bo bs bu bd (upd (upd (upd cd ce (nI 1)) (ce + 1) (nI 1)) (ce + 1 + 1) (nI 1)) (upd (upd (upd tg ce (nI 9)) (ce + 1) (nI h)) (ce + 1 + 1) (nI fr)) (upd (upd (upd lf ce (nI h)) (ce + 1) (nI fr)) (ce + 1 + 1) (nI 9)) (upd (upd (upd rt ce 0) (ce + 1) 0) (ce + 1 + 1) 0) (upd (upd hm q (nI fr)) h (nI h))) :
    ∀ (r k : Nat) (x3 : Int32), k + r = d → h < k → ((x3 = -1 ∧ ∀ k', h < k' → k' < k → g k' ≠ h) ∨ ∃ q, x3 = nI q ∧ h < q ∧ q < k ∧ g q = h) →
    wX_straighten_32 post J2 (nI h) (nI fr) len hgt pc st ct bcn (nI ce) (nI d) op ag m fl bo bs bu bd cd tg lf rt hm (r + 1) x3 (nI k) := by
  intro r
  induction r with
  | zero =>
    intro k x3 hk hhk hx
    have : k = d := by omega
    subst this
    refine br_t (nI_le (Nat.le_refl _) (by omega)) ?_
    rcases hx with ⟨rfl, hn⟩ | ⟨q, rfl, h1, h2, h3⟩
    · refine br_t (by decide) ?_
      exact fs_w (o := 1) (by decide) (by omega) (by omega) (by omega) (fs_110 (by omega) (E0 hn))
    · refine br_f (fs_nm1 q (by omega)) ?_
      refine fs_w (o := 1) (x := 9) (by decide) (by decide) (by omega) (by omega) ?_
      refine fs_w (o := 1) (by decide) (by omega) (by omega) (by omega) ?_
      refine fs_w (o := 1) (y := 9) (by decide) (by omega) (by decide) (by omega) ?_
      refine And.intro (fs_in (by omega) (by decide)) (nm_r (fs_up (by omega) (fs_nb (by omega))) ?_)
      exact fs_110 (by omega) (E1 q h1 h2 h3)
  | succ r ih =>
    intro k x3 hk hhk hx
    refine br_f (nI_ge (by omega) (by omega)) (And.intro (fs_in (by omega) (by decide)) ?_)
    obtain ⟨e1, e2⟩ := hg k (by omega)
    rw [fs_cl (n := k) (by omega), e1]
    refine pk_eq (g k) h (fun q => ?_) (fun q => ?_)
    · exact nm_r (nI_1 k) (ih (k + 1) (nI k) (by omega) (by omega) (Or.inr ⟨k, rfl, hhk, by omega, q⟩))
    · refine nm_r (nI_1 k) (ih (k + 1) x3 (by omega) (by omega) ?_)
      rcases hx with ⟨a, b⟩ | ⟨j, a, b, c, e⟩
      · refine Or.inl ⟨a, fun k' u v => ?_⟩
        by_cases w : k' = k
        · subst w; exact q
        · exact b k' u (by omega)
      · exact Or.inr ⟨j, a, b, by omega, e⟩
end
/-! the pure side of one round of straighten -/
def fs_SQ (d : Nat) (g : Nat → Nat) (F F' : fs_F) : Prop := F'.2 = F.2 ∧ F'.1 8 = F.1 8 ∧ ∀ k, k < d → F'.1 k = F.1 (g k)
theorem fs_WK1 {x y : Nat} {z : Int32} (hx : x < 10) (hy : y < 10) : fs_WK (nI 1) (nI x) (nI y) z :=
  ⟨1, x, y, 0, by decide, hx, hy, by decide, rfl, rfl, rfl, fun h => absurd h (by decide), fun h => absurd h (by decide), fun h => absurd h (by decide)⟩
theorem fs_SQ0 {d h ce ce' : Nat} {g : Nat → Nat} {K K' : fs_K} (hh : h < d) (hd : d ≤ 8) (hg : ∀ k, k < d → g k < 8) (hlo : ∀ k, k < h → g k = k) (hno : ∀ k, h < k → k < d → g k ≠ h)
    (E : fs_EX (ce + 1) (fs_ku K ce (nI 1) (nI h) (nI (g h)) 0) ce' K' (fs_SQ d (fun k => if k = h then h else g k))) : fs_EX ce K ce' K' (fs_SQ d g) := by
  have g0 := hg h hh
  refine fs_EX_tr (fs_EX_w (fs_WK1 (by omega) (by omega))) E ?_
  intro F F' F'' e ⟨q1, q2, q3⟩
  subst e
  rw [fs_wk1 (by omega) (by omega)] at q1 q2 q3
  refine ⟨q1, q2.trans (pk_un (by omega)), fun k hk => (q3 k hk).trans ?_⟩
  show upd F.1 h (F.1 (g h)) (if k = h then h else g k) = F.1 (g k)
  by_cases z : k = h
  · subst z; rw [if_pos rfl, pk_us]
  · rw [if_neg z]
    refine pk_un ?_
    by_cases w : k < h
    · rw [hlo k w]; exact z
    · exact hno k (by omega) hk
theorem fs_SQ1 {d h j ce ce' : Nat} {g : Nat → Nat} {K K' : fs_K} (hh : h < d) (hd : d ≤ 8) (hg : ∀ k, k < d → g k < 8) (hi : ∀ i j, i < d → j < d → g i = g j → i = j) (hj : h < j) (hjd : j < d) (ej : g j = h)
    (E : fs_EX (ce + 1 + 1 + 1) (fs_ku (fs_ku (fs_ku K ce (nI 1) (nI 9) (nI h) 0) (ce + 1) (nI 1) (nI h) (nI (g h)) 0) (ce + 1 + 1) (nI 1) (nI (g h)) (nI 9) 0) ce' K' (fs_SQ d (fun k => if k = h then h else if k = j then g h else g k))) : fs_EX ce K ce' K' (fs_SQ d g) := by
  have g0 := hg h hh
  have gh : g h ≠ h := fun q => by have := hi h j hh hjd (q.trans ej.symm); omega
  refine fs_EX_tr (fs_EX_w (fs_WK1 (by omega) (by omega))) (fs_EX_tr (fs_EX_w (fs_WK1 (by omega) (by omega))) (fs_EX_tr (T := fun F F'' => fs_SQ d (fun k => if k = h then h else if k = j then g h else g k) (fs_wk (nI 1) (nI (g h)) (nI 9) 0 F) F'') (fs_EX_w (fs_WK1 (by omega) (by omega))) E ?_) (T := fun F F'' => fs_SQ d (fun k => if k = h then h else if k = j then g h else g k) (fs_wk (nI 1) (nI (g h)) (nI 9) 0 (fs_wk (nI 1) (nI h) (nI (g h)) 0 F)) F'') ?_) ?_
  · intro F F' F'' e q; subst e; exact q
  · intro F F' F'' e q; subst e; exact q
  intro F F' F'' e ⟨q1, q2, q3⟩
  subst e
  rw [fs_wk1 (by omega) (by omega), fs_wk1 (by omega) (by omega), fs_wk1 (by omega) (by omega)] at q1 q2 q3
  dsimp only at q1 q2 q3
  refine ⟨q1, q2.trans ?_, fun k hk => (q3 k hk).trans ?_⟩
  · rw [pk_un (by omega), pk_un (by omega), pk_un (by omega)]
  · by_cases z : k = h
    · subst z; rw [if_pos rfl, pk_un (by omega), pk_us, pk_un (by omega)]
    · rw [if_neg z]
      by_cases w : k = j
      · subst w; rw [if_pos rfl, pk_us, pk_un (by omega), pk_us, ej]
      · rw [if_neg w]
        have n1 : g k ≠ h := fun q => w (hi k j hk hjd (q.trans ej.symm))
        have n2 : g k ≠ g h := fun q => z (hi k h hk hh q)
        have n3 := hg k hk
        rw [pk_un n2, pk_un n1, pk_un (by omega)]
section
variable {len hgt pc st ct bcn cen dpn : Int32} {op ag m fl bo bs bu bd cd tg lf rt hm : Nat → Int32}
theorem fs_st2 {post : SX → Prop} {d : Nat} (hd : d ≤ 8) : ∀ (r h : Nat), h + r = d → ∀ (ce : Nat) (cd tg lf rt hm : Nat → Int32) (g : Nat → Nat), ce + 3 * r ≤ 640 → (∀ k, k < d → hm k = nI (g k) ∧ g k < 8) → (∀ i j, i < d → j < d → g i = g j → i = j) → (∀ k, k < h → g k = k) →
    (∀ (ce' : Nat) (cd' tg' lf' rt' hm' : Nat → Int32), fs_EX ce (cd, tg, lf, rt) ce' (cd', tg', lf', rt') (fs_SQ d g) → ce' ≤ ce + 3 * r → post (len, hgt, pc, st, ct, bcn, nI ce', nI d, op, ag, m, fl, bo, bs, bu, bd, cd', tg', lf', rt', hm')) →
    ∀ n, r < n → wX_straighten_2 post n (nI h) len hgt pc st ct bcn (nI ce) (nI d) op ag m fl bo bs bu bd cd tg lf rt hm := by
  intro r
  induction r with
  | zero =>
    intro h hh ce cd tg lf rt hm g hc hg hi hlo H n hn
    obtain ⟨n, rfl⟩ : ∃ n', n = n' + 1 := ⟨n - 1, by omega⟩
    have : h = d := by omega
    subst this
    exact br_t (nI_le (Nat.le_refl _) (by omega)) (H ce cd tg lf rt hm (fs_EX_rf (fun F => ⟨rfl, rfl, fun k hk => by rw [hlo k hk]⟩)) (by omega))
  | succ r ih =>
    intro h hh ce cd tg lf rt hm g hc hg hi hlo H n hn
    obtain ⟨n, rfl⟩ : ∃ n', n = n' + 1 := ⟨n - 1, by omega⟩
    obtain ⟨e1, e2⟩ := hg h (by omega)
    refine br_f (nI_ge (by omega) (by omega)) (And.intro (fs_in (by omega) (by decide)) ?_)
    refine nm_r (e' := nI (g h)) (by rw [fs_cl (n := h) (by omega)]; exact e1) ?_
    refine pk_eq (g h) h (fun q => ?_) (fun q => ?_)
    · refine nm_r (nI_1 h) (ih (h + 1) (by omega) ce cd tg lf rt hm g (by omega) hg hi (fun k hk => ?_) (fun ce' cd' tg' lf' rt' hm' E hE => H ce' cd' tg' lf' rt' hm' E (by omega)) n (by omega))
      by_cases w : k = h
      · subst w; exact q
      · exact hlo k (by omega)
    · refine nm_r (nI_1 h) ⟨r + 1, fs_st32 (h := h) (fr := g h) (g := g) (by omega) hd e2 (by omega) hg (fun hno => ?_) (fun j h1 h2 h3 => ?_) r (h + 1) (-1) (by omega) (by omega) (Or.inl ⟨rfl, fun k' a b => absurd b (by omega)⟩)⟩
      · refine ih (h + 1) (by omega) (ce + 1) _ _ _ _ _ (fun k => if k = h then h else g k) (by omega) (fun k hk => ?_) (fun i j hi' hj' e => ?_) (fun k hk => ?_) (fun ce' cd' tg' lf' rt' hm' E hE => H ce' cd' tg' lf' rt' hm' (fs_SQ0 (by omega) hd (fun k hk => (hg k hk).2) hlo hno E) (by omega)) n (by omega)
        · try dsimp only
          by_cases w : k = h
          · subst w; rw [if_pos rfl, pk_us]; exact ⟨rfl, by omega⟩
          · rw [if_neg w, pk_un w]; exact hg k hk
        · try dsimp only at e
          have key : ∀ k, k < d → k ≠ h → g k ≠ h := fun k hk hne => by
            by_cases w : k < h
            · rw [hlo k w]; exact hne
            · exact hno k (by omega) hk
          by_cases w : i = h
          · by_cases w' : j = h
            · omega
            · rw [if_pos w, if_neg w'] at e; exact absurd e.symm (key j hj' w')
          · by_cases w' : j = h
            · rw [if_neg w, if_pos w'] at e; exact absurd e (key i hi' w)
            · rw [if_neg w, if_neg w'] at e; exact hi i j hi' hj' e
        · try dsimp only
          by_cases w : k = h
          · rw [if_pos w]; exact w.symm
          · rw [if_neg w]; exact hlo k (by omega)
      · refine ih (h + 1) (by omega) (ce + 1 + 1 + 1) _ _ _ _ _ (fun k => if k = h then h else if k = j then g h else g k) (by omega) (fun k hk => ?_) (fun i i' hi' hj' e => ?_) (fun k hk => ?_) (fun ce' cd' tg' lf' rt' hm' E hE => H ce' cd' tg' lf' rt' hm' (fs_SQ1 (by omega) hd (fun k hk => (hg k hk).2) hi h1 h2 h3 E) (by omega)) n (by omega)
        · try dsimp only
          by_cases w : k = h
          · subst w; rw [if_pos rfl, pk_us]; exact ⟨rfl, by omega⟩
          · rw [if_neg w, pk_un w]
            by_cases w' : k = j
            · subst w'; rw [if_pos rfl, pk_us]; exact ⟨rfl, e2⟩
            · rw [if_neg w', pk_un w']; exact hg k hk
        · try dsimp only at e
          have key : ∀ k, k < d → k ≠ j → g k ≠ h := fun k hk hne q' => hne (hi k j hk h2 (q'.trans h3.symm))
          have key2 : ∀ k, k < d → k ≠ h → g k ≠ g h := fun k hk hne q' => hne (hi k h hk (by omega) q')
          by_cases w : i = h
          · by_cases w' : i' = h
            · omega
            · rw [if_pos w, if_neg w'] at e
              by_cases v : i' = j
              · rw [if_pos v] at e; exact absurd e.symm q
              · rw [if_neg v] at e; exact absurd e.symm (key i' hj' v)
          · rw [if_neg w] at e
            by_cases w' : i' = h
            · rw [if_pos w'] at e
              by_cases v : i = j
              · rw [if_pos v] at e; exact absurd e q
              · rw [if_neg v] at e; exact absurd e (key i hi' v)
            · rw [if_neg w'] at e
              by_cases v : i = j
              · rw [if_pos v] at e
                by_cases v' : i' = j
                · omega
                · rw [if_neg v'] at e; exact absurd e.symm (key2 i' hj' w')
              · rw [if_neg v] at e
                by_cases v' : i' = j
                · rw [if_pos v'] at e; exact absurd e (key2 i hi' w)
                · rw [if_neg v'] at e; exact hi i i' hi' hj' e
        · try dsimp only
          by_cases w : k = h
          · rw [if_pos w]; exact w.symm
          · rw [if_neg w, if_neg (by omega)]; exact hlo k (by omega)
theorem fs_st {post : SX → Prop} {d ce : Nat} {g : Nat → Nat} (hd : d ≤ 8) (hc : ce + 24 ≤ 640) (hg : ∀ k, k < d → hm k = nI (g k) ∧ g k < 8) (hi : ∀ i j, i < d → j < d → g i = g j → i = j)
    (H : ∀ (ce' : Nat) (cd' tg' lf' rt' hm' : Nat → Int32), fs_EX ce (cd, tg, lf, rt) ce' (cd', tg', lf', rt') (fs_SQ d g) → ce' ≤ ce + 24 → post (len, hgt, pc, st, ct, bcn, nI ce', nI d, op, ag, m, fl, bo, bs, bu, bd, cd', tg', lf', rt', hm')) : wpX_straighten post (len, hgt, pc, st, ct, bcn, nI ce, nI d, op, ag, m, fl, bo, bs, bu, bd, cd, tg, lf, rt, hm) :=
  ⟨d + 1, fs_st2 hd d 0 (by omega) ce cd tg lf rt hm g (by omega) hg hi (fun k a => absurd a (by omega)) (fun ce' cd' tg' lf' rt' hm' E hE => H ce' cd' tg' lf' rt' hm' E (by omega)) (d + 1) (by omega)⟩
end
end
section
/-! ===== the component: translateMove, translateCombine ===== -/
/-! pure: what becomes of the registers -/
theorem fs_gp {hm : Nat → Int32} {g : Nat → Nat} {d r : Nat} (hg : ∀ h, h < d → hm h = nI (g h) ∧ g h < 8) (hr : r < 8) : ∀ h, h < d + 1 → upd hm d (nI r) h = nI (if h = d then r else g h) ∧ (if h = d then r else g h) < 8 := by
  intro h hh
  by_cases w : h = d
  · subst w; rw [if_pos rfl, pk_us]; exact ⟨rfl, hr⟩
  · rw [if_neg w, pk_un w]; exact hg h (by omega)
theorem fs_gpi {g : Nat → Nat} {d r : Nat} (hi : ∀ i j, i < d → j < d → g i = g j → i = j) (hf : ∀ h, h < d → g h ≠ r) : ∀ i j, i < d + 1 → j < d + 1 → (if i = d then r else g i) = (if j = d then r else g j) → i = j := by
  intro i j h1 h2 e
  by_cases w : i = d
  · by_cases w' : j = d
    · omega
    · rw [if_pos w, if_neg w'] at e; exact absurd e.symm (hf j (by omega))
  · by_cases w' : j = d
    · rw [if_neg w, if_pos w'] at e; exact absurd e (hf i (by omega))
    · rw [if_neg w, if_neg w'] at e; exact hi i j (by omega) (by omega) e
theorem fs_gps {g : Nat → Nat} {d r : Nat} {f s : Nat → Int32} {v w : Int32} (hf : ∀ h, h < d → g h ≠ r) (h1 : ∀ h, h < d → f (g h) = s h) (e : v = w) : ∀ h, h < d + 1 → upd f r v (if h = d then r else g h) = upd s d w h := by
  intro h hh
  subst e
  by_cases q : h = d
  · subst q; rw [if_pos rfl, pk_us, pk_us]
  · rw [if_neg q, pk_un (hf h (by omega)), pk_un q]; exact h1 h (by omega)
theorem fs_gst {g : Nat → Nat} {d d' B : Nat} {f s : Nat → Int32} {v w : Int32} (hi : ∀ i j, i < d → j < d → g i = g j → i = j) (h1 : ∀ h, h < d → f (g h) = s h) (hB : B < d) (hd : d' ≤ d) (e : v = w) : ∀ h, h < d' → upd f (g B) v (g h) = upd s B w h := by
  intro h hh
  subst e
  by_cases q : h = B
  · subst q; rw [pk_us, pk_us]
  · rw [pk_un (fun z => q (hi h B (by omega) hB z)), pk_un q]; exact h1 h (by omega)
theorem fs_WK0 {x y : Nat} {z : Int32} (hx : x < 10) (hy : y < 10) : fs_WK (nI 0) (nI x) (nI y) z :=
  ⟨0, x, y, 0, by decide, hx, hy, by decide, rfl, rfl, rfl, fun h => absurd h (by decide), fun h => absurd h (by decide), fun h => absurd h (by decide)⟩
theorem fs_WK5 {x y : Nat} {z : Int32} (hx : x < 10) (hy : y < 8) : fs_WK (nI 5) (nI x) (nI y) z :=
  ⟨5, x, y, 0, by decide, hx, by omega, by decide, rfl, rfl, rfl, fun h h' => absurd h' (by decide), fun _ => hy, fun h => absurd h (by decide)⟩
theorem fs_WK6 {x y : Nat} {z : Int32} (hx : x < 8) (hy : y < 10) : fs_WK (nI 6) (nI x) (nI y) z :=
  ⟨6, x, y, 0, by decide, by omega, hy, by decide, rfl, rfl, rfl, fun h h' => absurd h' (by decide), fun h => absurd h (by decide), fun _ => hx⟩
theorem fs_WKa {o x y z : Nat} (ho : 2 ≤ o) (ho' : o ≤ 4) (hx : x < 10) (hy : y < 10) (hz : z < 10) : fs_WK (nI o) (nI x) (nI y) (nI z) :=
  ⟨o, x, y, z, by omega, hx, hy, hz, rfl, rfl, rfl, fun _ _ => rfl, fun h => absurd h (by omega), fun h => absurd h (by omega)⟩
section
variable {len hgt pc st ct bcn cen dpn : Int32} {op ag m fl bo bs bu bd cd tg lf rt hm : Nat → Int32}
variable {post : SX → Prop} {L p0 d0 S k ce d p : Nat} {K0 : fs_K} {g : Nat → Nat}
theorem fs_mv89 {r : Nat} (hr : r < 8) (hd : d < 8) (H : post (len, hgt, pc, st, ct, bcn, cen, nI (d + 1), op, ag, m, fl, bo, bs, bu, bd, cd, tg, lf, rt, upd hm d (nI r))) : wX_translateMove_89 post (nI r) len hgt pc st ct bcn cen (nI d) op ag m fl bo bs bu bd cd tg lf rt hm :=
  And.intro (fs_in hd (by decide)) (nm_r (fs_up (by omega) (fs_nb (by omega))) (nm_r (nI_1 d) H))
theorem fs_mv0 {a : Int32} (hc : ce < 640) (hd : d < 8) (hp : p + 1 ≤ 32) (hg : ∀ h, h < d → hm h = nI (g h) ∧ g h < 8) (hi : ∀ i j, i < d → j < d → g i = g j → i = j)
    (E : fs_EX S K0 ce (cd, tg, lf, rt) (fs_TQ L op ag p0 d0 k d p g))
    (hst : ∀ (c : Int32) (s m : Nat → Int32), fs_at L op ag (d, p, 0, c, s, m) = fs_ms 0 a a.toNatClampNeg d p c s m)
    (H : ∀ (ce' d' : Nat) (cd' tg' lf' rt' hm' : Nat → Int32), fs_TI L op ag p0 d0 S K0 (k + 1) ce' (cd', tg', lf', rt') d' (p + 1) hm' → ce' ≤ ce + 1 → post (len, hgt, pc, st, ct, bcn, nI ce', nI d', op, ag, m, fl, bo, bs, bu, bd, cd', tg', lf', rt', hm')) :
    wpX_translateMove post (len, hgt, pc, st, ct, bcn, nI ce, nI d, op, ag, m, fl, bo, bs, bu, bd, cd, tg, lf, rt, hm) (nI 0) a := by
  refine br_f (by decide) (fs_free (by omega) hg (fun r hr hf => br_t (by decide) (fs_w (o := 0) (y := 0) (by decide) (by omega) (by decide) hc (fs_mv89 hr hd (H (ce + 1) (d + 1) _ _ _ _ _ ?_ (by omega))))))
  refine fs_TI_step (fun h => if h = d then r else g h) E (K' := fs_ku (cd, tg, lf, rt) ce (nI 0) (nI r) (nI 0) a) (fs_EX_w (fs_WK0 (by omega) (by decide))) (by omega) hp (fs_gp hg hr) (fs_gpi hi hf) hst ?_
  intro F F' c s e h1
  subst e
  rw [fs_wk0 (by omega)]
  exact ⟨_, rfl, fs_gps hf h1 rfl⟩
theorem fs_mv1 {A : Nat} (hc : ce < 640) (hd : d < 8) (hA : A < d) (hp : p + 1 ≤ 32) (hg : ∀ h, h < d → hm h = nI (g h) ∧ g h < 8) (hi : ∀ i j, i < d → j < d → g i = g j → i = j)
    (E : fs_EX S K0 ce (cd, tg, lf, rt) (fs_TQ L op ag p0 d0 k d p g))
    (hst : ∀ (c : Int32) (s m : Nat → Int32), fs_at L op ag (d, p, 0, c, s, m) = fs_ms 1 (nI A) A d p c s m)
    (H : ∀ (ce' d' : Nat) (cd' tg' lf' rt' hm' : Nat → Int32), fs_TI L op ag p0 d0 S K0 (k + 1) ce' (cd', tg', lf', rt') d' (p + 1) hm' → ce' ≤ ce + 1 → post (len, hgt, pc, st, ct, bcn, nI ce', nI d', op, ag, m, fl, bo, bs, bu, bd, cd', tg', lf', rt', hm')) :
    wpX_translateMove post (len, hgt, pc, st, ct, bcn, nI ce, nI d, op, ag, m, fl, bo, bs, bu, bd, cd, tg, lf, rt, hm) (nI 1) (nI A) := by
  obtain ⟨e1, e2⟩ := hg (d - 1 - A) (by omega)
  refine br_f (by decide) (fs_free (by omega) hg (fun r hr hf => br_f (by decide) (br_t (by decide) ?_)))
  rw [fs_s2 (by omega), fs_cl (n := d - 1 - A) (by omega), e1]
  refine And.intro (fs_in (by omega) (by decide)) (fs_w (o := 1) (by decide) (by omega) (by omega) hc (fs_mv89 hr hd (H (ce + 1) (d + 1) _ _ _ _ _ ?_ (by omega))))
  refine fs_TI_step (fun h => if h = d then r else g h) E (K' := fs_ku (cd, tg, lf, rt) ce (nI 1) (nI r) (nI (g (d - 1 - A))) 0) (fs_EX_w (fs_WK1 (by omega) (by omega))) (by omega) hp (fs_gp hg hr) (fs_gpi hi hf) hst ?_
  intro F F' c s e h1
  subst e
  rw [fs_wk1 (by omega) (by omega)]
  exact ⟨_, rfl, fs_gps hf h1 (h1 (d - 1 - A) (by omega))⟩
theorem fs_mv2 {A : Nat} (hc : ce < 640) (hd : d < 8) (hA : A ≤ 7) (hp : p + 1 ≤ 32) (hg : ∀ h, h < d → hm h = nI (g h) ∧ g h < 8) (hi : ∀ i j, i < d → j < d → g i = g j → i = j)
    (E : fs_EX S K0 ce (cd, tg, lf, rt) (fs_TQ L op ag p0 d0 k d p g))
    (hst : ∀ (c : Int32) (s m : Nat → Int32), fs_at L op ag (d, p, 0, c, s, m) = fs_ms 2 (nI A) A d p c s m)
    (H : ∀ (ce' d' : Nat) (cd' tg' lf' rt' hm' : Nat → Int32), fs_TI L op ag p0 d0 S K0 (k + 1) ce' (cd', tg', lf', rt') d' (p + 1) hm' → ce' ≤ ce + 1 → post (len, hgt, pc, st, ct, bcn, nI ce', nI d', op, ag, m, fl, bo, bs, bu, bd, cd', tg', lf', rt', hm')) :
    wpX_translateMove post (len, hgt, pc, st, ct, bcn, nI ce, nI d, op, ag, m, fl, bo, bs, bu, bd, cd, tg, lf, rt, hm) (nI 2) (nI A) := by
  refine br_f (by decide) (fs_free (by omega) hg (fun r hr hf => br_f (by decide) (br_f (by decide) (fs_w (o := 5) (by decide) (by omega) (by omega) hc (fs_mv89 hr hd (H (ce + 1) (d + 1) _ _ _ _ _ ?_ (by omega)))))))
  refine fs_TI_step (fun h => if h = d then r else g h) E (K' := fs_ku (cd, tg, lf, rt) ce (nI 5) (nI r) (nI A) 0) (fs_EX_w (fs_WK5 (by omega) (by omega))) (by omega) hp (fs_gp hg hr) (fs_gpi hi hf) hst ?_
  intro F F' c s e h1
  subst e
  rw [fs_wk5 (by omega) (by omega)]
  exact ⟨_, rfl, fs_gps hf h1 rfl⟩
theorem fs_mv3 {A : Nat} (hc : ce < 640) (hd : d ≤ 8) (hd1 : 1 ≤ d) (hA : A ≤ 7) (hp : p + 1 ≤ 32) (hg : ∀ h, h < d → hm h = nI (g h) ∧ g h < 8) (hi : ∀ i j, i < d → j < d → g i = g j → i = j)
    (E : fs_EX S K0 ce (cd, tg, lf, rt) (fs_TQ L op ag p0 d0 k d p g))
    (hst : ∀ (c : Int32) (s m : Nat → Int32), fs_at L op ag (d, p, 0, c, s, m) = fs_ms 3 (nI A) A d p c s m)
    (H : ∀ (ce' d' : Nat) (cd' tg' lf' rt' hm' : Nat → Int32), fs_TI L op ag p0 d0 S K0 (k + 1) ce' (cd', tg', lf', rt') d' (p + 1) hm' → ce' ≤ ce + 1 → post (len, hgt, pc, st, ct, bcn, nI ce', nI d', op, ag, m, fl, bo, bs, bu, bd, cd', tg', lf', rt', hm')) :
    wpX_translateMove post (len, hgt, pc, st, ct, bcn, nI ce, nI d, op, ag, m, fl, bo, bs, bu, bd, cd, tg, lf, rt, hm) (nI 3) (nI A) := by
  obtain ⟨e1, e2⟩ := hg (d - 1) (by omega)
  refine br_t (by decide) (nm_r (fs_s1 hd1) (And.intro (fs_in (by omega) (by decide)) ?_))
  rw [fs_cl (n := d - 1) (by omega), e1]
  refine fs_w (o := 6) (by decide) (by omega) (by omega) hc (H (ce + 1) (d - 1) _ _ _ _ _ ?_ (by omega))
  refine fs_TI_step g E (K' := fs_ku (cd, tg, lf, rt) ce (nI 6) (nI A) (nI (g (d - 1))) 0) (fs_EX_w (fs_WK6 (by omega) (by omega))) (by omega) hp (fun h hh => hg h (by omega)) (fun i j a b => hi i j (by omega) (by omega)) hst ?_
  intro F F' c s e h1
  subst e
  rw [fs_wk6 (by omega) (by omega), h1 (d - 1) (by omega)]
  exact ⟨_, rfl, fun h hh => h1 h (by omega)⟩
theorem fs_cb4 {A : Nat} (hc : ce < 640) (hd : d ≤ 8) (hA : A < d) (hp : p + 1 ≤ 32) (hg : ∀ h, h < d → hm h = nI (g h) ∧ g h < 8) (hi : ∀ i j, i < d → j < d → g i = g j → i = j)
    (E : fs_EX S K0 ce (cd, tg, lf, rt) (fs_TQ L op ag p0 d0 k d p g))
    (hst : ∀ (c : Int32) (s m : Nat → Int32), fs_at L op ag (d, p, 0, c, s, m) = fs_ms 4 (nI A) A d p c s m)
    (H : ∀ (ce' d' : Nat) (cd' tg' lf' rt' hm' : Nat → Int32), fs_TI L op ag p0 d0 S K0 (k + 1) ce' (cd', tg', lf', rt') d' (p + 1) hm' → ce' ≤ ce + 1 → post (len, hgt, pc, st, ct, bcn, nI ce', nI d', op, ag, m, fl, bo, bs, bu, bd, cd', tg', lf', rt', hm')) :
    wpX_translateCombine post (len, hgt, pc, st, ct, bcn, nI ce, nI d, op, ag, m, fl, bo, bs, bu, bd, cd, tg, lf, rt, hm) (nI 4) (nI A) := by
  obtain ⟨e1, e2⟩ := hg (d - 1) (by omega)
  obtain ⟨f1, f2⟩ := hg (d - 1 - A) (by omega)
  have i1 : vp_in (nI (d - 1)) 8 := fs_in (by omega) (by decide)
  have i2 : vp_in (nI (d - 1 - A)) 8 := fs_in (by omega) (by decide)
  unfold wpX_translateCombine
  dsimp only
  rw [fs_s2 (by omega), fs_s1 (by omega), fs_cl (n := d - 1) (by omega), fs_cl (n := d - 1 - A) (by omega)]
  refine And.intro i1 (nm_r e1 (And.intro i2 (nm_r f1 (br_t (by decide) (And.intro i1 (nm_r (e' := upd hm (d - 1) (nI (g (d - 1 - A)))) (by rw [fs_nb (by omega)]) (And.intro i2 (nm_r (e' := upd (upd hm (d - 1) (nI (g (d - 1 - A)))) (d - 1 - A) (nI (g (d - 1)))) (by rw [fs_nb (by omega)]) ?_))))))))
  refine H ce d cd tg lf rt _ ?_ (by omega)
  refine fs_TI_step (fun h => if h = d - 1 - A then g (d - 1) else if h = d - 1 then g (d - 1 - A) else g h) E (Q := fun F F' => F' = F) (fs_EX_rf (fun _ => rfl)) hd hp ?_ ?_ hst ?_
  · intro h hh
    try dsimp only
    by_cases w : h = d - 1 - A
    · subst w; rw [if_pos rfl, pk_us]; exact ⟨rfl, e2⟩
    · rw [if_neg w, pk_un w]
      by_cases w' : h = d - 1
      · subst w'; rw [if_pos rfl, pk_us]; exact ⟨rfl, f2⟩
      · rw [if_neg w', pk_un w']; exact hg h hh
  · have key : ∀ i j, i < d → j < d → i ≠ j → g i ≠ g j := fun i j a b c e => c (hi i j a b e)
    intro i j hi' hj' e
    try dsimp only at e
    by_cases w : i = d - 1 - A
    · rw [if_pos w] at e
      by_cases v : j = d - 1 - A
      · omega
      · rw [if_neg v] at e
        by_cases v' : j = d - 1
        · rw [if_pos v'] at e; have := hi _ _ (by omega) (by omega) e; omega
        · rw [if_neg v'] at e; have := hi _ _ (by omega) (by omega) e; omega
    · rw [if_neg w] at e
      by_cases w' : i = d - 1
      · rw [if_pos w'] at e
        by_cases v : j = d - 1 - A
        · rw [if_pos v] at e; have := hi _ _ (by omega) (by omega) e; omega
        · rw [if_neg v] at e
          by_cases v' : j = d - 1
          · omega
          · rw [if_neg v'] at e; have := hi _ _ (by omega) (by omega) e; omega
      · rw [if_neg w'] at e
        by_cases v : j = d - 1 - A
        · rw [if_pos v] at e; have := hi _ _ (by omega) (by omega) e; omega
        · rw [if_neg v] at e
          by_cases v' : j = d - 1
          · rw [if_pos v'] at e; have := hi _ _ (by omega) (by omega) e; omega
          · rw [if_neg v'] at e; exact hi _ _ (by omega) (by omega) e
  · intro F F' c s e h1
    subst e
    refine ⟨_, rfl, fun h hh => ?_⟩
    try dsimp only
    by_cases w : h = d - 1 - A
    · subst w; rw [if_pos rfl, pk_us]; exact h1 _ (by omega)
    · rw [if_neg w, pk_un w]
      by_cases w' : h = d - 1
      · subst w'; rw [if_pos rfl, pk_us]; exact h1 _ (by omega)
      · rw [if_neg w', pk_un w']; exact h1 _ (by omega)
theorem fs_cb5 {A : Nat} (hc : ce < 640) (hd : d ≤ 8) (hA : A < d) (hp : p + 1 ≤ 32) (hg : ∀ h, h < d → hm h = nI (g h) ∧ g h < 8) (hi : ∀ i j, i < d → j < d → g i = g j → i = j)
    (E : fs_EX S K0 ce (cd, tg, lf, rt) (fs_TQ L op ag p0 d0 k d p g))
    (hst : ∀ (c : Int32) (s m : Nat → Int32), fs_at L op ag (d, p, 0, c, s, m) = fs_ms 5 (nI A) A d p c s m)
    (H : ∀ (ce' d' : Nat) (cd' tg' lf' rt' hm' : Nat → Int32), fs_TI L op ag p0 d0 S K0 (k + 1) ce' (cd', tg', lf', rt') d' (p + 1) hm' → ce' ≤ ce + 1 → post (len, hgt, pc, st, ct, bcn, nI ce', nI d', op, ag, m, fl, bo, bs, bu, bd, cd', tg', lf', rt', hm')) :
    wpX_translateCombine post (len, hgt, pc, st, ct, bcn, nI ce, nI d, op, ag, m, fl, bo, bs, bu, bd, cd, tg, lf, rt, hm) (nI 5) (nI A) := by
  obtain ⟨e1, e2⟩ := hg (d - 1) (by omega)
  obtain ⟨f1, f2⟩ := hg (d - 1 - A) (by omega)
  have i1 : vp_in (nI (d - 1)) 8 := fs_in (by omega) (by decide)
  have i2 : vp_in (nI (d - 1 - A)) 8 := fs_in (by omega) (by decide)
  unfold wpX_translateCombine
  dsimp only
  rw [fs_s2 (by omega), fs_s1 (by omega), fs_cl (n := d - 1) (by omega), fs_cl (n := d - 1 - A) (by omega)]
  refine And.intro i1 (nm_r e1 (And.intro i2 (nm_r f1 ?_)))
  repeat (first | refine br_t (by decide) ?_ | refine br_f (by decide) ?_)
  refine fs_w (o := 2) (by decide) (by omega) (by omega) hc (H (ce + 1) d _ _ _ _ _ ?_ (by omega))
  refine fs_TI_step g E (K' := fs_ku (cd, tg, lf, rt) ce (nI 2) (nI (g (d - 1))) (nI (g (d - 1))) (nI (g (d - 1 - A)))) (fs_EX_w (fs_WKa (by decide) (by decide) (by omega) (by omega) (by omega))) hd hp hg hi hst ?_
  intro F F' c s e h1
  subst e
  rw [fs_wk2 (by omega) (by omega) (by omega)]
  exact ⟨_, rfl, fs_gst hi h1 (by omega) (Nat.le_refl _) (by rw [h1 (d - 1) (by omega), h1 (d - 1 - A) (by omega)])⟩
theorem fs_cb6 {A : Nat} (hc : ce < 640) (hd : d ≤ 8) (hA : A < d) (hp : p + 1 ≤ 32) (hg : ∀ h, h < d → hm h = nI (g h) ∧ g h < 8) (hi : ∀ i j, i < d → j < d → g i = g j → i = j)
    (E : fs_EX S K0 ce (cd, tg, lf, rt) (fs_TQ L op ag p0 d0 k d p g))
    (hst : ∀ (c : Int32) (s m : Nat → Int32), fs_at L op ag (d, p, 0, c, s, m) = fs_ms 6 (nI A) A d p c s m)
    (H : ∀ (ce' d' : Nat) (cd' tg' lf' rt' hm' : Nat → Int32), fs_TI L op ag p0 d0 S K0 (k + 1) ce' (cd', tg', lf', rt') d' (p + 1) hm' → ce' ≤ ce + 1 → post (len, hgt, pc, st, ct, bcn, nI ce', nI d', op, ag, m, fl, bo, bs, bu, bd, cd', tg', lf', rt', hm')) :
    wpX_translateCombine post (len, hgt, pc, st, ct, bcn, nI ce, nI d, op, ag, m, fl, bo, bs, bu, bd, cd, tg, lf, rt, hm) (nI 6) (nI A) := by
  obtain ⟨e1, e2⟩ := hg (d - 1) (by omega)
  obtain ⟨f1, f2⟩ := hg (d - 1 - A) (by omega)
  have i1 : vp_in (nI (d - 1)) 8 := fs_in (by omega) (by decide)
  have i2 : vp_in (nI (d - 1 - A)) 8 := fs_in (by omega) (by decide)
  unfold wpX_translateCombine
  dsimp only
  rw [fs_s2 (by omega), fs_s1 (by omega), fs_cl (n := d - 1) (by omega), fs_cl (n := d - 1 - A) (by omega)]
  refine And.intro i1 (nm_r e1 (And.intro i2 (nm_r f1 ?_)))
  repeat (first | refine br_t (by decide) ?_ | refine br_f (by decide) ?_)
  refine fs_w (o := 3) (by decide) (by omega) (by omega) hc (H (ce + 1) d _ _ _ _ _ ?_ (by omega))
  refine fs_TI_step g E (K' := fs_ku (cd, tg, lf, rt) ce (nI 3) (nI (g (d - 1))) (nI (g (d - 1))) (nI (g (d - 1 - A)))) (fs_EX_w (fs_WKa (by decide) (by decide) (by omega) (by omega) (by omega))) hd hp hg hi hst ?_
  intro F F' c s e h1
  subst e
  rw [fs_wk3 (by omega) (by omega) (by omega)]
  exact ⟨_, rfl, fs_gst hi h1 (by omega) (Nat.le_refl _) (by rw [h1 (d - 1) (by omega), h1 (d - 1 - A) (by omega)])⟩
theorem fs_cb7 {A : Nat} (hc : ce < 640) (hd : d ≤ 8) (hA : A < d) (hp : p + 1 ≤ 32) (hg : ∀ h, h < d → hm h = nI (g h) ∧ g h < 8) (hi : ∀ i j, i < d → j < d → g i = g j → i = j)
    (E : fs_EX S K0 ce (cd, tg, lf, rt) (fs_TQ L op ag p0 d0 k d p g))
    (hst : ∀ (c : Int32) (s m : Nat → Int32), fs_at L op ag (d, p, 0, c, s, m) = fs_ms 7 (nI A) A d p c s m)
    (H : ∀ (ce' d' : Nat) (cd' tg' lf' rt' hm' : Nat → Int32), fs_TI L op ag p0 d0 S K0 (k + 1) ce' (cd', tg', lf', rt') d' (p + 1) hm' → ce' ≤ ce + 1 → post (len, hgt, pc, st, ct, bcn, nI ce', nI d', op, ag, m, fl, bo, bs, bu, bd, cd', tg', lf', rt', hm')) :
    wpX_translateCombine post (len, hgt, pc, st, ct, bcn, nI ce, nI d, op, ag, m, fl, bo, bs, bu, bd, cd, tg, lf, rt, hm) (nI 7) (nI A) := by
  obtain ⟨e1, e2⟩ := hg (d - 1) (by omega)
  obtain ⟨f1, f2⟩ := hg (d - 1 - A) (by omega)
  have i1 : vp_in (nI (d - 1)) 8 := fs_in (by omega) (by decide)
  have i2 : vp_in (nI (d - 1 - A)) 8 := fs_in (by omega) (by decide)
  unfold wpX_translateCombine
  dsimp only
  rw [fs_s2 (by omega), fs_s1 (by omega), fs_cl (n := d - 1) (by omega), fs_cl (n := d - 1 - A) (by omega)]
  refine And.intro i1 (nm_r e1 (And.intro i2 (nm_r f1 ?_)))
  repeat (first | refine br_t (by decide) ?_ | refine br_f (by decide) ?_)
  refine fs_w (o := 4) (by decide) (by omega) (by omega) hc (H (ce + 1) d _ _ _ _ _ ?_ (by omega))
  refine fs_TI_step g E (K' := fs_ku (cd, tg, lf, rt) ce (nI 4) (nI (g (d - 1))) (nI (g (d - 1))) (nI (g (d - 1 - A)))) (fs_EX_w (fs_WKa (by decide) (by decide) (by omega) (by omega) (by omega))) hd hp hg hi hst ?_
  intro F F' c s e h1
  subst e
  rw [fs_wk4 (by omega) (by omega) (by omega)]
  exact ⟨_, rfl, fs_gst hi h1 (by omega) (Nat.le_refl _) (by rw [h1 (d - 1) (by omega), h1 (d - 1 - A) (by omega)])⟩
theorem fs_cb8 {A : Nat} (hc : ce < 640) (hd : d ≤ 8) (hA : A < d) (hA1 : 1 ≤ A) (hp : p + 1 ≤ 32) (hg : ∀ h, h < d → hm h = nI (g h) ∧ g h < 8) (hi : ∀ i j, i < d → j < d → g i = g j → i = j)
    (E : fs_EX S K0 ce (cd, tg, lf, rt) (fs_TQ L op ag p0 d0 k d p g))
    (hst : ∀ (c : Int32) (s m : Nat → Int32), fs_at L op ag (d, p, 0, c, s, m) = fs_ms 8 (nI A) A d p c s m)
    (H : ∀ (ce' d' : Nat) (cd' tg' lf' rt' hm' : Nat → Int32), fs_TI L op ag p0 d0 S K0 (k + 1) ce' (cd', tg', lf', rt') d' (p + 1) hm' → ce' ≤ ce + 1 → post (len, hgt, pc, st, ct, bcn, nI ce', nI d', op, ag, m, fl, bo, bs, bu, bd, cd', tg', lf', rt', hm')) :
    wpX_translateCombine post (len, hgt, pc, st, ct, bcn, nI ce, nI d, op, ag, m, fl, bo, bs, bu, bd, cd, tg, lf, rt, hm) (nI 8) (nI A) := by
  obtain ⟨e1, e2⟩ := hg (d - 1) (by omega)
  obtain ⟨f1, f2⟩ := hg (d - 1 - A) (by omega)
  have i1 : vp_in (nI (d - 1)) 8 := fs_in (by omega) (by decide)
  have i2 : vp_in (nI (d - 1 - A)) 8 := fs_in (by omega) (by decide)
  unfold wpX_translateCombine
  dsimp only
  rw [fs_s2 (by omega), fs_s1 (by omega), fs_cl (n := d - 1) (by omega), fs_cl (n := d - 1 - A) (by omega)]
  refine And.intro i1 (nm_r e1 (And.intro i2 (nm_r f1 ?_)))
  repeat (first | refine br_t (by decide) ?_ | refine br_f (by decide) ?_)
  refine fs_w (o := 2) (by decide) (by omega) (by omega) hc (nm_r (fs_s1 (by omega)) (H (ce + 1) (d - 1) _ _ _ _ _ ?_ (by omega)))
  refine fs_TI_step g E (K' := fs_ku (cd, tg, lf, rt) ce (nI 2) (nI (g (d - 1 - A))) (nI (g (d - 1 - A))) (nI (g (d - 1)))) (fs_EX_w (fs_WKa (by decide) (by decide) (by omega) (by omega) (by omega))) (by omega) hp (fun h hh => hg h (by omega)) (fun i j a b => hi i j (by omega) (by omega)) hst ?_
  intro F F' c s e h1
  subst e
  rw [fs_wk2 (by omega) (by omega) (by omega)]
  exact ⟨_, rfl, fs_gst hi h1 (by omega) (by omega) (by rw [h1 (d - 1) (by omega), h1 (d - 1 - A) (by omega)])⟩
theorem fs_cb9 {A : Nat} (hc : ce < 640) (hd : d ≤ 8) (hA : A < d) (hA1 : 1 ≤ A) (hp : p + 1 ≤ 32) (hg : ∀ h, h < d → hm h = nI (g h) ∧ g h < 8) (hi : ∀ i j, i < d → j < d → g i = g j → i = j)
    (E : fs_EX S K0 ce (cd, tg, lf, rt) (fs_TQ L op ag p0 d0 k d p g))
    (hst : ∀ (c : Int32) (s m : Nat → Int32), fs_at L op ag (d, p, 0, c, s, m) = fs_ms 9 (nI A) A d p c s m)
    (H : ∀ (ce' d' : Nat) (cd' tg' lf' rt' hm' : Nat → Int32), fs_TI L op ag p0 d0 S K0 (k + 1) ce' (cd', tg', lf', rt') d' (p + 1) hm' → ce' ≤ ce + 1 → post (len, hgt, pc, st, ct, bcn, nI ce', nI d', op, ag, m, fl, bo, bs, bu, bd, cd', tg', lf', rt', hm')) :
    wpX_translateCombine post (len, hgt, pc, st, ct, bcn, nI ce, nI d, op, ag, m, fl, bo, bs, bu, bd, cd, tg, lf, rt, hm) (nI 9) (nI A) := by
  obtain ⟨e1, e2⟩ := hg (d - 1) (by omega)
  obtain ⟨f1, f2⟩ := hg (d - 1 - A) (by omega)
  have i1 : vp_in (nI (d - 1)) 8 := fs_in (by omega) (by decide)
  have i2 : vp_in (nI (d - 1 - A)) 8 := fs_in (by omega) (by decide)
  unfold wpX_translateCombine
  dsimp only
  rw [fs_s2 (by omega), fs_s1 (by omega), fs_cl (n := d - 1) (by omega), fs_cl (n := d - 1 - A) (by omega)]
  refine And.intro i1 (nm_r e1 (And.intro i2 (nm_r f1 ?_)))
  repeat (first | refine br_t (by decide) ?_ | refine br_f (by decide) ?_)
  refine fs_w (o := 3) (by decide) (by omega) (by omega) hc (nm_r (fs_s1 (by omega)) (H (ce + 1) (d - 1) _ _ _ _ _ ?_ (by omega)))
  refine fs_TI_step g E (K' := fs_ku (cd, tg, lf, rt) ce (nI 3) (nI (g (d - 1 - A))) (nI (g (d - 1 - A))) (nI (g (d - 1)))) (fs_EX_w (fs_WKa (by decide) (by decide) (by omega) (by omega) (by omega))) (by omega) hp (fun h hh => hg h (by omega)) (fun i j a b => hi i j (by omega) (by omega)) hst ?_
  intro F F' c s e h1
  subst e
  rw [fs_wk3 (by omega) (by omega) (by omega)]
  exact ⟨_, rfl, fs_gst hi h1 (by omega) (by omega) (by rw [h1 (d - 1) (by omega), h1 (d - 1 - A) (by omega)])⟩
end
end
section
/-! ===== the component: translateOne, translate ===== -/
/-! pure: how a block ends -/
section
variable {op ag : Nat → Int32} {L p0 d0 S k ce ce' d p : Nat} {K0 K K' : fs_K} {g : Nat → Nat}
theorem fs_fin (E : fs_EX S K0 ce K (fs_TQ L op ag p0 d0 k d p g)) (G : fs_EX ce K ce' K' (fs_SQ d g)) : fs_EX S K0 ce' K' (fs_TQ L op ag p0 d0 k d p (fun h => h)) := by
  refine fs_EX_tr E G ?_
  intro F F' F'' q1 ⟨a, b, c⟩ s c' hs
  obtain ⟨s', e1, h1⟩ := q1 s c' hs
  exact ⟨s', by rw [a]; exact e1, fun h hh => (c h hh).trans (h1 h hh)⟩
theorem fs_end_go (E : fs_EX S K0 ce K (fs_TQ L op ag p0 d0 k d p (fun h => h))) (hd : d ≤ 8) (hp : p ≤ 32) : fs_BK L op ag p0 d0 S k (nI k) (ce + 1) (fs_ku K ce (nI 7) (nI p) (nI d) 0) := by
  refine fs_BK_mk E ?_
  intro F F' s c q hs
  obtain ⟨s', e1, h1⟩ := q s c hs
  exact ⟨d, p, 0, s', e1, hd, hp, rfl, h1, Or.inl ⟨rfl, rfl, rfl⟩⟩
theorem fs_end_trap (E : fs_EX S K0 ce K (fs_TQ L op ag p0 d0 k d p (fun h => h))) (hd : d ≤ 8) (hp : p ≤ 32) (hf : L ≤ p ∨ fs_fb (op p).toNatClampNeg (ag p).toNatClampNeg d = true) : fs_BK L op ag p0 d0 S (k + 1) (nI k) (ce + 1) (fs_ku K ce (nI 11) (nI p) (nI d) 0) := by
  refine fs_BK_mk E ?_
  intro F F' s c q hs
  obtain ⟨s', e1, h1⟩ := q s c hs
  refine ⟨d, p, 2, s', ?_, hd, hp, rfl, h1, Or.inr (Or.inr (Or.inr (Or.inr ⟨rfl, rfl, rfl⟩)))⟩
  show fs_at L op ag (fs_itr L op ag k (d0, p0, 0, c, s, F.2)) = _
  rw [e1, fs_at_trap hf]
theorem fs_end_jmp {A : Nat} (E : fs_EX S K0 ce K (fs_TQ L op ag p0 d0 k d p (fun h => h))) (hd : d ≤ 8) (hA : A ≤ 31)
    (hst : ∀ (c : Int32) (s m : Nat → Int32), fs_at L op ag (d, p, 0, c, s, m) = fs_ms 12 (nI A) A d p c s m) : fs_BK L op ag p0 d0 S (k + 1) (nI (k + 1)) (ce + 1) (fs_ku K ce (nI 7) (nI A) (nI d) 0) := by
  refine fs_BK_mk E ?_
  intro F F' s c q hs
  obtain ⟨s', e1, h1⟩ := q s c hs
  refine ⟨d, A, 0, s', ?_, hd, by omega, rfl, h1, Or.inl ⟨rfl, rfl, rfl⟩⟩
  show fs_at L op ag (fs_itr L op ag k (d0, p0, 0, c, s, F.2)) = _
  rw [e1, hst, ← nI_1, ← Int32.add_assoc]
  rfl
theorem fs_end_halt {a : Int32} (E : fs_EX S K0 ce K (fs_TQ L op ag p0 d0 k d p (fun h => h))) (hd : d ≤ 8) (hp : p ≤ 32)
    (hst : ∀ (c : Int32) (s m : Nat → Int32), fs_at L op ag (d, p, 0, c, s, m) = fs_ms 13 a a.toNatClampNeg d p c s m) : fs_BK L op ag p0 d0 S (k + 1) (nI (k + 1)) (ce + 1) (fs_ku K ce (nI 10) (nI p) (nI d) 0) := by
  refine fs_BK_mk E ?_
  intro F F' s c q hs
  obtain ⟨s', e1, h1⟩ := q s c hs
  refine ⟨d, p, 1, s', ?_, hd, hp, rfl, h1, Or.inr (Or.inr (Or.inr (Or.inl ⟨rfl, rfl, rfl⟩)))⟩
  show fs_at L op ag (fs_itr L op ag k (d0, p0, 0, c, s, F.2)) = _
  rw [e1, hst, ← nI_1, ← Int32.add_assoc]
  rfl
/-- behind the copy of the condition and straighten -/
def fs_CQ (L : Nat) (op ag : Nat → Int32) (p0 d0 k d p : Nat) (F F' : fs_F) : Prop :=
  ∀ (s : Nat → Int32) (c : Int32), (∀ h, h < d0 → F.1 h = s h) → ∃ s' : Nat → Int32, fs_itr L op ag k (d0, p0, 0, c, s, F.2) = (d, p, 0, c + nI k, s', F'.2) ∧ (∀ h, h < d - 1 → F'.1 h = s' h) ∧ F'.1 8 = s' (d - 1)
theorem fs_fin_c (hd1 : 1 ≤ d) (hd : d ≤ 8) (hg : ∀ h, h < d → g h < 8) (E : fs_EX S K0 ce K (fs_TQ L op ag p0 d0 k d p g)) (G : fs_EX (ce + 1) (fs_ku K ce (nI 1) (nI 8) (nI (g (d - 1))) 0) ce' K' (fs_SQ (d - 1) g)) : fs_EX S K0 ce' K' (fs_CQ L op ag p0 d0 k d p) := by
  have g0 := hg (d - 1) (by omega)
  refine fs_EX_tr (fs_EX_tr E (fs_EX_w (fs_WK1 (x := 8) (y := g (d - 1)) (by decide) (by omega))) (T := fun F F' => ∃ F1, fs_TQ L op ag p0 d0 k d p g F F1 ∧ F' = fs_wk (nI 1) (nI 8) (nI (g (d - 1))) 0 F1) (fun F F' F'' a b => ⟨F', a, b⟩)) G ?_
  intro F F' F'' ⟨F1, q1, e⟩ ⟨a, b, c⟩ s c' hs
  subst e
  rw [fs_wk1 (by decide) (by omega)] at a b c
  dsimp only at a b c
  obtain ⟨s', e1, h1⟩ := q1 s c' hs
  refine ⟨s', by rw [a]; exact e1, fun h hh => ?_, ?_⟩
  · have := hg h (by omega)
    rw [c h hh, pk_un (by omega)]; exact h1 h (by omega)
  · rw [b, pk_us]; exact h1 (d - 1) (by omega)
theorem fs_end_jz {A : Nat} (E : fs_EX S K0 ce K (fs_CQ L op ag p0 d0 k d p)) (hd : d ≤ 8) (hp : p + 1 ≤ 32) (hA : A ≤ 31)
    (hst : ∀ (c : Int32) (s m : Nat → Int32), fs_at L op ag (d, p, 0, c, s, m) = fs_ms 10 (nI A) A d p c s m) : fs_BK L op ag p0 d0 S (k + 1) (nI (k + 1)) (ce + 1) (fs_ku K ce (nI 8) (nI (p + 1)) (nI (d - 1)) (nI A)) := by
  refine fs_BK_mk E ?_
  intro F F' s c q hs
  obtain ⟨s', e1, h1, h8⟩ := q s c hs
  refine ⟨d - 1, (if s' (d - 1) = 0 then A else p + 1), 0, s', ?_, by omega, ?_, rfl, h1, Or.inr (Or.inl ⟨rfl, ?_, rfl⟩)⟩
  · show fs_at L op ag (fs_itr L op ag k (d0, p0, 0, c, s, F.2)) = _
    rw [e1, hst, ← nI_1, ← Int32.add_assoc]
    rfl
  · by_cases z : s' (d - 1) = 0
    · rw [if_pos z]; omega
    · rw [if_neg z]; omega
  · rw [h8]
    by_cases z : s' (d - 1) = 0
    · rw [if_pos z, if_pos z]
    · rw [if_neg z, if_neg z]
theorem fs_end_jn {A : Nat} (E : fs_EX S K0 ce K (fs_CQ L op ag p0 d0 k d p)) (hd : d ≤ 8) (hp : p + 1 ≤ 32) (hA : A ≤ 31)
    (hst : ∀ (c : Int32) (s m : Nat → Int32), fs_at L op ag (d, p, 0, c, s, m) = fs_ms 11 (nI A) A d p c s m) : fs_BK L op ag p0 d0 S (k + 1) (nI (k + 1)) (ce + 1) (fs_ku K ce (nI 9) (nI (p + 1)) (nI (d - 1)) (nI A)) := by
  refine fs_BK_mk E ?_
  intro F F' s c q hs
  obtain ⟨s', e1, h1, h8⟩ := q s c hs
  refine ⟨d - 1, (if 0 ≤ s' (d - 1) then p + 1 else A), 0, s', ?_, by omega, ?_, rfl, h1, Or.inr (Or.inr (Or.inl ⟨rfl, ?_, rfl⟩))⟩
  · show fs_at L op ag (fs_itr L op ag k (d0, p0, 0, c, s, F.2)) = _
    rw [e1, hst, ← nI_1, ← Int32.add_assoc]
    rfl
  · by_cases z : 0 ≤ s' (d - 1)
    · rw [if_pos z]; omega
    · rw [if_neg z]; omega
  · rw [h8]
    by_cases z : 0 ≤ s' (d - 1)
    · rw [if_pos z, if_pos z]
    · rw [if_neg z, if_neg z]
/-- a block that ended: where it lies -/
def fs_OK (L : Nat) (op ag : Nat → Int32) (p0 d0 S : Nat) (K0 : fs_K) (T D ce : Nat) (K : fs_K) : Prop :=
  fs_BK L op ag p0 d0 S T (nI D) ce K ∧ (∀ j, j < S → fs_Eq K0 K j) ∧ S ≤ ce ∧ ce ≤ 640
theorem fs_OK_mk {Q : fs_F → fs_F → Prop} {T D : Nat} {a b y z : Int32} (E : fs_EX S K0 ce K Q) (B : fs_BK L op ag p0 d0 S T (nI D) (ce + 1) (fs_ku K ce a b y z)) (h : ce + 1 ≤ 640) : fs_OK L op ag p0 d0 S K0 T D (ce + 1) (fs_ku K ce a b y z) := by
  obtain ⟨l1, a1, w1, q1⟩ := E
  refine ⟨B, fun j hj => ?_, by omega, h⟩
  have x := a1 j hj
  have y := fs_ku_eq (K := K) (ce := ce) (a := a) (b := b) (c := y) (e := z) (j := j) (by omega)
  exact ⟨y.1.trans x.1, y.2.1.trans x.2.1, y.2.2.1.trans x.2.2.1, y.2.2.2.trans x.2.2.2⟩
end
section
variable {len hgt pc st ct bcn cen dpn : Int32} {op ag m fl bo bs bu bd cd tg lf rt hm : Nat → Int32}
variable {L p0 d0 S k ce d p : Nat} {K0 : fs_K} {g : Nat → Nat}
theorem fs_one {post : Int32 → SX → Prop} (hv : fs_VI (op p) (ag p)) (hpL : p < L) (hL : L ≤ 32) (hc : ce + 26 ≤ 640)
    (hf : fs_fb (op p).toNatClampNeg (ag p).toNatClampNeg d = false)
    (I : fs_TI L op ag p0 d0 S K0 k ce (cd, tg, lf, rt) d p hm)
    (H1 : ∀ (ce' d' : Nat) (cd' tg' lf' rt' hm' : Nat → Int32), fs_TI L op ag p0 d0 S K0 (k + 1) ce' (cd', tg', lf', rt') d' (p + 1) hm' → ce' ≤ ce + 1 → post 1 (len, hgt, pc, st, ct, bcn, nI ce', nI d', op, ag, m, fl, bo, bs, bu, bd, cd', tg', lf', rt', hm'))
    (H0 : ∀ (ce' d' : Nat) (cd' tg' lf' rt' hm' : Nat → Int32), fs_OK L op ag p0 d0 S K0 (k + 1) (k + 1) ce' (cd', tg', lf', rt') → post 0 (len, hgt, pc, st, ct, bcn, nI ce', nI d', op, ag, m, fl, bo, bs, bu, bd, cd', tg', lf', rt', hm')) :
    wpX_translateOne post (len, hgt, pc, st, ct, bcn, nI ce, nI d, op, ag, m, fl, bo, bs, bu, bd, cd, tg, lf, rt, hm) (nI p) := by
  obtain ⟨g, hd, hp, hg, hi, E⟩ := I
  have hin : vp_in (nI p) 32 := fs_in (by omega) (by decide)
  unfold wpX_translateOne
  dsimp only
  rw [fs_cl (n := p) (by omega)]
  refine And.intro hin ?_
  rcases fs_VD hv with eo | ⟨A, hA, eo, ea⟩ | ⟨A, hA, eo, ea⟩ | ⟨A, hA, eo, ea⟩ | ⟨A, hA, eo, ea⟩ | ⟨A, hA, eo, ea⟩ | ⟨A, hA, eo, ea⟩ | ⟨A, hA, eo, ea⟩ | ⟨A, hA1, hA, eo, ea⟩ | ⟨A, hA1, hA, eo, ea⟩ | ⟨A, hA, eo, ea⟩ | ⟨A, hA, eo, ea⟩ | ⟨A, hA, eo, ea⟩ | eo
  · have hf' := fs_fb0 (by decide) eo hf
    simp only [fs_fb, decide_eq_false_iff_not] at hf'
    have hM := fun c s m => fs_at_ok (L := L) (op := op) (ag := ag) (d := d) (p := p) (c := c) (s := s) (m := m) 0 (ag p) (by decide) hpL eo rfl (fs_fb0 (by decide) eo hf)
    refine nm_r eo (And.intro hin (nm_e ?_))
    refine br_f (by decide) (br_f (by decide) (br_f (by decide) (br_f (by decide) (br_f (by decide) ?_))))
    exact fs_mv0 (by omega) (by omega) (by omega) hg hi E hM H1
  · have hf' := fs_fbN (by decide) (by omega) eo ea hf
    simp only [fs_fb, decide_eq_false_iff_not] at hf'
    have hM := fun c s m => fs_at_okN (L := L) (op := op) (ag := ag) (d := d) (p := p) (c := c) (s := s) (m := m) 1 A (by decide) (by omega) hpL eo ea (fs_fbN (by decide) (by omega) eo ea hf)
    refine nm_r eo (And.intro hin (nm_r ea ?_))
    refine br_f (by decide) (br_f (by decide) (br_f (by decide) (br_f (by decide) (br_f (by decide) ?_))))
    exact fs_mv1 (by omega) (by omega) (by omega) (by omega) hg hi E hM H1
  · have hf' := fs_fbN (by decide) (by omega) eo ea hf
    simp only [fs_fb, decide_eq_false_iff_not] at hf'
    have hM := fun c s m => fs_at_okN (L := L) (op := op) (ag := ag) (d := d) (p := p) (c := c) (s := s) (m := m) 2 A (by decide) (by omega) hpL eo ea (fs_fbN (by decide) (by omega) eo ea hf)
    refine nm_r eo (And.intro hin (nm_r ea ?_))
    refine br_f (by decide) (br_f (by decide) (br_f (by decide) (br_f (by decide) (br_f (by decide) ?_))))
    exact fs_mv2 (by omega) (by omega) (by omega) (by omega) hg hi E hM H1
  · have hf' := fs_fbN (by decide) (by omega) eo ea hf
    simp only [fs_fb, decide_eq_false_iff_not] at hf'
    have hM := fun c s m => fs_at_okN (L := L) (op := op) (ag := ag) (d := d) (p := p) (c := c) (s := s) (m := m) 3 A (by decide) (by omega) hpL eo ea (fs_fbN (by decide) (by omega) eo ea hf)
    refine nm_r eo (And.intro hin (nm_r ea ?_))
    refine br_f (by decide) (br_f (by decide) (br_f (by decide) (br_f (by decide) (br_f (by decide) ?_))))
    exact fs_mv3 (by omega) hd (by omega) (by omega) (by omega) hg hi E hM H1
  · have hf' := fs_fbN (by decide) (by omega) eo ea hf
    simp only [fs_fb, decide_eq_false_iff_not] at hf'
    have hM := fun c s m => fs_at_okN (L := L) (op := op) (ag := ag) (d := d) (p := p) (c := c) (s := s) (m := m) 4 A (by decide) (by omega) hpL eo ea (fs_fbN (by decide) (by omega) eo ea hf)
    refine nm_r eo (And.intro hin (nm_r ea ?_))
    refine br_f (by decide) (br_f (by decide) (br_f (by decide) (br_f (by decide) (br_t (by decide) ?_))))
    exact fs_cb4 (by omega) hd (by omega) (by omega) hg hi E hM H1
  · have hf' := fs_fbN (by decide) (by omega) eo ea hf
    simp only [fs_fb, decide_eq_false_iff_not] at hf'
    have hM := fun c s m => fs_at_okN (L := L) (op := op) (ag := ag) (d := d) (p := p) (c := c) (s := s) (m := m) 5 A (by decide) (by omega) hpL eo ea (fs_fbN (by decide) (by omega) eo ea hf)
    refine nm_r eo (And.intro hin (nm_r ea ?_))
    refine br_f (by decide) (br_f (by decide) (br_f (by decide) (br_f (by decide) (br_t (by decide) ?_))))
    exact fs_cb5 (by omega) hd (by omega) (by omega) hg hi E hM H1
  · have hf' := fs_fbN (by decide) (by omega) eo ea hf
    simp only [fs_fb, decide_eq_false_iff_not] at hf'
    have hM := fun c s m => fs_at_okN (L := L) (op := op) (ag := ag) (d := d) (p := p) (c := c) (s := s) (m := m) 6 A (by decide) (by omega) hpL eo ea (fs_fbN (by decide) (by omega) eo ea hf)
    refine nm_r eo (And.intro hin (nm_r ea ?_))
    refine br_f (by decide) (br_f (by decide) (br_f (by decide) (br_f (by decide) (br_t (by decide) ?_))))
    exact fs_cb6 (by omega) hd (by omega) (by omega) hg hi E hM H1
  · have hf' := fs_fbN (by decide) (by omega) eo ea hf
    simp only [fs_fb, decide_eq_false_iff_not] at hf'
    have hM := fun c s m => fs_at_okN (L := L) (op := op) (ag := ag) (d := d) (p := p) (c := c) (s := s) (m := m) 7 A (by decide) (by omega) hpL eo ea (fs_fbN (by decide) (by omega) eo ea hf)
    refine nm_r eo (And.intro hin (nm_r ea ?_))
    refine br_f (by decide) (br_f (by decide) (br_f (by decide) (br_f (by decide) (br_t (by decide) ?_))))
    exact fs_cb7 (by omega) hd (by omega) (by omega) hg hi E hM H1
  · have hf' := fs_fbN (by decide) (by omega) eo ea hf
    simp only [fs_fb, decide_eq_false_iff_not] at hf'
    have hM := fun c s m => fs_at_okN (L := L) (op := op) (ag := ag) (d := d) (p := p) (c := c) (s := s) (m := m) 8 A (by decide) (by omega) hpL eo ea (fs_fbN (by decide) (by omega) eo ea hf)
    refine nm_r eo (And.intro hin (nm_r ea ?_))
    refine br_f (by decide) (br_f (by decide) (br_f (by decide) (br_f (by decide) (br_t (by decide) ?_))))
    exact fs_cb8 (by omega) hd (by omega) hA1 (by omega) hg hi E hM H1
  · have hf' := fs_fbN (by decide) (by omega) eo ea hf
    simp only [fs_fb, decide_eq_false_iff_not] at hf'
    have hM := fun c s m => fs_at_okN (L := L) (op := op) (ag := ag) (d := d) (p := p) (c := c) (s := s) (m := m) 9 A (by decide) (by omega) hpL eo ea (fs_fbN (by decide) (by omega) eo ea hf)
    refine nm_r eo (And.intro hin (nm_r ea ?_))
    refine br_f (by decide) (br_f (by decide) (br_f (by decide) (br_f (by decide) (br_t (by decide) ?_))))
    exact fs_cb9 (by omega) hd (by omega) hA1 (by omega) hg hi E hM H1
  · have hf' := fs_fbN (by decide) (by omega) eo ea hf
    simp only [fs_fb, decide_eq_false_iff_not] at hf'
    have hM := fun c s m => fs_at_okN (L := L) (op := op) (ag := ag) (d := d) (p := p) (c := c) (s := s) (m := m) 10 A (by decide) (by omega) hpL eo ea (fs_fbN (by decide) (by omega) eo ea hf)
    refine nm_r eo (And.intro hin (nm_r ea ?_))
    obtain ⟨e1, e2⟩ := hg (d - 1) (by omega)
    refine br_t (by decide) ?_
    refine nm_r (fs_s1 (by omega)) (And.intro (fs_in (by omega) (by decide)) ?_)
    rw [fs_cl (n := d - 1) (by omega), e1]
    refine fs_w (o := 1) (x := 8) (by decide) (by decide) (by omega) (by omega) ?_
    refine fs_st (ce := ce + 1) (d := d - 1) (g := g) (by omega) (by omega) (fun h hh => hg h (by omega)) (fun i j a b => hi i j (by omega) (by omega)) (fun ce' cd' tg' lf' rt' hm' G hG => ?_)
    have E2 := fs_fin_c (by omega) hd (fun h hh => (hg h hh).2) E G
    refine br_t (by decide) ?_
    unfold wX_translateOne_71
    rw [nI_1 p]
    exact fs_w (o := 8) (by decide) (by omega) (by omega) (by omega) (H0 (ce' + 1) (d - 1) _ _ _ _ _ (fs_OK_mk E2 (fs_end_jz E2 hd (by omega) (by omega) hM) (by omega)))
  · have hf' := fs_fbN (by decide) (by omega) eo ea hf
    simp only [fs_fb, decide_eq_false_iff_not] at hf'
    have hM := fun c s m => fs_at_okN (L := L) (op := op) (ag := ag) (d := d) (p := p) (c := c) (s := s) (m := m) 11 A (by decide) (by omega) hpL eo ea (fs_fbN (by decide) (by omega) eo ea hf)
    refine nm_r eo (And.intro hin (nm_r ea ?_))
    obtain ⟨e1, e2⟩ := hg (d - 1) (by omega)
    refine br_f (by decide) (br_t (by decide) ?_)
    refine nm_r (fs_s1 (by omega)) (And.intro (fs_in (by omega) (by decide)) ?_)
    rw [fs_cl (n := d - 1) (by omega), e1]
    refine fs_w (o := 1) (x := 8) (by decide) (by decide) (by omega) (by omega) ?_
    refine fs_st (ce := ce + 1) (d := d - 1) (g := g) (by omega) (by omega) (fun h hh => hg h (by omega)) (fun i j a b => hi i j (by omega) (by omega)) (fun ce' cd' tg' lf' rt' hm' G hG => ?_)
    have E2 := fs_fin_c (by omega) hd (fun h hh => (hg h hh).2) E G
    refine br_f (by decide) ?_
    unfold wX_translateOne_71
    rw [nI_1 p]
    exact fs_w (o := 9) (by decide) (by omega) (by omega) (by omega) (H0 (ce' + 1) (d - 1) _ _ _ _ _ (fs_OK_mk E2 (fs_end_jn E2 hd (by omega) (by omega) hM) (by omega)))
  · have hf' := fs_fbN (by decide) (by omega) eo ea hf
    have hM := fun c s m => fs_at_okN (L := L) (op := op) (ag := ag) (d := d) (p := p) (c := c) (s := s) (m := m) 12 A (by decide) (by omega) hpL eo ea (fs_fbN (by decide) (by omega) eo ea hf)
    refine nm_r eo (And.intro hin (nm_r ea ?_))
    refine br_f (by decide) (br_f (by decide) (br_t (by decide) ?_))
    refine fs_st (ce := ce) (d := d) (g := g) hd (by omega) hg hi (fun ce' cd' tg' lf' rt' hm' G hG => ?_)
    have E2 := fs_fin E G
    refine br_t (by decide) (br_t (by decide) ?_)
    exact fs_w (o := 7) (by decide) (by omega) (by omega) (by omega) (H0 (ce' + 1) d _ _ _ _ _ (fs_OK_mk E2 (fs_end_jmp E2 hd (by omega) hM) (by omega)))
  · have hf' := fs_fb0 (by decide) eo hf
    have hM := fun c s m => fs_at_ok (L := L) (op := op) (ag := ag) (d := d) (p := p) (c := c) (s := s) (m := m) 13 (ag p) (by decide) hpL eo rfl (fs_fb0 (by decide) eo hf)
    refine nm_r eo (And.intro hin (nm_e ?_))
    refine br_f (by decide) (br_f (by decide) (br_f (by decide) (br_t (by decide) ?_)))
    refine fs_st (ce := ce) (d := d) (g := g) hd (by omega) hg hi (fun ce' cd' tg' lf' rt' hm' G hG => ?_)
    have E2 := fs_fin E G
    refine br_f (by decide) (br_f (by decide) ?_)
    exact fs_w (o := 10) (by decide) (by omega) (by omega) (by omega) (H0 (ce' + 1) d _ _ _ _ _ (fs_OK_mk E2 (fs_end_halt E2 hd hp hM) (by omega)))
end
end
section
/-! ===== the component: translate, blockAt ===== -/
section
variable {len hgt pc st ct bcn cen dpn : Int32} {op ag m fl bo bs bu bd cd tg lf rt hm : Nat → Int32}
variable {L p0 d0 S b : Nat} {K0 : fs_K}
theorem fs_154 {post : SX → Prop} {k : Nat} (hb : b < 48) (hk : k ≤ 12) (H : post (len, hgt, pc, st, ct, bcn, cen, dpn, op, ag, m, fl, bo, bs, upd bu b (nI k), upd bd b (nI k), cd, tg, lf, rt, hm)) : wX_translate_154 post (nI b) (nI k) 0 len hgt pc st ct bcn cen dpn op ag m fl bo bs bu bd cd tg lf rt hm :=
  have i : vp_in (nI b) 48 := fs_in hb (by decide)
  And.intro i (nm_r (fs_up (by omega) (fs_nb (by omega))) (br_t rfl (And.intro i (nm_r (fs_up (by omega) (fs_nb (by omega))) H))))
theorem fs_154t {post : SX → Prop} {k : Nat} (hb : b < 48) (hk : k ≤ 12) (H : post (len, hgt, pc, st, ct, bcn, cen, dpn, op, ag, m, fl, bo, bs, upd bu b (nI (k + 1)), upd bd b (nI k), cd, tg, lf, rt, hm)) : wX_translate_154 post (nI b) (nI k) 1 len hgt pc st ct bcn cen dpn op ag m fl bo bs bu bd cd tg lf rt hm :=
  have i : vp_in (nI b) 48 := fs_in hb (by decide)
  And.intro i (nm_r (fs_up (by omega) (fs_nb (by omega))) (br_f (by decide) (And.intro i (nm_r (fs_up (by omega) (by rw [nI_1, fs_nb (by omega)])) H))))
theorem fs_43o {post : SX → Prop} {x4 : Int32} {k : Nat} (hb : b < 48) (hk : k ≤ 12) (H : post (len, hgt, pc, st, ct, bcn, cen, dpn, op, ag, m, fl, bo, bs, upd bu b (nI k), upd bd b (nI k), cd, tg, lf, rt, hm)) (n : Nat) : wX_translate_43 post (nI b) (n + 1) x4 (nI k) 0 0 len hgt pc st ct bcn cen dpn op ag m fl bo bs bu bd cd tg lf rt hm :=
  br_t rfl (br_t rfl (fs_154 hb hk H))
theorem fs_43t {post : SX → Prop} {x4 : Int32} {k : Nat} (hb : b < 48) (hk : k ≤ 12) (H : post (len, hgt, pc, st, ct, bcn, cen, dpn, op, ag, m, fl, bo, bs, upd bu b (nI (k + 1)), upd bd b (nI k), cd, tg, lf, rt, hm)) (n : Nat) : wX_translate_43 post (nI b) (n + 1) x4 (nI k) 0 1 len hgt pc st ct bcn cen dpn op ag m fl bo bs bu bd cd tg lf rt hm :=
  br_t rfl (br_t rfl (fs_154t hb hk H))
theorem fs_89 {post : SX → Prop} {k ce d p : Nat} (hb : b < 48) (hk : k ≤ 12) (hc : ce + 25 ≤ 640) (n : Nat) (hf : L ≤ p ∨ fs_fb (op p).toNatClampNeg (ag p).toNatClampNeg d = true)
    (I : fs_TI L op ag p0 d0 S K0 k ce (cd, tg, lf, rt) d p hm)
    (H : ∀ (T D ce' : Nat) (dn' : Int32) (cd' tg' lf' rt' hm' : Nat → Int32), 1 ≤ T → T ≤ 13 → fs_OK L op ag p0 d0 S K0 T D ce' (cd', tg', lf', rt') → post (nI L, hgt, pc, st, ct, bcn, nI ce', dn', op, ag, m, fl, bo, bs, upd bu b (nI T), upd bd b (nI D), cd', tg', lf', rt', hm')) :
    wX_translate_89 post (wX_translate_43 post (nI b) (n + 1)) (nI b) (nI p) (nI k) (nI L) hgt pc st ct bcn (nI ce) (nI d) op ag m fl bo bs bu bd cd tg lf rt hm := by
  obtain ⟨g, hd, hp, hg, hi, E⟩ := I
  refine fs_st (ce := ce) (d := d) (g := g) hd (by omega) hg hi (fun ce' cd' tg' lf' rt' hm' G hG => ?_)
  have E2 := fs_fin E G
  refine fs_w (o := 11) (by decide) (by omega) (by omega) (by omega) ?_
  exact fs_43t hb hk (H (k + 1) k (ce' + 1) _ _ _ _ _ _ (by omega) (by omega) (fs_OK_mk E2 (fs_end_trap E2 hd hp hf) (by omega))) n
theorem fs_43 {post : SX → Prop} (hv : ∀ i, i < L → fs_VI (op i) (ag i)) (hL : L ≤ 32) (hb : b < 48) (hS : S ≤ 600)
    (H : ∀ (T D ce' : Nat) (dn' : Int32) (cd' tg' lf' rt' hm' : Nat → Int32), 1 ≤ T → T ≤ 13 → fs_OK L op ag p0 d0 S K0 T D ce' (cd', tg', lf', rt') → post (nI L, hgt, pc, st, ct, bcn, nI ce', dn', op, ag, m, fl, bo, bs, upd bu b (nI T), upd bd b (nI D), cd', tg', lf', rt', hm')) :
    ∀ (r k : Nat), k + r = 12 → ∀ (ce d p : Nat) (cd tg lf rt hm : Nat → Int32), fs_TI L op ag p0 d0 S K0 k ce (cd, tg, lf, rt) d p hm → ce ≤ S + k → ∀ n, r + 1 < n →
    wX_translate_43 post (nI b) n (nI p) (nI k) 1 0 (nI L) hgt pc st ct bcn (nI ce) (nI d) op ag m fl bo bs bu bd cd tg lf rt hm := by
  intro r
  induction r with
  | zero =>
    intro k hk ce d p cd tg lf rt hm I hc n hn
    obtain ⟨n, rfl⟩ : ∃ n', n = n' + 1 := ⟨n - 1, by omega⟩
    have : k = 12 := by omega
    subst this
    obtain ⟨g, hd, hp, hg, hi, E⟩ := I
    refine br_f (by decide) (br_t (by decide) (br_f (by decide) ?_))
    refine fs_st (ce := ce) (d := d) (g := g) hd (by omega) hg hi (fun ce' cd' tg' lf' rt' hm' G hG => ?_)
    have E2 := fs_fin E G
    refine fs_w (o := 7) (by decide) (by omega) (by omega) (by omega) ?_
    exact fs_154 hb (by decide) (H 12 12 (ce' + 1) _ _ _ _ _ _ (by decide) (by decide) (fs_OK_mk E2 (fs_end_go E2 hd hp) (by omega)))
  | succ r ih =>
    intro k hk ce d p cd tg lf rt hm I hc n hn
    obtain ⟨n, rfl⟩ : ∃ n', n = n' + 1 + 1 := ⟨n - 2, by omega⟩
    refine br_f (by decide) (br_f (nI_ge (b := 12) (by omega) (by decide)) ?_)
    have hd : d ≤ 8 := by obtain ⟨g, hd, hp, hg, hi, E⟩ := I; exact hd
    have hp : p ≤ 32 := by obtain ⟨g, hd, hp, hg, hi, E⟩ := I; exact hp
    by_cases hq : L ≤ p
    · exact br_t (nI_le hq (by omega)) (fs_89 hb (by omega) (by omega) n (Or.inl hq) I H)
    · have hpL : p < L := by omega
      have hin : vp_in (nI p) 32 := fs_in (by omega) (by decide)
      refine br_f (nI_ge (by omega) (by omega)) (And.intro hin (And.intro hin ?_))
      rw [fs_cl (n := p) (by omega)]
      refine fs_Xfl (hv p hpL) hd (fun q => br_f (by decide) (fs_89 hb (by omega) (by omega) n (Or.inr q) I H)) (fun q => br_t rfl (nm_r (nI_1 k) ?_))
      refine fs_one (hv p hpL) hpL hL (by omega) q I (fun ce' d' cd' tg' lf' rt' hm' I' hc' => nm_r (nI_1 p) ?_) (fun ce' d' cd' tg' lf' rt' hm' O => nm_r (nI_1 p) ?_)
      · exact ih (k + 1) (by omega) ce' d' (p + 1) cd' tg' lf' rt' hm' I' (by omega) (n + 1) (by omega)
      · exact fs_43o hb (by omega) (H (k + 1) (k + 1) ce' _ _ _ _ _ _ (by omega) (by omega) O) n
theorem fs_8 {post : SX → Prop} (hv : ∀ i, i < L → fs_VI (op i) (ag i)) (hL : L ≤ 32) (hb : b < 48) (hS : S ≤ 600) (hd : d0 ≤ 8) (hp : p0 ≤ 32)
    (H : ∀ (T D ce' : Nat) (dn' : Int32) (cd' tg' lf' rt' hm' : Nat → Int32), 1 ≤ T → T ≤ 13 → fs_OK L op ag p0 d0 S (cd, tg, lf, rt) T D ce' (cd', tg', lf', rt') → post (nI L, hgt, pc, st, ct, bcn, nI ce', dn', op, ag, m, fl, bo, bs, upd bu b (nI T), upd bd b (nI D), cd', tg', lf', rt', hm')) :
    ∀ (r h : Nat) (hm : Nat → Int32), h + r = 8 → (∀ i, i < h → hm i = nI i) → wX_translate_8 post (nI b) (nI p0) (nI L) hgt pc st ct bcn (nI S) (nI d0) (r + 1) (nI h) op ag m fl bo bs bu bd cd tg lf rt hm := by
  intro r
  induction r with
  | zero =>
    intro h hm hh h1
    have : h = 8 := by omega
    subst this
    refine br_t (by decide) ⟨14, ?_⟩
    refine fs_43 hv hL hb hS H 12 0 (by decide) S d0 p0 cd tg lf rt hm ⟨fun h => h, hd, hp, fun h hh => ⟨h1 h (by omega), by show h < 8; omega⟩, fun i j _ _ e => e, fs_EX_rf ?_⟩ (by omega) 14 (by decide)
    intro F s c hs
    refine ⟨s, ?_, hs⟩
    show (d0, p0, (0 : Int32), c, s, F.2) = (d0, p0, 0, c + nI 0, s, F.2)
    rw [nI_0, Int32.add_zero]
  | succ r ih =>
    intro h hm hh h1
    refine br_f (nI_ge (b := 8) (by omega) (by decide)) (And.intro (fs_in (by omega) (by decide)) (nm_r (fs_up (by omega) (fs_nb (by omega))) (nm_r (nI_1 h) ?_)))
    refine ih (h + 1) (upd hm h (nI h)) (by omega) (fun i hi => ?_)
    by_cases q : i = h
    · subst q; exact pk_us
    · rw [pk_un q]; exact h1 i (by omega)
theorem fs_tr {post : SX → Prop} (hv : ∀ i, i < L → fs_VI (op i) (ag i)) (hL : L ≤ 32) (hb : b < 48) (hS : S ≤ 600) (hd : d0 ≤ 8) (hp : p0 ≤ 32)
    (H : ∀ (T D ce' : Nat) (dn' : Int32) (cd' tg' lf' rt' hm' : Nat → Int32), 1 ≤ T → T ≤ 13 → fs_OK L op ag p0 d0 S (cd, tg, lf, rt) T D ce' (cd', tg', lf', rt') → post (nI L, hgt, pc, st, ct, bcn, nI ce', dn', op, ag, m, fl, bo, bs, upd bu b (nI T), upd bd b (nI D), cd', tg', lf', rt', hm')) :
    wpX_translate post (nI L, hgt, pc, st, ct, bcn, nI S, dpn, op, ag, m, fl, bo, bs, bu, bd, cd, tg, lf, rt, hm) (nI b) (nI p0) (nI d0) :=
  ⟨9, fs_8 hv hL hb hS hd hp H 8 0 hm rfl (fun i a => absurd a (by omega))⟩
end
/-! the table with a new block -/
theorem fs_BT_new {L : Nat} {op ag : Nat → Int32} {bc ce ce' p d T D : Nat} {bo bs bu bd : Nat → Int32} {K K' : fs_K} (hT : fs_BT L op ag bc ce bo bs bu bd K) (hb : bc < 48) (hd : d ≤ 8) (hp : p ≤ 32) (h1 : 1 ≤ T) (h2 : T ≤ 13)
    (O : fs_OK L op ag p d ce K T D ce' K') : fs_BT L op ag (bc + 1) ce' (upd bo (9 * p + d) (nI bc)) (upd bs bc (nI ce)) (upd bu bc (nI T)) (upd bd bc (nI D)) K' := by
  obtain ⟨O1, O2, O3, O4⟩ := O
  refine ⟨by omega, O4, fun p' d' hp' hd' => ?_⟩
  by_cases q : 9 * p' + d' = 9 * p + d
  · have e1 : p' = p := by omega
    have e2 : d' = d := by omega
    subst e1 e2
    exact Or.inr ⟨bc, ce, T, by omega, pk_us, pk_us, pk_us, h1, h2, by rw [pk_us]; exact O1⟩
  · rw [pk_un q]
    rcases hT.2.2 p' d' hp' hd' with z | ⟨b, S, T', b1, b2, b3, b4, b5, b6, b7⟩
    · exact Or.inl z
    · have ne : b ≠ bc := by omega
      exact Or.inr ⟨b, S, T', by omega, b2, (pk_un ne).trans b3, (pk_un ne).trans b4, b5, b6, by rw [pk_un ne]; exact fs_BK_keep b7 O3 O2⟩
theorem fs_BT_0 {L : Nat} {op ag : Nat → Int32} {bo bs bu bd : Nat → Int32} {K : fs_K} (h : ∀ i, i < 297 → bo i = -1) : fs_BT L op ag 0 0 bo bs bu bd K :=
  ⟨by decide, by decide, fun p d hp hd => Or.inl (h _ (by omega))⟩
section
variable {len hgt pc st ct bcn cen dpn : Int32} {op ag m fl bo bs bu bd cd tg lf rt hm : Nat → Int32}
variable {L p d : Nat}
theorem fs_46 {post : Int32 → SX → Prop} {bc ce : Nat} (hv : ∀ i, i < L → fs_VI (op i) (ag i)) (hL : L ≤ 32) (hd : d ≤ 8) (hp : p ≤ 32) (hT : fs_BT L op ag bc ce bo bs bu bd (cd, tg, lf, rt)) (hb : bc < 48) (hc : ce ≤ 600)
    (H : ∀ (b S T bc' ce' : Nat) (dn' : Int32) (bo' bs' bu' bd' cd' tg' lf' rt' hm' : Nat → Int32), fs_BT L op ag bc' ce' bo' bs' bu' bd' (cd', tg', lf', rt') → b < 48 → bs' b = nI S → bu' b = nI T → 1 ≤ T → T ≤ 13 → fs_BK L op ag p d S T (bd' b) ce' (cd', tg', lf', rt') →
      post (nI b) (nI L, hgt, pc, st, ct, nI bc', nI ce', dn', op, ag, m, fl, bo', bs', bu', bd', cd', tg', lf', rt', hm')) :
    wX_blockAt_46 post (nI p) (nI d) (nI (9 * p + d)) (nI L) hgt pc st ct (nI bc) (nI ce) dpn op ag m fl bo bs bu bd cd tg lf rt hm := by
  refine nm_r (nI_1 bc) (And.intro (fs_in (by omega) (by decide)) (nm_r (fs_up (by omega) (fs_ns (by omega))) (And.intro (fs_in hb (by decide)) (nm_r (fs_up (by omega) (fs_ns (by omega))) ?_))))
  refine fs_tr hv hL hb hc hd hp (fun T D ce' dn' cd' tg' lf' rt' hm' h1 h2 O => ?_)
  refine H bc ce T (bc + 1) ce' _ _ _ _ _ _ _ _ _ _ (fs_BT_new hT hb hd hp h1 h2 O) hb pk_us pk_us h1 h2 ?_
  rw [pk_us]; exact O.1
theorem fs_ba {post : Int32 → SX → Prop} {bc ce : Nat} (hv : ∀ i, i < L → fs_VI (op i) (ag i)) (hL : L ≤ 32) (hd : d ≤ 8) (hp : p ≤ 32) (hT : fs_BT L op ag bc ce bo bs bu bd (cd, tg, lf, rt))
    (H : ∀ (b S T bc' ce' : Nat) (dn' : Int32) (bo' bs' bu' bd' cd' tg' lf' rt' hm' : Nat → Int32), fs_BT L op ag bc' ce' bo' bs' bu' bd' (cd', tg', lf', rt') → b < 48 → bs' b = nI S → bu' b = nI T → 1 ≤ T → T ≤ 13 → fs_BK L op ag p d S T (bd' b) ce' (cd', tg', lf', rt') →
      post (nI b) (nI L, hgt, pc, st, ct, nI bc', nI ce', dn', op, ag, m, fl, bo', bs', bu', bd', cd', tg', lf', rt', hm')) :
    wpX_blockAt post (nI L, hgt, pc, st, ct, nI bc, nI ce, dpn, op, ag, m, fl, bo, bs, bu, bd, cd, tg, lf, rt, hm) (nI p) (nI d) := by
  have ek : (9 : Int32) * nI p + nI d = nI (9 * p + d) := by
    show nI 9 * nI p + nI d = _
    rw [pk_mul, nI_add]
  have ik : vp_in (nI (9 * p + d)) 297 := fs_in (by omega) (by decide)
  have hT' := hT
  obtain ⟨t1, t2, t3⟩ := hT'
  refine nm_r ek (And.intro ik ?_)
  rw [fs_cl (n := 9 * p + d) (by omega)]
  have h42 : wX_blockAt_42 post (nI p) (nI d) (nI (9 * p + d)) (nI L) hgt pc st ct (nI bc) (nI ce) dpn op ag m fl bo bs bu bd cd tg lf rt hm :=
    fs_fg (fun bo' h => fs_46 (bc := 0) (ce := 0) hv hL hd hp (fs_BT_0 h) (by decide) (by decide) H)
  rcases t3 p d hp hd with z | ⟨b, S, T, b1, b2, b3, b4, b5, b6, b7⟩
  · rw [z]
    refine br_t (by decide) (pk_le 48 bc (fun _ => h42) (fun q => pk_le ce 600 (fun q' => ?_) (fun _ => h42)))
    exact fs_46 hv hL hd hp hT q q' H
  · rw [b2]
    exact br_f (fs_nm1 b (by omega)) (And.intro ik (H b S T bc ce _ _ _ _ _ _ _ _ _ _ hT (by omega) b3 b4 b5 b6 b7))
end
end
section
/-! ===== the component: work, execute, run ===== -/
section
variable {len hgt pc st ct bcn cen dpn : Int32} {op ag m fl bo bs bu bd cd tg lf rt hm : Nat → Int32}
theorem fs_wrk {post : SX → Prop} {at' : Nat} (hat : at' < 640) (hW : fs_WK (cd at') (tg at') (lf at') (rt at'))
    (H : post (len, hgt, pc, st, ct, bcn, cen, dpn, op, ag, (fs_wk (cd at') (tg at') (lf at') (rt at') (fl, m)).2, (fs_wk (cd at') (tg at') (lf at') (rt at') (fl, m)).1, bo, bs, bu, bd, cd, tg, lf, rt, hm)) : wpX_work post (len, hgt, pc, st, ct, bcn, cen, dpn, op, ag, m, fl, bo, bs, bu, bd, cd, tg, lf, rt, hm) (nI at') := by
  have hin : vp_in (nI at') 640 := fs_in hat (by decide)
  obtain ⟨o, x, y, z, ho, hx, hy, hz, e1, e2, e3, e4, e5, e6⟩ := hW
  have ix : vp_in (nI x) 10 := fs_in hx (by decide)
  have iy : vp_in (nI y) 10 := fs_in hy (by decide)
  have iz : vp_in (nI z) 10 := fs_in hz (by decide)
  unfold wpX_work
  dsimp only
  rw [fs_cl (n := at') (by omega)]
  rw [e1, e2, e3] at H
  refine And.intro hin (nm_r e1 (And.intro hin (nm_r e2 (And.intro hin (nm_r e3 (And.intro hin ?_))))))
  have K : o = 0 ∨ o = 1 ∨ o = 2 ∨ o = 3 ∨ o = 4 ∨ o = 5 ∨ o = 6 := by clear e4 e5 e6; omega
  rcases K with rfl | rfl | rfl | rfl | rfl | rfl | rfl
  · rw [fs_wk0 hx] at H
    exact nm_e (br_t (by decide) (And.intro ix (nm_r (fs_up (by omega) rfl) H)))
  · rw [fs_wk1 hx hy] at H
    refine nm_e (br_f (by decide) (br_t (by decide) (And.intro iy (And.intro ix (nm_r (fs_up (by omega) ?_) H)))))
    rw [fs_cl (by omega)]
  · rw [e4 (by decide) (by decide), fs_wk2 hx hy hz] at H
    refine nm_r (e4 (by decide) (by decide)) (br_f (by decide) (br_f (by decide) (br_t (by decide) (And.intro iy (And.intro iz (And.intro ix (nm_r (fs_up (by omega) ?_) H)))))))
    rw [fs_cl (by omega), fs_cl (by omega)]
  · rw [e4 (by decide) (by decide), fs_wk3 hx hy hz] at H
    refine nm_r (e4 (by decide) (by decide)) (br_f (by decide) (br_f (by decide) (br_f (by decide) (br_t (by decide) (And.intro iy (And.intro iz (And.intro ix (nm_r (fs_up (by omega) ?_) H))))))))
    rw [fs_cl (by omega), fs_cl (by omega)]
  · rw [e4 (by decide) (by decide), fs_wk4 hx hy hz] at H
    refine nm_r (e4 (by decide) (by decide)) (br_f (by decide) (br_f (by decide) (br_f (by decide) (br_f (by decide) (br_t (by decide) (And.intro iy (And.intro iz (And.intro ix (nm_r (fs_up (by omega) ?_) H)))))))))
    rw [fs_cl (by omega), fs_cl (by omega)]
  · rw [fs_wk5 hx hy] at H
    refine nm_e (br_f (by decide) (br_f (by decide) (br_f (by decide) (br_f (by decide) (br_f (by decide) (br_t (by decide) (And.intro (fs_in (e5 rfl) (by decide)) (And.intro ix (nm_r (fs_up (by omega) ?_) H)))))))))
    rw [fs_cl (by omega)]
  · rw [fs_wk6 hx hy] at H
    refine nm_e (br_f (by decide) (br_f (by decide) (br_f (by decide) (br_f (by decide) (br_f (by decide) (br_f (by decide) (And.intro iy (And.intro (fs_in (e6 rfl) (by decide)) (nm_r (fs_up (by omega) ?_) H)))))))))
    rw [fs_cl (by omega)]
/-- the instruction that leaves the block -/
theorem fs_32 {post : SX → Prop} {e : Nat} {c : Int32} {M : fs_M} (he : e < 640) (hM : fs_TM (cd e) (tg e) (lf e) (rt e) (fl, m) c M)
    (H : ∀ (d' p' : Nat) (st' : Int32) (s' : Nat → Int32), M = (d', p', st', c, s', m) → d' ≤ 8 → p' ≤ 32 → (∀ h, h < d' → fl h = s' h) → post (len, nI d', nI p', st', c, bcn, cen, dpn, op, ag, m, fl, bo, bs, bu, bd, cd, tg, lf, rt, hm)) :
    wX_execute_32 post (nI e) len hgt pc 0 c bcn cen dpn op ag m fl bo bs bu bd cd tg lf rt hm := by
  have hin : vp_in (nI e) 640 := fs_in he (by decide)
  obtain ⟨d, p, st', s, eM, hd, hp, ey, hs, hc⟩ := hM
  have HH := H d p st' s eM hd hp hs
  unfold wX_execute_32
  rw [fs_cl (n := e) (by omega)]
  rcases hc with ⟨eo, ex, es⟩ | ⟨eo, ex, es⟩ | ⟨eo, ex, es⟩ | ⟨eo, ex, es⟩ | ⟨eo, ex, es⟩
  · subst es
    refine And.intro hin (nm_r eo (And.intro hin (nm_r ey (And.intro hin (nm_r ex ?_)))))
    exact br_f (by decide) (br_f (by decide) (br_f (by decide) (br_f (by decide) HH)))
  · subst es
    refine And.intro hin (nm_r eo (And.intro hin (nm_r ey (And.intro hin ?_))))
    by_cases z : fl 8 = 0
    · rw [if_pos z] at ex
      exact nm_e (br_t (by decide) (br_t z (And.intro hin (nm_r ex (br_f (by decide) (br_f (by decide) (br_f (by decide) HH)))))))
    · rw [if_neg z] at ex
      exact nm_r ex (br_t (by decide) (br_f z (br_f (by decide) (br_f (by decide) (br_f (by decide) HH)))))
  · subst es
    refine And.intro hin (nm_r eo (And.intro hin (nm_r ey (And.intro hin ?_))))
    by_cases z : 0 ≤ fl 8
    · rw [if_pos z] at ex
      exact nm_r ex (br_f (by decide) (br_t (by decide) (br_t z (br_f (by decide) (br_f (by decide) HH)))))
    · rw [if_neg z] at ex
      refine nm_e (br_f (by decide) ?_)
      unfold wX_execute_85
      rw [fs_cl (n := e) (by omega)]
      exact br_t (by decide) (br_f z (And.intro hin (nm_r ex (br_f (by decide) (br_f (by decide) HH)))))
  · subst es
    refine And.intro hin (nm_r eo (And.intro hin (nm_r ey (And.intro hin (nm_r ex ?_)))))
    exact br_f (by decide) (br_f (by decide) (br_t (by decide) (br_f (by decide) HH)))
  · subst es
    refine And.intro hin (nm_r eo (And.intro hin (nm_r ey (And.intro hin (nm_r ex ?_)))))
    exact br_f (by decide) (br_f (by decide) (br_f (by decide) (br_t (by decide) HH)))
theorem fs_TM_ge {o x y z : Int32} {F : fs_F} {c : Int32} {M : fs_M} (h : fs_TM o x y z F c M) : 7 ≤ o := by
  obtain ⟨d, p, st', s, eM, hd, hp, ey, hs, hc⟩ := h
  rcases hc with ⟨eo, _⟩ | ⟨eo, _⟩ | ⟨eo, _⟩ | ⟨eo, _⟩ | ⟨eo, _⟩ <;> (rw [eo]; decide)
theorem fs_ex {post : SX → Prop} {L p d S T ce : Nat} {D c : Int32} {s : Nat → Int32} (hB : fs_BK L op ag p d S T D ce (cd, tg, lf, rt)) (hc : ce ≤ 640) (hs : ∀ h, h < d → fl h = s h)
    (H : ∀ (d' p' : Nat) (st' : Int32) (s' m' fl' : Nat → Int32), fs_itr L op ag T (d, p, 0, c, s, m) = (d', p', st', c + D, s', m') → d' ≤ 8 → p' ≤ 32 → (∀ h, h < d' → fl' h = s' h) → post (len, nI d', nI p', st', c + D, bcn, nI ce, dpn, op, ag, m', fl', bo, bs, bu, bd, cd, tg, lf, rt, hm)) :
    wpX_execute post (len, hgt, pc, 0, c + D, bcn, nI ce, dpn, op, ag, m, fl, bo, bs, bu, bd, cd, tg, lf, rt, hm) (nI S) := by
  obtain ⟨e, h1, h2, h3, h4⟩ := hB
  have hM := h4 fl m s c hs
  have step : ∀ (r j : Nat), j + r = e - S → wX_execute_2 post (r + 1) (nI (S + j)) len hgt pc 0 (c + D) bcn (nI ce) dpn op ag ((fs_sg (cd, tg, lf, rt) S j (fl, m)).2) ((fs_sg (cd, tg, lf, rt) S j (fl, m)).1) bo bs bu bd cd tg lf rt hm := by
    intro r
    induction r with
    | zero =>
      intro j hj
      have ej : S + j = e := by omega
      have ej' : j = e - S := by omega
      subst ej'
      rw [ej]
      refine br_f (nI_ge (by omega) (by omega)) (And.intro (fs_in (by omega) (by decide)) ?_)
      rw [fs_cl (n := e) (by omega)]
      refine br_t (fs_TM_ge hM) ?_
      exact fs_32 (by omega) hM (fun d' p' st' s' eM a b c' => H d' p' st' s' _ _ eM a b c')
    | succ r ih =>
      intro j hj
      have W := h3 (S + j) (by omega) (by omega)
      refine br_f (nI_ge (by omega) (by omega)) (And.intro (fs_in (by omega) (by decide)) ?_)
      rw [fs_cl (n := S + j) (by omega)]
      refine br_f ?_ ?_
      · obtain ⟨o, x, y, z, ho, hx, hy, hz, e1, _⟩ := W
        rw [show cd (S + j) = nI o from e1]
        exact nI_ge (b := 7) (by omega) (by decide)
      · exact fs_wrk (by omega) W (nm_r (nI_1 (S + j)) (ih (j + 1) (by omega)))
  exact ⟨e - S + 1, step (e - S) 0 (by omega)⟩
theorem fs_Xrun {post : Int32 → SX → Prop} {L : Nat} (hv : ∀ i, i < L → fs_VI (op i) (ag i)) (hL : L ≤ 32) : ∀ (n r : Nat), r < n → r ≤ 200 →
    ∀ (d p bc ce : Nat) (st c dpn : Int32) (s m fl bo bs bu bd cd tg lf rt hm : Nat → Int32), d ≤ 8 → p ≤ 32 → (∀ h, h < d → fl h = s h) → fs_BT L op ag bc ce bo bs bu bd (cd, tg, lf, rt) →
    (∀ (d' p' bc' ce' : Nat) (st' c' dn' : Int32) (s' m' fl' bo' bs' bu' bd' cd' tg' lf' rt' hm' : Nat → Int32), fs_itr L op ag r (d, p, st, c, s, m) = (d', p', st', c', s', m') → d' ≤ 8 → p' ≤ 32 → (∀ h, h < d' → fl' h = s' h) → fs_BT L op ag bc' ce' bo' bs' bu' bd' (cd', tg', lf', rt') →
      post st' (nI L, nI d', nI p', st', c', nI bc', nI ce', dn', op, ag, m', fl', bo', bs', bu', bd', cd', tg', lf', rt', hm')) →
    wX_run_23 post n (nI r) (nI L) (nI d) (nI p) st c (nI bc) (nI ce) dpn op ag m fl bo bs bu bd cd tg lf rt hm := by
  intro n
  induction n with
  | zero => intro r h; exact absurd h (by omega)
  | succ n ih =>
    intro r hr hr2 d p bc ce st c dpn s m fl bo bs bu bd cd tg lf rt hm hd hp hs hT H
    rcases Nat.eq_zero_or_pos r with z | z
    · subst z
      exact br_t (by decide) (H d p bc ce st c dpn s m fl bo bs bu bd cd tg lf rt hm rfl hd hp hs hT)
    · refine br_f (nI_nle z (by omega)) ?_
      by_cases w : st = 0
      · subst w
        refine br_t rfl (fs_ba hv hL hd hp hT (fun b S T bc' ce' dn' bo' bs' bu' bd' cd' tg' lf' rt' hm' hT' hb eS eT t1 t2 hB => ?_))
        have ib : vp_in (nI b) 48 := fs_in hb (by decide)
        refine And.intro ib ?_
        rw [fs_cl (n := b) (by omega), eT, eS]
        refine pk_lt r T (fun q => ?_) (fun q => ?_)
        · obtain ⟨r, rfl⟩ : ∃ r', r = r' + 1 := ⟨r - 1, by omega⟩
          refine nm_r (pk_m1 r) (fs_Xat hv hL hd hp hs (fun d2 p2 st2 c2 s2 m2 fl2 e g1 g2 g3 => ?_))
          refine ih r (by omega) (by omega) d2 p2 bc' ce' st2 c2 _ s2 m2 fl2 _ _ _ _ _ _ _ _ _ g1 g2 g3 hT' ?_
          intro d3 p3 bc3 ce3 st3 c3 dn3 s3 m3 fl3 bo3 bs3 bu3 bd3 cd3 tg3 lf3 rt3 hm3 e3
          refine H d3 p3 bc3 ce3 st3 c3 dn3 s3 m3 fl3 bo3 bs3 bu3 bd3 cd3 tg3 lf3 rt3 hm3 ?_
          rw [fs_itr_add r 1]
          show fs_itr L op ag r (fs_at L op ag (d, p, 0, c, s, m)) = _
          rw [e, e3]
        · refine And.intro ib (nm_r (pk_sub q) (And.intro ib (nm_e (And.intro ib ?_))))
          refine fs_ex (s := s) hB hT'.2.1 hs (fun d2 p2 st2 s2 m2 fl2 e g1 g2 g3 => ?_)
          refine ih (r - T) (by omega) (by omega) d2 p2 bc' ce' st2 _ _ s2 m2 fl2 _ _ _ _ _ _ _ _ _ g1 g2 g3 hT' ?_
          intro d3 p3 bc3 ce3 st3 c3 dn3 s3 m3 fl3 bo3 bs3 bu3 bd3 cd3 tg3 lf3 rt3 hm3 e3
          refine H d3 p3 bc3 ce3 st3 c3 dn3 s3 m3 fl3 bo3 bs3 bu3 bd3 cd3 tg3 lf3 rt3 hm3 ?_
          have er : r = (r - T) + T := by omega
          rw [er, fs_itr_add, e, e3]
      · exact br_f w (H d p bc ce st c dpn s m fl bo bs bu bd cd tg lf rt hm (fs_itr_stop w _) hd hp hs hT)
end
end
section
/-! ===== both sides: is it an instruction ===== -/
section
variable {len hgt pc st ct bcn cen dpn : Int32} {op ag m fl bo bs bu bd cd tg lf rt hm sk : Nat → Int32}
theorem fs_isI {post : Int32 → Prop} {x a : Int32} (H1 : fs_VI x a → post 1) (H0 : ¬ fs_VI x a → post 0) : wpX_isInstruction post (len, hgt, pc, st, ct, bcn, cen, dpn, op, ag, m, fl, bo, bs, bu, bd, cd, tg, lf, rt, hm) x a := by
  have l0 : (0 : Int32).toInt = 0 := by decide
  have l1 : (1 : Int32).toInt = 1 := by decide
  have l7 : (7 : Int32).toInt = 7 := by decide
  have l8 : (8 : Int32).toInt = 8 := by decide
  have l10 : (10 : Int32).toInt = 10 := by decide
  have l13 : (13 : Int32).toInt = 13 := by decide
  have l31 : (31 : Int32).toInt = 31 := by decide
  unfold wpX_isInstruction
  dsimp only
  simp only [Int32.le_iff_toInt_le, Int32.lt_iff_toInt_lt, ← Int32.toInt_inj, l0, l1, l7, l8, l10, l13, l31]
  unfold fs_VI at H1 H0
  repeat' refine br_c (fun _ => ?_) (fun _ => ?_)
  all_goals first
    | exact H1 (by omega)
    | exact H0 (by omega)
theorem fs_fit {post : Int32 → Prop} {x a : Int32} (H1 : fs_VI x a → post 1) (H0 : ¬ fs_VI x a → post 0) : wpY_fits post (len, hgt, pc, ct, st, op, ag, sk, m) x a := by
  have l0 : (0 : Int32).toInt = 0 := by decide
  have l1 : (1 : Int32).toInt = 1 := by decide
  have l7 : (7 : Int32).toInt = 7 := by decide
  have l8 : (8 : Int32).toInt = 8 := by decide
  have l9 : (9 : Int32).toInt = 9 := by decide
  have l10 : (10 : Int32).toInt = 10 := by decide
  have l12 : (12 : Int32).toInt = 12 := by decide
  have l13 : (13 : Int32).toInt = 13 := by decide
  have l31 : (31 : Int32).toInt = 31 := by decide
  unfold wpY_fits wY_fits_39 wY_fits_51
  dsimp only
  simp only [Int32.le_iff_toInt_le, Int32.lt_iff_toInt_lt, ← Int32.toInt_inj, l0, l1, l7, l8, l9, l10, l12, l13, l31]
  unfold fs_VI at H1 H0
  repeat' refine br_c (fun _ => ?_) (fun _ => ?_)
  all_goals first
    | exact H1 (by omega)
    | exact H0 (by omega)
theorem fs_VIb {x a : Int32} (h : fs_VI x a) : vp_nar .byte x.toInt8.toInt32 = x := by
  obtain ⟨o, ho, rfl, _⟩ := fs_int (n := 13) h.1 h.2.1
  exact fs_nb (by omega)
theorem fs_VIu {L j N : Nat} {x a : Int32} (hv : ∀ i, i < L → fs_VI (op i) (ag i)) (h : fs_VI x a) (hN : ∀ i, i < N → i ≠ j → i < L) : ∀ i, i < N → fs_VI (upd op j x i) (upd ag j a i) := by
  intro i hi
  by_cases q : i = j
  · subst q; rw [pk_us, pk_us]; exact h
  · rw [pk_un q, pk_un q]; exact hv i (hN i hi q)
end
end
section
/-! ===== what is owed ===== -/
def fs_RF (L d p bc ce : Nat) (op ag fl bo bs bu bd cd tg lf rt sk : Nat → Int32) : Prop :=
  L ≤ 32 ∧ d ≤ 8 ∧ p ≤ 32 ∧ (∀ i, i < L → fs_VI (op i) (ag i)) ∧ (∀ i, i < d → sk i = fl (d - 1 - i)) ∧ fs_BT L op ag bc ce bo bs bu bd (cd, tg, lf, rt)
/-- the relation at the head of a turn: the program, the cells, height, place, status and count are the same; the stack lies upside down in the registers; every block of the table does what its instructions do -/
def i_Rel (k : Nat) (u : SX) (v : SY) : Prop :=
  ∃ (L d p bc ce : Nat) (st ct dpn : Int32) (op ag m fl bo bs bu bd cd tg lf rt hm sk : Nat → Int32),
    u = (nI L, nI d, nI p, st, ct, nI bc, nI ce, dpn, op, ag, m, fl, bo, bs, bu, bd, cd, tg, lf, rt, hm) ∧ v = (nI L, nI d, nI p, ct, st, op, ag, sk, m) ∧ fs_RF L d p bc ce op ag fl bo bs bu bd cd tg lf rt sk
theorem fs_mk (k : Nat) {L d p bc ce : Nat} {st ct dpn : Int32} {op ag m fl bo bs bu bd cd tg lf rt hm sk : Nat → Int32} (h : fs_RF L d p bc ce op ag fl bo bs bu bd cd tg lf rt sk) :
    i_Rel k (nI L, nI d, nI p, st, ct, nI bc, nI ce, dpn, op, ag, m, fl, bo, bs, bu, bd, cd, tg, lf, rt, hm) (nI L, nI d, nI p, ct, st, op, ag, sk, m) :=
  ⟨L, d, p, bc, ce, st, ct, dpn, op, ag, m, fl, bo, bs, bu, bd, cd, tg, lf, rt, hm, sk, rfl, rfl, h⟩
theorem fs_elim {k : Nat} {u : SX} {v : SY} {P : SX → SY → Prop}
    (h : ∀ (L d p bc ce : Nat) (st ct dpn : Int32) (op ag m fl bo bs bu bd cd tg lf rt hm sk : Nat → Int32), fs_RF L d p bc ce op ag fl bo bs bu bd cd tg lf rt sk → P (nI L, nI d, nI p, st, ct, nI bc, nI ce, dpn, op, ag, m, fl, bo, bs, bu, bd, cd, tg, lf, rt, hm) (nI L, nI d, nI p, ct, st, op, ag, sk, m))
    (I : i_Rel k u v) : P u v := by
  obtain ⟨L, d, p, bc, ce, st, ct, dpn, op, ag, m, fl, bo, bs, bu, bd, cd, tg, lf, rt, hm, sk, eu, ev, hr⟩ := I
  rw [eu, ev]
  exact h L d p bc ce st ct dpn op ag m fl bo bs bu bd cd tg lf rt hm sk hr
theorem i_up {k : Nat} {u : SX} {v : SY} (h : i_Rel k u v) : i_Rel (k + 4) u v := h
theorem i_vc0 : wpX_init (fun u => wpY_init (fun v => i_Rel 0 u v)) := by
  refine fs_fg (fun bo' hb => ?_)
  exact fs_mk 0 (L := 0) (d := 0) (p := 0) (bc := 0) (ce := 0) ⟨by decide, by decide, by decide, fun i h => absurd h (by omega), fun i h => absurd h (by omega), fs_BT_0 hb⟩
theorem i_vc_emit {k : Nat} {u : SX} {v : SY} (I : i_Rel k u v) (hk : k + 4 ≤ 2048) (v1 : Int32) (v2 : Int32) : wpX_emit (fun r u' => wpY_emit (fun r' v' => r' = r ∧ i_Rel (k + 4) u' v') v v1 v2) u v1 v2 := by
  refine fs_elim (P := fun u v => wpX_emit (fun r u' => wpY_emit (fun r' v' => r' = r ∧ i_Rel (k + 4) u' v') v v1 v2) u v1 v2) ?_ I
  intro L d p bc ce st ct dpn op ag m fl bo bs bu bd cd tg lf rt hm sk hR
  obtain ⟨hL, hd, hp, hv, hs, hT⟩ := hR
  refine pk_lt L 32 (fun q => ?_) (fun q => ?_)
  · have iL : vp_in (nI L) 32 := fs_in q (by decide)
    refine fs_isI (fun V => br_f (by decide) (And.intro iL ?_)) (fun V => br_t rfl ?_)
    · refine nm_r (fs_up (by omega) (fs_VIb V)) (And.intro iL (nm_r (fs_up (by omega) rfl) (nm_r (nI_1 L) ?_)))
      refine fs_fg (fun bo' hb => ?_)
      refine pk_eq L 32 (fun e => absurd e (by omega)) (fun _ => ?_)
      refine fs_fit (fun _ => br_f (by decide) (And.intro iL ?_)) (fun V' => absurd V V')
      refine nm_r (fs_up (by omega) rfl) (And.intro iL (nm_r (fs_up (by omega) rfl) (nm_r (nI_1 L) ⟨rfl, ?_⟩)))
      exact fs_mk (k + 4) (bc := 0) (ce := 0) ⟨by omega, hd, hp, fs_VIu hv V (by omega), hs, fs_BT_0 hb⟩
    · refine pk_eq L 32 (fun e => absurd e (by omega)) (fun _ => ?_)
      refine fs_fit (fun V' => absurd V' V) (fun _ => br_t rfl ⟨rfl, ?_⟩)
      exact fs_mk (k + 4) ⟨hL, hd, hp, hv, hs, hT⟩
  · refine pk_eq L 32 (fun _ => ⟨rfl, ?_⟩) (fun e => absurd hL (by omega))
    exact fs_mk (k + 4) ⟨hL, hd, hp, hv, hs, hT⟩
theorem i_vc_patch {k : Nat} {u : SX} {v : SY} (I : i_Rel k u v) (hk : k + 4 ≤ 2048) (v1 : Int32) (v2 : Int32) (v3 : Int32) : wpX_patch (fun r u' => wpY_patch (fun r' v' => r' = r ∧ i_Rel (k + 4) u' v') v v1 v2 v3) u v1 v2 v3 := by
  refine fs_elim (P := fun u v => wpX_patch (fun r u' => wpY_patch (fun r' v' => r' = r ∧ i_Rel (k + 4) u' v') v v1 v2 v3) u v1 v2 v3) ?_ I
  intro L d p bc ce st ct dpn op ag m fl bo bs bu bd cd tg lf rt hm sk hR
  obtain ⟨hL, hd, hp, hv, hs, hT⟩ := hR
  have same : ∀ r : Int32, r = r ∧ i_Rel (k + 4) (nI L, nI d, nI p, st, ct, nI bc, nI ce, dpn, op, ag, m, fl, bo, bs, bu, bd, cd, tg, lf, rt, hm) (nI L, nI d, nI p, ct, st, op, ag, sk, m) := fun r => ⟨rfl, fs_mk (k + 4) ⟨hL, hd, hp, hv, hs, hT⟩⟩
  by_cases h0 : v1 < 0
  · exact br_t h0 (br_t h0 (same _))
  · refine br_f h0 ?_
    by_cases h1 : nI L ≤ v1
    · exact br_t h1 (br_f h0 (br_t h1 (same _)))
    · refine br_f h1 ?_
      obtain ⟨j, hj, rfl⟩ := nI_of h0
      have jL : j < L := by rw [nI_leI (by omega) hj] at h1; omega
      have iL : vp_in (nI j) 32 := fs_in (by omega) (by decide)
      refine fs_isI (fun V => br_f (by decide) (And.intro iL ?_)) (fun V => br_t rfl ?_)
      · refine nm_r (fs_up (by omega) (fs_VIb V)) (And.intro iL (nm_r (fs_up (by omega) rfl) ?_))
        refine fs_fg (fun bo' hb => ?_)
        refine br_f h0 (br_f h1 (fs_fit (fun _ => br_f (by decide) (And.intro iL ?_)) (fun V' => absurd V V')))
        refine nm_r (fs_up (by omega) rfl) (And.intro iL (nm_r (fs_up (by omega) rfl) ⟨rfl, ?_⟩))
        exact fs_mk (k + 4) (bc := 0) (ce := 0) ⟨by omega, hd, hp, fs_VIu hv V (by omega), hs, fs_BT_0 hb⟩
      · exact br_f h0 (br_f h1 (fs_fit (fun V' => absurd V' V) (fun _ => br_t rfl (same _))))
theorem i_vc_poke {k : Nat} {u : SX} {v : SY} (I : i_Rel k u v) (hk : k + 4 ≤ 2048) (v1 : Int32) (v2 : Int32) : wpX_poke (fun r u' => wpY_poke (fun r' v' => r' = r ∧ i_Rel (k + 4) u' v') v v1 v2) u v1 v2 := by
  refine fs_elim (P := fun u v => wpX_poke (fun r u' => wpY_poke (fun r' v' => r' = r ∧ i_Rel (k + 4) u' v') v v1 v2) u v1 v2) ?_ I
  intro L d p bc ce st ct dpn op ag m fl bo bs bu bd cd tg lf rt hm sk hR
  by_cases h0 : v1 < 0
  · exact br_t h0 (br_t h0 ⟨rfl, fs_mk (k + 4) hR⟩)
  · by_cases h7 : v1 ≤ 7
    · obtain ⟨j, hj, rfl⟩ := nI_of2 (M := 7) (n := 7) (by decide) h0 h7
      have i8 : vp_in (nI j) 8 := fs_in (by omega) (by decide)
      exact br_f h0 (br_t h7 (And.intro i8 (nm_e (br_f h0 (br_t h7 (And.intro i8 (nm_e ⟨rfl, fs_mk (k + 4) hR⟩)))))))
    · exact br_f h0 (br_f h7 (br_f h0 (br_f h7 ⟨rfl, fs_mk (k + 4) hR⟩)))
theorem i_vc_start {k : Nat} {u : SX} {v : SY} (I : i_Rel k u v) (hk : k + 4 ≤ 2048) : wpX_start (fun u' => wpY_start (fun v' => i_Rel (k + 4) u' v') v) u := by
  refine fs_elim (P := fun u v => wpX_start (fun u' => wpY_start (fun v' => i_Rel (k + 4) u' v') v) u) ?_ I
  intro L d p bc ce st ct dpn op ag m fl bo bs bu bd cd tg lf rt hm sk hR
  obtain ⟨hL, hd, hp, hv, hs, hT⟩ := hR
  exact fs_mk (k + 4) (d := 0) (p := 0) (sk := sk) ⟨hL, by decide, by decide, hv, fun i h => absurd h (by omega), hT⟩
theorem fs_rn {L d p bc ce n : Nat} {st ct dpn : Int32} {op ag m fl bo bs bu bd cd tg lf rt hm sk : Nat → Int32} {post : Int32 → SX → Prop} {k : Nat} (hR : fs_RF L d p bc ce op ag fl bo bs bu bd cd tg lf rt sk) (hn : n ≤ 200)
    (H : ∀ (r : Int32) (u : SX), wY_run_25 (fun r' v' => r' = r ∧ i_Rel k u v') (nI n) (n + 1) (nI 0) (nI L) (nI d) (nI p) ct st op ag sk m → post r u) :
    wX_run_23 post (n + 1) (nI n) (nI L) (nI d) (nI p) st ct (nI bc) (nI ce) dpn op ag m fl bo bs bu bd cd tg lf rt hm := by
  obtain ⟨hL, hd, hp, hv, hs, hT⟩ := hR
  refine fs_Xrun hv hL (n + 1) n (by omega) hn d p bc ce st ct dpn fl m fl bo bs bu bd cd tg lf rt hm hd hp (fun _ _ => rfl) hT ?_
  intro d' p' bc' ce' st' c' dn' s' m' fl' bo' bs' bu' bd' cd' tg' lf' rt' hm' e g1 g2 g3 hT'
  refine H _ _ (fs_Yrun hv hL hn n 0 (by omega) d p st ct fl m sk hd hp hs ?_)
  intro d2 p2 st2 c2 s2 m2 sk2 e2 k1 k2 k3
  rw [e] at e2
  injection e2 with q1 e2
  injection e2 with q2 e2
  injection e2 with q3 e2
  injection e2 with q4 e2
  injection e2 with q5 q6
  subst q1 q2 q3 q4 q5 q6
  exact ⟨rfl, fs_mk k ⟨hL, g1, g2, hv, fun i hi => (k3 i hi).trans (g3 _ (by omega)).symm, hT'⟩⟩
theorem i_vc_run {k : Nat} {u : SX} {v : SY} (I : i_Rel k u v) (hk : k + 4 ≤ 2048) (v1 : Int32) : wpX_run (fun r u' => wpY_run (fun r' v' => r' = r ∧ i_Rel (k + 4) u' v') v v1) u v1 := by
  refine fs_elim (P := fun u v => wpX_run (fun r u' => wpY_run (fun r' v' => r' = r ∧ i_Rel (k + 4) u' v') v v1) u v1) ?_ I
  intro L d p bc ce st ct dpn op ag m fl bo bs bu bd cd tg lf rt hm sk hR
  by_cases h0 : 0 ≤ v1
  · refine br_t h0 ?_
    by_cases h2 : v1 ≤ 200
    · obtain ⟨j, hj, rfl⟩ := nI_of2 (M := 200) (n := 200) (by decide) (Int32.not_lt.mpr h0) h2
      exact br_t h2 ⟨j + 1, fs_rn hR hj (fun r u W => br_t h0 (br_t h2 ⟨j + 1, W⟩))⟩
    · exact br_f h2 ⟨201, fs_rn (n := 200) hR (by decide) (fun r u W => br_t h0 (br_f h2 ⟨201, W⟩))⟩
  · exact br_f h0 ⟨1, fs_rn (n := 0) hR (by decide) (fun r u W => br_f h0 ⟨1, W⟩)⟩
theorem i_vc_depth {k : Nat} {u : SX} {v : SY} (I : i_Rel k u v) (hk : k + 4 ≤ 2048) : wpX_depth (fun r => wpY_depth (fun r' => r' = r ∧ i_Rel (k + 4) u v) v) u := by
  refine fs_elim (P := fun u v => wpX_depth (fun r => wpY_depth (fun r' => r' = r ∧ i_Rel (k + 4) u v) v) u) ?_ I
  intro L d p bc ce st ct dpn op ag m fl bo bs bu bd cd tg lf rt hm sk hR
  exact ⟨rfl, fs_mk (k + 4) hR⟩
theorem i_vc_st {k : Nat} {u : SX} {v : SY} (I : i_Rel k u v) (hk : k + 4 ≤ 2048) (v1 : Int32) : wpX_st (fun r => wpY_st (fun r' => r' = r ∧ i_Rel (k + 4) u v) v v1) u v1 := by
  refine fs_elim (P := fun u v => wpX_st (fun r => wpY_st (fun r' => r' = r ∧ i_Rel (k + 4) u v) v v1) u v1) ?_ I
  intro L d p bc ce st ct dpn op ag m fl bo bs bu bd cd tg lf rt hm sk hR
  have hR' := hR
  obtain ⟨hL, hd, hp, hv, hs, hT⟩ := hR'
  by_cases h0 : v1 < 0
  · exact br_t h0 (br_t h0 ⟨rfl, fs_mk (k + 4) hR⟩)
  · obtain ⟨j, hj, rfl⟩ := nI_of h0
    refine br_f h0 (pk_lt j d (fun q => ?_) (fun q => ?_))
    · rw [fs_s2 (by omega), fs_cl (n := d - 1 - j) (by omega)]
      refine And.intro (fs_in (by omega) (by decide)) (br_f h0 (br_f (nI_ge q (by omega)) (And.intro (fs_in (by omega) (by decide)) ⟨?_, fs_mk (k + 4) hR⟩)))
      rw [fs_cl (n := j) (by omega)]
      exact hs j q
    · exact br_f h0 (br_t (nI_le q hj) ⟨rfl, fs_mk (k + 4) hR⟩)
theorem i_vc_memory {k : Nat} {u : SX} {v : SY} (I : i_Rel k u v) (hk : k + 4 ≤ 2048) (v1 : Int32) : wpX_memory (fun r => wpY_memory (fun r' => r' = r ∧ i_Rel (k + 4) u v) v v1) u v1 := by
  refine fs_elim (P := fun u v => wpX_memory (fun r => wpY_memory (fun r' => r' = r ∧ i_Rel (k + 4) u v) v v1) u v1) ?_ I
  intro L d p bc ce st ct dpn op ag m fl bo bs bu bd cd tg lf rt hm sk hR
  by_cases h0 : v1 < 0
  · exact br_t h0 (br_t h0 ⟨rfl, fs_mk (k + 4) hR⟩)
  · by_cases h7 : v1 ≤ 7
    · obtain ⟨j, hj, rfl⟩ := nI_of2 (M := 7) (n := 7) (by decide) h0 h7
      have i8 : vp_in (nI j) 8 := fs_in (by omega) (by decide)
      exact br_f h0 (br_t h7 (And.intro i8 (br_f h0 (br_f (Int32.not_lt.mpr h7) (And.intro i8 ⟨rfl, fs_mk (k + 4) hR⟩)))))
    · exact br_f h0 (br_f h7 (br_f h0 (br_t (Int32.not_le.mp h7) ⟨rfl, fs_mk (k + 4) hR⟩)))
theorem i_vc_place {k : Nat} {u : SX} {v : SY} (I : i_Rel k u v) (hk : k + 4 ≤ 2048) : wpX_place (fun r => wpY_place (fun r' => r' = r ∧ i_Rel (k + 4) u v) v) u := by
  refine fs_elim (P := fun u v => wpX_place (fun r => wpY_place (fun r' => r' = r ∧ i_Rel (k + 4) u v) v) u) ?_ I
  intro L d p bc ce st ct dpn op ag m fl bo bs bu bd cd tg lf rt hm sk hR
  exact ⟨rfl, fs_mk (k + 4) hR⟩
theorem i_vc_executed {k : Nat} {u : SX} {v : SY} (I : i_Rel k u v) (hk : k + 4 ≤ 2048) : wpX_executed (fun r => wpY_executed (fun r' => r' = r ∧ i_Rel (k + 4) u v) v) u := by
  refine fs_elim (P := fun u v => wpX_executed (fun r => wpY_executed (fun r' => r' = r ∧ i_Rel (k + 4) u v) v) u) ?_ I
  intro L d p bc ce st ct dpn op ag m fl bo bs bu bd cd tg lf rt hm sk hR
  exact ⟨rfl, fs_mk (k + 4) hR⟩
end
