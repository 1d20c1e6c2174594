section
/-! rows of the kit to paste (kit/rows): stores, naturals as ints, branches by naturals; ints by their bits -/
theorem pk_us {f : Nat → Int32} {k : Nat} {x : Int32} : upd f k x k = x := if_pos rfl
theorem pk_un {f : Nat → Int32} {k j : Nat} {x : Int32} (h : j ≠ k) : upd f k x j = f j := if_neg h
theorem pk_sub {a b : Nat} (h : b ≤ a) : nI a - nI b = nI (a - b) := by
  obtain ⟨c, rfl⟩ : ∃ c, a = c + b := ⟨a - b, by omega⟩
  rw [← nI_add, Int32.add_sub_cancel, Nat.add_sub_cancel]
theorem pk_m1 (n : Nat) : nI (n + 1) + (-1) = nI n := by
  rw [← nI_1, Int32.add_assoc, show (1 : Int32) + (-1) = 0 from rfl, Int32.add_zero]
theorem pk_mul (a b : Nat) : nI a * nI b = nI (a * b) := (Int32.ofNat_mul a b).symm
theorem pk_div {a d : Nat} (ha : a < 2 ^ 31) (h0 : 0 < d) (hd : d < 2 ^ 31) : nI a / nI d = nI (a / d) := by
  apply Int32.toInt_inj.mp
  rw [lg_idiv_nonneg (by rw [nI_toInt ha]; omega) (by rw [nI_toInt hd]; omega), nI_toInt ha, nI_toInt hd, nI_toInt (Nat.lt_of_le_of_lt (Nat.div_le_self a d) ha)]
  first | rfl | exact (Int.natCast_ediv _ _).symm
theorem pk_sub_toInt {a b : Nat} (ha : a < 2 ^ 30) (hb : b < 2 ^ 30) : (nI a - nI b).toInt = (a : Int) - b := by
  rw [Int32.toInt_sub, nI_toInt (by omega), nI_toInt (by omega)]
  exact Int.bmod_eq_of_le (by omega) (by omega)
theorem pk_ix (x : Int32) {n : Nat} (hn : n < 2 ^ 31) : x < 0 ∨ nI n ≤ x ∨ ∃ j : Nat, j < n ∧ x = nI j := by
  by_cases h : x < 0
  · exact Or.inl h
  · obtain ⟨j, hj, rfl⟩ := nI_of h
    by_cases h2 : j < n
    · exact Or.inr (Or.inr ⟨j, h2, rfl⟩)
    · exact Or.inr (Or.inl (nI_le (by omega) hj))
theorem pk_le {x y : Int32} {A B : Prop} (a b : Nat) (f : a ≤ b → A) (g : b < a → B) (hx : x = nI a := by rfl) (hy : y = nI b := by rfl) (ha : a < 2 ^ 31 := by omega) (hb : b < 2 ^ 31 := by omega) : (x ≤ y → A) ∧ (¬ x ≤ y → B) := by
  subst hx hy
  rw [nI_leI ha hb]
  exact ⟨f, fun z => g (by omega)⟩
theorem pk_lt {x y : Int32} {A B : Prop} (a b : Nat) (f : a < b → A) (g : b ≤ a → B) (hx : x = nI a := by rfl) (hy : y = nI b := by rfl) (ha : a < 2 ^ 31 := by omega) (hb : b < 2 ^ 31 := by omega) : (x < y → A) ∧ (¬ x < y → B) := by
  subst hx hy
  rw [nI_ltI ha hb]
  exact ⟨f, fun z => g (by omega)⟩
theorem pk_eq {x y : Int32} {A B : Prop} (a b : Nat) (f : a = b → A) (g : a ≠ b → B) (hx : x = nI a := by rfl) (hy : y = nI b := by rfl) (ha : a < 2 ^ 31 := by omega) (hb : b < 2 ^ 31 := by omega) : (x = y → A) ∧ (¬ x = y → B) := by
  subst hx hy
  rw [nI_eq ha hb]
  exact ⟨f, g⟩
theorem pk_in {x : Int32} (n N : Nat) (h : n < N) (hx : x = nI n := by rfl) (hN : N < 2 ^ 31 := by omega) : vp_in x N := by
  subst hx
  exact vp_in_nI h hN
theorem pk_cl {x : Int32} (n : Nat) (hx : x = nI n := by rfl) (h : n < 2 ^ 31 := by omega) : x.toNatClampNeg = n := by
  subst hx
  exact nI_clamp h
def bt (x : Int32) (i : Nat) : Bool := x.toBitVec.getLsbD i
theorem b_ext {x y : Int32} (h : ∀ i, i < 32 → bt x i = bt y i) : x = y := Int32.toBitVec_inj.mp (BitVec.eq_of_getLsbD_eq (fun i hi => h i hi))
theorem b_or (x y : Int32) (i : Nat) : bt (x ||| y) i = (bt x i || bt y i) := by unfold bt; rw [Int32.toBitVec_or, BitVec.getLsbD_or]
theorem b_and (x y : Int32) (i : Nat) : bt (x &&& y) i = (bt x i && bt y i) := by unfold bt; rw [Int32.toBitVec_and, BitVec.getLsbD_and]
theorem b_xor (x y : Int32) (i : Nat) : bt (x ^^^ y) i = (bt x i ^^ bt y i) := by unfold bt; rw [Int32.toBitVec_xor, BitVec.getLsbD_xor]
theorem b_big {x : Int32} {i : Nat} (h : 32 ≤ i) : bt x i = false := BitVec.getLsbD_of_ge _ _ h
theorem b_m1 : ∀ i, i < 32 → bt (-1) i = true := by decide +kernel
theorem b_0 (i : Nat) : bt 0 i = false := BitVec.getLsbD_zero
theorem s_l : ∀ n, n < 32 → ((nI n &&& 31).toBitVec.smod 32).toNat = n := by decide +kernel
theorem b_shl (n : Nat) (hn : n < 32) (x : Int32) {i : Nat} (hi : i < 32) : bt (x <<< (nI n &&& 31)) i = (decide (n ≤ i) && bt x (i - n)) := by
  unfold bt
  rw [Int32.toBitVec_shiftLeft]
  show (x.toBitVec <<< ((nI n &&& 31).toBitVec.smod 32).toNat).getLsbD i = _
  rw [s_l n hn, BitVec.getLsbD_shiftLeft]
  rcases Nat.lt_or_ge i n with h | h
  · simp [h, Nat.not_le.mpr h]
  · simp [hi, h, Nat.not_lt.mpr h]
theorem b_sshr (n : Nat) (hn : n < 32) (x : Int32) {i : Nat} (hi : i < 32) : bt (x >>> (nI n &&& 31)) i = if n + i < 32 then bt x (n + i) else bt x 31 := by
  unfold bt
  rw [Int32.toBitVec_shiftRight]
  show (x.toBitVec.sshiftRight ((nI n &&& 31).toBitVec.smod 32).toNat).getLsbD i = _
  rw [s_l n hn, BitVec.getLsbD_sshiftRight, BitVec.msb_eq_getLsbD_last]
  simp [hi]
end
section
/-! the reference's look as a fold over the events of a key, and the key's last event -/
abbrev lc_T : Type := Int32 × Int32 × Int32 × Int32 × Int32
def lc_sn (s : Nat → Int32) : lc_T := (s 0, s 1, s 2, s 3, s 4)
def lc_bs (ba : Nat → Int32) (q : Nat) : lc_T := (ba (q * 5), ba (q * 5 + 1), ba (q * 5 + 2), ba (q * 5 + 3), ba (q * 5 + 4))
def lc_ap (er ep ev el : Nat → Int32) (i : Nat) (s : lc_T) : lc_T :=
  if ep i = 0 then (0, 0, 0, 0, -1) else (ev i, s.2.1 + 1, er i, (if s.2.1 = 0 then er i else s.2.2.2.1), el i)
def lc_lf (ek er ep ev el ba : Nat → Int32) (q : Nat) : Nat → lc_T
  | 0 => lc_bs ba q
  | i + 1 => if ek i = nI q then lc_ap er ep ev el i (lc_lf ek er ep ev el ba q i) else lc_lf ek er ep ev el ba q i
def lc_la (ek : Nat → Int32) (x : Int32) : Nat → Int32
  | 0 => -1
  | i + 1 => if ek i = x then nI i else lc_la ek x i
section P1
variable {ek er ep ev el ba : Nat → Int32} {q : Nat}
theorem lc_lf_t {i : Nat} (h : ek i = nI q) : lc_lf ek er ep ev el ba q (i + 1) = lc_ap er ep ev el i (lc_lf ek er ep ev el ba q i) := if_pos h
theorem lc_lf_f {i : Nat} (h : ¬ ek i = nI q) : lc_lf ek er ep ev el ba q (i + 1) = lc_lf ek er ep ev el ba q i := if_neg h
theorem lc_la_t {x : Int32} {i : Nat} (h : ek i = x) : lc_la ek x (i + 1) = nI i := if_pos h
theorem lc_la_f {x : Int32} {i : Nat} (h : ¬ ek i = x) : lc_la ek x (i + 1) = lc_la ek x i := if_neg h
theorem lc_ap_p {i : Nat} {s : lc_T} (h : ¬ ep i = 0) : lc_ap er ep ev el i s = (ev i, s.2.1 + 1, er i, (if s.2.1 = 0 then er i else s.2.2.2.1), el i) := if_neg h
theorem lc_ap_d {i : Nat} {s : lc_T} (h : ep i = 0) : lc_ap er ep ev el i s = (0, 0, 0, 0, -1) := if_pos h
/-- the fold over moved events, from a base that holds the fold over those that went -/
theorem lc_lf_sh {ek' er' ep' ev' el' ba' : Nat → Int32} {g : Nat} (hb : lc_bs ba' q = lc_lf ek er ep ev el ba q g) :
    ∀ m, (∀ i, i < m → ek' i = ek (g + i) ∧ er' i = er (g + i) ∧ ep' i = ep (g + i) ∧ ev' i = ev (g + i) ∧ el' i = el (g + i)) →
    lc_lf ek' er' ep' ev' el' ba' q m = lc_lf ek er ep ev el ba q (g + m) := by
  intro m
  induction m with
  | zero => intro _; exact hb
  | succ m ih =>
    intro h
    obtain ⟨e1, e2, e3, e4, e5⟩ := h m (Nat.lt_succ_self m)
    have ih := ih (fun i hi => h i (by omega))
    show lc_lf ek' er' ep' ev' el' ba' q (m + 1) = lc_lf ek er ep ev el ba q ((g + m) + 1)
    by_cases z : ek (g + m) = nI q
    · rw [lc_lf_t (e1.trans z), lc_lf_t z, ih]
      unfold lc_ap
      rw [e2, e3, e4, e5]
    · rw [lc_lf_f (fun z' => z (e1.symm.trans z')), lc_lf_f z, ih]
theorem lc_lf_cg {ek' er' ep' ev' el' ba' : Nat → Int32} (hb : lc_bs ba' q = lc_bs ba q) {m : Nat}
    (h : ∀ i, i < m → ek' i = ek i ∧ er' i = er i ∧ ep' i = ep i ∧ ev' i = ev i ∧ el' i = el i) :
    lc_lf ek' er' ep' ev' el' ba' q m = lc_lf ek er ep ev el ba q m := by
  have := lc_lf_sh (ek := ek) (er := er) (ep := ep) (ev := ev) (el := el) (ba := ba) (ek' := ek') (er' := er') (ep' := ep') (ev' := ev') (el' := el') (ba' := ba') (q := q) (g := 0) hb m (fun i hi => by rw [Nat.zero_add]; exact h i hi)
  rw [Nat.zero_add] at this
  exact this
/-- a store at the list's end changes nothing of the fold below it -/
theorem lc_lf_up {n m : Nat} {a b c d e : Int32} (h : m ≤ n) :
    lc_lf (upd ek n a) (upd er n b) (upd ep n c) (upd ev n d) (upd el n e) ba q m = lc_lf ek er ep ev el ba q m :=
  lc_lf_cg rfl (fun i hi => ⟨pk_un (by omega), pk_un (by omega), pk_un (by omega), pk_un (by omega), pk_un (by omega)⟩)
theorem lc_lf_sk {g : Nat} : ∀ d, (∀ e, g ≤ e → e < g + d → ¬ ek e = nI q) → lc_lf ek er ep ev el ba q (g + d) = lc_lf ek er ep ev el ba q g := by
  intro d
  induction d with
  | zero => intro _; rfl
  | succ d ih =>
    intro h
    show lc_lf ek er ep ev el ba q ((g + d) + 1) = _
    rw [lc_lf_f (h (g + d) (by omega) (by omega))]
    exact ih (fun e h1 h2 => h e h1 (by omega))
theorem lc_la_c {x : Int32} : ∀ m, lc_la ek x m = -1 ∨ ∃ j, j < m ∧ lc_la ek x m = nI j ∧ ek j = x := by
  intro m
  induction m with
  | zero => exact Or.inl rfl
  | succ m ih =>
    by_cases z : ek m = x
    · exact Or.inr ⟨m, by omega, lc_la_t z, z⟩
    · rw [lc_la_f z]
      rcases ih with h | ⟨j, hj, h⟩
      · exact Or.inl h
      · exact Or.inr ⟨j, by omega, h⟩
theorem lc_la_cg {ek' : Nat → Int32} {x : Int32} : ∀ m, (∀ i, i < m → ek' i = ek i) → lc_la ek' x m = lc_la ek x m := by
  intro m
  induction m with
  | zero => intro _; rfl
  | succ m ih =>
    intro h
    have e := h m (Nat.lt_succ_self m)
    have ih := ih (fun i hi => h i (by omega))
    by_cases z : ek m = x
    · rw [lc_la_t (e.trans z), lc_la_t z]
    · rw [lc_la_f (fun z' => z (e.symm.trans z')), lc_la_f z, ih]
theorem lc_la_up {x a : Int32} {n m : Nat} (h : m ≤ n) : lc_la (upd ek n a) x m = lc_la ek x m :=
  lc_la_cg m (fun i hi => pk_un (by omega))
theorem lc_nIm1 {g : Nat} (h : g < 2 ^ 31) : ¬ nI g ≤ (-1 : Int32) := by
  rw [Int32.le_iff_toInt_le, nI_toInt h, show (-1 : Int32).toInt = -1 from by decide]
  omega
theorem lc_la_sh {ek' : Nat → Int32} {x : Int32} {g : Nat} : ∀ m, g + m < 2 ^ 31 → (∀ i, i < m → ek' i = ek (g + i)) →
    (nI g ≤ lc_la ek x (g + m) → lc_la ek' x m = lc_la ek x (g + m) - nI g) ∧ (¬ nI g ≤ lc_la ek x (g + m) → lc_la ek' x m = -1) := by
  intro m
  induction m with
  | zero =>
    intro hg _
    refine ⟨fun h => ?_, fun _ => rfl⟩
    exfalso
    have h : nI g ≤ lc_la ek x g := h
    rcases lc_la_c (ek := ek) (x := x) g with e | ⟨j, hj, e, _⟩
    · rw [e] at h; exact lc_nIm1 (by omega) h
    · rw [e] at h; exact nI_ge hj (by omega) h
  | succ m ih =>
    intro hg h
    have e := h m (Nat.lt_succ_self m)
    have ih := ih (by omega) (fun i hi => h i (by omega))
    show (nI g ≤ lc_la ek x ((g + m) + 1) → lc_la ek' x (m + 1) = lc_la ek x ((g + m) + 1) - nI g) ∧ (¬ nI g ≤ lc_la ek x ((g + m) + 1) → lc_la ek' x (m + 1) = -1)
    by_cases z : ek (g + m) = x
    · rw [lc_la_t (e.trans z), lc_la_t z]
      refine ⟨fun _ => ?_, fun h => absurd (nI_le (by omega) (by omega)) h⟩
      rw [pk_sub (by omega), Nat.add_sub_cancel_left]
    · rw [lc_la_f (fun z' => z (e.symm.trans z')), lc_la_f z]
      exact ih
/-- what a key is after its last event -/
theorem lc_val : ∀ m, (lc_la ek (nI q) m = -1 ∧ lc_lf ek er ep ev el ba q m = lc_bs ba q) ∨
    ∃ j, j < m ∧ lc_la ek (nI q) m = nI j ∧ ek j = nI q ∧ lc_lf ek er ep ev el ba q m = lc_ap er ep ev el j (lc_lf ek er ep ev el ba q j) := by
  intro m
  induction m with
  | zero => exact Or.inl ⟨rfl, rfl⟩
  | succ m ih =>
    by_cases z : ek m = nI q
    · exact Or.inr ⟨m, by omega, lc_la_t z, z, lc_lf_t z⟩
    · rw [lc_la_f z, lc_lf_f z]
      rcases ih with h | ⟨j, hj, h⟩
      · exact Or.inl h
      · exact Or.inr ⟨j, by omega, h⟩
theorem lc_p1 {x : Int32} {b : Nat} (h0 : 0 ≤ x.toInt) (h : x.toInt ≤ b) (hb : b + 1 < 2 ^ 31) : (x + 1).toInt = x.toInt + 1 := by
  have e : (1 : Int32).toInt = 1 := by decide
  rw [Jvm.Kit.i32_add (by rw [e]; omega) (by rw [e]; omega), e]
theorem lc_z0 : (0 : Int32).toInt = 0 := by decide
/-- versions stay small -/
theorem lc_vb {c : Nat} (h0 : 0 ≤ (ba (q * 5 + 1)).toInt) (hc : (ba (q * 5 + 1)).toInt ≤ c) : ∀ m, c + m < 2 ^ 31 →
    0 ≤ (lc_lf ek er ep ev el ba q m).2.1.toInt ∧ (lc_lf ek er ep ev el ba q m).2.1.toInt ≤ (c + m : Nat) := by
  intro m
  induction m with
  | zero => intro _; exact ⟨h0, hc⟩
  | succ m ih =>
    intro hm
    obtain ⟨i1, i2⟩ := ih (by omega)
    by_cases z : ek m = nI q
    · rw [lc_lf_t z]
      by_cases p : ep m = 0
      · rw [lc_ap_d p]
        show 0 ≤ (0 : Int32).toInt ∧ (0 : Int32).toInt ≤ _
        rw [lc_z0]; omega
      · rw [lc_ap_p p]
        show 0 ≤ ((lc_lf ek er ep ev el ba q m).2.1 + 1).toInt ∧ ((lc_lf ek er ep ev el ba q m).2.1 + 1).toInt ≤ _
        rw [lc_p1 i1 i2 (by omega)]; omega
    · rw [lc_lf_f z]; omega
end P1
/-- how many keys are present -/
def lc_pc (pr : Nat → Int32) : Nat → Nat
  | 0 => 0
  | i + 1 => lc_pc pr i + if pr i = 0 then 0 else 1
theorem lc_pc_le (pr : Nat → Int32) : ∀ m, lc_pc pr m ≤ m := by
  intro m
  induction m with
  | zero => exact Nat.le_refl _
  | succ m ih =>
    show lc_pc pr m + (if pr m = 0 then 0 else 1) ≤ m + 1
    split <;> omega
theorem lc_pc_cg {pr pr' : Nat → Int32} : ∀ m, (∀ i, i < m → pr' i = pr i) → lc_pc pr' m = lc_pc pr m := by
  intro m
  induction m with
  | zero => intro _; rfl
  | succ m ih =>
    intro h
    show lc_pc pr' m + (if pr' m = 0 then 0 else 1) = lc_pc pr m + (if pr m = 0 then 0 else 1)
    rw [ih (fun i hi => h i (by omega)), h m (by omega)]
theorem lc_pc_d {pr : Nat → Int32} {q : Nat} (hp : ¬ pr q = 0) : ∀ m, q < m → lc_pc (upd pr q 0) m + 1 = lc_pc pr m := by
  intro m
  induction m with
  | zero => intro h; omega
  | succ m ih =>
    intro h
    show lc_pc (upd pr q 0) m + (if upd pr q 0 m = 0 then 0 else 1) + 1 = lc_pc pr m + (if pr m = 0 then 0 else 1)
    by_cases z : m = q
    · subst z
      rw [pk_us, if_pos rfl, if_neg hp, lc_pc_cg (pr := pr) m (fun i hi => pk_un (by omega))]
    · rw [pk_un z, ← ih (by omega)]; omega
end
section
/-! the facts that hold between calls, in groups -/
def lc_SR (n w : Nat) (er : Nat → Int32) : Prop := (∀ i j, i ≤ j → j < n → (er i).toInt ≤ (er j).toInt) ∧ (∀ i, i < n → (er i).toInt ≤ w)
def lc_CH (n : Nat) (ek eb nw : Nat → Int32) : Prop := (∀ q, q < 16 → nw q = lc_la ek (nI q) n) ∧ (∀ i, i < n → eb i = lc_la ek (ek i) i)
def lc_KR (n : Nat) (ek ed ep : Nat → Int32) : Prop := ∀ i, i < n → (∃ q, q < 16 ∧ ek i = nI q) ∧ ((ed i = 0 ∧ ep i = 1) ∨ (ed i = 1 ∧ ep i = 0))
def lc_AT (n : Nat) (ek er ep ev el ba va ve mo cr lo : Nat → Int32) : Prop := ∀ q, q < 16 → lc_lf ek er ep ev el ba q n = (va q, ve q, mo q, cr q, lo q)
def lc_PR (pr ve lo : Nat → Int32) : Prop := ∀ q, q < 16 → (pr q = 0 ∧ ve q = 0 ∧ lo q = -1) ∨ (pr q = 1 ∧ 0 < (ve q).toInt)
def lc_OL (c : Nat) (ba op ov : Nat → Int32) : Prop := ∀ q, q < 16 → (ba (q * 5 + 1)).toInt ≤ c ∧
  ((op q = 0 ∧ ba (q * 5 + 1) = 0 ∧ ba (q * 5) = 0) ∨ (op q = 1 ∧ 0 < (ba (q * 5 + 1)).toInt ∧ ba (q * 5) = ov q))
/-- events and keys -/
def lc_EF (c n w : Nat) (ek ev ed er eb nw op ov pr va cr mo ve lo ba ep el : Nat → Int32) : Prop :=
  n + lc_pc pr 16 ≤ 76 ∧ lc_SR n w er ∧ lc_CH n ek eb nw ∧ lc_KR n ek ed ep ∧ lc_AT n ek er ep ev el ba va ve mo cr lo ∧ lc_PR pr ve lo ∧ lc_OL c ba op ov
/-- the events up to a revision are the first g -/
def lc_SP (g n : Nat) (x : Int32) (er : Nat → Int32) : Prop := g ≤ n ∧ (∀ i, i < g → ¬ x < er i) ∧ (∀ i, g ≤ i → i < n → x < er i)
section P2
variable {ek er ep ev el ba ed eb nw op ov pr va cr mo ve lo : Nat → Int32} {c n w : Nat}
theorem lc_SR_up (h : lc_SR n w er) {w' : Nat} (hw : w ≤ w') : lc_SR n w' er :=
  ⟨h.1, fun i hi => by have := h.2 i hi; omega⟩
theorem lc_EF_w (h : lc_EF c n w ek ev ed er eb nw op ov pr va cr mo ve lo ba ep el) {w' : Nat} (hw : w ≤ w') :
    lc_EF c n w' ek ev ed er eb nw op ov pr va cr mo ve lo ba ep el :=
  ⟨h.1, lc_SR_up h.2.1 hw, h.2.2⟩
theorem lc_OL_up (h : lc_OL c ba op ov) {c' : Nat} (hc : c ≤ c') : lc_OL c' ba op ov :=
  fun q hq => ⟨by have := (h q hq).1; omega, (h q hq).2⟩
theorem lc_EF_c (h : lc_EF c n w ek ev ed er eb nw op ov pr va cr mo ve lo ba ep el) {c' : Nat} (hc : c ≤ c') :
    lc_EF c' n w ek ev ed er eb nw op ov pr va cr mo ve lo ba ep el :=
  ⟨h.1, h.2.1, h.2.2.1, h.2.2.2.1, h.2.2.2.2.1, h.2.2.2.2.2.1, lc_OL_up h.2.2.2.2.2.2 hc⟩
theorem lc_OL0 (h : lc_OL c ba op ov) {q : Nat} (hq : q < 16) : 0 ≤ (ba (q * 5 + 1)).toInt := by
  rcases (h q hq).2 with ⟨_, e, _⟩ | ⟨_, e, _⟩
  · rw [e, lc_z0]; omega
  · omega
/-- the version after m events of the list lies within bounds -/
theorem lc_OLv (h : lc_OL c ba op ov) {q : Nat} (hq : q < 16) {m : Nat} (hm : m ≤ 96) (hc : c ≤ 60000) :
    0 ≤ (lc_lf ek er ep ev el ba q m).2.1.toInt ∧ (lc_lf ek er ep ev el ba q m).2.1.toInt ≤ (c + m : Nat) :=
  lc_vb (lc_OL0 h hq) (h q hq).1 m (by omega)
theorem lc_SR_add (h : lc_SR n w er) (hw : w < 2 ^ 31) : lc_SR (n + 1) w (upd er n (nI w)) := by
  have e : (nI w).toInt = w := nI_toInt hw
  refine ⟨fun i j hij hj => ?_, fun i hi => ?_⟩
  · by_cases z : j = n
    · subst z
      rw [pk_us, e]
      by_cases z2 : i = j
      · subst z2; rw [pk_us, e]; omega
      · rw [pk_un z2]; exact h.2 i (by omega)
    · rw [pk_un z, pk_un (by omega)]
      exact h.1 i j hij (by omega)
  · by_cases z : i = n
    · subst z; rw [pk_us, e]; omega
    · rw [pk_un z]; exact h.2 i (by omega)
theorem lc_qne {q x : Nat} (hq : q < 16) (hx : x < 16) (h : x ≠ q) : ¬ nI q = nI x := by
  rw [nI_eq (by omega) (by omega)]; omega
theorem lc_CH_add (h : lc_CH n ek eb nw) {q : Nat} (hq : q < 16) : lc_CH (n + 1) (upd ek n (nI q)) (upd eb n (nw q)) (upd nw q (nI n)) := by
  refine ⟨fun x hx => ?_, fun i hi => ?_⟩
  · by_cases z : x = q
    · subst z
      rw [pk_us, lc_la_t pk_us]
    · rw [pk_un z, lc_la_f (by rw [pk_us]; exact lc_qne hq hx z), lc_la_up (Nat.le_refl _)]
      exact h.1 x hx
  · by_cases z : i = n
    · subst z
      rw [pk_us, pk_us, lc_la_up (Nat.le_refl _)]
      exact h.1 q hq
    · rw [pk_un z, pk_un z, lc_la_up (by omega)]
      exact h.2 i (by omega)
theorem lc_KR_add (h : lc_KR n ek ed ep) {q : Nat} (hq : q < 16) {d p : Int32} (hd : (d = 0 ∧ p = 1) ∨ (d = 1 ∧ p = 0)) :
    lc_KR (n + 1) (upd ek n (nI q)) (upd ed n d) (upd ep n p) := by
  intro i hi
  by_cases z : i = n
  · subst z
    rw [pk_us, pk_us, pk_us]
    exact ⟨⟨q, hq, rfl⟩, hd⟩
  · rw [pk_un z, pk_un z, pk_un z]
    exact h i (by omega)
theorem lc_AT_add {va' ve' mo' cr' lo' : Nat → Int32} {q : Nat} {r a d le p : Int32} (h : lc_AT n ek er ep ev el ba va ve mo cr lo) (hq : q < 16)
    (hx : ∀ x, x ≠ q → va' x = va x ∧ ve' x = ve x ∧ mo' x = mo x ∧ cr' x = cr x ∧ lo' x = lo x)
    (he : lc_ap (upd er n r) (upd ep n p) (upd ev n a) (upd el n le) n (va q, ve q, mo q, cr q, lo q) = (va' q, ve' q, mo' q, cr' q, lo' q)) :
    lc_AT (n + 1) (upd ek n (nI q)) (upd er n r) (upd ep n p) (upd ev n a) (upd el n le) ba va' ve' mo' cr' lo' := by
  intro x hx16
  by_cases z : x = q
  · subst z
    rw [lc_lf_t pk_us, lc_lf_up (Nat.le_refl _), h x hx16, he]
  · rw [lc_lf_f (by rw [pk_us]; exact lc_qne hq hx16 z), lc_lf_up (Nat.le_refl _), h x hx16]
    obtain ⟨e1, e2, e3, e4, e5⟩ := hx x z
    rw [e1, e2, e3, e4, e5]
theorem lc_EF_put {cr' ve' : Nat → Int32} {q : Nat} {a le : Int32} (h : lc_EF c n w ek ev ed er eb nw op ov pr va cr mo ve lo ba ep el)
    (hn : n < 60) (hq : q < 16) (hc : c ≤ 60000) (hw : w ≤ 60000)
    (hcr : ∀ x, x ≠ q → cr' x = cr x) (hcq : cr' q = if ve q = 0 then nI w else cr q)
    (hve : ∀ x, x ≠ q → ve' x = ve x) (hvq : ve' q = ve q + 1) :
    lc_EF c (n + 1) w (upd ek n (nI q)) (upd ev n a) (upd ed n 0) (upd er n (nI w)) (upd eb n (nw q)) (upd nw q (nI n)) op ov (upd pr q 1) (upd va q a) cr' (upd mo q (nI w)) ve' (upd lo q le) ba (upd ep n 1) (upd el n le) := by
  obtain ⟨h1, h2, h3, h4, h5, h6, h7⟩ := h
  have p1 := lc_pc_le (upd pr q 1) 16
  have hv : 0 ≤ (ve q).toInt ∧ (ve q).toInt ≤ (c + n : Nat) := by
    have := lc_OLv (ek := ek) (er := er) (ep := ep) (ev := ev) (el := el) h7 hq (m := n) (by omega) hc
    rw [h5 q hq] at this
    exact this
  refine ⟨by omega, lc_SR_add h2 (by omega), lc_CH_add h3 hq, lc_KR_add h4 hq (Or.inl ⟨rfl, rfl⟩), lc_AT_add (d := 0) h5 hq (fun x hx => ⟨pk_un hx, hve x hx, pk_un hx, hcr x hx, pk_un hx⟩) ?_, ?_, h7⟩
  · rw [lc_ap_p (by rw [pk_us]; decide), pk_us, pk_us, pk_us, pk_us, pk_us, pk_us, hcq, hvq]
  · intro x hx
    by_cases z : x = q
    · subst z
      rw [pk_us, hvq, lc_p1 hv.1 hv.2 (by omega)]
      exact Or.inr ⟨rfl, by omega⟩
    · rw [pk_un z, pk_un z, hve x z]
      exact h6 x hx
theorem lc_EF_del {q : Nat} (h : lc_EF c n w ek ev ed er eb nw op ov pr va cr mo ve lo ba ep el)
    (hp : ¬ pr q = 0) (hq : q < 16) (hw : w ≤ 60000) :
    lc_EF c (n + 1) w (upd ek n (nI q)) (upd ev n 0) (upd ed n 1) (upd er n (nI w)) (upd eb n (nw q)) (upd nw q (nI n)) op ov (upd pr q 0) (upd va q 0) (upd cr q 0) (upd mo q 0) (upd ve q 0) (upd lo q (-1)) ba (upd ep n 0) (upd el n (-1)) := by
  obtain ⟨h1, h2, h3, h4, h5, h6, h7⟩ := h
  have p1 := lc_pc_d hp 16 hq
  refine ⟨by omega, lc_SR_add h2 (by omega), lc_CH_add h3 hq, lc_KR_add h4 hq (Or.inr ⟨rfl, rfl⟩), lc_AT_add (d := 0) h5 hq (fun x hx => ⟨pk_un hx, pk_un hx, pk_un hx, pk_un hx, pk_un hx⟩) ?_, ?_, h7⟩
  · rw [lc_ap_d pk_us, pk_us, pk_us, pk_us, pk_us, pk_us]
  · intro x hx
    by_cases z : x = q
    · subst z
      rw [pk_us, pk_us, pk_us]
      exact Or.inl ⟨rfl, rfl, rfl⟩
    · rw [pk_un z, pk_un z, pk_un z]
      exact h6 x hx
theorem lc_SP_n (h : lc_SR n w er) (hw : w < 2 ^ 31) : lc_SP n n (nI w) er := by
  refine ⟨Nat.le_refl _, fun i hi => ?_, fun i h1 h2 => by omega⟩
  rw [Int32.lt_iff_toInt_lt, nI_toInt hw]
  have := h.2 i hi
  omega
theorem lc_SP_add {g y : Nat} (h : lc_SP g n (nI y) er) (hy : y < w) (hw : w < 2 ^ 31) : lc_SP g (n + 1) (nI y) (upd er n (nI w)) := by
  refine ⟨by have := h.1; omega, fun i hi => ?_, fun i h1 h2 => ?_⟩
  · rw [pk_un (by have := h.1; omega)]; exact h.2.1 i hi
  · by_cases z : i = n
    · subst z; rw [pk_us]; exact nI_lt hy hw
    · rw [pk_un z]; exact h.2.2 i h1 (by omega)
/-- every revision cuts the list -/
theorem lc_SP_ex {n : Nat} (x : Int32) (h : ∀ i j, i ≤ j → j < n → (er i).toInt ≤ (er j).toInt) : ∃ g, lc_SP g n x er := by
  induction n with
  | zero => exact ⟨0, Nat.le_refl _, fun i hi => by omega, fun i h1 h2 => by omega⟩
  | succ n ih =>
    obtain ⟨g, g1, g2, g3⟩ := ih (fun i j a b => h i j a (by omega))
    by_cases z : x < er n
    · refine ⟨g, by omega, g2, fun i h1 h2 => ?_⟩
      by_cases e : i = n
      · subst e; exact z
      · exact g3 i h1 (by omega)
    · refine ⟨n + 1, Nat.le_refl _, fun i hi => ?_, fun i h1 h2 => by omega⟩
      rw [Int32.lt_iff_toInt_lt] at z ⊢
      have := h i n (by omega) (by omega)
      omega
theorem lc_SP_uq {g g' n : Nat} {x : Int32} (h : lc_SP g n x er) (h' : lc_SP g' n x er) : g = g' := by
  obtain ⟨a1, a2, a3⟩ := h
  obtain ⟨b1, b2, b3⟩ := h'
  rcases Nat.lt_trichotomy g g' with z | z | z
  · exact absurd (a3 g (by omega) (by omega)) (b2 g z)
  · exact z
  · exact absurd (b3 g' (by omega) (by omega)) (a2 g' z)
end P2
end
section
/-! leases: the keys of a lease as bits, and the list in order of expiry -/
theorem lc_bt1 : ∀ i, i < 32 → bt 1 i = decide (i = 0) := by decide +kernel
theorem lc_sh1 {q : Nat} (hq : q < 32) {i : Nat} (hi : i < 32) : bt ((1 : Int32) <<< (nI q &&& 31)) i = decide (i = q) := by
  rw [b_shl q hq 1 hi, lc_bt1 (i - q) (by omega)]
  by_cases z : i = q
  · subst z; simp
  · rw [decide_eq_false z]
    by_cases z2 : q ≤ i
    · rw [decide_eq_false (by omega : ¬ i - q = 0), Bool.and_false]
    · rw [decide_eq_false z2, Bool.false_and]
theorem lc_bit {x : Int32} {k : Nat} (hk : k < 16) : ((x >>> (nI k &&& 31)) &&& 1) = if bt x k then 1 else 0 := by
  apply b_ext
  intro i hi
  rw [b_and, b_sshr k (by omega) x hi, lc_bt1 i hi]
  by_cases z : i = 0
  · subst z
    rw [if_pos (by omega), Nat.add_zero]
    cases bt x k
    · rw [if_neg (by decide), b_0]; rfl
    · rw [if_pos rfl, lc_bt1 0 (by omega)]; rfl
  · rw [decide_eq_false z, Bool.and_false]
    cases bt x k
    · rw [if_neg (by decide), b_0]
    · rw [if_pos rfl, lc_bt1 i hi, decide_eq_false z]
/-- the bits of the leases say which keys hang on them -/
def lc_LB (lo ko : Nat → Int32) : Prop := ∀ l, l < 4 → ∀ i, i < 32 → bt (ko l) i = decide (i < 16 ∧ lo i = nI l)
/-- a lease that a key hangs on is granted -/
def lc_LQ (lo li : Nat → Int32) : Prop := ∀ q, q < 16 → lo q = -1 ∨ ∃ l, l < 4 ∧ lo q = nI l ∧ ¬ li l = 0
def lc_LR (x : Int32) : Prop := x = -1 ∨ ∃ l, l < 4 ∧ x = nI l
theorem lc_LQ_R {lo li : Nat → Int32} (h : lc_LQ lo li) {q : Nat} (hq : q < 16) : lc_LR (lo q) := by
  rcases h q hq with e | ⟨l, hl, e, _⟩
  · exact Or.inl e
  · exact Or.inr ⟨l, hl, e⟩
theorem lc_m1n {l : Nat} (h : l < 2 ^ 31) : ¬ (-1 : Int32) = nI l := by
  intro e
  have := congrArg Int32.toInt e
  rw [nI_toInt h, show (-1 : Int32).toInt = -1 from by decide] at this
  omega
theorem lc_LB_0 {lo ko : Nat → Int32} (h : lc_LB lo ko) {l : Nat} (hl : l < 4) : ko l = 0 ↔ ∀ q, q < 16 → ¬ lo q = nI l := by
  constructor
  · intro e q hq e2
    have := h l hl q (by omega)
    rw [e, b_0, decide_eq_true ⟨hq, e2⟩] at this
    exact absurd this (by decide)
  · intro hz
    apply b_ext
    intro i hi
    rw [h l hl i hi, b_0]
    exact decide_eq_false (fun z => hz i z.1 z.2)
theorem lc_dec {a b : Prop} [Decidable a] [Decidable b] (h : a ↔ b) : decide a = decide b := decide_eq_decide.mpr h
/-- a key leaves its lease -/
theorem lc_LB_out {lo ko : Nat → Int32} (h : lc_LB lo ko) {q p : Nat} (hq : q < 16) (hp : p < 4) (e : lo q = nI p) :
    lc_LB (upd lo q (-1)) (upd ko p (ko p &&& (((1 : Int32) <<< (nI q &&& 31)) ^^^ (-1)))) := by
  intro l hl i hi
  by_cases z : l = p
  · subst z
    rw [pk_us, b_and, b_xor, lc_sh1 (by omega) hi, b_m1 i hi, h l hl i hi]
    by_cases z2 : i = q
    · subst z2
      rw [pk_us, decide_eq_true rfl, decide_eq_false (p := i < 16 ∧ (-1 : Int32) = nI l) (fun z => lc_m1n (by omega : l < 2 ^ 31) z.2)]
      simp
    · rw [pk_un z2, decide_eq_false z2]; simp
  · rw [pk_un z, h l hl i hi]
    apply lc_dec
    by_cases z2 : i = q
    · subst z2
      rw [pk_us, e]
      exact ⟨fun y => absurd ((nI_eq (by omega) (by omega)).mp y.2) (fun y2 => z y2.symm), fun y => absurd y.2 (lc_m1n (by omega))⟩
    · rw [pk_un z2]
/-- a key that hangs nowhere stays so -/
theorem lc_LB_same {lo ko : Nat → Int32} (h : lc_LB lo ko) {q : Nat} (e : lo q = -1) : lc_LB (upd lo q (-1)) ko := by
  intro l hl i hi
  rw [h l hl i hi]
  apply lc_dec
  by_cases z2 : i = q
  · subst z2; rw [pk_us, e]
  · rw [pk_un z2]
/-- a key comes to a lease -/
theorem lc_LB_in {lo ko : Nat → Int32} (h : lc_LB lo ko) {q p : Nat} (hq : q < 16) (hp : p < 4) (e : lo q = -1) :
    lc_LB (upd lo q (nI p)) (upd ko p (ko p ||| ((1 : Int32) <<< (nI q &&& 31)))) := by
  intro l hl i hi
  by_cases z : l = p
  · subst z
    rw [pk_us, b_or, lc_sh1 (by omega) hi, h l hl i hi]
    by_cases z2 : i = q
    · subst z2
      rw [pk_us, decide_eq_true rfl, decide_eq_true (⟨hq, rfl⟩ : i < 16 ∧ nI l = nI l)]
      simp
    · rw [pk_un z2, decide_eq_false z2, Bool.or_false]
  · rw [pk_un z, h l hl i hi]
    apply lc_dec
    by_cases z2 : i = q
    · subst z2
      rw [pk_us, e]
      exact ⟨fun y => absurd y.2 (lc_m1n (by omega)), fun y => absurd ((nI_eq (by omega) (by omega)).mp y.2) (fun y2 => z y2.symm)⟩
    · rw [pk_un z2]
theorem lc_upup {f : Nat → Int32} {k : Nat} {x y : Int32} : upd (upd f k x) k y = upd f k y := by
  funext j
  by_cases z : j = k
  · subst z; rw [pk_us, pk_us]
  · rw [pk_un z, pk_un z, pk_un z]
theorem lc_LQ_put {lo li : Nat → Int32} (h : lc_LQ lo li) {q : Nat} {x : Int32} (hx : x = -1 ∨ ∃ l, l < 4 ∧ x = nI l ∧ ¬ li l = 0) : lc_LQ (upd lo q x) li := by
  intro k hk
  by_cases z : k = q
  · subst z; rw [pk_us]; exact hx
  · rw [pk_un z]; exact h k hk
/-- the order of leases: by expiry, then by number -/
def lc_sk (ex : Nat → Int32) (l : Nat) : Int := (ex l).toInt * 4 + l
/-- the list bx of m leases holds exactly those of G, in order -/
def lc_LS (m : Nat) (G : Nat → Prop) (ex bx : Nat → Int32) (b : Nat → Nat) : Prop :=
  (∀ i, i < m → b i < 4 ∧ bx i = nI (b i) ∧ G (b i)) ∧ (∀ i j, i < j → j < m → lc_sk ex (b i) < lc_sk ex (b j)) ∧ (∀ l, l < 4 → G l → ∃ i, i < m ∧ b i = l)
def lc_LG (li gr tt : Nat → Int32) : Prop := ∀ l, l < 4 → (gr l = 0 ∧ li l = 0) ∨ (gr l = 1 ∧ 1 ≤ (li l).toInt ∧ (li l).toInt ≤ 50 ∧ tt l = li l)
def lc_LF (m : Nat) (li ex bx gr tt : Nat → Int32) : Prop :=
  m = lc_pc li 4 ∧ (∃ b, lc_LS m (fun l => ¬ li l = 0) ex bx b) ∧ lc_LG li gr tt
theorem lc_pc_u {li : Nat → Int32} {q : Nat} {x : Int32} (h0 : li q = 0) (hx : ¬ x = 0) : ∀ m, q < m → lc_pc (upd li q x) m = lc_pc li m + 1 := by
  intro m hm
  have e : upd (upd li q x) q 0 = li := by
    funext j
    by_cases z : j = q
    · subst z; rw [pk_us, h0]
    · rw [pk_un z, pk_un z]
  have := lc_pc_d (pr := upd li q x) (q := q) (by rw [pk_us]; exact hx) m hm
  rw [e] at this
  omega
/-- taking a lease out of the list -/
theorem lc_LS_out {m p l : Nat} {G : Nat → Prop} {ex bx bx' : Nat → Int32} {b : Nat → Nat} (h : lc_LS m G ex bx b) (hp : p < m) (e : b p = l)
    (hx : ∀ j, j < m - 1 → bx' j = bx (if j < p then j else j + 1)) :
    lc_LS (m - 1) (fun x => x ≠ l ∧ G x) ex bx' (fun j => b (if j < p then j else j + 1)) := by
  obtain ⟨h1, h2, h3⟩ := h
  have inj : ∀ j, j < m → j ≠ p → b j ≠ l := by
    intro j hj hjp z
    rcases Nat.lt_or_gt_of_ne hjp with y | y
    · have := h2 j p y hp; rw [z, e] at this; omega
    · have := h2 p j y hj; rw [z, e] at this; omega
  refine ⟨fun i hi => ?_, fun i j hij hj => ?_, fun x hx4 hG => ?_⟩
  · rw [hx i hi]
    by_cases z : i < p
    · simp only [if_pos z]
      exact ⟨(h1 i (by omega)).1, (h1 i (by omega)).2.1, inj i (by omega) (by omega), (h1 i (by omega)).2.2⟩
    · simp only [if_neg z]
      exact ⟨(h1 (i + 1) (by omega)).1, (h1 (i + 1) (by omega)).2.1, inj (i + 1) (by omega) (by omega), (h1 (i + 1) (by omega)).2.2⟩
  · dsimp only
    by_cases z : j < p
    · rw [if_pos z, if_pos (by omega)]; exact h2 i j hij (by omega)
    · rw [if_neg z]
      by_cases z2 : i < p
      · rw [if_pos z2]; exact h2 i (j + 1) (by omega) (by omega)
      · rw [if_neg z2]; exact h2 (i + 1) (j + 1) (by omega) (by omega)
  · obtain ⟨i, hi, e2⟩ := h3 x hx4 hG.2
    have hne : i ≠ p := fun z => hG.1 (by rw [← e2, z, e])
    by_cases z : i < p
    · exact ⟨i, by omega, by simp only [if_pos z]; exact e2⟩
    · refine ⟨i - 1, by omega, ?_⟩
      simp only [if_neg (by omega : ¬ i - 1 < p)]
      rw [show i - 1 + 1 = i by omega]; exact e2
/-- putting a lease into the list at its place -/
theorem lc_LS_in {m a l : Nat} {G : Nat → Prop} {ex bx bx' : Nat → Int32} {b : Nat → Nat} (h : lc_LS m G ex bx b) (hl : l < 4) (ha : a ≤ m)
    (hlo : ∀ j, j < a → lc_sk ex (b j) < lc_sk ex l) (hhi : ∀ j, a ≤ j → j < m → lc_sk ex l < lc_sk ex (b j))
    (x1 : ∀ j, j < a → bx' j = bx j) (x2 : bx' a = nI l) (x3 : ∀ j, a ≤ j → j < m → bx' (j + 1) = bx j) :
    lc_LS (m + 1) (fun x => x = l ∨ G x) ex bx' (fun j => if j < a then b j else if j = a then l else b (j - 1)) := by
  obtain ⟨h1, h2, h3⟩ := h
  refine ⟨fun i hi => ?_, fun i j hij hj => ?_, fun x hx4 hG => ?_⟩
  · by_cases z : i < a
    · simp only [if_pos z]
      rw [x1 i z]
      exact ⟨(h1 i (by omega)).1, (h1 i (by omega)).2.1, Or.inr (h1 i (by omega)).2.2⟩
    · by_cases z2 : i = a
      · subst z2
        simp only [if_neg z, if_true]
        exact ⟨hl, x2, Or.inl (by trivial)⟩
      · simp only [if_neg z, if_neg z2]
        have e := x3 (i - 1) (by omega) (by omega)
        rw [show i - 1 + 1 = i by omega] at e
        rw [e]
        exact ⟨(h1 (i - 1) (by omega)).1, (h1 (i - 1) (by omega)).2.1, Or.inr (h1 (i - 1) (by omega)).2.2⟩
  · dsimp only
    by_cases z : j < a
    · rw [if_pos z, if_pos (by omega)]; exact h2 i j hij (by omega)
    · rw [if_neg z]
      by_cases z2 : j = a
      · subst z2
        rw [if_pos (by omega), if_pos rfl]; exact hlo i (by omega)
      · rw [if_neg z2]
        by_cases y : i < a
        · rw [if_pos y]; exact h2 i (j - 1) (by omega) (by omega)
        · rw [if_neg y]
          by_cases y2 : i = a
          · rw [if_pos y2]; exact hhi (j - 1) (by omega) (by omega)
          · rw [if_neg y2]; exact h2 (i - 1) (j - 1) (by omega) (by omega)
  · rcases hG with e | hG
    · exact ⟨a, by omega, by simp only [if_neg (Nat.lt_irrefl a), if_true]; exact e.symm⟩
    · obtain ⟨i, hi, e2⟩ := h3 x hx4 hG
      by_cases z : i < a
      · exact ⟨i, by omega, by simp only [if_pos z]; exact e2⟩
      · refine ⟨i + 1, by omega, ?_⟩
        simp only [if_neg (by omega : ¬ i + 1 < a), if_neg (by omega : ¬ i + 1 = a)]
        rw [Nat.add_sub_cancel]; exact e2
theorem lc_LS_cg {m : Nat} {G G' : Nat → Prop} {ex ex' bx : Nat → Int32} {b : Nat → Nat} (h : lc_LS m G ex bx b)
    (hG : ∀ l, l < 4 → (G l ↔ G' l)) (he : ∀ l, l < 4 → G l → ex' l = ex l) : lc_LS m G' ex' bx b := by
  obtain ⟨h1, h2, h3⟩ := h
  refine ⟨fun i hi => ⟨(h1 i hi).1, (h1 i hi).2.1, (hG _ (h1 i hi).1).mp (h1 i hi).2.2⟩, fun i j hij hj => ?_, fun l hl hg => h3 l hl ((hG l hl).mpr hg)⟩
  have a := h2 i j hij hj
  unfold lc_sk at a ⊢
  rw [he _ (h1 i (by omega)).1 (h1 i (by omega)).2.2, he _ (h1 j hj).1 (h1 j hj).2.2]
  exact a
end
section
/-! the component's own small methods -/
theorem lc_key (x : Int32) : (x < 0 ∨ 16 ≤ x) ∨ ∃ q, q < 16 ∧ x = nI q := by
  rcases pk_ix x (n := 16) (by decide) with h | h | h
  · exact Or.inl (Or.inl h)
  · exact Or.inl (Or.inr h)
  · exact Or.inr h
theorem lc_lease (x : Int32) : (x < 0 ∨ 4 ≤ x) ∨ ∃ l, l < 4 ∧ x = nI l := by
  rcases pk_ix x (n := 4) (by decide) with h | h | h
  · exact Or.inl (Or.inl h)
  · exact Or.inl (Or.inr h)
  · exact Or.inr h
theorem lc_nlt {x y : Int32} (h : y ≤ x) : ¬ x < y := Int32.not_lt.mpr h
theorem lc_nle {x y : Int32} (h : y < x) : ¬ x ≤ y := Int32.not_le.mpr h
theorem lx_bk {post : Int32 → Prop} {q : Nat} (hq : q < 16) (h : post 0) : wpX_badKey post (nI q) :=
  br_f (nI_pos (by omega)) (br_t (nI_lt (b := 16) hq (by decide)) h)
theorem lx_bkb {post : Int32 → Prop} {x : Int32} (hx : x < 0 ∨ 16 ≤ x) (h : post 1) : wpX_badKey post x := by
  by_cases z : x < 0
  · exact br_t z h
  · exact br_f z (br_f (lc_nlt (hx.resolve_left z)) h)
/-- a link after g events went -/
def lc_cut (g : Nat) (x : Int32) : Int32 := if nI g ≤ x then x - nI g else -1
section WX
variable {n w y m nc : Nat} {o t : Int32} {ek ev ed er eb nw op ov pr va cr mo ve lo li ex ko bx ck cy cc cn ac ay av ad ba ep el se cd ap gr tt : Nat → Int32}
theorem lx_nlb {post : Int32 → Prop} {x : Int32} (hx : x < 0 ∨ 4 ≤ x) (h : post 1) : wpX_noLease post ((nI n), (nI w), o, (nI m), t, (nI nc), ek, ev, ed, er, eb, nw, op, ov, pr, va, cr, mo, ve, lo, li, ex, ko, bx, ck, cy, cc, cn, ac, ay, av, ad) x := by
  by_cases z : x < 0
  · exact br_t z h
  · exact br_f z (br_t (hx.resolve_left z) h)
theorem lx_nl0 {post : Int32 → Prop} {l : Nat} (hl : l < 4) (e : li l = 0) (h : post 1) : wpX_noLease post ((nI n), (nI w), o, (nI m), t, (nI nc), ek, ev, ed, er, eb, nw, op, ov, pr, va, cr, mo, ve, lo, li, ex, ko, bx, ck, cy, cc, cn, ac, ay, av, ad) (nI l) := by
  have el : (nI l).toNatClampNeg = l := nI_clamp (by omega)
  exact br_f (nI_pos (by omega)) (br_f (nI_ge (b := 4) hl (by decide)) ⟨vp_in_nI hl (by omega), br_t (by rw [el]; exact e) h⟩)
theorem lx_nl1 {post : Int32 → Prop} {l : Nat} (hl : l < 4) (e : ¬ li l = 0) (h : post 0) : wpX_noLease post ((nI n), (nI w), o, (nI m), t, (nI nc), ek, ev, ed, er, eb, nw, op, ov, pr, va, cr, mo, ve, lo, li, ex, ko, bx, ck, cy, cc, cn, ac, ay, av, ad) (nI l) := by
  have el : (nI l).toNatClampNeg = l := nI_clamp (by omega)
  exact br_f (nI_pos (by omega)) (br_f (nI_ge (b := 4) hl (by decide)) ⟨vp_in_nI hl (by omega), br_f (by rw [el]; exact e) h⟩)
theorem lx_addEvent {post : SX → Prop} {q : Nat} {a d r : Int32} (hn : n < 96) (hq : q < 16) (hd : vp_nar .boolean d = d)
    (h : post (nI (n + 1), (nI w), o, (nI m), t, (nI nc), upd ek n (nI q), upd ev n a, upd ed n d, upd er n r, upd eb n (nw q), upd nw q (nI n), op, ov, pr, va, cr, mo, ve, lo, li, ex, ko, bx, ck, cy, cc, cn, ac, ay, av, ad)) :
    wpX_addEvent post ((nI n), (nI w), o, (nI m), t, (nI nc), ek, ev, ed, er, eb, nw, op, ov, pr, va, cr, mo, ve, lo, li, ex, ko, bx, ck, cy, cc, cn, ac, ay, av, ad) (nI q) a d r := by
  have e : (nI n).toNatClampNeg = n := nI_clamp (by omega)
  have eq : (nI q).toNatClampNeg = q := nI_clamp (by omega)
  have wn : vp_in (nI n) 96 := vp_in_nI hn (by omega)
  have wq : vp_in (nI q) 16 := vp_in_nI hq (by omega)
  exact br_t (nI_lt (b := 96) hn (by decide)) ⟨wn, nm_r (e' := upd ek n (nI q)) (by rw [e]) ⟨wn, nm_r (e' := upd ev n a) (by rw [e]) ⟨wn, nm_r (e' := upd ed n d) (by rw [e, hd]) ⟨wn, nm_r (e' := upd er n r) (by rw [e]) ⟨wq, ⟨wn, nm_r (e' := upd eb n (nw q)) (by rw [e, eq]) ⟨wq, nm_r (e' := upd nw q (nI n)) (by rw [eq]) (nm_r (nI_1 n) h)⟩⟩⟩⟩⟩⟩⟩
theorem lx_hang28 {q : Nat} {le : Int32} (hq : q < 16) (hb : lc_LB (upd lo q (-1)) ko) (h1 : lc_LR le) :
    ∃ ko', lc_LB (upd lo q le) ko' ∧ ∀ {n w m nc : Nat} {o t : Int32} {ek ev ed er eb nw op ov pr va cr mo ve li ex bx ck cy cc cn ac ay av ad : Nat → Int32} {post : SX → Prop}, post ((nI n), (nI w), o, (nI m), t, (nI nc), ek, ev, ed, er, eb, nw, op, ov, pr, va, cr, mo, ve, upd lo q le, li, ex, ko', bx, ck, cy, cc, cn, ac, ay, av, ad) → wX_hang_28 post (nI q) le (nI n) (nI w) o (nI m) t (nI nc) ek ev ed er eb nw op ov pr va cr mo ve lo li ex ko bx ck cy cc cn ac ay av ad := by
  have eq : (nI q).toNatClampNeg = q := nI_clamp (by omega)
  have wq : vp_in (nI q) 16 := vp_in_nI hq (by omega)
  rcases h1 with rfl | ⟨l, hl, rfl⟩
  · refine ⟨ko, hb, ?_⟩
    intros
    rename_i h
    exact ⟨wq, nm_r (e' := upd lo q (-1)) (by rw [eq]) (br_t (by decide) h)⟩
  · have el : (nI l).toNatClampNeg = l := nI_clamp (by omega)
    have wl : vp_in (nI l) 4 := vp_in_nI hl (by omega)
    have hb' := lc_LB_in hb hq hl pk_us
    rw [lc_upup] at hb'
    refine ⟨_, hb', ?_⟩
    intros
    rename_i h
    exact ⟨wq, nm_r (e' := upd lo q (nI l)) (by rw [eq]) (br_f (nI_pos (by omega)) ⟨wl, wl, nm_r (e' := upd ko l (ko l ||| ((1 : Int32) <<< (nI q &&& 31)))) (by rw [el]) h⟩)⟩
theorem lx_hang {q : Nat} {le : Int32} (hq : q < 16) (hb : lc_LB lo ko) (h0 : lc_LR (lo q)) (h1 : lc_LR le) :
    ∃ ko', lc_LB (upd lo q le) ko' ∧ ∀ {n w m nc : Nat} {o t : Int32} {ek ev ed er eb nw op ov pr va cr mo ve li ex bx ck cy cc cn ac ay av ad : Nat → Int32} {post : SX → Prop}, post ((nI n), (nI w), o, (nI m), t, (nI nc), ek, ev, ed, er, eb, nw, op, ov, pr, va, cr, mo, ve, upd lo q le, li, ex, ko', bx, ck, cy, cc, cn, ac, ay, av, ad) → wpX_hang post ((nI n), (nI w), o, (nI m), t, (nI nc), ek, ev, ed, er, eb, nw, op, ov, pr, va, cr, mo, ve, lo, li, ex, ko, bx, ck, cy, cc, cn, ac, ay, av, ad) (nI q) le := by
  have eq : (nI q).toNatClampNeg = q := nI_clamp (by omega)
  have wq : vp_in (nI q) 16 := vp_in_nI hq (by omega)
  rcases h0 with e | ⟨p, hp, e⟩
  · obtain ⟨ko', k1, k2⟩ := lx_hang28 (ko := ko) hq (lc_LB_same hb e) h1
    refine ⟨ko', k1, ?_⟩
    intros
    rename_i h
    exact ⟨wq, br_t (by rw [eq, e]; decide) (k2 h)⟩
  · have e1 : lo (nI q).toNatClampNeg = nI p := by rw [eq]; exact e
    have ep : (nI p).toNatClampNeg = p := nI_clamp (by omega)
    have wp : vp_in (lo (nI q).toNatClampNeg) 4 := by rw [e1]; exact vp_in_nI hp (by omega)
    obtain ⟨ko', k1, k2⟩ := lx_hang28 (ko := upd ko p (ko p &&& (((1 : Int32) <<< (nI q &&& 31)) ^^^ (-1)))) hq (lc_LB_out hb hq hp e) h1
    refine ⟨ko', k1, ?_⟩
    intros
    rename_i h
    exact ⟨wq, br_f (by rw [e1]; exact nI_pos (by omega)) ⟨wq, wp, wp, nm_r (e' := upd ko p (ko p &&& (((1 : Int32) <<< (nI q &&& 31)) ^^^ (-1)))) (by rw [e1, ep]) (k2 h)⟩⟩
theorem lx_put33 {q : Nat} {a le r : Int32} (hq : q < 16) (hb : lc_LB lo ko) (h0 : lc_LR (lo q)) (h1 : lc_LR le) :
    ∃ ko', lc_LB (upd lo q le) ko' ∧ ∀ {n w m nc : Nat} {o t : Int32} {ek ev ed er eb nw op ov pr va cr mo ve li ex bx ck cy cc cn ac ay av ad : Nat → Int32} {post : SX → Prop}, post ((nI n), (nI w), o, (nI m), t, (nI nc), ek, ev, ed, er, eb, nw, op, ov, upd pr q 1, upd va q a, cr, upd mo q r, upd ve q (ve q + 1), upd lo q le, li, ex, ko', bx, ck, cy, cc, cn, ac, ay, av, ad) →
    wX_putKey_33 post (nI q) a le r (nI n) (nI w) o (nI m) t (nI nc) ek ev ed er eb nw op ov pr va cr mo ve lo li ex ko bx ck cy cc cn ac ay av ad := by
  have eq : (nI q).toNatClampNeg = q := nI_clamp (by omega)
  have wq : vp_in (nI q) 16 := vp_in_nI hq (by omega)
  obtain ⟨ko', k1, k2⟩ := lx_hang hq hb h0 h1
  refine ⟨ko', k1, ?_⟩
  intro n w m nc o t ek ev ed er eb nw op ov pr va cr mo ve li ex bx ck cy cc cn ac ay av ad post h
  exact ⟨wq, nm_r (e' := upd pr q 1) (by rw [eq]; rfl) ⟨wq, nm_r (e' := upd va q a) (by rw [eq]) ⟨wq, nm_r (e' := upd mo q r) (by rw [eq]) ⟨wq, ⟨wq, nm_r (e' := upd ve q (ve q + 1)) (by rw [eq]) (k2 h)⟩⟩⟩⟩⟩
theorem lx_putKey {q : Nat} {a le r : Int32} (hn : n < 96) (hq : q < 16) (hb : lc_LB lo ko) (h0 : lc_LR (lo q)) (h1 : lc_LR le)
    (hp : (pr q = 0 ∧ ve q = 0 ∧ lo q = -1) ∨ (pr q = 1 ∧ 0 < (ve q).toInt)) :
    ∃ ko' cr' ve', lc_LB (upd lo q le) ko' ∧ (∀ x, x ≠ q → cr' x = cr x) ∧ cr' q = (if ve q = 0 then r else cr q) ∧ (∀ x, x ≠ q → ve' x = ve x) ∧ ve' q = ve q + 1 ∧
      ∀ {w m nc : Nat} {o t : Int32} {ek ev ed er eb nw op ov va mo li ex bx ck cy cc cn ac ay av ad : Nat → Int32} {post : SX → Prop}, post (nI (n + 1), (nI w), o, (nI m), t, (nI nc), upd ek n (nI q), upd ev n a, upd ed n 0, upd er n r, upd eb n (nw q), upd nw q (nI n), op, ov, upd pr q 1, upd va q a, cr', upd mo q r, ve', upd lo q le, li, ex, ko', bx, ck, cy, cc, cn, ac, ay, av, ad) →
    wpX_putKey post ((nI n), (nI w), o, (nI m), t, (nI nc), ek, ev, ed, er, eb, nw, op, ov, pr, va, cr, mo, ve, lo, li, ex, ko, bx, ck, cy, cc, cn, ac, ay, av, ad) (nI q) a le r := by
  have eq : (nI q).toNatClampNeg = q := nI_clamp (by omega)
  have wq : vp_in (nI q) 16 := vp_in_nI hq (by omega)
  obtain ⟨ko', k1, k2⟩ := lx_put33 (a := a) (r := r) hq hb h0 h1
  rcases hp with ⟨e1, e2, _⟩ | ⟨e1, e2⟩
  · refine ⟨ko', upd cr q r, upd (upd ve q 0) q (upd ve q 0 q + 1), k1, (fun x hx => pk_un hx), (by rw [pk_us, if_pos e2]), (fun x hx => by rw [pk_un hx, pk_un hx]), (by rw [pk_us, pk_us, e2]), ?_⟩
    intro w m nc o t ek ev ed er eb nw op ov va mo li ex bx ck cy cc cn ac ay av ad post h
    unfold wpX_putKey
    refine lx_addEvent hn hq rfl ?_
    exact ⟨wq, br_t (by rw [eq]; exact e1) ⟨wq, nm_r (e' := upd cr q r) (by rw [eq]) ⟨wq, nm_r (e' := upd ve q 0) (by rw [eq]) (k2 h)⟩⟩⟩
  · have e3 : ¬ ve q = 0 := fun z => by rw [z, lc_z0] at e2; omega
    refine ⟨ko', cr, upd ve q (ve q + 1), k1, (fun x hx => rfl), (by rw [if_neg e3]), (fun x hx => pk_un hx), pk_us, ?_⟩
    intro w m nc o t ek ev ed er eb nw op ov va mo li ex bx ck cy cc cn ac ay av ad post h
    unfold wpX_putKey
    refine lx_addEvent hn hq rfl ?_
    exact ⟨wq, br_f (by rw [eq, e1]; decide) (k2 h)⟩
theorem lx_deleteKey {q : Nat} {r : Int32} (hn : n < 96) (hq : q < 16) (hb : lc_LB lo ko) (h0 : lc_LR (lo q)) :
    ∃ ko', lc_LB (upd lo q (-1)) ko' ∧
      ∀ {w m nc : Nat} {o t : Int32} {ek ev ed er eb nw op ov pr va cr mo ve li ex bx ck cy cc cn ac ay av ad : Nat → Int32} {post : SX → Prop}, post (nI (n + 1), (nI w), o, (nI m), t, (nI nc), upd ek n (nI q), upd ev n 0, upd ed n 1, upd er n r, upd eb n (nw q), upd nw q (nI n), op, ov, upd pr q 0, upd va q 0, upd cr q 0, upd mo q 0, upd ve q 0, upd lo q (-1), li, ex, ko', bx, ck, cy, cc, cn, ac, ay, av, ad) →
    wpX_deleteKey post ((nI n), (nI w), o, (nI m), t, (nI nc), ek, ev, ed, er, eb, nw, op, ov, pr, va, cr, mo, ve, lo, li, ex, ko, bx, ck, cy, cc, cn, ac, ay, av, ad) (nI q) r := by
  have eq : (nI q).toNatClampNeg = q := nI_clamp (by omega)
  have wq : vp_in (nI q) 16 := vp_in_nI hq (by omega)
  obtain ⟨ko', k1, k2⟩ := lx_hang hq hb h0 (Or.inl rfl : lc_LR (-1))
  refine ⟨ko', k1, ?_⟩
  intro w m nc o t ek ev ed er eb nw op ov pr va cr mo ve li ex bx ck cy cc cn ac ay av ad post h
  unfold wpX_deleteKey
  refine lx_addEvent hn hq rfl ?_
  exact ⟨wq, nm_r (e' := upd pr q 0) (by rw [eq]; rfl) ⟨wq, nm_r (e' := upd va q 0) (by rw [eq]) ⟨wq, nm_r (e' := upd cr q 0) (by rw [eq]) ⟨wq, nm_r (e' := upd mo q 0) (by rw [eq]) ⟨wq, nm_r (e' := upd ve q 0) (by rw [eq]) (k2 h)⟩⟩⟩⟩⟩
theorem lx_soon1 {post : Int32 → Prop} {a b : Nat} (ha : a < 4) (hb : b < 4) (hs : lc_sk ex a < lc_sk ex b) (h : post 1) : wpX_sooner post ((nI n), (nI w), o, (nI m), t, (nI nc), ek, ev, ed, er, eb, nw, op, ov, pr, va, cr, mo, ve, lo, li, ex, ko, bx, ck, cy, cc, cn, ac, ay, av, ad) (nI a) (nI b) := by
  have ea : (nI a).toNatClampNeg = a := nI_clamp (by omega)
  have eb' : (nI b).toNatClampNeg = b := nI_clamp (by omega)
  have wa : vp_in (nI a) 4 := vp_in_nI ha (by omega)
  have wb : vp_in (nI b) 4 := vp_in_nI hb (by omega)
  unfold lc_sk at hs
  by_cases z : ex a = ex b
  · rw [z] at hs
    exact ⟨wa, wb, br_t (by rw [ea, eb']; exact z) (br_f (nI_ge (by omega) (by omega)) h)⟩
  · have hlt : (ex a).toInt < (ex b).toInt := by
      rcases Int.lt_trichotomy (ex a).toInt (ex b).toInt with y | y | y
      · exact y
      · exact absurd (Int32.toInt_inj.mp y) z
      · omega
    exact ⟨wa, wb, br_f (by rw [ea, eb']; exact z) ⟨wa, wb, br_f (by rw [ea, eb', Int32.le_iff_toInt_le]; omega) h⟩⟩
theorem lx_soon0 {post : Int32 → Prop} {a b : Nat} (ha : a < 4) (hb : b < 4) (hs : ¬ lc_sk ex a < lc_sk ex b) (h : post 0) : wpX_sooner post ((nI n), (nI w), o, (nI m), t, (nI nc), ek, ev, ed, er, eb, nw, op, ov, pr, va, cr, mo, ve, lo, li, ex, ko, bx, ck, cy, cc, cn, ac, ay, av, ad) (nI a) (nI b) := by
  have ea : (nI a).toNatClampNeg = a := nI_clamp (by omega)
  have eb' : (nI b).toNatClampNeg = b := nI_clamp (by omega)
  have wa : vp_in (nI a) 4 := vp_in_nI ha (by omega)
  have wb : vp_in (nI b) 4 := vp_in_nI hb (by omega)
  unfold lc_sk at hs
  by_cases z : ex a = ex b
  · rw [z] at hs
    exact ⟨wa, wb, br_t (by rw [ea, eb']; exact z) (br_t (nI_le (by omega) (by omega)) h)⟩
  · exact ⟨wa, wb, br_f (by rw [ea, eb']; exact z) ⟨wa, wb, br_t (by rw [ea, eb', Int32.le_iff_toInt_le]; omega) h⟩⟩
theorem lx_enl45 {post : SX → Prop} {l a : Nat} (ha : a < 4) (h : post ((nI n), (nI w), o, nI (m + 1), t, (nI nc), ek, ev, ed, er, eb, nw, op, ov, pr, va, cr, mo, ve, lo, li, ex, ko, upd bx a (nI l), ck, cy, cc, cn, ac, ay, av, ad)) : wX_enlist_45 post (nI l) (nI a) (nI n) (nI w) o (nI m) t (nI nc) ek ev ed er eb nw op ov pr va cr mo ve lo li ex ko bx ck cy cc cn ac ay av ad := by
  have ea : (nI a).toNatClampNeg = a := nI_clamp (by omega)
  exact ⟨vp_in_nI ha (by omega), nm_r (e' := upd bx a (nI l)) (by rw [ea]) (nm_r (nI_1 m) h)⟩
theorem lc_sk_inj {a b : Nat} (ha : a < 4) (hb : b < 4) (h : lc_sk ex a = lc_sk ex b) : a = b := by
  unfold lc_sk at h; omega
theorem lx_enl5 {l : Nat} {G : Nat → Prop} {b : Nat → Nat} (hl : l < 4) (hm : m < 4) (hS : lc_LS m G ex bx b) (hG : ¬ G l) :
    ∀ d bx1, d ≤ m → (∀ j, j < d → bx1 j = bx j) → (∀ j, d ≤ j → j < m → bx1 (j + 1) = bx j) → (∀ j, d ≤ j → j < m → lc_sk ex l < lc_sk ex (b j)) →
    ∃ bx' b', lc_LS (m + 1) (fun x => x = l ∨ G x) ex bx' b' ∧ ∀ {n w nc : Nat} {o t : Int32} {ek ev ed er eb nw op ov pr va cr mo ve lo li ko ck cy cc cn ac ay av ad : Nat → Int32} {post : SX → Prop}, post ((nI n), (nI w), o, nI (m + 1), t, (nI nc), ek, ev, ed, er, eb, nw, op, ov, pr, va, cr, mo, ve, lo, li, ex, ko, bx', ck, cy, cc, cn, ac, ay, av, ad) → ∀ N, d < N →
    wX_enlist_5 post (nI l) (nI n) (nI w) o (nI m) t (nI nc) N (nI d) ek ev ed er eb nw op ov pr va cr mo ve lo li ex ko bx1 ck cy cc cn ac ay av ad := by
  intro d
  induction d with
  | zero =>
    intro bx1 h1 h3 h4 h5
    refine ⟨_, _, (lc_LS_in (bx' := upd bx1 0 (nI l)) hS hl h1 (fun j hj => by omega) h5 (fun j hj => by omega) pk_us (fun j h6 h7 => by rw [pk_un (by omega)]; exact h4 j h6 h7)), ?_⟩
    intro n w nc o t ek ev ed er eb nw op ov pr va cr mo ve lo li ko ck cy cc cn ac ay av ad post h N h2
    obtain ⟨N, rfl⟩ : ∃ k, N = k + 1 := ⟨N - 1, by omega⟩
    rw [wX_enlist_5]
    exact br_t (by decide) (lx_enl45 (by omega) h)
  | succ d ih =>
    intro bx1 h1 h3 h4 h5
    obtain ⟨b1, b2, b3⟩ := hS.1 d (by omega)
    have e1 : nI (d + 1) - 1 = nI d := nI_pred d
    have ed' : (nI (d + 1) - 1).toNatClampNeg = d := by rw [e1]; exact nI_clamp (by omega)
    have wd : vp_in (nI (d + 1) - 1) 4 := by rw [e1]; exact vp_in_nI (by omega) (by omega)
    have hbd : bx1 d = nI (b d) := by rw [h3 d (by omega)]; exact b2
    have ev' : bx1 (nI (d + 1) - 1).toNatClampNeg = nI (b d) := by rw [ed']; exact hbd
    have e2 : (nI (d + 1)).toNatClampNeg = d + 1 := nI_clamp (by omega)
    by_cases z : lc_sk ex l < lc_sk ex (b d)
    · obtain ⟨bx', b', k1, k2⟩ := ih (upd bx1 (d + 1) (nI (b d))) (by omega) (fun j hj => by rw [pk_un (by omega)]; exact h3 j (by omega))
        (fun j h6 h7 => by
          by_cases y : j = d
          · subst y; rw [pk_us]; exact b2.symm
          · rw [pk_un (by omega)]; exact h4 j (by omega) h7)
        (fun j h6 h7 => by
          by_cases y : j = d
          · subst y; exact z
          · exact h5 j (by omega) h7)
      refine ⟨bx', b', k1, ?_⟩
      intro n w nc o t ek ev ed er eb nw op ov pr va cr mo ve lo li ko ck cy cc cn ac ay av ad post h N h2
      obtain ⟨N, rfl⟩ : ∃ k, N = k + 1 := ⟨N - 1, by omega⟩
      rw [wX_enlist_5]
      refine br_f (nI_nle (by omega) (by omega)) ⟨wd, ?_⟩
      rw [ev']
      exact lx_soon1 hl b1 z (br_f (by decide) ⟨wd, vp_in_nI (by omega) (by omega), nm_r (e' := upd bx1 (d + 1) (nI (b d))) (by rw [e2]) (nm_r (pk_m1 d) (k2 h N (by omega)))⟩)
    · have hlt : lc_sk ex (b d) < lc_sk ex l := by
        rcases Int.lt_trichotomy (lc_sk ex l) (lc_sk ex (b d)) with y | y | y
        · exact absurd y z
        · exact absurd (lc_sk_inj hl b1 y ▸ b3) hG
        · exact y
      refine ⟨_, _, (lc_LS_in (a := d + 1) (bx' := upd bx1 (d + 1) (nI l)) hS hl h1 (fun j hj => ?_) h5 (fun j hj => by rw [pk_un (by omega)]; exact h3 j hj) pk_us (fun j h6 h7 => by rw [pk_un (by omega)]; exact h4 j h6 h7)), ?_⟩
      · by_cases y : j = d
        · subst y; exact hlt
        · have := hS.2.1 j d (by omega) (by omega); omega
      · intro n w nc o t ek ev ed er eb nw op ov pr va cr mo ve lo li ko ck cy cc cn ac ay av ad post h N h2
        obtain ⟨N, rfl⟩ : ∃ k, N = k + 1 := ⟨N - 1, by omega⟩
        rw [wX_enlist_5]
        refine br_f (nI_nle (by omega) (by omega)) ⟨wd, ?_⟩
        rw [ev']
        exact lx_soon0 hl b1 z (br_t rfl (lx_enl45 (by omega) h))
theorem lx_enlist {l : Nat} {G : Nat → Prop} {b : Nat → Nat} (hl : l < 4) (hm : m < 4) (hS : lc_LS m G ex bx b) (hG : ¬ G l) :
    ∃ bx' b', lc_LS (m + 1) (fun x => x = l ∨ G x) ex bx' b' ∧ ∀ {n w nc : Nat} {o t : Int32} {ek ev ed er eb nw op ov pr va cr mo ve lo li ko ck cy cc cn ac ay av ad : Nat → Int32} {post : SX → Prop}, post ((nI n), (nI w), o, nI (m + 1), t, (nI nc), ek, ev, ed, er, eb, nw, op, ov, pr, va, cr, mo, ve, lo, li, ex, ko, bx', ck, cy, cc, cn, ac, ay, av, ad) → wpX_enlist post ((nI n), (nI w), o, (nI m), t, (nI nc), ek, ev, ed, er, eb, nw, op, ov, pr, va, cr, mo, ve, lo, li, ex, ko, bx, ck, cy, cc, cn, ac, ay, av, ad) (nI l) := by
  obtain ⟨bx', b', k1, k2⟩ := lx_enl5 hl hm hS hG m bx (Nat.le_refl _) (fun _ _ => rfl) (fun j h1 h2 => by omega) (fun j h1 h2 => by omega)
  refine ⟨bx', b', k1, ?_⟩
  intro n w nc o t ek ev ed er eb nw op ov pr va cr mo ve lo li ko ck cy cc cn ac ay av ad post h
  exact ⟨m + 1, k2 h (m + 1) (by omega)⟩
theorem lx_delB {l p : Nat} (hm : m ≤ 4) (hne : ∀ j, p < j → j < m → ¬ bx j = nI l) :
    ∀ d i bx1, i + 1 + d = m → p ≤ i → (∀ j, j < i → bx1 j = bx (if j < p then j else j + 1)) → (∀ j, i < j → j < m → bx1 j = bx j) →
    ∃ bx' : Nat → Int32, (∀ j, j < m - 1 → bx' j = bx (if j < p then j else j + 1)) ∧ ∀ {n w nc : Nat} {o t : Int32} {ek ev ed er eb nw op ov pr va cr mo ve lo li ex ko ck cy cc cn ac ay av ad : Nat → Int32} {post : SX → Prop}, post ((nI n), (nI w), o, nI (m - 1), t, (nI nc), ek, ev, ed, er, eb, nw, op, ov, pr, va, cr, mo, ve, lo, li, ex, ko, bx', ck, cy, cc, cn, ac, ay, av, ad) → ∀ N, d < N →
    wX_delist_4 post (nI l) (nI n) (nI w) o (nI m) t (nI nc) N (nI i) (nI (i + 1)) ek ev ed er eb nw op ov pr va cr mo ve lo li ex ko bx1 ck cy cc cn ac ay av ad := by
  intro d
  induction d with
  | zero =>
    intro i bx1 h1 h2 h4 h5
    have e : i = m - 1 := by omega
    subst e
    refine ⟨bx1, h4, ?_⟩
    intro n w nc o t ek ev ed er eb nw op ov pr va cr mo ve lo li ex ko ck cy cc cn ac ay av ad post h N h3
    obtain ⟨N, rfl⟩ : ∃ k, N = k + 1 := ⟨N - 1, by omega⟩
    rw [wX_delist_4]
    exact br_t (nI_le (by omega) (by omega)) h
  | succ d ih =>
    intro i bx1 h1 h2 h4 h5
    have ei : (nI i).toNatClampNeg = i := nI_clamp (by omega)
    have ei1 : (nI (i + 1)).toNatClampNeg = i + 1 := nI_clamp (by omega)
    have w1 : vp_in (nI (i + 1)) 4 := vp_in_nI (by omega) (by omega)
    have hb : bx1 (i + 1) = bx (i + 1) := h5 (i + 1) (by omega) (by omega)
    obtain ⟨bx', k1, k2⟩ := ih (i + 1) (upd bx1 i (bx (i + 1))) (by omega) (by omega)
      (fun j hj => by
        by_cases z : j = i
        · subst z; rw [pk_us, if_neg (by omega)]
        · rw [pk_un z]; exact h4 j (by omega))
      (fun j h6 h7 => by rw [pk_un (by omega)]; exact h5 j (by omega) h7)
    refine ⟨bx', k1, ?_⟩
    intro n w nc o t ek ev ed er eb nw op ov pr va cr mo ve lo li ex ko ck cy cc cn ac ay av ad post h N h3
    obtain ⟨N, rfl⟩ : ∃ k, N = k + 1 := ⟨N - 1, by omega⟩
    rw [wX_delist_4]
    exact br_f (nI_ge (by omega) (by omega)) ⟨w1, br_f (by rw [ei1, hb]; exact hne (i + 1) (by omega) (by omega)) ⟨w1, vp_in_nI (by omega) (by omega), nm_r (e' := upd bx1 i (bx (i + 1))) (by rw [ei, ei1, hb]) (nm_r (nI_1 i) (nm_r (nI_1 (i + 1)) (k2 h N (by omega))))⟩⟩
theorem lc_self {f : Nat → Int32} {i : Nat} : upd f i (f i) = f := by
  funext j
  by_cases z : j = i
  · subst z; rw [pk_us]
  · rw [pk_un z]
theorem lx_delA {l p : Nat} (hm : m ≤ 4) (hp : p < m) (he : bx p = nI l) (hne : ∀ j, j < m → j ≠ p → ¬ bx j = nI l) :
    ∃ bx' : Nat → Int32, (∀ j, j < m - 1 → bx' j = bx (if j < p then j else j + 1)) ∧ ∀ {n w nc : Nat} {o t : Int32} {ek ev ed er eb nw op ov pr va cr mo ve lo li ex ko ck cy cc cn ac ay av ad : Nat → Int32} {post : SX → Prop}, post ((nI n), (nI w), o, nI (m - 1), t, (nI nc), ek, ev, ed, er, eb, nw, op, ov, pr, va, cr, mo, ve, lo, li, ex, ko, bx', ck, cy, cc, cn, ac, ay, av, ad) →
    ∀ d i N, i + d = p → m - i < N → wX_delist_4 post (nI l) (nI n) (nI w) o (nI m) t (nI nc) N (nI i) (nI i) ek ev ed er eb nw op ov pr va cr mo ve lo li ex ko bx ck cy cc cn ac ay av ad := by
  obtain ⟨bx', k1, k2⟩ := lx_delB (l := l) (p := p) (m := m) (bx := bx) hm (fun j a b => hne j b (by omega)) (m - 1 - p) p bx (by omega) (Nat.le_refl _) (fun j hj => by rw [if_pos hj]) (fun j _ _ => rfl)
  refine ⟨bx', k1, ?_⟩
  intro n w nc o t ek ev ed er eb nw op ov pr va cr mo ve lo li ex ko ck cy cc cn ac ay av ad post h d
  induction d with
  | zero =>
    intro i N h1 h2
    obtain ⟨N, rfl⟩ : ∃ k, N = k + 1 := ⟨N - 1, by omega⟩
    have e : i = p := by omega
    subst e
    have ei : (nI i).toNatClampNeg = i := nI_clamp (by omega)
    rw [wX_delist_4]
    exact br_f (nI_ge hp (by omega)) ⟨vp_in_nI (by omega) (by omega), br_t (by rw [ei]; exact he) (nm_r (nI_1 i) (k2 h N (by omega)))⟩
  | succ d ih =>
    intro i N h1 h2
    obtain ⟨N, rfl⟩ : ∃ k, N = k + 1 := ⟨N - 1, by omega⟩
    have ei : (nI i).toNatClampNeg = i := nI_clamp (by omega)
    have w1 : vp_in (nI i) 4 := vp_in_nI (by omega) (by omega)
    rw [wX_delist_4]
    exact br_f (nI_ge (by omega) (by omega)) ⟨w1, br_f (by rw [ei]; exact hne i (by omega) (by omega)) ⟨w1, w1, nm_r (e' := bx) (by rw [ei]; exact lc_self) (nm_r (nI_1 i) (nm_r (nI_1 i) (ih (i + 1) N (by omega) (by omega))))⟩⟩
theorem lx_delist {l : Nat} {G : Nat → Prop} {b : Nat → Nat} (hl : l < 4) (hm : m ≤ 4) (hS : lc_LS m G ex bx b) (hG : G l) :
    ∃ bx' b', lc_LS (m - 1) (fun x => x ≠ l ∧ G x) ex bx' b' ∧ ∀ {n w nc : Nat} {o t : Int32} {ek ev ed er eb nw op ov pr va cr mo ve lo li ex ko ck cy cc cn ac ay av ad : Nat → Int32} {post : SX → Prop}, post ((nI n), (nI w), o, nI (m - 1), t, (nI nc), ek, ev, ed, er, eb, nw, op, ov, pr, va, cr, mo, ve, lo, li, ex, ko, bx', ck, cy, cc, cn, ac, ay, av, ad) → wpX_delist post ((nI n), (nI w), o, (nI m), t, (nI nc), ek, ev, ed, er, eb, nw, op, ov, pr, va, cr, mo, ve, lo, li, ex, ko, bx, ck, cy, cc, cn, ac, ay, av, ad) (nI l) := by
  obtain ⟨p, hp, e⟩ := hS.2.2 l hl hG
  obtain ⟨bx', k1, k2⟩ := lx_delA (l := l) (p := p) (m := m) (bx := bx) hm hp (by rw [(hS.1 p hp).2.1, e]) (fun j hj hjp z => by
    obtain ⟨b1, b2, _⟩ := hS.1 j hj
    rw [b2, nI_eq (by omega) (by omega)] at z
    rcases Nat.lt_or_gt_of_ne hjp with y | y
    · have := hS.2.1 j p y hp; rw [z, e] at this; omega
    · have := hS.2.1 p j y hj; rw [z, e] at this; omega)
  refine ⟨bx', _, lc_LS_out hS hp e k1, ?_⟩
  intro n w nc o t ek ev ed er eb nw op ov pr va cr mo ve lo li ex' ko ck cy cc cn ac ay av ad post h
  exact ⟨m + 1, k2 h p 0 (m + 1) (by omega) (by omega)⟩
theorem lx_ff7 {post : Int32 → Prop} {x : Int32} (hn : n ≤ 96) (hs : ∀ i j, i ≤ j → j < n → (er i).toInt ≤ (er j).toInt)
    (h : ∀ g, g ≤ n → (∀ i, i < g → ¬ x ≤ er i) → (∀ i, g ≤ i → i < n → x ≤ er i) → post (nI g)) :
    ∀ d a b N, b - a ≤ d → a ≤ b → b ≤ n → d < N → (∀ i, i < a → ¬ x ≤ er i) → (∀ i, b ≤ i → i < n → x ≤ er i) →
    wX_firstFrom_7 post x (nI n) (nI w) o (nI m) t (nI nc) ek ev ed er eb nw op ov pr va cr mo ve lo li ex ko bx ck cy cc cn ac ay av ad N (nI a) (nI b) := by
  intro d
  induction d with
  | zero =>
    intro a b N h1 h2 h3 h4 h5 h6
    obtain ⟨N, rfl⟩ : ∃ k, N = k + 1 := ⟨N - 1, by omega⟩
    rw [wX_firstFrom_7]
    exact br_t (nI_le (by omega) (by omega)) (h a (by omega) h5 (fun i a1 a2 => h6 i (by omega) a2))
  | succ d ih =>
    intro a b N h1 h2 h3 h4 h5 h6
    obtain ⟨N, rfl⟩ : ∃ k, N = k + 1 := ⟨N - 1, by omega⟩
    rw [wX_firstFrom_7]
    by_cases z : b ≤ a
    · exact br_t (nI_le z (by omega)) (h a (by omega) h5 (fun i a1 a2 => h6 i (by omega) a2))
    · have em : (nI a + nI b) / 2 = nI ((a + b) / 2) := by
        rw [nI_add]; exact pk_div (d := 2) (by omega) (by omega) (by omega)
      have e2 : (nI ((a + b) / 2)).toNatClampNeg = (a + b) / 2 := nI_clamp (by omega)
      refine br_f (nI_ge (by omega) (by omega)) ⟨by decide, nm_r em ⟨vp_in_nI (by omega) (by omega), ?_⟩⟩
      rw [e2]
      by_cases y : x ≤ er ((a + b) / 2)
      · refine br_t y (ih a ((a + b) / 2) N (by omega) (by omega) (by omega) (by omega) h5 (fun i a1 a2 => ?_))
        rw [Int32.le_iff_toInt_le] at y ⊢
        have := hs ((a + b) / 2) i a1 a2
        omega
      · refine br_f y (nm_r (nI_1 _) (ih ((a + b) / 2 + 1) b N (by omega) (by omega) (by omega) (by omega) (fun i hi => ?_) h6))
        rw [Int32.le_iff_toInt_le] at y ⊢
        have := hs i ((a + b) / 2) (by omega) (by omega)
        omega
theorem lx_ff {post : Int32 → Prop} {x : Int32} (hn : n ≤ 96) (hs : ∀ i j, i ≤ j → j < n → (er i).toInt ≤ (er j).toInt)
    (h : ∀ g, g ≤ n → (∀ i, i < g → ¬ x ≤ er i) → (∀ i, g ≤ i → i < n → x ≤ er i) → post (nI g)) : wpX_firstFrom post ((nI n), (nI w), o, (nI m), t, (nI nc), ek, ev, ed, er, eb, nw, op, ov, pr, va, cr, mo, ve, lo, li, ex, ko, bx, ck, cy, cc, cn, ac, ay, av, ad) x :=
  ⟨n + 1, lx_ff7 hn hs h n 0 n (n + 1) (by omega) (by omega) (Nat.le_refl _) (by omega) (fun i hi => by omega) (fun i a b => by omega)⟩
theorem lx_ffg {post : Int32 → Prop} {x : Int32} {g : Nat} (hn : n ≤ 96) (hs : ∀ i j, i ≤ j → j < n → (er i).toInt ≤ (er j).toInt)
    (g1 : g ≤ n) (g2 : ∀ i, i < g → ¬ x ≤ er i) (g3 : ∀ i, g ≤ i → i < n → x ≤ er i) (h : post (nI g)) : wpX_firstFrom post ((nI n), (nI w), o, (nI m), t, (nI nc), ek, ev, ed, er, eb, nw, op, ov, pr, va, cr, mo, ve, lo, li, ex, ko, bx, ck, cy, cc, cn, ac, ay, av, ad) x := by
  refine lx_ff hn hs (fun g' a b c => ?_)
  have e : g' = g := by
    rcases Nat.lt_trichotomy g' g with z | z | z
    · exact absurd (c g' (Nat.le_refl _) (by omega)) (g2 g' z)
    · exact z
    · exact absurd (g3 g (Nat.le_refl _) (by omega)) (b g z)
  rw [e]; exact h
theorem lc_la_g {x : Int32} {g : Nat} : ∀ d, lc_la ek x (g + d) = lc_la ek x g ∨ ∃ e, g ≤ e ∧ e < g + d ∧ lc_la ek x (g + d) = nI e ∧ ek e = x := by
  intro d
  induction d with
  | zero => exact Or.inl rfl
  | succ d ih =>
    show lc_la ek x ((g + d) + 1) = lc_la ek x g ∨ ∃ e, g ≤ e ∧ e < g + d + 1 ∧ lc_la ek x ((g + d) + 1) = nI e ∧ ek e = x
    by_cases z : ek (g + d) = x
    · exact Or.inr ⟨g + d, by omega, by omega, lc_la_t z, z⟩
    · rw [lc_la_f z]
      rcases ih with e | ⟨e, h1, h2, h3⟩
      · exact Or.inl e
      · exact Or.inr ⟨e, h1, by omega, h3⟩
theorem lx_ea10 {post : Int32 → Prop} {x v : Int32} {g : Nat} (hn : n ≤ 96) (hc : ∀ i, i < n → eb i = lc_la ek (ek i) i) (hs : lc_SP g n v er) (h : post (lc_la ek x g)) :
    ∀ k i j N, i ≤ k → g ≤ i → i ≤ n → j + i ≤ 96 → i < N → wX_eventAt_10 post v (nI n) (nI w) o (nI m) t (nI nc) ek ev ed er eb nw op ov pr va cr mo ve lo li ex ko bx ck cy cc cn ac ay av ad N (lc_la ek x i) (nI j) := by
  intro k
  induction k with
  | zero =>
    intro i j N h0 h1 h2 h3 h4
    obtain ⟨N, rfl⟩ : ∃ k, N = k + 1 := ⟨N - 1, by omega⟩
    have e : i = 0 := by omega
    have e2 : g = 0 := by omega
    subst e e2
    rw [wX_eventAt_10]
    by_cases z : (96 : Int32) ≤ nI j
    · exact br_t z h
    · exact br_f z (br_t (by show (-1 : Int32) < 0; decide) h)
  | succ k ih =>
    intro i j N h0 h1 h2 h3 h4
    obtain ⟨N, rfl⟩ : ∃ k, N = k + 1 := ⟨N - 1, by omega⟩
    obtain ⟨d, rfl⟩ : ∃ d, i = g + d := ⟨i - g, by omega⟩
    rw [wX_eventAt_10]
    rcases lc_la_g (ek := ek) (x := x) (g := g) d with e | ⟨e, e1, e2, e3, e4⟩
    · rw [e]
      by_cases z : (96 : Int32) ≤ nI j
      · exact br_t z h
      · rcases lc_la_c (ek := ek) (x := x) g with y | ⟨p, p1, p2, p3⟩
        · exact br_f z (br_t (by rw [y]; decide) h)
        · rw [p2] at h ⊢
          have ep : (nI p).toNatClampNeg = p := nI_clamp (by omega)
          refine br_f z (br_f (nI_pos (by omega)) ⟨vp_in_nI (by omega) (by omega), br_t ?_ h⟩)
          rw [ep]
          exact Int32.not_lt.mp (hs.2.1 p p1)
    · rw [e3]
      have ee : (nI e).toNatClampNeg = e := nI_clamp (by omega)
      have we : vp_in (nI e) 96 := vp_in_nI (by omega) (by omega)
      refine br_f (nI_ge (b := 96) (by omega) (by decide)) (br_f (nI_pos (by omega)) ⟨we, br_f ?_ ⟨we, nm_r (e' := lc_la ek x e) ?_ (nm_r (nI_1 j) (ih e (j + 1) N (by omega) (by omega) (by omega) (by omega) (by omega)))⟩⟩)
      · rw [ee]; exact Int32.not_le.mpr (hs.2.2 e e1 (by omega))
      · rw [ee, hc e (by omega), e4]
theorem lx_ea {post : Int32 → Prop} {v : Int32} {q g : Nat} (hn : n ≤ 96) (hq : q < 16) (hc : lc_CH n ek eb nw) (hs : lc_SP g n v er) (h : post (lc_la ek (nI q) g)) :
    wpX_eventAt post ((nI n), (nI w), o, (nI m), t, (nI nc), ek, ev, ed, er, eb, nw, op, ov, pr, va, cr, mo, ve, lo, li, ex, ko, bx, ck, cy, cc, cn, ac, ay, av, ad) (nI q) v := by
  have eq : (nI q).toNatClampNeg = q := nI_clamp (by omega)
  exact ⟨vp_in_nI hq (by omega), nm_r (e' := lc_la ek (nI q) n) (by rw [eq]; exact hc.1 q hq) ⟨n + 1, lx_ea10 hn hc.2 hs h n n 0 (n + 1) (Nat.le_refl _) hs.1 (Nat.le_refl _) (by omega) (by omega)⟩⟩
theorem lx_mv {post : SX → Prop} {i g : Nat} (hi : i < 96) (hg : g ≤ i) (hd : vp_nar .boolean (ed i) = ed i)
    (h : post ((nI n), (nI w), o, (nI m), t, (nI nc), upd ek (i - g) (ek i), upd ev (i - g) (ev i), upd ed (i - g) (ed i), upd er (i - g) (er i), upd eb (i - g) (lc_cut g (eb i)), nw, op, ov, pr, va, cr, mo, ve, lo, li, ex, ko, bx, ck, cy, cc, cn, ac, ay, av, ad)) :
    wpX_moveEvent post ((nI n), (nI w), o, (nI m), t, (nI nc), ek, ev, ed, er, eb, nw, op, ov, pr, va, cr, mo, ve, lo, li, ex, ko, bx, ck, cy, cc, cn, ac, ay, av, ad) (nI i) (nI (i - g)) (nI g) := by
  have ei : (nI i).toNatClampNeg = i := nI_clamp (by omega)
  have eg : (nI (i - g)).toNatClampNeg = i - g := nI_clamp (by omega)
  have w1 : vp_in (nI i) 96 := vp_in_nI hi (by omega)
  have w2 : vp_in (nI (i - g)) 96 := vp_in_nI (by omega) (by omega)
  refine ⟨w1, w2, nm_r (e' := upd ek (i - g) (ek i)) (by rw [ei, eg]) ⟨w1, w2, nm_r (e' := upd ev (i - g) (ev i)) (by rw [ei, eg]) ⟨w1, w2, nm_r (e' := upd ed (i - g) (ed i)) (by rw [ei, eg, hd]) ⟨w1, w2, nm_r (e' := upd er (i - g) (er i)) (by rw [ei, eg]) ⟨w1, ?_⟩⟩⟩⟩⟩
  rw [ei]
  by_cases z : nI g ≤ eb i
  · exact br_t z ⟨w1, w2, nm_r (e' := upd eb (i - g) (lc_cut g (eb i))) (by rw [eg, lc_cut, if_pos z]) h⟩
  · exact br_f z ⟨w2, nm_r (e' := upd eb (i - g) (lc_cut g (eb i))) (by rw [eg, lc_cut, if_neg z]) h⟩
end WX
end
section
/-! the reference's own small methods -/
section WY
variable {n w y m nc : Nat} {o t : Int32} {ek ev ed er eb nw op ov pr va cr mo ve lo li ex ko bx ck cy cc cn ac ay av ad ba ep el se cd ap gr tt : Nat → Int32}
theorem ly_ik {post : Int32 → Prop} {q : Nat} (hq : q < 16) (h : post 1) : wpY_isKey post (o, (nI y), (nI n), (nI nc), t, ba, er, ek, ep, ev, el, se, cd, ay, ap, av, ac, gr, tt, ex) (nI q) :=
  br_f (nI_pos (by omega)) (br_f (nI_ge (b := 16) hq (by decide)) h)
theorem ly_ikb {post : Int32 → Prop} {x : Int32} (hx : x < 0 ∨ 16 ≤ x) (h : post 0) : wpY_isKey post (o, (nI y), (nI n), (nI nc), t, ba, er, ek, ep, ev, el, se, cd, ay, ap, av, ac, gr, tt, ex) x := by
  by_cases z : x < 0
  · exact br_t z h
  · exact br_f z (br_t (hx.resolve_left z) h)
theorem ly_igb {post : Int32 → Prop} {x : Int32} (hx : x < 0 ∨ 4 ≤ x) (h : post 0) : wpY_isGranted post (o, (nI y), (nI n), (nI nc), t, ba, er, ek, ep, ev, el, se, cd, ay, ap, av, ac, gr, tt, ex) x := by
  by_cases z : x < 0
  · exact br_t z h
  · exact br_f z (br_t (hx.resolve_left z) h)
theorem ly_ig0 {post : Int32 → Prop} {l : Nat} (hl : l < 4) (e : gr l = 0) (h : post 0) : wpY_isGranted post (o, (nI y), (nI n), (nI nc), t, ba, er, ek, ep, ev, el, se, cd, ay, ap, av, ac, gr, tt, ex) (nI l) := by
  have el' : (nI l).toNatClampNeg = l := nI_clamp (by omega)
  exact br_f (nI_pos (by omega)) (br_f (nI_ge (b := 4) hl (by decide)) ⟨vp_in_nI hl (by omega), br_t (by rw [el']; exact e) h⟩)
theorem ly_ig1 {post : Int32 → Prop} {l : Nat} (hl : l < 4) (e : ¬ gr l = 0) (h : post 1) : wpY_isGranted post (o, (nI y), (nI n), (nI nc), t, ba, er, ek, ep, ev, el, se, cd, ay, ap, av, ac, gr, tt, ex) (nI l) := by
  have el' : (nI l).toNatClampNeg = l := nI_clamp (by omega)
  exact br_f (nI_pos (by omega)) (br_f (nI_ge (b := 4) hl (by decide)) ⟨vp_in_nI hl (by omega), br_f (by rw [el']; exact e) h⟩)
theorem ly_add {post : SY → Prop} {r q p a le : Int32} (hn : n < 96) (hp : vp_nar .boolean p = p)
    (h : post (o, (nI y), nI (n + 1), (nI nc), t, ba, upd er n r, upd ek n q, upd ep n p, upd ev n a, upd el n le, se, cd, ay, ap, av, ac, gr, tt, ex)) : wpY_add post (o, (nI y), (nI n), (nI nc), t, ba, er, ek, ep, ev, el, se, cd, ay, ap, av, ac, gr, tt, ex) r q p a le := by
  have e : (nI n).toNatClampNeg = n := nI_clamp (by omega)
  have wn : vp_in (nI n) 96 := vp_in_nI hn (by omega)
  exact ⟨wn, nm_r (e' := upd er n r) (by rw [e]) ⟨wn, nm_r (e' := upd ek n q) (by rw [e]) ⟨wn, nm_r (e' := upd ep n p) (by rw [e, hp]) ⟨wn, nm_r (e' := upd ev n a) (by rw [e]) ⟨wn, nm_r (e' := upd el n le) (by rw [e]) (nm_r (nI_1 n) h)⟩⟩⟩⟩⟩
theorem ly_ap81 : ∀ d j se1, j + d = 4 → (∀ f, f < j → se1 f = 0) →
    ∃ se', lc_sn se' = (0, 0, 0, 0, -1) ∧ ∀ {n y nc : Nat} {o t : Int32} {ba er ek ep ev el cd ay ap av ac gr tt ex : Nat → Int32} {post : SY → Prop}, post (o, (nI y), (nI n), (nI nc), t, ba, er, ek, ep, ev, el, se', cd, ay, ap, av, ac, gr, tt, ex) → ∀ N, d < N → wY_apply_81 post o (nI y) (nI n) (nI nc) t N (nI j) ba er ek ep ev el se1 cd ay ap av ac gr tt ex := by
  intro d
  induction d with
  | zero =>
    intro j se1 h1 h3
    have e : j = 4 := by omega
    subst e
    refine ⟨upd se1 4 (-1), ?_, ?_⟩
    · show (se1 0, se1 1, se1 2, se1 3, (-1 : Int32)) = _
      rw [h3 0 (by omega), h3 1 (by omega), h3 2 (by omega), h3 3 (by omega)]
    · intros
      rename_i h N h2
      obtain ⟨N, rfl⟩ : ∃ k, N = k + 1 := ⟨N - 1, by omega⟩
      rw [wY_apply_81]
      exact br_t (by decide) (nm_e h)
  | succ d ih =>
    intro j se1 h1 h3
    have ej : (nI j).toNatClampNeg = j := nI_clamp (by omega)
    obtain ⟨se', k1, k2⟩ := ih (j + 1) (upd se1 j 0) (by omega) (fun f hf => by
      by_cases z : f = j
      · subst z; rw [pk_us]
      · rw [pk_un z]; exact h3 f (by omega))
    refine ⟨se', k1, ?_⟩
    intros
    rename_i h N h2
    obtain ⟨N, rfl⟩ : ∃ k, N = k + 1 := ⟨N - 1, by omega⟩
    rw [wY_apply_81]
    exact br_f (nI_ge (b := 4) (by omega) (by decide)) ⟨vp_in_nI (by omega) (by omega), nm_r (e' := upd se1 j 0) (by rw [ej]) (nm_r (nI_1 j) (k2 h N (by omega)))⟩
theorem ly_ap30 {i : Nat} (hi : i < 96) : ∃ se', lc_sn se' = (ev i, se 1 + 1, er i, se 3, el i) ∧ ∀ {n y nc : Nat} {o t : Int32} {ba ek ep cd ay ap av ac gr tt ex : Nat → Int32} {post : SY → Prop}, post (o, (nI y), (nI n), (nI nc), t, ba, er, ek, ep, ev, el, se', cd, ay, ap, av, ac, gr, tt, ex) →
    wY_apply_30 post (nI i) o (nI y) (nI n) (nI nc) t ba er ek ep ev el se cd ay ap av ac gr tt ex := by
  have ei : (nI i).toNatClampNeg = i := nI_clamp (by omega)
  have w1 : vp_in (nI i) 96 := vp_in_nI hi (by omega)
  refine ⟨upd (upd (upd (upd se 0 (ev i)) 1 (upd se 0 (ev i) 1 + 1)) 2 (er i)) 4 (el i), rfl, ?_⟩
  intros
  rename_i h
  refine ⟨w1, nm_r (e' := upd se 0 (ev i)) (by rw [ei]) (nm_e ⟨w1, nm_r (e' := upd (upd (upd se 0 (ev i)) 1 (upd se 0 (ev i) 1 + 1)) 2 (er i)) (by rw [ei]) ⟨w1, nm_r (e' := upd (upd (upd (upd se 0 (ev i)) 1 (upd se 0 (ev i) 1 + 1)) 2 (er i)) 4 (el i)) (by rw [ei]) h⟩⟩)⟩
theorem ly_apply {i : Nat} (hi : i < 96) : ∃ se', lc_sn se' = lc_ap er ep ev el i (lc_sn se) ∧ ∀ {n y nc : Nat} {o t : Int32} {ba ek cd ay ap av ac gr tt ex : Nat → Int32} {post : SY → Prop}, post (o, (nI y), (nI n), (nI nc), t, ba, er, ek, ep, ev, el, se', cd, ay, ap, av, ac, gr, tt, ex) →
    wpY_apply post (o, (nI y), (nI n), (nI nc), t, ba, er, ek, ep, ev, el, se, cd, ay, ap, av, ac, gr, tt, ex) (nI i) := by
  have ei : (nI i).toNatClampNeg = i := nI_clamp (by omega)
  have w1 : vp_in (nI i) 96 := vp_in_nI hi (by omega)
  by_cases z : ep i = 0
  · rw [lc_ap_d z]
    obtain ⟨se', k1, k2⟩ := ly_ap81 4 0 se rfl (fun f hf => by omega)
    refine ⟨se', k1, ?_⟩
    intros
    rename_i h
    exact ⟨w1, br_t (by rw [ei]; exact z) ⟨5, k2 h 5 (by omega)⟩⟩
  · rw [lc_ap_p z]
    by_cases y : se 1 = 0
    · obtain ⟨se', k1, k2⟩ := ly_ap30 (ev := ev) (er := er) (el := el) (se := upd se 3 (er i)) hi
      refine ⟨se', ?_, ?_⟩
      · rw [k1]
        show (ev i, se 1 + 1, er i, er i, el i) = (ev i, se 1 + 1, er i, (if se 1 = 0 then er i else se 3), el i)
        rw [if_pos y]
      · intros
        rename_i h
        exact ⟨w1, br_f (by rw [ei]; exact z) (br_t y ⟨w1, nm_r (e' := upd se 3 (er i)) (by rw [ei]) (k2 h)⟩)⟩
    · obtain ⟨se', k1, k2⟩ := ly_ap30 (ev := ev) (er := er) (el := el) (se := se) hi
      refine ⟨se', ?_, ?_⟩
      · rw [k1]
        show (ev i, se 1 + 1, er i, se 3, el i) = (ev i, se 1 + 1, er i, (if se 1 = 0 then er i else se 3), el i)
        rw [if_neg y]
      · intros
        rename_i h
        exact ⟨w1, br_f (by rw [ei]; exact z) (br_f y (k2 h))⟩
theorem ly_lk31 {q g : Nat} {x : Int32} (hn : n ≤ 96) (hs : lc_SP g n x er) :
    ∀ d i se1, i + d = n → ((i ≤ g ∧ lc_sn se1 = lc_lf ek er ep ev el ba q i) ∨ (g ≤ i ∧ lc_sn se1 = lc_lf ek er ep ev el ba q g)) →
    ∃ se', lc_sn se' = lc_lf ek er ep ev el ba q g ∧ ∀ {y nc : Nat} {o t : Int32} {cd ay ap av ac gr tt ex : Nat → Int32} {post : SY → Prop}, post (o, (nI y), (nI n), (nI nc), t, ba, er, ek, ep, ev, el, se', cd, ay, ap, av, ac, gr, tt, ex) → ∀ N, d < N →
    wY_look_31 post (nI q) x N (nI i) o (nI y) (nI n) (nI nc) t ba er ek ep ev el se1 cd ay ap av ac gr tt ex := by
  intro d
  induction d with
  | zero =>
    intro i se1 h1 h3
    have e : i = n := by omega
    subst e
    refine ⟨se1, ?_, ?_⟩
    · rcases h3 with ⟨a, b⟩ | ⟨a, b⟩
      · have e : g = i := by have := hs.1; omega
        rw [e]; exact b
      · exact b
    · intros
      rename_i h N h2
      obtain ⟨N, rfl⟩ : ∃ k, N = k + 1 := ⟨N - 1, by omega⟩
      rw [wY_look_31]
      exact br_t (nI_le (Nat.le_refl _) (by omega)) h
  | succ d ih =>
    intro i se1 h1 h3
    have ei : (nI i).toNatClampNeg = i := nI_clamp (by omega)
    have w1 : vp_in (nI i) 96 := vp_in_nI (by omega) (by omega)
    have hge : ¬ nI n ≤ nI i := nI_ge (by omega) (by omega)
    by_cases z : ek i = nI q
    · by_cases y : x < er i
      · have hg : g ≤ i := by
          rcases Nat.lt_or_ge i g with k | k
          · exact absurd y (hs.2.1 i k)
          · exact k
        obtain ⟨se', k1, k2⟩ := ih (i + 1) se1 (by omega) (Or.inr (by
          rcases h3 with ⟨a, b⟩ | ⟨a, b⟩
          · have e : g = i := by omega
            refine ⟨by omega, ?_⟩
            rw [e]; exact b
          · exact ⟨by omega, b⟩))
        refine ⟨se', k1, ?_⟩
        intros
        rename_i h N h2
        obtain ⟨N, rfl⟩ : ∃ k, N = k + 1 := ⟨N - 1, by omega⟩
        rw [wY_look_31]
        exact br_f hge ⟨w1, br_t (by rw [ei]; exact z) ⟨w1, br_t (by rw [ei]; exact y) (nm_r (nI_1 i) (k2 h N (by omega)))⟩⟩
      · have hg : i < g := by
          rcases Nat.lt_or_ge i g with k | k
          · exact k
          · exact absurd (hs.2.2 i k (by omega)) y
        obtain ⟨se2, j1, j2⟩ := ly_apply (er := er) (ep := ep) (ev := ev) (el := el) (se := se1) (i := i) (by omega)
        obtain ⟨se', k1, k2⟩ := ih (i + 1) se2 (by omega) (Or.inl ⟨by omega, by
          rcases h3 with ⟨a, b⟩ | ⟨a, b⟩
          · rw [j1, b, lc_lf_t z]
          · omega⟩)
        refine ⟨se', k1, ?_⟩
        intros
        rename_i h N h2
        obtain ⟨N, rfl⟩ : ∃ k, N = k + 1 := ⟨N - 1, by omega⟩
        rw [wY_look_31]
        exact br_f hge ⟨w1, br_t (by rw [ei]; exact z) ⟨w1, br_f (by rw [ei]; exact y) (j2 (nm_r (nI_1 i) (k2 h N (by omega))))⟩⟩
    · obtain ⟨se', k1, k2⟩ := ih (i + 1) se1 (by omega) (by
        rcases h3 with ⟨a, b⟩ | ⟨a, b⟩
        · by_cases k : i < g
          · exact Or.inl ⟨by omega, by rw [lc_lf_f z]; exact b⟩
          · have e : g = i := by omega
            refine Or.inr ⟨by omega, ?_⟩
            rw [e]; exact b
        · exact Or.inr ⟨by omega, b⟩)
      refine ⟨se', k1, ?_⟩
      intros
      rename_i h N h2
      obtain ⟨N, rfl⟩ : ∃ k, N = k + 1 := ⟨N - 1, by omega⟩
      rw [wY_look_31]
      exact br_f hge ⟨w1, br_f (by rw [ei]; exact z) (nm_r (nI_1 i) (k2 h N (by omega)))⟩
theorem ly_lk2 {q g : Nat} {x : Int32} (hq : q < 16) (hn : n ≤ 96) (hs : lc_SP g n x er) :
    ∀ d j se1, j + d = 5 → (∀ f, f < j → se1 f = ba (q * 5 + f)) →
    ∃ se', lc_sn se' = lc_lf ek er ep ev el ba q g ∧ ∀ {y nc : Nat} {o t : Int32} {cd ay ap av ac gr tt ex : Nat → Int32} {post : SY → Prop}, post (o, (nI y), (nI n), (nI nc), t, ba, er, ek, ep, ev, el, se', cd, ay, ap, av, ac, gr, tt, ex) → ∀ N, d < N →
    wY_look_2 post (nI q) x o (nI y) (nI n) (nI nc) t N (nI j) ba er ek ep ev el se1 cd ay ap av ac gr tt ex := by
  intro d
  induction d with
  | zero =>
    intro j se1 h1 h3
    have e : j = 5 := by omega
    subst e
    obtain ⟨se', k1, k2⟩ := ly_lk31 (ek := ek) (ep := ep) (ev := ev) (el := el) (ba := ba) (q := q) hn hs n 0 se1 (by omega) (Or.inl ⟨by omega, by
      show (se1 0, se1 1, se1 2, se1 3, se1 4) = (ba (q * 5), ba (q * 5 + 1), ba (q * 5 + 2), ba (q * 5 + 3), ba (q * 5 + 4))
      rw [h3 0 (by omega), h3 1 (by omega), h3 2 (by omega), h3 3 (by omega), h3 4 (by omega), Nat.add_zero]⟩)
    refine ⟨se', k1, ?_⟩
    intros
    rename_i h N h2
    obtain ⟨N, rfl⟩ : ∃ k, N = k + 1 := ⟨N - 1, by omega⟩
    rw [wY_look_2]
    exact br_t (by decide) ⟨n + 1, k2 h (n + 1) (by omega)⟩
  | succ d ih =>
    intro j se1 h1 h3
    have ej : (nI j).toNatClampNeg = j := nI_clamp (by omega)
    have e5 : nI q * 5 + nI j = nI (q * 5 + j) := by
      rw [← nI_add, ← pk_mul]; rfl
    have e6 : (nI (q * 5 + j)).toNatClampNeg = q * 5 + j := nI_clamp (by omega)
    obtain ⟨se', k1, k2⟩ := ih (j + 1) (upd se1 j (ba (q * 5 + j))) (by omega) (fun f hf => by
      by_cases z : f = j
      · subst z; rw [pk_us]
      · rw [pk_un z]; exact h3 f (by omega))
    refine ⟨se', k1, ?_⟩
    intros
    rename_i h N h2
    obtain ⟨N, rfl⟩ : ∃ k, N = k + 1 := ⟨N - 1, by omega⟩
    rw [wY_look_2]
    exact br_f (nI_ge (b := 5) (by omega) (by decide)) ⟨by rw [e5]; exact vp_in_nI (by omega) (by omega), vp_in_nI (by omega) (by omega), nm_r (e' := upd se1 j (ba (q * 5 + j))) (by rw [e5, ej, e6]) (nm_r (nI_1 j) (k2 h N (by omega)))⟩
/-- a look at a key, over the list's first g events -/
theorem ly_look {q g : Nat} {x : Int32} (ek ep ev el ba se : Nat → Int32) (hq : q < 16) (hn : n ≤ 96) (hs : lc_SP g n x er) :
    ∃ se', lc_sn se' = lc_lf ek er ep ev el ba q g ∧ ∀ {y nc : Nat} {o t : Int32} {cd ay ap av ac gr tt ex : Nat → Int32} {post : SY → Prop}, post (o, (nI y), (nI n), (nI nc), t, ba, er, ek, ep, ev, el, se', cd, ay, ap, av, ac, gr, tt, ex) → wpY_look post (o, (nI y), (nI n), (nI nc), t, ba, er, ek, ep, ev, el, se, cd, ay, ap, av, ac, gr, tt, ex) (nI q) x := by
  obtain ⟨se', k1, k2⟩ := ly_lk2 (ek := ek) (ep := ep) (ev := ev) (el := el) (ba := ba) hq hn hs 5 0 se rfl (fun f hf => by omega)
  refine ⟨se', k1, ?_⟩
  intros
  rename_i h
  exact ⟨6, k2 h 6 (by omega)⟩
theorem ly_pres {q g : Nat} (ek ep ev el ba se : Nat → Int32) (hq : q < 16) (hn : n ≤ 96) (hs : lc_SP g n (nI y) er) (hv : 0 ≤ (lc_lf ek er ep ev el ba q g).2.1.toInt) :
    ∃ se', lc_sn se' = lc_lf ek er ep ev el ba q g ∧ ∀ {nc : Nat} {o t : Int32} {cd ay ap av ac gr tt ex : Nat → Int32} {post : Int32 → SY → Prop},
      post (if (lc_lf ek er ep ev el ba q g).2.1 = 0 then 0 else 1) (o, (nI y), (nI n), (nI nc), t, ba, er, ek, ep, ev, el, se', cd, ay, ap, av, ac, gr, tt, ex) → wpY_present post (o, (nI y), (nI n), (nI nc), t, ba, er, ek, ep, ev, el, se, cd, ay, ap, av, ac, gr, tt, ex) (nI q) := by
  obtain ⟨se', k1, k2⟩ := ly_look ek ep ev el ba se hq hn hs
  have e : se' 1 = (lc_lf ek er ep ev el ba q g).2.1 := congrArg (fun z : lc_T => z.2.1) k1
  refine ⟨se', k1, ?_⟩
  intro nc o t cd ay ap av ac gr tt ex post h
  unfold wpY_present
  refine k2 ?_
  by_cases z : (lc_lf ek er ep ev el ba q g).2.1 = 0
  · rw [if_pos z] at h
    exact br_t (by rw [e, z]; decide) h
  · rw [if_neg z] at h
    refine br_f ?_ h
    rw [Int32.le_iff_toInt_le, e, lc_z0]
    intro y
    exact z (Int32.toInt_inj.mp (by rw [lc_z0]; omega))
end WY
end
section
/-! the relation -/
def lc_TC (nc : Nat) (ck cy cc cn cd : Nat → Int32) : Prop := nc ≤ 4 ∧ ∀ i, i < nc → (∃ a, a < 4 ∧ ck i = nI a) ∧ (∃ q, q < 16 ∧ cy i = nI q) ∧ (∃ a, a < 4 ∧ cc i = nI a) ∧
  cd (i * 4) = ck i ∧ cd (i * 4 + 1) = cy i ∧ cd (i * 4 + 2) = cc i ∧ cd (i * 4 + 3) = cn i
def lc_TA (ac ay av ad ap : Nat → Int32) : Prop := ∀ s, s < 2 → ∃ a, a ≤ 4 ∧ ac s = nI a ∧ ∀ i, i < a → (∃ q, q < 16 ∧ ay (s * 4 + i) = nI q) ∧
  ((ad (s * 4 + i) = 0 ∧ ap (s * 4 + i) = 1) ∨ (ad (s * 4 + i) = 1 ∧ ap (s * 4 + i) = 0 ∧ av (s * 4 + i) = 0)) ∧ ∀ j, j < i → ¬ ay (s * 4 + j) = ay (s * 4 + i)
def lc_FF (c n w m nc : Nat) (ek ev ed er eb nw op ov pr va cr mo ve lo li ex ko bx ck cy cc cn ac ay av ad ba ep el cd ap gr tt : Nat → Int32) : Prop :=
  lc_EF c n w ek ev ed er eb nw op ov pr va cr mo ve lo ba ep el ∧ lc_LB lo ko ∧ lc_LQ lo li ∧ lc_LF m li ex bx gr tt ∧ lc_TC nc ck cy cc cn cd ∧ lc_TA ac ay av ad ap
def lc_RR (c w m : Nat) (t : Int32) (u : SX) (v : SY) : Prop := ∀ P : SX → SY → Prop,
  (∀ (n nc : Nat) (o : Int32) (ek ev ed er eb nw op ov pr va cr mo ve lo li ex ko bx ck cy cc cn ac ay av ad ba ep el se cd ap gr tt : Nat → Int32), lc_FF c n w m nc ek ev ed er eb nw op ov pr va cr mo ve lo li ex ko bx ck cy cc cn ac ay av ad ba ep el cd ap gr tt → P ((nI n), (nI w), o, (nI m), t, (nI nc), ek, ev, ed, er, eb, nw, op, ov, pr, va, cr, mo, ve, lo, li, ex, ko, bx, ck, cy, cc, cn, ac, ay, av, ad) (o, nI w, (nI n), (nI nc), t, ba, er, ek, ep, ev, el, se, cd, ay, ap, av, ac, gr, tt, ex)) → P u v
/-- the relation at the head of a turn whose first cell is k -/
def i_Rel (k : Nat) (u : SX) (v : SY) : Prop := ∃ w m t, w ≤ k ∧ lc_RR (20 * k) w m t u v
section RL
variable {n w y m nc : Nat} {o t : Int32} {ek ev ed er eb nw op ov pr va cr mo ve lo li ex ko bx ck cy cc cn ac ay av ad ba ep el se cd ap gr tt : Nat → Int32}
theorem lc_RRi {c : Nat} (h : lc_FF c n w m nc ek ev ed er eb nw op ov pr va cr mo ve lo li ex ko bx ck cy cc cn ac ay av ad ba ep el cd ap gr tt) : lc_RR c w m t ((nI n), (nI w), o, (nI m), t, (nI nc), ek, ev, ed, er, eb, nw, op, ov, pr, va, cr, mo, ve, lo, li, ex, ko, bx, ck, cy, cc, cn, ac, ay, av, ad) (o, nI w, (nI n), (nI nc), t, ba, er, ek, ep, ev, el, se, cd, ay, ap, av, ac, gr, tt, ex) := fun P hP => hP n nc o ek ev ed er eb nw op ov pr va cr mo ve lo li ex ko bx ck cy cc cn ac ay av ad ba ep el se cd ap gr tt h
theorem lc_FF_c {c c' : Nat} (h : lc_FF c n w m nc ek ev ed er eb nw op ov pr va cr mo ve lo li ex ko bx ck cy cc cn ac ay av ad ba ep el cd ap gr tt) (hc : c ≤ c') : lc_FF c' n w m nc ek ev ed er eb nw op ov pr va cr mo ve lo li ex ko bx ck cy cc cn ac ay av ad ba ep el cd ap gr tt := ⟨lc_EF_c h.1 hc, h.2⟩
theorem lc_RRc {c c' : Nat} {u : SX} {v : SY} (R : lc_RR c w m t u v) (hc : c ≤ c') : lc_RR c' w m t u v :=
  fun P hP => R P (fun n nc o ek ev ed er eb nw op ov pr va cr mo ve lo li ex ko bx ck cy cc cn ac ay av ad ba ep el se cd ap gr tt h => hP n nc o ek ev ed er eb nw op ov pr va cr mo ve lo li ex ko bx ck cy cc cn ac ay av ad ba ep el se cd ap gr tt (lc_FF_c h hc))
theorem lc_fin {k : Nat} (h : lc_FF (20 * k) n w m nc ek ev ed er eb nw op ov pr va cr mo ve lo li ex ko bx ck cy cc cn ac ay av ad ba ep el cd ap gr tt) (hw : w ≤ k + 5) : i_Rel (k + 5) ((nI n), (nI w), o, (nI m), t, (nI nc), ek, ev, ed, er, eb, nw, op, ov, pr, va, cr, mo, ve, lo, li, ex, ko, bx, ck, cy, cc, cn, ac, ay, av, ad) (o, nI w, (nI n), (nI nc), t, ba, er, ek, ep, ev, el, se, cd, ay, ap, av, ac, gr, tt, ex) :=
  ⟨w, m, t, hw, lc_RRi (lc_FF_c h (by omega))⟩
theorem lc_finc {k c : Nat} (h : lc_FF c n w m nc ek ev ed er eb nw op ov pr va cr mo ve lo li ex ko bx ck cy cc cn ac ay av ad ba ep el cd ap gr tt) (hc : c ≤ 20 * (k + 5)) (hw : w ≤ k + 5) : i_Rel (k + 5) ((nI n), (nI w), o, (nI m), t, (nI nc), ek, ev, ed, er, eb, nw, op, ov, pr, va, cr, mo, ve, lo, li, ex, ko, bx, ck, cy, cc, cn, ac, ay, av, ad) (o, nI w, (nI n), (nI nc), t, ba, er, ek, ep, ev, el, se, cd, ay, ap, av, ac, gr, tt, ex) :=
  ⟨w, m, t, hw, lc_RRi (lc_FF_c h hc)⟩
theorem lc_finR {k : Nat} {u : SX} {v : SY} (h : lc_RR (20 * k) w m t u v) (hw : w ≤ k + 5) : i_Rel (k + 5) u v :=
  ⟨w, m, t, hw, lc_RRc h (by omega)⟩
end RL
theorem lc_open {k : Nat} {u : SX} {v : SY} {P : SX → SY → Prop} (I : i_Rel k u v)
    (h : ∀ (w m : Nat) (t : Int32) (n nc : Nat) (o : Int32) (ek ev ed er eb nw op ov pr va cr mo ve lo li ex ko bx ck cy cc cn ac ay av ad ba ep el se cd ap gr tt : Nat → Int32), w ≤ k → lc_FF (20 * k) n w m nc ek ev ed er eb nw op ov pr va cr mo ve lo li ex ko bx ck cy cc cn ac ay av ad ba ep el cd ap gr tt → P ((nI n), (nI w), o, (nI m), t, (nI nc), ek, ev, ed, er, eb, nw, op, ov, pr, va, cr, mo, ve, lo, li, ex, ko, bx, ck, cy, cc, cn, ac, ay, av, ad) (o, nI w, (nI n), (nI nc), t, ba, er, ek, ep, ev, el, se, cd, ay, ap, av, ac, gr, tt, ex)) : P u v := by
  obtain ⟨w, m, t, hw, R⟩ := I
  exact R P (fun n nc o ek ev ed er eb nw op ov pr va cr mo ve lo li ex ko bx ck cy cc cn ac ay av ad ba ep el se cd ap gr tt hF => h w m t n nc o ek ev ed er eb nw op ov pr va cr mo ve lo li ex ko bx ck cy cc cn ac ay av ad ba ep el se cd ap gr tt hw hF)
theorem i_up {k : Nat} {u : SX} {v : SY} (h : i_Rel k u v) : i_Rel (k + 5) u v := by
  obtain ⟨w, m, t, hw, R⟩ := h
  exact lc_finR R (by omega)
end
section
/-! put and delete -/
section PD
variable {n w y m nc : Nat} {o t : Int32} {ek ev ed er eb nw op ov pr va cr mo ve lo li ex ko bx ck cy cc cn ac ay av ad ba ep el se cd ap gr tt : Nat → Int32}
theorem lr_put25 {k q : Nat} {a le : Int32} (hk : k + 5 ≤ 2560) (hw : w ≤ k) (hF : lc_FF (20 * k) n w m nc ek ev ed er eb nw op ov pr va cr mo ve lo li ex ko bx ck cy cc cn ac ay av ad ba ep el cd ap gr tt) (hq : q < 16)
    (hle : le = -1 ∨ ∃ l, l < 4 ∧ le = nI l ∧ ¬ li l = 0) :
    ∃ r u' v', i_Rel (k + 5) u' v' ∧ (∀ post : Int32 → SX → Prop, post r u' → wX_put_25 post (nI q) a le (nI n) (nI w) o (nI m) t (nI nc) ek ev ed er eb nw op ov pr va cr mo ve lo li ex ko bx ck cy cc cn ac ay av ad) ∧
      (∀ post : Int32 → SY → Prop, post r v' → wY_put_26 post (nI q) a le o (nI w) (nI n) (nI nc) t ba er ek ep ev el se cd ay ap av ac gr tt ex) := by
  have hF2 := hF
  obtain ⟨hE, hB, hQ, hL, hC, hA⟩ := hF
  have n76 : n ≤ 76 := by have := hE.1; omega
  have hR : lc_LR le := by
    rcases hle with e | ⟨l, hl, e, _⟩
    · exact Or.inl e
    · exact Or.inr ⟨l, hl, e⟩
  by_cases z : n < 60
  · obtain ⟨ko', cr', ve', k1, k2, k3, k4, k5, k6⟩ := lx_putKey (cr := cr) (a := a) (r := nI (w + 1)) (by omega : n < 96) hq hB (lc_LQ_R hQ hq) hR (hE.2.2.2.2.2.1 q hq)
    have hE' := lc_EF_put (a := a) (le := le) (lc_EF_w hE (Nat.le_succ w)) z hq (by omega) (by omega) k2 k3 k4 k5
    refine ⟨nI (w + 1), (nI (n + 1), nI (w + 1), o, (nI m), t, (nI nc), upd ek n (nI q), upd ev n a, upd ed n 0, upd er n (nI (w + 1)), upd eb n (nw q), upd nw q (nI n), op, ov, upd pr q 1, upd va q a, cr', upd mo q (nI (w + 1)), ve', upd lo q le, li, ex, ko', bx, ck, cy, cc, cn, ac, ay, av, ad),
      (o, nI (w + 1), nI (n + 1), (nI nc), t, ba, upd er n (nI (w + 1)), upd ek n (nI q), upd ep n 1, upd ev n a, upd el n le, se, cd, ay, ap, av, ac, gr, tt, ex), ?_, ?_, ?_⟩
    · exact lc_fin ⟨hE', k1, lc_LQ_put hQ hle, hL, hC, hA⟩ (by omega)
    · intro post hp
      exact br_t (nI_lt (b := 60) z (by decide)) (nm_r (nI_1 w) (k6 hp))
    · intro post hp
      exact br_t (nI_lt (b := 60) z (by decide)) (nm_r (nI_1 w) (ly_add (by omega) rfl hp))
  · refine ⟨-5, ((nI n), (nI w), o, (nI m), t, (nI nc), ek, ev, ed, er, eb, nw, op, ov, pr, va, cr, mo, ve, lo, li, ex, ko, bx, ck, cy, cc, cn, ac, ay, av, ad), (o, nI w, (nI n), (nI nc), t, ba, er, ek, ep, ev, el, se, cd, ay, ap, av, ac, gr, tt, ex), lc_fin hF2 (by omega), ?_, ?_⟩
    · intro post hp
      exact br_f (nI_nlt (b := 60) (by omega) (by omega)) hp
    · intro post hp
      exact br_f (nI_nlt (b := 60) (by omega) (by omega)) hp
theorem lr_put {k : Nat} (hk : k + 5 ≤ 2560) (hw : w ≤ k) (hF : lc_FF (20 * k) n w m nc ek ev ed er eb nw op ov pr va cr mo ve lo li ex ko bx ck cy cc cn ac ay av ad ba ep el cd ap gr tt) (v1 v2 v3 : Int32) :
    ∃ r u' v', i_Rel (k + 5) u' v' ∧ (∀ post : Int32 → SX → Prop, post r u' → wpX_put post ((nI n), (nI w), o, (nI m), t, (nI nc), ek, ev, ed, er, eb, nw, op, ov, pr, va, cr, mo, ve, lo, li, ex, ko, bx, ck, cy, cc, cn, ac, ay, av, ad) v1 v2 v3) ∧
      (∀ post : Int32 → SY → Prop, post r v' → wpY_put post (o, nI w, (nI n), (nI nc), t, ba, er, ek, ep, ev, el, se, cd, ay, ap, av, ac, gr, tt, ex) v1 v2 v3) := by
  have hR := lc_fin (o := o) (t := t) (se := se) hF (by omega)
  rcases lc_key v1 with hb | ⟨q, hq, rfl⟩
  · refine ⟨-1, _, _, hR, fun post hp => ?_, fun post hp => ?_⟩
    · unfold wpX_put
      exact lx_bkb hb (br_f (by decide) hp)
    · unfold wpY_put
      exact ly_ikb hb (br_t rfl hp)
  · by_cases z : v3 = -1
    · obtain ⟨r, u', v', h1, h2, h3⟩ := lr_put25 (o := o) (t := t) (se := se) (a := v2) hk hw hF hq (Or.inl z)
      refine ⟨r, u', v', h1, fun post hp => ?_, fun post hp => ?_⟩
      · unfold wpX_put
        exact lx_bk hq (br_t rfl (br_t z (h2 post hp)))
      · unfold wpY_put
        exact ly_ik hq (br_f (by decide) (br_t z (h3 post hp)))
    · rcases lc_lease v3 with hb | ⟨l, hl, rfl⟩
      · refine ⟨-3, _, _, hR, fun post hp => ?_, fun post hp => ?_⟩
        · unfold wpX_put
          exact lx_bk hq (br_t rfl (br_f z (lx_nlb hb (br_f (by decide) hp))))
        · unfold wpY_put
          exact ly_ik hq (br_f (by decide) (br_f z (ly_igb hb (br_t rfl hp))))
      · rcases hF.2.2.2.1.2.2 l hl with ⟨g0, l0⟩ | ⟨g1, l1, l2, l3⟩
        · refine ⟨-3, _, _, hR, fun post hp => ?_, fun post hp => ?_⟩
          · unfold wpX_put
            exact lx_bk hq (br_t rfl (br_f z (lx_nl0 hl l0 (br_f (by decide) hp))))
          · unfold wpY_put
            exact ly_ik hq (br_f (by decide) (br_f z (ly_ig0 hl g0 (br_t rfl hp))))
        · have ln : ¬ li l = 0 := fun e => by rw [e, lc_z0] at l1; omega
          have gn : ¬ gr l = 0 := by rw [g1]; decide
          obtain ⟨r, u', v', h1, h2, h3⟩ := lr_put25 (o := o) (t := t) (se := se) (a := v2) hk hw hF hq (Or.inr ⟨l, hl, rfl, ln⟩)
          refine ⟨r, u', v', h1, fun post hp => ?_, fun post hp => ?_⟩
          · unfold wpX_put
            exact lx_bk hq (br_t rfl (br_f z (lx_nl1 hl ln (br_t rfl (h2 post hp)))))
          · unfold wpY_put
            exact ly_ik hq (br_f (by decide) (br_f z (ly_ig1 hl gn (br_f (by decide) (h3 post hp)))))
theorem lr_delete {k : Nat} (hk : k + 5 ≤ 2560) (hw : w ≤ k) (hF : lc_FF (20 * k) n w m nc ek ev ed er eb nw op ov pr va cr mo ve lo li ex ko bx ck cy cc cn ac ay av ad ba ep el cd ap gr tt) (v1 : Int32) :
    ∃ r u' v', i_Rel (k + 5) u' v' ∧ (∀ post : Int32 → SX → Prop, post r u' → wpX_delete post ((nI n), (nI w), o, (nI m), t, (nI nc), ek, ev, ed, er, eb, nw, op, ov, pr, va, cr, mo, ve, lo, li, ex, ko, bx, ck, cy, cc, cn, ac, ay, av, ad) v1) ∧
      (∀ post : Int32 → SY → Prop, post r v' → wpY_delete post (o, nI w, (nI n), (nI nc), t, ba, er, ek, ep, ev, el, se, cd, ay, ap, av, ac, gr, tt, ex) v1) := by
  have hF2 := hF
  obtain ⟨hE, hB, hQ, hL, hC, hA⟩ := hF
  have n76 : n ≤ 76 := by have := hE.1; omega
  rcases lc_key v1 with hb | ⟨q, hq, rfl⟩
  · refine ⟨-1, _, _, lc_fin (o := o) (t := t) (se := se) hF2 (by omega), fun post hp => ?_, fun post hp => ?_⟩
    · unfold wpX_delete
      exact lx_bkb hb (br_f (by decide) hp)
    · unfold wpY_delete
      exact ly_ikb hb (br_t rfl hp)
  · have eq : (nI q).toNatClampNeg = q := nI_clamp (by omega)
    have wq : vp_in (nI q) 16 := vp_in_nI hq (by omega)
    have hv := (lc_OLv (ek := ek) (er := er) (ep := ep) (ev := ev) (el := el) hE.2.2.2.2.2.2 hq (m := n) (by omega) (by omega)).1
    have hat := hE.2.2.2.2.1 q hq
    obtain ⟨se', s1, s2⟩ := ly_pres ek ep ev el ba se hq (by omega) (lc_SP_n hE.2.1 (by omega)) hv
    rw [hat] at s2
    rcases hE.2.2.2.2.2.1 q hq with ⟨p0, v0, _⟩ | ⟨p1, v1⟩
    · refine ⟨-4, ((nI n), (nI w), o, (nI m), t, (nI nc), ek, ev, ed, er, eb, nw, op, ov, pr, va, cr, mo, ve, lo, li, ex, ko, bx, ck, cy, cc, cn, ac, ay, av, ad), (o, nI w, (nI n), (nI nc), t, ba, er, ek, ep, ev, el, se', cd, ay, ap, av, ac, gr, tt, ex), lc_fin hF2 (by omega), fun post hp => ?_, fun post hp => ?_⟩
      · unfold wpX_delete
        exact lx_bk hq (br_t rfl ⟨wq, br_t (by rw [eq]; exact p0) hp⟩)
      · unfold wpY_delete
        refine ly_ik hq (br_f (by decide) (s2 ?_))
        rw [if_pos v0]
        exact br_t rfl hp
    · have vn : ¬ ve q = 0 := fun e => by rw [e, lc_z0] at v1; omega
      have pn : ¬ pr q = 0 := by rw [p1]; decide
      by_cases z : n < 60
      · obtain ⟨ko', k1, k2⟩ := lx_deleteKey (r := nI (w + 1)) (by omega : n < 96) hq hB (lc_LQ_R hQ hq)
        have hE' := lc_EF_del (lc_EF_w hE (Nat.le_succ w)) pn hq (by omega)
        refine ⟨nI (w + 1), (nI (n + 1), nI (w + 1), o, (nI m), t, (nI nc), upd ek n (nI q), upd ev n 0, upd ed n 1, upd er n (nI (w + 1)), upd eb n (nw q), upd nw q (nI n), op, ov, upd pr q 0, upd va q 0, upd cr q 0, upd mo q 0, upd ve q 0, upd lo q (-1), li, ex, ko', bx, ck, cy, cc, cn, ac, ay, av, ad),
          (o, nI (w + 1), nI (n + 1), (nI nc), t, ba, upd er n (nI (w + 1)), upd ek n (nI q), upd ep n 0, upd ev n 0, upd el n (-1), se', cd, ay, ap, av, ac, gr, tt, ex), ?_, fun post hp => ?_, fun post hp => ?_⟩
        · exact lc_fin ⟨hE', k1, lc_LQ_put hQ (Or.inl rfl), hL, hC, hA⟩ (by omega)
        · unfold wpX_delete
          exact lx_bk hq (br_t rfl ⟨wq, br_f (by rw [eq]; exact pn) (br_t (nI_lt (b := 60) z (by decide)) (nm_r (nI_1 w) (k2 hp)))⟩)
        · unfold wpY_delete
          refine ly_ik hq (br_f (by decide) (s2 ?_))
          rw [if_neg vn]
          exact br_f (by decide) (br_t (nI_lt (b := 60) z (by decide)) (nm_r (nI_1 w) (ly_add (by omega) rfl hp)))
      · refine ⟨-5, ((nI n), (nI w), o, (nI m), t, (nI nc), ek, ev, ed, er, eb, nw, op, ov, pr, va, cr, mo, ve, lo, li, ex, ko, bx, ck, cy, cc, cn, ac, ay, av, ad), (o, nI w, (nI n), (nI nc), t, ba, er, ek, ep, ev, el, se', cd, ay, ap, av, ac, gr, tt, ex), lc_fin hF2 (by omega), fun post hp => ?_, fun post hp => ?_⟩
        · unfold wpX_delete
          exact lx_bk hq (br_t rfl ⟨wq, br_f (by rw [eq]; exact pn) (br_f (nI_nlt (b := 60) (by omega) (by omega)) hp)⟩)
        · unfold wpY_delete
          refine ly_ik hq (br_f (by decide) (s2 ?_))
          rw [if_neg vn]
          exact br_f (by decide) (br_f (nI_nlt (b := 60) (by omega) (by omega)) hp)
end PD
end
section
/-! conditions and actions: when, thenPut, thenDelete -/
theorem lc_3lt {x : Int32} (h : 4 ≤ x) : 3 < x := by
  rw [Int32.le_iff_toInt_le] at h
  rw [Int32.lt_iff_toInt_lt]
  have a : (4 : Int32).toInt = 4 := by decide
  have b : (3 : Int32).toInt = 3 := by decide
  omega
theorem lc_n3 {l : Nat} (h : l < 4) : ¬ (3 : Int32) < nI l := nI_nlt (a := 3) (by omega) (by decide)
theorem lc_le3 {l : Nat} (h : l < 4) : nI l ≤ (3 : Int32) := nI_le (b := 3) (by omega) (by decide)
section TR
variable {n w y m nc : Nat} {o t : Int32} {ek ev ed er eb nw op ov pr va cr mo ve lo li ex ko bx ck cy cc cn ac ay av ad ba ep el se cd ap gr tt : Nat → Int32}
theorem lc_TC_add {a q b : Nat} {x : Int32} (h : lc_TC nc ck cy cc cn cd) (hn : nc < 4) (ha : a < 4) (hq : q < 16) (hb : b < 4) :
    lc_TC (nc + 1) (upd ck nc (nI a)) (upd cy nc (nI q)) (upd cc nc (nI b)) (upd cn nc x)
      (upd (upd (upd (upd cd (nc * 4) (nI a)) (nc * 4 + 1) (nI q)) (nc * 4 + 2) (nI b)) (nc * 4 + 3) x) := by
  refine ⟨by omega, fun i hi => ?_⟩
  by_cases z : i = nc
  · subst z
    refine ⟨⟨a, ha, pk_us⟩, ⟨q, hq, pk_us⟩, ⟨b, hb, pk_us⟩, ?_, ?_, ?_, ?_⟩
    · rw [pk_un (by omega), pk_un (by omega), pk_un (by omega), pk_us, pk_us]
    · rw [pk_un (by omega), pk_un (by omega), pk_us, pk_us]
    · rw [pk_un (by omega), pk_us, pk_us]
    · rw [pk_us, pk_us]
  · obtain ⟨h1, h2, h3, h4, h5, h6, h7⟩ := h.2 i (by omega)
    rw [pk_un z, pk_un z, pk_un z, pk_un z]
    refine ⟨h1, h2, h3, ?_, ?_, ?_, ?_⟩
    · rw [pk_un (by omega), pk_un (by omega), pk_un (by omega), pk_un (by omega)]; exact h4
    · rw [pk_un (by omega), pk_un (by omega), pk_un (by omega), pk_un (by omega)]; exact h5
    · rw [pk_un (by omega), pk_un (by omega), pk_un (by omega), pk_un (by omega)]; exact h6
    · rw [pk_un (by omega), pk_un (by omega), pk_un (by omega), pk_un (by omega)]; exact h7
theorem lr_when {k : Nat} (hk : k + 5 ≤ 2560) (hw : w ≤ k) (hF : lc_FF (20 * k) n w m nc ek ev ed er eb nw op ov pr va cr mo ve lo li ex ko bx ck cy cc cn ac ay av ad ba ep el cd ap gr tt) (v1 v2 v3 v4 : Int32) :
    ∃ r u' v', i_Rel (k + 5) u' v' ∧ (∀ post : Int32 → SX → Prop, post r u' → wpX_when post ((nI n), (nI w), o, (nI m), t, (nI nc), ek, ev, ed, er, eb, nw, op, ov, pr, va, cr, mo, ve, lo, li, ex, ko, bx, ck, cy, cc, cn, ac, ay, av, ad) v1 v2 v3 v4) ∧
      (∀ post : Int32 → SY → Prop, post r v' → wpY_when post (o, nI w, (nI n), (nI nc), t, ba, er, ek, ep, ev, el, se, cd, ay, ap, av, ac, gr, tt, ex) v1 v2 v3 v4) := by
  have hR := lc_fin (o := o) (t := t) (se := se) hF (by omega)
  obtain ⟨hE, hB, hQ, hL, hC, hA⟩ := hF
  have hnc := hC.1
  rcases lc_key v2 with hb | ⟨q, hq, rfl⟩
  · refine ⟨-1, _, _, hR, fun post hp => ?_, fun post hp => ?_⟩
    · unfold wpX_when
      exact lx_bkb hb (br_f (by decide) hp)
    · unfold wpY_when
      exact ly_ikb hb (br_t rfl hp)
  · by_cases k0 : v1 < 0
    · refine ⟨-2, _, _, hR, fun post hp => ?_, fun post hp => ?_⟩
      · unfold wpX_when
        exact lx_bk hq (br_t rfl (br_t k0 hp))
      · unfold wpY_when
        exact ly_ik hq (br_f (by decide) (br_t k0 hp))
    · by_cases k3 : 3 < v1
      · refine ⟨-2, _, _, hR, fun post hp => ?_, fun post hp => ?_⟩
        · unfold wpX_when
          exact lx_bk hq (br_t rfl (br_f k0 (br_t k3 hp)))
        · unfold wpY_when
          exact ly_ik hq (br_f (by decide) (br_f k0 (br_t k3 hp)))
      · by_cases c0 : v3 < 0
        · refine ⟨-2, _, _, hR, fun post hp => ?_, fun post hp => ?_⟩
          · unfold wpX_when
            exact lx_bk hq (br_t rfl (br_f k0 (br_f k3 (br_t c0 hp))))
          · unfold wpY_when
            exact ly_ik hq (br_f (by decide) (br_f k0 (br_f k3 (br_t c0 hp))))
        · by_cases c3 : v3 ≤ 3
          · obtain ⟨a, ha, rfl⟩ := (lc_lease v1).resolve_left (fun z => z.elim k0 (fun y => k3 (lc_3lt y)))
            obtain ⟨b, hb, rfl⟩ := (lc_lease v3).resolve_left (fun z => z.elim c0 (fun y => absurd c3 (Int32.not_le.mpr (lc_3lt y))))
            by_cases f4 : nc < 4
            · have en : (nI nc).toNatClampNeg = nc := nI_clamp (by omega)
              have wn : vp_in (nI nc) 4 := vp_in_nI f4 (by omega)
              have e0 : nI nc * 4 = nI (nc * 4) := pk_mul nc 4
              have e1 : nI nc * 4 + 1 = nI (nc * 4 + 1) := by rw [e0]; exact nI_1 _
              have e2 : nI nc * 4 + 2 = nI (nc * 4 + 2) := by rw [e0]; exact nI_add _ 2
              have e3 : nI nc * 4 + 3 = nI (nc * 4 + 3) := by rw [e0]; exact nI_add _ 3
              have d0 : (nI (nc * 4)).toNatClampNeg = nc * 4 := nI_clamp (by omega)
              have d1 : (nI (nc * 4 + 1)).toNatClampNeg = nc * 4 + 1 := nI_clamp (by omega)
              have d2 : (nI (nc * 4 + 2)).toNatClampNeg = nc * 4 + 2 := nI_clamp (by omega)
              have d3 : (nI (nc * 4 + 3)).toNatClampNeg = nc * 4 + 3 := nI_clamp (by omega)
              have w0 : vp_in (nI nc * 4) 16 := by rw [e0]; exact vp_in_nI (by omega) (by omega)
              have w1 : vp_in (nI nc * 4 + 1) 16 := by rw [e1]; exact vp_in_nI (by omega) (by omega)
              have w2 : vp_in (nI nc * 4 + 2) 16 := by rw [e2]; exact vp_in_nI (by omega) (by omega)
              have w3 : vp_in (nI nc * 4 + 3) 16 := by rw [e3]; exact vp_in_nI (by omega) (by omega)
              refine ⟨nI (nc + 1), ((nI n), (nI w), o, (nI m), t, nI (nc + 1), ek, ev, ed, er, eb, nw, op, ov, pr, va, cr, mo, ve, lo, li, ex, ko, bx, upd ck nc (nI a), upd cy nc (nI q), upd cc nc (nI b), upd cn nc v4, ac, ay, av, ad),
                (o, nI w, (nI n), nI (nc + 1), t, ba, er, ek, ep, ev, el, se, upd (upd (upd (upd cd (nc * 4) (nI a)) (nc * 4 + 1) (nI q)) (nc * 4 + 2) (nI b)) (nc * 4 + 3) v4, ay, ap, av, ac, gr, tt, ex),
                lc_fin ⟨hE, hB, hQ, hL, lc_TC_add hC f4 ha hq hb, hA⟩ (by omega), fun post hp => ?_, fun post hp => ?_⟩
              · unfold wpX_when
                exact lx_bk hq (br_t rfl (br_f k0 (br_f k3 (br_f c0 (br_t c3 (br_t (nI_lt (b := 4) f4 (by decide)) ⟨wn, nm_r (e' := upd ck nc (nI a)) (by rw [en]) ⟨wn, nm_r (e' := upd cy nc (nI q)) (by rw [en]) ⟨wn, nm_r (e' := upd cc nc (nI b)) (by rw [en]) ⟨wn, nm_r (e' := upd cn nc v4) (by rw [en]) (nm_r (nI_1 nc) hp)⟩⟩⟩⟩))))))
              · unfold wpY_when
                refine ly_ik hq (br_f (by decide) (br_f k0 (br_f k3 (br_f c0 (br_t c3 (br_f (fun z => ?_) ⟨w0, nm_r (e' := upd cd (nc * 4) (nI a)) (by rw [e0, d0]) ⟨w1, nm_r (e' := upd (upd cd (nc * 4) (nI a)) (nc * 4 + 1) (nI q)) (by rw [e1, d1]) ⟨w2, nm_r (e' := upd (upd (upd cd (nc * 4) (nI a)) (nc * 4 + 1) (nI q)) (nc * 4 + 2) (nI b)) (by rw [e2, d2]) ⟨w3, nm_r (e' := upd (upd (upd (upd cd (nc * 4) (nI a)) (nc * 4 + 1) (nI q)) (nc * 4 + 2) (nI b)) (nc * 4 + 3) v4) (by rw [e3, d3]) (nm_r (nI_1 nc) hp)⟩⟩⟩⟩))))))
                have := (nI_eq (a := nc) (b := 4) (by omega) (by omega)).mp z
                omega
            · have e4 : nc = 4 := by omega
              subst e4
              refine ⟨-5, _, _, hR, fun post hp => ?_, fun post hp => ?_⟩
              · unfold wpX_when
                exact lx_bk hq (br_t rfl (br_f k0 (br_f k3 (br_f c0 (br_t c3 (br_f (by decide) hp))))))
              · unfold wpY_when
                exact ly_ik hq (br_f (by decide) (br_f k0 (br_f k3 (br_f c0 (br_t c3 (br_t rfl hp))))))
          · refine ⟨-2, _, _, hR, fun post hp => ?_, fun post hp => ?_⟩
            · unfold wpX_when
              exact lx_bk hq (br_t rfl (br_f k0 (br_f k3 (br_f c0 (br_f c3 hp)))))
            · unfold wpY_when
              exact ly_ik hq (br_f (by decide) (br_f k0 (br_f k3 (br_f c0 (br_f c3 hp)))))
theorem lc_TA_add {s A q : Nat} {a d p : Int32} (h : lc_TA ac ay av ad ap) (hs : s < 2) (hA : ac s = nI A) (hA4 : A < 4) (hq : q < 16)
    (hd : (d = 0 ∧ p = 1) ∨ (d = 1 ∧ p = 0 ∧ a = 0)) (hne : ∀ j, j < A → ¬ ay (s * 4 + j) = nI q) :
    lc_TA (upd ac s (nI (A + 1))) (upd ay (s * 4 + A) (nI q)) (upd av (s * 4 + A) a) (upd ad (s * 4 + A) d) (upd ap (s * 4 + A) p) := by
  intro s' hs'
  obtain ⟨A', hA', e, hi⟩ := h s' hs'
  by_cases z : s' = s
  · subst z
    have eA : A' = A := (nI_eq (by omega) (by omega)).mp (e.symm.trans hA)
    subst eA
    refine ⟨A' + 1, by omega, pk_us, fun i hi' => ?_⟩
    by_cases y : i = A'
    · subst y
      rw [pk_us, pk_us, pk_us, pk_us]
      refine ⟨⟨q, hq, rfl⟩, hd, fun j hj => ?_⟩
      rw [pk_un (by omega)]
      exact hne j hj
    · obtain ⟨h1, h2, h3⟩ := hi i (by omega)
      rw [pk_un (by omega), pk_un (by omega), pk_un (by omega), pk_un (by omega)]
      refine ⟨h1, h2, fun j hj => ?_⟩
      rw [pk_un (by omega)]
      exact h3 j hj
  · refine ⟨A', hA', by rw [pk_un z]; exact e, fun i hi' => ?_⟩
    obtain ⟨h1, h2, h3⟩ := hi i hi'
    rw [pk_un (by omega), pk_un (by omega), pk_un (by omega), pk_un (by omega)]
    refine ⟨h1, h2, fun j hj => ?_⟩
    rw [pk_un (by omega)]
    exact h3 j hj
theorem lc_s4 {s i : Nat} : nI s * 4 + nI i = nI (s * 4 + i) := by
  rw [← nI_add, ← pk_mul]; rfl
theorem lr_actL {k s q A : Nat} {a d p : Int32} (hk : k + 5 ≤ 2560) (hw : w ≤ k) (hF : lc_FF (20 * k) n w m nc ek ev ed er eb nw op ov pr va cr mo ve lo li ex ko bx ck cy cc cn ac ay av ad ba ep el cd ap gr tt) (hs : s < 2) (hq : q < 16)
    (hA : ac s = nI A) (hA4 : A ≤ 4) (hd : (d = 0 ∧ p = 1) ∨ (d = 1 ∧ p = 0 ∧ a = 0)) :
    ∀ D i, i + D = A → (∀ j, j < i → ¬ ay (s * 4 + j) = nI q) →
    ∃ r u' v', i_Rel (k + 5) u' v' ∧ (∀ post : Int32 → SX → Prop, post r u' → ∀ N, D < N → wX_addAction_12 post (nI q) a d (nI s) (nI n) (nI w) o (nI m) t (nI nc) ek ev ed er eb nw op ov pr va cr mo ve lo li ex ko bx ck cy cc cn ac ay av ad N (nI i)) ∧
      (∀ post : Int32 → SY → Prop, post r v' → ∀ N, D < N → wY_action_25 post (nI q) p a (nI s) o (nI w) (nI n) (nI nc) t ba er ek ep ev el se cd ay ap av ac gr tt ex N (nI i)) := by
  have hR := lc_fin (o := o) (t := t) (se := se) hF (by omega)
  obtain ⟨hE, hB, hQ, hL, hC, hT⟩ := hF
  have es : (nI s).toNatClampNeg = s := nI_clamp (by omega)
  have ws : vp_in (nI s) 2 := vp_in_nI hs (by omega)
  have hA' : ac (nI s).toNatClampNeg = nI A := by rw [es]; exact hA
  have hdn : vp_nar .boolean d = d ∧ vp_nar .boolean p = p := by
    rcases hd with ⟨rfl, rfl⟩ | ⟨rfl, rfl, _⟩
    · exact ⟨rfl, rfl⟩
    · exact ⟨rfl, rfl⟩
  intro D
  induction D with
  | zero =>
    intro i h1 h2
    have e : i = A := by omega
    subst e
    by_cases z : i < 4
    · have e4 : nI s * 4 + ac (nI s).toNatClampNeg = nI (s * 4 + i) := by rw [hA']; exact lc_s4
      have e5 : (nI (s * 4 + i)).toNatClampNeg = s * 4 + i := nI_clamp (by omega)
      have w5 : vp_in (nI (s * 4 + i)) 8 := vp_in_nI (by omega) (by omega)
      refine ⟨nI (i + 1), ((nI n), (nI w), o, (nI m), t, (nI nc), ek, ev, ed, er, eb, nw, op, ov, pr, va, cr, mo, ve, lo, li, ex, ko, bx, ck, cy, cc, cn, upd ac s (nI (i + 1)), upd ay (s * 4 + i) (nI q), upd av (s * 4 + i) a, upd ad (s * 4 + i) d),
        (o, nI w, (nI n), (nI nc), t, ba, er, ek, ep, ev, el, se, cd, upd ay (s * 4 + i) (nI q), upd ap (s * 4 + i) p, upd av (s * 4 + i) a, upd ac s (nI (i + 1)), gr, tt, ex), ?_, fun post hp N hN => ?_, fun post hp N hN => ?_⟩
      · exact lc_fin ⟨hE, hB, hQ, hL, hC, lc_TA_add hT hs hA z hq hd h2⟩ (by omega)
      · obtain ⟨N, rfl⟩ : ∃ k, N = k + 1 := ⟨N - 1, by omega⟩
        rw [wX_addAction_12]
        refine ⟨ws, br_t (by rw [hA']; exact nI_le (Nat.le_refl _) (by omega)) ⟨ws, br_t (by rw [hA']; exact nI_lt (b := 4) z (by decide)) ⟨ws, nm_r e4 ⟨w5, nm_r (e' := upd ay (s * 4 + i) (nI q)) (by rw [e5]) ⟨w5, nm_r (e' := upd av (s * 4 + i) a) (by rw [e5]) ⟨w5, nm_r (e' := upd ad (s * 4 + i) d) (by rw [e5, hdn.1]) ⟨ws, ws, nm_r (e' := upd ac s (nI (i + 1))) (by rw [hA', es, nI_1]) ⟨ws, ?_⟩⟩⟩⟩⟩⟩⟩⟩
        rw [es, pk_us]
        exact hp
      · obtain ⟨N, rfl⟩ : ∃ k, N = k + 1 := ⟨N - 1, by omega⟩
        rw [wY_action_25]
        refine ⟨ws, br_t (by rw [hA']; exact nI_le (Nat.le_refl _) (by omega)) ⟨ws, br_f (fun y => ?_) ⟨ws, nm_r e4 ⟨w5, nm_r (e' := upd ay (s * 4 + i) (nI q)) (by rw [e5]) ⟨w5, nm_r (e' := upd ap (s * 4 + i) p) (by rw [e5, hdn.2]) ⟨w5, nm_r (e' := upd av (s * 4 + i) a) (by rw [e5]) ⟨ws, ws, nm_r (e' := upd ac s (nI (i + 1))) (by rw [hA', es, nI_1]) ⟨ws, ?_⟩⟩⟩⟩⟩⟩⟩⟩
        · rw [hA'] at y
          have := (nI_eq (a := i) (b := 4) (by omega) (by omega)).mp y
          omega
        · rw [es, pk_us]
          exact hp
    · have e4 : i = 4 := by omega
      subst e4
      refine ⟨-5, _, _, hR, fun post hp N hN => ?_, fun post hp N hN => ?_⟩
      · obtain ⟨N, rfl⟩ : ∃ k, N = k + 1 := ⟨N - 1, by omega⟩
        rw [wX_addAction_12]
        exact ⟨ws, br_t (by rw [hA']; exact nI_le (Nat.le_refl _) (by omega)) ⟨ws, br_f (by rw [hA']; decide) hp⟩⟩
      · obtain ⟨N, rfl⟩ : ∃ k, N = k + 1 := ⟨N - 1, by omega⟩
        rw [wY_action_25]
        exact ⟨ws, br_t (by rw [hA']; exact nI_le (Nat.le_refl _) (by omega)) ⟨ws, br_t (by rw [hA']; rfl) hp⟩⟩
  | succ D ih =>
    intro i h1 h2
    have e5 : (nI (s * 4 + i)).toNatClampNeg = s * 4 + i := nI_clamp (by omega)
    have w5 : vp_in (nI s * 4 + nI i) 8 := by rw [lc_s4]; exact vp_in_nI (by omega) (by omega)
    have e6 : ay (nI s * 4 + nI i).toNatClampNeg = ay (s * 4 + i) := by rw [lc_s4, e5]
    have hge : ¬ ac (nI s).toNatClampNeg ≤ nI i := by rw [hA']; exact nI_ge (by omega) (by omega)
    by_cases z : ay (s * 4 + i) = nI q
    · refine ⟨-2, _, _, hR, fun post hp N hN => ?_, fun post hp N hN => ?_⟩
      · obtain ⟨N, rfl⟩ : ∃ k, N = k + 1 := ⟨N - 1, by omega⟩
        rw [wX_addAction_12]
        exact ⟨ws, br_f hge ⟨w5, br_t (by rw [e6]; exact z) hp⟩⟩
      · obtain ⟨N, rfl⟩ : ∃ k, N = k + 1 := ⟨N - 1, by omega⟩
        rw [wY_action_25]
        exact ⟨ws, br_f hge ⟨w5, br_t (by rw [e6]; exact z) hp⟩⟩
    · obtain ⟨r, u', v', k1, k2, k3⟩ := ih (i + 1) (by omega) (fun j hj => by
        by_cases y : j = i
        · subst y; exact z
        · exact h2 j (by omega))
      refine ⟨r, u', v', k1, fun post hp N hN => ?_, fun post hp N hN => ?_⟩
      · obtain ⟨N, rfl⟩ : ∃ k, N = k + 1 := ⟨N - 1, by omega⟩
        rw [wX_addAction_12]
        exact ⟨ws, br_f hge ⟨w5, br_f (by rw [e6]; exact z) (nm_r (nI_1 i) (k2 post hp N (by omega)))⟩⟩
      · obtain ⟨N, rfl⟩ : ∃ k, N = k + 1 := ⟨N - 1, by omega⟩
        rw [wY_action_25]
        exact ⟨ws, br_f hge ⟨w5, br_f (by rw [e6]; exact z) (nm_r (nI_1 i) (k3 post hp N (by omega)))⟩⟩
theorem lr_act {k s : Nat} {a d p : Int32} (hk : k + 5 ≤ 2560) (hw : w ≤ k) (hF : lc_FF (20 * k) n w m nc ek ev ed er eb nw op ov pr va cr mo ve lo li ex ko bx ck cy cc cn ac ay av ad ba ep el cd ap gr tt) (hs : s < 2)
    (hd : (d = 0 ∧ p = 1) ∨ (d = 1 ∧ p = 0 ∧ a = 0)) (v1 : Int32) :
    ∃ r u' v', i_Rel (k + 5) u' v' ∧ (∀ post : Int32 → SX → Prop, post r u' → wpX_addAction post ((nI n), (nI w), o, (nI m), t, (nI nc), ek, ev, ed, er, eb, nw, op, ov, pr, va, cr, mo, ve, lo, li, ex, ko, bx, ck, cy, cc, cn, ac, ay, av, ad) v1 a d (nI s)) ∧
      (∀ post : Int32 → SY → Prop, post r v' → wY_action_10 post v1 p a (nI s) o (nI w) (nI n) (nI nc) t ba er ek ep ev el se cd ay ap av ac gr tt ex) := by
  rcases lc_key v1 with hb | ⟨q, hq, rfl⟩
  · refine ⟨-1, _, _, lc_fin (o := o) (t := t) (se := se) hF (by omega), fun post hp => ?_, fun post hp => ?_⟩
    · unfold wpX_addAction
      exact lx_bkb hb (br_f (by decide) hp)
    · unfold wY_action_10
      exact ly_ikb hb (br_t rfl hp)
  · obtain ⟨A, hA4, hA, _⟩ := hF.2.2.2.2.2 s hs
    obtain ⟨r, u', v', k1, k2, k3⟩ := lr_actL (o := o) (t := t) (se := se) hk hw hF hs hq hA hA4 hd A 0 (by omega) (fun j hj => by omega)
    refine ⟨r, u', v', k1, fun post hp => ?_, fun post hp => ?_⟩
    · unfold wpX_addAction
      exact lx_bk hq (br_t rfl ⟨A + 1, k2 post hp (A + 1) (by omega)⟩)
    · unfold wY_action_10
      exact ly_ik hq (br_f (by decide) ⟨A + 1, k3 post hp (A + 1) (by omega)⟩)
theorem lr_thenPut {k : Nat} (hk : k + 5 ≤ 2560) (hw : w ≤ k) (hF : lc_FF (20 * k) n w m nc ek ev ed er eb nw op ov pr va cr mo ve lo li ex ko bx ck cy cc cn ac ay av ad ba ep el cd ap gr tt) (v1 v2 v3 : Int32) :
    ∃ r u' v', i_Rel (k + 5) u' v' ∧ (∀ post : Int32 → SX → Prop, post r u' → wpX_thenPut post ((nI n), (nI w), o, (nI m), t, (nI nc), ek, ev, ed, er, eb, nw, op, ov, pr, va, cr, mo, ve, lo, li, ex, ko, bx, ck, cy, cc, cn, ac, ay, av, ad) v1 v2 v3) ∧
      (∀ post : Int32 → SY → Prop, post r v' → wpY_thenPut post (o, nI w, (nI n), (nI nc), t, ba, er, ek, ep, ev, el, se, cd, ay, ap, av, ac, gr, tt, ex) v1 v2 v3) := by
  by_cases z : v3 = 0
  · obtain ⟨r, u', v', k1, k2, k3⟩ := lr_act (o := o) (t := t) (se := se) (s := 0) (a := v2) (d := 0) (p := 1) hk hw hF (by omega) (Or.inl ⟨rfl, rfl⟩) v1
    refine ⟨r, u', v', k1, fun post hp => ?_, fun post hp => ?_⟩
    · unfold wpX_thenPut
      refine br_t z ?_
      unfold wX_thenPut_13
      exact k2 _ hp
    · unfold wpY_thenPut wpY_action
      exact br_t z (k3 _ hp)
  · obtain ⟨r, u', v', k1, k2, k3⟩ := lr_act (o := o) (t := t) (se := se) (s := 1) (a := v2) (d := 0) (p := 1) hk hw hF (by omega) (Or.inl ⟨rfl, rfl⟩) v1
    refine ⟨r, u', v', k1, fun post hp => ?_, fun post hp => ?_⟩
    · unfold wpX_thenPut
      refine br_f z ?_
      unfold wX_thenPut_13
      exact k2 _ hp
    · unfold wpY_thenPut wpY_action
      exact br_f z (k3 _ hp)
theorem lr_thenDelete {k : Nat} (hk : k + 5 ≤ 2560) (hw : w ≤ k) (hF : lc_FF (20 * k) n w m nc ek ev ed er eb nw op ov pr va cr mo ve lo li ex ko bx ck cy cc cn ac ay av ad ba ep el cd ap gr tt) (v1 v2 : Int32) :
    ∃ r u' v', i_Rel (k + 5) u' v' ∧ (∀ post : Int32 → SX → Prop, post r u' → wpX_thenDelete post ((nI n), (nI w), o, (nI m), t, (nI nc), ek, ev, ed, er, eb, nw, op, ov, pr, va, cr, mo, ve, lo, li, ex, ko, bx, ck, cy, cc, cn, ac, ay, av, ad) v1 v2) ∧
      (∀ post : Int32 → SY → Prop, post r v' → wpY_thenDelete post (o, nI w, (nI n), (nI nc), t, ba, er, ek, ep, ev, el, se, cd, ay, ap, av, ac, gr, tt, ex) v1 v2) := by
  by_cases z : v2 = 0
  · obtain ⟨r, u', v', k1, k2, k3⟩ := lr_act (o := o) (t := t) (se := se) (s := 0) (a := 0) (d := 1) (p := 0) hk hw hF (by omega) (Or.inr ⟨rfl, rfl, rfl⟩) v1
    refine ⟨r, u', v', k1, fun post hp => ?_, fun post hp => ?_⟩
    · unfold wpX_thenDelete
      refine br_t z ?_
      unfold wX_thenDelete_13
      exact k2 _ hp
    · unfold wpY_thenDelete wpY_action
      exact br_t z (k3 _ hp)
  · obtain ⟨r, u', v', k1, k2, k3⟩ := lr_act (o := o) (t := t) (se := se) (s := 1) (a := 0) (d := 1) (p := 0) hk hw hF (by omega) (Or.inr ⟨rfl, rfl, rfl⟩) v1
    refine ⟨r, u', v', k1, fun post hp => ?_, fun post hp => ?_⟩
    · unfold wpX_thenDelete
      refine br_f z ?_
      unfold wX_thenDelete_13
      exact k2 _ hp
    · unfold wpY_thenDelete wpY_action
      exact br_f z (k3 _ hp)
end TR
end
section
/-! questions: revision, get, has, a mark of a key, events -/
section AK
variable {n w y m nc : Nat} {o t : Int32} {ek ev ed er eb nw op ov pr va cr mo ve lo li ex ko bx ck cy cc cn ac ay av ad ba ep el se cd ap gr tt : Nat → Int32}
theorem lr_find {c g q : Nat} (hc : c ≤ 60000) (hE : lc_EF c n w ek ev ed er eb nw op ov pr va cr mo ve lo ba ep el) (hq : q < 16) (hg : g ≤ n) :
    (lc_la ek (nI q) g = -1 ∧ ((op q = 0 ∧ (lc_lf ek er ep ev el ba q g).2.1 = 0 ∧ (lc_lf ek er ep ev el ba q g).1 = 0) ∨
      (op q = 1 ∧ 0 < (lc_lf ek er ep ev el ba q g).2.1.toInt ∧ (lc_lf ek er ep ev el ba q g).1 = ov q))) ∨
    ∃ j, j < n ∧ lc_la ek (nI q) g = nI j ∧ ((ed j = 0 ∧ (lc_lf ek er ep ev el ba q g).1 = ev j ∧ 0 < (lc_lf ek er ep ev el ba q g).2.1.toInt) ∨
      (ed j = 1 ∧ (lc_lf ek er ep ev el ba q g).1 = 0 ∧ (lc_lf ek er ep ev el ba q g).2.1 = 0)) := by
  obtain ⟨h1, h2, h3, h4, h5, h6, h7⟩ := hE
  rcases lc_val (ek := ek) (er := er) (ep := ep) (ev := ev) (el := el) (ba := ba) (q := q) g with ⟨a, b⟩ | ⟨j, hj, a, b, d⟩
  · refine Or.inl ⟨a, ?_⟩
    rw [b]
    rcases (h7 q hq).2 with ⟨x, y, z⟩ | ⟨x, y, z⟩
    · exact Or.inl ⟨x, y, z⟩
    · exact Or.inr ⟨x, y, z⟩
  · refine Or.inr ⟨j, by omega, a, ?_⟩
    rw [d]
    have hv := lc_OLv (ek := ek) (er := er) (ep := ep) (ev := ev) (el := el) h7 hq (m := j) (by omega) hc
    rcases (h4 j (by omega)).2 with ⟨x, y⟩ | ⟨x, y⟩
    · refine Or.inl ⟨x, ?_, ?_⟩
      · rw [lc_ap_p (by rw [y]; decide)]
      · rw [lc_ap_p (by rw [y]; decide)]
        show 0 < ((lc_lf ek er ep ev el ba q j).2.1 + 1).toInt
        rw [lc_p1 hv.1 hv.2 (by omega)]; omega
    · refine Or.inr ⟨x, ?_, ?_⟩
      · rw [lc_ap_d y]
      · rw [lc_ap_d y]
theorem lr_get {k : Nat} (hk : k + 5 ≤ 2560) (hw : w ≤ k) (hF : lc_FF (20 * k) n w m nc ek ev ed er eb nw op ov pr va cr mo ve lo li ex ko bx ck cy cc cn ac ay av ad ba ep el cd ap gr tt) (v1 v2 : Int32) :
    ∃ r v', i_Rel (k + 5) ((nI n), (nI w), o, (nI m), t, (nI nc), ek, ev, ed, er, eb, nw, op, ov, pr, va, cr, mo, ve, lo, li, ex, ko, bx, ck, cy, cc, cn, ac, ay, av, ad) v' ∧ (∀ post : Int32 → Prop, post r → wpX_get post ((nI n), (nI w), o, (nI m), t, (nI nc), ek, ev, ed, er, eb, nw, op, ov, pr, va, cr, mo, ve, lo, li, ex, ko, bx, ck, cy, cc, cn, ac, ay, av, ad) v1 v2) ∧
      (∀ post : Int32 → SY → Prop, post r v' → wpY_get post (o, nI w, (nI n), (nI nc), t, ba, er, ek, ep, ev, el, se, cd, ay, ap, av, ac, gr, tt, ex) v1 v2) := by
  have hR := lc_fin (o := o) (t := t) (se := se) hF (by omega)
  have hF2 := hF
  obtain ⟨hE, hB, hQ, hL, hC, hA⟩ := hF
  have n76 : n ≤ 76 := by have := hE.1; omega
  rcases lc_key v1 with hb | ⟨q, hq, rfl⟩
  · refine ⟨-1, _, hR, fun post hp => ?_, fun post hp => ?_⟩
    · unfold wpX_get
      exact lx_bkb hb (br_f (by decide) hp)
    · unfold wpY_get
      exact ly_ikb hb (br_t rfl hp)
  · by_cases z1 : v2 < o
    · refine ⟨-7, _, hR, fun post hp => ?_, fun post hp => ?_⟩
      · unfold wpX_get
        exact lx_bk hq (br_t rfl (br_t z1 hp))
      · unfold wpY_get
        exact ly_ik hq (br_f (by decide) (br_t z1 hp))
    · by_cases z2 : v2 ≤ nI w
      · obtain ⟨g, hg⟩ := lc_SP_ex v2 hE.2.1.1
        obtain ⟨se', s1, s2⟩ := ly_look ek ep ev el ba se hq (by omega) hg
        have e0 : se' 0 = (lc_lf ek er ep ev el ba q g).1 := congrArg (fun z : lc_T => z.1) s1
        refine ⟨(lc_lf ek er ep ev el ba q g).1, (o, nI w, (nI n), (nI nc), t, ba, er, ek, ep, ev, el, se', cd, ay, ap, av, ac, gr, tt, ex), lc_fin hF2 (by omega), fun post hp => ?_, fun post hp => ?_⟩
        · unfold wpX_get
          refine lx_bk hq (br_t rfl (br_f z1 (br_t z2 (lx_ea (by omega) hq hE.2.2.1 hg ?_))))
          have eq : (nI q).toNatClampNeg = q := nI_clamp (by omega)
          have wq : vp_in (nI q) 16 := vp_in_nI hq (by omega)
          rcases lr_find (by omega) hE hq hg.1 with ⟨a, b⟩ | ⟨j, hj, a, b⟩
          · rw [a]
            refine br_f (by decide) ⟨wq, ?_⟩
            rw [eq]
            rcases b with ⟨x, y, z⟩ | ⟨x, y, z⟩
            · rw [z] at hp
              exact br_t x hp
            · rw [z] at hp
              exact br_f (by rw [x]; decide) ⟨wq, hp⟩
          · rw [a]
            have ej : (nI j).toNatClampNeg = j := nI_clamp (by omega)
            have wj : vp_in (nI j) 96 := vp_in_nI (by omega) (by omega)
            refine br_t (nI_pos' (by omega)) ⟨wj, ?_⟩
            rw [ej]
            rcases b with ⟨x, y, z⟩ | ⟨x, y, z⟩
            · rw [y] at hp
              exact br_t x ⟨wj, hp⟩
            · rw [y] at hp
              exact br_f (by rw [x]; decide) hp
        · unfold wpY_get
          refine ly_ik hq (br_f (by decide) (br_f z1 (br_t z2 (s2 ?_))))
          show post (se' 0) _
          rw [e0]
          exact hp
      · refine ⟨-7, _, hR, fun post hp => ?_, fun post hp => ?_⟩
        · unfold wpX_get
          exact lx_bk hq (br_t rfl (br_f z1 (br_f z2 hp)))
        · unfold wpY_get
          exact ly_ik hq (br_f (by decide) (br_f z1 (br_f z2 hp)))
theorem lr_has {k : Nat} (hk : k + 5 ≤ 2560) (hw : w ≤ k) (hF : lc_FF (20 * k) n w m nc ek ev ed er eb nw op ov pr va cr mo ve lo li ex ko bx ck cy cc cn ac ay av ad ba ep el cd ap gr tt) (v1 v2 : Int32) :
    ∃ r v', i_Rel (k + 5) ((nI n), (nI w), o, (nI m), t, (nI nc), ek, ev, ed, er, eb, nw, op, ov, pr, va, cr, mo, ve, lo, li, ex, ko, bx, ck, cy, cc, cn, ac, ay, av, ad) v' ∧ (∀ post : Int32 → Prop, post r → wpX_has post ((nI n), (nI w), o, (nI m), t, (nI nc), ek, ev, ed, er, eb, nw, op, ov, pr, va, cr, mo, ve, lo, li, ex, ko, bx, ck, cy, cc, cn, ac, ay, av, ad) v1 v2) ∧
      (∀ post : Int32 → SY → Prop, post r v' → wpY_has post (o, nI w, (nI n), (nI nc), t, ba, er, ek, ep, ev, el, se, cd, ay, ap, av, ac, gr, tt, ex) v1 v2) := by
  have hR := lc_fin (o := o) (t := t) (se := se) hF (by omega)
  have hF2 := hF
  obtain ⟨hE, hB, hQ, hL, hC, hA⟩ := hF
  have n76 : n ≤ 76 := by have := hE.1; omega
  rcases lc_key v1 with hb | ⟨q, hq, rfl⟩
  · refine ⟨0, _, hR, fun post hp => ?_, fun post hp => ?_⟩
    · unfold wpX_has
      exact lx_bkb hb (br_f (by decide) hp)
    · unfold wpY_has
      exact ly_ikb hb (br_t rfl hp)
  · by_cases z1 : v2 < o
    · refine ⟨0, _, hR, fun post hp => ?_, fun post hp => ?_⟩
      · unfold wpX_has
        exact lx_bk hq (br_t rfl (br_t z1 hp))
      · unfold wpY_has
        exact ly_ik hq (br_f (by decide) (br_t z1 hp))
    · by_cases z2 : v2 ≤ nI w
      · obtain ⟨g, hg⟩ := lc_SP_ex v2 hE.2.1.1
        obtain ⟨se', s1, s2⟩ := ly_look ek ep ev el ba se hq (by omega) hg
        have e0 : se' 1 = (lc_lf ek er ep ev el ba q g).2.1 := congrArg (fun z : lc_T => z.2.1) s1
        have eq : (nI q).toNatClampNeg = q := nI_clamp (by omega)
        have wq : vp_in (nI q) 16 := vp_in_nI hq (by omega)
        have key : ∃ r : Int32, ((r = 0 ∧ (lc_lf ek er ep ev el ba q g).2.1 = 0) ∨ (r = 1 ∧ 0 < (lc_lf ek er ep ev el ba q g).2.1.toInt)) ∧
            ((lc_la ek (nI q) g = -1 ∧ op q = r) ∨ ∃ j, j < n ∧ lc_la ek (nI q) g = nI j ∧ ((ed j = 0 ∧ r = 1) ∨ (ed j = 1 ∧ r = 0))) := by
          rcases lr_find (by omega) hE hq hg.1 with ⟨a, b⟩ | ⟨j, hj, a, b⟩
          · rcases b with ⟨x, y, z⟩ | ⟨x, y, z⟩
            · exact ⟨0, Or.inl ⟨rfl, y⟩, Or.inl ⟨a, x⟩⟩
            · exact ⟨1, Or.inr ⟨rfl, y⟩, Or.inl ⟨a, x⟩⟩
          · rcases b with ⟨x, y, z⟩ | ⟨x, y, z⟩
            · exact ⟨1, Or.inr ⟨rfl, z⟩, Or.inr ⟨j, hj, a, Or.inl ⟨x, rfl⟩⟩⟩
            · exact ⟨0, Or.inl ⟨rfl, z⟩, Or.inr ⟨j, hj, a, Or.inr ⟨x, rfl⟩⟩⟩
        obtain ⟨r, hr, hf⟩ := key
        have hr01 : narrow .boolean (.int r) = .int r := by
          rcases hr with ⟨e, _⟩ | ⟨e, _⟩
          · rw [e]; rfl
          · rw [e]; rfl
        refine ⟨r, (o, nI w, (nI n), (nI nc), t, ba, er, ek, ep, ev, el, se', cd, ay, ap, av, ac, gr, tt, ex), lc_fin hF2 (by omega), fun post hp => ?_, fun post hp => ?_⟩
        · unfold wpX_has
          refine lx_bk hq (br_t rfl (br_f z1 (br_t z2 (lx_ea (by omega) hq hE.2.2.1 hg ?_))))
          rcases hf with ⟨a, b⟩ | ⟨j, hj, a, b⟩
          · rw [a]
            refine br_f (by decide) ⟨wq, ?_⟩
            rw [eq, b]
            exact ⟨hr01, hp⟩
          · rw [a]
            have ej : (nI j).toNatClampNeg = j := nI_clamp (by omega)
            have wj : vp_in (nI j) 96 := vp_in_nI (by omega) (by omega)
            refine br_t (nI_pos' (by omega)) ⟨wj, ?_⟩
            rw [ej]
            rcases b with ⟨x, y⟩ | ⟨x, y⟩
            · rw [y] at hp
              exact br_t x hp
            · rw [y] at hp
              exact br_f (by rw [x]; decide) hp
        · unfold wpY_has
          refine ly_ik hq (br_f (by decide) (br_f z1 (br_t z2 (s2 ?_))))
          rcases hr with ⟨e, x⟩ | ⟨e, x⟩
          · rw [e] at hp
            exact br_t (by rw [e0, x]; decide) hp
          · rw [e] at hp
            refine br_f ?_ hp
            rw [Int32.le_iff_toInt_le, e0, lc_z0]
            omega
      · refine ⟨0, _, hR, fun post hp => ?_, fun post hp => ?_⟩
        · unfold wpX_has
          exact lx_bk hq (br_t rfl (br_f z1 (br_f z2 hp)))
        · unfold wpY_has
          exact ly_ik hq (br_f (by decide) (br_f z1 (br_f z2 hp)))
/-- the five attributes -/
theorem lr_attr {a q : Nat} (ha : a < 5) (hq : q < 16) :
    ∃ hv, (∀ se' : Nat → Int32, lc_sn se' = (va q, ve q, mo q, cr q, lo q) → se' a = hv) ∧ ∀ {n w m nc : Nat} {o t : Int32} {ek ev ed er eb nw op ov pr li ex ko bx ck cy cc cn ac ay av ad : Nat → Int32} {post : Int32 → Prop}, post hv → wpX_attributeOf post ((nI n), (nI w), o, (nI m), t, (nI nc), ek, ev, ed, er, eb, nw, op, ov, pr, va, cr, mo, ve, lo, li, ex, ko, bx, ck, cy, cc, cn, ac, ay, av, ad) (nI a) (nI q) := by
  have eq : (nI q).toNatClampNeg = q := nI_clamp (by omega)
  have wq : vp_in (nI q) 16 := vp_in_nI hq (by omega)
  have ca : a = 0 ∨ a = 1 ∨ a = 2 ∨ a = 3 ∨ a = 4 := by omega
  rcases ca with rfl | rfl | rfl | rfl | rfl
  · refine ⟨va q, fun se' h => congrArg (fun z : lc_T => z.1) h, ?_⟩
    intros
    rename_i hp
    refine br_f (by decide) (br_f (by decide) (br_t rfl ⟨wq, ?_⟩))
    rw [eq]; exact hp
  · refine ⟨ve q, fun se' h => congrArg (fun z : lc_T => z.2.1) h, ?_⟩
    intros
    rename_i hp
    refine br_f (by decide) (br_f (by decide) (br_f (by decide) (br_t rfl ⟨wq, ?_⟩)))
    rw [eq]; exact hp
  · refine ⟨mo q, fun se' h => congrArg (fun z : lc_T => z.2.2.1) h, ?_⟩
    intros
    rename_i hp
    refine br_f (by decide) (br_f (by decide) (br_f (by decide) (br_f (by decide) (br_t rfl ⟨wq, ?_⟩))))
    rw [eq]; exact hp
  · refine ⟨cr q, fun se' h => congrArg (fun z : lc_T => z.2.2.2.1) h, ?_⟩
    intros
    rename_i hp
    refine br_f (by decide) (br_f (by decide) (br_f (by decide) (br_f (by decide) (br_f (by decide) (br_t rfl ⟨wq, ?_⟩)))))
    rw [eq]; exact hp
  · refine ⟨lo q, fun se' h => congrArg (fun z : lc_T => z.2.2.2.2) h, ?_⟩
    intros
    rename_i hp
    refine br_f (by decide) (br_t (by decide) ⟨wq, ?_⟩)
    rw [eq]; exact hp
theorem lr_attribute {k : Nat} (hk : k + 5 ≤ 2560) (hw : w ≤ k) (hF : lc_FF (20 * k) n w m nc ek ev ed er eb nw op ov pr va cr mo ve lo li ex ko bx ck cy cc cn ac ay av ad ba ep el cd ap gr tt) (v1 v2 : Int32) :
    ∃ r v', i_Rel (k + 5) ((nI n), (nI w), o, (nI m), t, (nI nc), ek, ev, ed, er, eb, nw, op, ov, pr, va, cr, mo, ve, lo, li, ex, ko, bx, ck, cy, cc, cn, ac, ay, av, ad) v' ∧ (∀ post : Int32 → Prop, post r → wpX_attribute post ((nI n), (nI w), o, (nI m), t, (nI nc), ek, ev, ed, er, eb, nw, op, ov, pr, va, cr, mo, ve, lo, li, ex, ko, bx, ck, cy, cc, cn, ac, ay, av, ad) v1 v2) ∧
      (∀ post : Int32 → SY → Prop, post r v' → wpY_attribute post (o, nI w, (nI n), (nI nc), t, ba, er, ek, ep, ev, el, se, cd, ay, ap, av, ac, gr, tt, ex) v1 v2) := by
  have hR := lc_fin (o := o) (t := t) (se := se) hF (by omega)
  have hF2 := hF
  obtain ⟨hE, hB, hQ, hL, hC, hA⟩ := hF
  have n76 : n ≤ 76 := by have := hE.1; omega
  rcases lc_key v2 with hb | ⟨q, hq, rfl⟩
  · refine ⟨-1, _, hR, fun post hp => ?_, fun post hp => ?_⟩
    · unfold wpX_attribute
      exact lx_bkb hb (br_f (by decide) hp)
    · unfold wpY_attribute
      exact ly_ikb hb (br_t rfl hp)
  · by_cases z1 : v1 < 0
    · refine ⟨-2, _, hR, fun post hp => ?_, fun post hp => ?_⟩
      · unfold wpX_attribute
        exact lx_bk hq (br_t rfl (br_t z1 hp))
      · unfold wpY_attribute
        exact ly_ik hq (br_f (by decide) (br_t z1 hp))
    · by_cases z2 : v1 ≤ 4
      · obtain ⟨a, ha, rfl⟩ := nI_of2 (M := 4) (n := 4) (by decide) z1 z2
        obtain ⟨hv, a1, a2⟩ := lr_attr (va := va) (ve := ve) (mo := mo) (cr := cr) (lo := lo) (by omega : a < 5) hq
        obtain ⟨se', s1, s2⟩ := ly_look ek ep ev el ba se hq (by omega) (lc_SP_n hE.2.1 (by omega))
        rw [hE.2.2.2.2.1 q hq] at s1
        have ea : (nI a).toNatClampNeg = a := nI_clamp (by omega)
        refine ⟨hv, (o, nI w, (nI n), (nI nc), t, ba, er, ek, ep, ev, el, se', cd, ay, ap, av, ac, gr, tt, ex), lc_fin hF2 (by omega), fun post hp => ?_, fun post hp => ?_⟩
        · unfold wpX_attribute
          exact lx_bk hq (br_t rfl (br_f z1 (br_t z2 (a2 hp))))
        · unfold wpY_attribute
          refine ly_ik hq (br_f (by decide) (br_f z1 (br_t z2 (s2 ⟨vp_in_nI (by omega) (by omega), ?_⟩))))
          rw [ea, a1 se' s1]
          exact hp
      · refine ⟨-2, _, hR, fun post hp => ?_, fun post hp => ?_⟩
        · unfold wpX_attribute
          exact lx_bk hq (br_t rfl (br_f z1 (br_f z2 hp)))
        · unfold wpY_attribute
          exact ly_ik hq (br_f (by decide) (br_f z1 (br_f z2 hp)))
theorem lr_evL {g : Nat} {a b x : Int32} (hn : n ≤ 96) (h3 : ∀ i, g ≤ i → i < n → x ≤ er i) :
    ∀ d i (c : Int32), i + d = n → g ≤ i → ∃ r, (∀ {w m nc : Nat} {o t : Int32} {ev ed eb nw op ov pr va cr mo ve lo li ex ko bx ck cy cc cn ac ay av ad : Nat → Int32} {post : Int32 → Prop}, post r → ∀ N, d < N → wX_events_31 post a b (nI n) (nI w) o (nI m) t (nI nc) ek ev ed er eb nw op ov pr va cr mo ve lo li ex ko bx ck cy cc cn ac ay av ad N c (nI i)) ∧
      (∀ {y nc : Nat} {o t : Int32} {ba ep ev el se cd ay ap av ac gr tt ex : Nat → Int32} {post : Int32 → Prop}, post r → ∀ N, d < N → wY_events_27 post a b x o (nI y) (nI n) (nI nc) t ba er ek ep ev el se cd ay ap av ac gr tt ex N c (nI i)) := by
  intro d
  induction d with
  | zero =>
    intro i c h1 h2
    have e : i = n := by omega
    subst e
    refine ⟨c, ?_, ?_⟩
    · intros
      rename_i hp N hN
      obtain ⟨N, rfl⟩ : ∃ k, N = k + 1 := ⟨N - 1, by omega⟩
      rw [wX_events_31]
      exact br_t (nI_le (Nat.le_refl _) (by omega)) hp
    · intros
      rename_i hp N hN
      obtain ⟨N, rfl⟩ : ∃ k, N = k + 1 := ⟨N - 1, by omega⟩
      rw [wY_events_27]
      exact br_t (nI_le (Nat.le_refl _) (by omega)) hp
  | succ d ih =>
    intro i c h1 h2
    have ei : (nI i).toNatClampNeg = i := nI_clamp (by omega)
    have wi : vp_in (nI i) 96 := vp_in_nI (by omega) (by omega)
    have hge : ¬ nI n ≤ nI i := nI_ge (by omega) (by omega)
    by_cases z1 : ek i < a
    · obtain ⟨r, k1, k2⟩ := ih (i + 1) c (by omega) (by omega)
      refine ⟨r, ?_, ?_⟩
      · intros
        rename_i hp N hN
        obtain ⟨N, rfl⟩ : ∃ k, N = k + 1 := ⟨N - 1, by omega⟩
        rw [wX_events_31]
        exact br_f hge ⟨wi, br_t (by rw [ei]; exact z1) (nm_r (nI_1 i) (k1 hp N (by omega)))⟩
      · intros
        rename_i hp N hN
        obtain ⟨N, rfl⟩ : ∃ k, N = k + 1 := ⟨N - 1, by omega⟩
        rw [wY_events_27]
        exact br_f hge ⟨wi, br_t (by rw [ei]; exact z1) (nm_r (nI_1 i) (k2 hp N (by omega)))⟩
    · by_cases z2 : b < ek i
      · obtain ⟨r, k1, k2⟩ := ih (i + 1) c (by omega) (by omega)
        refine ⟨r, ?_, ?_⟩
        · intros
          rename_i hp N hN
          obtain ⟨N, rfl⟩ : ∃ k, N = k + 1 := ⟨N - 1, by omega⟩
          rw [wX_events_31]
          exact br_f hge ⟨wi, br_f (by rw [ei]; exact z1) ⟨wi, br_t (by rw [ei]; exact z2) (nm_r (nI_1 i) (k1 hp N (by omega)))⟩⟩
        · intros
          rename_i hp N hN
          obtain ⟨N, rfl⟩ : ∃ k, N = k + 1 := ⟨N - 1, by omega⟩
          rw [wY_events_27]
          exact br_f hge ⟨wi, br_f (by rw [ei]; exact z1) ⟨wi, br_t (by rw [ei]; exact z2) (nm_r (nI_1 i) (k2 hp N (by omega)))⟩⟩
      · obtain ⟨r, k1, k2⟩ := ih (i + 1) (c + 1) (by omega) (by omega)
        have z3 : ¬ er i < x := Int32.not_lt.mpr (h3 i h2 (by omega))
        refine ⟨r, ?_, ?_⟩
        · intros
          rename_i hp N hN
          obtain ⟨N, rfl⟩ : ∃ k, N = k + 1 := ⟨N - 1, by omega⟩
          rw [wX_events_31]
          exact br_f hge ⟨wi, br_f (by rw [ei]; exact z1) ⟨wi, br_f (by rw [ei]; exact z2) (nm_e (nm_r (nI_1 i) (k1 hp N (by omega))))⟩⟩
        · intros
          rename_i hp N hN
          obtain ⟨N, rfl⟩ : ∃ k, N = k + 1 := ⟨N - 1, by omega⟩
          rw [wY_events_27]
          exact br_f hge ⟨wi, br_f (by rw [ei]; exact z1) ⟨wi, br_f (by rw [ei]; exact z2) ⟨wi, br_f (by rw [ei]; exact z3) (nm_e (nm_r (nI_1 i) (k2 hp N (by omega))))⟩⟩⟩
theorem lr_evP {post : Int32 → Prop} {g : Nat} {a b x : Int32} (hn : n ≤ 96) (hg : g ≤ n) (h2 : ∀ i, i < g → ¬ x ≤ er i)
    (h : ∀ N, n - g < N → wY_events_27 post a b x o (nI y) (nI n) (nI nc) t ba er ek ep ev el se cd ay ap av ac gr tt ex N 0 (nI g)) :
    ∀ d i, i + d = g → ∀ N, n - i < N → wY_events_27 post a b x o (nI y) (nI n) (nI nc) t ba er ek ep ev el se cd ay ap av ac gr tt ex N 0 (nI i) := by
  intro d
  induction d with
  | zero =>
    intro i h1
    have e : i = g := by omega
    subst e
    exact h
  | succ d ih =>
    intro i h1 N hN
    obtain ⟨N, rfl⟩ : ∃ k, N = k + 1 := ⟨N - 1, by omega⟩
    have ei : (nI i).toNatClampNeg = i := nI_clamp (by omega)
    have wi : vp_in (nI i) 96 := vp_in_nI (by omega) (by omega)
    have hge : ¬ nI n ≤ nI i := nI_ge (by omega) (by omega)
    have nx := ih (i + 1) (by omega) N (by omega)
    rw [wY_events_27]
    by_cases z1 : ek i < a
    · exact br_f hge ⟨wi, br_t (by rw [ei]; exact z1) (nm_r (nI_1 i) nx)⟩
    · by_cases z2 : b < ek i
      · exact br_f hge ⟨wi, br_f (by rw [ei]; exact z1) ⟨wi, br_t (by rw [ei]; exact z2) (nm_r (nI_1 i) nx)⟩⟩
      · exact br_f hge ⟨wi, br_f (by rw [ei]; exact z1) ⟨wi, br_f (by rw [ei]; exact z2) ⟨wi, br_t (by rw [ei]; exact Int32.not_le.mp (h2 i (by omega))) (nm_r (nI_1 i) nx)⟩⟩⟩
theorem lc_FX {x : Int32} (h : ∀ i j, i ≤ j → j < n → (er i).toInt ≤ (er j).toInt) : ∃ g, g ≤ n ∧ (∀ i, i < g → ¬ x ≤ er i) ∧ (∀ i, g ≤ i → i < n → x ≤ er i) := by
  induction n with
  | zero => exact ⟨0, Nat.le_refl _, fun i hi => by omega, fun i h1 h2 => by omega⟩
  | succ n ih =>
    obtain ⟨g, g1, g2, g3⟩ := ih (fun i j a b => h i j a (by omega))
    by_cases z : x ≤ er n
    · refine ⟨g, by omega, g2, fun i h1 h2 => ?_⟩
      by_cases e : i = n
      · subst e; exact z
      · exact g3 i h1 (by omega)
    · refine ⟨n + 1, Nat.le_refl _, fun i hi => ?_, fun i h1 h2 => by omega⟩
      rw [Int32.le_iff_toInt_le] at z ⊢
      have := h i n (by omega) (by omega)
      omega
theorem lr_events {c : Nat} (hE : lc_EF c n w ek ev ed er eb nw op ov pr va cr mo ve lo ba ep el) (v1 v2 v3 : Int32) :
    ∃ r, (∀ post : Int32 → Prop, post r → wpX_events post ((nI n), (nI w), o, (nI m), t, (nI nc), ek, ev, ed, er, eb, nw, op, ov, pr, va, cr, mo, ve, lo, li, ex, ko, bx, ck, cy, cc, cn, ac, ay, av, ad) v1 v2 v3) ∧ (∀ post : Int32 → Prop, post r → wpY_events post (o, nI w, (nI n), (nI nc), t, ba, er, ek, ep, ev, el, se, cd, ay, ap, av, ac, gr, tt, ex) v1 v2 v3) := by
  have n76 : n ≤ 76 := by have := hE.1; omega
  by_cases z1 : v3 ≤ o
  · exact ⟨-7, fun post hp => br_t z1 hp, fun post hp => br_t z1 hp⟩
  · by_cases z2 : v3 ≤ nI w + 1
    · obtain ⟨g, g1, g2, g3⟩ := lc_FX (x := v3) hE.2.1.1
      obtain ⟨r, k1, k2⟩ := lr_evL (ek := ek) (a := v1) (b := v2) (by omega) g3 (n - g) g 0 (by omega) (Nat.le_refl _)
      refine ⟨r, fun post hp => ?_, fun post hp => ?_⟩
      · exact br_f z1 (br_t z2 (lx_ffg (by omega) hE.2.1.1 g1 g2 g3 ⟨n - g + 1, k1 hp _ (by omega)⟩))
      · exact br_f z1 (br_t z2 ⟨n + 1, lr_evP (by omega) g1 g2 (fun N hN => k2 hp N hN) g 0 (by omega) (n + 1) (by omega)⟩)
    · exact ⟨-7, fun post hp => br_f z1 (br_f z2 hp), fun post hp => br_f z1 (br_f z2 hp)⟩
end AK
end
section
/-! the transaction's conditions -/
theorem lr_cmp {b : Nat} (hb : b < 4) (hv nu : Int32) : ∃ r : Int32, (r = 0 ∨ r = 1) ∧
    (∀ post : Int32 → Prop, post r → ((nI b < 0 → ((hv ≤ nu → post 0) ∧ (¬ hv ≤ nu → post 1))) ∧ (¬ nI b < 0 → ((2 < nI b → ((hv ≤ nu → post 0) ∧ (¬ hv ≤ nu → post 1))) ∧ (¬ 2 < nI b → ((nI b = 0 → ((hv = nu → post 1) ∧ (¬ hv = nu → post 0))) ∧ (¬ nI b = 0 → ((nI b = 1 → ((hv = nu → post 0) ∧ (¬ hv = nu → post 1))) ∧ (¬ nI b = 1 → ((nI b = 2 → ((nu ≤ hv → post 0) ∧ (¬ nu ≤ hv → post 1))) ∧ (¬ nI b = 2 → True))))))))))) ∧
    (∀ (post : Int32 → Prop) (V : Prop), V → post r → ((nI b = 0 → ((hv = nu → post 1) ∧ (¬ hv = nu → post 0))) ∧ (¬ nI b = 0 → (V ∧ ((nI b = 1 → ((hv = nu → post 0) ∧ (¬ hv = nu → post 1))) ∧ (¬ nI b = 1 → (V ∧ ((nI b = 2 → ((nu ≤ hv → post 0) ∧ (¬ nu ≤ hv → post 1))) ∧ (¬ nI b = 2 → ((hv ≤ nu → post 0) ∧ (¬ hv ≤ nu → post 1))))))))))) := by
  have cb : b = 0 ∨ b = 1 ∨ b = 2 ∨ b = 3 := by omega
  rcases cb with rfl | rfl | rfl | rfl
  · by_cases z : hv = nu
    · exact ⟨1, Or.inr rfl, fun post hp => br_f (by decide) (br_f (by decide) (br_t (by decide) (br_t z hp))), fun post V hV hp => br_t (by decide) (br_t z hp)⟩
    · exact ⟨0, Or.inl rfl, fun post hp => br_f (by decide) (br_f (by decide) (br_t (by decide) (br_f z hp))), fun post V hV hp => br_t (by decide) (br_f z hp)⟩
  · by_cases z : hv = nu
    · exact ⟨0, Or.inl rfl, fun post hp => br_f (by decide) (br_f (by decide) (br_f (by decide) (br_t (by decide) (br_t z hp)))), fun post V hV hp => br_f (by decide) ⟨hV, br_t (by decide) (br_t z hp)⟩⟩
    · exact ⟨1, Or.inr rfl, fun post hp => br_f (by decide) (br_f (by decide) (br_f (by decide) (br_t (by decide) (br_f z hp)))), fun post V hV hp => br_f (by decide) ⟨hV, br_t (by decide) (br_f z hp)⟩⟩
  · by_cases z : nu ≤ hv
    · exact ⟨0, Or.inl rfl, fun post hp => br_f (by decide) (br_f (by decide) (br_f (by decide) (br_f (by decide) (br_t (by decide) (br_t z hp))))), fun post V hV hp => br_f (by decide) ⟨hV, br_f (by decide) ⟨hV, br_t (by decide) (br_t z hp)⟩⟩⟩
    · exact ⟨1, Or.inr rfl, fun post hp => br_f (by decide) (br_f (by decide) (br_f (by decide) (br_f (by decide) (br_t (by decide) (br_f z hp))))), fun post V hV hp => br_f (by decide) ⟨hV, br_f (by decide) ⟨hV, br_t (by decide) (br_f z hp)⟩⟩⟩
  · by_cases z : hv ≤ nu
    · exact ⟨0, Or.inl rfl, fun post hp => br_f (by decide) (br_t (by decide) (br_t z hp)), fun post V hV hp => br_f (by decide) ⟨hV, br_f (by decide) ⟨hV, br_f (by decide) (br_t z hp)⟩⟩⟩
    · exact ⟨1, Or.inr rfl, fun post hp => br_f (by decide) (br_t (by decide) (br_f z hp)), fun post V hV hp => br_f (by decide) ⟨hV, br_f (by decide) ⟨hV, br_f (by decide) (br_f z hp)⟩⟩⟩
section CO
variable {n w y m nc : Nat} {o t : Int32} {ek ev ed er eb nw op ov pr va cr mo ve lo li ex ko bx ck cy cc cn ac ay av ad ba ep el se cd ap gr tt : Nat → Int32}
theorem lr_holds {c i : Nat} (hc : c ≤ 60000) (hw : w ≤ 60000) (hE : lc_EF c n w ek ev ed er eb nw op ov pr va cr mo ve lo ba ep el) (hC : lc_TC nc ck cy cc cn cd) (hi : i < nc) (se1 : Nat → Int32) :
    ∃ (r : Int32) (se' : Nat → Int32), (r = 0 ∨ r = 1) ∧ (∀ post : Int32 → Prop, post r → wpX_holds post ((nI n), (nI w), o, (nI m), t, (nI nc), ek, ev, ed, er, eb, nw, op, ov, pr, va, cr, mo, ve, lo, li, ex, ko, bx, ck, cy, cc, cn, ac, ay, av, ad) (nI i)) ∧
      (∀ post : Int32 → SY → Prop, post r (o, nI w, (nI n), (nI nc), t, ba, er, ek, ep, ev, el, se', cd, ay, ap, av, ac, gr, tt, ex) → wpY_holds post (o, nI w, (nI n), (nI nc), t, ba, er, ek, ep, ev, el, se1, cd, ay, ap, av, ac, gr, tt, ex) (nI i)) := by
  have hnc := hC.1
  have n76 : n ≤ 76 := by have := hE.1; omega
  obtain ⟨⟨a, ha, e1⟩, ⟨q, hq, e2⟩, ⟨b, hb, e3⟩, f0, f1, f2, f3⟩ := hC.2 i hi
  have ei : (nI i).toNatClampNeg = i := nI_clamp (by omega)
  have wi : vp_in (nI i) 4 := vp_in_nI (by omega) (by omega)
  obtain ⟨hv, a1, a2⟩ := lr_attr (va := va) (ve := ve) (mo := mo) (cr := cr) (lo := lo) (by omega : a < 5) hq
  obtain ⟨se', s1, s2⟩ := ly_look ek ep ev el ba se1 hq (by omega) (lc_SP_n hE.2.1 (by omega))
  rw [hE.2.2.2.2.1 q hq] at s1
  obtain ⟨r, hr, x1, y1⟩ := lr_cmp hb hv (cn i)
  refine ⟨r, se', hr, fun post hp => ?_, fun post hp => ?_⟩
  · refine ⟨wi, wi, ?_⟩
    rw [ei, e1, e2]
    refine a2 ⟨wi, nm_e ⟨wi, nm_r (e' := nI b) e3 (x1 post hp)⟩⟩
  · have g0 : nI i * 4 = nI (i * 4) := pk_mul i 4
    have g1 : nI i * 4 + 1 = nI (i * 4 + 1) := by rw [g0]; exact nI_1 _
    have g2 : nI i * 4 + 2 = nI (i * 4 + 2) := by rw [g0]; exact nI_add _ 2
    have g3 : nI i * 4 + 3 = nI (i * 4 + 3) := by rw [g0]; exact nI_add _ 3
    have d0 : cd (nI i * 4).toNatClampNeg = nI a := by rw [g0, nI_clamp (by omega), f0, e1]
    have d1 : cd (nI i * 4 + 1).toNatClampNeg = nI q := by rw [g1, nI_clamp (by omega), f1, e2]
    have d2 : cd (nI i * 4 + 2).toNatClampNeg = nI b := by rw [g2, nI_clamp (by omega), f2, e3]
    have d3 : cd (nI i * 4 + 3).toNatClampNeg = cn i := by rw [g3, nI_clamp (by omega), f3]
    have w0 : vp_in (nI i * 4) 16 := by rw [g0]; exact vp_in_nI (by omega) (by omega)
    have w1 : vp_in (nI i * 4 + 1) 16 := by rw [g1]; exact vp_in_nI (by omega) (by omega)
    have w2 : vp_in (nI i * 4 + 2) 16 := by rw [g2]; exact vp_in_nI (by omega) (by omega)
    have w3 : vp_in (nI i * 4 + 3) 16 := by rw [g3]; exact vp_in_nI (by omega) (by omega)
    have ea : (nI a).toNatClampNeg = a := nI_clamp (by omega)
    refine ⟨w1, ?_⟩
    rw [d1]
    refine s2 ⟨w0, ?_⟩
    rw [d0, d2, d3]
    exact ⟨vp_in_nI (by omega) (by omega), nm_r (e' := hv) (by rw [ea, a1 se' s1]) ⟨w3, nm_e ⟨w2, y1 (fun r => post r (o, nI w, (nI n), (nI nc), t, ba, er, ek, ep, ev, el, se', cd, ay, ap, av, ac, gr, tt, ex)) _ w2 hp⟩⟩⟩
theorem ly_c16z {post : Int32 → SY → Prop} (hnc : nc ≤ 4) (h : wY_commit_57 post 0 1 o (nI y) (nI n) (nI nc) t ba er ek ep ev el se cd ay ap av ac gr tt ex) :
    ∀ d i, i + d = nc → ∀ N, d < N → wY_commit_16 post N 0 (nI i) o (nI y) (nI n) (nI nc) t ba er ek ep ev el se cd ay ap av ac gr tt ex := by
  intro d
  induction d with
  | zero =>
    intro i h1 N hN
    obtain ⟨N, rfl⟩ : ∃ k, N = k + 1 := ⟨N - 1, by omega⟩
    have e : i = nc := by omega
    subst e
    rw [wY_commit_16]
    exact br_t (nI_le (Nat.le_refl _) (by omega)) (br_t rfl h)
  | succ d ih =>
    intro i h1 N hN
    obtain ⟨N, rfl⟩ : ∃ k, N = k + 1 := ⟨N - 1, by omega⟩
    rw [wY_commit_16]
    exact br_f (nI_ge (by omega) (by omega)) (br_t rfl (nm_r (nI_1 i) (ih (i + 1) (by omega) N (by omega))))
theorem lr_all {c : Nat} (hc : c ≤ 60000) (hw : w ≤ 60000) (hE : lc_EF c n w ek ev ed er eb nw op ov pr va cr mo ve lo ba ep el) (hC : lc_TC nc ck cy cc cn cd) :
    ∀ d i (se1 : Nat → Int32), i + d = nc → ∃ (r : Int32) (s : Nat) (se' : Nat → Int32), ((r = 0 ∧ s = 1) ∨ (r = 1 ∧ s = 0)) ∧
      (∀ post : Int32 → Prop, post r → ∀ N, d < N → wX_allHold_2 post (nI n) (nI w) o (nI m) t (nI nc) ek ev ed er eb nw op ov pr va cr mo ve lo li ex ko bx ck cy cc cn ac ay av ad N (nI i)) ∧
      (∀ post : Int32 → SY → Prop, wY_commit_57 post r (nI s) o (nI w) (nI n) (nI nc) t ba er ek ep ev el se' cd ay ap av ac gr tt ex → ∀ N, d < N → wY_commit_16 post N 1 (nI i) o (nI w) (nI n) (nI nc) t ba er ek ep ev el se1 cd ay ap av ac gr tt ex) := by
  have hnc := hC.1
  intro d
  induction d with
  | zero =>
    intro i se1 h1
    have e : i = nc := by omega
    subst e
    refine ⟨1, 0, se1, Or.inr ⟨rfl, rfl⟩, fun post hp N hN => ?_, fun post hp N hN => ?_⟩
    · obtain ⟨N, rfl⟩ : ∃ k, N = k + 1 := ⟨N - 1, by omega⟩
      rw [wX_allHold_2]
      exact br_t (nI_le (Nat.le_refl _) (by omega)) hp
    · obtain ⟨N, rfl⟩ : ∃ k, N = k + 1 := ⟨N - 1, by omega⟩
      rw [wY_commit_16]
      exact br_t (nI_le (Nat.le_refl _) (by omega)) (br_f (by decide) hp)
  | succ d ih =>
    intro i se1 h1
    have hge : ¬ nI nc ≤ nI i := nI_ge (by omega) (by omega)
    obtain ⟨r, se2, hr, x1, y1⟩ := lr_holds (o := o) (t := t) (m := m) (i := i) hc hw hE hC (by omega) se1
    rcases hr with rfl | rfl
    · refine ⟨0, 1, se2, Or.inl ⟨rfl, rfl⟩, fun post hp N hN => ?_, fun post hp N hN => ?_⟩
      · obtain ⟨N, rfl⟩ : ∃ k, N = k + 1 := ⟨N - 1, by omega⟩
        rw [wX_allHold_2]
        exact br_f hge (x1 _ (br_t rfl hp))
      · obtain ⟨N, rfl⟩ : ∃ k, N = k + 1 := ⟨N - 1, by omega⟩
        rw [wY_commit_16]
        exact br_f hge (br_f (by decide) (y1 _ (br_t rfl (nm_r (nI_1 i) (ly_c16z hnc hp d (i + 1) (by omega) N (by omega))))))
    · obtain ⟨r, s, se', hrs, k1, k2⟩ := ih (i + 1) se2 (by omega)
      refine ⟨r, s, se', hrs, fun post hp N hN => ?_, fun post hp N hN => ?_⟩
      · obtain ⟨N, rfl⟩ : ∃ k, N = k + 1 := ⟨N - 1, by omega⟩
        rw [wX_allHold_2]
        exact br_f hge (x1 _ (br_f (by decide) (nm_r (nI_1 i) (k1 post hp N (by omega)))))
      · obtain ⟨N, rfl⟩ : ∃ k, N = k + 1 := ⟨N - 1, by omega⟩
        rw [wY_commit_16]
        exact br_f hge (br_f (by decide) (y1 _ (br_f (by decide) (nm_r (nI_1 i) (k2 post hp N (by omega))))))
end CO
end
section
/-! the transaction's actions -/
def lc_CG (s : Nat) (ad ay pr : Nat → Int32) (i : Nat) : Prop := ad (s * 4 + i) = 0 ∨ ¬ pr (ay (s * 4 + i)).toNatClampNeg = 0
section CM
variable {n w y m nc : Nat} {o t : Int32} {ek ev ed er eb nw op ov pr va cr mo ve lo li ex ko bx ck cy cc cn ac ay av ad ba ep el se cd ap gr tt : Nat → Int32}
theorem lx_chg {s A : Nat} (hs : s < 2) (hA : ac s = nI A) (hA4 : A ≤ 4) (hk : ∀ i, i < A → ∃ q, q < 16 ∧ ay (s * 4 + i) = nI q) :
    ∀ d j, j + d = A → ∃ r : Int32, ((r = 0 ∧ ∀ i, j ≤ i → i < A → ¬ lc_CG s ad ay pr i) ∨ (r = 1 ∧ ∃ i, j ≤ i ∧ i < A ∧ lc_CG s ad ay pr i)) ∧
      ∀ {n w m nc : Nat} {o t : Int32} {ek ev ed er eb nw op ov va cr mo ve lo li ex ko bx ck cy cc cn av : Nat → Int32} {post : Int32 → Prop}, post r → ∀ N, d < N → wX_changes_4 post (nI s) (nI n) (nI w) o (nI m) t (nI nc) ek ev ed er eb nw op ov pr va cr mo ve lo li ex ko bx ck cy cc cn ac ay av ad N (nI (s * 4 + j)) := by
  have es : (nI s).toNatClampNeg = s := nI_clamp (by omega)
  have ws : vp_in (nI s) 2 := vp_in_nI hs (by omega)
  have e4 : nI s * 4 + ac (nI s).toNatClampNeg = nI (s * 4 + A) := by rw [es, hA]; exact lc_s4
  intro d
  induction d with
  | zero =>
    intro j h1
    refine ⟨0, Or.inl ⟨rfl, fun i a b => by omega⟩, ?_⟩
    intros
    rename_i hp N hN
    obtain ⟨N, rfl⟩ : ∃ k, N = k + 1 := ⟨N - 1, by omega⟩
    rw [wX_changes_4]
    exact ⟨ws, br_t (by rw [e4]; exact nI_le (by omega) (by omega)) hp⟩
  | succ d ih =>
    intro j h1
    have ej : (nI (s * 4 + j)).toNatClampNeg = s * 4 + j := nI_clamp (by omega)
    have wj : vp_in (nI (s * 4 + j)) 8 := vp_in_nI (by omega) (by omega)
    have hge : ¬ nI s * 4 + ac (nI s).toNatClampNeg ≤ nI (s * 4 + j) := by rw [e4]; exact nI_ge (by omega) (by omega)
    obtain ⟨q, hq, eq⟩ := hk j (by omega)
    by_cases z : ad (s * 4 + j) = 0
    · refine ⟨1, Or.inr ⟨rfl, j, Nat.le_refl _, by omega, Or.inl z⟩, ?_⟩
      intros
      rename_i hp N hN
      obtain ⟨N, rfl⟩ : ∃ k, N = k + 1 := ⟨N - 1, by omega⟩
      rw [wX_changes_4]
      exact ⟨ws, br_f hge ⟨wj, br_t (by rw [ej]; exact z) hp⟩⟩
    · have wk : vp_in (ay (nI (s * 4 + j)).toNatClampNeg) 16 := by rw [ej, eq]; exact vp_in_nI hq (by omega)
      by_cases y : pr (ay (s * 4 + j)).toNatClampNeg = 0
      · obtain ⟨r, hr, k1⟩ := ih (j + 1) (by omega)
        refine ⟨r, ?_, ?_⟩
        · rcases hr with ⟨e, h⟩ | ⟨e, i, h2, h3, h4⟩
          · refine Or.inl ⟨e, fun i a b => ?_⟩
            by_cases x : i = j
            · subst x
              exact fun g => g.elim z (fun g => g y)
            · exact h i (by omega) b
          · exact Or.inr ⟨e, i, by omega, h3, h4⟩
        · intros
          rename_i hp N hN
          obtain ⟨N, rfl⟩ : ∃ k, N = k + 1 := ⟨N - 1, by omega⟩
          rw [wX_changes_4]
          exact ⟨ws, br_f hge ⟨wj, br_f (by rw [ej]; exact z) ⟨wj, wk, br_t (by rw [ej]; exact y) (nm_r (nI_1 _) (k1 hp N (by omega)))⟩⟩⟩
      · refine ⟨1, Or.inr ⟨rfl, j, Nat.le_refl _, by omega, Or.inr y⟩, ?_⟩
        intros
        rename_i hp N hN
        obtain ⟨N, rfl⟩ : ∃ k, N = k + 1 := ⟨N - 1, by omega⟩
        rw [wX_changes_4]
        exact ⟨ws, br_f hge ⟨wj, br_f (by rw [ej]; exact z) ⟨wj, wk, br_f (by rw [ej]; exact y) hp⟩⟩⟩
theorem ly_112 {post : Int32 → SY → Prop} {J : _}
    {x1 x2 x3 p : Int32} {i : Nat} (hi : i < 8) (hn : n < 96) (hp : ap i = p) (hpn : vp_nar .boolean p = p)
    (h : J 1 (nI (i + 1)) o (nI y) (nI (n + 1)) (nI nc) t ba (upd er n x3) (upd ek n (ay i)) (upd ep n p) (upd ev n (av i)) (upd el n (-1)) se cd ay ap av ac gr tt ex) :
    wY_commit_112 post J x1 x2 x3 (nI i) o (nI y) (nI n) (nI nc) t ba er ek ep ev el se cd ay ap av ac gr tt ex := by
  have ei : (nI i).toNatClampNeg = i := nI_clamp (by omega)
  have wi : vp_in (nI i) 8 := vp_in_nI hi (by omega)
  unfold wY_commit_112
  refine ⟨wi, wi, wi, ?_⟩
  rw [ei, hp]
  exact ly_add hn hpn (nm_r (nI_1 i) h)
theorem lc_nq {q x : Nat} (hq : q < 16) (hx : x < 16) (h : ¬ nI x = nI q) : x ≠ q := fun e => h (by rw [e])
theorem lr_cmt {c s A g y wx : Nat} {r : Int32} (hc : c ≤ 60000) (hwx : wx ≤ 60000) (hs : s < 2) (hA : ac s = nI A) (hA4 : A ≤ 4) (hr : r = 0 ∨ r = 1)
    (hL : lc_LF m li ex bx gr tt)
    (hT : ∀ i, i < A → (∃ q, q < 16 ∧ ay (s * 4 + i) = nI q) ∧ ((ad (s * 4 + i) = 0 ∧ ap (s * 4 + i) = 1) ∨ (ad (s * 4 + i) = 1 ∧ ap (s * 4 + i) = 0 ∧ av (s * 4 + i) = 0)) ∧ ∀ j, j < i → ¬ ay (s * 4 + j) = ay (s * 4 + i)) :
    ∀ D j, j + D = A → ∀ (x4 : Int32) (se : Nat → Int32) {n : Nat} {ek ev ed er eb nw pr va cr mo ve lo ko ep el : Nat → Int32},
      lc_EF c n wx ek ev ed er eb nw op ov pr va cr mo ve lo ba ep el → lc_LB lo ko → lc_LQ lo li → lc_SP g n (nI y) er → n + D ≤ 60 →
      (∀ i, j ≤ i → i < A → ∀ e, g ≤ e → e < n → ¬ ek e = ay (s * 4 + i)) →
      ((wx = y + 1 ∧ (x4 = 1 ∨ (x4 = 0 ∧ ∃ i, j ≤ i ∧ i < A ∧ lc_CG s ad ay pr i))) ∨ (wx = y ∧ x4 = 0 ∧ ∀ i, j ≤ i → i < A → ¬ lc_CG s ad ay pr i)) →
      ∃ u' v', lc_RR c wx m t u' v' ∧ (∀ post : Int32 → SX → Prop, post r u' → ∀ N, D < N → wX_commit_52 post r (nI s) N (nI (s * 4 + j)) (nI n) (nI wx) o (nI m) t (nI nc) ek ev ed er eb nw op ov pr va cr mo ve lo li ex ko bx ck cy cc cn ac ay av ad) ∧
        (∀ post : Int32 → SY → Prop, post r v' → ∀ N, D < N → wY_commit_73 post r (nI s) (nI (y + 1)) N x4 (nI (s * 4 + j)) o (nI y) (nI n) (nI nc) t ba er ek ep ev el se cd ay ap av ac gr tt ex) := by
  have es : (nI s).toNatClampNeg = s := nI_clamp (by omega)
  have ws : vp_in (nI s) 2 := vp_in_nI hs (by omega)
  have e4 : nI s * 4 + ac (nI s).toNatClampNeg = nI (s * 4 + A) := by rw [es, hA]; exact lc_s4
  intro D
  induction D with
  | zero =>
    intro j h1 x4 se n ek ev ed er eb nw pr va cr mo ve lo ko ep el hE hB hQ hSP hn hpk hH
    have hle : nI s * 4 + ac (nI s).toNatClampNeg ≤ nI (s * 4 + j) := by rw [e4]; exact nI_le (by omega) (by omega)
    have hF : lc_FF c n wx m 0 ek ev ed er eb nw op ov pr va cr mo ve lo li ex ko bx ck cy cc cn (upd (upd ac 0 0) 1 0) ay av ad ba ep el cd ap gr tt := by
      refine ⟨hE, hB, hQ, hL, ⟨by omega, fun i hi => by omega⟩, fun s' hs' => ⟨0, by omega, ?_, fun i hi => by omega⟩⟩
      have : s' = 0 ∨ s' = 1 := by omega
      rcases this with rfl | rfl
      · rfl
      · rfl
    refine ⟨((nI n), nI wx, o, (nI m), t, nI 0, ek, ev, ed, er, eb, nw, op, ov, pr, va, cr, mo, ve, lo, li, ex, ko, bx, ck, cy, cc, cn, upd (upd ac 0 0) 1 0, ay, av, ad), (o, nI wx, (nI n), nI 0, t, ba, er, ek, ep, ev, el, se, cd, ay, ap, av, upd (upd ac 0 0) 1 0, gr, tt, ex), lc_RRi hF, fun post hp N hN => ?_, fun post hp N hN => ?_⟩
    · obtain ⟨N, rfl⟩ : ∃ k, N = k + 1 := ⟨N - 1, by omega⟩
      rw [wX_commit_52]
      refine ⟨ws, br_t hle (nm_e (nm_e ?_))⟩
      rcases hr with rfl | rfl
      · exact br_t rfl hp
      · exact br_f (by decide) hp
    · obtain ⟨N, rfl⟩ : ∃ k, N = k + 1 := ⟨N - 1, by omega⟩
      rw [wY_commit_73]
      refine ⟨ws, br_t hle ?_⟩
      rcases hH with ⟨e, hx⟩ | ⟨e, hx, _⟩
      · rcases hx with rfl | ⟨_, i, a, b, _⟩
        · subst e
          refine br_f (by decide) (nm_e (nm_e ?_))
          rcases hr with rfl | rfl
          · exact br_t rfl hp
          · exact br_f (by decide) hp
        · omega
      · subst e hx
        refine br_t rfl (nm_e (nm_e ?_))
        rcases hr with rfl | rfl
        · exact br_t rfl hp
        · exact br_f (by decide) hp
  | succ D ih =>
    intro j h1 x4 se n ek ev ed er eb nw pr va cr mo ve lo ko ep el hE hB hQ hSP hn hpk hH
    have ej : (nI (s * 4 + j)).toNatClampNeg = s * 4 + j := nI_clamp (by omega)
    have wj : vp_in (nI (s * 4 + j)) 8 := vp_in_nI (by omega) (by omega)
    have hge : ¬ nI s * 4 + ac (nI s).toNatClampNeg ≤ nI (s * 4 + j) := by rw [e4]; exact nI_ge (by omega) (by omega)
    obtain ⟨⟨q, hq, eq⟩, hfl, hdis⟩ := hT j (by omega)
    have cq : (nI q).toNatClampNeg = q := nI_clamp (by omega)
    have ek1 : ay (nI (s * 4 + j)).toNatClampNeg = nI q := by rw [ej]; exact eq
    have wk : vp_in (ay (nI (s * 4 + j)).toNatClampNeg) 16 := by rw [ek1]; exact vp_in_nI hq (by omega)
    have lne : ∀ i, j < i → i < A → ¬ nI q = ay (s * 4 + i) := fun i a b e => (hT i b).2.2 j a (eq.trans e)
    have pkn : ∀ i, j + 1 ≤ i → i < A → ∀ e, g ≤ e → e < n + 1 → ¬ upd ek n (nI q) e = ay (s * 4 + i) := by
      intro i a b e he1 he2
      by_cases z : e = n
      · subst z; rw [pk_us]; exact lne i (by omega) b
      · rw [pk_un z]; exact hpk i (by omega) b e he1 (by omega)
    have qne : ∀ i, j + 1 ≤ i → i < A → (ay (s * 4 + i)).toNatClampNeg ≠ q := by
      intro i a b
      obtain ⟨x, hx, ex'⟩ := (hT i b).1
      have := lne i (by omega) b
      rw [ex'] at this
      rw [ex', nI_clamp (by omega)]
      exact fun z => this (by rw [z])
    have hHput : ∀ (v : Int32), lc_CG s ad ay pr j → wx = y + 1 := by
      intro v hcg
      rcases hH with ⟨e, _⟩ | ⟨_, _, hno⟩
      · exact e
      · exact absurd hcg (hno j (Nat.le_refl _) (by omega))
    rcases hfl with ⟨fd, fp⟩ | ⟨fd, fp, fv⟩
    · -- a put
      have hwy : wx = y + 1 := hHput 0 (Or.inl fd)
      obtain ⟨ko', cr', ve', k1, k2, k3, k4, k5, k6⟩ := lx_putKey (cr := cr) (a := av (s * 4 + j)) (r := nI wx) (by omega : n < 96) hq hB (lc_LQ_R hQ hq) (Or.inl rfl : lc_LR (-1)) (hE.2.2.2.2.2.1 q hq)
      have hE' := lc_EF_put (a := av (s * 4 + j)) (le := -1) hE (by omega) hq hc hwx k2 k3 k4 k5
      obtain ⟨u', v', R, hx, hy⟩ := ih (j + 1) (by omega) 1 se hE' k1 (lc_LQ_put hQ (Or.inl rfl)) (lc_SP_add hSP (by omega) (by omega)) (by omega) pkn (Or.inl ⟨hwy, Or.inl rfl⟩)
      refine ⟨u', v', R, fun post hp N hN => ?_, fun post hp N hN => ?_⟩
      · obtain ⟨N, rfl⟩ : ∃ k, N = k + 1 := ⟨N - 1, by omega⟩
        rw [wX_commit_52]
        refine ⟨ws, br_f hge ⟨wj, br_t (by rw [ej]; exact fd) ⟨wj, wj, ?_⟩⟩⟩
        rw [ek1, ej]
        exact k6 (nm_r (nI_1 _) (hx post hp N (by omega)))
      · obtain ⟨N, rfl⟩ : ∃ k, N = k + 1 := ⟨N - 1, by omega⟩
        rw [wY_commit_73]
        refine ⟨ws, br_f hge ⟨wj, br_f (by rw [ej, fp]; decide) (ly_112 (by omega) (by omega) fp rfl ?_)⟩⟩
        rw [eq, ← hwy]
        have := hy post hp N (by omega)
        rw [← hwy] at this
        exact this
    · -- a delete
      have hap : ¬ ad (s * 4 + j) = 0 := by rw [fd]; decide
      have hsk : lc_lf ek er ep ev el ba q n = lc_lf ek er ep ev el ba q g := by
        obtain ⟨d, rfl⟩ : ∃ d, n = g + d := ⟨n - g, by have := hSP.1; omega⟩
        exact lc_lf_sk d (fun e a b => by rw [← eq]; exact hpk j (Nat.le_refl _) (by omega) e a b)
      have hat := hE.2.2.2.2.1 q hq
      have hv := (lc_OLv (ek := ek) (er := er) (ep := ep) (ev := ev) (el := el) hE.2.2.2.2.2.2 hq (m := n) (by omega) hc).1
      rw [hsk] at hat hv
      obtain ⟨se', s1, s2⟩ := ly_pres ek ep ev el ba se hq (by omega) hSP hv
      rw [hat] at s2
      rcases hE.2.2.2.2.2.1 q hq with ⟨p0, v0, _⟩ | ⟨p1, v1⟩
      · obtain ⟨u', v', R, hx, hy⟩ := ih (j + 1) (by omega) x4 se' hE hB hQ hSP (by omega) (fun i a b => hpk i (by omega) b) (by
          rcases hH with ⟨e, hx⟩ | ⟨e, hx, hno⟩
          · refine Or.inl ⟨e, ?_⟩
            rcases hx with e | ⟨e, i, a, b, hcg⟩
            · exact Or.inl e
            · refine Or.inr ⟨e, i, ?_, b, hcg⟩
              by_cases z : i = j
              · subst z
                exfalso
                rcases hcg with h | h
                · exact hap h
                · rw [eq, cq] at h; exact h p0
              · omega
          · exact Or.inr ⟨e, hx, fun i a b => hno i (by omega) b⟩)
        refine ⟨u', v', R, fun post hp N hN => ?_, fun post hp N hN => ?_⟩
        · obtain ⟨N, rfl⟩ : ∃ k, N = k + 1 := ⟨N - 1, by omega⟩
          rw [wX_commit_52]
          exact ⟨ws, br_f hge ⟨wj, br_f (by rw [ej]; exact hap) ⟨wj, wk, br_t (by rw [ek1, cq]; exact p0) (nm_r (nI_1 _) (hx post hp N (by omega)))⟩⟩⟩
        · obtain ⟨N, rfl⟩ : ∃ k, N = k + 1 := ⟨N - 1, by omega⟩
          rw [wY_commit_73]
          refine ⟨ws, br_f hge ⟨wj, br_t (by rw [ej]; exact fp) ⟨wj, ?_⟩⟩⟩
          rw [ek1]
          refine s2 ?_
          rw [if_pos v0]
          exact br_t rfl (nm_r (nI_1 _) (hy post hp N (by omega)))
      · have vn : ¬ ve q = 0 := fun e => by rw [e, lc_z0] at v1; omega
        have pn : ¬ pr q = 0 := by rw [p1]; decide
        have hwy : wx = y + 1 := hHput 0 (Or.inr (by rw [eq, cq]; exact pn))
        obtain ⟨ko', k1, k2⟩ := lx_deleteKey (r := nI wx) (by omega : n < 96) hq hB (lc_LQ_R hQ hq)
        have hE' := lc_EF_del hE pn hq hwx
        obtain ⟨u', v', R, hx, hy⟩ := ih (j + 1) (by omega) 1 se' hE' k1 (lc_LQ_put hQ (Or.inl rfl)) (lc_SP_add hSP (by omega) (by omega)) (by omega) pkn (Or.inl ⟨hwy, Or.inl rfl⟩)
        refine ⟨u', v', R, fun post hp N hN => ?_, fun post hp N hN => ?_⟩
        · obtain ⟨N, rfl⟩ : ∃ k, N = k + 1 := ⟨N - 1, by omega⟩
          rw [wX_commit_52]
          refine ⟨ws, br_f hge ⟨wj, br_f (by rw [ej]; exact hap) ⟨wj, wk, br_f (by rw [ek1, cq]; exact pn) ⟨wj, ?_⟩⟩⟩⟩
          rw [ek1]
          exact k2 (nm_r (nI_1 _) (hx post hp N (by omega)))
        · obtain ⟨N, rfl⟩ : ∃ k, N = k + 1 := ⟨N - 1, by omega⟩
          rw [wY_commit_73]
          refine ⟨ws, br_f hge ⟨wj, br_t (by rw [ej]; exact fp) ⟨wj, ?_⟩⟩⟩
          rw [ek1]
          refine s2 ?_
          rw [if_neg vn]
          refine br_f (by decide) (ly_112 (by omega) (by omega) fp rfl ?_)
          rw [eq, fv, ← hwy]
          have := hy post hp N (by omega)
          rw [← hwy] at this
          exact this
theorem lr_commit {k : Nat} (hk : k + 5 ≤ 2560) (hw : w ≤ k) (hF : lc_FF (20 * k) n w m nc ek ev ed er eb nw op ov pr va cr mo ve lo li ex ko bx ck cy cc cn ac ay av ad ba ep el cd ap gr tt) :
    ∃ r u' v', i_Rel (k + 5) u' v' ∧ (∀ post : Int32 → SX → Prop, post r u' → wpX_commit post ((nI n), (nI w), o, (nI m), t, (nI nc), ek, ev, ed, er, eb, nw, op, ov, pr, va, cr, mo, ve, lo, li, ex, ko, bx, ck, cy, cc, cn, ac, ay, av, ad)) ∧
      (∀ post : Int32 → SY → Prop, post r v' → wpY_commit post (o, nI w, (nI n), (nI nc), t, ba, er, ek, ep, ev, el, se, cd, ay, ap, av, ac, gr, tt, ex)) := by
  have hF2 := hF
  obtain ⟨hE, hB, hQ, hL, hC, hA⟩ := hF
  by_cases z : n ≤ 56
  · obtain ⟨r, s, se', hrs, x1, y1⟩ := lr_all (o := o) (t := t) (m := m) (li := li) (ex := ex) (ko := ko) (bx := bx) (ac := ac) (ay := ay) (av := av) (ad := ad) (ap := ap) (gr := gr) (tt := tt) (by omega) (by omega) hE hC nc 0 se (by omega)
    have hs : s < 2 := by rcases hrs with ⟨_, e⟩ | ⟨_, e⟩ <;> omega
    have hr : r = 0 ∨ r = 1 := by
      rcases hrs with ⟨e, _⟩ | ⟨e, _⟩
      · exact Or.inl e
      · exact Or.inr e
    obtain ⟨A, hA4, eA, hT⟩ := hA s hs
    obtain ⟨ch, hch, xch⟩ := lx_chg (pr := pr) (ad := ad) hs eA hA4 (fun i hi => (hT i hi).1) A 0 (by omega)
    have e4 : nI s * 4 = nI (s * 4) := pk_mul s 4
    have main : ∃ (u' : SX) (v' : SY) (wx : Nat), wx ≤ w + 1 ∧ lc_RR (20 * k) wx m t u' v' ∧ (∀ post : Int32 → SX → Prop, post r u' → wX_commit_26 post r (nI s) (nI n) (nI w) o (nI m) t (nI nc) ek ev ed er eb nw op ov pr va cr mo ve lo li ex ko bx ck cy cc cn ac ay av ad) ∧
        (∀ post : Int32 → SY → Prop, post r v' → wY_commit_57 post r (nI s) o (nI w) (nI n) (nI nc) t ba er ek ep ev el se' cd ay ap av ac gr tt ex) := by
      rcases hch with ⟨rfl, hno⟩ | ⟨rfl, i, _, i2, i3⟩
      · obtain ⟨u', v', R, hx, hy⟩ := lr_cmt (wx := w) (y := w) (o := o) (t := t) (nc := nc) (ck := ck) (cy := cy) (cc := cc) (cn := cn) (cd := cd) (by omega) (by omega) hs eA hA4 hr hL hT A 0 (by omega) 0 se' hE hB hQ (lc_SP_n hE.2.1 (by omega)) (by omega) (fun i _ _ e a b => by omega) (Or.inr ⟨rfl, rfl, hno⟩)
        refine ⟨u', v', w, by omega, R, fun post hp => ?_, fun post hp => ?_⟩
        · exact nm_r e4 ⟨A + 1, xch (br_t rfl (nm_r e4 ⟨A + 1, hx post hp (A + 1) (by omega)⟩)) (A + 1) (by omega)⟩
        · exact nm_r (nI_1 w) (nm_r e4 ⟨A + 1, hy post hp (A + 1) (by omega)⟩)
      · obtain ⟨u', v', R, hx, hy⟩ := lr_cmt (wx := w + 1) (y := w) (o := o) (t := t) (nc := nc) (ck := ck) (cy := cy) (cc := cc) (cn := cn) (cd := cd) (by omega) (by omega) hs eA hA4 hr hL hT A 0 (by omega) 0 se' (lc_EF_w hE (Nat.le_succ w)) hB hQ (lc_SP_n hE.2.1 (by omega)) (by omega) (fun i _ _ e a b => by omega) (Or.inl ⟨rfl, Or.inr ⟨rfl, i, Nat.zero_le _, i2, i3⟩⟩)
        refine ⟨u', v', w + 1, by omega, R, fun post hp => ?_, fun post hp => ?_⟩
        · exact nm_r e4 ⟨A + 1, xch (br_f (by decide) (nm_r (nI_1 w) (nm_r e4 ⟨A + 1, hx post hp (A + 1) (by omega)⟩))) (A + 1) (by omega)⟩
        · exact nm_r (nI_1 w) (nm_r e4 ⟨A + 1, hy post hp (A + 1) (by omega)⟩)
    obtain ⟨u', v', wx, hwx, R, hx, hy⟩ := main
    refine ⟨r, u', v', lc_finR R (by omega), fun post hp => ?_, fun post hp => ?_⟩
    · refine br_t (nI_le (b := 56) z (by decide)) ⟨nc + 1, x1 _ ?_ (nc + 1) (by omega)⟩
      rcases hrs with ⟨rfl, rfl⟩ | ⟨rfl, rfl⟩
      · exact br_t rfl (hx post hp)
      · exact br_f (by decide) (hx post hp)
    · exact br_t (nI_le (b := 56) z (by decide)) ⟨nc + 1, y1 post (hy post hp) (nc + 1) (by omega)⟩
  · have n76 : n ≤ 76 := by have := hE.1; omega
    refine ⟨-5, ((nI n), (nI w), o, (nI m), t, (nI nc), ek, ev, ed, er, eb, nw, op, ov, pr, va, cr, mo, ve, lo, li, ex, ko, bx, ck, cy, cc, cn, ac, ay, av, ad), (o, nI w, (nI n), (nI nc), t, ba, er, ek, ep, ev, el, se, cd, ay, ap, av, ac, gr, tt, ex), lc_fin hF2 (by omega), fun post hp => ?_, fun post hp => ?_⟩
    · exact br_f (nI_ge (a := 56) (by omega) (by omega)) hp
    · exact br_f (nI_ge (a := 56) (by omega) (by omega)) hp
end CM
end
section
/-! leases: grant, keep, revoke -/
section LE
variable {n w y m nc : Nat} {o t : Int32} {ek ev ed er eb nw op ov pr va cr mo ve lo li ex ko bx ck cy cc cn ac ay av ad ba ep el se cd ap gr tt : Nat → Int32}
theorem lc_LQ_no {l : Nat} (h : lc_LQ lo li) (e : li l = 0) : ∀ q, q < 16 → ¬ lo q = nI l ∨ 4 ≤ l := by
  intro q hq
  rcases h q hq with x | ⟨p, hp, x, y⟩
  · by_cases z : l < 4
    · exact Or.inl (fun w => lc_m1n (by omega : l < 2 ^ 31) (x.symm.trans w))
    · exact Or.inr (by omega)
  · by_cases z : l < 4
    · refine Or.inl (fun w => ?_)
      have := (nI_eq (by omega) (by omega)).mp (x.symm.trans w)
      subst this
      exact y e
    · exact Or.inr (by omega)
theorem lr_grant {k : Nat} (hk : k + 5 ≤ 2560) (hw : w ≤ k) (hF : lc_FF (20 * k) n w m nc ek ev ed er eb nw op ov pr va cr mo ve lo li ex ko bx ck cy cc cn ac ay av ad ba ep el cd ap gr tt) (v1 v2 : Int32) :
    ∃ r u' v', i_Rel (k + 5) u' v' ∧ (∀ post : Int32 → SX → Prop, post r u' → wpX_grant post ((nI n), (nI w), o, (nI m), t, (nI nc), ek, ev, ed, er, eb, nw, op, ov, pr, va, cr, mo, ve, lo, li, ex, ko, bx, ck, cy, cc, cn, ac, ay, av, ad) v1 v2) ∧
      (∀ post : Int32 → SY → Prop, post r v' → wpY_grant post (o, nI w, (nI n), (nI nc), t, ba, er, ek, ep, ev, el, se, cd, ay, ap, av, ac, gr, tt, ex) v1 v2) := by
  have hR := lc_fin (o := o) (t := t) (se := se) hF (by omega)
  obtain ⟨hE, hB, hQ, hL, hC, hA⟩ := hF
  obtain ⟨hm, ⟨b, hS⟩, hG⟩ := hL
  rcases lc_lease v1 with hb | ⟨l, hl, rfl⟩
  · refine ⟨-3, _, _, hR, fun post hp => ?_, fun post hp => ?_⟩
    · by_cases z : v1 < 0
      · exact br_t z hp
      · exact br_f z (br_f (lc_nlt (hb.resolve_left z)) hp)
    · by_cases z : v1 < 0
      · exact br_t z hp
      · exact br_f z (br_f (lc_nle (lc_3lt (hb.resolve_left z))) hp)
  · have el' : (nI l).toNatClampNeg = l := nI_clamp (by omega)
    have wl : vp_in (nI l) 4 := vp_in_nI hl (by omega)
    have l0 : ¬ nI l < 0 := nI_pos (by omega)
    have l4 : nI l < 4 := nI_lt (b := 4) hl (by decide)
    have l3 : nI l ≤ 3 := lc_le3 hl
    rcases hG l hl with ⟨g0, i0⟩ | ⟨g1, i1, i2, i3⟩
    · have xl : li (nI l).toNatClampNeg ≤ 0 := by rw [el', i0]; decide
      have yl : gr (nI l).toNatClampNeg = 0 := by rw [el']; exact g0
      by_cases z1 : v2 < 1
      · refine ⟨-8, _, _, hR, fun post hp => ?_, fun post hp => ?_⟩
        · exact br_f l0 (br_t l4 ⟨wl, br_t xl (br_t z1 hp)⟩)
        · exact br_f l0 (br_t l3 ⟨wl, br_t yl (br_t z1 hp)⟩)
      · by_cases z2 : v2 ≤ 50
        · have c1 : 1 ≤ v2.toInt := by
            rw [Int32.lt_iff_toInt_lt, show (1 : Int32).toInt = 1 from by decide] at z1; omega
          have c2 : v2.toInt ≤ 50 := by
            rw [Int32.le_iff_toInt_le, show (50 : Int32).toInt = 50 from by decide] at z2; exact z2
          have vn : ¬ v2 = 0 := fun e => by rw [e, lc_z0] at c1; omega
          have pc1 := lc_pc_u (li := li) (x := v2) i0 vn 4 hl
          have pc4 := lc_pc_le (upd li l v2) 4
          have hS1 : lc_LS m (fun x => ¬ li x = 0) (upd ex l (t + v2)) bx b := lc_LS_cg hS (fun _ _ => Iff.rfl) (fun x _ hx => pk_un (fun e => hx (by rw [e]; exact i0)))
          obtain ⟨bx', b', k1, k2⟩ := lx_enlist hl (by omega) hS1 (fun h => h i0)
          have hF' : lc_FF (20 * k) n w (m + 1) nc ek ev ed er eb nw op ov pr va cr mo ve lo (upd li l v2) (upd ex l (t + v2)) (upd ko l 0) bx' ck cy cc cn ac ay av ad ba ep el cd ap (upd gr l 1) (upd tt l v2) := by
            refine ⟨hE, ?_, ?_, ⟨by omega, ⟨b', lc_LS_cg k1 (fun x hx => ?_) (fun _ _ _ => rfl)⟩, ?_⟩, hC, hA⟩
            · intro p hp i hi
              by_cases z : p = l
              · subst z
                rw [pk_us, b_0]
                refine (decide_eq_false (fun y => ?_)).symm
                rcases lc_LQ_no hQ i0 i y.1 with h | h
                · exact h y.2
                · omega
              · rw [pk_un z]; exact hB p hp i hi
            · intro q hq
              rcases hQ q hq with h | ⟨p, hp, h1, h2⟩
              · exact Or.inl h
              · refine Or.inr ⟨p, hp, h1, ?_⟩
                by_cases z : p = l
                · subst z; rw [pk_us]; exact vn
                · rw [pk_un z]; exact h2
            · by_cases z : x = l
              · subst z; rw [pk_us]; exact ⟨fun _ => vn, fun _ => Or.inl rfl⟩
              · rw [pk_un z]; exact ⟨fun h => h.resolve_left z, fun h => Or.inr h⟩
            · intro p hp
              by_cases z : p = l
              · subst z; rw [pk_us, pk_us, pk_us]; exact Or.inr ⟨rfl, c1, c2, rfl⟩
              · rw [pk_un z, pk_un z, pk_un z]; exact hG p hp
          refine ⟨t + v2, ((nI n), (nI w), o, nI (m + 1), t, (nI nc), ek, ev, ed, er, eb, nw, op, ov, pr, va, cr, mo, ve, lo, upd li l v2, upd ex l (t + v2), upd ko l 0, bx', ck, cy, cc, cn, ac, ay, av, ad), (o, nI w, (nI n), (nI nc), t, ba, er, ek, ep, ev, el, se, cd, ay, ap, av, ac, upd gr l 1, upd tt l v2, upd ex l (t + v2)), lc_fin hF' (by omega), fun post hp => ?_, fun post hp => ?_⟩
          · refine br_f l0 (br_t l4 ⟨wl, br_t xl (br_f z1 (br_t z2 ⟨wl, nm_r (e' := upd li l v2) (by rw [el']) ⟨wl, nm_r (e' := upd ex l (t + v2)) (by rw [el']) ⟨wl, nm_r (e' := upd ko l 0) (by rw [el']) (k2 ⟨wl, ?_⟩)⟩⟩⟩))⟩)
            rw [el', pk_us]
            exact hp
          · refine br_f l0 (br_t l3 ⟨wl, br_t yl (br_f z1 (br_t z2 ⟨wl, nm_r (e' := upd gr l 1) (by rw [el']; rfl) ⟨wl, nm_r (e' := upd tt l v2) (by rw [el']) ?_⟩⟩))⟩)
            unfold wpY_keep
            refine ly_ig1 hl (by rw [pk_us]; decide) (br_f (by decide) ⟨wl, wl, nm_r (e' := upd ex l (t + v2)) (by rw [el', pk_us]) ⟨wl, ?_⟩⟩)
            rw [el', pk_us]
            exact hp
        · refine ⟨-8, _, _, hR, fun post hp => ?_, fun post hp => ?_⟩
          · exact br_f l0 (br_t l4 ⟨wl, br_t xl (br_f z1 (br_f z2 hp))⟩)
          · exact br_f l0 (br_t l3 ⟨wl, br_t yl (br_f z1 (br_f z2 hp))⟩)
    · have xl : ¬ li (nI l).toNatClampNeg ≤ 0 := by rw [el', Int32.le_iff_toInt_le, lc_z0]; omega
      have yl : ¬ gr (nI l).toNatClampNeg = 0 := by rw [el', g1]; decide
      refine ⟨-6, _, _, hR, fun post hp => ?_, fun post hp => ?_⟩
      · exact br_f l0 (br_t l4 ⟨wl, br_f xl hp⟩)
      · exact br_f l0 (br_t l3 ⟨wl, br_f yl hp⟩)
theorem lx_delist1 {l : Nat} {G : Nat → Prop} {b : Nat → Nat} (hl : l < 4) (hm : m + 1 ≤ 4) (hS : lc_LS (m + 1) G ex bx b) (hG : G l) :
    ∃ bx' b', lc_LS m (fun x => x ≠ l ∧ G x) ex bx' b' ∧ ∀ {n w nc : Nat} {o t : Int32} {ek ev ed er eb nw op ov pr va cr mo ve lo li ex ko ck cy cc cn ac ay av ad : Nat → Int32} {post : SX → Prop}, post ((nI n), (nI w), o, (nI m), t, (nI nc), ek, ev, ed, er, eb, nw, op, ov, pr, va, cr, mo, ve, lo, li, ex, ko, bx', ck, cy, cc, cn, ac, ay, av, ad) → wpX_delist post ((nI n), (nI w), o, nI (m + 1), t, (nI nc), ek, ev, ed, er, eb, nw, op, ov, pr, va, cr, mo, ve, lo, li, ex, ko, bx, ck, cy, cc, cn, ac, ay, av, ad) (nI l) :=
  lx_delist hl hm hS hG
theorem lr_keep {k : Nat} (hk : k + 5 ≤ 2560) (hw : w ≤ k) (hF : lc_FF (20 * k) n w m nc ek ev ed er eb nw op ov pr va cr mo ve lo li ex ko bx ck cy cc cn ac ay av ad ba ep el cd ap gr tt) (v1 : Int32) :
    ∃ r u' v', i_Rel (k + 5) u' v' ∧ (∀ post : Int32 → SX → Prop, post r u' → wpX_keep post ((nI n), (nI w), o, (nI m), t, (nI nc), ek, ev, ed, er, eb, nw, op, ov, pr, va, cr, mo, ve, lo, li, ex, ko, bx, ck, cy, cc, cn, ac, ay, av, ad) v1) ∧
      (∀ post : Int32 → SY → Prop, post r v' → wpY_keep post (o, nI w, (nI n), (nI nc), t, ba, er, ek, ep, ev, el, se, cd, ay, ap, av, ac, gr, tt, ex) v1) := by
  have hR := lc_fin (o := o) (t := t) (se := se) hF (by omega)
  obtain ⟨hE, hB, hQ, hL, hC, hA⟩ := hF
  obtain ⟨hm, ⟨b, hS⟩, hG⟩ := hL
  rcases lc_lease v1 with hb | ⟨l, hl, rfl⟩
  · refine ⟨-3, _, _, hR, fun post hp => ?_, fun post hp => ?_⟩
    · unfold wpX_keep
      exact lx_nlb hb (br_f (by decide) hp)
    · unfold wpY_keep
      exact ly_igb hb (br_t rfl hp)
  · have el' : (nI l).toNatClampNeg = l := nI_clamp (by omega)
    have wl : vp_in (nI l) 4 := vp_in_nI hl (by omega)
    rcases hG l hl with ⟨g0, i0⟩ | ⟨g1, i1, i2, i3⟩
    · refine ⟨-3, _, _, hR, fun post hp => ?_, fun post hp => ?_⟩
      · unfold wpX_keep
        exact lx_nl0 hl i0 (br_f (by decide) hp)
      · unfold wpY_keep
        exact ly_ig0 hl g0 (br_t rfl hp)
    · have ln : ¬ li l = 0 := fun e => by rw [e, lc_z0] at i1; omega
      have gn : ¬ gr l = 0 := by rw [g1]; decide
      have m1 : 0 < m := by
        obtain ⟨i, hi, _⟩ := hS.2.2 l hl ln
        omega
      have m4 := lc_pc_le li 4
      obtain ⟨m, rfl⟩ : ∃ k, m = k + 1 := ⟨m - 1, by omega⟩
      obtain ⟨bx1, b1, k1, k2⟩ := lx_delist1 hl (by omega) hS ln
      have hS1 : lc_LS m (fun x => x ≠ l ∧ ¬ li x = 0) (upd ex l (t + li l)) bx1 b1 := lc_LS_cg k1 (fun _ _ => Iff.rfl) (fun x _ hx => pk_un hx.1)
      obtain ⟨bx', b', k3, k4⟩ := lx_enlist hl (by omega) hS1 (fun h => h.1 rfl)
      have hF' : lc_FF (20 * k) n w (m + 1) nc ek ev ed er eb nw op ov pr va cr mo ve lo li (upd ex l (t + li l)) ko bx' ck cy cc cn ac ay av ad ba ep el cd ap gr tt := by
        refine ⟨hE, hB, hQ, ⟨hm, ⟨b', lc_LS_cg k3 (fun x hx => ?_) (fun _ _ _ => rfl)⟩, hG⟩, hC, hA⟩
        by_cases z : x = l
        · subst z; exact ⟨fun _ => ln, fun _ => Or.inl rfl⟩
        · exact ⟨fun h => (h.resolve_left z).2, fun h => Or.inr ⟨z, h⟩⟩
      refine ⟨t + li l, ((nI n), (nI w), o, nI (m + 1), t, (nI nc), ek, ev, ed, er, eb, nw, op, ov, pr, va, cr, mo, ve, lo, li, upd ex l (t + li l), ko, bx', ck, cy, cc, cn, ac, ay, av, ad), (o, nI w, (nI n), (nI nc), t, ba, er, ek, ep, ev, el, se, cd, ay, ap, av, ac, gr, tt, upd ex l (t + li l)), lc_fin hF' (by omega), fun post hp => ?_, fun post hp => ?_⟩
      · unfold wpX_keep
        refine lx_nl1 hl ln (br_t rfl (k2 ⟨wl, wl, nm_r (e' := upd ex l (t + li l)) (by rw [el']) (k4 ⟨wl, ?_⟩)⟩))
        rw [el', pk_us]
        exact hp
      · unfold wpY_keep
        refine ly_ig1 hl gn (br_f (by decide) ⟨wl, wl, nm_r (e' := upd ex l (t + li l)) (by rw [el', i3]) ⟨wl, ?_⟩⟩)
        rw [el', pk_us]
        exact hp
/-- nothing hangs on the lease: the reference's pass over the keys does nothing -/
theorem ly_rvN {c l : Nat} {x2 : Int32} (hc : c ≤ 60000) (hw : w ≤ 60000) (hE : lc_EF c n w ek ev ed er eb nw op ov pr va cr mo ve lo ba ep el) (hno : ∀ q, q < 16 → ¬ lo q = nI l) :
    ∀ d j (se1 : Nat → Int32), j + d = 16 → ∃ se', ∀ {nc : Nat} {o t : Int32} {cd ay ap av ac gr tt ex : Nat → Int32} {post : Int32 → SY → Prop}, post 0 (o, nI w, (nI n), (nI nc), t, ba, er, ek, ep, ev, el, se', cd, ay, ap, av, ac, gr, tt, ex) → ∀ N, d < N → wY_revoke_30 post (nI l) x2 N 0 (nI j) o (nI w) (nI n) (nI nc) t ba er ek ep ev el se1 cd ay ap av ac gr tt ex := by
  have n76 : n ≤ 76 := by have := hE.1; omega
  intro d
  induction d with
  | zero =>
    intro j se1 h1
    have e : j = 16 := by omega
    subst e
    refine ⟨se1, ?_⟩
    intros
    rename_i hp N hN
    obtain ⟨N, rfl⟩ : ∃ k, N = k + 1 := ⟨N - 1, by omega⟩
    rw [wY_revoke_30]
    exact br_t (by decide) (br_t (by decide) hp)
  | succ d ih =>
    intro j se1 h1
    have hj : j < 16 := by omega
    have hv := (lc_OLv (ek := ek) (er := er) (ep := ep) (ev := ev) (el := el) hE.2.2.2.2.2.2 hj (m := n) (by omega) hc).1
    obtain ⟨se2, s1, s2⟩ := ly_pres ek ep ev el ba se1 hj (by omega) (lc_SP_n hE.2.1 (by omega)) hv
    rw [hE.2.2.2.2.1 j hj] at s1 s2
    have e4 : se2 4 = lo j := congrArg (fun z : lc_T => z.2.2.2.2) s1
    obtain ⟨se', k1⟩ := ih (j + 1) se2 (by omega)
    refine ⟨se', ?_⟩
    intros
    rename_i hp N hN
    obtain ⟨N, rfl⟩ : ∃ k, N = k + 1 := ⟨N - 1, by omega⟩
    rw [wY_revoke_30]
    refine br_f (nI_ge (b := 16) hj (by decide)) (s2 ?_)
    by_cases z : ve j = 0
    · rw [if_pos z]
      exact br_t rfl (nm_r (nI_1 j) (k1 hp N (by omega)))
    · rw [if_neg z]
      exact br_f (by decide) (br_f (by rw [e4]; exact hno j hj) (nm_r (nI_1 j) (k1 hp N (by omega))))
/-- keys that hang on the lease go, on both sides alike -/
theorem lr_rvL {c l g y : Nat} {x2 : Int32} (hc : c ≤ 60000) (hwx : y + 1 ≤ 60000) (hl : l < 4)
    (hL : lc_LF m li ex bx gr tt) (hC : lc_TC nc ck cy cc cn cd) (hA : lc_TA ac ay av ad ap) :
    ∀ d j, j + d = 16 → ∀ (cnt : Nat) (se : Nat → Int32) {n : Nat} {ek ev ed er eb nw pr va cr mo ve lo ko ep el : Nat → Int32},
      lc_EF c n (y + 1) ek ev ed er eb nw op ov pr va cr mo ve lo ba ep el → lc_LB lo ko →
      (∀ q, q < 16 → lo q = -1 ∨ ∃ p, p < 4 ∧ lo q = nI p ∧ (¬ li p = 0 ∨ (p = l ∧ j ≤ q))) →
      lc_SP g n (nI y) er → (∀ e, g ≤ e → e < n → ∃ q, q < j ∧ ek e = nI q) →
      (∀ q, j ≤ q → q < 16 → (bt x2 q = true ↔ lo q = nI l)) → cnt ≤ j → (0 < cnt ∨ ∃ q, j ≤ q ∧ q < 16 ∧ lo q = nI l) →
      ∃ r u' v', lc_RR c (y + 1) m t u' v' ∧ (∀ post : Int32 → SX → Prop, post r u' → ∀ N, d < N → wX_revoke_51 post x2 N (nI cnt) (nI j) (nI n) (nI (y + 1)) o (nI m) t (nI nc) ek ev ed er eb nw op ov pr va cr mo ve lo li ex ko bx ck cy cc cn ac ay av ad) ∧
        (∀ post : Int32 → SY → Prop, post r v' → ∀ N, d < N → wY_revoke_30 post (nI l) (nI (y + 1)) N (nI cnt) (nI j) o (nI y) (nI n) (nI nc) t ba er ek ep ev el se cd ay ap av ac gr tt ex) := by
  intro d
  induction d with
  | zero =>
    intro j h1 cnt se n ek ev ed er eb nw pr va cr mo ve lo ko ep el hE hB hQ hSP hev hbt hcnt hpos
    have e : j = 16 := by omega
    subst e
    have c0 : 0 < cnt := hpos.elim id (fun ⟨q, a, b, _⟩ => by omega)
    have hF : lc_FF c n (y + 1) m nc ek ev ed er eb nw op ov pr va cr mo ve lo li ex ko bx ck cy cc cn ac ay av ad ba ep el cd ap gr tt := by
      refine ⟨hE, hB, fun q hq => ?_, hL, hC, hA⟩
      rcases hQ q hq with h | ⟨p, hp, h1, h2⟩
      · exact Or.inl h
      · refine Or.inr ⟨p, hp, h1, h2.elim id (fun h => by omega)⟩
    refine ⟨nI cnt, ((nI n), nI (y + 1), o, (nI m), t, (nI nc), ek, ev, ed, er, eb, nw, op, ov, pr, va, cr, mo, ve, lo, li, ex, ko, bx, ck, cy, cc, cn, ac, ay, av, ad), (o, nI (y + 1), (nI n), (nI nc), t, ba, er, ek, ep, ev, el, se, cd, ay, ap, av, ac, gr, tt, ex), lc_RRi hF, fun post hp N hN => ?_, fun post hp N hN => ?_⟩
    · obtain ⟨N, rfl⟩ : ∃ k, N = k + 1 := ⟨N - 1, by omega⟩
      rw [wX_revoke_51]
      exact br_t (by decide) hp
    · obtain ⟨N, rfl⟩ : ∃ k, N = k + 1 := ⟨N - 1, by omega⟩
      rw [wY_revoke_30]
      exact br_t (by decide) (br_f (nI_nle c0 (by omega)) hp)
  | succ d ih =>
    intro j h1 cnt se n ek ev ed er eb nw pr va cr mo ve lo ko ep el hE hB hQ hSP hev hbt hcnt hpos
    have hj : j < 16 := by omega
    have n76 : n ≤ 76 := by have := hE.1; omega
    have cj : (nI j).toNatClampNeg = j := nI_clamp (by omega)
    have h16 : ¬ (16 : Int32) ≤ nI j := nI_ge (b := 16) hj (by decide)
    have hsk : lc_lf ek er ep ev el ba j n = lc_lf ek er ep ev el ba j g := by
      obtain ⟨d, rfl⟩ : ∃ d, n = g + d := ⟨n - g, by have := hSP.1; omega⟩
      refine lc_lf_sk d (fun e a b z => ?_)
      obtain ⟨q, q1, q2⟩ := hev e a b
      have := (nI_eq (by omega) (by omega)).mp (q2.symm.trans z)
      omega
    have hat := hE.2.2.2.2.1 j hj
    have hv := (lc_OLv (ek := ek) (er := er) (ep := ep) (ev := ev) (el := el) hE.2.2.2.2.2.2 hj (m := n) (by omega) hc).1
    rw [hsk] at hat hv
    obtain ⟨se2, s1, s2⟩ := ly_pres ek ep ev el ba se hj (by omega) hSP hv
    rw [hat] at s1 s2
    have e4 : se2 4 = lo j := congrArg (fun z : lc_T => z.2.2.2.2) s1
    have hrj : lc_LR (lo j) := by
      rcases hQ j hj with h | ⟨p, hp, h1, h2⟩
      · exact Or.inl h
      · exact Or.inr ⟨p, hp, h1⟩
    by_cases z : lo j = nI l
    · have hpv : pr j = 1 ∧ 0 < (ve j).toInt := by
        rcases hE.2.2.2.2.2.1 j hj with ⟨_, _, h⟩ | h
        · exact absurd (h.symm.trans z) (lc_m1n (by omega))
        · exact h
      have pn : ¬ pr j = 0 := by rw [hpv.1]; decide
      have vn : ¬ ve j = 0 := fun e => by have := hpv.2; rw [e, lc_z0] at this; omega
      have hbit : ((x2 >>> (nI j &&& 31)) &&& 1) = 1 := by
        rw [lc_bit hj, if_pos ((hbt j (Nat.le_refl _) hj).mpr z)]
      obtain ⟨ko', k1, k2⟩ := lx_deleteKey (r := nI (y + 1)) (by omega : n < 96) hj hB hrj
      have hE' := lc_EF_del hE pn hj hwx
      obtain ⟨r, u', v', R, hx, hy⟩ := ih (j + 1) (by omega) (cnt + 1) se2 hE' k1
        (fun q hq => by
          by_cases x : q = j
          · subst x; rw [pk_us]; exact Or.inl rfl
          · rw [pk_un x]
            rcases hQ q hq with h | ⟨p, hp, h1, h2⟩
            · exact Or.inl h
            · refine Or.inr ⟨p, hp, h1, h2.elim Or.inl (fun h => Or.inr ⟨h.1, by omega⟩)⟩)
        (lc_SP_add hSP (by omega) (by omega))
        (fun e a b => by
          by_cases x : e = n
          · subst x; rw [pk_us]; exact ⟨j, by omega, rfl⟩
          · rw [pk_un x]
            obtain ⟨q, q1, q2⟩ := hev e a (by omega)
            exact ⟨q, by omega, q2⟩)
        (fun q a b => by rw [pk_un (by omega)]; exact hbt q (by omega) b)
        (by omega) (Or.inl (by omega))
      refine ⟨r, u', v', R, fun post hp N hN => ?_, fun post hp N hN => ?_⟩
      · obtain ⟨N, rfl⟩ : ∃ k, N = k + 1 := ⟨N - 1, by omega⟩
        rw [wX_revoke_51]
        exact br_f h16 (br_t hbit (k2 (nm_r (nI_1 cnt) (nm_r (nI_1 j) (hx post hp N (by omega))))))
      · obtain ⟨N, rfl⟩ : ∃ k, N = k + 1 := ⟨N - 1, by omega⟩
        rw [wY_revoke_30]
        refine br_f h16 (s2 ?_)
        rw [if_neg vn]
        exact br_f (by decide) (br_t (by rw [e4]; exact z) (ly_add (by omega) rfl (nm_r (nI_1 cnt) (nm_r (nI_1 j) (hy post hp N (by omega))))))
    · have hbit : ¬ ((x2 >>> (nI j &&& 31)) &&& 1) = 1 := by
        rw [lc_bit hj, if_neg (fun h => z ((hbt j (Nat.le_refl _) hj).mp h))]
        decide
      obtain ⟨r, u', v', R, hx, hy⟩ := ih (j + 1) (by omega) cnt se2 hE hB
        (fun q hq => by
          rcases hQ q hq with h | ⟨p, hp, ga, gb⟩
          · exact Or.inl h
          · refine Or.inr ⟨p, hp, ga, gb.elim Or.inl (fun h => Or.inr ⟨h.1, ?_⟩)⟩
            by_cases x : q = j
            · rw [x, h.1] at ga
              exact absurd ga z
            · omega)
        hSP
        (fun e a b => by
          obtain ⟨q, q1, q2⟩ := hev e a b
          exact ⟨q, by omega, q2⟩)
        (fun q a b => hbt q (by omega) b)
        (by omega) (hpos.elim Or.inl (fun ⟨q, a, b, h⟩ => Or.inr ⟨q, by
          by_cases x : q = j
          · subst x; exact absurd h z
          · omega, b, h⟩))
      refine ⟨r, u', v', R, fun post hp N hN => ?_, fun post hp N hN => ?_⟩
      · obtain ⟨N, rfl⟩ : ∃ k, N = k + 1 := ⟨N - 1, by omega⟩
        rw [wX_revoke_51]
        exact br_f h16 (br_f hbit (nm_r (nI_1 j) (hx post hp N (by omega))))
      · obtain ⟨N, rfl⟩ : ∃ k, N = k + 1 := ⟨N - 1, by omega⟩
        rw [wY_revoke_30]
        refine br_f h16 (s2 ?_)
        by_cases x : ve j = 0
        · rw [if_pos x]
          exact br_t rfl (nm_r (nI_1 j) (hy post hp N (by omega)))
        · rw [if_neg x]
          exact br_f (by decide) (br_f (by rw [e4]; exact z) (nm_r (nI_1 j) (hy post hp N (by omega))))
/-- a granted lease is revoked -/
theorem lr_rv {c l : Nat} (hc : c ≤ 60000) (hw : w + 1 ≤ 60000) (hF : lc_FF c n w (m + 1) nc ek ev ed er eb nw op ov pr va cr mo ve lo li ex ko bx ck cy cc cn ac ay av ad ba ep el cd ap gr tt) (hl : l < 4) (ln : ¬ li l = 0) :
    ∃ r u' v' w', w' ≤ w + 1 ∧ lc_RR c w' m t u' v' ∧ (∀ post : Int32 → SX → Prop, post r u' → wpX_revoke post ((nI n), (nI w), o, nI (m + 1), t, (nI nc), ek, ev, ed, er, eb, nw, op, ov, pr, va, cr, mo, ve, lo, li, ex, ko, bx, ck, cy, cc, cn, ac, ay, av, ad) (nI l)) ∧
      (∀ post : Int32 → SY → Prop, post r v' → wpY_revoke post (o, nI w, (nI n), (nI nc), t, ba, er, ek, ep, ev, el, se, cd, ay, ap, av, ac, gr, tt, ex) (nI l)) := by
  obtain ⟨hE, hB, hQ, hL, hC, hA⟩ := hF
  obtain ⟨hm, ⟨b, hS⟩, hG⟩ := hL
  have el' : (nI l).toNatClampNeg = l := nI_clamp (by omega)
  have wl : vp_in (nI l) 4 := vp_in_nI hl (by omega)
  have m4 := lc_pc_le li 4
  have gn : ¬ gr l = 0 := by
    rcases hG l hl with ⟨_, h⟩ | ⟨h, _⟩
    · exact absurd h ln
    · rw [h]; decide
  have pcd := lc_pc_d (pr := li) ln 4 hl
  obtain ⟨bx1, b1, k1, k2⟩ := lx_delist1 hl (by omega) hS ln
  have hL' : lc_LF m (upd li l 0) ex bx1 (upd gr l 0) tt := by
    refine ⟨by omega, ⟨b1, lc_LS_cg k1 (fun x hx => ?_) (fun _ _ _ => rfl)⟩, fun p hp => ?_⟩
    · by_cases z : x = l
      · subst z; rw [pk_us]; exact ⟨fun h => absurd rfl h.1, fun h => absurd rfl h⟩
      · rw [pk_un z]; exact ⟨fun h => h.2, fun h => ⟨z, h⟩⟩
    · by_cases z : p = l
      · subst z; rw [pk_us, pk_us]; exact Or.inl ⟨rfl, rfl⟩
      · rw [pk_un z, pk_un z]; exact hG p hp
  by_cases zs : ko l = 0
  · have hno := (lc_LB_0 hB hl).mp zs
    obtain ⟨se', y1⟩ := ly_rvN (l := l) (x2 := nI (w + 1)) hc (by omega) hE hno 16 0 se (by omega)
    have hF' : lc_FF c n w m nc ek ev ed er eb nw op ov pr va cr mo ve lo (upd li l 0) ex ko bx1 ck cy cc cn ac ay av ad ba ep el cd ap (upd gr l 0) tt := by
      refine ⟨hE, hB, fun q hq => ?_, hL', hC, hA⟩
      rcases hQ q hq with h | ⟨p, hp, h1, h2⟩
      · exact Or.inl h
      · refine Or.inr ⟨p, hp, h1, ?_⟩
        rw [pk_un (fun e => hno q hq (by rw [← e]; exact h1))]
        exact h2
    refine ⟨0, ((nI n), (nI w), o, (nI m), t, (nI nc), ek, ev, ed, er, eb, nw, op, ov, pr, va, cr, mo, ve, lo, upd li l 0, ex, ko, bx1, ck, cy, cc, cn, ac, ay, av, ad), (o, nI w, (nI n), (nI nc), t, ba, er, ek, ep, ev, el, se', cd, ay, ap, av, ac, upd gr l 0, tt, ex), w, by omega, lc_RRi hF', fun post hp => ?_, fun post hp => ?_⟩
    · unfold wpX_revoke
      exact lx_nl1 hl ln (br_t rfl (k2 ⟨wl, nm_r (e' := upd li l 0) (by rw [el']) ⟨wl, nm_r (e' := ko l) (by rw [el']) (br_t zs hp)⟩⟩))
    · unfold wpY_revoke
      exact ly_ig1 hl gn (br_f (by decide) ⟨wl, nm_r (e' := upd gr l 0) (by rw [el']; rfl) (nm_r (nI_1 w) ⟨17, y1 hp 17 (by omega)⟩)⟩)
  · have hex : ∃ q, q < 16 ∧ lo q = nI l := by
      apply Classical.byContradiction
      intro h
      exact zs ((lc_LB_0 hB hl).mpr (fun q hq e => h ⟨q, hq, e⟩))
    obtain ⟨r, u', v', R, hx, hy⟩ := lr_rvL (t := t) (o := o) (x2 := ko l) (g := n) (y := w) hc hw hl hL' hC hA 16 0 (by omega) 0 se (lc_EF_w hE (Nat.le_succ w)) hB
      (fun q hq => by
        rcases hQ q hq with h | ⟨p, hp, h1, h2⟩
        · exact Or.inl h
        · refine Or.inr ⟨p, hp, h1, ?_⟩
          by_cases z : p = l
          · exact Or.inr ⟨z, Nat.zero_le _⟩
          · rw [pk_un z]; exact Or.inl h2)
      (lc_SP_n hE.2.1 (by omega)) (fun e a b => by omega)
      (fun q _ hq => by
        rw [hB l hl q (by omega), decide_eq_true_eq]
        exact ⟨fun h => h.2, fun h => ⟨hq, h⟩⟩)
      (Nat.le_refl _) (Or.inr (by obtain ⟨q, a, b⟩ := hex; exact ⟨q, Nat.zero_le _, a, b⟩))
    refine ⟨r, u', v', w + 1, Nat.le_refl _, R, fun post hp => ?_, fun post hp => ?_⟩
    · unfold wpX_revoke
      exact lx_nl1 hl ln (br_t rfl (k2 ⟨wl, nm_r (e' := upd li l 0) (by rw [el']) ⟨wl, nm_r (e' := ko l) (by rw [el']) (br_f zs (nm_r (nI_1 w) ⟨17, hx post hp 17 (by omega)⟩))⟩⟩))
    · unfold wpY_revoke
      exact ly_ig1 hl gn (br_f (by decide) ⟨wl, nm_r (e' := upd gr l 0) (by rw [el']; rfl) (nm_r (nI_1 w) ⟨17, hy post hp 17 (by omega)⟩)⟩)
theorem lr_revoke {k : Nat} (hk : k + 5 ≤ 2560) (hw : w ≤ k) (hF : lc_FF (20 * k) n w m nc ek ev ed er eb nw op ov pr va cr mo ve lo li ex ko bx ck cy cc cn ac ay av ad ba ep el cd ap gr tt) (v1 : Int32) :
    ∃ r u' v', i_Rel (k + 5) u' v' ∧ (∀ post : Int32 → SX → Prop, post r u' → wpX_revoke post ((nI n), (nI w), o, (nI m), t, (nI nc), ek, ev, ed, er, eb, nw, op, ov, pr, va, cr, mo, ve, lo, li, ex, ko, bx, ck, cy, cc, cn, ac, ay, av, ad) v1) ∧
      (∀ post : Int32 → SY → Prop, post r v' → wpY_revoke post (o, nI w, (nI n), (nI nc), t, ba, er, ek, ep, ev, el, se, cd, ay, ap, av, ac, gr, tt, ex) v1) := by
  have hR := lc_fin (o := o) (t := t) (se := se) hF (by omega)
  rcases lc_lease v1 with hb | ⟨l, hl, rfl⟩
  · refine ⟨-3, _, _, hR, fun post hp => ?_, fun post hp => ?_⟩
    · unfold wpX_revoke
      exact lx_nlb hb (br_f (by decide) hp)
    · unfold wpY_revoke
      exact ly_igb hb (br_t rfl hp)
  · obtain ⟨hm, ⟨b, hS⟩, hG⟩ := hF.2.2.2.1
    rcases hG l hl with ⟨g0, i0⟩ | ⟨g1, i1, i2, i3⟩
    · refine ⟨-3, _, _, hR, fun post hp => ?_, fun post hp => ?_⟩
      · unfold wpX_revoke
        exact lx_nl0 hl i0 (br_f (by decide) hp)
      · unfold wpY_revoke
        exact ly_ig0 hl g0 (br_t rfl hp)
    · have ln : ¬ li l = 0 := fun e => by rw [e, lc_z0] at i1; omega
      have m1 : 0 < m := by
        obtain ⟨i, hi, _⟩ := hS.2.2 l hl ln
        omega
      obtain ⟨m, rfl⟩ : ∃ k, m = k + 1 := ⟨m - 1, by omega⟩
      obtain ⟨r, u', v', w', hw', R, hx, hy⟩ := lr_rv (t := t) (o := o) (se := se) (by omega) (by omega) hF hl ln
      exact ⟨r, u', v', lc_finR R (by omega), hx, hy⟩
end LE
end
section
/-! time passes -/
def lc_DU (t : Int32) (gr ex : Nat → Int32) (l : Nat) : Prop := ¬ gr l = 0 ∧ ¬ t < ex l
def lc_MI (t : Int32) (gr ex : Nat → Int32) (i : Nat) (x : Int32) : Prop :=
  (x = -1 ∧ ∀ l, l < i → ¬ lc_DU t gr ex l) ∨ (∃ p, p < i ∧ x = nI p ∧ lc_DU t gr ex p ∧ ∀ l, l < i → lc_DU t gr ex l → lc_sk ex p ≤ lc_sk ex l)
section PA
variable {n w y m nc : Nat} {o t : Int32} {ek ev ed er eb nw op ov pr va cr mo ve lo li ex ko bx ck cy cc cn ac ay av ad ba ep el se cd ap gr tt : Nat → Int32}
theorem ly_73z {post : Int32 → SY → Prop} {J : _} {K : Int32 → Int32 → Prop} {x2 x3 x4 : Int32} {i : Nat} (h : K x4 (nI (i + 1))) :
    wY_pass_73 post J K x2 x3 x4 (nI i) 0 o (nI y) (nI n) (nI nc) t ba er ek ep ev el se cd ay ap av ac gr tt ex := br_t rfl (nm_r (nI_1 i) h)
theorem ly_73n {post : Int32 → SY → Prop} {J : _} {K : Int32 → Int32 → Prop} {x2 x3 : Int32} {i : Nat} (h : K (nI i) (nI (i + 1))) :
    wY_pass_73 post J K x2 x3 (-1) (nI i) 1 o (nI y) (nI n) (nI nc) t ba er ek ep ev el se cd ay ap av ac gr tt ex := br_f (by decide) (br_t (by decide) (nm_r (nI_1 i) h))
theorem ly_73a {post : Int32 → SY → Prop} {J : _} {K : Int32 → Int32 → Prop} {x2 x3 : Int32} {i p : Nat} (hi : i < 4) (hp : p < 4) (hx : ex p ≤ ex i) (h : K (nI p) (nI (i + 1))) :
    wY_pass_73 post J K x2 x3 (nI p) (nI i) 1 o (nI y) (nI n) (nI nc) t ba er ek ep ev el se cd ay ap av ac gr tt ex := by
  have ei : (nI i).toNatClampNeg = i := nI_clamp (by omega)
  have ep' : (nI p).toNatClampNeg = p := nI_clamp (by omega)
  exact br_f (by decide) (br_f (nI_pos (by omega)) ⟨vp_in_nI hi (by omega), vp_in_nI hp (by omega), br_t (by rw [ei, ep']; exact hx) (nm_r (nI_1 i) h)⟩)
theorem ly_73b {post : Int32 → SY → Prop} {J : _} {K : Int32 → Int32 → Prop} {x2 x3 : Int32} {i p : Nat} (hi : i < 4) (hp : p < 4) (hx : ¬ ex p ≤ ex i) (h : K (nI i) (nI (i + 1))) :
    wY_pass_73 post J K x2 x3 (nI p) (nI i) 1 o (nI y) (nI n) (nI nc) t ba er ek ep ev el se cd ay ap av ac gr tt ex := by
  have ei : (nI i).toNatClampNeg = i := nI_clamp (by omega)
  have ep' : (nI p).toNatClampNeg = p := nI_clamp (by omega)
  exact br_f (by decide) (br_f (nI_pos (by omega)) ⟨vp_in_nI hi (by omega), vp_in_nI hp (by omega), br_f (by rw [ei, ep']; exact hx) (nm_r (nI_1 i) h)⟩)
theorem lc_MI_no {i : Nat} {x : Int32} (h : lc_MI t gr ex i x) (hd : ¬ lc_DU t gr ex i) : lc_MI t gr ex (i + 1) x := by
  rcases h with ⟨e, h⟩ | ⟨p, hp, e, h1, h2⟩
  · refine Or.inl ⟨e, fun l hl => ?_⟩
    by_cases z : l = i
    · subst z; exact hd
    · exact h l (by omega)
  · refine Or.inr ⟨p, by omega, e, h1, fun l hl hdl => ?_⟩
    by_cases z : l = i
    · subst z; exact absurd hdl hd
    · exact h2 l (by omega) hdl
theorem ly_scan {post : Int32 → SY → Prop} {J : _} {x2 x3 f : Int32} (hf : ∀ x, lc_MI t gr ex 4 x → x = f)
    (hend : ∀ N, wY_pass_38 post J x2 x3 o (nI y) (nI n) (nI nc) t ba er ek ep ev el se cd ay ap av ac gr tt ex (N + 1) f (nI 4)) :
    ∀ d i x4, i + d = 4 → lc_MI t gr ex i x4 → ∀ N, d < N → wY_pass_38 post J x2 x3 o (nI y) (nI n) (nI nc) t ba er ek ep ev el se cd ay ap av ac gr tt ex N x4 (nI i) := by
  intro d
  induction d with
  | zero =>
    intro i x4 h1 h2 N hN
    obtain ⟨N, rfl⟩ : ∃ k, N = k + 1 := ⟨N - 1, by omega⟩
    have e : i = 4 := by omega
    subst e
    rw [hf x4 h2]
    exact hend N
  | succ d ih =>
    intro i x4 h1 h2 N hN
    obtain ⟨N, rfl⟩ : ∃ k, N = k + 1 := ⟨N - 1, by omega⟩
    have ei : (nI i).toNatClampNeg = i := nI_clamp (by omega)
    have wi : vp_in (nI i) 4 := vp_in_nI (by omega) (by omega)
    have hge : ¬ (4 : Int32) ≤ nI i := nI_ge (b := 4) (by omega) (by decide)
    have nx : ∀ x, lc_MI t gr ex (i + 1) x → wY_pass_38 post J x2 x3 o (nI y) (nI n) (nI nc) t ba er ek ep ev el se cd ay ap av ac gr tt ex N x (nI (i + 1)) := fun x hx => ih (i + 1) x (by omega) hx N (by omega)
    rw [wY_pass_38]
    by_cases z : gr i = 0
    · refine br_f hge ⟨wi, br_t (by rw [ei]; exact z) ?_⟩
      unfold wY_pass_72
      exact ly_73z (nx x4 (lc_MI_no h2 (fun h => h.1 z)))
    · by_cases y' : t < ex i
      · refine br_f hge ⟨wi, br_f (by rw [ei]; exact z) ⟨wi, br_t (by rw [ei]; exact y') ?_⟩⟩
        unfold wY_pass_72
        exact ly_73z (nx x4 (lc_MI_no h2 (fun h => h.2 y')))
      · refine br_f hge ⟨wi, br_f (by rw [ei]; exact z) ⟨wi, br_f (by rw [ei]; exact y') ?_⟩⟩
        have hdu : lc_DU t gr ex i := ⟨z, y'⟩
        rcases h2 with ⟨rfl, h⟩ | ⟨p, hp, rfl, k1, k2⟩
        · refine ly_73n (nx _ (Or.inr ⟨i, by omega, rfl, hdu, fun l hl hd => ?_⟩))
          by_cases x : l = i
          · subst x; omega
          · exact absurd hd (h l (by omega))
        · by_cases x : ex p ≤ ex i
          · refine ly_73a (by omega) (by omega) x (nx _ (Or.inr ⟨p, by omega, rfl, k1, fun l hl hd => ?_⟩))
            by_cases v : l = i
            · subst v
              rw [Int32.le_iff_toInt_le] at x
              unfold lc_sk; omega
            · exact k2 l (by omega) hd
          · refine ly_73b (by omega) (by omega) x (nx _ (Or.inr ⟨i, by omega, rfl, hdu, fun l hl hd => ?_⟩))
            by_cases v : l = i
            · subst v; omega
            · have := k2 l (by omega) hd
              rw [Int32.le_iff_toInt_le] at x
              unfold lc_sk at this ⊢; omega
theorem ly_idle {post : Int32 → SY → Prop} {x2 : Int32} (hno : ∀ l, l < 4 → ¬ lc_DU t gr ex l) (h : post x2 (o, (nI y), (nI n), (nI nc), t, ba, er, ek, ep, ev, el, se, cd, ay, ap, av, ac, gr, tt, ex)) :
    ∀ d j, j + d = 4 → ∀ N, d < N → wY_pass_27 post N x2 (nI j) o (nI y) (nI n) (nI nc) t ba er ek ep ev el se cd ay ap av ac gr tt ex := by
  intro d
  induction d with
  | zero =>
    intro j h1 N hN
    obtain ⟨N, rfl⟩ : ∃ k, N = k + 1 := ⟨N - 1, by omega⟩
    have e : j = 4 := by omega
    subst e
    rw [wY_pass_27]
    exact br_t (by decide) h
  | succ d ih =>
    intro j h1 N hN
    obtain ⟨N, rfl⟩ : ∃ k, N = k + 1 := ⟨N - 1, by omega⟩
    rw [wY_pass_27]
    refine br_f (nI_ge (b := 4) (by omega) (by decide)) ⟨5, ?_⟩
    refine ly_scan (f := -1) (fun x hx => ?_) (fun N' => ?_) 4 0 (-1) (by omega) (Or.inl ⟨rfl, fun l hl => by omega⟩) 5 (by omega)
    · rcases hx with ⟨e, _⟩ | ⟨p, hp, _, hd, _⟩
      · exact e
      · exact absurd hd (hno p hp)
    · rw [wY_pass_38]
      exact br_t (by decide) (br_t (by decide) (nm_r (nI_1 j) (ih (j + 1) (by omega) N (by omega))))
theorem lr_psL {c : Nat} (hc : c ≤ 60000) :
    ∀ (m w ρ cnt : Nat) (o : Int32) (se : Nat → Int32) {n nc : Nat} {ek ev ed er eb nw op ov pr va cr mo ve lo li ex ko bx ck cy cc cn ac ay av ad ba ep el cd ap gr tt : Nat → Int32},
      lc_FF c n w m nc ek ev ed er eb nw op ov pr va cr mo ve lo li ex ko bx ck cy cc cn ac ay av ad ba ep el cd ap gr tt → m ≤ ρ → ρ ≤ 4 → w + m ≤ 60000 →
      ∃ r u' v' w' m', w' ≤ w + m ∧ lc_RR c w' m' t u' v' ∧ (∀ post : Int32 → SX → Prop, post r u' → ∀ N, m < N → wX_pass_25 post N (nI cnt) (nI n) (nI w) o (nI m) t (nI nc) ek ev ed er eb nw op ov pr va cr mo ve lo li ex ko bx ck cy cc cn ac ay av ad) ∧
        (∀ post : Int32 → SY → Prop, post r v' → ∀ N, ρ < N → wY_pass_27 post N (nI cnt) (nI (4 - ρ)) o (nI w) (nI n) (nI nc) t ba er ek ep ev el se cd ay ap av ac gr tt ex) := by
  intro m
  induction m with
  | zero =>
    intro w ρ cnt o se n nc ek ev ed er eb nw op ov pr va cr mo ve lo li ex ko bx ck cy cc cn ac ay av ad ba ep el cd ap gr tt hF h1 h2 h3
    obtain ⟨hm, ⟨b, hS⟩, hG⟩ := hF.2.2.2.1
    refine ⟨nI cnt, ((nI n), (nI w), o, nI 0, t, (nI nc), ek, ev, ed, er, eb, nw, op, ov, pr, va, cr, mo, ve, lo, li, ex, ko, bx, ck, cy, cc, cn, ac, ay, av, ad), (o, nI w, (nI n), (nI nc), t, ba, er, ek, ep, ev, el, se, cd, ay, ap, av, ac, gr, tt, ex), w, 0, by omega, lc_RRi hF, fun post hp N hN => ?_, fun post hp N hN => ?_⟩
    · obtain ⟨N, rfl⟩ : ∃ k, N = k + 1 := ⟨N - 1, by omega⟩
      rw [wX_pass_25]
      exact br_t (by decide) hp
    · refine ly_idle (fun l hl hd => ?_) hp ρ (4 - ρ) (by omega) N hN
      rcases hG l hl with ⟨g0, _⟩ | ⟨_, i1, _⟩
      · exact hd.1 g0
      · have ln : ¬ li l = 0 := fun e => by rw [e, lc_z0] at i1; omega
        obtain ⟨i, hi, _⟩ := hS.2.2 l hl ln
        omega
  | succ m ih =>
    intro w ρ cnt o se n nc ek ev ed er eb nw op ov pr va cr mo ve lo li ex ko bx ck cy cc cn ac ay av ad ba ep el cd ap gr tt hF h1 h2 h3
    obtain ⟨hm, ⟨b, hS⟩, hG⟩ := hF.2.2.2.1
    obtain ⟨hl, e0, ln⟩ := hS.1 0 (by omega)
    have el' : (nI (b 0)).toNatClampNeg = b 0 := nI_clamp (by omega)
    have wl : vp_in (bx 0) 4 := by rw [e0]; exact vp_in_nI hl (by omega)
    have hgr : ¬ nI (m + 1) ≤ 0 := nI_nle (by omega) (by have := lc_pc_le li 4; omega)
    have gli : ∀ l, l < 4 → ¬ gr l = 0 → ¬ li l = 0 := by
      intro l h4 hg
      rcases hG l h4 with ⟨g0, _⟩ | ⟨_, i1, _⟩
      · exact absurd g0 hg
      · exact fun e => by rw [e, lc_z0] at i1; omega
    have hmin : ∀ l, l < 4 → ¬ gr l = 0 → lc_sk ex (b 0) ≤ lc_sk ex l := by
      intro l h4 hg
      obtain ⟨i, hi, e⟩ := hS.2.2 l h4 (gli l h4 hg)
      by_cases z : i = 0
      · subst z; rw [e]; omega
      · have := hS.2.1 0 i (by omega) hi
        rw [e] at this; omega
    by_cases zt : t < ex (b 0)
    · refine ⟨nI cnt, ((nI n), (nI w), o, nI (m + 1), t, (nI nc), ek, ev, ed, er, eb, nw, op, ov, pr, va, cr, mo, ve, lo, li, ex, ko, bx, ck, cy, cc, cn, ac, ay, av, ad), (o, nI w, (nI n), (nI nc), t, ba, er, ek, ep, ev, el, se, cd, ay, ap, av, ac, gr, tt, ex), w, m + 1, by omega, lc_RRi hF, fun post hp N hN => ?_, fun post hp N hN => ?_⟩
      · obtain ⟨N, rfl⟩ : ∃ k, N = k + 1 := ⟨N - 1, by omega⟩
        rw [wX_pass_25]
        refine br_f hgr ⟨wl, br_t ?_ hp⟩
        rw [e0, el']; exact zt
      · refine ly_idle (fun l h4 hd => hd.2 ?_) hp ρ (4 - ρ) (by omega) N hN
        have := hmin l h4 hd.1
        unfold lc_sk at this
        rw [Int32.lt_iff_toInt_lt] at zt ⊢
        omega
    · have gn : ¬ gr (b 0) = 0 := by
        rcases hG (b 0) hl with ⟨_, h⟩ | ⟨h, _⟩
        · exact absurd h ln
        · rw [h]; decide
      obtain ⟨r1, u1, v1, w1, hw1, R, hx, hy⟩ := lr_rv (t := t) (o := o) (se := se) hc (by omega) hF hl ln
      have hfin : ∀ x, lc_MI t gr ex 4 x → x = nI (b 0) := by
        intro x hx
        rcases hx with ⟨_, h⟩ | ⟨p, hp, e, h5, h6⟩
        · exact absurd ⟨gn, zt⟩ (h (b 0) hl)
        · have a1 := h6 (b 0) hl ⟨gn, zt⟩
          have a2 := hmin p hp h5.1
          have : p = b 0 := lc_sk_inj (ex := ex) hp hl (by omega)
          rw [e, this]
      have e38 : ∃ k, ρ = k + 1 := ⟨ρ - 1, by omega⟩
      obtain ⟨ρ, rfl⟩ := e38
      refine R (fun u1 v1 => (∀ post : Int32 → SX → Prop, post r1 u1 → wpX_revoke post ((nI n), (nI w), o, nI (m + 1), t, (nI nc), ek, ev, ed, er, eb, nw, op, ov, pr, va, cr, mo, ve, lo, li, ex, ko, bx, ck, cy, cc, cn, ac, ay, av, ad) (nI (b 0))) → (∀ post : Int32 → SY → Prop, post r1 v1 → wpY_revoke post (o, nI w, (nI n), (nI nc), t, ba, er, ek, ep, ev, el, se, cd, ay, ap, av, ac, gr, tt, ex) (nI (b 0))) → _) ?_ hx hy
      intro n1 nc1 o1 ek1 ev1 ed1 er1 eb1 nw1 op1 ov1 pr1 va1 cr1 mo1 ve1 lo1 li1 ex1 ko1 bx1 ck1 cy1 cc1 cn1 ac1 ay1 av1 ad1 ba1 ep1 el1 se1 cd1 ap1 gr1 tt1 hF1 hx hy
      obtain ⟨r, u', v', w', m', k1, k2, k3, k4⟩ := ih w1 ρ (cnt + 1) o1 se1 hF1 (by omega) (by omega) (by omega)
      refine ⟨r, u', v', w', m', by omega, k2, fun post hp N hN => ?_, fun post hp N hN => ?_⟩
      · obtain ⟨N, rfl⟩ : ∃ k, N = k + 1 := ⟨N - 1, by omega⟩
        rw [wX_pass_25]
        refine br_f hgr ⟨wl, ?_⟩
        rw [e0]
        exact br_f (by rw [el']; exact zt) (hx _ (nm_r (nI_1 cnt) (k3 post hp N (by omega))))
      · obtain ⟨N, rfl⟩ : ∃ k, N = k + 1 := ⟨N - 1, by omega⟩
        rw [wY_pass_27]
        refine br_f (nI_ge (b := 4) (by omega) (by decide)) ⟨5, ?_⟩
        refine ly_scan (f := nI (b 0)) hfin (fun N' => ?_) 4 0 (-1) (by omega) (Or.inl ⟨rfl, fun l hl => by omega⟩) 5 (by omega)
        rw [wY_pass_38]
        have e9 : nI (4 - (ρ + 1)) + 1 = nI (4 - ρ) := by
          rw [nI_1, show 4 - (ρ + 1) + 1 = 4 - ρ from by omega]
        exact br_t (by decide) (br_f (nI_pos (by omega)) (hy _ (nm_r (nI_1 cnt) (nm_r e9 (k4 post hp N (by omega))))))
theorem lr_pass {k : Nat} (hk : k + 5 ≤ 2560) (hw : w ≤ k) (hF : lc_FF (20 * k) n w m nc ek ev ed er eb nw op ov pr va cr mo ve lo li ex ko bx ck cy cc cn ac ay av ad ba ep el cd ap gr tt) (v1 : Int32) :
    ∃ r u' v', i_Rel (k + 5) u' v' ∧ (∀ post : Int32 → SX → Prop, post r u' → wpX_pass post ((nI n), (nI w), o, (nI m), t, (nI nc), ek, ev, ed, er, eb, nw, op, ov, pr, va, cr, mo, ve, lo, li, ex, ko, bx, ck, cy, cc, cn, ac, ay, av, ad) v1) ∧
      (∀ post : Int32 → SY → Prop, post r v' → wpY_pass post (o, nI w, (nI n), (nI nc), t, ba, er, ek, ep, ev, el, se, cd, ay, ap, av, ac, gr, tt, ex) v1) := by
  have hR := lc_fin (o := o) (t := t) (se := se) hF (by omega)
  by_cases z1 : v1 < 0
  · exact ⟨-8, _, _, hR, fun post hp => br_t z1 hp, fun post hp => br_t z1 hp⟩
  · by_cases z2 : v1 ≤ 100
    · have m4 : m ≤ 4 := by rw [hF.2.2.2.1.1]; exact lc_pc_le li 4
      obtain ⟨r, u', v', w', m', k1, k2, k3, k4⟩ := lr_psL (t := t + v1) (by omega) m w 4 0 o se hF m4 (Nat.le_refl _) (by omega)
      refine ⟨r, u', v', lc_finR k2 (by omega), fun post hp => ?_, fun post hp => ?_⟩
      · exact br_f z1 (br_t z2 (nm_e ⟨m + 1, k3 post hp (m + 1) (by omega)⟩))
      · exact br_f z1 (br_t z2 (nm_e ⟨5, k4 post hp 5 (by omega)⟩))
    · exact ⟨-8, _, _, hR, fun post hp => br_f z1 (br_f z2 hp), fun post hp => br_f z1 (br_f z2 hp)⟩
end PA
end
section
/-! compaction -/
def lc_sf (g d : Nat) (f : Nat → Int32) : Nat → Int32 := fun j => if j < d then f (g + j) else f j
def lc_sc (g d : Nat) (f : Nat → Int32) : Nat → Int32 := fun j => if j < d then lc_cut g (f (g + j)) else f j
def lc_cn (g k : Nat) (f : Nat → Int32) : Nat → Int32 := fun j => if j < k then lc_cut g (f j) else f j
theorem lc_sf0 {g : Nat} {f : Nat → Int32} : lc_sf g 0 f = f := funext fun j => if_neg (Nat.not_lt_zero j)
theorem lc_sc0 {g : Nat} {f : Nat → Int32} : lc_sc g 0 f = f := funext fun j => if_neg (Nat.not_lt_zero j)
theorem lc_cn0 {g : Nat} {f : Nat → Int32} : lc_cn g 0 f = f := funext fun j => if_neg (Nat.not_lt_zero j)
theorem lc_sf_at {g d : Nat} {f : Nat → Int32} : lc_sf g d f (g + d) = f (g + d) := if_neg (by omega)
theorem lc_sc_at {g d : Nat} {f : Nat → Int32} : lc_sc g d f (g + d) = f (g + d) := if_neg (by omega)
theorem lc_cn_at {g k : Nat} {f : Nat → Int32} : lc_cn g k f k = f k := if_neg (by omega)
theorem lc_sf_s {g d : Nat} {f : Nat → Int32} : upd (lc_sf g d f) d (f (g + d)) = lc_sf g (d + 1) f := by
  funext j
  by_cases z : j = d
  · subst z
    rw [pk_us]
    exact (if_pos (by omega)).symm
  · rw [pk_un z]
    unfold lc_sf
    by_cases y : j < d
    · rw [if_pos y, if_pos (by omega)]
    · rw [if_neg y, if_neg (by omega)]
theorem lc_sc_s {g d : Nat} {f : Nat → Int32} : upd (lc_sc g d f) d (lc_cut g (f (g + d))) = lc_sc g (d + 1) f := by
  funext j
  by_cases z : j = d
  · subst z
    rw [pk_us]
    exact (if_pos (by omega)).symm
  · rw [pk_un z]
    unfold lc_sc
    by_cases y : j < d
    · rw [if_pos y, if_pos (by omega)]
    · rw [if_neg y, if_neg (by omega)]
theorem lc_cn_s {g k : Nat} {f : Nat → Int32} : upd (lc_cn g k f) k (lc_cut g (f k)) = lc_cn g (k + 1) f := by
  funext j
  by_cases z : j = k
  · subst z
    rw [pk_us]
    exact (if_pos (by omega)).symm
  · rw [pk_un z]
    unfold lc_cn
    by_cases y : j < k
    · rw [if_pos y, if_pos (by omega)]
    · rw [if_neg y, if_neg (by omega)]
/-- what the old marks say of the first i events -/
def lc_OP (i : Nat) (ek er ep ev el ba op ov : Nat → Int32) : Prop := ∀ q, q < 16 →
  (op q = 0 ∧ (lc_lf ek er ep ev el ba q i).2.1 = 0 ∧ (lc_lf ek er ep ev el ba q i).1 = 0) ∨
  (op q = 1 ∧ 0 < (lc_lf ek er ep ev el ba q i).2.1.toInt ∧ (lc_lf ek er ep ev el ba q i).1 = ov q)
section CP
variable {n w y m nc : Nat} {o t : Int32} {ek ev ed er eb nw op ov pr va cr mo ve lo li ex ko bx ck cy cc cn ac ay av ad ba ep el se cd ap gr tt : Nat → Int32}
theorem lc_OP0 {c : Nat} (h : lc_OL c ba op ov) : lc_OP 0 ek er ep ev el ba op ov := fun q hq => (h q hq).2
theorem lc_OPs {c i q : Nat} {op1 ov1 : Nat → Int32} {z : Int32} (hc : c ≤ 60000) (h7 : lc_OL c ba op ov) (h : lc_OP i ek er ep ev el ba op1 ov1) (hi : i < 96) (hq : q < 16) (eq : ek i = nI q)
    (hz : (z = 1 ∧ ep i = 1) ∨ (z = 0 ∧ ep i = 0)) : lc_OP (i + 1) ek er ep ev el ba (upd op1 q z) (upd ov1 q (ev i)) := by
  intro x hx
  by_cases e : x = q
  · subst e
    rw [pk_us, pk_us, lc_lf_t eq]
    have hv := lc_OLv (ek := ek) (er := er) (ep := ep) (ev := ev) (el := el) h7 hq (m := i) (by omega) hc
    rcases hz with ⟨z1, e1⟩ | ⟨z1, e1⟩
    · refine Or.inr ⟨z1, ?_, ?_⟩
      · rw [lc_ap_p (by rw [e1]; decide)]
        show 0 < ((lc_lf ek er ep ev el ba x i).2.1 + 1).toInt
        rw [lc_p1 hv.1 hv.2 (by omega)]; omega
      · rw [lc_ap_p (by rw [e1]; decide)]
    · refine Or.inl ⟨z1, ?_, ?_⟩
      · rw [lc_ap_d e1]
      · rw [lc_ap_d e1]
  · rw [pk_un e, pk_un e, lc_lf_f (by rw [eq]; exact lc_qne hq hx e)]
    exact h x hx
theorem lx_c58 {post : Int32 → SX → Prop} {J : _} {x1 x2 z0 : Int32} {i q : Nat} (hi : i < 96) (hq : q < 16) (eq : ek i = nI q) (hz : vp_nar .boolean z0 = z0)
    (h : J (nI (i + 1)) ek ev ed er eb nw (upd op q z0) (upd ov q (ev i)) pr va cr mo ve lo li ex ko bx ck cy cc cn ac ay av ad) : wX_compact_58 post J x1 x2 (nI i) z0 (nI q) (nI n) (nI w) o (nI m) t (nI nc) ek ev ed er eb nw op ov pr va cr mo ve lo li ex ko bx ck cy cc cn ac ay av ad := by
  have ei : (nI i).toNatClampNeg = i := nI_clamp (by omega)
  have cq : (nI q).toNatClampNeg = q := nI_clamp (by omega)
  have wi : vp_in (nI i) 96 := vp_in_nI hi (by omega)
  have wq : vp_in (nI q) 16 := vp_in_nI hq (by omega)
  have e1 : ek (nI i).toNatClampNeg = nI q := by rw [ei]; exact eq
  exact ⟨wq, nm_r (e' := upd op q z0) (by rw [cq, hz]) ⟨wi, wi, by rw [e1]; exact wq, nm_r (e' := upd ov q (ev i)) (by rw [e1, cq, ei]) (nm_r (nI_1 i) h)⟩⟩
theorem lx_c29 {c g : Nat} {x1 : Int32} (hc : c ≤ 60000) (hg : g ≤ n) (hn : n ≤ 96) (h7 : lc_OL c ba op ov) (hK : lc_KR n ek ed ep) :
    ∀ d i op1 ov1, i + d = g → lc_OP i ek er ep ev el ba op1 ov1 → ∃ op' ov', lc_OP g ek er ep ev el ba op' ov' ∧
      ∀ {w m nc : Nat} {o t : Int32} {eb nw pr va cr mo ve lo li ex ko bx ck cy cc cn ac ay av ad : Nat → Int32} {post : Int32 → SX → Prop}, (∃ N, wX_compact_84 post x1 (nI g) N (nI g) (nI n) (nI w) o (nI m) t (nI nc) ek ev ed er eb nw op' ov' pr va cr mo ve lo li ex ko bx ck cy cc cn ac ay av ad) → ∀ N, d < N → wX_compact_29 post x1 (nI g) (nI n) (nI w) o (nI m) t (nI nc) N (nI i) ek ev ed er eb nw op1 ov1 pr va cr mo ve lo li ex ko bx ck cy cc cn ac ay av ad := by
  intro d
  induction d with
  | zero =>
    intro i op1 ov1 h1 h2
    have e : i = g := by omega
    subst e
    refine ⟨op1, ov1, h2, ?_⟩
    intros
    rename_i hp N hN
    obtain ⟨N, rfl⟩ : ∃ k, N = k + 1 := ⟨N - 1, by omega⟩
    rw [wX_compact_29]
    exact br_t (nI_le (Nat.le_refl _) (by omega)) hp
  | succ d ih =>
    intro i op1 ov1 h1 h2
    have ei : (nI i).toNatClampNeg = i := nI_clamp (by omega)
    have wi : vp_in (nI i) 96 := vp_in_nI (by omega) (by omega)
    obtain ⟨⟨q, hq, eq⟩, hfl⟩ := hK i (by omega)
    have e1 : ek (nI i).toNatClampNeg = nI q := by rw [ei]; exact eq
    rcases hfl with ⟨f1, f2⟩ | ⟨f1, f2⟩
    · obtain ⟨op', ov', k1, k2⟩ := ih (i + 1) _ _ (by omega) (lc_OPs (z := 1) hc h7 h2 (by omega) hq eq (Or.inl ⟨rfl, f2⟩))
      refine ⟨op', ov', k1, ?_⟩
      intros
      rename_i hp N hN
      obtain ⟨N, rfl⟩ : ∃ k, N = k + 1 := ⟨N - 1, by omega⟩
      rw [wX_compact_29]
      refine br_f (nI_ge (by omega) (by omega)) ⟨wi, wi, br_t (by rw [ei]; exact f1) ?_⟩
      rw [e1]
      exact lx_c58 (by omega) hq eq rfl (k2 hp N (by omega))
    · obtain ⟨op', ov', k1, k2⟩ := ih (i + 1) _ _ (by omega) (lc_OPs (z := 0) hc h7 h2 (by omega) hq eq (Or.inr ⟨rfl, f2⟩))
      refine ⟨op', ov', k1, ?_⟩
      intros
      rename_i hp N hN
      obtain ⟨N, rfl⟩ : ∃ k, N = k + 1 := ⟨N - 1, by omega⟩
      rw [wX_compact_29]
      refine br_f (nI_ge (by omega) (by omega)) ⟨wi, wi, br_f (by rw [ei, f1]; decide) ?_⟩
      rw [e1]
      exact lx_c58 (by omega) hq eq rfl (k2 hp N (by omega))
theorem lx_c119 {post : Int32 → SX → Prop} {x1 : Int32} {g : Nat} (h : post (nI n) ((nI n), (nI w), x1, (nI m), t, (nI nc), ek, ev, ed, er, eb, lc_cn g 16 nw, op, ov, pr, va, cr, mo, ve, lo, li, ex, ko, bx, ck, cy, cc, cn, ac, ay, av, ad)) :
    ∀ d k, k + d = 16 → ∀ N, d < N → wX_compact_119 post x1 (nI g) (nI n) (nI w) o (nI m) t (nI nc) N (nI k) ek ev ed er eb (lc_cn g k nw) op ov pr va cr mo ve lo li ex ko bx ck cy cc cn ac ay av ad := by
  intro d
  induction d with
  | zero =>
    intro k h1 N hN
    obtain ⟨N, rfl⟩ : ∃ k, N = k + 1 := ⟨N - 1, by omega⟩
    have e : k = 16 := by omega
    subst e
    rw [wX_compact_119]
    exact br_t (by decide) h
  | succ d ih =>
    intro k h1 N hN
    obtain ⟨N, rfl⟩ : ∃ k, N = k + 1 := ⟨N - 1, by omega⟩
    have ek' : (nI k).toNatClampNeg = k := nI_clamp (by omega)
    have wk : vp_in (nI k) 16 := vp_in_nI (by omega) (by omega)
    have nx := ih (k + 1) (by omega) N (by omega)
    rw [wX_compact_119]
    refine br_f (nI_ge (b := 16) (by omega) (by decide)) ⟨wk, ?_⟩
    rw [ek', lc_cn_at]
    by_cases z : nI g ≤ nw k
    · exact br_t z ⟨wk, wk, nm_r (e' := lc_cn g (k + 1) nw) (by rw [← lc_cn_s, lc_cut, if_pos z]) (nm_r (nI_1 k) nx)⟩
    · exact br_f z ⟨wk, nm_r (e' := lc_cn g (k + 1) nw) (by rw [← lc_cn_s, lc_cut, if_neg z]) (nm_r (nI_1 k) nx)⟩
theorem lx_c84 {post : Int32 → SX → Prop} {x1 : Int32} {g : Nat} (hg : g ≤ n) (hn : n ≤ 96) (hK : lc_KR n ek ed ep)
    (h : ∃ N, wX_compact_119 post x1 (nI g) (nI (n - g)) (nI w) o (nI m) t (nI nc) N 0 (lc_sf g (n - g) ek) (lc_sf g (n - g) ev) (lc_sf g (n - g) ed) (lc_sf g (n - g) er) (lc_sc g (n - g) eb) nw op ov pr va cr mo ve lo li ex ko bx ck cy cc cn ac ay av ad) :
    ∀ e d, d + e = n - g → ∀ N, e < N → wX_compact_84 post x1 (nI g) N (nI (g + d)) (nI n) (nI w) o (nI m) t (nI nc) (lc_sf g d ek) (lc_sf g d ev) (lc_sf g d ed) (lc_sf g d er) (lc_sc g d eb) nw op ov pr va cr mo ve lo li ex ko bx ck cy cc cn ac ay av ad := by
  intro e
  induction e with
  | zero =>
    intro d h1 N hN
    obtain ⟨N, rfl⟩ : ∃ k, N = k + 1 := ⟨N - 1, by omega⟩
    have e : d = n - g := by omega
    subst e
    rw [wX_compact_84]
    exact br_t (nI_le (by omega) (by omega)) (nm_r (pk_sub hg) h)
  | succ e ih =>
    intro d h1 N hN
    obtain ⟨N, rfl⟩ : ∃ k, N = k + 1 := ⟨N - 1, by omega⟩
    have nx := ih (d + 1) (by omega) N (by omega)
    have e1 : nI (g + d) - nI g = nI (g + d - g) := pk_sub (by omega)
    have e2 : g + d - g = d := by omega
    rw [wX_compact_84]
    refine br_f (nI_ge (by omega) (by omega)) ?_
    rw [e1]
    refine lx_mv (by omega) (by omega) ?_ ?_
    · rw [lc_sf_at]
      rcases (hK (g + d) (by omega)).2 with ⟨f, _⟩ | ⟨f, _⟩
      · rw [f]; rfl
      · rw [f]; rfl
    · rw [lc_sf_at, lc_sf_at, lc_sf_at, lc_sf_at, lc_sc_at, e2, lc_sf_s, lc_sf_s, lc_sf_s, lc_sf_s, lc_sc_s]
      exact nm_r (nI_1 (g + d)) nx
theorem ly_c35 {post : Int32 → SY → Prop} {J : _} {x1 : Int32} {k : Nat} (hk : k < 16) :
    ∀ e f ba1, f + e = 5 → ∃ ba' : Nat → Int32, (∀ x, f ≤ x → x < 5 → ba' (k * 5 + x) = se x) ∧ (∀ j, (j < k * 5 + f ∨ k * 5 + 5 ≤ j) → ba' j = ba1 j) ∧
      ∀ {n y nc : Nat} {o t : Int32} {er ek ep ev el cd ay ap av ac gr tt ex : Nat → Int32} , J (nI (k + 1)) o (nI y) (nI n) (nI nc) t ba' er ek ep ev el se cd ay ap av ac gr tt ex → ∀ N, e < N → wY_compact_35 post J x1 (nI k) o (nI y) (nI n) (nI nc) t N (nI f) ba1 er ek ep ev el se cd ay ap av ac gr tt ex := by
  intro e
  induction e with
  | zero =>
    intro f ba1 h1
    have e : f = 5 := by omega
    subst e
    refine ⟨ba1, fun x a b => by omega, fun j _ => rfl, ?_⟩
    intros
    rename_i hp N hN
    obtain ⟨N, rfl⟩ : ∃ k, N = k + 1 := ⟨N - 1, by omega⟩
    rw [wY_compact_35]
    exact br_t (by decide) (nm_r (nI_1 k) hp)
  | succ e ih =>
    intro f ba1 h1
    have ef : (nI f).toNatClampNeg = f := nI_clamp (by omega)
    have e5 : nI k * 5 + nI f = nI (k * 5 + f) := by
      rw [← nI_add, ← pk_mul]; rfl
    have e6 : (nI (k * 5 + f)).toNatClampNeg = k * 5 + f := nI_clamp (by omega)
    obtain ⟨ba', k1, k2, k3⟩ := ih (f + 1) (upd ba1 (k * 5 + f) (se f)) (by omega)
    refine ⟨ba', fun x a b => ?_, fun j hj => ?_, ?_⟩
    · by_cases z : x = f
      · subst z
        rw [k2 (k * 5 + x) (Or.inl (by omega)), pk_us]
      · exact k1 x (by omega) b
    · rw [k2 j (by omega), pk_un (by omega)]
    · intros
      rename_i hp N hN
      obtain ⟨N, rfl⟩ : ∃ k, N = k + 1 := ⟨N - 1, by omega⟩
      rw [wY_compact_35]
      exact br_f (nI_ge (b := 5) (by omega) (by decide)) ⟨vp_in_nI (by omega) (by omega), by rw [e5]; exact vp_in_nI (by omega) (by omega), nm_r (e' := upd ba1 (k * 5 + f) (se f)) (by rw [e5, e6, ef]) (nm_r (nI_1 f) (k3 hp N (by omega)))⟩
theorem lc_bs_cg {ba' : Nat → Int32} {q : Nat} (h : ∀ x, x < 5 → ba' (q * 5 + x) = ba (q * 5 + x)) : lc_bs ba' q = lc_bs ba q := by
  unfold lc_bs
  have h0 := h 0 (by omega)
  rw [Nat.add_zero] at h0
  rw [h0, h 1 (by omega), h 2 (by omega), h 3 (by omega), h 4 (by omega)]
theorem lc_bs_sn {ba' : Nat → Int32} {q : Nat} (h : ∀ x, x < 5 → ba' (q * 5 + x) = se x) : lc_bs ba' q = lc_sn se := by
  unfold lc_bs lc_sn
  have h0 := h 0 (by omega)
  rw [Nat.add_zero] at h0
  rw [h0, h 1 (by omega), h 2 (by omega), h 3 (by omega), h 4 (by omega)]
theorem ly_c21 {x1 : Int32} {g : Nat} (hn : n ≤ 96) (hs : lc_SP g n x1 er) :
    ∀ e k ba1 (se1 : Nat → Int32), k + e = 16 → (∀ q, q < k → lc_bs ba1 q = lc_lf ek er ep ev el ba q g) → (∀ j, k * 5 ≤ j → ba1 j = ba j) →
      ∃ (ba' : Nat → Int32) (se' : Nat → Int32), (∀ q, q < 16 → lc_bs ba' q = lc_lf ek er ep ev el ba q g) ∧
      ∀ {y nc : Nat} {o t : Int32} {cd ay ap av ac gr tt ex : Nat → Int32} {post : Int32 → SY → Prop}, (∃ N, wY_compact_72 post x1 o (nI y) (nI n) (nI nc) t N 0 0 ba' er ek ep ev el se' cd ay ap av ac gr tt ex) → ∀ N, e < N → wY_compact_21 post x1 N (nI k) o (nI y) (nI n) (nI nc) t ba1 er ek ep ev el se1 cd ay ap av ac gr tt ex := by
  intro e
  induction e with
  | zero =>
    intro k ba1 se1 h1 h2 h3
    have e : k = 16 := by omega
    subst e
    refine ⟨ba1, se1, h2, ?_⟩
    intros
    rename_i hp N hN
    obtain ⟨N, rfl⟩ : ∃ k, N = k + 1 := ⟨N - 1, by omega⟩
    rw [wY_compact_21]
    exact br_t (by decide) hp
  | succ e ih =>
    intro k ba1 se1 h1 h2 h3
    have hk : k < 16 := by omega
    obtain ⟨se2, s1, s2⟩ := ly_look ek ep ev el ba1 se1 hk hn hs
    rw [lc_lf_cg (ba := ba) (ek := ek) (er := er) (ep := ep) (ev := ev) (el := el) (lc_bs_cg (fun x hx => h3 _ (by omega))) (fun i hi => ⟨rfl, rfl, rfl, rfl, rfl⟩)] at s1
    have h35 := fun (post : Int32 → SY → Prop) (N0 : Nat) => ly_c35 (se := se2) (post := post) (J := wY_compact_21 post x1 N0) (x1 := x1) hk 5 0 ba1 rfl
    obtain ⟨ba2, b1, b2, _⟩ := h35 (fun _ _ => True) 0
    have huq : ∀ ba3 : Nat → Int32, (∀ x, 0 ≤ x → x < 5 → ba3 (k * 5 + x) = se2 x) → (∀ j, (j < k * 5 + 0 ∨ k * 5 + 5 ≤ j) → ba3 j = ba1 j) → ba3 = ba2 := by
      intro ba3 c1 c2
      funext j
      by_cases z : j < k * 5 + 0 ∨ k * 5 + 5 ≤ j
      · rw [c2 j z, b2 j z]
      · obtain ⟨x, rfl⟩ : ∃ x, j = k * 5 + x := ⟨j - k * 5, by omega⟩
        rw [c1 x (by omega) (by omega), b1 x (by omega) (by omega)]
    obtain ⟨ba', se', k1, k2⟩ := ih (k + 1) ba2 se2 (by omega)
      (fun q hq => by
        by_cases z : q = k
        · subst z
          rw [lc_bs_sn (se := se2) (fun x hx => b1 x (by omega) hx)]
          exact s1
        · rw [lc_bs_cg (ba := ba1) (fun x hx => b2 _ (Or.inl (by omega)))]
          exact h2 q (by omega))
      (fun j hj => by rw [b2 j (Or.inr (by omega))]; exact h3 j (by omega))
    refine ⟨ba', se', k1, ?_⟩
    intros
    rename_i post hp N hN
    obtain ⟨N, rfl⟩ : ∃ k, N = k + 1 := ⟨N - 1, by omega⟩
    obtain ⟨ba3, c1, c2, c3⟩ := h35 post N
    rw [huq ba3 c1 c2] at c3
    rw [wY_compact_21]
    exact br_f (nI_ge (b := 16) hk (by decide)) (s2 ⟨6, c3 (k2 hp N (by omega)) 6 (by omega)⟩)
theorem ly_c72 {post : Int32 → SY → Prop} {x1 : Int32} {g : Nat} (hg : g ≤ n) (hn : n ≤ 96) (hs : lc_SP g n x1 er) (hK : lc_KR n ek ed ep)
    (h : post (nI (n - g)) (x1, (nI y), nI (n - g), (nI nc), t, ba, lc_sf g (n - g) er, lc_sf g (n - g) ek, lc_sf g (n - g) ep, lc_sf g (n - g) ev, lc_sf g (n - g) el, se, cd, ay, ap, av, ac, gr, tt, ex)) :
    ∀ e d, d + e = n - g → ∀ N, e < N → wY_compact_72 post x1 o (nI y) (nI n) (nI nc) t N (nI d) (nI (g + d)) ba (lc_sf g d er) (lc_sf g d ek) (lc_sf g d ep) (lc_sf g d ev) (lc_sf g d el) se cd ay ap av ac gr tt ex := by
  intro e
  induction e with
  | zero =>
    intro d h1 N hN
    obtain ⟨N, rfl⟩ : ∃ k, N = k + 1 := ⟨N - 1, by omega⟩
    have e : d = n - g := by omega
    subst e
    rw [wY_compact_72]
    exact br_t (nI_le (by omega) (by omega)) h
  | succ e ih =>
    intro d h1 N hN
    obtain ⟨N, rfl⟩ : ∃ k, N = k + 1 := ⟨N - 1, by omega⟩
    have nx := ih (d + 1) (by omega) N (by omega)
    have ed' : (nI d).toNatClampNeg = d := nI_clamp (by omega)
    have eg : (nI (g + d)).toNatClampNeg = g + d := nI_clamp (by omega)
    have wd : vp_in (nI d) 96 := vp_in_nI (by omega) (by omega)
    have wg : vp_in (nI (g + d)) 96 := vp_in_nI (by omega) (by omega)
    have hp : vp_nar .boolean (ep (g + d)) = ep (g + d) := by
      rcases (hK (g + d) (by omega)).2 with ⟨_, f⟩ | ⟨_, f⟩
      · rw [f]; rfl
      · rw [f]; rfl
    have hr : ¬ lc_sf g d er (nI (g + d)).toNatClampNeg ≤ x1 := by
      rw [eg, lc_sf_at]; exact Int32.not_le.mpr (hs.2.2 (g + d) (by omega) (by omega))
    rw [wY_compact_72]
    exact br_f (nI_ge (by omega) (by omega)) ⟨wg, br_f hr ⟨wg, wd, nm_r (e' := lc_sf g (d + 1) er) (by rw [ed', eg, lc_sf_at, lc_sf_s]) ⟨wg, wd, nm_r (e' := lc_sf g (d + 1) ek) (by rw [ed', eg, lc_sf_at, lc_sf_s]) ⟨wg, wd, nm_r (e' := lc_sf g (d + 1) ep) (by rw [ed', eg, lc_sf_at, hp, lc_sf_s]) ⟨wg, wd, nm_r (e' := lc_sf g (d + 1) ev) (by rw [ed', eg, lc_sf_at, lc_sf_s]) ⟨wg, wd, nm_r (e' := lc_sf g (d + 1) el) (by rw [ed', eg, lc_sf_at, lc_sf_s]) (nm_r (nI_1 d) (nm_r (nI_1 (g + d)) nx))⟩⟩⟩⟩⟩⟩
theorem ly_c72s {post : Int32 → SY → Prop} {x1 : Int32} {g : Nat} (hg : g ≤ n) (hn : n ≤ 96) (hs : lc_SP g n x1 er)
    (h : ∀ N, n - g < N → wY_compact_72 post x1 o (nI y) (nI n) (nI nc) t N 0 (nI g) ba er ek ep ev el se cd ay ap av ac gr tt ex) :
    ∀ e i, i + e = g → ∀ N, n - i < N → wY_compact_72 post x1 o (nI y) (nI n) (nI nc) t N 0 (nI i) ba er ek ep ev el se cd ay ap av ac gr tt ex := by
  intro e
  induction e with
  | zero =>
    intro i h1
    have e : i = g := by omega
    subst e
    exact h
  | succ e ih =>
    intro i h1 N hN
    obtain ⟨N, rfl⟩ : ∃ k, N = k + 1 := ⟨N - 1, by omega⟩
    have ei : (nI i).toNatClampNeg = i := nI_clamp (by omega)
    have wi : vp_in (nI i) 96 := vp_in_nI (by omega) (by omega)
    rw [wY_compact_72]
    exact br_f (nI_ge (by omega) (by omega)) ⟨wi, br_t (by rw [ei]; exact Int32.not_lt.mp (hs.2.1 i (by omega))) (nm_r (nI_1 i) (ih (i + 1) (by omega) N (by omega)))⟩
theorem lc_cut_la {g j : Nat} {x : Int32} {ek' : Nat → Int32} (hj : g + j < 2 ^ 31) (h : ∀ i, i < j → ek' i = ek (g + i)) : lc_cut g (lc_la ek x (g + j)) = lc_la ek' x j := by
  obtain ⟨a, b⟩ := lc_la_sh (x := x) j hj h
  unfold lc_cut
  by_cases z : nI g ≤ lc_la ek x (g + j)
  · rw [if_pos z, a z]
  · rw [if_neg z, b z]
theorem lc_sf_lt {g d j : Nat} {f : Nat → Int32} (h : j < d) : lc_sf g d f j = f (g + j) := if_pos h
theorem lc_sc_lt {g d j : Nat} {f : Nat → Int32} (h : j < d) : lc_sc g d f j = lc_cut g (f (g + j)) := if_pos h
theorem lc_cn_lt {g d j : Nat} {f : Nat → Int32} (h : j < d) : lc_cn g d f j = lc_cut g (f j) := if_pos h
theorem lc_EF_cp {c g : Nat} {op' ov' ba' : Nat → Int32} (hc : c ≤ 60000) (hE : lc_EF c n w ek ev ed er eb nw op ov pr va cr mo ve lo ba ep el) (hg : g ≤ n) (hO : lc_OP g ek er ep ev el ba op' ov')
    (hb : ∀ q, q < 16 → lc_bs ba' q = lc_lf ek er ep ev el ba q g) :
    lc_EF (c + 76) (n - g) w (lc_sf g (n - g) ek) (lc_sf g (n - g) ev) (lc_sf g (n - g) ed) (lc_sf g (n - g) er) (lc_sc g (n - g) eb) (lc_cn g 16 nw) op' ov' pr va cr mo ve lo ba' (lc_sf g (n - g) ep) (lc_sf g (n - g) el) := by
  obtain ⟨h1, h2, h3, h4, h5, h6, h7⟩ := hE
  obtain ⟨d, rfl⟩ : ∃ d, n = g + d := ⟨n - g, by omega⟩
  rw [Nat.add_sub_cancel_left]
  refine ⟨by omega, ⟨fun i j a b => ?_, fun i a => ?_⟩, ⟨fun q hq => ?_, fun i hi => ?_⟩, fun i hi => ?_, fun q hq => ?_, h6, fun q hq => ?_⟩
  · rw [lc_sf_lt (by omega), lc_sf_lt b]
    exact h2.1 _ _ (by omega) (by omega)
  · rw [lc_sf_lt a]
    exact h2.2 _ (by omega)
  · rw [lc_cn_lt hq, h3.1 q hq]
    exact lc_cut_la (by omega) (fun i hi => lc_sf_lt hi)
  · rw [lc_sc_lt hi, lc_sf_lt hi, h3.2 (g + i) (by omega)]
    exact lc_cut_la (by omega) (fun j hj => lc_sf_lt (by omega))
  · rw [lc_sf_lt hi, lc_sf_lt hi, lc_sf_lt hi]
    exact h4 (g + i) (by omega)
  · rw [← h5 q hq]
    exact lc_lf_sh (hb q hq) d (fun i hi => ⟨lc_sf_lt hi, lc_sf_lt hi, lc_sf_lt hi, lc_sf_lt hi, lc_sf_lt hi⟩)
  · have e0 : ba' (q * 5) = (lc_lf ek er ep ev el ba q g).1 := congrArg (fun z : lc_T => z.1) (hb q hq)
    have e1 : ba' (q * 5 + 1) = (lc_lf ek er ep ev el ba q g).2.1 := congrArg (fun z : lc_T => z.2.1) (hb q hq)
    have hv := lc_OLv (ek := ek) (er := er) (ep := ep) (ev := ev) (el := el) h7 hq (m := g) (by omega) hc
    rw [e0, e1]
    exact ⟨by omega, hO q hq⟩
theorem lr_compact {k : Nat} (hk : k + 5 ≤ 2560) (hw : w ≤ k) (hF : lc_FF (20 * k) n w m nc ek ev ed er eb nw op ov pr va cr mo ve lo li ex ko bx ck cy cc cn ac ay av ad ba ep el cd ap gr tt) (v1 : Int32) :
    ∃ r u' v', i_Rel (k + 5) u' v' ∧ (∀ post : Int32 → SX → Prop, post r u' → wpX_compact post ((nI n), (nI w), o, (nI m), t, (nI nc), ek, ev, ed, er, eb, nw, op, ov, pr, va, cr, mo, ve, lo, li, ex, ko, bx, ck, cy, cc, cn, ac, ay, av, ad) v1) ∧
      (∀ post : Int32 → SY → Prop, post r v' → wpY_compact post (o, nI w, (nI n), (nI nc), t, ba, er, ek, ep, ev, el, se, cd, ay, ap, av, ac, gr, tt, ex) v1) := by
  have hR := lc_fin (o := o) (t := t) (se := se) hF (by omega)
  obtain ⟨hE, hB, hQ, hL, hC, hA⟩ := hF
  have n76 : n ≤ 76 := by have := hE.1; omega
  by_cases z1 : v1 < o
  · exact ⟨-7, _, _, hR, fun post hp => br_t z1 hp, fun post hp => br_t z1 hp⟩
  · by_cases z2 : v1 ≤ nI w
    · obtain ⟨g, hg⟩ := lc_SP_ex v1 hE.2.1.1
      have ev1 : (v1 + 1).toInt = v1.toInt + 1 := by
        have e : (1 : Int32).toInt = 1 := by decide
        have a := z2
        rw [Int32.le_iff_toInt_le, nI_toInt (by omega)] at a
        have b := v1.le_toInt
        rw [Jvm.Kit.i32_add (by rw [e]; omega) (by rw [e]; omega), e]
      have g2 : ∀ i, i < g → ¬ v1 + 1 ≤ er i := by
        intro i hi
        have := hg.2.1 i hi
        rw [Int32.lt_iff_toInt_lt] at this
        rw [Int32.le_iff_toInt_le, ev1]
        omega
      have g3 : ∀ i, g ≤ i → i < n → v1 + 1 ≤ er i := by
        intro i a b
        have := hg.2.2 i a b
        rw [Int32.lt_iff_toInt_lt] at this
        rw [Int32.le_iff_toInt_le, ev1]
        omega
      obtain ⟨op', ov', x1, x2⟩ := lx_c29 (x1 := v1) (c := 20 * k) (by omega) hg.1 (by omega) hE.2.2.2.2.2.2 hE.2.2.2.1 g 0 op ov (by omega) (lc_OP0 (ek := ek) (er := er) (ep := ep) (ev := ev) (el := el) hE.2.2.2.2.2.2)
      obtain ⟨ba', se', y1, y2⟩ := ly_c21 (ek := ek) (ep := ep) (ev := ev) (el := el) (ba := ba) (by omega) hg 16 0 ba se (by omega) (fun q hq => by omega) (fun j _ => rfl)
      have hE' := lc_EF_cp (by omega) hE hg.1 x1 y1
      refine ⟨nI (n - g), (nI (n - g), (nI w), v1, (nI m), t, (nI nc), lc_sf g (n - g) ek, lc_sf g (n - g) ev, lc_sf g (n - g) ed, lc_sf g (n - g) er, lc_sc g (n - g) eb, lc_cn g 16 nw, op', ov', pr, va, cr, mo, ve, lo, li, ex, ko, bx, ck, cy, cc, cn, ac, ay, av, ad),
        (v1, nI w, nI (n - g), (nI nc), t, ba', lc_sf g (n - g) er, lc_sf g (n - g) ek, lc_sf g (n - g) ep, lc_sf g (n - g) ev, lc_sf g (n - g) el, se', cd, ay, ap, av, ac, gr, tt, ex), ?_, fun post hp => ?_, fun post hp => ?_⟩
      · exact lc_finc (c := 20 * k + 76) ⟨hE', hB, hQ, hL, hC, hA⟩ (by omega) (by omega)
      · refine br_f z1 (br_t z2 (lx_ffg (by omega) hE.2.1.1 hg.1 g2 g3 ⟨g + 1, x2 ?_ (g + 1) (by omega)⟩))
        refine ⟨n - g + 1, ?_⟩
        have k2 := lx_c119 (o := o) (g := g) (nw := nw) hp 16 0 (by omega) 17 (by omega)
        rw [lc_cn0] at k2
        have key := lx_c84 (post := post) (x1 := v1) (o := o) (w := w) (m := m) (t := t) (nc := nc) (ek := ek) (ev := ev) (ed := ed) (er := er) (eb := eb) (nw := nw) (op := op') (ov := ov') hg.1 (by omega) hE.2.2.2.1 ⟨17, k2⟩ (n - g) 0 (by omega) (n - g + 1) (by omega)
        rw [lc_sf0, lc_sf0, lc_sf0, lc_sf0, lc_sc0] at key
        exact key
      · refine br_f z1 (br_t z2 ⟨17, y2 ⟨n + 1, ?_⟩ 17 (by omega)⟩)
        refine ly_c72s hg.1 (by omega) hg (fun N hN => ?_) g 0 (by omega) (n + 1) (by omega)
        have key := ly_c72 (o := o) (ed := ed) hg.1 (by omega) hg hE.2.2.2.1 hp (n - g) 0 (by omega) N hN
        rw [lc_sf0, lc_sf0, lc_sf0, lc_sf0, lc_sf0] at key
        exact key
    · exact ⟨-7, _, _, hR, fun post hp => br_f z1 (br_f z2 hp), fun post hp => br_f z1 (br_f z2 hp)⟩
end CP
end
section
/-! what is owed -/
section OW
variable {n w y m nc : Nat} {o t : Int32} {ek ev ed er eb nw op ov pr va cr mo ve lo li ex ko bx ck cy cc cn ac ay av ad ba ep el se cd ap gr tt : Nat → Int32}
theorem lx_init205 {post : SX → Prop} (h : ∀ nw lo, (∀ q, q < 16 → nw q = -1) → (∀ q, q < 16 → lo q = -1) → post ((nI n), (nI w), o, (nI m), t, (nI nc), ek, ev, ed, er, eb, nw, op, ov, pr, va, cr, mo, ve, lo, li, ex, ko, bx, ck, cy, cc, cn, ac, ay, av, ad)) :
    ∀ d k nw lo, k + d = 16 → (∀ q, q < k → nw q = -1) → (∀ q, q < k → lo q = -1) → ∀ N, d < N → wX_init_205 post (nI n) (nI w) o (nI m) t (nI nc) N (nI k) ek ev ed er eb nw op ov pr va cr mo ve lo li ex ko bx ck cy cc cn ac ay av ad := by
  intro d
  induction d with
  | zero =>
    intro k nw lo h1 h2 h3 N hN
    obtain ⟨N, rfl⟩ : ∃ k, N = k + 1 := ⟨N - 1, by omega⟩
    have e : k = 16 := by omega
    subst e
    rw [wX_init_205]
    exact br_t (by decide) (h nw lo h2 h3)
  | succ d ih =>
    intro k nw lo h1 h2 h3 N hN
    obtain ⟨N, rfl⟩ : ∃ k, N = k + 1 := ⟨N - 1, by omega⟩
    have ek' : (nI k).toNatClampNeg = k := nI_clamp (by omega)
    have wk : vp_in (nI k) 16 := vp_in_nI (by omega) (by omega)
    rw [wX_init_205]
    refine br_f (nI_ge (b := 16) (by omega) (by decide)) ⟨wk, nm_r (e' := upd nw k (-1)) (by rw [ek']) ⟨wk, nm_r (e' := upd lo k (-1)) (by rw [ek']) (nm_r (nI_1 k) (ih (k + 1) _ _ (by omega) (fun q hq => ?_) (fun q hq => ?_) N (by omega)))⟩⟩
    · by_cases z : q = k
      · subst z; rw [pk_us]
      · rw [pk_un z]; exact h2 q (by omega)
    · by_cases z : q = k
      · subst z; rw [pk_us]
      · rw [pk_un z]; exact h3 q (by omega)
theorem ly_init121 {post : SY → Prop} (h : ∀ ba, (∀ q, q < 16 → lc_bs ba q = (0, 0, 0, 0, -1)) → post (o, (nI y), (nI n), (nI nc), t, ba, er, ek, ep, ev, el, se, cd, ay, ap, av, ac, gr, tt, ex)) :
    ∀ d k ba, k + d = 16 → (∀ q, q < k → lc_bs ba q = (0, 0, 0, 0, -1)) → (∀ j, k * 5 ≤ j → ba j = 0) → ∀ N, d < N → wY_init_121 post o (nI y) (nI n) (nI nc) t N (nI k) ba er ek ep ev el se cd ay ap av ac gr tt ex := by
  intro d
  induction d with
  | zero =>
    intro k ba h1 h2 h3 N hN
    obtain ⟨N, rfl⟩ : ∃ k, N = k + 1 := ⟨N - 1, by omega⟩
    have e : k = 16 := by omega
    subst e
    rw [wY_init_121]
    exact br_t (by decide) (h ba h2)
  | succ d ih =>
    intro k ba h1 h2 h3 N hN
    obtain ⟨N, rfl⟩ : ∃ k, N = k + 1 := ⟨N - 1, by omega⟩
    have e5 : nI k * 5 + 4 = nI (k * 5 + 4) := by
      rw [← nI_add, ← pk_mul]; rfl
    have e6 : (nI (k * 5 + 4)).toNatClampNeg = k * 5 + 4 := nI_clamp (by omega)
    rw [wY_init_121]
    refine br_f (nI_ge (b := 16) (by omega) (by decide)) ⟨by rw [e5]; exact vp_in_nI (by omega) (by omega), nm_r (e' := upd ba (k * 5 + 4) (-1)) (by rw [e5, e6]) (nm_r (nI_1 k) (ih (k + 1) _ (by omega) (fun q hq => ?_) (fun j hj => ?_) N (by omega)))⟩
    · by_cases z : q = k
      · subst z
        unfold lc_bs
        rw [pk_us, pk_un (by omega), pk_un (by omega), pk_un (by omega), pk_un (by omega), h3 _ (by omega), h3 _ (by omega), h3 _ (by omega), h3 _ (by omega)]
      · rw [lc_bs_cg (ba := ba) (fun x hx => pk_un (by omega))]
        exact h2 q (by omega)
    · rw [pk_un (by omega)]; exact h3 j (by omega)
end OW
theorem i_vc0 : wpX_init (fun u => wpY_init (fun v => i_Rel 0 u v)) := by
  refine ⟨17, lx_init205 (n := 0) (w := 0) (m := 0) (nc := 0) (fun nw lo h1 h2 => ?_) 16 0 _ _ (by omega) (fun q hq => by omega) (fun q hq => by omega) 17 (by omega)⟩
  refine ⟨17, ly_init121 (n := 0) (y := 0) (nc := 0) (fun ba h3 => ?_) 16 0 _ (by omega) (fun q hq => by omega) (fun j hj => rfl) 17 (by omega)⟩
  refine ⟨0, 0, 0, Nat.le_refl _, lc_RRi ⟨⟨?_, ?_, ?_, ?_, ?_, ?_, ?_⟩, ?_, ?_, ⟨?_, ⟨fun _ => 0, ?_⟩, ?_⟩, ?_, ?_⟩⟩
  · decide
  · exact ⟨fun i j a b => by omega, fun i a => by omega⟩
  · exact ⟨fun q hq => h1 q hq, fun i hi => by omega⟩
  · exact fun i hi => by omega
  · intro q hq
    rw [h2 q hq]
    exact h3 q hq
  · exact fun q hq => Or.inl ⟨rfl, rfl, h2 q hq⟩
  · intro q hq
    have e0 : ba (q * 5) = 0 := congrArg (fun z : lc_T => z.1) (h3 q hq)
    have e1 : ba (q * 5 + 1) = 0 := congrArg (fun z : lc_T => z.2.1) (h3 q hq)
    rw [e0, e1]
    exact ⟨by decide, Or.inl ⟨rfl, rfl, rfl⟩⟩
  · intro l hl i hi
    rw [b_0]
    refine (decide_eq_false (fun z => ?_)).symm
    exact lc_m1n (by omega : l < 2 ^ 31) ((h2 i z.1).symm.trans z.2)
  · exact fun q hq => Or.inl (h2 q hq)
  · rfl
  · exact ⟨fun i hi => by omega, fun i j a b => by omega, fun l hl h => absurd rfl h⟩
  · exact fun l hl => Or.inl ⟨rfl, rfl⟩
  · exact ⟨by omega, fun i hi => by omega⟩
  · exact fun s hs => ⟨0, by omega, rfl, fun i hi => by omega⟩
theorem i_vc_put {k : Nat} {u : SX} {v : SY} (I : i_Rel k u v) (hk : k + 5 ≤ 2560) (v1 : Int32) (v2 : Int32) (v3 : Int32) : wpX_put (fun r u' => wpY_put (fun r' v' => r' = r ∧ i_Rel (k + 5) u' v') v v1 v2 v3) u v1 v2 v3 := by
  refine lc_open (P := fun u v => wpX_put (fun r u' => wpY_put (fun r' v' => r' = r ∧ i_Rel (k + 5) u' v') v v1 v2 v3) u v1 v2 v3) I ?_
  intro w m t n nc o ek ev ed er eb nw op ov pr va cr mo ve lo li ex ko bx ck cy cc cn ac ay av ad ba ep el se cd ap gr tt hw h
  obtain ⟨r, u', v', h1, h2, h3⟩ := lr_put (o := o) (t := t) (se := se) hk hw h v1 v2 v3
  exact h2 _ (h3 _ ⟨rfl, h1⟩)
theorem i_vc_delete {k : Nat} {u : SX} {v : SY} (I : i_Rel k u v) (hk : k + 5 ≤ 2560) (v1 : Int32) : wpX_delete (fun r u' => wpY_delete (fun r' v' => r' = r ∧ i_Rel (k + 5) u' v') v v1) u v1 := by
  refine lc_open (P := fun u v => wpX_delete (fun r u' => wpY_delete (fun r' v' => r' = r ∧ i_Rel (k + 5) u' v') v v1) u v1) I ?_
  intro w m t n nc o ek ev ed er eb nw op ov pr va cr mo ve lo li ex ko bx ck cy cc cn ac ay av ad ba ep el se cd ap gr tt hw h
  obtain ⟨r, u', v', h1, h2, h3⟩ := lr_delete (o := o) (t := t) (se := se) hk hw h v1
  exact h2 _ (h3 _ ⟨rfl, h1⟩)
theorem i_vc_when {k : Nat} {u : SX} {v : SY} (I : i_Rel k u v) (hk : k + 5 ≤ 2560) (v1 : Int32) (v2 : Int32) (v3 : Int32) (v4 : Int32) : wpX_when (fun r u' => wpY_when (fun r' v' => r' = r ∧ i_Rel (k + 5) u' v') v v1 v2 v3 v4) u v1 v2 v3 v4 := by
  refine lc_open (P := fun u v => wpX_when (fun r u' => wpY_when (fun r' v' => r' = r ∧ i_Rel (k + 5) u' v') v v1 v2 v3 v4) u v1 v2 v3 v4) I ?_
  intro w m t n nc o ek ev ed er eb nw op ov pr va cr mo ve lo li ex ko bx ck cy cc cn ac ay av ad ba ep el se cd ap gr tt hw h
  obtain ⟨r, u', v', h1, h2, h3⟩ := lr_when (o := o) (t := t) (se := se) hk hw h v1 v2 v3 v4
  exact h2 _ (h3 _ ⟨rfl, h1⟩)
theorem i_vc_thenPut {k : Nat} {u : SX} {v : SY} (I : i_Rel k u v) (hk : k + 5 ≤ 2560) (v1 : Int32) (v2 : Int32) (v3 : Int32) : wpX_thenPut (fun r u' => wpY_thenPut (fun r' v' => r' = r ∧ i_Rel (k + 5) u' v') v v1 v2 (lw_bz v3)) u v1 v2 (lw_bz v3) := by
  refine lc_open (P := fun u v => wpX_thenPut (fun r u' => wpY_thenPut (fun r' v' => r' = r ∧ i_Rel (k + 5) u' v') v v1 v2 (lw_bz v3)) u v1 v2 (lw_bz v3)) I ?_
  intro w m t n nc o ek ev ed er eb nw op ov pr va cr mo ve lo li ex ko bx ck cy cc cn ac ay av ad ba ep el se cd ap gr tt hw h
  obtain ⟨r, u', v', h1, h2, h3⟩ := lr_thenPut (o := o) (t := t) (se := se) hk hw h v1 v2 (lw_bz v3)
  exact h2 _ (h3 _ ⟨rfl, h1⟩)
theorem i_vc_thenDelete {k : Nat} {u : SX} {v : SY} (I : i_Rel k u v) (hk : k + 5 ≤ 2560) (v1 : Int32) (v2 : Int32) : wpX_thenDelete (fun r u' => wpY_thenDelete (fun r' v' => r' = r ∧ i_Rel (k + 5) u' v') v v1 (lw_bz v2)) u v1 (lw_bz v2) := by
  refine lc_open (P := fun u v => wpX_thenDelete (fun r u' => wpY_thenDelete (fun r' v' => r' = r ∧ i_Rel (k + 5) u' v') v v1 (lw_bz v2)) u v1 (lw_bz v2)) I ?_
  intro w m t n nc o ek ev ed er eb nw op ov pr va cr mo ve lo li ex ko bx ck cy cc cn ac ay av ad ba ep el se cd ap gr tt hw h
  obtain ⟨r, u', v', h1, h2, h3⟩ := lr_thenDelete (o := o) (t := t) (se := se) hk hw h v1 (lw_bz v2)
  exact h2 _ (h3 _ ⟨rfl, h1⟩)
theorem i_vc_commit {k : Nat} {u : SX} {v : SY} (I : i_Rel k u v) (hk : k + 5 ≤ 2560) : wpX_commit (fun r u' => wpY_commit (fun r' v' => r' = r ∧ i_Rel (k + 5) u' v') v) u := by
  refine lc_open (P := fun u v => wpX_commit (fun r u' => wpY_commit (fun r' v' => r' = r ∧ i_Rel (k + 5) u' v') v) u) I ?_
  intro w m t n nc o ek ev ed er eb nw op ov pr va cr mo ve lo li ex ko bx ck cy cc cn ac ay av ad ba ep el se cd ap gr tt hw h
  obtain ⟨r, u', v', h1, h2, h3⟩ := lr_commit (o := o) (t := t) (se := se) hk hw h
  exact h2 _ (h3 _ ⟨rfl, h1⟩)
theorem i_vc_grant {k : Nat} {u : SX} {v : SY} (I : i_Rel k u v) (hk : k + 5 ≤ 2560) (v1 : Int32) (v2 : Int32) : wpX_grant (fun r u' => wpY_grant (fun r' v' => r' = r ∧ i_Rel (k + 5) u' v') v v1 v2) u v1 v2 := by
  refine lc_open (P := fun u v => wpX_grant (fun r u' => wpY_grant (fun r' v' => r' = r ∧ i_Rel (k + 5) u' v') v v1 v2) u v1 v2) I ?_
  intro w m t n nc o ek ev ed er eb nw op ov pr va cr mo ve lo li ex ko bx ck cy cc cn ac ay av ad ba ep el se cd ap gr tt hw h
  obtain ⟨r, u', v', h1, h2, h3⟩ := lr_grant (o := o) (t := t) (se := se) hk hw h v1 v2
  exact h2 _ (h3 _ ⟨rfl, h1⟩)
theorem i_vc_keep {k : Nat} {u : SX} {v : SY} (I : i_Rel k u v) (hk : k + 5 ≤ 2560) (v1 : Int32) : wpX_keep (fun r u' => wpY_keep (fun r' v' => r' = r ∧ i_Rel (k + 5) u' v') v v1) u v1 := by
  refine lc_open (P := fun u v => wpX_keep (fun r u' => wpY_keep (fun r' v' => r' = r ∧ i_Rel (k + 5) u' v') v v1) u v1) I ?_
  intro w m t n nc o ek ev ed er eb nw op ov pr va cr mo ve lo li ex ko bx ck cy cc cn ac ay av ad ba ep el se cd ap gr tt hw h
  obtain ⟨r, u', v', h1, h2, h3⟩ := lr_keep (o := o) (t := t) (se := se) hk hw h v1
  exact h2 _ (h3 _ ⟨rfl, h1⟩)
theorem i_vc_revoke {k : Nat} {u : SX} {v : SY} (I : i_Rel k u v) (hk : k + 5 ≤ 2560) (v1 : Int32) : wpX_revoke (fun r u' => wpY_revoke (fun r' v' => r' = r ∧ i_Rel (k + 5) u' v') v v1) u v1 := by
  refine lc_open (P := fun u v => wpX_revoke (fun r u' => wpY_revoke (fun r' v' => r' = r ∧ i_Rel (k + 5) u' v') v v1) u v1) I ?_
  intro w m t n nc o ek ev ed er eb nw op ov pr va cr mo ve lo li ex ko bx ck cy cc cn ac ay av ad ba ep el se cd ap gr tt hw h
  obtain ⟨r, u', v', h1, h2, h3⟩ := lr_revoke (o := o) (t := t) (se := se) hk hw h v1
  exact h2 _ (h3 _ ⟨rfl, h1⟩)
theorem i_vc_pass {k : Nat} {u : SX} {v : SY} (I : i_Rel k u v) (hk : k + 5 ≤ 2560) (v1 : Int32) : wpX_pass (fun r u' => wpY_pass (fun r' v' => r' = r ∧ i_Rel (k + 5) u' v') v v1) u v1 := by
  refine lc_open (P := fun u v => wpX_pass (fun r u' => wpY_pass (fun r' v' => r' = r ∧ i_Rel (k + 5) u' v') v v1) u v1) I ?_
  intro w m t n nc o ek ev ed er eb nw op ov pr va cr mo ve lo li ex ko bx ck cy cc cn ac ay av ad ba ep el se cd ap gr tt hw h
  obtain ⟨r, u', v', h1, h2, h3⟩ := lr_pass (o := o) (t := t) (se := se) hk hw h v1
  exact h2 _ (h3 _ ⟨rfl, h1⟩)
theorem i_vc_compact {k : Nat} {u : SX} {v : SY} (I : i_Rel k u v) (hk : k + 5 ≤ 2560) (v1 : Int32) : wpX_compact (fun r u' => wpY_compact (fun r' v' => r' = r ∧ i_Rel (k + 5) u' v') v v1) u v1 := by
  refine lc_open (P := fun u v => wpX_compact (fun r u' => wpY_compact (fun r' v' => r' = r ∧ i_Rel (k + 5) u' v') v v1) u v1) I ?_
  intro w m t n nc o ek ev ed er eb nw op ov pr va cr mo ve lo li ex ko bx ck cy cc cn ac ay av ad ba ep el se cd ap gr tt hw h
  obtain ⟨r, u', v', h1, h2, h3⟩ := lr_compact (o := o) (t := t) (se := se) hk hw h v1
  exact h2 _ (h3 _ ⟨rfl, h1⟩)
theorem i_vc_revision {k : Nat} {u : SX} {v : SY} (I : i_Rel k u v) (hk : k + 5 ≤ 2560) : wpX_revision (fun r => wpY_revision (fun r' => r' = r ∧ i_Rel (k + 5) u v) v) u := by
  refine lc_open (P := fun u v => wpX_revision (fun r => wpY_revision (fun r' => r' = r ∧ i_Rel (k + 5) u v) v) u) I ?_
  intro w m t n nc o ek ev ed er eb nw op ov pr va cr mo ve lo li ex ko bx ck cy cc cn ac ay av ad ba ep el se cd ap gr tt hw h
  exact (⟨rfl, lc_fin h (by omega)⟩ : nI w = nI w ∧ i_Rel (k + 5) _ _)
theorem i_vc_get {k : Nat} {u : SX} {v : SY} (I : i_Rel k u v) (hk : k + 5 ≤ 2560) (v1 : Int32) (v2 : Int32) : wpX_get (fun r => wpY_get (fun r' v' => r' = r ∧ i_Rel (k + 5) u v') v v1 v2) u v1 v2 := by
  refine lc_open (P := fun u v => wpX_get (fun r => wpY_get (fun r' v' => r' = r ∧ i_Rel (k + 5) u v') v v1 v2) u v1 v2) I ?_
  intro w m t n nc o ek ev ed er eb nw op ov pr va cr mo ve lo li ex ko bx ck cy cc cn ac ay av ad ba ep el se cd ap gr tt hw h
  obtain ⟨r, v', h1, h2, h3⟩ := lr_get (o := o) (t := t) (se := se) hk hw h v1 v2
  exact h2 _ (h3 _ ⟨rfl, h1⟩)
theorem i_vc_has {k : Nat} {u : SX} {v : SY} (I : i_Rel k u v) (hk : k + 5 ≤ 2560) (v1 : Int32) (v2 : Int32) : wpX_has (fun r => wpY_has (fun r' v' => r' = r ∧ i_Rel (k + 5) u v') v v1 v2) u v1 v2 := by
  refine lc_open (P := fun u v => wpX_has (fun r => wpY_has (fun r' v' => r' = r ∧ i_Rel (k + 5) u v') v v1 v2) u v1 v2) I ?_
  intro w m t n nc o ek ev ed er eb nw op ov pr va cr mo ve lo li ex ko bx ck cy cc cn ac ay av ad ba ep el se cd ap gr tt hw h
  obtain ⟨r, v', h1, h2, h3⟩ := lr_has (o := o) (t := t) (se := se) hk hw h v1 v2
  exact h2 _ (h3 _ ⟨rfl, h1⟩)
theorem i_vc_attribute {k : Nat} {u : SX} {v : SY} (I : i_Rel k u v) (hk : k + 5 ≤ 2560) (v1 : Int32) (v2 : Int32) : wpX_attribute (fun r => wpY_attribute (fun r' v' => r' = r ∧ i_Rel (k + 5) u v') v v1 v2) u v1 v2 := by
  refine lc_open (P := fun u v => wpX_attribute (fun r => wpY_attribute (fun r' v' => r' = r ∧ i_Rel (k + 5) u v') v v1 v2) u v1 v2) I ?_
  intro w m t n nc o ek ev ed er eb nw op ov pr va cr mo ve lo li ex ko bx ck cy cc cn ac ay av ad ba ep el se cd ap gr tt hw h
  obtain ⟨r, v', h1, h2, h3⟩ := lr_attribute (o := o) (t := t) (se := se) hk hw h v1 v2
  exact h2 _ (h3 _ ⟨rfl, h1⟩)
theorem i_vc_events {k : Nat} {u : SX} {v : SY} (I : i_Rel k u v) (hk : k + 5 ≤ 2560) (v1 : Int32) (v2 : Int32) (v3 : Int32) : wpX_events (fun r => wpY_events (fun r' => r' = r ∧ i_Rel (k + 5) u v) v v1 v2 v3) u v1 v2 v3 := by
  refine lc_open (P := fun u v => wpX_events (fun r => wpY_events (fun r' => r' = r ∧ i_Rel (k + 5) u v) v v1 v2 v3) u v1 v2 v3) I ?_
  intro w m t n nc o ek ev ed er eb nw op ov pr va cr mo ve lo li ex ko bx ck cy cc cn ac ay av ad ba ep el se cd ap gr tt hw h
  obtain ⟨r, h2, h3⟩ := lr_events h.1 v1 v2 v3
  exact h2 _ (h3 _ ⟨rfl, lc_fin h (by omega)⟩)
end
