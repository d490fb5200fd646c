section
theorem pk_us {f : Nat → Int32} {k : Nat} {x : Int32} : upd f k x k = x := if_pos rfl
theorem pk_un {f : Nat → Int32} {k j : Nat} {x : Int32} (h : j ≠ k) : upd f k x j = f j := if_neg h
theorem pk_sub {a b : Nat} (h : b ≤ a) : nI a - nI b = nI (a - b) := by
  obtain ⟨c, rfl⟩ : ∃ c, a = c + b := ⟨a - b, by omega⟩
  rw [← nI_add, Int32.add_sub_cancel, Nat.add_sub_cancel]
theorem pk_m1 (n : Nat) : nI (n + 1) + (-1) = nI n := by
  rw [← nI_1, Int32.add_assoc, show (1 : Int32) + (-1) = 0 from rfl, Int32.add_zero]
theorem pk_mul (a b : Nat) : nI a * nI b = nI (a * b) := (Int32.ofNat_mul a b).symm
theorem pk_ix (x : Int32) {n : Nat} (hn : n < 2 ^ 31) : x < 0 ∨ nI n ≤ x ∨ ∃ j : Nat, j < n ∧ x = nI j := by
  by_cases h : x < 0
  · exact Or.inl h
  · obtain ⟨j, hj, rfl⟩ := nI_of h
    by_cases h2 : j < n
    · exact Or.inr (Or.inr ⟨j, h2, rfl⟩)
    · exact Or.inr (Or.inl (nI_le (by omega) hj))
theorem pk_le {x y : Int32} {A B : Prop} (a b : Nat) (f : a ≤ b → A) (g : b < a → B) (hx : x = nI a := by rfl) (hy : y = nI b := by rfl) (ha : a < 2 ^ 31 := by omega) (hb : b < 2 ^ 31 := by omega) : (x ≤ y → A) ∧ (¬ x ≤ y → B) := by
  subst hx hy
  rw [nI_leI ha hb]
  exact ⟨f, fun z => g (by omega)⟩
theorem pk_lt {x y : Int32} {A B : Prop} (a b : Nat) (f : a < b → A) (g : b ≤ a → B) (hx : x = nI a := by rfl) (hy : y = nI b := by rfl) (ha : a < 2 ^ 31 := by omega) (hb : b < 2 ^ 31 := by omega) : (x < y → A) ∧ (¬ x < y → B) := by
  subst hx hy
  rw [nI_ltI ha hb]
  exact ⟨f, fun z => g (by omega)⟩
theorem pk_eq {x y : Int32} {A B : Prop} (a b : Nat) (f : a = b → A) (g : a ≠ b → B) (hx : x = nI a := by rfl) (hy : y = nI b := by rfl) (ha : a < 2 ^ 31 := by omega) (hb : b < 2 ^ 31 := by omega) : (x = y → A) ∧ (¬ x = y → B) := by
  subst hx hy
  rw [nI_eq ha hb]
  exact ⟨f, g⟩
theorem pk_in {x : Int32} (n N : Nat) (h : n < N) (hx : x = nI n := by rfl) (hN : N < 2 ^ 31 := by omega) : vp_in x N := by
  subst hx
  exact vp_in_nI h hN
theorem pk_cl {x : Int32} (n : Nat) (hx : x = nI n := by rfl) (h : n < 2 ^ 31 := by omega) : x.toNatClampNeg = n := by
  subst hx
  exact nI_clamp h
theorem pk_tn {n : Nat} (h : n < 2 ^ 32) : (nI n).toBitVec.toNat = n := Nat.mod_eq_of_lt h
theorem pk_and (x : Int32) {m : Int32} (k : Nat) (hm : m.toBitVec.toNat = 2 ^ k - 1) : x &&& m = nI (x.toBitVec.toNat % 2 ^ k) := by
  apply Int32.toBitVec_inj.mp
  apply BitVec.eq_of_toNat_eq
  rw [Int32.toBitVec_and, BitVec.toNat_and, hm, Nat.and_two_pow_sub_one_eq_mod]
  show _ = (BitVec.ofNat 32 _).toNat
  rw [BitVec.toNat_ofNat]
  exact (Nat.mod_eq_of_lt (Nat.lt_of_le_of_lt (Nat.mod_le _ _) x.toBitVec.isLt)).symm
theorem pk_andN {n : Nat} (h : n < 2 ^ 32) {m : Int32} (k : Nat) (hm : m.toBitVec.toNat = 2 ^ k - 1) : nI n &&& m = nI (n % 2 ^ k) := by
  rw [pk_and _ k hm, pk_tn h]
theorem pk_andE (x : Int32) {m : Int32} (k : Nat) (hm : m.toBitVec.toNat = 2 ^ k - 1) : ∃ j : Nat, j < 2 ^ k ∧ x &&& m = nI j := ⟨_, Nat.mod_lt _ (Nat.two_pow_pos k), pk_and x k hm⟩
theorem pk_shl (a s : Int32) (k : Nat) (hs : (s.toBitVec.smod 32).toNat = k) : (a <<< s).toBitVec.toNat = a.toBitVec.toNat * 2 ^ k % 2 ^ 32 := by
  show (a.toBitVec <<< (s.toBitVec.smod 32).toNat).toNat = _
  rw [hs, BitVec.toNat_shiftLeft, Nat.shiftLeft_eq]
theorem pk_shlN {n : Nat} (s : Int32) (k : Nat) (hs : (s.toBitVec.smod 32).toNat = k) (h : n * 2 ^ k < 2 ^ 32) : nI n <<< s = nI (n * 2 ^ k) := by
  apply Int32.toBitVec_inj.mp
  apply BitVec.eq_of_toNat_eq
  have hn : n < 2 ^ 32 := Nat.lt_of_le_of_lt (Nat.le_mul_of_pos_right n (Nat.two_pow_pos k)) h
  rw [pk_shl _ _ k hs, pk_tn hn, pk_tn h, Nat.mod_eq_of_lt h]
theorem pk_shr (a s : Int32) (k : Nat) (hs : (s.toBitVec.smod 32).toNat = k) : (a >>> s).toInt = a.toInt >>> k := by
  show (a.toBitVec.sshiftRight (s.toBitVec.smod 32).toNat).toInt = _
  rw [hs, BitVec.toInt_sshiftRight]
  rfl
theorem pk_shrN {n : Nat} (h : n < 2 ^ 31) (s : Int32) (k : Nat) (hs : (s.toBitVec.smod 32).toNat = k) : nI n >>> s = nI (n / 2 ^ k) := by
  apply Int32.toInt_inj.mp
  have h2 : n / 2 ^ k ≤ n := Nat.div_le_self _ _
  rw [pk_shr _ _ k hs, nI_toInt h, nI_toInt (by omega), Int.shiftRight_eq_div_pow]
  rfl
def bt (x : Int32) (i : Nat) : Bool := x.toBitVec.getLsbD i
theorem b_ext {x y : Int32} (h : ∀ i, i < 32 → bt x i = bt y i) : x = y := Int32.toBitVec_inj.mp (BitVec.eq_of_getLsbD_eq (fun i hi => h i hi))
theorem b_or (x y : Int32) (i : Nat) : bt (x ||| y) i = (bt x i || bt y i) := by unfold bt; rw [Int32.toBitVec_or, BitVec.getLsbD_or]
theorem b_and (x y : Int32) (i : Nat) : bt (x &&& y) i = (bt x i && bt y i) := by unfold bt; rw [Int32.toBitVec_and, BitVec.getLsbD_and]
theorem b_xor (x y : Int32) (i : Nat) : bt (x ^^^ y) i = (bt x i ^^ bt y i) := by unfold bt; rw [Int32.toBitVec_xor, BitVec.getLsbD_xor]
theorem b_big {x : Int32} {i : Nat} (h : 32 ≤ i) : bt x i = false := BitVec.getLsbD_of_ge _ _ h
theorem b_m1 : ∀ i, i < 32 → bt (-1) i = true := by decide +kernel
theorem b_0 (i : Nat) : bt 0 i = false := BitVec.getLsbD_zero
theorem s_l : ∀ n, n < 32 → ((nI n &&& 31).toBitVec.smod 32).toNat = n := by decide +kernel
theorem b_shl (n : Nat) (hn : n < 32) (x : Int32) {i : Nat} (hi : i < 32) : bt (x <<< (nI n &&& 31)) i = (decide (n ≤ i) && bt x (i - n)) := by
  unfold bt
  rw [Int32.toBitVec_shiftLeft]
  show (x.toBitVec <<< ((nI n &&& 31).toBitVec.smod 32).toNat).getLsbD i = _
  rw [s_l n hn, BitVec.getLsbD_shiftLeft]
  rcases Nat.lt_or_ge i n with h | h
  · simp [h, Nat.not_le.mpr h]
  · simp [hi, h, Nat.not_lt.mpr h]
theorem b_sshr (n : Nat) (hn : n < 32) (x : Int32) {i : Nat} (hi : i < 32) : bt (x >>> (nI n &&& 31)) i = if n + i < 32 then bt x (n + i) else bt x 31 := by
  unfold bt
  rw [Int32.toBitVec_shiftRight]
  show (x.toBitVec.sshiftRight ((nI n &&& 31).toBitVec.smod 32).toNat).getLsbD i = _
  rw [s_l n hn, BitVec.getLsbD_sshiftRight, BitVec.msb_eq_getLsbD_last]
  simp [hi]
end
section
/-! ===== the machine, pure ===== -/
def ml_er (o c : Int32) (a b : Nat) (r : Nat → Int32) : Nat → Int32 :=
  if o = 0 then upd r a c else if o = 1 then upd r a (r a + r b) else if o = 2 then upd r a (r a - r b) else if o = 3 then upd r a (r a * r b) else if o = 4 then upd r a (if r b ≤ r a then r b else r a) else if o = 5 then r else if o = 6 then r else upd r a (r a + c)
def ml_ep (o c p : Int32) (a b : Nat) (r : Nat → Int32) : Int32 :=
  if o = 5 then (if r b ≤ r a then p + 1 else c) else if o = 6 then (if r a = 0 then c else p + 1) else p + 1
/-- the four registers from b on -/
def ml_vw (b : Nat) (f : Nat → Int32) : Nat → Int32 := fun i => if i < 4 then f (b + i) else 0
theorem ml_vw_at {b i : Nat} {f : Nat → Int32} (h : i < 4) : ml_vw b f i = f (b + i) := if_pos h
theorem ml_vw_upd {b a : Nat} {f : Nat → Int32} {x : Int32} (h : a < 4) : ml_vw b (upd f (b + a) x) = upd (ml_vw b f) a x := by
  funext i
  unfold ml_vw upd
  by_cases h4 : i < 4
  · rw [if_pos h4]
    by_cases e : i = a
    · rw [if_pos e, if_pos (by omega)]
    · rw [if_neg e, if_neg (by omega)]; exact (if_pos h4).symm
  · rw [if_neg h4, if_neg (by omega)]; exact (if_neg h4).symm
theorem ml_vw0_upd {a : Nat} {f : Nat → Int32} {x : Int32} : ml_vw 0 (upd f (4 + a) x) = ml_vw 0 f := by
  funext i
  unfold ml_vw upd
  by_cases h4 : i < 4
  · rw [if_pos h4, if_pos h4, if_neg (by omega)]
  · rw [if_neg h4, if_neg h4]
theorem ml_vw_er {b x y : Nat} {f : Nat → Int32} (o c : Int32) (hx : x < 4) (hy : y < 4) : ml_vw b (ml_er o c (b + x) (b + y) f) = ml_er o c x y (ml_vw b f) := by
  unfold ml_er
  rw [ml_vw_at hx, ml_vw_at hy]
  repeat' split
  all_goals first | rfl | exact ml_vw_upd hx
theorem ml_vw_ep {b x y : Nat} {f : Nat → Int32} (o c p : Int32) (hx : x < 4) (hy : y < 4) : ml_ep o c p (b + x) (b + y) f = ml_ep o c p x y (ml_vw b f) := by
  unfold ml_ep
  rw [ml_vw_at hx, ml_vw_at hy]
theorem ml_vw0_er {x y : Nat} {f : Nat → Int32} (o c : Int32) : ml_vw 0 (ml_er o c (4 + x) (4 + y) f) = ml_vw 0 f := by
  unfold ml_er
  repeat' split
  all_goals first | rfl | exact ml_vw0_upd
/-- the first registers -/
def ml_r0 (x y : Int32) : Nat → Int32 := fun i => if i = 0 then x else if i = 1 then y else 0
theorem ml_vw_r0 {f : Nat → Int32} {x y : Int32} : ml_vw 0 (upd (upd (upd (upd f 0 x) 1 y) 2 0) 3 0) = ml_r0 x y := by
  funext i
  unfold ml_vw ml_r0 upd
  rw [Nat.zero_add]
  by_cases h4 : i < 4
  · rw [if_pos h4]
    have : i = 0 ∨ i = 1 ∨ i = 2 ∨ i = 3 := by omega
    rcases this with rfl | rfl | rfl | rfl <;> rfl
  · rw [if_neg h4, if_neg (by omega), if_neg (by omega)]
/-- within the program -/
def ml_in (sz : Nat) (p : Int32) : Bool := !decide (p < 0) && decide (p < nI sz)
theorem ml_in_neg {sz : Nat} {p : Int32} (h : p < 0) : ml_in sz p = false := by
  unfold ml_in; rw [decide_eq_true h]; rfl
theorem ml_in_ge {sz : Nat} {p : Int32} (h : ¬ p < nI sz) : ml_in sz p = false := by
  unfold ml_in; rw [decide_eq_false h, Bool.and_false]
theorem ml_in_ok {sz : Nat} {p : Int32} (h : ¬ p < 0) (h2 : p < nI sz) : ml_in sz p = true := by
  unfold ml_in; rw [decide_eq_false h, decide_eq_true h2]; rfl
theorem ml_in_j {sz j : Nat} (h : j < sz) (hs : sz ≤ 12) : ml_in sz (nI j) = true := ml_in_ok (nI_pos (by omega)) (nI_lt h (by omega))
/-- three cases of a place -/
theorem ml_pl {sz : Nat} (hs : sz ≤ 12) (p : Int32) : p < 0 ∨ (¬ p < 0 ∧ nI sz ≤ p ∧ ¬ p < nI sz) ∨ ∃ j : Nat, j < sz ∧ p = nI j := by
  by_cases h : p < 0
  · exact Or.inl h
  · obtain ⟨j, hj, rfl⟩ := nI_of h
    by_cases h2 : j < sz
    · exact Or.inr (Or.inr ⟨j, h2, rfl⟩)
    · exact Or.inr (Or.inl ⟨h, nI_le (by omega) hj, nI_nlt (by omega) hj⟩)
/-- k steps at most, from place p, registers r, n carried out -/
def ml_go (O C : Nat → Int32) (A B : Nat → Nat) (sz : Nat) : Nat → Int32 → (Nat → Int32) → Nat → Int32 × (Nat → Int32) × Nat
  | 0, p, r, n => (p, r, n)
  | k + 1, p, r, n => if ml_in sz p = true then ml_go O C A B sz k (ml_ep (O p.toNatClampNeg) (C p.toNatClampNeg) p (A p.toNatClampNeg) (B p.toNatClampNeg) r) (ml_er (O p.toNatClampNeg) (C p.toNatClampNeg) (A p.toNatClampNeg) (B p.toNatClampNeg) r) (n + 1) else (p, r, n)
theorem ml_go_out {O C : Nat → Int32} {A B : Nat → Nat} {sz : Nat} {p : Int32} (h : ml_in sz p = false) (k : Nat) (r : Nat → Int32) (n : Nat) : ml_go O C A B sz k p r n = (p, r, n) := by
  cases k with
  | zero => rfl
  | succ k => rw [ml_go, h]; rfl
theorem ml_go_in {O C : Nat → Int32} {A B : Nat → Nat} {sz j : Nat} (h : j < sz) (hs : sz ≤ 12) (k : Nat) (r : Nat → Int32) (n : Nat) : ml_go O C A B sz (k + 1) (nI j) r n = ml_go O C A B sz k (ml_ep (O j) (C j) (nI j) (A j) (B j) r) (ml_er (O j) (C j) (A j) (B j) r) (n + 1) := by
  rw [ml_go, ml_in_j h hs, nI_clamp (by omega), if_pos rfl]
theorem ml_go_n {O C : Nat → Int32} {A B : Nat → Nat} {sz : Nat} : ∀ (k : Nat) (p : Int32) (r : Nat → Int32) (n : Nat), (ml_go O C A B sz k p r n).2.2 ≤ n + k := by
  intro k
  induction k with
  | zero => intro p r n; exact Nat.le_refl _
  | succ k ih =>
    intro p r n
    rw [ml_go]
    split
    · have := ih (ml_ep (O p.toNatClampNeg) (C p.toNatClampNeg) p (A p.toNatClampNeg) (B p.toNatClampNeg) r) (ml_er (O p.toNatClampNeg) (C p.toNatClampNeg) (A p.toNatClampNeg) (B p.toNatClampNeg) r) (n + 1)
      omega
    · show n ≤ _
      omega
def ml_run (O C : Nat → Int32) (A B : Nat → Nat) (sz : Nat) (x y : Int32) : Int32 × (Nat → Int32) × Nat := ml_go O C A B sz 100 0 (ml_r0 x y) 0
/-- whether it ended; its output; as ints -/
def ml_E (sz : Nat) (R : Int32 × (Nat → Int32) × Nat) : Int32 := if ml_in sz R.1 = true then 0 else 1
def ml_Ou (sz : Nat) (R : Int32 × (Nat → Int32) × Nat) : Int32 := if ml_in sz R.1 = true then 0 else R.2.1 0
theorem ml_E01 (sz : Nat) (R : Int32 × (Nat → Int32) × Nat) : ml_E sz R = 0 ∨ ml_E sz R = 1 := by
  unfold ml_E; split
  · exact Or.inl rfl
  · exact Or.inr rfl
/-- a mutant's program -/
def ml_O (op wh co cg : Nat → Int32) (m : Nat) : Nat → Int32 := fun p => if wh m = nI p ∧ ¬ co m = 0 then cg m else op p
def ml_C (cn wh co cg : Nat → Int32) (m : Nat) : Nat → Int32 := fun p => if wh m = nI p ∧ co m = 0 then cg m else cn p
/-- the outcome R is kept at i -/
def ml_PC (sz : Nat) (R : Int32 × (Nat → Int32) × Nat) (i : Nat) (e o s : Nat → Int32) : Prop := e i = ml_E sz R ∧ o i = ml_Ou sz R ∧ s i = nI R.2.2
theorem ml_PC_put {sz : Nat} {R : Int32 × (Nat → Int32) × Nat} {i : Nat} {e o s : Nat → Int32} : ml_PC sz R i (upd e i (ml_E sz R)) (upd o i (ml_Ou sz R)) (upd s i (nI R.2.2)) := ⟨pk_us, pk_us, pk_us⟩
theorem ml_PC_keep {sz : Nat} {R : Int32 × (Nat → Int32) × Nat} {i j : Nat} {e o s : Nat → Int32} {x y z : Int32} (h : ml_PC sz R j e o s) (hj : j ≠ i) : ml_PC sz R j (upd e i x) (upd o i y) (upd s i z) :=
  ⟨(pk_un hj).trans h.1, (pk_un hj).trans h.2.1, (pk_un hj).trans h.2.2⟩
end
section
/-! ===== one instruction, on both sides ===== -/
section
variable {o c p : Int32} {a b : Nat} {r : Nat → Int32}
theorem ml_er0 : ml_er 0 c a b r = upd r a c := by unfold ml_er; rw [if_pos rfl]
theorem ml_er1 : ml_er 1 c a b r = upd r a (r a + r b) := by unfold ml_er; rw [if_neg (by decide), if_pos rfl]
theorem ml_er2 : ml_er 2 c a b r = upd r a (r a - r b) := by unfold ml_er; rw [if_neg (by decide), if_neg (by decide), if_pos rfl]
theorem ml_er3 : ml_er 3 c a b r = upd r a (r a * r b) := by unfold ml_er; rw [if_neg (by decide), if_neg (by decide), if_neg (by decide), if_pos rfl]
theorem ml_er4 : ml_er 4 c a b r = upd r a (if r b ≤ r a then r b else r a) := by unfold ml_er; rw [if_neg (by decide), if_neg (by decide), if_neg (by decide), if_neg (by decide), if_pos rfl]
theorem ml_er5 : ml_er 5 c a b r = r := by unfold ml_er; rw [if_neg (by decide), if_neg (by decide), if_neg (by decide), if_neg (by decide), if_neg (by decide), if_pos rfl]
theorem ml_er6 : ml_er 6 c a b r = r := by unfold ml_er; rw [if_neg (by decide), if_neg (by decide), if_neg (by decide), if_neg (by decide), if_neg (by decide), if_neg (by decide), if_pos rfl]
theorem ml_er7 (n0 : ¬ o = 0) (n1 : ¬ o = 1) (n2 : ¬ o = 2) (n3 : ¬ o = 3) (n4 : ¬ o = 4) (n5 : ¬ o = 5) (n6 : ¬ o = 6) : ml_er o c a b r = upd r a (r a + c) := by unfold ml_er; rw [if_neg n0, if_neg n1, if_neg n2, if_neg n3, if_neg n4, if_neg n5, if_neg n6]
theorem ml_ep5 : ml_ep 5 c p a b r = if r b ≤ r a then p + 1 else c := by unfold ml_ep; rw [if_pos rfl]
theorem ml_ep6 : ml_ep 6 c p a b r = if r a = 0 then c else p + 1 := by unfold ml_ep; rw [if_neg (by decide), if_pos rfl]
theorem ml_epn (n5 : ¬ o = 5) (n6 : ¬ o = 6) : ml_ep o c p a b r = p + 1 := by unfold ml_ep; rw [if_neg n5, if_neg n6]
end
theorem ml_o7 (o : Int32) : o = 0 ∨ o = 1 ∨ o = 2 ∨ o = 3 ∨ o = 4 ∨ o = 5 ∨ o = 6 ∨ (¬ o = 0 ∧ ¬ o = 1 ∧ ¬ o = 2 ∧ ¬ o = 3 ∧ ¬ o = 4 ∧ ¬ o = 5 ∧ ¬ o = 6 ∧ (o < 0 ∨ 6 < o)) := by
  by_cases h : o < 0
  · have hn : ∀ c : Int32, ¬ c < 0 → ¬ o = c := fun c hc e => hc (e ▸ h)
    exact Or.inr (Or.inr (Or.inr (Or.inr (Or.inr (Or.inr (Or.inr ⟨hn 0 (by decide), hn 1 (by decide), hn 2 (by decide), hn 3 (by decide), hn 4 (by decide), hn 5 (by decide), hn 6 (by decide), Or.inl h⟩))))))
  · by_cases h6 : 6 < o
    · have hn : ∀ c : Int32, ¬ 6 < c → ¬ o = c := fun c hc e => hc (e ▸ h6)
      exact Or.inr (Or.inr (Or.inr (Or.inr (Or.inr (Or.inr (Or.inr ⟨hn 0 (by decide), hn 1 (by decide), hn 2 (by decide), hn 3 (by decide), hn 4 (by decide), hn 5 (by decide), hn 6 (by decide), Or.inr h6⟩))))))
    · obtain ⟨j, hj, rfl⟩ := nI_of2 (M := 6) (n := 6) (by decide) h (Int32.not_lt.mp h6)
      have : j = 0 ∨ j = 1 ∨ j = 2 ∨ j = 3 ∨ j = 4 ∨ j = 5 ∨ j = 6 := by omega
      rcases this with rfl | rfl | rfl | rfl | rfl | rfl | rfl
      · exact Or.inl rfl
      · exact Or.inr (Or.inl rfl)
      · exact Or.inr (Or.inr (Or.inl rfl))
      · exact Or.inr (Or.inr (Or.inr (Or.inl rfl)))
      · exact Or.inr (Or.inr (Or.inr (Or.inr (Or.inl rfl))))
      · exact Or.inr (Or.inr (Or.inr (Or.inr (Or.inr (Or.inl rfl)))))
      · exact Or.inr (Or.inr (Or.inr (Or.inr (Or.inr (Or.inr (Or.inl rfl))))))
section
variable {A B : Nat → Nat} {sz ts ms : Nat} {rd mp mo mc : Int32} {op rg cn sx sy wo wa wh co cg en ou st mE mO mS re ki un ot : Nat → Int32}
theorem xc_carry {post : Int32 → SX → Prop} (hA : ∀ p, A p < 4 ∧ rg p &&& 3 = nI (A p)) (hB : ∀ p, B p < 4 ∧ rg p >>> ((2 : Int32) &&& 31) = nI (B p)) (b j : Nat) (hb : b ≤ 4) (hj : j < 12) (o c : Int32) (h : post (ml_ep o c (nI j) (b + A j) (b + B j) re) (nI sz, nI ts, nI ms, rd, mp, mo, mc, op, rg, cn, sx, sy, wo, wa, wh, co, cg, en, ou, st, mE, mO, mS, ml_er o c (b + A j) (b + B j) re, ki, un, ot)) : wpX_carryOut post (nI sz, nI ts, nI ms, rd, mp, mo, mc, op, rg, cn, sx, sy, wo, wa, wh, co, cg, en, ou, st, mE, mO, mS, re, ki, un, ot) (nI b) (nI j) o c := by
  have cj : (nI j).toNatClampNeg = j := nI_clamp (by omega)
  have ij : vp_in (nI j) 12 := vp_in_nI hj (by omega)
  have ha4 := (hA j).1
  have hb4 := (hB j).1
  have e5 : nI b + ((rg (nI j).toNatClampNeg) &&& 3) = nI (b + A j) := by rw [cj, (hA j).2, nI_add]
  have e6 : nI b + ((rg (nI j).toNatClampNeg) >>> ((2 : Int32) &&& 31)) = nI (b + B j) := by rw [cj, (hB j).2, nI_add]
  have i5 : vp_in (nI (b + A j)) 8 := vp_in_nI (by omega) (by omega)
  have i6 : vp_in (nI (b + B j)) 8 := vp_in_nI (by omega) (by omega)
  have c5 : (nI (b + A j)).toNatClampNeg = b + A j := nI_clamp (by omega)
  have c6 : (nI (b + B j)).toNatClampNeg = b + B j := nI_clamp (by omega)
  unfold wpX_carryOut
  refine ⟨ij, nm_r e5 ⟨ij, nm_r e6 ?_⟩⟩
  rw [c5, c6]
  rcases ml_o7 o with rfl | rfl | rfl | rfl | rfl | rfl | rfl | ⟨n0, n1, n2, n3, n4, n5, n6, hd⟩
  · rw [ml_epn (by decide) (by decide), ml_er0] at h
    exact (br_f (by decide) (br_f (by decide) (br_t rfl ⟨i5, nm_e h⟩)))
  · rw [ml_epn (by decide) (by decide), ml_er1] at h
    exact (br_f (by decide) (br_f (by decide) (br_f (by decide) (br_t rfl ⟨i5, i6, i5, nm_e h⟩))))
  · rw [ml_epn (by decide) (by decide), ml_er2] at h
    exact (br_f (by decide) (br_f (by decide) (br_f (by decide) (br_f (by decide) (br_t rfl ⟨i5, i6, i5, nm_e h⟩)))))
  · rw [ml_epn (by decide) (by decide), ml_er3] at h
    exact (br_f (by decide) (br_f (by decide) (br_f (by decide) (br_f (by decide) (br_f (by decide) (br_t rfl ⟨i5, i6, i5, nm_e h⟩))))))
  · rw [ml_epn (by decide) (by decide), ml_er4] at h
    refine (br_f (by decide) (br_f (by decide) (br_f (by decide) (br_f (by decide) (br_f (by decide) (br_f (by decide) (br_t rfl ⟨i5, i6, br_c (fun q => ⟨i6, i5, nm_e ?_⟩) (fun q => ⟨i5, i5, nm_e ?_⟩)⟩)))))))
    · rw [if_pos q] at h; exact h
    · rw [if_neg q] at h; exact h
  · rw [ml_ep5, ml_er5] at h
    refine (br_f (by decide) (br_f (by decide) (br_f (by decide) (br_f (by decide) (br_f (by decide) (br_f (by decide) (br_f (by decide) (br_t rfl ⟨i5, i6, br_c (fun q => ?_) (fun q => ?_)⟩))))))))
    · rw [if_pos q] at h; exact h
    · rw [if_neg q] at h; exact h
  · rw [ml_ep6, ml_er6] at h
    refine (br_f (by decide) (br_f (by decide) (br_f (by decide) (br_f (by decide) (br_f (by decide) (br_f (by decide) (br_f (by decide) (br_f (by decide) (br_t rfl ⟨i5, br_c (fun q => ?_) (fun q => ?_)⟩)))))))))
    · rw [if_pos q] at h; exact h
    · rw [if_neg q] at h; exact h
  · rw [ml_epn n5 n6, ml_er7 n0 n1 n2 n3 n4 n5 n6] at h
    by_cases h0 : o < 0
    · exact br_t h0 ⟨i5, i5, nm_e h⟩
    · rcases hd with hd | hd
      · exact absurd hd h0
      · exact br_f h0 (br_t hd ⟨i5, i5, nm_e h⟩)
end
section
variable {A B : Nat → Nat} {sz ts ms : Nat} {fe fc : Int32} {op ya yb cn sx sy wo wa wh co cg ar : Nat → Int32}
theorem yc_carry {post : Int32 → SY → Prop} (a b : Nat) (ha : a < 4) (hb : b < 4) (o c p : Int32) (h : ∀ ar', ml_vw 0 ar' = ml_er o c a b (ml_vw 0 ar) → post (ml_ep o c p a b (ml_vw 0 ar)) (nI sz, nI ts, nI ms, fe, fc, op, ya, yb, cn, sx, sy, wo, wa, wh, co, cg, ar')) : wpY_carryOut post (nI sz, nI ts, nI ms, fe, fc, op, ya, yb, cn, sx, sy, wo, wa, wh, co, cg, ar) o (nI a) (nI b) c p := by
  have ia : vp_in (nI a) 4 := vp_in_nI ha (by omega)
  have ib : vp_in (nI b) 4 := vp_in_nI hb (by omega)
  have ca : (nI a).toNatClampNeg = a := nI_clamp (by omega)
  have cb : (nI b).toNatClampNeg = b := nI_clamp (by omega)
  have va : ml_vw 0 ar a = ar a := by rw [ml_vw_at ha, Nat.zero_add]
  have vb : ml_vw 0 ar b = ar b := by rw [ml_vw_at hb, Nat.zero_add]
  have vu : ∀ x, ml_vw 0 (upd ar a x) = upd (ml_vw 0 ar) a x := by
    intro x
    have := ml_vw_upd (b := 0) (f := ar) (x := x) ha
    rw [Nat.zero_add] at this
    exact this
  unfold wpY_carryOut
  dsimp only
  rw [ca, cb]
  rcases ml_o7 o with rfl | rfl | rfl | rfl | rfl | rfl | rfl | ⟨n0, n1, n2, n3, n4, n5, n6, hd⟩
  · rw [ml_epn (by decide) (by decide), ml_er0] at h
    exact (br_t rfl ⟨ia, nm_e (h _ (vu _))⟩)
  · rw [ml_epn (by decide) (by decide), ml_er1, va, vb] at h
    exact (br_f (by decide) (br_t rfl ⟨ia, ib, ia, nm_e (h _ (vu _))⟩))
  · rw [ml_epn (by decide) (by decide), ml_er2, va, vb] at h
    exact (br_f (by decide) (br_f (by decide) (br_t rfl ⟨ia, ib, ia, nm_e (h _ (vu _))⟩)))
  · rw [ml_epn (by decide) (by decide), ml_er3, va, vb] at h
    exact (br_f (by decide) (br_f (by decide) (br_f (by decide) (br_t rfl ⟨ia, ib, ia, nm_e (h _ (vu _))⟩))))
  · rw [ml_epn (by decide) (by decide), ml_er4, va, vb] at h
    refine (br_f (by decide) (br_f (by decide) (br_f (by decide) (br_f (by decide) (br_t rfl ⟨ib, ia, br_c (fun q => ⟨ia, ia, nm_e ?_⟩) (fun q => ⟨ib, ia, nm_e ?_⟩)⟩)))))
    · refine h _ ((vu _).trans (congrArg (upd (ml_vw 0 ar) a) ?_))
      by_cases q2 : ar b ≤ ar a
      · rw [if_pos q2]; exact Int32.le_antisymm q q2
      · rw [if_neg q2]
    · refine h _ ((vu _).trans (congrArg (upd (ml_vw 0 ar) a) ?_))
      rw [if_pos (Int32.le_of_lt (Int32.not_le.mp q))]
  · rw [ml_ep5, ml_er5, va, vb] at h
    refine (br_f (by decide) (br_f (by decide) (br_f (by decide) (br_f (by decide) (br_f (by decide) (br_t rfl ⟨ia, ib, br_c (fun q => ?_) (fun q => ?_)⟩))))))
    · have := h _ rfl; rw [if_pos q] at this; exact this
    · have := h _ rfl; rw [if_neg q] at this; exact this
  · rw [ml_ep6, ml_er6, va] at h
    refine (br_f (by decide) (br_f (by decide) (br_f (by decide) (br_f (by decide) (br_f (by decide) (br_f (by decide) (br_t rfl ⟨ia, br_c (fun q => ?_) (fun q => ?_)⟩)))))))
    · have := h _ rfl; rw [if_pos q] at this; exact this
    · have := h _ rfl; rw [if_neg q] at this; exact this
  · rw [ml_epn n5 n6, ml_er7 n0 n1 n2 n3 n4 n5 n6, va] at h
    exact br_f n0 (br_f n1 (br_f n2 (br_f n3 (br_f n4 (br_f n5 (br_f n6 ⟨ia, ia, nm_e (h _ (vu _))⟩))))))
end
end
section
/-! ===== the reference's run ===== -/
/-- the program (O, C) that the reference runs for its argument x1 -/
def ml_sel (op cn wh co cg : Nat → Int32) (x1 : Int32) (O C : Nat → Int32) : Prop :=
  (x1 < 0 ∧ O = op ∧ C = cn) ∨ ∃ m : Nat, m < 24 ∧ x1 = nI m ∧ O = ml_O op wh co cg m ∧ C = ml_C cn wh co cg m
theorem ml_sel_p {op cn wh co cg : Nat → Int32} : ml_sel op cn wh co cg (-1) op cn := Or.inl ⟨by decide, rfl, rfl⟩
theorem ml_sel_m {op cn wh co cg : Nat → Int32} {m : Nat} (h : m < 24) : ml_sel op cn wh co cg (nI m) (ml_O op wh co cg m) (ml_C cn wh co cg m) := Or.inr ⟨m, h, rfl, rfl, rfl⟩
section
variable {A B : Nat → Nat} {sz ts ms : Nat} {fe fc : Int32} {op ya yb cn sx sy wo wa wh co cg ar : Nat → Int32}
theorem yr_121 {post : SY → Prop} {J : Int32 → Int32 → Int32 → Int32 → Int32 → Int32 → Int32 → (Nat → Int32) → (Nat → Int32) → (Nat → Int32) → (Nat → Int32) → (Nat → Int32) → (Nat → Int32) → (Nat → Int32) → (Nat → Int32) → (Nat → Int32) → (Nat → Int32) → (Nat → Int32) → (Nat → Int32) → Prop} (hA : ∀ p, A p < 4 ∧ ya p = nI (A p)) (hB : ∀ p, B p < 4 ∧ yb p = nI (B p)) (x1 : Int32) (j i n : Nat) (hj : j < 12) (o c : Int32) (h : ∀ ar', ml_vw 0 ar' = ml_er o c (A j) (B j) (ml_vw 0 ar) → J (ml_ep o c (nI j) (A j) (B j) (ml_vw 0 ar)) (nI (i + 1)) (nI sz) (nI ts) (nI ms) fe (nI (n + 1)) op ya yb cn sx sy wo wa wh co cg ar') : wY_run_121 post J x1 (nI j) (nI i) o c (nI sz) (nI ts) (nI ms) fe (nI n) op ya yb cn sx sy wo wa wh co cg ar := by
  have cj : (nI j).toNatClampNeg = j := nI_clamp (by omega)
  have ij : vp_in (nI j) 12 := vp_in_nI hj (by omega)
  unfold wY_run_121
  refine ⟨ij, ij, ?_⟩
  rw [cj, (hA j).2, (hB j).2]
  refine yc_carry (fc := nI n) (A j) (B j) (hA j).1 (hB j).1 o c (nI j) ?_
  intro ar' e
  exact nm_r (nI_1 n) (nm_r (nI_1 i) (h ar' e))
theorem yr_39 {post : SY → Prop} (hA : ∀ p, A p < 4 ∧ ya p = nI (A p)) (hB : ∀ p, B p < 4 ∧ yb p = nI (B p)) (hs : sz ≤ 12) {O C : Nat → Int32} {x1 : Int32} (hM : ml_sel op cn wh co cg x1 O C) : ∀ (k i : Nat) (p : Int32) (n N : Nat) (ar : Nat → Int32), i + k = 100 → k < N → (∀ ar', ml_vw 0 ar' = (ml_go O C A B sz k p (ml_vw 0 ar) n).2.1 → post (nI sz, nI ts, nI ms, ml_E sz (ml_go O C A B sz k p (ml_vw 0 ar) n), nI (ml_go O C A B sz k p (ml_vw 0 ar) n).2.2, op, ya, yb, cn, sx, sy, wo, wa, wh, co, cg, ar')) → wY_run_39 post x1 N p (nI i) (nI sz) (nI ts) (nI ms) fe (nI n) op ya yb cn sx sy wo wa wh co cg ar := by
  intro k
  induction k with
  | zero =>
    intro i p n N ar hi hN h
    obtain ⟨N, rfl⟩ : ∃ N', N = N' + 1 := ⟨N - 1, by omega⟩
    obtain rfl : i = 100 := by omega
    have h' := h ar rfl
    unfold ml_E at h'
    rw [ml_go] at h'
    rcases ml_pl hs p with hp | ⟨hp, _, hp2⟩ | ⟨j, hj, rfl⟩
    · rw [ml_in_neg hp] at h'
      exact br_t (by decide) (br_t hp h')
    · rw [ml_in_ge hp2] at h'
      exact br_t (by decide) (br_f hp (br_f hp2 h'))
    · rw [ml_in_j hj hs] at h'
      exact br_t (by decide) (br_f (nI_pos (by omega)) (br_t (nI_lt hj (by omega)) h'))
  | succ k ih =>
    intro i p n N ar hi hN h
    obtain ⟨N, rfl⟩ : ∃ N', N = N' + 1 := ⟨N - 1, by omega⟩
    have hi' : ¬ (100 : Int32) ≤ nI i := nI_ge (b := 100) (by omega) (by decide)
    rcases ml_pl hs p with hp | ⟨hp, hp1, hp2⟩ | ⟨j, hj, rfl⟩
    · refine br_f hi' (br_t hp (nm_r (nI_1 i) (ih (i + 1) p n N ar (by omega) (by omega) ?_)))
      rw [ml_go_out (ml_in_neg hp)] at h ⊢
      exact h
    · refine br_f hi' (br_f hp (br_t hp1 (nm_r (nI_1 i) (ih (i + 1) p n N ar (by omega) (by omega) ?_))))
      rw [ml_go_out (ml_in_ge hp2)] at h ⊢
      exact h
    · have cj : (nI j).toNatClampNeg = j := nI_clamp (by omega)
      have ij : vp_in (nI j) 12 := vp_in_nI (by omega) (by omega)
      rw [ml_go_in hj hs] at h
      have K : wY_run_121 post (wY_run_39 post x1 N) x1 (nI j) (nI i) (O j) (C j) (nI sz) (nI ts) (nI ms) fe (nI n) op ya yb cn sx sy wo wa wh co cg ar := by
        refine yr_121 hA hB x1 j i n (by omega) (O j) (C j) ?_
        intro ar' e
        refine ih (i + 1) _ (n + 1) N ar' (by omega) (by omega) ?_
        rw [e]
        exact h
      refine br_f hi' (br_f (nI_pos (by omega)) (br_f (nI_ge hj (by omega)) ⟨ij, nm_r (congrArg op cj) ⟨ij, nm_r (congrArg cn cj) ?_⟩⟩))
      rcases hM with ⟨hx, rfl, rfl⟩ | ⟨m, hm, rfl, rfl, rfl⟩
      · exact br_t hx K
      · have cm : (nI m).toNatClampNeg = m := nI_clamp (by omega)
        have im : vp_in (nI m) 24 := vp_in_nI hm (by omega)
        refine br_f (nI_pos (by omega)) ⟨im, ?_⟩
        rw [cm]
        unfold ml_O ml_C at K
        refine br_c (fun q => ⟨im, br_c (fun z => ⟨im, nm_e ?_⟩) (fun z => ⟨im, nm_e ?_⟩)⟩) (fun q => ?_)
        · rw [if_neg (fun w => w.2 z), if_pos ⟨q, z⟩] at K
          exact K
        · rw [if_pos ⟨q, z⟩, if_neg (fun w => z w.2)] at K
          exact K
        · rw [if_neg (fun w => q w.1), if_neg (fun w => q w.1)] at K
          exact K
theorem yr_run {post : SY → Prop} (hA : ∀ p, A p < 4 ∧ ya p = nI (A p)) (hB : ∀ p, B p < 4 ∧ yb p = nI (B p)) (hs : sz ≤ 12) {O C : Nat → Int32} {x1 : Int32} (hM : ml_sel op cn wh co cg x1 O C) (x y : Int32) (h : ∀ ar', ar' 0 = (ml_run O C A B sz x y).2.1 0 → post (nI sz, nI ts, nI ms, ml_E sz (ml_run O C A B sz x y), nI (ml_run O C A B sz x y).2.2, op, ya, yb, cn, sx, sy, wo, wa, wh, co, cg, ar')) : wpY_run post (nI sz, nI ts, nI ms, fe, fc, op, ya, yb, cn, sx, sy, wo, wa, wh, co, cg, ar) x1 x y := by
  unfold wpY_run
  refine nm_e (nm_e (nm_e (nm_e ⟨101, ?_⟩)))
  refine yr_39 hA hB hs hM 100 0 0 0 101 _ rfl (by omega) ?_
  rw [ml_vw_r0]
  intro ar' e
  refine h ar' ?_
  have := congrFun e 0
  rw [ml_vw_at (by omega)] at this
  exact this
end
end
section
/-! ===== X: a mutant goes on alone ===== -/
theorem ml_nb0 : vp_nar .boolean 0 = 0 := rfl
theorem ml_nb1 : vp_nar .boolean 1 = 1 := rfl
theorem ml_nbE (sz : Nat) (R : Int32 × (Nat → Int32) × Nat) : vp_nar .boolean (ml_E sz R) = ml_E sz R := by
  rcases ml_E01 sz R with e | e <;> rw [e] <;> rfl
theorem ml_ix {t m : Nat} : nI t * 24 + nI m = nI (t * 24 + m) := by
  show nI t * nI 24 + nI m = _
  rw [pk_mul, nI_add]
section
variable {A B : Nat → Nat} {sz ts ms : Nat} {rd mp mo mc : Int32} {op rg cn sx sy wo wa wh co cg en ou st mE mO mS re ki un ot : Nat → Int32}
theorem xs_step {post : Int32 → SX → Prop} (hA : ∀ p, A p < 4 ∧ rg p &&& 3 = nI (A p)) (hB : ∀ p, B p < 4 ∧ rg p >>> ((2 : Int32) &&& 31) = nI (B p)) {O C : Nat → Int32} (hP : ∀ j, j < 12 → (nI j = mp → O j = mo ∧ C j = mc) ∧ (¬ nI j = mp → O j = op j ∧ C j = cn j)) (j : Nat) (hj : j < 12) (h : post (ml_ep (O j) (C j) (nI j) (4 + A j) (4 + B j) re) (nI sz, nI ts, nI ms, rd, mp, mo, mc, op, rg, cn, sx, sy, wo, wa, wh, co, cg, en, ou, st, mE, mO, mS, ml_er (O j) (C j) (4 + A j) (4 + B j) re, ki, un, ot)) : wpX_stepMutant post (nI sz, nI ts, nI ms, rd, mp, mo, mc, op, rg, cn, sx, sy, wo, wa, wh, co, cg, en, ou, st, mE, mO, mS, re, ki, un, ot) (nI j) := by
  have cj : (nI j).toNatClampNeg = j := nI_clamp (by omega)
  have ij : vp_in (nI j) 12 := vp_in_nI hj (by omega)
  unfold wpX_stepMutant
  refine br_c (fun q => ?_) (fun q => ⟨ij, ij, ?_⟩)
  · obtain ⟨e1, e2⟩ := (hP j hj).1 q
    rw [e1, e2] at h
    exact xc_carry hA hB 4 j (by omega) hj mo mc h
  · obtain ⟨e1, e2⟩ := (hP j hj).2 q
    rw [e1, e2] at h
    rw [cj]
    exact xc_carry hA hB 4 j (by omega) hj (op j) (cn j) h
theorem xs_186 {post : SX → Prop} (i : Nat) (hi : i < 144) (R : Int32 × (Nat → Int32) × Nat) (hR : R.2.1 0 = re 4) (h : post (nI sz, nI ts, nI ms, rd, mp, mo, mc, op, rg, cn, sx, sy, wo, wa, wh, co, cg, en, ou, st, upd mE i (ml_E sz R), upd mO i (ml_Ou sz R), upd mS i (nI R.2.2), re, ki, un, ot)) : wX_split_186 post (nI R.2.2) (nI i) (ml_E sz R) (nI i) (nI sz) (nI ts) (nI ms) rd mp mo mc op rg cn sx sy wo wa wh co cg en ou st mE mO mS re ki un ot := by
  have ci : (nI i).toNatClampNeg = i := nI_clamp (by omega)
  have ii : vp_in (nI i) 144 := vp_in_nI hi (by omega)
  unfold wX_split_186
  rw [ci]
  refine ⟨ii, nm_r (congrArg (upd mE i) (ml_nbE sz R)) ⟨ii, ?_⟩⟩
  rw [pk_us]
  unfold ml_E ml_Ou at h
  unfold ml_E
  rcases Bool.eq_false_or_eq_true (ml_in sz R.1) with e | e
  · rw [e, if_pos rfl] at h ⊢
    rw [if_pos rfl] at h
    exact br_t rfl ⟨ii, nm_e ⟨ii, nm_e h⟩⟩
  · rw [e, if_neg (by decide)] at h ⊢
    rw [if_neg (by decide), hR] at h
    exact br_f (by decide) ⟨ii, nm_e ⟨ii, nm_e h⟩⟩
theorem xs_153 {post : SX → Prop} (hs : sz ≤ 12) (t m : Nat) (ht : t < 6) (hm : m < 24) (R : Int32 × (Nat → Int32) × Nat) (hR : R.2.1 0 = re 4) (h : post (nI sz, nI ts, nI ms, rd, mp, mo, mc, op, rg, cn, sx, sy, wo, wa, wh, co, cg, en, ou, st, upd mE (t * 24 + m) (ml_E sz R), upd mO (t * 24 + m) (ml_Ou sz R), upd mS (t * 24 + m) (nI R.2.2), re, ki, un, ot)) : wX_split_153 post (nI t) (nI m) R.1 (nI R.2.2) (nI sz) (nI ts) (nI ms) rd mp mo mc op rg cn sx sy wo wa wh co cg en ou st mE mO mS re ki un ot := by
  have K := xs_186 (t * 24 + m) (by omega) R hR h
  unfold wX_split_153
  refine nm_r ml_ix ?_
  unfold ml_E at K
  rcases ml_pl hs R.1 with hp | ⟨hp, hp1, hp2⟩ | ⟨j, hj, e⟩
  · rw [ml_in_neg hp, if_neg (by decide)] at K
    exact br_t hp K
  · rw [ml_in_ge hp2, if_neg (by decide)] at K
    exact br_f hp (br_f hp2 K)
  · rw [e, ml_in_j hj hs, if_pos rfl] at K
    rw [e]
    exact br_f (nI_pos (by omega)) (br_t (nI_lt hj (by omega)) K)
theorem xs_118 {post : SX → Prop} (hA : ∀ p, A p < 4 ∧ rg p &&& 3 = nI (A p)) (hB : ∀ p, B p < 4 ∧ rg p >>> ((2 : Int32) &&& 31) = nI (B p)) (hs : sz ≤ 12) {O C : Nat → Int32} (hP : ∀ j, j < 12 → (nI j = mp → O j = mo ∧ C j = mc) ∧ (¬ nI j = mp → O j = op j ∧ C j = cn j)) (x1 x2 : Int32) : ∀ (k i : Nat) (p : Int32) (N : Nat) (re : Nat → Int32), i + k = 100 → k < N → (∀ re', ml_vw 4 re' = (ml_go O C A B sz k p (ml_vw 4 re) i).2.1 → ml_vw 0 re' = ml_vw 0 re → wX_split_153 post x1 x2 (ml_go O C A B sz k p (ml_vw 4 re) i).1 (nI (ml_go O C A B sz k p (ml_vw 4 re) i).2.2) (nI sz) (nI ts) (nI ms) rd mp mo mc op rg cn sx sy wo wa wh co cg en ou st mE mO mS re' ki un ot) → wX_split_118 post x1 x2 N p (nI i) (nI sz) (nI ts) (nI ms) rd mp mo mc op rg cn sx sy wo wa wh co cg en ou st mE mO mS re ki un ot := by
  intro k
  induction k with
  | zero =>
    intro i p N re hi hN h
    obtain ⟨N, rfl⟩ : ∃ N', N = N' + 1 := ⟨N - 1, by omega⟩
    obtain rfl : i = 100 := by omega
    exact br_t (by decide) (h re rfl rfl)
  | succ k ih =>
    intro i p N re hi hN h
    obtain ⟨N, rfl⟩ : ∃ N', N = N' + 1 := ⟨N - 1, by omega⟩
    have hi' : ¬ (100 : Int32) ≤ nI i := nI_ge (b := 100) (by omega) (by decide)
    rcases ml_pl hs p with hp | ⟨hp, hp1, hp2⟩ | ⟨j, hj, rfl⟩
    · rw [ml_go_out (ml_in_neg hp)] at h
      exact br_f hi' (br_t hp (h re rfl rfl))
    · rw [ml_go_out (ml_in_ge hp2)] at h
      exact br_f hi' (br_f hp (br_t hp1 (h re rfl rfl)))
    · rw [ml_go_in hj hs] at h
      refine br_f hi' (br_f (nI_pos (by omega)) (br_f (nI_ge hj (by omega)) ?_))
      refine xs_step hA hB hP j (by omega) ?_
      refine nm_r (nI_1 i) (ih (i + 1) _ N _ (by omega) (by omega) ?_)
      rw [ml_vw_er _ _ (hA j).1 (hB j).1, ml_vw_ep _ _ _ (hA j).1 (hB j).1, ml_vw0_er]
      exact h
/-- what a mutant's place, op and c make of the program -/
theorem xs_prog {m w : Nat} (hw : wh m = nI w) (hw2 : w < 12) (z0 z1 : Int32) (h0 : z0 = if co m = 0 then op w else cg m) (h1 : z1 = if co m = 0 then cg m else cn w) (j : Nat) (hj : j < 12) : (nI j = wh m → (ml_O op wh co cg m) j = z0 ∧ (ml_C cn wh co cg m) j = z1) ∧ (¬ nI j = wh m → (ml_O op wh co cg m) j = op j ∧ (ml_C cn wh co cg m) j = cn j) := by
  unfold ml_O ml_C
  subst h0 h1
  refine ⟨fun q => ?_, fun q => ?_⟩
  · have e : j = w := (nI_eq (by omega) (by omega)).mp (q.trans hw)
    subst e
    by_cases z : co m = 0
    · exact ⟨(if_neg (fun k => k.2 z)).trans (if_pos z).symm, (if_pos ⟨hw, z⟩).trans (if_pos z).symm⟩
    · exact ⟨(if_pos ⟨hw, z⟩).trans (if_neg z).symm, (if_neg (fun k => z k.2)).trans (if_neg z).symm⟩
  · rw [if_neg (fun k => q k.1.symm), if_neg (fun k => q k.1.symm)]
    exact ⟨rfl, rfl⟩
theorem xs_104 {post : SX → Prop} (hA : ∀ p, A p < 4 ∧ rg p &&& 3 = nI (A p)) (hB : ∀ p, B p < 4 ∧ rg p >>> ((2 : Int32) &&& 31) = nI (B p)) (hs : sz ≤ 12) (t m n w : Nat) (ht : t < 6) (hm : m < 24) (hn : n ≤ 100) (hw : wh m = nI w) (hw2 : w < sz) (z0 z1 : Int32) (h0 : z0 = if co m = 0 then op w else cg m) (h1 : z1 = if co m = 0 then cg m else cn w) (h : ∀ re', ml_vw 0 re' = ml_vw 0 re → post (nI sz, nI ts, nI ms, rd, wh m, z0, z1, op, rg, cn, sx, sy, wo, wa, wh, co, cg, en, ou, st, upd mE (t * 24 + m) (ml_E sz (ml_go (ml_O op wh co cg m) (ml_C cn wh co cg m) A B sz (100 - n) (nI w) (ml_vw 4 re) n)), upd mO (t * 24 + m) (ml_Ou sz (ml_go (ml_O op wh co cg m) (ml_C cn wh co cg m) A B sz (100 - n) (nI w) (ml_vw 4 re) n)), upd mS (t * 24 + m) (nI (ml_go (ml_O op wh co cg m) (ml_C cn wh co cg m) A B sz (100 - n) (nI w) (ml_vw 4 re) n).2.2), re', ki, un, ot)) : wX_split_104 post (nI t) (nI m) (nI n) z1 (nI sz) (nI ts) (nI ms) rd (wh m) z0 mc op rg cn sx sy wo wa wh co cg en ou st mE mO mS re ki un ot := by
  have cm : (nI m).toNatClampNeg = m := nI_clamp (by omega)
  have im : vp_in (nI m) 24 := vp_in_nI hm (by omega)
  unfold wX_split_104
  rw [cm]
  refine ⟨im, nm_r hw ⟨101, ?_⟩⟩
  refine xs_118 hA hB hs (fun j hj => xs_prog hw (by omega) z0 z1 h0 h1 j hj) (nI t) (nI m) (100 - n) n (nI w) 101 re (by omega) (by omega) ?_
  intro re' e4 e0
  refine xs_153 hs t m ht hm _ ?_ (h re' e0)
  have := congrFun e4 0
  rw [ml_vw_at (by omega)] at this
  exact this.symm
theorem xs_71 {post : SX → Prop} (hA : ∀ p, A p < 4 ∧ rg p &&& 3 = nI (A p)) (hB : ∀ p, B p < 4 ∧ rg p >>> ((2 : Int32) &&& 31) = nI (B p)) (hs : sz ≤ 12) (t m n w : Nat) (ht : t < 6) (hm : m < 24) (hn : n ≤ 100) (hw : wh m = nI w) (hw2 : w < sz) (z0 : Int32) (h0 : z0 = if co m = 0 then op w else cg m) (h : ∀ mo mc re', ml_vw 0 re' = ml_vw 0 re → post (nI sz, nI ts, nI ms, rd, wh m, mo, mc, op, rg, cn, sx, sy, wo, wa, wh, co, cg, en, ou, st, upd mE (t * 24 + m) (ml_E sz (ml_go (ml_O op wh co cg m) (ml_C cn wh co cg m) A B sz (100 - n) (nI w) (ml_vw 4 re) n)), upd mO (t * 24 + m) (ml_Ou sz (ml_go (ml_O op wh co cg m) (ml_C cn wh co cg m) A B sz (100 - n) (nI w) (ml_vw 4 re) n)), upd mS (t * 24 + m) (nI (ml_go (ml_O op wh co cg m) (ml_C cn wh co cg m) A B sz (100 - n) (nI w) (ml_vw 4 re) n).2.2), re', ki, un, ot)) : wX_split_71 post (nI t) (nI m) (nI n) z0 (nI sz) (nI ts) (nI ms) rd (wh m) mo mc op rg cn sx sy wo wa wh co cg en ou st mE mO mS re ki un ot := by
  have cm : (nI m).toNatClampNeg = m := nI_clamp (by omega)
  have im : vp_in (nI m) 24 := vp_in_nI hm (by omega)
  have iw : vp_in (wh m) 12 := by rw [hw]; exact vp_in_nI (by omega) (by omega)
  have cw : (wh m).toNatClampNeg = w := by rw [hw]; exact nI_clamp (by omega)
  unfold wX_split_71
  rw [cm, cw]
  refine ⟨im, br_c (fun z => ⟨im, ?_⟩) (fun z => ⟨im, iw, ?_⟩)⟩
  · exact xs_104 hA hB hs t m n w ht hm hn hw hw2 z0 (cg m) h0 (if_pos z).symm (h z0 (cg m))
  · exact xs_104 hA hB hs t m n w ht hm hn hw hw2 z0 (cn w) h0 (if_neg z).symm (h z0 (cn w))
theorem xs_3 {post : SX → Prop} (t m n w : Nat) (hm : m < 24) (hw : wh m = nI w) (hw2 : w < 12) (r : Nat → Int32) (h : ∀ re', ml_vw 4 re' = r → ml_vw 0 re' = r → wX_split_71 post (nI t) (nI m) (nI n) (if co m = 0 then op w else cg m) (nI sz) (nI ts) (nI ms) rd (wh m) mo mc op rg cn sx sy wo wa wh co cg en ou st mE mO mS re' ki un ot) : ∀ (d i N : Nat) (re : Nat → Int32), i + d = 4 → d < N → (∀ j, j < i → re (4 + j) = r j) → ml_vw 0 re = r → wX_split_3 post (nI t) (nI m) (nI n) (nI sz) (nI ts) (nI ms) rd mp mo mc N (nI i) op rg cn sx sy wo wa wh co cg en ou st mE mO mS re ki un ot := by
  have cm : (nI m).toNatClampNeg = m := nI_clamp (by omega)
  have im : vp_in (nI m) 24 := vp_in_nI hm (by omega)
  have iw : vp_in (wh m) 12 := by rw [hw]; exact vp_in_nI (by omega) (by omega)
  have cw : (wh m).toNatClampNeg = w := by rw [hw]; exact nI_clamp (by omega)
  intro d
  induction d with
  | zero =>
    intro i N re hi hN h4 h0
    obtain ⟨N, rfl⟩ : ∃ N', N = N' + 1 := ⟨N - 1, by omega⟩
    obtain rfl : i = 4 := by omega
    have e4 : ml_vw 4 re = r := by
      funext j
      by_cases hj : j < 4
      · rw [ml_vw_at hj, h4 j hj]
      · rw [← h0]; unfold ml_vw; rw [if_neg hj, if_neg hj]
    have K := h re e4 h0
    unfold wX_split_3
    refine br_t (by decide) ⟨im, ?_⟩
    rw [cm, cw]
    refine nm_e ⟨im, br_c (fun z => ⟨im, iw, ?_⟩) (fun z => ⟨im, ?_⟩)⟩
    · rw [if_pos z] at K
      exact K
    · rw [if_neg z] at K
      exact K
  | succ d ih =>
    intro i N re hi hN h4 h0
    obtain ⟨N, rfl⟩ : ∃ N', N = N' + 1 := ⟨N - 1, by omega⟩
    have ci : (nI i).toNatClampNeg = i := nI_clamp (by omega)
    have e4 : (4 : Int32) + nI i = nI (4 + i) := nI_add 4 i
    have c4 : ((4 : Int32) + nI i).toNatClampNeg = 4 + i := by rw [e4]; exact nI_clamp (by omega)
    have i4 : vp_in ((4 : Int32) + nI i) 8 := by rw [e4]; exact vp_in_nI (by omega) (by omega)
    unfold wX_split_3
    refine br_f (nI_ge (b := 4) (by omega) (by decide)) ⟨vp_in_nI (by omega) (by omega), i4, ?_⟩
    rw [c4, ci]
    refine nm_e (nm_r (nI_1 i) (ih (i + 1) N _ (by omega) (by omega) ?_ ?_))
    · intro j hj
      by_cases e : j = i
      · subst e
        rw [pk_us, ← h0, ml_vw_at (by omega), Nat.zero_add]
      · rw [pk_un (by omega)]
        exact h4 j (by omega)
    · rw [ml_vw0_upd]; exact h0
theorem xs_split {post : SX → Prop} (hA : ∀ p, A p < 4 ∧ rg p &&& 3 = nI (A p)) (hB : ∀ p, B p < 4 ∧ rg p >>> ((2 : Int32) &&& 31) = nI (B p)) (hs : sz ≤ 12) (t m n w : Nat) (ht : t < 6) (hm : m < 24) (hn : n ≤ 100) (hw : wh m = nI w) (hw2 : w < sz) (R : Int32 × (Nat → Int32) × Nat) (hR : ml_go (ml_O op wh co cg m) (ml_C cn wh co cg m) A B sz (100 - n) (nI w) (ml_vw 0 re) n = R) (h : ∀ mp mo mc re', ml_vw 0 re' = ml_vw 0 re → post (nI sz, nI ts, nI ms, rd, mp, mo, mc, op, rg, cn, sx, sy, wo, wa, wh, co, cg, en, ou, st, upd mE (t * 24 + m) (ml_E sz R), upd mO (t * 24 + m) (ml_Ou sz R), upd mS (t * 24 + m) (nI R.2.2), re', ki, un, ot)) : wpX_split post (nI sz, nI ts, nI ms, rd, mp, mo, mc, op, rg, cn, sx, sy, wo, wa, wh, co, cg, en, ou, st, mE, mO, mS, re, ki, un, ot) (nI t) (nI m) (nI n) := by
  subst hR
  unfold wpX_split
  refine ⟨5, xs_3 t m n w hm hw (by omega) (ml_vw 0 re) ?_ 4 0 5 re rfl (by omega) (fun j hj => absurd hj (by omega)) rfl⟩
  intro re' e4 e0
  refine xs_71 hA hB hs t m n w ht hm hn hw hw2 _ rfl ?_
  intro mo mc re2 e2
  rw [e4]
  exact h _ mo mc re2 (e2.trans e0)
end
end
section
/-! ===== X: all runs ===== -/
theorem xb_test (x : Int32) {j : Nat} (hj : j < 32) : (x >>> (nI j &&& 31)) &&& 1 = if bt x j = true then 1 else 0 := by
  apply b_ext
  intro i hi
  rw [b_and, b_sshr j hj x hi]
  have h1 : ∀ i, i < 32 → bt 1 i = decide (i = 0) := by decide +kernel
  rw [h1 i hi]
  by_cases e : i = 0
  · subst e
    rw [Nat.add_zero, if_pos hj]
    cases h : bt x j
    · rw [if_neg (by decide), b_0]; rfl
    · rw [if_pos rfl, h1 0 (by omega)]; rfl
  · rw [decide_eq_false e, Bool.and_false]
    cases h : bt x j
    · rw [if_neg (by decide), b_0]
    · rw [if_pos rfl, h1 i hi, decide_eq_false e]
theorem xb_0 {x : Int32} {j : Nat} (hj : j < 32) : (x >>> (nI j &&& 31)) &&& 1 = 0 ↔ bt x j = false := by
  rw [xb_test x hj]
  cases bt x j
  · rw [if_neg (by decide)]; exact ⟨fun _ => rfl, fun _ => rfl⟩
  · rw [if_pos rfl]; exact ⟨fun z => absurd z (by decide), fun z => absurd z (by decide)⟩
theorem xb_1 {x : Int32} {j : Nat} (hj : j < 32) : (x >>> (nI j &&& 31)) &&& 1 = 1 ↔ bt x j = true := by
  rw [xb_test x hj]
  cases bt x j
  · rw [if_neg (by decide)]; exact ⟨fun z => absurd z (by decide), fun z => absurd z (by decide)⟩
  · rw [if_pos rfl]; exact ⟨fun _ => rfl, fun _ => rfl⟩
theorem xb_one {i j : Nat} (hj : j < 32) (hi : i < 32) : bt ((1 : Int32) <<< (nI j &&& 31)) i = decide (i = j) := by
  have h1 : ∀ i, i < 32 → bt 1 i = decide (i = 0) := by decide +kernel
  rw [b_shl j hj 1 hi, h1 (i - j) (by omega)]
  by_cases e : i = j
  · rw [decide_eq_true e, decide_eq_true (by omega), decide_eq_true (by omega)]; rfl
  · rw [decide_eq_false e]
    by_cases h : j ≤ i
    · rw [decide_eq_false (p := i - j = 0) (by omega), Bool.and_false]
    · rw [decide_eq_false h, Bool.false_and]
theorem xb_set {x : Int32} {i j : Nat} (hj : j < 32) (hi : i < 32) : bt (x ||| ((1 : Int32) <<< (nI j &&& 31))) i = (bt x i || decide (i = j)) := by
  rw [b_or, xb_one hj hi]
def ml_CH (op cn wh co cg sx sy : Nat → Int32) (A B : Nat → Nat) (sz t m : Nat) (mE mO mS : Nat → Int32) : Prop := ml_PC sz (ml_run (ml_O op wh co cg m) (ml_C cn wh co cg m) A B sz (sx t) (sy t)) (t * 24 + m) mE mO mS
def ml_OK (op cn wh co cg sx sy : Nat → Int32) (A B : Nat → Nat) (sz ts ms : Nat) (en ou st mE mO mS : Nat → Int32) : Prop :=
  (∀ t, t < ts → ml_PC sz (ml_run op cn A B sz (sx t) (sy t)) t en ou st) ∧ ∀ t, t < ts → ∀ m, m < ms → ml_CH op cn wh co cg sx sy A B sz t m mE mO mS
section
variable {A B : Nat → Nat} {sz ts ms : Nat} {rd mp mo mc : Int32} {op rg cn sx sy wo wa wh co cg en ou st mE mO mS re ki un ot : Nat → Int32}
theorem ch_put {t m : Nat} (hm : m < 24) {R : Int32 × (Nat → Int32) × Nat} (hR : R = (ml_run (ml_O op wh co cg m) (ml_C cn wh co cg m) A B sz (sx t) (sy t))) {t' m' : Nat} (hm' : m' < 24) (h : ml_CH op cn wh co cg sx sy A B sz t' m' mE mO mS) : ml_CH op cn wh co cg sx sy A B sz t' m' (upd mE (t * 24 + m) (ml_E sz R)) (upd mO (t * 24 + m) (ml_Ou sz R)) (upd mS (t * 24 + m) (nI R.2.2)) := by
  subst hR
  by_cases e : t' = t ∧ m' = m
  · obtain ⟨rfl, rfl⟩ := e
    exact ml_PC_put
  · exact ml_PC_keep h (by omega)
theorem ch_new {t m : Nat} {R : Int32 × (Nat → Int32) × Nat} (hR : R = (ml_run (ml_O op wh co cg m) (ml_C cn wh co cg m) A B sz (sx t) (sy t))) : ml_CH op cn wh co cg sx sy A B sz t m (upd mE (t * 24 + m) (ml_E sz R)) (upd mO (t * 24 + m) (ml_Ou sz R)) (upd mS (t * 24 + m) (nI R.2.2)) := by
  subst hR
  exact ml_PC_put
theorem xs_all3 {post : SX → Prop} (hA : ∀ p, A p < 4 ∧ rg p &&& 3 = nI (A p)) (hB : ∀ p, B p < 4 ∧ rg p >>> ((2 : Int32) &&& 31) = nI (B p)) (hs : sz ≤ 12) (hms : ms ≤ 24) (t n j : Nat) (ht : t < 6) (hn : n ≤ 100) (hj : j < sz) (r : Nat → Int32) (hgo : ∀ m, m < ms → wh m = nI j → ml_go (ml_O op wh co cg m) (ml_C cn wh co cg m) A B sz (100 - n) (nI j) r n = (ml_run (ml_O op wh co cg m) (ml_C cn wh co cg m) A B sz (sx t) (sy t))) (aE aO aS : Nat → Int32)
  (h : ∀ mp mo mc mE mO mS re, ml_vw 0 re = r → (∀ m, m < ms → wh m = nI j → ml_CH op cn wh co cg sx sy A B sz t m mE mO mS) → (∀ t' m', m' < 24 → ml_CH op cn wh co cg sx sy A B sz t' m' aE aO aS → ml_CH op cn wh co cg sx sy A B sz t' m' mE mO mS) → post (nI sz, nI ts, nI ms, rd, mp, mo, mc, op, rg, cn, sx, sy, wo, wa, wh, co, cg, en, ou, st, mE, mO, mS, re, ki, un, ot)) :
  ∀ (d i N : Nat) (mp mo mc : Int32) (mE mO mS re : Nat → Int32), i + d = ms → d < N → ml_vw 0 re = r → (∀ m, m < i → wh m = nI j → ml_CH op cn wh co cg sx sy A B sz t m mE mO mS) → (∀ t' m', m' < 24 → ml_CH op cn wh co cg sx sy A B sz t' m' aE aO aS → ml_CH op cn wh co cg sx sy A B sz t' m' mE mO mS) → wX_splitAll_3 post (nI t) (nI j) (nI n) N (nI i) (nI sz) (nI ts) (nI ms) rd mp mo mc op rg cn sx sy wo wa wh co cg en ou st mE mO mS re ki un ot := by
  intro d
  induction d with
  | zero =>
    intro i N mp mo mc mE mO mS re hi hN hr h1 h2
    obtain ⟨N, rfl⟩ : ∃ N', N = N' + 1 := ⟨N - 1, by omega⟩
    obtain rfl : i = ms := by omega
    exact br_t (nI_le (Nat.le_refl _) (by omega)) (h mp mo mc mE mO mS re hr h1 h2)
  | succ d ih =>
    intro i N mp mo mc mE mO mS re hi hN hr h1 h2
    obtain ⟨N, rfl⟩ : ∃ N', N = N' + 1 := ⟨N - 1, by omega⟩
    have ci : (nI i).toNatClampNeg = i := nI_clamp (by omega)
    unfold wX_splitAll_3
    refine br_f (nI_ge (by omega) (by omega)) ⟨vp_in_nI (by omega) (by omega), ?_⟩
    rw [ci]
    refine br_c (fun q => ?_) (fun q => nm_r (nI_1 i) ?_)
    · have hR := hgo i (by omega) q
      rw [← hr] at hR
      refine xs_split hA hB hs t i n j ht (by omega) hn q hj _ hR ?_
      intro mp' mo' mc' re' e
      refine nm_r (nI_1 i) (ih (i + 1) N mp' mo' mc' _ _ _ re' (by omega) (by omega) (e.trans hr) ?_ ?_)
      · intro m hm hw
        by_cases e2 : m = i
        · subst e2
          exact ch_new rfl
        · exact ch_put (by omega) rfl (by omega) (h1 m (by omega) hw)
      · intro t' m' hm' h'
        exact ch_put (by omega) rfl hm' (h2 t' m' hm' h')
    · refine ih (i + 1) N mp mo mc mE mO mS re (by omega) (by omega) hr ?_ h2
      intro m hm hw
      by_cases e2 : m = i
      · subst e2
        exact absurd hw q
      · exact h1 m (by omega) hw
theorem xs_all {post : SX → Prop} (hA : ∀ p, A p < 4 ∧ rg p &&& 3 = nI (A p)) (hB : ∀ p, B p < 4 ∧ rg p >>> ((2 : Int32) &&& 31) = nI (B p)) (hs : sz ≤ 12) (hms : ms ≤ 24) (t n j : Nat) (ht : t < 6) (hn : n ≤ 100) (hj : j < sz) (hgo : ∀ m, m < ms → wh m = nI j → ml_go (ml_O op wh co cg m) (ml_C cn wh co cg m) A B sz (100 - n) (nI j) (ml_vw 0 re) n = (ml_run (ml_O op wh co cg m) (ml_C cn wh co cg m) A B sz (sx t) (sy t)))
  (h : ∀ mp mo mc mE' mO' mS' re', ml_vw 0 re' = ml_vw 0 re → (∀ m, m < ms → wh m = nI j → ml_CH op cn wh co cg sx sy A B sz t m mE' mO' mS') → (∀ t' m', m' < 24 → ml_CH op cn wh co cg sx sy A B sz t' m' mE mO mS → ml_CH op cn wh co cg sx sy A B sz t' m' mE' mO' mS') → post (nI sz, nI ts, nI ms, rd, mp, mo, mc, op, rg, cn, sx, sy, wo, wa, wh, co, cg, en, ou, st, mE', mO', mS', re', ki, un, ot)) : wpX_splitAll post (nI sz, nI ts, nI ms, rd, mp, mo, mc, op, rg, cn, sx, sy, wo, wa, wh, co, cg, en, ou, st, mE, mO, mS, re, ki, un, ot) (nI t) (nI j) (nI n) := by
  unfold wpX_splitAll
  exact ⟨ms + 1, xs_all3 hA hB hs hms t n j ht hn hj (ml_vw 0 re) hgo mE mO mS h ms 0 (ms + 1) mp mo mc mE mO mS re (by omega) (by omega) rfl (fun m hm => absurd hm (by omega)) (fun _ _ _ z => z)⟩
theorem xs_share {post : SX → Prop} (t m : Nat) (ht : t < 6) (hm : m < 24) (R : Int32 × (Nat → Int32) × Nat) (hR : ml_PC sz R t en ou st) (h : post (nI sz, nI ts, nI ms, rd, mp, mo, mc, op, rg, cn, sx, sy, wo, wa, wh, co, cg, en, ou, st, upd mE (t * 24 + m) (ml_E sz R), upd mO (t * 24 + m) (ml_Ou sz R), upd mS (t * 24 + m) (nI R.2.2), re, ki, un, ot)) : wpX_share post (nI sz, nI ts, nI ms, rd, mp, mo, mc, op, rg, cn, sx, sy, wo, wa, wh, co, cg, en, ou, st, mE, mO, mS, re, ki, un, ot) (nI t) (nI m) := by
  have ct : (nI t).toNatClampNeg = t := nI_clamp (by omega)
  have ci : (nI (t * 24 + m)).toNatClampNeg = t * 24 + m := nI_clamp (by omega)
  have it : vp_in (nI t) 6 := vp_in_nI ht (by omega)
  have ii : vp_in (nI (t * 24 + m)) 144 := vp_in_nI (by omega) (by omega)
  unfold wpX_share
  refine nm_r ml_ix ?_
  rw [ct, ci, hR.1, hR.2.1, hR.2.2, ml_nbE]
  exact ⟨it, ii, nm_e ⟨it, ii, nm_e ⟨it, ii, nm_e h⟩⟩⟩
theorem xr_170 {post : SX → Prop} (hs : sz ≤ 12) (hms : ms ≤ 24) (t : Nat) (ht : t < 6) (bn : Int32) (hwh : ∀ m, m < ms → ∃ w, w < sz ∧ wh m = nI w) (R : Int32 × (Nat → Int32) × Nat) (hR : ml_PC sz R t en ou st) (hsh : ∀ m w, m < ms → wh m = nI w → w < sz → bt bn w = false → R = (ml_run (ml_O op wh co cg m) (ml_C cn wh co cg m) A B sz (sx t) (sy t))) (aE aO aS : Nat → Int32)
  (h : ∀ mE mO mS, (∀ m, m < ms → ml_CH op cn wh co cg sx sy A B sz t m mE mO mS) → (∀ t' m', m' < 24 → ml_CH op cn wh co cg sx sy A B sz t' m' aE aO aS → ml_CH op cn wh co cg sx sy A B sz t' m' mE mO mS) → post (nI sz, nI ts, nI ms, rd, mp, mo, mc, op, rg, cn, sx, sy, wo, wa, wh, co, cg, en, ou, st, mE, mO, mS, re, ki, un, ot)) :
  ∀ (d i N : Nat) (mE mO mS : Nat → Int32), i + d = ms → d < N → (∀ m w, m < ms → wh m = nI w → w < sz → (m < i ∨ bt bn w = true) → ml_CH op cn wh co cg sx sy A B sz t m mE mO mS) → (∀ t' m', m' < 24 → ml_CH op cn wh co cg sx sy A B sz t' m' aE aO aS → ml_CH op cn wh co cg sx sy A B sz t' m' mE mO mS) → wX_runTest_170 post (nI t) bn N (nI i) (nI sz) (nI ts) (nI ms) rd mp mo mc op rg cn sx sy wo wa wh co cg en ou st mE mO mS re ki un ot := by
  intro d
  induction d with
  | zero =>
    intro i N mE mO mS hi hN h1 h2
    obtain ⟨N, rfl⟩ : ∃ N', N = N' + 1 := ⟨N - 1, by omega⟩
    obtain rfl : i = ms := by omega
    refine br_t (nI_le (Nat.le_refl _) (by omega)) (h mE mO mS (fun m hm => ?_) h2)
    obtain ⟨w, hw, e⟩ := hwh m hm
    exact h1 m w hm e hw (Or.inl hm)
  | succ d ih =>
    intro i N mE mO mS hi hN h1 h2
    obtain ⟨N, rfl⟩ : ∃ N', N = N' + 1 := ⟨N - 1, by omega⟩
    have ci : (nI i).toNatClampNeg = i := nI_clamp (by omega)
    obtain ⟨w, hw, e⟩ := hwh i (by omega)
    unfold wX_runTest_170
    refine br_f (nI_ge (by omega) (by omega)) ⟨vp_in_nI (by omega) (by omega), ?_⟩
    rw [ci, e, xb_0 (by omega)]
    refine br_c (fun q => ?_) (fun q => nm_r (nI_1 i) ?_)
    · have hE := hsh i w (by omega) e hw q
      refine xs_share t i ht (by omega) R hR ?_
      refine nm_r (nI_1 i) (ih (i + 1) N _ _ _ (by omega) (by omega) ?_ ?_)
      · intro m w' hm ew hw' hc
        by_cases e2 : m = i
        · subst e2
          exact ch_new hE
        · refine ch_put (by omega) hE (by omega) (h1 m w' hm ew hw' ?_)
          rcases hc with hc | hc
          · exact Or.inl (by omega)
          · exact Or.inr hc
      · intro t' m' hm' h'
        exact ch_put (by omega) hE hm' (h2 t' m' hm' h')
    · refine ih (i + 1) N mE mO mS (by omega) (by omega) ?_ h2
      intro m w' hm ew hw' hc
      by_cases e2 : m = i
      · subst e2
        have : w' = w := (nI_eq (by omega) (by omega)).mp (ew.symm.trans e)
        subst this
        exact h1 m w' hm ew hw' (Or.inr (by cases hb : bt bn w' with | true => rfl | false => exact absurd hb q))
      · refine h1 m w' hm ew hw' ?_
        rcases hc with hc | hc
        · exact Or.inl (by omega)
        · exact Or.inr hc
end
end
section
/-! ===== X: the run of a test, all tests ===== -/
section
variable {A B : Nat → Nat} {sz ts ms : Nat} {rd mp mo mc : Int32} {op rg cn sx sy wo wa wh co cg en ou st mE mO mS re ki un ot : Nat → Int32}
/-- behind the loop: the outcome R = (p, r, n) is kept, the mutants that were not come to share it -/
theorem xr_111 {post : SX → Prop} (hs : sz ≤ 12) (hms : ms ≤ 24) (t : Nat) (ht : t < 6) (bn : Int32) (hwh : ∀ m, m < ms → ∃ w, w < sz ∧ wh m = nI w) (R : Int32 × (Nat → Int32) × Nat) (hRP : R = (ml_run op cn A B sz (sx t) (sy t))) (hre : R.2.1 = ml_vw 0 re) (hsh : ∀ m w, m < ms → wh m = nI w → w < sz → bt bn w = false → R = (ml_run (ml_O op wh co cg m) (ml_C cn wh co cg m) A B sz (sx t) (sy t))) (aE aO aS : Nat → Int32) (h1 : ∀ m w, m < ms → wh m = nI w → w < sz → bt bn w = true → ml_CH op cn wh co cg sx sy A B sz t m mE mO mS) (h2 : ∀ t' m', m' < 24 → ml_CH op cn wh co cg sx sy A B sz t' m' aE aO aS → ml_CH op cn wh co cg sx sy A B sz t' m' mE mO mS)
  (h : ∀ en' ou' st' mE mO mS, ml_PC sz (ml_run op cn A B sz (sx t) (sy t)) t en' ou' st' → (∀ t', ml_PC sz (ml_run op cn A B sz (sx t') (sy t')) t' en ou st → ml_PC sz (ml_run op cn A B sz (sx t') (sy t')) t' en' ou' st') → (∀ m, m < ms → ml_CH op cn wh co cg sx sy A B sz t m mE mO mS) → (∀ t' m', m' < 24 → ml_CH op cn wh co cg sx sy A B sz t' m' aE aO aS → ml_CH op cn wh co cg sx sy A B sz t' m' mE mO mS) → post (nI sz, nI ts, nI ms, rd, mp, mo, mc, op, rg, cn, sx, sy, wo, wa, wh, co, cg, en', ou', st', mE, mO, mS, re, ki, un, ot)) : wX_runTest_111 post (nI t) bn R.1 (nI R.2.2) (nI sz) (nI ts) (nI ms) rd mp mo mc op rg cn sx sy wo wa wh co cg en ou st mE mO mS re ki un ot := by
  have ct : (nI t).toNatClampNeg = t := nI_clamp (by omega)
  have it : vp_in (nI t) 6 := vp_in_nI ht (by omega)
  have e0 : R.2.1 0 = re 0 := by rw [hre, ml_vw_at (by omega)]
  have K : ∃ n170 : Nat, wX_runTest_170 post (nI t) bn n170 0 (nI sz) (nI ts) (nI ms) rd mp mo mc op rg cn sx sy wo wa wh co cg (upd en t (ml_E sz R)) (upd ou t (ml_Ou sz R)) (upd st t (nI R.2.2)) mE mO mS re ki un ot := by
    refine ⟨ms + 1, xr_170 hs hms t ht bn hwh R ml_PC_put hsh aE aO aS ?_ ms 0 (ms + 1) mE mO mS (by omega) (by omega) ?_ h2⟩
    · intro mE mO mS k1 k2
      refine h _ _ _ mE mO mS ?_ ?_ k1 k2
      · rw [← hRP]; exact ml_PC_put
      · intro t' k
        by_cases e : t' = t
        · subst e; rw [← hRP]; exact ml_PC_put
        · exact ml_PC_keep k e
    · intro m w hm e hw hc
      rcases hc with hc | hc
      · exact absurd hc (by omega)
      · exact h1 m w hm e hw hc
  have K2 : wX_runTest_133 post (nI t) bn (nI R.2.2) (ml_E sz R) (nI t) (nI sz) (nI ts) (nI ms) rd mp mo mc op rg cn sx sy wo wa wh co cg en ou st mE mO mS re ki un ot := by
    unfold wX_runTest_133
    rw [ct]
    refine ⟨it, nm_r (congrArg (upd en t) (ml_nbE sz R)) ⟨it, ?_⟩⟩
    rw [pk_us]
    unfold ml_Ou at K
    unfold ml_E at K ⊢
    rcases Bool.eq_false_or_eq_true (ml_in sz R.1) with e | e
    · rw [e, if_pos rfl] at K ⊢
      rw [if_pos rfl] at K
      refine br_t rfl ?_
      unfold wX_runTest_158
      rw [ct]
      exact ⟨it, nm_e ⟨it, nm_e K⟩⟩
    · rw [e, if_neg (by decide)] at K ⊢
      rw [if_neg (by decide), e0] at K
      refine br_f (by decide) ?_
      unfold wX_runTest_158
      rw [ct]
      exact ⟨it, nm_e ⟨it, nm_e K⟩⟩
  unfold wX_runTest_111
  unfold ml_E at K2
  rcases ml_pl hs R.1 with hp | ⟨hp, hp1, hp2⟩ | ⟨j, hj, e⟩
  · rw [ml_in_neg hp, if_neg (by decide)] at K2
    exact br_t hp K2
  · rw [ml_in_ge hp2, if_neg (by decide)] at K2
    exact br_f hp (br_f hp2 K2)
  · rw [e, ml_in_j hj hs, if_pos rfl] at K2
    rw [e]
    exact br_f (nI_pos (by omega)) (br_t (nI_lt hj (by omega)) K2)
theorem xr_45 {post : SX → Prop} (hA : ∀ p, A p < 4 ∧ rg p &&& 3 = nI (A p)) (hB : ∀ p, B p < 4 ∧ rg p >>> ((2 : Int32) &&& 31) = nI (B p)) (hs : sz ≤ 12) (hms : ms ≤ 24) (t : Nat) (ht : t < 6) (hwh : ∀ m, m < ms → ∃ w, w < sz ∧ wh m = nI w) (aE aO aS : Nat → Int32)
  (h : ∀ mp mo mc en' ou' st' mE mO mS re, ml_PC sz (ml_run op cn A B sz (sx t) (sy t)) t en' ou' st' → (∀ t', ml_PC sz (ml_run op cn A B sz (sx t') (sy t')) t' en ou st → ml_PC sz (ml_run op cn A B sz (sx t') (sy t')) t' en' ou' st') → (∀ m, m < ms → ml_CH op cn wh co cg sx sy A B sz t m mE mO mS) → (∀ t' m', m' < 24 → ml_CH op cn wh co cg sx sy A B sz t' m' aE aO aS → ml_CH op cn wh co cg sx sy A B sz t' m' mE mO mS) → post (nI sz, nI ts, nI ms, rd, mp, mo, mc, op, rg, cn, sx, sy, wo, wa, wh, co, cg, en', ou', st', mE, mO, mS, re, ki, un, ot)) :
  ∀ (k i N : Nat) (bn p mp mo mc : Int32) (mE mO mS re : Nat → Int32), i + k = 100 → k < N → ml_go op cn A B sz k p (ml_vw 0 re) i = (ml_run op cn A B sz (sx t) (sy t)) → (∀ m w, m < ms → wh m = nI w → w < sz → (bt bn w = true → ml_CH op cn wh co cg sx sy A B sz t m mE mO mS) ∧ (bt bn w = false → ml_go (ml_O op wh co cg m) (ml_C cn wh co cg m) A B sz k p (ml_vw 0 re) i = (ml_run (ml_O op wh co cg m) (ml_C cn wh co cg m) A B sz (sx t) (sy t)))) → (∀ t' m', m' < 24 → ml_CH op cn wh co cg sx sy A B sz t' m' aE aO aS → ml_CH op cn wh co cg sx sy A B sz t' m' mE mO mS) → wX_runTest_45 post (nI t) N bn p (nI i) (nI sz) (nI ts) (nI ms) rd mp mo mc op rg cn sx sy wo wa wh co cg en ou st mE mO mS re ki un ot := by
  intro k
  induction k with
  | zero =>
    intro i N bn p mp mo mc mE mO mS re hi hN hP hM h2
    obtain ⟨N, rfl⟩ : ∃ N', N = N' + 1 := ⟨N - 1, by omega⟩
    obtain rfl : i = 100 := by omega
    refine br_t (by decide) ?_
    exact xr_111 hs hms t ht bn hwh (p, ml_vw 0 re, 100) hP rfl (fun m w hm e hw hb => (hM m w hm e hw).2 hb) aE aO aS (fun m w hm e hw hb => (hM m w hm e hw).1 hb) h2 (fun en' ou' st' mE mO mS => h mp mo mc en' ou' st' mE mO mS re)
  | succ k ih =>
    intro i N bn p mp mo mc mE mO mS re hi hN hP hM h2
    obtain ⟨N, rfl⟩ : ∃ N', N = N' + 1 := ⟨N - 1, by omega⟩
    have hi' : ¬ (100 : Int32) ≤ nI i := nI_ge (b := 100) (by omega) (by decide)
    have hout : ml_in sz p = false → wX_runTest_111 post (nI t) bn p (nI i) (nI sz) (nI ts) (nI ms) rd mp mo mc op rg cn sx sy wo wa wh co cg en ou st mE mO mS re ki un ot := by
      intro ho
      rw [ml_go_out ho] at hP
      refine xr_111 hs hms t ht bn hwh (p, ml_vw 0 re, i) hP rfl (fun m w hm e hw hb => ?_) aE aO aS (fun m w hm e hw hb => (hM m w hm e hw).1 hb) h2 (fun en' ou' st' mE mO mS => h mp mo mc en' ou' st' mE mO mS re)
      have := (hM m w hm e hw).2 hb
      rw [ml_go_out ho] at this
      exact this
    rcases ml_pl hs p with hp | ⟨hp, hp1, hp2⟩ | ⟨j, hj, rfl⟩
    · exact br_f hi' (br_t hp (hout (ml_in_neg hp)))
    · exact br_f hi' (br_f hp (br_t hp1 (hout (ml_in_ge hp2))))
    · have cj : (nI j).toNatClampNeg = j := nI_clamp (by omega)
      have ij : vp_in (nI j) 12 := vp_in_nI (by omega) (by omega)
      rw [ml_go_in hj hs] at hP
      have hjoin : ∀ (mp mo mc : Int32) (mE mO mS re' : Nat → Int32), ml_vw 0 re' = ml_vw 0 re → (∀ m, m < ms → wh m = nI j → ml_CH op cn wh co cg sx sy A B sz t m mE mO mS) → (∀ m w, m < ms → wh m = nI w → w < sz → bt bn w = true → ml_CH op cn wh co cg sx sy A B sz t m mE mO mS) → (∀ t' m', m' < 24 → ml_CH op cn wh co cg sx sy A B sz t' m' aE aO aS → ml_CH op cn wh co cg sx sy A B sz t' m' mE mO mS) → wX_runTest_80 post (wX_runTest_45 post (nI t) N) (nI t) bn (nI j) (nI i) (nI sz) (nI ts) (nI ms) rd mp mo mc op rg cn sx sy wo wa wh co cg en ou st mE mO mS re' ki un ot := by
        intro mp mo mc mE mO mS re' er k1 k2 k3
        unfold wX_runTest_80
        rw [cj]
        refine nm_e ⟨ij, ij, ?_⟩
        refine xc_carry hA hB 0 j (by omega) (by omega) (op j) (cn j) ?_
        refine nm_r (nI_1 i) (ih (i + 1) N _ _ mp mo mc mE mO mS _ (by omega) (by omega) ?_ ?_ k3)
        · rw [ml_vw_er _ _ (hA j).1 (hB j).1, ml_vw_ep _ _ _ (hA j).1 (hB j).1, er]
          exact hP
        · intro m w hm e hw
          rw [ml_vw_er _ _ (hA j).1 (hB j).1, ml_vw_ep _ _ _ (hA j).1 (hB j).1, er, xb_set (by omega) (by omega)]
          refine ⟨fun hb => ?_, fun hb => ?_⟩
          · by_cases ew : w = j
            · subst ew; exact k1 m hm e
            · rw [decide_eq_false ew, Bool.or_false] at hb
              exact k2 m w hm e hw hb
          · by_cases ew : w = j
            · rw [decide_eq_true ew, Bool.or_true] at hb
              exact absurd hb (by decide)
            · rw [decide_eq_false ew, Bool.or_false] at hb
              have g := (hM m w hm e hw).2 hb
              rw [ml_go_in hj hs] at g
              have nw : ¬ wh m = nI j := fun z => ew ((nI_eq (by omega) (by omega)).mp (e.symm.trans z))
              have eO : (ml_O op wh co cg m) j = op j := if_neg (fun z => nw z.1)
              have eC : (ml_C cn wh co cg m) j = cn j := if_neg (fun z => nw z.1)
              rw [eO, eC] at g
              exact g
      refine br_f hi' (br_f (nI_pos (by omega)) (br_f (nI_ge hj (by omega)) ?_))
      rw [xb_0 (by omega)]
      refine br_c (fun q => ?_) (fun q => ?_)
      · refine xs_all hA hB hs hms t i j ht (by omega) hj ?_ ?_
        · intro m hm e
          have g := (hM m j hm e hj).2 q
          rw [show 100 - i = k + 1 by omega]
          exact g
        · intro mp' mo' mc' mE' mO' mS' re' er k1 k2
          exact hjoin mp' mo' mc' mE' mO' mS' re' er k1 (fun m w hm e hw hb => k2 t m (by omega) ((hM m w hm e hw).1 hb)) (fun t' m' hm' k => k2 t' m' hm' (h2 t' m' hm' k))
      · have q' : bt bn j = true := by cases hb : bt bn j with | true => rfl | false => exact absurd hb q
        exact hjoin mp mo mc mE mO mS re rfl (fun m hm e => (hM m j hm e hj).1 q') (fun m w hm e hw hb => (hM m w hm e hw).1 hb) h2
theorem xr_run {post : SX → Prop} (hA : ∀ p, A p < 4 ∧ rg p &&& 3 = nI (A p)) (hB : ∀ p, B p < 4 ∧ rg p >>> ((2 : Int32) &&& 31) = nI (B p)) (hs : sz ≤ 12) (hms : ms ≤ 24) (t : Nat) (ht : t < 6) (hwh : ∀ m, m < ms → ∃ w, w < sz ∧ wh m = nI w)
  (h : ∀ mp mo mc en' ou' st' mE' mO' mS' re', ml_PC sz (ml_run op cn A B sz (sx t) (sy t)) t en' ou' st' → (∀ t', ml_PC sz (ml_run op cn A B sz (sx t') (sy t')) t' en ou st → ml_PC sz (ml_run op cn A B sz (sx t') (sy t')) t' en' ou' st') → (∀ m, m < ms → ml_CH op cn wh co cg sx sy A B sz t m mE' mO' mS') → (∀ t' m', m' < 24 → ml_CH op cn wh co cg sx sy A B sz t' m' mE mO mS → ml_CH op cn wh co cg sx sy A B sz t' m' mE' mO' mS') → post (nI sz, nI ts, nI ms, rd, mp, mo, mc, op, rg, cn, sx, sy, wo, wa, wh, co, cg, en', ou', st', mE', mO', mS', re', ki, un, ot)) : wpX_runTest post (nI sz, nI ts, nI ms, rd, mp, mo, mc, op, rg, cn, sx, sy, wo, wa, wh, co, cg, en, ou, st, mE, mO, mS, re, ki, un, ot) (nI t) := by
  have ct : (nI t).toNatClampNeg = t := nI_clamp (by omega)
  have it : vp_in (nI t) 6 := vp_in_nI ht (by omega)
  unfold wpX_runTest
  dsimp only
  rw [ct]
  refine ⟨it, nm_e ⟨it, nm_e (nm_e (nm_e ⟨101, ?_⟩))⟩⟩
  refine xr_45 hA hB hs hms t ht hwh mE mO mS h 100 0 101 0 0 mp mo mc mE mO mS _ rfl (by omega) ?_ ?_ (fun _ _ _ z => z)
  · rw [ml_vw_r0]; rfl
  · intro m w hm e hw
    rw [ml_vw_r0, b_0]
    exact ⟨fun z => absurd z (by decide), fun _ => rfl⟩
theorem xr_15 {post : SX → Prop} (hA : ∀ p, A p < 4 ∧ rg p &&& 3 = nI (A p)) (hB : ∀ p, B p < 4 ∧ rg p >>> ((2 : Int32) &&& 31) = nI (B p)) (hs : sz ≤ 12) (hts : ts ≤ 6) (hms : ms ≤ 24) (hwh : ∀ m, m < ms → ∃ w, w < sz ∧ wh m = nI w)
  (h : ∀ mp mo mc en ou st mE mO mS re, (ml_OK op cn wh co cg sx sy A B sz ts ms en ou st mE mO mS) → post (nI sz, nI ts, nI ms, rd, mp, mo, mc, op, rg, cn, sx, sy, wo, wa, wh, co, cg, en, ou, st, mE, mO, mS, re, ki, un, ot)) :
  ∀ (d i N : Nat) (mp mo mc : Int32) (en ou st mE mO mS re : Nat → Int32), i + d = ts → d < N → ml_OK op cn wh co cg sx sy A B sz i ms en ou st mE mO mS → wX_prepare_15 post N (nI i) (nI sz) (nI ts) (nI ms) rd mp mo mc op rg cn sx sy wo wa wh co cg en ou st mE mO mS re ki un ot := by
  intro d
  induction d with
  | zero =>
    intro i N mp mo mc en ou st mE mO mS re hi hN hO
    obtain ⟨N, rfl⟩ : ∃ N', N = N' + 1 := ⟨N - 1, by omega⟩
    obtain rfl : i = ts := by omega
    exact br_t (nI_le (Nat.le_refl _) (by omega)) (h mp mo mc en ou st mE mO mS re hO)
  | succ d ih =>
    intro i N mp mo mc en ou st mE mO mS re hi hN hO
    obtain ⟨N, rfl⟩ : ∃ N', N = N' + 1 := ⟨N - 1, by omega⟩
    unfold wX_prepare_15
    refine br_f (nI_ge (by omega) (by omega)) ?_
    refine xr_run hA hB hs hms i (by omega) hwh ?_
    intro mp' mo' mc' en' ou' st' mE' mO' mS' re' k1 k2 k3 k4
    refine nm_r (nI_1 i) (ih (i + 1) N mp' mo' mc' en' ou' st' mE' mO' mS' re' (by omega) (by omega) ⟨?_, ?_⟩)
    · intro t ht'
      by_cases e : t = i
      · subst e; exact k1
      · exact k2 t (hO.1 t (by omega))
    · intro t ht' m hm
      by_cases e : t = i
      · subst e; exact k3 m hm
      · exact k4 t m (by omega) (hO.2 t (by omega) m hm)
theorem xr_prepare {post : SX → Prop} (hA : ∀ p, A p < 4 ∧ rg p &&& 3 = nI (A p)) (hB : ∀ p, B p < 4 ∧ rg p >>> ((2 : Int32) &&& 31) = nI (B p)) (hs : sz ≤ 12) (hts : ts ≤ 6) (hms : ms ≤ 24) (hwh : ∀ m, m < ms → ∃ w, w < sz ∧ wh m = nI w) (hrd : ¬ rd = 0 → (ml_OK op cn wh co cg sx sy A B sz ts ms en ou st mE mO mS))
  (h : ∀ rd mp mo mc en ou st mE mO mS re, (ml_OK op cn wh co cg sx sy A B sz ts ms en ou st mE mO mS) → post (nI sz, nI ts, nI ms, rd, mp, mo, mc, op, rg, cn, sx, sy, wo, wa, wh, co, cg, en, ou, st, mE, mO, mS, re, ki, un, ot)) : wpX_prepare post (nI sz, nI ts, nI ms, rd, mp, mo, mc, op, rg, cn, sx, sy, wo, wa, wh, co, cg, en, ou, st, mE, mO, mS, re, ki, un, ot) := by
  unfold wpX_prepare
  refine br_c (fun q => ?_) (fun q => h rd mp mo mc en ou st mE mO mS re (hrd q))
  exact ⟨ts + 1, xr_15 hA hB hs hts hms hwh (h 1) ts 0 (ts + 1) mp mo mc en ou st mE mO mS re (by omega) (by omega) ⟨fun t ht => absurd ht (by omega), fun t ht => absurd ht (by omega)⟩⟩
end
end
section
/-! ===== pure: passing, masks, counts ===== -/
def ml_ok (sz : Nat) (R : Int32 × (Nat → Int32) × Nat) (w e : Int32) : Bool := decide (ml_E sz R = w) && (decide (ml_E sz R = 0) || decide (R.2.1 0 = e))
def ml_K (op cn wh co cg sx sy wo wa : Nat → Int32) (A B : Nat → Nat) (sz : Nat) : Nat → Nat → Bool := fun t m => !ml_ok sz (ml_run (ml_O op wh co cg m) (ml_C cn wh co cg m) A B sz (sx t) (sy t)) (wo t) (wa t)
def ml_like (sz : Nat) (R Q : Int32 × (Nat → Int32) × Nat) : Bool := decide (ml_E sz Q = ml_E sz R) && decide (ml_Ou sz Q = ml_Ou sz R)
theorem ml_Ou_0 {sz : Nat} {R : Int32 × (Nat → Int32) × Nat} (h : ml_E sz R = 0) : ml_Ou sz R = 0 := by
  unfold ml_E at h; unfold ml_Ou
  cases e : ml_in sz R.1
  · rw [e, if_neg (by decide)] at h; exact absurd h (by decide)
  · rw [if_pos rfl]
theorem ml_Ou_1 {sz : Nat} {R : Int32 × (Nat → Int32) × Nat} (h : ¬ ml_E sz R = 0) : ml_Ou sz R = R.2.1 0 := by
  unfold ml_E at h; unfold ml_Ou
  cases e : ml_in sz R.1
  · rw [if_neg (by decide)]
  · rw [e, if_pos rfl] at h; exact absurd rfl h
def ml_b (c : Bool) : Int32 := if c = true then 1 else 0
theorem ml_b_t : ml_b true = 1 := rfl
theorem ml_b_f : ml_b false = 0 := rfl
theorem ml_ok_ne {sz : Nat} {R : Int32 × (Nat → Int32) × Nat} {w e : Int32} (h : ¬ ml_E sz R = w) : ml_ok sz R w e = false := by unfold ml_ok; rw [decide_eq_false h, Bool.false_and]
theorem ml_ok_0 {sz : Nat} {R : Int32 × (Nat → Int32) × Nat} {w e : Int32} (h : ml_E sz R = w) (h0 : ml_E sz R = 0) : ml_ok sz R w e = true := by unfold ml_ok; rw [decide_eq_true h, decide_eq_true h0]; rfl
theorem ml_ok_t {sz : Nat} {R : Int32 × (Nat → Int32) × Nat} {w e : Int32} (h : ml_E sz R = w) (h2 : R.2.1 0 = e) : ml_ok sz R w e = true := by unfold ml_ok; rw [decide_eq_true h, decide_eq_true h2, Bool.or_true]; rfl
theorem ml_ok_f {sz : Nat} {R : Int32 × (Nat → Int32) × Nat} {w e : Int32} (h0 : ¬ ml_E sz R = 0) (h2 : ¬ R.2.1 0 = e) : ml_ok sz R w e = false := by unfold ml_ok; rw [decide_eq_false h0, decide_eq_false h2, Bool.or_false, Bool.and_false]
/-- the mask of the first n tests that kill m -/
def ml_km (K : Nat → Nat → Bool) (m : Nat) : Nat → Int32
  | 0 => 0
  | t + 1 => if K t m = true then ml_km K m t ||| ((1 : Int32) <<< (nI t &&& 31)) else ml_km K m t
theorem km_bt (K : Nat → Nat → Bool) (m : Nat) : ∀ n, n ≤ 32 → ∀ i, i < 32 → bt (ml_km K m n) i = (decide (i < n) && K i m) := by
  intro n
  induction n with
  | zero => intro _ i hi; rw [ml_km, b_0, decide_eq_false (by omega), Bool.false_and]
  | succ n ih =>
    intro hn i hi
    have g := ih (by omega) i hi
    rw [ml_km]
    by_cases hk : K n m = true
    · rw [if_pos hk, xb_set (by omega) hi, g]
      by_cases e : i = n
      · subst e; rw [hk, decide_eq_true (p := i = i) rfl, decide_eq_true (p := i < i + 1) (by omega), Bool.or_true]; rfl
      · rw [decide_eq_false e, Bool.or_false]
        by_cases l : i < n
        · rw [decide_eq_true l, decide_eq_true (by omega)]
        · rw [decide_eq_false l, decide_eq_false (by omega)]
    · rw [if_neg hk, g]
      have hk' : K n m = false := by cases h : K n m with | true => exact absurd h hk | false => rfl
      by_cases e : i = n
      · subst e; rw [hk', Bool.and_false, Bool.and_false]
      · by_cases l : i < n
        · rw [decide_eq_true l, decide_eq_true (by omega)]
        · rw [decide_eq_false l, decide_eq_false (by omega)]
def ml_any (f : Nat → Bool) : Nat → Bool
  | 0 => false
  | n + 1 => ml_any f n || f n
theorem any_iff (f : Nat → Bool) : ∀ n, ml_any f n = true ↔ ∃ i, i < n ∧ f i = true := by
  intro n
  induction n with
  | zero => exact ⟨fun h => absurd (show false = true from h) (by decide), fun ⟨i, hi, _⟩ => absurd hi (by omega)⟩
  | succ n ih =>
    rw [ml_any, Bool.or_eq_true, ih]
    constructor
    · rintro (⟨i, hi, h⟩ | h)
      · exact ⟨i, by omega, h⟩
      · exact ⟨n, by omega, h⟩
    · rintro ⟨i, hi, h⟩
      by_cases e : i = n
      · subst e; exact Or.inr h
      · exact Or.inl ⟨i, by omega, h⟩
def ml_all (f : Nat → Bool) : Nat → Bool
  | 0 => true
  | n + 1 => ml_all f n && f n
theorem all_f {f : Nat → Bool} {i : Nat} (h : f i = false) : ∀ n, i < n → ml_all f n = false := by
  intro n
  induction n with
  | zero => intro hn; exact absurd hn (by omega)
  | succ n ih =>
    intro hn
    rw [ml_all]
    by_cases e : i = n
    · subst e; rw [h, Bool.and_false]
    · rw [ih (by omega), Bool.false_and]
theorem all_s {f : Nat → Bool} {i : Nat} (h : ml_all f i = true) (h2 : f i = true) : ml_all f (i + 1) = true := by rw [ml_all, h, h2]; rfl
theorem all_iff (f : Nat → Bool) : ∀ n, ml_all f n = true ↔ ∀ i, i < n → f i = true := by
  intro n
  induction n with
  | zero => exact ⟨fun _ i hi => absurd hi (by omega), fun _ => rfl⟩
  | succ n ih =>
    rw [ml_all, Bool.and_eq_true, ih]
    constructor
    · rintro ⟨h1, h2⟩ i hi
      by_cases e : i = n
      · subst e; exact h2
      · exact h1 i (by omega)
    · intro h
      exact ⟨fun i hi => h i (by omega), h n (by omega)⟩
def ml_cn (f : Nat → Bool) : Nat → Nat
  | 0 => 0
  | n + 1 => ml_cn f n + (if f n = true then 1 else 0)
theorem cn_t {f : Nat → Bool} {n : Nat} (h : f n = true) : ml_cn f (n + 1) = ml_cn f n + 1 := by rw [ml_cn, if_pos h]
theorem cn_f {f : Nat → Bool} {n : Nat} (h : f n = false) : ml_cn f (n + 1) = ml_cn f n := by rw [ml_cn, h, if_neg (by decide)]; rfl
theorem cn_congr {f g : Nat → Bool} : ∀ n, (∀ i, i < n → f i = g i) → ml_cn f n = ml_cn g n := by
  intro n
  induction n with
  | zero => intro _; rfl
  | succ n ih => intro h; rw [ml_cn, ml_cn, ih (fun i hi => h i (by omega)), h n (by omega)]
theorem cn_cut {f g : Nat → Bool} {k : Nat} : ∀ n, k ≤ n → (∀ i, i < n → f i = (decide (i < k) && g i)) → ml_cn f n = ml_cn g k := by
  intro n
  induction n with
  | zero => intro hk _; obtain rfl : k = 0 := by omega
            rfl
  | succ n ih =>
    intro hk h
    by_cases e : k = n + 1
    · subst e
      exact cn_congr _ (fun i hi => by rw [h i hi, decide_eq_true hi, Bool.true_and])
    · rw [cn_f (by rw [h n (by omega), decide_eq_false (by omega), Bool.false_and])]
      exact ih (by omega) (fun i hi => h i (by omega))
theorem cn_le (f : Nat → Bool) : ∀ n, ml_cn f n ≤ n := by
  intro n
  induction n with
  | zero => exact Nat.le_refl _
  | succ n ih => rw [ml_cn]; split <;> omega
theorem cn_mono {f g : Nat → Bool} : ∀ n, (∀ i, i < n → f i = true → g i = true) → ml_cn f n ≤ ml_cn g n := by
  intro n
  induction n with
  | zero => intro _; exact Nat.le_refl _
  | succ n ih =>
    intro h
    have := ih (fun i hi => h i (by omega))
    rw [ml_cn, ml_cn]
    by_cases e : f n = true
    · rw [if_pos e, if_pos (h n (by omega) e)]; omega
    · rw [if_neg e]; omega
/-- one less: f without t -/
theorem cn_less {f g : Nat → Bool} {t : Nat} (hf : f t = false) (hg : g t = true) : ∀ n, t < n → (∀ i, i < n → f i = true → g i = true) → ml_cn f n + 1 ≤ ml_cn g n := by
  intro n
  induction n with
  | zero => intro ht _; exact absurd ht (by omega)
  | succ n ih =>
    intro ht h
    by_cases e : t = n
    · subst e
      rw [cn_f hf, cn_t hg]
      have := cn_mono (f := f) (g := g) t (fun i hi => h i (by omega))
      omega
    · have := ih (by omega) (fun i hi => h i (by omega))
      rw [ml_cn, ml_cn]
      by_cases e : f n = true
      · rw [if_pos e, if_pos (h n (by omega) e)]; omega
      · rw [if_neg e]; omega
/-- one more at most: g is f with t -/
theorem cn_more {f g : Nat → Bool} {t : Nat} : ∀ n, (∀ i, i < n → i ≠ t → g i = f i) → ml_cn g n ≤ ml_cn f n + 1 ∧ (n ≤ t → ml_cn g n = ml_cn f n) := by
  intro n
  induction n with
  | zero => intro _; exact ⟨by show 0 ≤ _; omega, fun _ => rfl⟩
  | succ n ih =>
    intro h
    obtain ⟨h1, h2⟩ := ih (fun i hi => h i (by omega))
    rw [ml_cn, ml_cn]
    by_cases e : n = t
    · subst e
      rw [h2 (Nat.le_refl _)]
      refine ⟨?_, fun z => absurd z (by omega)⟩
      split <;> split <;> omega
    · rw [h n (by omega) e]
      exact ⟨by omega, fun z => by rw [h2 (by omega)]⟩
/-- an int is 0 when no bit is set -/
theorem bt_ne0 {x : Int32} (h : ¬ x = 0) : ∃ i, i < 32 ∧ bt x i = true := by
  by_cases g : ∃ i, i < 32 ∧ bt x i = true
  · exact g
  · refine absurd (b_ext (fun i hi => ?_)) h
    rw [b_0]
    cases e : bt x i with
    | false => rfl
    | true => exact absurd ⟨i, hi, e⟩ g
theorem bt_0 {x : Int32} {i : Nat} (h : bt x i = true) : ¬ x = 0 := by
  intro e
  rw [e, b_0] at h
  exact absurd h (by decide)
theorem and_any {K : Nat → Nat → Bool} {m ts : Nat} {x : Int32} (h : ts ≤ 6) : (¬ (ml_km K m ts &&& x) = 0) ↔ ml_any (fun t => bt x t && (decide (t < ts) && K t m)) 6 = true := by
  rw [any_iff]
  constructor
  · intro g
    obtain ⟨i, hi, e⟩ := bt_ne0 g
    rw [b_and, km_bt K m ts (by omega) i hi, Bool.and_eq_true, Bool.and_eq_true, decide_eq_true_eq] at e
    refine ⟨i, by omega, ?_⟩
    show (bt x i && (decide (i < ts) && K i m)) = true
    rw [e.2, e.1.2, decide_eq_true e.1.1]; rfl
  · rintro ⟨i, hi, e⟩
    have e : (bt x i && (decide (i < ts) && K i m)) = true := e
    refine bt_0 (i := i) ?_
    rw [b_and, km_bt K m ts (by omega) i (by omega), Bool.and_comm]
    exact e
theorem km_ne0 {K : Nat → Nat → Bool} {m ts : Nat} (h : ts ≤ 6) : (¬ ml_km K m ts = 0) ↔ ∃ t, t < ts ∧ K t m = true := by
  constructor
  · intro g
    obtain ⟨i, hi, e⟩ := bt_ne0 g
    rw [km_bt K m ts (by omega) i hi, Bool.and_eq_true, decide_eq_true_eq] at e
    exact ⟨i, e.1, e.2⟩
  · rintro ⟨i, hi, e⟩
    refine bt_0 (i := i) ?_
    rw [km_bt K m ts (by omega) i (by omega), e, decide_eq_true hi]; rfl
end
section
/-! ===== the reference's questions ===== -/
section
variable {A B : Nat → Nat} {sz ts ms : Nat} {fe fc : Int32} {op ya yb cn sx sy wo wa wh co cg ar : Nat → Int32}
theorem yw_ok {post : Int32 → SY → Prop} (hA : ∀ p, A p < 4 ∧ ya p = nI (A p)) (hB : ∀ p, B p < 4 ∧ yb p = nI (B p)) (hs : sz ≤ 12) {O C : Nat → Int32} {x1 : Int32} (hM : ml_sel op cn wh co cg x1 O C) (t : Nat) (ht : t < 6) (h : ∀ fe fc ar, post (ml_b (ml_ok sz (ml_run O C A B sz (sx t) (sy t)) (wo t) (wa t))) (nI sz, nI ts, nI ms, fe, fc, op, ya, yb, cn, sx, sy, wo, wa, wh, co, cg, ar)) : wpY_ok post (nI sz, nI ts, nI ms, fe, fc, op, ya, yb, cn, sx, sy, wo, wa, wh, co, cg, ar) x1 (nI t) := by
  have ct : (nI t).toNatClampNeg = t := nI_clamp (by omega)
  have it : vp_in (nI t) 6 := vp_in_nI ht (by omega)
  unfold wpY_ok
  refine ⟨it, it, ?_⟩
  rw [ct]
  refine yr_run hA hB hs hM (sx t) (sy t) ?_
  intro ar' e
  refine ⟨it, ?_⟩
  rw [e]
  refine br_c (fun q => br_c (fun z => ?_) (fun z => ⟨it, br_c (fun y => ?_) (fun y => ?_)⟩)) (fun q => ?_)
  · have := h (ml_E sz (ml_run O C A B sz (sx t) (sy t))) (nI (ml_run O C A B sz (sx t) (sy t)).2.2) ar'
    rw [ml_ok_0 q z] at this
    exact this
  · have := h (ml_E sz (ml_run O C A B sz (sx t) (sy t))) (nI (ml_run O C A B sz (sx t) (sy t)).2.2) ar'
    rw [ml_ok_t q y] at this
    exact this
  · have := h (ml_E sz (ml_run O C A B sz (sx t) (sy t))) (nI (ml_run O C A B sz (sx t) (sy t)).2.2) ar'
    rw [ml_ok_f z y] at this
    exact this
  · have := h (ml_E sz (ml_run O C A B sz (sx t) (sy t))) (nI (ml_run O C A B sz (sx t) (sy t)).2.2) ar'
    rw [ml_ok_ne q] at this
    exact this
theorem yw_k15 {post : Int32 → SY → Prop} (hA : ∀ p, A p < 4 ∧ ya p = nI (A p)) (hB : ∀ p, B p < 4 ∧ yb p = nI (B p)) (hs : sz ≤ 12) (hts : ts ≤ 6) (m : Nat) (hm : m < 24) (h : ∀ fe fc ar, post (ml_km (ml_K op cn wh co cg sx sy wo wa A B sz) m ts) (nI sz, nI ts, nI ms, fe, fc, op, ya, yb, cn, sx, sy, wo, wa, wh, co, cg, ar)) : ∀ (d i N : Nat) (fe fc : Int32) (ar : Nat → Int32), i + d = ts → d < N → wY_killers_15 post (nI m) N (ml_km (ml_K op cn wh co cg sx sy wo wa A B sz) m i) (nI i) (nI sz) (nI ts) (nI ms) fe fc op ya yb cn sx sy wo wa wh co cg ar := by
  intro d
  induction d with
  | zero =>
    intro i N fe fc ar hi hN
    obtain ⟨N, rfl⟩ : ∃ N', N = N' + 1 := ⟨N - 1, by omega⟩
    obtain rfl : i = ts := by omega
    exact br_t (nI_le (Nat.le_refl _) (by omega)) (h fe fc ar)
  | succ d ih =>
    intro i N fe fc ar hi hN
    obtain ⟨N, rfl⟩ : ∃ N', N = N' + 1 := ⟨N - 1, by omega⟩
    unfold wY_killers_15
    refine br_f (nI_ge (by omega) (by omega)) ?_
    refine yw_ok hA hB hs (ml_sel_m hm) i (by omega) ?_
    intro fe fc ar
    have G := ih (i + 1) N fe fc ar (by omega) (by omega)
    have eK : (ml_K op cn wh co cg sx sy wo wa A B sz) i m = !ml_ok sz (ml_run (ml_O op wh co cg m) (ml_C cn wh co cg m) A B sz (sx i) (sy i)) (wo i) (wa i) := rfl
    rw [ml_km, eK] at G
    cases e : ml_ok sz (ml_run (ml_O op wh co cg m) (ml_C cn wh co cg m) A B sz (sx i) (sy i)) (wo i) (wa i)
    · rw [e, if_pos (by decide)] at G
      exact br_t rfl (nm_e (nm_r (nI_1 i) G))
    · rw [e, if_neg (by decide)] at G
      exact br_f (by decide) (nm_r (nI_1 i) G)
theorem yw_killers {post : Int32 → SY → Prop} (hA : ∀ p, A p < 4 ∧ ya p = nI (A p)) (hB : ∀ p, B p < 4 ∧ yb p = nI (B p)) (hs : sz ≤ 12) (hts : ts ≤ 6) (hms : ms ≤ 24) (m : Nat) (hm : m < ms) (h : ∀ fe fc ar, post (ml_km (ml_K op cn wh co cg sx sy wo wa A B sz) m ts) (nI sz, nI ts, nI ms, fe, fc, op, ya, yb, cn, sx, sy, wo, wa, wh, co, cg, ar)) : wpY_killers post (nI sz, nI ts, nI ms, fe, fc, op, ya, yb, cn, sx, sy, wo, wa, wh, co, cg, ar) (nI m) := by
  unfold wpY_killers wpY_noMutant
  refine br_f (nI_pos (by omega)) (br_t (nI_lt hm (by omega)) (br_t rfl ⟨ts + 1, ?_⟩))
  exact yw_k15 hA hB hs hts m (by omega) h ts 0 (ts + 1) fe fc ar (by omega) (by omega)
theorem yw_killed4 {post : Int32 → SY → Prop} (hA : ∀ p, A p < 4 ∧ ya p = nI (A p)) (hB : ∀ p, B p < 4 ∧ yb p = nI (B p)) (hs : sz ≤ 12) (hts : ts ≤ 6) (hms : ms ≤ 24) (x : Int32) (h : ∀ fe fc ar, post (nI (ml_cn (fun m => decide (¬ (ml_km (ml_K op cn wh co cg sx sy wo wa A B sz) m ts &&& x) = 0)) ms)) (nI sz, nI ts, nI ms, fe, fc, op, ya, yb, cn, sx, sy, wo, wa, wh, co, cg, ar)) : ∀ (d i N : Nat) (fe fc : Int32) (ar : Nat → Int32), i + d = ms → d < N → wY_killed_4 post x N (nI (ml_cn (fun m => decide (¬ (ml_km (ml_K op cn wh co cg sx sy wo wa A B sz) m ts &&& x) = 0)) i)) (nI i) (nI sz) (nI ts) (nI ms) fe fc op ya yb cn sx sy wo wa wh co cg ar := by
  intro d
  induction d with
  | zero =>
    intro i N fe fc ar hi hN
    obtain ⟨N, rfl⟩ : ∃ N', N = N' + 1 := ⟨N - 1, by omega⟩
    obtain rfl : i = ms := by omega
    exact br_t (nI_le (Nat.le_refl _) (by omega)) (h fe fc ar)
  | succ d ih =>
    intro i N fe fc ar hi hN
    obtain ⟨N, rfl⟩ : ∃ N', N = N' + 1 := ⟨N - 1, by omega⟩
    unfold wY_killed_4
    refine br_f (nI_ge (by omega) (by omega)) ?_
    refine yw_killers hA hB hs hts hms i (by omega) ?_
    intro fe fc ar
    have G := ih (i + 1) N fe fc ar (by omega) (by omega)
    refine br_c (fun q => nm_r (nI_1 i) ?_) (fun q => nm_r (nI_1 _) (nm_r (nI_1 i) ?_))
    · rw [cn_f (decide_eq_false (fun z => z q))] at G
      exact G
    · rw [cn_t (decide_eq_true q)] at G
      exact G
theorem yw_killed {post : Int32 → SY → Prop} (hA : ∀ p, A p < 4 ∧ ya p = nI (A p)) (hB : ∀ p, B p < 4 ∧ yb p = nI (B p)) (hs : sz ≤ 12) (hts : ts ≤ 6) (hms : ms ≤ 24) (x : Int32) (h : ∀ fe fc ar, post (nI (ml_cn (fun m => decide (¬ (ml_km (ml_K op cn wh co cg sx sy wo wa A B sz) m ts &&& x) = 0)) ms)) (nI sz, nI ts, nI ms, fe, fc, op, ya, yb, cn, sx, sy, wo, wa, wh, co, cg, ar)) : wpY_killed post (nI sz, nI ts, nI ms, fe, fc, op, ya, yb, cn, sx, sy, wo, wa, wh, co, cg, ar) x := by
  unfold wpY_killed
  exact ⟨ms + 1, yw_killed4 hA hB hs hts hms x h ms 0 (ms + 1) fe fc ar (by omega) (by omega)⟩
/-- the set x kills whatever is killed: of mutant m -/
theorem yw_all2 {post : Int32 → SY → Prop} (hA : ∀ p, A p < 4 ∧ ya p = nI (A p)) (hB : ∀ p, B p < 4 ∧ yb p = nI (B p)) (hs : sz ≤ 12) (hts : ts ≤ 6) (hms : ms ≤ 24) (x : Int32) (f : Nat → Bool) (hf : f = fun m => decide (ml_km (ml_K op cn wh co cg sx sy wo wa A B sz) m ts = 0 ∨ ¬ (ml_km (ml_K op cn wh co cg sx sy wo wa A B sz) m ts &&& x) = 0)) (h : ∀ fe fc ar, post (ml_b (ml_all f ms)) (nI sz, nI ts, nI ms, fe, fc, op, ya, yb, cn, sx, sy, wo, wa, wh, co, cg, ar)) : ∀ (d i N : Nat) (fe fc : Int32) (ar : Nat → Int32), i + d = ms → d < N → ml_all f i = true → wY_killsAll_2 post x N (nI i) (nI sz) (nI ts) (nI ms) fe fc op ya yb cn sx sy wo wa wh co cg ar := by
  intro d
  induction d with
  | zero =>
    intro i N fe fc ar hi hN ha
    obtain ⟨N, rfl⟩ : ∃ N', N = N' + 1 := ⟨N - 1, by omega⟩
    obtain rfl : i = ms := by omega
    have := h fe fc ar
    rw [ha] at this
    exact br_t (nI_le (Nat.le_refl _) (by omega)) this
  | succ d ih =>
    intro i N fe fc ar hi hN ha
    obtain ⟨N, rfl⟩ : ∃ N', N = N' + 1 := ⟨N - 1, by omega⟩
    unfold wY_killsAll_2
    refine br_f (nI_ge (by omega) (by omega)) ?_
    refine yw_killers hA hB hs hts hms i (by omega) ?_
    intro fe fc ar
    have G := ih (i + 1) N fe fc ar (by omega) (by omega)
    have ef : f i = decide (ml_km (ml_K op cn wh co cg sx sy wo wa A B sz) i ts = 0 ∨ ¬ (ml_km (ml_K op cn wh co cg sx sy wo wa A B sz) i ts &&& x) = 0) := by rw [hf]
    refine br_c (fun q => nm_r (nI_1 i) (G (all_s ha (ef.trans (decide_eq_true (Or.inl q)))))) (fun q => br_c (fun z => ?_) (fun z => nm_r (nI_1 i) (G (all_s ha (ef.trans (decide_eq_true (Or.inr z)))))))
    have e0 : f i = false := ef.trans (decide_eq_false (fun w => w.elim q (fun y => y z)))
    have := h fe fc ar
    rw [all_f e0 ms (by omega)] at this
    exact this
theorem yw_killsAll {post : Int32 → SY → Prop} (hA : ∀ p, A p < 4 ∧ ya p = nI (A p)) (hB : ∀ p, B p < 4 ∧ yb p = nI (B p)) (hs : sz ≤ 12) (hts : ts ≤ 6) (hms : ms ≤ 24) (x : Int32) (h : ∀ fe fc ar, post (ml_b (ml_all (fun m => decide (ml_km (ml_K op cn wh co cg sx sy wo wa A B sz) m ts = 0 ∨ ¬ (ml_km (ml_K op cn wh co cg sx sy wo wa A B sz) m ts &&& x) = 0)) ms)) (nI sz, nI ts, nI ms, fe, fc, op, ya, yb, cn, sx, sy, wo, wa, wh, co, cg, ar)) : wpY_killsAll post (nI sz, nI ts, nI ms, fe, fc, op, ya, yb, cn, sx, sy, wo, wa, wh, co, cg, ar) x := by
  unfold wpY_killsAll
  exact ⟨ms + 1, yw_all2 hA hB hs hts hms x _ rfl h ms 0 (ms + 1) fe fc ar (by omega) (by omega) rfl⟩
/-- alike -/
theorem yw_alike2 {post : Int32 → SY → Prop} (hA : ∀ p, A p < 4 ∧ ya p = nI (A p)) (hB : ∀ p, B p < 4 ∧ yb p = nI (B p)) (hs : sz ≤ 12) (hts : ts ≤ 6) (m : Nat) (hm : m < 24) (f : Nat → Bool) (hf : f = fun t => ml_like sz (ml_run op cn A B sz (sx t) (sy t)) (ml_run (ml_O op wh co cg m) (ml_C cn wh co cg m) A B sz (sx t) (sy t))) (h : ∀ fe fc ar, post (ml_b (ml_all f ts)) (nI sz, nI ts, nI ms, fe, fc, op, ya, yb, cn, sx, sy, wo, wa, wh, co, cg, ar)) : ∀ (d i N : Nat) (fe fc : Int32) (ar : Nat → Int32), i + d = ts → d < N → ml_all f i = true → wY_alike_2 post (nI m) N (nI i) (nI sz) (nI ts) (nI ms) fe fc op ya yb cn sx sy wo wa wh co cg ar := by
  intro d
  induction d with
  | zero =>
    intro i N fe fc ar hi hN ha
    obtain ⟨N, rfl⟩ : ∃ N', N = N' + 1 := ⟨N - 1, by omega⟩
    obtain rfl : i = ts := by omega
    have := h fe fc ar
    rw [ha] at this
    exact br_t (nI_le (Nat.le_refl _) (by omega)) this
  | succ d ih =>
    intro i N fe fc ar hi hN ha
    obtain ⟨N, rfl⟩ : ∃ N', N = N' + 1 := ⟨N - 1, by omega⟩
    have ci : (nI i).toNatClampNeg = i := nI_clamp (by omega)
    have ii : vp_in (nI i) 6 := vp_in_nI (by omega) (by omega)
    unfold wY_alike_2
    refine br_f (nI_ge (by omega) (by omega)) ⟨ii, ii, ?_⟩
    rw [ci]
    refine yr_run hA hB hs ml_sel_p (sx i) (sy i) ?_
    intro ar1 e1
    refine nm_r e1 ⟨ii, ii, ?_⟩
    refine yr_run hA hB hs (ml_sel_m hm) (sx i) (sy i) ?_
    intro ar2 e2
    have G := fun w => ih (i + 1) N (ml_E sz (ml_run (ml_O op wh co cg m) (ml_C cn wh co cg m) A B sz (sx i) (sy i))) (nI (ml_run (ml_O op wh co cg m) (ml_C cn wh co cg m) A B sz (sx i) (sy i)).2.2) ar2 (by omega) (by omega) (all_s ha w)
    have H : f i = false → post 0 (nI sz, nI ts, nI ms, ml_E sz (ml_run (ml_O op wh co cg m) (ml_C cn wh co cg m) A B sz (sx i) (sy i)), nI (ml_run (ml_O op wh co cg m) (ml_C cn wh co cg m) A B sz (sx i) (sy i)).2.2, op, ya, yb, cn, sx, sy, wo, wa, wh, co, cg, ar2) := by
      intro w
      have := h (ml_E sz (ml_run (ml_O op wh co cg m) (ml_C cn wh co cg m) A B sz (sx i) (sy i))) (nI (ml_run (ml_O op wh co cg m) (ml_C cn wh co cg m) A B sz (sx i) (sy i)).2.2) ar2
      rw [all_f w ts (by omega)] at this
      exact this
    have ef : f i = ml_like sz (ml_run op cn A B sz (sx i) (sy i)) (ml_run (ml_O op wh co cg m) (ml_C cn wh co cg m) A B sz (sx i) (sy i)) := by rw [hf]
    rw [ef] at G H
    unfold ml_like at G H
    dsimp only
    rw [e2]
    refine br_c (fun q => br_c (fun z => nm_r (nI_1 i) (G ?_)) (fun z => br_c (fun y => nm_r (nI_1 i) (G ?_)) (fun y => H ?_))) (fun q => H ?_)
    · rw [decide_eq_true q, decide_eq_true (by rw [ml_Ou_0 z, ml_Ou_0 (q.trans z)])]; rfl
    · rw [decide_eq_true q, decide_eq_true (by rw [ml_Ou_1 z, ml_Ou_1 (fun w => z (q.symm.trans w))]; exact y)]; rfl
    · rw [decide_eq_false (p := ml_Ou sz (ml_run (ml_O op wh co cg m) (ml_C cn wh co cg m) A B sz (sx i) (sy i)) = ml_Ou sz (ml_run op cn A B sz (sx i) (sy i))) (by rw [ml_Ou_1 z, ml_Ou_1 (fun w => z (q.symm.trans w))]; exact y), Bool.and_false]
    · rw [decide_eq_false q, Bool.false_and]
theorem yw_alike {post : Int32 → SY → Prop} (hA : ∀ p, A p < 4 ∧ ya p = nI (A p)) (hB : ∀ p, B p < 4 ∧ yb p = nI (B p)) (hs : sz ≤ 12) (hts : ts ≤ 6) (m : Nat) (hm : m < 24) (h : ∀ fe fc ar, post (ml_b (ml_all (fun t => ml_like sz (ml_run op cn A B sz (sx t) (sy t)) (ml_run (ml_O op wh co cg m) (ml_C cn wh co cg m) A B sz (sx t) (sy t))) ts)) (nI sz, nI ts, nI ms, fe, fc, op, ya, yb, cn, sx, sy, wo, wa, wh, co, cg, ar)) : wpY_alike post (nI sz, nI ts, nI ms, fe, fc, op, ya, yb, cn, sx, sy, wo, wa, wh, co, cg, ar) (nI m) := by
  unfold wpY_alike
  exact ⟨ts + 1, yw_alike2 hA hB hs hts m hm _ rfl h ts 0 (ts + 1) fe fc ar (by omega) (by omega) rfl⟩
theorem yw_same4 {post : Int32 → SY → Prop} (hA : ∀ p, A p < 4 ∧ ya p = nI (A p)) (hB : ∀ p, B p < 4 ∧ yb p = nI (B p)) (hs : sz ≤ 12) (hts : ts ≤ 6) (hms : ms ≤ 24) (f : Nat → Bool) (hf : f = fun m => ml_all (fun t => ml_like sz (ml_run op cn A B sz (sx t) (sy t)) (ml_run (ml_O op wh co cg m) (ml_C cn wh co cg m) A B sz (sx t) (sy t))) ts) (h : ∀ fe fc ar, post (nI (ml_cn f ms)) (nI sz, nI ts, nI ms, fe, fc, op, ya, yb, cn, sx, sy, wo, wa, wh, co, cg, ar)) : ∀ (d i N : Nat) (fe fc : Int32) (ar : Nat → Int32), i + d = ms → d < N → wY_same_4 post N (nI (ml_cn f i)) (nI i) (nI sz) (nI ts) (nI ms) fe fc op ya yb cn sx sy wo wa wh co cg ar := by
  intro d
  induction d with
  | zero =>
    intro i N fe fc ar hi hN
    obtain ⟨N, rfl⟩ : ∃ N', N = N' + 1 := ⟨N - 1, by omega⟩
    obtain rfl : i = ms := by omega
    exact br_t (nI_le (Nat.le_refl _) (by omega)) (h fe fc ar)
  | succ d ih =>
    intro i N fe fc ar hi hN
    obtain ⟨N, rfl⟩ : ∃ N', N = N' + 1 := ⟨N - 1, by omega⟩
    unfold wY_same_4
    refine br_f (nI_ge (by omega) (by omega)) ?_
    refine yw_alike hA hB hs hts i (by omega) ?_
    intro fe fc ar
    have G := ih (i + 1) N fe fc ar (by omega) (by omega)
    have ef : f i = ml_all (fun t => ml_like sz (ml_run op cn A B sz (sx t) (sy t)) (ml_run (ml_O op wh co cg i) (ml_C cn wh co cg i) A B sz (sx t) (sy t))) ts := by rw [hf]
    rw [← ef]
    cases e : f i
    · rw [cn_f e] at G
      exact br_t rfl (nm_r (nI_1 i) G)
    · rw [cn_t e] at G
      exact br_f (by decide) (nm_r (nI_1 _) (nm_r (nI_1 i) G))
theorem yw_same {post : Int32 → SY → Prop} (hA : ∀ p, A p < 4 ∧ ya p = nI (A p)) (hB : ∀ p, B p < 4 ∧ yb p = nI (B p)) (hs : sz ≤ 12) (hts : ts ≤ 6) (hms : ms ≤ 24) (h : ∀ fe fc ar, post (nI (ml_cn (fun m => ml_all (fun t => ml_like sz (ml_run op cn A B sz (sx t) (sy t)) (ml_run (ml_O op wh co cg m) (ml_C cn wh co cg m) A B sz (sx t) (sy t))) ts) ms)) (nI sz, nI ts, nI ms, fe, fc, op, ya, yb, cn, sx, sy, wo, wa, wh, co, cg, ar)) : wpY_same post (nI sz, nI ts, nI ms, fe, fc, op, ya, yb, cn, sx, sy, wo, wa, wh, co, cg, ar) := by
  unfold wpY_same
  exact ⟨ms + 1, yw_same4 hA hB hs hts hms _ rfl h ms 0 (ms + 1) fe fc ar (by omega) (by omega)⟩
end
end
section
/-! ===== the reference: all sets are tried ===== -/
def ml_ls (c : Nat → Nat) (g : Nat → Bool) : Nat → Nat
  | 0 => 6
  | s + 1 => if c s < ml_ls c g s ∧ g s = true then c s else ml_ls c g s
theorem ls_le (c : Nat → Nat) (g : Nat → Bool) : ∀ n, ml_ls c g n ≤ 6 := by
  intro n
  induction n with
  | zero => exact Nat.le_refl _
  | succ n ih => rw [ml_ls]; split <;> omega
theorem ls_min (c : Nat → Nat) (g : Nat → Bool) : ∀ n s, s < n → g s = true → ml_ls c g n ≤ c s := by
  intro n
  induction n with
  | zero => intro s hs; exact absurd hs (by omega)
  | succ n ih =>
    intro s hs hg
    rw [ml_ls]
    by_cases e : s = n
    · subst e
      by_cases l : c s < ml_ls c g s
      · rw [if_pos ⟨l, hg⟩]; exact Nat.le_refl _
      · rw [if_neg (fun z => l z.1)]; omega
    · have := ih s (by omega) hg
      split
      · omega
      · exact this
theorem ls_ex (c : Nat → Nat) (g : Nat → Bool) : ∀ n, ml_ls c g n = 6 ∨ ∃ s, s < n ∧ g s = true ∧ c s = ml_ls c g n := by
  intro n
  induction n with
  | zero => exact Or.inl rfl
  | succ n ih =>
    rw [ml_ls]
    by_cases h : c n < ml_ls c g n ∧ g n = true
    · rw [if_pos h]; exact Or.inr ⟨n, by omega, h.2, rfl⟩
    · rw [if_neg h]
      rcases ih with e | ⟨s, hs, hg, e⟩
      · exact Or.inl e
      · exact Or.inr ⟨s, by omega, hg, e⟩
section
variable {A B : Nat → Nat} {sz ts ms : Nat} {fe fc : Int32} {op ya yb cn sx sy wo wa wh co cg ar : Nat → Int32}
theorem ye_16 {post : Int32 → SY → Prop} {J : Int32 → Int32 → Int32 → Int32 → Int32 → Int32 → Int32 → (Nat → Int32) → (Nat → Int32) → (Nat → Int32) → (Nat → Int32) → (Nat → Int32) → (Nat → Int32) → (Nat → Int32) → (Nat → Int32) → (Nat → Int32) → (Nat → Int32) → (Nat → Int32) → (Nat → Int32) → Prop} (hA : ∀ p, A p < 4 ∧ ya p = nI (A p)) (hB : ∀ p, B p < 4 ∧ yb p = nI (B p)) (hs : sz ≤ 12) (hts : ts ≤ 6) (hms : ms ≤ 24) (l s : Nat) (hl : l ≤ 6) (g : Bool) (hg : g = ml_all (fun m => decide (ml_km (ml_K op cn wh co cg sx sy wo wa A B sz) m ts = 0 ∨ ¬ (ml_km (ml_K op cn wh co cg sx sy wo wa A B sz) m ts &&& nI s) = 0)) ms) (h : ∀ fe fc ar, J (nI (if ml_cn (bt (nI s)) 6 < l ∧ g = true then ml_cn (bt (nI s)) 6 else l)) (nI (s + 1)) (nI sz) (nI ts) (nI ms) fe fc op ya yb cn sx sy wo wa wh co cg ar) : ∀ (d i N : Nat), i + d = 6 → d < N → wY_enough_16 post J (nI l) (nI s) (nI sz) (nI ts) (nI ms) fe fc op ya yb cn sx sy wo wa wh co cg ar N (nI (ml_cn (bt (nI s)) i)) (nI i) := by
  intro d
  induction d with
  | zero =>
    intro i N hi hN
    obtain ⟨N, rfl⟩ : ∃ N', N = N' + 1 := ⟨N - 1, by omega⟩
    obtain rfl : i = 6 := by omega
    have hc := cn_le (bt (nI s)) 6
    unfold wY_enough_16
    refine br_t (by decide) ?_
    by_cases q : l ≤ ml_cn (bt (nI s)) 6
    · have := h fe fc ar
      rw [if_neg (fun z => absurd z.1 (by omega))] at this
      exact br_t (nI_le q (by omega)) (nm_r (nI_1 s) this)
    · refine br_f (nI_ge (by omega) (by omega)) ?_
      refine yw_killsAll hA hB hs hts hms (nI s) ?_
      intro fe fc ar
      have := h fe fc ar
      rw [← hg]
      cases e : g
      · rw [e, if_neg (fun z => absurd z.2 (by decide))] at this
        exact br_t rfl (nm_r (nI_1 s) this)
      · rw [e, if_pos ⟨by omega, rfl⟩] at this
        exact br_f (by decide) (nm_r (nI_1 s) this)
  | succ d ih =>
    intro i N hi hN
    obtain ⟨N, rfl⟩ : ∃ N', N = N' + 1 := ⟨N - 1, by omega⟩
    have G := ih (i + 1) N (by omega) (by omega)
    unfold wY_enough_16
    refine br_f (nI_ge (b := 6) (by omega) (by decide)) ?_
    rw [xb_test (nI s) (by omega)]
    cases e : bt (nI s) i
    · rw [if_neg (by decide)]
      rw [cn_f e] at G
      exact nm_r (Int32.add_zero _) (nm_r (nI_1 i) G)
    · rw [if_pos rfl]
      rw [cn_t e] at G
      exact nm_r (nI_1 _) (nm_r (nI_1 i) G)
theorem ye_5 {post : Int32 → SY → Prop} (hA : ∀ p, A p < 4 ∧ ya p = nI (A p)) (hB : ∀ p, B p < 4 ∧ yb p = nI (B p)) (hs : sz ≤ 12) (hts : ts ≤ 6) (hms : ms ≤ 24) (c : Nat → Nat) (hc : c = fun s => ml_cn (bt (nI s)) 6) (g : Nat → Bool) (hg : g = fun s => ml_all (fun m => decide (ml_km (ml_K op cn wh co cg sx sy wo wa A B sz) m ts = 0 ∨ ¬ (ml_km (ml_K op cn wh co cg sx sy wo wa A B sz) m ts &&& nI s) = 0)) ms) (h : ∀ fe fc ar, post (nI (ml_ls c g 64)) (nI sz, nI ts, nI ms, fe, fc, op, ya, yb, cn, sx, sy, wo, wa, wh, co, cg, ar)) : ∀ (d i N : Nat) (fe fc : Int32) (ar : Nat → Int32), i + d = 64 → d < N → wY_enough_5 post N (nI (ml_ls c g i)) (nI i) (nI sz) (nI ts) (nI ms) fe fc op ya yb cn sx sy wo wa wh co cg ar := by
  intro d
  induction d with
  | zero =>
    intro i N fe fc ar hi hN
    obtain ⟨N, rfl⟩ : ∃ N', N = N' + 1 := ⟨N - 1, by omega⟩
    obtain rfl : i = 64 := by omega
    exact br_t (by decide) (h fe fc ar)
  | succ d ih =>
    intro i N fe fc ar hi hN
    obtain ⟨N, rfl⟩ : ∃ N', N = N' + 1 := ⟨N - 1, by omega⟩
    unfold wY_enough_5
    refine br_f (nI_ge (b := 64) (by omega) (by decide)) ⟨7, ?_⟩
    refine ye_16 hA hB hs hts hms (ml_ls c g i) i (ls_le c g i) (g i) (by rw [hg]) ?_ 6 0 7 rfl (by omega)
    intro fe fc ar
    have G := ih (i + 1) N fe fc ar (by omega) (by omega)
    rw [ml_ls, show c i = ml_cn (bt (nI i)) 6 by rw [hc]] at G
    exact G
theorem ye_enough {post : Int32 → SY → Prop} (hA : ∀ p, A p < 4 ∧ ya p = nI (A p)) (hB : ∀ p, B p < 4 ∧ yb p = nI (B p)) (hs : sz ≤ 12) (hts : ts ≤ 6) (hms : ms ≤ 24) (h : ∀ fe fc ar, post (nI (ml_ls (fun s => ml_cn (bt (nI s)) 6) (fun s => ml_all (fun m => decide (ml_km (ml_K op cn wh co cg sx sy wo wa A B sz) m ts = 0 ∨ ¬ (ml_km (ml_K op cn wh co cg sx sy wo wa A B sz) m ts &&& nI s) = 0)) ms) 64)) (nI sz, nI ts, nI ms, fe, fc, op, ya, yb, cn, sx, sy, wo, wa, wh, co, cg, ar)) : wpY_enough post (nI sz, nI ts, nI ms, fe, fc, op, ya, yb, cn, sx, sy, wo, wa, wh, co, cg, ar) := by
  unfold wpY_enough
  exact ⟨65, ye_5 hA hB hs hts hms _ rfl _ rfl h 64 0 65 fe fc ar rfl (by omega)⟩
end
end
section
/-! ===== X: kills ===== -/
/-- the rows of kills below n are right -/
def ml_HK (K : Nat → Nat → Bool) (ts ms n : Nat) (ki : Nat → Int32) : Prop := ∀ t, t < n → ∀ b, b < 32 → bt (ki t) b = (decide (t < ts) && (decide (b < ms) && K t b))
theorem hk_upd {K : Nat → Nat → Bool} {ts ms n : Nat} {ki : Nat → Int32} {x : Int32} (h : ml_HK K ts ms n ki) : ml_HK K ts ms n (upd ki n x) := by
  intro t ht b hb
  rw [pk_un (by omega)]
  exact h t ht b hb
section
variable {A B : Nat → Nat} {sz ts ms : Nat} {rd mp mo mc : Int32} {op rg cn sx sy wo wa wh co cg en ou st mE mO mS re ki un ot : Nat → Int32}
theorem xk_it {post : Int32 → Prop} (t m : Nat) (ht : t < 6) (hm : m < 24) (hC : ml_CH op cn wh co cg sx sy A B sz t m mE mO mS) (h : post (ml_b ((ml_K op cn wh co cg sx sy wo wa A B sz) t m))) : wpX_killsIt post (nI sz, nI ts, nI ms, rd, mp, mo, mc, op, rg, cn, sx, sy, wo, wa, wh, co, cg, en, ou, st, mE, mO, mS, re, ki, un, ot) (nI t) (nI m) := by
  have ct : (nI t).toNatClampNeg = t := nI_clamp (by omega)
  have ci : (nI (t * 24 + m)).toNatClampNeg = t * 24 + m := nI_clamp (by omega)
  have it : vp_in (nI t) 6 := vp_in_nI ht (by omega)
  have ii : vp_in (nI (t * 24 + m)) 144 := vp_in_nI (by omega) (by omega)
  have eK : (ml_K op cn wh co cg sx sy wo wa A B sz) t m = !ml_ok sz (ml_run (ml_O op wh co cg m) (ml_C cn wh co cg m) A B sz (sx t) (sy t)) (wo t) (wa t) := rfl
  rw [eK] at h
  unfold wpX_killsIt
  refine nm_r ml_ix ⟨ii, it, ?_⟩
  rw [ct, ci, hC.1, hC.2.1]
  refine br_c (fun q => ⟨ii, br_c (fun z => ?_) (fun z => ⟨ii, it, br_c (fun y => ?_) (fun y => ?_)⟩)⟩) (fun q => ?_)
  · rw [ml_ok_0 q z] at h; exact h
  · rw [ml_ok_t q ((ml_Ou_1 z).symm.trans y)] at h; exact h
  · rw [ml_ok_f z (fun w => y ((ml_Ou_1 z).trans w))] at h; exact h
  · rw [ml_ok_ne q] at h; exact h
theorem xk_21 {post : SX → Prop} {J : Int32 → (Nat → Int32) → (Nat → Int32) → (Nat → Int32) → (Nat → Int32) → (Nat → Int32) → (Nat → Int32) → (Nat → Int32) → (Nat → Int32) → (Nat → Int32) → (Nat → Int32) → (Nat → Int32) → (Nat → Int32) → (Nat → Int32) → (Nat → Int32) → (Nat → Int32) → (Nat → Int32) → (Nat → Int32) → (Nat → Int32) → (Nat → Int32) → (Nat → Int32) → Prop} (hts : ts ≤ 6) (hms : ms ≤ 24) (hC : ∀ t, t < ts → ∀ m, m < ms → ml_CH op cn wh co cg sx sy A B sz t m mE mO mS) (t : Nat) (ht : t < 6) (h : ∀ ki, ml_HK (ml_K op cn wh co cg sx sy wo wa A B sz) ts ms (t + 1) ki → J (nI (t + 1)) op rg cn sx sy wo wa wh co cg en ou st mE mO mS re ki un ot) : ∀ (d i N : Nat) (ki : Nat → Int32), i + d = ms → d < N → ml_HK (ml_K op cn wh co cg sx sy wo wa A B sz) ts ms t ki → (∀ b, b < 32 → bt (ki t) b = (decide (t < ts) && (decide (b < i) && (ml_K op cn wh co cg sx sy wo wa A B sz) t b))) → wX_gatherKills_21 post J (nI t) (nI sz) (nI ts) (nI ms) rd mp mo mc N (nI i) op rg cn sx sy wo wa wh co cg en ou st mE mO mS re ki un ot := by
  have ct : (nI t).toNatClampNeg = t := nI_clamp (by omega)
  have it : vp_in (nI t) 6 := vp_in_nI ht (by omega)
  intro d
  induction d with
  | zero =>
    intro i N ki hi hN h1 h2
    obtain ⟨N, rfl⟩ : ∃ N', N = N' + 1 := ⟨N - 1, by omega⟩
    obtain rfl : i = ms := by omega
    refine br_t (nI_le (Nat.le_refl _) (by omega)) (nm_r (nI_1 t) (h ki ?_))
    intro t' ht' b hb
    by_cases e : t' = t
    · subst e; exact h2 b hb
    · exact h1 t' (by omega) b hb
  | succ d ih =>
    intro i N ki hi hN h1 h2
    obtain ⟨N, rfl⟩ : ∃ N', N = N' + 1 := ⟨N - 1, by omega⟩
    unfold wX_gatherKills_21
    refine br_f (nI_ge (by omega) (by omega)) ?_
    by_cases q : ts ≤ t
    · refine br_t (nI_le q (by omega)) (nm_r (nI_1 t) (h ki ?_))
      intro t' ht' b hb
      by_cases e : t' = t
      · subst e
        rw [h2 b hb, decide_eq_false (by omega), Bool.false_and, Bool.false_and]
      · exact h1 t' (by omega) b hb
    · refine br_f (nI_ge (by omega) (by omega)) ?_
      refine xk_it t i ht (by omega) (hC t (by omega) i (by omega)) ?_
      cases e : (ml_K op cn wh co cg sx sy wo wa A B sz) t i
      · refine br_t rfl (nm_r (nI_1 i) (ih (i + 1) N ki (by omega) (by omega) h1 ?_))
        intro b hb
        rw [h2 b hb]
        by_cases eb : b = i
        · subst eb; rw [e, Bool.and_false, Bool.and_false, Bool.and_false, Bool.and_false]
        · rw [show decide (b < i) = decide (b < i + 1) from decide_eq_decide.mpr (by omega)]
      · refine br_f (by decide) ⟨it, it, ?_⟩
        rw [ct]
        refine nm_e (nm_r (nI_1 i) (ih (i + 1) N _ (by omega) (by omega) (hk_upd h1) ?_))
        intro b hb
        rw [pk_us, xb_set (by omega) hb, h2 b hb]
        by_cases eb : b = i
        · subst eb
          rw [e, decide_eq_true (p := b = b) rfl, decide_eq_true (p := t < ts) (by omega), decide_eq_true (p := b < b + 1) (by omega), Bool.or_true]; rfl
        · rw [decide_eq_false eb, Bool.or_false, show decide (b < i) = decide (b < i + 1) from decide_eq_decide.mpr (by omega)]
theorem xk_6 {post : SX → Prop} (hts : ts ≤ 6) (hms : ms ≤ 24) (hC : ∀ t, t < ts → ∀ m, m < ms → ml_CH op cn wh co cg sx sy A B sz t m mE mO mS) (h : ∀ ki, ml_HK (ml_K op cn wh co cg sx sy wo wa A B sz) ts ms 6 ki → post (nI sz, nI ts, nI ms, rd, mp, mo, mc, op, rg, cn, sx, sy, wo, wa, wh, co, cg, en, ou, st, mE, mO, mS, re, ki, un, ot)) : ∀ (d i N : Nat) (ki : Nat → Int32), i + d = 6 → d < N → ml_HK (ml_K op cn wh co cg sx sy wo wa A B sz) ts ms i ki → wX_gatherKills_6 post (nI sz) (nI ts) (nI ms) rd mp mo mc N (nI i) op rg cn sx sy wo wa wh co cg en ou st mE mO mS re ki un ot := by
  intro d
  induction d with
  | zero =>
    intro i N ki hi hN h1
    obtain ⟨N, rfl⟩ : ∃ N', N = N' + 1 := ⟨N - 1, by omega⟩
    obtain rfl : i = 6 := by omega
    exact br_t (by decide) (h ki h1)
  | succ d ih =>
    intro i N ki hi hN h1
    obtain ⟨N, rfl⟩ : ∃ N', N = N' + 1 := ⟨N - 1, by omega⟩
    have ci : (nI i).toNatClampNeg = i := nI_clamp (by omega)
    unfold wX_gatherKills_6
    refine br_f (nI_ge (b := 6) (by omega) (by decide)) ⟨vp_in_nI (by omega) (by omega), ?_⟩
    rw [ci]
    refine nm_e ⟨ms + 1, xk_21 hts hms hC i (by omega) (fun ki hk => ih (i + 1) N ki (by omega) (by omega) hk) ms 0 (ms + 1) _ (by omega) (by omega) (hk_upd h1) ?_⟩
    intro b hb
    rw [pk_us, b_0, decide_eq_false (p := b < 0) (by omega), Bool.false_and, Bool.and_false]
theorem xk_gather {post : SX → Prop} (hA : ∀ p, A p < 4 ∧ rg p &&& 3 = nI (A p)) (hB : ∀ p, B p < 4 ∧ rg p >>> ((2 : Int32) &&& 31) = nI (B p)) (hs : sz ≤ 12) (hts : ts ≤ 6) (hms : ms ≤ 24) (hwh : ∀ m, m < ms → ∃ w, w < sz ∧ wh m = nI w) (hrd : ¬ rd = 0 → (ml_OK op cn wh co cg sx sy A B sz ts ms en ou st mE mO mS))
  (h : ∀ rd mp mo mc en ou st mE mO mS re ki, (ml_OK op cn wh co cg sx sy A B sz ts ms en ou st mE mO mS) → ml_HK (ml_K op cn wh co cg sx sy wo wa A B sz) ts ms 6 ki → post (nI sz, nI ts, nI ms, rd, mp, mo, mc, op, rg, cn, sx, sy, wo, wa, wh, co, cg, en, ou, st, mE, mO, mS, re, ki, un, ot)) : wpX_gatherKills post (nI sz, nI ts, nI ms, rd, mp, mo, mc, op, rg, cn, sx, sy, wo, wa, wh, co, cg, en, ou, st, mE, mO, mS, re, ki, un, ot) := by
  unfold wpX_gatherKills
  refine xr_prepare hA hB hs hts hms hwh hrd ?_
  intro rd mp mo mc en ou st mE mO mS re hO
  exact ⟨7, xk_6 hts hms hO.2 (fun ki hk => h rd mp mo mc en ou st mE mO mS re ki hO hk) 6 0 7 ki rfl (by omega) (fun t ht => absurd ht (by omega))⟩
theorem xk_ones4 {post : Int32 → Prop} (x : Int32) (h : post (nI (ml_cn (bt x) 24))) : ∀ (d i N : Nat), i + d = 24 → d < N → wX_ones_4 post x N (nI (ml_cn (bt x) i)) (nI i) := by
  intro d
  induction d with
  | zero =>
    intro i N hi hN
    obtain ⟨N, rfl⟩ : ∃ N', N = N' + 1 := ⟨N - 1, by omega⟩
    obtain rfl : i = 24 := by omega
    exact br_t (by decide) h
  | succ d ih =>
    intro i N hi hN
    obtain ⟨N, rfl⟩ : ∃ N', N = N' + 1 := ⟨N - 1, by omega⟩
    have G := ih (i + 1) N (by omega) (by omega)
    unfold wX_ones_4
    refine br_f (nI_ge (b := 24) (by omega) (by decide)) ?_
    rw [xb_test x (by omega)]
    cases e : bt x i
    · rw [if_neg (by decide)]
      rw [cn_f e] at G
      exact nm_r (Int32.add_zero _) (nm_r (nI_1 i) G)
    · rw [if_pos rfl]
      rw [cn_t e] at G
      exact nm_r (nI_1 _) (nm_r (nI_1 i) G)
theorem xk_ones {post : Int32 → Prop} (x : Int32) (h : post (nI (ml_cn (bt x) 24))) : wpX_ones post x := ⟨25, xk_ones4 x h 24 0 25 rfl (by omega)⟩
theorem xk_or0 (x : Int32) {t : Nat} (ht : t < 32) : x ||| ((0 : Int32) <<< (nI t &&& 31)) = x := by
  apply b_ext
  intro i hi
  rw [b_or, b_shl t ht 0 hi, b_0, Bool.and_false, Bool.or_false]
theorem xk_of4 {K : Nat → Nat → Bool} {post : Int32 → Prop} (hts : ts ≤ 6) (hms : ms ≤ 24) (hk : ml_HK K ts ms 6 ki) (m : Nat) (hm : m < ms) (h : post (ml_km K m ts)) : ∀ (d i N : Nat), i + d = ts → d < N → wX_killersOf_4 post (nI m) (nI sz) (nI ts) (nI ms) rd mp mo mc op rg cn sx sy wo wa wh co cg en ou st mE mO mS re ki un ot N (ml_km K m i) (nI i) := by
  intro d
  induction d with
  | zero =>
    intro i N hi hN
    obtain ⟨N, rfl⟩ : ∃ N', N = N' + 1 := ⟨N - 1, by omega⟩
    obtain rfl : i = ts := by omega
    exact br_t (nI_le (Nat.le_refl _) (by omega)) h
  | succ d ih =>
    intro i N hi hN
    obtain ⟨N, rfl⟩ : ∃ N', N = N' + 1 := ⟨N - 1, by omega⟩
    have ci : (nI i).toNatClampNeg = i := nI_clamp (by omega)
    have G := ih (i + 1) N (by omega) (by omega)
    have e := hk i (by omega) m (by omega)
    rw [decide_eq_true (by omega), decide_eq_true (by omega), Bool.true_and, Bool.true_and] at e
    unfold wX_killersOf_4
    refine br_f (nI_ge (by omega) (by omega)) ⟨vp_in_nI (by omega) (by omega), ?_⟩
    rw [ci, xb_test (ki i) (by omega), e]
    rw [ml_km] at G
    cases eK : K i m
    · rw [eK, if_neg (by decide)] at G
      rw [if_neg (by decide)]
      exact nm_r (xk_or0 _ (by omega)) (nm_r (nI_1 i) G)
    · rw [eK, if_pos rfl] at G
      rw [if_pos rfl]
      exact nm_e (nm_r (nI_1 i) G)
theorem xk_of {K : Nat → Nat → Bool} {post : Int32 → Prop} (hts : ts ≤ 6) (hms : ms ≤ 24) (hk : ml_HK K ts ms 6 ki) (m : Nat) (hm : m < ms) (h : post (ml_km K m ts)) : wpX_killersOf post (nI sz, nI ts, nI ms, rd, mp, mo, mc, op, rg, cn, sx, sy, wo, wa, wh, co, cg, en, ou, st, mE, mO, mS, re, ki, un, ot) (nI m) := by
  unfold wpX_killersOf
  exact ⟨ts + 1, xk_of4 hts hms hk m hm h ts 0 (ts + 1) (by omega) (by omega)⟩
/-- killed: the union of the chosen rows -/
theorem xk_killed8 {post : Int32 → SX → Prop} (x : Int32) (h : ∀ y, (∀ b, b < 32 → bt y b = ml_any (fun t => bt x t && bt (ki t) b) 6) → post (nI (ml_cn (bt y) 24)) (nI sz, nI ts, nI ms, rd, mp, mo, mc, op, rg, cn, sx, sy, wo, wa, wh, co, cg, en, ou, st, mE, mO, mS, re, ki, un, ot)) : ∀ (d i N : Nat) (y : Int32), i + d = 6 → d < N → (∀ b, b < 32 → bt y b = ml_any (fun t => bt x t && bt (ki t) b) i) → wX_killed_8 post x (nI sz) (nI ts) (nI ms) rd mp mo mc op rg cn sx sy wo wa wh co cg en ou st mE mO mS re ki un ot N y (nI i) := by
  intro d
  induction d with
  | zero =>
    intro i N y hi hN hy
    obtain ⟨N, rfl⟩ : ∃ N', N = N' + 1 := ⟨N - 1, by omega⟩
    obtain rfl : i = 6 := by omega
    exact br_t (by decide) (xk_ones y (h y hy))
  | succ d ih =>
    intro i N y hi hN hy
    obtain ⟨N, rfl⟩ : ∃ N', N = N' + 1 := ⟨N - 1, by omega⟩
    have ci : (nI i).toNatClampNeg = i := nI_clamp (by omega)
    unfold wX_killed_8
    refine br_f (nI_ge (b := 6) (by omega) (by decide)) ?_
    rw [xb_1 (by omega), ci]
    refine br_c (fun q => ⟨vp_in_nI (by omega) (by omega), nm_e (nm_r (nI_1 i) (ih (i + 1) N _ (by omega) (by omega) ?_))⟩) (fun q => nm_r (nI_1 i) (ih (i + 1) N y (by omega) (by omega) ?_))
    · intro b hb
      rw [b_or, hy b hb, ml_any, q, Bool.true_and]
    · intro b hb
      have q' : bt x i = false := by cases e : bt x i with | true => exact absurd e q | false => rfl
      rw [hy b hb, ml_any, q', Bool.false_and, Bool.or_false]
/-- alike, same -/
theorem xk_alike2 {post : Int32 → Prop} (hts : ts ≤ 6) (hms : ms ≤ 24) (hO : (ml_OK op cn wh co cg sx sy A B sz ts ms en ou st mE mO mS)) (m : Nat) (hm : m < ms) (f : Nat → Bool) (hf : f = fun t => ml_like sz (ml_run op cn A B sz (sx t) (sy t)) (ml_run (ml_O op wh co cg m) (ml_C cn wh co cg m) A B sz (sx t) (sy t))) (h : post (ml_b (ml_all f ts))) : ∀ (d i N : Nat), i + d = ts → d < N → ml_all f i = true → wX_alike_2 post (nI m) (nI sz) (nI ts) (nI ms) rd mp mo mc op rg cn sx sy wo wa wh co cg en ou st mE mO mS re ki un ot N (nI i) := by
  intro d
  induction d with
  | zero =>
    intro i N hi hN ha
    obtain ⟨N, rfl⟩ : ∃ N', N = N' + 1 := ⟨N - 1, by omega⟩
    obtain rfl : i = ts := by omega
    rw [ha] at h
    exact br_t (nI_le (Nat.le_refl _) (by omega)) h
  | succ d ih =>
    intro i N hi hN ha
    obtain ⟨N, rfl⟩ : ∃ N', N = N' + 1 := ⟨N - 1, by omega⟩
    have ci : (nI i).toNatClampNeg = i := nI_clamp (by omega)
    have ck : (nI (i * 24 + m)).toNatClampNeg = i * 24 + m := nI_clamp (by omega)
    have ii : vp_in (nI i) 6 := vp_in_nI (by omega) (by omega)
    have ik : vp_in (nI (i * 24 + m)) 144 := vp_in_nI (by omega) (by omega)
    have hp := hO.1 i (by omega)
    have hc := hO.2 i (by omega) m hm
    have ef : f i = ml_like sz (ml_run op cn A B sz (sx i) (sy i)) (ml_run (ml_O op wh co cg m) (ml_C cn wh co cg m) A B sz (sx i) (sy i)) := by rw [hf]
    have F : f i = false → post 0 := by
      intro w
      rw [all_f w ts (by omega)] at h
      exact h
    have G := fun w => ih (i + 1) N (by omega) (by omega) (all_s ha w)
    rw [ef] at F G
    unfold ml_like at F G
    unfold wX_alike_2
    refine br_f (nI_ge (by omega) (by omega)) (nm_r ml_ix ⟨ik, ii, ?_⟩)
    rw [ci, ck, hp.1, hp.2.1, hc.1, hc.2.1]
    refine br_c (fun q => ⟨ik, ii, br_c (fun y => nm_r (nI_1 i) (G ?_)) (fun y => F ?_)⟩) (fun q => F ?_)
    · rw [decide_eq_true q, decide_eq_true y]; rfl
    · rw [decide_eq_false y, Bool.and_false]
    · rw [decide_eq_false q, Bool.false_and]
theorem xk_alike {post : Int32 → Prop} (hts : ts ≤ 6) (hms : ms ≤ 24) (hO : (ml_OK op cn wh co cg sx sy A B sz ts ms en ou st mE mO mS)) (m : Nat) (hm : m < ms) (h : post (ml_b (ml_all (fun t => ml_like sz (ml_run op cn A B sz (sx t) (sy t)) (ml_run (ml_O op wh co cg m) (ml_C cn wh co cg m) A B sz (sx t) (sy t))) ts))) : wpX_alike post (nI sz, nI ts, nI ms, rd, mp, mo, mc, op, rg, cn, sx, sy, wo, wa, wh, co, cg, en, ou, st, mE, mO, mS, re, ki, un, ot) (nI m) := by
  unfold wpX_alike
  exact ⟨ts + 1, xk_alike2 hts hms hO m hm _ rfl h ts 0 (ts + 1) (by omega) (by omega) rfl⟩
theorem xk_same8 {post : Int32 → SX → Prop} (hts : ts ≤ 6) (hms : ms ≤ 24) (hO : (ml_OK op cn wh co cg sx sy A B sz ts ms en ou st mE mO mS)) (f : Nat → Bool) (hf : f = fun m => ml_all (fun t => ml_like sz (ml_run op cn A B sz (sx t) (sy t)) (ml_run (ml_O op wh co cg m) (ml_C cn wh co cg m) A B sz (sx t) (sy t))) ts) (h : post (nI (ml_cn f ms)) (nI sz, nI ts, nI ms, rd, mp, mo, mc, op, rg, cn, sx, sy, wo, wa, wh, co, cg, en, ou, st, mE, mO, mS, re, ki, un, ot)) : ∀ (d i N : Nat), i + d = ms → d < N → wX_same_8 post (nI sz) (nI ts) (nI ms) rd mp mo mc op rg cn sx sy wo wa wh co cg en ou st mE mO mS re ki un ot N (nI (ml_cn f i)) (nI i) := by
  intro d
  induction d with
  | zero =>
    intro i N hi hN
    obtain ⟨N, rfl⟩ : ∃ N', N = N' + 1 := ⟨N - 1, by omega⟩
    obtain rfl : i = ms := by omega
    exact br_t (nI_le (Nat.le_refl _) (by omega)) h
  | succ d ih =>
    intro i N hi hN
    obtain ⟨N, rfl⟩ : ∃ N', N = N' + 1 := ⟨N - 1, by omega⟩
    have G := ih (i + 1) N (by omega) (by omega)
    have ef : f i = ml_all (fun t => ml_like sz (ml_run op cn A B sz (sx t) (sy t)) (ml_run (ml_O op wh co cg i) (ml_C cn wh co cg i) A B sz (sx t) (sy t))) ts := by rw [hf]
    unfold wX_same_8
    refine br_f (nI_ge (by omega) (by omega)) ?_
    refine xk_alike hts hms hO i (by omega) ?_
    rw [← ef]
    cases e : f i
    · rw [cn_f e] at G
      exact br_t rfl (nm_r (nI_1 i) G)
    · rw [cn_t e] at G
      exact br_f (by decide) (nm_r (nI_1 _) (nm_r (nI_1 i) G))
end
end
section
/-! ===== covers, pure ===== -/
/-- at most j tests cover the mutants of L -/
def ml_CV (ki : Nat → Int32) (L : Int32) (j : Nat) : Prop := ∃ S : Nat → Bool, ml_cn S 6 ≤ j ∧ ∀ b, b < 32 → bt L b = true → ∃ t, t < 6 ∧ S t = true ∧ bt (ki t) b = true
/-- how many tests kill something of L -/
def ml_u (ki : Nat → Int32) (L : Int32) : Nat := ml_cn (fun t => decide (¬ (ki t &&& L) = 0)) 6
/-- L holds only mutants that some test kills -/
def ml_ML (K : Nat → Nat → Bool) (ts ms : Nat) (L : Int32) : Prop := ∀ b, b < 32 → bt L b = true → b < ms ∧ ∃ t, t < ts ∧ K t b = true
/-- R is a choice for L -/
def ml_ch (K : Nat → Nat → Bool) (ts ms : Nat) (L R : Int32) : Prop := (R = 0 ∧ ∀ m, m < ms → bt L m = false) ∨ ∃ m, m < ms ∧ bt L m = true ∧ R = ml_km K m ts
def ml_T : Nat → Nat
  | 0 => 1
  | k + 1 => 1 + (k + 1) * (1 + ml_T k)
theorem bt_child {L x : Int32} {b : Nat} (hb : b < 32) : bt (L &&& (x ^^^ (-1))) b = (bt L b && !bt x b) := by
  rw [b_and, b_xor, b_m1 b hb, Bool.xor_true]
theorem cv_0 {ki : Nat → Int32} {L : Int32} (h : L = 0) : ml_CV ki L 0 := by
  refine ⟨fun _ => false, by decide, fun b _ hL => ?_⟩
  rw [h, b_0] at hL
  exact absurd hL (by decide)
theorem cn_pos {f : Nat → Bool} {t n : Nat} (ht : t < n) (h : f t = true) : 1 ≤ ml_cn f n := by
  have := cn_less (f := fun _ => false) (g := f) (t := t) rfl h n ht (fun i _ z => absurd z (by decide))
  omega
theorem cv_up {ki : Nat → Int32} {L : Int32} {t j : Nat} (ht : t < 6) (h : ml_CV ki (L &&& (ki t ^^^ (-1))) j) : ml_CV ki L (j + 1) := by
  obtain ⟨S, hS, hc⟩ := h
  refine ⟨fun i => S i || decide (i = t), ?_, fun b hb hL => ?_⟩
  · have := (cn_more (f := S) (g := fun i => S i || decide (i = t)) (t := t) 6 (fun i _ hi => by rw [decide_eq_false hi, Bool.or_false])).1
    omega
  · by_cases e : bt (ki t) b = true
    · exact ⟨t, ht, by dsimp only; rw [decide_eq_true rfl, Bool.or_true], e⟩
    · have e' : bt (ki t) b = false := by cases z : bt (ki t) b with | true => exact absurd z e | false => rfl
      obtain ⟨t', h1, h2, h3⟩ := hc b hb (by rw [bt_child hb, hL, e']; rfl)
      exact ⟨t', h1, by dsimp only; rw [h2]; rfl, h3⟩
theorem cv_down {ki : Nat → Int32} {L : Int32} {m j : Nat} (hm : m < 32) (hL : bt L m = true) (h : ml_CV ki L j) : ∃ t j', t < 6 ∧ bt (ki t) m = true ∧ j = j' + 1 ∧ ml_CV ki (L &&& (ki t ^^^ (-1))) j' := by
  obtain ⟨S, hS, hc⟩ := h
  obtain ⟨t, ht, hSt, hk⟩ := hc m hm hL
  have h1 := cn_less (f := fun i => S i && !decide (i = t)) (g := S) (t := t) (by rw [decide_eq_true rfl]; exact Bool.and_false _) hSt 6 ht (fun i _ z => by
    have z : (S i && !decide (i = t)) = true := z
    rw [Bool.and_eq_true] at z
    exact z.1)
  refine ⟨t, j - 1, ht, hk, by omega, fun i => S i && !decide (i = t), by omega, fun b hb hb2 => ?_⟩
  rw [bt_child hb, Bool.and_eq_true] at hb2
  obtain ⟨t', g1, g2, g3⟩ := hc b hb hb2.1
  refine ⟨t', g1, ?_, g3⟩
  have hne : ¬ t' = t := by
    intro e
    subst e
    rw [g3] at hb2
    exact absurd hb2.2 (by decide)
  show (S t' && !decide (t' = t)) = true
  rw [g2, decide_eq_false hne]; rfl
theorem ml_child {K : Nat → Nat → Bool} {ts ms : Nat} {L x : Int32} (h : ml_ML K ts ms L) : ml_ML K ts ms (L &&& (x ^^^ (-1))) := by
  intro b hb hb2
  rw [bt_child hb, Bool.and_eq_true] at hb2
  exact h b hb hb2.1
theorem u_child {ki : Nat → Int32} {L : Int32} {t : Nat} (ht : t < 6) (h : ¬ (ki t &&& L) = 0) : ml_u ki (L &&& (ki t ^^^ (-1))) + 1 ≤ ml_u ki L := by
  refine cn_less (t := t) (decide_eq_false ?_) (decide_eq_true h) 6 ht (fun i hi z => ?_)
  · intro g
    refine g (b_ext (fun b hb => ?_))
    rw [b_and, bt_child hb, b_0]
    cases bt (ki t) b <;> cases bt L b <;> rfl
  · refine decide_eq_true ?_
    obtain ⟨b, hb, e⟩ := bt_ne0 (of_decide_eq_true z)
    rw [b_and, bt_child hb, Bool.and_eq_true, Bool.and_eq_true] at e
    refine bt_0 (i := b) ?_
    rw [b_and, e.1, e.2.1]; rfl
/-- an int with its bits below 6 -/
theorem sm_q {x : Int32} (h : ∀ i, 6 ≤ i → i < 32 → bt x i = false) : ∃ q, q < 64 ∧ x = nI q := by
  refine ⟨x.toBitVec.toNat, ?_, ?_⟩
  · refine Nat.lt_pow_two_of_testBit (n := 6) _ (fun i hi => ?_)
    by_cases h32 : i < 32
    · exact h i hi h32
    · exact b_big (x := x) (by omega)
  · apply Int32.toBitVec_inj.1
    show x.toBitVec = BitVec.ofNat 32 x.toBitVec.toNat
    simp
theorem km_q (K : Nat → Nat → Bool) (m : Nat) {ts : Nat} (h : ts ≤ 6) : ∃ q, q < 64 ∧ ml_km K m ts = nI q := by
  refine sm_q (fun i hi h32 => ?_)
  rw [km_bt K m ts (by omega) i h32, decide_eq_false (by omega), Bool.false_and]
def ml_lb (q : Nat) : Nat := if q % 2 = 1 then 0 else if q / 2 % 2 = 1 then 1 else if q / 4 % 2 = 1 then 2 else if q / 8 % 2 = 1 then 3 else if q / 16 % 2 = 1 then 4 else 5
theorem lb_lt (q : Nat) : ml_lb q < 6 := by unfold ml_lb; repeat' split
                                            all_goals omega
theorem lb_bit : ∀ q, q < 64 → nI q &&& (-(nI q)) = if q = 0 then 0 else (1 : Int32) <<< (nI (ml_lb q) &&& 31) := by decide +kernel
theorem lb_sub : ∀ q, q < 64 → nI q - (nI q &&& (-(nI q))) = nI (q - if q = 0 then 0 else 2 ^ ml_lb q) := by decide +kernel
theorem lb_has : ∀ q, q < 64 → q = 0 ∨ bt (nI q) (ml_lb q) = true := by decide +kernel
theorem lb_rest : ∀ q, q < 64 → q = 0 ∨ ∀ i, i < 6 → bt (nI (q - if q = 0 then 0 else 2 ^ ml_lb q)) i = (bt (nI q) i && !decide (i = ml_lb q)) := by decide +kernel
/-- what the walk of a level with the options q answers for b -/
def ml_RES (ki : Nat → Int32) (d : Nat) (L : Int32) (q b b' : Nat) : Prop :=
  b' ≤ b ∧ (b' = b ∨ ∃ j, ml_CV ki L j ∧ d + j ≤ b') ∧ (L = 0 → b' ≤ d) ∧ ∀ t, t < 6 → bt (nI q) t = true → ∀ j, ml_CV ki (L &&& (ki t ^^^ (-1))) j → b' ≤ d + 1 + j
/-- what the walk of a whole level answers for b -/
def ml_RF (ki : Nat → Int32) (d : Nat) (L : Int32) (b b' : Nat) : Prop :=
  b' ≤ b ∧ (b' = b ∨ ∃ j, ml_CV ki L j ∧ d + j ≤ b') ∧ ∀ j, ml_CV ki L j → b' ≤ d + j
theorem rf_of {K : Nat → Nat → Bool} {ts ms d q b b' : Nat} {ki : Nat → Int32} {L : Int32} (hts : ts ≤ 6) (hms : ms ≤ 24) (hk : ml_HK K ts ms 6 ki) (hL : ml_ML K ts ms L) (hc : ml_ch K ts ms L (nI q)) (h : ml_RES ki d L q b b') : ml_RF ki d L b b' := by
  refine ⟨h.1, h.2.1, fun j hj => ?_⟩
  by_cases e : L = 0
  · have := h.2.2.1 e
    omega
  · rcases hc with ⟨_, hn⟩ | ⟨m, hm, hLm, hR⟩
    · obtain ⟨i, hi, g⟩ := bt_ne0 e
      have := hn i (hL i hi g).1
      rw [g] at this
      exact absurd this (by decide)
    · obtain ⟨t, j', ht, hkt, rfl, hj'⟩ := cv_down (by omega) hLm hj
      rw [hk t ht m (by omega), Bool.and_eq_true, Bool.and_eq_true, decide_eq_true_eq] at hkt
      have := h.2.2.2 t ht (by rw [hR, km_bt K m ts (by omega) t (by omega), hkt.2.2, decide_eq_true hkt.1]; rfl) j' hj'
      omega
/-- the options of a choice kill something of L -/
theorem ch_use {K : Nat → Nat → Bool} {ts ms : Nat} {ki : Nat → Int32} {L R : Int32} (hts : ts ≤ 6) (hms : ms ≤ 24) (hk : ml_HK K ts ms 6 ki) (hc : ml_ch K ts ms L R) : ∀ i, i < 6 → bt R i = true → ¬ (ki i &&& L) = 0 := by
  intro i hi hb
  rcases hc with ⟨e, _⟩ | ⟨m, hm, hLm, e⟩
  · rw [e, b_0] at hb
    exact absurd hb (by decide)
  · rw [e, km_bt K m ts (by omega) i (by omega), Bool.and_eq_true, decide_eq_true_eq] at hb
    refine bt_0 (i := m) ?_
    rw [b_and, hLm, hk i hi m (by omega), hb.2, decide_eq_true hb.1, decide_eq_true hm]; rfl
theorem ch_q {K : Nat → Nat → Bool} {ts ms : Nat} {L R : Int32} (hts : ts ≤ 6) (hc : ml_ch K ts ms L R) : ∃ q, q < 64 ∧ R = nI q := by
  rcases hc with ⟨e, _⟩ | ⟨m, _, _, e⟩
  · exact ⟨0, by omega, e⟩
  · obtain ⟨q, hq, e2⟩ := km_q K m hts
    exact ⟨q, hq, e.trans e2⟩
/-- the answer: both sides' least number -/
theorem cv_ls {K : Nat → Nat → Bool} {ts ms : Nat} {ki : Nat → Int32} {L : Int32} {b : Nat} (hts : ts ≤ 6) (hms : ms ≤ 24) (hk : ml_HK K ts ms 6 ki) (hL : ∀ m, m < 32 → bt L m = ml_any (fun t => bt (ki t) m) ts) (h : ml_RF ki 0 L 7 b) : b = ml_ls (fun s => ml_cn (bt (nI s)) 6) (fun s => ml_all (fun m => decide (ml_km K m ts = 0 ∨ ¬ (ml_km K m ts &&& nI s) = 0)) ms) 64 := by
  have hbit : ∀ t m, t < 6 → m < 32 → (bt (ki t) m = true ↔ t < ts ∧ m < ms ∧ K t m = true) := by
    intro t m ht hm
    rw [hk t ht m hm, Bool.and_eq_true, Bool.and_eq_true, decide_eq_true_eq, decide_eq_true_eq]
  have hin : ∀ m, m < 32 → (bt L m = true ↔ m < ms ∧ ∃ t, t < ts ∧ K t m = true) := by
    intro m hm
    rw [hL m hm, any_iff]
    constructor
    · rintro ⟨t, ht, g⟩
      have := (hbit t m (by omega) hm).mp g
      exact ⟨this.2.1, t, this.1, this.2.2⟩
    · rintro ⟨hm2, t, ht, g⟩
      exact ⟨t, ht, (hbit t m (by omega) hm).mpr ⟨ht, hm2, g⟩⟩
  have toS : ∀ s, ml_all (fun m => decide (ml_km K m ts = 0 ∨ ¬ (ml_km K m ts &&& nI s) = 0)) ms = true → ml_CV ki L (ml_cn (bt (nI s)) 6) := by
    intro s g
    rw [all_iff] at g
    refine ⟨bt (nI s), Nat.le_refl _, fun m hm hLm => ?_⟩
    obtain ⟨hm2, t, ht, hK⟩ := (hin m hm).mp hLm
    have g1 := of_decide_eq_true (g m hm2)
    rcases g1 with g1 | g1
    · exact absurd g1 ((km_ne0 hts).mpr ⟨t, ht, hK⟩)
    · rw [and_any hts, any_iff] at g1
      obtain ⟨i, hi, e⟩ := g1
      have e : (bt (nI s) i && (decide (i < ts) && K i m)) = true := e
      rw [Bool.and_eq_true, Bool.and_eq_true, decide_eq_true_eq] at e
      exact ⟨i, hi, e.1, (hbit i m hi hm).mpr ⟨e.2.1, hm2, e.2.2⟩⟩
  have ofS : ∀ j, ml_CV ki L j → ∃ s, s < 64 ∧ ml_all (fun m => decide (ml_km K m ts = 0 ∨ ¬ (ml_km K m ts &&& nI s) = 0)) ms = true ∧ ml_cn (bt (nI s)) 6 ≤ j := by
    rintro j ⟨S, hS, hc⟩
    obtain ⟨s, hs, e⟩ := km_q (fun t _ => S t) 0 (ts := 6) (Nat.le_refl _)
    have eb : ∀ i, i < 6 → bt (nI s) i = S i := by
      intro i hi
      rw [← e, km_bt _ 0 6 (by omega) i (by omega), decide_eq_true hi, Bool.true_and]
    refine ⟨s, hs, ?_, by rw [cn_congr 6 eb]; exact hS⟩
    rw [all_iff]
    intro m hm
    refine decide_eq_true ?_
    by_cases z : ml_km K m ts = 0
    · exact Or.inl z
    · right
      obtain ⟨t0, ht0, hK0⟩ := (km_ne0 hts).mp z
      obtain ⟨t, ht, hSt, hb⟩ := hc m (by omega) ((hin m (by omega)).mpr ⟨hm, t0, ht0, hK0⟩)
      have hb := (hbit t m ht (by omega)).mp hb
      rw [and_any hts, any_iff]
      refine ⟨t, ht, ?_⟩
      show (bt (nI s) t && (decide (t < ts) && K t m)) = true
      rw [eb t ht, hSt, decide_eq_true hb.1, hb.2.2]; rfl
  have c6 : ml_CV ki L 6 := by
    refine ⟨fun _ => true, by decide, fun m hm hLm => ?_⟩
    obtain ⟨hm2, t, ht, hK⟩ := (hin m hm).mp hLm
    exact ⟨t, by omega, rfl, (hbit t m (by omega) hm).mpr ⟨ht, hm2, hK⟩⟩
  have b6 := h.2.2 6 c6
  apply Nat.le_antisymm
  · rcases ls_ex (fun s => ml_cn (bt (nI s)) 6) (fun s => ml_all (fun m => decide (ml_km K m ts = 0 ∨ ¬ (ml_km K m ts &&& nI s) = 0)) ms) 64 with e | ⟨s, hs, g, e⟩
    · rw [e]; omega
    · have := h.2.2 _ (toS s g)
      rw [← e]
      omega
  · rcases h.2.1 with e | ⟨j, hj, hjb⟩
    · omega
    · obtain ⟨s, hs, g, e⟩ := ofS j hj
      have := ls_min (fun s => ml_cn (bt (nI s)) 6) (fun s => ml_all (fun m => decide (ml_km K m ts = 0 ∨ ¬ (ml_km K m ts &&& nI s) = 0)) ms) 64 s hs g
      have this : ml_ls (fun s => ml_cn (bt (nI s)) 6) (fun s => ml_all (fun m => decide (ml_km K m ts = 0 ∨ ¬ (ml_km K m ts &&& nI s) = 0)) ms) 64 ≤ ml_cn (bt (nI s)) 6 := this
      omega
end
section
/-! ===== X: the search ===== -/
section
variable {K : Nat → Nat → Bool} {sz ts ms : Nat} {rd mp mo mc : Int32} {op rg cn sx sy wo wa wh co cg en ou st mE mO mS re ki un ot : Nat → Int32}
theorem xe_ch8 {post : Int32 → Prop} (hts : ts ≤ 6) (hms : ms ≤ 24) (hk : ml_HK K ts ms 6 ki) (L : Int32) (h : ∀ R, ml_ch K ts ms L R → post R) : ∀ (d i N : Nat) (x2 x3 : Int32), i + d = ms → d < N → ((x2 = 0 ∧ x3 = 7 ∧ ∀ m, m < i → bt L m = false) ∨ ∃ m, m < ms ∧ bt L m = true ∧ x2 = ml_km K m ts) → wX_choices_8 post L (nI sz) (nI ts) (nI ms) rd mp mo mc op rg cn sx sy wo wa wh co cg en ou st mE mO mS re ki un ot N x2 x3 (nI i) := by
  intro d
  induction d with
  | zero =>
    intro i N x2 x3 hi hN hI
    obtain ⟨N, rfl⟩ : ∃ N', N = N' + 1 := ⟨N - 1, by omega⟩
    obtain rfl : i = ms := by omega
    refine br_t (nI_le (Nat.le_refl _) (by omega)) (h x2 ?_)
    rcases hI with ⟨e, _, hn⟩ | hm
    · exact Or.inl ⟨e, hn⟩
    · exact Or.inr hm
  | succ d ih =>
    intro i N x2 x3 hi hN hI
    obtain ⟨N, rfl⟩ : ∃ N', N = N' + 1 := ⟨N - 1, by omega⟩
    unfold wX_choices_8
    refine br_f (nI_ge (by omega) (by omega)) ?_
    rw [xb_1 (by omega)]
    refine br_c (fun q => ?_) (fun q => nm_r (nI_1 i) (ih (i + 1) N x2 x3 (by omega) (by omega) ?_))
    · refine xk_of hts hms hk i (by omega) (xk_ones _ ?_)
      have hc : ml_cn (bt (ml_km K i ts)) 24 ≤ 6 := by
        rw [cn_cut (g := fun j => K j i) (k := ts) 24 (by omega) (fun j hj => km_bt K i ts (by omega) j (by omega))]
        exact Nat.le_trans (cn_le _ _) hts
      have new := fun x3 => ih (i + 1) N (ml_km K i ts) x3 (by omega) (by omega) (Or.inr ⟨i, by omega, q, rfl⟩)
      rcases hI with ⟨_, e7, _⟩ | hm
      · subst e7
        exact br_f (nI_ge (b := 7) (by omega) (by decide)) (nm_r (nI_1 i) (new _))
      · exact br_c (fun _ => nm_r (nI_1 i) (ih (i + 1) N x2 x3 (by omega) (by omega) (Or.inr hm))) (fun _ => nm_r (nI_1 i) (new _))
    · rcases hI with ⟨e1, e2, hn⟩ | hm
      · refine Or.inl ⟨e1, e2, fun m hm => ?_⟩
        by_cases e : m = i
        · subst e
          cases g : bt L m with | true => exact absurd g q | false => rfl
        · exact hn m (by omega)
      · exact Or.inr hm
theorem xe_choices {post : Int32 → Prop} (hts : ts ≤ 6) (hms : ms ≤ 24) (hk : ml_HK K ts ms 6 ki) (L : Int32) (h : ∀ R, ml_ch K ts ms L R → post R) : wpX_choices post (nI sz, nI ts, nI ms, rd, mp, mo, mc, op, rg, cn, sx, sy, wo, wa, wh, co, cg, en, ou, st, mE, mO, mS, re, ki, un, ot) L := by
  unfold wpX_choices
  exact ⟨ms + 1, xe_ch8 hts hms hk L h ms 0 (ms + 1) 0 7 (by omega) (by omega) (Or.inl ⟨rfl, rfl, fun m hm => absurd hm (by omega)⟩)⟩
theorem xe_killsOf {post : Int32 → Prop} (t : Nat) (ht : t < 6) (h : post (ki t)) : wpX_killsOf post (nI sz, nI ts, nI ms, rd, mp, mo, mc, op, rg, cn, sx, sy, wo, wa, wh, co, cg, en, ou, st, mE, mO, mS, re, ki, un, ot) ((1 : Int32) <<< (nI t &&& 31)) := by
  have L : ∀ (d i N : Nat), i + d = t → d < N → wX_killsOf_2 post ((1 : Int32) <<< (nI t &&& 31)) (nI sz) (nI ts) (nI ms) rd mp mo mc op rg cn sx sy wo wa wh co cg en ou st mE mO mS re ki un ot N (nI i) := by
    intro d
    induction d with
    | zero =>
      intro i N hi hN
      obtain ⟨N, rfl⟩ : ∃ N', N = N' + 1 := ⟨N - 1, by omega⟩
      obtain rfl : i = t := by omega
      have ci : (nI i).toNatClampNeg = i := nI_clamp (by omega)
      unfold wX_killsOf_2
      refine br_f (nI_ge (b := 6) (by omega) (by decide)) (br_t rfl ⟨vp_in_nI (by omega) (by omega), ?_⟩)
      rw [ci]
      exact h
    | succ d ih =>
      intro i N hi hN
      obtain ⟨N, rfl⟩ : ∃ N', N = N' + 1 := ⟨N - 1, by omega⟩
      unfold wX_killsOf_2
      refine br_f (nI_ge (b := 6) (by omega) (by decide)) (br_f (fun e => ?_) (nm_r (nI_1 i) (ih (i + 1) N (by omega) (by omega))))
      have g := xb_one (i := i) (j := t) (by omega) (by omega)
      rw [e, xb_one (by omega) (by omega), decide_eq_true rfl, decide_eq_false (by omega)] at g
      exact absurd g (by decide)
  unfold wpX_killsOf
  exact ⟨t + 1, L t 0 (t + 1) (by omega) (by omega)⟩
end
section
variable {K : Nat → Nat → Bool} {sz ts ms : Nat} {rd mp mo mc : Int32} {op rg cn sx sy wo wa wh co cg en ou st mE mO mS re ki un ot : Nat → Int32}
/-- a whole level with a choice R for L: what it asks of what follows it -/
def xe_FC (post : Int32 → SX → Prop) (K : Nat → Nat → Bool) (sz ts ms : Nat) (rd mp mo mc : Int32) (op rg cn sx sy wo wa wh co cg en ou st mE mO mS re ki : Nat → Int32) (k : Nat) : Prop :=
  ∀ (d b s N : Nat) (L R : Int32) (un ot : Nat → Int32), un d = L → ot d = R → ml_ML K ts ms L → ml_ch K ts ms L R → ml_u ki L ≤ k → d + k ≤ 6 → b ≤ 7 → s + ml_T k ≤ 16000 → 16000 < N + s →
  (∀ (b' s' N' : Nat) (un' ot' : Nat → Int32), ml_RF ki d L b b' → s' ≤ s + ml_T k → (∀ i, i < d → un' i = un i ∧ ot' i = ot i) → 16000 < N' + s' → wX_smallest_26 post (nI sz) (nI ts) (nI ms) rd mp mo mc N' (nI b') (nI d + (-1)) (nI s') op rg cn sx sy wo wa wh co cg en ou st mE mO mS re ki un' ot') →
  wX_smallest_26 post (nI sz) (nI ts) (nI ms) rd mp mo mc N (nI b) (nI d) (nI s) op rg cn sx sy wo wa wh co cg en ou st mE mO mS re ki un ot
theorem xe_level {post : Int32 → SX → Prop} (hts : ts ≤ 6) (hms : ms ≤ 24) (hk : ml_HK K ts ms 6 ki) (k : Nat) (hch : ∀ k', k = k' + 1 → xe_FC post K sz ts ms rd mp mo mc op rg cn sx sy wo wa wh co cg en ou st mE mO mS re ki k') :
  ∀ (c : Nat), c ≤ k → ∀ (d b s N q : Nat) (L : Int32) (un ot : Nat → Int32), un d = L → ot d = nI q → q < 64 → ml_ML K ts ms L → (∀ i, i < 6 → bt (nI q) i = true → ¬ (ki i &&& L) = 0) → ml_cn (bt (nI q)) 6 ≤ c → ml_u ki L ≤ k → d + k ≤ 6 → b ≤ 7 → s + (1 + c * (1 + ml_T (k - 1))) ≤ 16000 → 16000 < N + s →
  (∀ (b' s' N' : Nat) (un' ot' : Nat → Int32), ml_RES ki d L q b b' → s' ≤ s + (1 + c * (1 + ml_T (k - 1))) → (∀ i, i < d → un' i = un i ∧ ot' i = ot i) → 16000 < N' + s' → wX_smallest_26 post (nI sz) (nI ts) (nI ms) rd mp mo mc N' (nI b') (nI d + (-1)) (nI s') op rg cn sx sy wo wa wh co cg en ou st mE mO mS re ki un' ot') →
  wX_smallest_26 post (nI sz) (nI ts) (nI ms) rd mp mo mc N (nI b) (nI d) (nI s) op rg cn sx sy wo wa wh co cg en ou st mE mO mS re ki un ot := by
  intro c
  induction c with
  | zero =>
    intro hck d b s N q L un ot hL hq hq64 hML hu hcn huL hdk hb hs hN h
    obtain ⟨N, rfl⟩ : ∃ N', N = N' + 1 := ⟨N - 1, by omega⟩
    have cd : (nI d).toNatClampNeg = d := nI_clamp (by omega)
    have id : vp_in (nI d) 8 := vp_in_nI (by omega) (by omega)
    have q0 : q = 0 := by
      rcases lb_has q hq64 with e | e
      · exact e
      · have := cn_pos (f := bt (nI q)) (lb_lt q) e
        omega
    subst q0
    have pop : ∀ b', ml_RES ki d L 0 b b' → wX_smallest_26 post (nI sz) (nI ts) (nI ms) rd mp mo mc N (nI b') (nI d + (-1)) (nI (s + 1)) op rg cn sx sy wo wa wh co cg en ou st mE mO mS re ki un ot := fun b' hR => h b' (s + 1) N un ot hR (by omega) (fun i _ => ⟨rfl, rfl⟩) (by omega)
    have none : ∀ t, t < 6 → bt (nI 0) t = true → False := fun t _ z => by rw [nI_0, b_0] at z; exact absurd z (by decide)
    unfold wX_smallest_26
    refine br_f (nI_ge (b := 16000) (by omega) (by decide)) (br_f (nI_pos (by omega)) ⟨id, ?_⟩)
    rw [cd, hL]
    refine br_c (fun z => pk_le b d (fun hbd => ?_) (fun hbd => ?_)) (fun z => ?_)
    · unfold wX_smallest_54
      rw [cd, hL]
      refine ⟨id, br_t z (nm_e (nm_r (nI_1 s) (pop b ⟨Nat.le_refl _, Or.inl rfl, fun _ => hbd, fun t ht g => (none t ht g).elim⟩)))⟩
    · unfold wX_smallest_54
      rw [cd, hL]
      refine ⟨id, br_t z (nm_e (nm_r (nI_1 s) (pop d ⟨by omega, Or.inr ⟨0, cv_0 z, by omega⟩, fun _ => Nat.le_refl _, fun t ht g => (none t ht g).elim⟩)))⟩
    · have hR : ml_RES ki d L 0 b b := ⟨Nat.le_refl _, Or.inl rfl, fun e => absurd e z, fun t ht g => (none t ht g).elim⟩
      unfold wX_smallest_54
      rw [cd, hL, hq]
      refine ⟨id, br_f z (br_c (fun _ => nm_e (nm_r (nI_1 s) (pop b hR))) (fun _ => ⟨id, br_t rfl (nm_e (nm_r (nI_1 s) (pop b hR)))⟩))⟩
  | succ c ih =>
    intro hck d b s N q L un ot hL hq hq64 hML hu hcn huL hdk hb hs hN h
    obtain ⟨N, rfl⟩ : ∃ N', N = N' + 1 := ⟨N - 1, by omega⟩
    obtain ⟨k, rfl⟩ : ∃ k', k = k' + 1 := ⟨k - 1, by omega⟩
    rw [Nat.add_sub_cancel] at ih hs h
    have eT : (c + 1) * (1 + ml_T k) = c * (1 + ml_T k) + 1 + ml_T k := by rw [Nat.succ_mul]; omega
    rw [eT] at hs h
    generalize eM : c * (1 + ml_T k) = M at ih hs h
    have cd : (nI d).toNatClampNeg = d := nI_clamp (by omega)
    have id : vp_in (nI d) 8 := vp_in_nI (by omega) (by omega)
    have pop : ∀ b', ml_RES ki d L q b b' → wX_smallest_26 post (nI sz) (nI ts) (nI ms) rd mp mo mc N (nI b') (nI d + (-1)) (nI (s + 1)) op rg cn sx sy wo wa wh co cg en ou st mE mO mS re ki un ot := fun b' hR => h b' (s + 1) N un ot hR (by omega) (fun i _ => ⟨rfl, rfl⟩) (by omega)
    unfold wX_smallest_26
    refine br_f (nI_ge (b := 16000) (by omega) (by decide)) (br_f (nI_pos (by omega)) ⟨id, ?_⟩)
    rw [cd, hL]
    refine br_c (fun z => pk_le b d (fun hbd => ?_) (fun hbd => ?_)) (fun z => ?_)
    · unfold wX_smallest_54
      rw [cd, hL]
      refine ⟨id, br_t z (nm_e (nm_r (nI_1 s) (pop b ⟨Nat.le_refl _, Or.inl rfl, fun _ => hbd, fun t ht g j _ => by omega⟩)))⟩
    · unfold wX_smallest_54
      rw [cd, hL]
      refine ⟨id, br_t z (nm_e (nm_r (nI_1 s) (pop d ⟨by omega, Or.inr ⟨0, cv_0 z, by omega⟩, fun _ => Nat.le_refl _, fun t ht g j _ => by omega⟩)))⟩
    · unfold wX_smallest_54
      rw [cd, hL, hq, nI_1 d]
      refine ⟨id, br_f z (pk_le b (d + 1) (fun hbd => ?_) (fun hbd => ⟨id, pk_eq q 0 (fun e => ?_) (fun e => ?_)⟩))⟩
      · exact nm_e (nm_r (nI_1 s) (pop b ⟨Nat.le_refl _, Or.inl rfl, fun e => absurd e z, fun t ht g j _ => by omega⟩))
      · refine nm_e (nm_r (nI_1 s) (pop b ⟨Nat.le_refl _, Or.inl rfl, fun e => absurd e z, fun t ht g => ?_⟩))
        rw [e, nI_0, b_0] at g
        exact absurd g (by decide)
      · have ht := lb_lt q
        have eb := lb_bit q hq64
        have es := lb_sub q hq64
        have hh := (lb_has q hq64).resolve_left e
        have hr := (lb_rest q hq64).resolve_left e
        rw [if_neg e] at eb es
        rw [if_neg e] at hr
        generalize eq' : q - 2 ^ ml_lb q = q' at es hr
        generalize ml_lb q = t at ht eb hh hr eq'
        have hq' : q' < 64 := Nat.lt_of_le_of_lt (by rw [← eq']; exact Nat.sub_le _ _) hq64
        rw [eb] at es
        refine ⟨id, id, nm_r eb ⟨id, id, nm_r (congrArg (upd ot d) es) ⟨id, ?_⟩⟩⟩
        refine xe_killsOf t ht ?_
        refine nm_e (nm_e ?_)
        have i1 : vp_in (nI (d + 1)) 8 := vp_in_nI (by omega) (by omega)
        have c1 : (nI (d + 1)).toNatClampNeg = d + 1 := nI_clamp (by omega)
        rw [c1]
        refine ⟨i1, nm_e ?_⟩
        refine xe_choices hts hms hk (L &&& (ki t ^^^ (-1))) ?_
        intro R hR
        refine ⟨i1, nm_e (nm_r (nI_1 s) ?_)⟩
        have hut := hu t ht hh
        have huc := u_child ht hut
        refine hch k rfl (d + 1) b (s + 1) N (L &&& (ki t ^^^ (-1))) R _ _ pk_us pk_us (ml_child hML) hR (by omega) (by omega) hb (by omega) (by omega) ?_
        intro b1 s1 N1 un1 ot1 hF hs1 hp hN1
        rw [pk_m1]
        have p1 := hp d (by omega)
        rw [pk_un (by omega), pk_un (by omega), pk_us] at p1
        refine ih (by omega) d b1 s1 N1 q' L un1 ot1 (p1.1.trans hL) p1.2 hq' hML ?_ ?_ huL hdk (Nat.le_trans hF.1 hb) (by omega) hN1 ?_
        · intro i hi hbi
          rw [hr i hi, Bool.and_eq_true] at hbi
          exact hu i hi hbi.1
        · have := cn_less (f := bt (nI q')) (g := bt (nI q)) (t := t) (by rw [hr t ht, decide_eq_true rfl]; exact Bool.and_false _) hh 6 ht (fun i hi z => by rw [hr i hi, Bool.and_eq_true] at z; exact z.1)
          omega
        · intro b2 s2 N2 un2 ot2 hR2 hs2 hp2 hN2
          refine h b2 s2 N2 un2 ot2 ⟨Nat.le_trans hR2.1 hF.1, ?_, hR2.2.2.1, ?_⟩ (by omega) ?_ hN2
          · rcases hR2.2.1 with e2 | e2
            · rcases hF.2.1 with e3 | ⟨j, hj, hjb⟩
              · exact Or.inl (e2.trans e3)
              · exact Or.inr ⟨j + 1, cv_up ht hj, by omega⟩
            · exact Or.inr e2
          · intro t' ht' hb' j hj
            by_cases et : t' = t
            · subst et
              have := hF.2.2 j hj
              have := hR2.1
              omega
            · exact hR2.2.2.2 t' ht' (by rw [hr t' ht', hb', decide_eq_false et]; rfl) j hj
          · intro i hi
            have g1 := hp2 i hi
            have g2 := hp i (by omega)
            rw [pk_un (by omega), pk_un (by omega), pk_un (by omega)] at g2
            exact ⟨g1.1.trans g2.1, g1.2.trans g2.2⟩
theorem xe_full {post : Int32 → SX → Prop} (hts : ts ≤ 6) (hms : ms ≤ 24) (hk : ml_HK K ts ms 6 ki) : ∀ k, xe_FC post K sz ts ms rd mp mo mc op rg cn sx sy wo wa wh co cg en ou st mE mO mS re ki k := by
  have step : ∀ k, (∀ k', k = k' + 1 → xe_FC post K sz ts ms rd mp mo mc op rg cn sx sy wo wa wh co cg en ou st mE mO mS re ki k') → xe_FC post K sz ts ms rd mp mo mc op rg cn sx sy wo wa wh co cg en ou st mE mO mS re ki k := by
    intro k hch d b s N L R un ot hL hR hML hc hu hdk hb hs hN h
    have eT : ml_T k = 1 + k * (1 + ml_T (k - 1)) := by cases k with | zero => rfl | succ k => rfl
    obtain ⟨q, hq, rfl⟩ := ch_q hts hc
    have hus := ch_use hts hms hk hc
    rw [eT] at hs h
    refine xe_level hts hms hk k hch k (Nat.le_refl _) d b s N q L un ot hL hR hq hML hus ?_ hu hdk hb hs hN ?_
    · refine Nat.le_trans (cn_mono 6 (fun i hi z => decide_eq_true (hus i hi z))) hu
    · intro b' s' N' un' ot' hRES
      exact h b' s' N' un' ot' (rf_of hts hms hk hML hc hRES)
  intro k
  induction k with
  | zero => exact step 0 (fun k' e => absurd e (by omega))
  | succ k ih =>
    refine step (k + 1) (fun k' e => ?_)
    obtain rfl : k = k' := by omega
    exact ih
theorem xe_smallest {post : Int32 → SX → Prop} (hts : ts ≤ 6) (hms : ms ≤ 24) (hk : ml_HK K ts ms 6 ki) (L : Int32) (hML : ml_ML K ts ms L) (h : ∀ b un ot, ml_RF ki 0 L 7 b → post (nI b) (nI sz, nI ts, nI ms, rd, mp, mo, mc, op, rg, cn, sx, sy, wo, wa, wh, co, cg, en, ou, st, mE, mO, mS, re, ki, un, ot)) : wpX_smallest post (nI sz, nI ts, nI ms, rd, mp, mo, mc, op, rg, cn, sx, sy, wo, wa, wh, co, cg, en, ou, st, mE, mO, mS, re, ki, un, ot) L := by
  unfold wpX_smallest
  refine nm_e ?_
  refine xe_choices hts hms hk L ?_
  intro R hR
  refine nm_e ⟨16001, ?_⟩
  have hu : ml_u ki L ≤ 6 := cn_le _ _
  refine xe_full hts hms hk 6 0 7 0 16001 L R _ _ pk_us pk_us hML hR hu (by omega) (by omega) (by decide) (by omega) ?_
  intro b' s' N' un' ot' hF hs' _ hN'
  have hT : ml_T 6 = 3913 := by decide
  obtain ⟨N', rfl⟩ : ∃ n, N' = n + 1 := ⟨N' - 1, by omega⟩
  unfold wX_smallest_26
  exact br_f (nI_ge (b := 16000) (by omega) (by decide)) (br_t (by decide) (h b' un' ot' hF))
theorem xe_en8 {post : Int32 → SX → Prop} (hts : ts ≤ 6) (hms : ms ≤ 24) (hk : ml_HK K ts ms 6 ki) (h : ∀ L b un ot, (∀ m, m < 32 → bt L m = ml_any (fun t => bt (ki t) m) ts) → ml_RF ki 0 L 7 b → post (nI b) (nI sz, nI ts, nI ms, rd, mp, mo, mc, op, rg, cn, sx, sy, wo, wa, wh, co, cg, en, ou, st, mE, mO, mS, re, ki, un, ot)) : ∀ (d i N : Nat) (x : Int32), i + d = ts → d < N → (∀ m, m < 32 → bt x m = ml_any (fun t => bt (ki t) m) i) → wX_enough_8 post (nI sz) (nI ts) (nI ms) rd mp mo mc op rg cn sx sy wo wa wh co cg en ou st mE mO mS re ki un ot N x (nI i) := by
  intro d
  induction d with
  | zero =>
    intro i N x hi hN hx
    obtain ⟨N, rfl⟩ : ∃ N', N = N' + 1 := ⟨N - 1, by omega⟩
    obtain rfl : i = ts := by omega
    unfold wX_enough_8
    refine br_t (nI_le (Nat.le_refl _) (by omega)) (xe_smallest hts hms hk x ?_ (fun b un ot hF => h x b un ot hx hF))
    intro b hb hb2
    rw [hx b hb, any_iff] at hb2
    obtain ⟨t, ht, g⟩ := hb2
    have g : bt (ki t) b = true := g
    rw [hk t (by omega) b hb, Bool.and_eq_true, Bool.and_eq_true, decide_eq_true_eq, decide_eq_true_eq] at g
    exact ⟨g.2.1, t, ht, g.2.2⟩
  | succ d ih =>
    intro i N x hi hN hx
    obtain ⟨N, rfl⟩ : ∃ N', N = N' + 1 := ⟨N - 1, by omega⟩
    have ci : (nI i).toNatClampNeg = i := nI_clamp (by omega)
    unfold wX_enough_8
    refine br_f (nI_ge (by omega) (by omega)) ⟨vp_in_nI (by omega) (by omega), ?_⟩
    rw [ci]
    refine nm_e (nm_r (nI_1 i) (ih (i + 1) N _ (by omega) (by omega) ?_))
    intro m hm
    rw [b_or, hx m hm, ml_any]
end
end
section
/-! ===== the relation ===== -/
def ml_Q (A B : Nat → Nat) (sz ts ms : Nat) (rd : Int32) (op rg cn sx sy wh co cg en ou st mE mO mS ya yb : Nat → Int32) : Prop :=
  sz ≤ 12 ∧ ts ≤ 6 ∧ ms ≤ 24 ∧ (∀ p, A p < 4 ∧ rg p &&& 3 = nI (A p)) ∧ (∀ p, B p < 4 ∧ rg p >>> ((2 : Int32) &&& 31) = nI (B p)) ∧ (∀ p, A p < 4 ∧ ya p = nI (A p)) ∧ (∀ p, B p < 4 ∧ yb p = nI (B p)) ∧ (∀ m, m < ms → ∃ w, w < sz ∧ wh m = nI w) ∧ (¬ rd = 0 → (ml_OK op cn wh co cg sx sy A B sz ts ms en ou st mE mO mS))
def i_Rel (_ : Nat) (u : SX) (v : SY) : Prop := ∃ (A B : Nat → Nat) (sz ts ms : Nat) (rd mp mo mc : Int32) (op rg cn sx sy wo wa wh co cg en ou st mE mO mS re ki un ot : Nat → Int32) (fe fc : Int32) (ya yb ar : Nat → Int32), u = (nI sz, nI ts, nI ms, rd, mp, mo, mc, op, rg, cn, sx, sy, wo, wa, wh, co, cg, en, ou, st, mE, mO, mS, re, ki, un, ot) ∧ v = (nI sz, nI ts, nI ms, fe, fc, op, ya, yb, cn, sx, sy, wo, wa, wh, co, cg, ar) ∧ ml_Q A B sz ts ms rd op rg cn sx sy wh co cg en ou st mE mO mS ya yb
theorem zz_sub {P : SX → SY → Prop} {u a : SX} {v b : SY} (e1 : u = a) (e2 : v = b) (h : P a b) : P u v := by subst e1 e2; exact h
theorem zz_el {P : SX → SY → Prop} {k : Nat} {u : SX} {v : SY} (I : i_Rel k u v) (h : ∀ (A B : Nat → Nat) (sz ts ms : Nat) (rd mp mo mc : Int32) (op rg cn sx sy wo wa wh co cg en ou st mE mO mS re ki un ot : Nat → Int32) (fe fc : Int32) (ya yb ar : Nat → Int32), ml_Q A B sz ts ms rd op rg cn sx sy wh co cg en ou st mE mO mS ya yb → P (nI sz, nI ts, nI ms, rd, mp, mo, mc, op, rg, cn, sx, sy, wo, wa, wh, co, cg, en, ou, st, mE, mO, mS, re, ki, un, ot) (nI sz, nI ts, nI ms, fe, fc, op, ya, yb, cn, sx, sy, wo, wa, wh, co, cg, ar)) : P u v :=
  Exists.elim I fun A I1 => Exists.elim I1 fun B I2 => Exists.elim I2 fun sz I3 => Exists.elim I3 fun ts I4 => Exists.elim I4 fun ms I5 => Exists.elim I5 fun rd I6 => 
  Exists.elim I6 fun mp I7 => Exists.elim I7 fun mo I8 => Exists.elim I8 fun mc I9 => Exists.elim I9 fun op I10 => Exists.elim I10 fun rg I11 => Exists.elim I11 fun cn I12 => 
  Exists.elim I12 fun sx I13 => Exists.elim I13 fun sy I14 => Exists.elim I14 fun wo I15 => Exists.elim I15 fun wa I16 => Exists.elim I16 fun wh I17 => Exists.elim I17 fun co I18 => 
  Exists.elim I18 fun cg I19 => Exists.elim I19 fun en I20 => Exists.elim I20 fun ou I21 => Exists.elim I21 fun st I22 => Exists.elim I22 fun mE I23 => Exists.elim I23 fun mO I24 => 
  Exists.elim I24 fun mS I25 => Exists.elim I25 fun re I26 => Exists.elim I26 fun ki I27 => Exists.elim I27 fun un I28 => Exists.elim I28 fun ot I29 => Exists.elim I29 fun fe I30 => 
  Exists.elim I30 fun fc I31 => Exists.elim I31 fun ya I32 => Exists.elim I32 fun yb I33 => Exists.elim I33 fun ar I34 => zz_sub I34.1 I34.2.1 (h A B sz ts ms rd mp mo mc op rg cn sx sy wo wa wh co cg en ou st mE mO mS re ki un ot fe fc ya yb ar I34.2.2)
theorem zz_in {A B : Nat → Nat} {sz ts ms : Nat} {rd mp mo mc : Int32} {op rg cn sx sy wo wa wh co cg en ou st mE mO mS re ki un ot : Nat → Int32} {fe fc : Int32} {ya yb ar : Nat → Int32} {k : Nat} (h : ml_Q A B sz ts ms rd op rg cn sx sy wh co cg en ou st mE mO mS ya yb) : i_Rel k (nI sz, nI ts, nI ms, rd, mp, mo, mc, op, rg, cn, sx, sy, wo, wa, wh, co, cg, en, ou, st, mE, mO, mS, re, ki, un, ot) (nI sz, nI ts, nI ms, fe, fc, op, ya, yb, cn, sx, sy, wo, wa, wh, co, cg, ar) :=
  ⟨A, B, sz, ts, ms, rd, mp, mo, mc, op, rg, cn, sx, sy, wo, wa, wh, co, cg, en, ou, st, mE, mO, mS, re, ki, un, ot, fe, fc, ya, yb, ar, rfl, rfl, h⟩
theorem i_up {k : Nat} {u : SX} {v : SY} (h : i_Rel k u v) : i_Rel (k + 4) u v := h
theorem ml_q0 : ml_Q (fun _ => 0) (fun _ => 0) 0 0 0 0 (fun _ => 0) (fun _ => 0) (fun _ => 0) (fun _ => 0) (fun _ => 0) (fun _ => 0) (fun _ => 0) (fun _ => 0) (fun _ => 0) (fun _ => 0) (fun _ => 0) (fun _ => 0) (fun _ => 0) (fun _ => 0) (fun _ => 0) (fun _ => 0) :=
  ⟨by omega, by omega, by omega, fun _ => ⟨(by decide : 0 < 4), (by decide : (0 : Int32) &&& 3 = nI 0)⟩, fun _ => ⟨(by decide : 0 < 4), (by decide : (0 : Int32) >>> ((2 : Int32) &&& 31) = nI 0)⟩, fun _ => ⟨(by decide : 0 < 4), (by decide : (0 : Int32) = nI 0)⟩, fun _ => ⟨(by decide : 0 < 4), (by decide : (0 : Int32) = nI 0)⟩, fun m hm => absurd hm (by omega), fun z => absurd rfl z⟩
theorem i_vc0 : wpX_init (fun u => wpY_init (fun v => i_Rel 0 u v)) := zz_in (k := 0) (fe := 0) (fc := 0) (rd := 0) (mp := 0) (mo := 0) (mc := 0) (wo := fun _ => 0) (wa := fun _ => 0) (re := fun _ => 0) (ki := fun _ => 0) (un := fun _ => 0) (ot := fun _ => 0) (ar := fun _ => 0) ml_q0
section
variable {A B : Nat → Nat} {sz ts ms : Nat} {rd mp mo mc : Int32} {op rg cn sx sy wo wa wh co cg en ou st mE mO mS re ki un ot : Nat → Int32} {fe fc : Int32} {ya yb ar : Nat → Int32}
theorem q_ok {rd' : Int32} {en' ou' st' mE' mO' mS' : Nat → Int32} (h : ml_Q A B sz ts ms rd op rg cn sx sy wh co cg en ou st mE mO mS ya yb) (hO : ml_OK op cn wh co cg sx sy A B sz ts ms en' ou' st' mE' mO' mS') : ml_Q A B sz ts ms rd' op rg cn sx sy wh co cg en' ou' st' mE' mO' mS' ya yb :=
  ⟨h.1, h.2.1, h.2.2.1, h.2.2.2.1, h.2.2.2.2.1, h.2.2.2.2.2.1, h.2.2.2.2.2.2.1, h.2.2.2.2.2.2.2.1, fun _ => hO⟩
end
end
section
/-! ===== the calls that store ===== -/
theorem em_a (v : Int32) : ∃ a : Nat, a < 4 ∧ (v &&& 15) &&& 3 = nI a ∧ v &&& 3 = nI a := by
  refine ⟨v.toBitVec.toNat % 2 ^ 2, Nat.mod_lt _ (by decide), ?_, pk_and v 2 (by decide)⟩
  rw [← pk_and v (m := 3) 2 (by decide)]
  apply b_ext
  intro i hi
  have h : ∀ i, i < 32 → (bt 15 i && bt 3 i) = bt 3 i := by decide +kernel
  rw [b_and, b_and, b_and, Bool.and_assoc, h i hi]
theorem em_b (v : Int32) : ∃ b : Nat, b < 4 ∧ (v &&& 15) >>> ((2 : Int32) &&& 31) = nI b ∧ (v >>> ((2 : Int32) &&& 31)) &&& 3 = nI b := by
  have e : (v &&& 15) >>> ((2 : Int32) &&& 31) = (v >>> ((2 : Int32) &&& 31)) &&& 3 := by
    apply b_ext
    intro i hi
    have s1 : bt ((v &&& 15) >>> ((2 : Int32) &&& 31)) i = if 2 + i < 32 then bt (v &&& 15) (2 + i) else bt (v &&& 15) 31 := b_sshr 2 (by omega) (v &&& 15) hi
    have s2 : bt (v >>> ((2 : Int32) &&& 31)) i = if 2 + i < 32 then bt v (2 + i) else bt v 31 := b_sshr 2 (by omega) v hi
    have h : ∀ i, i < 32 → bt 3 i = bt 15 (2 + i) := by decide +kernel
    have h31 : bt 15 31 = false := by decide +kernel
    rw [s1, b_and _ 3 i, s2, h i hi]
    by_cases l : 2 + i < 32
    · rw [if_pos l, if_pos l, b_and]
    · rw [if_neg l, if_neg l, b_and, h31, b_big (x := 15) (i := 2 + i) (by omega), Bool.and_false]
  refine ⟨(v >>> ((2 : Int32) &&& 31)).toBitVec.toNat % 2 ^ 2, Nat.mod_lt _ (by decide), ?_, pk_and _ 2 (by decide)⟩
  rw [e]
  exact pk_and _ 2 (by decide)
def ml_nu (f : Nat → Nat) (k x : Nat) : Nat → Nat := fun j => if j = k then x else f j
theorem ml_nu_s {f : Nat → Nat} {k x : Nat} : ml_nu f k x k = x := if_pos rfl
theorem ml_nu_n {f : Nat → Nat} {k x j : Nat} (h : j ≠ k) : ml_nu f k x j = f j := if_neg h
section
variable {A B : Nat → Nat} {sz ts ms : Nat} {rd mp mo mc : Int32} {op rg cn sx sy wo wa wh co cg en ou st mE mO mS re ki un ot : Nat → Int32} {fe fc : Int32} {ya yb ar : Nat → Int32}
theorem q_put {f : Nat → Int32} {g : Int32 → Int32} {F : Nat → Nat} {x : Int32} {a j : Nat} (h : ∀ p, F p < 4 ∧ g (f p) = nI (F p)) (ha : a < 4) (hx : g x = nI a) : ∀ p, ml_nu F j a p < 4 ∧ g (upd f j x p) = nI (ml_nu F j a p) := by
  intro p
  by_cases e : p = j
  · subst e; rw [ml_nu_s, pk_us]; exact ⟨ha, hx⟩
  · rw [ml_nu_n e, pk_un e]; exact h p
theorem ov_emit {k : Nat} (hQ : ml_Q A B sz ts ms rd op rg cn sx sy wh co cg en ou st mE mO mS ya yb) (v1 v2 v3 : Int32) : wpX_emit (fun r u' => wpY_emit (fun r' v' => r' = r ∧ i_Rel k u' v') (nI sz, nI ts, nI ms, fe, fc, op, ya, yb, cn, sx, sy, wo, wa, wh, co, cg, ar) v1 v2 v3) (nI sz, nI ts, nI ms, rd, mp, mo, mc, op, rg, cn, sx, sy, wo, wa, wh, co, cg, en, ou, st, mE, mO, mS, re, ki, un, ot) v1 v2 v3 := by
  have J : i_Rel k (nI sz, nI ts, nI ms, rd, mp, mo, mc, op, rg, cn, sx, sy, wo, wa, wh, co, cg, en, ou, st, mE, mO, mS, re, ki, un, ot) (nI sz, nI ts, nI ms, fe, fc, op, ya, yb, cn, sx, sy, wo, wa, wh, co, cg, ar) := zz_in hQ
  obtain ⟨hs, hts, hms, hA, hB, hA', hB', hwh, hrd⟩ := hQ
  unfold wpX_emit wpY_emit
  dsimp only
  by_cases h0 : v1 < 0
  · exact br_t h0 (br_t h0 ⟨rfl, J⟩)
  · refine br_f h0 ?_
    by_cases h7 : v1 ≤ 7
    · refine br_t h7 ?_
      by_cases hz : sz < 12
      · have iz : vp_in (nI sz) 12 := vp_in_nI hz (by omega)
        have cz : (nI sz).toNatClampNeg = sz := nI_clamp (by omega)
        refine br_t (nI_lt (b := 12) hz (by decide)) ?_
        rw [cz]
        refine ⟨iz, nm_e ⟨iz, nm_e ⟨iz, nm_e (nm_r (nI_1 sz) ?_)⟩⟩⟩
        refine br_f h0 (br_t h7 (br_f (fun e => ?_) ⟨iz, nm_e ⟨iz, nm_e ⟨iz, nm_e ⟨iz, nm_e (nm_r (nI_1 sz) ⟨rfl, ?_⟩)⟩⟩⟩⟩))
        · have := (nI_eq (a := sz) (b := 12) (by omega) (by omega)).mp e
          omega
        · obtain ⟨a, ha, a1, a2⟩ := em_a v2
          obtain ⟨b, hb, b1, b2⟩ := em_b v2
          refine zz_in (A := ml_nu A sz a) (B := ml_nu B sz b) ⟨by omega, hts, hms, ?_, ?_, ?_, ?_, ?_, fun z => absurd rfl z⟩
          · exact q_put (g := fun z => z &&& 3) hA ha a1
          · exact q_put (g := fun z => z >>> ((2 : Int32) &&& 31)) hB hb b1
          · exact q_put (g := fun z => z) hA' ha a2
          · exact q_put (g := fun z => z) hB' hb b2
          · intro m hm
            obtain ⟨w, hw, e⟩ := hwh m hm
            exact ⟨w, by omega, e⟩
      · obtain rfl : sz = 12 := by omega
        exact br_f (by decide) (br_f h0 (br_t h7 (br_t rfl ⟨rfl, J⟩)))
    · exact br_f h7 (br_f h0 (br_f h7 ⟨rfl, J⟩))
/-- a test more -/
theorem xo_add {post : Int32 → SX → Prop} (x y e w : Int32) (ht : ts < 6) (h : post (nI ts) (nI sz, nI (ts + 1), nI ms, 0, mp, mo, mc, op, rg, cn, upd sx ts x, upd sy ts y, upd wo ts (vp_nar .boolean e), upd wa ts w, wh, co, cg, en, ou, st, mE, mO, mS, re, ki, un, ot)) : wpX_addTest post (nI sz, nI ts, nI ms, rd, mp, mo, mc, op, rg, cn, sx, sy, wo, wa, wh, co, cg, en, ou, st, mE, mO, mS, re, ki, un, ot) x y e w := by
  have it : vp_in (nI ts) 6 := vp_in_nI ht (by omega)
  have ct : (nI ts).toNatClampNeg = ts := nI_clamp (by omega)
  unfold wpX_addTest
  dsimp only
  rw [ct]
  exact br_t (nI_lt (b := 6) ht (by decide)) ⟨it, nm_e ⟨it, nm_e ⟨it, nm_e ⟨it, nm_e (nm_r (nI_1 ts) h)⟩⟩⟩⟩
theorem yo_add {post : Int32 → SY → Prop} (x y e w : Int32) (ht : ts < 6) (h : post (nI ts) (nI sz, nI (ts + 1), nI ms, fe, fc, op, ya, yb, cn, upd sx ts x, upd sy ts y, upd wo ts (vp_nar .boolean e), upd wa ts w, wh, co, cg, ar)) : wpY_add post (nI sz, nI ts, nI ms, fe, fc, op, ya, yb, cn, sx, sy, wo, wa, wh, co, cg, ar) x y e w := by
  have it : vp_in (nI ts) 6 := vp_in_nI ht (by omega)
  have ct : (nI ts).toNatClampNeg = ts := nI_clamp (by omega)
  unfold wpY_add
  dsimp only
  rw [ct]
  refine ⟨it, nm_e ⟨it, nm_e ⟨it, nm_e ⟨it, nm_e (nm_r (nI_1 ts) ?_)⟩⟩⟩⟩
  rw [nI_pred]
  exact h
theorem q_test {x y : Int32} (ht : ts < 6) (hQ : ml_Q A B sz ts ms rd op rg cn sx sy wh co cg en ou st mE mO mS ya yb) : ml_Q A B sz (ts + 1) ms 0 op rg cn (upd sx ts x) (upd sy ts y) wh co cg en ou st mE mO mS ya yb := by
  obtain ⟨hs, hts, hms, hA, hB, hA', hB', hwh, hrd⟩ := hQ
  exact ⟨hs, by omega, hms, hA, hB, hA', hB', hwh, fun z => absurd rfl z⟩
theorem ov_test {k : Nat} (hQ : ml_Q A B sz ts ms rd op rg cn sx sy wh co cg en ou st mE mO mS ya yb) (v1 v2 v3 : Int32) : wpX_test (fun r u' => wpY_test (fun r' v' => r' = r ∧ i_Rel k u' v') (nI sz, nI ts, nI ms, fe, fc, op, ya, yb, cn, sx, sy, wo, wa, wh, co, cg, ar) v1 v2 v3) (nI sz, nI ts, nI ms, rd, mp, mo, mc, op, rg, cn, sx, sy, wo, wa, wh, co, cg, en, ou, st, mE, mO, mS, re, ki, un, ot) v1 v2 v3 := by
  unfold wpX_test wpY_test
  by_cases ht : ts < 6
  · refine xo_add v1 v2 1 v3 ht ?_
    refine br_f (fun e => ?_) (yo_add v1 v2 1 v3 ht ⟨rfl, zz_in (q_test ht hQ)⟩)
    have := (nI_eq (a := ts) (b := 6) (by omega) (by omega)).mp e
    omega
  · have J : i_Rel k (nI sz, nI ts, nI ms, rd, mp, mo, mc, op, rg, cn, sx, sy, wo, wa, wh, co, cg, en, ou, st, mE, mO, mS, re, ki, un, ot) (nI sz, nI ts, nI ms, fe, fc, op, ya, yb, cn, sx, sy, wo, wa, wh, co, cg, ar) := zz_in hQ
    have hts := hQ.2.1
    obtain rfl : ts = 6 := by omega
    unfold wpX_addTest
    exact br_f (by decide) (br_t rfl ⟨rfl, J⟩)
/-- a mutant more -/
theorem xo_mut {post : Int32 → SX → Prop} (p e w : Int32) (hm : ms < 24) (h : post (nI ms) (nI sz, nI ts, nI (ms + 1), 0, mp, mo, mc, op, rg, cn, sx, sy, wo, wa, upd wh ms p, upd co ms (vp_nar .boolean e), upd cg ms w, en, ou, st, mE, mO, mS, re, ki, un, ot)) : wpX_addMutant post (nI sz, nI ts, nI ms, rd, mp, mo, mc, op, rg, cn, sx, sy, wo, wa, wh, co, cg, en, ou, st, mE, mO, mS, re, ki, un, ot) p e w := by
  have it : vp_in (nI ms) 24 := vp_in_nI hm (by omega)
  have ct : (nI ms).toNatClampNeg = ms := nI_clamp (by omega)
  unfold wpX_addMutant
  dsimp only
  rw [ct]
  exact br_t (nI_lt (b := 24) hm (by decide)) ⟨it, nm_e ⟨it, nm_e ⟨it, nm_e (nm_r (nI_1 ms) h)⟩⟩⟩
theorem yo_mut {post : Int32 → SY → Prop} (p e w : Int32) (hm : ms < 24) (h : post (nI ms) (nI sz, nI ts, nI (ms + 1), fe, fc, op, ya, yb, cn, sx, sy, wo, wa, upd wh ms p, upd co ms (vp_nar .boolean e), upd cg ms w, ar)) : wpY_mutate post (nI sz, nI ts, nI ms, fe, fc, op, ya, yb, cn, sx, sy, wo, wa, wh, co, cg, ar) p e w := by
  have it : vp_in (nI ms) 24 := vp_in_nI hm (by omega)
  have ct : (nI ms).toNatClampNeg = ms := nI_clamp (by omega)
  unfold wpY_mutate
  dsimp only
  rw [ct]
  refine br_f (fun e => ?_) ⟨it, nm_e ⟨it, nm_e ⟨it, nm_e (nm_r (nI_1 ms) ?_)⟩⟩⟩
  · have := (nI_eq (a := ms) (b := 24) (by omega) (by omega)).mp e
    omega
  · rw [nI_pred]
    exact h
theorem q_mut {p x y : Int32} (hm : ms < 24) (h0 : ¬ p < 0) (hz : p < nI sz) (hQ : ml_Q A B sz ts ms rd op rg cn sx sy wh co cg en ou st mE mO mS ya yb) : ml_Q A B sz ts (ms + 1) 0 op rg cn sx sy (upd wh ms p) (upd co ms x) (upd cg ms y) en ou st mE mO mS ya yb := by
  obtain ⟨hs, hts, hms, hA, hB, hA', hB', hwh, hrd⟩ := hQ
  refine ⟨hs, hts, by omega, hA, hB, hA', hB', ?_, fun z => absurd rfl z⟩
  intro m hm'
  by_cases e : m = ms
  · subst e
    obtain ⟨j, hj, rfl⟩ := nI_of h0
    exact ⟨j, (nI_ltI hj (by omega)).mp hz, pk_us⟩
  · rw [pk_un e]
    exact hwh m (by omega)
theorem ov_mut {k : Nat} (hQ : ml_Q A B sz ts ms rd op rg cn sx sy wh co cg en ou st mE mO mS ya yb) (p e w : Int32) (h0 : ¬ p < 0) (hz : p < nI sz) : wpX_addMutant (fun r u' => wpY_mutate (fun r' v' => r' = r ∧ i_Rel k u' v') (nI sz, nI ts, nI ms, fe, fc, op, ya, yb, cn, sx, sy, wo, wa, wh, co, cg, ar) p e w) (nI sz, nI ts, nI ms, rd, mp, mo, mc, op, rg, cn, sx, sy, wo, wa, wh, co, cg, en, ou, st, mE, mO, mS, re, ki, un, ot) p e w := by
  by_cases hm : ms < 24
  · refine xo_mut p e w hm (yo_mut p e w hm ⟨rfl, zz_in (q_mut hm h0 hz hQ)⟩)
  · have J : i_Rel k (nI sz, nI ts, nI ms, rd, mp, mo, mc, op, rg, cn, sx, sy, wo, wa, wh, co, cg, en, ou, st, mE, mO, mS, re, ki, un, ot) (nI sz, nI ts, nI ms, fe, fc, op, ya, yb, cn, sx, sy, wo, wa, wh, co, cg, ar) := zz_in hQ
    have hms := hQ.2.2.1
    obtain rfl : ms = 24 := by omega
    unfold wpX_addMutant wpY_mutate
    exact br_f (by decide) (br_t rfl ⟨rfl, J⟩)
theorem ov_mutateOp {k : Nat} (hQ : ml_Q A B sz ts ms rd op rg cn sx sy wh co cg en ou st mE mO mS ya yb) (v1 v2 : Int32) : wpX_mutateOp (fun r u' => wpY_mutateOp (fun r' v' => r' = r ∧ i_Rel k u' v') (nI sz, nI ts, nI ms, fe, fc, op, ya, yb, cn, sx, sy, wo, wa, wh, co, cg, ar) v1 v2) (nI sz, nI ts, nI ms, rd, mp, mo, mc, op, rg, cn, sx, sy, wo, wa, wh, co, cg, en, ou, st, mE, mO, mS, re, ki, un, ot) v1 v2 := by
  have J : i_Rel k (nI sz, nI ts, nI ms, rd, mp, mo, mc, op, rg, cn, sx, sy, wo, wa, wh, co, cg, en, ou, st, mE, mO, mS, re, ki, un, ot) (nI sz, nI ts, nI ms, fe, fc, op, ya, yb, cn, sx, sy, wo, wa, wh, co, cg, ar) := zz_in hQ
  unfold wpX_mutateOp wpY_mutateOp
  dsimp only
  by_cases h0 : v1 < 0
  · exact br_t h0 (br_t h0 ⟨rfl, J⟩)
  · refine br_f h0 ?_
    by_cases hz : v1 < nI sz
    · refine br_t hz ?_
      by_cases g0 : v2 < 0
      · exact br_t g0 (br_f h0 (br_t hz (br_t g0 ⟨rfl, J⟩)))
      · refine br_f g0 ?_
        by_cases g7 : v2 ≤ 7
        · refine br_t g7 ?_
          by_cases hm : ms < 24
          · exact xo_mut v1 1 v2 hm (br_f h0 (br_t hz (br_f g0 (br_t g7 (yo_mut v1 1 v2 hm ⟨rfl, zz_in (q_mut hm h0 hz hQ)⟩)))))
          · have hms := hQ.2.2.1
            obtain rfl : ms = 24 := by omega
            unfold wpX_addMutant wpY_mutate
            exact br_f (by decide) (br_f h0 (br_t hz (br_f g0 (br_t g7 (br_t rfl ⟨rfl, J⟩)))))
        · exact br_f g7 (br_f h0 (br_t hz (br_f g0 (br_f g7 ⟨rfl, J⟩))))
    · exact br_f hz (br_f h0 (br_f hz ⟨rfl, J⟩))
theorem ov_mutateC {k : Nat} (hQ : ml_Q A B sz ts ms rd op rg cn sx sy wh co cg en ou st mE mO mS ya yb) (v1 v2 : Int32) : wpX_mutateC (fun r u' => wpY_mutateC (fun r' v' => r' = r ∧ i_Rel k u' v') (nI sz, nI ts, nI ms, fe, fc, op, ya, yb, cn, sx, sy, wo, wa, wh, co, cg, ar) v1 v2) (nI sz, nI ts, nI ms, rd, mp, mo, mc, op, rg, cn, sx, sy, wo, wa, wh, co, cg, en, ou, st, mE, mO, mS, re, ki, un, ot) v1 v2 := by
  have J : i_Rel k (nI sz, nI ts, nI ms, rd, mp, mo, mc, op, rg, cn, sx, sy, wo, wa, wh, co, cg, en, ou, st, mE, mO, mS, re, ki, un, ot) (nI sz, nI ts, nI ms, fe, fc, op, ya, yb, cn, sx, sy, wo, wa, wh, co, cg, ar) := zz_in hQ
  unfold wpX_mutateC wpY_mutateC
  dsimp only
  by_cases h0 : v1 < 0
  · exact br_t h0 (br_t h0 ⟨rfl, J⟩)
  · refine br_f h0 ?_
    by_cases hz : v1 < nI sz
    · refine br_t hz ?_
      by_cases hm : ms < 24
      · exact xo_mut v1 0 v2 hm (br_f h0 (br_t hz (yo_mut v1 0 v2 hm ⟨rfl, zz_in (q_mut hm h0 hz hQ)⟩)))
      · have hms := hQ.2.2.1
        obtain rfl : ms = 24 := by omega
        unfold wpX_addMutant wpY_mutate
        exact br_f (by decide) (br_f h0 (br_t hz (br_t rfl ⟨rfl, J⟩)))
    · exact br_f hz (br_f h0 (br_f hz ⟨rfl, J⟩))
theorem ov_clear {k : Nat} (hQ : ml_Q A B sz ts ms rd op rg cn sx sy wh co cg en ou st mE mO mS ya yb) : wpX_clear (fun u' => wpY_clear (fun v' => i_Rel k u' v') (nI sz, nI ts, nI ms, fe, fc, op, ya, yb, cn, sx, sy, wo, wa, wh, co, cg, ar)) (nI sz, nI ts, nI ms, rd, mp, mo, mc, op, rg, cn, sx, sy, wo, wa, wh, co, cg, en, ou, st, mE, mO, mS, re, ki, un, ot) := by
  obtain ⟨hs, hts, hms, hA, hB, hA', hB', hwh, hrd⟩ := hQ
  exact zz_in (k := k) (ts := 0) (ms := 0) ⟨hs, by omega, by omega, hA, hB, hA', hB', fun m hm => absurd hm (by omega), fun z => absurd rfl z⟩
/-- the snapshot -/
theorem xo_45 {post : Int32 → SX → Prop} (hA : ∀ p, A p < 4 ∧ rg p &&& 3 = nI (A p)) (hB : ∀ p, B p < 4 ∧ rg p >>> ((2 : Int32) &&& 31) = nI (B p)) (hs : sz ≤ 12) (x1 x2 : Int32) : ∀ (k i : Nat) (p : Int32) (N : Nat) (re : Nat → Int32), i + k = 100 → k < N → (∀ re', ml_vw 0 re' = (ml_go op cn A B sz k p (ml_vw 0 re) i).2.1 → wX_snapshotTest_89 post x1 x2 (ml_go op cn A B sz k p (ml_vw 0 re) i).1 (nI sz) (nI ts) (nI ms) rd mp mo mc op rg cn sx sy wo wa wh co cg en ou st mE mO mS re' ki un ot) → wX_snapshotTest_45 post x1 x2 N p (nI i) (nI sz) (nI ts) (nI ms) rd mp mo mc op rg cn sx sy wo wa wh co cg en ou st mE mO mS re ki un ot := by
  intro k
  induction k with
  | zero =>
    intro i p N re hi hN h
    obtain ⟨N, rfl⟩ : ∃ N', N = N' + 1 := ⟨N - 1, by omega⟩
    obtain rfl : i = 100 := by omega
    exact br_t (by decide) (h re rfl)
  | succ k ih =>
    intro i p N re hi hN h
    obtain ⟨N, rfl⟩ : ∃ N', N = N' + 1 := ⟨N - 1, by omega⟩
    have hi' : ¬ (100 : Int32) ≤ nI i := nI_ge (b := 100) (by omega) (by decide)
    rcases ml_pl hs p with hp | ⟨hp, hp1, hp2⟩ | ⟨j, hj, rfl⟩
    · rw [ml_go_out (ml_in_neg hp)] at h
      exact br_f hi' (br_t hp (h re rfl))
    · rw [ml_go_out (ml_in_ge hp2)] at h
      exact br_f hi' (br_f hp (br_t hp1 (h re rfl)))
    · have cj : (nI j).toNatClampNeg = j := nI_clamp (by omega)
      have ij : vp_in (nI j) 12 := vp_in_nI (by omega) (by omega)
      rw [ml_go_in hj hs] at h
      unfold wX_snapshotTest_45
      refine br_f hi' (br_f (nI_pos (by omega)) (br_f (nI_ge hj (by omega)) ⟨ij, ij, ?_⟩))
      rw [cj]
      refine xc_carry hA hB 0 j (by omega) (by omega) (op j) (cn j) ?_
      refine nm_r (nI_1 i) (ih (i + 1) _ N _ (by omega) (by omega) ?_)
      rw [ml_vw_er _ _ (hA j).1 (hB j).1, ml_vw_ep _ _ _ (hA j).1 (hB j).1]
      exact h
theorem xo_snap {post : Int32 → SX → Prop} (hA : ∀ p, A p < 4 ∧ rg p &&& 3 = nI (A p)) (hB : ∀ p, B p < 4 ∧ rg p >>> ((2 : Int32) &&& 31) = nI (B p)) (hs : sz ≤ 12) (x y : Int32) (ht : ts < 6) (R : Int32 × (Nat → Int32) × Nat) (hR : ml_run op cn A B sz x y = R) (h : ∀ re, post (nI ts) (nI sz, nI (ts + 1), nI ms, 0, mp, mo, mc, op, rg, cn, upd sx ts x, upd sy ts y, upd wo ts (vp_nar .boolean (ml_E sz R)), upd wa ts (R.2.1 0), wh, co, cg, en, ou, st, mE, mO, mS, re, ki, un, ot)) : wpX_snapshotTest post (nI sz, nI ts, nI ms, rd, mp, mo, mc, op, rg, cn, sx, sy, wo, wa, wh, co, cg, en, ou, st, mE, mO, mS, re, ki, un, ot) x y := by
  subst hR
  unfold wpX_snapshotTest
  dsimp only
  refine br_t (nI_lt (b := 6) ht (by decide)) (nm_e (nm_e (nm_e (nm_e ⟨101, ?_⟩))))
  refine xo_45 hA hB hs x y 100 0 0 101 _ rfl (by omega) ?_
  rw [ml_vw_r0]
  intro re' e
  have e : ml_vw 0 re' = (ml_run op cn A B sz x y).2.1 := e
  have e0 : (ml_run op cn A B sz x y).2.1 0 = re' 0 := by rw [← e, ml_vw_at (by omega)]
  have G := h re'
  rw [e0] at G
  have K : wX_snapshotTest_106 post x y (ml_E sz (ml_run op cn A B sz x y)) (nI sz) (nI ts) (nI ms) rd mp mo mc op rg cn sx sy wo wa wh co cg en ou st mE mO mS re' ki un ot := by
    unfold wX_snapshotTest_106
    exact xo_add x y _ _ ht G
  show wX_snapshotTest_89 post x y (ml_run op cn A B sz x y).1 (nI sz) (nI ts) (nI ms) rd mp mo mc op rg cn sx sy wo wa wh co cg en ou st mE mO mS re' ki un ot
  unfold wX_snapshotTest_89
  unfold ml_E at K
  rcases ml_pl hs (ml_run op cn A B sz x y).1 with hp | ⟨hp, hp1, hp2⟩ | ⟨j, hj, e⟩
  · rw [ml_in_neg hp, if_neg (by decide)] at K
    exact br_t hp K
  · rw [ml_in_ge hp2, if_neg (by decide)] at K
    exact br_f hp (br_f hp2 K)
  · rw [e, ml_in_j hj hs, if_pos rfl] at K
    rw [e]
    exact br_f (nI_pos (by omega)) (br_t (nI_lt hj (by omega)) K)
theorem ov_snap {k : Nat} (hQ : ml_Q A B sz ts ms rd op rg cn sx sy wh co cg en ou st mE mO mS ya yb) (v1 v2 : Int32) : wpX_snapshotTest (fun r u' => wpY_snapshotTest (fun r' v' => r' = r ∧ i_Rel k u' v') (nI sz, nI ts, nI ms, fe, fc, op, ya, yb, cn, sx, sy, wo, wa, wh, co, cg, ar) v1 v2) (nI sz, nI ts, nI ms, rd, mp, mo, mc, op, rg, cn, sx, sy, wo, wa, wh, co, cg, en, ou, st, mE, mO, mS, re, ki, un, ot) v1 v2 := by
  have J : i_Rel k (nI sz, nI ts, nI ms, rd, mp, mo, mc, op, rg, cn, sx, sy, wo, wa, wh, co, cg, en, ou, st, mE, mO, mS, re, ki, un, ot) (nI sz, nI ts, nI ms, fe, fc, op, ya, yb, cn, sx, sy, wo, wa, wh, co, cg, ar) := zz_in hQ
  have hQ2 := hQ
  obtain ⟨hs, hts, hms, hA, hB, hA', hB', hwh, hrd⟩ := hQ
  by_cases ht : ts < 6
  · refine xo_snap hA hB hs v1 v2 ht _ rfl ?_
    intro re
    unfold wpY_snapshotTest
    refine br_f (fun e => ?_) ?_
    · have := (nI_eq (a := ts) (b := 6) (by omega) (by omega)).mp e
      omega
    · refine yr_run hA' hB' hs ml_sel_p v1 v2 ?_
      intro ar' e
      dsimp only
      rw [e]
      exact yo_add v1 v2 _ _ ht ⟨rfl, zz_in (q_test ht hQ2)⟩
  · obtain rfl : ts = 6 := by omega
    unfold wpX_snapshotTest wpY_snapshotTest
    exact br_f (by decide) (br_t rfl ⟨rfl, J⟩)
end
end
section
/-! ===== the questions ===== -/
section
variable {A B : Nat → Nat} {sz ts ms : Nat} {rd mp mo mc : Int32} {op rg cn sx sy wo wa wh co cg en ou st mE mO mS re ki un ot : Nat → Int32} {fe fc : Int32} {ya yb ar : Nat → Int32}
theorem yo_noTest {post : Int32 → Prop} (hts : ts ≤ 6) (x : Int32) (h1 : x < 0 → post 1) (h2 : ¬ x < 0 → nI ts ≤ x → post 1) (h3 : ∀ t, t < ts → x = nI t → post 0) : wpY_noTest post (nI sz, nI ts, nI ms, fe, fc, op, ya, yb, cn, sx, sy, wo, wa, wh, co, cg, ar) x := by
  unfold wpY_noTest
  rcases pk_ix x (n := ts) (by omega) with h | h | ⟨t, ht, rfl⟩
  · exact br_t h (h1 h)
  · have h0 : ¬ x < 0 := fun z => absurd (Int32.lt_of_le_of_lt h z) (nI_pos (by omega))
    exact br_f h0 (br_f (Int32.not_lt.mpr h) (h2 h0 h))
  · exact br_f (nI_pos (by omega)) (br_t (nI_lt ht (by omega)) (h3 t ht rfl))
/-- an index: three cases -/
theorem ml_ix3 {n : Nat} (hn : n ≤ 24) (x : Int32) : x < 0 ∨ (¬ x < 0 ∧ ¬ x < nI n) ∨ ∃ j, j < n ∧ x = nI j ∧ ¬ nI j < 0 ∧ nI j < nI n := by
  rcases pk_ix x (n := n) (by omega) with h | h | ⟨t, ht, rfl⟩
  · exact Or.inl h
  · exact Or.inr (Or.inl ⟨fun z => absurd (Int32.lt_of_le_of_lt h z) (nI_pos (by omega)), Int32.not_lt.mpr h⟩)
  · exact Or.inr (Or.inr ⟨t, ht, rfl, nI_pos (by omega), nI_lt ht (by omega)⟩)
theorem ov_passes {k : Nat} (hQ : ml_Q A B sz ts ms rd op rg cn sx sy wh co cg en ou st mE mO mS ya yb) (v1 : Int32) : wpX_passes (fun r u' => wpY_passes (fun r' v' => r' = r ∧ i_Rel k u' v') (nI sz, nI ts, nI ms, fe, fc, op, ya, yb, cn, sx, sy, wo, wa, wh, co, cg, ar) v1) (nI sz, nI ts, nI ms, rd, mp, mo, mc, op, rg, cn, sx, sy, wo, wa, wh, co, cg, en, ou, st, mE, mO, mS, re, ki, un, ot) v1 := by
  have J : i_Rel k (nI sz, nI ts, nI ms, rd, mp, mo, mc, op, rg, cn, sx, sy, wo, wa, wh, co, cg, en, ou, st, mE, mO, mS, re, ki, un, ot) (nI sz, nI ts, nI ms, fe, fc, op, ya, yb, cn, sx, sy, wo, wa, wh, co, cg, ar) := zz_in hQ
  have hQ2 := hQ
  obtain ⟨hs, hts, hms, hA, hB, hA', hB', hwh, hrd⟩ := hQ
  unfold wpX_passes wpY_passes wpY_noTest
  rcases ml_ix3 (n := ts) (by omega) v1 with h0 | ⟨h0, h1⟩ | ⟨t, ht, rfl, h0, h1⟩
  · exact br_t h0 (br_t h0 (br_f (by decide) ⟨rfl, J⟩))
  · exact br_f h0 (br_f h1 (br_f h0 (br_f h1 (br_f (by decide) ⟨rfl, J⟩))))
  · have it : vp_in (nI t) 6 := vp_in_nI (by omega) (by omega)
    have ct : (nI t).toNatClampNeg = t := nI_clamp (by omega)
    refine br_f h0 (br_t h1 (xr_prepare hA hB hs hts hms hwh hrd ?_))
    intro rd mp mo mc en ou st mE mO mS re hO
    have hp := hO.1 t ht
    have J2 : ∀ fe fc ar, i_Rel k (nI sz, nI ts, nI ms, rd, mp, mo, mc, op, rg, cn, sx, sy, wo, wa, wh, co, cg, en, ou, st, mE, mO, mS, re, ki, un, ot) (nI sz, nI ts, nI ms, fe, fc, op, ya, yb, cn, sx, sy, wo, wa, wh, co, cg, ar) := fun fe fc ar => zz_in (q_ok hQ2 hO)
    have Y : ∀ (post : Int32 → SY → Prop), (∀ fe fc ar, post (ml_b (ml_ok sz (ml_run op cn A B sz (sx t) (sy t)) (wo t) (wa t))) (nI sz, nI ts, nI ms, fe, fc, op, ya, yb, cn, sx, sy, wo, wa, wh, co, cg, ar)) → wpY_ok post (nI sz, nI ts, nI ms, fe, fc, op, ya, yb, cn, sx, sy, wo, wa, wh, co, cg, ar) (-1) (nI t) := fun post hp => yw_ok hA' hB' hs ml_sel_p t (by omega) hp
    refine ⟨it, it, ?_⟩
    rw [ct, hp.1, hp.2.1]
    refine br_c (fun q => ⟨it, br_c (fun z => ?_) (fun z => ⟨it, it, br_c (fun y => ?_) (fun y => ?_)⟩)⟩) (fun q => ?_)
    · refine br_f h0 (br_t h1 (br_t rfl (Y _ ?_)))
      intro fe fc ar
      rw [ml_ok_0 q z]
      exact br_f (by decide) ⟨rfl, J2 fe fc ar⟩
    · refine br_f h0 (br_t h1 (br_t rfl (Y _ ?_)))
      intro fe fc ar
      rw [ml_ok_t q ((ml_Ou_1 z).symm.trans y)]
      exact br_f (by decide) ⟨rfl, J2 fe fc ar⟩
    · refine br_f h0 (br_t h1 (br_t rfl (Y _ ?_)))
      intro fe fc ar
      rw [ml_ok_f z (fun w => y ((ml_Ou_1 z).trans w))]
      exact br_t rfl ⟨rfl, J2 fe fc ar⟩
    · refine br_f h0 (br_t h1 (br_t rfl (Y _ ?_)))
      intro fe fc ar
      rw [ml_ok_ne q]
      exact br_t rfl ⟨rfl, J2 fe fc ar⟩
theorem ov_killers {k : Nat} (hQ : ml_Q A B sz ts ms rd op rg cn sx sy wh co cg en ou st mE mO mS ya yb) (v1 : Int32) : wpX_killers (fun r u' => wpY_killers (fun r' v' => r' = r ∧ i_Rel k u' v') (nI sz, nI ts, nI ms, fe, fc, op, ya, yb, cn, sx, sy, wo, wa, wh, co, cg, ar) v1) (nI sz, nI ts, nI ms, rd, mp, mo, mc, op, rg, cn, sx, sy, wo, wa, wh, co, cg, en, ou, st, mE, mO, mS, re, ki, un, ot) v1 := by
  have J : i_Rel k (nI sz, nI ts, nI ms, rd, mp, mo, mc, op, rg, cn, sx, sy, wo, wa, wh, co, cg, en, ou, st, mE, mO, mS, re, ki, un, ot) (nI sz, nI ts, nI ms, fe, fc, op, ya, yb, cn, sx, sy, wo, wa, wh, co, cg, ar) := zz_in hQ
  have hQ2 := hQ
  obtain ⟨hs, hts, hms, hA, hB, hA', hB', hwh, hrd⟩ := hQ
  unfold wpX_killers wpX_noMutant
  rcases ml_ix3 (n := ms) hms v1 with h0 | ⟨h0, h1⟩ | ⟨m, hm, rfl, h0, h1⟩
  · refine br_t h0 (br_f (by decide) ?_)
    unfold wpY_killers wpY_noMutant
    exact br_t h0 (br_f (by decide) ⟨rfl, J⟩)
  · refine br_f h0 (br_f h1 (br_f (by decide) ?_))
    unfold wpY_killers wpY_noMutant
    exact br_f h0 (br_f h1 (br_f (by decide) ⟨rfl, J⟩))
  · refine br_f h0 (br_t h1 (br_t rfl (xk_gather hA hB hs hts hms hwh hrd ?_)))
    intro rd mp mo mc en ou st mE mO mS re ki hO hk
    refine xk_of hts hms hk m hm ?_
    refine yw_killers hA' hB' hs hts hms m hm ?_
    intro fe fc ar
    exact ⟨rfl, zz_in (q_ok hQ2 hO)⟩
theorem ov_killed {k : Nat} (hQ : ml_Q A B sz ts ms rd op rg cn sx sy wh co cg en ou st mE mO mS ya yb) (v1 : Int32) : wpX_killed (fun r u' => wpY_killed (fun r' v' => r' = r ∧ i_Rel k u' v') (nI sz, nI ts, nI ms, fe, fc, op, ya, yb, cn, sx, sy, wo, wa, wh, co, cg, ar) v1) (nI sz, nI ts, nI ms, rd, mp, mo, mc, op, rg, cn, sx, sy, wo, wa, wh, co, cg, en, ou, st, mE, mO, mS, re, ki, un, ot) v1 := by
  have hQ2 := hQ
  obtain ⟨hs, hts, hms, hA, hB, hA', hB', hwh, hrd⟩ := hQ
  unfold wpX_killed
  refine xk_gather hA hB hs hts hms hwh hrd ?_
  intro rd mp mo mc en ou st mE mO mS re ki hO hk
  refine ⟨7, xk_killed8 v1 ?_ 6 0 7 0 rfl (by omega) (fun b _ => by rw [b_0]; rfl)⟩
  intro y hy
  refine yw_killed hA' hB' hs hts hms v1 ?_
  intro fe fc ar
  refine ⟨congrArg nI ?_, zz_in (q_ok hQ2 hO)⟩
  symm
  refine cn_cut 24 hms ?_
  intro b hb
  rw [hy b (by omega)]
  by_cases l : b < ms
  · rw [decide_eq_true l, Bool.true_and]
    apply Bool.eq_iff_iff.mpr
    rw [decide_eq_true_eq, and_any hts, any_iff, any_iff]
    have e : ∀ t, t < 6 → (bt v1 t && bt (ki t) b) = (bt v1 t && (decide (t < ts) && (ml_K op cn wh co cg sx sy wo wa A B sz) t b)) := fun t ht => by rw [hk t ht b (by omega), decide_eq_true l, Bool.true_and]
    exact ⟨fun ⟨t, ht, g⟩ => ⟨t, ht, (e t ht).symm.trans g⟩, fun ⟨t, ht, g⟩ => ⟨t, ht, (e t ht).trans g⟩⟩
  · rw [decide_eq_false l, Bool.false_and]
    cases e : ml_any (fun t => bt v1 t && bt (ki t) b) 6 with
    | false => rfl
    | true =>
      obtain ⟨t, ht, g⟩ := (any_iff _ 6).mp e
      have g : (bt v1 t && bt (ki t) b) = true := g
      rw [hk t ht b (by omega), decide_eq_false l, Bool.false_and, Bool.and_false, Bool.and_false] at g
      exact absurd g (by decide)
theorem ov_output {k : Nat} (hQ : ml_Q A B sz ts ms rd op rg cn sx sy wh co cg en ou st mE mO mS ya yb) (v1 v2 : Int32) : wpX_output (fun r u' => wpY_output (fun r' v' => r' = r ∧ i_Rel k u' v') (nI sz, nI ts, nI ms, fe, fc, op, ya, yb, cn, sx, sy, wo, wa, wh, co, cg, ar) v1 v2) (nI sz, nI ts, nI ms, rd, mp, mo, mc, op, rg, cn, sx, sy, wo, wa, wh, co, cg, en, ou, st, mE, mO, mS, re, ki, un, ot) v1 v2 := by
  have J : i_Rel k (nI sz, nI ts, nI ms, rd, mp, mo, mc, op, rg, cn, sx, sy, wo, wa, wh, co, cg, en, ou, st, mE, mO, mS, re, ki, un, ot) (nI sz, nI ts, nI ms, fe, fc, op, ya, yb, cn, sx, sy, wo, wa, wh, co, cg, ar) := zz_in hQ
  have hQ2 := hQ
  obtain ⟨hs, hts, hms, hA, hB, hA', hB', hwh, hrd⟩ := hQ
  unfold wpX_output wpX_noMutant wpY_output wpY_noMutant wpY_noTest
  rcases ml_ix3 (n := ms) hms v1 with h0 | ⟨h0, h1⟩ | ⟨m, hm, rfl, h0, h1⟩
  · exact br_t h0 (br_f (by decide) (br_t h0 (br_f (by decide) ⟨rfl, J⟩)))
  · exact br_f h0 (br_f h1 (br_f (by decide) (br_f h0 (br_f h1 (br_f (by decide) ⟨rfl, J⟩)))))
  · refine br_f h0 (br_t h1 (br_t rfl ?_))
    rcases ml_ix3 (n := ts) (by omega) v2 with g0 | ⟨g0, g1⟩ | ⟨t, ht, rfl, g0, g1⟩
    · exact br_t g0 (br_f h0 (br_t h1 (br_t rfl (br_t g0 (br_f (by decide) ⟨rfl, J⟩)))))
    · exact br_f g0 (br_f g1 (br_f h0 (br_t h1 (br_t rfl (br_f g0 (br_f g1 (br_f (by decide) ⟨rfl, J⟩)))))))
    · have it : vp_in (nI t) 6 := vp_in_nI (by omega) (by omega)
      have ct : (nI t).toNatClampNeg = t := nI_clamp (by omega)
      have ci : (nI (t * 24 + m)).toNatClampNeg = t * 24 + m := nI_clamp (by omega)
      have ii : vp_in (nI (t * 24 + m)) 144 := vp_in_nI (by omega) (by omega)
      refine br_f g0 (br_t g1 (xr_prepare hA hB hs hts hms hwh hrd ?_))
      intro rd mp mo mc en ou st mE mO mS re hO
      have hc := hO.2 t ht m hm
      dsimp only
      rw [ml_ix, ci, hc.2.1]
      refine ⟨ii, br_f h0 (br_t h1 (br_t rfl (br_f g0 (br_t g1 (br_t rfl ⟨it, it, ?_⟩)))))⟩
      rw [ct]
      refine yr_run hA' hB' hs (ml_sel_m (by omega)) (sx t) (sy t) ?_
      intro ar' e
      dsimp only
      rw [e]
      refine br_c (fun z => ⟨(ml_Ou_0 z).symm, zz_in (q_ok hQ2 hO)⟩) (fun z => ⟨(ml_Ou_1 z).symm, zz_in (q_ok hQ2 hO)⟩)
theorem ov_length {k : Nat} (hQ : ml_Q A B sz ts ms rd op rg cn sx sy wh co cg en ou st mE mO mS ya yb) (v1 v2 : Int32) : wpX_length (fun r u' => wpY_length (fun r' v' => r' = r ∧ i_Rel k u' v') (nI sz, nI ts, nI ms, fe, fc, op, ya, yb, cn, sx, sy, wo, wa, wh, co, cg, ar) v1 v2) (nI sz, nI ts, nI ms, rd, mp, mo, mc, op, rg, cn, sx, sy, wo, wa, wh, co, cg, en, ou, st, mE, mO, mS, re, ki, un, ot) v1 v2 := by
  have J : i_Rel k (nI sz, nI ts, nI ms, rd, mp, mo, mc, op, rg, cn, sx, sy, wo, wa, wh, co, cg, en, ou, st, mE, mO, mS, re, ki, un, ot) (nI sz, nI ts, nI ms, fe, fc, op, ya, yb, cn, sx, sy, wo, wa, wh, co, cg, ar) := zz_in hQ
  have hQ2 := hQ
  obtain ⟨hs, hts, hms, hA, hB, hA', hB', hwh, hrd⟩ := hQ
  unfold wpX_length wpX_noMutant wpY_length wpY_noMutant wpY_noTest
  rcases ml_ix3 (n := ms) hms v1 with h0 | ⟨h0, h1⟩ | ⟨m, hm, rfl, h0, h1⟩
  · exact br_t h0 (br_f (by decide) (br_t h0 (br_f (by decide) ⟨rfl, J⟩)))
  · exact br_f h0 (br_f h1 (br_f (by decide) (br_f h0 (br_f h1 (br_f (by decide) ⟨rfl, J⟩)))))
  · refine br_f h0 (br_t h1 (br_t rfl ?_))
    rcases ml_ix3 (n := ts) (by omega) v2 with g0 | ⟨g0, g1⟩ | ⟨t, ht, rfl, g0, g1⟩
    · exact br_t g0 (br_f h0 (br_t h1 (br_t rfl (br_t g0 (br_f (by decide) ⟨rfl, J⟩)))))
    · exact br_f g0 (br_f g1 (br_f h0 (br_t h1 (br_t rfl (br_f g0 (br_f g1 (br_f (by decide) ⟨rfl, J⟩)))))))
    · have it : vp_in (nI t) 6 := vp_in_nI (by omega) (by omega)
      have ct : (nI t).toNatClampNeg = t := nI_clamp (by omega)
      have ci : (nI (t * 24 + m)).toNatClampNeg = t * 24 + m := nI_clamp (by omega)
      have ii : vp_in (nI (t * 24 + m)) 144 := vp_in_nI (by omega) (by omega)
      refine br_f g0 (br_t g1 (xr_prepare hA hB hs hts hms hwh hrd ?_))
      intro rd mp mo mc en ou st mE mO mS re hO
      have hc := hO.2 t ht m hm
      dsimp only
      rw [ml_ix, ci, hc.2.2]
      refine ⟨ii, br_f h0 (br_t h1 (br_t rfl (br_f g0 (br_t g1 (br_t rfl ⟨it, it, ?_⟩)))))⟩
      rw [ct]
      refine yr_run hA' hB' hs (ml_sel_m (by omega)) (sx t) (sy t) ?_
      intro ar' e
      exact ⟨rfl, zz_in (q_ok hQ2 hO)⟩
theorem ov_enough {k : Nat} (hQ : ml_Q A B sz ts ms rd op rg cn sx sy wh co cg en ou st mE mO mS ya yb) : wpX_enough (fun r u' => wpY_enough (fun r' v' => r' = r ∧ i_Rel k u' v') (nI sz, nI ts, nI ms, fe, fc, op, ya, yb, cn, sx, sy, wo, wa, wh, co, cg, ar)) (nI sz, nI ts, nI ms, rd, mp, mo, mc, op, rg, cn, sx, sy, wo, wa, wh, co, cg, en, ou, st, mE, mO, mS, re, ki, un, ot) := by
  have hQ2 := hQ
  obtain ⟨hs, hts, hms, hA, hB, hA', hB', hwh, hrd⟩ := hQ
  unfold wpX_enough
  refine xk_gather hA hB hs hts hms hwh hrd ?_
  intro rd mp mo mc en ou st mE mO mS re ki hO hk
  refine ⟨ts + 1, xe_en8 hts hms hk ?_ ts 0 (ts + 1) 0 (by omega) (by omega) (fun m _ => by rw [b_0]; rfl)⟩
  intro L b un ot hL hF
  refine ye_enough hA' hB' hs hts hms ?_
  intro fe fc ar
  exact ⟨congrArg nI (cv_ls hts hms hk hL hF).symm, zz_in (q_ok hQ2 hO)⟩
theorem ov_same {k : Nat} (hQ : ml_Q A B sz ts ms rd op rg cn sx sy wh co cg en ou st mE mO mS ya yb) : wpX_same (fun r u' => wpY_same (fun r' v' => r' = r ∧ i_Rel k u' v') (nI sz, nI ts, nI ms, fe, fc, op, ya, yb, cn, sx, sy, wo, wa, wh, co, cg, ar)) (nI sz, nI ts, nI ms, rd, mp, mo, mc, op, rg, cn, sx, sy, wo, wa, wh, co, cg, en, ou, st, mE, mO, mS, re, ki, un, ot) := by
  have hQ2 := hQ
  obtain ⟨hs, hts, hms, hA, hB, hA', hB', hwh, hrd⟩ := hQ
  unfold wpX_same
  refine xr_prepare hA hB hs hts hms hwh hrd ?_
  intro rd mp mo mc en ou st mE mO mS re hO
  refine ⟨ms + 1, xk_same8 hts hms hO _ rfl ?_ ms 0 (ms + 1) (by omega) (by omega)⟩
  refine yw_same hA' hB' hs hts hms ?_
  intro fe fc ar
  exact ⟨rfl, zz_in (q_ok hQ2 hO)⟩
end
end
section
/-! ===== what is owed ===== -/
theorem i_vc_emit {k : Nat} {u : SX} {v : SY} (I : i_Rel k u v) (hk : k + 4 ≤ 2048) (v1 : Int32) (v2 : Int32) (v3 : Int32) : wpX_emit (fun r u' => wpY_emit (fun r' v' => r' = r ∧ i_Rel (k + 4) u' v') v v1 v2 v3) u v1 v2 v3 :=
  zz_el (P := fun u v => wpX_emit (fun r u' => wpY_emit (fun r' v' => r' = r ∧ i_Rel (k + 4) u' v') v v1 v2 v3) u v1 v2 v3) I (fun _ _ _ _ _ _ _ _ _ _ _ _ _ _ _ _ _ _ _ _ _ _ _ _ _ _ _ _ _ _ _ _ _ _ hQ => ov_emit (k := k + 4) hQ v1 v2 v3)
theorem i_vc_test {k : Nat} {u : SX} {v : SY} (I : i_Rel k u v) (hk : k + 4 ≤ 2048) (v1 : Int32) (v2 : Int32) (v3 : Int32) : wpX_test (fun r u' => wpY_test (fun r' v' => r' = r ∧ i_Rel (k + 4) u' v') v v1 v2 v3) u v1 v2 v3 :=
  zz_el (P := fun u v => wpX_test (fun r u' => wpY_test (fun r' v' => r' = r ∧ i_Rel (k + 4) u' v') v v1 v2 v3) u v1 v2 v3) I (fun _ _ _ _ _ _ _ _ _ _ _ _ _ _ _ _ _ _ _ _ _ _ _ _ _ _ _ _ _ _ _ _ _ _ hQ => ov_test (k := k + 4) hQ v1 v2 v3)
theorem i_vc_snapshotTest {k : Nat} {u : SX} {v : SY} (I : i_Rel k u v) (hk : k + 4 ≤ 2048) (v1 : Int32) (v2 : Int32) : wpX_snapshotTest (fun r u' => wpY_snapshotTest (fun r' v' => r' = r ∧ i_Rel (k + 4) u' v') v v1 v2) u v1 v2 :=
  zz_el (P := fun u v => wpX_snapshotTest (fun r u' => wpY_snapshotTest (fun r' v' => r' = r ∧ i_Rel (k + 4) u' v') v v1 v2) u v1 v2) I (fun _ _ _ _ _ _ _ _ _ _ _ _ _ _ _ _ _ _ _ _ _ _ _ _ _ _ _ _ _ _ _ _ _ _ hQ => ov_snap (k := k + 4) hQ v1 v2)
theorem i_vc_mutateOp {k : Nat} {u : SX} {v : SY} (I : i_Rel k u v) (hk : k + 4 ≤ 2048) (v1 : Int32) (v2 : Int32) : wpX_mutateOp (fun r u' => wpY_mutateOp (fun r' v' => r' = r ∧ i_Rel (k + 4) u' v') v v1 v2) u v1 v2 :=
  zz_el (P := fun u v => wpX_mutateOp (fun r u' => wpY_mutateOp (fun r' v' => r' = r ∧ i_Rel (k + 4) u' v') v v1 v2) u v1 v2) I (fun _ _ _ _ _ _ _ _ _ _ _ _ _ _ _ _ _ _ _ _ _ _ _ _ _ _ _ _ _ _ _ _ _ _ hQ => ov_mutateOp (k := k + 4) hQ v1 v2)
theorem i_vc_mutateC {k : Nat} {u : SX} {v : SY} (I : i_Rel k u v) (hk : k + 4 ≤ 2048) (v1 : Int32) (v2 : Int32) : wpX_mutateC (fun r u' => wpY_mutateC (fun r' v' => r' = r ∧ i_Rel (k + 4) u' v') v v1 v2) u v1 v2 :=
  zz_el (P := fun u v => wpX_mutateC (fun r u' => wpY_mutateC (fun r' v' => r' = r ∧ i_Rel (k + 4) u' v') v v1 v2) u v1 v2) I (fun _ _ _ _ _ _ _ _ _ _ _ _ _ _ _ _ _ _ _ _ _ _ _ _ _ _ _ _ _ _ _ _ _ _ hQ => ov_mutateC (k := k + 4) hQ v1 v2)
theorem i_vc_clear {k : Nat} {u : SX} {v : SY} (I : i_Rel k u v) (hk : k + 4 ≤ 2048) : wpX_clear (fun u' => wpY_clear (fun v' => i_Rel (k + 4) u' v') v) u :=
  zz_el (P := fun u v => wpX_clear (fun u' => wpY_clear (fun v' => i_Rel (k + 4) u' v') v) u) I (fun _ _ _ _ _ _ _ _ _ _ _ _ _ _ _ _ _ _ _ _ _ _ _ _ _ _ _ _ _ _ _ _ _ _ hQ => ov_clear (k := k + 4) hQ)
theorem i_vc_passes {k : Nat} {u : SX} {v : SY} (I : i_Rel k u v) (hk : k + 4 ≤ 2048) (v1 : Int32) : wpX_passes (fun r u' => wpY_passes (fun r' v' => r' = r ∧ i_Rel (k + 4) u' v') v v1) u v1 :=
  zz_el (P := fun u v => wpX_passes (fun r u' => wpY_passes (fun r' v' => r' = r ∧ i_Rel (k + 4) u' v') v v1) u v1) I (fun _ _ _ _ _ _ _ _ _ _ _ _ _ _ _ _ _ _ _ _ _ _ _ _ _ _ _ _ _ _ _ _ _ _ hQ => ov_passes (k := k + 4) hQ v1)
theorem i_vc_killers {k : Nat} {u : SX} {v : SY} (I : i_Rel k u v) (hk : k + 4 ≤ 2048) (v1 : Int32) : wpX_killers (fun r u' => wpY_killers (fun r' v' => r' = r ∧ i_Rel (k + 4) u' v') v v1) u v1 :=
  zz_el (P := fun u v => wpX_killers (fun r u' => wpY_killers (fun r' v' => r' = r ∧ i_Rel (k + 4) u' v') v v1) u v1) I (fun _ _ _ _ _ _ _ _ _ _ _ _ _ _ _ _ _ _ _ _ _ _ _ _ _ _ _ _ _ _ _ _ _ _ hQ => ov_killers (k := k + 4) hQ v1)
theorem i_vc_killed {k : Nat} {u : SX} {v : SY} (I : i_Rel k u v) (hk : k + 4 ≤ 2048) (v1 : Int32) : wpX_killed (fun r u' => wpY_killed (fun r' v' => r' = r ∧ i_Rel (k + 4) u' v') v v1) u v1 :=
  zz_el (P := fun u v => wpX_killed (fun r u' => wpY_killed (fun r' v' => r' = r ∧ i_Rel (k + 4) u' v') v v1) u v1) I (fun _ _ _ _ _ _ _ _ _ _ _ _ _ _ _ _ _ _ _ _ _ _ _ _ _ _ _ _ _ _ _ _ _ _ hQ => ov_killed (k := k + 4) hQ v1)
theorem i_vc_output {k : Nat} {u : SX} {v : SY} (I : i_Rel k u v) (hk : k + 4 ≤ 2048) (v1 : Int32) (v2 : Int32) : wpX_output (fun r u' => wpY_output (fun r' v' => r' = r ∧ i_Rel (k + 4) u' v') v v1 v2) u v1 v2 :=
  zz_el (P := fun u v => wpX_output (fun r u' => wpY_output (fun r' v' => r' = r ∧ i_Rel (k + 4) u' v') v v1 v2) u v1 v2) I (fun _ _ _ _ _ _ _ _ _ _ _ _ _ _ _ _ _ _ _ _ _ _ _ _ _ _ _ _ _ _ _ _ _ _ hQ => ov_output (k := k + 4) hQ v1 v2)
theorem i_vc_length {k : Nat} {u : SX} {v : SY} (I : i_Rel k u v) (hk : k + 4 ≤ 2048) (v1 : Int32) (v2 : Int32) : wpX_length (fun r u' => wpY_length (fun r' v' => r' = r ∧ i_Rel (k + 4) u' v') v v1 v2) u v1 v2 :=
  zz_el (P := fun u v => wpX_length (fun r u' => wpY_length (fun r' v' => r' = r ∧ i_Rel (k + 4) u' v') v v1 v2) u v1 v2) I (fun _ _ _ _ _ _ _ _ _ _ _ _ _ _ _ _ _ _ _ _ _ _ _ _ _ _ _ _ _ _ _ _ _ _ hQ => ov_length (k := k + 4) hQ v1 v2)
theorem i_vc_enough {k : Nat} {u : SX} {v : SY} (I : i_Rel k u v) (hk : k + 4 ≤ 2048) : wpX_enough (fun r u' => wpY_enough (fun r' v' => r' = r ∧ i_Rel (k + 4) u' v') v) u :=
  zz_el (P := fun u v => wpX_enough (fun r u' => wpY_enough (fun r' v' => r' = r ∧ i_Rel (k + 4) u' v') v) u) I (fun _ _ _ _ _ _ _ _ _ _ _ _ _ _ _ _ _ _ _ _ _ _ _ _ _ _ _ _ _ _ _ _ _ _ hQ => ov_enough (k := k + 4) hQ)
theorem i_vc_same {k : Nat} {u : SX} {v : SY} (I : i_Rel k u v) (hk : k + 4 ≤ 2048) : wpX_same (fun r u' => wpY_same (fun r' v' => r' = r ∧ i_Rel (k + 4) u' v') v) u :=
  zz_el (P := fun u v => wpX_same (fun r u' => wpY_same (fun r' v' => r' = r ∧ i_Rel (k + 4) u' v') v) u) I (fun _ _ _ _ _ _ _ _ _ _ _ _ _ _ _ _ _ _ _ _ _ _ _ _ _ _ _ _ _ _ _ _ _ _ hQ => ov_same (k := k + 4) hQ)
end
